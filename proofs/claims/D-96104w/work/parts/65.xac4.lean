/-! the component's acts: lines, winds, nets, from where -/
set_option maxRecDepth 100000
theorem drT_0 (T : Nat → Nat) (c : Nat) : drT T c 0 = T 0 := by unfold drT; rw [if_neg (by omega)]
theorem drT_d (T : Nat → Nat) (c d : Nat) : drT (drT T c) d = drT T d := by
  funext i
  unfold drT
  by_cases h : 12 ≤ i ∧ i < 48
  · rw [if_pos h, if_pos h]
  · rw [if_neg h, if_neg h, if_neg h]
set_option maxHeartbeats 800000 in
theorem xa_bestLine_0 (l : Launch) (D : va_G) (b : Nat) (M0 : List va_E) {R T Ti P Rw : Nat → Nat} {hi : Bool} {lm rm : Nat}  (h : xw_P D b M0 R T Ti P Rw hi lm rm) (hk : okT T) : fb_CT l D b yX0_bestLine cX0_bestLine 7 (some .int) 6 141 0 0 [.ref (b + 0), .int (bI false)] M0 (.returned (some (.int (nI ((fsS ltB (linV T 0) 5).1 + 1))))) (fun M' => xw_P D b M' R T Ti P Rw hi lm rm ∧ xw_F M0 M') := by
  refine fb_start [some (.ref (b + 0)), some (.int (bI false)), none, none, none, none, none] (by decide) (Nat.le_of_ble_eq_true rfl) rfl ?_
  intro x hl hD hb C E hx
  subst hl hD hb
  have C : fb_OK x cX0_bestLine "FallsBetween" "bestLine" := C
  obtain ⟨Tm, Y, Ym, Yi, lo, lom, loi, hX⟩ := h
  have hG := xw_F.rf M0
  obtain ⟨k0, k1, k2, k3, k4, k5, k6, k7, k8⟩ := id hk
  refine gx_iconst (q := 1) (v := nI 1) C dX0_bestLine_0 (by decide) rfl ?_
  refine gx_istore_n (q := 2) (lv' := [_, _, _, _, _, _, _]) C dX0_bestLine_1 rfl (Nat.le_of_ble_eq_true rfl) E.2.2.2.symm rfl rfl rfl ?_
  refine gx_iconst (q := 3) (v := nI 0) C dX0_bestLine_2 (by decide) rfl ?_
  refine gx_istore_n (q := 4) (lv' := [_, _, _, _, _, _, _]) C dX0_bestLine_3 rfl (Nat.le_of_ble_eq_true rfl) E.2.2.2.symm rfl rfl rfl ?_
  refine gx_aload_n (q := 5) C dX0_bestLine_4 rfl rfl rfl ?_
  refine gx_cs (q := 8) C E (sx_X0_112 (As := []) C hX.o rfl rfl dX0_bestLine_5) (xa_openMind _ _ _ _ hX hk) kw_X0_openMind (by decide) (Nat.le_of_ble_eq_true rfl) rfl rfl (by omega) (by omega) dX0_bestLine_5 rfl (fun M r5 => ?_)
  obtain ⟨hV1, hF1⟩ := r5
  have hX := hX.u2 hV1 hF1
  have hG := hG.tw hF1 (by decide)
  refine gx_cs (q := 11) C E (sx_X0_123 (As := []) C hX.m.o rfl rfl dX0_bestLine_8) (tx_find _ _ _ _ hX.m hk) kw_X1_find (by decide) (Nat.le_of_ble_eq_true rfl) rfl rfl (by omega) (by omega) dX0_bestLine_8 rfl (fun M r8 => ?_)
  obtain ⟨⟨Ym, hYm, hV1⟩, hF1⟩ := r8
  have hX := hX.u2 hV1 hF1
  have hG := hG.tw hF1 (by decide)
  refine gx_astore (q := 13) (lv' := [_, _, _, _, _, _, _]) C dX0_bestLine_11 (Nat.le_of_ble_eq_true rfl) E.2.2.2.symm rfl rfl rfl ?_
  refine gx_iconst (q := 14) (v := nI 1) C dX0_bestLine_13 (by decide) rfl ?_
  refine gx_istore (q := 16) (lv' := [_, _, _, _, _, _, _]) C dX0_bestLine_14 (Nat.le_of_ble_eq_true rfl) E.2.2.2.symm rfl rfl rfl ?_
  have Lc : ∀ n, n ≤ 5 → ∀ (M : List va_E) (U : Nat → Nat), xw_V (cx_D x) (cx_b x) M T U Ti Y Ym Yi lo (lsi T (T 0)) loi hi Rw rm P lm R → xw_F M0 M → (∀ d, drT U d = drT T d) → fb_G x M 0 0 16 [some (.ref (cx_b x + 0)), some (.int (bI false)), some (.int (nI (if n = 0 then 1 else (fsS ltB (linV T 0) n).1 + 1))), some (.int (nI (fsS ltB (linV T 0) n).2)), some (.ref (cx_b x + 14)), some (.int (nI (n + 1))), none] [] := by
    refine fb_dn 5 ?_ ?_
    · intro M U hX hG hU
      refine gx_iload (q := 18) C dX0_bestLine_16 rfl rfl ?_
      refine gx_bipush (q := 20) (v := nI 6) C dX0_bestLine_18 (by decide) rfl ?_
      refine gn_icmp_ge (q := 23) (tgt := 103) C dX0_bestLine_20 (by decide) rfl (by omega) (by omega) (fun c20 => ?_) (fun c20 => by exfalso; omega)
      refine gx_iload_n (q := 104) C dX0_bestLine_103 rfl rfl rfl ?_
      exact gx_iret C E dX0_bestLine_104 (⟨⟨_, _, _, _, _, _, _, hX⟩, hG⟩) (by omega) (by omega)
    · intro n hn ih M U hX hG hU
      rw [if_neg (Nat.succ_ne_zero n)] at ih
      have hv := linV_le hk 0 n
      have hm := fsS_b (c := ltB) (v := linV T 0) (m := 259200) n (fun i _ => linV_le hk 0 i)
      have hkn := drT_ok hk (n + 1)
      refine gx_iload (q := 18) C dX0_bestLine_16 rfl rfl ?_
      refine gx_bipush (q := 20) (v := nI 6) C dX0_bestLine_18 (by decide) rfl ?_
      refine gn_icmp_ge (q := 23) (tgt := 103) C dX0_bestLine_20 (by decide) rfl (by omega) (by omega) (fun c20 => by exfalso; omega) (fun c20 => ?_)
      refine gx_aload (q := 25) C dX0_bestLine_23 rfl rfl ?_
      refine gx_iload (q := 27) C dX0_bestLine_25 rfl rfl ?_
      refine gx_cv (q := 30) C E (sx_X0_157 (As := [_]) C hX.m.o rfl rfl dX0_bestLine_27) (tx_draw _ _ _ _ (n + 1) (by omega) hX.m) kw_X1_draw (by decide) (Nat.le_of_ble_eq_true rfl) rfl rfl (by omega) (by omega) dX0_bestLine_27 rfl (fun M r27 => ?_)
      obtain ⟨hV1, hF1⟩ := r27
      rw [hU] at hV1
      have hX := hX.u2 hV1 hF1
      have hG := hG.tw hF1 (by decide)
      refine gx_iload_n (q := 31) C dX0_bestLine_30 rfl rfl rfl ?_
      refine gb_if_eq (q := 34) (tgt := 53) C dX0_bestLine_31 (by decide) rfl (fun c31 => ?_) (fun c31 => by exfalso; cases c31)
      refine gx_aload (q := 55) C dX0_bestLine_53 rfl rfl ?_
      refine gx_cp (q := 58) C E (sx_X0_137 (As := []) C hX.m.o rfl rfl dX0_bestLine_55) (tx_birds _ _ _ _ hX.m hkn) kw_X1_birds (by decide) (Nat.le_of_ble_eq_true rfl) (by omega) (by omega) dX0_bestLine_55 rfl ?_
      refine gx_top (show _ = nI (linV T 0 n) from congrArg nI (bdL_cg (fun _ _ => rfl) (fun z hz => lyY_g hYm (drT_0 T (n + 1)) hz))) ?_
      refine gx_istore (q := 60) (lv' := [_, _, _, _, _, _, _]) C dX0_bestLine_58 (Nat.le_of_ble_eq_true rfl) E.2.2.2.symm rfl rfl rfl ?_
      refine gx_iload (q := 62) C dX0_bestLine_60 rfl rfl ?_
      refine gx_iconst (q := 63) (v := nI 1) C dX0_bestLine_62 (by decide) rfl ?_
      refine gn_icmp_eq (q := 66) (tgt := 72) C dX0_bestLine_63 (by decide) rfl (by omega) (by omega) (fun c63 => ?_) (fun c63 => ?_)
      · rw [fsS_t (Or.inl (by omega))] at ih
        refine gx_iload (q := 74) C dX0_bestLine_72 rfl rfl ?_
        refine gx_goto (tgt := 78) C dX0_bestLine_74 (by decide) ?_
        refine gx_istore_n (q := 79) (lv' := [_, _, _, _, _, _, _]) C dX0_bestLine_78 rfl (Nat.le_of_ble_eq_true rfl) E.2.2.2.symm rfl rfl rfl ?_
        refine gx_iload (q := 81) C dX0_bestLine_79 rfl rfl ?_
        refine gx_iconst (q := 82) (v := nI 1) C dX0_bestLine_81 (by decide) rfl ?_
        refine gn_icmp_ne (q := 85) (tgt := 90) C dX0_bestLine_82 (by decide) rfl (by omega) (by omega) (fun c82 => by exfalso; omega) (fun c82 => ?_)
        refine gx_iload (q := 87) C dX0_bestLine_85 rfl rfl ?_
        refine gx_goto (tgt := 96) C dX0_bestLine_87 (by decide) ?_
        refine gx_istore_n (q := 97) (lv' := [_, _, _, _, _, _, _]) C dX0_bestLine_96 rfl (Nat.le_of_ble_eq_true rfl) E.2.2.2.symm rfl rfl rfl ?_
        refine gn_inc (q := 100) (lv' := [_, _, _, _, _, _, _]) C dX0_bestLine_97 rfl E.2.2.2.symm rfl rfl rfl ?_
        refine gx_goto (tgt := 16) C dX0_bestLine_100 (by decide) ?_
        refine gx_drop 6 ?_
        exact ih M _ hX hG (fun d => drT_d T (n + 1) d)
      · rw [if_neg (show ¬ n = 0 by omega)]
        refine gx_iload (q := 68) C dX0_bestLine_66 rfl rfl ?_
        refine gx_iload_n (q := 69) C dX0_bestLine_68 rfl rfl rfl ?_
        refine gn_icmp_ge (q := 72) (tgt := 77) C dX0_bestLine_69 (by decide) rfl (by omega) (by omega) (fun c69 => ?_) (fun c69 => ?_)
        · rw [fsS_f (ltB_f (by omega) c69)] at ih
          have hmn : min (fsS ltB (linV T 0) n).2 (linV T 0 n) = (fsS ltB (linV T 0) n).2 := Nat.min_eq_left c69
          refine gx_iload_n (q := 78) C dX0_bestLine_77 rfl rfl rfl ?_
          refine gx_istore_n (q := 79) (lv' := [_, _, _, _, _, _, _]) C dX0_bestLine_78 rfl (Nat.le_of_ble_eq_true rfl) E.2.2.2.symm rfl rfl rfl ?_
          refine gx_iload (q := 81) C dX0_bestLine_79 rfl rfl ?_
          refine gx_iconst (q := 82) (v := nI 1) C dX0_bestLine_81 (by decide) rfl ?_
          refine gn_icmp_ne (q := 85) (tgt := 90) C dX0_bestLine_82 (by decide) rfl (by omega) (by omega) (fun c82 => ?_) (fun c82 => by exfalso; omega)
          refine gx_iload_n (q := 91) C dX0_bestLine_90 rfl rfl rfl ?_
          refine gx_iload (q := 93) C dX0_bestLine_91 rfl rfl ?_
          refine gm_min (q := 96) (by omega) (by omega) C E q885 (by decide) (Nat.le_of_ble_eq_true rfl) (by omega) (by omega) dX0_bestLine_93 rfl ?_
          rw [hmn]
          refine gx_istore_n (q := 97) (lv' := [_, _, _, _, _, _, _]) C dX0_bestLine_96 rfl (Nat.le_of_ble_eq_true rfl) E.2.2.2.symm rfl rfl rfl ?_
          refine gn_inc (q := 100) (lv' := [_, _, _, _, _, _, _]) C dX0_bestLine_97 rfl E.2.2.2.symm rfl rfl rfl ?_
          refine gx_goto (tgt := 16) C dX0_bestLine_100 (by decide) ?_
          refine gx_drop 6 ?_
          exact ih M _ hX hG (fun d => drT_d T (n + 1) d)
        · rw [fsS_t (Or.inr (ltB_t (by omega)))] at ih
          have hmn : min (fsS ltB (linV T 0) n).2 (linV T 0 n) = linV T 0 n := Nat.min_eq_right (by omega)
          refine gx_iload (q := 74) C dX0_bestLine_72 rfl rfl ?_
          refine gx_goto (tgt := 78) C dX0_bestLine_74 (by decide) ?_
          refine gx_istore_n (q := 79) (lv' := [_, _, _, _, _, _, _]) C dX0_bestLine_78 rfl (Nat.le_of_ble_eq_true rfl) E.2.2.2.symm rfl rfl rfl ?_
          refine gx_iload (q := 81) C dX0_bestLine_79 rfl rfl ?_
          refine gx_iconst (q := 82) (v := nI 1) C dX0_bestLine_81 (by decide) rfl ?_
          refine gn_icmp_ne (q := 85) (tgt := 90) C dX0_bestLine_82 (by decide) rfl (by omega) (by omega) (fun c82 => ?_) (fun c82 => by exfalso; omega)
          refine gx_iload_n (q := 91) C dX0_bestLine_90 rfl rfl rfl ?_
          refine gx_iload (q := 93) C dX0_bestLine_91 rfl rfl ?_
          refine gm_min (q := 96) (by omega) (by omega) C E q885 (by decide) (Nat.le_of_ble_eq_true rfl) (by omega) (by omega) dX0_bestLine_93 rfl ?_
          rw [hmn]
          refine gx_istore_n (q := 97) (lv' := [_, _, _, _, _, _, _]) C dX0_bestLine_96 rfl (Nat.le_of_ble_eq_true rfl) E.2.2.2.symm rfl rfl rfl ?_
          refine gn_inc (q := 100) (lv' := [_, _, _, _, _, _, _]) C dX0_bestLine_97 rfl E.2.2.2.symm rfl rfl rfl ?_
          refine gx_goto (tgt := 16) C dX0_bestLine_100 (by decide) ?_
          refine gx_drop 6 ?_
          exact ih M _ hX hG (fun d => drT_d T (n + 1) d)
  exact Lc 0 (by omega) M T hX hG (fun _ => rfl)
set_option maxHeartbeats 800000 in
theorem xa_bestLine_1 (l : Launch) (D : va_G) (b : Nat) (M0 : List va_E) {R T Ti P Rw : Nat → Nat} {hi : Bool} {lm rm : Nat}  (h : xw_P D b M0 R T Ti P Rw hi lm rm) (hk : okT T) : fb_CT l D b yX0_bestLine cX0_bestLine 7 (some .int) 6 141 0 0 [.ref (b + 0), .int (bI true)] M0 (.returned (some (.int (nI ((fsS ltB (linV T 1) 5).1 + 1))))) (fun M' => xw_P D b M' R T Ti P Rw hi lm rm ∧ xw_F M0 M') := by
  refine fb_start [some (.ref (b + 0)), some (.int (bI true)), none, none, none, none, none] (by decide) (Nat.le_of_ble_eq_true rfl) rfl ?_
  intro x hl hD hb C E hx
  subst hl hD hb
  have C : fb_OK x cX0_bestLine "FallsBetween" "bestLine" := C
  obtain ⟨Tm, Y, Ym, Yi, lo, lom, loi, hX⟩ := h
  have hG := xw_F.rf M0
  obtain ⟨k0, k1, k2, k3, k4, k5, k6, k7, k8⟩ := id hk
  refine gx_iconst (q := 1) (v := nI 1) C dX0_bestLine_0 (by decide) rfl ?_
  refine gx_istore_n (q := 2) (lv' := [_, _, _, _, _, _, _]) C dX0_bestLine_1 rfl (Nat.le_of_ble_eq_true rfl) E.2.2.2.symm rfl rfl rfl ?_
  refine gx_iconst (q := 3) (v := nI 0) C dX0_bestLine_2 (by decide) rfl ?_
  refine gx_istore_n (q := 4) (lv' := [_, _, _, _, _, _, _]) C dX0_bestLine_3 rfl (Nat.le_of_ble_eq_true rfl) E.2.2.2.symm rfl rfl rfl ?_
  refine gx_aload_n (q := 5) C dX0_bestLine_4 rfl rfl rfl ?_
  refine gx_cs (q := 8) C E (sx_X0_112 (As := []) C hX.o rfl rfl dX0_bestLine_5) (xa_openMind _ _ _ _ hX hk) kw_X0_openMind (by decide) (Nat.le_of_ble_eq_true rfl) rfl rfl (by omega) (by omega) dX0_bestLine_5 rfl (fun M r5 => ?_)
  obtain ⟨hV1, hF1⟩ := r5
  have hX := hX.u2 hV1 hF1
  have hG := hG.tw hF1 (by decide)
  refine gx_cs (q := 11) C E (sx_X0_123 (As := []) C hX.m.o rfl rfl dX0_bestLine_8) (tx_find _ _ _ _ hX.m hk) kw_X1_find (by decide) (Nat.le_of_ble_eq_true rfl) rfl rfl (by omega) (by omega) dX0_bestLine_8 rfl (fun M r8 => ?_)
  obtain ⟨⟨Ym, hYm, hV1⟩, hF1⟩ := r8
  have hX := hX.u2 hV1 hF1
  have hG := hG.tw hF1 (by decide)
  refine gx_astore (q := 13) (lv' := [_, _, _, _, _, _, _]) C dX0_bestLine_11 (Nat.le_of_ble_eq_true rfl) E.2.2.2.symm rfl rfl rfl ?_
  refine gx_iconst (q := 14) (v := nI 1) C dX0_bestLine_13 (by decide) rfl ?_
  refine gx_istore (q := 16) (lv' := [_, _, _, _, _, _, _]) C dX0_bestLine_14 (Nat.le_of_ble_eq_true rfl) E.2.2.2.symm rfl rfl rfl ?_
  have Lc : ∀ n, n ≤ 5 → ∀ (M : List va_E) (U : Nat → Nat), xw_V (cx_D x) (cx_b x) M T U Ti Y Ym Yi lo (lsi T (T 0)) loi hi Rw rm P lm R → xw_F M0 M → (∀ d, drT U d = drT T d) → fb_G x M 0 0 16 [some (.ref (cx_b x + 0)), some (.int (bI true)), some (.int (nI (if n = 0 then 1 else (fsS ltB (linV T 1) n).1 + 1))), some (.int (nI (fsS ltB (linV T 1) n).2)), some (.ref (cx_b x + 14)), some (.int (nI (n + 1))), none] [] := by
    refine fb_dn 5 ?_ ?_
    · intro M U hX hG hU
      refine gx_iload (q := 18) C dX0_bestLine_16 rfl rfl ?_
      refine gx_bipush (q := 20) (v := nI 6) C dX0_bestLine_18 (by decide) rfl ?_
      refine gn_icmp_ge (q := 23) (tgt := 103) C dX0_bestLine_20 (by decide) rfl (by omega) (by omega) (fun c20 => ?_) (fun c20 => by exfalso; omega)
      refine gx_iload_n (q := 104) C dX0_bestLine_103 rfl rfl rfl ?_
      exact gx_iret C E dX0_bestLine_104 (⟨⟨_, _, _, _, _, _, _, hX⟩, hG⟩) (by omega) (by omega)
    · intro n hn ih M U hX hG hU
      rw [if_neg (Nat.succ_ne_zero n)] at ih
      have hv := linV_le hk 1 n
      have hm := fsS_b (c := ltB) (v := linV T 1) (m := 259200) n (fun i _ => linV_le hk 1 i)
      have hkn := drT_ok hk (n + 1)
      refine gx_iload (q := 18) C dX0_bestLine_16 rfl rfl ?_
      refine gx_bipush (q := 20) (v := nI 6) C dX0_bestLine_18 (by decide) rfl ?_
      refine gn_icmp_ge (q := 23) (tgt := 103) C dX0_bestLine_20 (by decide) rfl (by omega) (by omega) (fun c20 => by exfalso; omega) (fun c20 => ?_)
      refine gx_aload (q := 25) C dX0_bestLine_23 rfl rfl ?_
      refine gx_iload (q := 27) C dX0_bestLine_25 rfl rfl ?_
      refine gx_cv (q := 30) C E (sx_X0_157 (As := [_]) C hX.m.o rfl rfl dX0_bestLine_27) (tx_draw _ _ _ _ (n + 1) (by omega) hX.m) kw_X1_draw (by decide) (Nat.le_of_ble_eq_true rfl) rfl rfl (by omega) (by omega) dX0_bestLine_27 rfl (fun M r27 => ?_)
      obtain ⟨hV1, hF1⟩ := r27
      rw [hU] at hV1
      have hX := hX.u2 hV1 hF1
      have hG := hG.tw hF1 (by decide)
      refine gx_iload_n (q := 31) C dX0_bestLine_30 rfl rfl rfl ?_
      refine gb_if_eq (q := 34) (tgt := 53) C dX0_bestLine_31 (by decide) rfl (fun c31 => by exfalso; cases c31) (fun c31 => ?_)
      refine gx_aload (q := 36) C dX0_bestLine_34 rfl rfl ?_
      refine gx_iconst (q := 37) (v := nI 0) C dX0_bestLine_36 (by decide) rfl ?_
      refine gx_cp (q := 40) C E (sx_X0_126 (As := [_]) C hX.m.o rfl rfl dX0_bestLine_37) (tx_share _ _ _ _ 0 (by decide) hX.m hkn) kw_X1_share (by decide) (Nat.le_of_ble_eq_true rfl) (by omega) (by omega) dX0_bestLine_37 rfl ?_
      refine gx_top (show _ = nI (shL (drT T (n + 1)) (lyT T) 0 36) from congrArg nI (shL_cg (Nat.le_refl _) (fun _ _ => rfl) (fun _ _ => rfl) (fun z hz => lyY_g hYm (drT_0 T (n + 1)) hz))) ?_
      refine gx_aload (q := 42) C dX0_bestLine_40 rfl rfl ?_
      refine gx_iconst (q := 43) (v := nI 1) C dX0_bestLine_42 (by decide) rfl ?_
      refine gx_cp (q := 46) C E (sx_X0_126 (As := [_]) C hX.m.o rfl rfl dX0_bestLine_43) (tx_share _ _ _ _ 1 (by decide) hX.m hkn) kw_X1_share (by decide) (Nat.le_of_ble_eq_true rfl) (by omega) (by omega) dX0_bestLine_43 rfl ?_
      refine gx_top (show _ = nI (shL (drT T (n + 1)) (lyT T) 1 36) from congrArg nI (shL_cg (Nat.le_refl _) (fun _ _ => rfl) (fun _ _ => rfl) (fun z hz => lyY_g hYm (drT_0 T (n + 1)) hz))) ?_
      refine gx_isub (q := 47) C dX0_bestLine_46 rfl rfl ?_
      refine gm_abs (q := 50) (Nat.lt_of_le_of_lt (shLd_le hk _ _) (by decide)) (Nat.lt_of_le_of_lt (shLd_le hk _ _) (by decide)) C E q900 (by decide) (Nat.le_of_ble_eq_true rfl) (by omega) (by omega) dX0_bestLine_47 rfl ?_
      refine gx_top (show _ = nI (linV T 1 n) from rfl) ?_
      refine gx_goto (tgt := 58) C dX0_bestLine_50 (by decide) ?_
      refine gx_istore (q := 60) (lv' := [_, _, _, _, _, _, _]) C dX0_bestLine_58 (Nat.le_of_ble_eq_true rfl) E.2.2.2.symm rfl rfl rfl ?_
      refine gx_iload (q := 62) C dX0_bestLine_60 rfl rfl ?_
      refine gx_iconst (q := 63) (v := nI 1) C dX0_bestLine_62 (by decide) rfl ?_
      refine gn_icmp_eq (q := 66) (tgt := 72) C dX0_bestLine_63 (by decide) rfl (by omega) (by omega) (fun c63 => ?_) (fun c63 => ?_)
      · rw [fsS_t (Or.inl (by omega))] at ih
        refine gx_iload (q := 74) C dX0_bestLine_72 rfl rfl ?_
        refine gx_goto (tgt := 78) C dX0_bestLine_74 (by decide) ?_
        refine gx_istore_n (q := 79) (lv' := [_, _, _, _, _, _, _]) C dX0_bestLine_78 rfl (Nat.le_of_ble_eq_true rfl) E.2.2.2.symm rfl rfl rfl ?_
        refine gx_iload (q := 81) C dX0_bestLine_79 rfl rfl ?_
        refine gx_iconst (q := 82) (v := nI 1) C dX0_bestLine_81 (by decide) rfl ?_
        refine gn_icmp_ne (q := 85) (tgt := 90) C dX0_bestLine_82 (by decide) rfl (by omega) (by omega) (fun c82 => by exfalso; omega) (fun c82 => ?_)
        refine gx_iload (q := 87) C dX0_bestLine_85 rfl rfl ?_
        refine gx_goto (tgt := 96) C dX0_bestLine_87 (by decide) ?_
        refine gx_istore_n (q := 97) (lv' := [_, _, _, _, _, _, _]) C dX0_bestLine_96 rfl (Nat.le_of_ble_eq_true rfl) E.2.2.2.symm rfl rfl rfl ?_
        refine gn_inc (q := 100) (lv' := [_, _, _, _, _, _, _]) C dX0_bestLine_97 rfl E.2.2.2.symm rfl rfl rfl ?_
        refine gx_goto (tgt := 16) C dX0_bestLine_100 (by decide) ?_
        refine gx_drop 6 ?_
        exact ih M _ hX hG (fun d => drT_d T (n + 1) d)
      · rw [if_neg (show ¬ n = 0 by omega)]
        refine gx_iload (q := 68) C dX0_bestLine_66 rfl rfl ?_
        refine gx_iload_n (q := 69) C dX0_bestLine_68 rfl rfl rfl ?_
        refine gn_icmp_ge (q := 72) (tgt := 77) C dX0_bestLine_69 (by decide) rfl (by omega) (by omega) (fun c69 => ?_) (fun c69 => ?_)
        · rw [fsS_f (ltB_f (by omega) c69)] at ih
          have hmn : min (fsS ltB (linV T 1) n).2 (linV T 1 n) = (fsS ltB (linV T 1) n).2 := Nat.min_eq_left c69
          refine gx_iload_n (q := 78) C dX0_bestLine_77 rfl rfl rfl ?_
          refine gx_istore_n (q := 79) (lv' := [_, _, _, _, _, _, _]) C dX0_bestLine_78 rfl (Nat.le_of_ble_eq_true rfl) E.2.2.2.symm rfl rfl rfl ?_
          refine gx_iload (q := 81) C dX0_bestLine_79 rfl rfl ?_
          refine gx_iconst (q := 82) (v := nI 1) C dX0_bestLine_81 (by decide) rfl ?_
          refine gn_icmp_ne (q := 85) (tgt := 90) C dX0_bestLine_82 (by decide) rfl (by omega) (by omega) (fun c82 => ?_) (fun c82 => by exfalso; omega)
          refine gx_iload_n (q := 91) C dX0_bestLine_90 rfl rfl rfl ?_
          refine gx_iload (q := 93) C dX0_bestLine_91 rfl rfl ?_
          refine gm_min (q := 96) (by omega) (by omega) C E q885 (by decide) (Nat.le_of_ble_eq_true rfl) (by omega) (by omega) dX0_bestLine_93 rfl ?_
          rw [hmn]
          refine gx_istore_n (q := 97) (lv' := [_, _, _, _, _, _, _]) C dX0_bestLine_96 rfl (Nat.le_of_ble_eq_true rfl) E.2.2.2.symm rfl rfl rfl ?_
          refine gn_inc (q := 100) (lv' := [_, _, _, _, _, _, _]) C dX0_bestLine_97 rfl E.2.2.2.symm rfl rfl rfl ?_
          refine gx_goto (tgt := 16) C dX0_bestLine_100 (by decide) ?_
          refine gx_drop 6 ?_
          exact ih M _ hX hG (fun d => drT_d T (n + 1) d)
        · rw [fsS_t (Or.inr (ltB_t (by omega)))] at ih
          have hmn : min (fsS ltB (linV T 1) n).2 (linV T 1 n) = linV T 1 n := Nat.min_eq_right (by omega)
          refine gx_iload (q := 74) C dX0_bestLine_72 rfl rfl ?_
          refine gx_goto (tgt := 78) C dX0_bestLine_74 (by decide) ?_
          refine gx_istore_n (q := 79) (lv' := [_, _, _, _, _, _, _]) C dX0_bestLine_78 rfl (Nat.le_of_ble_eq_true rfl) E.2.2.2.symm rfl rfl rfl ?_
          refine gx_iload (q := 81) C dX0_bestLine_79 rfl rfl ?_
          refine gx_iconst (q := 82) (v := nI 1) C dX0_bestLine_81 (by decide) rfl ?_
          refine gn_icmp_ne (q := 85) (tgt := 90) C dX0_bestLine_82 (by decide) rfl (by omega) (by omega) (fun c82 => ?_) (fun c82 => by exfalso; omega)
          refine gx_iload_n (q := 91) C dX0_bestLine_90 rfl rfl rfl ?_
          refine gx_iload (q := 93) C dX0_bestLine_91 rfl rfl ?_
          refine gm_min (q := 96) (by omega) (by omega) C E q885 (by decide) (Nat.le_of_ble_eq_true rfl) (by omega) (by omega) dX0_bestLine_93 rfl ?_
          rw [hmn]
          refine gx_istore_n (q := 97) (lv' := [_, _, _, _, _, _, _]) C dX0_bestLine_96 rfl (Nat.le_of_ble_eq_true rfl) E.2.2.2.symm rfl rfl rfl ?_
          refine gn_inc (q := 100) (lv' := [_, _, _, _, _, _, _]) C dX0_bestLine_97 rfl E.2.2.2.symm rfl rfl rfl ?_
          refine gx_goto (tgt := 16) C dX0_bestLine_100 (by decide) ?_
          refine gx_drop 6 ?_
          exact ih M _ hX hG (fun d => drT_d T (n + 1) d)
  exact Lc 0 (by omega) M T hX hG (fun _ => rfl)
def mst (r : Nat × Nat) (n : Nat) : Int32 := if n = 0 then -9 else nI r.2
theorem mst_0 (r : Nat × Nat) : mst r 0 = -9 := rfl
theorem mst_s (r : Nat × Nat) {n : Nat} (h : ¬ n = 0) : mst r n = nI r.2 := by unfold mst; rw [if_neg h]
theorem nI_g9 {a : Nat} (h : a < 2 ^ 31) : ¬ nI a ≤ -9 := Int32.not_le.mpr (Int32.lt_of_lt_of_le (by decide) (nI_pos' h))
theorem shL_w {T Y : Nat → Nat} {n g : Nat} (h : fnd (updN T 1 n) Y) : shL (updN T 1 n) (lyY (updN T 1 n) Y) g 36 = winV T g n := shL_f h g
set_option maxHeartbeats 800000 in
theorem xa_windsTold_0 (l : Launch) (D : va_G) (b : Nat) (M0 : List va_E) {R T Ti P Rw : Nat → Nat} {hi : Bool} {lm rm : Nat} (g : Nat) (hg : g < 4) (h : xw_P D b M0 R T Ti P Rw hi lm rm) (hk : okT T) : fb_CT l D b yX0_windsTold cX0_windsTold 9 (some .int) 6 141 0 0 [.ref (b + 0), .int (nI g), .int (nI 0)] M0 (.returned (some (.int (nI (fsS gtB (winV T g) 16).1)))) (fun M' => xw_P D b M' R T Ti P Rw hi lm rm ∧ xw_F M0 M') := by
  refine fb_start [some (.ref (b + 0)), some (.int (nI g)), some (.int (nI 0)), none, none, none, none, none, none] (by decide) (Nat.le_of_ble_eq_true rfl) rfl ?_
  intro x hl hD hb C E hx
  subst hl hD hb
  have C : fb_OK x cX0_windsTold "FallsBetween" "windsTold" := C
  obtain ⟨Tm, Y, Ym, Yi, lo, lom, loi, hX⟩ := h
  have hG := xw_F.rf M0
  obtain ⟨k0, k1, k2, k3, k4, k5, k6, k7, k8⟩ := id hk
  refine gx_iconst (q := 1) (v := nI 0) C dX0_windsTold_0 (by decide) rfl ?_
  refine gx_istore_n (q := 2) (lv' := [_, _, _, _, _, _, _, _, _]) C dX0_windsTold_1 rfl (Nat.le_of_ble_eq_true rfl) E.2.2.2.symm rfl rfl rfl ?_
  refine gx_bipush (q := 4) (v := mst (fsS gtB (winV T g) 0) 0) C dX0_windsTold_2 (rfl) rfl ?_
  refine gx_istore (q := 6) (lv' := [_, _, _, _, _, _, _, _, _]) C dX0_windsTold_4 (Nat.le_of_ble_eq_true rfl) E.2.2.2.symm rfl rfl rfl ?_
  refine gx_iconst (q := 7) (v := nI 0) C dX0_windsTold_6 (by decide) rfl ?_
  refine gx_istore (q := 9) (lv' := [_, _, _, _, _, _, _, _, _]) C dX0_windsTold_7 (Nat.le_of_ble_eq_true rfl) E.2.2.2.symm rfl rfl rfl ?_
  refine gx_aload_n (q := 10) C dX0_windsTold_9 rfl rfl rfl ?_
  refine gx_cs (q := 13) C E (sx_X0_112 (As := []) C hX.o rfl rfl dX0_windsTold_10) (xa_openMind _ _ _ _ hX hk) kw_X0_openMind (by decide) (Nat.le_of_ble_eq_true rfl) rfl rfl (by omega) (by omega) dX0_windsTold_10 rfl (fun M r10 => ?_)
  obtain ⟨hV1, hF1⟩ := r10
  have hX := hX.u2 hV1 hF1
  have hG := hG.tw hF1 (by decide)
  refine gx_astore (q := 15) (lv' := [_, _, _, _, _, _, _, _, _]) C dX0_windsTold_13 (Nat.le_of_ble_eq_true rfl) E.2.2.2.symm rfl rfl rfl ?_
  refine gx_iconst (q := 16) (v := nI 0) C dX0_windsTold_15 (by decide) rfl ?_
  refine gx_istore (q := 18) (lv' := [_, _, _, _, _, _, _, _, _]) C dX0_windsTold_16 (Nat.le_of_ble_eq_true rfl) E.2.2.2.symm rfl rfl rfl ?_
  have Lw : ∀ n, n ≤ 16 → ∀ (M : List va_E) (c lom : Nat) (Ym : Nat → Nat), xw_V (cx_D x) (cx_b x) M T (updN T 1 c) Ti Y Ym Yi lo lom loi hi Rw rm P lm R → xw_F M0 M → fb_G x M 0 0 18 [some (.ref (cx_b x + 0)), some (.int (nI g)), some (.int (nI 0)), some (.int (nI (fsS gtB (winV T g) n).1)), some (.int (mst (fsS gtB (winV T g) n) n)), some (.int (nI (lsS (winV T g) n))), some (.ref (cx_b x + 14)), some (.int (nI n)), none] [] := by
    refine fb_dn 16 ?_ ?_
    · intro M c lom Ym hX hG
      refine gx_iload (q := 20) C dX0_windsTold_18 rfl rfl ?_
      refine gx_bipush (q := 22) (v := nI 16) C dX0_windsTold_20 (by decide) rfl ?_
      refine gn_icmp_ge (q := 25) (tgt := 91) C dX0_windsTold_22 (by decide) rfl (by omega) (by omega) (fun c22 => ?_) (fun c22 => by exfalso; omega)
      refine gx_iload_n (q := 92) C dX0_windsTold_91 rfl rfl rfl ?_
      refine gn_if_ne (q := 95) (tgt := 99) C dX0_windsTold_92 (by decide) rfl (by omega) (fun c92 => by exfalso; revert c92; decide) (fun c92 => ?_)
      refine gx_iload_n (q := 96) C dX0_windsTold_95 rfl rfl rfl ?_
      refine gx_goto (tgt := 101) C dX0_windsTold_96 (by decide) ?_
      exact gx_iret C E dX0_windsTold_101 (⟨⟨_, _, _, _, _, _, _, hX⟩, hG⟩) (by omega) (by omega)
    · intro n hn ih M c lom Ym hX hG
      have hv := winV_le hk g hn
      have hm := fsS_b (c := gtB) (v := winV T g) (m := 129600) n (fun i hi => winV_le hk g (by omega))
      have hl := lsS_b (v := winV T g) (m := 129600) n (fun i hi => winV_le hk g (by omega))
      have hkn : okT (updN T 1 n) := okT_up hk (by omega)
      refine gx_iload (q := 20) C dX0_windsTold_18 rfl rfl ?_
      refine gx_bipush (q := 22) (v := nI 16) C dX0_windsTold_20 (by decide) rfl ?_
      refine gn_icmp_ge (q := 25) (tgt := 91) C dX0_windsTold_22 (by decide) rfl (by omega) (by omega) (fun c22 => by exfalso; omega) (fun c22 => ?_)
      refine gx_aload (q := 27) C dX0_windsTold_25 rfl rfl ?_
      refine gx_iload (q := 29) C dX0_windsTold_27 rfl rfl ?_
      refine tv_pf_X0_wind (q := 32) C hX.m (tw_F.rf _ _) dX0_windsTold_29 rfl (fun M hV1 hF1 => ?_)
      have hX := hX.u2 hV1 hF1
      have hG := hG.tw hF1 (by decide)
      rw [updN_u] at hX
      refine gx_aload (q := 34) C dX0_windsTold_32 rfl rfl ?_
      refine gx_cs (q := 37) C E (sx_X0_123 (As := []) C hX.m.o rfl rfl dX0_windsTold_34) (tx_find _ _ _ _ hX.m hkn) kw_X1_find (by decide) (Nat.le_of_ble_eq_true rfl) rfl rfl (by omega) (by omega) dX0_windsTold_34 rfl (fun M r34 => ?_)
      obtain ⟨⟨Ym, hYm, hV1⟩, hF1⟩ := r34
      have hX := hX.u2 hV1 hF1
      have hG := hG.tw hF1 (by decide)
      refine gx_iload_n (q := 38) C dX0_windsTold_37 rfl rfl rfl ?_
      refine gx_cp (q := 41) C E (sx_X0_126 (As := [_]) C hX.m.o rfl rfl dX0_windsTold_38) (tx_share _ _ _ _ g (by omega) hX.m hkn) kw_X1_share (by decide) (Nat.le_of_ble_eq_true rfl) (by omega) (by omega) dX0_windsTold_38 rfl ?_
      refine gx_top (show _ = nI (winV T g n) by rw [shL_w hYm]) ?_
      refine gx_istore (q := 43) (lv' := [_, _, _, _, _, _, _, _, _]) C dX0_windsTold_41 (Nat.le_of_ble_eq_true rfl) E.2.2.2.symm rfl rfl rfl ?_
      by_cases hz : n = 0
      · subst hz
        rw [mst_0]
        rw [fsS_t (Or.inl rfl), mst_s _ (by decide)] at ih
        refine gx_iload (q := 45) C dX0_windsTold_43 rfl rfl ?_
        refine gx_iload (q := 47) C dX0_windsTold_45 rfl rfl ?_
        refine gx_icmp_le (q := 50) (tgt := 55) C dX0_windsTold_47 (by decide) rfl (fun c47 => by exfalso; exact nI_g9 (by omega) c47) (fun c47 => ?_)
        refine gx_iload (q := 52) C dX0_windsTold_50 rfl rfl ?_
        refine gx_goto (tgt := 56) C dX0_windsTold_52 (by decide) ?_
        refine gx_istore_n (q := 57) (lv' := [_, _, _, _, _, _, _, _, _]) C dX0_windsTold_56 rfl (Nat.le_of_ble_eq_true rfl) E.2.2.2.symm rfl rfl rfl ?_
        refine gx_iload (q := 59) C dX0_windsTold_57 rfl rfl ?_
        refine gx_iload (q := 61) C dX0_windsTold_59 rfl rfl ?_
        refine gm_max9 (q := 64) (by omega) C E q870 (by decide) (Nat.le_of_ble_eq_true rfl) (by omega) (by omega) dX0_windsTold_61 rfl ?_
        refine gx_istore (q := 66) (lv' := [_, _, _, _, _, _, _, _, _]) C dX0_windsTold_64 (Nat.le_of_ble_eq_true rfl) E.2.2.2.symm rfl rfl rfl ?_
        refine gx_iload (q := 68) C dX0_windsTold_66 rfl rfl ?_
        refine gn_if_ne (q := 71) (tgt := 76) C dX0_windsTold_68 (by decide) rfl (by omega) (fun c68 => ?_) (fun c68 => ?_)
        · rw [lsS_2 (by omega)] at ih
          refine gx_iload (q := 78) C dX0_windsTold_76 rfl rfl ?_
          refine gx_iload (q := 80) C dX0_windsTold_78 rfl rfl ?_
          refine gm_min (q := 83) (by omega) (by omega) C E q885 (by decide) (Nat.le_of_ble_eq_true rfl) (by omega) (by omega) dX0_windsTold_80 rfl ?_
          refine gx_istore (q := 85) (lv' := [_, _, _, _, _, _, _, _, _]) C dX0_windsTold_83 (Nat.le_of_ble_eq_true rfl) E.2.2.2.symm rfl rfl rfl ?_
          refine gn_inc (q := 88) (lv' := [_, _, _, _, _, _, _, _, _]) C dX0_windsTold_85 rfl E.2.2.2.symm rfl rfl rfl ?_
          refine gx_goto (tgt := 18) C dX0_windsTold_88 (by decide) ?_
          refine gx_drop 8 ?_
          exact ih M _ _ _ hX hG
        · rw [lsS_1 (by omega)] at ih
          refine gx_iload (q := 73) C dX0_windsTold_71 rfl rfl ?_
          refine gx_goto (tgt := 83) C dX0_windsTold_73 (by decide) ?_
          refine gx_istore (q := 85) (lv' := [_, _, _, _, _, _, _, _, _]) C dX0_windsTold_83 (Nat.le_of_ble_eq_true rfl) E.2.2.2.symm rfl rfl rfl ?_
          refine gn_inc (q := 88) (lv' := [_, _, _, _, _, _, _, _, _]) C dX0_windsTold_85 rfl E.2.2.2.symm rfl rfl rfl ?_
          refine gx_goto (tgt := 18) C dX0_windsTold_88 (by decide) ?_
          refine gx_drop 8 ?_
          exact ih M _ _ _ hX hG
      · rw [mst_s _ hz]
        rw [mst_s _ (by omega)] at ih
        refine gx_iload (q := 45) C dX0_windsTold_43 rfl rfl ?_
        refine gx_iload (q := 47) C dX0_windsTold_45 rfl rfl ?_
        refine gn_icmp_le (q := 50) (tgt := 55) C dX0_windsTold_47 (by decide) rfl (by omega) (by omega) (fun c47 => ?_) (fun c47 => ?_)
        · rw [fsS_f (gtB_f (by omega) c47)] at ih
          have hmx : max (fsS gtB (winV T g) n).2 (winV T g n) = (fsS gtB (winV T g) n).2 := Nat.max_eq_left c47
          refine gx_iload_n (q := 56) C dX0_windsTold_55 rfl rfl rfl ?_
          refine gx_istore_n (q := 57) (lv' := [_, _, _, _, _, _, _, _, _]) C dX0_windsTold_56 rfl (Nat.le_of_ble_eq_true rfl) E.2.2.2.symm rfl rfl rfl ?_
          refine gx_iload (q := 59) C dX0_windsTold_57 rfl rfl ?_
          refine gx_iload (q := 61) C dX0_windsTold_59 rfl rfl ?_
          refine gm_max (q := 64) (by omega) (by omega) C E q870 (by decide) (Nat.le_of_ble_eq_true rfl) (by omega) (by omega) dX0_windsTold_61 rfl ?_
          rw [hmx]
          refine gx_istore (q := 66) (lv' := [_, _, _, _, _, _, _, _, _]) C dX0_windsTold_64 (Nat.le_of_ble_eq_true rfl) E.2.2.2.symm rfl rfl rfl ?_
          refine gx_iload (q := 68) C dX0_windsTold_66 rfl rfl ?_
          refine gn_if_ne (q := 71) (tgt := 76) C dX0_windsTold_68 (by decide) rfl (by omega) (fun c68 => ?_) (fun c68 => ?_)
          · rw [lsS_2 (by omega)] at ih
            refine gx_iload (q := 78) C dX0_windsTold_76 rfl rfl ?_
            refine gx_iload (q := 80) C dX0_windsTold_78 rfl rfl ?_
            refine gm_min (q := 83) (by omega) (by omega) C E q885 (by decide) (Nat.le_of_ble_eq_true rfl) (by omega) (by omega) dX0_windsTold_80 rfl ?_
            refine gx_istore (q := 85) (lv' := [_, _, _, _, _, _, _, _, _]) C dX0_windsTold_83 (Nat.le_of_ble_eq_true rfl) E.2.2.2.symm rfl rfl rfl ?_
            refine gn_inc (q := 88) (lv' := [_, _, _, _, _, _, _, _, _]) C dX0_windsTold_85 rfl E.2.2.2.symm rfl rfl rfl ?_
            refine gx_goto (tgt := 18) C dX0_windsTold_88 (by decide) ?_
            refine gx_drop 8 ?_
            exact ih M _ _ _ hX hG
          · rw [lsS_1 (by omega)] at ih
            refine gx_iload (q := 73) C dX0_windsTold_71 rfl rfl ?_
            refine gx_goto (tgt := 83) C dX0_windsTold_73 (by decide) ?_
            refine gx_istore (q := 85) (lv' := [_, _, _, _, _, _, _, _, _]) C dX0_windsTold_83 (Nat.le_of_ble_eq_true rfl) E.2.2.2.symm rfl rfl rfl ?_
            refine gn_inc (q := 88) (lv' := [_, _, _, _, _, _, _, _, _]) C dX0_windsTold_85 rfl E.2.2.2.symm rfl rfl rfl ?_
            refine gx_goto (tgt := 18) C dX0_windsTold_88 (by decide) ?_
            refine gx_drop 8 ?_
            exact ih M _ _ _ hX hG
        · rw [fsS_t (Or.inr (gtB_t (by omega)))] at ih
          have hmx : max (fsS gtB (winV T g) n).2 (winV T g n) = winV T g n := Nat.max_eq_right (by omega)
          refine gx_iload (q := 52) C dX0_windsTold_50 rfl rfl ?_
          refine gx_goto (tgt := 56) C dX0_windsTold_52 (by decide) ?_
          refine gx_istore_n (q := 57) (lv' := [_, _, _, _, _, _, _, _, _]) C dX0_windsTold_56 rfl (Nat.le_of_ble_eq_true rfl) E.2.2.2.symm rfl rfl rfl ?_
          refine gx_iload (q := 59) C dX0_windsTold_57 rfl rfl ?_
          refine gx_iload (q := 61) C dX0_windsTold_59 rfl rfl ?_
          refine gm_max (q := 64) (by omega) (by omega) C E q870 (by decide) (Nat.le_of_ble_eq_true rfl) (by omega) (by omega) dX0_windsTold_61 rfl ?_
          rw [hmx]
          refine gx_istore (q := 66) (lv' := [_, _, _, _, _, _, _, _, _]) C dX0_windsTold_64 (Nat.le_of_ble_eq_true rfl) E.2.2.2.symm rfl rfl rfl ?_
          refine gx_iload (q := 68) C dX0_windsTold_66 rfl rfl ?_
          refine gn_if_ne (q := 71) (tgt := 76) C dX0_windsTold_68 (by decide) rfl (by omega) (fun c68 => ?_) (fun c68 => ?_)
          · rw [lsS_2 (by omega)] at ih
            refine gx_iload (q := 78) C dX0_windsTold_76 rfl rfl ?_
            refine gx_iload (q := 80) C dX0_windsTold_78 rfl rfl ?_
            refine gm_min (q := 83) (by omega) (by omega) C E q885 (by decide) (Nat.le_of_ble_eq_true rfl) (by omega) (by omega) dX0_windsTold_80 rfl ?_
            refine gx_istore (q := 85) (lv' := [_, _, _, _, _, _, _, _, _]) C dX0_windsTold_83 (Nat.le_of_ble_eq_true rfl) E.2.2.2.symm rfl rfl rfl ?_
            refine gn_inc (q := 88) (lv' := [_, _, _, _, _, _, _, _, _]) C dX0_windsTold_85 rfl E.2.2.2.symm rfl rfl rfl ?_
            refine gx_goto (tgt := 18) C dX0_windsTold_88 (by decide) ?_
            refine gx_drop 8 ?_
            exact ih M _ _ _ hX hG
          · rw [lsS_1 (by omega)] at ih
            refine gx_iload (q := 73) C dX0_windsTold_71 rfl rfl ?_
            refine gx_goto (tgt := 83) C dX0_windsTold_73 (by decide) ?_
            refine gx_istore (q := 85) (lv' := [_, _, _, _, _, _, _, _, _]) C dX0_windsTold_83 (Nat.le_of_ble_eq_true rfl) E.2.2.2.symm rfl rfl rfl ?_
            refine gn_inc (q := 88) (lv' := [_, _, _, _, _, _, _, _, _]) C dX0_windsTold_85 rfl E.2.2.2.symm rfl rfl rfl ?_
            refine gx_goto (tgt := 18) C dX0_windsTold_88 (by decide) ?_
            refine gx_drop 8 ?_
            exact ih M _ _ _ hX hG
  exact Lw 0 (by omega) M (T 1) _ _ (by rw [updN_r]; exact hX) hG
set_option maxHeartbeats 800000 in
theorem xa_windsTold_1 (l : Launch) (D : va_G) (b : Nat) (M0 : List va_E) {R T Ti P Rw : Nat → Nat} {hi : Bool} {lm rm : Nat} (g : Nat) (hg : g < 4) (h : xw_P D b M0 R T Ti P Rw hi lm rm) (hk : okT T) : fb_CT l D b yX0_windsTold cX0_windsTold 9 (some .int) 6 141 0 0 [.ref (b + 0), .int (nI g), .int (nI 1)] M0 (.returned (some (.int (nI (lsS (winV T g) 16))))) (fun M' => xw_P D b M' R T Ti P Rw hi lm rm ∧ xw_F M0 M') := by
  refine fb_start [some (.ref (b + 0)), some (.int (nI g)), some (.int (nI 1)), none, none, none, none, none, none] (by decide) (Nat.le_of_ble_eq_true rfl) rfl ?_
  intro x hl hD hb C E hx
  subst hl hD hb
  have C : fb_OK x cX0_windsTold "FallsBetween" "windsTold" := C
  obtain ⟨Tm, Y, Ym, Yi, lo, lom, loi, hX⟩ := h
  have hG := xw_F.rf M0
  obtain ⟨k0, k1, k2, k3, k4, k5, k6, k7, k8⟩ := id hk
  refine gx_iconst (q := 1) (v := nI 0) C dX0_windsTold_0 (by decide) rfl ?_
  refine gx_istore_n (q := 2) (lv' := [_, _, _, _, _, _, _, _, _]) C dX0_windsTold_1 rfl (Nat.le_of_ble_eq_true rfl) E.2.2.2.symm rfl rfl rfl ?_
  refine gx_bipush (q := 4) (v := mst (fsS gtB (winV T g) 0) 0) C dX0_windsTold_2 (rfl) rfl ?_
  refine gx_istore (q := 6) (lv' := [_, _, _, _, _, _, _, _, _]) C dX0_windsTold_4 (Nat.le_of_ble_eq_true rfl) E.2.2.2.symm rfl rfl rfl ?_
  refine gx_iconst (q := 7) (v := nI 0) C dX0_windsTold_6 (by decide) rfl ?_
  refine gx_istore (q := 9) (lv' := [_, _, _, _, _, _, _, _, _]) C dX0_windsTold_7 (Nat.le_of_ble_eq_true rfl) E.2.2.2.symm rfl rfl rfl ?_
  refine gx_aload_n (q := 10) C dX0_windsTold_9 rfl rfl rfl ?_
  refine gx_cs (q := 13) C E (sx_X0_112 (As := []) C hX.o rfl rfl dX0_windsTold_10) (xa_openMind _ _ _ _ hX hk) kw_X0_openMind (by decide) (Nat.le_of_ble_eq_true rfl) rfl rfl (by omega) (by omega) dX0_windsTold_10 rfl (fun M r10 => ?_)
  obtain ⟨hV1, hF1⟩ := r10
  have hX := hX.u2 hV1 hF1
  have hG := hG.tw hF1 (by decide)
  refine gx_astore (q := 15) (lv' := [_, _, _, _, _, _, _, _, _]) C dX0_windsTold_13 (Nat.le_of_ble_eq_true rfl) E.2.2.2.symm rfl rfl rfl ?_
  refine gx_iconst (q := 16) (v := nI 0) C dX0_windsTold_15 (by decide) rfl ?_
  refine gx_istore (q := 18) (lv' := [_, _, _, _, _, _, _, _, _]) C dX0_windsTold_16 (Nat.le_of_ble_eq_true rfl) E.2.2.2.symm rfl rfl rfl ?_
  have Lw : ∀ n, n ≤ 16 → ∀ (M : List va_E) (c lom : Nat) (Ym : Nat → Nat), xw_V (cx_D x) (cx_b x) M T (updN T 1 c) Ti Y Ym Yi lo lom loi hi Rw rm P lm R → xw_F M0 M → fb_G x M 0 0 18 [some (.ref (cx_b x + 0)), some (.int (nI g)), some (.int (nI 1)), some (.int (nI (fsS gtB (winV T g) n).1)), some (.int (mst (fsS gtB (winV T g) n) n)), some (.int (nI (lsS (winV T g) n))), some (.ref (cx_b x + 14)), some (.int (nI n)), none] [] := by
    refine fb_dn 16 ?_ ?_
    · intro M c lom Ym hX hG
      refine gx_iload (q := 20) C dX0_windsTold_18 rfl rfl ?_
      refine gx_bipush (q := 22) (v := nI 16) C dX0_windsTold_20 (by decide) rfl ?_
      refine gn_icmp_ge (q := 25) (tgt := 91) C dX0_windsTold_22 (by decide) rfl (by omega) (by omega) (fun c22 => ?_) (fun c22 => by exfalso; omega)
      refine gx_iload_n (q := 92) C dX0_windsTold_91 rfl rfl rfl ?_
      refine gn_if_ne (q := 95) (tgt := 99) C dX0_windsTold_92 (by decide) rfl (by omega) (fun c92 => ?_) (fun c92 => by exfalso; revert c92; decide)
      refine gx_iload (q := 101) C dX0_windsTold_99 rfl rfl ?_
      exact gx_iret C E dX0_windsTold_101 (⟨⟨_, _, _, _, _, _, _, hX⟩, hG⟩) (by omega) (by omega)
    · intro n hn ih M c lom Ym hX hG
      have hv := winV_le hk g hn
      have hm := fsS_b (c := gtB) (v := winV T g) (m := 129600) n (fun i hi => winV_le hk g (by omega))
      have hl := lsS_b (v := winV T g) (m := 129600) n (fun i hi => winV_le hk g (by omega))
      have hkn : okT (updN T 1 n) := okT_up hk (by omega)
      refine gx_iload (q := 20) C dX0_windsTold_18 rfl rfl ?_
      refine gx_bipush (q := 22) (v := nI 16) C dX0_windsTold_20 (by decide) rfl ?_
      refine gn_icmp_ge (q := 25) (tgt := 91) C dX0_windsTold_22 (by decide) rfl (by omega) (by omega) (fun c22 => by exfalso; omega) (fun c22 => ?_)
      refine gx_aload (q := 27) C dX0_windsTold_25 rfl rfl ?_
      refine gx_iload (q := 29) C dX0_windsTold_27 rfl rfl ?_
      refine tv_pf_X0_wind (q := 32) C hX.m (tw_F.rf _ _) dX0_windsTold_29 rfl (fun M hV1 hF1 => ?_)
      have hX := hX.u2 hV1 hF1
      have hG := hG.tw hF1 (by decide)
      rw [updN_u] at hX
      refine gx_aload (q := 34) C dX0_windsTold_32 rfl rfl ?_
      refine gx_cs (q := 37) C E (sx_X0_123 (As := []) C hX.m.o rfl rfl dX0_windsTold_34) (tx_find _ _ _ _ hX.m hkn) kw_X1_find (by decide) (Nat.le_of_ble_eq_true rfl) rfl rfl (by omega) (by omega) dX0_windsTold_34 rfl (fun M r34 => ?_)
      obtain ⟨⟨Ym, hYm, hV1⟩, hF1⟩ := r34
      have hX := hX.u2 hV1 hF1
      have hG := hG.tw hF1 (by decide)
      refine gx_iload_n (q := 38) C dX0_windsTold_37 rfl rfl rfl ?_
      refine gx_cp (q := 41) C E (sx_X0_126 (As := [_]) C hX.m.o rfl rfl dX0_windsTold_38) (tx_share _ _ _ _ g (by omega) hX.m hkn) kw_X1_share (by decide) (Nat.le_of_ble_eq_true rfl) (by omega) (by omega) dX0_windsTold_38 rfl ?_
      refine gx_top (show _ = nI (winV T g n) by rw [shL_w hYm]) ?_
      refine gx_istore (q := 43) (lv' := [_, _, _, _, _, _, _, _, _]) C dX0_windsTold_41 (Nat.le_of_ble_eq_true rfl) E.2.2.2.symm rfl rfl rfl ?_
      by_cases hz : n = 0
      · subst hz
        rw [mst_0]
        rw [fsS_t (Or.inl rfl), mst_s _ (by decide)] at ih
        refine gx_iload (q := 45) C dX0_windsTold_43 rfl rfl ?_
        refine gx_iload (q := 47) C dX0_windsTold_45 rfl rfl ?_
        refine gx_icmp_le (q := 50) (tgt := 55) C dX0_windsTold_47 (by decide) rfl (fun c47 => by exfalso; exact nI_g9 (by omega) c47) (fun c47 => ?_)
        refine gx_iload (q := 52) C dX0_windsTold_50 rfl rfl ?_
        refine gx_goto (tgt := 56) C dX0_windsTold_52 (by decide) ?_
        refine gx_istore_n (q := 57) (lv' := [_, _, _, _, _, _, _, _, _]) C dX0_windsTold_56 rfl (Nat.le_of_ble_eq_true rfl) E.2.2.2.symm rfl rfl rfl ?_
        refine gx_iload (q := 59) C dX0_windsTold_57 rfl rfl ?_
        refine gx_iload (q := 61) C dX0_windsTold_59 rfl rfl ?_
        refine gm_max9 (q := 64) (by omega) C E q870 (by decide) (Nat.le_of_ble_eq_true rfl) (by omega) (by omega) dX0_windsTold_61 rfl ?_
        refine gx_istore (q := 66) (lv' := [_, _, _, _, _, _, _, _, _]) C dX0_windsTold_64 (Nat.le_of_ble_eq_true rfl) E.2.2.2.symm rfl rfl rfl ?_
        refine gx_iload (q := 68) C dX0_windsTold_66 rfl rfl ?_
        refine gn_if_ne (q := 71) (tgt := 76) C dX0_windsTold_68 (by decide) rfl (by omega) (fun c68 => ?_) (fun c68 => ?_)
        · rw [lsS_2 (by omega)] at ih
          refine gx_iload (q := 78) C dX0_windsTold_76 rfl rfl ?_
          refine gx_iload (q := 80) C dX0_windsTold_78 rfl rfl ?_
          refine gm_min (q := 83) (by omega) (by omega) C E q885 (by decide) (Nat.le_of_ble_eq_true rfl) (by omega) (by omega) dX0_windsTold_80 rfl ?_
          refine gx_istore (q := 85) (lv' := [_, _, _, _, _, _, _, _, _]) C dX0_windsTold_83 (Nat.le_of_ble_eq_true rfl) E.2.2.2.symm rfl rfl rfl ?_
          refine gn_inc (q := 88) (lv' := [_, _, _, _, _, _, _, _, _]) C dX0_windsTold_85 rfl E.2.2.2.symm rfl rfl rfl ?_
          refine gx_goto (tgt := 18) C dX0_windsTold_88 (by decide) ?_
          refine gx_drop 8 ?_
          exact ih M _ _ _ hX hG
        · rw [lsS_1 (by omega)] at ih
          refine gx_iload (q := 73) C dX0_windsTold_71 rfl rfl ?_
          refine gx_goto (tgt := 83) C dX0_windsTold_73 (by decide) ?_
          refine gx_istore (q := 85) (lv' := [_, _, _, _, _, _, _, _, _]) C dX0_windsTold_83 (Nat.le_of_ble_eq_true rfl) E.2.2.2.symm rfl rfl rfl ?_
          refine gn_inc (q := 88) (lv' := [_, _, _, _, _, _, _, _, _]) C dX0_windsTold_85 rfl E.2.2.2.symm rfl rfl rfl ?_
          refine gx_goto (tgt := 18) C dX0_windsTold_88 (by decide) ?_
          refine gx_drop 8 ?_
          exact ih M _ _ _ hX hG
      · rw [mst_s _ hz]
        rw [mst_s _ (by omega)] at ih
        refine gx_iload (q := 45) C dX0_windsTold_43 rfl rfl ?_
        refine gx_iload (q := 47) C dX0_windsTold_45 rfl rfl ?_
        refine gn_icmp_le (q := 50) (tgt := 55) C dX0_windsTold_47 (by decide) rfl (by omega) (by omega) (fun c47 => ?_) (fun c47 => ?_)
        · rw [fsS_f (gtB_f (by omega) c47)] at ih
          have hmx : max (fsS gtB (winV T g) n).2 (winV T g n) = (fsS gtB (winV T g) n).2 := Nat.max_eq_left c47
          refine gx_iload_n (q := 56) C dX0_windsTold_55 rfl rfl rfl ?_
          refine gx_istore_n (q := 57) (lv' := [_, _, _, _, _, _, _, _, _]) C dX0_windsTold_56 rfl (Nat.le_of_ble_eq_true rfl) E.2.2.2.symm rfl rfl rfl ?_
          refine gx_iload (q := 59) C dX0_windsTold_57 rfl rfl ?_
          refine gx_iload (q := 61) C dX0_windsTold_59 rfl rfl ?_
          refine gm_max (q := 64) (by omega) (by omega) C E q870 (by decide) (Nat.le_of_ble_eq_true rfl) (by omega) (by omega) dX0_windsTold_61 rfl ?_
          rw [hmx]
          refine gx_istore (q := 66) (lv' := [_, _, _, _, _, _, _, _, _]) C dX0_windsTold_64 (Nat.le_of_ble_eq_true rfl) E.2.2.2.symm rfl rfl rfl ?_
          refine gx_iload (q := 68) C dX0_windsTold_66 rfl rfl ?_
          refine gn_if_ne (q := 71) (tgt := 76) C dX0_windsTold_68 (by decide) rfl (by omega) (fun c68 => ?_) (fun c68 => ?_)
          · rw [lsS_2 (by omega)] at ih
            refine gx_iload (q := 78) C dX0_windsTold_76 rfl rfl ?_
            refine gx_iload (q := 80) C dX0_windsTold_78 rfl rfl ?_
            refine gm_min (q := 83) (by omega) (by omega) C E q885 (by decide) (Nat.le_of_ble_eq_true rfl) (by omega) (by omega) dX0_windsTold_80 rfl ?_
            refine gx_istore (q := 85) (lv' := [_, _, _, _, _, _, _, _, _]) C dX0_windsTold_83 (Nat.le_of_ble_eq_true rfl) E.2.2.2.symm rfl rfl rfl ?_
            refine gn_inc (q := 88) (lv' := [_, _, _, _, _, _, _, _, _]) C dX0_windsTold_85 rfl E.2.2.2.symm rfl rfl rfl ?_
            refine gx_goto (tgt := 18) C dX0_windsTold_88 (by decide) ?_
            refine gx_drop 8 ?_
            exact ih M _ _ _ hX hG
          · rw [lsS_1 (by omega)] at ih
            refine gx_iload (q := 73) C dX0_windsTold_71 rfl rfl ?_
            refine gx_goto (tgt := 83) C dX0_windsTold_73 (by decide) ?_
            refine gx_istore (q := 85) (lv' := [_, _, _, _, _, _, _, _, _]) C dX0_windsTold_83 (Nat.le_of_ble_eq_true rfl) E.2.2.2.symm rfl rfl rfl ?_
            refine gn_inc (q := 88) (lv' := [_, _, _, _, _, _, _, _, _]) C dX0_windsTold_85 rfl E.2.2.2.symm rfl rfl rfl ?_
            refine gx_goto (tgt := 18) C dX0_windsTold_88 (by decide) ?_
            refine gx_drop 8 ?_
            exact ih M _ _ _ hX hG
        · rw [fsS_t (Or.inr (gtB_t (by omega)))] at ih
          have hmx : max (fsS gtB (winV T g) n).2 (winV T g n) = winV T g n := Nat.max_eq_right (by omega)
          refine gx_iload (q := 52) C dX0_windsTold_50 rfl rfl ?_
          refine gx_goto (tgt := 56) C dX0_windsTold_52 (by decide) ?_
          refine gx_istore_n (q := 57) (lv' := [_, _, _, _, _, _, _, _, _]) C dX0_windsTold_56 rfl (Nat.le_of_ble_eq_true rfl) E.2.2.2.symm rfl rfl rfl ?_
          refine gx_iload (q := 59) C dX0_windsTold_57 rfl rfl ?_
          refine gx_iload (q := 61) C dX0_windsTold_59 rfl rfl ?_
          refine gm_max (q := 64) (by omega) (by omega) C E q870 (by decide) (Nat.le_of_ble_eq_true rfl) (by omega) (by omega) dX0_windsTold_61 rfl ?_
          rw [hmx]
          refine gx_istore (q := 66) (lv' := [_, _, _, _, _, _, _, _, _]) C dX0_windsTold_64 (Nat.le_of_ble_eq_true rfl) E.2.2.2.symm rfl rfl rfl ?_
          refine gx_iload (q := 68) C dX0_windsTold_66 rfl rfl ?_
          refine gn_if_ne (q := 71) (tgt := 76) C dX0_windsTold_68 (by decide) rfl (by omega) (fun c68 => ?_) (fun c68 => ?_)
          · rw [lsS_2 (by omega)] at ih
            refine gx_iload (q := 78) C dX0_windsTold_76 rfl rfl ?_
            refine gx_iload (q := 80) C dX0_windsTold_78 rfl rfl ?_
            refine gm_min (q := 83) (by omega) (by omega) C E q885 (by decide) (Nat.le_of_ble_eq_true rfl) (by omega) (by omega) dX0_windsTold_80 rfl ?_
            refine gx_istore (q := 85) (lv' := [_, _, _, _, _, _, _, _, _]) C dX0_windsTold_83 (Nat.le_of_ble_eq_true rfl) E.2.2.2.symm rfl rfl rfl ?_
            refine gn_inc (q := 88) (lv' := [_, _, _, _, _, _, _, _, _]) C dX0_windsTold_85 rfl E.2.2.2.symm rfl rfl rfl ?_
            refine gx_goto (tgt := 18) C dX0_windsTold_88 (by decide) ?_
            refine gx_drop 8 ?_
            exact ih M _ _ _ hX hG
          · rw [lsS_1 (by omega)] at ih
            refine gx_iload (q := 73) C dX0_windsTold_71 rfl rfl ?_
            refine gx_goto (tgt := 83) C dX0_windsTold_73 (by decide) ?_
            refine gx_istore (q := 85) (lv' := [_, _, _, _, _, _, _, _, _]) C dX0_windsTold_83 (Nat.le_of_ble_eq_true rfl) E.2.2.2.symm rfl rfl rfl ?_
            refine gn_inc (q := 88) (lv' := [_, _, _, _, _, _, _, _, _]) C dX0_windsTold_85 rfl E.2.2.2.symm rfl rfl rfl ?_
            refine gx_goto (tgt := 18) C dX0_windsTold_88 (by decide) ?_
            refine gx_drop 8 ?_
            exact ih M _ _ _ hX hG
  exact Lw 0 (by omega) M (T 1) _ _ (by rw [updN_r]; exact hX) hG
set_option maxHeartbeats 800000 in
theorem xa_windsAsked_b1 (l : Launch) (D : va_G) (b : Nat) (M0 : List va_E) {R T Ti P Rw : Nat → Nat} {hi : Bool} {lm rm : Nat} (v : Int32) (hb : v < 0 ∨ nI 4 ≤ v) (w : Int32) (h : xw_P D b M0 R T Ti P Rw hi lm rm) (hk : okT T) : fb_CT l D b yX0_windsAsked cX0_windsAsked 3 (some .int) 10 170 1 7 [.ref (b + 0), .int v, .int w] M0 (.threw (b + M0.length)) (ex_R b M0 9 (-1)) := by
  refine fb_start [some (.ref (b + 0)), some (.int v), some (.int w)] (by decide) (Nat.le_of_ble_eq_true rfl) rfl ?_
  intro x hl hD hb C E hx
  subst hl hD hb
  have C : fb_OK x cX0_windsAsked "FallsBetween" "windsAsked" := C
  obtain ⟨Tm, Y, Ym, Yi, lo, lom, loi, hX⟩ := h
  have hG := xw_F.rf M0
  obtain ⟨k0, k1, k2, k3, k4, k5, k6, k7, k8⟩ := id hk
  refine gx_iload_n (q := 1) C dX0_windsAsked_0 rfl rfl rfl ?_
  exact gx_ct C E hx (sx_X0_249 (As := [_]) C rfl rfl dX0_windsAsked_1) (fx_mustBeGarden_b _ _ _ _ v hb) kw_X0_mustBeGarden (by decide) (Nat.le_of_ble_eq_true rfl) (by omega) (by omega) dX0_windsAsked_1 (fun _ h => h)
set_option maxHeartbeats 800000 in
theorem xa_windsAsked_b2 (l : Launch) (D : va_G) (b : Nat) (M0 : List va_E) {R T Ti P Rw : Nat → Nat} {hi : Bool} {lm rm : Nat} (g : Nat) (hg : g < 4) (v : Int32) (hb : v < 0 ∨ nI 2 ≤ v) (h : xw_P D b M0 R T Ti P Rw hi lm rm) (hk : okT T) : fb_CT l D b yX0_windsAsked cX0_windsAsked 3 (some .int) 10 170 1 7 [.ref (b + 0), .int (nI g), .int v] M0 (.threw (b + M0.length)) (ex_R b M0 9 (-2)) := by
  refine fb_start [some (.ref (b + 0)), some (.int (nI g)), some (.int v)] (by decide) (Nat.le_of_ble_eq_true rfl) rfl ?_
  intro x hl hD hb C E hx
  subst hl hD hb
  have C : fb_OK x cX0_windsAsked "FallsBetween" "windsAsked" := C
  obtain ⟨Tm, Y, Ym, Yi, lo, lom, loi, hX⟩ := h
  have hG := xw_F.rf M0
  obtain ⟨k0, k1, k2, k3, k4, k5, k6, k7, k8⟩ := id hk
  refine gx_iload_n (q := 1) C dX0_windsAsked_0 rfl rfl rfl ?_
  refine gx_cv (q := 4) C E (sx_X0_249 (As := [_]) C rfl rfl dX0_windsAsked_1) (fx_mustBeGarden_o _ _ _ _ g hg) kw_X0_mustBeGarden (by decide) (Nat.le_of_ble_eq_true rfl) rfl rfl (by omega) (by omega) dX0_windsAsked_1 rfl (fun Mv rv => ?_)
  rw [rv]
  refine gx_iload_n (q := 5) C dX0_windsAsked_4 rfl rfl rfl ?_
  exact gx_ct C E hx (sx_X0_285 (As := [_]) C rfl rfl dX0_windsAsked_5) (fx_mustBeBit_b _ _ _ _ v hb) kw_X0_mustBeBit (by decide) (Nat.le_of_ble_eq_true rfl) (by omega) (by omega) dX0_windsAsked_5 (fun _ h => h)
set_option maxHeartbeats 800000 in
theorem xa_windsAsked_0 (l : Launch) (D : va_G) (b : Nat) (M0 : List va_E) {R T Ti P Rw : Nat → Nat} {hi : Bool} {lm rm : Nat} (g : Nat) (hg : g < 4) (h : xw_P D b M0 R T Ti P Rw hi lm rm) (hk : okT T) : fb_CT l D b yX0_windsAsked cX0_windsAsked 3 (some .int) 10 170 0 0 [.ref (b + 0), .int (nI g), .int (nI 0)] M0 (.returned (some (.int (nI (fsS gtB (winV T g) 16).1)))) (fun M' => xw_P D b M' R T Ti P Rw hi lm rm ∧ xw_F M0 M') := by
  refine fb_start [some (.ref (b + 0)), some (.int (nI g)), some (.int (nI 0))] (by decide) (Nat.le_of_ble_eq_true rfl) rfl ?_
  intro x hl hD hb C E hx
  subst hl hD hb
  have C : fb_OK x cX0_windsAsked "FallsBetween" "windsAsked" := C
  obtain ⟨Tm, Y, Ym, Yi, lo, lom, loi, hX⟩ := h
  have hG := xw_F.rf M0
  obtain ⟨k0, k1, k2, k3, k4, k5, k6, k7, k8⟩ := id hk
  refine gx_iload_n (q := 1) C dX0_windsAsked_0 rfl rfl rfl ?_
  refine gx_cv (q := 4) C E (sx_X0_249 (As := [_]) C rfl rfl dX0_windsAsked_1) (fx_mustBeGarden_o _ _ _ _ g hg) kw_X0_mustBeGarden (by decide) (Nat.le_of_ble_eq_true rfl) rfl rfl (by omega) (by omega) dX0_windsAsked_1 rfl (fun Mv rv => ?_)
  rw [rv]
  refine gx_iload_n (q := 5) C dX0_windsAsked_4 rfl rfl rfl ?_
  refine gx_cv (q := 8) C E (sx_X0_285 (As := [_]) C rfl rfl dX0_windsAsked_5) (fx_mustBeBit_o _ _ _ _ 0 (by decide)) kw_X0_mustBeBit (by decide) (Nat.le_of_ble_eq_true rfl) rfl rfl (by omega) (by omega) dX0_windsAsked_5 rfl (fun Mv rv => ?_)
  rw [rv]
  refine gx_aload_n (q := 9) C dX0_windsAsked_8 rfl rfl rfl ?_
  refine gx_iload_n (q := 10) C dX0_windsAsked_9 rfl rfl rfl ?_
  refine gx_iload_n (q := 11) C dX0_windsAsked_10 rfl rfl rfl ?_
  refine gx_cs (q := 14) C E (sx_X0_300 (As := [_, _]) C hX.o rfl rfl dX0_windsAsked_11) (xa_windsTold_0 _ _ _ _ g hg ⟨_, _, _, _, _, _, _, hX⟩ hk) kw_X0_windsTold (by decide) (Nat.le_of_ble_eq_true rfl) rfl rfl (by omega) (by omega) dX0_windsAsked_11 rfl (fun M r11 => ?_)
  obtain ⟨⟨Tm, Y, Ym, Yi, lo, lom, loi, hX⟩, hG1⟩ := r11
  have hG := hG.tr hG1
  exact gx_iret C E dX0_windsAsked_14 (⟨⟨_, _, _, _, _, _, _, hX⟩, hG⟩) (by omega) (by omega)
set_option maxHeartbeats 800000 in
theorem xa_windsAsked_1 (l : Launch) (D : va_G) (b : Nat) (M0 : List va_E) {R T Ti P Rw : Nat → Nat} {hi : Bool} {lm rm : Nat} (g : Nat) (hg : g < 4) (h : xw_P D b M0 R T Ti P Rw hi lm rm) (hk : okT T) : fb_CT l D b yX0_windsAsked cX0_windsAsked 3 (some .int) 10 170 0 0 [.ref (b + 0), .int (nI g), .int (nI 1)] M0 (.returned (some (.int (nI (lsS (winV T g) 16))))) (fun M' => xw_P D b M' R T Ti P Rw hi lm rm ∧ xw_F M0 M') := by
  refine fb_start [some (.ref (b + 0)), some (.int (nI g)), some (.int (nI 1))] (by decide) (Nat.le_of_ble_eq_true rfl) rfl ?_
  intro x hl hD hb C E hx
  subst hl hD hb
  have C : fb_OK x cX0_windsAsked "FallsBetween" "windsAsked" := C
  obtain ⟨Tm, Y, Ym, Yi, lo, lom, loi, hX⟩ := h
  have hG := xw_F.rf M0
  obtain ⟨k0, k1, k2, k3, k4, k5, k6, k7, k8⟩ := id hk
  refine gx_iload_n (q := 1) C dX0_windsAsked_0 rfl rfl rfl ?_
  refine gx_cv (q := 4) C E (sx_X0_249 (As := [_]) C rfl rfl dX0_windsAsked_1) (fx_mustBeGarden_o _ _ _ _ g hg) kw_X0_mustBeGarden (by decide) (Nat.le_of_ble_eq_true rfl) rfl rfl (by omega) (by omega) dX0_windsAsked_1 rfl (fun Mv rv => ?_)
  rw [rv]
  refine gx_iload_n (q := 5) C dX0_windsAsked_4 rfl rfl rfl ?_
  refine gx_cv (q := 8) C E (sx_X0_285 (As := [_]) C rfl rfl dX0_windsAsked_5) (fx_mustBeBit_o _ _ _ _ 1 (by decide)) kw_X0_mustBeBit (by decide) (Nat.le_of_ble_eq_true rfl) rfl rfl (by omega) (by omega) dX0_windsAsked_5 rfl (fun Mv rv => ?_)
  rw [rv]
  refine gx_aload_n (q := 9) C dX0_windsAsked_8 rfl rfl rfl ?_
  refine gx_iload_n (q := 10) C dX0_windsAsked_9 rfl rfl rfl ?_
  refine gx_iload_n (q := 11) C dX0_windsAsked_10 rfl rfl rfl ?_
  refine gx_cs (q := 14) C E (sx_X0_300 (As := [_, _]) C hX.o rfl rfl dX0_windsAsked_11) (xa_windsTold_1 _ _ _ _ g hg ⟨_, _, _, _, _, _, _, hX⟩ hk) kw_X0_windsTold (by decide) (Nat.le_of_ble_eq_true rfl) rfl rfl (by omega) (by omega) dX0_windsAsked_11 rfl (fun M r11 => ?_)
  obtain ⟨⟨Tm, Y, Ym, Yi, lo, lom, loi, hX⟩, hG1⟩ := r11
  have hG := hG.tr hG1
  exact gx_iret C E dX0_windsAsked_14 (⟨⟨_, _, _, _, _, _, _, hX⟩, hG⟩) (by omega) (by omega)
theorem netV_t {T : Nat → Nat} {g q : Nat} (h1 : T (84 + q) = 0) (h2 : T (12 + q) = g) (h3 : nob T q = true) : netV T g q = lyT T q := by unfold netV; rw [if_pos ⟨h1, h2, h3⟩]
theorem netV_1 {T : Nat → Nat} {g q : Nat} (h : ¬ T (84 + q) = 0) : netV T g q = 0 := by unfold netV; rw [if_neg (fun z => h z.1)]
theorem netV_2 {T : Nat → Nat} {g q : Nat} (h : ¬ T (12 + q) = g) : netV T g q = 0 := by unfold netV; rw [if_neg (fun z => h z.2.1)]
theorem netV_3 {T : Nat → Nat} {g q : Nat} (h : nob T q = false) : netV T g q = 0 := by unfold netV; rw [if_neg (fun z => by rw [h] at z; cases z.2.2)]
set_option maxHeartbeats 800000 in
theorem xa_bestNet (l : Launch) (D : va_G) (b : Nat) (M0 : List va_E) {R T Ti P Rw : Nat → Nat} {hi : Bool} {lm rm : Nat} (g : Nat) (hg : g < 4) (h : xw_P D b M0 R T Ti P Rw hi lm rm) (hk : okT T) : fb_CT l D b yX0_bestNet cX0_bestNet 7 (some .int) 5 121 0 0 [.ref (b + 0), .int (nI g)] M0 (.returned (some (.int (sq_ (mxS (netV T g) 36).1)))) (fun M' => xw_P D b M' R T Ti P Rw hi lm rm ∧ xw_F M0 M') := by
  refine fb_start [some (.ref (b + 0)), some (.int (nI g)), none, none, none, none, none] (by decide) (Nat.le_of_ble_eq_true rfl) rfl ?_
  intro x hl hD hb C E hx
  subst hl hD hb
  have C : fb_OK x cX0_bestNet "FallsBetween" "bestNet" := C
  obtain ⟨Tm, Y, Ym, Yi, lo, lom, loi, hX⟩ := h
  have hG := xw_F.rf M0
  obtain ⟨k0, k1, k2, k3, k4, k5, k6, k7, k8⟩ := id hk
  refine gx_bipush (q := 2) (v := sq_ none) C dX0_bestNet_0 (rfl) rfl ?_
  refine gx_istore_n (q := 3) (lv' := [_, _, _, _, _, _, _]) C dX0_bestNet_2 rfl (Nat.le_of_ble_eq_true rfl) E.2.2.2.symm rfl rfl rfl ?_
  refine gx_iconst (q := 4) (v := nI 0) C dX0_bestNet_3 (by decide) rfl ?_
  refine gx_istore_n (q := 5) (lv' := [_, _, _, _, _, _, _]) C dX0_bestNet_4 rfl (Nat.le_of_ble_eq_true rfl) E.2.2.2.symm rfl rfl rfl ?_
  refine gx_aload_n (q := 6) C dX0_bestNet_5 rfl rfl rfl ?_
  refine fg_X0_51 (q := 9) C hX.o rfl dX0_bestNet_6 rfl ?_
  refine gx_cs (q := 12) C E (sx_X0_123 (As := []) C hX.t.o rfl rfl dX0_bestNet_9) (tx_find _ _ _ _ hX.t hk) kw_X1_find (by decide) (Nat.le_of_ble_eq_true rfl) rfl rfl (by omega) (by omega) dX0_bestNet_9 rfl (fun M r9 => ?_)
  obtain ⟨⟨Y, hY, hV1⟩, hF1⟩ := r9
  have hX := hX.u1 hV1 hF1
  have hG := hG.tw hF1 (by decide)
  refine gx_pop (q := 13) C dX0_bestNet_12 rfl rfl ?_
  refine gx_iconst (q := 14) (v := nI 0) C dX0_bestNet_13 (by decide) rfl ?_
  refine gx_istore (q := 16) (lv' := [_, _, _, _, _, _, _]) C dX0_bestNet_14 (Nat.le_of_ble_eq_true rfl) E.2.2.2.symm rfl rfl rfl ?_
  have Ln : ∀ n, n ≤ 36 → fb_G x M 0 0 16 [some (.ref (cx_b x + 0)), some (.int (nI g)), some (.int (sq_ (mxS (netV T g) n).1)), some (.int (nI (mxS (netV T g) n).2)), some (.int (nI n)), none, none] [] := by
    refine fb_dn 36 ?_ ?_
    · skip
      refine gx_iload (q := 18) C dX0_bestNet_16 rfl rfl ?_
      refine gx_bipush (q := 20) (v := nI 36) C dX0_bestNet_18 (by decide) rfl ?_
      refine gn_icmp_ge (q := 23) (tgt := 115) C dX0_bestNet_20 (by decide) rfl (by omega) (by omega) (fun c20 => ?_) (fun c20 => by exfalso; omega)
      refine gx_iload_n (q := 116) C dX0_bestNet_115 rfl rfl rfl ?_
      exact gx_iret C E dX0_bestNet_116 (⟨⟨_, _, _, _, _, _, _, hX⟩, hG⟩) (by omega) (by omega)
    · intro n hn ih
      have hv := netV_le hk g n
      have hm := mxS_b (v := netV T g) (m := 3600) n (fun i hi => netV_le hk g i)
      have h7 := k7 n hn
      have h5 := k5 n hn
      refine gx_iload (q := 18) C dX0_bestNet_16 rfl rfl ?_
      refine gx_bipush (q := 20) (v := nI 36) C dX0_bestNet_18 (by decide) rfl ?_
      refine gn_icmp_ge (q := 23) (tgt := 115) C dX0_bestNet_20 (by decide) rfl (by omega) (by omega) (fun c20 => by exfalso; omega) (fun c20 => ?_)
      have K : fb_G x M 0 0 87 [some (.ref (cx_b x + 0)), some (.int (nI g)), some (.int (sq_ (mxS (netV T g) n).1)), some (.int (nI (mxS (netV T g) n).2)), some (.int (nI n)), none, none] [.int (nI (netV T g n))] := by
        skip
        refine gx_istore (q := 89) (lv' := [_, _, _, _, _, _, _]) C dX0_bestNet_87 (Nat.le_of_ble_eq_true rfl) E.2.2.2.symm rfl rfl rfl ?_
        refine gx_iload (q := 91) C dX0_bestNet_89 rfl rfl ?_
        refine gx_iload_n (q := 92) C dX0_bestNet_91 rfl rfl rfl ?_
        refine gn_icmp_le (q := 95) (tgt := 100) C dX0_bestNet_92 (by decide) rfl (by omega) (by omega) (fun c92 => ?_) (fun c92 => ?_)
        · rw [mxS_f c92] at ih
          have hmx : max (mxS (netV T g) n).2 (netV T g n) = (mxS (netV T g) n).2 := Nat.max_eq_left c92
          refine gx_iload_n (q := 101) C dX0_bestNet_100 rfl rfl rfl ?_
          refine gx_istore_n (q := 102) (lv' := [_, _, _, _, _, _, _]) C dX0_bestNet_101 rfl (Nat.le_of_ble_eq_true rfl) E.2.2.2.symm rfl rfl rfl ?_
          refine gx_iload_n (q := 103) C dX0_bestNet_102 rfl rfl rfl ?_
          refine gx_iload (q := 105) C dX0_bestNet_103 rfl rfl ?_
          refine gm_max (q := 108) (by omega) (by omega) C E q870 (by decide) (Nat.le_of_ble_eq_true rfl) (by omega) (by omega) dX0_bestNet_105 rfl ?_
          rw [hmx]
          refine gx_istore_n (q := 109) (lv' := [_, _, _, _, _, _, _]) C dX0_bestNet_108 rfl (Nat.le_of_ble_eq_true rfl) E.2.2.2.symm rfl rfl rfl ?_
          refine gn_inc (q := 112) (lv' := [_, _, _, _, _, _, _]) C dX0_bestNet_109 rfl E.2.2.2.symm rfl rfl rfl ?_
          refine gx_goto (tgt := 16) C dX0_bestNet_112 (by decide) ?_
          refine gx_drop 5 ?_
          refine gx_drop 6 ?_
          exact ih
        · rw [mxS_t (by omega)] at ih
          have hmx : max (mxS (netV T g) n).2 (netV T g n) = netV T g n := Nat.max_eq_right (by omega)
          refine gx_iload (q := 97) C dX0_bestNet_95 rfl rfl ?_
          refine gx_goto (tgt := 101) C dX0_bestNet_97 (by decide) ?_
          refine gx_istore_n (q := 102) (lv' := [_, _, _, _, _, _, _]) C dX0_bestNet_101 rfl (Nat.le_of_ble_eq_true rfl) E.2.2.2.symm rfl rfl rfl ?_
          refine gx_iload_n (q := 103) C dX0_bestNet_102 rfl rfl rfl ?_
          refine gx_iload (q := 105) C dX0_bestNet_103 rfl rfl ?_
          refine gm_max (q := 108) (by omega) (by omega) C E q870 (by decide) (Nat.le_of_ble_eq_true rfl) (by omega) (by omega) dX0_bestNet_105 rfl ?_
          rw [hmx]
          refine gx_istore_n (q := 109) (lv' := [_, _, _, _, _, _, _]) C dX0_bestNet_108 rfl (Nat.le_of_ble_eq_true rfl) E.2.2.2.symm rfl rfl rfl ?_
          refine gn_inc (q := 112) (lv' := [_, _, _, _, _, _, _]) C dX0_bestNet_109 rfl E.2.2.2.symm rfl rfl rfl ?_
          refine gx_goto (tgt := 16) C dX0_bestNet_112 (by decide) ?_
          refine gx_drop 5 ?_
          refine gx_drop 6 ?_
          exact ih
      refine gx_aload_n (q := 24) C dX0_bestNet_23 rfl rfl rfl ?_
      refine fg_X0_51 (q := 27) C hX.o rfl dX0_bestNet_24 rfl ?_
      refine fg_X0_166 (q := 30) C hX.t.o rfl dX0_bestNet_27 rfl ?_
      refine gx_iload (q := 32) C dX0_bestNet_30 rfl rfl ?_
      refine tv_ld_nets (q := 33) C hX.t (by omega) dX0_bestNet_32 rfl ?_
      refine gn_if_ne (q := 36) (tgt := 66) C dX0_bestNet_33 (by decide) rfl (by omega) (fun c33 => ?_) (fun c33 => ?_)
      · have hZ := netV_1 (g := g) (show ¬ T (84 + n) = 0 by omega)
        refine gx_iconst (q := 67) (v := bI false) C dX0_bestNet_66 (by decide) rfl ?_
        refine gx_istore (q := 69) (lv' := [_, _, _, _, _, _, _]) C dX0_bestNet_67 (Nat.le_of_ble_eq_true rfl) E.2.2.2.symm rfl rfl rfl ?_
        refine gx_iload (q := 71) C dX0_bestNet_69 rfl rfl ?_
        refine gb_if_eq (q := 74) (tgt := 86) C dX0_bestNet_71 (by decide) rfl (fun c71 => ?_) (fun c71 => by exfalso; cases c71)
        refine gx_iconst (q := 87) (v := nI (netV T g n)) C dX0_bestNet_86 (by rw [hZ]; rfl) rfl ?_
        refine gx_drop 5 ?_
        exact K
      · refine gx_aload_n (q := 37) C dX0_bestNet_36 rfl rfl rfl ?_
        refine fg_X0_51 (q := 40) C hX.o rfl dX0_bestNet_37 rfl ?_
        refine fg_X0_141 (q := 43) C hX.t.o rfl dX0_bestNet_40 rfl ?_
        refine gx_iload (q := 45) C dX0_bestNet_43 rfl rfl ?_
        refine tv_ld_gardens (q := 46) C hX.t (by omega) dX0_bestNet_45 rfl ?_
        refine gx_iload_n (q := 47) C dX0_bestNet_46 rfl rfl rfl ?_
        refine gn_icmp_ne (q := 50) (tgt := 66) C dX0_bestNet_47 (by decide) rfl (by omega) (by omega) (fun c47 => ?_) (fun c47 => ?_)
        · have hZ := netV_2 c47
          refine gx_iconst (q := 67) (v := bI false) C dX0_bestNet_66 (by decide) rfl ?_
          refine gx_istore (q := 69) (lv' := [_, _, _, _, _, _, _]) C dX0_bestNet_67 (Nat.le_of_ble_eq_true rfl) E.2.2.2.symm rfl rfl rfl ?_
          refine gx_iload (q := 71) C dX0_bestNet_69 rfl rfl ?_
          refine gb_if_eq (q := 74) (tgt := 86) C dX0_bestNet_71 (by decide) rfl (fun c71 => ?_) (fun c71 => by exfalso; cases c71)
          refine gx_iconst (q := 87) (v := nI (netV T g n)) C dX0_bestNet_86 (by rw [hZ]; rfl) rfl ?_
          refine gx_drop 5 ?_
          exact K
        · refine gx_aload_n (q := 51) C dX0_bestNet_50 rfl rfl rfl ?_
          refine fg_X0_51 (q := 54) C hX.o rfl dX0_bestNet_51 rfl ?_
          refine gx_iload (q := 56) C dX0_bestNet_54 rfl rfl ?_
          refine gx_cp (q := 59) C E (sx_X0_170 (As := [_]) C hX.t.o rfl rfl dX0_bestNet_56) (tx_isNobodys _ _ _ _ n hn hX.t hk) kw_X1_isNobodys (by decide) (Nat.le_of_ble_eq_true rfl) (by omega) (by omega) dX0_bestNet_56 rfl ?_
          refine gb_if_eq (q := 62) (tgt := 66) C dX0_bestNet_59 (by decide) rfl (fun c59 => ?_) (fun c59 => ?_)
          · have hZ := netV_3 (g := g) c59
            refine gx_iconst (q := 67) (v := bI false) C dX0_bestNet_66 (by decide) rfl ?_
            refine gx_istore (q := 69) (lv' := [_, _, _, _, _, _, _]) C dX0_bestNet_67 (Nat.le_of_ble_eq_true rfl) E.2.2.2.symm rfl rfl rfl ?_
            refine gx_iload (q := 71) C dX0_bestNet_69 rfl rfl ?_
            refine gb_if_eq (q := 74) (tgt := 86) C dX0_bestNet_71 (by decide) rfl (fun c71 => ?_) (fun c71 => by exfalso; cases c71)
            refine gx_iconst (q := 87) (v := nI (netV T g n)) C dX0_bestNet_86 (by rw [hZ]; rfl) rfl ?_
            refine gx_drop 5 ?_
            exact K
          · have hZ := netV_t c33 c47 c59
            refine gx_iconst (q := 63) (v := bI true) C dX0_bestNet_62 (by decide) rfl ?_
            refine gx_goto (tgt := 67) C dX0_bestNet_63 (by decide) ?_
            refine gx_istore (q := 69) (lv' := [_, _, _, _, _, _, _]) C dX0_bestNet_67 (Nat.le_of_ble_eq_true rfl) E.2.2.2.symm rfl rfl rfl ?_
            refine gx_iload (q := 71) C dX0_bestNet_69 rfl rfl ?_
            refine gb_if_eq (q := 74) (tgt := 86) C dX0_bestNet_71 (by decide) rfl (fun c71 => by exfalso; cases c71) (fun c71 => ?_)
            refine gx_aload_n (q := 75) C dX0_bestNet_74 rfl rfl rfl ?_
            refine fg_X0_51 (q := 78) C hX.o rfl dX0_bestNet_75 rfl ?_
            refine gx_iload (q := 80) C dX0_bestNet_78 rfl rfl ?_
            refine gx_cp (q := 83) C E (sx_X0_174 (As := [_]) C hX.t.o rfl rfl dX0_bestNet_80) (tx_liesIn _ _ _ _ n hn hX.t hk) kw_X1_liesIn (by decide) (Nat.le_of_ble_eq_true rfl) (by omega) (by omega) dX0_bestNet_80 rfl ?_
            refine gx_top (show _ = nI (netV T g n) by rw [hZ, lyY_f hY hn]) ?_
            refine gx_goto (tgt := 87) C dX0_bestNet_83 (by decide) ?_
            refine gx_drop 5 ?_
            exact K
  exact Ln 0 (by omega)
