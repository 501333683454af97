/-! the reference: what would be better, from where, by seeds -/
set_option maxRecDepth 100000
theorem worth_sub {T : Nat → Nat} (hk : okT T) {t g : Nat} (ht : t < T 0) : nI (shT T g) - nI (shL T (mL T (63 - 2 ^ t) (T 0) 0) g 36) = nI (shL T (fun q => flp T t q 5) g 36) := by
  have e := shL_add T (mL T (63 - 2 ^ t) (T 0) 0) (fun q => flp T t q 5) (lyT T) g 36 fun q hq => (mL_less T q t (T 0) hk.1 ht).symm
  unfold shT
  rw [e, pk_sub (Nat.le_add_right _ _), Nat.add_sub_cancel_left]
set_option maxHeartbeats 4000000 in
theorem mp_worth_b1 (l : Launch) (D : va_G) (b : Nat) (M0 : List va_E) {R T Ti P Rw : Nat → Nat} {kp : Bool} {td ro : Nat} (v : Int32) (hb : v < 0 ∨ nI (T 0) ≤ v) (w : Int32) (h : md_P D b M0 R T Ti P Rw kp td ro) (hk : okT T) : fb_CT l D b yX7_worth cX7_worth 4 (some .int) 4 101 0 0 [.ref (b + 43), .int v, .int w] M0 (.returned (some (.int (-1)))) (fun M' => md_P D b M' (updN R 1 (R 1 + 1)) T Ti P Rw kp td ro ∧ md_F M0 M') := by
  refine fb_start [some (.ref (b + 43)), some (.int v), some (.int w), none] (by decide) (Nat.le_of_ble_eq_true rfl) rfl ?_
  intro x hl hD hb C E hx
  subst hl hD hb
  have C : fb_OK x cX7_worth "FallsBetweenModel" "worth" := C
  obtain ⟨Bf, F, L, aa, we, so, lo, hV⟩ := h
  have hF := md_F.rf M0
  obtain ⟨k0, k1, k2, k3, k4, k5, k6, k7, k8⟩ := id hk
  refine gx_iload_n (q := 1) C dX7_worth_0 rfl rfl rfl ?_
  refine gx_aload_n (q := 2) C dX7_worth_1 rfl rfl rfl ?_
  refine fg_X7_13 (q := 5) C hV.o rfl dX7_worth_2 rfl ?_
  refine gx_iconst (q := 6) (v := nI 0) C dX7_worth_5 (by decide) rfl ?_
  refine mv_ld_now (q := 7) C hV (by omega) dX7_worth_6 rfl ?_
  refine gx_cp (q := 10) C E (sx_X7_124 (As := [_, _]) C rfl rfl dX7_worth_7) (md_isNone_t _ _ _ _ v (nI (T 0)) hb) kw_X7_isNone (by decide) (Nat.le_of_ble_eq_true rfl) (by omega) (by omega) dX7_worth_7 rfl ?_
  refine gb_if_ne (q := 13) (tgt := 21) C dX7_worth_10 (by decide) rfl (fun c10 => ?_) (fun c10 => by exfalso; cases c10)
  refine gx_aload_n (q := 22) C dX7_worth_21 rfl rfl rfl ?_
  refine gx_iconst (q := 23) (v := -1) C dX7_worth_22 (by decide) rfl ?_
  refine gx_cs (q := 26) C E (sx_X7_49 (As := [_]) C hV.o rfl rfl dX7_worth_23) (md_no _ _ _ _ (-1) 1 (by decide) (by decide) hV) kw_X7_no (by decide) (Nat.le_of_ble_eq_true rfl) rfl rfl (by omega) (by omega) dX7_worth_23 rfl (fun M r23 => ?_)
  obtain ⟨hV, hG⟩ := r23
  have hF := hF.tr hG
  exact gx_iret C E dX7_worth_26 (⟨⟨_, _, _, _, _, _, _, hV⟩, hF⟩) (by omega) (by omega)
set_option maxHeartbeats 4000000 in
theorem mp_worth_b2 (l : Launch) (D : va_G) (b : Nat) (M0 : List va_E) {R T Ti P Rw : Nat → Nat} {kp : Bool} {td ro : Nat} (t : Nat) (ht : t < T 0) (v : Int32) (hb : v < 0 ∨ nI 4 ≤ v) (h : md_P D b M0 R T Ti P Rw kp td ro) (hk : okT T) : fb_CT l D b yX7_worth cX7_worth 4 (some .int) 4 101 0 0 [.ref (b + 43), .int (nI t), .int v] M0 (.returned (some (.int (-1)))) (fun M' => md_P D b M' (updN R 1 (R 1 + 1)) T Ti P Rw kp td ro ∧ md_F M0 M') := by
  refine fb_start [some (.ref (b + 43)), some (.int (nI t)), some (.int v), none] (by decide) (Nat.le_of_ble_eq_true rfl) rfl ?_
  intro x hl hD hb C E hx
  subst hl hD hb
  have C : fb_OK x cX7_worth "FallsBetweenModel" "worth" := C
  obtain ⟨Bf, F, L, aa, we, so, lo, hV⟩ := h
  have hF := md_F.rf M0
  obtain ⟨k0, k1, k2, k3, k4, k5, k6, k7, k8⟩ := id hk
  refine gx_iload_n (q := 1) C dX7_worth_0 rfl rfl rfl ?_
  refine gx_aload_n (q := 2) C dX7_worth_1 rfl rfl rfl ?_
  refine fg_X7_13 (q := 5) C hV.o rfl dX7_worth_2 rfl ?_
  refine gx_iconst (q := 6) (v := nI 0) C dX7_worth_5 (by decide) rfl ?_
  refine mv_ld_now (q := 7) C hV (by omega) dX7_worth_6 rfl ?_
  refine gx_cp (q := 10) C E (sx_X7_124 (As := [_, _]) C rfl rfl dX7_worth_7) (md_isNone_n _ _ _ _ t (T 0) ht (by omega)) kw_X7_isNone (by decide) (Nat.le_of_ble_eq_true rfl) (by omega) (by omega) dX7_worth_7 rfl ?_
  refine gb_if_ne (q := 13) (tgt := 21) C dX7_worth_10 (by decide) rfl (fun c10 => by exfalso; cases c10) (fun c10 => ?_)
  refine gx_iload_n (q := 14) C dX7_worth_13 rfl rfl rfl ?_
  refine gx_iconst (q := 15) (v := nI 4) C dX7_worth_14 (by decide) rfl ?_
  refine gx_cp (q := 18) C E (sx_X7_124 (As := [_, _]) C rfl rfl dX7_worth_15) (md_isNone_t _ _ _ _ v (nI 4) hb) kw_X7_isNone (by decide) (Nat.le_of_ble_eq_true rfl) (by omega) (by omega) dX7_worth_15 rfl ?_
  refine gb_if_eq (q := 21) (tgt := 27) C dX7_worth_18 (by decide) rfl (fun c18 => by exfalso; cases c18) (fun c18 => ?_)
  refine gx_aload_n (q := 22) C dX7_worth_21 rfl rfl rfl ?_
  refine gx_iconst (q := 23) (v := -1) C dX7_worth_22 (by decide) rfl ?_
  refine gx_cs (q := 26) C E (sx_X7_49 (As := [_]) C hV.o rfl rfl dX7_worth_23) (md_no _ _ _ _ (-1) 1 (by decide) (by decide) hV) kw_X7_no (by decide) (Nat.le_of_ble_eq_true rfl) rfl rfl (by omega) (by omega) dX7_worth_23 rfl (fun M r23 => ?_)
  obtain ⟨hV, hG⟩ := r23
  have hF := hF.tr hG
  exact gx_iret C E dX7_worth_26 (⟨⟨_, _, _, _, _, _, _, hV⟩, hF⟩) (by omega) (by omega)
set_option maxHeartbeats 4000000 in
theorem mp_worth_o (l : Launch) (D : va_G) (b : Nat) (M0 : List va_E) {R T Ti P Rw : Nat → Nat} {kp : Bool} {td ro : Nat} (t : Nat) (ht : t < T 0) (g : Nat) (hg : g < 4) (h : md_P D b M0 R T Ti P Rw kp td ro) (hk : okT T) : fb_CT l D b yX7_worth cX7_worth 4 (some .int) 4 101 0 0 [.ref (b + 43), .int (nI t), .int (nI g)] M0 (.returned (some (.int (nI (shL T (fun q => flp T t q 5) g 36))))) (fun M' => md_P D b M' R T Ti P Rw kp td ro ∧ md_F M0 M') := by
  refine fb_start [some (.ref (b + 43)), some (.int (nI t)), some (.int (nI g)), none] (by decide) (Nat.le_of_ble_eq_true rfl) rfl ?_
  intro x hl hD hb C E hx
  subst hl hD hb
  have C : fb_OK x cX7_worth "FallsBetweenModel" "worth" := C
  obtain ⟨Bf, F, L, aa, we, so, lo, hV⟩ := h
  have hF := md_F.rf M0
  obtain ⟨k0, k1, k2, k3, k4, k5, k6, k7, k8⟩ := id hk
  refine gx_iload_n (q := 1) C dX7_worth_0 rfl rfl rfl ?_
  refine gx_aload_n (q := 2) C dX7_worth_1 rfl rfl rfl ?_
  refine fg_X7_13 (q := 5) C hV.o rfl dX7_worth_2 rfl ?_
  refine gx_iconst (q := 6) (v := nI 0) C dX7_worth_5 (by decide) rfl ?_
  refine mv_ld_now (q := 7) C hV (by omega) dX7_worth_6 rfl ?_
  refine gx_cp (q := 10) C E (sx_X7_124 (As := [_, _]) C rfl rfl dX7_worth_7) (md_isNone_n _ _ _ _ t (T 0) ht (by omega)) kw_X7_isNone (by decide) (Nat.le_of_ble_eq_true rfl) (by omega) (by omega) dX7_worth_7 rfl ?_
  refine gb_if_ne (q := 13) (tgt := 21) C dX7_worth_10 (by decide) rfl (fun c10 => by exfalso; cases c10) (fun c10 => ?_)
  refine gx_iload_n (q := 14) C dX7_worth_13 rfl rfl rfl ?_
  refine gx_iconst (q := 15) (v := nI 4) C dX7_worth_14 (by decide) rfl ?_
  refine gx_cp (q := 18) C E (sx_X7_124 (As := [_, _]) C rfl rfl dX7_worth_15) (md_isNone_n _ _ _ _ g 4 hg (by omega)) kw_X7_isNone (by decide) (Nat.le_of_ble_eq_true rfl) (by omega) (by omega) dX7_worth_15 rfl ?_
  refine gb_if_eq (q := 21) (tgt := 27) C dX7_worth_18 (by decide) rfl (fun c18 => ?_) (fun c18 => by exfalso; cases c18)
  refine gx_aload_n (q := 28) C dX7_worth_27 rfl rfl rfl ?_
  refine gx_bipush (q := 30) (v := nI 63) C dX7_worth_28 (by decide) rfl ?_
  refine gx_cv (q := 33) C E (sx_X7_127 (As := [_]) C hV.o rfl rfl dX7_worth_30) (md_fall _ _ _ _ 63 (by decide) hV hk) kw_X7_fall (by decide) (Nat.le_of_ble_eq_true rfl) rfl rfl (by omega) (by omega) dX7_worth_30 rfl (fun M r30 => ?_)
  obtain ⟨hV, hG⟩ := r30
  have hF := hF.tr hG
  rw [mL_63f _ hk.1] at hV
  refine gx_aload_n (q := 34) C dX7_worth_33 rfl rfl rfl ?_
  refine gx_iload_n (q := 35) C dX7_worth_34 rfl rfl rfl ?_
  refine gx_cp (q := 38) C E (sx_X7_131 (As := [_]) C hV.o rfl rfl dX7_worth_35) (md_shareOf _ _ _ _ g (by omega) hV hk) kw_X7_shareOf (by decide) (Nat.le_of_ble_eq_true rfl) (by omega) (by omega) dX7_worth_35 rfl ?_
  refine gx_top (show _ = nI (shT T g) from rfl) ?_
  refine gx_istore_n (q := 39) (lv' := [_, _, _, _]) C dX7_worth_38 rfl (Nat.le_of_ble_eq_true rfl) E.2.2.2.symm rfl rfl rfl ?_
  refine gx_aload_n (q := 40) C dX7_worth_39 rfl rfl rfl ?_
  refine gx_bipush (q := 42) (v := nI 63) C dX7_worth_40 (by decide) rfl ?_
  refine gx_iconst (q := 43) (v := nI 1) C dX7_worth_42 (by decide) rfl ?_
  refine gx_iload_n (q := 44) C dX7_worth_43 rfl rfl rfl ?_
  refine gx_ishl (q := 45) C dX7_worth_44 (shl_ok t (by omega)) rfl ?_
  refine gx_iconst (q := 46) (v := -1) C dX7_worth_45 (by decide) rfl ?_
  refine gx_ixor (q := 47) C dX7_worth_46 rfl rfl ?_
  refine gx_iand (q := 48) C dX7_worth_47 (and_63 t (by omega)) rfl ?_
  refine gx_cv (q := 51) C E (sx_X7_127 (As := [_]) C hV.o rfl rfl dX7_worth_48) (md_fall _ _ _ _ (63 - 2 ^ t) (Nat.lt_of_le_of_lt (Nat.sub_le _ _) (by decide)) hV hk) kw_X7_fall (by decide) (Nat.le_of_ble_eq_true rfl) rfl rfl (by omega) (by omega) dX7_worth_48 rfl (fun M r48 => ?_)
  obtain ⟨hV, hG⟩ := r48
  have hF := hF.tr hG
  refine gx_iload_n (q := 52) C dX7_worth_51 rfl rfl rfl ?_
  refine gx_aload_n (q := 53) C dX7_worth_52 rfl rfl rfl ?_
  refine gx_iload_n (q := 54) C dX7_worth_53 rfl rfl rfl ?_
  refine gx_cp (q := 57) C E (sx_X7_131 (As := [_]) C hV.o rfl rfl dX7_worth_54) (md_shareOf _ _ _ _ g (by omega) hV hk) kw_X7_shareOf (by decide) (Nat.le_of_ble_eq_true rfl) (by omega) (by omega) dX7_worth_54 rfl ?_
  refine gx_isub (q := 58) C dX7_worth_57 rfl rfl ?_
  exact gx_iretE C E (worth_sub hk ht) dX7_worth_58 (⟨⟨_, _, _, _, _, _, _, hV⟩, hF⟩) (by omega) (by omega)
set_option maxHeartbeats 4000000 in
theorem mp_clean (l : Launch) (D : va_G) (b : Nat) (M0 : List va_E) {R T Ti P Rw : Nat → Nat} {kp : Bool} {td ro : Nat}  (h : md_P D b M0 R T Ti P Rw kp td ro) (hk : okT T) : fb_CT l D b yX7_clean cX7_clean 6 (some .int) 4 101 0 0 [.ref (b + 43)] M0 (.returned (some (.int (nI (fsS ltB (claV T) 5).1)))) (fun M' => md_P D b M' R T Ti P Rw kp td ro ∧ md_F M0 M') := by
  refine fb_start [some (.ref (b + 43)), none, none, none, none, none] (by decide) (Nat.le_of_ble_eq_true rfl) rfl ?_
  intro x hl hD hb C E hx
  subst hl hD hb
  have C : fb_OK x cX7_clean "FallsBetweenModel" "clean" := C
  obtain ⟨Bf, F, L, aa, we, so, lo, hV⟩ := h
  have hF := md_F.rf M0
  obtain ⟨k0, k1, k2, k3, k4, k5, k6, k7, k8⟩ := id hk
  refine gx_aload_n (q := 1) C dX7_clean_0 rfl rfl rfl ?_
  refine gx_bipush (q := 3) (v := nI 63) C dX7_clean_1 (by decide) rfl ?_
  refine gx_cv (q := 6) C E (sx_X7_127 (As := [_]) C hV.o rfl rfl dX7_clean_3) (md_fall _ _ _ _ 63 (by decide) hV hk) kw_X7_fall (by decide) (Nat.le_of_ble_eq_true rfl) rfl rfl (by omega) (by omega) dX7_clean_3 rfl (fun M r3 => ?_)
  obtain ⟨hV, hG⟩ := r3
  have hF := hF.tr hG
  rw [mL_63f _ hk.1] at hV
  generalize mO T 63 (T 0) 0 = lo at hV
  refine gx_aload_n (q := 7) C dX7_clean_6 rfl rfl rfl ?_
  refine fg_X7_13 (q := 10) C hV.o rfl dX7_clean_7 rfl ?_
  refine gx_iconst (q := 11) (v := nI 2) C dX7_clean_10 (by decide) rfl ?_
  refine mv_ld_now (q := 12) C hV (by omega) dX7_clean_11 rfl ?_
  refine gx_istore_n (q := 13) (lv' := [_, _, _, _, _, _]) C dX7_clean_12 rfl (Nat.le_of_ble_eq_true rfl) E.2.2.2.symm rfl rfl rfl ?_
  refine gx_iconst (q := 14) (v := nI 0) C dX7_clean_13 (by decide) rfl ?_
  refine gx_istore_n (q := 15) (lv' := [_, _, _, _, _, _]) C dX7_clean_14 rfl (Nat.le_of_ble_eq_true rfl) E.2.2.2.symm rfl rfl rfl ?_
  refine gx_iconst (q := 16) (v := nI 0) C dX7_clean_15 (by decide) rfl ?_
  refine gx_istore_n (q := 17) (lv' := [_, _, _, _, _, _]) C dX7_clean_16 rfl (Nat.le_of_ble_eq_true rfl) E.2.2.2.symm rfl rfl rfl ?_
  refine gx_iconst (q := 18) (v := nI 0) C dX7_clean_17 (by decide) rfl ?_
  refine gx_istore (q := 20) (lv' := [_, _, _, _, _, _]) C dX7_clean_18 (Nat.le_of_ble_eq_true rfl) E.2.2.2.symm rfl rfl rfl ?_
  have Lc : ∀ n, n ≤ 5 → ∀ (M : List va_E) (c : Nat), md_V (cx_D x) (cx_b x) M R (updN T 2 c) Ti Bf P F (lyT T) Rw kp td aa we so lo ro → md_F M0 M → fb_G x M 0 0 20 [some (.ref (cx_b x + 43)), some (.int (nI (T 2))), some (.int (nI (fsS ltB (claV T) n).1)), some (.int (nI (fsS ltB (claV T) n).2)), some (.int (nI n)), none] [] := by
    refine fb_dn 5 ?_ ?_
    · intro M c hV hF
      refine gx_iload (q := 22) C dX7_clean_20 rfl rfl ?_
      refine gx_iconst (q := 23) (v := nI 5) C dX7_clean_22 (by decide) rfl ?_
      refine gn_icmp_ge (q := 26) (tgt := 77) C dX7_clean_23 (by decide) rfl (by omega) (by omega) (fun c23 => ?_) (fun c23 => by exfalso; omega)
      refine gx_aload_n (q := 78) C dX7_clean_77 rfl rfl rfl ?_
      refine fg_X7_13 (q := 81) C hV.o rfl dX7_clean_78 rfl ?_
      refine gx_iconst (q := 82) (v := nI 2) C dX7_clean_81 (by decide) rfl ?_
      refine gx_iload_n (q := 83) C dX7_clean_82 rfl rfl rfl ?_
      refine mv_st_now (q := 84) C hV hF (by omega) dX7_clean_83 rfl (fun M hV hF => ?_)
      rw [updN_u, updN_r] at hV
      refine gx_iload_n (q := 85) C dX7_clean_84 rfl rfl rfl ?_
      exact gx_iret C E dX7_clean_85 (⟨⟨_, _, _, _, _, _, _, hV⟩, hF⟩) (by omega) (by omega)
    · intro n hn ih M c hV hF
      have hv := claV_le hk n
      have hm := fsS_b (c := ltB) (v := claV T) (m := 129600) n (fun i _ => claV_le hk i)
      have hkn : okT (updN T 2 n) := okT_up hk (by omega)
      refine gx_iload (q := 22) C dX7_clean_20 rfl rfl ?_
      refine gx_iconst (q := 23) (v := nI 5) C dX7_clean_22 (by decide) rfl ?_
      refine gn_icmp_ge (q := 26) (tgt := 77) C dX7_clean_23 (by decide) rfl (by omega) (by omega) (fun c23 => by exfalso; omega) (fun c23 => ?_)
      refine gx_aload_n (q := 27) C dX7_clean_26 rfl rfl rfl ?_
      refine fg_X7_13 (q := 30) C hV.o rfl dX7_clean_27 rfl ?_
      refine gx_iconst (q := 31) (v := nI 2) C dX7_clean_30 (by decide) rfl ?_
      refine gx_iload (q := 33) C dX7_clean_31 rfl rfl ?_
      refine mv_st_now (q := 34) C hV hF (by omega) dX7_clean_33 rfl (fun M hV hF => ?_)
      rw [updN_u] at hV
      refine gx_aload_n (q := 35) C dX7_clean_34 rfl rfl rfl ?_
      refine gx_cp (q := 38) C E (sx_X7_134 (As := []) C hV.o rfl rfl dX7_clean_35) (md_birdsHave _ _ _ _ hV hkn) kw_X7_birdsHave (by decide) (Nat.le_of_ble_eq_true rfl) (by omega) (by omega) dX7_clean_35 rfl ?_
      refine gx_top (show _ = nI (claV T n) from rfl) ?_
      refine gx_istore (q := 40) (lv' := [_, _, _, _, _, _]) C dX7_clean_38 (Nat.le_of_ble_eq_true rfl) E.2.2.2.symm rfl rfl rfl ?_
      refine gx_iload (q := 42) C dX7_clean_40 rfl rfl ?_
      refine gn_if_eq (q := 45) (tgt := 51) C dX7_clean_42 (by decide) rfl (by omega) (fun c42 => ?_) (fun c42 => ?_)
      · rw [fsS_t (Or.inl c42)] at ih
        refine gx_iload (q := 53) C dX7_clean_51 rfl rfl ?_
        refine gx_goto (tgt := 57) C dX7_clean_53 (by decide) ?_
        refine gx_istore_n (q := 58) (lv' := [_, _, _, _, _, _]) C dX7_clean_57 rfl (Nat.le_of_ble_eq_true rfl) E.2.2.2.symm rfl rfl rfl ?_
        refine gx_iload_n (q := 59) C dX7_clean_58 rfl rfl rfl ?_
        refine gx_iload (q := 61) C dX7_clean_59 rfl rfl ?_
        refine gn_icmp_ne (q := 64) (tgt := 69) C dX7_clean_61 (by decide) rfl (by omega) (by omega) (fun c61 => by exfalso; omega) (fun c61 => ?_)
        refine gx_iload (q := 66) C dX7_clean_64 rfl rfl ?_
        refine gx_goto (tgt := 70) C dX7_clean_66 (by decide) ?_
        refine gx_istore_n (q := 71) (lv' := [_, _, _, _, _, _]) C dX7_clean_70 rfl (Nat.le_of_ble_eq_true rfl) E.2.2.2.symm rfl rfl rfl ?_
        refine gn_inc (q := 74) (lv' := [_, _, _, _, _, _]) C dX7_clean_71 rfl E.2.2.2.symm rfl rfl rfl ?_
        refine gx_goto (tgt := 20) C dX7_clean_74 (by decide) ?_
        refine gx_drop 5 ?_
        exact ih M n hV hF
      · refine gx_iload (q := 47) C dX7_clean_45 rfl rfl ?_
        refine gx_iload_n (q := 48) C dX7_clean_47 rfl rfl rfl ?_
        refine gn_icmp_ge (q := 51) (tgt := 56) C dX7_clean_48 (by decide) rfl (by omega) (by omega) (fun c48 => ?_) (fun c48 => ?_)
        · rw [fsS_f (ltB_f (by omega) c48)] at ih
          have hlt := fsS_lt (c := ltB) (v := claV T) n (by omega)
          refine gx_iload_n (q := 57) C dX7_clean_56 rfl rfl rfl ?_
          refine gx_istore_n (q := 58) (lv' := [_, _, _, _, _, _]) C dX7_clean_57 rfl (Nat.le_of_ble_eq_true rfl) E.2.2.2.symm rfl rfl rfl ?_
          refine gx_iload_n (q := 59) C dX7_clean_58 rfl rfl rfl ?_
          refine gx_iload (q := 61) C dX7_clean_59 rfl rfl ?_
          refine gn_icmp_ne (q := 64) (tgt := 69) C dX7_clean_61 (by decide) rfl (by omega) (by omega) (fun c61 => ?_) (fun c61 => by exfalso; omega)
          refine gx_iload_n (q := 70) C dX7_clean_69 rfl rfl rfl ?_
          refine gx_istore_n (q := 71) (lv' := [_, _, _, _, _, _]) C dX7_clean_70 rfl (Nat.le_of_ble_eq_true rfl) E.2.2.2.symm rfl rfl rfl ?_
          refine gn_inc (q := 74) (lv' := [_, _, _, _, _, _]) C dX7_clean_71 rfl E.2.2.2.symm rfl rfl rfl ?_
          refine gx_goto (tgt := 20) C dX7_clean_74 (by decide) ?_
          refine gx_drop 5 ?_
          exact ih M n hV hF
        · rw [fsS_t (Or.inr (ltB_t (by omega)))] at ih
          refine gx_iload (q := 53) C dX7_clean_51 rfl rfl ?_
          refine gx_goto (tgt := 57) C dX7_clean_53 (by decide) ?_
          refine gx_istore_n (q := 58) (lv' := [_, _, _, _, _, _]) C dX7_clean_57 rfl (Nat.le_of_ble_eq_true rfl) E.2.2.2.symm rfl rfl rfl ?_
          refine gx_iload_n (q := 59) C dX7_clean_58 rfl rfl rfl ?_
          refine gx_iload (q := 61) C dX7_clean_59 rfl rfl ?_
          refine gn_icmp_ne (q := 64) (tgt := 69) C dX7_clean_61 (by decide) rfl (by omega) (by omega) (fun c61 => by exfalso; omega) (fun c61 => ?_)
          refine gx_iload (q := 66) C dX7_clean_64 rfl rfl ?_
          refine gx_goto (tgt := 70) C dX7_clean_66 (by decide) ?_
          refine gx_istore_n (q := 71) (lv' := [_, _, _, _, _, _]) C dX7_clean_70 rfl (Nat.le_of_ble_eq_true rfl) E.2.2.2.symm rfl rfl rfl ?_
          refine gn_inc (q := 74) (lv' := [_, _, _, _, _, _]) C dX7_clean_71 rfl E.2.2.2.symm rfl rfl rfl ?_
          refine gx_goto (tgt := 20) C dX7_clean_74 (by decide) ?_
          refine gx_drop 5 ?_
          exact ih M n hV hF
  exact Lc 0 (by omega) M (T 2) (by rw [updN_r]; exact hV) hF
def gvE (r : Option Nat) : Int32 := match r with
  | none => -9
  | some n => nI (10 * (n / 4) + n % 4)
theorem givV_at (T : Nat → Nat) {q g : Nat} (hg : g < 4) : givV T (4 * q + g) = bdL (updN T (12 + q) g) (lyT T) 36 := by
  unfold givV
  rw [show (4 * q + g) / 4 = q by omega, show (4 * q + g) % 4 = g by omega]
theorem gvE_s (q : Nat) {g : Nat} (hg : g < 4) : nI (10 * q + g) = gvE (some (4 * q + g)) := by
  show _ = nI (10 * ((4 * q + g) / 4) + (4 * q + g) % 4)
  rw [show (4 * q + g) / 4 = q by omega, show (4 * q + g) % 4 = g by omega]
set_option maxHeartbeats 4000000 in
theorem mp_give (l : Launch) (D : va_G) (b : Nat) (M0 : List va_E) {R T Ti P Rw : Nat → Nat} {kp : Bool} {td ro : Nat}  (h : md_P D b M0 R T Ti P Rw kp td ro) (hk : okT T) : fb_CT l D b yX7_give cX7_give 7 (some .int) 4 101 0 0 [.ref (b + 43)] M0 (.returned (some (.int (gvE (mnS (bdL T (lyT T) 36) (givV T) 144).1)))) (fun M' => md_P D b M' R T Ti P Rw kp td ro ∧ md_F M0 M') := by
  refine fb_start [some (.ref (b + 43)), none, none, none, none, none, none] (by decide) (Nat.le_of_ble_eq_true rfl) rfl ?_
  intro x hl hD hb C E hx
  subst hl hD hb
  have C : fb_OK x cX7_give "FallsBetweenModel" "give" := C
  obtain ⟨Bf, F, L, aa, we, so, lo, hV⟩ := h
  have hF := md_F.rf M0
  obtain ⟨k0, k1, k2, k3, k4, k5, k6, k7, k8⟩ := id hk
  refine gx_aload_n (q := 1) C dX7_give_0 rfl rfl rfl ?_
  refine gx_bipush (q := 3) (v := nI 63) C dX7_give_1 (by decide) rfl ?_
  refine gx_cv (q := 6) C E (sx_X7_127 (As := [_]) C hV.o rfl rfl dX7_give_3) (md_fall _ _ _ _ 63 (by decide) hV hk) kw_X7_fall (by decide) (Nat.le_of_ble_eq_true rfl) rfl rfl (by omega) (by omega) dX7_give_3 rfl (fun M r3 => ?_)
  obtain ⟨hV, hG⟩ := r3
  have hF := hF.tr hG
  rw [mL_63f _ hk.1] at hV
  generalize mO T 63 (T 0) 0 = lo at hV
  have hb0 := bdT_le hk
  refine gx_bipush (q := 8) (v := gvE none) C dX7_give_6 (rfl) rfl ?_
  refine gx_istore_n (q := 9) (lv' := [_, _, _, _, _, _, _]) C dX7_give_8 rfl (Nat.le_of_ble_eq_true rfl) E.2.2.2.symm rfl rfl rfl ?_
  refine gx_aload_n (q := 10) C dX7_give_9 rfl rfl rfl ?_
  refine gx_cp (q := 13) C E (sx_X7_134 (As := []) C hV.o rfl rfl dX7_give_10) (md_birdsHave _ _ _ _ hV hk) kw_X7_birdsHave (by decide) (Nat.le_of_ble_eq_true rfl) (by omega) (by omega) dX7_give_10 rfl ?_
  refine gx_istore_n (q := 14) (lv' := [_, _, _, _, _, _, _]) C dX7_give_13 rfl (Nat.le_of_ble_eq_true rfl) E.2.2.2.symm rfl rfl rfl ?_
  refine gx_iconst (q := 15) (v := nI 0) C dX7_give_14 (by decide) rfl ?_
  refine gx_istore_n (q := 16) (lv' := [_, _, _, _, _, _, _]) C dX7_give_15 rfl (Nat.le_of_ble_eq_true rfl) E.2.2.2.symm rfl rfl rfl ?_
  have Lq : ∀ q, q ≤ 36 → ∀ (M : List va_E), md_V (cx_D x) (cx_b x) M R T Ti Bf P F (lyT T) Rw kp td aa we so lo ro → md_F M0 M → fb_G x M 0 0 16 [some (.ref (cx_b x + 43)), some (.int (gvE (mnS (bdL T (lyT T) 36) (givV T) (4 * q)).1)), some (.int (nI (mnS (bdL T (lyT T) 36) (givV T) (4 * q)).2)), some (.int (nI q)), none, none, none] [] := by
    refine fb_dn 36 ?_ ?_
    · intro M hV hF
      refine gx_iload_n (q := 17) C dX7_give_16 rfl rfl rfl ?_
      refine gx_bipush (q := 19) (v := nI 36) C dX7_give_17 (by decide) rfl ?_
      refine gn_icmp_ge (q := 22) (tgt := 107) C dX7_give_19 (by decide) rfl (by omega) (by omega) (fun c19 => ?_) (fun c19 => by exfalso; omega)
      refine gx_iload_n (q := 108) C dX7_give_107 rfl rfl rfl ?_
      exact gx_iret C E dX7_give_108 (⟨⟨_, _, _, _, _, _, _, hV⟩, hF⟩) (by omega) (by omega)
    · intro q hq ihq M hV hF
      rw [Nat.mul_add, Nat.mul_one] at ihq
      refine gx_iload_n (q := 17) C dX7_give_16 rfl rfl rfl ?_
      refine gx_bipush (q := 19) (v := nI 36) C dX7_give_17 (by decide) rfl ?_
      refine gn_icmp_ge (q := 22) (tgt := 107) C dX7_give_19 (by decide) rfl (by omega) (by omega) (fun c19 => by exfalso; omega) (fun c19 => ?_)
      refine gx_aload_n (q := 23) C dX7_give_22 rfl rfl rfl ?_
      refine fg_X7_13 (q := 26) C hV.o rfl dX7_give_23 rfl ?_
      refine gx_bipush (q := 28) (v := nI 12) C dX7_give_26 (by decide) rfl ?_
      refine gx_iload_n (q := 29) C dX7_give_28 rfl rfl rfl ?_
      refine gn_iadd (q := 30) C dX7_give_29 rfl ?_
      refine mv_ld_now (q := 31) C hV (by omega) dX7_give_30 rfl ?_
      refine gx_istore (q := 33) (lv' := [_, _, _, _, _, _, _]) C dX7_give_31 (Nat.le_of_ble_eq_true rfl) E.2.2.2.symm rfl rfl rfl ?_
      refine gx_iconst (q := 34) (v := nI 0) C dX7_give_33 (by decide) rfl ?_
      refine gx_istore (q := 36) (lv' := [_, _, _, _, _, _, _]) C dX7_give_34 (Nat.le_of_ble_eq_true rfl) E.2.2.2.symm rfl rfl rfl ?_
      have Lg : ∀ g, g ≤ 4 → ∀ (M : List va_E) (c : Nat), md_V (cx_D x) (cx_b x) M R (updN T (12 + q) c) Ti Bf P F (lyT T) Rw kp td aa we so lo ro → md_F M0 M → fb_G x M 0 0 36 [some (.ref (cx_b x + 43)), some (.int (gvE (mnS (bdL T (lyT T) 36) (givV T) (4 * q + g)).1)), some (.int (nI (mnS (bdL T (lyT T) 36) (givV T) (4 * q + g)).2)), some (.int (nI q)), some (.int (nI (T (12 + q)))), some (.int (nI g)), none] [] := by
        refine fb_dn 4 ?_ ?_
        · intro M c hV hF
          refine gx_iload (q := 38) C dX7_give_36 rfl rfl ?_
          refine gx_iconst (q := 39) (v := nI 4) C dX7_give_38 (by decide) rfl ?_
          refine gn_icmp_ge (q := 42) (tgt := 90) C dX7_give_39 (by decide) rfl (by omega) (by omega) (fun c39 => ?_) (fun c39 => by exfalso; omega)
          refine gx_aload_n (q := 91) C dX7_give_90 rfl rfl rfl ?_
          refine fg_X7_13 (q := 94) C hV.o rfl dX7_give_91 rfl ?_
          refine gx_bipush (q := 96) (v := nI 12) C dX7_give_94 (by decide) rfl ?_
          refine gx_iload_n (q := 97) C dX7_give_96 rfl rfl rfl ?_
          refine gn_iadd (q := 98) C dX7_give_97 rfl ?_
          refine gx_iload (q := 100) C dX7_give_98 rfl rfl ?_
          refine mv_st_now (q := 101) C hV hF (by omega) dX7_give_100 rfl (fun M hV hF => ?_)
          rw [updN_u, updN_r] at hV
          refine gn_inc (q := 104) (lv' := [_, _, _, _, _, _, _]) C dX7_give_101 rfl E.2.2.2.symm rfl rfl rfl ?_
          refine gx_goto (tgt := 16) C dX7_give_104 (by decide) ?_
          refine gx_drop 4 ?_
          refine gx_drop 5 ?_
          exact ihq M hV hF
        · intro g hg ih M c hV hF
          rw [← Nat.add_assoc] at ih
          have hv := givV_le hk (4 * q + g)
          have hm := mnS_b (i := bdL T (lyT T) 36) (v := givV T) (4 * q + g)
          have hkn : okT (updN T (12 + q) g) := okT_up hk (by omega)
          refine gx_iload (q := 38) C dX7_give_36 rfl rfl ?_
          refine gx_iconst (q := 39) (v := nI 4) C dX7_give_38 (by decide) rfl ?_
          refine gn_icmp_ge (q := 42) (tgt := 90) C dX7_give_39 (by decide) rfl (by omega) (by omega) (fun c39 => by exfalso; omega) (fun c39 => ?_)
          refine gx_aload_n (q := 43) C dX7_give_42 rfl rfl rfl ?_
          refine fg_X7_13 (q := 46) C hV.o rfl dX7_give_43 rfl ?_
          refine gx_bipush (q := 48) (v := nI 12) C dX7_give_46 (by decide) rfl ?_
          refine gx_iload_n (q := 49) C dX7_give_48 rfl rfl rfl ?_
          refine gn_iadd (q := 50) C dX7_give_49 rfl ?_
          refine gx_iload (q := 52) C dX7_give_50 rfl rfl ?_
          refine mv_st_now (q := 53) C hV hF (by omega) dX7_give_52 rfl (fun M hV hF => ?_)
          rw [updN_u] at hV
          refine gx_aload_n (q := 54) C dX7_give_53 rfl rfl rfl ?_
          refine gx_cp (q := 57) C E (sx_X7_134 (As := []) C hV.o rfl rfl dX7_give_54) (md_birdsHave _ _ _ _ hV hkn) kw_X7_birdsHave (by decide) (Nat.le_of_ble_eq_true rfl) (by omega) (by omega) dX7_give_54 rfl ?_
          refine gx_top (show _ = nI (givV T (4 * q + g)) by rw [givV_at T hg]) ?_
          refine gx_istore (q := 59) (lv' := [_, _, _, _, _, _, _]) C dX7_give_57 (Nat.le_of_ble_eq_true rfl) E.2.2.2.symm rfl rfl rfl ?_
          refine gx_iload (q := 61) C dX7_give_59 rfl rfl ?_
          refine gx_iload_n (q := 62) C dX7_give_61 rfl rfl rfl ?_
          refine gn_icmp_ge (q := 65) (tgt := 75) C dX7_give_62 (by decide) rfl (by omega) (by omega) (fun c62 => ?_) (fun c62 => ?_)
          · rw [mnS_f c62] at ih
            have hmn : min (mnS (bdL T (lyT T) 36) (givV T) (4 * q + g)).2 (givV T (4 * q + g)) = (mnS (bdL T (lyT T) 36) (givV T) (4 * q + g)).2 := Nat.min_eq_left c62
            refine gx_iload_n (q := 76) C dX7_give_75 rfl rfl rfl ?_
            refine gx_istore_n (q := 77) (lv' := [_, _, _, _, _, _, _]) C dX7_give_76 rfl (Nat.le_of_ble_eq_true rfl) E.2.2.2.symm rfl rfl rfl ?_
            refine gx_iload_n (q := 78) C dX7_give_77 rfl rfl rfl ?_
            refine gx_iload (q := 80) C dX7_give_78 rfl rfl ?_
            refine gm_min (q := 83) (by omega) (by omega) C E q1328 (by decide) (Nat.le_of_ble_eq_true rfl) (by omega) (by omega) dX7_give_80 rfl ?_
            rw [hmn]
            refine gx_istore_n (q := 84) (lv' := [_, _, _, _, _, _, _]) C dX7_give_83 rfl (Nat.le_of_ble_eq_true rfl) E.2.2.2.symm rfl rfl rfl ?_
            refine gn_inc (q := 87) (lv' := [_, _, _, _, _, _, _]) C dX7_give_84 rfl E.2.2.2.symm rfl rfl rfl ?_
            refine gx_goto (tgt := 36) C dX7_give_87 (by decide) ?_
            refine gx_drop 6 ?_
            exact ih M g hV hF
          · rw [mnS_t (by omega)] at ih
            have hmn : min (mnS (bdL T (lyT T) 36) (givV T) (4 * q + g)).2 (givV T (4 * q + g)) = givV T (4 * q + g) := Nat.min_eq_right (by omega)
            refine gx_bipush (q := 67) (v := nI 10) C dX7_give_65 (by decide) rfl ?_
            refine gx_iload_n (q := 68) C dX7_give_67 rfl rfl rfl ?_
            refine gn_imul (q := 69) C dX7_give_68 rfl ?_
            refine gx_iload (q := 71) C dX7_give_69 rfl rfl ?_
            refine gn_iadd (q := 72) C dX7_give_71 rfl ?_
            refine gx_top (gvE_s q hg) ?_
            refine gx_goto (tgt := 76) C dX7_give_72 (by decide) ?_
            refine gx_istore_n (q := 77) (lv' := [_, _, _, _, _, _, _]) C dX7_give_76 rfl (Nat.le_of_ble_eq_true rfl) E.2.2.2.symm rfl rfl rfl ?_
            refine gx_iload_n (q := 78) C dX7_give_77 rfl rfl rfl ?_
            refine gx_iload (q := 80) C dX7_give_78 rfl rfl ?_
            refine gm_min (q := 83) (by omega) (by omega) C E q1328 (by decide) (Nat.le_of_ble_eq_true rfl) (by omega) (by omega) dX7_give_80 rfl ?_
            rw [hmn]
            refine gx_istore_n (q := 84) (lv' := [_, _, _, _, _, _, _]) C dX7_give_83 rfl (Nat.le_of_ble_eq_true rfl) E.2.2.2.symm rfl rfl rfl ?_
            refine gn_inc (q := 87) (lv' := [_, _, _, _, _, _, _]) C dX7_give_84 rfl E.2.2.2.symm rfl rfl rfl ?_
            refine gx_goto (tgt := 36) C dX7_give_87 (by decide) ?_
            refine gx_drop 6 ?_
            exact ih M g hV hF
      exact Lg 0 (by omega) M (T (12 + q)) (by rw [updN_r]; exact hV) hF
  exact Lq 0 (by omega) M hV hF
theorem drT_in {T U : Nat → Nat} {c : Nat} (h : ∀ i, (i < 12 ∨ 48 ≤ i) → U i = T i) (h2 : ∀ j, j < 36 → U (12 + j) = if j % 6 < c then 0 else 1) (i : Nat) : U i = drT T c i := by
  unfold drT
  by_cases hi : 12 ≤ i ∧ i < 48
  · rw [if_pos hi]
    have := h2 (i - 12) (by omega)
    rwa [show 12 + (i - 12) = i by omega] at this
  · rw [if_neg hi]
    exact h i (by omega)
set_option maxHeartbeats 4000000 in
theorem mp_line_0 (l : Launch) (D : va_G) (b : Nat) (M0 : List va_E) {R T Ti P Rw : Nat → Nat} {kp : Bool} {td ro : Nat}  (h : md_P D b M0 R T Ti P Rw kp td ro) (hk : okT T) : fb_CT l D b yX7_line cX7_line 6 (some .int) 4 101 0 0 [.ref (b + 43), .int (nI 0)] M0 (.returned (some (.int (nI ((fsS ltB (linV T 0) 5).1 + 1))))) (fun M' => md_P D b M' R T Ti P Rw kp td ro ∧ md_F M0 M') := by
  refine fb_start [some (.ref (b + 43)), some (.int (nI 0)), none, none, none, none] (by decide) (Nat.le_of_ble_eq_true rfl) rfl ?_
  intro x hl hD hb C E hx
  subst hl hD hb
  have C : fb_OK x cX7_line "FallsBetweenModel" "line" := C
  obtain ⟨Bf, F, L, aa, we, so, lo, hV⟩ := h
  have hF := md_F.rf M0
  obtain ⟨k0, k1, k2, k3, k4, k5, k6, k7, k8⟩ := id hk
  refine gx_iload_n (q := 1) C dX7_line_0 rfl rfl rfl ?_
  refine gx_if_lt (q := 4) (tgt := 9) C dX7_line_1 (by decide) rfl (fun c1 => by exfalso; revert c1; decide) (fun c1 => ?_)
  refine gx_iload_n (q := 5) C dX7_line_4 rfl rfl rfl ?_
  refine gx_iconst (q := 6) (v := nI 1) C dX7_line_5 (by decide) rfl ?_
  refine gn_icmp_le (q := 9) (tgt := 16) C dX7_line_6 (by decide) rfl (by omega) (by omega) (fun c6 => ?_) (fun c6 => by exfalso; revert c6; decide)
  refine gx_aload_n (q := 17) C dX7_line_16 rfl rfl rfl ?_
  refine gx_bipush (q := 19) (v := nI 63) C dX7_line_17 (by decide) rfl ?_
  refine gx_cv (q := 22) C E (sx_X7_127 (As := [_]) C hV.o rfl rfl dX7_line_19) (md_fall _ _ _ _ 63 (by decide) hV hk) kw_X7_fall (by decide) (Nat.le_of_ble_eq_true rfl) rfl rfl (by omega) (by omega) dX7_line_19 rfl (fun M r19 => ?_)
  obtain ⟨hV, hG⟩ := r19
  have hF := hF.tr hG
  rw [mL_63f _ hk.1] at hV
  generalize mO T 63 (T 0) 0 = lo at hV
  refine gx_aload_n (q := 23) C dX7_line_22 rfl rfl rfl ?_
  refine fg_X7_13 (q := 26) C hV.o rfl dX7_line_23 rfl ?_
  refine gx_aload_n (q := 27) C dX7_line_26 rfl rfl rfl ?_
  refine fg_X7_19 (q := 30) C hV.o rfl dX7_line_27 rfl ?_
  obtain ⟨f, f1, f2⟩ := hV.nw
  obtain ⟨t, t1, t2⟩ := hV.bf
  refine gx_cv (q := 33) C E (sx_X7_45 (As := [_, _]) C rfl rfl dX7_line_30) (md_move _ _ _ _ 45 47 (by decide) f1 t1) kw_X7_move (by decide) (Nat.le_of_ble_eq_true rfl) rfl rfl (by omega) (by omega) dX7_line_30 rfl (fun M r30 => ?_)
  have hV := hV.setbf (g := cpN f t 144) (U := T) (fun i hi => by rw [cpN, if_pos hi]; exact f2 i hi)
  rw [← r30] at hV
  have hF := hF.st 47 (aI (cx_D x) 144 (cpN f t 144)) (by decide)
  rw [← r30] at hF
  refine gx_iconst (q := 34) (v := nI 0) C dX7_line_33 (by decide) rfl ?_
  refine gx_istore_n (q := 35) (lv' := [_, _, _, _, _, _]) C dX7_line_34 rfl (Nat.le_of_ble_eq_true rfl) E.2.2.2.symm rfl rfl rfl ?_
  refine gx_iconst (q := 36) (v := nI 0) C dX7_line_35 (by decide) rfl ?_
  refine gx_istore_n (q := 37) (lv' := [_, _, _, _, _, _]) C dX7_line_36 rfl (Nat.le_of_ble_eq_true rfl) E.2.2.2.symm rfl rfl rfl ?_
  refine gx_iconst (q := 38) (v := nI 1) C dX7_line_37 (by decide) rfl ?_
  refine gx_istore (q := 40) (lv' := [_, _, _, _, _, _]) C dX7_line_38 (Nat.le_of_ble_eq_true rfl) E.2.2.2.symm rfl rfl rfl ?_
  have Lc : ∀ n, n ≤ 5 → ∀ (M : List va_E) (U : Nat → Nat), md_V (cx_D x) (cx_b x) M R U Ti T P F (lyT T) Rw kp td aa we so lo ro → md_F M0 M → (∀ i, (i < 12 ∨ 48 ≤ i) → U i = T i) → fb_G x M 0 0 40 [some (.ref (cx_b x + 43)), some (.int (nI 0)), some (.int (nI (if n = 0 then 0 else (fsS ltB (linV T 0) n).1 + 1))), some (.int (nI (fsS ltB (linV T 0) n).2)), some (.int (nI (n + 1))), none] [] := by
    refine fb_dn 5 ?_ ?_
    · intro M U hV hF hU
      refine gx_iload (q := 42) C dX7_line_40 rfl rfl ?_
      refine gx_bipush (q := 44) (v := nI 6) C dX7_line_42 (by decide) rfl ?_
      refine gn_icmp_ge (q := 47) (tgt := 153) C dX7_line_44 (by decide) rfl (by omega) (by omega) (fun c44 => ?_) (fun c44 => by exfalso; omega)
      refine gx_aload_n (q := 154) C dX7_line_153 rfl rfl rfl ?_
      refine fg_X7_19 (q := 157) C hV.o rfl dX7_line_154 rfl ?_
      refine gx_aload_n (q := 158) C dX7_line_157 rfl rfl rfl ?_
      refine fg_X7_13 (q := 161) C hV.o rfl dX7_line_158 rfl ?_
      obtain ⟨f, f1, f2⟩ := hV.bf
      obtain ⟨t, t1, t2⟩ := hV.nw
      refine gx_cv (q := 164) C E (sx_X7_45 (As := [_, _]) C rfl rfl dX7_line_161) (md_move _ _ _ _ 47 45 (by decide) f1 t1) kw_X7_move (by decide) (Nat.le_of_ble_eq_true rfl) rfl rfl (by omega) (by omega) dX7_line_161 rfl (fun M r161 => ?_)
      have hV := hV.setnw (g := cpN f t 144) (U := T) (fun i hi => by rw [cpN, if_pos hi]; exact f2 i hi)
      rw [← r161] at hV
      have hF := hF.st 45 (aI (cx_D x) 144 (cpN f t 144)) (by decide)
      rw [← r161] at hF
      refine gx_iload_n (q := 165) C dX7_line_164 rfl rfl rfl ?_
      exact gx_iret C E dX7_line_165 (⟨⟨_, _, _, _, _, _, _, hV⟩, hF⟩) (by omega) (by omega)
    · intro n hn ih M U hV hF hU
      rw [if_neg (Nat.succ_ne_zero n)] at ih
      have hv := linV_le hk 0 n
      have hm := fsS_b (c := ltB) (v := linV T 0) (m := 259200) n (fun i _ => linV_le hk 0 i)
      have hkn := drT_ok hk (n + 1)
      refine gx_iload (q := 42) C dX7_line_40 rfl rfl ?_
      refine gx_bipush (q := 44) (v := nI 6) C dX7_line_42 (by decide) rfl ?_
      refine gn_icmp_ge (q := 47) (tgt := 153) C dX7_line_44 (by decide) rfl (by omega) (by omega) (fun c44 => by exfalso; omega) (fun c44 => ?_)
      refine gx_iconst (q := 48) (v := nI 0) C dX7_line_47 (by decide) rfl ?_
      refine gx_istore (q := 50) (lv' := [_, _, _, _, _, _]) C dX7_line_48 (Nat.le_of_ble_eq_true rfl) E.2.2.2.symm rfl rfl rfl ?_
      have Li : ∀ i, i ≤ 36 → ∀ (M : List va_E) (U : Nat → Nat), md_V (cx_D x) (cx_b x) M R U Ti T P F (lyT T) Rw kp td aa we so lo ro → md_F M0 M → (∀ i, (i < 12 ∨ 48 ≤ i) → U i = T i) → (∀ j, j < i → U (12 + j) = if j % 6 < n + 1 then 0 else 1) → fb_G x M 0 0 50 [some (.ref (cx_b x + 43)), some (.int (nI 0)), some (.int (nI (if n = 0 then 0 else (fsS ltB (linV T 0) n).1 + 1))), some (.int (nI (fsS ltB (linV T 0) n).2)), some (.int (nI (n + 1))), some (.int (nI i))] [] := by
        refine fb_dn 36 ?_ ?_
        · intro M U hV hF hU hW
          have hV := hV.eqnw (fun i _ => drT_in hU hW i)
          refine gx_iload (q := 52) C dX7_line_50 rfl rfl ?_
          refine gx_bipush (q := 54) (v := nI 36) C dX7_line_52 (by decide) rfl ?_
          refine gn_icmp_ge (q := 57) (tgt := 88) C dX7_line_54 (by decide) rfl (by omega) (by omega) (fun c54 => ?_) (fun c54 => by exfalso; omega)
          refine gx_iload_n (q := 89) C dX7_line_88 rfl rfl rfl ?_
          refine gn_if_ne (q := 92) (tgt := 99) C dX7_line_89 (by decide) rfl (by omega) (fun c89 => by exfalso; revert c89; decide) (fun c89 => ?_)
          refine gx_aload_n (q := 93) C dX7_line_92 rfl rfl rfl ?_
          refine gx_cp (q := 96) C E (sx_X7_134 (As := []) C hV.o rfl rfl dX7_line_93) (md_birdsHave _ _ _ _ hV hkn) kw_X7_birdsHave (by decide) (Nat.le_of_ble_eq_true rfl) (by omega) (by omega) dX7_line_93 rfl ?_
          refine gx_top (show _ = nI (linV T 0 n) from rfl) ?_
          refine gx_goto (tgt := 113) C dX7_line_96 (by decide) ?_
          refine gx_istore (q := 115) (lv' := [_, _, _, _, _, _]) C dX7_line_113 (Nat.le_of_ble_eq_true rfl) E.2.2.2.symm rfl rfl rfl ?_
          refine gx_iload (q := 117) C dX7_line_115 rfl rfl ?_
          refine gx_iconst (q := 118) (v := nI 1) C dX7_line_117 (by decide) rfl ?_
          refine gn_icmp_eq (q := 121) (tgt := 127) C dX7_line_118 (by decide) rfl (by omega) (by omega) (fun c118 => ?_) (fun c118 => ?_)
          · rw [fsS_t (Or.inl (by omega))] at ih
            refine gx_iload (q := 129) C dX7_line_127 rfl rfl ?_
            refine gx_goto (tgt := 133) C dX7_line_129 (by decide) ?_
            refine gx_istore_n (q := 134) (lv' := [_, _, _, _, _, _]) C dX7_line_133 rfl (Nat.le_of_ble_eq_true rfl) E.2.2.2.symm rfl rfl rfl ?_
            refine gx_iload_n (q := 135) C dX7_line_134 rfl rfl rfl ?_
            refine gx_iload (q := 137) C dX7_line_135 rfl rfl ?_
            refine gn_icmp_ne (q := 140) (tgt := 145) C dX7_line_137 (by decide) rfl (by omega) (by omega) (fun c137 => by exfalso; omega) (fun c137 => ?_)
            refine gx_iload (q := 142) C dX7_line_140 rfl rfl ?_
            refine gx_goto (tgt := 146) C dX7_line_142 (by decide) ?_
            refine gx_istore_n (q := 147) (lv' := [_, _, _, _, _, _]) C dX7_line_146 rfl (Nat.le_of_ble_eq_true rfl) E.2.2.2.symm rfl rfl rfl ?_
            refine gn_inc (q := 150) (lv' := [_, _, _, _, _, _]) C dX7_line_147 rfl E.2.2.2.symm rfl rfl rfl ?_
            refine gx_goto (tgt := 40) C dX7_line_150 (by decide) ?_
            refine gx_drop 5 ?_
            exact ih M _ hV hF (fun i hi => by unfold drT; rw [if_neg (by omega)])
          · rw [if_neg (show ¬ n = 0 by omega)]
            refine gx_iload (q := 123) C dX7_line_121 rfl rfl ?_
            refine gx_iload_n (q := 124) C dX7_line_123 rfl rfl rfl ?_
            refine gn_icmp_ge (q := 127) (tgt := 132) C dX7_line_124 (by decide) rfl (by omega) (by omega) (fun c124 => ?_) (fun c124 => ?_)
            · rw [fsS_f (ltB_f (by omega) c124)] at ih
              have hlt := fsS_lt (c := ltB) (v := linV T 0) n (by omega)
              refine gx_iload_n (q := 133) C dX7_line_132 rfl rfl rfl ?_
              refine gx_istore_n (q := 134) (lv' := [_, _, _, _, _, _]) C dX7_line_133 rfl (Nat.le_of_ble_eq_true rfl) E.2.2.2.symm rfl rfl rfl ?_
              refine gx_iload_n (q := 135) C dX7_line_134 rfl rfl rfl ?_
              refine gx_iload (q := 137) C dX7_line_135 rfl rfl ?_
              refine gn_icmp_ne (q := 140) (tgt := 145) C dX7_line_137 (by decide) rfl (by omega) (by omega) (fun c137 => ?_) (fun c137 => by exfalso; omega)
              refine gx_iload_n (q := 146) C dX7_line_145 rfl rfl rfl ?_
              refine gx_istore_n (q := 147) (lv' := [_, _, _, _, _, _]) C dX7_line_146 rfl (Nat.le_of_ble_eq_true rfl) E.2.2.2.symm rfl rfl rfl ?_
              refine gn_inc (q := 150) (lv' := [_, _, _, _, _, _]) C dX7_line_147 rfl E.2.2.2.symm rfl rfl rfl ?_
              refine gx_goto (tgt := 40) C dX7_line_150 (by decide) ?_
              refine gx_drop 5 ?_
              exact ih M _ hV hF (fun i hi => by unfold drT; rw [if_neg (by omega)])
            · rw [fsS_t (Or.inr (ltB_t (by omega)))] at ih
              refine gx_iload (q := 129) C dX7_line_127 rfl rfl ?_
              refine gx_goto (tgt := 133) C dX7_line_129 (by decide) ?_
              refine gx_istore_n (q := 134) (lv' := [_, _, _, _, _, _]) C dX7_line_133 rfl (Nat.le_of_ble_eq_true rfl) E.2.2.2.symm rfl rfl rfl ?_
              refine gx_iload_n (q := 135) C dX7_line_134 rfl rfl rfl ?_
              refine gx_iload (q := 137) C dX7_line_135 rfl rfl ?_
              refine gn_icmp_ne (q := 140) (tgt := 145) C dX7_line_137 (by decide) rfl (by omega) (by omega) (fun c137 => by exfalso; omega) (fun c137 => ?_)
              refine gx_iload (q := 142) C dX7_line_140 rfl rfl ?_
              refine gx_goto (tgt := 146) C dX7_line_142 (by decide) ?_
              refine gx_istore_n (q := 147) (lv' := [_, _, _, _, _, _]) C dX7_line_146 rfl (Nat.le_of_ble_eq_true rfl) E.2.2.2.symm rfl rfl rfl ?_
              refine gn_inc (q := 150) (lv' := [_, _, _, _, _, _]) C dX7_line_147 rfl E.2.2.2.symm rfl rfl rfl ?_
              refine gx_goto (tgt := 40) C dX7_line_150 (by decide) ?_
              refine gx_drop 5 ?_
              exact ih M _ hV hF (fun i hi => by unfold drT; rw [if_neg (by omega)])
        · intro i hi ihi M U hV hF hU hW
          refine gx_iload (q := 52) C dX7_line_50 rfl rfl ?_
          refine gx_bipush (q := 54) (v := nI 36) C dX7_line_52 (by decide) rfl ?_
          refine gn_icmp_ge (q := 57) (tgt := 88) C dX7_line_54 (by decide) rfl (by omega) (by omega) (fun c54 => by exfalso; omega) (fun c54 => ?_)
          refine gx_aload_n (q := 58) C dX7_line_57 rfl rfl rfl ?_
          refine fg_X7_13 (q := 61) C hV.o rfl dX7_line_58 rfl ?_
          refine gx_bipush (q := 63) (v := nI 12) C dX7_line_61 (by decide) rfl ?_
          refine gx_iload (q := 65) C dX7_line_63 rfl rfl ?_
          refine gn_iadd (q := 66) C dX7_line_65 rfl ?_
          refine gx_iload (q := 68) C dX7_line_66 rfl rfl ?_
          refine gx_bipush (q := 70) (v := nI 6) C dX7_line_68 (by decide) rfl ?_
          refine gn_irem (q := 71) C dX7_line_70 (by omega) (by omega) (by omega) rfl ?_
          refine gx_iload (q := 73) C dX7_line_71 rfl rfl ?_
          refine gn_icmp_ge (q := 76) (tgt := 80) C dX7_line_73 (by decide) rfl (by omega) (by omega) (fun c73 => ?_) (fun c73 => ?_)
          · refine gx_iconst (q := 81) (v := nI 1) C dX7_line_80 (by decide) rfl ?_
            refine mv_st_now (q := 82) C hV hF (by omega) dX7_line_81 rfl (fun M hV hF => ?_)
            have hW2 : ∀ j, j < i + 1 → updN U (12 + i) 1 (12 + j) = if j % 6 < n + 1 then 0 else 1 := by
              intro j hj
              by_cases e : j = i
              · subst e; rw [updN_s]; first | rw [if_pos (by omega)] | rw [if_neg (by omega)]
              · rw [updN_n _ (by omega)]; exact hW j (by omega)
            refine gn_inc (q := 85) (lv' := [_, _, _, _, _, _]) C dX7_line_82 rfl E.2.2.2.symm rfl rfl rfl ?_
            refine gx_goto (tgt := 50) C dX7_line_85 (by decide) ?_
            exact ihi M _ hV hF (fun i hi => by rw [updN_n _ (by omega)]; exact hU i hi) hW2
          · refine gx_iconst (q := 77) (v := nI 0) C dX7_line_76 (by decide) rfl ?_
            refine gx_goto (tgt := 81) C dX7_line_77 (by decide) ?_
            refine mv_st_now (q := 82) C hV hF (by omega) dX7_line_81 rfl (fun M hV hF => ?_)
            have hW2 : ∀ j, j < i + 1 → updN U (12 + i) 0 (12 + j) = if j % 6 < n + 1 then 0 else 1 := by
              intro j hj
              by_cases e : j = i
              · subst e; rw [updN_s]; first | rw [if_pos (by omega)] | rw [if_neg (by omega)]
              · rw [updN_n _ (by omega)]; exact hW j (by omega)
            refine gn_inc (q := 85) (lv' := [_, _, _, _, _, _]) C dX7_line_82 rfl E.2.2.2.symm rfl rfl rfl ?_
            refine gx_goto (tgt := 50) C dX7_line_85 (by decide) ?_
            exact ihi M _ hV hF (fun i hi => by rw [updN_n _ (by omega)]; exact hU i hi) hW2
      exact Li 0 (by omega) M _ hV hF hU (fun j hj => absurd hj (Nat.not_lt_zero j))
  exact Lc 0 (by omega) M _ hV hF (fun _ _ => rfl)
set_option maxHeartbeats 4000000 in
theorem mp_line_1 (l : Launch) (D : va_G) (b : Nat) (M0 : List va_E) {R T Ti P Rw : Nat → Nat} {kp : Bool} {td ro : Nat}  (h : md_P D b M0 R T Ti P Rw kp td ro) (hk : okT T) : fb_CT l D b yX7_line cX7_line 6 (some .int) 4 101 0 0 [.ref (b + 43), .int (nI 1)] M0 (.returned (some (.int (nI ((fsS ltB (linV T 1) 5).1 + 1))))) (fun M' => md_P D b M' R T Ti P Rw kp td ro ∧ md_F M0 M') := by
  refine fb_start [some (.ref (b + 43)), some (.int (nI 1)), none, none, none, none] (by decide) (Nat.le_of_ble_eq_true rfl) rfl ?_
  intro x hl hD hb C E hx
  subst hl hD hb
  have C : fb_OK x cX7_line "FallsBetweenModel" "line" := C
  obtain ⟨Bf, F, L, aa, we, so, lo, hV⟩ := h
  have hF := md_F.rf M0
  obtain ⟨k0, k1, k2, k3, k4, k5, k6, k7, k8⟩ := id hk
  refine gx_iload_n (q := 1) C dX7_line_0 rfl rfl rfl ?_
  refine gx_if_lt (q := 4) (tgt := 9) C dX7_line_1 (by decide) rfl (fun c1 => by exfalso; revert c1; decide) (fun c1 => ?_)
  refine gx_iload_n (q := 5) C dX7_line_4 rfl rfl rfl ?_
  refine gx_iconst (q := 6) (v := nI 1) C dX7_line_5 (by decide) rfl ?_
  refine gn_icmp_le (q := 9) (tgt := 16) C dX7_line_6 (by decide) rfl (by omega) (by omega) (fun c6 => ?_) (fun c6 => by exfalso; revert c6; decide)
  refine gx_aload_n (q := 17) C dX7_line_16 rfl rfl rfl ?_
  refine gx_bipush (q := 19) (v := nI 63) C dX7_line_17 (by decide) rfl ?_
  refine gx_cv (q := 22) C E (sx_X7_127 (As := [_]) C hV.o rfl rfl dX7_line_19) (md_fall _ _ _ _ 63 (by decide) hV hk) kw_X7_fall (by decide) (Nat.le_of_ble_eq_true rfl) rfl rfl (by omega) (by omega) dX7_line_19 rfl (fun M r19 => ?_)
  obtain ⟨hV, hG⟩ := r19
  have hF := hF.tr hG
  rw [mL_63f _ hk.1] at hV
  generalize mO T 63 (T 0) 0 = lo at hV
  refine gx_aload_n (q := 23) C dX7_line_22 rfl rfl rfl ?_
  refine fg_X7_13 (q := 26) C hV.o rfl dX7_line_23 rfl ?_
  refine gx_aload_n (q := 27) C dX7_line_26 rfl rfl rfl ?_
  refine fg_X7_19 (q := 30) C hV.o rfl dX7_line_27 rfl ?_
  obtain ⟨f, f1, f2⟩ := hV.nw
  obtain ⟨t, t1, t2⟩ := hV.bf
  refine gx_cv (q := 33) C E (sx_X7_45 (As := [_, _]) C rfl rfl dX7_line_30) (md_move _ _ _ _ 45 47 (by decide) f1 t1) kw_X7_move (by decide) (Nat.le_of_ble_eq_true rfl) rfl rfl (by omega) (by omega) dX7_line_30 rfl (fun M r30 => ?_)
  have hV := hV.setbf (g := cpN f t 144) (U := T) (fun i hi => by rw [cpN, if_pos hi]; exact f2 i hi)
  rw [← r30] at hV
  have hF := hF.st 47 (aI (cx_D x) 144 (cpN f t 144)) (by decide)
  rw [← r30] at hF
  refine gx_iconst (q := 34) (v := nI 0) C dX7_line_33 (by decide) rfl ?_
  refine gx_istore_n (q := 35) (lv' := [_, _, _, _, _, _]) C dX7_line_34 rfl (Nat.le_of_ble_eq_true rfl) E.2.2.2.symm rfl rfl rfl ?_
  refine gx_iconst (q := 36) (v := nI 0) C dX7_line_35 (by decide) rfl ?_
  refine gx_istore_n (q := 37) (lv' := [_, _, _, _, _, _]) C dX7_line_36 rfl (Nat.le_of_ble_eq_true rfl) E.2.2.2.symm rfl rfl rfl ?_
  refine gx_iconst (q := 38) (v := nI 1) C dX7_line_37 (by decide) rfl ?_
  refine gx_istore (q := 40) (lv' := [_, _, _, _, _, _]) C dX7_line_38 (Nat.le_of_ble_eq_true rfl) E.2.2.2.symm rfl rfl rfl ?_
  have Lc : ∀ n, n ≤ 5 → ∀ (M : List va_E) (U : Nat → Nat), md_V (cx_D x) (cx_b x) M R U Ti T P F (lyT T) Rw kp td aa we so lo ro → md_F M0 M → (∀ i, (i < 12 ∨ 48 ≤ i) → U i = T i) → fb_G x M 0 0 40 [some (.ref (cx_b x + 43)), some (.int (nI 1)), some (.int (nI (if n = 0 then 0 else (fsS ltB (linV T 1) n).1 + 1))), some (.int (nI (fsS ltB (linV T 1) n).2)), some (.int (nI (n + 1))), none] [] := by
    refine fb_dn 5 ?_ ?_
    · intro M U hV hF hU
      refine gx_iload (q := 42) C dX7_line_40 rfl rfl ?_
      refine gx_bipush (q := 44) (v := nI 6) C dX7_line_42 (by decide) rfl ?_
      refine gn_icmp_ge (q := 47) (tgt := 153) C dX7_line_44 (by decide) rfl (by omega) (by omega) (fun c44 => ?_) (fun c44 => by exfalso; omega)
      refine gx_aload_n (q := 154) C dX7_line_153 rfl rfl rfl ?_
      refine fg_X7_19 (q := 157) C hV.o rfl dX7_line_154 rfl ?_
      refine gx_aload_n (q := 158) C dX7_line_157 rfl rfl rfl ?_
      refine fg_X7_13 (q := 161) C hV.o rfl dX7_line_158 rfl ?_
      obtain ⟨f, f1, f2⟩ := hV.bf
      obtain ⟨t, t1, t2⟩ := hV.nw
      refine gx_cv (q := 164) C E (sx_X7_45 (As := [_, _]) C rfl rfl dX7_line_161) (md_move _ _ _ _ 47 45 (by decide) f1 t1) kw_X7_move (by decide) (Nat.le_of_ble_eq_true rfl) rfl rfl (by omega) (by omega) dX7_line_161 rfl (fun M r161 => ?_)
      have hV := hV.setnw (g := cpN f t 144) (U := T) (fun i hi => by rw [cpN, if_pos hi]; exact f2 i hi)
      rw [← r161] at hV
      have hF := hF.st 45 (aI (cx_D x) 144 (cpN f t 144)) (by decide)
      rw [← r161] at hF
      refine gx_iload_n (q := 165) C dX7_line_164 rfl rfl rfl ?_
      exact gx_iret C E dX7_line_165 (⟨⟨_, _, _, _, _, _, _, hV⟩, hF⟩) (by omega) (by omega)
    · intro n hn ih M U hV hF hU
      rw [if_neg (Nat.succ_ne_zero n)] at ih
      have hv := linV_le hk 1 n
      have hm := fsS_b (c := ltB) (v := linV T 1) (m := 259200) n (fun i _ => linV_le hk 1 i)
      have hkn := drT_ok hk (n + 1)
      refine gx_iload (q := 42) C dX7_line_40 rfl rfl ?_
      refine gx_bipush (q := 44) (v := nI 6) C dX7_line_42 (by decide) rfl ?_
      refine gn_icmp_ge (q := 47) (tgt := 153) C dX7_line_44 (by decide) rfl (by omega) (by omega) (fun c44 => by exfalso; omega) (fun c44 => ?_)
      refine gx_iconst (q := 48) (v := nI 0) C dX7_line_47 (by decide) rfl ?_
      refine gx_istore (q := 50) (lv' := [_, _, _, _, _, _]) C dX7_line_48 (Nat.le_of_ble_eq_true rfl) E.2.2.2.symm rfl rfl rfl ?_
      have Li : ∀ i, i ≤ 36 → ∀ (M : List va_E) (U : Nat → Nat), md_V (cx_D x) (cx_b x) M R U Ti T P F (lyT T) Rw kp td aa we so lo ro → md_F M0 M → (∀ i, (i < 12 ∨ 48 ≤ i) → U i = T i) → (∀ j, j < i → U (12 + j) = if j % 6 < n + 1 then 0 else 1) → fb_G x M 0 0 50 [some (.ref (cx_b x + 43)), some (.int (nI 1)), some (.int (nI (if n = 0 then 0 else (fsS ltB (linV T 1) n).1 + 1))), some (.int (nI (fsS ltB (linV T 1) n).2)), some (.int (nI (n + 1))), some (.int (nI i))] [] := by
        refine fb_dn 36 ?_ ?_
        · intro M U hV hF hU hW
          have hV := hV.eqnw (fun i _ => drT_in hU hW i)
          refine gx_iload (q := 52) C dX7_line_50 rfl rfl ?_
          refine gx_bipush (q := 54) (v := nI 36) C dX7_line_52 (by decide) rfl ?_
          refine gn_icmp_ge (q := 57) (tgt := 88) C dX7_line_54 (by decide) rfl (by omega) (by omega) (fun c54 => ?_) (fun c54 => by exfalso; omega)
          refine gx_iload_n (q := 89) C dX7_line_88 rfl rfl rfl ?_
          refine gn_if_ne (q := 92) (tgt := 99) C dX7_line_89 (by decide) rfl (by omega) (fun c89 => ?_) (fun c89 => by exfalso; revert c89; decide)
          refine gx_aload_n (q := 100) C dX7_line_99 rfl rfl rfl ?_
          refine gx_iconst (q := 101) (v := nI 0) C dX7_line_100 (by decide) rfl ?_
          refine gx_cp (q := 104) C E (sx_X7_131 (As := [_]) C hV.o rfl rfl dX7_line_101) (md_shareOf _ _ _ _ 0 (by omega) hV hkn) kw_X7_shareOf (by decide) (Nat.le_of_ble_eq_true rfl) (by omega) (by omega) dX7_line_101 rfl ?_
          refine gx_aload_n (q := 105) C dX7_line_104 rfl rfl rfl ?_
          refine gx_iconst (q := 106) (v := nI 1) C dX7_line_105 (by decide) rfl ?_
          refine gx_cp (q := 109) C E (sx_X7_131 (As := [_]) C hV.o rfl rfl dX7_line_106) (md_shareOf _ _ _ _ 1 (by omega) hV hkn) kw_X7_shareOf (by decide) (Nat.le_of_ble_eq_true rfl) (by omega) (by omega) dX7_line_106 rfl ?_
          refine gx_isub (q := 110) C dX7_line_109 rfl rfl ?_
          refine gm_abs (q := 113) (Nat.lt_of_le_of_lt (shLd_le hk _ _) (by decide)) (Nat.lt_of_le_of_lt (shLd_le hk _ _) (by decide)) C E q1337 (by decide) (Nat.le_of_ble_eq_true rfl) (by omega) (by omega) dX7_line_110 rfl ?_
          refine gx_top (show _ = nI (linV T 1 n) from rfl) ?_
          refine gx_istore (q := 115) (lv' := [_, _, _, _, _, _]) C dX7_line_113 (Nat.le_of_ble_eq_true rfl) E.2.2.2.symm rfl rfl rfl ?_
          refine gx_iload (q := 117) C dX7_line_115 rfl rfl ?_
          refine gx_iconst (q := 118) (v := nI 1) C dX7_line_117 (by decide) rfl ?_
          refine gn_icmp_eq (q := 121) (tgt := 127) C dX7_line_118 (by decide) rfl (by omega) (by omega) (fun c118 => ?_) (fun c118 => ?_)
          · rw [fsS_t (Or.inl (by omega))] at ih
            refine gx_iload (q := 129) C dX7_line_127 rfl rfl ?_
            refine gx_goto (tgt := 133) C dX7_line_129 (by decide) ?_
            refine gx_istore_n (q := 134) (lv' := [_, _, _, _, _, _]) C dX7_line_133 rfl (Nat.le_of_ble_eq_true rfl) E.2.2.2.symm rfl rfl rfl ?_
            refine gx_iload_n (q := 135) C dX7_line_134 rfl rfl rfl ?_
            refine gx_iload (q := 137) C dX7_line_135 rfl rfl ?_
            refine gn_icmp_ne (q := 140) (tgt := 145) C dX7_line_137 (by decide) rfl (by omega) (by omega) (fun c137 => by exfalso; omega) (fun c137 => ?_)
            refine gx_iload (q := 142) C dX7_line_140 rfl rfl ?_
            refine gx_goto (tgt := 146) C dX7_line_142 (by decide) ?_
            refine gx_istore_n (q := 147) (lv' := [_, _, _, _, _, _]) C dX7_line_146 rfl (Nat.le_of_ble_eq_true rfl) E.2.2.2.symm rfl rfl rfl ?_
            refine gn_inc (q := 150) (lv' := [_, _, _, _, _, _]) C dX7_line_147 rfl E.2.2.2.symm rfl rfl rfl ?_
            refine gx_goto (tgt := 40) C dX7_line_150 (by decide) ?_
            refine gx_drop 5 ?_
            exact ih M _ hV hF (fun i hi => by unfold drT; rw [if_neg (by omega)])
          · rw [if_neg (show ¬ n = 0 by omega)]
            refine gx_iload (q := 123) C dX7_line_121 rfl rfl ?_
            refine gx_iload_n (q := 124) C dX7_line_123 rfl rfl rfl ?_
            refine gn_icmp_ge (q := 127) (tgt := 132) C dX7_line_124 (by decide) rfl (by omega) (by omega) (fun c124 => ?_) (fun c124 => ?_)
            · rw [fsS_f (ltB_f (by omega) c124)] at ih
              have hlt := fsS_lt (c := ltB) (v := linV T 1) n (by omega)
              refine gx_iload_n (q := 133) C dX7_line_132 rfl rfl rfl ?_
              refine gx_istore_n (q := 134) (lv' := [_, _, _, _, _, _]) C dX7_line_133 rfl (Nat.le_of_ble_eq_true rfl) E.2.2.2.symm rfl rfl rfl ?_
              refine gx_iload_n (q := 135) C dX7_line_134 rfl rfl rfl ?_
              refine gx_iload (q := 137) C dX7_line_135 rfl rfl ?_
              refine gn_icmp_ne (q := 140) (tgt := 145) C dX7_line_137 (by decide) rfl (by omega) (by omega) (fun c137 => ?_) (fun c137 => by exfalso; omega)
              refine gx_iload_n (q := 146) C dX7_line_145 rfl rfl rfl ?_
              refine gx_istore_n (q := 147) (lv' := [_, _, _, _, _, _]) C dX7_line_146 rfl (Nat.le_of_ble_eq_true rfl) E.2.2.2.symm rfl rfl rfl ?_
              refine gn_inc (q := 150) (lv' := [_, _, _, _, _, _]) C dX7_line_147 rfl E.2.2.2.symm rfl rfl rfl ?_
              refine gx_goto (tgt := 40) C dX7_line_150 (by decide) ?_
              refine gx_drop 5 ?_
              exact ih M _ hV hF (fun i hi => by unfold drT; rw [if_neg (by omega)])
            · rw [fsS_t (Or.inr (ltB_t (by omega)))] at ih
              refine gx_iload (q := 129) C dX7_line_127 rfl rfl ?_
              refine gx_goto (tgt := 133) C dX7_line_129 (by decide) ?_
              refine gx_istore_n (q := 134) (lv' := [_, _, _, _, _, _]) C dX7_line_133 rfl (Nat.le_of_ble_eq_true rfl) E.2.2.2.symm rfl rfl rfl ?_
              refine gx_iload_n (q := 135) C dX7_line_134 rfl rfl rfl ?_
              refine gx_iload (q := 137) C dX7_line_135 rfl rfl ?_
              refine gn_icmp_ne (q := 140) (tgt := 145) C dX7_line_137 (by decide) rfl (by omega) (by omega) (fun c137 => by exfalso; omega) (fun c137 => ?_)
              refine gx_iload (q := 142) C dX7_line_140 rfl rfl ?_
              refine gx_goto (tgt := 146) C dX7_line_142 (by decide) ?_
              refine gx_istore_n (q := 147) (lv' := [_, _, _, _, _, _]) C dX7_line_146 rfl (Nat.le_of_ble_eq_true rfl) E.2.2.2.symm rfl rfl rfl ?_
              refine gn_inc (q := 150) (lv' := [_, _, _, _, _, _]) C dX7_line_147 rfl E.2.2.2.symm rfl rfl rfl ?_
              refine gx_goto (tgt := 40) C dX7_line_150 (by decide) ?_
              refine gx_drop 5 ?_
              exact ih M _ hV hF (fun i hi => by unfold drT; rw [if_neg (by omega)])
        · intro i hi ihi M U hV hF hU hW
          refine gx_iload (q := 52) C dX7_line_50 rfl rfl ?_
          refine gx_bipush (q := 54) (v := nI 36) C dX7_line_52 (by decide) rfl ?_
          refine gn_icmp_ge (q := 57) (tgt := 88) C dX7_line_54 (by decide) rfl (by omega) (by omega) (fun c54 => by exfalso; omega) (fun c54 => ?_)
          refine gx_aload_n (q := 58) C dX7_line_57 rfl rfl rfl ?_
          refine fg_X7_13 (q := 61) C hV.o rfl dX7_line_58 rfl ?_
          refine gx_bipush (q := 63) (v := nI 12) C dX7_line_61 (by decide) rfl ?_
          refine gx_iload (q := 65) C dX7_line_63 rfl rfl ?_
          refine gn_iadd (q := 66) C dX7_line_65 rfl ?_
          refine gx_iload (q := 68) C dX7_line_66 rfl rfl ?_
          refine gx_bipush (q := 70) (v := nI 6) C dX7_line_68 (by decide) rfl ?_
          refine gn_irem (q := 71) C dX7_line_70 (by omega) (by omega) (by omega) rfl ?_
          refine gx_iload (q := 73) C dX7_line_71 rfl rfl ?_
          refine gn_icmp_ge (q := 76) (tgt := 80) C dX7_line_73 (by decide) rfl (by omega) (by omega) (fun c73 => ?_) (fun c73 => ?_)
          · refine gx_iconst (q := 81) (v := nI 1) C dX7_line_80 (by decide) rfl ?_
            refine mv_st_now (q := 82) C hV hF (by omega) dX7_line_81 rfl (fun M hV hF => ?_)
            have hW2 : ∀ j, j < i + 1 → updN U (12 + i) 1 (12 + j) = if j % 6 < n + 1 then 0 else 1 := by
              intro j hj
              by_cases e : j = i
              · subst e; rw [updN_s]; first | rw [if_pos (by omega)] | rw [if_neg (by omega)]
              · rw [updN_n _ (by omega)]; exact hW j (by omega)
            refine gn_inc (q := 85) (lv' := [_, _, _, _, _, _]) C dX7_line_82 rfl E.2.2.2.symm rfl rfl rfl ?_
            refine gx_goto (tgt := 50) C dX7_line_85 (by decide) ?_
            exact ihi M _ hV hF (fun i hi => by rw [updN_n _ (by omega)]; exact hU i hi) hW2
          · refine gx_iconst (q := 77) (v := nI 0) C dX7_line_76 (by decide) rfl ?_
            refine gx_goto (tgt := 81) C dX7_line_77 (by decide) ?_
            refine mv_st_now (q := 82) C hV hF (by omega) dX7_line_81 rfl (fun M hV hF => ?_)
            have hW2 : ∀ j, j < i + 1 → updN U (12 + i) 0 (12 + j) = if j % 6 < n + 1 then 0 else 1 := by
              intro j hj
              by_cases e : j = i
              · subst e; rw [updN_s]; first | rw [if_pos (by omega)] | rw [if_neg (by omega)]
              · rw [updN_n _ (by omega)]; exact hW j (by omega)
            refine gn_inc (q := 85) (lv' := [_, _, _, _, _, _]) C dX7_line_82 rfl E.2.2.2.symm rfl rfl rfl ?_
            refine gx_goto (tgt := 50) C dX7_line_85 (by decide) ?_
            exact ihi M _ hV hF (fun i hi => by rw [updN_n _ (by omega)]; exact hU i hi) hW2
      exact Li 0 (by omega) M _ hV hF hU (fun j hj => absurd hj (Nat.not_lt_zero j))
  exact Lc 0 (by omega) M _ hV hF (fun _ _ => rfl)
set_option maxHeartbeats 4000000 in
theorem mp_line_b (l : Launch) (D : va_G) (b : Nat) (M0 : List va_E) {R T Ti P Rw : Nat → Nat} {kp : Bool} {td ro : Nat} (v : Int32) (hb : v < 0 ∨ nI 2 ≤ v) (h : md_P D b M0 R T Ti P Rw kp td ro) (hk : okT T) : fb_CT l D b yX7_line cX7_line 6 (some .int) 4 101 0 0 [.ref (b + 43), .int v] M0 (.returned (some (.int (-2)))) (fun M' => md_P D b M' (updN R 2 (R 2 + 1)) T Ti P Rw kp td ro ∧ md_F M0 M') := by
  refine fb_start [some (.ref (b + 43)), some (.int v), none, none, none, none] (by decide) (Nat.le_of_ble_eq_true rfl) rfl ?_
  intro x hl hD hb C E hx
  subst hl hD hb
  have C : fb_OK x cX7_line "FallsBetweenModel" "line" := C
  obtain ⟨Bf, F, L, aa, we, so, lo, hV⟩ := h
  have hF := md_F.rf M0
  obtain ⟨k0, k1, k2, k3, k4, k5, k6, k7, k8⟩ := id hk
  refine gx_iload_n (q := 1) C dX7_line_0 rfl rfl rfl ?_
  refine gx_if_lt (q := 4) (tgt := 9) C dX7_line_1 (by decide) rfl (fun c1 => ?_) (fun c1 => ?_)
  · refine gx_aload_n (q := 10) C dX7_line_9 rfl rfl rfl ?_
    refine gx_bipush (q := 12) (v := -2) C dX7_line_10 (by decide) rfl ?_
    refine gx_cs (q := 15) C E (sx_X7_49 (As := [_]) C hV.o rfl rfl dX7_line_12) (md_no _ _ _ _ (-2) 2 (by decide) (by decide) hV) kw_X7_no (by decide) (Nat.le_of_ble_eq_true rfl) rfl rfl (by omega) (by omega) dX7_line_12 rfl (fun M r12 => ?_)
    obtain ⟨hV, hG⟩ := r12
    have hF := hF.tr hG
    exact gx_iret C E dX7_line_15 (⟨⟨_, _, _, _, _, _, _, hV⟩, hF⟩) (by omega) (by omega)
  · refine gx_iload_n (q := 5) C dX7_line_4 rfl rfl rfl ?_
    refine gx_iconst (q := 6) (v := nI 1) C dX7_line_5 (by decide) rfl ?_
    refine gx_icmp_le (q := 9) (tgt := 16) C dX7_line_6 (by decide) rfl (fun c6 => by exfalso; exact Int32.not_le.mpr (lt_gt (by decide) (hb.resolve_left c1)) c6) (fun c6 => ?_)
    refine gx_aload_n (q := 10) C dX7_line_9 rfl rfl rfl ?_
    refine gx_bipush (q := 12) (v := -2) C dX7_line_10 (by decide) rfl ?_
    refine gx_cs (q := 15) C E (sx_X7_49 (As := [_]) C hV.o rfl rfl dX7_line_12) (md_no _ _ _ _ (-2) 2 (by decide) (by decide) hV) kw_X7_no (by decide) (Nat.le_of_ble_eq_true rfl) rfl rfl (by omega) (by omega) dX7_line_12 rfl (fun M r12 => ?_)
    obtain ⟨hV, hG⟩ := r12
    have hF := hF.tr hG
    exact gx_iret C E dX7_line_15 (⟨⟨_, _, _, _, _, _, _, hV⟩, hF⟩) (by omega) (by omega)
