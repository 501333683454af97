/-! the reference: winds, nets, from where, fitting, judged, by seeds, set -/
set_option maxRecDepth 100000
theorem lsS_1 {v : Nat → Nat} {n : Nat} (h : n = 0) : lsS v (n + 1) = v n := by subst h; rfl
theorem lsS_2 {v : Nat → Nat} {n : Nat} (h : ¬ n = 0) : lsS v (n + 1) = min (lsS v n) (v n) := by rw [lsS, if_neg h]
set_option maxHeartbeats 4000000 in
theorem mp_winds_b1 (l : Launch) (D : va_G) (b : Nat) (M0 : List va_E) {R T Ti P Rw : Nat → Nat} {kp : Bool} {td ro : Nat} (v : Int32) (hb : v < 0 ∨ nI 4 ≤ v) (w : Int32) (h : md_P D b M0 R T Ti P Rw kp td ro) (hk : okT T) : fb_CT l D b yX7_winds cX7_winds 9 (some .int) 4 101 0 0 [.ref (b + 43), .int v, .int w] M0 (.returned (some (.int (-1)))) (fun M' => md_P D b M' (updN R 1 (R 1 + 1)) T Ti P Rw kp td ro ∧ md_F M0 M') := by
  refine fb_start [some (.ref (b + 43)), some (.int v), some (.int w), none, none, none, none, none, none] (by decide) (Nat.le_of_ble_eq_true rfl) rfl ?_
  intro x hl hD hb C E hx
  subst hl hD hb
  have C : fb_OK x cX7_winds "FallsBetweenModel" "winds" := C
  obtain ⟨Bf, F, L, aa, we, so, lo, hV⟩ := h
  have hF := md_F.rf M0
  obtain ⟨k0, k1, k2, k3, k4, k5, k6, k7, k8⟩ := id hk
  refine gx_iload_n (q := 1) C dX7_winds_0 rfl rfl rfl ?_
  refine gx_iconst (q := 2) (v := nI 4) C dX7_winds_1 (by decide) rfl ?_
  refine gx_cp (q := 5) C E (sx_X7_124 (As := [_, _]) C rfl rfl dX7_winds_2) (md_isNone_t _ _ _ _ v (nI 4) hb) kw_X7_isNone (by decide) (Nat.le_of_ble_eq_true rfl) (by omega) (by omega) dX7_winds_2 rfl ?_
  refine gb_if_eq (q := 8) (tgt := 14) C dX7_winds_5 (by decide) rfl (fun c5 => by exfalso; cases c5) (fun c5 => ?_)
  refine gx_aload_n (q := 9) C dX7_winds_8 rfl rfl rfl ?_
  refine gx_iconst (q := 10) (v := -1) C dX7_winds_9 (by decide) rfl ?_
  refine gx_cs (q := 13) C E (sx_X7_49 (As := [_]) C hV.o rfl rfl dX7_winds_10) (md_no _ _ _ _ (-1) 1 (by decide) (by decide) hV) kw_X7_no (by decide) (Nat.le_of_ble_eq_true rfl) rfl rfl (by omega) (by omega) dX7_winds_10 rfl (fun M r10 => ?_)
  obtain ⟨hV, hG⟩ := r10
  have hF := hF.tr hG
  exact gx_iret C E dX7_winds_13 (⟨⟨_, _, _, _, _, _, _, hV⟩, hF⟩) (by omega) (by omega)
set_option maxHeartbeats 4000000 in
theorem mp_winds_b2 (l : Launch) (D : va_G) (b : Nat) (M0 : List va_E) {R T Ti P Rw : Nat → Nat} {kp : Bool} {td ro : Nat} (g : Nat) (hg : g < 4) (v : Int32) (hb : v < 0 ∨ nI 2 ≤ v) (h : md_P D b M0 R T Ti P Rw kp td ro) (hk : okT T) : fb_CT l D b yX7_winds cX7_winds 9 (some .int) 4 101 0 0 [.ref (b + 43), .int (nI g), .int v] M0 (.returned (some (.int (-2)))) (fun M' => md_P D b M' (updN R 2 (R 2 + 1)) T Ti P Rw kp td ro ∧ md_F M0 M') := by
  refine fb_start [some (.ref (b + 43)), some (.int (nI g)), some (.int v), none, none, none, none, none, none] (by decide) (Nat.le_of_ble_eq_true rfl) rfl ?_
  intro x hl hD hb C E hx
  subst hl hD hb
  have C : fb_OK x cX7_winds "FallsBetweenModel" "winds" := C
  obtain ⟨Bf, F, L, aa, we, so, lo, hV⟩ := h
  have hF := md_F.rf M0
  obtain ⟨k0, k1, k2, k3, k4, k5, k6, k7, k8⟩ := id hk
  refine gx_iload_n (q := 1) C dX7_winds_0 rfl rfl rfl ?_
  refine gx_iconst (q := 2) (v := nI 4) C dX7_winds_1 (by decide) rfl ?_
  refine gx_cp (q := 5) C E (sx_X7_124 (As := [_, _]) C rfl rfl dX7_winds_2) (md_isNone_n _ _ _ _ g 4 hg (by omega)) kw_X7_isNone (by decide) (Nat.le_of_ble_eq_true rfl) (by omega) (by omega) dX7_winds_2 rfl ?_
  refine gb_if_eq (q := 8) (tgt := 14) C dX7_winds_5 (by decide) rfl (fun c5 => ?_) (fun c5 => by exfalso; cases c5)
  refine gx_iload_n (q := 15) C dX7_winds_14 rfl rfl rfl ?_
  refine gx_if_lt (q := 18) (tgt := 23) C dX7_winds_15 (by decide) rfl (fun c15 => ?_) (fun c15 => ?_)
  · refine gx_aload_n (q := 24) C dX7_winds_23 rfl rfl rfl ?_
    refine gx_bipush (q := 26) (v := -2) C dX7_winds_24 (by decide) rfl ?_
    refine gx_cs (q := 29) C E (sx_X7_49 (As := [_]) C hV.o rfl rfl dX7_winds_26) (md_no _ _ _ _ (-2) 2 (by decide) (by decide) hV) kw_X7_no (by decide) (Nat.le_of_ble_eq_true rfl) rfl rfl (by omega) (by omega) dX7_winds_26 rfl (fun M r26 => ?_)
    obtain ⟨hV, hG⟩ := r26
    have hF := hF.tr hG
    exact gx_iret C E dX7_winds_29 (⟨⟨_, _, _, _, _, _, _, hV⟩, hF⟩) (by omega) (by omega)
  · refine gx_iload_n (q := 19) C dX7_winds_18 rfl rfl rfl ?_
    refine gx_iconst (q := 20) (v := nI 1) C dX7_winds_19 (by decide) rfl ?_
    refine gx_icmp_le (q := 23) (tgt := 30) C dX7_winds_20 (by decide) rfl (fun c20 => by exfalso; exact Int32.not_le.mpr (lt_gt (by decide) (hb.resolve_left c15)) c20) (fun c20 => ?_)
    refine gx_aload_n (q := 24) C dX7_winds_23 rfl rfl rfl ?_
    refine gx_bipush (q := 26) (v := -2) C dX7_winds_24 (by decide) rfl ?_
    refine gx_cs (q := 29) C E (sx_X7_49 (As := [_]) C hV.o rfl rfl dX7_winds_26) (md_no _ _ _ _ (-2) 2 (by decide) (by decide) hV) kw_X7_no (by decide) (Nat.le_of_ble_eq_true rfl) rfl rfl (by omega) (by omega) dX7_winds_26 rfl (fun M r26 => ?_)
    obtain ⟨hV, hG⟩ := r26
    have hF := hF.tr hG
    exact gx_iret C E dX7_winds_29 (⟨⟨_, _, _, _, _, _, _, hV⟩, hF⟩) (by omega) (by omega)
set_option maxHeartbeats 4000000 in
theorem mp_winds_0 (l : Launch) (D : va_G) (b : Nat) (M0 : List va_E) {R T Ti P Rw : Nat → Nat} {kp : Bool} {td ro : Nat} (g : Nat) (hg : g < 4) (h : md_P D b M0 R T Ti P Rw kp td ro) (hk : okT T) : fb_CT l D b yX7_winds cX7_winds 9 (some .int) 4 101 0 0 [.ref (b + 43), .int (nI g), .int (nI 0)] M0 (.returned (some (.int (nI (fsS gtB (winV T g) 16).1)))) (fun M' => md_P D b M' R T Ti P Rw kp td ro ∧ md_F M0 M') := by
  refine fb_start [some (.ref (b + 43)), some (.int (nI g)), some (.int (nI 0)), none, none, none, none, none, none] (by decide) (Nat.le_of_ble_eq_true rfl) rfl ?_
  intro x hl hD hb C E hx
  subst hl hD hb
  have C : fb_OK x cX7_winds "FallsBetweenModel" "winds" := C
  obtain ⟨Bf, F, L, aa, we, so, lo, hV⟩ := h
  have hF := md_F.rf M0
  obtain ⟨k0, k1, k2, k3, k4, k5, k6, k7, k8⟩ := id hk
  refine gx_iload_n (q := 1) C dX7_winds_0 rfl rfl rfl ?_
  refine gx_iconst (q := 2) (v := nI 4) C dX7_winds_1 (by decide) rfl ?_
  refine gx_cp (q := 5) C E (sx_X7_124 (As := [_, _]) C rfl rfl dX7_winds_2) (md_isNone_n _ _ _ _ g 4 hg (by omega)) kw_X7_isNone (by decide) (Nat.le_of_ble_eq_true rfl) (by omega) (by omega) dX7_winds_2 rfl ?_
  refine gb_if_eq (q := 8) (tgt := 14) C dX7_winds_5 (by decide) rfl (fun c5 => ?_) (fun c5 => by exfalso; cases c5)
  refine gx_iload_n (q := 15) C dX7_winds_14 rfl rfl rfl ?_
  refine gx_if_lt (q := 18) (tgt := 23) C dX7_winds_15 (by decide) rfl (fun c15 => by exfalso; revert c15; decide) (fun c15 => ?_)
  refine gx_iload_n (q := 19) C dX7_winds_18 rfl rfl rfl ?_
  refine gx_iconst (q := 20) (v := nI 1) C dX7_winds_19 (by decide) rfl ?_
  refine gn_icmp_le (q := 23) (tgt := 30) C dX7_winds_20 (by decide) rfl (by omega) (by omega) (fun c20 => ?_) (fun c20 => by exfalso; revert c20; decide)
  refine gx_aload_n (q := 31) C dX7_winds_30 rfl rfl rfl ?_
  refine fg_X7_13 (q := 34) C hV.o rfl dX7_winds_31 rfl ?_
  refine gx_iconst (q := 35) (v := nI 1) C dX7_winds_34 (by decide) rfl ?_
  refine mv_ld_now (q := 36) C hV (by omega) dX7_winds_35 rfl ?_
  refine gx_istore_n (q := 37) (lv' := [_, _, _, _, _, _, _, _, _]) C dX7_winds_36 rfl (Nat.le_of_ble_eq_true rfl) E.2.2.2.symm rfl rfl rfl ?_
  refine gx_iconst (q := 38) (v := nI 0) C dX7_winds_37 (by decide) rfl ?_
  refine gx_istore (q := 40) (lv' := [_, _, _, _, _, _, _, _, _]) C dX7_winds_38 (Nat.le_of_ble_eq_true rfl) E.2.2.2.symm rfl rfl rfl ?_
  refine gx_iconst (q := 41) (v := nI 0) C dX7_winds_40 (by decide) rfl ?_
  refine gx_istore (q := 43) (lv' := [_, _, _, _, _, _, _, _, _]) C dX7_winds_41 (Nat.le_of_ble_eq_true rfl) E.2.2.2.symm rfl rfl rfl ?_
  refine gx_iconst (q := 44) (v := nI 0) C dX7_winds_43 (by decide) rfl ?_
  refine gx_istore (q := 46) (lv' := [_, _, _, _, _, _, _, _, _]) C dX7_winds_44 (Nat.le_of_ble_eq_true rfl) E.2.2.2.symm rfl rfl rfl ?_
  refine gx_iconst (q := 47) (v := nI 0) C dX7_winds_46 (by decide) rfl ?_
  refine gx_istore (q := 49) (lv' := [_, _, _, _, _, _, _, _, _]) C dX7_winds_47 (Nat.le_of_ble_eq_true rfl) E.2.2.2.symm rfl rfl rfl ?_
  have Lw : ∀ n, n ≤ 16 → ∀ (M : List va_E) (c : Nat) (L : Nat → Nat) (lo : Nat), md_V (cx_D x) (cx_b x) M R (updN T 1 c) Ti Bf P F L Rw kp td aa we so lo ro → md_F M0 M → fb_G x M 0 0 49 [some (.ref (cx_b x + 43)), some (.int (nI g)), some (.int (nI 0)), some (.int (nI (T 1))), some (.int (nI (fsS gtB (winV T g) n).1)), some (.int (nI (fsS gtB (winV T g) n).2)), some (.int (nI (lsS (winV T g) n))), some (.int (nI n)), none] [] := by
    refine fb_dn 16 ?_ ?_
    · intro M c L lo hV hF
      refine gx_iload (q := 51) C dX7_winds_49 rfl rfl ?_
      refine gx_bipush (q := 53) (v := nI 16) C dX7_winds_51 (by decide) rfl ?_
      refine gn_icmp_ge (q := 56) (tgt := 139) C dX7_winds_53 (by decide) rfl (by omega) (by omega) (fun c53 => ?_) (fun c53 => by exfalso; omega)
      refine gx_aload_n (q := 140) C dX7_winds_139 rfl rfl rfl ?_
      refine fg_X7_13 (q := 143) C hV.o rfl dX7_winds_140 rfl ?_
      refine gx_iconst (q := 144) (v := nI 1) C dX7_winds_143 (by decide) rfl ?_
      refine gx_iload_n (q := 145) C dX7_winds_144 rfl rfl rfl ?_
      refine mv_st_now (q := 146) C hV hF (by omega) dX7_winds_145 rfl (fun M hV hF => ?_)
      rw [updN_u, updN_r] at hV
      refine gx_iload_n (q := 147) C dX7_winds_146 rfl rfl rfl ?_
      refine gn_if_ne (q := 150) (tgt := 155) C dX7_winds_147 (by decide) rfl (by omega) (fun c147 => by exfalso; revert c147; decide) (fun c147 => ?_)
      refine gx_iload (q := 152) C dX7_winds_150 rfl rfl ?_
      refine gx_goto (tgt := 157) C dX7_winds_152 (by decide) ?_
      exact gx_iret C E dX7_winds_157 (⟨⟨_, _, _, _, _, _, _, hV⟩, hF⟩) (by omega) (by omega)
    · intro n hn ih M c L lo hV hF
      have hv := winV_le hk g hn
      have hm := fsS_b (c := gtB) (v := winV T g) (m := 129600) n (fun i hi => winV_le hk g (by omega))
      have hl := lsS_b (v := winV T g) (m := 129600) n (fun i hi => winV_le hk g (by omega))
      have hkn : okT (updN T 1 n) := okT_up hk (by omega)
      refine gx_iload (q := 51) C dX7_winds_49 rfl rfl ?_
      refine gx_bipush (q := 53) (v := nI 16) C dX7_winds_51 (by decide) rfl ?_
      refine gn_icmp_ge (q := 56) (tgt := 139) C dX7_winds_53 (by decide) rfl (by omega) (by omega) (fun c53 => by exfalso; omega) (fun c53 => ?_)
      refine gx_aload_n (q := 57) C dX7_winds_56 rfl rfl rfl ?_
      refine fg_X7_13 (q := 60) C hV.o rfl dX7_winds_57 rfl ?_
      refine gx_iconst (q := 61) (v := nI 1) C dX7_winds_60 (by decide) rfl ?_
      refine gx_iload (q := 63) C dX7_winds_61 rfl rfl ?_
      refine mv_st_now (q := 64) C hV hF (by omega) dX7_winds_63 rfl (fun M hV hF => ?_)
      rw [updN_u] at hV
      refine gx_aload_n (q := 65) C dX7_winds_64 rfl rfl rfl ?_
      refine gx_bipush (q := 67) (v := nI 63) C dX7_winds_65 (by decide) rfl ?_
      refine gx_cv (q := 70) C E (sx_X7_127 (As := [_]) C hV.o rfl rfl dX7_winds_67) (md_fall _ _ _ _ 63 (by decide) hV hkn) kw_X7_fall (by decide) (Nat.le_of_ble_eq_true rfl) rfl rfl (by omega) (by omega) dX7_winds_67 rfl (fun M r67 => ?_)
      obtain ⟨hV, hG⟩ := r67
      have hF := hF.tr hG
      rw [mL_63f _ hkn.1] at hV
      refine gx_aload_n (q := 71) C dX7_winds_70 rfl rfl rfl ?_
      refine gx_iload_n (q := 72) C dX7_winds_71 rfl rfl rfl ?_
      refine gx_cp (q := 75) C E (sx_X7_131 (As := [_]) C hV.o rfl rfl dX7_winds_72) (md_shareOf _ _ _ _ g (by omega) hV hkn) kw_X7_shareOf (by decide) (Nat.le_of_ble_eq_true rfl) (by omega) (by omega) dX7_winds_72 rfl ?_
      refine gx_top (show _ = nI (winV T g n) from rfl) ?_
      refine gx_istore (q := 77) (lv' := [_, _, _, _, _, _, _, _, _]) C dX7_winds_75 (Nat.le_of_ble_eq_true rfl) E.2.2.2.symm rfl rfl rfl ?_
      refine gx_iload (q := 79) C dX7_winds_77 rfl rfl ?_
      refine gn_if_eq (q := 82) (tgt := 89) C dX7_winds_79 (by decide) rfl (by omega) (fun c79 => ?_) (fun c79 => ?_)
      · rw [fsS_t (Or.inl c79)] at ih
        refine gx_iload (q := 91) C dX7_winds_89 rfl rfl ?_
        refine gx_goto (tgt := 96) C dX7_winds_91 (by decide) ?_
        refine gx_istore (q := 98) (lv' := [_, _, _, _, _, _, _, _, _]) C dX7_winds_96 (Nat.le_of_ble_eq_true rfl) E.2.2.2.symm rfl rfl rfl ?_
        refine gx_iload (q := 100) C dX7_winds_98 rfl rfl ?_
        refine gx_iload (q := 102) C dX7_winds_100 rfl rfl ?_
        refine gn_icmp_ne (q := 105) (tgt := 110) C dX7_winds_102 (by decide) rfl (by omega) (by omega) (fun c102 => by exfalso; omega) (fun c102 => ?_)
        refine gx_iload (q := 107) C dX7_winds_105 rfl rfl ?_
        refine gx_goto (tgt := 112) C dX7_winds_107 (by decide) ?_
        refine gx_istore (q := 114) (lv' := [_, _, _, _, _, _, _, _, _]) C dX7_winds_112 (Nat.le_of_ble_eq_true rfl) E.2.2.2.symm rfl rfl rfl ?_
        refine gx_iload (q := 116) C dX7_winds_114 rfl rfl ?_
        refine gn_if_ne (q := 119) (tgt := 124) C dX7_winds_116 (by decide) rfl (by omega) (fun c116 => ?_) (fun c116 => ?_)
        · rw [lsS_2 (by omega)] at ih
          refine gx_iload (q := 126) C dX7_winds_124 rfl rfl ?_
          refine gx_iload (q := 128) C dX7_winds_126 rfl rfl ?_
          refine gm_min (q := 131) (by omega) (by omega) C E q1328 (by decide) (Nat.le_of_ble_eq_true rfl) (by omega) (by omega) dX7_winds_128 rfl ?_
          refine gx_istore (q := 133) (lv' := [_, _, _, _, _, _, _, _, _]) C dX7_winds_131 (Nat.le_of_ble_eq_true rfl) E.2.2.2.symm rfl rfl rfl ?_
          refine gn_inc (q := 136) (lv' := [_, _, _, _, _, _, _, _, _]) C dX7_winds_133 rfl E.2.2.2.symm rfl rfl rfl ?_
          refine gx_goto (tgt := 49) C dX7_winds_136 (by decide) ?_
          refine gx_drop 8 ?_
          exact ih M n _ _ hV hF
        · rw [lsS_1 (by omega)] at ih
          refine gx_iload (q := 121) C dX7_winds_119 rfl rfl ?_
          refine gx_goto (tgt := 131) C dX7_winds_121 (by decide) ?_
          refine gx_istore (q := 133) (lv' := [_, _, _, _, _, _, _, _, _]) C dX7_winds_131 (Nat.le_of_ble_eq_true rfl) E.2.2.2.symm rfl rfl rfl ?_
          refine gn_inc (q := 136) (lv' := [_, _, _, _, _, _, _, _, _]) C dX7_winds_133 rfl E.2.2.2.symm rfl rfl rfl ?_
          refine gx_goto (tgt := 49) C dX7_winds_136 (by decide) ?_
          refine gx_drop 8 ?_
          exact ih M n _ _ hV hF
      · refine gx_iload (q := 84) C dX7_winds_82 rfl rfl ?_
        refine gx_iload (q := 86) C dX7_winds_84 rfl rfl ?_
        refine gn_icmp_le (q := 89) (tgt := 94) C dX7_winds_86 (by decide) rfl (by omega) (by omega) (fun c86 => ?_) (fun c86 => ?_)
        · rw [fsS_f (gtB_f (by omega) c86)] at ih
          have hlt := fsS_lt (c := gtB) (v := winV T g) n (by omega)
          refine gx_iload (q := 96) C dX7_winds_94 rfl rfl ?_
          refine gx_istore (q := 98) (lv' := [_, _, _, _, _, _, _, _, _]) C dX7_winds_96 (Nat.le_of_ble_eq_true rfl) E.2.2.2.symm rfl rfl rfl ?_
          refine gx_iload (q := 100) C dX7_winds_98 rfl rfl ?_
          refine gx_iload (q := 102) C dX7_winds_100 rfl rfl ?_
          refine gn_icmp_ne (q := 105) (tgt := 110) C dX7_winds_102 (by decide) rfl (by omega) (by omega) (fun c102 => ?_) (fun c102 => by exfalso; omega)
          refine gx_iload (q := 112) C dX7_winds_110 rfl rfl ?_
          refine gx_istore (q := 114) (lv' := [_, _, _, _, _, _, _, _, _]) C dX7_winds_112 (Nat.le_of_ble_eq_true rfl) E.2.2.2.symm rfl rfl rfl ?_
          refine gx_iload (q := 116) C dX7_winds_114 rfl rfl ?_
          refine gn_if_ne (q := 119) (tgt := 124) C dX7_winds_116 (by decide) rfl (by omega) (fun c116 => ?_) (fun c116 => ?_)
          · rw [lsS_2 (by omega)] at ih
            refine gx_iload (q := 126) C dX7_winds_124 rfl rfl ?_
            refine gx_iload (q := 128) C dX7_winds_126 rfl rfl ?_
            refine gm_min (q := 131) (by omega) (by omega) C E q1328 (by decide) (Nat.le_of_ble_eq_true rfl) (by omega) (by omega) dX7_winds_128 rfl ?_
            refine gx_istore (q := 133) (lv' := [_, _, _, _, _, _, _, _, _]) C dX7_winds_131 (Nat.le_of_ble_eq_true rfl) E.2.2.2.symm rfl rfl rfl ?_
            refine gn_inc (q := 136) (lv' := [_, _, _, _, _, _, _, _, _]) C dX7_winds_133 rfl E.2.2.2.symm rfl rfl rfl ?_
            refine gx_goto (tgt := 49) C dX7_winds_136 (by decide) ?_
            refine gx_drop 8 ?_
            exact ih M n _ _ hV hF
          · rw [lsS_1 (by omega)] at ih
            refine gx_iload (q := 121) C dX7_winds_119 rfl rfl ?_
            refine gx_goto (tgt := 131) C dX7_winds_121 (by decide) ?_
            refine gx_istore (q := 133) (lv' := [_, _, _, _, _, _, _, _, _]) C dX7_winds_131 (Nat.le_of_ble_eq_true rfl) E.2.2.2.symm rfl rfl rfl ?_
            refine gn_inc (q := 136) (lv' := [_, _, _, _, _, _, _, _, _]) C dX7_winds_133 rfl E.2.2.2.symm rfl rfl rfl ?_
            refine gx_goto (tgt := 49) C dX7_winds_136 (by decide) ?_
            refine gx_drop 8 ?_
            exact ih M n _ _ hV hF
        · rw [fsS_t (Or.inr (gtB_t (by omega)))] at ih
          refine gx_iload (q := 91) C dX7_winds_89 rfl rfl ?_
          refine gx_goto (tgt := 96) C dX7_winds_91 (by decide) ?_
          refine gx_istore (q := 98) (lv' := [_, _, _, _, _, _, _, _, _]) C dX7_winds_96 (Nat.le_of_ble_eq_true rfl) E.2.2.2.symm rfl rfl rfl ?_
          refine gx_iload (q := 100) C dX7_winds_98 rfl rfl ?_
          refine gx_iload (q := 102) C dX7_winds_100 rfl rfl ?_
          refine gn_icmp_ne (q := 105) (tgt := 110) C dX7_winds_102 (by decide) rfl (by omega) (by omega) (fun c102 => by exfalso; omega) (fun c102 => ?_)
          refine gx_iload (q := 107) C dX7_winds_105 rfl rfl ?_
          refine gx_goto (tgt := 112) C dX7_winds_107 (by decide) ?_
          refine gx_istore (q := 114) (lv' := [_, _, _, _, _, _, _, _, _]) C dX7_winds_112 (Nat.le_of_ble_eq_true rfl) E.2.2.2.symm rfl rfl rfl ?_
          refine gx_iload (q := 116) C dX7_winds_114 rfl rfl ?_
          refine gn_if_ne (q := 119) (tgt := 124) C dX7_winds_116 (by decide) rfl (by omega) (fun c116 => ?_) (fun c116 => ?_)
          · rw [lsS_2 (by omega)] at ih
            refine gx_iload (q := 126) C dX7_winds_124 rfl rfl ?_
            refine gx_iload (q := 128) C dX7_winds_126 rfl rfl ?_
            refine gm_min (q := 131) (by omega) (by omega) C E q1328 (by decide) (Nat.le_of_ble_eq_true rfl) (by omega) (by omega) dX7_winds_128 rfl ?_
            refine gx_istore (q := 133) (lv' := [_, _, _, _, _, _, _, _, _]) C dX7_winds_131 (Nat.le_of_ble_eq_true rfl) E.2.2.2.symm rfl rfl rfl ?_
            refine gn_inc (q := 136) (lv' := [_, _, _, _, _, _, _, _, _]) C dX7_winds_133 rfl E.2.2.2.symm rfl rfl rfl ?_
            refine gx_goto (tgt := 49) C dX7_winds_136 (by decide) ?_
            refine gx_drop 8 ?_
            exact ih M n _ _ hV hF
          · rw [lsS_1 (by omega)] at ih
            refine gx_iload (q := 121) C dX7_winds_119 rfl rfl ?_
            refine gx_goto (tgt := 131) C dX7_winds_121 (by decide) ?_
            refine gx_istore (q := 133) (lv' := [_, _, _, _, _, _, _, _, _]) C dX7_winds_131 (Nat.le_of_ble_eq_true rfl) E.2.2.2.symm rfl rfl rfl ?_
            refine gn_inc (q := 136) (lv' := [_, _, _, _, _, _, _, _, _]) C dX7_winds_133 rfl E.2.2.2.symm rfl rfl rfl ?_
            refine gx_goto (tgt := 49) C dX7_winds_136 (by decide) ?_
            refine gx_drop 8 ?_
            exact ih M n _ _ hV hF
  exact Lw 0 (by omega) M0 (T 1) _ _ (by rw [updN_r]; exact hV) hF
set_option maxHeartbeats 4000000 in
theorem mp_winds_1 (l : Launch) (D : va_G) (b : Nat) (M0 : List va_E) {R T Ti P Rw : Nat → Nat} {kp : Bool} {td ro : Nat} (g : Nat) (hg : g < 4) (h : md_P D b M0 R T Ti P Rw kp td ro) (hk : okT T) : fb_CT l D b yX7_winds cX7_winds 9 (some .int) 4 101 0 0 [.ref (b + 43), .int (nI g), .int (nI 1)] M0 (.returned (some (.int (nI (lsS (winV T g) 16))))) (fun M' => md_P D b M' R T Ti P Rw kp td ro ∧ md_F M0 M') := by
  refine fb_start [some (.ref (b + 43)), some (.int (nI g)), some (.int (nI 1)), none, none, none, none, none, none] (by decide) (Nat.le_of_ble_eq_true rfl) rfl ?_
  intro x hl hD hb C E hx
  subst hl hD hb
  have C : fb_OK x cX7_winds "FallsBetweenModel" "winds" := C
  obtain ⟨Bf, F, L, aa, we, so, lo, hV⟩ := h
  have hF := md_F.rf M0
  obtain ⟨k0, k1, k2, k3, k4, k5, k6, k7, k8⟩ := id hk
  refine gx_iload_n (q := 1) C dX7_winds_0 rfl rfl rfl ?_
  refine gx_iconst (q := 2) (v := nI 4) C dX7_winds_1 (by decide) rfl ?_
  refine gx_cp (q := 5) C E (sx_X7_124 (As := [_, _]) C rfl rfl dX7_winds_2) (md_isNone_n _ _ _ _ g 4 hg (by omega)) kw_X7_isNone (by decide) (Nat.le_of_ble_eq_true rfl) (by omega) (by omega) dX7_winds_2 rfl ?_
  refine gb_if_eq (q := 8) (tgt := 14) C dX7_winds_5 (by decide) rfl (fun c5 => ?_) (fun c5 => by exfalso; cases c5)
  refine gx_iload_n (q := 15) C dX7_winds_14 rfl rfl rfl ?_
  refine gx_if_lt (q := 18) (tgt := 23) C dX7_winds_15 (by decide) rfl (fun c15 => by exfalso; revert c15; decide) (fun c15 => ?_)
  refine gx_iload_n (q := 19) C dX7_winds_18 rfl rfl rfl ?_
  refine gx_iconst (q := 20) (v := nI 1) C dX7_winds_19 (by decide) rfl ?_
  refine gn_icmp_le (q := 23) (tgt := 30) C dX7_winds_20 (by decide) rfl (by omega) (by omega) (fun c20 => ?_) (fun c20 => by exfalso; revert c20; decide)
  refine gx_aload_n (q := 31) C dX7_winds_30 rfl rfl rfl ?_
  refine fg_X7_13 (q := 34) C hV.o rfl dX7_winds_31 rfl ?_
  refine gx_iconst (q := 35) (v := nI 1) C dX7_winds_34 (by decide) rfl ?_
  refine mv_ld_now (q := 36) C hV (by omega) dX7_winds_35 rfl ?_
  refine gx_istore_n (q := 37) (lv' := [_, _, _, _, _, _, _, _, _]) C dX7_winds_36 rfl (Nat.le_of_ble_eq_true rfl) E.2.2.2.symm rfl rfl rfl ?_
  refine gx_iconst (q := 38) (v := nI 0) C dX7_winds_37 (by decide) rfl ?_
  refine gx_istore (q := 40) (lv' := [_, _, _, _, _, _, _, _, _]) C dX7_winds_38 (Nat.le_of_ble_eq_true rfl) E.2.2.2.symm rfl rfl rfl ?_
  refine gx_iconst (q := 41) (v := nI 0) C dX7_winds_40 (by decide) rfl ?_
  refine gx_istore (q := 43) (lv' := [_, _, _, _, _, _, _, _, _]) C dX7_winds_41 (Nat.le_of_ble_eq_true rfl) E.2.2.2.symm rfl rfl rfl ?_
  refine gx_iconst (q := 44) (v := nI 0) C dX7_winds_43 (by decide) rfl ?_
  refine gx_istore (q := 46) (lv' := [_, _, _, _, _, _, _, _, _]) C dX7_winds_44 (Nat.le_of_ble_eq_true rfl) E.2.2.2.symm rfl rfl rfl ?_
  refine gx_iconst (q := 47) (v := nI 0) C dX7_winds_46 (by decide) rfl ?_
  refine gx_istore (q := 49) (lv' := [_, _, _, _, _, _, _, _, _]) C dX7_winds_47 (Nat.le_of_ble_eq_true rfl) E.2.2.2.symm rfl rfl rfl ?_
  have Lw : ∀ n, n ≤ 16 → ∀ (M : List va_E) (c : Nat) (L : Nat → Nat) (lo : Nat), md_V (cx_D x) (cx_b x) M R (updN T 1 c) Ti Bf P F L Rw kp td aa we so lo ro → md_F M0 M → fb_G x M 0 0 49 [some (.ref (cx_b x + 43)), some (.int (nI g)), some (.int (nI 1)), some (.int (nI (T 1))), some (.int (nI (fsS gtB (winV T g) n).1)), some (.int (nI (fsS gtB (winV T g) n).2)), some (.int (nI (lsS (winV T g) n))), some (.int (nI n)), none] [] := by
    refine fb_dn 16 ?_ ?_
    · intro M c L lo hV hF
      refine gx_iload (q := 51) C dX7_winds_49 rfl rfl ?_
      refine gx_bipush (q := 53) (v := nI 16) C dX7_winds_51 (by decide) rfl ?_
      refine gn_icmp_ge (q := 56) (tgt := 139) C dX7_winds_53 (by decide) rfl (by omega) (by omega) (fun c53 => ?_) (fun c53 => by exfalso; omega)
      refine gx_aload_n (q := 140) C dX7_winds_139 rfl rfl rfl ?_
      refine fg_X7_13 (q := 143) C hV.o rfl dX7_winds_140 rfl ?_
      refine gx_iconst (q := 144) (v := nI 1) C dX7_winds_143 (by decide) rfl ?_
      refine gx_iload_n (q := 145) C dX7_winds_144 rfl rfl rfl ?_
      refine mv_st_now (q := 146) C hV hF (by omega) dX7_winds_145 rfl (fun M hV hF => ?_)
      rw [updN_u, updN_r] at hV
      refine gx_iload_n (q := 147) C dX7_winds_146 rfl rfl rfl ?_
      refine gn_if_ne (q := 150) (tgt := 155) C dX7_winds_147 (by decide) rfl (by omega) (fun c147 => ?_) (fun c147 => by exfalso; revert c147; decide)
      refine gx_iload (q := 157) C dX7_winds_155 rfl rfl ?_
      exact gx_iret C E dX7_winds_157 (⟨⟨_, _, _, _, _, _, _, hV⟩, hF⟩) (by omega) (by omega)
    · intro n hn ih M c L lo hV hF
      have hv := winV_le hk g hn
      have hm := fsS_b (c := gtB) (v := winV T g) (m := 129600) n (fun i hi => winV_le hk g (by omega))
      have hl := lsS_b (v := winV T g) (m := 129600) n (fun i hi => winV_le hk g (by omega))
      have hkn : okT (updN T 1 n) := okT_up hk (by omega)
      refine gx_iload (q := 51) C dX7_winds_49 rfl rfl ?_
      refine gx_bipush (q := 53) (v := nI 16) C dX7_winds_51 (by decide) rfl ?_
      refine gn_icmp_ge (q := 56) (tgt := 139) C dX7_winds_53 (by decide) rfl (by omega) (by omega) (fun c53 => by exfalso; omega) (fun c53 => ?_)
      refine gx_aload_n (q := 57) C dX7_winds_56 rfl rfl rfl ?_
      refine fg_X7_13 (q := 60) C hV.o rfl dX7_winds_57 rfl ?_
      refine gx_iconst (q := 61) (v := nI 1) C dX7_winds_60 (by decide) rfl ?_
      refine gx_iload (q := 63) C dX7_winds_61 rfl rfl ?_
      refine mv_st_now (q := 64) C hV hF (by omega) dX7_winds_63 rfl (fun M hV hF => ?_)
      rw [updN_u] at hV
      refine gx_aload_n (q := 65) C dX7_winds_64 rfl rfl rfl ?_
      refine gx_bipush (q := 67) (v := nI 63) C dX7_winds_65 (by decide) rfl ?_
      refine gx_cv (q := 70) C E (sx_X7_127 (As := [_]) C hV.o rfl rfl dX7_winds_67) (md_fall _ _ _ _ 63 (by decide) hV hkn) kw_X7_fall (by decide) (Nat.le_of_ble_eq_true rfl) rfl rfl (by omega) (by omega) dX7_winds_67 rfl (fun M r67 => ?_)
      obtain ⟨hV, hG⟩ := r67
      have hF := hF.tr hG
      rw [mL_63f _ hkn.1] at hV
      refine gx_aload_n (q := 71) C dX7_winds_70 rfl rfl rfl ?_
      refine gx_iload_n (q := 72) C dX7_winds_71 rfl rfl rfl ?_
      refine gx_cp (q := 75) C E (sx_X7_131 (As := [_]) C hV.o rfl rfl dX7_winds_72) (md_shareOf _ _ _ _ g (by omega) hV hkn) kw_X7_shareOf (by decide) (Nat.le_of_ble_eq_true rfl) (by omega) (by omega) dX7_winds_72 rfl ?_
      refine gx_top (show _ = nI (winV T g n) from rfl) ?_
      refine gx_istore (q := 77) (lv' := [_, _, _, _, _, _, _, _, _]) C dX7_winds_75 (Nat.le_of_ble_eq_true rfl) E.2.2.2.symm rfl rfl rfl ?_
      refine gx_iload (q := 79) C dX7_winds_77 rfl rfl ?_
      refine gn_if_eq (q := 82) (tgt := 89) C dX7_winds_79 (by decide) rfl (by omega) (fun c79 => ?_) (fun c79 => ?_)
      · rw [fsS_t (Or.inl c79)] at ih
        refine gx_iload (q := 91) C dX7_winds_89 rfl rfl ?_
        refine gx_goto (tgt := 96) C dX7_winds_91 (by decide) ?_
        refine gx_istore (q := 98) (lv' := [_, _, _, _, _, _, _, _, _]) C dX7_winds_96 (Nat.le_of_ble_eq_true rfl) E.2.2.2.symm rfl rfl rfl ?_
        refine gx_iload (q := 100) C dX7_winds_98 rfl rfl ?_
        refine gx_iload (q := 102) C dX7_winds_100 rfl rfl ?_
        refine gn_icmp_ne (q := 105) (tgt := 110) C dX7_winds_102 (by decide) rfl (by omega) (by omega) (fun c102 => by exfalso; omega) (fun c102 => ?_)
        refine gx_iload (q := 107) C dX7_winds_105 rfl rfl ?_
        refine gx_goto (tgt := 112) C dX7_winds_107 (by decide) ?_
        refine gx_istore (q := 114) (lv' := [_, _, _, _, _, _, _, _, _]) C dX7_winds_112 (Nat.le_of_ble_eq_true rfl) E.2.2.2.symm rfl rfl rfl ?_
        refine gx_iload (q := 116) C dX7_winds_114 rfl rfl ?_
        refine gn_if_ne (q := 119) (tgt := 124) C dX7_winds_116 (by decide) rfl (by omega) (fun c116 => ?_) (fun c116 => ?_)
        · rw [lsS_2 (by omega)] at ih
          refine gx_iload (q := 126) C dX7_winds_124 rfl rfl ?_
          refine gx_iload (q := 128) C dX7_winds_126 rfl rfl ?_
          refine gm_min (q := 131) (by omega) (by omega) C E q1328 (by decide) (Nat.le_of_ble_eq_true rfl) (by omega) (by omega) dX7_winds_128 rfl ?_
          refine gx_istore (q := 133) (lv' := [_, _, _, _, _, _, _, _, _]) C dX7_winds_131 (Nat.le_of_ble_eq_true rfl) E.2.2.2.symm rfl rfl rfl ?_
          refine gn_inc (q := 136) (lv' := [_, _, _, _, _, _, _, _, _]) C dX7_winds_133 rfl E.2.2.2.symm rfl rfl rfl ?_
          refine gx_goto (tgt := 49) C dX7_winds_136 (by decide) ?_
          refine gx_drop 8 ?_
          exact ih M n _ _ hV hF
        · rw [lsS_1 (by omega)] at ih
          refine gx_iload (q := 121) C dX7_winds_119 rfl rfl ?_
          refine gx_goto (tgt := 131) C dX7_winds_121 (by decide) ?_
          refine gx_istore (q := 133) (lv' := [_, _, _, _, _, _, _, _, _]) C dX7_winds_131 (Nat.le_of_ble_eq_true rfl) E.2.2.2.symm rfl rfl rfl ?_
          refine gn_inc (q := 136) (lv' := [_, _, _, _, _, _, _, _, _]) C dX7_winds_133 rfl E.2.2.2.symm rfl rfl rfl ?_
          refine gx_goto (tgt := 49) C dX7_winds_136 (by decide) ?_
          refine gx_drop 8 ?_
          exact ih M n _ _ hV hF
      · refine gx_iload (q := 84) C dX7_winds_82 rfl rfl ?_
        refine gx_iload (q := 86) C dX7_winds_84 rfl rfl ?_
        refine gn_icmp_le (q := 89) (tgt := 94) C dX7_winds_86 (by decide) rfl (by omega) (by omega) (fun c86 => ?_) (fun c86 => ?_)
        · rw [fsS_f (gtB_f (by omega) c86)] at ih
          have hlt := fsS_lt (c := gtB) (v := winV T g) n (by omega)
          refine gx_iload (q := 96) C dX7_winds_94 rfl rfl ?_
          refine gx_istore (q := 98) (lv' := [_, _, _, _, _, _, _, _, _]) C dX7_winds_96 (Nat.le_of_ble_eq_true rfl) E.2.2.2.symm rfl rfl rfl ?_
          refine gx_iload (q := 100) C dX7_winds_98 rfl rfl ?_
          refine gx_iload (q := 102) C dX7_winds_100 rfl rfl ?_
          refine gn_icmp_ne (q := 105) (tgt := 110) C dX7_winds_102 (by decide) rfl (by omega) (by omega) (fun c102 => ?_) (fun c102 => by exfalso; omega)
          refine gx_iload (q := 112) C dX7_winds_110 rfl rfl ?_
          refine gx_istore (q := 114) (lv' := [_, _, _, _, _, _, _, _, _]) C dX7_winds_112 (Nat.le_of_ble_eq_true rfl) E.2.2.2.symm rfl rfl rfl ?_
          refine gx_iload (q := 116) C dX7_winds_114 rfl rfl ?_
          refine gn_if_ne (q := 119) (tgt := 124) C dX7_winds_116 (by decide) rfl (by omega) (fun c116 => ?_) (fun c116 => ?_)
          · rw [lsS_2 (by omega)] at ih
            refine gx_iload (q := 126) C dX7_winds_124 rfl rfl ?_
            refine gx_iload (q := 128) C dX7_winds_126 rfl rfl ?_
            refine gm_min (q := 131) (by omega) (by omega) C E q1328 (by decide) (Nat.le_of_ble_eq_true rfl) (by omega) (by omega) dX7_winds_128 rfl ?_
            refine gx_istore (q := 133) (lv' := [_, _, _, _, _, _, _, _, _]) C dX7_winds_131 (Nat.le_of_ble_eq_true rfl) E.2.2.2.symm rfl rfl rfl ?_
            refine gn_inc (q := 136) (lv' := [_, _, _, _, _, _, _, _, _]) C dX7_winds_133 rfl E.2.2.2.symm rfl rfl rfl ?_
            refine gx_goto (tgt := 49) C dX7_winds_136 (by decide) ?_
            refine gx_drop 8 ?_
            exact ih M n _ _ hV hF
          · rw [lsS_1 (by omega)] at ih
            refine gx_iload (q := 121) C dX7_winds_119 rfl rfl ?_
            refine gx_goto (tgt := 131) C dX7_winds_121 (by decide) ?_
            refine gx_istore (q := 133) (lv' := [_, _, _, _, _, _, _, _, _]) C dX7_winds_131 (Nat.le_of_ble_eq_true rfl) E.2.2.2.symm rfl rfl rfl ?_
            refine gn_inc (q := 136) (lv' := [_, _, _, _, _, _, _, _, _]) C dX7_winds_133 rfl E.2.2.2.symm rfl rfl rfl ?_
            refine gx_goto (tgt := 49) C dX7_winds_136 (by decide) ?_
            refine gx_drop 8 ?_
            exact ih M n _ _ hV hF
        · rw [fsS_t (Or.inr (gtB_t (by omega)))] at ih
          refine gx_iload (q := 91) C dX7_winds_89 rfl rfl ?_
          refine gx_goto (tgt := 96) C dX7_winds_91 (by decide) ?_
          refine gx_istore (q := 98) (lv' := [_, _, _, _, _, _, _, _, _]) C dX7_winds_96 (Nat.le_of_ble_eq_true rfl) E.2.2.2.symm rfl rfl rfl ?_
          refine gx_iload (q := 100) C dX7_winds_98 rfl rfl ?_
          refine gx_iload (q := 102) C dX7_winds_100 rfl rfl ?_
          refine gn_icmp_ne (q := 105) (tgt := 110) C dX7_winds_102 (by decide) rfl (by omega) (by omega) (fun c102 => by exfalso; omega) (fun c102 => ?_)
          refine gx_iload (q := 107) C dX7_winds_105 rfl rfl ?_
          refine gx_goto (tgt := 112) C dX7_winds_107 (by decide) ?_
          refine gx_istore (q := 114) (lv' := [_, _, _, _, _, _, _, _, _]) C dX7_winds_112 (Nat.le_of_ble_eq_true rfl) E.2.2.2.symm rfl rfl rfl ?_
          refine gx_iload (q := 116) C dX7_winds_114 rfl rfl ?_
          refine gn_if_ne (q := 119) (tgt := 124) C dX7_winds_116 (by decide) rfl (by omega) (fun c116 => ?_) (fun c116 => ?_)
          · rw [lsS_2 (by omega)] at ih
            refine gx_iload (q := 126) C dX7_winds_124 rfl rfl ?_
            refine gx_iload (q := 128) C dX7_winds_126 rfl rfl ?_
            refine gm_min (q := 131) (by omega) (by omega) C E q1328 (by decide) (Nat.le_of_ble_eq_true rfl) (by omega) (by omega) dX7_winds_128 rfl ?_
            refine gx_istore (q := 133) (lv' := [_, _, _, _, _, _, _, _, _]) C dX7_winds_131 (Nat.le_of_ble_eq_true rfl) E.2.2.2.symm rfl rfl rfl ?_
            refine gn_inc (q := 136) (lv' := [_, _, _, _, _, _, _, _, _]) C dX7_winds_133 rfl E.2.2.2.symm rfl rfl rfl ?_
            refine gx_goto (tgt := 49) C dX7_winds_136 (by decide) ?_
            refine gx_drop 8 ?_
            exact ih M n _ _ hV hF
          · rw [lsS_1 (by omega)] at ih
            refine gx_iload (q := 121) C dX7_winds_119 rfl rfl ?_
            refine gx_goto (tgt := 131) C dX7_winds_121 (by decide) ?_
            refine gx_istore (q := 133) (lv' := [_, _, _, _, _, _, _, _, _]) C dX7_winds_131 (Nat.le_of_ble_eq_true rfl) E.2.2.2.symm rfl rfl rfl ?_
            refine gn_inc (q := 136) (lv' := [_, _, _, _, _, _, _, _, _]) C dX7_winds_133 rfl E.2.2.2.symm rfl rfl rfl ?_
            refine gx_goto (tgt := 49) C dX7_winds_136 (by decide) ?_
            refine gx_drop 8 ?_
            exact ih M n _ _ hV hF
  exact Lw 0 (by omega) M0 (T 1) _ _ (by rw [updN_r]; exact hV) hF
set_option maxHeartbeats 4000000 in
theorem mp_netted_b (l : Launch) (D : va_G) (b : Nat) (M0 : List va_E) {R T Ti P Rw : Nat → Nat} {kp : Bool} {td ro : Nat} (v : Int32) (hb : v < 0 ∨ nI 4 ≤ v) (h : md_P D b M0 R T Ti P Rw kp td ro) (hk : okT T) : fb_CT l D b yX7_netted cX7_netted 6 (some .int) 4 101 0 0 [.ref (b + 43), .int v] M0 (.returned (some (.int (-1)))) (fun M' => md_P D b M' (updN R 1 (R 1 + 1)) T Ti P Rw kp td ro ∧ md_F M0 M') := by
  refine fb_start [some (.ref (b + 43)), some (.int v), none, none, none, none] (by decide) (Nat.le_of_ble_eq_true rfl) rfl ?_
  intro x hl hD hb C E hx
  subst hl hD hb
  have C : fb_OK x cX7_netted "FallsBetweenModel" "netted" := C
  obtain ⟨Bf, F, L, aa, we, so, lo, hV⟩ := h
  have hF := md_F.rf M0
  obtain ⟨k0, k1, k2, k3, k4, k5, k6, k7, k8⟩ := id hk
  refine gx_iload_n (q := 1) C dX7_netted_0 rfl rfl rfl ?_
  refine gx_iconst (q := 2) (v := nI 4) C dX7_netted_1 (by decide) rfl ?_
  refine gx_cp (q := 5) C E (sx_X7_124 (As := [_, _]) C rfl rfl dX7_netted_2) (md_isNone_t _ _ _ _ v (nI 4) hb) kw_X7_isNone (by decide) (Nat.le_of_ble_eq_true rfl) (by omega) (by omega) dX7_netted_2 rfl ?_
  refine gb_if_eq (q := 8) (tgt := 14) C dX7_netted_5 (by decide) rfl (fun c5 => by exfalso; cases c5) (fun c5 => ?_)
  refine gx_aload_n (q := 9) C dX7_netted_8 rfl rfl rfl ?_
  refine gx_iconst (q := 10) (v := -1) C dX7_netted_9 (by decide) rfl ?_
  refine gx_cs (q := 13) C E (sx_X7_49 (As := [_]) C hV.o rfl rfl dX7_netted_10) (md_no _ _ _ _ (-1) 1 (by decide) (by decide) hV) kw_X7_no (by decide) (Nat.le_of_ble_eq_true rfl) rfl rfl (by omega) (by omega) dX7_netted_10 rfl (fun M r10 => ?_)
  obtain ⟨hV, hG⟩ := r10
  have hF := hF.tr hG
  exact gx_iret C E dX7_netted_13 (⟨⟨_, _, _, _, _, _, _, hV⟩, hF⟩) (by omega) (by omega)
set_option maxHeartbeats 4000000 in
theorem mp_netted_o (l : Launch) (D : va_G) (b : Nat) (M0 : List va_E) {R T Ti P Rw : Nat → Nat} {kp : Bool} {td ro : Nat} (g : Nat) (hg : g < 4) (h : md_P D b M0 R T Ti P Rw kp td ro) (hk : okT T) : fb_CT l D b yX7_netted cX7_netted 6 (some .int) 4 101 0 0 [.ref (b + 43), .int (nI g)] M0 (.returned (some (.int (sq_ (mxS (netV T g) 36).1)))) (fun M' => md_P D b M' R T Ti P Rw kp td ro ∧ md_F M0 M') := by
  refine fb_start [some (.ref (b + 43)), some (.int (nI g)), none, none, none, none] (by decide) (Nat.le_of_ble_eq_true rfl) rfl ?_
  intro x hl hD hb C E hx
  subst hl hD hb
  have C : fb_OK x cX7_netted "FallsBetweenModel" "netted" := C
  obtain ⟨Bf, F, L, aa, we, so, lo, hV⟩ := h
  have hF := md_F.rf M0
  obtain ⟨k0, k1, k2, k3, k4, k5, k6, k7, k8⟩ := id hk
  refine gx_iload_n (q := 1) C dX7_netted_0 rfl rfl rfl ?_
  refine gx_iconst (q := 2) (v := nI 4) C dX7_netted_1 (by decide) rfl ?_
  refine gx_cp (q := 5) C E (sx_X7_124 (As := [_, _]) C rfl rfl dX7_netted_2) (md_isNone_n _ _ _ _ g 4 hg (by omega)) kw_X7_isNone (by decide) (Nat.le_of_ble_eq_true rfl) (by omega) (by omega) dX7_netted_2 rfl ?_
  refine gb_if_eq (q := 8) (tgt := 14) C dX7_netted_5 (by decide) rfl (fun c5 => ?_) (fun c5 => by exfalso; cases c5)
  refine gx_aload_n (q := 15) C dX7_netted_14 rfl rfl rfl ?_
  refine gx_bipush (q := 17) (v := nI 63) C dX7_netted_15 (by decide) rfl ?_
  refine gx_cv (q := 20) C E (sx_X7_127 (As := [_]) C hV.o rfl rfl dX7_netted_17) (md_fall _ _ _ _ 63 (by decide) hV hk) kw_X7_fall (by decide) (Nat.le_of_ble_eq_true rfl) rfl rfl (by omega) (by omega) dX7_netted_17 rfl (fun M r17 => ?_)
  obtain ⟨hV, hG⟩ := r17
  have hF := hF.tr hG
  rw [mL_63f _ hk.1] at hV
  generalize mO T 63 (T 0) 0 = lo at hV
  refine gx_bipush (q := 22) (v := sq_ none) C dX7_netted_20 (rfl) rfl ?_
  refine gx_istore_n (q := 23) (lv' := [_, _, _, _, _, _]) C dX7_netted_22 rfl (Nat.le_of_ble_eq_true rfl) E.2.2.2.symm rfl rfl rfl ?_
  refine gx_aload_n (q := 24) C dX7_netted_23 rfl rfl rfl ?_
  refine gx_iload_n (q := 25) C dX7_netted_24 rfl rfl rfl ?_
  refine gx_cp (q := 28) C E (sx_X7_131 (As := [_]) C hV.o rfl rfl dX7_netted_25) (md_shareOf _ _ _ _ g (by omega) hV hk) kw_X7_shareOf (by decide) (Nat.le_of_ble_eq_true rfl) (by omega) (by omega) dX7_netted_25 rfl ?_
  refine gx_top (show _ = nI (shT T g + 0) from rfl) ?_
  refine gx_istore_n (q := 29) (lv' := [_, _, _, _, _, _]) C dX7_netted_28 rfl (Nat.le_of_ble_eq_true rfl) E.2.2.2.symm rfl rfl rfl ?_
  refine gx_iconst (q := 30) (v := nI 0) C dX7_netted_29 (by decide) rfl ?_
  refine gx_istore (q := 32) (lv' := [_, _, _, _, _, _]) C dX7_netted_30 (Nat.le_of_ble_eq_true rfl) E.2.2.2.symm rfl rfl rfl ?_
  have Ln : ∀ n, n ≤ 36 → ∀ (M : List va_E), md_V (cx_D x) (cx_b x) M R T Ti Bf P F (lyT T) Rw kp td aa we so lo ro → md_F M0 M → fb_G x M 0 0 32 [some (.ref (cx_b x + 43)), some (.int (nI g)), some (.int (sq_ (mxS (netV T g) n).1)), some (.int (nI (shT T g + (mxS (netV T g) n).2))), some (.int (nI n)), none] [] := by
    refine fb_dn 36 ?_ ?_
    · intro M hV hF
      refine gx_iload (q := 34) C dX7_netted_32 rfl rfl ?_
      refine gx_bipush (q := 36) (v := nI 36) C dX7_netted_34 (by decide) rfl ?_
      refine gn_icmp_ge (q := 39) (tgt := 107) C dX7_netted_36 (by decide) rfl (by omega) (by omega) (fun c36 => ?_) (fun c36 => by exfalso; omega)
      refine gx_iload_n (q := 108) C dX7_netted_107 rfl rfl rfl ?_
      exact gx_iret C E dX7_netted_108 (⟨⟨_, _, _, _, _, _, _, hV⟩, hF⟩) (by omega) (by omega)
    · intro n hn ih M hV hF
      have hv := netV_le hk g n
      have hs := shT_le hk g
      have hm := mxS_b (v := netV T g) (m := 3600) n (fun i hi => netV_le hk g i)
      have h7 := k7 n hn
      refine gx_iload (q := 34) C dX7_netted_32 rfl rfl ?_
      refine gx_bipush (q := 36) (v := nI 36) C dX7_netted_34 (by decide) rfl ?_
      refine gn_icmp_ge (q := 39) (tgt := 107) C dX7_netted_36 (by decide) rfl (by omega) (by omega) (fun c36 => by exfalso; omega) (fun c36 => ?_)
      refine gx_aload_n (q := 40) C dX7_netted_39 rfl rfl rfl ?_
      refine fg_X7_13 (q := 43) C hV.o rfl dX7_netted_40 rfl ?_
      refine gx_bipush (q := 45) (v := nI 84) C dX7_netted_43 (by decide) rfl ?_
      refine gx_iload (q := 47) C dX7_netted_45 rfl rfl ?_
      refine gn_iadd (q := 48) C dX7_netted_47 rfl ?_
      refine mv_ld_now (q := 49) C hV (by omega) dX7_netted_48 rfl ?_
      refine gn_if_ne (q := 52) (tgt := 101) C dX7_netted_49 (by decide) rfl (by omega) (fun c49 => ?_) (fun c49 => ?_)
      · rw [mxS_f (by rw [netV_n (by omega)]; exact Nat.zero_le _)] at ih
        refine gn_inc (q := 104) (lv' := [_, _, _, _, _, _]) C dX7_netted_101 rfl E.2.2.2.symm rfl rfl rfl ?_
        refine gx_goto (tgt := 32) C dX7_netted_104 (by decide) ?_
        refine gx_drop 5 ?_
        exact ih M hV hF
      · have hkn : okT (updN T (84 + n) 1) := okT_up hk (by omega)
        refine gx_aload_n (q := 53) C dX7_netted_52 rfl rfl rfl ?_
        refine fg_X7_13 (q := 56) C hV.o rfl dX7_netted_53 rfl ?_
        refine gx_bipush (q := 58) (v := nI 84) C dX7_netted_56 (by decide) rfl ?_
        refine gx_iload (q := 60) C dX7_netted_58 rfl rfl ?_
        refine gn_iadd (q := 61) C dX7_netted_60 rfl ?_
        refine gx_iconst (q := 62) (v := nI 1) C dX7_netted_61 (by decide) rfl ?_
        refine mv_st_now (q := 63) C hV hF (by omega) dX7_netted_62 rfl (fun M hV hF => ?_)
        refine gx_aload_n (q := 64) C dX7_netted_63 rfl rfl rfl ?_
        refine gx_iload_n (q := 65) C dX7_netted_64 rfl rfl rfl ?_
        refine gx_cp (q := 68) C E (sx_X7_131 (As := [_]) C hV.o rfl rfl dX7_netted_65) (md_shareOf _ _ _ _ g (by omega) hV hkn) kw_X7_shareOf (by decide) (Nat.le_of_ble_eq_true rfl) (by omega) (by omega) dX7_netted_65 rfl ?_
        refine gx_top (show _ = nI (shT T g + netV T g n) by rw [net_sh hn c49]) ?_
        refine gx_istore (q := 70) (lv' := [_, _, _, _, _, _]) C dX7_netted_68 (Nat.le_of_ble_eq_true rfl) E.2.2.2.symm rfl rfl rfl ?_
        refine gx_aload_n (q := 71) C dX7_netted_70 rfl rfl rfl ?_
        refine fg_X7_13 (q := 74) C hV.o rfl dX7_netted_71 rfl ?_
        refine gx_bipush (q := 76) (v := nI 84) C dX7_netted_74 (by decide) rfl ?_
        refine gx_iload (q := 78) C dX7_netted_76 rfl rfl ?_
        refine gn_iadd (q := 79) C dX7_netted_78 rfl ?_
        refine gx_iconst (q := 80) (v := nI 0) C dX7_netted_79 (by decide) rfl ?_
        refine mv_st_now (q := 81) C hV hF (by omega) dX7_netted_80 rfl (fun M hV hF => ?_)
        rw [updN_u, ← c49, updN_r] at hV
        refine gx_iload (q := 83) C dX7_netted_81 rfl rfl ?_
        refine gx_iload_n (q := 84) C dX7_netted_83 rfl rfl rfl ?_
        refine gn_icmp_le (q := 87) (tgt := 92) C dX7_netted_84 (by decide) rfl (by omega) (by omega) (fun c84 => ?_) (fun c84 => ?_)
        · rw [mxS_f (by omega)] at ih
          have hmx : max (shT T g + (mxS (netV T g) n).2) (shT T g + netV T g n) = shT T g + (mxS (netV T g) n).2 := Nat.max_eq_left (by omega)
          refine gx_iload_n (q := 93) C dX7_netted_92 rfl rfl rfl ?_
          refine gx_istore_n (q := 94) (lv' := [_, _, _, _, _, _]) C dX7_netted_93 rfl (Nat.le_of_ble_eq_true rfl) E.2.2.2.symm rfl rfl rfl ?_
          refine gx_iload_n (q := 95) C dX7_netted_94 rfl rfl rfl ?_
          refine gx_iload (q := 97) C dX7_netted_95 rfl rfl ?_
          refine gm_max (q := 100) (by omega) (by omega) C E q1346 (by decide) (Nat.le_of_ble_eq_true rfl) (by omega) (by omega) dX7_netted_97 rfl ?_
          rw [hmx]
          refine gx_istore_n (q := 101) (lv' := [_, _, _, _, _, _]) C dX7_netted_100 rfl (Nat.le_of_ble_eq_true rfl) E.2.2.2.symm rfl rfl rfl ?_
          refine gn_inc (q := 104) (lv' := [_, _, _, _, _, _]) C dX7_netted_101 rfl E.2.2.2.symm rfl rfl rfl ?_
          refine gx_goto (tgt := 32) C dX7_netted_104 (by decide) ?_
          refine gx_drop 5 ?_
          exact ih M hV hF
        · rw [mxS_t (by omega)] at ih
          have hmx : max (shT T g + (mxS (netV T g) n).2) (shT T g + netV T g n) = shT T g + netV T g n := Nat.max_eq_right (by omega)
          refine gx_iload (q := 89) C dX7_netted_87 rfl rfl ?_
          refine gx_goto (tgt := 93) C dX7_netted_89 (by decide) ?_
          refine gx_istore_n (q := 94) (lv' := [_, _, _, _, _, _]) C dX7_netted_93 rfl (Nat.le_of_ble_eq_true rfl) E.2.2.2.symm rfl rfl rfl ?_
          refine gx_iload_n (q := 95) C dX7_netted_94 rfl rfl rfl ?_
          refine gx_iload (q := 97) C dX7_netted_95 rfl rfl ?_
          refine gm_max (q := 100) (by omega) (by omega) C E q1346 (by decide) (Nat.le_of_ble_eq_true rfl) (by omega) (by omega) dX7_netted_97 rfl ?_
          rw [hmx]
          refine gx_istore_n (q := 101) (lv' := [_, _, _, _, _, _]) C dX7_netted_100 rfl (Nat.le_of_ble_eq_true rfl) E.2.2.2.symm rfl rfl rfl ?_
          refine gn_inc (q := 104) (lv' := [_, _, _, _, _, _]) C dX7_netted_101 rfl E.2.2.2.symm rfl rfl rfl ?_
          refine gx_goto (tgt := 32) C dX7_netted_104 (by decide) ?_
          refine gx_drop 5 ?_
          exact ih M hV hF
  exact Ln 0 (by omega) M hV hF
set_option maxHeartbeats 4000000 in
theorem mp_came_b (l : Launch) (D : va_G) (b : Nat) (M0 : List va_E) {R T Ti P Rw : Nat → Nat} {kp : Bool} {td ro : Nat} (v : Int32) (hb : v < 0 ∨ nI 36 ≤ v) (h : md_P D b M0 R T Ti P Rw kp td ro) (hk : okT T) : fb_CT l D b yX7_came cX7_came 4 (some .int) 4 101 0 0 [.ref (b + 43), .int v] M0 (.returned (some (.int (-1)))) (fun M' => md_P D b M' (updN R 1 (R 1 + 1)) T Ti P Rw kp td ro ∧ md_F M0 M') := by
  refine fb_start [some (.ref (b + 43)), some (.int v), none, none] (by decide) (Nat.le_of_ble_eq_true rfl) rfl ?_
  intro x hl hD hb C E hx
  subst hl hD hb
  have C : fb_OK x cX7_came "FallsBetweenModel" "came" := C
  obtain ⟨Bf, F, L, aa, we, so, lo, hV⟩ := h
  have hF := md_F.rf M0
  obtain ⟨k0, k1, k2, k3, k4, k5, k6, k7, k8⟩ := id hk
  refine gx_iload_n (q := 1) C dX7_came_0 rfl rfl rfl ?_
  refine gx_bipush (q := 3) (v := nI 36) C dX7_came_1 (by decide) rfl ?_
  refine gx_cp (q := 6) C E (sx_X7_124 (As := [_, _]) C rfl rfl dX7_came_3) (md_isNone_t _ _ _ _ v (nI 36) hb) kw_X7_isNone (by decide) (Nat.le_of_ble_eq_true rfl) (by omega) (by omega) dX7_came_3 rfl ?_
  refine gb_if_eq (q := 9) (tgt := 15) C dX7_came_6 (by decide) rfl (fun c6 => by exfalso; cases c6) (fun c6 => ?_)
  refine gx_aload_n (q := 10) C dX7_came_9 rfl rfl rfl ?_
  refine gx_iconst (q := 11) (v := -1) C dX7_came_10 (by decide) rfl ?_
  refine gx_cs (q := 14) C E (sx_X7_49 (As := [_]) C hV.o rfl rfl dX7_came_11) (md_no _ _ _ _ (-1) 1 (by decide) (by decide) hV) kw_X7_no (by decide) (Nat.le_of_ble_eq_true rfl) rfl rfl (by omega) (by omega) dX7_came_11 rfl (fun M r11 => ?_)
  obtain ⟨hV, hG⟩ := r11
  have hF := hF.tr hG
  exact gx_iret C E dX7_came_14 (⟨⟨_, _, _, _, _, _, _, hV⟩, hF⟩) (by omega) (by omega)
theorem camV_t {T : Nat → Nat} {q n : Nat} (h : 0 < flp T n q 5) : camV T q (n + 1) = camV T q n + 2 ^ n := by unfold camV; rw [sumN_s, if_pos h]
theorem camV_f {T : Nat → Nat} {q n : Nat} (h : flp T n q 5 = 0) : camV T q (n + 1) = camV T q n + 0 := by unfold camV; rw [sumN_s, if_neg (by omega)]
set_option maxHeartbeats 4000000 in
theorem mp_came_o (l : Launch) (D : va_G) (b : Nat) (M0 : List va_E) {R T Ti P Rw : Nat → Nat} {kp : Bool} {td ro : Nat} (q : Nat) (hq : q < 36) (h : md_P D b M0 R T Ti P Rw kp td ro) (hk : okT T) : fb_CT l D b yX7_came cX7_came 4 (some .int) 4 101 0 0 [.ref (b + 43), .int (nI q)] M0 (.returned (some (.int (nI (camV T q (T 0)))))) (fun M' => md_P D b M' R T Ti P Rw kp td ro ∧ md_F M0 M') := by
  refine fb_start [some (.ref (b + 43)), some (.int (nI q)), none, none] (by decide) (Nat.le_of_ble_eq_true rfl) rfl ?_
  intro x hl hD hb C E hx
  subst hl hD hb
  have C : fb_OK x cX7_came "FallsBetweenModel" "came" := C
  obtain ⟨Bf, F, L, aa, we, so, lo, hV⟩ := h
  have hF := md_F.rf M0
  obtain ⟨k0, k1, k2, k3, k4, k5, k6, k7, k8⟩ := id hk
  refine gx_iload_n (q := 1) C dX7_came_0 rfl rfl rfl ?_
  refine gx_bipush (q := 3) (v := nI 36) C dX7_came_1 (by decide) rfl ?_
  refine gx_cp (q := 6) C E (sx_X7_124 (As := [_, _]) C rfl rfl dX7_came_3) (md_isNone_n _ _ _ _ q 36 hq (by omega)) kw_X7_isNone (by decide) (Nat.le_of_ble_eq_true rfl) (by omega) (by omega) dX7_came_3 rfl ?_
  refine gb_if_eq (q := 9) (tgt := 15) C dX7_came_6 (by decide) rfl (fun c6 => ?_) (fun c6 => by exfalso; cases c6)
  refine gx_iconst (q := 16) (v := nI 0) C dX7_came_15 (by decide) rfl ?_
  refine gx_istore_n (q := 17) (lv' := [_, _, _, _]) C dX7_came_16 rfl (Nat.le_of_ble_eq_true rfl) E.2.2.2.symm rfl rfl rfl ?_
  refine gx_iconst (q := 18) (v := nI 0) C dX7_came_17 (by decide) rfl ?_
  refine gx_istore_n (q := 19) (lv' := [_, _, _, _]) C dX7_came_18 rfl (Nat.le_of_ble_eq_true rfl) E.2.2.2.symm rfl rfl rfl ?_
  have Lt : ∀ n, n ≤ T 0 → ∀ (M : List va_E) (L : Nat → Nat) (lo : Nat), md_V (cx_D x) (cx_b x) M R T Ti Bf P F L Rw kp td aa we so lo ro → md_F M0 M → fb_G x M 0 0 19 [some (.ref (cx_b x + 43)), some (.int (nI q)), some (.int (nI (camV T q n))), some (.int (nI n))] [] := by
    refine fb_dn (T 0) ?_ ?_
    · intro M L lo hV hF
      refine gx_iload_n (q := 20) C dX7_came_19 rfl rfl rfl ?_
      refine gx_aload_n (q := 21) C dX7_came_20 rfl rfl rfl ?_
      refine fg_X7_13 (q := 24) C hV.o rfl dX7_came_21 rfl ?_
      refine gx_iconst (q := 25) (v := nI 0) C dX7_came_24 (by decide) rfl ?_
      refine mv_ld_now (q := 26) C hV (by omega) dX7_came_25 rfl ?_
      refine gn_icmp_ge (q := 29) (tgt := 61) C dX7_came_26 (by decide) rfl (by omega) (by omega) (fun c26 => ?_) (fun c26 => by exfalso; omega)
      refine gx_iload_n (q := 62) C dX7_came_61 rfl rfl rfl ?_
      exact gx_iret C E dX7_came_62 (⟨⟨_, _, _, _, _, _, _, hV⟩, hF⟩) (by omega) (by omega)
    · intro n hn ih M L lo hV hF
      have hf := flp_le (q := q) (n := 5) (k8 n hn).2.2.2.1
      refine gx_iload_n (q := 20) C dX7_came_19 rfl rfl rfl ?_
      refine gx_aload_n (q := 21) C dX7_came_20 rfl rfl rfl ?_
      refine fg_X7_13 (q := 24) C hV.o rfl dX7_came_21 rfl ?_
      refine gx_iconst (q := 25) (v := nI 0) C dX7_came_24 (by decide) rfl ?_
      refine mv_ld_now (q := 26) C hV (by omega) dX7_came_25 rfl ?_
      refine gn_icmp_ge (q := 29) (tgt := 61) C dX7_came_26 (by decide) rfl (by omega) (by omega) (fun c26 => by exfalso; omega) (fun c26 => ?_)
      refine gx_aload_n (q := 30) C dX7_came_29 rfl rfl rfl ?_
      refine gx_iconst (q := 31) (v := nI 1) C dX7_came_30 (by decide) rfl ?_
      refine gx_iload_n (q := 32) C dX7_came_31 rfl rfl rfl ?_
      refine gx_ishl (q := 33) C dX7_came_32 (shl_ok n (by omega)) rfl ?_
      refine gx_cv (q := 36) C E (sx_X7_127 (As := [_]) C hV.o rfl rfl dX7_came_33) (md_fall _ _ _ _ (2 ^ n) (pow_lt64 n (by omega)) hV hk) kw_X7_fall (by decide) (Nat.le_of_ble_eq_true rfl) rfl rfl (by omega) (by omega) dX7_came_33 rfl (fun M r33 => ?_)
      obtain ⟨hV, hG⟩ := r33
      have hF := hF.tr hG
      refine gx_iload_n (q := 37) C dX7_came_36 rfl rfl rfl ?_
      refine gx_aload_n (q := 38) C dX7_came_37 rfl rfl rfl ?_
      refine fg_X7_35 (q := 41) C hV.o rfl dX7_came_38 rfl ?_
      refine gx_iload_n (q := 42) C dX7_came_41 rfl rfl rfl ?_
      refine mv_ld_lies (q := 43) C hV (by omega) dX7_came_42 rfl ?_
      refine gx_top (show _ = nI (flp T n q 5) by rw [mL_one T q n (T 0) k0 hn]) ?_
      refine gn_if_le (q := 46) (tgt := 52) C dX7_came_43 (by decide) rfl (by omega) (fun c43 => ?_) (fun c43 => ?_)
      · rw [camV_f c43] at ih
        refine gx_iconst (q := 53) (v := nI 0) C dX7_came_52 (by decide) rfl ?_
        refine gx_ior (q := 54) C dX7_came_53 (ior_0 _) rfl ?_
        refine gx_istore_n (q := 55) (lv' := [_, _, _, _]) C dX7_came_54 rfl (Nat.le_of_ble_eq_true rfl) E.2.2.2.symm rfl rfl rfl ?_
        refine gn_inc (q := 58) (lv' := [_, _, _, _]) C dX7_came_55 rfl E.2.2.2.symm rfl rfl rfl ?_
        refine gx_goto (tgt := 19) C dX7_came_58 (by decide) ?_
        exact ih M _ _ hV hF
      · rw [camV_t c43] at ih
        refine gx_iconst (q := 47) (v := nI 1) C dX7_came_46 (by decide) rfl ?_
        refine gx_iload_n (q := 48) C dX7_came_47 rfl rfl rfl ?_
        refine gx_ishl (q := 49) C dX7_came_48 (shl_ok n (by omega)) rfl ?_
        refine gx_goto (tgt := 53) C dX7_came_49 (by decide) ?_
        refine gx_ior (q := 54) C dX7_came_53 (ior_ok (camV_lt T q n)) rfl ?_
        refine gx_istore_n (q := 55) (lv' := [_, _, _, _]) C dX7_came_54 rfl (Nat.le_of_ble_eq_true rfl) E.2.2.2.symm rfl rfl rfl ?_
        refine gn_inc (q := 58) (lv' := [_, _, _, _]) C dX7_came_55 rfl E.2.2.2.symm rfl rfl rfl ?_
        refine gx_goto (tgt := 19) C dX7_came_58 (by decide) ?_
        exact ih M _ _ hV hF
  exact Lt 0 (by omega) M0 _ _ hV hF
theorem flp_ly {T : Nat → Nat} {t q n : Nat} (ht : t < n) : flp T t q 5 ≤ lyi T q n := by
  unfold lyi
  induction n with
  | zero => omega
  | succ n ih =>
    rw [sumN_s]
    by_cases e : t = n
    · subst e; omega
    · have := ih (by omega); omega
set_option maxHeartbeats 4000000 in
theorem mp_likely_b1 (l : Launch) (D : va_G) (b : Nat) (M0 : List va_E) {R T Ti P Rw : Nat → Nat} {kp : Bool} {td ro : Nat} (v : Int32) (hb : v < 0 ∨ nI 36 ≤ v) (w u : Int32) (h : md_P D b M0 R T Ti P Rw kp td ro) (hk : okT T) : fb_CT l D b yX7_likely cX7_likely 7 (some .int) 4 101 0 0 [.ref (b + 43), .int v, .int w, .int u] M0 (.returned (some (.int (-1)))) (fun M' => md_P D b M' (updN R 1 (R 1 + 1)) T Ti P Rw kp td ro ∧ md_F M0 M') := by
  refine fb_start [some (.ref (b + 43)), some (.int v), some (.int w), some (.int u), none, none, none] (by decide) (Nat.le_of_ble_eq_true rfl) rfl ?_
  intro x hl hD hb C E hx
  subst hl hD hb
  have C : fb_OK x cX7_likely "FallsBetweenModel" "likely" := C
  obtain ⟨Bf, F, L, aa, we, so, lo, hV⟩ := h
  have hF := md_F.rf M0
  obtain ⟨k0, k1, k2, k3, k4, k5, k6, k7, k8⟩ := id hk
  refine gx_iload_n (q := 1) C dX7_likely_0 rfl rfl rfl ?_
  refine gx_bipush (q := 3) (v := nI 36) C dX7_likely_1 (by decide) rfl ?_
  refine gx_cp (q := 6) C E (sx_X7_124 (As := [_, _]) C rfl rfl dX7_likely_3) (md_isNone_t _ _ _ _ v (nI 36) hb) kw_X7_isNone (by decide) (Nat.le_of_ble_eq_true rfl) (by omega) (by omega) dX7_likely_3 rfl ?_
  refine gb_if_ne (q := 9) (tgt := 22) C dX7_likely_6 (by decide) rfl (fun c6 => ?_) (fun c6 => by exfalso; cases c6)
  refine gx_aload_n (q := 23) C dX7_likely_22 rfl rfl rfl ?_
  refine gx_iconst (q := 24) (v := -1) C dX7_likely_23 (by decide) rfl ?_
  refine gx_cs (q := 27) C E (sx_X7_49 (As := [_]) C hV.o rfl rfl dX7_likely_24) (md_no _ _ _ _ (-1) 1 (by decide) (by decide) hV) kw_X7_no (by decide) (Nat.le_of_ble_eq_true rfl) rfl rfl (by omega) (by omega) dX7_likely_24 rfl (fun M r24 => ?_)
  obtain ⟨hV, hG⟩ := r24
  have hF := hF.tr hG
  exact gx_iret C E dX7_likely_27 (⟨⟨_, _, _, _, _, _, _, hV⟩, hF⟩) (by omega) (by omega)
set_option maxHeartbeats 4000000 in
theorem mp_likely_b2 (l : Launch) (D : va_G) (b : Nat) (M0 : List va_E) {R T Ti P Rw : Nat → Nat} {kp : Bool} {td ro : Nat} (q : Nat) (hq : q < 36) (v : Int32) (hb : v < 0 ∨ nI (T 0) ≤ v) (u : Int32) (h : md_P D b M0 R T Ti P Rw kp td ro) (hk : okT T) : fb_CT l D b yX7_likely cX7_likely 7 (some .int) 4 101 0 0 [.ref (b + 43), .int (nI q), .int v, .int u] M0 (.returned (some (.int (-1)))) (fun M' => md_P D b M' (updN R 1 (R 1 + 1)) T Ti P Rw kp td ro ∧ md_F M0 M') := by
  refine fb_start [some (.ref (b + 43)), some (.int (nI q)), some (.int v), some (.int u), none, none, none] (by decide) (Nat.le_of_ble_eq_true rfl) rfl ?_
  intro x hl hD hb C E hx
  subst hl hD hb
  have C : fb_OK x cX7_likely "FallsBetweenModel" "likely" := C
  obtain ⟨Bf, F, L, aa, we, so, lo, hV⟩ := h
  have hF := md_F.rf M0
  obtain ⟨k0, k1, k2, k3, k4, k5, k6, k7, k8⟩ := id hk
  refine gx_iload_n (q := 1) C dX7_likely_0 rfl rfl rfl ?_
  refine gx_bipush (q := 3) (v := nI 36) C dX7_likely_1 (by decide) rfl ?_
  refine gx_cp (q := 6) C E (sx_X7_124 (As := [_, _]) C rfl rfl dX7_likely_3) (md_isNone_n _ _ _ _ q 36 hq (by omega)) kw_X7_isNone (by decide) (Nat.le_of_ble_eq_true rfl) (by omega) (by omega) dX7_likely_3 rfl ?_
  refine gb_if_ne (q := 9) (tgt := 22) C dX7_likely_6 (by decide) rfl (fun c6 => by exfalso; cases c6) (fun c6 => ?_)
  refine gx_iload_n (q := 10) C dX7_likely_9 rfl rfl rfl ?_
  refine gx_aload_n (q := 11) C dX7_likely_10 rfl rfl rfl ?_
  refine fg_X7_13 (q := 14) C hV.o rfl dX7_likely_11 rfl ?_
  refine gx_iconst (q := 15) (v := nI 0) C dX7_likely_14 (by decide) rfl ?_
  refine mv_ld_now (q := 16) C hV (by omega) dX7_likely_15 rfl ?_
  refine gx_cp (q := 19) C E (sx_X7_124 (As := [_, _]) C rfl rfl dX7_likely_16) (md_isNone_t _ _ _ _ v (nI (T 0)) hb) kw_X7_isNone (by decide) (Nat.le_of_ble_eq_true rfl) (by omega) (by omega) dX7_likely_16 rfl ?_
  refine gb_if_eq (q := 22) (tgt := 28) C dX7_likely_19 (by decide) rfl (fun c19 => by exfalso; cases c19) (fun c19 => ?_)
  refine gx_aload_n (q := 23) C dX7_likely_22 rfl rfl rfl ?_
  refine gx_iconst (q := 24) (v := -1) C dX7_likely_23 (by decide) rfl ?_
  refine gx_cs (q := 27) C E (sx_X7_49 (As := [_]) C hV.o rfl rfl dX7_likely_24) (md_no _ _ _ _ (-1) 1 (by decide) (by decide) hV) kw_X7_no (by decide) (Nat.le_of_ble_eq_true rfl) rfl rfl (by omega) (by omega) dX7_likely_24 rfl (fun M r24 => ?_)
  obtain ⟨hV, hG⟩ := r24
  have hF := hF.tr hG
  exact gx_iret C E dX7_likely_27 (⟨⟨_, _, _, _, _, _, _, hV⟩, hF⟩) (by omega) (by omega)
set_option maxHeartbeats 4000000 in
theorem mp_likely_b3 (l : Launch) (D : va_G) (b : Nat) (M0 : List va_E) {R T Ti P Rw : Nat → Nat} {kp : Bool} {td ro : Nat} (q : Nat) (hq : q < 36) (t : Nat) (ht : t < T 0) (v : Int32) (hb : v < 0 ∨ nI 2 ≤ v) (h : md_P D b M0 R T Ti P Rw kp td ro) (hk : okT T) : fb_CT l D b yX7_likely cX7_likely 7 (some .int) 4 101 0 0 [.ref (b + 43), .int (nI q), .int (nI t), .int v] M0 (.returned (some (.int (-2)))) (fun M' => md_P D b M' (updN R 2 (R 2 + 1)) T Ti P Rw kp td ro ∧ md_F M0 M') := by
  refine fb_start [some (.ref (b + 43)), some (.int (nI q)), some (.int (nI t)), some (.int v), none, none, none] (by decide) (Nat.le_of_ble_eq_true rfl) rfl ?_
  intro x hl hD hb C E hx
  subst hl hD hb
  have C : fb_OK x cX7_likely "FallsBetweenModel" "likely" := C
  obtain ⟨Bf, F, L, aa, we, so, lo, hV⟩ := h
  have hF := md_F.rf M0
  obtain ⟨k0, k1, k2, k3, k4, k5, k6, k7, k8⟩ := id hk
  refine gx_iload_n (q := 1) C dX7_likely_0 rfl rfl rfl ?_
  refine gx_bipush (q := 3) (v := nI 36) C dX7_likely_1 (by decide) rfl ?_
  refine gx_cp (q := 6) C E (sx_X7_124 (As := [_, _]) C rfl rfl dX7_likely_3) (md_isNone_n _ _ _ _ q 36 hq (by omega)) kw_X7_isNone (by decide) (Nat.le_of_ble_eq_true rfl) (by omega) (by omega) dX7_likely_3 rfl ?_
  refine gb_if_ne (q := 9) (tgt := 22) C dX7_likely_6 (by decide) rfl (fun c6 => by exfalso; cases c6) (fun c6 => ?_)
  refine gx_iload_n (q := 10) C dX7_likely_9 rfl rfl rfl ?_
  refine gx_aload_n (q := 11) C dX7_likely_10 rfl rfl rfl ?_
  refine fg_X7_13 (q := 14) C hV.o rfl dX7_likely_11 rfl ?_
  refine gx_iconst (q := 15) (v := nI 0) C dX7_likely_14 (by decide) rfl ?_
  refine mv_ld_now (q := 16) C hV (by omega) dX7_likely_15 rfl ?_
  refine gx_cp (q := 19) C E (sx_X7_124 (As := [_, _]) C rfl rfl dX7_likely_16) (md_isNone_n _ _ _ _ t (T 0) ht (by omega)) kw_X7_isNone (by decide) (Nat.le_of_ble_eq_true rfl) (by omega) (by omega) dX7_likely_16 rfl ?_
  refine gb_if_eq (q := 22) (tgt := 28) C dX7_likely_19 (by decide) rfl (fun c19 => ?_) (fun c19 => by exfalso; cases c19)
  refine gx_iload_n (q := 29) C dX7_likely_28 rfl rfl rfl ?_
  refine gx_if_lt (q := 32) (tgt := 37) C dX7_likely_29 (by decide) rfl (fun c29 => ?_) (fun c29 => ?_)
  · refine gx_aload_n (q := 38) C dX7_likely_37 rfl rfl rfl ?_
    refine gx_bipush (q := 40) (v := -2) C dX7_likely_38 (by decide) rfl ?_
    refine gx_cs (q := 43) C E (sx_X7_49 (As := [_]) C hV.o rfl rfl dX7_likely_40) (md_no _ _ _ _ (-2) 2 (by decide) (by decide) hV) kw_X7_no (by decide) (Nat.le_of_ble_eq_true rfl) rfl rfl (by omega) (by omega) dX7_likely_40 rfl (fun M r40 => ?_)
    obtain ⟨hV, hG⟩ := r40
    have hF := hF.tr hG
    exact gx_iret C E dX7_likely_43 (⟨⟨_, _, _, _, _, _, _, hV⟩, hF⟩) (by omega) (by omega)
  · refine gx_iload_n (q := 33) C dX7_likely_32 rfl rfl rfl ?_
    refine gx_iconst (q := 34) (v := nI 1) C dX7_likely_33 (by decide) rfl ?_
    refine gx_icmp_le (q := 37) (tgt := 44) C dX7_likely_34 (by decide) rfl (fun c34 => by exfalso; exact Int32.not_le.mpr (lt_gt (by decide) (hb.resolve_left c29)) c34) (fun c34 => ?_)
    refine gx_aload_n (q := 38) C dX7_likely_37 rfl rfl rfl ?_
    refine gx_bipush (q := 40) (v := -2) C dX7_likely_38 (by decide) rfl ?_
    refine gx_cs (q := 43) C E (sx_X7_49 (As := [_]) C hV.o rfl rfl dX7_likely_40) (md_no _ _ _ _ (-2) 2 (by decide) (by decide) hV) kw_X7_no (by decide) (Nat.le_of_ble_eq_true rfl) rfl rfl (by omega) (by omega) dX7_likely_40 rfl (fun M r40 => ?_)
    obtain ⟨hV, hG⟩ := r40
    have hF := hF.tr hG
    exact gx_iret C E dX7_likely_43 (⟨⟨_, _, _, _, _, _, _, hV⟩, hF⟩) (by omega) (by omega)
set_option maxHeartbeats 4000000 in
theorem mp_likely_0 (l : Launch) (D : va_G) (b : Nat) (M0 : List va_E) {R T Ti P Rw : Nat → Nat} {kp : Bool} {td ro : Nat} (q : Nat) (hq : q < 36) (t : Nat) (ht : t < T 0) (h : md_P D b M0 R T Ti P Rw kp td ro) (hk : okT T) : fb_CT l D b yX7_likely cX7_likely 7 (some .int) 4 101 0 0 [.ref (b + 43), .int (nI q), .int (nI t), .int (nI 0)] M0 (.returned (some (.int (nI (if flp T t q 5 = 0 then 0 else flp T t q 5 / Nat.gcd (flp T t q 5) (lyT T q)))))) (fun M' => md_P D b M' R T Ti P Rw kp td ro ∧ md_F M0 M') := by
  refine fb_start [some (.ref (b + 43)), some (.int (nI q)), some (.int (nI t)), some (.int (nI 0)), none, none, none] (by decide) (Nat.le_of_ble_eq_true rfl) rfl ?_
  intro x hl hD hb C E hx
  subst hl hD hb
  have C : fb_OK x cX7_likely "FallsBetweenModel" "likely" := C
  obtain ⟨Bf, F, L, aa, we, so, lo, hV⟩ := h
  have hF := md_F.rf M0
  obtain ⟨k0, k1, k2, k3, k4, k5, k6, k7, k8⟩ := id hk
  refine gx_iload_n (q := 1) C dX7_likely_0 rfl rfl rfl ?_
  refine gx_bipush (q := 3) (v := nI 36) C dX7_likely_1 (by decide) rfl ?_
  refine gx_cp (q := 6) C E (sx_X7_124 (As := [_, _]) C rfl rfl dX7_likely_3) (md_isNone_n _ _ _ _ q 36 hq (by omega)) kw_X7_isNone (by decide) (Nat.le_of_ble_eq_true rfl) (by omega) (by omega) dX7_likely_3 rfl ?_
  refine gb_if_ne (q := 9) (tgt := 22) C dX7_likely_6 (by decide) rfl (fun c6 => by exfalso; cases c6) (fun c6 => ?_)
  refine gx_iload_n (q := 10) C dX7_likely_9 rfl rfl rfl ?_
  refine gx_aload_n (q := 11) C dX7_likely_10 rfl rfl rfl ?_
  refine fg_X7_13 (q := 14) C hV.o rfl dX7_likely_11 rfl ?_
  refine gx_iconst (q := 15) (v := nI 0) C dX7_likely_14 (by decide) rfl ?_
  refine mv_ld_now (q := 16) C hV (by omega) dX7_likely_15 rfl ?_
  refine gx_cp (q := 19) C E (sx_X7_124 (As := [_, _]) C rfl rfl dX7_likely_16) (md_isNone_n _ _ _ _ t (T 0) ht (by omega)) kw_X7_isNone (by decide) (Nat.le_of_ble_eq_true rfl) (by omega) (by omega) dX7_likely_16 rfl ?_
  refine gb_if_eq (q := 22) (tgt := 28) C dX7_likely_19 (by decide) rfl (fun c19 => ?_) (fun c19 => by exfalso; cases c19)
  refine gx_iload_n (q := 29) C dX7_likely_28 rfl rfl rfl ?_
  refine gx_if_lt (q := 32) (tgt := 37) C dX7_likely_29 (by decide) rfl (fun c29 => by exfalso; revert c29; decide) (fun c29 => ?_)
  refine gx_iload_n (q := 33) C dX7_likely_32 rfl rfl rfl ?_
  refine gx_iconst (q := 34) (v := nI 1) C dX7_likely_33 (by decide) rfl ?_
  refine gn_icmp_le (q := 37) (tgt := 44) C dX7_likely_34 (by decide) rfl (by omega) (by omega) (fun c34 => ?_) (fun c34 => by exfalso; revert c34; decide)
  refine gx_aload_n (q := 45) C dX7_likely_44 rfl rfl rfl ?_
  refine gx_iconst (q := 46) (v := nI 1) C dX7_likely_45 (by decide) rfl ?_
  refine gx_iload_n (q := 47) C dX7_likely_46 rfl rfl rfl ?_
  refine gx_ishl (q := 48) C dX7_likely_47 (shl_ok t (by omega)) rfl ?_
  refine gx_cv (q := 51) C E (sx_X7_127 (As := [_]) C hV.o rfl rfl dX7_likely_48) (md_fall _ _ _ _ (2 ^ t) (pow_lt64 t (by omega)) hV hk) kw_X7_fall (by decide) (Nat.le_of_ble_eq_true rfl) rfl rfl (by omega) (by omega) dX7_likely_48 rfl (fun M r48 => ?_)
  obtain ⟨hV, hG⟩ := r48
  have hF := hF.tr hG
  refine gx_aload_n (q := 52) C dX7_likely_51 rfl rfl rfl ?_
  refine fg_X7_35 (q := 55) C hV.o rfl dX7_likely_52 rfl ?_
  refine gx_iload_n (q := 56) C dX7_likely_55 rfl rfl rfl ?_
  refine mv_ld_lies (q := 57) C hV (by omega) dX7_likely_56 rfl ?_
  have hf := flp_le (T := T) (q := q) (n := 5) (k8 t ht).2.2.2.1
  have hl := lyT_le hk q
  have hg : 0 < flp T t q 5 → 0 < Nat.gcd (flp T t q 5) (lyT T q) := fun z => Nat.gcd_pos_of_pos_left _ z
  have hg2 : 0 < flp T t q 5 → Nat.gcd (flp T t q 5) (lyT T q) ≤ flp T t q 5 := fun z => Nat.gcd_le_left _ z
  refine gx_top (show _ = nI (flp T t q 5) by rw [mL_one T q t (T 0) k0 ht]) ?_
  refine gx_istore (q := 59) (lv' := [_, _, _, _, _, _, _]) C dX7_likely_57 (Nat.le_of_ble_eq_true rfl) E.2.2.2.symm rfl rfl rfl ?_
  refine gx_aload_n (q := 60) C dX7_likely_59 rfl rfl rfl ?_
  refine gx_bipush (q := 62) (v := nI 63) C dX7_likely_60 (by decide) rfl ?_
  refine gx_cv (q := 65) C E (sx_X7_127 (As := [_]) C hV.o rfl rfl dX7_likely_62) (md_fall _ _ _ _ 63 (by decide) hV hk) kw_X7_fall (by decide) (Nat.le_of_ble_eq_true rfl) rfl rfl (by omega) (by omega) dX7_likely_62 rfl (fun M r62 => ?_)
  obtain ⟨hV, hG⟩ := r62
  have hF := hF.tr hG
  rw [mL_63f _ hk.1] at hV
  refine gx_aload_n (q := 66) C dX7_likely_65 rfl rfl rfl ?_
  refine fg_X7_35 (q := 69) C hV.o rfl dX7_likely_66 rfl ?_
  refine gx_iload_n (q := 70) C dX7_likely_69 rfl rfl rfl ?_
  refine mv_ld_lies (q := 71) C hV (by omega) dX7_likely_70 rfl ?_
  refine gx_top (show _ = nI (lyT T q) from rfl) ?_
  refine gx_istore (q := 73) (lv' := [_, _, _, _, _, _, _]) C dX7_likely_71 (Nat.le_of_ble_eq_true rfl) E.2.2.2.symm rfl rfl rfl ?_
  refine gx_iload (q := 75) C dX7_likely_73 rfl rfl ?_
  refine gn_if_ne (q := 78) (tgt := 80) C dX7_likely_75 (by decide) rfl (by omega) (fun c75 => ?_) (fun c75 => ?_)
  · refine gx_iload (q := 82) C dX7_likely_80 rfl rfl ?_
    refine gx_iload (q := 84) C dX7_likely_82 rfl rfl ?_
    refine gx_cp (q := 87) C E (sx_X7_148 (As := [_, _]) C rfl rfl dX7_likely_84) (md_divisor _ _ _ _ _ _ (by omega) (by omega)) kw_X7_divisor (by decide) (Nat.le_of_ble_eq_true rfl) (by omega) (by omega) dX7_likely_84 rfl ?_
    refine gx_istore (q := 89) (lv' := [_, _, _, _, _, _, _]) C dX7_likely_87 (Nat.le_of_ble_eq_true rfl) E.2.2.2.symm rfl rfl rfl ?_
    refine gx_iload_n (q := 90) C dX7_likely_89 rfl rfl rfl ?_
    refine gn_if_ne (q := 93) (tgt := 101) C dX7_likely_90 (by decide) rfl (by omega) (fun c90 => by exfalso; revert c90; decide) (fun c90 => ?_)
    refine gx_iload (q := 95) C dX7_likely_93 rfl rfl ?_
    refine gx_iload (q := 97) C dX7_likely_95 rfl rfl ?_
    refine gn_idiv (q := 98) C dX7_likely_97 (by omega) (by omega) (by omega) rfl ?_
    refine gx_goto (tgt := 106) C dX7_likely_98 (by decide) ?_
    exact gx_iretE C E (by rw [if_neg (by omega)]) dX7_likely_106 (⟨⟨_, _, _, _, _, _, _, hV⟩, hF⟩) (by omega) (by omega)
  · refine gx_iload_n (q := 79) C dX7_likely_78 rfl rfl rfl ?_
    exact gx_iretE C E (by rw [if_pos c75]) dX7_likely_79 (⟨⟨_, _, _, _, _, _, _, hV⟩, hF⟩) (by omega) (by omega)
set_option maxHeartbeats 4000000 in
theorem mp_likely_1 (l : Launch) (D : va_G) (b : Nat) (M0 : List va_E) {R T Ti P Rw : Nat → Nat} {kp : Bool} {td ro : Nat} (q : Nat) (hq : q < 36) (t : Nat) (ht : t < T 0) (h : md_P D b M0 R T Ti P Rw kp td ro) (hk : okT T) : fb_CT l D b yX7_likely cX7_likely 7 (some .int) 4 101 0 0 [.ref (b + 43), .int (nI q), .int (nI t), .int (nI 1)] M0 (.returned (some (.int (nI (if flp T t q 5 = 0 then 1 else lyT T q / Nat.gcd (flp T t q 5) (lyT T q)))))) (fun M' => md_P D b M' R T Ti P Rw kp td ro ∧ md_F M0 M') := by
  refine fb_start [some (.ref (b + 43)), some (.int (nI q)), some (.int (nI t)), some (.int (nI 1)), none, none, none] (by decide) (Nat.le_of_ble_eq_true rfl) rfl ?_
  intro x hl hD hb C E hx
  subst hl hD hb
  have C : fb_OK x cX7_likely "FallsBetweenModel" "likely" := C
  obtain ⟨Bf, F, L, aa, we, so, lo, hV⟩ := h
  have hF := md_F.rf M0
  obtain ⟨k0, k1, k2, k3, k4, k5, k6, k7, k8⟩ := id hk
  refine gx_iload_n (q := 1) C dX7_likely_0 rfl rfl rfl ?_
  refine gx_bipush (q := 3) (v := nI 36) C dX7_likely_1 (by decide) rfl ?_
  refine gx_cp (q := 6) C E (sx_X7_124 (As := [_, _]) C rfl rfl dX7_likely_3) (md_isNone_n _ _ _ _ q 36 hq (by omega)) kw_X7_isNone (by decide) (Nat.le_of_ble_eq_true rfl) (by omega) (by omega) dX7_likely_3 rfl ?_
  refine gb_if_ne (q := 9) (tgt := 22) C dX7_likely_6 (by decide) rfl (fun c6 => by exfalso; cases c6) (fun c6 => ?_)
  refine gx_iload_n (q := 10) C dX7_likely_9 rfl rfl rfl ?_
  refine gx_aload_n (q := 11) C dX7_likely_10 rfl rfl rfl ?_
  refine fg_X7_13 (q := 14) C hV.o rfl dX7_likely_11 rfl ?_
  refine gx_iconst (q := 15) (v := nI 0) C dX7_likely_14 (by decide) rfl ?_
  refine mv_ld_now (q := 16) C hV (by omega) dX7_likely_15 rfl ?_
  refine gx_cp (q := 19) C E (sx_X7_124 (As := [_, _]) C rfl rfl dX7_likely_16) (md_isNone_n _ _ _ _ t (T 0) ht (by omega)) kw_X7_isNone (by decide) (Nat.le_of_ble_eq_true rfl) (by omega) (by omega) dX7_likely_16 rfl ?_
  refine gb_if_eq (q := 22) (tgt := 28) C dX7_likely_19 (by decide) rfl (fun c19 => ?_) (fun c19 => by exfalso; cases c19)
  refine gx_iload_n (q := 29) C dX7_likely_28 rfl rfl rfl ?_
  refine gx_if_lt (q := 32) (tgt := 37) C dX7_likely_29 (by decide) rfl (fun c29 => by exfalso; revert c29; decide) (fun c29 => ?_)
  refine gx_iload_n (q := 33) C dX7_likely_32 rfl rfl rfl ?_
  refine gx_iconst (q := 34) (v := nI 1) C dX7_likely_33 (by decide) rfl ?_
  refine gn_icmp_le (q := 37) (tgt := 44) C dX7_likely_34 (by decide) rfl (by omega) (by omega) (fun c34 => ?_) (fun c34 => by exfalso; revert c34; decide)
  refine gx_aload_n (q := 45) C dX7_likely_44 rfl rfl rfl ?_
  refine gx_iconst (q := 46) (v := nI 1) C dX7_likely_45 (by decide) rfl ?_
  refine gx_iload_n (q := 47) C dX7_likely_46 rfl rfl rfl ?_
  refine gx_ishl (q := 48) C dX7_likely_47 (shl_ok t (by omega)) rfl ?_
  refine gx_cv (q := 51) C E (sx_X7_127 (As := [_]) C hV.o rfl rfl dX7_likely_48) (md_fall _ _ _ _ (2 ^ t) (pow_lt64 t (by omega)) hV hk) kw_X7_fall (by decide) (Nat.le_of_ble_eq_true rfl) rfl rfl (by omega) (by omega) dX7_likely_48 rfl (fun M r48 => ?_)
  obtain ⟨hV, hG⟩ := r48
  have hF := hF.tr hG
  refine gx_aload_n (q := 52) C dX7_likely_51 rfl rfl rfl ?_
  refine fg_X7_35 (q := 55) C hV.o rfl dX7_likely_52 rfl ?_
  refine gx_iload_n (q := 56) C dX7_likely_55 rfl rfl rfl ?_
  refine mv_ld_lies (q := 57) C hV (by omega) dX7_likely_56 rfl ?_
  have hf := flp_le (T := T) (q := q) (n := 5) (k8 t ht).2.2.2.1
  have hl := lyT_le hk q
  have hg : 0 < flp T t q 5 → 0 < Nat.gcd (flp T t q 5) (lyT T q) := fun z => Nat.gcd_pos_of_pos_left _ z
  have hg2 : 0 < flp T t q 5 → Nat.gcd (flp T t q 5) (lyT T q) ≤ flp T t q 5 := fun z => Nat.gcd_le_left _ z
  refine gx_top (show _ = nI (flp T t q 5) by rw [mL_one T q t (T 0) k0 ht]) ?_
  refine gx_istore (q := 59) (lv' := [_, _, _, _, _, _, _]) C dX7_likely_57 (Nat.le_of_ble_eq_true rfl) E.2.2.2.symm rfl rfl rfl ?_
  refine gx_aload_n (q := 60) C dX7_likely_59 rfl rfl rfl ?_
  refine gx_bipush (q := 62) (v := nI 63) C dX7_likely_60 (by decide) rfl ?_
  refine gx_cv (q := 65) C E (sx_X7_127 (As := [_]) C hV.o rfl rfl dX7_likely_62) (md_fall _ _ _ _ 63 (by decide) hV hk) kw_X7_fall (by decide) (Nat.le_of_ble_eq_true rfl) rfl rfl (by omega) (by omega) dX7_likely_62 rfl (fun M r62 => ?_)
  obtain ⟨hV, hG⟩ := r62
  have hF := hF.tr hG
  rw [mL_63f _ hk.1] at hV
  refine gx_aload_n (q := 66) C dX7_likely_65 rfl rfl rfl ?_
  refine fg_X7_35 (q := 69) C hV.o rfl dX7_likely_66 rfl ?_
  refine gx_iload_n (q := 70) C dX7_likely_69 rfl rfl rfl ?_
  refine mv_ld_lies (q := 71) C hV (by omega) dX7_likely_70 rfl ?_
  refine gx_top (show _ = nI (lyT T q) from rfl) ?_
  refine gx_istore (q := 73) (lv' := [_, _, _, _, _, _, _]) C dX7_likely_71 (Nat.le_of_ble_eq_true rfl) E.2.2.2.symm rfl rfl rfl ?_
  refine gx_iload (q := 75) C dX7_likely_73 rfl rfl ?_
  refine gn_if_ne (q := 78) (tgt := 80) C dX7_likely_75 (by decide) rfl (by omega) (fun c75 => ?_) (fun c75 => ?_)
  · refine gx_iload (q := 82) C dX7_likely_80 rfl rfl ?_
    refine gx_iload (q := 84) C dX7_likely_82 rfl rfl ?_
    refine gx_cp (q := 87) C E (sx_X7_148 (As := [_, _]) C rfl rfl dX7_likely_84) (md_divisor _ _ _ _ _ _ (by omega) (by omega)) kw_X7_divisor (by decide) (Nat.le_of_ble_eq_true rfl) (by omega) (by omega) dX7_likely_84 rfl ?_
    refine gx_istore (q := 89) (lv' := [_, _, _, _, _, _, _]) C dX7_likely_87 (Nat.le_of_ble_eq_true rfl) E.2.2.2.symm rfl rfl rfl ?_
    refine gx_iload_n (q := 90) C dX7_likely_89 rfl rfl rfl ?_
    refine gn_if_ne (q := 93) (tgt := 101) C dX7_likely_90 (by decide) rfl (by omega) (fun c90 => ?_) (fun c90 => by exfalso; revert c90; decide)
    refine gx_iload (q := 103) C dX7_likely_101 rfl rfl ?_
    refine gx_iload (q := 105) C dX7_likely_103 rfl rfl ?_
    refine gn_idiv (q := 106) C dX7_likely_105 (by omega) (by omega) (by omega) rfl ?_
    exact gx_iretE C E (by rw [if_neg (by omega)]) dX7_likely_106 (⟨⟨_, _, _, _, _, _, _, hV⟩, hF⟩) (by omega) (by omega)
  · refine gx_iload_n (q := 79) C dX7_likely_78 rfl rfl rfl ?_
    exact gx_iretE C E (by rw [if_pos c75]) dX7_likely_79 (⟨⟨_, _, _, _, _, _, _, hV⟩, hF⟩) (by omega) (by omega)
theorem fitB_0 (T : Nat → Nat) (w : Nat) : fitB T w 0 = true := rfl
theorem fitB_s (T : Nat → Nat) (w n : Nat) : fitB T w (n + 1) = (fitB T w n && decide (0 < lyT (updN T 1 w) (T (4 + n)))) := by
  unfold fitB
  rw [fstN]
  cases fstN (fun k => decide (lyT (updN T 1 w) (T (4 + k)) = 0)) n with
  | some a => rfl
  | none =>
    by_cases h : lyT (updN T 1 w) (T (4 + n)) = 0
    · simp [h]
    · simp [h, Nat.pos_of_ne_zero h]
theorem fitV_t {T : Nat → Nat} {n : Nat} (h : fitB T n (T 3) = true) : fitV T (n + 1) = fitV T n + 2 ^ n := by unfold fitV; rw [sumN_s, if_pos h]
theorem fitV_f {T : Nat → Nat} {n : Nat} (h : fitB T n (T 3) = false) : fitV T (n + 1) = fitV T n + 0 := by unfold fitV; rw [sumN_s, if_neg (by rw [h]; decide)]
theorem fitN_t {T : Nat → Nat} {n : Nat} (h : fitB T n (T 3) = true) : fitN T (n + 1) = fitN T n + 1 := by unfold fitN; rw [sumN_s, if_pos h]
theorem fitN_f {T : Nat → Nat} {n : Nat} (h : fitB T n (T 3) = false) : fitN T (n + 1) = fitN T n + 0 := by unfold fitN; rw [sumN_s, if_neg (by rw [h]; decide)]
set_option maxHeartbeats 4000000 in
theorem mp_fitting_b (l : Launch) (D : va_G) (b : Nat) (M0 : List va_E) {R T Ti P Rw : Nat → Nat} {kp : Bool} {td ro : Nat} (v : Int32) (hb : v < 0 ∨ nI 2 ≤ v) (h : md_P D b M0 R T Ti P Rw kp td ro) (hk : okT T) : fb_CT l D b yX7_fitting cX7_fitting 8 (some .int) 4 101 0 0 [.ref (b + 43), .int v] M0 (.returned (some (.int (-2)))) (fun M' => md_P D b M' (updN R 2 (R 2 + 1)) T Ti P Rw kp td ro ∧ md_F M0 M') := by
  refine fb_start [some (.ref (b + 43)), some (.int v), none, none, none, none, none, none] (by decide) (Nat.le_of_ble_eq_true rfl) rfl ?_
  intro x hl hD hb C E hx
  subst hl hD hb
  have C : fb_OK x cX7_fitting "FallsBetweenModel" "fitting" := C
  obtain ⟨Bf, F, L, aa, we, so, lo, hV⟩ := h
  have hF := md_F.rf M0
  obtain ⟨k0, k1, k2, k3, k4, k5, k6, k7, k8⟩ := id hk
  refine gx_iload_n (q := 1) C dX7_fitting_0 rfl rfl rfl ?_
  refine gx_if_lt (q := 4) (tgt := 9) C dX7_fitting_1 (by decide) rfl (fun c1 => ?_) (fun c1 => ?_)
  · refine gx_aload_n (q := 10) C dX7_fitting_9 rfl rfl rfl ?_
    refine gx_bipush (q := 12) (v := -2) C dX7_fitting_10 (by decide) rfl ?_
    refine gx_cs (q := 15) C E (sx_X7_49 (As := [_]) C hV.o rfl rfl dX7_fitting_12) (md_no _ _ _ _ (-2) 2 (by decide) (by decide) hV) kw_X7_no (by decide) (Nat.le_of_ble_eq_true rfl) rfl rfl (by omega) (by omega) dX7_fitting_12 rfl (fun M r12 => ?_)
    obtain ⟨hV, hG⟩ := r12
    have hF := hF.tr hG
    exact gx_iret C E dX7_fitting_15 (⟨⟨_, _, _, _, _, _, _, hV⟩, hF⟩) (by omega) (by omega)
  · refine gx_iload_n (q := 5) C dX7_fitting_4 rfl rfl rfl ?_
    refine gx_iconst (q := 6) (v := nI 1) C dX7_fitting_5 (by decide) rfl ?_
    refine gx_icmp_le (q := 9) (tgt := 16) C dX7_fitting_6 (by decide) rfl (fun c6 => by exfalso; exact Int32.not_le.mpr (lt_gt (by decide) (hb.resolve_left c1)) c6) (fun c6 => ?_)
    refine gx_aload_n (q := 10) C dX7_fitting_9 rfl rfl rfl ?_
    refine gx_bipush (q := 12) (v := -2) C dX7_fitting_10 (by decide) rfl ?_
    refine gx_cs (q := 15) C E (sx_X7_49 (As := [_]) C hV.o rfl rfl dX7_fitting_12) (md_no _ _ _ _ (-2) 2 (by decide) (by decide) hV) kw_X7_no (by decide) (Nat.le_of_ble_eq_true rfl) rfl rfl (by omega) (by omega) dX7_fitting_12 rfl (fun M r12 => ?_)
    obtain ⟨hV, hG⟩ := r12
    have hF := hF.tr hG
    exact gx_iret C E dX7_fitting_15 (⟨⟨_, _, _, _, _, _, _, hV⟩, hF⟩) (by omega) (by omega)
set_option maxHeartbeats 4000000 in
theorem mp_fitting_0 (l : Launch) (D : va_G) (b : Nat) (M0 : List va_E) {R T Ti P Rw : Nat → Nat} {kp : Bool} {td ro : Nat}  (h : md_P D b M0 R T Ti P Rw kp td ro) (hk : okT T) : fb_CT l D b yX7_fitting cX7_fitting 8 (some .int) 4 101 0 0 [.ref (b + 43), .int (nI 0)] M0 (.returned (some (.int (nI (fitV T 16))))) (fun M' => md_P D b M' R T Ti P Rw kp td ro ∧ md_F M0 M') := by
  refine fb_start [some (.ref (b + 43)), some (.int (nI 0)), none, none, none, none, none, none] (by decide) (Nat.le_of_ble_eq_true rfl) rfl ?_
  intro x hl hD hb C E hx
  subst hl hD hb
  have C : fb_OK x cX7_fitting "FallsBetweenModel" "fitting" := C
  obtain ⟨Bf, F, L, aa, we, so, lo, hV⟩ := h
  have hF := md_F.rf M0
  obtain ⟨k0, k1, k2, k3, k4, k5, k6, k7, k8⟩ := id hk
  refine gx_iload_n (q := 1) C dX7_fitting_0 rfl rfl rfl ?_
  refine gx_if_lt (q := 4) (tgt := 9) C dX7_fitting_1 (by decide) rfl (fun c1 => by exfalso; revert c1; decide) (fun c1 => ?_)
  refine gx_iload_n (q := 5) C dX7_fitting_4 rfl rfl rfl ?_
  refine gx_iconst (q := 6) (v := nI 1) C dX7_fitting_5 (by decide) rfl ?_
  refine gn_icmp_le (q := 9) (tgt := 16) C dX7_fitting_6 (by decide) rfl (by omega) (by omega) (fun c6 => ?_) (fun c6 => by exfalso; revert c6; decide)
  refine gx_aload_n (q := 17) C dX7_fitting_16 rfl rfl rfl ?_
  refine fg_X7_13 (q := 20) C hV.o rfl dX7_fitting_17 rfl ?_
  refine gx_iconst (q := 21) (v := nI 1) C dX7_fitting_20 (by decide) rfl ?_
  refine mv_ld_now (q := 22) C hV (by omega) dX7_fitting_21 rfl ?_
  refine gx_istore_n (q := 23) (lv' := [_, _, _, _, _, _, _, _]) C dX7_fitting_22 rfl (Nat.le_of_ble_eq_true rfl) E.2.2.2.symm rfl rfl rfl ?_
  refine gx_iconst (q := 24) (v := nI 0) C dX7_fitting_23 (by decide) rfl ?_
  refine gx_istore_n (q := 25) (lv' := [_, _, _, _, _, _, _, _]) C dX7_fitting_24 rfl (Nat.le_of_ble_eq_true rfl) E.2.2.2.symm rfl rfl rfl ?_
  refine gx_iconst (q := 26) (v := nI 0) C dX7_fitting_25 (by decide) rfl ?_
  refine gx_istore (q := 28) (lv' := [_, _, _, _, _, _, _, _]) C dX7_fitting_26 (Nat.le_of_ble_eq_true rfl) E.2.2.2.symm rfl rfl rfl ?_
  refine gx_iconst (q := 29) (v := nI 0) C dX7_fitting_28 (by decide) rfl ?_
  refine gx_istore (q := 31) (lv' := [_, _, _, _, _, _, _, _]) C dX7_fitting_29 (Nat.le_of_ble_eq_true rfl) E.2.2.2.symm rfl rfl rfl ?_
  have Lw : ∀ n, n ≤ 16 → ∀ (M : List va_E) (c : Nat) (L : Nat → Nat) (lo : Nat), md_V (cx_D x) (cx_b x) M R (updN T 1 c) Ti Bf P F L Rw kp td aa we so lo ro → md_F M0 M → fb_G x M 0 0 31 [some (.ref (cx_b x + 43)), some (.int (nI 0)), some (.int (nI (T 1))), some (.int (nI (fitV T n))), some (.int (nI (fitN T n))), some (.int (nI n)), none, none] [] := by
    refine fb_dn 16 ?_ ?_
    · intro M c L lo hV hF
      refine gx_iload (q := 33) C dX7_fitting_31 rfl rfl ?_
      refine gx_bipush (q := 35) (v := nI 16) C dX7_fitting_33 (by decide) rfl ?_
      refine gn_icmp_ge (q := 38) (tgt := 141) C dX7_fitting_35 (by decide) rfl (by omega) (by omega) (fun c35 => ?_) (fun c35 => by exfalso; omega)
      refine gx_aload_n (q := 142) C dX7_fitting_141 rfl rfl rfl ?_
      refine fg_X7_13 (q := 145) C hV.o rfl dX7_fitting_142 rfl ?_
      refine gx_iconst (q := 146) (v := nI 1) C dX7_fitting_145 (by decide) rfl ?_
      refine gx_iload_n (q := 147) C dX7_fitting_146 rfl rfl rfl ?_
      refine mv_st_now (q := 148) C hV hF (by omega) dX7_fitting_147 rfl (fun M hV hF => ?_)
      rw [updN_u, updN_r] at hV
      refine gx_iload_n (q := 149) C dX7_fitting_148 rfl rfl rfl ?_
      refine gn_if_ne (q := 152) (tgt := 156) C dX7_fitting_149 (by decide) rfl (by omega) (fun c149 => by exfalso; revert c149; decide) (fun c149 => ?_)
      refine gx_iload_n (q := 153) C dX7_fitting_152 rfl rfl rfl ?_
      refine gx_goto (tgt := 158) C dX7_fitting_153 (by decide) ?_
      exact gx_iret C E dX7_fitting_158 (⟨⟨_, _, _, _, _, _, _, hV⟩, hF⟩) (by omega) (by omega)
    · intro n hn ih M c L lo hV hF
      have hkn : okT (updN T 1 n) := okT_up hk (by omega)
      have e3 : updN T 1 n 3 = T 3 := updN_n T (by omega)
      refine gx_iload (q := 33) C dX7_fitting_31 rfl rfl ?_
      refine gx_bipush (q := 35) (v := nI 16) C dX7_fitting_33 (by decide) rfl ?_
      refine gn_icmp_ge (q := 38) (tgt := 141) C dX7_fitting_35 (by decide) rfl (by omega) (by omega) (fun c35 => by exfalso; omega) (fun c35 => ?_)
      refine gx_aload_n (q := 39) C dX7_fitting_38 rfl rfl rfl ?_
      refine fg_X7_13 (q := 42) C hV.o rfl dX7_fitting_39 rfl ?_
      refine gx_iconst (q := 43) (v := nI 1) C dX7_fitting_42 (by decide) rfl ?_
      refine gx_iload (q := 45) C dX7_fitting_43 rfl rfl ?_
      refine mv_st_now (q := 46) C hV hF (by omega) dX7_fitting_45 rfl (fun M hV hF => ?_)
      rw [updN_u] at hV
      refine gx_aload_n (q := 47) C dX7_fitting_46 rfl rfl rfl ?_
      refine gx_bipush (q := 49) (v := nI 63) C dX7_fitting_47 (by decide) rfl ?_
      refine gx_cv (q := 52) C E (sx_X7_127 (As := [_]) C hV.o rfl rfl dX7_fitting_49) (md_fall _ _ _ _ 63 (by decide) hV hkn) kw_X7_fall (by decide) (Nat.le_of_ble_eq_true rfl) rfl rfl (by omega) (by omega) dX7_fitting_49 rfl (fun M r49 => ?_)
      obtain ⟨hV, hG⟩ := r49
      have hF := hF.tr hG
      rw [mL_63f _ hkn.1] at hV
      refine gx_iconst (q := 53) (v := bI true) C dX7_fitting_52 (by decide) rfl ?_
      refine gx_istore (q := 55) (lv' := [_, _, _, _, _, _, _, _]) C dX7_fitting_53 (Nat.le_of_ble_eq_true rfl) E.2.2.2.symm rfl rfl rfl ?_
      refine gx_iconst (q := 56) (v := nI 0) C dX7_fitting_55 (by decide) rfl ?_
      refine gx_istore (q := 58) (lv' := [_, _, _, _, _, _, _, _]) C dX7_fitting_56 (Nat.le_of_ble_eq_true rfl) E.2.2.2.symm rfl rfl rfl ?_
      have Lk : ∀ k, k ≤ T 3 → fb_G x M 0 0 58 [some (.ref (cx_b x + 43)), some (.int (nI 0)), some (.int (nI (T 1))), some (.int (nI (fitV T n))), some (.int (nI (fitN T n))), some (.int (nI n)), some (.int (bI (fitB T n k))), some (.int (nI k))] [] := by
        refine fb_dn (T 3) ?_ ?_
        · skip
          refine gx_iload (q := 60) C dX7_fitting_58 rfl rfl ?_
          refine gx_aload_n (q := 61) C dX7_fitting_60 rfl rfl rfl ?_
          refine fg_X7_13 (q := 64) C hV.o rfl dX7_fitting_61 rfl ?_
          refine gx_iconst (q := 65) (v := nI 3) C dX7_fitting_64 (by decide) rfl ?_
          refine mv_ld_now (q := 66) C hV (by omega) dX7_fitting_65 rfl ?_
          rw [e3]
          refine gn_icmp_ge (q := 69) (tgt := 104) C dX7_fitting_66 (by decide) rfl (by omega) (by omega) (fun c66 => ?_) (fun c66 => by exfalso; omega)
          refine gx_iload_n (q := 105) C dX7_fitting_104 rfl rfl rfl ?_
          refine gx_iload (q := 107) C dX7_fitting_105 rfl rfl ?_
          refine gb_if_eq (q := 110) (tgt := 117) C dX7_fitting_107 (by decide) rfl (fun c107 => ?_) (fun c107 => ?_)
          · rw [fitV_f c107, fitN_f c107] at ih
            refine gx_iconst (q := 118) (v := nI 0) C dX7_fitting_117 (by decide) rfl ?_
            refine gx_ior (q := 119) C dX7_fitting_118 (ior_0 _) rfl ?_
            refine gx_istore_n (q := 120) (lv' := [_, _, _, _, _, _, _, _]) C dX7_fitting_119 rfl (Nat.le_of_ble_eq_true rfl) E.2.2.2.symm rfl rfl rfl ?_
            refine gx_iload (q := 122) C dX7_fitting_120 rfl rfl ?_
            refine gx_iload (q := 124) C dX7_fitting_122 rfl rfl ?_
            refine gb_if_eq (q := 127) (tgt := 131) C dX7_fitting_124 (by decide) rfl (fun c124 => ?_) (fun c124 => by exfalso; rw [c107] at c124; cases c124)
            refine gx_iconst (q := 132) (v := nI 0) C dX7_fitting_131 (by decide) rfl ?_
            refine gn_iadd (q := 133) C dX7_fitting_132 rfl ?_
            refine gx_istore (q := 135) (lv' := [_, _, _, _, _, _, _, _]) C dX7_fitting_133 (Nat.le_of_ble_eq_true rfl) E.2.2.2.symm rfl rfl rfl ?_
            refine gn_inc (q := 138) (lv' := [_, _, _, _, _, _, _, _]) C dX7_fitting_135 rfl E.2.2.2.symm rfl rfl rfl ?_
            refine gx_goto (tgt := 31) C dX7_fitting_138 (by decide) ?_
            refine gx_drop 6 ?_
            refine gx_drop 7 ?_
            exact ih M n _ _ hV hF
          · rw [fitV_t c107, fitN_t c107] at ih
            refine gx_iconst (q := 111) (v := nI 1) C dX7_fitting_110 (by decide) rfl ?_
            refine gx_iload (q := 113) C dX7_fitting_111 rfl rfl ?_
            refine gx_ishl (q := 114) C dX7_fitting_113 (shl_16 n (by omega)) rfl ?_
            refine gx_goto (tgt := 118) C dX7_fitting_114 (by decide) ?_
            refine gx_ior (q := 119) C dX7_fitting_118 (ior_ok (sumP_lt n)) rfl ?_
            refine gx_istore_n (q := 120) (lv' := [_, _, _, _, _, _, _, _]) C dX7_fitting_119 rfl (Nat.le_of_ble_eq_true rfl) E.2.2.2.symm rfl rfl rfl ?_
            refine gx_iload (q := 122) C dX7_fitting_120 rfl rfl ?_
            refine gx_iload (q := 124) C dX7_fitting_122 rfl rfl ?_
            refine gb_if_eq (q := 127) (tgt := 131) C dX7_fitting_124 (by decide) rfl (fun c124 => by exfalso; rw [c107] at c124; cases c124) (fun c124 => ?_)
            refine gx_iconst (q := 128) (v := nI 1) C dX7_fitting_127 (by decide) rfl ?_
            refine gx_goto (tgt := 132) C dX7_fitting_128 (by decide) ?_
            refine gn_iadd (q := 133) C dX7_fitting_132 rfl ?_
            refine gx_istore (q := 135) (lv' := [_, _, _, _, _, _, _, _]) C dX7_fitting_133 (Nat.le_of_ble_eq_true rfl) E.2.2.2.symm rfl rfl rfl ?_
            refine gn_inc (q := 138) (lv' := [_, _, _, _, _, _, _, _]) C dX7_fitting_135 rfl E.2.2.2.symm rfl rfl rfl ?_
            refine gx_goto (tgt := 31) C dX7_fitting_138 (by decide) ?_
            refine gx_drop 6 ?_
            refine gx_drop 7 ?_
            exact ih M n _ _ hV hF
        · intro k hk3 ihk
          rw [fitB_s] at ihk
          have hp := k4 k hk3
          have hl := lyT_le hkn (T (4 + k))
          refine gx_iload (q := 60) C dX7_fitting_58 rfl rfl ?_
          refine gx_aload_n (q := 61) C dX7_fitting_60 rfl rfl rfl ?_
          refine fg_X7_13 (q := 64) C hV.o rfl dX7_fitting_61 rfl ?_
          refine gx_iconst (q := 65) (v := nI 3) C dX7_fitting_64 (by decide) rfl ?_
          refine mv_ld_now (q := 66) C hV (by omega) dX7_fitting_65 rfl ?_
          rw [e3]
          refine gn_icmp_ge (q := 69) (tgt := 104) C dX7_fitting_66 (by decide) rfl (by omega) (by omega) (fun c66 => by exfalso; omega) (fun c66 => ?_)
          refine gx_iload (q := 71) C dX7_fitting_69 rfl rfl ?_
          refine gb_if_eq (q := 74) (tgt := 95) C dX7_fitting_71 (by decide) rfl (fun c71 => ?_) (fun c71 => ?_)
          · have hZ : bI false = bI (fitB T n k && decide (0 < lyT (updN T 1 n) (T (4 + k)))) := by rw [c71]; rfl
            refine gx_iconst (q := 96) (v := bI false) C dX7_fitting_95 (by decide) rfl ?_
            refine gx_istore (q := 98) (lv' := [_, _, _, _, _, _, _, _]) C dX7_fitting_96 (Nat.le_of_ble_eq_true rfl) E.2.2.2.symm rfl rfl rfl ?_
            refine gn_inc (q := 101) (lv' := [_, _, _, _, _, _, _, _]) C dX7_fitting_98 rfl E.2.2.2.symm rfl rfl rfl ?_
            refine gx_goto (tgt := 58) C dX7_fitting_101 (by decide) ?_
            rw [hZ]
            exact ihk
          · rw [c71] at ihk
            refine gx_aload_n (q := 75) C dX7_fitting_74 rfl rfl rfl ?_
            refine fg_X7_35 (q := 78) C hV.o rfl dX7_fitting_75 rfl ?_
            refine gx_aload_n (q := 79) C dX7_fitting_78 rfl rfl rfl ?_
            refine fg_X7_13 (q := 82) C hV.o rfl dX7_fitting_79 rfl ?_
            refine gx_iconst (q := 83) (v := nI 4) C dX7_fitting_82 (by decide) rfl ?_
            refine gx_iload (q := 85) C dX7_fitting_83 rfl rfl ?_
            refine gn_iadd (q := 86) C dX7_fitting_85 rfl ?_
            refine mv_ld_now (q := 87) C hV (by omega) dX7_fitting_86 rfl ?_
            rw [updN_n T (show ¬ 4 + k = 1 by omega)]
            refine mv_ld_lies (q := 88) C hV (hp) dX7_fitting_87 rfl ?_
            refine gx_top (show _ = nI (lyT (updN T 1 n) (T (4 + k))) from rfl) ?_
            refine gn_if_le (q := 91) (tgt := 95) C dX7_fitting_88 (by decide) rfl (by omega) (fun c88 => ?_) (fun c88 => ?_)
            · have hZ : bI false = bI (true && decide (0 < lyT (updN T 1 n) (T (4 + k)))) := by rw [c88]; rfl
              refine gx_iconst (q := 96) (v := bI false) C dX7_fitting_95 (by decide) rfl ?_
              refine gx_istore (q := 98) (lv' := [_, _, _, _, _, _, _, _]) C dX7_fitting_96 (Nat.le_of_ble_eq_true rfl) E.2.2.2.symm rfl rfl rfl ?_
              refine gn_inc (q := 101) (lv' := [_, _, _, _, _, _, _, _]) C dX7_fitting_98 rfl E.2.2.2.symm rfl rfl rfl ?_
              refine gx_goto (tgt := 58) C dX7_fitting_101 (by decide) ?_
              rw [hZ]
              exact ihk
            · have hZ : bI true = bI (true && decide (0 < lyT (updN T 1 n) (T (4 + k)))) := by rw [decide_eq_true c88]; rfl
              refine gx_iconst (q := 92) (v := bI true) C dX7_fitting_91 (by decide) rfl ?_
              refine gx_goto (tgt := 96) C dX7_fitting_92 (by decide) ?_
              refine gx_istore (q := 98) (lv' := [_, _, _, _, _, _, _, _]) C dX7_fitting_96 (Nat.le_of_ble_eq_true rfl) E.2.2.2.symm rfl rfl rfl ?_
              refine gn_inc (q := 101) (lv' := [_, _, _, _, _, _, _, _]) C dX7_fitting_98 rfl E.2.2.2.symm rfl rfl rfl ?_
              refine gx_goto (tgt := 58) C dX7_fitting_101 (by decide) ?_
              rw [hZ]
              exact ihk
      exact Lk 0 (by omega)
  exact Lw 0 (by omega) M0 (T 1) _ _ (by rw [updN_r]; exact hV) hF
set_option maxHeartbeats 4000000 in
theorem mp_fitting_1 (l : Launch) (D : va_G) (b : Nat) (M0 : List va_E) {R T Ti P Rw : Nat → Nat} {kp : Bool} {td ro : Nat}  (h : md_P D b M0 R T Ti P Rw kp td ro) (hk : okT T) : fb_CT l D b yX7_fitting cX7_fitting 8 (some .int) 4 101 0 0 [.ref (b + 43), .int (nI 1)] M0 (.returned (some (.int (nI (fitN T 16))))) (fun M' => md_P D b M' R T Ti P Rw kp td ro ∧ md_F M0 M') := by
  refine fb_start [some (.ref (b + 43)), some (.int (nI 1)), none, none, none, none, none, none] (by decide) (Nat.le_of_ble_eq_true rfl) rfl ?_
  intro x hl hD hb C E hx
  subst hl hD hb
  have C : fb_OK x cX7_fitting "FallsBetweenModel" "fitting" := C
  obtain ⟨Bf, F, L, aa, we, so, lo, hV⟩ := h
  have hF := md_F.rf M0
  obtain ⟨k0, k1, k2, k3, k4, k5, k6, k7, k8⟩ := id hk
  refine gx_iload_n (q := 1) C dX7_fitting_0 rfl rfl rfl ?_
  refine gx_if_lt (q := 4) (tgt := 9) C dX7_fitting_1 (by decide) rfl (fun c1 => by exfalso; revert c1; decide) (fun c1 => ?_)
  refine gx_iload_n (q := 5) C dX7_fitting_4 rfl rfl rfl ?_
  refine gx_iconst (q := 6) (v := nI 1) C dX7_fitting_5 (by decide) rfl ?_
  refine gn_icmp_le (q := 9) (tgt := 16) C dX7_fitting_6 (by decide) rfl (by omega) (by omega) (fun c6 => ?_) (fun c6 => by exfalso; revert c6; decide)
  refine gx_aload_n (q := 17) C dX7_fitting_16 rfl rfl rfl ?_
  refine fg_X7_13 (q := 20) C hV.o rfl dX7_fitting_17 rfl ?_
  refine gx_iconst (q := 21) (v := nI 1) C dX7_fitting_20 (by decide) rfl ?_
  refine mv_ld_now (q := 22) C hV (by omega) dX7_fitting_21 rfl ?_
  refine gx_istore_n (q := 23) (lv' := [_, _, _, _, _, _, _, _]) C dX7_fitting_22 rfl (Nat.le_of_ble_eq_true rfl) E.2.2.2.symm rfl rfl rfl ?_
  refine gx_iconst (q := 24) (v := nI 0) C dX7_fitting_23 (by decide) rfl ?_
  refine gx_istore_n (q := 25) (lv' := [_, _, _, _, _, _, _, _]) C dX7_fitting_24 rfl (Nat.le_of_ble_eq_true rfl) E.2.2.2.symm rfl rfl rfl ?_
  refine gx_iconst (q := 26) (v := nI 0) C dX7_fitting_25 (by decide) rfl ?_
  refine gx_istore (q := 28) (lv' := [_, _, _, _, _, _, _, _]) C dX7_fitting_26 (Nat.le_of_ble_eq_true rfl) E.2.2.2.symm rfl rfl rfl ?_
  refine gx_iconst (q := 29) (v := nI 0) C dX7_fitting_28 (by decide) rfl ?_
  refine gx_istore (q := 31) (lv' := [_, _, _, _, _, _, _, _]) C dX7_fitting_29 (Nat.le_of_ble_eq_true rfl) E.2.2.2.symm rfl rfl rfl ?_
  have Lw : ∀ n, n ≤ 16 → ∀ (M : List va_E) (c : Nat) (L : Nat → Nat) (lo : Nat), md_V (cx_D x) (cx_b x) M R (updN T 1 c) Ti Bf P F L Rw kp td aa we so lo ro → md_F M0 M → fb_G x M 0 0 31 [some (.ref (cx_b x + 43)), some (.int (nI 1)), some (.int (nI (T 1))), some (.int (nI (fitV T n))), some (.int (nI (fitN T n))), some (.int (nI n)), none, none] [] := by
    refine fb_dn 16 ?_ ?_
    · intro M c L lo hV hF
      refine gx_iload (q := 33) C dX7_fitting_31 rfl rfl ?_
      refine gx_bipush (q := 35) (v := nI 16) C dX7_fitting_33 (by decide) rfl ?_
      refine gn_icmp_ge (q := 38) (tgt := 141) C dX7_fitting_35 (by decide) rfl (by omega) (by omega) (fun c35 => ?_) (fun c35 => by exfalso; omega)
      refine gx_aload_n (q := 142) C dX7_fitting_141 rfl rfl rfl ?_
      refine fg_X7_13 (q := 145) C hV.o rfl dX7_fitting_142 rfl ?_
      refine gx_iconst (q := 146) (v := nI 1) C dX7_fitting_145 (by decide) rfl ?_
      refine gx_iload_n (q := 147) C dX7_fitting_146 rfl rfl rfl ?_
      refine mv_st_now (q := 148) C hV hF (by omega) dX7_fitting_147 rfl (fun M hV hF => ?_)
      rw [updN_u, updN_r] at hV
      refine gx_iload_n (q := 149) C dX7_fitting_148 rfl rfl rfl ?_
      refine gn_if_ne (q := 152) (tgt := 156) C dX7_fitting_149 (by decide) rfl (by omega) (fun c149 => ?_) (fun c149 => by exfalso; revert c149; decide)
      refine gx_iload (q := 158) C dX7_fitting_156 rfl rfl ?_
      exact gx_iret C E dX7_fitting_158 (⟨⟨_, _, _, _, _, _, _, hV⟩, hF⟩) (by omega) (by omega)
    · intro n hn ih M c L lo hV hF
      have hkn : okT (updN T 1 n) := okT_up hk (by omega)
      have e3 : updN T 1 n 3 = T 3 := updN_n T (by omega)
      refine gx_iload (q := 33) C dX7_fitting_31 rfl rfl ?_
      refine gx_bipush (q := 35) (v := nI 16) C dX7_fitting_33 (by decide) rfl ?_
      refine gn_icmp_ge (q := 38) (tgt := 141) C dX7_fitting_35 (by decide) rfl (by omega) (by omega) (fun c35 => by exfalso; omega) (fun c35 => ?_)
      refine gx_aload_n (q := 39) C dX7_fitting_38 rfl rfl rfl ?_
      refine fg_X7_13 (q := 42) C hV.o rfl dX7_fitting_39 rfl ?_
      refine gx_iconst (q := 43) (v := nI 1) C dX7_fitting_42 (by decide) rfl ?_
      refine gx_iload (q := 45) C dX7_fitting_43 rfl rfl ?_
      refine mv_st_now (q := 46) C hV hF (by omega) dX7_fitting_45 rfl (fun M hV hF => ?_)
      rw [updN_u] at hV
      refine gx_aload_n (q := 47) C dX7_fitting_46 rfl rfl rfl ?_
      refine gx_bipush (q := 49) (v := nI 63) C dX7_fitting_47 (by decide) rfl ?_
      refine gx_cv (q := 52) C E (sx_X7_127 (As := [_]) C hV.o rfl rfl dX7_fitting_49) (md_fall _ _ _ _ 63 (by decide) hV hkn) kw_X7_fall (by decide) (Nat.le_of_ble_eq_true rfl) rfl rfl (by omega) (by omega) dX7_fitting_49 rfl (fun M r49 => ?_)
      obtain ⟨hV, hG⟩ := r49
      have hF := hF.tr hG
      rw [mL_63f _ hkn.1] at hV
      refine gx_iconst (q := 53) (v := bI true) C dX7_fitting_52 (by decide) rfl ?_
      refine gx_istore (q := 55) (lv' := [_, _, _, _, _, _, _, _]) C dX7_fitting_53 (Nat.le_of_ble_eq_true rfl) E.2.2.2.symm rfl rfl rfl ?_
      refine gx_iconst (q := 56) (v := nI 0) C dX7_fitting_55 (by decide) rfl ?_
      refine gx_istore (q := 58) (lv' := [_, _, _, _, _, _, _, _]) C dX7_fitting_56 (Nat.le_of_ble_eq_true rfl) E.2.2.2.symm rfl rfl rfl ?_
      have Lk : ∀ k, k ≤ T 3 → fb_G x M 0 0 58 [some (.ref (cx_b x + 43)), some (.int (nI 1)), some (.int (nI (T 1))), some (.int (nI (fitV T n))), some (.int (nI (fitN T n))), some (.int (nI n)), some (.int (bI (fitB T n k))), some (.int (nI k))] [] := by
        refine fb_dn (T 3) ?_ ?_
        · skip
          refine gx_iload (q := 60) C dX7_fitting_58 rfl rfl ?_
          refine gx_aload_n (q := 61) C dX7_fitting_60 rfl rfl rfl ?_
          refine fg_X7_13 (q := 64) C hV.o rfl dX7_fitting_61 rfl ?_
          refine gx_iconst (q := 65) (v := nI 3) C dX7_fitting_64 (by decide) rfl ?_
          refine mv_ld_now (q := 66) C hV (by omega) dX7_fitting_65 rfl ?_
          rw [e3]
          refine gn_icmp_ge (q := 69) (tgt := 104) C dX7_fitting_66 (by decide) rfl (by omega) (by omega) (fun c66 => ?_) (fun c66 => by exfalso; omega)
          refine gx_iload_n (q := 105) C dX7_fitting_104 rfl rfl rfl ?_
          refine gx_iload (q := 107) C dX7_fitting_105 rfl rfl ?_
          refine gb_if_eq (q := 110) (tgt := 117) C dX7_fitting_107 (by decide) rfl (fun c107 => ?_) (fun c107 => ?_)
          · rw [fitV_f c107, fitN_f c107] at ih
            refine gx_iconst (q := 118) (v := nI 0) C dX7_fitting_117 (by decide) rfl ?_
            refine gx_ior (q := 119) C dX7_fitting_118 (ior_0 _) rfl ?_
            refine gx_istore_n (q := 120) (lv' := [_, _, _, _, _, _, _, _]) C dX7_fitting_119 rfl (Nat.le_of_ble_eq_true rfl) E.2.2.2.symm rfl rfl rfl ?_
            refine gx_iload (q := 122) C dX7_fitting_120 rfl rfl ?_
            refine gx_iload (q := 124) C dX7_fitting_122 rfl rfl ?_
            refine gb_if_eq (q := 127) (tgt := 131) C dX7_fitting_124 (by decide) rfl (fun c124 => ?_) (fun c124 => by exfalso; rw [c107] at c124; cases c124)
            refine gx_iconst (q := 132) (v := nI 0) C dX7_fitting_131 (by decide) rfl ?_
            refine gn_iadd (q := 133) C dX7_fitting_132 rfl ?_
            refine gx_istore (q := 135) (lv' := [_, _, _, _, _, _, _, _]) C dX7_fitting_133 (Nat.le_of_ble_eq_true rfl) E.2.2.2.symm rfl rfl rfl ?_
            refine gn_inc (q := 138) (lv' := [_, _, _, _, _, _, _, _]) C dX7_fitting_135 rfl E.2.2.2.symm rfl rfl rfl ?_
            refine gx_goto (tgt := 31) C dX7_fitting_138 (by decide) ?_
            refine gx_drop 6 ?_
            refine gx_drop 7 ?_
            exact ih M n _ _ hV hF
          · rw [fitV_t c107, fitN_t c107] at ih
            refine gx_iconst (q := 111) (v := nI 1) C dX7_fitting_110 (by decide) rfl ?_
            refine gx_iload (q := 113) C dX7_fitting_111 rfl rfl ?_
            refine gx_ishl (q := 114) C dX7_fitting_113 (shl_16 n (by omega)) rfl ?_
            refine gx_goto (tgt := 118) C dX7_fitting_114 (by decide) ?_
            refine gx_ior (q := 119) C dX7_fitting_118 (ior_ok (sumP_lt n)) rfl ?_
            refine gx_istore_n (q := 120) (lv' := [_, _, _, _, _, _, _, _]) C dX7_fitting_119 rfl (Nat.le_of_ble_eq_true rfl) E.2.2.2.symm rfl rfl rfl ?_
            refine gx_iload (q := 122) C dX7_fitting_120 rfl rfl ?_
            refine gx_iload (q := 124) C dX7_fitting_122 rfl rfl ?_
            refine gb_if_eq (q := 127) (tgt := 131) C dX7_fitting_124 (by decide) rfl (fun c124 => by exfalso; rw [c107] at c124; cases c124) (fun c124 => ?_)
            refine gx_iconst (q := 128) (v := nI 1) C dX7_fitting_127 (by decide) rfl ?_
            refine gx_goto (tgt := 132) C dX7_fitting_128 (by decide) ?_
            refine gn_iadd (q := 133) C dX7_fitting_132 rfl ?_
            refine gx_istore (q := 135) (lv' := [_, _, _, _, _, _, _, _]) C dX7_fitting_133 (Nat.le_of_ble_eq_true rfl) E.2.2.2.symm rfl rfl rfl ?_
            refine gn_inc (q := 138) (lv' := [_, _, _, _, _, _, _, _]) C dX7_fitting_135 rfl E.2.2.2.symm rfl rfl rfl ?_
            refine gx_goto (tgt := 31) C dX7_fitting_138 (by decide) ?_
            refine gx_drop 6 ?_
            refine gx_drop 7 ?_
            exact ih M n _ _ hV hF
        · intro k hk3 ihk
          rw [fitB_s] at ihk
          have hp := k4 k hk3
          have hl := lyT_le hkn (T (4 + k))
          refine gx_iload (q := 60) C dX7_fitting_58 rfl rfl ?_
          refine gx_aload_n (q := 61) C dX7_fitting_60 rfl rfl rfl ?_
          refine fg_X7_13 (q := 64) C hV.o rfl dX7_fitting_61 rfl ?_
          refine gx_iconst (q := 65) (v := nI 3) C dX7_fitting_64 (by decide) rfl ?_
          refine mv_ld_now (q := 66) C hV (by omega) dX7_fitting_65 rfl ?_
          rw [e3]
          refine gn_icmp_ge (q := 69) (tgt := 104) C dX7_fitting_66 (by decide) rfl (by omega) (by omega) (fun c66 => by exfalso; omega) (fun c66 => ?_)
          refine gx_iload (q := 71) C dX7_fitting_69 rfl rfl ?_
          refine gb_if_eq (q := 74) (tgt := 95) C dX7_fitting_71 (by decide) rfl (fun c71 => ?_) (fun c71 => ?_)
          · have hZ : bI false = bI (fitB T n k && decide (0 < lyT (updN T 1 n) (T (4 + k)))) := by rw [c71]; rfl
            refine gx_iconst (q := 96) (v := bI false) C dX7_fitting_95 (by decide) rfl ?_
            refine gx_istore (q := 98) (lv' := [_, _, _, _, _, _, _, _]) C dX7_fitting_96 (Nat.le_of_ble_eq_true rfl) E.2.2.2.symm rfl rfl rfl ?_
            refine gn_inc (q := 101) (lv' := [_, _, _, _, _, _, _, _]) C dX7_fitting_98 rfl E.2.2.2.symm rfl rfl rfl ?_
            refine gx_goto (tgt := 58) C dX7_fitting_101 (by decide) ?_
            rw [hZ]
            exact ihk
          · rw [c71] at ihk
            refine gx_aload_n (q := 75) C dX7_fitting_74 rfl rfl rfl ?_
            refine fg_X7_35 (q := 78) C hV.o rfl dX7_fitting_75 rfl ?_
            refine gx_aload_n (q := 79) C dX7_fitting_78 rfl rfl rfl ?_
            refine fg_X7_13 (q := 82) C hV.o rfl dX7_fitting_79 rfl ?_
            refine gx_iconst (q := 83) (v := nI 4) C dX7_fitting_82 (by decide) rfl ?_
            refine gx_iload (q := 85) C dX7_fitting_83 rfl rfl ?_
            refine gn_iadd (q := 86) C dX7_fitting_85 rfl ?_
            refine mv_ld_now (q := 87) C hV (by omega) dX7_fitting_86 rfl ?_
            rw [updN_n T (show ¬ 4 + k = 1 by omega)]
            refine mv_ld_lies (q := 88) C hV (hp) dX7_fitting_87 rfl ?_
            refine gx_top (show _ = nI (lyT (updN T 1 n) (T (4 + k))) from rfl) ?_
            refine gn_if_le (q := 91) (tgt := 95) C dX7_fitting_88 (by decide) rfl (by omega) (fun c88 => ?_) (fun c88 => ?_)
            · have hZ : bI false = bI (true && decide (0 < lyT (updN T 1 n) (T (4 + k)))) := by rw [c88]; rfl
              refine gx_iconst (q := 96) (v := bI false) C dX7_fitting_95 (by decide) rfl ?_
              refine gx_istore (q := 98) (lv' := [_, _, _, _, _, _, _, _]) C dX7_fitting_96 (Nat.le_of_ble_eq_true rfl) E.2.2.2.symm rfl rfl rfl ?_
              refine gn_inc (q := 101) (lv' := [_, _, _, _, _, _, _, _]) C dX7_fitting_98 rfl E.2.2.2.symm rfl rfl rfl ?_
              refine gx_goto (tgt := 58) C dX7_fitting_101 (by decide) ?_
              rw [hZ]
              exact ihk
            · have hZ : bI true = bI (true && decide (0 < lyT (updN T 1 n) (T (4 + k)))) := by rw [decide_eq_true c88]; rfl
              refine gx_iconst (q := 92) (v := bI true) C dX7_fitting_91 (by decide) rfl ?_
              refine gx_goto (tgt := 96) C dX7_fitting_92 (by decide) ?_
              refine gx_istore (q := 98) (lv' := [_, _, _, _, _, _, _, _]) C dX7_fitting_96 (Nat.le_of_ble_eq_true rfl) E.2.2.2.symm rfl rfl rfl ?_
              refine gn_inc (q := 101) (lv' := [_, _, _, _, _, _, _, _]) C dX7_fitting_98 rfl E.2.2.2.symm rfl rfl rfl ?_
              refine gx_goto (tgt := 58) C dX7_fitting_101 (by decide) ?_
              rw [hZ]
              exact ihk
      exact Lk 0 (by omega)
  exact Lw 0 (by omega) M0 (T 1) _ _ (by rw [updN_r]; exact hV) hF
set_option maxHeartbeats 4000000 in
theorem mp_judge_b (l : Launch) (D : va_G) (b : Nat) (M0 : List va_E) {R T Ti P Rw : Nat → Nat} {kp : Bool} {td ro : Nat} (v : Int32) (hb : v < 0 ∨ nI 4 ≤ v) (h : md_P D b M0 R T Ti P Rw kp td ro) (hk : okT T) : fb_CT l D b yX7_judge cX7_judge 5 (some .int) 4 101 0 0 [.ref (b + 43), .int v] M0 (.returned (some (.int (-1)))) (fun M' => md_P D b M' (updN R 1 (R 1 + 1)) T Ti P Rw kp td ro ∧ md_F M0 M') := by
  refine fb_start [some (.ref (b + 43)), some (.int v), none, none, none] (by decide) (Nat.le_of_ble_eq_true rfl) rfl ?_
  intro x hl hD hb C E hx
  subst hl hD hb
  have C : fb_OK x cX7_judge "FallsBetweenModel" "judge" := C
  obtain ⟨Bf, F, L, aa, we, so, lo, hV⟩ := h
  have hF := md_F.rf M0
  obtain ⟨k0, k1, k2, k3, k4, k5, k6, k7, k8⟩ := id hk
  refine gx_iload_n (q := 1) C dX7_judge_0 rfl rfl rfl ?_
  refine gx_iconst (q := 2) (v := nI 4) C dX7_judge_1 (by decide) rfl ?_
  refine gx_cp (q := 5) C E (sx_X7_124 (As := [_, _]) C rfl rfl dX7_judge_2) (md_isNone_t _ _ _ _ v (nI 4) hb) kw_X7_isNone (by decide) (Nat.le_of_ble_eq_true rfl) (by omega) (by omega) dX7_judge_2 rfl ?_
  refine gb_if_eq (q := 8) (tgt := 14) C dX7_judge_5 (by decide) rfl (fun c5 => by exfalso; cases c5) (fun c5 => ?_)
  refine gx_aload_n (q := 9) C dX7_judge_8 rfl rfl rfl ?_
  refine gx_iconst (q := 10) (v := -1) C dX7_judge_9 (by decide) rfl ?_
  refine gx_cs (q := 13) C E (sx_X7_49 (As := [_]) C hV.o rfl rfl dX7_judge_10) (md_no _ _ _ _ (-1) 1 (by decide) (by decide) hV) kw_X7_no (by decide) (Nat.le_of_ble_eq_true rfl) rfl rfl (by omega) (by omega) dX7_judge_10 rfl (fun M r10 => ?_)
  obtain ⟨hV, hG⟩ := r10
  have hF := hF.tr hG
  exact gx_iret C E dX7_judge_13 (⟨⟨_, _, _, _, _, _, _, hV⟩, hF⟩) (by omega) (by omega)
theorem judB_1 {T : Nat → Nat} {g q : Nat} (h : 36 ≤ q) : judB T g q = false := by unfold judB; rw [decide_eq_false (by omega)]; rfl
theorem judB_2 {T : Nat → Nat} {g q : Nat} (h : ¬ T (12 + q) = g) : judB T g q = false := by unfold judB; rw [decide_eq_false h, Bool.and_false]; rfl
theorem judB_3 {T : Nat → Nat} {g q : Nat} (h : nob T q = true) : judB T g q = false := by unfold judB; rw [h]; simp
theorem judB_4 {T : Nat → Nat} {g q : Nat} (h : lyT T q = 0) : judB T g q = false := by unfold judB; rw [h]; simp
theorem judB_5 {T : Nat → Nat} {g q : Nat} (h1 : q < 36) (h2 : T (12 + q) = g) (h3 : nob T q = false) (h4 : 0 < lyT T q) : judB T g q = true := by unfold judB; rw [h3, decide_eq_true h1, decide_eq_true h2, decide_eq_true h4]; rfl
theorem judV_i {T Rw : Nat → Nat} {g n k : Nat} (hk : k < n) (h : judB T g (Rw k) = false) (hp : ∀ j, j < k → judB T g (Rw j) = true) : judV T Rw g n = some k := fstN_some n hk (by rw [h]; rfl) fun t ht => by rw [hp t ht]; rfl
theorem judV_n {T Rw : Nat → Nat} {g n : Nat} (hp : ∀ j, j < n → judB T g (Rw j) = true) : judV T Rw g n = none := fstN_none n fun t ht => by rw [hp t ht]; rfl
set_option maxHeartbeats 4000000 in
theorem mp_judge_o (l : Launch) (D : va_G) (b : Nat) (M0 : List va_E) {R T Ti P Rw : Nat → Nat} {kp : Bool} {td ro : Nat} (g : Nat) (hg : g < 4) (hr : ro ≤ 12) (hRw : ∀ i, i < ro → Rw i < 100) (h : md_P D b M0 R T Ti P Rw kp td ro) (hk : okT T) : fb_CT l D b yX7_judge cX7_judge 5 (some .int) 4 101 0 0 [.ref (b + 43), .int (nI g)] M0 (.returned (some (.int (sq_ (judV T Rw g ro))))) (fun M' => md_P D b M' R T Ti P Rw kp td 0 ∧ md_F M0 M') := by
  refine fb_start [some (.ref (b + 43)), some (.int (nI g)), none, none, none] (by decide) (Nat.le_of_ble_eq_true rfl) rfl ?_
  intro x hl hD hb C E hx
  subst hl hD hb
  have C : fb_OK x cX7_judge "FallsBetweenModel" "judge" := C
  obtain ⟨Bf, F, L, aa, we, so, lo, hV⟩ := h
  have hF := md_F.rf M0
  obtain ⟨k0, k1, k2, k3, k4, k5, k6, k7, k8⟩ := id hk
  refine gx_iload_n (q := 1) C dX7_judge_0 rfl rfl rfl ?_
  refine gx_iconst (q := 2) (v := nI 4) C dX7_judge_1 (by decide) rfl ?_
  refine gx_cp (q := 5) C E (sx_X7_124 (As := [_, _]) C rfl rfl dX7_judge_2) (md_isNone_n _ _ _ _ g 4 hg (by omega)) kw_X7_isNone (by decide) (Nat.le_of_ble_eq_true rfl) (by omega) (by omega) dX7_judge_2 rfl ?_
  refine gb_if_eq (q := 8) (tgt := 14) C dX7_judge_5 (by decide) rfl (fun c5 => ?_) (fun c5 => by exfalso; cases c5)
  refine gx_aload_n (q := 15) C dX7_judge_14 rfl rfl rfl ?_
  refine fg_X7_151 (q := 18) C hV.o rfl dX7_judge_15 rfl ?_
  refine gx_istore_n (q := 19) (lv' := [_, _, _, _, _]) C dX7_judge_18 rfl (Nat.le_of_ble_eq_true rfl) E.2.2.2.symm rfl rfl rfl ?_
  refine gx_aload_n (q := 20) C dX7_judge_19 rfl rfl rfl ?_
  refine gx_iconst (q := 21) (v := nI 0) C dX7_judge_20 (by decide) rfl ?_
  refine mv_pf_rows (q := 24) C hV hF dX7_judge_21 rfl (fun M hV hF => ?_)
  refine gx_aload_n (q := 25) C dX7_judge_24 rfl rfl rfl ?_
  refine gx_bipush (q := 27) (v := nI 63) C dX7_judge_25 (by decide) rfl ?_
  refine gx_cv (q := 30) C E (sx_X7_127 (As := [_]) C hV.o rfl rfl dX7_judge_27) (md_fall _ _ _ _ 63 (by decide) hV hk) kw_X7_fall (by decide) (Nat.le_of_ble_eq_true rfl) rfl rfl (by omega) (by omega) dX7_judge_27 rfl (fun M r27 => ?_)
  obtain ⟨hV, hG⟩ := r27
  have hF := hF.tr hG
  rw [mL_63f _ hk.1] at hV
  refine gx_iconst (q := 31) (v := nI 0) C dX7_judge_30 (by decide) rfl ?_
  refine gx_istore_n (q := 32) (lv' := [_, _, _, _, _]) C dX7_judge_31 rfl (Nat.le_of_ble_eq_true rfl) E.2.2.2.symm rfl rfl rfl ?_
  have Lj : ∀ k, k ≤ ro → (∀ j, j < k → judB T g (Rw j) = true) → fb_G x M 0 0 32 [some (.ref (cx_b x + 43)), some (.int (nI g)), some (.int (nI ro)), some (.int (nI k)), none] [] := by
    refine fb_dn ro ?_ ?_
    · intro hp
      refine gx_iload_n (q := 33) C dX7_judge_32 rfl rfl rfl ?_
      refine gx_iload_n (q := 34) C dX7_judge_33 rfl rfl rfl ?_
      refine gn_icmp_ge (q := 37) (tgt := 93) C dX7_judge_34 (by decide) rfl (by omega) (by omega) (fun c34 => ?_) (fun c34 => by exfalso; omega)
      refine gx_bipush (q := 95) (v := -9) C dX7_judge_93 (by decide) rfl ?_
      exact gx_iretE C E (by rw [judV_n hp]; rfl) dX7_judge_95 (⟨⟨_, _, _, _, _, _, _, hV⟩, hF⟩) (by omega) (by omega)
    · intro k hk3 ih hp
      refine gx_iload_n (q := 33) C dX7_judge_32 rfl rfl rfl ?_
      refine gx_iload_n (q := 34) C dX7_judge_33 rfl rfl rfl ?_
      refine gn_icmp_ge (q := 37) (tgt := 93) C dX7_judge_34 (by decide) rfl (by omega) (by omega) (fun c34 => by exfalso; omega) (fun c34 => ?_)
      refine gx_aload_n (q := 38) C dX7_judge_37 rfl rfl rfl ?_
      refine fg_X7_38 (q := 41) C hV.o rfl dX7_judge_38 rfl ?_
      refine gx_iload_n (q := 42) C dX7_judge_41 rfl rfl rfl ?_
      refine mv_ld_row (q := 43) C hV (by omega) dX7_judge_42 rfl ?_
      have hb3 := hRw k (by omega)
      refine gx_istore (q := 45) (lv' := [_, _, _, _, _]) C dX7_judge_43 (Nat.le_of_ble_eq_true rfl) E.2.2.2.symm rfl rfl rfl ?_
      refine gx_iload (q := 47) C dX7_judge_45 rfl rfl ?_
      refine gx_bipush (q := 49) (v := nI 36) C dX7_judge_47 (by decide) rfl ?_
      refine gn_icmp_ge (q := 52) (tgt := 85) C dX7_judge_49 (by decide) rfl (by omega) (by omega) (fun c49 => ?_) (fun c49 => ?_)
      · have hZ : judB T g (Rw k) = false := judB_1 c49
        refine gx_iload_n (q := 86) C dX7_judge_85 rfl rfl rfl ?_
        exact gx_iretE C E (by rw [judV_i (by omega) hZ hp]; rfl) dX7_judge_86 (⟨⟨_, _, _, _, _, _, _, hV⟩, hF⟩) (by omega) (by omega)
      · have h5 := k5 _ c49
        refine gx_aload_n (q := 53) C dX7_judge_52 rfl rfl rfl ?_
        refine fg_X7_13 (q := 56) C hV.o rfl dX7_judge_53 rfl ?_
        refine gx_bipush (q := 58) (v := nI 12) C dX7_judge_56 (by decide) rfl ?_
        refine gx_iload (q := 60) C dX7_judge_58 rfl rfl ?_
        refine gn_iadd (q := 61) C dX7_judge_60 rfl ?_
        refine mv_ld_now (q := 62) C hV (by omega) dX7_judge_61 rfl ?_
        refine gx_iload_n (q := 63) C dX7_judge_62 rfl rfl rfl ?_
        refine gn_icmp_ne (q := 66) (tgt := 85) C dX7_judge_63 (by decide) rfl (by omega) (by omega) (fun c63 => ?_) (fun c63 => ?_)
        · have hZ : judB T g (Rw k) = false := judB_2 c63
          refine gx_iload_n (q := 86) C dX7_judge_85 rfl rfl rfl ?_
          exact gx_iretE C E (by rw [judV_i (by omega) hZ hp]; rfl) dX7_judge_86 (⟨⟨_, _, _, _, _, _, _, hV⟩, hF⟩) (by omega) (by omega)
        · refine gx_aload_n (q := 67) C dX7_judge_66 rfl rfl rfl ?_
          refine gx_iload (q := 69) C dX7_judge_67 rfl rfl ?_
          refine gx_cp (q := 72) C E (sx_X7_121 (As := [_]) C hV.o rfl rfl dX7_judge_69) (md_isNobodys _ _ _ _ (Rw k) c49 hV hk) kw_X7_isNobodys (by decide) (Nat.le_of_ble_eq_true rfl) (by omega) (by omega) dX7_judge_69 rfl ?_
          refine gb_if_ne (q := 75) (tgt := 85) C dX7_judge_72 (by decide) rfl (fun c72 => ?_) (fun c72 => ?_)
          · have hZ : judB T g (Rw k) = false := judB_3 c72
            refine gx_iload_n (q := 86) C dX7_judge_85 rfl rfl rfl ?_
            exact gx_iretE C E (by rw [judV_i (by omega) hZ hp]; rfl) dX7_judge_86 (⟨⟨_, _, _, _, _, _, _, hV⟩, hF⟩) (by omega) (by omega)
          · refine gx_aload_n (q := 76) C dX7_judge_75 rfl rfl rfl ?_
            refine fg_X7_35 (q := 79) C hV.o rfl dX7_judge_76 rfl ?_
            refine gx_iload (q := 81) C dX7_judge_79 rfl rfl ?_
            refine mv_ld_lies (q := 82) C hV (c49) dX7_judge_81 rfl ?_
            have hl := lyT_le hk (Rw k)
            refine gx_top (show _ = nI (lyT T (Rw k)) from rfl) ?_
            refine gn_if_ne (q := 85) (tgt := 87) C dX7_judge_82 (by decide) rfl (by omega) (fun c82 => ?_) (fun c82 => ?_)
            · have hp : ∀ j, j < k + 1 → judB T g (Rw j) = true := fun j hj => by
                by_cases e : j = k
                · subst e; exact judB_5 c49 c63 c72 (by omega)
                · exact hp j (by omega)
              refine gn_inc (q := 90) (lv' := [_, _, _, _, _]) C dX7_judge_87 rfl E.2.2.2.symm rfl rfl rfl ?_
              refine gx_goto (tgt := 32) C dX7_judge_90 (by decide) ?_
              refine gx_drop 4 ?_
              exact ih hp
            · have hZ : judB T g (Rw k) = false := judB_4 c82
              refine gx_iload_n (q := 86) C dX7_judge_85 rfl rfl rfl ?_
              exact gx_iretE C E (by rw [judV_i (by omega) hZ hp]; rfl) dX7_judge_86 (⟨⟨_, _, _, _, _, _, _, hV⟩, hF⟩) (by omega) (by omega)
  exact Lj 0 (by omega) (fun j hj => absurd hj (Nat.not_lt_zero j))
set_option maxHeartbeats 4000000 in
theorem mp_seeds_b1 (l : Launch) (D : va_G) (b : Nat) (M0 : List va_E) {R T Ti P Rw : Nat → Nat} {kp : Bool} {td ro : Nat} (v : Int32) (hb : v < 0 ∨ nI 4 ≤ v) (w u : Int32) (h : md_P D b M0 R T Ti P Rw kp td ro) (hk : okT T) : fb_CT l D b yX7_seeds cX7_seeds 8 (some .int) 4 101 0 0 [.ref (b + 43), .int w, .int u, .int v] M0 (.returned (some (.int (-1)))) (fun M' => md_P D b M' (updN R 1 (R 1 + 1)) T Ti P Rw kp td ro ∧ md_F M0 M') := by
  refine fb_start [some (.ref (b + 43)), some (.int w), some (.int u), some (.int v), none, none, none, none] (by decide) (Nat.le_of_ble_eq_true rfl) rfl ?_
  intro x hl hD hb C E hx
  subst hl hD hb
  have C : fb_OK x cX7_seeds "FallsBetweenModel" "seeds" := C
  obtain ⟨Bf, F, L, aa, we, so, lo, hV⟩ := h
  have hF := md_F.rf M0
  obtain ⟨k0, k1, k2, k3, k4, k5, k6, k7, k8⟩ := id hk
  refine gx_iload_n (q := 1) C dX7_seeds_0 rfl rfl rfl ?_
  refine gx_iconst (q := 2) (v := nI 4) C dX7_seeds_1 (by decide) rfl ?_
  refine gx_cp (q := 5) C E (sx_X7_124 (As := [_, _]) C rfl rfl dX7_seeds_2) (md_isNone_t _ _ _ _ v (nI 4) hb) kw_X7_isNone (by decide) (Nat.le_of_ble_eq_true rfl) (by omega) (by omega) dX7_seeds_2 rfl ?_
  refine gb_if_eq (q := 8) (tgt := 14) C dX7_seeds_5 (by decide) rfl (fun c5 => by exfalso; cases c5) (fun c5 => ?_)
  refine gx_aload_n (q := 9) C dX7_seeds_8 rfl rfl rfl ?_
  refine gx_iconst (q := 10) (v := -1) C dX7_seeds_9 (by decide) rfl ?_
  refine gx_cs (q := 13) C E (sx_X7_49 (As := [_]) C hV.o rfl rfl dX7_seeds_10) (md_no _ _ _ _ (-1) 1 (by decide) (by decide) hV) kw_X7_no (by decide) (Nat.le_of_ble_eq_true rfl) rfl rfl (by omega) (by omega) dX7_seeds_10 rfl (fun M r10 => ?_)
  obtain ⟨hV, hG⟩ := r10
  have hF := hF.tr hG
  exact gx_iret C E dX7_seeds_13 (⟨⟨_, _, _, _, _, _, _, hV⟩, hF⟩) (by omega) (by omega)
set_option maxHeartbeats 4000000 in
theorem mp_seeds_b2 (l : Launch) (D : va_G) (b : Nat) (M0 : List va_E) {R T Ti P Rw : Nat → Nat} {kp : Bool} {td ro : Nat} (g : Nat) (hg : g < 4) (v : Int32) (hb : v < nI 1) (u : Int32) (h : md_P D b M0 R T Ti P Rw kp td ro) (hk : okT T) : fb_CT l D b yX7_seeds cX7_seeds 8 (some .int) 4 101 0 0 [.ref (b + 43), .int v, .int u, .int (nI g)] M0 (.returned (some (.int (-4)))) (fun M' => md_P D b M' (updN R 4 (R 4 + 1)) T Ti P Rw kp td ro ∧ md_F M0 M') := by
  refine fb_start [some (.ref (b + 43)), some (.int v), some (.int u), some (.int (nI g)), none, none, none, none] (by decide) (Nat.le_of_ble_eq_true rfl) rfl ?_
  intro x hl hD hb C E hx
  subst hl hD hb
  have C : fb_OK x cX7_seeds "FallsBetweenModel" "seeds" := C
  obtain ⟨Bf, F, L, aa, we, so, lo, hV⟩ := h
  have hF := md_F.rf M0
  obtain ⟨k0, k1, k2, k3, k4, k5, k6, k7, k8⟩ := id hk
  refine gx_iload_n (q := 1) C dX7_seeds_0 rfl rfl rfl ?_
  refine gx_iconst (q := 2) (v := nI 4) C dX7_seeds_1 (by decide) rfl ?_
  refine gx_cp (q := 5) C E (sx_X7_124 (As := [_, _]) C rfl rfl dX7_seeds_2) (md_isNone_n _ _ _ _ g 4 hg (by omega)) kw_X7_isNone (by decide) (Nat.le_of_ble_eq_true rfl) (by omega) (by omega) dX7_seeds_2 rfl ?_
  refine gb_if_eq (q := 8) (tgt := 14) C dX7_seeds_5 (by decide) rfl (fun c5 => ?_) (fun c5 => by exfalso; cases c5)
  refine gx_iload_n (q := 15) C dX7_seeds_14 rfl rfl rfl ?_
  refine gx_iconst (q := 16) (v := nI 1) C dX7_seeds_15 (by decide) rfl ?_
  refine gx_icmp_ge (q := 19) (tgt := 26) C dX7_seeds_16 (by decide) rfl (fun c16 => by exfalso; exact Int32.not_le.mpr hb c16) (fun c16 => ?_)
  refine gx_aload_n (q := 20) C dX7_seeds_19 rfl rfl rfl ?_
  refine gx_bipush (q := 22) (v := -4) C dX7_seeds_20 (by decide) rfl ?_
  refine gx_cs (q := 25) C E (sx_X7_49 (As := [_]) C hV.o rfl rfl dX7_seeds_22) (md_no _ _ _ _ (-4) 4 (by decide) (by decide) hV) kw_X7_no (by decide) (Nat.le_of_ble_eq_true rfl) rfl rfl (by omega) (by omega) dX7_seeds_22 rfl (fun M r22 => ?_)
  obtain ⟨hV, hG⟩ := r22
  have hF := hF.tr hG
  exact gx_iret C E dX7_seeds_25 (⟨⟨_, _, _, _, _, _, _, hV⟩, hF⟩) (by omega) (by omega)
set_option maxHeartbeats 4000000 in
theorem mp_seeds_b3 (l : Launch) (D : va_G) (b : Nat) (M0 : List va_E) {R T Ti P Rw : Nat → Nat} {kp : Bool} {td ro : Nat} (g : Nat) (hg : g < 4) (v : Int32) (hb : nI 31 ≤ v) (u : Int32) (h : md_P D b M0 R T Ti P Rw kp td ro) (hk : okT T) : fb_CT l D b yX7_seeds cX7_seeds 8 (some .int) 4 101 0 0 [.ref (b + 43), .int v, .int u, .int (nI g)] M0 (.returned (some (.int (-6)))) (fun M' => md_P D b M' (updN R 6 (R 6 + 1)) T Ti P Rw kp td ro ∧ md_F M0 M') := by
  refine fb_start [some (.ref (b + 43)), some (.int v), some (.int u), some (.int (nI g)), none, none, none, none] (by decide) (Nat.le_of_ble_eq_true rfl) rfl ?_
  intro x hl hD hb C E hx
  subst hl hD hb
  have C : fb_OK x cX7_seeds "FallsBetweenModel" "seeds" := C
  obtain ⟨Bf, F, L, aa, we, so, lo, hV⟩ := h
  have hF := md_F.rf M0
  obtain ⟨k0, k1, k2, k3, k4, k5, k6, k7, k8⟩ := id hk
  refine gx_iload_n (q := 1) C dX7_seeds_0 rfl rfl rfl ?_
  refine gx_iconst (q := 2) (v := nI 4) C dX7_seeds_1 (by decide) rfl ?_
  refine gx_cp (q := 5) C E (sx_X7_124 (As := [_, _]) C rfl rfl dX7_seeds_2) (md_isNone_n _ _ _ _ g 4 hg (by omega)) kw_X7_isNone (by decide) (Nat.le_of_ble_eq_true rfl) (by omega) (by omega) dX7_seeds_2 rfl ?_
  refine gb_if_eq (q := 8) (tgt := 14) C dX7_seeds_5 (by decide) rfl (fun c5 => ?_) (fun c5 => by exfalso; cases c5)
  refine gx_iload_n (q := 15) C dX7_seeds_14 rfl rfl rfl ?_
  refine gx_iconst (q := 16) (v := nI 1) C dX7_seeds_15 (by decide) rfl ?_
  refine gx_icmp_ge (q := 19) (tgt := 26) C dX7_seeds_16 (by decide) rfl (fun c16 => ?_) (fun c16 => by exfalso; exact c16 (Int32.le_trans (by decide) hb))
  refine gx_iload_n (q := 27) C dX7_seeds_26 rfl rfl rfl ?_
  refine gx_bipush (q := 29) (v := nI 30) C dX7_seeds_27 (by decide) rfl ?_
  refine gx_icmp_le (q := 32) (tgt := 39) C dX7_seeds_29 (by decide) rfl (fun c29 => by exfalso; exact Int32.not_le.mpr (lt_gt (by decide) hb) c29) (fun c29 => ?_)
  refine gx_aload_n (q := 33) C dX7_seeds_32 rfl rfl rfl ?_
  refine gx_bipush (q := 35) (v := -6) C dX7_seeds_33 (by decide) rfl ?_
  refine gx_cs (q := 38) C E (sx_X7_49 (As := [_]) C hV.o rfl rfl dX7_seeds_35) (md_no _ _ _ _ (-6) 6 (by decide) (by decide) hV) kw_X7_no (by decide) (Nat.le_of_ble_eq_true rfl) rfl rfl (by omega) (by omega) dX7_seeds_35 rfl (fun M r35 => ?_)
  obtain ⟨hV, hG⟩ := r35
  have hF := hF.tr hG
  exact gx_iret C E dX7_seeds_38 (⟨⟨_, _, _, _, _, _, _, hV⟩, hF⟩) (by omega) (by omega)
theorem see_and (z : Int32) : z &&& 2147483647 = nI (z.toBitVec.toNat % 2 ^ 31) := by
  apply Int32.toBitVec_inj.mp
  apply BitVec.eq_of_toNat_eq
  have h : (2147483647 : Int32).toBitVec.toNat = 2 ^ 31 - 1 := by decide
  unfold nI
  rw [Int32.toBitVec_and, BitVec.toNat_and, h, Nat.and_two_pow_sub_one_eq_mod]
  simp
  omega
theorem seeW_lt (z : Int32) : seeW z < 16 := Nat.mod_lt _ (by decide)
theorem seeV_le {T : Nat → Nat} (hk : okT T) (g : Nat) (z : Int32) (n : Nat) : seeV T g z n ≤ n * 129600 := sumN_le n fun k _ => winV_le hk g (seeW_lt _)
set_option maxHeartbeats 4000000 in
theorem mp_seeds_o (l : Launch) (D : va_G) (b : Nat) (M0 : List va_E) {R T Ti P Rw : Nat → Nat} {kp : Bool} {td ro : Nat} (g : Nat) (hg : g < 4) (n : Nat) (h1 : 1 ≤ n) (h2 : n ≤ 30) (z : Int32) (h : md_P D b M0 R T Ti P Rw kp td ro) (hk : okT T) : fb_CT l D b yX7_seeds cX7_seeds 8 (some .int) 4 101 0 0 [.ref (b + 43), .int (nI n), .int z, .int (nI g)] M0 (.returned (some (.int (nI (seeV T g z n))))) (fun M' => md_P D b M' R T Ti P Rw kp td ro ∧ md_F M0 M') := by
  refine fb_start [some (.ref (b + 43)), some (.int (nI n)), some (.int z), some (.int (nI g)), none, none, none, none] (by decide) (Nat.le_of_ble_eq_true rfl) rfl ?_
  intro x hl hD hb C E hx
  subst hl hD hb
  have C : fb_OK x cX7_seeds "FallsBetweenModel" "seeds" := C
  obtain ⟨Bf, F, L, aa, we, so, lo, hV⟩ := h
  have hF := md_F.rf M0
  obtain ⟨k0, k1, k2, k3, k4, k5, k6, k7, k8⟩ := id hk
  refine gx_iload_n (q := 1) C dX7_seeds_0 rfl rfl rfl ?_
  refine gx_iconst (q := 2) (v := nI 4) C dX7_seeds_1 (by decide) rfl ?_
  refine gx_cp (q := 5) C E (sx_X7_124 (As := [_, _]) C rfl rfl dX7_seeds_2) (md_isNone_n _ _ _ _ g 4 hg (by omega)) kw_X7_isNone (by decide) (Nat.le_of_ble_eq_true rfl) (by omega) (by omega) dX7_seeds_2 rfl ?_
  refine gb_if_eq (q := 8) (tgt := 14) C dX7_seeds_5 (by decide) rfl (fun c5 => ?_) (fun c5 => by exfalso; cases c5)
  refine gx_iload_n (q := 15) C dX7_seeds_14 rfl rfl rfl ?_
  refine gx_iconst (q := 16) (v := nI 1) C dX7_seeds_15 (by decide) rfl ?_
  refine gn_icmp_ge (q := 19) (tgt := 26) C dX7_seeds_16 (by decide) rfl (by omega) (by omega) (fun c16 => ?_) (fun c16 => by exfalso; omega)
  refine gx_iload_n (q := 27) C dX7_seeds_26 rfl rfl rfl ?_
  refine gx_bipush (q := 29) (v := nI 30) C dX7_seeds_27 (by decide) rfl ?_
  refine gn_icmp_le (q := 32) (tgt := 39) C dX7_seeds_29 (by decide) rfl (by omega) (by omega) (fun c29 => ?_) (fun c29 => by exfalso; omega)
  refine gx_aload_n (q := 40) C dX7_seeds_39 rfl rfl rfl ?_
  refine fg_X7_13 (q := 43) C hV.o rfl dX7_seeds_40 rfl ?_
  refine gx_iconst (q := 44) (v := nI 1) C dX7_seeds_43 (by decide) rfl ?_
  refine mv_ld_now (q := 45) C hV (by omega) dX7_seeds_44 rfl ?_
  refine gx_istore (q := 47) (lv' := [_, _, _, _, _, _, _, _]) C dX7_seeds_45 (Nat.le_of_ble_eq_true rfl) E.2.2.2.symm rfl rfl rfl ?_
  refine gx_iload_n (q := 48) C dX7_seeds_47 rfl rfl rfl ?_
  refine gx_istore (q := 50) (lv' := [_, _, _, _, _, _, _, _]) C dX7_seeds_48 (Nat.le_of_ble_eq_true rfl) E.2.2.2.symm rfl rfl rfl ?_
  refine gx_iconst (q := 51) (v := nI 0) C dX7_seeds_50 (by decide) rfl ?_
  refine gx_istore (q := 53) (lv' := [_, _, _, _, _, _, _, _]) C dX7_seeds_51 (Nat.le_of_ble_eq_true rfl) E.2.2.2.symm rfl rfl rfl ?_
  refine gx_iconst (q := 54) (v := nI 0) C dX7_seeds_53 (by decide) rfl ?_
  refine gx_istore (q := 56) (lv' := [_, _, _, _, _, _, _, _]) C dX7_seeds_54 (Nat.le_of_ble_eq_true rfl) E.2.2.2.symm rfl rfl rfl ?_
  have Lk : ∀ k, k ≤ n → ∀ (M : List va_E) (c : Nat) (L : Nat → Nat) (lo : Nat), md_V (cx_D x) (cx_b x) M R (updN T 1 c) Ti Bf P F L Rw kp td aa we so lo ro → md_F M0 M → fb_G x M 0 0 56 [some (.ref (cx_b x + 43)), some (.int (nI n)), some (.int z), some (.int (nI g)), some (.int (nI (T 1))), some (.int (seeZ z k)), some (.int (nI (seeV T g z k))), some (.int (nI k))] [] := by
    refine fb_dn n ?_ ?_
    · intro M c L lo hV hF
      refine gx_iload (q := 58) C dX7_seeds_56 rfl rfl ?_
      refine gx_iload_n (q := 59) C dX7_seeds_58 rfl rfl rfl ?_
      refine gn_icmp_ge (q := 62) (tgt := 112) C dX7_seeds_59 (by decide) rfl (by omega) (by omega) (fun c59 => ?_) (fun c59 => by exfalso; omega)
      refine gx_aload_n (q := 113) C dX7_seeds_112 rfl rfl rfl ?_
      refine fg_X7_13 (q := 116) C hV.o rfl dX7_seeds_113 rfl ?_
      refine gx_iconst (q := 117) (v := nI 1) C dX7_seeds_116 (by decide) rfl ?_
      refine gx_iload (q := 119) C dX7_seeds_117 rfl rfl ?_
      refine mv_st_now (q := 120) C hV hF (by omega) dX7_seeds_119 rfl (fun M hV hF => ?_)
      rw [updN_u, updN_r] at hV
      refine gx_iload (q := 122) C dX7_seeds_120 rfl rfl ?_
      exact gx_iret C E dX7_seeds_122 (⟨⟨_, _, _, _, _, _, _, hV⟩, hF⟩) (by omega) (by omega)
    · intro k hkn3 ih M c L lo hV hF
      have hz := seeW_lt (seeZ z (k + 1))
      have hkn : okT (updN T 1 (seeW (seeZ z (k + 1)))) := okT_up hk (by omega)
      have hm := Nat.mod_lt (seeZ z (k + 1)).toBitVec.toNat (show 0 < 2 ^ 31 by decide)
      refine gx_iload (q := 58) C dX7_seeds_56 rfl rfl ?_
      refine gx_iload_n (q := 59) C dX7_seeds_58 rfl rfl rfl ?_
      refine gn_icmp_ge (q := 62) (tgt := 112) C dX7_seeds_59 (by decide) rfl (by omega) (by omega) (fun c59 => by exfalso; omega) (fun c59 => ?_)
      refine gx_iload (q := 64) C dX7_seeds_62 rfl rfl ?_
      refine gx_ldc (q := 66) C dX7_seeds_64 q1378 rfl ?_
      refine gx_imul (q := 67) C dX7_seeds_66 rfl rfl ?_
      refine gx_ldc (q := 69) C dX7_seeds_67 q1379 rfl ?_
      refine gx_iadd (q := 70) C dX7_seeds_69 rfl rfl ?_
      refine gx_top (show _ = seeZ z (k + 1) from rfl) ?_
      refine gx_istore (q := 72) (lv' := [_, _, _, _, _, _, _, _]) C dX7_seeds_70 (Nat.le_of_ble_eq_true rfl) E.2.2.2.symm rfl rfl rfl ?_
      refine gx_aload_n (q := 73) C dX7_seeds_72 rfl rfl rfl ?_
      refine fg_X7_13 (q := 76) C hV.o rfl dX7_seeds_73 rfl ?_
      refine gx_iconst (q := 77) (v := nI 1) C dX7_seeds_76 (by decide) rfl ?_
      refine gx_iload (q := 79) C dX7_seeds_77 rfl rfl ?_
      refine gx_ldc (q := 81) C dX7_seeds_79 q1380 rfl ?_
      refine gx_iand (q := 82) C dX7_seeds_81 (see_and _) rfl ?_
      refine gx_sipush (q := 85) (v := nI 256) C dX7_seeds_82 (by decide) rfl ?_
      refine gn_idiv (q := 86) C dX7_seeds_85 (by omega) (hm) (by omega) rfl ?_
      refine gx_bipush (q := 88) (v := nI 16) C dX7_seeds_86 (by decide) rfl ?_
      refine gn_irem (q := 89) C dX7_seeds_88 (by omega) (by omega) (by omega) rfl ?_
      refine gx_top (show _ = nI (seeW (seeZ z (k + 1))) from rfl) ?_
      refine mv_st_now (q := 90) C hV hF (by omega) dX7_seeds_89 rfl (fun M hV hF => ?_)
      rw [updN_u] at hV
      refine gx_aload_n (q := 91) C dX7_seeds_90 rfl rfl rfl ?_
      refine gx_bipush (q := 93) (v := nI 63) C dX7_seeds_91 (by decide) rfl ?_
      refine gx_cv (q := 96) C E (sx_X7_127 (As := [_]) C hV.o rfl rfl dX7_seeds_93) (md_fall _ _ _ _ 63 (by decide) hV hkn) kw_X7_fall (by decide) (Nat.le_of_ble_eq_true rfl) rfl rfl (by omega) (by omega) dX7_seeds_93 rfl (fun M r93 => ?_)
      obtain ⟨hV, hG⟩ := r93
      have hF := hF.tr hG
      rw [mL_63f _ hkn.1] at hV
      refine gx_iload (q := 98) C dX7_seeds_96 rfl rfl ?_
      refine gx_aload_n (q := 99) C dX7_seeds_98 rfl rfl rfl ?_
      refine gx_iload_n (q := 100) C dX7_seeds_99 rfl rfl rfl ?_
      refine gx_cp (q := 103) C E (sx_X7_131 (As := [_]) C hV.o rfl rfl dX7_seeds_100) (md_shareOf _ _ _ _ g (by omega) hV hkn) kw_X7_shareOf (by decide) (Nat.le_of_ble_eq_true rfl) (by omega) (by omega) dX7_seeds_100 rfl ?_
      refine gx_top (show _ = nI (winV T g (seeW (seeZ z (k + 1)))) from rfl) ?_
      refine gn_iadd (q := 104) C dX7_seeds_103 rfl ?_
      refine gx_top (show _ = nI (seeV T g z (k + 1)) from rfl) ?_
      refine gx_istore (q := 106) (lv' := [_, _, _, _, _, _, _, _]) C dX7_seeds_104 (Nat.le_of_ble_eq_true rfl) E.2.2.2.symm rfl rfl rfl ?_
      refine gn_inc (q := 109) (lv' := [_, _, _, _, _, _, _, _]) C dX7_seeds_106 rfl E.2.2.2.symm rfl rfl rfl ?_
      refine gx_goto (tgt := 56) C dX7_seeds_109 (by decide) ?_
      exact ih M _ _ _ hV hF
  exact Lk 0 (by omega) M0 (T 1) _ _ (by rw [updN_r]; exact hV) hF
def bs1 (r : Option (Nat × Nat)) : Int32 := match r with
  | none => -9
  | some p => nI p.1
def bs2 (r : Option (Nat × Nat)) : Int32 := match r with
  | none => -9
  | some p => nI p.2
theorem bs1_n : bs1 none = -9 := rfl
theorem bs2_n : bs2 none = -9 := rfl
theorem bs1_s (p : Nat × Nat) : bs1 (some p) = nI p.1 := rfl
theorem bs2_s (p : Nat × Nat) : bs2 (some p) = nI p.2 := rfl
theorem moT_0 (T : Nat → Nat) (k q f le : Nat) : moT T k q f le 0 = T 0 + 1 := by unfold moT; rw [updN_s]
set_option maxHeartbeats 4000000 in
theorem mp_set_b1 (l : Launch) (D : va_G) (b : Nat) (M0 : List va_E) {R T Ti P Rw : Nat → Nat} {kp : Bool} {td ro : Nat} (v : Int32) (hb : v < 0 ∨ nI 4 ≤ v) (w u : Int32) (h : md_P D b M0 R T Ti P Rw kp td ro) (hk : okT T) : fb_CT l D b yX7_set cX7_set 8 (some .int) 4 101 0 0 [.ref (b + 43), .int v, .int w, .int u] M0 (.returned (some (.int (-1)))) (fun M' => md_P D b M' (updN R 1 (R 1 + 1)) T Ti P Rw kp td ro ∧ md_F M0 M') := by
  refine fb_start [some (.ref (b + 43)), some (.int v), some (.int w), some (.int u), none, none, none, none] (by decide) (Nat.le_of_ble_eq_true rfl) rfl ?_
  intro x hl hD hb C E hx
  subst hl hD hb
  have C : fb_OK x cX7_set "FallsBetweenModel" "set" := C
  obtain ⟨Bf, F, L, aa, we, so, lo, hV⟩ := h
  have hF := md_F.rf M0
  obtain ⟨k0, k1, k2, k3, k4, k5, k6, k7, k8⟩ := id hk
  refine gx_iload_n (q := 1) C dX7_set_0 rfl rfl rfl ?_
  refine gx_iconst (q := 2) (v := nI 4) C dX7_set_1 (by decide) rfl ?_
  refine gx_cp (q := 5) C E (sx_X7_124 (As := [_, _]) C rfl rfl dX7_set_2) (md_isNone_t _ _ _ _ v (nI 4) hb) kw_X7_isNone (by decide) (Nat.le_of_ble_eq_true rfl) (by omega) (by omega) dX7_set_2 rfl ?_
  refine gb_if_eq (q := 8) (tgt := 14) C dX7_set_5 (by decide) rfl (fun c5 => by exfalso; cases c5) (fun c5 => ?_)
  refine gx_aload_n (q := 9) C dX7_set_8 rfl rfl rfl ?_
  refine gx_iconst (q := 10) (v := -1) C dX7_set_9 (by decide) rfl ?_
  refine gx_cs (q := 13) C E (sx_X7_49 (As := [_]) C hV.o rfl rfl dX7_set_10) (md_no _ _ _ _ (-1) 1 (by decide) (by decide) hV) kw_X7_no (by decide) (Nat.le_of_ble_eq_true rfl) rfl rfl (by omega) (by omega) dX7_set_10 rfl (fun M r10 => ?_)
  obtain ⟨hV, hG⟩ := r10
  have hF := hF.tr hG
  exact gx_iret C E dX7_set_13 (⟨⟨_, _, _, _, _, _, _, hV⟩, hF⟩) (by omega) (by omega)
set_option maxHeartbeats 4000000 in
theorem mp_set_b2 (l : Launch) (D : va_G) (b : Nat) (M0 : List va_E) {R T Ti P Rw : Nat → Nat} {kp : Bool} {td ro : Nat} (g : Nat) (hg : g < 4) (v : Int32) (hb : v < nI 1) (u : Int32) (h : md_P D b M0 R T Ti P Rw kp td ro) (hk : okT T) : fb_CT l D b yX7_set cX7_set 8 (some .int) 4 101 0 0 [.ref (b + 43), .int (nI g), .int v, .int u] M0 (.returned (some (.int (-4)))) (fun M' => md_P D b M' (updN R 4 (R 4 + 1)) T Ti P Rw kp td ro ∧ md_F M0 M') := by
  refine fb_start [some (.ref (b + 43)), some (.int (nI g)), some (.int v), some (.int u), none, none, none, none] (by decide) (Nat.le_of_ble_eq_true rfl) rfl ?_
  intro x hl hD hb C E hx
  subst hl hD hb
  have C : fb_OK x cX7_set "FallsBetweenModel" "set" := C
  obtain ⟨Bf, F, L, aa, we, so, lo, hV⟩ := h
  have hF := md_F.rf M0
  obtain ⟨k0, k1, k2, k3, k4, k5, k6, k7, k8⟩ := id hk
  refine gx_iload_n (q := 1) C dX7_set_0 rfl rfl rfl ?_
  refine gx_iconst (q := 2) (v := nI 4) C dX7_set_1 (by decide) rfl ?_
  refine gx_cp (q := 5) C E (sx_X7_124 (As := [_, _]) C rfl rfl dX7_set_2) (md_isNone_n _ _ _ _ g 4 hg (by omega)) kw_X7_isNone (by decide) (Nat.le_of_ble_eq_true rfl) (by omega) (by omega) dX7_set_2 rfl ?_
  refine gb_if_eq (q := 8) (tgt := 14) C dX7_set_5 (by decide) rfl (fun c5 => ?_) (fun c5 => by exfalso; cases c5)
  refine gx_iload_n (q := 15) C dX7_set_14 rfl rfl rfl ?_
  refine gx_iconst (q := 16) (v := nI 1) C dX7_set_15 (by decide) rfl ?_
  refine gx_icmp_ge (q := 19) (tgt := 26) C dX7_set_16 (by decide) rfl (fun c16 => by exfalso; exact Int32.not_le.mpr hb c16) (fun c16 => ?_)
  refine gx_aload_n (q := 20) C dX7_set_19 rfl rfl rfl ?_
  refine gx_bipush (q := 22) (v := -4) C dX7_set_20 (by decide) rfl ?_
  refine gx_cs (q := 25) C E (sx_X7_49 (As := [_]) C hV.o rfl rfl dX7_set_22) (md_no _ _ _ _ (-4) 4 (by decide) (by decide) hV) kw_X7_no (by decide) (Nat.le_of_ble_eq_true rfl) rfl rfl (by omega) (by omega) dX7_set_22 rfl (fun M r22 => ?_)
  obtain ⟨hV, hG⟩ := r22
  have hF := hF.tr hG
  exact gx_iret C E dX7_set_25 (⟨⟨_, _, _, _, _, _, _, hV⟩, hF⟩) (by omega) (by omega)
set_option maxHeartbeats 4000000 in
theorem mp_set_b3 (l : Launch) (D : va_G) (b : Nat) (M0 : List va_E) {R T Ti P Rw : Nat → Nat} {kp : Bool} {td ro : Nat} (g : Nat) (hg : g < 4) (v : Int32) (hb : nI 21 ≤ v) (u : Int32) (h : md_P D b M0 R T Ti P Rw kp td ro) (hk : okT T) : fb_CT l D b yX7_set cX7_set 8 (some .int) 4 101 0 0 [.ref (b + 43), .int (nI g), .int v, .int u] M0 (.returned (some (.int (-6)))) (fun M' => md_P D b M' (updN R 6 (R 6 + 1)) T Ti P Rw kp td ro ∧ md_F M0 M') := by
  refine fb_start [some (.ref (b + 43)), some (.int (nI g)), some (.int v), some (.int u), none, none, none, none] (by decide) (Nat.le_of_ble_eq_true rfl) rfl ?_
  intro x hl hD hb C E hx
  subst hl hD hb
  have C : fb_OK x cX7_set "FallsBetweenModel" "set" := C
  obtain ⟨Bf, F, L, aa, we, so, lo, hV⟩ := h
  have hF := md_F.rf M0
  obtain ⟨k0, k1, k2, k3, k4, k5, k6, k7, k8⟩ := id hk
  refine gx_iload_n (q := 1) C dX7_set_0 rfl rfl rfl ?_
  refine gx_iconst (q := 2) (v := nI 4) C dX7_set_1 (by decide) rfl ?_
  refine gx_cp (q := 5) C E (sx_X7_124 (As := [_, _]) C rfl rfl dX7_set_2) (md_isNone_n _ _ _ _ g 4 hg (by omega)) kw_X7_isNone (by decide) (Nat.le_of_ble_eq_true rfl) (by omega) (by omega) dX7_set_2 rfl ?_
  refine gb_if_eq (q := 8) (tgt := 14) C dX7_set_5 (by decide) rfl (fun c5 => ?_) (fun c5 => by exfalso; cases c5)
  refine gx_iload_n (q := 15) C dX7_set_14 rfl rfl rfl ?_
  refine gx_iconst (q := 16) (v := nI 1) C dX7_set_15 (by decide) rfl ?_
  refine gx_icmp_ge (q := 19) (tgt := 26) C dX7_set_16 (by decide) rfl (fun c16 => ?_) (fun c16 => by exfalso; exact c16 (Int32.le_trans (by decide) hb))
  refine gx_iload_n (q := 27) C dX7_set_26 rfl rfl rfl ?_
  refine gx_bipush (q := 29) (v := nI 20) C dX7_set_27 (by decide) rfl ?_
  refine gx_icmp_gt (q := 32) (tgt := 43) C dX7_set_29 (by decide) rfl (fun c29 => ?_) (fun c29 => by exfalso; exact c29 (lt_gt (by decide) hb))
  refine gx_aload_n (q := 44) C dX7_set_43 rfl rfl rfl ?_
  refine gx_bipush (q := 46) (v := -6) C dX7_set_44 (by decide) rfl ?_
  refine gx_cs (q := 49) C E (sx_X7_49 (As := [_]) C hV.o rfl rfl dX7_set_46) (md_no _ _ _ _ (-6) 6 (by decide) (by decide) hV) kw_X7_no (by decide) (Nat.le_of_ble_eq_true rfl) rfl rfl (by omega) (by omega) dX7_set_46 rfl (fun M r46 => ?_)
  obtain ⟨hV, hG⟩ := r46
  have hF := hF.tr hG
  exact gx_iret C E dX7_set_49 (⟨⟨_, _, _, _, _, _, _, hV⟩, hF⟩) (by omega) (by omega)
set_option maxHeartbeats 4000000 in
theorem mp_set_b4 (l : Launch) (D : va_G) (b : Nat) (M0 : List va_E) {R T Ti P Rw : Nat → Nat} {kp : Bool} {td ro : Nat} (g : Nat) (hg : g < 4) (f : Nat) (h1 : 1 ≤ f) (h2 : f ≤ 20) (h6 : T 0 = 6) (u : Int32) (h : md_P D b M0 R T Ti P Rw kp td ro) (hk : okT T) : fb_CT l D b yX7_set cX7_set 8 (some .int) 4 101 0 0 [.ref (b + 43), .int (nI g), .int (nI f), .int u] M0 (.returned (some (.int (-6)))) (fun M' => md_P D b M' (updN R 6 (R 6 + 1)) T Ti P Rw kp td ro ∧ md_F M0 M') := by
  refine fb_start [some (.ref (b + 43)), some (.int (nI g)), some (.int (nI f)), some (.int u), none, none, none, none] (by decide) (Nat.le_of_ble_eq_true rfl) rfl ?_
  intro x hl hD hb C E hx
  subst hl hD hb
  have C : fb_OK x cX7_set "FallsBetweenModel" "set" := C
  obtain ⟨Bf, F, L, aa, we, so, lo, hV⟩ := h
  have hF := md_F.rf M0
  obtain ⟨k0, k1, k2, k3, k4, k5, k6, k7, k8⟩ := id hk
  refine gx_iload_n (q := 1) C dX7_set_0 rfl rfl rfl ?_
  refine gx_iconst (q := 2) (v := nI 4) C dX7_set_1 (by decide) rfl ?_
  refine gx_cp (q := 5) C E (sx_X7_124 (As := [_, _]) C rfl rfl dX7_set_2) (md_isNone_n _ _ _ _ g 4 hg (by omega)) kw_X7_isNone (by decide) (Nat.le_of_ble_eq_true rfl) (by omega) (by omega) dX7_set_2 rfl ?_
  refine gb_if_eq (q := 8) (tgt := 14) C dX7_set_5 (by decide) rfl (fun c5 => ?_) (fun c5 => by exfalso; cases c5)
  refine gx_iload_n (q := 15) C dX7_set_14 rfl rfl rfl ?_
  refine gx_iconst (q := 16) (v := nI 1) C dX7_set_15 (by decide) rfl ?_
  refine gn_icmp_ge (q := 19) (tgt := 26) C dX7_set_16 (by decide) rfl (by omega) (by omega) (fun c16 => ?_) (fun c16 => by exfalso; omega)
  refine gx_iload_n (q := 27) C dX7_set_26 rfl rfl rfl ?_
  refine gx_bipush (q := 29) (v := nI 20) C dX7_set_27 (by decide) rfl ?_
  refine gn_icmp_gt (q := 32) (tgt := 43) C dX7_set_29 (by decide) rfl (by omega) (by omega) (fun c29 => by exfalso; omega) (fun c29 => ?_)
  refine gx_aload_n (q := 33) C dX7_set_32 rfl rfl rfl ?_
  refine fg_X7_13 (q := 36) C hV.o rfl dX7_set_33 rfl ?_
  refine gx_iconst (q := 37) (v := nI 0) C dX7_set_36 (by decide) rfl ?_
  refine mv_ld_now (q := 38) C hV (by omega) dX7_set_37 rfl ?_
  refine gx_bipush (q := 40) (v := nI 6) C dX7_set_38 (by decide) rfl ?_
  refine gn_icmp_ne (q := 43) (tgt := 50) C dX7_set_40 (by decide) rfl (by omega) (by omega) (fun c40 => by exfalso; omega) (fun c40 => ?_)
  refine gx_aload_n (q := 44) C dX7_set_43 rfl rfl rfl ?_
  refine gx_bipush (q := 46) (v := -6) C dX7_set_44 (by decide) rfl ?_
  refine gx_cs (q := 49) C E (sx_X7_49 (As := [_]) C hV.o rfl rfl dX7_set_46) (md_no _ _ _ _ (-6) 6 (by decide) (by decide) hV) kw_X7_no (by decide) (Nat.le_of_ble_eq_true rfl) rfl rfl (by omega) (by omega) dX7_set_46 rfl (fun M r46 => ?_)
  obtain ⟨hV, hG⟩ := r46
  have hF := hF.tr hG
  exact gx_iret C E dX7_set_49 (⟨⟨_, _, _, _, _, _, _, hV⟩, hF⟩) (by omega) (by omega)
set_option maxHeartbeats 4000000 in
theorem mp_set_b5 (l : Launch) (D : va_G) (b : Nat) (M0 : List va_E) {R T Ti P Rw : Nat → Nat} {kp : Bool} {td ro : Nat} (g : Nat) (hg : g < 4) (f : Nat) (h1 : 1 ≤ f) (h2 : f ≤ 20) (h6 : T 0 < 6) (v : Int32) (hb : v < 0 ∨ nI 2 ≤ v) (h : md_P D b M0 R T Ti P Rw kp td ro) (hk : okT T) : fb_CT l D b yX7_set cX7_set 8 (some .int) 4 101 0 0 [.ref (b + 43), .int (nI g), .int (nI f), .int v] M0 (.returned (some (.int (-2)))) (fun M' => md_P D b M' (updN R 2 (R 2 + 1)) T Ti P Rw kp td ro ∧ md_F M0 M') := by
  refine fb_start [some (.ref (b + 43)), some (.int (nI g)), some (.int (nI f)), some (.int v), none, none, none, none] (by decide) (Nat.le_of_ble_eq_true rfl) rfl ?_
  intro x hl hD hb C E hx
  subst hl hD hb
  have C : fb_OK x cX7_set "FallsBetweenModel" "set" := C
  obtain ⟨Bf, F, L, aa, we, so, lo, hV⟩ := h
  have hF := md_F.rf M0
  obtain ⟨k0, k1, k2, k3, k4, k5, k6, k7, k8⟩ := id hk
  refine gx_iload_n (q := 1) C dX7_set_0 rfl rfl rfl ?_
  refine gx_iconst (q := 2) (v := nI 4) C dX7_set_1 (by decide) rfl ?_
  refine gx_cp (q := 5) C E (sx_X7_124 (As := [_, _]) C rfl rfl dX7_set_2) (md_isNone_n _ _ _ _ g 4 hg (by omega)) kw_X7_isNone (by decide) (Nat.le_of_ble_eq_true rfl) (by omega) (by omega) dX7_set_2 rfl ?_
  refine gb_if_eq (q := 8) (tgt := 14) C dX7_set_5 (by decide) rfl (fun c5 => ?_) (fun c5 => by exfalso; cases c5)
  refine gx_iload_n (q := 15) C dX7_set_14 rfl rfl rfl ?_
  refine gx_iconst (q := 16) (v := nI 1) C dX7_set_15 (by decide) rfl ?_
  refine gn_icmp_ge (q := 19) (tgt := 26) C dX7_set_16 (by decide) rfl (by omega) (by omega) (fun c16 => ?_) (fun c16 => by exfalso; omega)
  refine gx_iload_n (q := 27) C dX7_set_26 rfl rfl rfl ?_
  refine gx_bipush (q := 29) (v := nI 20) C dX7_set_27 (by decide) rfl ?_
  refine gn_icmp_gt (q := 32) (tgt := 43) C dX7_set_29 (by decide) rfl (by omega) (by omega) (fun c29 => by exfalso; omega) (fun c29 => ?_)
  refine gx_aload_n (q := 33) C dX7_set_32 rfl rfl rfl ?_
  refine fg_X7_13 (q := 36) C hV.o rfl dX7_set_33 rfl ?_
  refine gx_iconst (q := 37) (v := nI 0) C dX7_set_36 (by decide) rfl ?_
  refine mv_ld_now (q := 38) C hV (by omega) dX7_set_37 rfl ?_
  refine gx_bipush (q := 40) (v := nI 6) C dX7_set_38 (by decide) rfl ?_
  refine gn_icmp_ne (q := 43) (tgt := 50) C dX7_set_40 (by decide) rfl (by omega) (by omega) (fun c40 => ?_) (fun c40 => by exfalso; omega)
  refine gx_iload_n (q := 51) C dX7_set_50 rfl rfl rfl ?_
  refine gx_if_lt (q := 54) (tgt := 59) C dX7_set_51 (by decide) rfl (fun c51 => ?_) (fun c51 => ?_)
  · refine gx_aload_n (q := 60) C dX7_set_59 rfl rfl rfl ?_
    refine gx_bipush (q := 62) (v := -2) C dX7_set_60 (by decide) rfl ?_
    refine gx_cs (q := 65) C E (sx_X7_49 (As := [_]) C hV.o rfl rfl dX7_set_62) (md_no _ _ _ _ (-2) 2 (by decide) (by decide) hV) kw_X7_no (by decide) (Nat.le_of_ble_eq_true rfl) rfl rfl (by omega) (by omega) dX7_set_62 rfl (fun M r62 => ?_)
    obtain ⟨hV, hG⟩ := r62
    have hF := hF.tr hG
    exact gx_iret C E dX7_set_65 (⟨⟨_, _, _, _, _, _, _, hV⟩, hF⟩) (by omega) (by omega)
  · refine gx_iload_n (q := 55) C dX7_set_54 rfl rfl rfl ?_
    refine gx_iconst (q := 56) (v := nI 1) C dX7_set_55 (by decide) rfl ?_
    refine gx_icmp_le (q := 59) (tgt := 66) C dX7_set_56 (by decide) rfl (fun c56 => by exfalso; exact Int32.not_le.mpr (lt_gt (by decide) (hb.resolve_left c51)) c56) (fun c56 => ?_)
    refine gx_aload_n (q := 60) C dX7_set_59 rfl rfl rfl ?_
    refine gx_bipush (q := 62) (v := -2) C dX7_set_60 (by decide) rfl ?_
    refine gx_cs (q := 65) C E (sx_X7_49 (As := [_]) C hV.o rfl rfl dX7_set_62) (md_no _ _ _ _ (-2) 2 (by decide) (by decide) hV) kw_X7_no (by decide) (Nat.le_of_ble_eq_true rfl) rfl rfl (by omega) (by omega) dX7_set_62 rfl (fun M r62 => ?_)
    obtain ⟨hV, hG⟩ := r62
    have hF := hF.tr hG
    exact gx_iret C E dX7_set_65 (⟨⟨_, _, _, _, _, _, _, hV⟩, hF⟩) (by omega) (by omega)
set_option maxHeartbeats 4000000 in
theorem mp_set_0 (l : Launch) (D : va_G) (b : Nat) (M0 : List va_E) {R T Ti P Rw : Nat → Nat} {kp : Bool} {td ro : Nat} (g : Nat) (hg : g < 4) (f : Nat) (h1 : 1 ≤ f) (h2 : f ≤ 20) (h6 : T 0 < 6) (h : md_P D b M0 R T Ti P Rw kp td ro) (hk : okT T) : fb_CT l D b yX7_set cX7_set 8 (some .int) 4 101 0 0 [.ref (b + 43), .int (nI g), .int (nI f), .int (nI 0)] M0 (.returned (some (.int (bs1 (stS (setO T) (setV T g f) 36))))) (fun M' => (∃ U : Nat → Nat, samT T U ∧ md_P D b M' R U Ti P Rw kp td ro) ∧ md_F M0 M') := by
  refine fb_start [some (.ref (b + 43)), some (.int (nI g)), some (.int (nI f)), some (.int (nI 0)), none, none, none, none] (by decide) (Nat.le_of_ble_eq_true rfl) rfl ?_
  intro x hl hD hb C E hx
  subst hl hD hb
  have C : fb_OK x cX7_set "FallsBetweenModel" "set" := C
  obtain ⟨Bf, F, L, aa, we, so, lo, hV⟩ := h
  have hF := md_F.rf M0
  obtain ⟨k0, k1, k2, k3, k4, k5, k6, k7, k8⟩ := id hk
  refine gx_iload_n (q := 1) C dX7_set_0 rfl rfl rfl ?_
  refine gx_iconst (q := 2) (v := nI 4) C dX7_set_1 (by decide) rfl ?_
  refine gx_cp (q := 5) C E (sx_X7_124 (As := [_, _]) C rfl rfl dX7_set_2) (md_isNone_n _ _ _ _ g 4 hg (by omega)) kw_X7_isNone (by decide) (Nat.le_of_ble_eq_true rfl) (by omega) (by omega) dX7_set_2 rfl ?_
  refine gb_if_eq (q := 8) (tgt := 14) C dX7_set_5 (by decide) rfl (fun c5 => ?_) (fun c5 => by exfalso; cases c5)
  refine gx_iload_n (q := 15) C dX7_set_14 rfl rfl rfl ?_
  refine gx_iconst (q := 16) (v := nI 1) C dX7_set_15 (by decide) rfl ?_
  refine gn_icmp_ge (q := 19) (tgt := 26) C dX7_set_16 (by decide) rfl (by omega) (by omega) (fun c16 => ?_) (fun c16 => by exfalso; omega)
  refine gx_iload_n (q := 27) C dX7_set_26 rfl rfl rfl ?_
  refine gx_bipush (q := 29) (v := nI 20) C dX7_set_27 (by decide) rfl ?_
  refine gn_icmp_gt (q := 32) (tgt := 43) C dX7_set_29 (by decide) rfl (by omega) (by omega) (fun c29 => by exfalso; omega) (fun c29 => ?_)
  refine gx_aload_n (q := 33) C dX7_set_32 rfl rfl rfl ?_
  refine fg_X7_13 (q := 36) C hV.o rfl dX7_set_33 rfl ?_
  refine gx_iconst (q := 37) (v := nI 0) C dX7_set_36 (by decide) rfl ?_
  refine mv_ld_now (q := 38) C hV (by omega) dX7_set_37 rfl ?_
  refine gx_bipush (q := 40) (v := nI 6) C dX7_set_38 (by decide) rfl ?_
  refine gn_icmp_ne (q := 43) (tgt := 50) C dX7_set_40 (by decide) rfl (by omega) (by omega) (fun c40 => ?_) (fun c40 => by exfalso; omega)
  refine gx_iload_n (q := 51) C dX7_set_50 rfl rfl rfl ?_
  refine gx_if_lt (q := 54) (tgt := 59) C dX7_set_51 (by decide) rfl (fun c51 => by exfalso; revert c51; decide) (fun c51 => ?_)
  refine gx_iload_n (q := 55) C dX7_set_54 rfl rfl rfl ?_
  refine gx_iconst (q := 56) (v := nI 1) C dX7_set_55 (by decide) rfl ?_
  refine gn_icmp_le (q := 59) (tgt := 66) C dX7_set_56 (by decide) rfl (by omega) (by omega) (fun c56 => ?_) (fun c56 => by exfalso; revert c56; decide)
  refine gx_bipush (q := 68) (v := bs1 none) C dX7_set_66 (rfl) rfl ?_
  refine gx_istore (q := 70) (lv' := [_, _, _, _, _, _, _, _]) C dX7_set_68 (Nat.le_of_ble_eq_true rfl) E.2.2.2.symm rfl rfl rfl ?_
  refine gx_bipush (q := 72) (v := bs2 none) C dX7_set_70 (rfl) rfl ?_
  refine gx_istore (q := 74) (lv' := [_, _, _, _, _, _, _, _]) C dX7_set_72 (Nat.le_of_ble_eq_true rfl) E.2.2.2.symm rfl rfl rfl ?_
  refine gx_iconst (q := 75) (v := nI 0) C dX7_set_74 (by decide) rfl ?_
  refine gx_istore (q := 77) (lv' := [_, _, _, _, _, _, _, _]) C dX7_set_75 (Nat.le_of_ble_eq_true rfl) E.2.2.2.symm rfl rfl rfl ?_
  have Lq : ∀ q, q ≤ 36 → ∀ (M : List va_E) (L U : Nat → Nat) (lo : Nat), md_V (cx_D x) (cx_b x) M R U Ti Bf P F L Rw kp td aa we so lo ro → md_F M0 M → samT T U → fb_G x M 0 0 77 [some (.ref (cx_b x + 43)), some (.int (nI g)), some (.int (nI f)), some (.int (nI 0)), some (.int (bs1 (stS (setO T) (setV T g f) q))), some (.int (bs2 (stS (setO T) (setV T g f) q))), some (.int (nI q)), none] [] := by
    refine fb_dn 36 ?_ ?_
    · intro M L U lo hV hF hS
      refine gx_iload (q := 79) C dX7_set_77 rfl rfl ?_
      refine gx_bipush (q := 81) (v := nI 36) C dX7_set_79 (by decide) rfl ?_
      refine gn_icmp_ge (q := 84) (tgt := 172) C dX7_set_81 (by decide) rfl (by omega) (by omega) (fun c81 => ?_) (fun c81 => by exfalso; omega)
      refine gx_iload_n (q := 173) C dX7_set_172 rfl rfl rfl ?_
      refine gn_if_ne (q := 176) (tgt := 181) C dX7_set_173 (by decide) rfl (by omega) (fun c173 => by exfalso; revert c173; decide) (fun c173 => ?_)
      refine gx_iload (q := 178) C dX7_set_176 rfl rfl ?_
      refine gx_goto (tgt := 183) C dX7_set_178 (by decide) ?_
      exact gx_iret C E dX7_set_183 (⟨⟨U, hS, _, _, _, _, _, _, _, hV⟩, hF⟩) (by omega) (by omega)
    · intro q hq ih M L U lo hV hF hS
      have hkU := hS.ok hk
      have e0 : U 0 = T 0 := hS.lo (by omega)
      have hv := setV_le (g := g) hk h6 hq h1 h2
      have hkm : okT (moT U 0 q f 0) := moT_ok hkU (by omega) (by omega) hq h1 h2 (by omega)
      refine gx_iload (q := 79) C dX7_set_77 rfl rfl ?_
      refine gx_bipush (q := 81) (v := nI 36) C dX7_set_79 (by decide) rfl ?_
      refine gn_icmp_ge (q := 84) (tgt := 172) C dX7_set_81 (by decide) rfl (by omega) (by omega) (fun c81 => by exfalso; omega) (fun c81 => ?_)
      refine gx_aload_n (q := 85) C dX7_set_84 rfl rfl rfl ?_
      refine gx_iload (q := 87) C dX7_set_85 rfl rfl ?_
      refine gx_cp (q := 90) C E (sx_X7_78 (As := [_]) C hV.o rfl rfl dX7_set_87) (md_treeIn _ _ _ _ q (by omega) hV hkU) kw_X7_treeIn (by decide) (Nat.le_of_ble_eq_true rfl) (by omega) (by omega) dX7_set_87 rfl ?_
      refine gx_bipush (q := 92) (v := -9) C dX7_set_90 (by decide) rfl ?_
      refine gq_icmp_ne (q := 95) (tgt := 166) C dX7_set_92 (by decide) rfl (fun z hz => by have := (fstN_spec hz).1; omega) (fun z92 c92 => ?_) (fun c92 => ?_)
      · rw [stS_o (show setO T q = true by unfold setO; rw [← trIn_cg hS hk, c92]; rfl)] at ih
        refine gn_inc (q := 169) (lv' := [_, _, _, _, _, _, _, _]) C dX7_set_166 rfl E.2.2.2.symm rfl rfl rfl ?_
        refine gx_goto (tgt := 77) C dX7_set_169 (by decide) ?_
        first | exact ih M _ _ _ hV hF hS | (refine gx_drop 7 ?_; exact ih M _ _ _ hV hF hS)
      · have hoc : setO T q = false := by unfold setO; rw [← trIn_cg hS hk, c92]; rfl
        refine gx_aload_n (q := 96) C dX7_set_95 rfl rfl rfl ?_
        refine gx_iconst (q := 97) (v := nI 0) C dX7_set_96 (by decide) rfl ?_
        refine gx_iload (q := 99) C dX7_set_97 rfl rfl ?_
        refine gx_iload_n (q := 100) C dX7_set_99 rfl rfl rfl ?_
        refine gx_iconst (q := 101) (v := nI 0) C dX7_set_100 (by decide) rfl ?_
        refine gx_cv (q := 104) C E (sx_X7_81 (As := [_, _, _, _]) C hV.o rfl rfl dX7_set_101) (md_more _ _ _ _ 0 q f 0 (by omega) hV) kw_X7_more (by decide) (Nat.le_of_ble_eq_true rfl) rfl rfl (by omega) (by omega) dX7_set_101 rfl (fun M r101 => ?_)
        obtain ⟨hV, hG⟩ := r101
        have hF := hF.tr hG
        refine gx_aload_n (q := 105) C dX7_set_104 rfl rfl rfl ?_
        refine gx_bipush (q := 107) (v := nI 63) C dX7_set_105 (by decide) rfl ?_
        refine gx_cv (q := 110) C E (sx_X7_127 (As := [_]) C hV.o rfl rfl dX7_set_107) (md_fall _ _ _ _ 63 (by decide) hV hkm) kw_X7_fall (by decide) (Nat.le_of_ble_eq_true rfl) rfl rfl (by omega) (by omega) dX7_set_107 rfl (fun M r107 => ?_)
        obtain ⟨hV, hG⟩ := r107
        have hF := hF.tr hG
        rw [mL_63f _ hkm.1] at hV
        refine gx_aload_n (q := 111) C dX7_set_110 rfl rfl rfl ?_
        refine gx_iload_n (q := 112) C dX7_set_111 rfl rfl rfl ?_
        refine gx_cp (q := 115) C E (sx_X7_131 (As := [_]) C hV.o rfl rfl dX7_set_112) (md_shareOf _ _ _ _ g (by omega) hV hkm) kw_X7_shareOf (by decide) (Nat.le_of_ble_eq_true rfl) (by omega) (by omega) dX7_set_112 rfl ?_
        refine gx_top (show _ = nI (setV T g f q) from congrArg nI (shT_cg (moT_sam hS h6 0 q f 0) (moT_ok hk h6 (by omega) hq h1 h2 (by omega)) g)) ?_
        refine gx_istore (q := 117) (lv' := [_, _, _, _, _, _, _, _]) C dX7_set_115 (Nat.le_of_ble_eq_true rfl) E.2.2.2.symm rfl rfl rfl ?_
        refine gx_aload_n (q := 118) C dX7_set_117 rfl rfl rfl ?_
        refine fg_X7_13 (q := 121) C hV.o rfl dX7_set_118 rfl ?_
        refine gx_iconst (q := 122) (v := nI 0) C dX7_set_121 (by decide) rfl ?_
        refine gx_dup2 (q := 123) C dX7_set_122 rfl rfl rfl ?_
        refine mv_ld_now (q := 124) C hV (by omega) dX7_set_123 rfl ?_
        rw [moT_0]
        refine gx_iconst (q := 125) (v := nI 1) C dX7_set_124 (by decide) rfl ?_
        refine gn_isub (q := 126) C dX7_set_125 (by omega) rfl ?_
        refine mv_st_now (q := 127) C hV hF (by omega) dX7_set_126 rfl (fun M hV hF => ?_)
        rw [Nat.add_sub_cancel] at hV
        have hS := hS.tr (moT_back (T := U) (by omega) 0 q f 0)
        rcases hst : stS (setO T) (setV T g f) q with _ | p
        · have ih := ih
          rw [stS_n hoc hst, bs1_s, bs2_s] at ih
          rw [bs1_n, bs2_n]
          refine gx_iload (q := 129) C dX7_set_127 rfl rfl ?_
          refine gx_bipush (q := 131) (v := -9) C dX7_set_129 (by decide) rfl ?_
          refine gx_icmp_eq (q := 134) (tgt := 141) C dX7_set_131 (by decide) rfl (fun c131 => ?_) (fun c131 => by exfalso; revert c131; decide)
          refine gx_iload (q := 143) C dX7_set_141 rfl rfl ?_
          refine gx_goto (tgt := 148) C dX7_set_143 (by decide) ?_
          refine gx_istore (q := 150) (lv' := [_, _, _, _, _, _, _, _]) C dX7_set_148 (Nat.le_of_ble_eq_true rfl) E.2.2.2.symm rfl rfl rfl ?_
          refine gx_iload (q := 152) C dX7_set_150 rfl rfl ?_
          refine gx_iload (q := 154) C dX7_set_152 rfl rfl ?_
          refine gn_icmp_ne (q := 157) (tgt := 162) C dX7_set_154 (by decide) rfl (by omega) (by omega) (fun c154 => by exfalso; omega) (fun c154 => ?_)
          refine gx_iload (q := 159) C dX7_set_157 rfl rfl ?_
          refine gx_goto (tgt := 164) C dX7_set_159 (by decide) ?_
          refine gx_istore (q := 166) (lv' := [_, _, _, _, _, _, _, _]) C dX7_set_164 (Nat.le_of_ble_eq_true rfl) E.2.2.2.symm rfl rfl rfl ?_
          refine gn_inc (q := 169) (lv' := [_, _, _, _, _, _, _, _]) C dX7_set_166 rfl E.2.2.2.symm rfl rfl rfl ?_
          refine gx_goto (tgt := 77) C dX7_set_169 (by decide) ?_
          first | exact ih M _ _ _ hV hF hS | (refine gx_drop 7 ?_; exact ih M _ _ _ hV hF hS)
        · obtain ⟨hp1, hp2⟩ := stS_b (m := 129600) q (fun i hi => setV_le hk h6 (by omega) h1 h2) p hst
          rw [bs1_s, bs2_s]
          refine gx_iload (q := 129) C dX7_set_127 rfl rfl ?_
          refine gx_bipush (q := 131) (v := -9) C dX7_set_129 (by decide) rfl ?_
          refine gx_icmp_eq (q := 134) (tgt := 141) C dX7_set_131 (by decide) rfl (fun c131 => by exfalso; exact nI_m9 (by omega) c131) (fun c131 => ?_)
          refine gx_iload (q := 136) C dX7_set_134 rfl rfl ?_
          refine gx_iload (q := 138) C dX7_set_136 rfl rfl ?_
          refine gn_icmp_le (q := 141) (tgt := 146) C dX7_set_138 (by decide) rfl (by omega) (by omega) (fun c138 => ?_) (fun c138 => ?_)
          · rw [stS_f hoc hst c138, bs1_s, bs2_s] at ih
            refine gx_iload (q := 148) C dX7_set_146 rfl rfl ?_
            refine gx_istore (q := 150) (lv' := [_, _, _, _, _, _, _, _]) C dX7_set_148 (Nat.le_of_ble_eq_true rfl) E.2.2.2.symm rfl rfl rfl ?_
            refine gx_iload (q := 152) C dX7_set_150 rfl rfl ?_
            refine gx_iload (q := 154) C dX7_set_152 rfl rfl ?_
            refine gn_icmp_ne (q := 157) (tgt := 162) C dX7_set_154 (by decide) rfl (by omega) (by omega) (fun c154 => ?_) (fun c154 => by exfalso; omega)
            refine gx_iload (q := 164) C dX7_set_162 rfl rfl ?_
            refine gx_istore (q := 166) (lv' := [_, _, _, _, _, _, _, _]) C dX7_set_164 (Nat.le_of_ble_eq_true rfl) E.2.2.2.symm rfl rfl rfl ?_
            refine gn_inc (q := 169) (lv' := [_, _, _, _, _, _, _, _]) C dX7_set_166 rfl E.2.2.2.symm rfl rfl rfl ?_
            refine gx_goto (tgt := 77) C dX7_set_169 (by decide) ?_
            first | exact ih M _ _ _ hV hF hS | (refine gx_drop 7 ?_; exact ih M _ _ _ hV hF hS)
          · rw [stS_t hoc hst (by omega), bs1_s, bs2_s] at ih
            refine gx_iload (q := 143) C dX7_set_141 rfl rfl ?_
            refine gx_goto (tgt := 148) C dX7_set_143 (by decide) ?_
            refine gx_istore (q := 150) (lv' := [_, _, _, _, _, _, _, _]) C dX7_set_148 (Nat.le_of_ble_eq_true rfl) E.2.2.2.symm rfl rfl rfl ?_
            refine gx_iload (q := 152) C dX7_set_150 rfl rfl ?_
            refine gx_iload (q := 154) C dX7_set_152 rfl rfl ?_
            refine gn_icmp_ne (q := 157) (tgt := 162) C dX7_set_154 (by decide) rfl (by omega) (by omega) (fun c154 => by exfalso; omega) (fun c154 => ?_)
            refine gx_iload (q := 159) C dX7_set_157 rfl rfl ?_
            refine gx_goto (tgt := 164) C dX7_set_159 (by decide) ?_
            refine gx_istore (q := 166) (lv' := [_, _, _, _, _, _, _, _]) C dX7_set_164 (Nat.le_of_ble_eq_true rfl) E.2.2.2.symm rfl rfl rfl ?_
            refine gn_inc (q := 169) (lv' := [_, _, _, _, _, _, _, _]) C dX7_set_166 rfl E.2.2.2.symm rfl rfl rfl ?_
            refine gx_goto (tgt := 77) C dX7_set_169 (by decide) ?_
            first | exact ih M _ _ _ hV hF hS | (refine gx_drop 7 ?_; exact ih M _ _ _ hV hF hS)
  exact Lq 0 (by omega) M0 _ T _ hV hF (samT.rf T)
set_option maxHeartbeats 4000000 in
theorem mp_set_1 (l : Launch) (D : va_G) (b : Nat) (M0 : List va_E) {R T Ti P Rw : Nat → Nat} {kp : Bool} {td ro : Nat} (g : Nat) (hg : g < 4) (f : Nat) (h1 : 1 ≤ f) (h2 : f ≤ 20) (h6 : T 0 < 6) (h : md_P D b M0 R T Ti P Rw kp td ro) (hk : okT T) : fb_CT l D b yX7_set cX7_set 8 (some .int) 4 101 0 0 [.ref (b + 43), .int (nI g), .int (nI f), .int (nI 1)] M0 (.returned (some (.int (bs2 (stS (setO T) (setV T g f) 36))))) (fun M' => (∃ U : Nat → Nat, samT T U ∧ md_P D b M' R U Ti P Rw kp td ro) ∧ md_F M0 M') := by
  refine fb_start [some (.ref (b + 43)), some (.int (nI g)), some (.int (nI f)), some (.int (nI 1)), none, none, none, none] (by decide) (Nat.le_of_ble_eq_true rfl) rfl ?_
  intro x hl hD hb C E hx
  subst hl hD hb
  have C : fb_OK x cX7_set "FallsBetweenModel" "set" := C
  obtain ⟨Bf, F, L, aa, we, so, lo, hV⟩ := h
  have hF := md_F.rf M0
  obtain ⟨k0, k1, k2, k3, k4, k5, k6, k7, k8⟩ := id hk
  refine gx_iload_n (q := 1) C dX7_set_0 rfl rfl rfl ?_
  refine gx_iconst (q := 2) (v := nI 4) C dX7_set_1 (by decide) rfl ?_
  refine gx_cp (q := 5) C E (sx_X7_124 (As := [_, _]) C rfl rfl dX7_set_2) (md_isNone_n _ _ _ _ g 4 hg (by omega)) kw_X7_isNone (by decide) (Nat.le_of_ble_eq_true rfl) (by omega) (by omega) dX7_set_2 rfl ?_
  refine gb_if_eq (q := 8) (tgt := 14) C dX7_set_5 (by decide) rfl (fun c5 => ?_) (fun c5 => by exfalso; cases c5)
  refine gx_iload_n (q := 15) C dX7_set_14 rfl rfl rfl ?_
  refine gx_iconst (q := 16) (v := nI 1) C dX7_set_15 (by decide) rfl ?_
  refine gn_icmp_ge (q := 19) (tgt := 26) C dX7_set_16 (by decide) rfl (by omega) (by omega) (fun c16 => ?_) (fun c16 => by exfalso; omega)
  refine gx_iload_n (q := 27) C dX7_set_26 rfl rfl rfl ?_
  refine gx_bipush (q := 29) (v := nI 20) C dX7_set_27 (by decide) rfl ?_
  refine gn_icmp_gt (q := 32) (tgt := 43) C dX7_set_29 (by decide) rfl (by omega) (by omega) (fun c29 => by exfalso; omega) (fun c29 => ?_)
  refine gx_aload_n (q := 33) C dX7_set_32 rfl rfl rfl ?_
  refine fg_X7_13 (q := 36) C hV.o rfl dX7_set_33 rfl ?_
  refine gx_iconst (q := 37) (v := nI 0) C dX7_set_36 (by decide) rfl ?_
  refine mv_ld_now (q := 38) C hV (by omega) dX7_set_37 rfl ?_
  refine gx_bipush (q := 40) (v := nI 6) C dX7_set_38 (by decide) rfl ?_
  refine gn_icmp_ne (q := 43) (tgt := 50) C dX7_set_40 (by decide) rfl (by omega) (by omega) (fun c40 => ?_) (fun c40 => by exfalso; omega)
  refine gx_iload_n (q := 51) C dX7_set_50 rfl rfl rfl ?_
  refine gx_if_lt (q := 54) (tgt := 59) C dX7_set_51 (by decide) rfl (fun c51 => by exfalso; revert c51; decide) (fun c51 => ?_)
  refine gx_iload_n (q := 55) C dX7_set_54 rfl rfl rfl ?_
  refine gx_iconst (q := 56) (v := nI 1) C dX7_set_55 (by decide) rfl ?_
  refine gn_icmp_le (q := 59) (tgt := 66) C dX7_set_56 (by decide) rfl (by omega) (by omega) (fun c56 => ?_) (fun c56 => by exfalso; revert c56; decide)
  refine gx_bipush (q := 68) (v := bs1 none) C dX7_set_66 (rfl) rfl ?_
  refine gx_istore (q := 70) (lv' := [_, _, _, _, _, _, _, _]) C dX7_set_68 (Nat.le_of_ble_eq_true rfl) E.2.2.2.symm rfl rfl rfl ?_
  refine gx_bipush (q := 72) (v := bs2 none) C dX7_set_70 (rfl) rfl ?_
  refine gx_istore (q := 74) (lv' := [_, _, _, _, _, _, _, _]) C dX7_set_72 (Nat.le_of_ble_eq_true rfl) E.2.2.2.symm rfl rfl rfl ?_
  refine gx_iconst (q := 75) (v := nI 0) C dX7_set_74 (by decide) rfl ?_
  refine gx_istore (q := 77) (lv' := [_, _, _, _, _, _, _, _]) C dX7_set_75 (Nat.le_of_ble_eq_true rfl) E.2.2.2.symm rfl rfl rfl ?_
  have Lq : ∀ q, q ≤ 36 → ∀ (M : List va_E) (L U : Nat → Nat) (lo : Nat), md_V (cx_D x) (cx_b x) M R U Ti Bf P F L Rw kp td aa we so lo ro → md_F M0 M → samT T U → fb_G x M 0 0 77 [some (.ref (cx_b x + 43)), some (.int (nI g)), some (.int (nI f)), some (.int (nI 1)), some (.int (bs1 (stS (setO T) (setV T g f) q))), some (.int (bs2 (stS (setO T) (setV T g f) q))), some (.int (nI q)), none] [] := by
    refine fb_dn 36 ?_ ?_
    · intro M L U lo hV hF hS
      refine gx_iload (q := 79) C dX7_set_77 rfl rfl ?_
      refine gx_bipush (q := 81) (v := nI 36) C dX7_set_79 (by decide) rfl ?_
      refine gn_icmp_ge (q := 84) (tgt := 172) C dX7_set_81 (by decide) rfl (by omega) (by omega) (fun c81 => ?_) (fun c81 => by exfalso; omega)
      refine gx_iload_n (q := 173) C dX7_set_172 rfl rfl rfl ?_
      refine gn_if_ne (q := 176) (tgt := 181) C dX7_set_173 (by decide) rfl (by omega) (fun c173 => ?_) (fun c173 => by exfalso; revert c173; decide)
      refine gx_iload (q := 183) C dX7_set_181 rfl rfl ?_
      exact gx_iret C E dX7_set_183 (⟨⟨U, hS, _, _, _, _, _, _, _, hV⟩, hF⟩) (by omega) (by omega)
    · intro q hq ih M L U lo hV hF hS
      have hkU := hS.ok hk
      have e0 : U 0 = T 0 := hS.lo (by omega)
      have hv := setV_le (g := g) hk h6 hq h1 h2
      have hkm : okT (moT U 0 q f 0) := moT_ok hkU (by omega) (by omega) hq h1 h2 (by omega)
      refine gx_iload (q := 79) C dX7_set_77 rfl rfl ?_
      refine gx_bipush (q := 81) (v := nI 36) C dX7_set_79 (by decide) rfl ?_
      refine gn_icmp_ge (q := 84) (tgt := 172) C dX7_set_81 (by decide) rfl (by omega) (by omega) (fun c81 => by exfalso; omega) (fun c81 => ?_)
      refine gx_aload_n (q := 85) C dX7_set_84 rfl rfl rfl ?_
      refine gx_iload (q := 87) C dX7_set_85 rfl rfl ?_
      refine gx_cp (q := 90) C E (sx_X7_78 (As := [_]) C hV.o rfl rfl dX7_set_87) (md_treeIn _ _ _ _ q (by omega) hV hkU) kw_X7_treeIn (by decide) (Nat.le_of_ble_eq_true rfl) (by omega) (by omega) dX7_set_87 rfl ?_
      refine gx_bipush (q := 92) (v := -9) C dX7_set_90 (by decide) rfl ?_
      refine gq_icmp_ne (q := 95) (tgt := 166) C dX7_set_92 (by decide) rfl (fun z hz => by have := (fstN_spec hz).1; omega) (fun z92 c92 => ?_) (fun c92 => ?_)
      · rw [stS_o (show setO T q = true by unfold setO; rw [← trIn_cg hS hk, c92]; rfl)] at ih
        refine gn_inc (q := 169) (lv' := [_, _, _, _, _, _, _, _]) C dX7_set_166 rfl E.2.2.2.symm rfl rfl rfl ?_
        refine gx_goto (tgt := 77) C dX7_set_169 (by decide) ?_
        first | exact ih M _ _ _ hV hF hS | (refine gx_drop 7 ?_; exact ih M _ _ _ hV hF hS)
      · have hoc : setO T q = false := by unfold setO; rw [← trIn_cg hS hk, c92]; rfl
        refine gx_aload_n (q := 96) C dX7_set_95 rfl rfl rfl ?_
        refine gx_iconst (q := 97) (v := nI 0) C dX7_set_96 (by decide) rfl ?_
        refine gx_iload (q := 99) C dX7_set_97 rfl rfl ?_
        refine gx_iload_n (q := 100) C dX7_set_99 rfl rfl rfl ?_
        refine gx_iconst (q := 101) (v := nI 0) C dX7_set_100 (by decide) rfl ?_
        refine gx_cv (q := 104) C E (sx_X7_81 (As := [_, _, _, _]) C hV.o rfl rfl dX7_set_101) (md_more _ _ _ _ 0 q f 0 (by omega) hV) kw_X7_more (by decide) (Nat.le_of_ble_eq_true rfl) rfl rfl (by omega) (by omega) dX7_set_101 rfl (fun M r101 => ?_)
        obtain ⟨hV, hG⟩ := r101
        have hF := hF.tr hG
        refine gx_aload_n (q := 105) C dX7_set_104 rfl rfl rfl ?_
        refine gx_bipush (q := 107) (v := nI 63) C dX7_set_105 (by decide) rfl ?_
        refine gx_cv (q := 110) C E (sx_X7_127 (As := [_]) C hV.o rfl rfl dX7_set_107) (md_fall _ _ _ _ 63 (by decide) hV hkm) kw_X7_fall (by decide) (Nat.le_of_ble_eq_true rfl) rfl rfl (by omega) (by omega) dX7_set_107 rfl (fun M r107 => ?_)
        obtain ⟨hV, hG⟩ := r107
        have hF := hF.tr hG
        rw [mL_63f _ hkm.1] at hV
        refine gx_aload_n (q := 111) C dX7_set_110 rfl rfl rfl ?_
        refine gx_iload_n (q := 112) C dX7_set_111 rfl rfl rfl ?_
        refine gx_cp (q := 115) C E (sx_X7_131 (As := [_]) C hV.o rfl rfl dX7_set_112) (md_shareOf _ _ _ _ g (by omega) hV hkm) kw_X7_shareOf (by decide) (Nat.le_of_ble_eq_true rfl) (by omega) (by omega) dX7_set_112 rfl ?_
        refine gx_top (show _ = nI (setV T g f q) from congrArg nI (shT_cg (moT_sam hS h6 0 q f 0) (moT_ok hk h6 (by omega) hq h1 h2 (by omega)) g)) ?_
        refine gx_istore (q := 117) (lv' := [_, _, _, _, _, _, _, _]) C dX7_set_115 (Nat.le_of_ble_eq_true rfl) E.2.2.2.symm rfl rfl rfl ?_
        refine gx_aload_n (q := 118) C dX7_set_117 rfl rfl rfl ?_
        refine fg_X7_13 (q := 121) C hV.o rfl dX7_set_118 rfl ?_
        refine gx_iconst (q := 122) (v := nI 0) C dX7_set_121 (by decide) rfl ?_
        refine gx_dup2 (q := 123) C dX7_set_122 rfl rfl rfl ?_
        refine mv_ld_now (q := 124) C hV (by omega) dX7_set_123 rfl ?_
        rw [moT_0]
        refine gx_iconst (q := 125) (v := nI 1) C dX7_set_124 (by decide) rfl ?_
        refine gn_isub (q := 126) C dX7_set_125 (by omega) rfl ?_
        refine mv_st_now (q := 127) C hV hF (by omega) dX7_set_126 rfl (fun M hV hF => ?_)
        rw [Nat.add_sub_cancel] at hV
        have hS := hS.tr (moT_back (T := U) (by omega) 0 q f 0)
        rcases hst : stS (setO T) (setV T g f) q with _ | p
        · have ih := ih
          rw [stS_n hoc hst, bs1_s, bs2_s] at ih
          rw [bs1_n, bs2_n]
          refine gx_iload (q := 129) C dX7_set_127 rfl rfl ?_
          refine gx_bipush (q := 131) (v := -9) C dX7_set_129 (by decide) rfl ?_
          refine gx_icmp_eq (q := 134) (tgt := 141) C dX7_set_131 (by decide) rfl (fun c131 => ?_) (fun c131 => by exfalso; revert c131; decide)
          refine gx_iload (q := 143) C dX7_set_141 rfl rfl ?_
          refine gx_goto (tgt := 148) C dX7_set_143 (by decide) ?_
          refine gx_istore (q := 150) (lv' := [_, _, _, _, _, _, _, _]) C dX7_set_148 (Nat.le_of_ble_eq_true rfl) E.2.2.2.symm rfl rfl rfl ?_
          refine gx_iload (q := 152) C dX7_set_150 rfl rfl ?_
          refine gx_iload (q := 154) C dX7_set_152 rfl rfl ?_
          refine gn_icmp_ne (q := 157) (tgt := 162) C dX7_set_154 (by decide) rfl (by omega) (by omega) (fun c154 => by exfalso; omega) (fun c154 => ?_)
          refine gx_iload (q := 159) C dX7_set_157 rfl rfl ?_
          refine gx_goto (tgt := 164) C dX7_set_159 (by decide) ?_
          refine gx_istore (q := 166) (lv' := [_, _, _, _, _, _, _, _]) C dX7_set_164 (Nat.le_of_ble_eq_true rfl) E.2.2.2.symm rfl rfl rfl ?_
          refine gn_inc (q := 169) (lv' := [_, _, _, _, _, _, _, _]) C dX7_set_166 rfl E.2.2.2.symm rfl rfl rfl ?_
          refine gx_goto (tgt := 77) C dX7_set_169 (by decide) ?_
          first | exact ih M _ _ _ hV hF hS | (refine gx_drop 7 ?_; exact ih M _ _ _ hV hF hS)
        · obtain ⟨hp1, hp2⟩ := stS_b (m := 129600) q (fun i hi => setV_le hk h6 (by omega) h1 h2) p hst
          rw [bs1_s, bs2_s]
          refine gx_iload (q := 129) C dX7_set_127 rfl rfl ?_
          refine gx_bipush (q := 131) (v := -9) C dX7_set_129 (by decide) rfl ?_
          refine gx_icmp_eq (q := 134) (tgt := 141) C dX7_set_131 (by decide) rfl (fun c131 => by exfalso; exact nI_m9 (by omega) c131) (fun c131 => ?_)
          refine gx_iload (q := 136) C dX7_set_134 rfl rfl ?_
          refine gx_iload (q := 138) C dX7_set_136 rfl rfl ?_
          refine gn_icmp_le (q := 141) (tgt := 146) C dX7_set_138 (by decide) rfl (by omega) (by omega) (fun c138 => ?_) (fun c138 => ?_)
          · rw [stS_f hoc hst c138, bs1_s, bs2_s] at ih
            refine gx_iload (q := 148) C dX7_set_146 rfl rfl ?_
            refine gx_istore (q := 150) (lv' := [_, _, _, _, _, _, _, _]) C dX7_set_148 (Nat.le_of_ble_eq_true rfl) E.2.2.2.symm rfl rfl rfl ?_
            refine gx_iload (q := 152) C dX7_set_150 rfl rfl ?_
            refine gx_iload (q := 154) C dX7_set_152 rfl rfl ?_
            refine gn_icmp_ne (q := 157) (tgt := 162) C dX7_set_154 (by decide) rfl (by omega) (by omega) (fun c154 => ?_) (fun c154 => by exfalso; omega)
            refine gx_iload (q := 164) C dX7_set_162 rfl rfl ?_
            refine gx_istore (q := 166) (lv' := [_, _, _, _, _, _, _, _]) C dX7_set_164 (Nat.le_of_ble_eq_true rfl) E.2.2.2.symm rfl rfl rfl ?_
            refine gn_inc (q := 169) (lv' := [_, _, _, _, _, _, _, _]) C dX7_set_166 rfl E.2.2.2.symm rfl rfl rfl ?_
            refine gx_goto (tgt := 77) C dX7_set_169 (by decide) ?_
            first | exact ih M _ _ _ hV hF hS | (refine gx_drop 7 ?_; exact ih M _ _ _ hV hF hS)
          · rw [stS_t hoc hst (by omega), bs1_s, bs2_s] at ih
            refine gx_iload (q := 143) C dX7_set_141 rfl rfl ?_
            refine gx_goto (tgt := 148) C dX7_set_143 (by decide) ?_
            refine gx_istore (q := 150) (lv' := [_, _, _, _, _, _, _, _]) C dX7_set_148 (Nat.le_of_ble_eq_true rfl) E.2.2.2.symm rfl rfl rfl ?_
            refine gx_iload (q := 152) C dX7_set_150 rfl rfl ?_
            refine gx_iload (q := 154) C dX7_set_152 rfl rfl ?_
            refine gn_icmp_ne (q := 157) (tgt := 162) C dX7_set_154 (by decide) rfl (by omega) (by omega) (fun c154 => by exfalso; omega) (fun c154 => ?_)
            refine gx_iload (q := 159) C dX7_set_157 rfl rfl ?_
            refine gx_goto (tgt := 164) C dX7_set_159 (by decide) ?_
            refine gx_istore (q := 166) (lv' := [_, _, _, _, _, _, _, _]) C dX7_set_164 (Nat.le_of_ble_eq_true rfl) E.2.2.2.symm rfl rfl rfl ?_
            refine gn_inc (q := 169) (lv' := [_, _, _, _, _, _, _, _]) C dX7_set_166 rfl E.2.2.2.symm rfl rfl rfl ?_
            refine gx_goto (tgt := 77) C dX7_set_169 (by decide) ?_
            first | exact ih M _ _ _ hV hF hS | (refine gx_drop 7 ?_; exact ih M _ _ _ hV hF hS)
  exact Lq 0 (by omega) M0 _ T _ hV hF (samT.rf T)
