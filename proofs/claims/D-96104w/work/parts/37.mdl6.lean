/-! Math; the reference: counts, trees set and felled -/
set_option maxRecDepth 100000
set_option maxHeartbeats 4000000 in
theorem mp_count_0 (l : Launch) (D : va_G) (b : Nat) (M0 : List va_E) {R T Ti P Rw : Nat → Nat} {kp : Bool} {td ro : Nat}  (h : md_P D b M0 R T Ti P Rw kp td ro) (hk : okT T) : fb_CT l D b yX7_count cX7_count 4 (some .int) 3 71 0 0 [.ref (b + 43), .int (nI 0)] M0 (.returned (some (.int (nI (T 0))))) (fun M' => md_P D b M' R T Ti P Rw kp td ro ∧ md_F M0 M') := by
  refine fb_start [some (.ref (b + 43)), some (.int (nI 0)), none, none] (by decide) (Nat.le_of_ble_eq_true rfl) rfl ?_
  intro x hl hD hb C E hx
  subst hl hD hb
  have C : fb_OK x cX7_count "FallsBetweenModel" "count" := C
  obtain ⟨Bf, F, L, aa, we, so, lo, hV⟩ := h
  have hF := md_F.rf M0
  obtain ⟨k0, k1, k2, k3, k4, k5, k6, k7, k8⟩ := id hk
  refine gx_iconst (q := 1) (v := nI 0) C dX7_count_0 (by decide) rfl ?_
  refine gx_istore_n (q := 2) (lv' := [_, _, _, _]) C dX7_count_1 rfl (Nat.le_of_ble_eq_true rfl) E.2.2.2.symm rfl rfl rfl ?_
  refine gx_iload_n (q := 3) C dX7_count_2 rfl rfl rfl ?_
  refine gx_tableIn (tgt := 52) C dX7_count_3 (by decide) (by decide) (rfl) (by decide) ?_
  refine gx_aload_n (q := 53) C dX7_count_52 rfl rfl rfl ?_
  refine fg_X7_13 (q := 56) C hV.o rfl dX7_count_53 rfl ?_
  refine gx_iconst (q := 57) (v := nI 0) C dX7_count_56 (by decide) rfl ?_
  refine mv_ld_now (q := 58) C hV (by omega) dX7_count_57 rfl ?_
  exact gx_iret C E dX7_count_58 (⟨⟨_, _, _, _, _, _, _, hV⟩, hF⟩) (by omega) (by omega)
set_option maxHeartbeats 4000000 in
theorem mp_count_1 (l : Launch) (D : va_G) (b : Nat) (M0 : List va_E) {R T Ti P Rw : Nat → Nat} {kp : Bool} {td ro : Nat}  (h : md_P D b M0 R T Ti P Rw kp td ro) (hk : okT T) : fb_CT l D b yX7_count cX7_count 4 (some .int) 3 71 0 0 [.ref (b + 43), .int (nI 1)] M0 (.returned (some (.int (nI (sumN (fun j => T (132 + j)) (T 0)))))) (fun M' => md_P D b M' R T Ti P Rw kp td ro ∧ md_F M0 M') := by
  refine fb_start [some (.ref (b + 43)), some (.int (nI 1)), none, none] (by decide) (Nat.le_of_ble_eq_true rfl) rfl ?_
  intro x hl hD hb C E hx
  subst hl hD hb
  have C : fb_OK x cX7_count "FallsBetweenModel" "count" := C
  obtain ⟨Bf, F, L, aa, we, so, lo, hV⟩ := h
  have hF := md_F.rf M0
  obtain ⟨k0, k1, k2, k3, k4, k5, k6, k7, k8⟩ := id hk
  refine gx_iconst (q := 1) (v := nI 0) C dX7_count_0 (by decide) rfl ?_
  refine gx_istore_n (q := 2) (lv' := [_, _, _, _]) C dX7_count_1 rfl (Nat.le_of_ble_eq_true rfl) E.2.2.2.symm rfl rfl rfl ?_
  refine gx_iload_n (q := 3) C dX7_count_2 rfl rfl rfl ?_
  refine gx_tableIn (tgt := 59) C dX7_count_3 (by decide) (by decide) (rfl) (by decide) ?_
  refine gx_aload_n (q := 60) C dX7_count_59 rfl rfl rfl ?_
  refine gx_sipush (q := 63) (v := nI 132) C dX7_count_60 (by decide) rfl ?_
  refine gx_aload_n (q := 64) C dX7_count_63 rfl rfl rfl ?_
  refine fg_X7_13 (q := 67) C hV.o rfl dX7_count_64 rfl ?_
  refine gx_iconst (q := 68) (v := nI 0) C dX7_count_67 (by decide) rfl ?_
  refine mv_ld_now (q := 69) C hV (by omega) dX7_count_68 rfl ?_
  refine gx_cp (q := 72) C E (sx_X7_157 (As := [_, _]) C hV.o rfl rfl dX7_count_69) (md_sumOf _ _ _ _ 132 (T 0) (by omega) hV) kw_X7_sumOf (by decide) (Nat.le_of_ble_eq_true rfl) (by omega) (by omega) dX7_count_69 rfl ?_
  exact gx_iret C E dX7_count_72 (⟨⟨_, _, _, _, _, _, _, hV⟩, hF⟩) (by omega) (by omega)
set_option maxHeartbeats 4000000 in
theorem mp_count_2 (l : Launch) (D : va_G) (b : Nat) (M0 : List va_E) {R T Ti P Rw : Nat → Nat} {kp : Bool} {td ro : Nat}  (h : md_P D b M0 R T Ti P Rw kp td ro) (hk : okT T) : fb_CT l D b yX7_count cX7_count 4 (some .int) 3 71 0 0 [.ref (b + 43), .int (nI 2)] M0 (.returned (some (.int (nI (T 1))))) (fun M' => md_P D b M' R T Ti P Rw kp td ro ∧ md_F M0 M') := by
  refine fb_start [some (.ref (b + 43)), some (.int (nI 2)), none, none] (by decide) (Nat.le_of_ble_eq_true rfl) rfl ?_
  intro x hl hD hb C E hx
  subst hl hD hb
  have C : fb_OK x cX7_count "FallsBetweenModel" "count" := C
  obtain ⟨Bf, F, L, aa, we, so, lo, hV⟩ := h
  have hF := md_F.rf M0
  obtain ⟨k0, k1, k2, k3, k4, k5, k6, k7, k8⟩ := id hk
  refine gx_iconst (q := 1) (v := nI 0) C dX7_count_0 (by decide) rfl ?_
  refine gx_istore_n (q := 2) (lv' := [_, _, _, _]) C dX7_count_1 rfl (Nat.le_of_ble_eq_true rfl) E.2.2.2.symm rfl rfl rfl ?_
  refine gx_iload_n (q := 3) C dX7_count_2 rfl rfl rfl ?_
  refine gx_tableIn (tgt := 73) C dX7_count_3 (by decide) (by decide) (rfl) (by decide) ?_
  refine gx_aload_n (q := 74) C dX7_count_73 rfl rfl rfl ?_
  refine fg_X7_13 (q := 77) C hV.o rfl dX7_count_74 rfl ?_
  refine gx_iconst (q := 78) (v := nI 1) C dX7_count_77 (by decide) rfl ?_
  refine mv_ld_now (q := 79) C hV (by omega) dX7_count_78 rfl ?_
  exact gx_iret C E dX7_count_79 (⟨⟨_, _, _, _, _, _, _, hV⟩, hF⟩) (by omega) (by omega)
set_option maxHeartbeats 4000000 in
theorem mp_count_3 (l : Launch) (D : va_G) (b : Nat) (M0 : List va_E) {R T Ti P Rw : Nat → Nat} {kp : Bool} {td ro : Nat}  (h : md_P D b M0 R T Ti P Rw kp td ro) (hk : okT T) : fb_CT l D b yX7_count cX7_count 4 (some .int) 3 71 0 0 [.ref (b + 43), .int (nI 3)] M0 (.returned (some (.int (nI (T 2))))) (fun M' => md_P D b M' R T Ti P Rw kp td ro ∧ md_F M0 M') := by
  refine fb_start [some (.ref (b + 43)), some (.int (nI 3)), none, none] (by decide) (Nat.le_of_ble_eq_true rfl) rfl ?_
  intro x hl hD hb C E hx
  subst hl hD hb
  have C : fb_OK x cX7_count "FallsBetweenModel" "count" := C
  obtain ⟨Bf, F, L, aa, we, so, lo, hV⟩ := h
  have hF := md_F.rf M0
  obtain ⟨k0, k1, k2, k3, k4, k5, k6, k7, k8⟩ := id hk
  refine gx_iconst (q := 1) (v := nI 0) C dX7_count_0 (by decide) rfl ?_
  refine gx_istore_n (q := 2) (lv' := [_, _, _, _]) C dX7_count_1 rfl (Nat.le_of_ble_eq_true rfl) E.2.2.2.symm rfl rfl rfl ?_
  refine gx_iload_n (q := 3) C dX7_count_2 rfl rfl rfl ?_
  refine gx_tableIn (tgt := 80) C dX7_count_3 (by decide) (by decide) (rfl) (by decide) ?_
  refine gx_aload_n (q := 81) C dX7_count_80 rfl rfl rfl ?_
  refine fg_X7_13 (q := 84) C hV.o rfl dX7_count_81 rfl ?_
  refine gx_iconst (q := 85) (v := nI 2) C dX7_count_84 (by decide) rfl ?_
  refine mv_ld_now (q := 86) C hV (by omega) dX7_count_85 rfl ?_
  exact gx_iret C E dX7_count_86 (⟨⟨_, _, _, _, _, _, _, hV⟩, hF⟩) (by omega) (by omega)
set_option maxHeartbeats 4000000 in
theorem mp_count_4 (l : Launch) (D : va_G) (b : Nat) (M0 : List va_E) {R T Ti P Rw : Nat → Nat} {kp : Bool} {td ro : Nat}  (h : md_P D b M0 R T Ti P Rw kp td ro) (hk : okT T) : fb_CT l D b yX7_count cX7_count 4 (some .int) 3 71 0 0 [.ref (b + 43), .int (nI 4)] M0 (.returned (some (.int (nI (sumN (fun j => T (84 + j)) 36))))) (fun M' => md_P D b M' R T Ti P Rw kp td ro ∧ md_F M0 M') := by
  refine fb_start [some (.ref (b + 43)), some (.int (nI 4)), none, none] (by decide) (Nat.le_of_ble_eq_true rfl) rfl ?_
  intro x hl hD hb C E hx
  subst hl hD hb
  have C : fb_OK x cX7_count "FallsBetweenModel" "count" := C
  obtain ⟨Bf, F, L, aa, we, so, lo, hV⟩ := h
  have hF := md_F.rf M0
  obtain ⟨k0, k1, k2, k3, k4, k5, k6, k7, k8⟩ := id hk
  refine gx_iconst (q := 1) (v := nI 0) C dX7_count_0 (by decide) rfl ?_
  refine gx_istore_n (q := 2) (lv' := [_, _, _, _]) C dX7_count_1 rfl (Nat.le_of_ble_eq_true rfl) E.2.2.2.symm rfl rfl rfl ?_
  refine gx_iload_n (q := 3) C dX7_count_2 rfl rfl rfl ?_
  refine gx_tableIn (tgt := 87) C dX7_count_3 (by decide) (by decide) (rfl) (by decide) ?_
  refine gx_aload_n (q := 88) C dX7_count_87 rfl rfl rfl ?_
  refine gx_bipush (q := 90) (v := nI 84) C dX7_count_88 (by decide) rfl ?_
  refine gx_bipush (q := 92) (v := nI 36) C dX7_count_90 (by decide) rfl ?_
  refine gx_cp (q := 95) C E (sx_X7_157 (As := [_, _]) C hV.o rfl rfl dX7_count_92) (md_sumOf _ _ _ _ 84 36 (by omega) hV) kw_X7_sumOf (by decide) (Nat.le_of_ble_eq_true rfl) (by omega) (by omega) dX7_count_92 rfl ?_
  exact gx_iret C E dX7_count_95 (⟨⟨_, _, _, _, _, _, _, hV⟩, hF⟩) (by omega) (by omega)
set_option maxHeartbeats 4000000 in
theorem mp_count_5 (l : Launch) (D : va_G) (b : Nat) (M0 : List va_E) {R T Ti P Rw : Nat → Nat} {kp : Bool} {td ro : Nat}  (h : md_P D b M0 R T Ti P Rw kp td ro) (hk : okT T) : fb_CT l D b yX7_count cX7_count 4 (some .int) 3 71 0 0 [.ref (b + 43), .int (nI 5)] M0 (.returned (some (.int (nI (T 3))))) (fun M' => md_P D b M' R T Ti P Rw kp td ro ∧ md_F M0 M') := by
  refine fb_start [some (.ref (b + 43)), some (.int (nI 5)), none, none] (by decide) (Nat.le_of_ble_eq_true rfl) rfl ?_
  intro x hl hD hb C E hx
  subst hl hD hb
  have C : fb_OK x cX7_count "FallsBetweenModel" "count" := C
  obtain ⟨Bf, F, L, aa, we, so, lo, hV⟩ := h
  have hF := md_F.rf M0
  obtain ⟨k0, k1, k2, k3, k4, k5, k6, k7, k8⟩ := id hk
  refine gx_iconst (q := 1) (v := nI 0) C dX7_count_0 (by decide) rfl ?_
  refine gx_istore_n (q := 2) (lv' := [_, _, _, _]) C dX7_count_1 rfl (Nat.le_of_ble_eq_true rfl) E.2.2.2.symm rfl rfl rfl ?_
  refine gx_iload_n (q := 3) C dX7_count_2 rfl rfl rfl ?_
  refine gx_tableIn (tgt := 96) C dX7_count_3 (by decide) (by decide) (rfl) (by decide) ?_
  refine gx_aload_n (q := 97) C dX7_count_96 rfl rfl rfl ?_
  refine fg_X7_13 (q := 100) C hV.o rfl dX7_count_97 rfl ?_
  refine gx_iconst (q := 101) (v := nI 3) C dX7_count_100 (by decide) rfl ?_
  refine mv_ld_now (q := 102) C hV (by omega) dX7_count_101 rfl ?_
  exact gx_iret C E dX7_count_102 (⟨⟨_, _, _, _, _, _, _, hV⟩, hF⟩) (by omega) (by omega)
set_option maxHeartbeats 4000000 in
theorem mp_count_6 (l : Launch) (D : va_G) (b : Nat) (M0 : List va_E) {R T Ti P Rw : Nat → Nat} {kp : Bool} {td ro : Nat}  (h : md_P D b M0 R T Ti P Rw kp td ro) (hk : okT T) : fb_CT l D b yX7_count cX7_count 4 (some .int) 3 71 0 0 [.ref (b + 43), .int (nI 6)] M0 (.returned (some (.int (nI (sumN (fun q => if nob T q = true then 1 else 0) 36))))) (fun M' => md_P D b M' R T Ti P Rw kp td ro ∧ md_F M0 M') := by
  refine fb_start [some (.ref (b + 43)), some (.int (nI 6)), none, none] (by decide) (Nat.le_of_ble_eq_true rfl) rfl ?_
  intro x hl hD hb C E hx
  subst hl hD hb
  have C : fb_OK x cX7_count "FallsBetweenModel" "count" := C
  obtain ⟨Bf, F, L, aa, we, so, lo, hV⟩ := h
  have hF := md_F.rf M0
  obtain ⟨k0, k1, k2, k3, k4, k5, k6, k7, k8⟩ := id hk
  refine gx_iconst (q := 1) (v := nI 0) C dX7_count_0 (by decide) rfl ?_
  refine gx_istore_n (q := 2) (lv' := [_, _, _, _]) C dX7_count_1 rfl (Nat.le_of_ble_eq_true rfl) E.2.2.2.symm rfl rfl rfl ?_
  refine gx_iload_n (q := 3) C dX7_count_2 rfl rfl rfl ?_
  refine gx_tableIn (tgt := 103) C dX7_count_3 (by decide) (by decide) (rfl) (by decide) ?_
  refine gx_iconst (q := 104) (v := nI 0) C dX7_count_103 (by decide) rfl ?_
  refine gx_istore_n (q := 105) (lv' := [_, _, _, _]) C dX7_count_104 rfl (Nat.le_of_ble_eq_true rfl) E.2.2.2.symm rfl rfl rfl ?_
  have Lp : ∀ i, i ≤ 36 → fb_G x M0 0 0 105 [some (.ref (cx_b x + 43)), some (.int (nI 6)), some (.int (nI (sumN (fun q => if nob T q = true then 1 else 0) i))), some (.int (nI i))] [] := by
    refine fb_dn 36 ?_ ?_
    · skip
      refine gx_iload_n (q := 106) C dX7_count_105 rfl rfl rfl ?_
      refine gx_bipush (q := 108) (v := nI 36) C dX7_count_106 (by decide) rfl ?_
      refine gn_icmp_ge (q := 111) (tgt := 133) C dX7_count_108 (by decide) rfl (by omega) (by omega) (fun c108 => ?_) (fun c108 => by exfalso; omega)
      refine gx_iload_n (q := 134) C dX7_count_133 rfl rfl rfl ?_
      exact gx_iret C E dX7_count_134 (⟨⟨_, _, _, _, _, _, _, hV⟩, hF⟩) (by omega) (by omega)
    · intro i hi ih
      rw [sumN_s] at ih
      refine gx_iload_n (q := 106) C dX7_count_105 rfl rfl rfl ?_
      refine gx_bipush (q := 108) (v := nI 36) C dX7_count_106 (by decide) rfl ?_
      refine gn_icmp_ge (q := 111) (tgt := 133) C dX7_count_108 (by decide) rfl (by omega) (by omega) (fun c108 => by exfalso; omega) (fun c108 => ?_)
      refine gx_iload_n (q := 112) C dX7_count_111 rfl rfl rfl ?_
      refine gx_aload_n (q := 113) C dX7_count_112 rfl rfl rfl ?_
      refine gx_iload_n (q := 114) C dX7_count_113 rfl rfl rfl ?_
      refine gx_cp (q := 117) C E (sx_X7_121 (As := [_]) C hV.o rfl rfl dX7_count_114) (md_isNobodys _ _ _ _ i hi hV hk) kw_X7_isNobodys (by decide) (Nat.le_of_ble_eq_true rfl) (by omega) (by omega) dX7_count_114 rfl ?_
      refine gb_if_eq (q := 120) (tgt := 124) C dX7_count_117 (by decide) rfl (fun c117 => ?_) (fun c117 => ?_)
      · rw [if_neg (by rw [c117]; decide)] at ih
        refine gx_iconst (q := 125) (v := nI 0) C dX7_count_124 (by decide) rfl ?_
        refine gn_iadd (q := 126) C dX7_count_125 rfl ?_
        refine gx_istore_n (q := 127) (lv' := [_, _, _, _]) C dX7_count_126 rfl (Nat.le_of_ble_eq_true rfl) E.2.2.2.symm rfl rfl rfl ?_
        refine gn_inc (q := 130) (lv' := [_, _, _, _]) C dX7_count_127 rfl E.2.2.2.symm rfl rfl rfl ?_
        refine gx_goto (tgt := 105) C dX7_count_130 (by decide) ?_
        exact ih
      · rw [if_pos c117] at ih
        refine gx_iconst (q := 121) (v := nI 1) C dX7_count_120 (by decide) rfl ?_
        refine gx_goto (tgt := 125) C dX7_count_121 (by decide) ?_
        refine gn_iadd (q := 126) C dX7_count_125 rfl ?_
        refine gx_istore_n (q := 127) (lv' := [_, _, _, _]) C dX7_count_126 rfl (Nat.le_of_ble_eq_true rfl) E.2.2.2.symm rfl rfl rfl ?_
        refine gn_inc (q := 130) (lv' := [_, _, _, _]) C dX7_count_127 rfl E.2.2.2.symm rfl rfl rfl ?_
        refine gx_goto (tgt := 105) C dX7_count_130 (by decide) ?_
        exact ih
  exact Lp 0 (by omega)
set_option maxHeartbeats 4000000 in
theorem mp_count_7 (l : Launch) (D : va_G) (b : Nat) (M0 : List va_E) {R T Ti P Rw : Nat → Nat} {kp : Bool} {td ro : Nat}  (h : md_P D b M0 R T Ti P Rw kp td ro) (hk : okT T) : fb_CT l D b yX7_count cX7_count 4 (some .int) 3 71 0 0 [.ref (b + 43), .int (nI 7)] M0 (.returned (some (.int (nI ro)))) (fun M' => md_P D b M' R T Ti P Rw kp td ro ∧ md_F M0 M') := by
  refine fb_start [some (.ref (b + 43)), some (.int (nI 7)), none, none] (by decide) (Nat.le_of_ble_eq_true rfl) rfl ?_
  intro x hl hD hb C E hx
  subst hl hD hb
  have C : fb_OK x cX7_count "FallsBetweenModel" "count" := C
  obtain ⟨Bf, F, L, aa, we, so, lo, hV⟩ := h
  have hF := md_F.rf M0
  obtain ⟨k0, k1, k2, k3, k4, k5, k6, k7, k8⟩ := id hk
  refine gx_iconst (q := 1) (v := nI 0) C dX7_count_0 (by decide) rfl ?_
  refine gx_istore_n (q := 2) (lv' := [_, _, _, _]) C dX7_count_1 rfl (Nat.le_of_ble_eq_true rfl) E.2.2.2.symm rfl rfl rfl ?_
  refine gx_iload_n (q := 3) C dX7_count_2 rfl rfl rfl ?_
  refine gx_tableIn (tgt := 135) C dX7_count_3 (by decide) (by decide) (rfl) (by decide) ?_
  refine gx_aload_n (q := 136) C dX7_count_135 rfl rfl rfl ?_
  refine fg_X7_151 (q := 139) C hV.o rfl dX7_count_136 rfl ?_
  exact gx_iret C E dX7_count_139 (⟨⟨_, _, _, _, _, _, _, hV⟩, hF⟩) (by omega) (by omega)
set_option maxHeartbeats 4000000 in
theorem mp_count_8 (l : Launch) (D : va_G) (b : Nat) (M0 : List va_E) {R T Ti P Rw : Nat → Nat} {kp : Bool} {td ro : Nat}  (h : md_P D b M0 R T Ti P Rw kp td ro) (hk : okT T) : fb_CT l D b yX7_count cX7_count 4 (some .int) 3 71 0 0 [.ref (b + 43), .int (nI 8)] M0 (.returned (some (.int (nI td)))) (fun M' => md_P D b M' R T Ti P Rw kp td ro ∧ md_F M0 M') := by
  refine fb_start [some (.ref (b + 43)), some (.int (nI 8)), none, none] (by decide) (Nat.le_of_ble_eq_true rfl) rfl ?_
  intro x hl hD hb C E hx
  subst hl hD hb
  have C : fb_OK x cX7_count "FallsBetweenModel" "count" := C
  obtain ⟨Bf, F, L, aa, we, so, lo, hV⟩ := h
  have hF := md_F.rf M0
  obtain ⟨k0, k1, k2, k3, k4, k5, k6, k7, k8⟩ := id hk
  refine gx_iconst (q := 1) (v := nI 0) C dX7_count_0 (by decide) rfl ?_
  refine gx_istore_n (q := 2) (lv' := [_, _, _, _]) C dX7_count_1 rfl (Nat.le_of_ble_eq_true rfl) E.2.2.2.symm rfl rfl rfl ?_
  refine gx_iload_n (q := 3) C dX7_count_2 rfl rfl rfl ?_
  refine gx_tableIn (tgt := 140) C dX7_count_3 (by decide) (by decide) (rfl) (by decide) ?_
  refine gx_aload_n (q := 141) C dX7_count_140 rfl rfl rfl ?_
  refine fg_X7_53 (q := 144) C hV.o rfl dX7_count_141 rfl ?_
  exact gx_iret C E dX7_count_144 (⟨⟨_, _, _, _, _, _, _, hV⟩, hF⟩) (by omega) (by omega)
set_option maxHeartbeats 4000000 in
theorem mp_count_r (l : Launch) (D : va_G) (b : Nat) (M0 : List va_E) {R T Ti P Rw : Nat → Nat} {kp : Bool} {td ro : Nat} (w : Nat) (h1 : 11 ≤ w) (h2 : w ≤ 16) (h : md_P D b M0 R T Ti P Rw kp td ro) (hk : okT T) : fb_CT l D b yX7_count cX7_count 4 (some .int) 3 71 0 0 [.ref (b + 43), .int (nI w)] M0 (.returned (some (.int (nI (R (w - 10)))))) (fun M' => md_P D b M' R T Ti P Rw kp td ro ∧ md_F M0 M') := by
  refine fb_start [some (.ref (b + 43)), some (.int (nI w)), none, none] (by decide) (Nat.le_of_ble_eq_true rfl) rfl ?_
  intro x hl hD hb C E hx
  subst hl hD hb
  have C : fb_OK x cX7_count "FallsBetweenModel" "count" := C
  obtain ⟨Bf, F, L, aa, we, so, lo, hV⟩ := h
  have hF := md_F.rf M0
  obtain ⟨k0, k1, k2, k3, k4, k5, k6, k7, k8⟩ := id hk
  refine gx_iconst (q := 1) (v := nI 0) C dX7_count_0 (by decide) rfl ?_
  refine gx_istore_n (q := 2) (lv' := [_, _, _, _]) C dX7_count_1 rfl (Nat.le_of_ble_eq_true rfl) E.2.2.2.symm rfl rfl rfl ?_
  refine gx_iload_n (q := 3) C dX7_count_2 rfl rfl rfl ?_
  refine gx_tableOut (tgt := 145) C dX7_count_3 (Or.inr (by rw [nI_toInt (by omega)]; omega)) (by decide) ?_
  refine gx_iload_n (q := 146) C dX7_count_145 rfl rfl rfl ?_
  refine gx_bipush (q := 148) (v := nI 11) C dX7_count_146 (by decide) rfl ?_
  refine gn_icmp_lt (q := 151) (tgt := 169) C dX7_count_148 (by decide) rfl (by omega) (by omega) (fun c148 => by exfalso; omega) (fun c148 => ?_)
  refine gx_iload_n (q := 152) C dX7_count_151 rfl rfl rfl ?_
  refine gx_bipush (q := 154) (v := nI 16) C dX7_count_152 (by decide) rfl ?_
  refine gn_icmp_gt (q := 157) (tgt := 169) C dX7_count_154 (by decide) rfl (by omega) (by omega) (fun c154 => by exfalso; omega) (fun c154 => ?_)
  refine gx_aload_n (q := 158) C dX7_count_157 rfl rfl rfl ?_
  refine fg_X7_7 (q := 161) C hV.o rfl dX7_count_158 rfl ?_
  refine gx_iload_n (q := 162) C dX7_count_161 rfl rfl rfl ?_
  refine gx_bipush (q := 164) (v := nI 10) C dX7_count_162 (by decide) rfl ?_
  refine gn_isub (q := 165) C dX7_count_164 (by omega) rfl ?_
  refine mv_ld_refused (q := 166) C hV (by omega) dX7_count_165 rfl ?_
  refine gx_goto (tgt := 171) C dX7_count_166 (by decide) ?_
  exact gx_iret C E dX7_count_171 (⟨⟨_, _, _, _, _, _, _, hV⟩, hF⟩) (by omega) (by omega)
set_option maxHeartbeats 4000000 in
theorem mp_count_o (l : Launch) (D : va_G) (b : Nat) (M0 : List va_E) {R T Ti P Rw : Nat → Nat} {kp : Bool} {td ro : Nat} (w : Int32) (hw : w < 0 ∨ nI 9 ≤ w) (h1 : w < nI 11 ∨ nI 16 < w) (h : md_P D b M0 R T Ti P Rw kp td ro) (hk : okT T) : fb_CT l D b yX7_count cX7_count 4 (some .int) 3 71 0 0 [.ref (b + 43), .int w] M0 (.returned (some (.int (-9)))) (fun M' => md_P D b M' R T Ti P Rw kp td ro ∧ md_F M0 M') := by
  refine fb_start [some (.ref (b + 43)), some (.int w), none, none] (by decide) (Nat.le_of_ble_eq_true rfl) rfl ?_
  intro x hl hD hb C E hx
  subst hl hD hb
  have C : fb_OK x cX7_count "FallsBetweenModel" "count" := C
  obtain ⟨Bf, F, L, aa, we, so, lo, hV⟩ := h
  have hF := md_F.rf M0
  obtain ⟨k0, k1, k2, k3, k4, k5, k6, k7, k8⟩ := id hk
  refine gx_iconst (q := 1) (v := nI 0) C dX7_count_0 (by decide) rfl ?_
  refine gx_istore_n (q := 2) (lv' := [_, _, _, _]) C dX7_count_1 rfl (Nat.le_of_ble_eq_true rfl) E.2.2.2.symm rfl rfl rfl ?_
  refine gx_iload_n (q := 3) C dX7_count_2 rfl rfl rfl ?_
  refine gx_tableOut (tgt := 145) C dX7_count_3 (by have := sw_out (by decide) hw; omega) (by decide) ?_
  refine gx_iload_n (q := 146) C dX7_count_145 rfl rfl rfl ?_
  refine gx_bipush (q := 148) (v := nI 11) C dX7_count_146 (by decide) rfl ?_
  refine gx_icmp_lt (q := 151) (tgt := 169) C dX7_count_148 (by decide) rfl (fun c148 => ?_) (fun c148 => ?_)
  · refine gx_bipush (q := 171) (v := -9) C dX7_count_169 (by decide) rfl ?_
    exact gx_iret C E dX7_count_171 (⟨⟨_, _, _, _, _, _, _, hV⟩, hF⟩) (by omega) (by omega)
  · refine gx_iload_n (q := 152) C dX7_count_151 rfl rfl rfl ?_
    refine gx_bipush (q := 154) (v := nI 16) C dX7_count_152 (by decide) rfl ?_
    refine gx_icmp_gt (q := 157) (tgt := 169) C dX7_count_154 (by decide) rfl (fun c154 => ?_) (fun c154 => by exfalso; exact h1.elim c148 c154)
    refine gx_bipush (q := 171) (v := -9) C dX7_count_169 (by decide) rfl ?_
    exact gx_iret C E dX7_count_171 (⟨⟨_, _, _, _, _, _, _, hV⟩, hF⟩) (by omega) (by omega)
set_option maxHeartbeats 4000000 in
theorem md_more (l : Launch) (D : va_G) (b : Nat) (M0 : List va_E) {R T Ti Bf P F L Rw : Nat → Nat} {kp we : Bool} {td aa so lo ro : Nat} (k q f le : Nat) (h0 : T 0 < 6) (hV : md_V D b M0 R T Ti Bf P F L Rw kp td aa we so lo ro) : fb_CT l D b yX7_more cX7_more 6 none 0 0 0 0 [.ref (b + 43), .int (nI k), .int (nI q), .int (nI f), .int (nI le)] M0 (.returned none) (fun M' => md_V D b M' R (moT T k q f le) Ti Bf P F L Rw kp td aa we so lo ro ∧ md_F M0 M') := by
  refine fb_start [some (.ref (b + 43)), some (.int (nI k)), some (.int (nI q)), some (.int (nI f)), some (.int (nI le)), none] (by decide) (Nat.le_of_ble_eq_true rfl) rfl ?_
  intro x hl hD hb C E hx
  subst hl hD hb
  have C : fb_OK x cX7_more "FallsBetweenModel" "more" := C
  have hF := md_F.rf M0
  refine gx_aload_n (q := 1) C dX7_more_0 rfl rfl rfl ?_
  refine fg_X7_13 (q := 4) C hV.o rfl dX7_more_1 rfl ?_
  refine gx_iconst (q := 5) (v := nI 0) C dX7_more_4 (by decide) rfl ?_
  refine mv_ld_now (q := 6) C hV (by omega) dX7_more_5 rfl ?_
  refine gx_istore (q := 8) (lv' := [_, _, _, _, _, _]) C dX7_more_6 (Nat.le_of_ble_eq_true rfl) E.2.2.2.symm rfl rfl rfl ?_
  refine gx_aload_n (q := 9) C dX7_more_8 rfl rfl rfl ?_
  refine fg_X7_13 (q := 12) C hV.o rfl dX7_more_9 rfl ?_
  refine gx_bipush (q := 14) (v := nI 120) C dX7_more_12 (by decide) rfl ?_
  refine gx_iload (q := 16) C dX7_more_14 rfl rfl ?_
  refine gn_iadd (q := 17) C dX7_more_16 rfl ?_
  refine gx_iload_n (q := 18) C dX7_more_17 rfl rfl rfl ?_
  refine mv_st_now (q := 19) C hV hF (by omega) dX7_more_18 rfl (fun M hV hF => ?_)
  refine gx_aload_n (q := 20) C dX7_more_19 rfl rfl rfl ?_
  refine fg_X7_13 (q := 23) C hV.o rfl dX7_more_20 rfl ?_
  refine gx_bipush (q := 25) (v := nI 126) C dX7_more_23 (by decide) rfl ?_
  refine gx_iload (q := 27) C dX7_more_25 rfl rfl ?_
  refine gn_iadd (q := 28) C dX7_more_27 rfl ?_
  refine gx_iload_n (q := 29) C dX7_more_28 rfl rfl rfl ?_
  refine mv_st_now (q := 30) C hV hF (by omega) dX7_more_29 rfl (fun M hV hF => ?_)
  refine gx_aload_n (q := 31) C dX7_more_30 rfl rfl rfl ?_
  refine fg_X7_13 (q := 34) C hV.o rfl dX7_more_31 rfl ?_
  refine gx_sipush (q := 37) (v := nI 132) C dX7_more_34 (by decide) rfl ?_
  refine gx_iload (q := 39) C dX7_more_37 rfl rfl ?_
  refine gn_iadd (q := 40) C dX7_more_39 rfl ?_
  refine gx_iload_n (q := 41) C dX7_more_40 rfl rfl rfl ?_
  refine mv_st_now (q := 42) C hV hF (by omega) dX7_more_41 rfl (fun M hV hF => ?_)
  refine gx_aload_n (q := 43) C dX7_more_42 rfl rfl rfl ?_
  refine fg_X7_13 (q := 46) C hV.o rfl dX7_more_43 rfl ?_
  refine gx_sipush (q := 49) (v := nI 138) C dX7_more_46 (by decide) rfl ?_
  refine gx_iload (q := 51) C dX7_more_49 rfl rfl ?_
  refine gn_iadd (q := 52) C dX7_more_51 rfl ?_
  refine gx_iload (q := 54) C dX7_more_52 rfl rfl ?_
  refine mv_st_now (q := 55) C hV hF (by omega) dX7_more_54 rfl (fun M hV hF => ?_)
  refine gx_aload_n (q := 56) C dX7_more_55 rfl rfl rfl ?_
  refine fg_X7_13 (q := 59) C hV.o rfl dX7_more_56 rfl ?_
  refine gx_iconst (q := 60) (v := nI 0) C dX7_more_59 (by decide) rfl ?_
  refine gx_dup2 (q := 61) C dX7_more_60 rfl rfl rfl ?_
  refine mv_ld_now (q := 62) C hV (by omega) dX7_more_61 rfl ?_
  rw [show updN (updN (updN (updN T (120 + T 0) k) (126 + T 0) q) (132 + T 0) f) (138 + T 0) le 0 = T 0 by rw [updN_n _ (by omega), updN_n _ (by omega), updN_n _ (by omega), updN_n _ (by omega)]]
  refine gx_iconst (q := 63) (v := nI 1) C dX7_more_62 (by decide) rfl ?_
  refine gn_iadd (q := 64) C dX7_more_63 rfl ?_
  refine mv_st_now (q := 65) C hV hF (by omega) dX7_more_64 rfl (fun M hV hF => ?_)
  exact gx_vret C E dX7_more_65 (⟨hV, hF⟩) (by omega) (by omega)
def fellU (T : Nat → Nat) (t u k : Nat) : Nat → Nat := fun i => if i = 0 then T 0 - 1 else if 120 ≤ i ∧ t ≤ (i - 120) % 6 ∧ ((i - 120) % 6 < u ∨ (i - 120) % 6 = u ∧ (i - 120) / 6 < k) then T (i + 1) else T i
theorem fellU_0 (T : Nat → Nat) (t u k : Nat) : fellU T t u k 0 = T 0 - 1 := by simp [fellU]
theorem fellU_b {T : Nat → Nat} {t i : Nat} (hi : i < 144) : updN T 0 (T 0 - 1) i = fellU T t t 0 i := by
  unfold fellU
  by_cases h : i = 0
  · subst h; simp [updN]
  · rw [updN_n _ h, if_neg h, if_neg (by omega)]
theorem fellU_v {T : Nat → Nat} {t u k : Nat} (hu : u < 5) (hk : k < 4) : fellU T t u k (120 + 6 * k + u + 1) = T (120 + 6 * k + u + 1) := by
  unfold fellU
  rw [if_neg (by omega), if_neg (by omega)]
theorem fellU_s {T : Nat → Nat} {t u k i : Nat} (htu : t ≤ u) (hu : u < 5) (hk : k < 4) (hi : i < 144) : updN (fellU T t u k) (120 + 6 * k + u) (T (120 + 6 * k + u + 1)) i = fellU T t u (k + 1) i := by
  by_cases h : i = 120 + 6 * k + u
  · rw [h, updN_s]
    unfold fellU
    rw [if_neg (by omega), if_pos (by omega)]
  · rw [updN_n _ h]
    unfold fellU
    by_cases h0 : i = 0
    · rw [if_pos h0, if_pos h0]
    · rw [if_neg h0, if_neg h0]
      by_cases h1 : 120 ≤ i ∧ t ≤ (i - 120) % 6 ∧ ((i - 120) % 6 < u ∨ (i - 120) % 6 = u ∧ (i - 120) / 6 < k)
      · rw [if_pos h1, if_pos (by omega)]
      · rw [if_neg h1, if_neg (by omega)]
theorem fellU_n {T : Nat → Nat} {t u i : Nat} (hi : i < 144) : fellU T t u 4 i = fellU T t (u + 1) 0 i := by
  unfold fellU
  by_cases h0 : i = 0
  · rw [if_pos h0, if_pos h0]
  · rw [if_neg h0, if_neg h0]
    by_cases h1 : 120 ≤ i ∧ t ≤ (i - 120) % 6 ∧ ((i - 120) % 6 < u ∨ (i - 120) % 6 = u ∧ (i - 120) / 6 < 4)
    · rw [if_pos h1, if_pos (by omega)]
    · rw [if_neg h1, if_neg (by omega)]
theorem fellU_e {T : Nat → Nat} {t i : Nat} (ht : t < T 0) (hi : i < 144) : fellU T t (T 0 - 1) 0 i = fellT T t i := by
  unfold fellU fellT
  by_cases h0 : i = 0
  · rw [if_pos h0, if_pos h0]
  · rw [if_neg h0, if_neg h0]
    by_cases h1 : 120 ≤ i ∧ t ≤ (i - 120) % 6 ∧ (i - 120) % 6 < T 0 - 1
    · rw [if_pos (by omega), if_pos h1]
    · rw [if_neg (by omega), if_neg h1]
theorem fellT_at {T : Nat → Nat} (t u c : Nat) (hu : u < T 0 - 1) (h6 : T 0 ≤ 6) (hc : c < 4) : fellT T t (120 + 6 * c + u) = T (120 + 6 * c + (if u < t then u else u + 1)) := by
  unfold fellT
  rw [if_neg (by omega)]
  by_cases h : u < t
  · rw [if_pos h, if_neg (by omega)]
  · rw [if_neg h, if_pos (by omega)]
    congr 1
theorem fellT_lo {T : Nat → Nat} {t i : Nat} (h0 : 0 < i) (h : i < 120) : fellT T t i = T i := by
  unfold fellT
  rw [if_neg (by omega), if_neg (by omega)]
theorem fellT_0 (T : Nat → Nat) (t : Nat) : fellT T t 0 = T 0 - 1 := by simp [fellT]
theorem fellT_ok {T : Nat → Nat} (hk : okT T) {t : Nat} (ht : t < T 0) : okT (fellT T t) := by
  obtain ⟨k0, k1, k2, k3, k4, k5, k6, k7, k8⟩ := hk
  have g : ∀ j, 0 < j → j < 120 → fellT T t j = T j := fun j a1 a2 => fellT_lo a1 a2
  refine ⟨by rw [fellT_0]; omega, by rw [g 1 (by omega) (by omega)]; exact k1, by rw [g 2 (by omega) (by omega)]; exact k2, by rw [g 3 (by omega) (by omega)]; exact k3, fun i hi => ?_, fun i hi => by rw [g _ (by omega) (by omega)]; exact k5 i hi, fun i hi => by rw [g _ (by omega) (by omega)]; exact k6 i hi, fun i hi => by rw [g _ (by omega) (by omega)]; exact k7 i hi, fun u hu => ?_⟩
  · rw [g 3 (by omega) (by omega)] at hi
    rw [g _ (by omega) (by omega)]
    exact k4 i hi
  · rw [fellT_0] at hu
    have f0 := fellT_at t u 0 hu k0 (by omega)
    have f1 := fellT_at t u 1 hu k0 (by omega)
    have f2 := fellT_at t u 2 hu k0 (by omega)
    have f3 := fellT_at t u 3 hu k0 (by omega)
    rw [show 120 + u = 120 + 6 * 0 + u by omega, show 126 + u = 120 + 6 * 1 + u by omega, show 132 + u = 120 + 6 * 2 + u by omega, show 138 + u = 120 + 6 * 3 + u by omega, f0, f1, f2, f3]
    have := k8 (if u < t then u else u + 1) (by split <;> omega)
    exact this
set_option maxHeartbeats 4000000 in
theorem mp_fell_b (l : Launch) (D : va_G) (b : Nat) (M0 : List va_E) {R T Ti P Rw : Nat → Nat} {kp : Bool} {td ro : Nat} (v : Int32) (hb : v < 0 ∨ nI (T 0) ≤ v) (h : md_P D b M0 R T Ti P Rw kp td ro) (hk : okT T) : fb_CT l D b yX7_fell cX7_fell 4 (some .int) 1 21 0 0 [.ref (b + 43), .int v] M0 (.returned (some (.int (-1)))) (fun M' => md_P D b M' (updN R 1 (R 1 + 1)) T Ti P Rw kp td ro ∧ md_F M0 M') := by
  refine fb_start [some (.ref (b + 43)), some (.int v), none, none] (by decide) (Nat.le_of_ble_eq_true rfl) rfl ?_
  intro x hl hD hb C E hx
  subst hl hD hb
  have C : fb_OK x cX7_fell "FallsBetweenModel" "fell" := C
  obtain ⟨Bf, F, L, aa, we, so, lo, hV⟩ := h
  have hF := md_F.rf M0
  obtain ⟨k0, k1, k2, k3, k4, k5, k6, k7, k8⟩ := id hk
  refine gx_iload_n (q := 1) C dX7_fell_0 rfl rfl rfl ?_
  refine gx_aload_n (q := 2) C dX7_fell_1 rfl rfl rfl ?_
  refine fg_X7_13 (q := 5) C hV.o rfl dX7_fell_2 rfl ?_
  refine gx_iconst (q := 6) (v := nI 0) C dX7_fell_5 (by decide) rfl ?_
  refine mv_ld_now (q := 7) C hV (by omega) dX7_fell_6 rfl ?_
  refine gx_cp (q := 10) C E (sx_X7_124 (As := [_, _]) C rfl rfl dX7_fell_7) (md_isNone_t _ _ _ _ v (nI (T 0)) hb) kw_X7_isNone (by decide) (Nat.le_of_ble_eq_true rfl) (by omega) (by omega) dX7_fell_7 rfl ?_
  refine gb_if_eq (q := 13) (tgt := 19) C dX7_fell_10 (by decide) rfl (fun c10 => by exfalso; cases c10) (fun c10 => ?_)
  refine gx_aload_n (q := 14) C dX7_fell_13 rfl rfl rfl ?_
  refine gx_iconst (q := 15) (v := -1) C dX7_fell_14 (by decide) rfl ?_
  refine gx_cs (q := 18) C E (sx_X7_49 (As := [_]) C hV.o rfl rfl dX7_fell_15) (md_no _ _ _ _ (-1) 1 (by decide) (by decide) hV) kw_X7_no (by decide) (Nat.le_of_ble_eq_true rfl) rfl rfl (by omega) (by omega) dX7_fell_15 rfl (fun M r15 => ?_)
  obtain ⟨hV, hG⟩ := r15
  have hF := hF.tr hG
  exact gx_iret C E dX7_fell_18 (⟨⟨_, _, _, _, _, _, _, hV⟩, hF⟩) (by omega) (by omega)
set_option maxHeartbeats 4000000 in
theorem mp_fell_o (l : Launch) (D : va_G) (b : Nat) (M0 : List va_E) {R T Ti P Rw : Nat → Nat} {kp : Bool} {td ro : Nat} (t : Nat) (ht : t < T 0) (h : md_P D b M0 R T Ti P Rw kp td ro) (hk : okT T) : fb_CT l D b yX7_fell cX7_fell 4 (some .int) 1 21 0 0 [.ref (b + 43), .int (nI t)] M0 (.returned (some (.int (nI (T 0 - 1))))) (fun M' => md_P D b M' R (fellT T t) Ti P Rw kp td ro ∧ md_F M0 M') := by
  refine fb_start [some (.ref (b + 43)), some (.int (nI t)), none, none] (by decide) (Nat.le_of_ble_eq_true rfl) rfl ?_
  intro x hl hD hb C E hx
  subst hl hD hb
  have C : fb_OK x cX7_fell "FallsBetweenModel" "fell" := C
  obtain ⟨Bf, F, L, aa, we, so, lo, hV⟩ := h
  have hF := md_F.rf M0
  obtain ⟨k0, k1, k2, k3, k4, k5, k6, k7, k8⟩ := id hk
  refine gx_iload_n (q := 1) C dX7_fell_0 rfl rfl rfl ?_
  refine gx_aload_n (q := 2) C dX7_fell_1 rfl rfl rfl ?_
  refine fg_X7_13 (q := 5) C hV.o rfl dX7_fell_2 rfl ?_
  refine gx_iconst (q := 6) (v := nI 0) C dX7_fell_5 (by decide) rfl ?_
  refine mv_ld_now (q := 7) C hV (by omega) dX7_fell_6 rfl ?_
  refine gx_cp (q := 10) C E (sx_X7_124 (As := [_, _]) C rfl rfl dX7_fell_7) (md_isNone_n _ _ _ _ t (T 0) ht (by omega)) kw_X7_isNone (by decide) (Nat.le_of_ble_eq_true rfl) (by omega) (by omega) dX7_fell_7 rfl ?_
  refine gb_if_eq (q := 13) (tgt := 19) C dX7_fell_10 (by decide) rfl (fun c10 => ?_) (fun c10 => by exfalso; cases c10)
  refine gx_aload_n (q := 20) C dX7_fell_19 rfl rfl rfl ?_
  refine fg_X7_13 (q := 23) C hV.o rfl dX7_fell_20 rfl ?_
  refine gx_iconst (q := 24) (v := nI 0) C dX7_fell_23 (by decide) rfl ?_
  refine gx_dup2 (q := 25) C dX7_fell_24 rfl rfl rfl ?_
  refine mv_ld_now (q := 26) C hV (by omega) dX7_fell_25 rfl ?_
  refine gx_iconst (q := 27) (v := nI 1) C dX7_fell_26 (by decide) rfl ?_
  refine gn_isub (q := 28) C dX7_fell_27 (by omega) rfl ?_
  refine mv_st_now (q := 29) C hV hF (by omega) dX7_fell_28 rfl (fun M hV hF => ?_)
  refine gx_iload_n (q := 30) C dX7_fell_29 rfl rfl rfl ?_
  refine gx_istore_n (q := 31) (lv' := [_, _, _, _]) C dX7_fell_30 rfl (Nat.le_of_ble_eq_true rfl) E.2.2.2.symm rfl rfl rfl ?_
  have Lu : ∀ u, u ≤ T 0 - 1 → t ≤ u → ∀ M : List va_E, md_V (cx_D x) (cx_b x) M R (fellU T t u 0) Ti Bf P F L Rw kp td aa we so lo ro → md_F M0 M → fb_G x M 0 0 31 [some (.ref (cx_b x + 43)), some (.int (nI t)), some (.int (nI u)), none] [] := by
    refine fb_dn (T 0 - 1) ?_ ?_
    · intro htu M hV hF
      refine gx_iload_n (q := 32) C dX7_fell_31 rfl rfl rfl ?_
      refine gx_aload_n (q := 33) C dX7_fell_32 rfl rfl rfl ?_
      refine fg_X7_13 (q := 36) C hV.o rfl dX7_fell_33 rfl ?_
      refine gx_iconst (q := 37) (v := nI 0) C dX7_fell_36 (by decide) rfl ?_
      refine mv_ld_now (q := 38) C hV (by omega) dX7_fell_37 rfl ?_
      rw [fellU_0]
      refine gn_icmp_ge (q := 41) (tgt := 90) C dX7_fell_38 (by decide) rfl (by omega) (by omega) (fun c38 => ?_) (fun c38 => by exfalso; omega)
      refine gx_aload_n (q := 91) C dX7_fell_90 rfl rfl rfl ?_
      refine fg_X7_13 (q := 94) C hV.o rfl dX7_fell_91 rfl ?_
      refine gx_iconst (q := 95) (v := nI 0) C dX7_fell_94 (by decide) rfl ?_
      refine mv_ld_now (q := 96) C hV (by omega) dX7_fell_95 rfl ?_
      rw [fellU_0]
      exact gx_iret C E dX7_fell_96 (⟨⟨_, _, _, _, _, _, _, hV.eqnw (fun i hi => fellU_e ht hi)⟩, hF⟩) (by omega) (by omega)
    · intro u hu ihu htu M hV hF
      refine gx_iload_n (q := 32) C dX7_fell_31 rfl rfl rfl ?_
      refine gx_aload_n (q := 33) C dX7_fell_32 rfl rfl rfl ?_
      refine fg_X7_13 (q := 36) C hV.o rfl dX7_fell_33 rfl ?_
      refine gx_iconst (q := 37) (v := nI 0) C dX7_fell_36 (by decide) rfl ?_
      refine mv_ld_now (q := 38) C hV (by omega) dX7_fell_37 rfl ?_
      rw [fellU_0]
      refine gn_icmp_ge (q := 41) (tgt := 90) C dX7_fell_38 (by decide) rfl (by omega) (by omega) (fun c38 => by exfalso; omega) (fun c38 => ?_)
      refine gx_iconst (q := 42) (v := nI 0) C dX7_fell_41 (by decide) rfl ?_
      refine gx_istore_n (q := 43) (lv' := [_, _, _, _]) C dX7_fell_42 rfl (Nat.le_of_ble_eq_true rfl) E.2.2.2.symm rfl rfl rfl ?_
      have Lk : ∀ k, k ≤ 4 → ∀ M : List va_E, md_V (cx_D x) (cx_b x) M R (fellU T t u k) Ti Bf P F L Rw kp td aa we so lo ro → md_F M0 M → fb_G x M 0 0 43 [some (.ref (cx_b x + 43)), some (.int (nI t)), some (.int (nI u)), some (.int (nI k))] [] := by
        refine fb_dn 4 ?_ ?_
        · intro M hV hF
          have hV := hV.eqnw (fun i hi => fellU_n hi)
          refine gx_iload_n (q := 44) C dX7_fell_43 rfl rfl rfl ?_
          refine gx_iconst (q := 45) (v := nI 4) C dX7_fell_44 (by decide) rfl ?_
          refine gn_icmp_ge (q := 48) (tgt := 84) C dX7_fell_45 (by decide) rfl (by omega) (by omega) (fun c45 => ?_) (fun c45 => by exfalso; omega)
          refine gn_inc (q := 87) (lv' := [_, _, _, _]) C dX7_fell_84 rfl E.2.2.2.symm rfl rfl rfl ?_
          refine gx_goto (tgt := 31) C dX7_fell_87 (by decide) ?_
          refine gx_drop 3 ?_
          exact ihu (by omega) M hV hF
        · intro k hk4 ihk M hV hF
          refine gx_iload_n (q := 44) C dX7_fell_43 rfl rfl rfl ?_
          refine gx_iconst (q := 45) (v := nI 4) C dX7_fell_44 (by decide) rfl ?_
          refine gn_icmp_ge (q := 48) (tgt := 84) C dX7_fell_45 (by decide) rfl (by omega) (by omega) (fun c45 => by exfalso; omega) (fun c45 => ?_)
          refine gx_aload_n (q := 49) C dX7_fell_48 rfl rfl rfl ?_
          refine fg_X7_13 (q := 52) C hV.o rfl dX7_fell_49 rfl ?_
          refine gx_bipush (q := 54) (v := nI 120) C dX7_fell_52 (by decide) rfl ?_
          refine gx_bipush (q := 56) (v := nI 6) C dX7_fell_54 (by decide) rfl ?_
          refine gx_iload_n (q := 57) C dX7_fell_56 rfl rfl rfl ?_
          refine gn_imul (q := 58) C dX7_fell_57 rfl ?_
          refine gn_iadd (q := 59) C dX7_fell_58 rfl ?_
          refine gx_iload_n (q := 60) C dX7_fell_59 rfl rfl rfl ?_
          refine gn_iadd (q := 61) C dX7_fell_60 rfl ?_
          refine gx_aload_n (q := 62) C dX7_fell_61 rfl rfl rfl ?_
          refine fg_X7_13 (q := 65) C hV.o rfl dX7_fell_62 rfl ?_
          refine gx_bipush (q := 67) (v := nI 120) C dX7_fell_65 (by decide) rfl ?_
          refine gx_bipush (q := 69) (v := nI 6) C dX7_fell_67 (by decide) rfl ?_
          refine gx_iload_n (q := 70) C dX7_fell_69 rfl rfl rfl ?_
          refine gn_imul (q := 71) C dX7_fell_70 rfl ?_
          refine gn_iadd (q := 72) C dX7_fell_71 rfl ?_
          refine gx_iload_n (q := 73) C dX7_fell_72 rfl rfl rfl ?_
          refine gn_iadd (q := 74) C dX7_fell_73 rfl ?_
          refine gx_iconst (q := 75) (v := nI 1) C dX7_fell_74 (by decide) rfl ?_
          refine gn_iadd (q := 76) C dX7_fell_75 rfl ?_
          refine mv_ld_now (q := 77) C hV (by omega) dX7_fell_76 rfl ?_
          rw [fellU_v (by omega) hk4]
          refine mv_st_now (q := 78) C hV hF (by omega) dX7_fell_77 rfl (fun M hV hF => ?_)
          refine gn_inc (q := 81) (lv' := [_, _, _, _]) C dX7_fell_78 rfl E.2.2.2.symm rfl rfl rfl ?_
          refine gx_goto (tgt := 43) C dX7_fell_81 (by decide) ?_
          exact ihk M (hV.eqnw (fun i hi => fellU_s htu (by omega) hk4 hi)) hF
      exact Lk 0 (by omega) M hV hF
  exact Lu t (by omega) (Nat.le_refl t) M (hV.eqnw (fun i hi => fellU_b hi)) hF
