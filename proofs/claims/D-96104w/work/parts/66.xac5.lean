/-! the component's acts: from where, fitting, judged, by seeds, set -/
set_option maxRecDepth 100000
set_option maxHeartbeats 800000 in
theorem fx_divisor (l : Launch) (D : va_G) (b : Nat) (M : List va_E) (a c : Nat) (ha : a < 2 ^ 31) (hc : c < 2 ^ 31) : fb_CT l D b yX0_divisor cX0_divisor 5 (some .int) 0 0 0 0 [.int (nI a), .int (nI c)] M (.returned (some (.int (nI (Nat.gcd a c))))) (fun M' => M' = M) := by
  refine fb_start [some (.int (nI a)), some (.int (nI c)), none, none, none] (by decide) (Nat.le_of_ble_eq_true rfl) rfl ?_
  intro x hl hD hb C E hx
  subst hl hD hb
  have C : fb_OK x cX0_divisor "FallsBetween" "divisor" := C
  refine gx_iload_n (q := 1) C dX0_divisor_0 rfl rfl rfl ?_
  refine gx_istore_n (q := 2) (lv' := [_, _, _, _, _]) C dX0_divisor_1 rfl (Nat.le_of_ble_eq_true rfl) E.2.2.2.symm rfl rfl rfl ?_
  refine gx_iload_n (q := 3) C dX0_divisor_2 rfl rfl rfl ?_
  refine gx_istore_n (q := 4) (lv' := [_, _, _, _, _]) C dX0_divisor_3 rfl (Nat.le_of_ble_eq_true rfl) E.2.2.2.symm rfl rfl rfl ?_
  have Lp : ∀ (m z y : Nat), z < m → y < 2 ^ 31 → z < 2 ^ 31 → Nat.gcd y z = Nat.gcd a c → fb_G x M 0 0 4 [some (.int (nI a)), some (.int (nI c)), some (.int (nI y)), some (.int (nI z)), none] [] := by
    intro m
    induction m
    · intro z y h; omega
    · rename_i m ih
      intro z y hz hy hz2 hg
      refine gx_iload_n (q := 5) C dX0_divisor_4 rfl rfl rfl ?_
      refine gn_if_eq (q := 8) (tgt := 21) C dX0_divisor_5 (by decide) rfl (by omega) (fun c5 => ?_) (fun c5 => ?_)
      · subst c5
        refine gx_iload_n (q := 22) C dX0_divisor_21 rfl rfl rfl ?_
        exact gx_iretE C E (by rw [← hg, Nat.gcd_zero_right]) dX0_divisor_22 (rfl) (by omega) (by omega)
      · refine gx_iload_n (q := 9) C dX0_divisor_8 rfl rfl rfl ?_
        refine gx_iload_n (q := 10) C dX0_divisor_9 rfl rfl rfl ?_
        refine gn_irem (q := 11) C dX0_divisor_10 (by omega) (by omega) (by omega) rfl ?_
        refine gx_istore (q := 13) (lv' := [_, _, _, _, _]) C dX0_divisor_11 (Nat.le_of_ble_eq_true rfl) E.2.2.2.symm rfl rfl rfl ?_
        refine gx_iload_n (q := 14) C dX0_divisor_13 rfl rfl rfl ?_
        refine gx_istore_n (q := 15) (lv' := [_, _, _, _, _]) C dX0_divisor_14 rfl (Nat.le_of_ble_eq_true rfl) E.2.2.2.symm rfl rfl rfl ?_
        refine gx_iload (q := 17) C dX0_divisor_15 rfl rfl ?_
        refine gx_istore_n (q := 18) (lv' := [_, _, _, _, _]) C dX0_divisor_17 rfl (Nat.le_of_ble_eq_true rfl) E.2.2.2.symm rfl rfl rfl ?_
        refine gx_goto (tgt := 4) C dX0_divisor_18 (by decide) ?_
        refine gx_drop 4 ?_
        exact ih (y % z) z (by have := Nat.mod_lt y c5; omega) hz2 (by have := Nat.mod_lt y c5; omega) (by rw [← hg, Nat.gcd_comm y z, Nat.gcd_rec z y, Nat.gcd_comm])
  exact Lp (c + 1) c a (by omega) ha hc rfl
set_option maxHeartbeats 800000 in
theorem xa_cameBits (l : Launch) (D : va_G) (b : Nat) (M0 : List va_E) {R T Ti P Rw : Nat → Nat} {hi : Bool} {lm rm : Nat} (q : Nat) (hq : q < 36) (h : xw_P D b M0 R T Ti P Rw hi lm rm) (hk : okT T) : fb_CT l D b yX0_cameBits cX0_cameBits 4 (some .int) 5 121 0 0 [.ref (b + 0), .int (nI q)] M0 (.returned (some (.int (nI (camV T q (T 0)))))) (fun M' => xw_P D b M' R T Ti P Rw hi lm rm ∧ xw_F M0 M') := by
  refine fb_start [some (.ref (b + 0)), some (.int (nI q)), none, none] (by decide) (Nat.le_of_ble_eq_true rfl) rfl ?_
  intro x hl hD hb C E hx
  subst hl hD hb
  have C : fb_OK x cX0_cameBits "FallsBetween" "cameBits" := C
  obtain ⟨Tm, Y, Ym, Yi, lo, lom, loi, hX⟩ := h
  have hG := xw_F.rf M0
  obtain ⟨k0, k1, k2, k3, k4, k5, k6, k7, k8⟩ := id hk
  refine gx_aload_n (q := 1) C dX0_cameBits_0 rfl rfl rfl ?_
  refine fg_X0_51 (q := 4) C hX.o rfl dX0_cameBits_1 rfl ?_
  refine gx_cs (q := 7) C E (sx_X0_123 (As := []) C hX.t.o rfl rfl dX0_cameBits_4) (tx_find _ _ _ _ hX.t hk) kw_X1_find (by decide) (Nat.le_of_ble_eq_true rfl) rfl rfl (by omega) (by omega) dX0_cameBits_4 rfl (fun M r4 => ?_)
  obtain ⟨⟨Y, hY, hV1⟩, hF1⟩ := r4
  have hX := hX.u1 hV1 hF1
  have hG := hG.tw hF1 (by decide)
  refine gx_pop (q := 8) C dX0_cameBits_7 rfl rfl ?_
  refine gx_iconst (q := 9) (v := nI 0) C dX0_cameBits_8 (by decide) rfl ?_
  refine gx_istore_n (q := 10) (lv' := [_, _, _, _]) C dX0_cameBits_9 rfl (Nat.le_of_ble_eq_true rfl) E.2.2.2.symm rfl rfl rfl ?_
  refine gx_iconst (q := 11) (v := nI 0) C dX0_cameBits_10 (by decide) rfl ?_
  refine gx_istore_n (q := 12) (lv' := [_, _, _, _]) C dX0_cameBits_11 rfl (Nat.le_of_ble_eq_true rfl) E.2.2.2.symm rfl rfl rfl ?_
  have Lt : ∀ n, n ≤ T 0 → fb_G x M 0 0 12 [some (.ref (cx_b x + 0)), some (.int (nI q)), some (.int (nI (camV T q n))), some (.int (nI n))] [] := by
    refine fb_dn (T 0) ?_ ?_
    · skip
      refine gx_iload_n (q := 13) C dX0_cameBits_12 rfl rfl rfl ?_
      refine gx_aload_n (q := 14) C dX0_cameBits_13 rfl rfl rfl ?_
      refine fg_X0_51 (q := 17) C hX.o rfl dX0_cameBits_14 rfl ?_
      refine fg_X0_120 (q := 20) C hX.t.o rfl dX0_cameBits_17 rfl ?_
      refine gn_icmp_ge (q := 23) (tgt := 56) C dX0_cameBits_20 (by decide) rfl (by omega) (by omega) (fun c20 => ?_) (fun c20 => by exfalso; omega)
      refine gx_iload_n (q := 57) C dX0_cameBits_56 rfl rfl rfl ?_
      exact gx_iret C E dX0_cameBits_57 (⟨⟨_, _, _, _, _, _, _, hX⟩, hG⟩) (by omega) (by omega)
    · intro n hn ih
      have hf := flp_le (q := q) (n := 5) (k8 n hn).2.2.2.1
      refine gx_iload_n (q := 13) C dX0_cameBits_12 rfl rfl rfl ?_
      refine gx_aload_n (q := 14) C dX0_cameBits_13 rfl rfl rfl ?_
      refine fg_X0_51 (q := 17) C hX.o rfl dX0_cameBits_14 rfl ?_
      refine fg_X0_120 (q := 20) C hX.t.o rfl dX0_cameBits_17 rfl ?_
      refine gn_icmp_ge (q := 23) (tgt := 56) C dX0_cameBits_20 (by decide) rfl (by omega) (by omega) (fun c20 => by exfalso; omega) (fun c20 => ?_)
      refine gx_iload_n (q := 24) C dX0_cameBits_23 rfl rfl rfl ?_
      refine gx_aload_n (q := 25) C dX0_cameBits_24 rfl rfl rfl ?_
      refine fg_X0_51 (q := 28) C hX.o rfl dX0_cameBits_25 rfl ?_
      refine fg_X0_177 (q := 31) C hX.t.o rfl dX0_cameBits_28 rfl ?_
      refine gx_bipush (q := 33) (v := nI 36) C dX0_cameBits_31 (by decide) rfl ?_
      refine gx_iload_n (q := 34) C dX0_cameBits_33 rfl rfl rfl ?_
      refine gn_imul (q := 35) C dX0_cameBits_34 rfl ?_
      refine gx_iload_n (q := 36) C dX0_cameBits_35 rfl rfl rfl ?_
      refine gn_iadd (q := 37) C dX0_cameBits_36 rfl ?_
      refine tv_ld_lies (q := 38) C hX.t (sl36 (by omega) hq) dX0_cameBits_37 rfl ?_
      refine gx_top (show _ = nI (flp T n q 5) by rw [hY n q hn hq]) ?_
      refine gn_if_le (q := 41) (tgt := 47) C dX0_cameBits_38 (by decide) rfl (by omega) (fun c38 => ?_) (fun c38 => ?_)
      · rw [camV_f c38] at ih
        refine gx_iconst (q := 48) (v := nI 0) C dX0_cameBits_47 (by decide) rfl ?_
        refine gx_ior (q := 49) C dX0_cameBits_48 (ior_0 _) rfl ?_
        refine gx_istore_n (q := 50) (lv' := [_, _, _, _]) C dX0_cameBits_49 rfl (Nat.le_of_ble_eq_true rfl) E.2.2.2.symm rfl rfl rfl ?_
        refine gn_inc (q := 53) (lv' := [_, _, _, _]) C dX0_cameBits_50 rfl E.2.2.2.symm rfl rfl rfl ?_
        refine gx_goto (tgt := 12) C dX0_cameBits_53 (by decide) ?_
        exact ih
      · rw [camV_t c38] at ih
        refine gx_iconst (q := 42) (v := nI 1) C dX0_cameBits_41 (by decide) rfl ?_
        refine gx_iload_n (q := 43) C dX0_cameBits_42 rfl rfl rfl ?_
        refine gx_ishl (q := 44) C dX0_cameBits_43 (shl_ok n (by omega)) rfl ?_
        refine gx_goto (tgt := 48) C dX0_cameBits_44 (by decide) ?_
        refine gx_ior (q := 49) C dX0_cameBits_48 (ior_ok (camV_lt T q n)) rfl ?_
        refine gx_istore_n (q := 50) (lv' := [_, _, _, _]) C dX0_cameBits_49 rfl (Nat.le_of_ble_eq_true rfl) E.2.2.2.symm rfl rfl rfl ?_
        refine gn_inc (q := 53) (lv' := [_, _, _, _]) C dX0_cameBits_50 rfl E.2.2.2.symm rfl rfl rfl ?_
        refine gx_goto (tgt := 12) C dX0_cameBits_53 (by decide) ?_
        exact ih
  exact Lt 0 (by omega)
set_option maxHeartbeats 800000 in
theorem xa_likelyTold_0 (l : Launch) (D : va_G) (b : Nat) (M0 : List va_E) {R T Ti P Rw : Nat → Nat} {hi : Bool} {lm rm : Nat} (q : Nat) (hq : q < 36) (t : Nat) (ht : t < T 0) (h : xw_P D b M0 R T Ti P Rw hi lm rm) (hk : okT T) : fb_CT l D b yX0_likelyTold cX0_likelyTold 7 (some .int) 5 121 0 0 [.ref (b + 0), .int (nI q), .int (nI t), .int (nI 0)] M0 (.returned (some (.int (nI (if flp T t q 5 = 0 then 0 else flp T t q 5 / Nat.gcd (flp T t q 5) (lyT T q)))))) (fun M' => xw_P D b M' R T Ti P Rw hi lm rm ∧ xw_F M0 M') := by
  refine fb_start [some (.ref (b + 0)), some (.int (nI q)), some (.int (nI t)), some (.int (nI 0)), none, none, none] (by decide) (Nat.le_of_ble_eq_true rfl) rfl ?_
  intro x hl hD hb C E hx
  subst hl hD hb
  have C : fb_OK x cX0_likelyTold "FallsBetween" "likelyTold" := C
  obtain ⟨Tm, Y, Ym, Yi, lo, lom, loi, hX⟩ := h
  have hG := xw_F.rf M0
  obtain ⟨k0, k1, k2, k3, k4, k5, k6, k7, k8⟩ := id hk
  have hf := flp_le (T := T) (q := q) (n := 5) (k8 t ht).2.2.2.1
  have hl := lyT_le hk q
  have hg : 0 < flp T t q 5 → 0 < Nat.gcd (flp T t q 5) (lyT T q) := fun z => Nat.gcd_pos_of_pos_left _ z
  have hg2 : 0 < flp T t q 5 → Nat.gcd (flp T t q 5) (lyT T q) ≤ flp T t q 5 := fun z => Nat.gcd_le_left _ z
  refine gx_aload_n (q := 1) C dX0_likelyTold_0 rfl rfl rfl ?_
  refine fg_X0_51 (q := 4) C hX.o rfl dX0_likelyTold_1 rfl ?_
  refine gx_cs (q := 7) C E (sx_X0_123 (As := []) C hX.t.o rfl rfl dX0_likelyTold_4) (tx_find _ _ _ _ hX.t hk) kw_X1_find (by decide) (Nat.le_of_ble_eq_true rfl) rfl rfl (by omega) (by omega) dX0_likelyTold_4 rfl (fun M r4 => ?_)
  obtain ⟨⟨Y, hY, hV1⟩, hF1⟩ := r4
  have hX := hX.u1 hV1 hF1
  have hG := hG.tw hF1 (by decide)
  refine gx_pop (q := 8) C dX0_likelyTold_7 rfl rfl ?_
  refine gx_aload_n (q := 9) C dX0_likelyTold_8 rfl rfl rfl ?_
  refine fg_X0_51 (q := 12) C hX.o rfl dX0_likelyTold_9 rfl ?_
  refine fg_X0_177 (q := 15) C hX.t.o rfl dX0_likelyTold_12 rfl ?_
  refine gx_bipush (q := 17) (v := nI 36) C dX0_likelyTold_15 (by decide) rfl ?_
  refine gx_iload_n (q := 18) C dX0_likelyTold_17 rfl rfl rfl ?_
  refine gn_imul (q := 19) C dX0_likelyTold_18 rfl ?_
  refine gx_iload_n (q := 20) C dX0_likelyTold_19 rfl rfl rfl ?_
  refine gn_iadd (q := 21) C dX0_likelyTold_20 rfl ?_
  refine tv_ld_lies (q := 22) C hX.t (sl36 (by omega) hq) dX0_likelyTold_21 rfl ?_
  refine gx_top (show _ = nI (flp T t q 5) by rw [hY t q ht hq]) ?_
  refine gx_istore (q := 24) (lv' := [_, _, _, _, _, _, _]) C dX0_likelyTold_22 (Nat.le_of_ble_eq_true rfl) E.2.2.2.symm rfl rfl rfl ?_
  refine gx_iload (q := 26) C dX0_likelyTold_24 rfl rfl ?_
  refine gn_if_ne (q := 29) (tgt := 31) C dX0_likelyTold_26 (by decide) rfl (by omega) (fun c26 => ?_) (fun c26 => ?_)
  · refine gx_aload_n (q := 32) C dX0_likelyTold_31 rfl rfl rfl ?_
    refine fg_X0_51 (q := 35) C hX.o rfl dX0_likelyTold_32 rfl ?_
    refine gx_iload_n (q := 36) C dX0_likelyTold_35 rfl rfl rfl ?_
    refine gx_cp (q := 39) C E (sx_X0_174 (As := [_]) C hX.t.o rfl rfl dX0_likelyTold_36) (tx_liesIn _ _ _ _ q hq hX.t hk) kw_X1_liesIn (by decide) (Nat.le_of_ble_eq_true rfl) (by omega) (by omega) dX0_likelyTold_36 rfl ?_
    refine gx_top (show _ = nI (lyT T q) by rw [lyY_f hY hq]) ?_
    refine gx_istore (q := 41) (lv' := [_, _, _, _, _, _, _]) C dX0_likelyTold_39 (Nat.le_of_ble_eq_true rfl) E.2.2.2.symm rfl rfl rfl ?_
    refine gx_iload (q := 43) C dX0_likelyTold_41 rfl rfl ?_
    refine gx_iload (q := 45) C dX0_likelyTold_43 rfl rfl ?_
    refine gx_cp (q := 48) C E (sx_X0_180 (As := [_, _]) C rfl rfl dX0_likelyTold_45) (fx_divisor _ _ _ _ _ _ (by omega) (by omega)) kw_X0_divisor (by decide) (Nat.le_of_ble_eq_true rfl) (by omega) (by omega) dX0_likelyTold_45 rfl ?_
    refine gx_istore (q := 50) (lv' := [_, _, _, _, _, _, _]) C dX0_likelyTold_48 (Nat.le_of_ble_eq_true rfl) E.2.2.2.symm rfl rfl rfl ?_
    refine gx_iload_n (q := 51) C dX0_likelyTold_50 rfl rfl rfl ?_
    refine gn_if_ne (q := 54) (tgt := 62) C dX0_likelyTold_51 (by decide) rfl (by omega) (fun c51 => by exfalso; revert c51; decide) (fun c51 => ?_)
    refine gx_iload (q := 56) C dX0_likelyTold_54 rfl rfl ?_
    refine gx_iload (q := 58) C dX0_likelyTold_56 rfl rfl ?_
    refine gn_idiv (q := 59) C dX0_likelyTold_58 (by omega) (by omega) (by omega) rfl ?_
    refine gx_goto (tgt := 67) C dX0_likelyTold_59 (by decide) ?_
    exact gx_iretE C E (by rw [if_neg (by omega)]) dX0_likelyTold_67 (⟨⟨_, _, _, _, _, _, _, hX⟩, hG⟩) (by omega) (by omega)
  · refine gx_iload_n (q := 30) C dX0_likelyTold_29 rfl rfl rfl ?_
    exact gx_iretE C E (by rw [if_pos c26]) dX0_likelyTold_30 (⟨⟨_, _, _, _, _, _, _, hX⟩, hG⟩) (by omega) (by omega)
set_option maxHeartbeats 800000 in
theorem xa_likelyTold_1 (l : Launch) (D : va_G) (b : Nat) (M0 : List va_E) {R T Ti P Rw : Nat → Nat} {hi : Bool} {lm rm : Nat} (q : Nat) (hq : q < 36) (t : Nat) (ht : t < T 0) (h : xw_P D b M0 R T Ti P Rw hi lm rm) (hk : okT T) : fb_CT l D b yX0_likelyTold cX0_likelyTold 7 (some .int) 5 121 0 0 [.ref (b + 0), .int (nI q), .int (nI t), .int (nI 1)] M0 (.returned (some (.int (nI (if flp T t q 5 = 0 then 1 else lyT T q / Nat.gcd (flp T t q 5) (lyT T q)))))) (fun M' => xw_P D b M' R T Ti P Rw hi lm rm ∧ xw_F M0 M') := by
  refine fb_start [some (.ref (b + 0)), some (.int (nI q)), some (.int (nI t)), some (.int (nI 1)), none, none, none] (by decide) (Nat.le_of_ble_eq_true rfl) rfl ?_
  intro x hl hD hb C E hx
  subst hl hD hb
  have C : fb_OK x cX0_likelyTold "FallsBetween" "likelyTold" := C
  obtain ⟨Tm, Y, Ym, Yi, lo, lom, loi, hX⟩ := h
  have hG := xw_F.rf M0
  obtain ⟨k0, k1, k2, k3, k4, k5, k6, k7, k8⟩ := id hk
  have hf := flp_le (T := T) (q := q) (n := 5) (k8 t ht).2.2.2.1
  have hl := lyT_le hk q
  have hg : 0 < flp T t q 5 → 0 < Nat.gcd (flp T t q 5) (lyT T q) := fun z => Nat.gcd_pos_of_pos_left _ z
  have hg2 : 0 < flp T t q 5 → Nat.gcd (flp T t q 5) (lyT T q) ≤ flp T t q 5 := fun z => Nat.gcd_le_left _ z
  refine gx_aload_n (q := 1) C dX0_likelyTold_0 rfl rfl rfl ?_
  refine fg_X0_51 (q := 4) C hX.o rfl dX0_likelyTold_1 rfl ?_
  refine gx_cs (q := 7) C E (sx_X0_123 (As := []) C hX.t.o rfl rfl dX0_likelyTold_4) (tx_find _ _ _ _ hX.t hk) kw_X1_find (by decide) (Nat.le_of_ble_eq_true rfl) rfl rfl (by omega) (by omega) dX0_likelyTold_4 rfl (fun M r4 => ?_)
  obtain ⟨⟨Y, hY, hV1⟩, hF1⟩ := r4
  have hX := hX.u1 hV1 hF1
  have hG := hG.tw hF1 (by decide)
  refine gx_pop (q := 8) C dX0_likelyTold_7 rfl rfl ?_
  refine gx_aload_n (q := 9) C dX0_likelyTold_8 rfl rfl rfl ?_
  refine fg_X0_51 (q := 12) C hX.o rfl dX0_likelyTold_9 rfl ?_
  refine fg_X0_177 (q := 15) C hX.t.o rfl dX0_likelyTold_12 rfl ?_
  refine gx_bipush (q := 17) (v := nI 36) C dX0_likelyTold_15 (by decide) rfl ?_
  refine gx_iload_n (q := 18) C dX0_likelyTold_17 rfl rfl rfl ?_
  refine gn_imul (q := 19) C dX0_likelyTold_18 rfl ?_
  refine gx_iload_n (q := 20) C dX0_likelyTold_19 rfl rfl rfl ?_
  refine gn_iadd (q := 21) C dX0_likelyTold_20 rfl ?_
  refine tv_ld_lies (q := 22) C hX.t (sl36 (by omega) hq) dX0_likelyTold_21 rfl ?_
  refine gx_top (show _ = nI (flp T t q 5) by rw [hY t q ht hq]) ?_
  refine gx_istore (q := 24) (lv' := [_, _, _, _, _, _, _]) C dX0_likelyTold_22 (Nat.le_of_ble_eq_true rfl) E.2.2.2.symm rfl rfl rfl ?_
  refine gx_iload (q := 26) C dX0_likelyTold_24 rfl rfl ?_
  refine gn_if_ne (q := 29) (tgt := 31) C dX0_likelyTold_26 (by decide) rfl (by omega) (fun c26 => ?_) (fun c26 => ?_)
  · refine gx_aload_n (q := 32) C dX0_likelyTold_31 rfl rfl rfl ?_
    refine fg_X0_51 (q := 35) C hX.o rfl dX0_likelyTold_32 rfl ?_
    refine gx_iload_n (q := 36) C dX0_likelyTold_35 rfl rfl rfl ?_
    refine gx_cp (q := 39) C E (sx_X0_174 (As := [_]) C hX.t.o rfl rfl dX0_likelyTold_36) (tx_liesIn _ _ _ _ q hq hX.t hk) kw_X1_liesIn (by decide) (Nat.le_of_ble_eq_true rfl) (by omega) (by omega) dX0_likelyTold_36 rfl ?_
    refine gx_top (show _ = nI (lyT T q) by rw [lyY_f hY hq]) ?_
    refine gx_istore (q := 41) (lv' := [_, _, _, _, _, _, _]) C dX0_likelyTold_39 (Nat.le_of_ble_eq_true rfl) E.2.2.2.symm rfl rfl rfl ?_
    refine gx_iload (q := 43) C dX0_likelyTold_41 rfl rfl ?_
    refine gx_iload (q := 45) C dX0_likelyTold_43 rfl rfl ?_
    refine gx_cp (q := 48) C E (sx_X0_180 (As := [_, _]) C rfl rfl dX0_likelyTold_45) (fx_divisor _ _ _ _ _ _ (by omega) (by omega)) kw_X0_divisor (by decide) (Nat.le_of_ble_eq_true rfl) (by omega) (by omega) dX0_likelyTold_45 rfl ?_
    refine gx_istore (q := 50) (lv' := [_, _, _, _, _, _, _]) C dX0_likelyTold_48 (Nat.le_of_ble_eq_true rfl) E.2.2.2.symm rfl rfl rfl ?_
    refine gx_iload_n (q := 51) C dX0_likelyTold_50 rfl rfl rfl ?_
    refine gn_if_ne (q := 54) (tgt := 62) C dX0_likelyTold_51 (by decide) rfl (by omega) (fun c51 => ?_) (fun c51 => by exfalso; revert c51; decide)
    refine gx_iload (q := 64) C dX0_likelyTold_62 rfl rfl ?_
    refine gx_iload (q := 66) C dX0_likelyTold_64 rfl rfl ?_
    refine gn_idiv (q := 67) C dX0_likelyTold_66 (by omega) (by omega) (by omega) rfl ?_
    exact gx_iretE C E (by rw [if_neg (by omega)]) dX0_likelyTold_67 (⟨⟨_, _, _, _, _, _, _, hX⟩, hG⟩) (by omega) (by omega)
  · refine gx_iload_n (q := 30) C dX0_likelyTold_29 rfl rfl rfl ?_
    exact gx_iretE C E (by rw [if_pos c26]) dX0_likelyTold_30 (⟨⟨_, _, _, _, _, _, _, hX⟩, hG⟩) (by omega) (by omega)
set_option maxHeartbeats 800000 in
theorem xa_likelyAsked_b1 (l : Launch) (D : va_G) (b : Nat) (M0 : List va_E) {R T Ti P Rw : Nat → Nat} {hi : Bool} {lm rm : Nat} (v : Int32) (hb : v < 0 ∨ nI 36 ≤ v) (w u : Int32) (h : xw_P D b M0 R T Ti P Rw hi lm rm) (hk : okT T) : fb_CT l D b yX0_likelyAsked cX0_likelyAsked 4 (some .int) 10 171 1 7 [.ref (b + 0), .int v, .int w, .int u] M0 (.threw (b + M0.length)) (ex_R b M0 9 (-1)) := by
  refine fb_start [some (.ref (b + 0)), some (.int v), some (.int w), some (.int u)] (by decide) (Nat.le_of_ble_eq_true rfl) rfl ?_
  intro x hl hD hb C E hx
  subst hl hD hb
  have C : fb_OK x cX0_likelyAsked "FallsBetween" "likelyAsked" := C
  obtain ⟨Tm, Y, Ym, Yi, lo, lom, loi, hX⟩ := h
  have hG := xw_F.rf M0
  obtain ⟨k0, k1, k2, k3, k4, k5, k6, k7, k8⟩ := id hk
  refine gx_iload_n (q := 1) C dX0_likelyAsked_0 rfl rfl rfl ?_
  exact gx_ct C E hx (sx_X0_224 (As := [_]) C rfl rfl dX0_likelyAsked_1) (fx_mustBeSquare_b _ _ _ _ v hb) kw_X0_mustBeSquare (by decide) (Nat.le_of_ble_eq_true rfl) (by omega) (by omega) dX0_likelyAsked_1 (fun _ h => h)
set_option maxHeartbeats 800000 in
theorem xa_likelyAsked_b2 (l : Launch) (D : va_G) (b : Nat) (M0 : List va_E) {R T Ti P Rw : Nat → Nat} {hi : Bool} {lm rm : Nat} (q : Nat) (hq : q < 36) (v : Int32) (hb : v < 0 ∨ nI (T 0) ≤ v) (u : Int32) (h : xw_P D b M0 R T Ti P Rw hi lm rm) (hk : okT T) : fb_CT l D b yX0_likelyAsked cX0_likelyAsked 4 (some .int) 10 171 1 7 [.ref (b + 0), .int (nI q), .int v, .int u] M0 (.threw (b + M0.length)) (ex_R b M0 9 (-1)) := by
  refine fb_start [some (.ref (b + 0)), some (.int (nI q)), some (.int v), some (.int u)] (by decide) (Nat.le_of_ble_eq_true rfl) rfl ?_
  intro x hl hD hb C E hx
  subst hl hD hb
  have C : fb_OK x cX0_likelyAsked "FallsBetween" "likelyAsked" := C
  obtain ⟨Tm, Y, Ym, Yi, lo, lom, loi, hX⟩ := h
  have hG := xw_F.rf M0
  obtain ⟨k0, k1, k2, k3, k4, k5, k6, k7, k8⟩ := id hk
  refine gx_iload_n (q := 1) C dX0_likelyAsked_0 rfl rfl rfl ?_
  refine gx_cv (q := 4) C E (sx_X0_224 (As := [_]) C rfl rfl dX0_likelyAsked_1) (fx_mustBeSquare_o _ _ _ _ q hq) kw_X0_mustBeSquare (by decide) (Nat.le_of_ble_eq_true rfl) rfl rfl (by omega) (by omega) dX0_likelyAsked_1 rfl (fun Mv rv => ?_)
  rw [rv]
  refine gx_aload_n (q := 5) C dX0_likelyAsked_4 rfl rfl rfl ?_
  refine gx_iload_n (q := 6) C dX0_likelyAsked_5 rfl rfl rfl ?_
  exact gx_ct C E hx (sx_X0_232 (As := [_]) C hX.o rfl rfl dX0_likelyAsked_6) (xa_mustBeTree_b _ _ _ _ v hb ⟨_, _, _, _, _, _, _, hX⟩ hk) kw_X0_mustBeTree (by decide) (Nat.le_of_ble_eq_true rfl) (by omega) (by omega) dX0_likelyAsked_6 (fun _ h => h)
set_option maxHeartbeats 800000 in
theorem xa_likelyAsked_b3 (l : Launch) (D : va_G) (b : Nat) (M0 : List va_E) {R T Ti P Rw : Nat → Nat} {hi : Bool} {lm rm : Nat} (q : Nat) (hq : q < 36) (t : Nat) (ht : t < T 0) (v : Int32) (hb : v < 0 ∨ nI 2 ≤ v) (h : xw_P D b M0 R T Ti P Rw hi lm rm) (hk : okT T) : fb_CT l D b yX0_likelyAsked cX0_likelyAsked 4 (some .int) 10 171 1 7 [.ref (b + 0), .int (nI q), .int (nI t), .int v] M0 (.threw (b + M0.length)) (ex_R b M0 9 (-2)) := by
  refine fb_start [some (.ref (b + 0)), some (.int (nI q)), some (.int (nI t)), some (.int v)] (by decide) (Nat.le_of_ble_eq_true rfl) rfl ?_
  intro x hl hD hb C E hx
  subst hl hD hb
  have C : fb_OK x cX0_likelyAsked "FallsBetween" "likelyAsked" := C
  obtain ⟨Tm, Y, Ym, Yi, lo, lom, loi, hX⟩ := h
  have hG := xw_F.rf M0
  obtain ⟨k0, k1, k2, k3, k4, k5, k6, k7, k8⟩ := id hk
  refine gx_iload_n (q := 1) C dX0_likelyAsked_0 rfl rfl rfl ?_
  refine gx_cv (q := 4) C E (sx_X0_224 (As := [_]) C rfl rfl dX0_likelyAsked_1) (fx_mustBeSquare_o _ _ _ _ q hq) kw_X0_mustBeSquare (by decide) (Nat.le_of_ble_eq_true rfl) rfl rfl (by omega) (by omega) dX0_likelyAsked_1 rfl (fun Mv rv => ?_)
  rw [rv]
  refine gx_aload_n (q := 5) C dX0_likelyAsked_4 rfl rfl rfl ?_
  refine gx_iload_n (q := 6) C dX0_likelyAsked_5 rfl rfl rfl ?_
  refine gx_cv (q := 9) C E (sx_X0_232 (As := [_]) C hX.o rfl rfl dX0_likelyAsked_6) (xa_mustBeTree_o _ _ _ _ t ht ⟨_, _, _, _, _, _, _, hX⟩ hk) kw_X0_mustBeTree (by decide) (Nat.le_of_ble_eq_true rfl) rfl rfl (by omega) (by omega) dX0_likelyAsked_6 rfl (fun Mv rv => ?_)
  rw [rv]
  refine gx_iload_n (q := 10) C dX0_likelyAsked_9 rfl rfl rfl ?_
  exact gx_ct C E hx (sx_X0_285 (As := [_]) C rfl rfl dX0_likelyAsked_10) (fx_mustBeBit_b _ _ _ _ v hb) kw_X0_mustBeBit (by decide) (Nat.le_of_ble_eq_true rfl) (by omega) (by omega) dX0_likelyAsked_10 (fun _ h => h)
set_option maxHeartbeats 800000 in
theorem xa_likelyAsked_0 (l : Launch) (D : va_G) (b : Nat) (M0 : List va_E) {R T Ti P Rw : Nat → Nat} {hi : Bool} {lm rm : Nat} (q : Nat) (hq : q < 36) (t : Nat) (ht : t < T 0) (h : xw_P D b M0 R T Ti P Rw hi lm rm) (hk : okT T) : fb_CT l D b yX0_likelyAsked cX0_likelyAsked 4 (some .int) 10 171 0 0 [.ref (b + 0), .int (nI q), .int (nI t), .int (nI 0)] M0 (.returned (some (.int (nI (if flp T t q 5 = 0 then 0 else flp T t q 5 / Nat.gcd (flp T t q 5) (lyT T q)))))) (fun M' => xw_P D b M' R T Ti P Rw hi lm rm ∧ xw_F M0 M') := by
  refine fb_start [some (.ref (b + 0)), some (.int (nI q)), some (.int (nI t)), some (.int (nI 0))] (by decide) (Nat.le_of_ble_eq_true rfl) rfl ?_
  intro x hl hD hb C E hx
  subst hl hD hb
  have C : fb_OK x cX0_likelyAsked "FallsBetween" "likelyAsked" := C
  obtain ⟨Tm, Y, Ym, Yi, lo, lom, loi, hX⟩ := h
  have hG := xw_F.rf M0
  obtain ⟨k0, k1, k2, k3, k4, k5, k6, k7, k8⟩ := id hk
  refine gx_iload_n (q := 1) C dX0_likelyAsked_0 rfl rfl rfl ?_
  refine gx_cv (q := 4) C E (sx_X0_224 (As := [_]) C rfl rfl dX0_likelyAsked_1) (fx_mustBeSquare_o _ _ _ _ q hq) kw_X0_mustBeSquare (by decide) (Nat.le_of_ble_eq_true rfl) rfl rfl (by omega) (by omega) dX0_likelyAsked_1 rfl (fun Mv rv => ?_)
  rw [rv]
  refine gx_aload_n (q := 5) C dX0_likelyAsked_4 rfl rfl rfl ?_
  refine gx_iload_n (q := 6) C dX0_likelyAsked_5 rfl rfl rfl ?_
  refine gx_cv (q := 9) C E (sx_X0_232 (As := [_]) C hX.o rfl rfl dX0_likelyAsked_6) (xa_mustBeTree_o _ _ _ _ t ht ⟨_, _, _, _, _, _, _, hX⟩ hk) kw_X0_mustBeTree (by decide) (Nat.le_of_ble_eq_true rfl) rfl rfl (by omega) (by omega) dX0_likelyAsked_6 rfl (fun Mv rv => ?_)
  rw [rv]
  refine gx_iload_n (q := 10) C dX0_likelyAsked_9 rfl rfl rfl ?_
  refine gx_cv (q := 13) C E (sx_X0_285 (As := [_]) C rfl rfl dX0_likelyAsked_10) (fx_mustBeBit_o _ _ _ _ 0 (by decide)) kw_X0_mustBeBit (by decide) (Nat.le_of_ble_eq_true rfl) rfl rfl (by omega) (by omega) dX0_likelyAsked_10 rfl (fun Mv rv => ?_)
  rw [rv]
  refine gx_aload_n (q := 14) C dX0_likelyAsked_13 rfl rfl rfl ?_
  refine gx_iload_n (q := 15) C dX0_likelyAsked_14 rfl rfl rfl ?_
  refine gx_iload_n (q := 16) C dX0_likelyAsked_15 rfl rfl rfl ?_
  refine gx_iload_n (q := 17) C dX0_likelyAsked_16 rfl rfl rfl ?_
  refine gx_cs (q := 20) C E (sx_X0_303 (As := [_, _, _]) C hX.o rfl rfl dX0_likelyAsked_17) (xa_likelyTold_0 _ _ _ _ q hq t ht ⟨_, _, _, _, _, _, _, hX⟩ hk) kw_X0_likelyTold (by decide) (Nat.le_of_ble_eq_true rfl) rfl rfl (by omega) (by omega) dX0_likelyAsked_17 rfl (fun M r17 => ?_)
  obtain ⟨⟨Tm, Y, Ym, Yi, lo, lom, loi, hX⟩, hG1⟩ := r17
  have hG := hG.tr hG1
  exact gx_iret C E dX0_likelyAsked_20 (⟨⟨_, _, _, _, _, _, _, hX⟩, hG⟩) (by omega) (by omega)
set_option maxHeartbeats 800000 in
theorem xa_likelyAsked_1 (l : Launch) (D : va_G) (b : Nat) (M0 : List va_E) {R T Ti P Rw : Nat → Nat} {hi : Bool} {lm rm : Nat} (q : Nat) (hq : q < 36) (t : Nat) (ht : t < T 0) (h : xw_P D b M0 R T Ti P Rw hi lm rm) (hk : okT T) : fb_CT l D b yX0_likelyAsked cX0_likelyAsked 4 (some .int) 10 171 0 0 [.ref (b + 0), .int (nI q), .int (nI t), .int (nI 1)] M0 (.returned (some (.int (nI (if flp T t q 5 = 0 then 1 else lyT T q / Nat.gcd (flp T t q 5) (lyT T q)))))) (fun M' => xw_P D b M' R T Ti P Rw hi lm rm ∧ xw_F M0 M') := by
  refine fb_start [some (.ref (b + 0)), some (.int (nI q)), some (.int (nI t)), some (.int (nI 1))] (by decide) (Nat.le_of_ble_eq_true rfl) rfl ?_
  intro x hl hD hb C E hx
  subst hl hD hb
  have C : fb_OK x cX0_likelyAsked "FallsBetween" "likelyAsked" := C
  obtain ⟨Tm, Y, Ym, Yi, lo, lom, loi, hX⟩ := h
  have hG := xw_F.rf M0
  obtain ⟨k0, k1, k2, k3, k4, k5, k6, k7, k8⟩ := id hk
  refine gx_iload_n (q := 1) C dX0_likelyAsked_0 rfl rfl rfl ?_
  refine gx_cv (q := 4) C E (sx_X0_224 (As := [_]) C rfl rfl dX0_likelyAsked_1) (fx_mustBeSquare_o _ _ _ _ q hq) kw_X0_mustBeSquare (by decide) (Nat.le_of_ble_eq_true rfl) rfl rfl (by omega) (by omega) dX0_likelyAsked_1 rfl (fun Mv rv => ?_)
  rw [rv]
  refine gx_aload_n (q := 5) C dX0_likelyAsked_4 rfl rfl rfl ?_
  refine gx_iload_n (q := 6) C dX0_likelyAsked_5 rfl rfl rfl ?_
  refine gx_cv (q := 9) C E (sx_X0_232 (As := [_]) C hX.o rfl rfl dX0_likelyAsked_6) (xa_mustBeTree_o _ _ _ _ t ht ⟨_, _, _, _, _, _, _, hX⟩ hk) kw_X0_mustBeTree (by decide) (Nat.le_of_ble_eq_true rfl) rfl rfl (by omega) (by omega) dX0_likelyAsked_6 rfl (fun Mv rv => ?_)
  rw [rv]
  refine gx_iload_n (q := 10) C dX0_likelyAsked_9 rfl rfl rfl ?_
  refine gx_cv (q := 13) C E (sx_X0_285 (As := [_]) C rfl rfl dX0_likelyAsked_10) (fx_mustBeBit_o _ _ _ _ 1 (by decide)) kw_X0_mustBeBit (by decide) (Nat.le_of_ble_eq_true rfl) rfl rfl (by omega) (by omega) dX0_likelyAsked_10 rfl (fun Mv rv => ?_)
  rw [rv]
  refine gx_aload_n (q := 14) C dX0_likelyAsked_13 rfl rfl rfl ?_
  refine gx_iload_n (q := 15) C dX0_likelyAsked_14 rfl rfl rfl ?_
  refine gx_iload_n (q := 16) C dX0_likelyAsked_15 rfl rfl rfl ?_
  refine gx_iload_n (q := 17) C dX0_likelyAsked_16 rfl rfl rfl ?_
  refine gx_cs (q := 20) C E (sx_X0_303 (As := [_, _, _]) C hX.o rfl rfl dX0_likelyAsked_17) (xa_likelyTold_1 _ _ _ _ q hq t ht ⟨_, _, _, _, _, _, _, hX⟩ hk) kw_X0_likelyTold (by decide) (Nat.le_of_ble_eq_true rfl) rfl rfl (by omega) (by omega) dX0_likelyAsked_17 rfl (fun M r17 => ?_)
  obtain ⟨⟨Tm, Y, Ym, Yi, lo, lom, loi, hX⟩, hG1⟩ := r17
  have hG := hG.tr hG1
  exact gx_iret C E dX0_likelyAsked_20 (⟨⟨_, _, _, _, _, _, _, hX⟩, hG⟩) (by omega) (by omega)
set_option maxHeartbeats 800000 in
theorem xa_fittingWinds (l : Launch) (D : va_G) (b : Nat) (M0 : List va_E) {R T Ti P Rw : Nat → Nat} {hi : Bool} {lm rm : Nat}  (h : xw_P D b M0 R T Ti P Rw hi lm rm) (hk : okT T) : fb_CT l D b yX0_fittingWinds cX0_fittingWinds 6 (some .int) 5 121 0 0 [.ref (b + 0)] M0 (.returned (some (.int (nI (fitV T 16))))) (fun M' => xw_P D b M' R T Ti P Rw hi lm rm ∧ xw_F M0 M') := by
  refine fb_start [some (.ref (b + 0)), none, none, none, none, none] (by decide) (Nat.le_of_ble_eq_true rfl) rfl ?_
  intro x hl hD hb C E hx
  subst hl hD hb
  have C : fb_OK x cX0_fittingWinds "FallsBetween" "fittingWinds" := C
  obtain ⟨Tm, Y, Ym, Yi, lo, lom, loi, hX⟩ := h
  have hG := xw_F.rf M0
  obtain ⟨k0, k1, k2, k3, k4, k5, k6, k7, k8⟩ := id hk
  refine gx_iconst (q := 1) (v := nI 0) C dX0_fittingWinds_0 (by decide) rfl ?_
  refine gx_istore_n (q := 2) (lv' := [_, _, _, _, _, _]) C dX0_fittingWinds_1 rfl (Nat.le_of_ble_eq_true rfl) E.2.2.2.symm rfl rfl rfl ?_
  refine gx_aload_n (q := 3) C dX0_fittingWinds_2 rfl rfl rfl ?_
  refine gx_cs (q := 6) C E (sx_X0_112 (As := []) C hX.o rfl rfl dX0_fittingWinds_3) (xa_openMind _ _ _ _ hX hk) kw_X0_openMind (by decide) (Nat.le_of_ble_eq_true rfl) rfl rfl (by omega) (by omega) dX0_fittingWinds_3 rfl (fun M r3 => ?_)
  obtain ⟨hV1, hF1⟩ := r3
  have hX := hX.u2 hV1 hF1
  have hG := hG.tw hF1 (by decide)
  refine gx_astore_n (q := 7) (lv' := [_, _, _, _, _, _]) C dX0_fittingWinds_6 rfl (Nat.le_of_ble_eq_true rfl) E.2.2.2.symm rfl rfl rfl ?_
  refine gx_iconst (q := 8) (v := nI 0) C dX0_fittingWinds_7 (by decide) rfl ?_
  refine gx_istore_n (q := 9) (lv' := [_, _, _, _, _, _]) C dX0_fittingWinds_8 rfl (Nat.le_of_ble_eq_true rfl) E.2.2.2.symm rfl rfl rfl ?_
  have Lw : ∀ n, n ≤ 16 → ∀ (M : List va_E) (c lom : Nat) (Ym : Nat → Nat), xw_V (cx_D x) (cx_b x) M T (updN T 1 c) Ti Y Ym Yi lo lom loi hi Rw rm P lm R → xw_F M0 M → fb_G x M 0 0 9 [some (.ref (cx_b x + 0)), some (.int (nI (fitV T n))), some (.ref (cx_b x + 14)), some (.int (nI n)), none, none] [] := by
    refine fb_dn 16 ?_ ?_
    · intro M c lom Ym hX hG
      refine gx_iload_n (q := 10) C dX0_fittingWinds_9 rfl rfl rfl ?_
      refine gx_bipush (q := 12) (v := nI 16) C dX0_fittingWinds_10 (by decide) rfl ?_
      refine gn_icmp_ge (q := 15) (tgt := 91) C dX0_fittingWinds_12 (by decide) rfl (by omega) (by omega) (fun c12 => ?_) (fun c12 => by exfalso; omega)
      refine gx_iload_n (q := 92) C dX0_fittingWinds_91 rfl rfl rfl ?_
      exact gx_iret C E dX0_fittingWinds_92 (⟨⟨_, _, _, _, _, _, _, hX⟩, hG⟩) (by omega) (by omega)
    · intro n hn ih M c lom Ym hX hG
      have hkn : okT (updN T 1 n) := okT_up hk (by omega)
      have e3 : updN T 1 n 3 = T 3 := updN_n T (by omega)
      refine gx_iload_n (q := 10) C dX0_fittingWinds_9 rfl rfl rfl ?_
      refine gx_bipush (q := 12) (v := nI 16) C dX0_fittingWinds_10 (by decide) rfl ?_
      refine gn_icmp_ge (q := 15) (tgt := 91) C dX0_fittingWinds_12 (by decide) rfl (by omega) (by omega) (fun c12 => by exfalso; omega) (fun c12 => ?_)
      refine gx_aload_n (q := 16) C dX0_fittingWinds_15 rfl rfl rfl ?_
      refine gx_iload_n (q := 17) C dX0_fittingWinds_16 rfl rfl rfl ?_
      refine tv_pf_X0_wind (q := 20) C hX.m (tw_F.rf _ _) dX0_fittingWinds_17 rfl (fun M hV1 hF1 => ?_)
      have hX := hX.u2 hV1 hF1
      have hG := hG.tw hF1 (by decide)
      rw [updN_u] at hX
      refine gx_aload_n (q := 21) C dX0_fittingWinds_20 rfl rfl rfl ?_
      refine gx_cs (q := 24) C E (sx_X0_123 (As := []) C hX.m.o rfl rfl dX0_fittingWinds_21) (tx_find _ _ _ _ hX.m hkn) kw_X1_find (by decide) (Nat.le_of_ble_eq_true rfl) rfl rfl (by omega) (by omega) dX0_fittingWinds_21 rfl (fun M r21 => ?_)
      obtain ⟨⟨Ym, hYm, hV1⟩, hF1⟩ := r21
      have hX := hX.u2 hV1 hF1
      have hG := hG.tw hF1 (by decide)
      refine gx_pop (q := 25) C dX0_fittingWinds_24 rfl rfl ?_
      refine gx_iconst (q := 26) (v := bI true) C dX0_fittingWinds_25 (by decide) rfl ?_
      refine gx_istore (q := 28) (lv' := [_, _, _, _, _, _]) C dX0_fittingWinds_26 (Nat.le_of_ble_eq_true rfl) E.2.2.2.symm rfl rfl rfl ?_
      refine gx_iconst (q := 29) (v := nI 0) C dX0_fittingWinds_28 (by decide) rfl ?_
      refine gx_istore (q := 31) (lv' := [_, _, _, _, _, _]) C dX0_fittingWinds_29 (Nat.le_of_ble_eq_true rfl) E.2.2.2.symm rfl rfl rfl ?_
      have Lk : ∀ k, k ≤ T 3 → fb_G x M 0 0 31 [some (.ref (cx_b x + 0)), some (.int (nI (fitV T n))), some (.ref (cx_b x + 14)), some (.int (nI n)), some (.int (bI (fitB T n k))), some (.int (nI k))] [] := by
        refine fb_dn (T 3) ?_ ?_
        · skip
          refine gx_iload (q := 33) C dX0_fittingWinds_31 rfl rfl ?_
          refine gx_aload_n (q := 34) C dX0_fittingWinds_33 rfl rfl rfl ?_
          refine fg_X0_183 (q := 37) C hX.m.o rfl dX0_fittingWinds_34 rfl ?_
          rw [e3]
          refine gn_icmp_ge (q := 40) (tgt := 70) C dX0_fittingWinds_37 (by decide) rfl (by omega) (by omega) (fun c37 => ?_) (fun c37 => by exfalso; omega)
          refine gx_iload_n (q := 71) C dX0_fittingWinds_70 rfl rfl rfl ?_
          refine gx_iload (q := 73) C dX0_fittingWinds_71 rfl rfl ?_
          refine gb_if_eq (q := 76) (tgt := 82) C dX0_fittingWinds_73 (by decide) rfl (fun c73 => ?_) (fun c73 => ?_)
          · rw [fitV_f c73] at ih
            refine gx_iconst (q := 83) (v := nI 0) C dX0_fittingWinds_82 (by decide) rfl ?_
            refine gx_ior (q := 84) C dX0_fittingWinds_83 (ior_0 _) rfl ?_
            refine gx_istore_n (q := 85) (lv' := [_, _, _, _, _, _]) C dX0_fittingWinds_84 rfl (Nat.le_of_ble_eq_true rfl) E.2.2.2.symm rfl rfl rfl ?_
            refine gn_inc (q := 88) (lv' := [_, _, _, _, _, _]) C dX0_fittingWinds_85 rfl E.2.2.2.symm rfl rfl rfl ?_
            refine gx_goto (tgt := 9) C dX0_fittingWinds_88 (by decide) ?_
            refine gx_drop 4 ?_
            refine gx_drop 5 ?_
            exact ih M n _ _ hX hG
          · rw [fitV_t c73] at ih
            refine gx_iconst (q := 77) (v := nI 1) C dX0_fittingWinds_76 (by decide) rfl ?_
            refine gx_iload_n (q := 78) C dX0_fittingWinds_77 rfl rfl rfl ?_
            refine gx_ishl (q := 79) C dX0_fittingWinds_78 (shl_16 n (by omega)) rfl ?_
            refine gx_goto (tgt := 83) C dX0_fittingWinds_79 (by decide) ?_
            refine gx_ior (q := 84) C dX0_fittingWinds_83 (ior_ok (sumP_lt n)) rfl ?_
            refine gx_istore_n (q := 85) (lv' := [_, _, _, _, _, _]) C dX0_fittingWinds_84 rfl (Nat.le_of_ble_eq_true rfl) E.2.2.2.symm rfl rfl rfl ?_
            refine gn_inc (q := 88) (lv' := [_, _, _, _, _, _]) C dX0_fittingWinds_85 rfl E.2.2.2.symm rfl rfl rfl ?_
            refine gx_goto (tgt := 9) C dX0_fittingWinds_88 (by decide) ?_
            refine gx_drop 4 ?_
            refine gx_drop 5 ?_
            exact ih M n _ _ hX hG
        · intro k hk3 ihk
          rw [fitB_s] at ihk
          have hp := k4 k hk3
          have hl := lyT_le hkn (T (4 + k))
          refine gx_iload (q := 33) C dX0_fittingWinds_31 rfl rfl ?_
          refine gx_aload_n (q := 34) C dX0_fittingWinds_33 rfl rfl rfl ?_
          refine fg_X0_183 (q := 37) C hX.m.o rfl dX0_fittingWinds_34 rfl ?_
          rw [e3]
          refine gn_icmp_ge (q := 40) (tgt := 70) C dX0_fittingWinds_37 (by decide) rfl (by omega) (by omega) (fun c37 => by exfalso; omega) (fun c37 => ?_)
          refine gx_iload (q := 42) C dX0_fittingWinds_40 rfl rfl ?_
          refine gx_aload_n (q := 43) C dX0_fittingWinds_42 rfl rfl rfl ?_
          refine gx_aload_n (q := 44) C dX0_fittingWinds_43 rfl rfl rfl ?_
          refine fg_X0_186 (q := 47) C hX.m.o rfl dX0_fittingWinds_44 rfl ?_
          refine gx_iload (q := 49) C dX0_fittingWinds_47 rfl rfl ?_
          refine tv_ld_pit (q := 50) C hX.m (by omega) dX0_fittingWinds_49 rfl ?_
          rw [updN_n T (show ¬ 4 + k = 1 by omega)]
          refine gx_cp (q := 53) C E (sx_X0_174 (As := [_]) C hX.m.o rfl rfl dX0_fittingWinds_50) (tx_liesIn _ _ _ _ (T (4 + k)) hp hX.m hkn) kw_X1_liesIn (by decide) (Nat.le_of_ble_eq_true rfl) (by omega) (by omega) dX0_fittingWinds_50 rfl ?_
          refine gx_top (show _ = nI (lyT (updN T 1 n) (T (4 + k))) by rw [lyY_f hYm hp]) ?_
          refine gn_if_le (q := 56) (tgt := 60) C dX0_fittingWinds_53 (by decide) rfl (by omega) (fun c53 => ?_) (fun c53 => ?_)
          · refine gx_iconst (q := 61) (v := bI (decide (0 < lyT (updN T 1 n) (T (4 + k))))) C dX0_fittingWinds_60 (by rw [c53]; rfl) rfl ?_
            refine gx_iand (q := 62) C dX0_fittingWinds_61 (bI_and _ _) rfl ?_
            refine gx_istore (q := 64) (lv' := [_, _, _, _, _, _]) C dX0_fittingWinds_62 (Nat.le_of_ble_eq_true rfl) E.2.2.2.symm rfl rfl rfl ?_
            refine gn_inc (q := 67) (lv' := [_, _, _, _, _, _]) C dX0_fittingWinds_64 rfl E.2.2.2.symm rfl rfl rfl ?_
            refine gx_goto (tgt := 31) C dX0_fittingWinds_67 (by decide) ?_
            exact ihk
          · refine gx_iconst (q := 57) (v := bI (decide (0 < lyT (updN T 1 n) (T (4 + k))))) C dX0_fittingWinds_56 (by rw [decide_eq_true c53]; rfl) rfl ?_
            refine gx_goto (tgt := 61) C dX0_fittingWinds_57 (by decide) ?_
            refine gx_iand (q := 62) C dX0_fittingWinds_61 (bI_and _ _) rfl ?_
            refine gx_istore (q := 64) (lv' := [_, _, _, _, _, _]) C dX0_fittingWinds_62 (Nat.le_of_ble_eq_true rfl) E.2.2.2.symm rfl rfl rfl ?_
            refine gn_inc (q := 67) (lv' := [_, _, _, _, _, _]) C dX0_fittingWinds_64 rfl E.2.2.2.symm rfl rfl rfl ?_
            refine gx_goto (tgt := 31) C dX0_fittingWinds_67 (by decide) ?_
            exact ihk
      exact Lk 0 (by omega)
  exact Lw 0 (by omega) M (T 1) _ _ (by rw [updN_r]; exact hX) hG
/-- how many bits -/
def onN : Nat → Nat → Nat
  | 0, _ => 0
  | k + 1, b => if b = 0 then 0 else onN k (b &&& (b - 1)) + 1
theorem and_lt {b : Nat} (h : 0 < b) : b &&& (b - 1) < b := by
  have := Nat.and_le_right (n := b) (m := b - 1)
  omega
theorem onN_s {k b : Nat} (h : 0 < b) : onN (k + 1) b = onN k (b &&& (b - 1)) + 1 := by rw [onN, if_neg (by omega)]
theorem onN_0 (k : Nat) : onN k 0 = 0 := by cases k <;> simp [onN]
theorem and_m1 {b : Nat} (h : 0 < b) (hb : b < 2 ^ 31) : nI b &&& (nI b - nI 1) = nI (b &&& (b - 1)) := by
  rw [pk_sub h]
  unfold nI
  apply Int32.toBitVec_inj.mp
  simp [BitVec.ofNat_and]
set_option maxHeartbeats 800000 in
theorem fx_ones (l : Launch) (D : va_G) (b : Nat) (M : List va_E) (v : Nat) (hv : v < 65536) : fb_CT l D b yX0_ones cX0_ones 3 (some .int) 0 0 0 0 [.int (nI v)] M (.returned (some (.int (nI (onN 65536 v))))) (fun M' => M' = M) := by
  refine fb_start [some (.int (nI v)), none, none] (by decide) (Nat.le_of_ble_eq_true rfl) rfl ?_
  intro x hl hD hb C E hx
  subst hl hD hb
  have C : fb_OK x cX0_ones "FallsBetween" "ones" := C
  refine gx_iconst (q := 1) (v := nI 0) C dX0_ones_0 (by decide) rfl ?_
  refine gx_istore_n (q := 2) (lv' := [_, _, _]) C dX0_ones_1 rfl (Nat.le_of_ble_eq_true rfl) E.2.2.2.symm rfl rfl rfl ?_
  refine gx_iload_n (q := 3) C dX0_ones_2 rfl rfl rfl ?_
  refine gx_istore_n (q := 4) (lv' := [_, _, _]) C dX0_ones_3 rfl (Nat.le_of_ble_eq_true rfl) E.2.2.2.symm rfl rfl rfl ?_
  have Lb : ∀ k c r, c < k → c < 2 ^ 31 → r + onN k c = onN 65536 v → fb_G x M 0 0 4 [some (.int (nI v)), some (.int (nI r)), some (.int (nI c))] [] := by
    refine fb_up ?_ ?_
    · intro c r h
      omega
    · intro k ih c r hc hb hr
      refine gx_iload_n (q := 5) C dX0_ones_4 rfl rfl rfl ?_
      refine gn_if_eq (q := 8) (tgt := 20) C dX0_ones_5 (by decide) rfl (by omega) (fun c5 => ?_) (fun c5 => ?_)
      · subst c5
        rw [onN_0, Nat.add_zero] at hr
        refine gx_iload_n (q := 21) C dX0_ones_20 rfl rfl rfl ?_
        exact gx_iretE C E (by rw [hr]) dX0_ones_21 (rfl) (by omega) (by omega)
      · refine gn_inc (q := 11) (lv' := [_, _, _]) C dX0_ones_8 rfl E.2.2.2.symm rfl rfl rfl ?_
        refine gx_iload_n (q := 12) C dX0_ones_11 rfl rfl rfl ?_
        refine gx_iload_n (q := 13) C dX0_ones_12 rfl rfl rfl ?_
        refine gx_iconst (q := 14) (v := nI 1) C dX0_ones_13 (by decide) rfl ?_
        refine gx_isub (q := 15) C dX0_ones_14 rfl rfl ?_
        refine gx_iand (q := 16) C dX0_ones_15 (and_m1 (by omega) hb) rfl ?_
        refine gx_istore_n (q := 17) (lv' := [_, _, _]) C dX0_ones_16 rfl (Nat.le_of_ble_eq_true rfl) E.2.2.2.symm rfl rfl rfl ?_
        refine gx_goto (tgt := 4) C dX0_ones_17 (by decide) ?_
        exact ih _ _ (by have := and_lt (b := c) (by omega); omega) (by have := and_lt (b := c) (by omega); omega) (by rw [onN_s (by omega)] at hr; omega)
  exact Lb 65536 v 0 hv (by omega) (Nat.zero_add _)
