/-! the component's acts: fitting, judged, by seeds, set, images, counts -/
set_option maxRecDepth 100000
theorem onN_k : ∀ (k k' a : Nat), a < k → a < k' → onN k a = onN k' a := by
  intro k
  induction k with
  | zero => intro k' a h; omega
  | succ k ih =>
    intro k' a h h'
    cases k' with
    | zero => omega
    | succ k' =>
      rcases Nat.eq_zero_or_pos a with h0 | h0
      · subst h0; rw [onN_0, onN_0]
      · have := and_lt h0
        rw [onN_s h0, onN_s h0, ih k' _ (by omega) (by omega)]
theorem and_top {n a : Nat} (ha : a < 2 ^ n) (h0 : 0 < a) : (2 ^ n + a) &&& (2 ^ n + a - 1) = 2 ^ n + (a &&& (a - 1)) := by
  have hp : 0 < 2 ^ n := Nat.two_pow_pos n
  have e1 : ((2 ^ n + a) &&& (2 ^ n + a - 1)) / 2 ^ n = 1 := by
    rw [Nat.and_div_two_pow, show 2 ^ n + a - 1 = 2 ^ n + (a - 1) by omega, Nat.add_div_left _ hp, Nat.add_div_left _ hp, Nat.div_eq_of_lt ha, Nat.div_eq_of_lt (by omega)]
    rfl
  have e2 : ((2 ^ n + a) &&& (2 ^ n + a - 1)) % 2 ^ n = a &&& (a - 1) := by
    rw [Nat.and_mod_two_pow, show 2 ^ n + a - 1 = 2 ^ n + (a - 1) by omega, Nat.add_mod_left, Nat.add_mod_left, Nat.mod_eq_of_lt ha, Nat.mod_eq_of_lt (by omega : a - 1 < 2 ^ n)]
  have := Nat.div_add_mod ((2 ^ n + a) &&& (2 ^ n + a - 1)) (2 ^ n)
  rw [e1, e2] at this
  omega
theorem onN_top {n : Nat} : ∀ (k a : Nat), a < 2 ^ n → 2 ^ n + a < k → onN k (2 ^ n + a) = onN k a + 1 := by
  intro k
  induction k with
  | zero => intro a _ h; omega
  | succ k ih =>
    intro a ha hk
    have hp : 0 < 2 ^ n := Nat.two_pow_pos n
    rcases Nat.eq_zero_or_pos a with h0 | h0
    · subst h0
      rw [Nat.add_zero (2 ^ n), onN_s hp, Nat.and_two_pow_sub_one_eq_mod, Nat.mod_self, onN_0, onN_0]
    · have hl := and_lt h0
      rw [onN_s (by omega), and_top ha h0, ih _ (by omega) (by omega), onN_s h0]
theorem onN_sum {f : Nat → Bool} : ∀ n, n ≤ 16 → onN 65536 (sumN (fun w => if f w = true then 2 ^ w else 0) n) = sumN (fun w => if f w = true then 1 else 0) n := by
  intro n
  induction n with
  | zero => intro _; rfl
  | succ n ih =>
    intro hn
    have ih := ih (by omega)
    have hl := sumP_lt (f := f) n
    have h16 : 2 ^ (n + 1) ≤ 2 ^ 16 := Nat.pow_le_pow_right (by decide) hn
    rw [Nat.pow_succ] at h16
    rw [sumN_s, sumN_s, ← ih]
    split
    · rw [Nat.add_comm, onN_top _ _ hl (by omega)]
    · rw [Nat.add_zero, Nat.add_zero]
theorem fit_ones (T : Nat → Nat) : onN 65536 (fitV T 16) = fitN T 16 := onN_sum 16 (Nat.le_refl _)
theorem fitV_lt (T : Nat → Nat) : fitV T 16 < 65536 := sumP_lt 16
set_option maxHeartbeats 800000 in
theorem xa_fittingTold_b (l : Launch) (D : va_G) (b : Nat) (M0 : List va_E) {R T Ti P Rw : Nat → Nat} {hi : Bool} {lm rm : Nat} (v : Int32) (hb : v < 0 ∨ nI 2 ≤ v) (h : xw_P D b M0 R T Ti P Rw hi lm rm) (hk : okT T) : fb_CT l D b yX0_fittingTold cX0_fittingTold 3 (some .int) 9 149 1 7 [.ref (b + 0), .int v] M0 (.threw (b + M0.length)) (ex_R b M0 9 (-2)) := by
  refine fb_start [some (.ref (b + 0)), some (.int v), none] (by decide) (Nat.le_of_ble_eq_true rfl) rfl ?_
  intro x hl hD hb C E hx
  subst hl hD hb
  have C : fb_OK x cX0_fittingTold "FallsBetween" "fittingTold" := C
  obtain ⟨Tm, Y, Ym, Yi, lo, lom, loi, hX⟩ := h
  have hG := xw_F.rf M0
  obtain ⟨k0, k1, k2, k3, k4, k5, k6, k7, k8⟩ := id hk
  refine gx_iload_n (q := 1) C dX0_fittingTold_0 rfl rfl rfl ?_
  exact gx_ct C E hx (sx_X0_285 (As := [_]) C rfl rfl dX0_fittingTold_1) (fx_mustBeBit_b _ _ _ _ v hb) kw_X0_mustBeBit (by decide) (Nat.le_of_ble_eq_true rfl) (by omega) (by omega) dX0_fittingTold_1 (fun _ h => h)
set_option maxHeartbeats 800000 in
theorem xa_fittingTold_0 (l : Launch) (D : va_G) (b : Nat) (M0 : List va_E) {R T Ti P Rw : Nat → Nat} {hi : Bool} {lm rm : Nat}  (h : xw_P D b M0 R T Ti P Rw hi lm rm) (hk : okT T) : fb_CT l D b yX0_fittingTold cX0_fittingTold 3 (some .int) 9 149 0 0 [.ref (b + 0), .int (nI 0)] M0 (.returned (some (.int (nI (fitV T 16))))) (fun M' => xw_P D b M' R T Ti P Rw hi lm rm ∧ xw_F M0 M') := by
  refine fb_start [some (.ref (b + 0)), some (.int (nI 0)), none] (by decide) (Nat.le_of_ble_eq_true rfl) rfl ?_
  intro x hl hD hb C E hx
  subst hl hD hb
  have C : fb_OK x cX0_fittingTold "FallsBetween" "fittingTold" := C
  obtain ⟨Tm, Y, Ym, Yi, lo, lom, loi, hX⟩ := h
  have hG := xw_F.rf M0
  obtain ⟨k0, k1, k2, k3, k4, k5, k6, k7, k8⟩ := id hk
  refine gx_iload_n (q := 1) C dX0_fittingTold_0 rfl rfl rfl ?_
  refine gx_cv (q := 4) C E (sx_X0_285 (As := [_]) C rfl rfl dX0_fittingTold_1) (fx_mustBeBit_o _ _ _ _ 0 (by decide)) kw_X0_mustBeBit (by decide) (Nat.le_of_ble_eq_true rfl) rfl rfl (by omega) (by omega) dX0_fittingTold_1 rfl (fun Mv rv => ?_)
  rw [rv]
  refine gx_aload_n (q := 5) C dX0_fittingTold_4 rfl rfl rfl ?_
  refine gx_cs (q := 8) C E (sx_X0_306 (As := []) C hX.o rfl rfl dX0_fittingTold_5) (xa_fittingWinds _ _ _ _ ⟨_, _, _, _, _, _, _, hX⟩ hk) kw_X0_fittingWinds (by decide) (Nat.le_of_ble_eq_true rfl) rfl rfl (by omega) (by omega) dX0_fittingTold_5 rfl (fun M r5 => ?_)
  obtain ⟨⟨Tm, Y, Ym, Yi, lo, lom, loi, hX⟩, hG1⟩ := r5
  have hG := hG.tr hG1
  refine gx_istore_n (q := 9) (lv' := [_, _, _]) C dX0_fittingTold_8 rfl (Nat.le_of_ble_eq_true rfl) E.2.2.2.symm rfl rfl rfl ?_
  refine gx_iload_n (q := 10) C dX0_fittingTold_9 rfl rfl rfl ?_
  refine gn_if_ne (q := 13) (tgt := 17) C dX0_fittingTold_10 (by decide) rfl (by omega) (fun c10 => by exfalso; revert c10; decide) (fun c10 => ?_)
  refine gx_iload_n (q := 14) C dX0_fittingTold_13 rfl rfl rfl ?_
  refine gx_goto (tgt := 21) C dX0_fittingTold_14 (by decide) ?_
  exact gx_iret C E dX0_fittingTold_21 (⟨⟨_, _, _, _, _, _, _, hX⟩, hG⟩) (by omega) (by omega)
set_option maxHeartbeats 800000 in
theorem xa_fittingTold_1 (l : Launch) (D : va_G) (b : Nat) (M0 : List va_E) {R T Ti P Rw : Nat → Nat} {hi : Bool} {lm rm : Nat}  (h : xw_P D b M0 R T Ti P Rw hi lm rm) (hk : okT T) : fb_CT l D b yX0_fittingTold cX0_fittingTold 3 (some .int) 9 149 0 0 [.ref (b + 0), .int (nI 1)] M0 (.returned (some (.int (nI (fitN T 16))))) (fun M' => xw_P D b M' R T Ti P Rw hi lm rm ∧ xw_F M0 M') := by
  refine fb_start [some (.ref (b + 0)), some (.int (nI 1)), none] (by decide) (Nat.le_of_ble_eq_true rfl) rfl ?_
  intro x hl hD hb C E hx
  subst hl hD hb
  have C : fb_OK x cX0_fittingTold "FallsBetween" "fittingTold" := C
  obtain ⟨Tm, Y, Ym, Yi, lo, lom, loi, hX⟩ := h
  have hG := xw_F.rf M0
  obtain ⟨k0, k1, k2, k3, k4, k5, k6, k7, k8⟩ := id hk
  refine gx_iload_n (q := 1) C dX0_fittingTold_0 rfl rfl rfl ?_
  refine gx_cv (q := 4) C E (sx_X0_285 (As := [_]) C rfl rfl dX0_fittingTold_1) (fx_mustBeBit_o _ _ _ _ 1 (by decide)) kw_X0_mustBeBit (by decide) (Nat.le_of_ble_eq_true rfl) rfl rfl (by omega) (by omega) dX0_fittingTold_1 rfl (fun Mv rv => ?_)
  rw [rv]
  refine gx_aload_n (q := 5) C dX0_fittingTold_4 rfl rfl rfl ?_
  refine gx_cs (q := 8) C E (sx_X0_306 (As := []) C hX.o rfl rfl dX0_fittingTold_5) (xa_fittingWinds _ _ _ _ ⟨_, _, _, _, _, _, _, hX⟩ hk) kw_X0_fittingWinds (by decide) (Nat.le_of_ble_eq_true rfl) rfl rfl (by omega) (by omega) dX0_fittingTold_5 rfl (fun M r5 => ?_)
  obtain ⟨⟨Tm, Y, Ym, Yi, lo, lom, loi, hX⟩, hG1⟩ := r5
  have hG := hG.tr hG1
  refine gx_istore_n (q := 9) (lv' := [_, _, _]) C dX0_fittingTold_8 rfl (Nat.le_of_ble_eq_true rfl) E.2.2.2.symm rfl rfl rfl ?_
  refine gx_iload_n (q := 10) C dX0_fittingTold_9 rfl rfl rfl ?_
  refine gn_if_ne (q := 13) (tgt := 17) C dX0_fittingTold_10 (by decide) rfl (by omega) (fun c10 => ?_) (fun c10 => by exfalso; revert c10; decide)
  refine gx_iload_n (q := 18) C dX0_fittingTold_17 rfl rfl rfl ?_
  refine gx_cp (q := 21) C E (sx_X0_309 (As := [_]) C rfl rfl dX0_fittingTold_18) (fx_ones _ _ _ _ _ (fitV_lt T)) kw_X0_ones (by decide) (Nat.le_of_ble_eq_true rfl) (by omega) (by omega) dX0_fittingTold_18 rfl ?_
  exact gx_iretE C E (by rw [fit_ones]) dX0_fittingTold_21 (⟨⟨_, _, _, _, _, _, _, hX⟩, hG⟩) (by omega) (by omega)
set_option maxHeartbeats 800000 in
theorem xa_judgeRow (l : Launch) (D : va_G) (b : Nat) (M0 : List va_E) {R T Ti P Rw : Nat → Nat} {hi : Bool} {lm rm : Nat} (g : Nat) (hg : g < 4) (hr : rm ≤ 12) (hRw : ∀ i, i < rm → Rw i < 100) (h : xw_P D b M0 R T Ti P Rw hi lm rm) (hk : okT T) : fb_CT l D b yX0_judgeRow cX0_judgeRow 6 (some .int) 5 121 0 0 [.ref (b + 0), .int (nI g)] M0 (.returned (some (.int (sq_ (judV T Rw g rm))))) (fun M' => xw_P D b M' R T Ti P Rw hi lm 0 ∧ xw_F M0 M') := by
  refine fb_start [some (.ref (b + 0)), some (.int (nI g)), none, none, none, none] (by decide) (Nat.le_of_ble_eq_true rfl) rfl ?_
  intro x hl hD hb C E hx
  subst hl hD hb
  have C : fb_OK x cX0_judgeRow "FallsBetween" "judgeRow" := C
  obtain ⟨Tm, Y, Ym, Yi, lo, lom, loi, hX⟩ := h
  have hG := xw_F.rf M0
  obtain ⟨k0, k1, k2, k3, k4, k5, k6, k7, k8⟩ := id hk
  refine gx_aload_n (q := 1) C dX0_judgeRow_0 rfl rfl rfl ?_
  refine fg_X0_192 (q := 4) C hX.o rfl dX0_judgeRow_1 rfl ?_
  refine gx_istore_n (q := 5) (lv' := [_, _, _, _, _, _]) C dX0_judgeRow_4 rfl (Nat.le_of_ble_eq_true rfl) E.2.2.2.symm rfl rfl rfl ?_
  refine gx_aload_n (q := 6) C dX0_judgeRow_5 rfl rfl rfl ?_
  refine gx_iconst (q := 7) (v := nI 0) C dX0_judgeRow_6 (by decide) rfl ?_
  refine xv_pf_rowMany (q := 10) C hX hG dX0_judgeRow_7 rfl (fun M hX hG => ?_)
  refine gx_aload_n (q := 11) C dX0_judgeRow_10 rfl rfl rfl ?_
  refine fg_X0_51 (q := 14) C hX.o rfl dX0_judgeRow_11 rfl ?_
  refine gx_cs (q := 17) C E (sx_X0_123 (As := []) C hX.t.o rfl rfl dX0_judgeRow_14) (tx_find _ _ _ _ hX.t hk) kw_X1_find (by decide) (Nat.le_of_ble_eq_true rfl) rfl rfl (by omega) (by omega) dX0_judgeRow_14 rfl (fun M r14 => ?_)
  obtain ⟨⟨Y, hY, hV1⟩, hF1⟩ := r14
  have hX := hX.u1 hV1 hF1
  have hG := hG.tw hF1 (by decide)
  refine gx_pop (q := 18) C dX0_judgeRow_17 rfl rfl ?_
  refine gx_iconst (q := 19) (v := nI 0) C dX0_judgeRow_18 (by decide) rfl ?_
  refine gx_istore_n (q := 20) (lv' := [_, _, _, _, _, _]) C dX0_judgeRow_19 rfl (Nat.le_of_ble_eq_true rfl) E.2.2.2.symm rfl rfl rfl ?_
  have Lj : ∀ k, k ≤ rm → (∀ j, j < k → judB T g (Rw j) = true) → fb_G x M 0 0 20 [some (.ref (cx_b x + 0)), some (.int (nI g)), some (.int (nI rm)), some (.int (nI k)), none, none] [] := by
    refine fb_dn rm ?_ ?_
    · intro hp
      refine gx_iload_n (q := 21) C dX0_judgeRow_20 rfl rfl rfl ?_
      refine gx_iload_n (q := 22) C dX0_judgeRow_21 rfl rfl rfl ?_
      refine gn_icmp_ge (q := 25) (tgt := 98) C dX0_judgeRow_22 (by decide) rfl (by omega) (by omega) (fun c22 => ?_) (fun c22 => by exfalso; omega)
      refine gx_bipush (q := 100) (v := -9) C dX0_judgeRow_98 (by decide) rfl ?_
      exact gx_iretE C E (by rw [judV_n hp]; rfl) dX0_judgeRow_100 (⟨⟨_, _, _, _, _, _, _, hX⟩, hG⟩) (by omega) (by omega)
    · intro k hk3 ih hp
      have hb3 := hRw k (by omega)
      refine gx_iload_n (q := 21) C dX0_judgeRow_20 rfl rfl rfl ?_
      refine gx_iload_n (q := 22) C dX0_judgeRow_21 rfl rfl rfl ?_
      refine gn_icmp_ge (q := 25) (tgt := 98) C dX0_judgeRow_22 (by decide) rfl (by omega) (by omega) (fun c22 => by exfalso; omega) (fun c22 => ?_)
      refine gx_aload_n (q := 26) C dX0_judgeRow_25 rfl rfl rfl ?_
      refine fg_X0_61 (q := 29) C hX.o rfl dX0_judgeRow_26 rfl ?_
      refine gx_iload_n (q := 30) C dX0_judgeRow_29 rfl rfl rfl ?_
      refine xv_ld_row (q := 31) C hX (by omega) dX0_judgeRow_30 rfl ?_
      refine gx_istore (q := 33) (lv' := [_, _, _, _, _, _]) C dX0_judgeRow_31 (Nat.le_of_ble_eq_true rfl) E.2.2.2.symm rfl rfl rfl ?_
      have K : ∀ z : Bool, z = judB T g (Rw k) → fb_G x M 0 0 83 [some (.ref (cx_b x + 0)), some (.int (nI g)), some (.int (nI rm)), some (.int (nI k)), some (.int (nI (Rw k))), none] [.int (bI z)] := by
        intro z hZ
        refine gx_istore (q := 85) (lv' := [_, _, _, _, _, _]) C dX0_judgeRow_83 (Nat.le_of_ble_eq_true rfl) E.2.2.2.symm rfl rfl rfl ?_
        refine gx_iload (q := 87) C dX0_judgeRow_85 rfl rfl ?_
        refine gb_if_ne (q := 90) (tgt := 92) C dX0_judgeRow_87 (by decide) rfl (fun c87 => ?_) (fun c87 => ?_)
        · have hp : ∀ j, j < k + 1 → judB T g (Rw j) = true := fun j hj => by
            by_cases e : j = k
            · subst e; rw [← hZ, c87]
            · exact hp j (by omega)
          refine gn_inc (q := 95) (lv' := [_, _, _, _, _, _]) C dX0_judgeRow_92 rfl E.2.2.2.symm rfl rfl rfl ?_
          refine gx_goto (tgt := 20) C dX0_judgeRow_95 (by decide) ?_
          refine gx_drop 4 ?_
          refine gx_drop 5 ?_
          exact ih hp
        · rw [c87] at hZ
          refine gx_iload_n (q := 91) C dX0_judgeRow_90 rfl rfl rfl ?_
          exact gx_iretE C E (by rw [judV_i (by omega) hZ.symm hp]; rfl) dX0_judgeRow_91 (⟨⟨_, _, _, _, _, _, _, hX⟩, hG⟩) (by omega) (by omega)
      refine gx_iload (q := 35) C dX0_judgeRow_33 rfl rfl ?_
      refine gx_bipush (q := 37) (v := nI 36) C dX0_judgeRow_35 (by decide) rfl ?_
      refine gn_icmp_ge (q := 40) (tgt := 82) C dX0_judgeRow_37 (by decide) rfl (by omega) (by omega) (fun c37 => ?_) (fun c37 => ?_)
      · have hZ : judB T g (Rw k) = false := judB_1 c37
        refine gx_iconst (q := 83) (v := bI false) C dX0_judgeRow_82 (by decide) rfl ?_
        first | exact K true hZ.symm | exact K false hZ.symm
      · have h5 := k5 _ c37
        refine gx_aload_n (q := 41) C dX0_judgeRow_40 rfl rfl rfl ?_
        refine fg_X0_51 (q := 44) C hX.o rfl dX0_judgeRow_41 rfl ?_
        refine fg_X0_141 (q := 47) C hX.t.o rfl dX0_judgeRow_44 rfl ?_
        refine gx_iload (q := 49) C dX0_judgeRow_47 rfl rfl ?_
        refine tv_ld_gardens (q := 50) C hX.t (by omega) dX0_judgeRow_49 rfl ?_
        refine gx_iload_n (q := 51) C dX0_judgeRow_50 rfl rfl rfl ?_
        refine gn_icmp_ne (q := 54) (tgt := 82) C dX0_judgeRow_51 (by decide) rfl (by omega) (by omega) (fun c51 => ?_) (fun c51 => ?_)
        · have hZ : judB T g (Rw k) = false := judB_2 c51
          refine gx_iconst (q := 83) (v := bI false) C dX0_judgeRow_82 (by decide) rfl ?_
          first | exact K true hZ.symm | exact K false hZ.symm
        · refine gx_aload_n (q := 55) C dX0_judgeRow_54 rfl rfl rfl ?_
          refine fg_X0_51 (q := 58) C hX.o rfl dX0_judgeRow_55 rfl ?_
          refine gx_iload (q := 60) C dX0_judgeRow_58 rfl rfl ?_
          refine gx_cp (q := 63) C E (sx_X0_170 (As := [_]) C hX.t.o rfl rfl dX0_judgeRow_60) (tx_isNobodys _ _ _ _ (Rw k) c37 hX.t hk) kw_X1_isNobodys (by decide) (Nat.le_of_ble_eq_true rfl) (by omega) (by omega) dX0_judgeRow_60 rfl ?_
          refine gb_if_ne (q := 66) (tgt := 82) C dX0_judgeRow_63 (by decide) rfl (fun c63 => ?_) (fun c63 => ?_)
          · have hZ : judB T g (Rw k) = false := judB_3 c63
            refine gx_iconst (q := 83) (v := bI false) C dX0_judgeRow_82 (by decide) rfl ?_
            first | exact K true hZ.symm | exact K false hZ.symm
          · refine gx_aload_n (q := 67) C dX0_judgeRow_66 rfl rfl rfl ?_
            refine fg_X0_51 (q := 70) C hX.o rfl dX0_judgeRow_67 rfl ?_
            refine gx_iload (q := 72) C dX0_judgeRow_70 rfl rfl ?_
            refine gx_cp (q := 75) C E (sx_X0_174 (As := [_]) C hX.t.o rfl rfl dX0_judgeRow_72) (tx_liesIn _ _ _ _ (Rw k) c37 hX.t hk) kw_X1_liesIn (by decide) (Nat.le_of_ble_eq_true rfl) (by omega) (by omega) dX0_judgeRow_72 rfl ?_
            have hl := lyT_le hk (Rw k)
            refine gx_top (show _ = nI (lyT T (Rw k)) by rw [lyY_f hY c37]) ?_
            refine gn_if_le (q := 78) (tgt := 82) C dX0_judgeRow_75 (by decide) rfl (by omega) (fun c75 => ?_) (fun c75 => ?_)
            · have hZ : judB T g (Rw k) = false := judB_4 c75
              refine gx_iconst (q := 83) (v := bI false) C dX0_judgeRow_82 (by decide) rfl ?_
              first | exact K true hZ.symm | exact K false hZ.symm
            · have hZ : judB T g (Rw k) = true := judB_5 c37 c51 c63 c75
              refine gx_iconst (q := 79) (v := bI true) C dX0_judgeRow_78 (by decide) rfl ?_
              refine gx_goto (tgt := 83) C dX0_judgeRow_79 (by decide) ?_
              first | exact K true hZ.symm | exact K false hZ.symm
  exact Lj 0 (by omega) (fun j hj => absurd hj (Nat.not_lt_zero j))
set_option maxHeartbeats 800000 in
theorem xa_bySeeds (l : Launch) (D : va_G) (b : Nat) (M0 : List va_E) {R T Ti P Rw : Nat → Nat} {hi : Bool} {lm rm : Nat} (g : Nat) (hg : g < 4) (n : Nat) (h2 : n ≤ 30) (z : Int32) (h : xw_P D b M0 R T Ti P Rw hi lm rm) (hk : okT T) : fb_CT l D b yX0_bySeeds cX0_bySeeds 8 (some .int) 6 141 0 0 [.ref (b + 0), .int (nI n), .int z, .int (nI g)] M0 (.returned (some (.int (nI (seeV T g z n))))) (fun M' => xw_P D b M' R T Ti P Rw hi lm rm ∧ xw_F M0 M') := by
  refine fb_start [some (.ref (b + 0)), some (.int (nI n)), some (.int z), some (.int (nI g)), none, none, none, none] (by decide) (Nat.le_of_ble_eq_true rfl) rfl ?_
  intro x hl hD hb C E hx
  subst hl hD hb
  have C : fb_OK x cX0_bySeeds "FallsBetween" "bySeeds" := C
  obtain ⟨Tm, Y, Ym, Yi, lo, lom, loi, hX⟩ := h
  have hG := xw_F.rf M0
  obtain ⟨k0, k1, k2, k3, k4, k5, k6, k7, k8⟩ := id hk
  refine gx_iload_n (q := 1) C dX0_bySeeds_0 rfl rfl rfl ?_
  refine gx_istore (q := 3) (lv' := [_, _, _, _, _, _, _, _]) C dX0_bySeeds_1 (Nat.le_of_ble_eq_true rfl) E.2.2.2.symm rfl rfl rfl ?_
  refine gx_iconst (q := 4) (v := nI 0) C dX0_bySeeds_3 (by decide) rfl ?_
  refine gx_istore (q := 6) (lv' := [_, _, _, _, _, _, _, _]) C dX0_bySeeds_4 (Nat.le_of_ble_eq_true rfl) E.2.2.2.symm rfl rfl rfl ?_
  refine gx_aload_n (q := 7) C dX0_bySeeds_6 rfl rfl rfl ?_
  refine gx_cs (q := 10) C E (sx_X0_112 (As := []) C hX.o rfl rfl dX0_bySeeds_7) (xa_openMind _ _ _ _ hX hk) kw_X0_openMind (by decide) (Nat.le_of_ble_eq_true rfl) rfl rfl (by omega) (by omega) dX0_bySeeds_7 rfl (fun M r7 => ?_)
  obtain ⟨hV1, hF1⟩ := r7
  have hX := hX.u2 hV1 hF1
  have hG := hG.tw hF1 (by decide)
  refine gx_astore (q := 12) (lv' := [_, _, _, _, _, _, _, _]) C dX0_bySeeds_10 (Nat.le_of_ble_eq_true rfl) E.2.2.2.symm rfl rfl rfl ?_
  refine gx_iconst (q := 13) (v := nI 0) C dX0_bySeeds_12 (by decide) rfl ?_
  refine gx_istore (q := 15) (lv' := [_, _, _, _, _, _, _, _]) C dX0_bySeeds_13 (Nat.le_of_ble_eq_true rfl) E.2.2.2.symm rfl rfl rfl ?_
  have Lk : ∀ k, k ≤ n → ∀ (M : List va_E) (c lom : Nat) (Ym : Nat → Nat), xw_V (cx_D x) (cx_b x) M T (updN T 1 c) Ti Y Ym Yi lo lom loi hi Rw rm P lm R → xw_F M0 M → fb_G x M 0 0 15 [some (.ref (cx_b x + 0)), some (.int (nI n)), some (.int z), some (.int (nI g)), some (.int (seeZ z k)), some (.int (nI (seeV T g z k))), some (.ref (cx_b x + 14)), some (.int (nI k))] [] := by
    refine fb_dn n ?_ ?_
    · intro M c lom Ym hX hG
      refine gx_iload (q := 17) C dX0_bySeeds_15 rfl rfl ?_
      refine gx_iload_n (q := 18) C dX0_bySeeds_17 rfl rfl rfl ?_
      refine gn_icmp_ge (q := 21) (tgt := 68) C dX0_bySeeds_18 (by decide) rfl (by omega) (by omega) (fun c18 => ?_) (fun c18 => by exfalso; omega)
      refine gx_iload (q := 70) C dX0_bySeeds_68 rfl rfl ?_
      exact gx_iret C E dX0_bySeeds_70 (⟨⟨_, _, _, _, _, _, _, hX⟩, hG⟩) (by omega) (by omega)
    · intro k hkn3 ih M c lom Ym hX hG
      have hz := seeW_lt (seeZ z (k + 1))
      have hkn : okT (updN T 1 (seeW (seeZ z (k + 1)))) := okT_up hk (by omega)
      have hm := Nat.mod_lt (seeZ z (k + 1)).toBitVec.toNat (show 0 < 2 ^ 31 by decide)
      refine gx_iload (q := 17) C dX0_bySeeds_15 rfl rfl ?_
      refine gx_iload_n (q := 18) C dX0_bySeeds_17 rfl rfl rfl ?_
      refine gn_icmp_ge (q := 21) (tgt := 68) C dX0_bySeeds_18 (by decide) rfl (by omega) (by omega) (fun c18 => by exfalso; omega) (fun c18 => ?_)
      refine gx_iload (q := 23) C dX0_bySeeds_21 rfl rfl ?_
      refine gx_ldc (q := 25) C dX0_bySeeds_23 q959 rfl ?_
      refine gx_imul (q := 26) C dX0_bySeeds_25 rfl rfl ?_
      refine gx_ldc (q := 28) C dX0_bySeeds_26 q960 rfl ?_
      refine gx_iadd (q := 29) C dX0_bySeeds_28 rfl rfl ?_
      refine gx_top (show _ = seeZ z (k + 1) from rfl) ?_
      refine gx_istore (q := 31) (lv' := [_, _, _, _, _, _, _, _]) C dX0_bySeeds_29 (Nat.le_of_ble_eq_true rfl) E.2.2.2.symm rfl rfl rfl ?_
      refine gx_aload (q := 33) C dX0_bySeeds_31 rfl rfl ?_
      refine gx_iload (q := 35) C dX0_bySeeds_33 rfl rfl ?_
      refine gx_ldc (q := 37) C dX0_bySeeds_35 q961 rfl ?_
      refine gx_iand (q := 38) C dX0_bySeeds_37 (see_and _) rfl ?_
      refine gx_sipush (q := 41) (v := nI 256) C dX0_bySeeds_38 (by decide) rfl ?_
      refine gn_idiv (q := 42) C dX0_bySeeds_41 (by omega) (hm) (by omega) rfl ?_
      refine gx_bipush (q := 44) (v := nI 16) C dX0_bySeeds_42 (by decide) rfl ?_
      refine gn_irem (q := 45) C dX0_bySeeds_44 (by omega) (by omega) (by omega) rfl ?_
      refine gx_top (show _ = nI (seeW (seeZ z (k + 1))) from rfl) ?_
      refine tv_pf_X0_wind (q := 48) C hX.m (tw_F.rf _ _) dX0_bySeeds_45 rfl (fun M hV1 hF1 => ?_)
      have hX := hX.u2 hV1 hF1
      have hG := hG.tw hF1 (by decide)
      rw [updN_u] at hX
      refine gx_iload (q := 50) C dX0_bySeeds_48 rfl rfl ?_
      refine gx_aload (q := 52) C dX0_bySeeds_50 rfl rfl ?_
      refine gx_cs (q := 55) C E (sx_X0_123 (As := []) C hX.m.o rfl rfl dX0_bySeeds_52) (tx_find _ _ _ _ hX.m hkn) kw_X1_find (by decide) (Nat.le_of_ble_eq_true rfl) rfl rfl (by omega) (by omega) dX0_bySeeds_52 rfl (fun M r52 => ?_)
      obtain ⟨⟨Ym, hYm, hV1⟩, hF1⟩ := r52
      have hX := hX.u2 hV1 hF1
      have hG := hG.tw hF1 (by decide)
      refine gx_iload_n (q := 56) C dX0_bySeeds_55 rfl rfl rfl ?_
      refine gx_cp (q := 59) C E (sx_X0_126 (As := [_]) C hX.m.o rfl rfl dX0_bySeeds_56) (tx_share _ _ _ _ g (by omega) hX.m hkn) kw_X1_share (by decide) (Nat.le_of_ble_eq_true rfl) (by omega) (by omega) dX0_bySeeds_56 rfl ?_
      refine gx_top (show _ = nI (winV T g (seeW (seeZ z (k + 1)))) by rw [shL_w hYm]) ?_
      refine gn_iadd (q := 60) C dX0_bySeeds_59 rfl ?_
      refine gx_top (show _ = nI (seeV T g z (k + 1)) from rfl) ?_
      refine gx_istore (q := 62) (lv' := [_, _, _, _, _, _, _, _]) C dX0_bySeeds_60 (Nat.le_of_ble_eq_true rfl) E.2.2.2.symm rfl rfl rfl ?_
      refine gn_inc (q := 65) (lv' := [_, _, _, _, _, _, _, _]) C dX0_bySeeds_62 rfl E.2.2.2.symm rfl rfl rfl ?_
      refine gx_goto (tgt := 15) C dX0_bySeeds_65 (by decide) ?_
      exact ih M _ _ _ hX hG
  exact Lk 0 (by omega) M (T 1) _ _ (by rw [updN_r]; exact hX) hG
set_option maxHeartbeats 800000 in
theorem xa_fruitOfAll (l : Launch) (D : va_G) (b : Nat) (M0 : List va_E) {R T Ti P Rw : Nat → Nat} {hi : Bool} {lm rm : Nat}  (h : xw_P D b M0 R T Ti P Rw hi lm rm) (hk : okT T) : fb_CT l D b yX0_fruitOfAll cX0_fruitOfAll 3 (some .int) 0 0 0 0 [.ref (b + 0)] M0 (.returned (some (.int (nI (sumN (fun j => T (132 + j)) (T 0)))))) (fun M' => M' = M0) := by
  refine fb_start [some (.ref (b + 0)), none, none] (by decide) (Nat.le_of_ble_eq_true rfl) rfl ?_
  intro x hl hD hb C E hx
  subst hl hD hb
  have C : fb_OK x cX0_fruitOfAll "FallsBetween" "fruitOfAll" := C
  obtain ⟨Tm, Y, Ym, Yi, lo, lom, loi, hX⟩ := h
  have hG := xw_F.rf M0
  obtain ⟨k0, k1, k2, k3, k4, k5, k6, k7, k8⟩ := id hk
  refine gx_iconst (q := 1) (v := nI 0) C dX0_fruitOfAll_0 (by decide) rfl ?_
  refine gx_istore_n (q := 2) (lv' := [_, _, _]) C dX0_fruitOfAll_1 rfl (Nat.le_of_ble_eq_true rfl) E.2.2.2.symm rfl rfl rfl ?_
  refine gx_iconst (q := 3) (v := nI 0) C dX0_fruitOfAll_2 (by decide) rfl ?_
  refine gx_istore_n (q := 4) (lv' := [_, _, _]) C dX0_fruitOfAll_3 rfl (Nat.le_of_ble_eq_true rfl) E.2.2.2.symm rfl rfl rfl ?_
  have Lp : ∀ i, i ≤ T 0 → fb_G x M0 0 0 4 [some (.ref (cx_b x + 0)), some (.int (nI (sumN (fun j => T (132 + j)) i))), some (.int (nI i))] [] := by
    refine fb_dn (T 0) ?_ ?_
    · skip
      refine gx_iload_n (q := 5) C dX0_fruitOfAll_4 rfl rfl rfl ?_
      refine gx_aload_n (q := 6) C dX0_fruitOfAll_5 rfl rfl rfl ?_
      refine fg_X0_51 (q := 9) C hX.o rfl dX0_fruitOfAll_6 rfl ?_
      refine fg_X0_120 (q := 12) C hX.t.o rfl dX0_fruitOfAll_9 rfl ?_
      refine gn_icmp_ge (q := 15) (tgt := 36) C dX0_fruitOfAll_12 (by decide) rfl (by omega) (by omega) (fun c12 => ?_) (fun c12 => by exfalso; omega)
      refine gx_iload_n (q := 37) C dX0_fruitOfAll_36 rfl rfl rfl ?_
      exact gx_iret C E dX0_fruitOfAll_37 (rfl) (by omega) (by omega)
    · intro i hi2 ih
      have hkd := (k8 _ hi2).1
      refine gx_iload_n (q := 5) C dX0_fruitOfAll_4 rfl rfl rfl ?_
      refine gx_aload_n (q := 6) C dX0_fruitOfAll_5 rfl rfl rfl ?_
      refine fg_X0_51 (q := 9) C hX.o rfl dX0_fruitOfAll_6 rfl ?_
      refine fg_X0_120 (q := 12) C hX.t.o rfl dX0_fruitOfAll_9 rfl ?_
      refine gn_icmp_ge (q := 15) (tgt := 36) C dX0_fruitOfAll_12 (by decide) rfl (by omega) (by omega) (fun c12 => by exfalso; omega) (fun c12 => ?_)
      refine gx_iload_n (q := 16) C dX0_fruitOfAll_15 rfl rfl rfl ?_
      refine gx_aload_n (q := 17) C dX0_fruitOfAll_16 rfl rfl rfl ?_
      refine fg_X0_51 (q := 20) C hX.o rfl dX0_fruitOfAll_17 rfl ?_
      refine fg_X0_116 (q := 23) C hX.t.o rfl dX0_fruitOfAll_20 rfl ?_
      refine gx_iload_n (q := 24) C dX0_fruitOfAll_23 rfl rfl rfl ?_
      refine tv_tree (q := 25) C hX.t (by omega) (by omega) dX0_fruitOfAll_24 rfl (fun jt hjt hj54 => ?_)
      refine gf_X0_fruit (q := 28) C hjt hkd dX0_fruitOfAll_25 rfl ?_
      refine gn_iadd (q := 29) C dX0_fruitOfAll_28 rfl ?_
      refine gx_istore_n (q := 30) (lv' := [_, _, _]) C dX0_fruitOfAll_29 rfl (Nat.le_of_ble_eq_true rfl) E.2.2.2.symm rfl rfl rfl ?_
      refine gn_inc (q := 33) (lv' := [_, _, _]) C dX0_fruitOfAll_30 rfl E.2.2.2.symm rfl rfl rfl ?_
      refine gx_goto (tgt := 4) C dX0_fruitOfAll_33 (by decide) ?_
      exact ih
  exact Lp 0 (by omega)
set_option maxHeartbeats 800000 in
theorem xa_squaresThat_t (l : Launch) (D : va_G) (b : Nat) (M0 : List va_E) {R T Ti P Rw : Nat → Nat} {hi : Bool} {lm rm : Nat}  (h : xw_P D b M0 R T Ti P Rw hi lm rm) (hk : okT T) : fb_CT l D b yX0_squaresThat cX0_squaresThat 4 (some .int) 5 118 0 0 [.ref (b + 0), .int (bI true)] M0 (.returned (some (.int (nI (sumN (fun j => T (84 + j)) 36))))) (fun M' => M' = M0) := by
  refine fb_start [some (.ref (b + 0)), some (.int (bI true)), none, none] (by decide) (Nat.le_of_ble_eq_true rfl) rfl ?_
  intro x hl hD hb C E hx
  subst hl hD hb
  have C : fb_OK x cX0_squaresThat "FallsBetween" "squaresThat" := C
  obtain ⟨Tm, Y, Ym, Yi, lo, lom, loi, hX⟩ := h
  have hG := xw_F.rf M0
  obtain ⟨k0, k1, k2, k3, k4, k5, k6, k7, k8⟩ := id hk
  refine gx_iconst (q := 1) (v := nI 0) C dX0_squaresThat_0 (by decide) rfl ?_
  refine gx_istore_n (q := 2) (lv' := [_, _, _, _]) C dX0_squaresThat_1 rfl (Nat.le_of_ble_eq_true rfl) E.2.2.2.symm rfl rfl rfl ?_
  refine gx_iconst (q := 3) (v := nI 0) C dX0_squaresThat_2 (by decide) rfl ?_
  refine gx_istore_n (q := 4) (lv' := [_, _, _, _]) C dX0_squaresThat_3 rfl (Nat.le_of_ble_eq_true rfl) E.2.2.2.symm rfl rfl rfl ?_
  have Lp : ∀ i, i ≤ 36 → fb_G x M0 0 0 4 [some (.ref (cx_b x + 0)), some (.int (bI true)), some (.int (nI (sumN (fun j => T (84 + j)) i))), some (.int (nI i))] [] := by
    refine fb_dn 36 ?_ ?_
    · skip
      refine gx_iload_n (q := 5) C dX0_squaresThat_4 rfl rfl rfl ?_
      refine gx_bipush (q := 7) (v := nI 36) C dX0_squaresThat_5 (by decide) rfl ?_
      refine gn_icmp_ge (q := 10) (tgt := 54) C dX0_squaresThat_7 (by decide) rfl (by omega) (by omega) (fun c7 => ?_) (fun c7 => by exfalso; omega)
      refine gx_iload_n (q := 55) C dX0_squaresThat_54 rfl rfl rfl ?_
      exact gx_iret C E dX0_squaresThat_55 (rfl) (by omega) (by omega)
    · intro i hi2 ih
      rw [sumN_s] at ih
      refine gx_iload_n (q := 5) C dX0_squaresThat_4 rfl rfl rfl ?_
      refine gx_bipush (q := 7) (v := nI 36) C dX0_squaresThat_5 (by decide) rfl ?_
      refine gn_icmp_ge (q := 10) (tgt := 54) C dX0_squaresThat_7 (by decide) rfl (by omega) (by omega) (fun c7 => by exfalso; omega) (fun c7 => ?_)
      refine gx_iload_n (q := 11) C dX0_squaresThat_10 rfl rfl rfl ?_
      refine gx_iload_n (q := 12) C dX0_squaresThat_11 rfl rfl rfl ?_
      refine gb_if_eq (q := 15) (tgt := 30) C dX0_squaresThat_12 (by decide) rfl (fun c12 => by exfalso; cases c12) (fun c12 => ?_)
      refine gx_aload_n (q := 16) C dX0_squaresThat_15 rfl rfl rfl ?_
      refine fg_X0_51 (q := 19) C hX.o rfl dX0_squaresThat_16 rfl ?_
      refine fg_X0_166 (q := 22) C hX.t.o rfl dX0_squaresThat_19 rfl ?_
      refine gx_iload_n (q := 23) C dX0_squaresThat_22 rfl rfl rfl ?_
      refine tv_ld_nets (q := 24) C hX.t (by omega) dX0_squaresThat_23 rfl ?_
      refine gn_if_eq (q := 27) (tgt := 45) C dX0_squaresThat_24 (by decide) rfl (by have := k7 _ hi2; omega) (fun c24 => ?_) (fun c24 => ?_)
      · rw [c24] at ih
        refine gx_iconst (q := 46) (v := nI 0) C dX0_squaresThat_45 (by decide) rfl ?_
        refine gn_iadd (q := 47) C dX0_squaresThat_46 rfl ?_
        refine gx_istore_n (q := 48) (lv' := [_, _, _, _]) C dX0_squaresThat_47 rfl (Nat.le_of_ble_eq_true rfl) E.2.2.2.symm rfl rfl rfl ?_
        refine gn_inc (q := 51) (lv' := [_, _, _, _]) C dX0_squaresThat_48 rfl E.2.2.2.symm rfl rfl rfl ?_
        refine gx_goto (tgt := 4) C dX0_squaresThat_51 (by decide) ?_
        exact ih
      · rw [show T (84 + i) = 1 by have := k7 _ hi2; omega] at ih
        refine gx_goto (tgt := 41) C dX0_squaresThat_27 (by decide) ?_
        refine gx_iconst (q := 42) (v := nI 1) C dX0_squaresThat_41 (by decide) rfl ?_
        refine gx_goto (tgt := 46) C dX0_squaresThat_42 (by decide) ?_
        refine gn_iadd (q := 47) C dX0_squaresThat_46 rfl ?_
        refine gx_istore_n (q := 48) (lv' := [_, _, _, _]) C dX0_squaresThat_47 rfl (Nat.le_of_ble_eq_true rfl) E.2.2.2.symm rfl rfl rfl ?_
        refine gn_inc (q := 51) (lv' := [_, _, _, _]) C dX0_squaresThat_48 rfl E.2.2.2.symm rfl rfl rfl ?_
        refine gx_goto (tgt := 4) C dX0_squaresThat_51 (by decide) ?_
        exact ih
  exact Lp 0 (by omega)
set_option maxHeartbeats 800000 in
theorem xa_squaresThat_f (l : Launch) (D : va_G) (b : Nat) (M0 : List va_E) {R T Ti P Rw : Nat → Nat} {hi : Bool} {lm rm : Nat}  (h : xw_P D b M0 R T Ti P Rw hi lm rm) (hk : okT T) : fb_CT l D b yX0_squaresThat cX0_squaresThat 4 (some .int) 5 118 0 0 [.ref (b + 0), .int (bI false)] M0 (.returned (some (.int (nI (sumN (fun q => if nob T q = true then 1 else 0) 36))))) (fun M' => M' = M0) := by
  refine fb_start [some (.ref (b + 0)), some (.int (bI false)), none, none] (by decide) (Nat.le_of_ble_eq_true rfl) rfl ?_
  intro x hl hD hb C E hx
  subst hl hD hb
  have C : fb_OK x cX0_squaresThat "FallsBetween" "squaresThat" := C
  obtain ⟨Tm, Y, Ym, Yi, lo, lom, loi, hX⟩ := h
  have hG := xw_F.rf M0
  obtain ⟨k0, k1, k2, k3, k4, k5, k6, k7, k8⟩ := id hk
  refine gx_iconst (q := 1) (v := nI 0) C dX0_squaresThat_0 (by decide) rfl ?_
  refine gx_istore_n (q := 2) (lv' := [_, _, _, _]) C dX0_squaresThat_1 rfl (Nat.le_of_ble_eq_true rfl) E.2.2.2.symm rfl rfl rfl ?_
  refine gx_iconst (q := 3) (v := nI 0) C dX0_squaresThat_2 (by decide) rfl ?_
  refine gx_istore_n (q := 4) (lv' := [_, _, _, _]) C dX0_squaresThat_3 rfl (Nat.le_of_ble_eq_true rfl) E.2.2.2.symm rfl rfl rfl ?_
  have Lp : ∀ i, i ≤ 36 → fb_G x M0 0 0 4 [some (.ref (cx_b x + 0)), some (.int (bI false)), some (.int (nI (sumN (fun q => if nob T q = true then 1 else 0) i))), some (.int (nI i))] [] := by
    refine fb_dn 36 ?_ ?_
    · skip
      refine gx_iload_n (q := 5) C dX0_squaresThat_4 rfl rfl rfl ?_
      refine gx_bipush (q := 7) (v := nI 36) C dX0_squaresThat_5 (by decide) rfl ?_
      refine gn_icmp_ge (q := 10) (tgt := 54) C dX0_squaresThat_7 (by decide) rfl (by omega) (by omega) (fun c7 => ?_) (fun c7 => by exfalso; omega)
      refine gx_iload_n (q := 55) C dX0_squaresThat_54 rfl rfl rfl ?_
      exact gx_iret C E dX0_squaresThat_55 (rfl) (by omega) (by omega)
    · intro i hi2 ih
      rw [sumN_s] at ih
      refine gx_iload_n (q := 5) C dX0_squaresThat_4 rfl rfl rfl ?_
      refine gx_bipush (q := 7) (v := nI 36) C dX0_squaresThat_5 (by decide) rfl ?_
      refine gn_icmp_ge (q := 10) (tgt := 54) C dX0_squaresThat_7 (by decide) rfl (by omega) (by omega) (fun c7 => by exfalso; omega) (fun c7 => ?_)
      refine gx_iload_n (q := 11) C dX0_squaresThat_10 rfl rfl rfl ?_
      refine gx_iload_n (q := 12) C dX0_squaresThat_11 rfl rfl rfl ?_
      refine gb_if_eq (q := 15) (tgt := 30) C dX0_squaresThat_12 (by decide) rfl (fun c12 => ?_) (fun c12 => by exfalso; cases c12)
      refine gx_aload_n (q := 31) C dX0_squaresThat_30 rfl rfl rfl ?_
      refine fg_X0_51 (q := 34) C hX.o rfl dX0_squaresThat_31 rfl ?_
      refine gx_iload_n (q := 35) C dX0_squaresThat_34 rfl rfl rfl ?_
      refine gx_cp (q := 38) C E (sx_X0_170 (As := [_]) C hX.t.o rfl rfl dX0_squaresThat_35) (tx_isNobodys _ _ _ _ i hi2 hX.t hk) kw_X1_isNobodys (by decide) (Nat.le_of_ble_eq_true rfl) (by omega) (by omega) dX0_squaresThat_35 rfl ?_
      refine gb_if_eq (q := 41) (tgt := 45) C dX0_squaresThat_38 (by decide) rfl (fun c38 => ?_) (fun c38 => ?_)
      · rw [if_neg (by rw [c38]; decide)] at ih
        refine gx_iconst (q := 46) (v := nI 0) C dX0_squaresThat_45 (by decide) rfl ?_
        refine gn_iadd (q := 47) C dX0_squaresThat_46 rfl ?_
        refine gx_istore_n (q := 48) (lv' := [_, _, _, _]) C dX0_squaresThat_47 rfl (Nat.le_of_ble_eq_true rfl) E.2.2.2.symm rfl rfl rfl ?_
        refine gn_inc (q := 51) (lv' := [_, _, _, _]) C dX0_squaresThat_48 rfl E.2.2.2.symm rfl rfl rfl ?_
        refine gx_goto (tgt := 4) C dX0_squaresThat_51 (by decide) ?_
        exact ih
      · rw [if_pos c38] at ih
        refine gx_iconst (q := 42) (v := nI 1) C dX0_squaresThat_41 (by decide) rfl ?_
        refine gx_goto (tgt := 46) C dX0_squaresThat_42 (by decide) ?_
        refine gn_iadd (q := 47) C dX0_squaresThat_46 rfl ?_
        refine gx_istore_n (q := 48) (lv' := [_, _, _, _]) C dX0_squaresThat_47 rfl (Nat.le_of_ble_eq_true rfl) E.2.2.2.symm rfl rfl rfl ?_
        refine gn_inc (q := 51) (lv' := [_, _, _, _]) C dX0_squaresThat_48 rfl E.2.2.2.symm rfl rfl rfl ?_
        refine gx_goto (tgt := 4) C dX0_squaresThat_51 (by decide) ?_
        exact ih
  exact Lp 0 (by omega)
set_option maxHeartbeats 800000 in
theorem xa_refuse_c (l : Launch) (D : va_G) (b : Nat) (M0 : List va_E) {R T Ti P Rw : Nat → Nat} {hi : Bool} {lm rm : Nat} (z : Int32) (w : Nat) (hz : -z = nI w) (hw : w < 7) (h20 : ¬ z ≤ -20) (h : xw_P D b M0 R T Ti P Rw hi lm rm) : fb_CT l D b yX0_refuse cX0_refuse 2 (some .int) 0 0 0 0 [.ref (b + 0), .int z] M0 (.returned (some (.int (z)))) (fun M' => xw_P D b M' (updN R w (R w + 1)) T Ti P Rw hi lm rm ∧ xw_F M0 M') := by
  refine fb_start [some (.ref (b + 0)), some (.int z)] (by decide) (Nat.le_of_ble_eq_true rfl) rfl ?_
  intro x hl hD hb C E hx
  subst hl hD hb
  have C : fb_OK x cX0_refuse "FallsBetween" "refuse" := C
  obtain ⟨Tm, Y, Ym, Yi, lo, lom, loi, hX⟩ := h
  have hG := xw_F.rf M0
  refine gx_iload_n (q := 1) C dX0_refuse_0 rfl rfl rfl ?_
  refine gx_bipush (q := 3) (v := -20) C dX0_refuse_1 (by decide) rfl ?_
  refine gx_icmp_le (q := 6) (tgt := 17) C dX0_refuse_3 (by decide) rfl (fun c3 => by exfalso; exact h20 c3) (fun c3 => ?_)
  refine gx_aload_n (q := 7) C dX0_refuse_6 rfl rfl rfl ?_
  refine fg_X0_69 (q := 10) C hX.o rfl dX0_refuse_7 rfl ?_
  refine gx_iload_n (q := 11) C dX0_refuse_10 rfl rfl rfl ?_
  refine gx_ineg (q := 12) C dX0_refuse_11 (hz) rfl ?_
  refine gx_dup2 (q := 13) C dX0_refuse_12 rfl rfl rfl ?_
  refine xv_ld_refused (q := 14) C hX (by omega) dX0_refuse_13 rfl ?_
  refine gx_iconst (q := 15) (v := nI 1) C dX0_refuse_14 (by decide) rfl ?_
  refine gn_iadd (q := 16) C dX0_refuse_15 rfl ?_
  refine xv_st_refused (q := 17) C hX hG (by omega) dX0_refuse_16 rfl (fun M hX hG => ?_)
  refine gx_iload_n (q := 18) C dX0_refuse_17 rfl rfl rfl ?_
  exact gx_iret C E dX0_refuse_18 (⟨⟨_, _, _, _, _, _, _, hX⟩, hG⟩) (by omega) (by omega)
set_option maxHeartbeats 800000 in
theorem xa_refuse_n (l : Launch) (D : va_G) (b : Nat) (M0 : List va_E) {R T Ti P Rw : Nat → Nat} {hi : Bool} {lm rm : Nat} (z : Int32) (h20 : z ≤ -20) (h : xw_P D b M0 R T Ti P Rw hi lm rm) : fb_CT l D b yX0_refuse cX0_refuse 2 (some .int) 0 0 0 0 [.ref (b + 0), .int z] M0 (.returned (some (.int (z)))) (fun M' => xw_P D b M' R T Ti P Rw hi lm rm ∧ xw_F M0 M') := by
  refine fb_start [some (.ref (b + 0)), some (.int z)] (by decide) (Nat.le_of_ble_eq_true rfl) rfl ?_
  intro x hl hD hb C E hx
  subst hl hD hb
  have C : fb_OK x cX0_refuse "FallsBetween" "refuse" := C
  obtain ⟨Tm, Y, Ym, Yi, lo, lom, loi, hX⟩ := h
  have hG := xw_F.rf M0
  refine gx_iload_n (q := 1) C dX0_refuse_0 rfl rfl rfl ?_
  refine gx_bipush (q := 3) (v := -20) C dX0_refuse_1 (by decide) rfl ?_
  refine gx_icmp_le (q := 6) (tgt := 17) C dX0_refuse_3 (by decide) rfl (fun c3 => ?_) (fun c3 => by exfalso; exact c3 h20)
  refine gx_iload_n (q := 18) C dX0_refuse_17 rfl rfl rfl ?_
  exact gx_iret C E dX0_refuse_18 (⟨⟨_, _, _, _, _, _, _, hX⟩, hG⟩) (by omega) (by omega)
set_option maxHeartbeats 800000 in
theorem xa_count_0 (l : Launch) (D : va_G) (b : Nat) (M0 : List va_E) {R T Ti P Rw : Nat → Nat} {hi : Bool} {lm rm : Nat}  (h : xw_P D b M0 R T Ti P Rw hi lm rm) (hk : okT T) : fb_CT l D b yX0_count cX0_count 2 (some .int) 6 141 0 0 [.ref (b + 0), .int (nI 0)] M0 (.returned (some (.int (nI (T 0))))) (fun M' => M' = M0) := by
  refine fb_start [some (.ref (b + 0)), some (.int (nI 0))] (by decide) (Nat.le_of_ble_eq_true rfl) rfl ?_
  intro x hl hD hb C E hx
  subst hl hD hb
  have C : fb_OK x cX0_count "FallsBetween" "count" := C
  obtain ⟨Tm, Y, Ym, Yi, lo, lom, loi, hX⟩ := h
  have hG := xw_F.rf M0
  obtain ⟨k0, k1, k2, k3, k4, k5, k6, k7, k8⟩ := id hk
  refine gx_iload_n (q := 1) C dX0_count_0 rfl rfl rfl ?_
  refine gx_tableIn (tgt := 52) C dX0_count_1 (by decide) (by decide) (rfl) (by decide) ?_
  refine gx_aload_n (q := 53) C dX0_count_52 rfl rfl rfl ?_
  refine fg_X0_51 (q := 56) C hX.o rfl dX0_count_53 rfl ?_
  refine fg_X0_120 (q := 59) C hX.t.o rfl dX0_count_56 rfl ?_
  exact gx_iret C E dX0_count_59 (rfl) (by omega) (by omega)
set_option maxHeartbeats 800000 in
theorem xa_count_1 (l : Launch) (D : va_G) (b : Nat) (M0 : List va_E) {R T Ti P Rw : Nat → Nat} {hi : Bool} {lm rm : Nat}  (h : xw_P D b M0 R T Ti P Rw hi lm rm) (hk : okT T) : fb_CT l D b yX0_count cX0_count 2 (some .int) 6 141 0 0 [.ref (b + 0), .int (nI 1)] M0 (.returned (some (.int (nI (sumN (fun j => T (132 + j)) (T 0)))))) (fun M' => M' = M0) := by
  refine fb_start [some (.ref (b + 0)), some (.int (nI 1))] (by decide) (Nat.le_of_ble_eq_true rfl) rfl ?_
  intro x hl hD hb C E hx
  subst hl hD hb
  have C : fb_OK x cX0_count "FallsBetween" "count" := C
  obtain ⟨Tm, Y, Ym, Yi, lo, lom, loi, hX⟩ := h
  have hG := xw_F.rf M0
  obtain ⟨k0, k1, k2, k3, k4, k5, k6, k7, k8⟩ := id hk
  refine gx_iload_n (q := 1) C dX0_count_0 rfl rfl rfl ?_
  refine gx_tableIn (tgt := 60) C dX0_count_1 (by decide) (by decide) (rfl) (by decide) ?_
  refine gx_aload_n (q := 61) C dX0_count_60 rfl rfl rfl ?_
  refine gx_cp (q := 64) C E (sx_X0_360 (As := []) C hX.o rfl rfl dX0_count_61) (xa_fruitOfAll _ _ _ _ ⟨_, _, _, _, _, _, _, hX⟩ hk) kw_X0_fruitOfAll (by decide) (Nat.le_of_ble_eq_true rfl) (by omega) (by omega) dX0_count_61 rfl ?_
  exact gx_iret C E dX0_count_64 (rfl) (by omega) (by omega)
set_option maxHeartbeats 800000 in
theorem xa_count_2 (l : Launch) (D : va_G) (b : Nat) (M0 : List va_E) {R T Ti P Rw : Nat → Nat} {hi : Bool} {lm rm : Nat}  (h : xw_P D b M0 R T Ti P Rw hi lm rm) (hk : okT T) : fb_CT l D b yX0_count cX0_count 2 (some .int) 6 141 0 0 [.ref (b + 0), .int (nI 2)] M0 (.returned (some (.int (nI (T 1))))) (fun M' => M' = M0) := by
  refine fb_start [some (.ref (b + 0)), some (.int (nI 2))] (by decide) (Nat.le_of_ble_eq_true rfl) rfl ?_
  intro x hl hD hb C E hx
  subst hl hD hb
  have C : fb_OK x cX0_count "FallsBetween" "count" := C
  obtain ⟨Tm, Y, Ym, Yi, lo, lom, loi, hX⟩ := h
  have hG := xw_F.rf M0
  obtain ⟨k0, k1, k2, k3, k4, k5, k6, k7, k8⟩ := id hk
  refine gx_iload_n (q := 1) C dX0_count_0 rfl rfl rfl ?_
  refine gx_tableIn (tgt := 65) C dX0_count_1 (by decide) (by decide) (rfl) (by decide) ?_
  refine gx_aload_n (q := 66) C dX0_count_65 rfl rfl rfl ?_
  refine fg_X0_51 (q := 69) C hX.o rfl dX0_count_66 rfl ?_
  refine fg_X0_163 (q := 72) C hX.t.o rfl dX0_count_69 rfl ?_
  exact gx_iret C E dX0_count_72 (rfl) (by omega) (by omega)
set_option maxHeartbeats 800000 in
theorem xa_count_3 (l : Launch) (D : va_G) (b : Nat) (M0 : List va_E) {R T Ti P Rw : Nat → Nat} {hi : Bool} {lm rm : Nat}  (h : xw_P D b M0 R T Ti P Rw hi lm rm) (hk : okT T) : fb_CT l D b yX0_count cX0_count 2 (some .int) 6 141 0 0 [.ref (b + 0), .int (nI 3)] M0 (.returned (some (.int (nI (T 2))))) (fun M' => M' = M0) := by
  refine fb_start [some (.ref (b + 0)), some (.int (nI 3))] (by decide) (Nat.le_of_ble_eq_true rfl) rfl ?_
  intro x hl hD hb C E hx
  subst hl hD hb
  have C : fb_OK x cX0_count "FallsBetween" "count" := C
  obtain ⟨Tm, Y, Ym, Yi, lo, lom, loi, hX⟩ := h
  have hG := xw_F.rf M0
  obtain ⟨k0, k1, k2, k3, k4, k5, k6, k7, k8⟩ := id hk
  refine gx_iload_n (q := 1) C dX0_count_0 rfl rfl rfl ?_
  refine gx_tableIn (tgt := 73) C dX0_count_1 (by decide) (by decide) (rfl) (by decide) ?_
  refine gx_aload_n (q := 74) C dX0_count_73 rfl rfl rfl ?_
  refine fg_X0_51 (q := 77) C hX.o rfl dX0_count_74 rfl ?_
  refine fg_X0_151 (q := 80) C hX.t.o rfl dX0_count_77 rfl ?_
  exact gx_iret C E dX0_count_80 (rfl) (by omega) (by omega)
set_option maxHeartbeats 800000 in
theorem xa_count_4 (l : Launch) (D : va_G) (b : Nat) (M0 : List va_E) {R T Ti P Rw : Nat → Nat} {hi : Bool} {lm rm : Nat}  (h : xw_P D b M0 R T Ti P Rw hi lm rm) (hk : okT T) : fb_CT l D b yX0_count cX0_count 2 (some .int) 6 141 0 0 [.ref (b + 0), .int (nI 4)] M0 (.returned (some (.int (nI (sumN (fun j => T (84 + j)) 36))))) (fun M' => M' = M0) := by
  refine fb_start [some (.ref (b + 0)), some (.int (nI 4))] (by decide) (Nat.le_of_ble_eq_true rfl) rfl ?_
  intro x hl hD hb C E hx
  subst hl hD hb
  have C : fb_OK x cX0_count "FallsBetween" "count" := C
  obtain ⟨Tm, Y, Ym, Yi, lo, lom, loi, hX⟩ := h
  have hG := xw_F.rf M0
  obtain ⟨k0, k1, k2, k3, k4, k5, k6, k7, k8⟩ := id hk
  refine gx_iload_n (q := 1) C dX0_count_0 rfl rfl rfl ?_
  refine gx_tableIn (tgt := 81) C dX0_count_1 (by decide) (by decide) (rfl) (by decide) ?_
  refine gx_aload_n (q := 82) C dX0_count_81 rfl rfl rfl ?_
  refine gx_iconst (q := 83) (v := bI true) C dX0_count_82 (by decide) rfl ?_
  refine gx_cp (q := 86) C E (sx_X0_363 (As := [_]) C hX.o rfl rfl dX0_count_83) (xa_squaresThat_t _ _ _ _ ⟨_, _, _, _, _, _, _, hX⟩ hk) kw_X0_squaresThat (by decide) (Nat.le_of_ble_eq_true rfl) (by omega) (by omega) dX0_count_83 rfl ?_
  exact gx_iret C E dX0_count_86 (rfl) (by omega) (by omega)
set_option maxHeartbeats 800000 in
theorem xa_count_5 (l : Launch) (D : va_G) (b : Nat) (M0 : List va_E) {R T Ti P Rw : Nat → Nat} {hi : Bool} {lm rm : Nat}  (h : xw_P D b M0 R T Ti P Rw hi lm rm) (hk : okT T) : fb_CT l D b yX0_count cX0_count 2 (some .int) 6 141 0 0 [.ref (b + 0), .int (nI 5)] M0 (.returned (some (.int (nI (T 3))))) (fun M' => M' = M0) := by
  refine fb_start [some (.ref (b + 0)), some (.int (nI 5))] (by decide) (Nat.le_of_ble_eq_true rfl) rfl ?_
  intro x hl hD hb C E hx
  subst hl hD hb
  have C : fb_OK x cX0_count "FallsBetween" "count" := C
  obtain ⟨Tm, Y, Ym, Yi, lo, lom, loi, hX⟩ := h
  have hG := xw_F.rf M0
  obtain ⟨k0, k1, k2, k3, k4, k5, k6, k7, k8⟩ := id hk
  refine gx_iload_n (q := 1) C dX0_count_0 rfl rfl rfl ?_
  refine gx_tableIn (tgt := 87) C dX0_count_1 (by decide) (by decide) (rfl) (by decide) ?_
  refine gx_aload_n (q := 88) C dX0_count_87 rfl rfl rfl ?_
  refine fg_X0_51 (q := 91) C hX.o rfl dX0_count_88 rfl ?_
  refine fg_X0_183 (q := 94) C hX.t.o rfl dX0_count_91 rfl ?_
  exact gx_iret C E dX0_count_94 (rfl) (by omega) (by omega)
set_option maxHeartbeats 800000 in
theorem xa_count_6 (l : Launch) (D : va_G) (b : Nat) (M0 : List va_E) {R T Ti P Rw : Nat → Nat} {hi : Bool} {lm rm : Nat}  (h : xw_P D b M0 R T Ti P Rw hi lm rm) (hk : okT T) : fb_CT l D b yX0_count cX0_count 2 (some .int) 6 141 0 0 [.ref (b + 0), .int (nI 6)] M0 (.returned (some (.int (nI (sumN (fun q => if nob T q = true then 1 else 0) 36))))) (fun M' => M' = M0) := by
  refine fb_start [some (.ref (b + 0)), some (.int (nI 6))] (by decide) (Nat.le_of_ble_eq_true rfl) rfl ?_
  intro x hl hD hb C E hx
  subst hl hD hb
  have C : fb_OK x cX0_count "FallsBetween" "count" := C
  obtain ⟨Tm, Y, Ym, Yi, lo, lom, loi, hX⟩ := h
  have hG := xw_F.rf M0
  obtain ⟨k0, k1, k2, k3, k4, k5, k6, k7, k8⟩ := id hk
  refine gx_iload_n (q := 1) C dX0_count_0 rfl rfl rfl ?_
  refine gx_tableIn (tgt := 95) C dX0_count_1 (by decide) (by decide) (rfl) (by decide) ?_
  refine gx_aload_n (q := 96) C dX0_count_95 rfl rfl rfl ?_
  refine gx_iconst (q := 97) (v := bI false) C dX0_count_96 (by decide) rfl ?_
  refine gx_cp (q := 100) C E (sx_X0_363 (As := [_]) C hX.o rfl rfl dX0_count_97) (xa_squaresThat_f _ _ _ _ ⟨_, _, _, _, _, _, _, hX⟩ hk) kw_X0_squaresThat (by decide) (Nat.le_of_ble_eq_true rfl) (by omega) (by omega) dX0_count_97 rfl ?_
  exact gx_iret C E dX0_count_100 (rfl) (by omega) (by omega)
set_option maxHeartbeats 800000 in
theorem xa_count_7 (l : Launch) (D : va_G) (b : Nat) (M0 : List va_E) {R T Ti P Rw : Nat → Nat} {hi : Bool} {lm rm : Nat}  (h : xw_P D b M0 R T Ti P Rw hi lm rm) (hk : okT T) : fb_CT l D b yX0_count cX0_count 2 (some .int) 6 141 0 0 [.ref (b + 0), .int (nI 7)] M0 (.returned (some (.int (nI rm)))) (fun M' => M' = M0) := by
  refine fb_start [some (.ref (b + 0)), some (.int (nI 7))] (by decide) (Nat.le_of_ble_eq_true rfl) rfl ?_
  intro x hl hD hb C E hx
  subst hl hD hb
  have C : fb_OK x cX0_count "FallsBetween" "count" := C
  obtain ⟨Tm, Y, Ym, Yi, lo, lom, loi, hX⟩ := h
  have hG := xw_F.rf M0
  obtain ⟨k0, k1, k2, k3, k4, k5, k6, k7, k8⟩ := id hk
  refine gx_iload_n (q := 1) C dX0_count_0 rfl rfl rfl ?_
  refine gx_tableIn (tgt := 101) C dX0_count_1 (by decide) (by decide) (rfl) (by decide) ?_
  refine gx_aload_n (q := 102) C dX0_count_101 rfl rfl rfl ?_
  refine fg_X0_192 (q := 105) C hX.o rfl dX0_count_102 rfl ?_
  exact gx_iret C E dX0_count_105 (rfl) (by omega) (by omega)
set_option maxHeartbeats 800000 in
theorem xa_count_8 (l : Launch) (D : va_G) (b : Nat) (M0 : List va_E) {R T Ti P Rw : Nat → Nat} {hi : Bool} {lm rm : Nat}  (h : xw_P D b M0 R T Ti P Rw hi lm rm) (hk : okT T) : fb_CT l D b yX0_count cX0_count 2 (some .int) 6 141 0 0 [.ref (b + 0), .int (nI 8)] M0 (.returned (some (.int (nI lm)))) (fun M' => M' = M0) := by
  refine fb_start [some (.ref (b + 0)), some (.int (nI 8))] (by decide) (Nat.le_of_ble_eq_true rfl) rfl ?_
  intro x hl hD hb C E hx
  subst hl hD hb
  have C : fb_OK x cX0_count "FallsBetween" "count" := C
  obtain ⟨Tm, Y, Ym, Yi, lo, lom, loi, hX⟩ := h
  have hG := xw_F.rf M0
  obtain ⟨k0, k1, k2, k3, k4, k5, k6, k7, k8⟩ := id hk
  refine gx_iload_n (q := 1) C dX0_count_0 rfl rfl rfl ?_
  refine gx_tableIn (tgt := 106) C dX0_count_1 (by decide) (by decide) (rfl) (by decide) ?_
  refine gx_aload_n (q := 107) C dX0_count_106 rfl rfl rfl ?_
  refine fg_X0_78 (q := 110) C hX.o rfl dX0_count_107 rfl ?_
  exact gx_iret C E dX0_count_110 (rfl) (by omega) (by omega)
set_option maxHeartbeats 800000 in
theorem xa_count_r (l : Launch) (D : va_G) (b : Nat) (M0 : List va_E) {R T Ti P Rw : Nat → Nat} {hi : Bool} {lm rm : Nat} (w : Nat) (h1 : 11 ≤ w) (h2 : w ≤ 16) (h : xw_P D b M0 R T Ti P Rw hi lm rm) (hk : okT T) : fb_CT l D b yX0_count cX0_count 2 (some .int) 6 141 0 0 [.ref (b + 0), .int (nI w)] M0 (.returned (some (.int (nI (R (w - 10)))))) (fun M' => M' = M0) := by
  refine fb_start [some (.ref (b + 0)), some (.int (nI w))] (by decide) (Nat.le_of_ble_eq_true rfl) rfl ?_
  intro x hl hD hb C E hx
  subst hl hD hb
  have C : fb_OK x cX0_count "FallsBetween" "count" := C
  obtain ⟨Tm, Y, Ym, Yi, lo, lom, loi, hX⟩ := h
  have hG := xw_F.rf M0
  obtain ⟨k0, k1, k2, k3, k4, k5, k6, k7, k8⟩ := id hk
  refine gx_iload_n (q := 1) C dX0_count_0 rfl rfl rfl ?_
  refine gx_tableOut (tgt := 111) C dX0_count_1 (Or.inr (by rw [nI_toInt (by omega)]; omega)) (by decide) ?_
  refine gx_iload_n (q := 112) C dX0_count_111 rfl rfl rfl ?_
  refine gx_i2l (q := 113) C dX0_count_112 (rfl) rfl ?_
  refine gx_ldc2 (q := 116) C dX0_count_113 q1107 rfl ?_
  refine gx_ldc2 (q := 119) C dX0_count_116 q1108 rfl ?_
  refine gx_cp (q := 122) C E (sx_X0_13 (As := [_, _, _]) C rfl rfl dX0_count_119) (fx_in_t _ _ _ _ _ _ _ (by rw [l_k11]; exact l_nn h1 (by omega)) (by rw [l_k16]; exact l_nn h2 (by decide))) kw_X0_in (by decide) (Nat.le_of_ble_eq_true rfl) (by omega) (by omega) dX0_count_119 rfl ?_
  refine gb_if_eq (q := 125) (tgt := 137) C dX0_count_122 (by decide) rfl (fun c122 => by exfalso; cases c122) (fun c122 => ?_)
  refine gx_aload_n (q := 126) C dX0_count_125 rfl rfl rfl ?_
  refine fg_X0_69 (q := 129) C hX.o rfl dX0_count_126 rfl ?_
  refine gx_iload_n (q := 130) C dX0_count_129 rfl rfl rfl ?_
  refine gx_bipush (q := 132) (v := nI 10) C dX0_count_130 (by decide) rfl ?_
  refine gn_isub (q := 133) C dX0_count_132 (by omega) rfl ?_
  refine xv_ld_refused (q := 134) C hX (by omega) dX0_count_133 rfl ?_
  refine gx_goto (tgt := 139) C dX0_count_134 (by decide) ?_
  exact gx_iret C E dX0_count_139 (rfl) (by omega) (by omega)
set_option maxHeartbeats 800000 in
theorem xa_count_o (l : Launch) (D : va_G) (b : Nat) (M0 : List va_E) {R T Ti P Rw : Nat → Nat} {hi : Bool} {lm rm : Nat} (w : Int32) (hw : w < 0 ∨ nI 9 ≤ w) (h1 : w < nI 11 ∨ nI 16 < w) (h : xw_P D b M0 R T Ti P Rw hi lm rm) (hk : okT T) : fb_CT l D b yX0_count cX0_count 2 (some .int) 6 141 0 0 [.ref (b + 0), .int w] M0 (.returned (some (.int (-9)))) (fun M' => M' = M0) := by
  refine fb_start [some (.ref (b + 0)), some (.int w)] (by decide) (Nat.le_of_ble_eq_true rfl) rfl ?_
  intro x hl hD hb C E hx
  subst hl hD hb
  have C : fb_OK x cX0_count "FallsBetween" "count" := C
  obtain ⟨Tm, Y, Ym, Yi, lo, lom, loi, hX⟩ := h
  have hG := xw_F.rf M0
  obtain ⟨k0, k1, k2, k3, k4, k5, k6, k7, k8⟩ := id hk
  refine gx_iload_n (q := 1) C dX0_count_0 rfl rfl rfl ?_
  refine gx_tableOut (tgt := 111) C dX0_count_1 (by have := sw_out (by decide) hw; omega) (by decide) ?_
  refine gx_iload_n (q := 112) C dX0_count_111 rfl rfl rfl ?_
  refine gx_i2l (q := 113) C dX0_count_112 (rfl) rfl ?_
  refine gx_ldc2 (q := 116) C dX0_count_113 q1107 rfl ?_
  refine gx_ldc2 (q := 119) C dX0_count_116 q1108 rfl ?_
  refine gx_cp (q := 122) C E (sx_X0_13 (As := [_, _, _]) C rfl rfl dX0_count_119) (fx_in_f _ _ _ _ _ _ _ (by rw [l_k11, l_k16, l_lt, l_lt]; exact h1)) kw_X0_in (by decide) (Nat.le_of_ble_eq_true rfl) (by omega) (by omega) dX0_count_119 rfl ?_
  refine gb_if_eq (q := 125) (tgt := 137) C dX0_count_122 (by decide) rfl (fun c122 => ?_) (fun c122 => by exfalso; cases c122)
  refine gx_bipush (q := 139) (v := -9) C dX0_count_137 (by decide) rfl ?_
  exact gx_iret C E dX0_count_139 (rfl) (by omega) (by omega)
