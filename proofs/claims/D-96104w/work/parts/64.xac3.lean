/-! the component's acts: what would be better -/
set_option maxRecDepth 100000
theorem flp_tr {T U : Nat → Nat} {u v : Nat} (h1 : U 1 = T 1) (hh : ∀ i, 48 ≤ i → i < 84 → U i = T i) (g0 : U (120 + u) = T (120 + v)) (g1 : U (126 + u) = T (126 + v)) (g2 : U (132 + u) = T (132 + v)) (g3 : U (138 + u) = T (138 + v)) (ha : T (126 + v) < 36) (q n : Nat) : flp U u q n = flp T v q n := by
  refine sumN_congr n fun p _ => ?_
  have e0 : st0 U u p = st0 T v p := by unfold st0; rw [g1]
  have e1 : blow U u (st0 T v p) = blow T v (st0 T v p) := by
    unfold blow
    split
    · rfl
    · rw [g0, h1]
  have e2 : ∀ z, z < 36 → roll U u z = roll T v z := by
    intro z hz
    unfold roll
    rw [g0, rol_cg hh hz, rol_cg hh (rol_lt hz 4)]
  have ep : pos U u p = pos T v p := by
    unfold pos
    rw [e0, e1]
    cases hb : blow T v (st0 T v p) with
    | none => rfl
    | some z => exact congrArg some (e2 z (blow_lt (fun w hw => st0_lt ha hw) hb))
  rw [ep]
  unfold amt
  rw [g0, g2, g3]
theorem sumN_skip (f : Nat → Nat) (w : Nat) : ∀ n, w < n → sumN f n = sumN (fun u => f (if u < w then u else u + 1)) (n - 1) + f w := by
  intro n
  induction n with
  | zero => intro h; omega
  | succ n ih =>
    intro h
    rw [sumN_s, Nat.add_sub_cancel]
    by_cases e : w = n
    · subst e
      rw [sumN_congr w (f := f) (g := fun u => f (if u < w then u else u + 1)) fun i hi => by rw [if_pos hi]]
    · rw [ih (by omega)]
      have : n = (n - 1) + 1 := by omega
      rw [show sumN (fun u => f (if u < w then u else u + 1)) n = sumN (fun u => f (if u < w then u else u + 1)) (n - 1) + f n by
        conv => lhs; rw [this]
        rw [sumN_s, if_neg (by omega), ← this]]
      omega
theorem fell_ly {T : Nat → Nat} (hk : okT T) {w : Nat} (hw : w < T 0) (q : Nat) : lyT T q = lyT (fellT T w) q + flp T w q 5 := by
  show lyi T q (T 0) = lyi (fellT T w) q (fellT T w 0) + _
  unfold lyi
  rw [sumN_skip _ w (T 0) hw, fellT_0]
  congr 1
  refine sumN_congr _ fun u hu => ?_
  have h6 := hk.1
  have f0 := fellT_at w u 0 hu h6 (by omega)
  have f1 := fellT_at w u 1 hu h6 (by omega)
  have f2 := fellT_at w u 2 hu h6 (by omega)
  have f3 := fellT_at w u 3 hu h6 (by omega)
  exact (flp_tr (fellT_lo (by omega) (by omega)) (fun i a c => fellT_lo (by omega) (by omega)) (by simpa using f0) (by simpa using f1) (by simpa using f2) (by simpa using f3) (okT_at hk (by split <;> omega)).2.1 q 5).symm
theorem worth_x {T : Nat → Nat} (hk : okT T) {w g : Nat} (hw : w < T 0) : nI (shT T g) - nI (shT (fellT T w) g) = nI (shL T (fun q => flp T w q 5) g 36) := by
  have e := shL_add T (lyT (fellT T w)) (fun q => flp T w q 5) (lyT T) g 36 fun q _ => fell_ly hk hw q
  have e2 : shT (fellT T w) g = shL T (lyT (fellT T w)) g 36 := shL_cg (Nat.le_refl _) (fun q hq => fellT_lo (by omega) (by omega)) (fun q hq => nob_cg (fellT_lo (by omega) (by omega)) (fun i a c => fellT_lo (by omega) (by omega)) (fellT_lo (by omega) (by omega)) hq) (fun _ _ => rfl)
  rw [e2]
  unfold shT
  rw [e, pk_sub (Nat.le_add_right _ _), Nat.add_sub_cancel_left]
set_option maxHeartbeats 800000 in
theorem xa_worthOf (l : Launch) (D : va_G) (b : Nat) (M0 : List va_E) {R T Ti P Rw : Nat → Nat} {hi : Bool} {lm rm : Nat} (t : Nat) (ht : t < T 0) (g : Nat) (hg : g < 4) (h : xw_P D b M0 R T Ti P Rw hi lm rm) (hk : okT T) : fb_CT l D b yX0_worthOf cX0_worthOf 5 (some .int) 6 141 0 0 [.ref (b + 0), .int (nI t), .int (nI g)] M0 (.returned (some (.int (nI (shL T (fun q => flp T t q 5) g 36))))) (fun M' => xw_P D b M' R T Ti P Rw hi lm rm ∧ xw_F M0 M') := by
  refine fb_start [some (.ref (b + 0)), some (.int (nI t)), some (.int (nI g)), none, none] (by decide) (Nat.le_of_ble_eq_true rfl) rfl ?_
  intro x hl hD hb C E hx
  subst hl hD hb
  have C : fb_OK x cX0_worthOf "FallsBetween" "worthOf" := C
  obtain ⟨Tm, Y, Ym, Yi, lo, lom, loi, hX⟩ := h
  have hG := xw_F.rf M0
  obtain ⟨k0, k1, k2, k3, k4, k5, k6, k7, k8⟩ := id hk
  refine gx_aload_n (q := 1) C dX0_worthOf_0 rfl rfl rfl ?_
  refine fg_X0_51 (q := 4) C hX.o rfl dX0_worthOf_1 rfl ?_
  refine gx_cs (q := 7) C E (sx_X0_123 (As := []) C hX.t.o rfl rfl dX0_worthOf_4) (tx_find _ _ _ _ hX.t hk) kw_X1_find (by decide) (Nat.le_of_ble_eq_true rfl) rfl rfl (by omega) (by omega) dX0_worthOf_4 rfl (fun M r4 => ?_)
  obtain ⟨⟨Y, hY, hV1⟩, hF1⟩ := r4
  have hX := hX.u1 hV1 hF1
  have hG := hG.tw hF1 (by decide)
  refine gx_iload_n (q := 8) C dX0_worthOf_7 rfl rfl rfl ?_
  refine gx_cp (q := 11) C E (sx_X0_126 (As := [_]) C hX.t.o rfl rfl dX0_worthOf_8) (tx_share _ _ _ _ g (by omega) hX.t hk) kw_X1_share (by decide) (Nat.le_of_ble_eq_true rfl) (by omega) (by omega) dX0_worthOf_8 rfl ?_
  refine gx_top (show _ = nI (shT T g) by rw [shL_f hY]) ?_
  refine gx_istore_n (q := 12) (lv' := [_, _, _, _, _]) C dX0_worthOf_11 rfl (Nat.le_of_ble_eq_true rfl) E.2.2.2.symm rfl rfl rfl ?_
  refine gx_aload_n (q := 13) C dX0_worthOf_12 rfl rfl rfl ?_
  refine gx_cs (q := 16) C E (sx_X0_112 (As := []) C hX.o rfl rfl dX0_worthOf_13) (xa_openMind _ _ _ _ hX hk) kw_X0_openMind (by decide) (Nat.le_of_ble_eq_true rfl) rfl rfl (by omega) (by omega) dX0_worthOf_13 rfl (fun M r13 => ?_)
  obtain ⟨hV1, hF1⟩ := r13
  have hX := hX.u2 hV1 hF1
  have hG := hG.tw hF1 (by decide)
  refine gx_astore (q := 18) (lv' := [_, _, _, _, _]) C dX0_worthOf_16 (Nat.le_of_ble_eq_true rfl) E.2.2.2.symm rfl rfl rfl ?_
  refine gx_aload (q := 20) C dX0_worthOf_18 rfl rfl ?_
  refine gx_iload_n (q := 21) C dX0_worthOf_20 rfl rfl rfl ?_
  refine gx_cv (q := 24) C E (sx_X0_134 (As := [_]) C hX.m.o rfl rfl dX0_worthOf_21) (tx_removeTree _ _ _ _ t ht hX.m hk) kw_X1_removeTree (by decide) (Nat.le_of_ble_eq_true rfl) rfl rfl (by omega) (by omega) dX0_worthOf_21 rfl (fun M r21 => ?_)
  obtain ⟨hV1, hF1⟩ := r21
  have hX := hX.u2 hV1 hF1
  have hG := hG.tw hF1 (by decide)
  have hkm := fellT_ok hk ht
  refine gx_iload_n (q := 25) C dX0_worthOf_24 rfl rfl rfl ?_
  refine gx_aload (q := 27) C dX0_worthOf_25 rfl rfl ?_
  refine gx_cs (q := 30) C E (sx_X0_123 (As := []) C hX.m.o rfl rfl dX0_worthOf_27) (tx_find _ _ _ _ hX.m hkm) kw_X1_find (by decide) (Nat.le_of_ble_eq_true rfl) rfl rfl (by omega) (by omega) dX0_worthOf_27 rfl (fun M r27 => ?_)
  obtain ⟨⟨Ym, hYm, hV1⟩, hF1⟩ := r27
  have hX := hX.u2 hV1 hF1
  have hG := hG.tw hF1 (by decide)
  refine gx_iload_n (q := 31) C dX0_worthOf_30 rfl rfl rfl ?_
  refine gx_cp (q := 34) C E (sx_X0_126 (As := [_]) C hX.m.o rfl rfl dX0_worthOf_31) (tx_share _ _ _ _ g (by omega) hX.m hkm) kw_X1_share (by decide) (Nat.le_of_ble_eq_true rfl) (by omega) (by omega) dX0_worthOf_31 rfl ?_
  refine gx_top (show _ = nI (shT (fellT T t) g) by rw [shL_f hYm]) ?_
  refine gx_isub (q := 35) C dX0_worthOf_34 rfl rfl ?_
  exact gx_iretE C E (worth_x hk ht) dX0_worthOf_35 (⟨⟨_, _, _, _, _, _, _, hX⟩, hG⟩) (by omega) (by omega)
set_option maxHeartbeats 800000 in
theorem xa_bestGift (l : Launch) (D : va_G) (b : Nat) (M0 : List va_E) {R T Ti P Rw : Nat → Nat} {hi : Bool} {lm rm : Nat}  (h : xw_P D b M0 R T Ti P Rw hi lm rm) (hk : okT T) : fb_CT l D b yX0_bestGift cX0_bestGift 8 (some .int) 6 140 0 0 [.ref (b + 0)] M0 (.returned (some (.int (gvE (mnS (bdL T (lyT T) 36) (givV T) 144).1)))) (fun M' => xw_P D b M' R T Ti P Rw hi lm rm ∧ xw_F M0 M') := by
  refine fb_start [some (.ref (b + 0)), none, none, none, none, none, none, none] (by decide) (Nat.le_of_ble_eq_true rfl) rfl ?_
  intro x hl hD hb C E hx
  subst hl hD hb
  have C : fb_OK x cX0_bestGift "FallsBetween" "bestGift" := C
  obtain ⟨Tm, Y, Ym, Yi, lo, lom, loi, hX⟩ := h
  have hG := xw_F.rf M0
  obtain ⟨k0, k1, k2, k3, k4, k5, k6, k7, k8⟩ := id hk
  have hb0 := bdT_le hk
  refine gx_bipush (q := 2) (v := gvE none) C dX0_bestGift_0 (rfl) rfl ?_
  refine gx_istore_n (q := 3) (lv' := [_, _, _, _, _, _, _, _]) C dX0_bestGift_2 rfl (Nat.le_of_ble_eq_true rfl) E.2.2.2.symm rfl rfl rfl ?_
  refine gx_aload_n (q := 4) C dX0_bestGift_3 rfl rfl rfl ?_
  refine fg_X0_51 (q := 7) C hX.o rfl dX0_bestGift_4 rfl ?_
  refine gx_cs (q := 10) C E (sx_X0_123 (As := []) C hX.t.o rfl rfl dX0_bestGift_7) (tx_find _ _ _ _ hX.t hk) kw_X1_find (by decide) (Nat.le_of_ble_eq_true rfl) rfl rfl (by omega) (by omega) dX0_bestGift_7 rfl (fun M r7 => ?_)
  obtain ⟨⟨Y, hY, hV1⟩, hF1⟩ := r7
  have hX := hX.u1 hV1 hF1
  have hG := hG.tw hF1 (by decide)
  refine gx_cp (q := 13) C E (sx_X0_137 (As := []) C hX.t.o rfl rfl dX0_bestGift_10) (tx_birds _ _ _ _ hX.t hk) kw_X1_birds (by decide) (Nat.le_of_ble_eq_true rfl) (by omega) (by omega) dX0_bestGift_10 rfl ?_
  refine gx_top (show _ = nI (bdL T (lyT T) 36) by rw [bdL_f hY]) ?_
  refine gx_istore_n (q := 14) (lv' := [_, _, _, _, _, _, _, _]) C dX0_bestGift_13 rfl (Nat.le_of_ble_eq_true rfl) E.2.2.2.symm rfl rfl rfl ?_
  refine gx_aload_n (q := 15) C dX0_bestGift_14 rfl rfl rfl ?_
  refine gx_cs (q := 18) C E (sx_X0_112 (As := []) C hX.o rfl rfl dX0_bestGift_15) (xa_openMind _ _ _ _ hX hk) kw_X0_openMind (by decide) (Nat.le_of_ble_eq_true rfl) rfl rfl (by omega) (by omega) dX0_bestGift_15 rfl (fun M r15 => ?_)
  obtain ⟨hV1, hF1⟩ := r15
  have hX := hX.u2 hV1 hF1
  have hG := hG.tw hF1 (by decide)
  refine gx_cs (q := 21) C E (sx_X0_123 (As := []) C hX.m.o rfl rfl dX0_bestGift_18) (tx_find _ _ _ _ hX.m hk) kw_X1_find (by decide) (Nat.le_of_ble_eq_true rfl) rfl rfl (by omega) (by omega) dX0_bestGift_18 rfl (fun M r18 => ?_)
  obtain ⟨⟨Ym, hYm, hV1⟩, hF1⟩ := r18
  have hX := hX.u2 hV1 hF1
  have hG := hG.tw hF1 (by decide)
  refine gx_astore_n (q := 22) (lv' := [_, _, _, _, _, _, _, _]) C dX0_bestGift_21 rfl (Nat.le_of_ble_eq_true rfl) E.2.2.2.symm rfl rfl rfl ?_
  refine gx_iconst (q := 23) (v := nI 0) C dX0_bestGift_22 (by decide) rfl ?_
  refine gx_istore (q := 25) (lv' := [_, _, _, _, _, _, _, _]) C dX0_bestGift_23 (Nat.le_of_ble_eq_true rfl) E.2.2.2.symm rfl rfl rfl ?_
  have Lq : ∀ q, q ≤ 36 → ∀ (M : List va_E), xw_V (cx_D x) (cx_b x) M T T Ti Y Ym Yi (lsi T (T 0)) (lsi T (T 0)) loi hi Rw rm P lm R → xw_F M0 M → fb_G x M 0 0 25 [some (.ref (cx_b x + 0)), some (.int (gvE (mnS (bdL T (lyT T) 36) (givV T) (4 * q)).1)), some (.int (nI (mnS (bdL T (lyT T) 36) (givV T) (4 * q)).2)), some (.ref (cx_b x + 14)), some (.int (nI q)), none, none, none] [] := by
    refine fb_dn 36 ?_ ?_
    · intro M hX hG
      refine gx_iload (q := 27) C dX0_bestGift_25 rfl rfl ?_
      refine gx_bipush (q := 29) (v := nI 36) C dX0_bestGift_27 (by decide) rfl ?_
      refine gn_icmp_ge (q := 32) (tgt := 112) C dX0_bestGift_29 (by decide) rfl (by omega) (by omega) (fun c29 => ?_) (fun c29 => by exfalso; omega)
      refine gx_iload_n (q := 113) C dX0_bestGift_112 rfl rfl rfl ?_
      exact gx_iret C E dX0_bestGift_113 (⟨⟨_, _, _, _, _, _, _, hX⟩, hG⟩) (by omega) (by omega)
    · intro q hq ihq M hX hG
      rw [Nat.mul_add, Nat.mul_one] at ihq
      refine gx_iload (q := 27) C dX0_bestGift_25 rfl rfl ?_
      refine gx_bipush (q := 29) (v := nI 36) C dX0_bestGift_27 (by decide) rfl ?_
      refine gn_icmp_ge (q := 32) (tgt := 112) C dX0_bestGift_29 (by decide) rfl (by omega) (by omega) (fun c29 => by exfalso; omega) (fun c29 => ?_)
      refine gx_aload_n (q := 33) C dX0_bestGift_32 rfl rfl rfl ?_
      refine fg_X0_141 (q := 36) C hX.m.o rfl dX0_bestGift_33 rfl ?_
      refine gx_iload (q := 38) C dX0_bestGift_36 rfl rfl ?_
      refine tv_ld_gardens (q := 39) C hX.m (by omega) dX0_bestGift_38 rfl ?_
      refine gx_istore (q := 41) (lv' := [_, _, _, _, _, _, _, _]) C dX0_bestGift_39 (Nat.le_of_ble_eq_true rfl) E.2.2.2.symm rfl rfl rfl ?_
      refine gx_iconst (q := 42) (v := nI 0) C dX0_bestGift_41 (by decide) rfl ?_
      refine gx_istore (q := 44) (lv' := [_, _, _, _, _, _, _, _]) C dX0_bestGift_42 (Nat.le_of_ble_eq_true rfl) E.2.2.2.symm rfl rfl rfl ?_
      have Lg : ∀ g, g ≤ 4 → ∀ (M : List va_E) (c : Nat), xw_V (cx_D x) (cx_b x) M T (updN T (12 + q) c) Ti Y Ym Yi (lsi T (T 0)) (lsi T (T 0)) loi hi Rw rm P lm R → xw_F M0 M → fb_G x M 0 0 44 [some (.ref (cx_b x + 0)), some (.int (gvE (mnS (bdL T (lyT T) 36) (givV T) (4 * q + g)).1)), some (.int (nI (mnS (bdL T (lyT T) 36) (givV T) (4 * q + g)).2)), some (.ref (cx_b x + 14)), some (.int (nI q)), some (.int (nI (T (12 + q)))), some (.int (nI g)), none] [] := by
        refine fb_dn 4 ?_ ?_
        · intro M c hX hG
          refine gx_iload (q := 46) C dX0_bestGift_44 rfl rfl ?_
          refine gx_iconst (q := 47) (v := nI 4) C dX0_bestGift_46 (by decide) rfl ?_
          refine gn_icmp_ge (q := 50) (tgt := 97) C dX0_bestGift_47 (by decide) rfl (by omega) (by omega) (fun c47 => ?_) (fun c47 => by exfalso; omega)
          refine gx_aload_n (q := 98) C dX0_bestGift_97 rfl rfl rfl ?_
          refine fg_X0_141 (q := 101) C hX.m.o rfl dX0_bestGift_98 rfl ?_
          refine gx_iload (q := 103) C dX0_bestGift_101 rfl rfl ?_
          refine gx_iload (q := 105) C dX0_bestGift_103 rfl rfl ?_
          refine tv_st_gardens (q := 106) C hX.m (tw_F.rf _ _) (by omega) dX0_bestGift_105 rfl (fun M hV1 hF1 => ?_)
          have hX := hX.u2 hV1 hF1
          have hG := hG.tw hF1 (by decide)
          rw [updN_u, updN_r] at hX
          refine gn_inc (q := 109) (lv' := [_, _, _, _, _, _, _, _]) C dX0_bestGift_106 rfl E.2.2.2.symm rfl rfl rfl ?_
          refine gx_goto (tgt := 25) C dX0_bestGift_109 (by decide) ?_
          refine gx_drop 5 ?_
          refine gx_drop 6 ?_
          exact ihq M hX hG
        · intro g hg ih M c hX hG
          rw [← Nat.add_assoc] at ih
          have hv := givV_le hk (4 * q + g)
          have hm := mnS_b (i := bdL T (lyT T) 36) (v := givV T) (4 * q + g)
          have hkn : okT (updN T (12 + q) g) := okT_up hk (by omega)
          have e0 : updN T (12 + q) g 0 = T 0 := updN_n _ (by omega)
          refine gx_iload (q := 46) C dX0_bestGift_44 rfl rfl ?_
          refine gx_iconst (q := 47) (v := nI 4) C dX0_bestGift_46 (by decide) rfl ?_
          refine gn_icmp_ge (q := 50) (tgt := 97) C dX0_bestGift_47 (by decide) rfl (by omega) (by omega) (fun c47 => by exfalso; omega) (fun c47 => ?_)
          refine gx_aload_n (q := 51) C dX0_bestGift_50 rfl rfl rfl ?_
          refine fg_X0_141 (q := 54) C hX.m.o rfl dX0_bestGift_51 rfl ?_
          refine gx_iload (q := 56) C dX0_bestGift_54 rfl rfl ?_
          refine gx_iload (q := 58) C dX0_bestGift_56 rfl rfl ?_
          refine tv_st_gardens (q := 59) C hX.m (tw_F.rf _ _) (by omega) dX0_bestGift_58 rfl (fun M hV1 hF1 => ?_)
          have hX := hX.u2 hV1 hF1
          have hG := hG.tw hF1 (by decide)
          rw [updN_u] at hX
          refine gx_aload_n (q := 60) C dX0_bestGift_59 rfl rfl rfl ?_
          refine gx_cp (q := 63) C E (sx_X0_137 (As := []) C hX.m.o rfl rfl dX0_bestGift_60) (tx_birds _ _ _ _ hX.m hkn) kw_X1_birds (by decide) (Nat.le_of_ble_eq_true rfl) (by omega) (by omega) dX0_bestGift_60 rfl ?_
          refine gx_top (show _ = nI (givV T (4 * q + g)) by rw [givV_at T hg]; exact congrArg nI (bdL_cg (fun _ _ => rfl) (fun z hz => lyY_g hYm e0 hz))) ?_
          refine gx_istore (q := 65) (lv' := [_, _, _, _, _, _, _, _]) C dX0_bestGift_63 (Nat.le_of_ble_eq_true rfl) E.2.2.2.symm rfl rfl rfl ?_
          refine gx_iload (q := 67) C dX0_bestGift_65 rfl rfl ?_
          refine gx_iload_n (q := 68) C dX0_bestGift_67 rfl rfl rfl ?_
          refine gn_icmp_ge (q := 71) (tgt := 82) C dX0_bestGift_68 (by decide) rfl (by omega) (by omega) (fun c68 => ?_) (fun c68 => ?_)
          · rw [mnS_f c68] at ih
            have hmn : min (mnS (bdL T (lyT T) 36) (givV T) (4 * q + g)).2 (givV T (4 * q + g)) = (mnS (bdL T (lyT T) 36) (givV T) (4 * q + g)).2 := Nat.min_eq_left c68
            refine gx_iload_n (q := 83) C dX0_bestGift_82 rfl rfl rfl ?_
            refine gx_istore_n (q := 84) (lv' := [_, _, _, _, _, _, _, _]) C dX0_bestGift_83 rfl (Nat.le_of_ble_eq_true rfl) E.2.2.2.symm rfl rfl rfl ?_
            refine gx_iload_n (q := 85) C dX0_bestGift_84 rfl rfl rfl ?_
            refine gx_iload (q := 87) C dX0_bestGift_85 rfl rfl ?_
            refine gm_min (q := 90) (by omega) (by omega) C E q885 (by decide) (Nat.le_of_ble_eq_true rfl) (by omega) (by omega) dX0_bestGift_87 rfl ?_
            rw [hmn]
            refine gx_istore_n (q := 91) (lv' := [_, _, _, _, _, _, _, _]) C dX0_bestGift_90 rfl (Nat.le_of_ble_eq_true rfl) E.2.2.2.symm rfl rfl rfl ?_
            refine gn_inc (q := 94) (lv' := [_, _, _, _, _, _, _, _]) C dX0_bestGift_91 rfl E.2.2.2.symm rfl rfl rfl ?_
            refine gx_goto (tgt := 44) C dX0_bestGift_94 (by decide) ?_
            refine gx_drop 7 ?_
            exact ih M g hX hG
          · rw [mnS_t (by omega)] at ih
            have hmn : min (mnS (bdL T (lyT T) 36) (givV T) (4 * q + g)).2 (givV T (4 * q + g)) = givV T (4 * q + g) := Nat.min_eq_right (by omega)
            refine gx_bipush (q := 73) (v := nI 10) C dX0_bestGift_71 (by decide) rfl ?_
            refine gx_iload (q := 75) C dX0_bestGift_73 rfl rfl ?_
            refine gn_imul (q := 76) C dX0_bestGift_75 rfl ?_
            refine gx_iload (q := 78) C dX0_bestGift_76 rfl rfl ?_
            refine gn_iadd (q := 79) C dX0_bestGift_78 rfl ?_
            refine gx_top (gvE_s q hg) ?_
            refine gx_goto (tgt := 83) C dX0_bestGift_79 (by decide) ?_
            refine gx_istore_n (q := 84) (lv' := [_, _, _, _, _, _, _, _]) C dX0_bestGift_83 rfl (Nat.le_of_ble_eq_true rfl) E.2.2.2.symm rfl rfl rfl ?_
            refine gx_iload_n (q := 85) C dX0_bestGift_84 rfl rfl rfl ?_
            refine gx_iload (q := 87) C dX0_bestGift_85 rfl rfl ?_
            refine gm_min (q := 90) (by omega) (by omega) C E q885 (by decide) (Nat.le_of_ble_eq_true rfl) (by omega) (by omega) dX0_bestGift_87 rfl ?_
            rw [hmn]
            refine gx_istore_n (q := 91) (lv' := [_, _, _, _, _, _, _, _]) C dX0_bestGift_90 rfl (Nat.le_of_ble_eq_true rfl) E.2.2.2.symm rfl rfl rfl ?_
            refine gn_inc (q := 94) (lv' := [_, _, _, _, _, _, _, _]) C dX0_bestGift_91 rfl E.2.2.2.symm rfl rfl rfl ?_
            refine gx_goto (tgt := 44) C dX0_bestGift_94 (by decide) ?_
            refine gx_drop 7 ?_
            exact ih M g hX hG
      exact Lg 0 (by omega) M (T (12 + q)) (by rw [updN_r]; exact hX) hG
  exact Lq 0 (by omega) M hX hG
theorem fsS_c {v : Nat → Nat} {c n : Nat} : 0 < n → fsS ltB (fun i => v i + c) n = ((fsS ltB v n).1, (fsS ltB v n).2 + c) := by
  induction n with
  | zero => intro h; omega
  | succ n ih =>
    intro _
    rcases Nat.eq_zero_or_pos n with h0 | h0
    · subst h0; rfl
    · have ih := ih h0
      by_cases h : v n < (fsS ltB v n).2
      · rw [fsS_t (Or.inr (by rw [ih]; exact ltB_t (by simp; omega))), fsS_t (Or.inr (ltB_t h))]
      · rw [fsS_f (by rw [ih]; exact ltB_f (by omega) (by simp; omega)), fsS_f (ltB_f (by omega) (by omega)), ih]
theorem fsS_c0 {v : Nat → Nat} {c n : Nat} (h : 0 < n) : (fsS ltB (fun i => v i + c) n).1 = (fsS ltB v n).1 := by rw [fsS_c h]
set_option maxHeartbeats 800000 in
theorem xa_cleanest (l : Launch) (D : va_G) (b : Nat) (M0 : List va_E) {R T Ti P Rw : Nat → Nat} {hi : Bool} {lm rm : Nat}  (h : xw_P D b M0 R T Ti P Rw hi lm rm) (hk : okT T) : fb_CT l D b yX0_cleanest cX0_cleanest 6 (some .int) 6 140 0 0 [.ref (b + 0)] M0 (.returned (some (.int (nI (fsS ltB (claV T) 5).1)))) (fun M' => xw_P D b M' R T Ti P Rw hi lm rm ∧ xw_F M0 M') := by
  refine fb_start [some (.ref (b + 0)), none, none, none, none, none] (by decide) (Nat.le_of_ble_eq_true rfl) rfl ?_
  intro x hl hD hb C E hx
  subst hl hD hb
  have C : fb_OK x cX0_cleanest "FallsBetween" "cleanest" := C
  obtain ⟨Tm, Y, Ym, Yi, lo, lom, loi, hX⟩ := h
  have hG := xw_F.rf M0
  obtain ⟨k0, k1, k2, k3, k4, k5, k6, k7, k8⟩ := id hk
  have hls := lsi_le (T := T) (n := T 0) (fun t ht => (k8 t ht).2.2.2.1)
  have hls2 : T 0 * 600 ≤ 3600 := by omega
  refine gx_iconst (q := 1) (v := nI 0) C dX0_cleanest_0 (by decide) rfl ?_
  refine gx_istore_n (q := 2) (lv' := [_, _, _, _, _, _]) C dX0_cleanest_1 rfl (Nat.le_of_ble_eq_true rfl) E.2.2.2.symm rfl rfl rfl ?_
  refine gx_iconst (q := 3) (v := nI 0) C dX0_cleanest_2 (by decide) rfl ?_
  refine gx_istore_n (q := 4) (lv' := [_, _, _, _, _, _]) C dX0_cleanest_3 rfl (Nat.le_of_ble_eq_true rfl) E.2.2.2.symm rfl rfl rfl ?_
  refine gx_aload_n (q := 5) C dX0_cleanest_4 rfl rfl rfl ?_
  refine gx_cs (q := 8) C E (sx_X0_112 (As := []) C hX.o rfl rfl dX0_cleanest_5) (xa_openMind _ _ _ _ hX hk) kw_X0_openMind (by decide) (Nat.le_of_ble_eq_true rfl) rfl rfl (by omega) (by omega) dX0_cleanest_5 rfl (fun M r5 => ?_)
  obtain ⟨hV1, hF1⟩ := r5
  have hX := hX.u2 hV1 hF1
  have hG := hG.tw hF1 (by decide)
  refine gx_cs (q := 11) C E (sx_X0_123 (As := []) C hX.m.o rfl rfl dX0_cleanest_8) (tx_find _ _ _ _ hX.m hk) kw_X1_find (by decide) (Nat.le_of_ble_eq_true rfl) rfl rfl (by omega) (by omega) dX0_cleanest_8 rfl (fun M r8 => ?_)
  obtain ⟨⟨Ym, hYm, hV1⟩, hF1⟩ := r8
  have hX := hX.u2 hV1 hF1
  have hG := hG.tw hF1 (by decide)
  refine gx_astore_n (q := 12) (lv' := [_, _, _, _, _, _]) C dX0_cleanest_11 rfl (Nat.le_of_ble_eq_true rfl) E.2.2.2.symm rfl rfl rfl ?_
  refine gx_iconst (q := 13) (v := nI 0) C dX0_cleanest_12 (by decide) rfl ?_
  refine gx_istore (q := 15) (lv' := [_, _, _, _, _, _]) C dX0_cleanest_13 (Nat.le_of_ble_eq_true rfl) E.2.2.2.symm rfl rfl rfl ?_
  have Lc : ∀ n, n ≤ 5 → ∀ (M : List va_E) (c : Nat), xw_V (cx_D x) (cx_b x) M T (updN T 2 c) Ti Y Ym Yi lo (lsi T (T 0)) loi hi Rw rm P lm R → xw_F M0 M → fb_G x M 0 0 15 [some (.ref (cx_b x + 0)), some (.int (nI (fsS ltB (fun i => claV T i + lsi T (T 0)) n).1)), some (.int (nI (fsS ltB (fun i => claV T i + lsi T (T 0)) n).2)), some (.ref (cx_b x + 14)), some (.int (nI n)), none] [] := by
    refine fb_dn 5 ?_ ?_
    · intro M c hX hG
      obtain ⟨flw, hlw, _⟩ := hX.m.law
      refine gx_iload (q := 17) C dX0_cleanest_15 rfl rfl ?_
      refine gx_aload_n (q := 18) C dX0_cleanest_17 rfl rfl rfl ?_
      refine fg_X0_147 (q := 21) C hX.m.o rfl dX0_cleanest_18 rfl ?_
      refine gx_alen (q := 22) (t0 := 4) C hlw rfl rfl dX0_cleanest_21 rfl ?_
      refine gn_icmp_ge (q := 25) (tgt := 83) C dX0_cleanest_22 (by decide) rfl (by omega) (by omega) (fun c22 => ?_) (fun c22 => by exfalso; omega)
      refine gx_iload_n (q := 84) C dX0_cleanest_83 rfl rfl rfl ?_
      exact gx_iretE C E (by rw [fsS_c0 (by decide)]) dX0_cleanest_84 (⟨⟨_, _, _, _, _, _, _, hX⟩, hG⟩) (by omega) (by omega)
    · intro n hn ih M c hX hG
      obtain ⟨flw, hlw, _⟩ := hX.m.law
      have hv : (fun i => claV T i + lsi T (T 0)) n ≤ 200000 := by have := claV_le hk n; simp only []; omega
      have hm := fsS_b (c := ltB) (v := (fun i => claV T i + lsi T (T 0))) (m := 200000) n (fun i _ => by have := claV_le hk i; show claV T i + lsi T (T 0) ≤ 200000; omega)
      have hkn : okT (updN T 2 n) := okT_up hk (by omega)
      have e0 : updN T 2 n 0 = T 0 := updN_n _ (by omega)
      refine gx_iload (q := 17) C dX0_cleanest_15 rfl rfl ?_
      refine gx_aload_n (q := 18) C dX0_cleanest_17 rfl rfl rfl ?_
      refine fg_X0_147 (q := 21) C hX.m.o rfl dX0_cleanest_18 rfl ?_
      refine gx_alen (q := 22) (t0 := 4) C hlw rfl rfl dX0_cleanest_21 rfl ?_
      refine gn_icmp_ge (q := 25) (tgt := 83) C dX0_cleanest_22 (by decide) rfl (by omega) (by omega) (fun c22 => by exfalso; omega) (fun c22 => ?_)
      refine gx_aload_n (q := 26) C dX0_cleanest_25 rfl rfl rfl ?_
      refine gx_iload (q := 28) C dX0_cleanest_26 rfl rfl ?_
      refine tv_pf_X0_law (q := 31) C hX.m (tw_F.rf _ _) dX0_cleanest_28 rfl (fun M hV1 hF1 => ?_)
      have hX := hX.u2 hV1 hF1
      have hG := hG.tw hF1 (by decide)
      rw [updN_u] at hX
      refine gx_aload_n (q := 32) C dX0_cleanest_31 rfl rfl rfl ?_
      refine gx_cp (q := 35) C E (sx_X0_137 (As := []) C hX.m.o rfl rfl dX0_cleanest_32) (tx_birds _ _ _ _ hX.m hkn) kw_X1_birds (by decide) (Nat.le_of_ble_eq_true rfl) (by omega) (by omega) dX0_cleanest_32 rfl ?_
      refine gx_top (show _ = nI (claV T n) from congrArg nI (bdL_cg (fun _ _ => rfl) (fun z hz => lyY_g hYm e0 hz))) ?_
      refine gx_aload_n (q := 36) C dX0_cleanest_35 rfl rfl rfl ?_
      refine fg_X0_154 (q := 39) C hX.m.o rfl dX0_cleanest_36 rfl ?_
      refine gn_iadd (q := 40) C dX0_cleanest_39 rfl ?_
      refine gx_top (show _ = nI ((fun i => claV T i + lsi T (T 0)) n) from rfl) ?_
      refine gx_istore (q := 42) (lv' := [_, _, _, _, _, _]) C dX0_cleanest_40 (Nat.le_of_ble_eq_true rfl) E.2.2.2.symm rfl rfl rfl ?_
      refine gx_iload (q := 44) C dX0_cleanest_42 rfl rfl ?_
      refine gn_if_eq (q := 47) (tgt := 53) C dX0_cleanest_44 (by decide) rfl (by omega) (fun c44 => ?_) (fun c44 => ?_)
      · rw [fsS_t (Or.inl c44)] at ih
        refine gx_iload (q := 55) C dX0_cleanest_53 rfl rfl ?_
        refine gx_goto (tgt := 59) C dX0_cleanest_55 (by decide) ?_
        refine gx_istore_n (q := 60) (lv' := [_, _, _, _, _, _]) C dX0_cleanest_59 rfl (Nat.le_of_ble_eq_true rfl) E.2.2.2.symm rfl rfl rfl ?_
        refine gx_iload (q := 62) C dX0_cleanest_60 rfl rfl ?_
        refine gn_if_ne (q := 65) (tgt := 70) C dX0_cleanest_62 (by decide) rfl (by omega) (fun c62 => by exfalso; omega) (fun c62 => ?_)
        refine gx_iload (q := 67) C dX0_cleanest_65 rfl rfl ?_
        refine gx_goto (tgt := 76) C dX0_cleanest_67 (by decide) ?_
        refine gx_istore_n (q := 77) (lv' := [_, _, _, _, _, _]) C dX0_cleanest_76 rfl (Nat.le_of_ble_eq_true rfl) E.2.2.2.symm rfl rfl rfl ?_
        refine gn_inc (q := 80) (lv' := [_, _, _, _, _, _]) C dX0_cleanest_77 rfl E.2.2.2.symm rfl rfl rfl ?_
        refine gx_goto (tgt := 15) C dX0_cleanest_80 (by decide) ?_
        refine gx_drop 5 ?_
        exact ih M n hX hG
      · refine gx_iload (q := 49) C dX0_cleanest_47 rfl rfl ?_
        refine gx_iload_n (q := 50) C dX0_cleanest_49 rfl rfl rfl ?_
        refine gn_icmp_ge (q := 53) (tgt := 58) C dX0_cleanest_50 (by decide) rfl (by omega) (by omega) (fun c50 => ?_) (fun c50 => ?_)
        · rw [fsS_f (ltB_f (by omega) c50)] at ih
          have hmn : min (fsS ltB (fun i => claV T i + lsi T (T 0)) n).2 ((fun i => claV T i + lsi T (T 0)) n) = (fsS ltB (fun i => claV T i + lsi T (T 0)) n).2 := Nat.min_eq_left c50
          refine gx_iload_n (q := 59) C dX0_cleanest_58 rfl rfl rfl ?_
          refine gx_istore_n (q := 60) (lv' := [_, _, _, _, _, _]) C dX0_cleanest_59 rfl (Nat.le_of_ble_eq_true rfl) E.2.2.2.symm rfl rfl rfl ?_
          refine gx_iload (q := 62) C dX0_cleanest_60 rfl rfl ?_
          refine gn_if_ne (q := 65) (tgt := 70) C dX0_cleanest_62 (by decide) rfl (by omega) (fun c62 => ?_) (fun c62 => by exfalso; omega)
          refine gx_iload_n (q := 71) C dX0_cleanest_70 rfl rfl rfl ?_
          refine gx_iload (q := 73) C dX0_cleanest_71 rfl rfl ?_
          refine gm_min (q := 76) (by omega) (by omega) C E q885 (by decide) (Nat.le_of_ble_eq_true rfl) (by omega) (by omega) dX0_cleanest_73 rfl ?_
          rw [hmn]
          refine gx_istore_n (q := 77) (lv' := [_, _, _, _, _, _]) C dX0_cleanest_76 rfl (Nat.le_of_ble_eq_true rfl) E.2.2.2.symm rfl rfl rfl ?_
          refine gn_inc (q := 80) (lv' := [_, _, _, _, _, _]) C dX0_cleanest_77 rfl E.2.2.2.symm rfl rfl rfl ?_
          refine gx_goto (tgt := 15) C dX0_cleanest_80 (by decide) ?_
          refine gx_drop 5 ?_
          exact ih M n hX hG
        · rw [fsS_t (Or.inr (ltB_t (by omega)))] at ih
          have hmn : min (fsS ltB (fun i => claV T i + lsi T (T 0)) n).2 ((fun i => claV T i + lsi T (T 0)) n) = (fun i => claV T i + lsi T (T 0)) n := Nat.min_eq_right (by omega)
          refine gx_iload (q := 55) C dX0_cleanest_53 rfl rfl ?_
          refine gx_goto (tgt := 59) C dX0_cleanest_55 (by decide) ?_
          refine gx_istore_n (q := 60) (lv' := [_, _, _, _, _, _]) C dX0_cleanest_59 rfl (Nat.le_of_ble_eq_true rfl) E.2.2.2.symm rfl rfl rfl ?_
          refine gx_iload (q := 62) C dX0_cleanest_60 rfl rfl ?_
          refine gn_if_ne (q := 65) (tgt := 70) C dX0_cleanest_62 (by decide) rfl (by omega) (fun c62 => ?_) (fun c62 => by exfalso; omega)
          refine gx_iload_n (q := 71) C dX0_cleanest_70 rfl rfl rfl ?_
          refine gx_iload (q := 73) C dX0_cleanest_71 rfl rfl ?_
          refine gm_min (q := 76) (by omega) (by omega) C E q885 (by decide) (Nat.le_of_ble_eq_true rfl) (by omega) (by omega) dX0_cleanest_73 rfl ?_
          rw [hmn]
          refine gx_istore_n (q := 77) (lv' := [_, _, _, _, _, _]) C dX0_cleanest_76 rfl (Nat.le_of_ble_eq_true rfl) E.2.2.2.symm rfl rfl rfl ?_
          refine gn_inc (q := 80) (lv' := [_, _, _, _, _, _]) C dX0_cleanest_77 rfl E.2.2.2.symm rfl rfl rfl ?_
          refine gx_goto (tgt := 15) C dX0_cleanest_80 (by decide) ?_
          refine gx_drop 5 ?_
          exact ih M n hX hG
  exact Lc 0 (by omega) M (T 2) (by rw [updN_r]; exact hX) hG
