/-! the component's acts: changes, what falls -/
set_option maxRecDepth 100000
set_option maxHeartbeats 800000 in
theorem xa_gardenTold_b1 (l : Launch) (D : va_G) (b : Nat) (M0 : List va_E) {R T Ti P Rw : Nat → Nat} {hi : Bool} {lm rm : Nat} (v : Int32) (hb : v < 0 ∨ nI 36 ≤ v) (w : Int32) (h : xw_P D b M0 R T Ti P Rw hi lm rm) (hk : okT T) : fb_CT l D b yX0_gardenTold cX0_gardenTold 4 (some .int) 10 170 1 7 [.ref (b + 0), .int v, .int w] M0 (.threw (b + M0.length)) (ex_R b M0 9 (-1)) := by
  refine fb_start [some (.ref (b + 0)), some (.int v), some (.int w), none] (by decide) (Nat.le_of_ble_eq_true rfl) rfl ?_
  intro x hl hD hb C E hx
  subst hl hD hb
  have C : fb_OK x cX0_gardenTold "FallsBetween" "gardenTold" := C
  obtain ⟨Tm, Y, Ym, Yi, lo, lom, loi, hX⟩ := h
  have hG := xw_F.rf M0
  obtain ⟨k0, k1, k2, k3, k4, k5, k6, k7, k8⟩ := id hk
  refine gx_iload_n (q := 1) C dX0_gardenTold_0 rfl rfl rfl ?_
  exact gx_ct C E hx (sx_X0_224 (As := [_]) C rfl rfl dX0_gardenTold_1) (fx_mustBeSquare_b _ _ _ _ v hb) kw_X0_mustBeSquare (by decide) (Nat.le_of_ble_eq_true rfl) (by omega) (by omega) dX0_gardenTold_1 (fun _ h => h)
set_option maxHeartbeats 800000 in
theorem xa_gardenTold_b2 (l : Launch) (D : va_G) (b : Nat) (M0 : List va_E) {R T Ti P Rw : Nat → Nat} {hi : Bool} {lm rm : Nat} (q : Nat) (hq : q < 36) (v : Int32) (hb : v < 0 ∨ nI 4 ≤ v) (h : xw_P D b M0 R T Ti P Rw hi lm rm) (hk : okT T) : fb_CT l D b yX0_gardenTold cX0_gardenTold 4 (some .int) 10 170 1 7 [.ref (b + 0), .int (nI q), .int v] M0 (.threw (b + M0.length)) (ex_R b M0 9 (-1)) := by
  refine fb_start [some (.ref (b + 0)), some (.int (nI q)), some (.int v), none] (by decide) (Nat.le_of_ble_eq_true rfl) rfl ?_
  intro x hl hD hb C E hx
  subst hl hD hb
  have C : fb_OK x cX0_gardenTold "FallsBetween" "gardenTold" := C
  obtain ⟨Tm, Y, Ym, Yi, lo, lom, loi, hX⟩ := h
  have hG := xw_F.rf M0
  obtain ⟨k0, k1, k2, k3, k4, k5, k6, k7, k8⟩ := id hk
  refine gx_iload_n (q := 1) C dX0_gardenTold_0 rfl rfl rfl ?_
  refine gx_cv (q := 4) C E (sx_X0_224 (As := [_]) C rfl rfl dX0_gardenTold_1) (fx_mustBeSquare_o _ _ _ _ q hq) kw_X0_mustBeSquare (by decide) (Nat.le_of_ble_eq_true rfl) rfl rfl (by omega) (by omega) dX0_gardenTold_1 rfl (fun Mv rv => ?_)
  rw [rv]
  refine gx_iload_n (q := 5) C dX0_gardenTold_4 rfl rfl rfl ?_
  exact gx_ct C E hx (sx_X0_249 (As := [_]) C rfl rfl dX0_gardenTold_5) (fx_mustBeGarden_b _ _ _ _ v hb) kw_X0_mustBeGarden (by decide) (Nat.le_of_ble_eq_true rfl) (by omega) (by omega) dX0_gardenTold_5 (fun _ h => h)
set_option maxHeartbeats 800000 in
theorem xa_gardenTold_o (l : Launch) (D : va_G) (b : Nat) (M0 : List va_E) {R T Ti P Rw : Nat → Nat} {hi : Bool} {lm rm : Nat} (q : Nat) (hq : q < 36) (g : Nat) (hg : g < 4) (h : xw_P D b M0 R T Ti P Rw hi lm rm) (hk : okT T) : fb_CT l D b yX0_gardenTold cX0_gardenTold 4 (some .int) 10 170 0 0 [.ref (b + 0), .int (nI q), .int (nI g)] M0 (.returned (some (.int (nI (T (12 + q)))))) (fun M' => xw_P D b M' R (updN T (12 + q) g) Ti P Rw hi lm rm ∧ xw_F M0 M') := by
  refine fb_start [some (.ref (b + 0)), some (.int (nI q)), some (.int (nI g)), none] (by decide) (Nat.le_of_ble_eq_true rfl) rfl ?_
  intro x hl hD hb C E hx
  subst hl hD hb
  have C : fb_OK x cX0_gardenTold "FallsBetween" "gardenTold" := C
  obtain ⟨Tm, Y, Ym, Yi, lo, lom, loi, hX⟩ := h
  have hG := xw_F.rf M0
  obtain ⟨k0, k1, k2, k3, k4, k5, k6, k7, k8⟩ := id hk
  refine gx_iload_n (q := 1) C dX0_gardenTold_0 rfl rfl rfl ?_
  refine gx_cv (q := 4) C E (sx_X0_224 (As := [_]) C rfl rfl dX0_gardenTold_1) (fx_mustBeSquare_o _ _ _ _ q hq) kw_X0_mustBeSquare (by decide) (Nat.le_of_ble_eq_true rfl) rfl rfl (by omega) (by omega) dX0_gardenTold_1 rfl (fun Mv rv => ?_)
  rw [rv]
  refine gx_iload_n (q := 5) C dX0_gardenTold_4 rfl rfl rfl ?_
  refine gx_cv (q := 8) C E (sx_X0_249 (As := [_]) C rfl rfl dX0_gardenTold_5) (fx_mustBeGarden_o _ _ _ _ g hg) kw_X0_mustBeGarden (by decide) (Nat.le_of_ble_eq_true rfl) rfl rfl (by omega) (by omega) dX0_gardenTold_5 rfl (fun Mv rv => ?_)
  rw [rv]
  refine gx_aload_n (q := 9) C dX0_gardenTold_8 rfl rfl rfl ?_
  refine fg_X0_51 (q := 12) C hX.o rfl dX0_gardenTold_9 rfl ?_
  refine fg_X0_141 (q := 15) C hX.t.o rfl dX0_gardenTold_12 rfl ?_
  refine gx_iload_n (q := 16) C dX0_gardenTold_15 rfl rfl rfl ?_
  refine tv_ld_gardens (q := 17) C hX.t (by omega) dX0_gardenTold_16 rfl ?_
  refine gx_istore_n (q := 18) (lv' := [_, _, _, _]) C dX0_gardenTold_17 rfl (Nat.le_of_ble_eq_true rfl) E.2.2.2.symm rfl rfl rfl ?_
  refine gx_aload_n (q := 19) C dX0_gardenTold_18 rfl rfl rfl ?_
  refine fg_X0_51 (q := 22) C hX.o rfl dX0_gardenTold_19 rfl ?_
  refine fg_X0_141 (q := 25) C hX.t.o rfl dX0_gardenTold_22 rfl ?_
  refine gx_iload_n (q := 26) C dX0_gardenTold_25 rfl rfl rfl ?_
  refine gx_iload_n (q := 27) C dX0_gardenTold_26 rfl rfl rfl ?_
  refine tv_st_gardens (q := 28) C hX.t (tw_F.rf _ _) (by omega) dX0_gardenTold_27 rfl (fun M hV1 hF1 => ?_)
  have hX := hX.u1 hV1 hF1
  have hG := hG.tw hF1 (by decide)
  refine gx_iload_n (q := 29) C dX0_gardenTold_28 rfl rfl rfl ?_
  exact gx_iret C E dX0_gardenTold_29 (⟨⟨_, _, _, _, _, _, _, hX⟩, hG⟩) (by omega) (by omega)
set_option maxHeartbeats 800000 in
theorem xa_heightTold_b1 (l : Launch) (D : va_G) (b : Nat) (M0 : List va_E) {R T Ti P Rw : Nat → Nat} {hi : Bool} {lm rm : Nat} (v : Int32) (hb : v < 0 ∨ nI 36 ≤ v) (w : Int32) (h : xw_P D b M0 R T Ti P Rw hi lm rm) (hk : okT T) : fb_CT l D b yX0_heightTold cX0_heightTold 4 (some .int) 10 170 1 7 [.ref (b + 0), .int v, .int w] M0 (.threw (b + M0.length)) (ex_R b M0 9 (-1)) := by
  refine fb_start [some (.ref (b + 0)), some (.int v), some (.int w), none] (by decide) (Nat.le_of_ble_eq_true rfl) rfl ?_
  intro x hl hD hb C E hx
  subst hl hD hb
  have C : fb_OK x cX0_heightTold "FallsBetween" "heightTold" := C
  obtain ⟨Tm, Y, Ym, Yi, lo, lom, loi, hX⟩ := h
  have hG := xw_F.rf M0
  obtain ⟨k0, k1, k2, k3, k4, k5, k6, k7, k8⟩ := id hk
  refine gx_iload_n (q := 1) C dX0_heightTold_0 rfl rfl rfl ?_
  exact gx_ct C E hx (sx_X0_224 (As := [_]) C rfl rfl dX0_heightTold_1) (fx_mustBeSquare_b _ _ _ _ v hb) kw_X0_mustBeSquare (by decide) (Nat.le_of_ble_eq_true rfl) (by omega) (by omega) dX0_heightTold_1 (fun _ h => h)
set_option maxHeartbeats 800000 in
theorem xa_heightTold_b2 (l : Launch) (D : va_G) (b : Nat) (M0 : List va_E) {R T Ti P Rw : Nat → Nat} {hi : Bool} {lm rm : Nat} (q : Nat) (hq : q < 36) (v : Int32) (hb : v < 0) (h : xw_P D b M0 R T Ti P Rw hi lm rm) (hk : okT T) : fb_CT l D b yX0_heightTold cX0_heightTold 4 (some .int) 10 170 1 7 [.ref (b + 0), .int (nI q), .int v] M0 (.threw (b + M0.length)) (ex_R b M0 9 (-4)) := by
  refine fb_start [some (.ref (b + 0)), some (.int (nI q)), some (.int v), none] (by decide) (Nat.le_of_ble_eq_true rfl) rfl ?_
  intro x hl hD hb C E hx
  subst hl hD hb
  have C : fb_OK x cX0_heightTold "FallsBetween" "heightTold" := C
  obtain ⟨Tm, Y, Ym, Yi, lo, lom, loi, hX⟩ := h
  have hG := xw_F.rf M0
  obtain ⟨k0, k1, k2, k3, k4, k5, k6, k7, k8⟩ := id hk
  refine gx_iload_n (q := 1) C dX0_heightTold_0 rfl rfl rfl ?_
  refine gx_cv (q := 4) C E (sx_X0_224 (As := [_]) C rfl rfl dX0_heightTold_1) (fx_mustBeSquare_o _ _ _ _ q hq) kw_X0_mustBeSquare (by decide) (Nat.le_of_ble_eq_true rfl) rfl rfl (by omega) (by omega) dX0_heightTold_1 rfl (fun Mv rv => ?_)
  rw [rv]
  refine gx_iload_n (q := 5) C dX0_heightTold_4 rfl rfl rfl ?_
  refine gx_i2l (q := 6) C dX0_heightTold_5 (rfl) rfl ?_
  refine gx_lconst (q := 7) (v := 0) C dX0_heightTold_6 (by decide) rfl ?_
  refine gx_ldc2 (q := 10) C dX0_heightTold_7 q734 rfl ?_
  exact gx_ct C E hx (sx_X0_220 (As := [_, _, _]) C rfl rfl dX0_heightTold_10) (fx_within_b _ _ _ _ _ _ _ (by rw [l_c0, l_lt]; exact hb)) kw_X0_within (by decide) (Nat.le_of_ble_eq_true rfl) (by omega) (by omega) dX0_heightTold_10 (fun _ h => h)
set_option maxHeartbeats 800000 in
theorem xa_heightTold_b3 (l : Launch) (D : va_G) (b : Nat) (M0 : List va_E) {R T Ti P Rw : Nat → Nat} {hi : Bool} {lm rm : Nat} (q : Nat) (hq : q < 36) (v : Int32) (hb : nI 10 ≤ v) (h : xw_P D b M0 R T Ti P Rw hi lm rm) (hk : okT T) : fb_CT l D b yX0_heightTold cX0_heightTold 4 (some .int) 10 170 1 7 [.ref (b + 0), .int (nI q), .int v] M0 (.threw (b + M0.length)) (ex_R b M0 9 (-6)) := by
  refine fb_start [some (.ref (b + 0)), some (.int (nI q)), some (.int v), none] (by decide) (Nat.le_of_ble_eq_true rfl) rfl ?_
  intro x hl hD hb C E hx
  subst hl hD hb
  have C : fb_OK x cX0_heightTold "FallsBetween" "heightTold" := C
  obtain ⟨Tm, Y, Ym, Yi, lo, lom, loi, hX⟩ := h
  have hG := xw_F.rf M0
  obtain ⟨k0, k1, k2, k3, k4, k5, k6, k7, k8⟩ := id hk
  refine gx_iload_n (q := 1) C dX0_heightTold_0 rfl rfl rfl ?_
  refine gx_cv (q := 4) C E (sx_X0_224 (As := [_]) C rfl rfl dX0_heightTold_1) (fx_mustBeSquare_o _ _ _ _ q hq) kw_X0_mustBeSquare (by decide) (Nat.le_of_ble_eq_true rfl) rfl rfl (by omega) (by omega) dX0_heightTold_1 rfl (fun Mv rv => ?_)
  rw [rv]
  refine gx_iload_n (q := 5) C dX0_heightTold_4 rfl rfl rfl ?_
  refine gx_i2l (q := 6) C dX0_heightTold_5 (rfl) rfl ?_
  refine gx_lconst (q := 7) (v := 0) C dX0_heightTold_6 (by decide) rfl ?_
  refine gx_ldc2 (q := 10) C dX0_heightTold_7 q734 rfl ?_
  exact gx_ct C E hx (sx_X0_220 (As := [_, _, _]) C rfl rfl dX0_heightTold_10) (fx_within_a _ _ _ _ _ _ _ (by rw [l_c0, l_le]; exact Int32.le_trans (nI_pos' (by decide)) hb) (by rw [l_k9, l_lt]; exact lt_gt (by decide) hb)) kw_X0_within (by decide) (Nat.le_of_ble_eq_true rfl) (by omega) (by omega) dX0_heightTold_10 (fun _ h => h)
set_option maxHeartbeats 800000 in
theorem xa_heightTold_o (l : Launch) (D : va_G) (b : Nat) (M0 : List va_E) {R T Ti P Rw : Nat → Nat} {hi : Bool} {lm rm : Nat} (q : Nat) (hq : q < 36) (v : Nat) (hv : v < 10) (h : xw_P D b M0 R T Ti P Rw hi lm rm) (hk : okT T) : fb_CT l D b yX0_heightTold cX0_heightTold 4 (some .int) 10 170 0 0 [.ref (b + 0), .int (nI q), .int (nI v)] M0 (.returned (some (.int (nI (T (48 + q)))))) (fun M' => xw_P D b M' R (updN T (48 + q) v) Ti P Rw hi lm rm ∧ xw_F M0 M') := by
  refine fb_start [some (.ref (b + 0)), some (.int (nI q)), some (.int (nI v)), none] (by decide) (Nat.le_of_ble_eq_true rfl) rfl ?_
  intro x hl hD hb C E hx
  subst hl hD hb
  have C : fb_OK x cX0_heightTold "FallsBetween" "heightTold" := C
  obtain ⟨Tm, Y, Ym, Yi, lo, lom, loi, hX⟩ := h
  have hG := xw_F.rf M0
  obtain ⟨k0, k1, k2, k3, k4, k5, k6, k7, k8⟩ := id hk
  refine gx_iload_n (q := 1) C dX0_heightTold_0 rfl rfl rfl ?_
  refine gx_cv (q := 4) C E (sx_X0_224 (As := [_]) C rfl rfl dX0_heightTold_1) (fx_mustBeSquare_o _ _ _ _ q hq) kw_X0_mustBeSquare (by decide) (Nat.le_of_ble_eq_true rfl) rfl rfl (by omega) (by omega) dX0_heightTold_1 rfl (fun Mv rv => ?_)
  rw [rv]
  refine gx_iload_n (q := 5) C dX0_heightTold_4 rfl rfl rfl ?_
  refine gx_i2l (q := 6) C dX0_heightTold_5 (rfl) rfl ?_
  refine gx_lconst (q := 7) (v := 0) C dX0_heightTold_6 (by decide) rfl ?_
  refine gx_ldc2 (q := 10) C dX0_heightTold_7 q734 rfl ?_
  refine gx_cv (q := 13) C E (sx_X0_220 (As := [_, _, _]) C rfl rfl dX0_heightTold_10) (fx_within_o _ _ _ _ _ _ _ (in_k l_k9 (by omega) (by decide)).1 (in_k l_k9 (by omega) (by decide)).2) kw_X0_within (by decide) (Nat.le_of_ble_eq_true rfl) rfl rfl (by omega) (by omega) dX0_heightTold_10 rfl (fun Mv rv => ?_)
  rw [rv]
  refine gx_aload_n (q := 14) C dX0_heightTold_13 rfl rfl rfl ?_
  refine fg_X0_51 (q := 17) C hX.o rfl dX0_heightTold_14 rfl ?_
  refine fg_X0_229 (q := 20) C hX.t.o rfl dX0_heightTold_17 rfl ?_
  refine gx_iload_n (q := 21) C dX0_heightTold_20 rfl rfl rfl ?_
  refine tv_ld_heights (q := 22) C hX.t (by omega) dX0_heightTold_21 rfl ?_
  refine gx_istore_n (q := 23) (lv' := [_, _, _, _]) C dX0_heightTold_22 rfl (Nat.le_of_ble_eq_true rfl) E.2.2.2.symm rfl rfl rfl ?_
  refine gx_aload_n (q := 24) C dX0_heightTold_23 rfl rfl rfl ?_
  refine fg_X0_51 (q := 27) C hX.o rfl dX0_heightTold_24 rfl ?_
  refine fg_X0_229 (q := 30) C hX.t.o rfl dX0_heightTold_27 rfl ?_
  refine gx_iload_n (q := 31) C dX0_heightTold_30 rfl rfl rfl ?_
  refine gx_iload_n (q := 32) C dX0_heightTold_31 rfl rfl rfl ?_
  refine tv_st_heights (q := 33) C hX.t (tw_F.rf _ _) (by omega) dX0_heightTold_32 rfl (fun M hV1 hF1 => ?_)
  have hX := hX.u1 hV1 hF1
  have hG := hG.tw hF1 (by decide)
  refine gx_iload_n (q := 34) C dX0_heightTold_33 rfl rfl rfl ?_
  exact gx_iret C E dX0_heightTold_34 (⟨⟨_, _, _, _, _, _, _, hX⟩, hG⟩) (by omega) (by omega)
set_option maxHeartbeats 800000 in
theorem xa_netTold_b (l : Launch) (D : va_G) (b : Nat) (M0 : List va_E) {R T Ti P Rw : Nat → Nat} {hi : Bool} {lm rm : Nat} (v : Int32) (hb : v < 0 ∨ nI 36 ≤ v) (h : xw_P D b M0 R T Ti P Rw hi lm rm) (hk : okT T) : fb_CT l D b yX0_netTold cX0_netTold 2 (some .int) 10 170 1 7 [.ref (b + 0), .int v] M0 (.threw (b + M0.length)) (ex_R b M0 9 (-1)) := by
  refine fb_start [some (.ref (b + 0)), some (.int v)] (by decide) (Nat.le_of_ble_eq_true rfl) rfl ?_
  intro x hl hD hb C E hx
  subst hl hD hb
  have C : fb_OK x cX0_netTold "FallsBetween" "netTold" := C
  obtain ⟨Tm, Y, Ym, Yi, lo, lom, loi, hX⟩ := h
  have hG := xw_F.rf M0
  obtain ⟨k0, k1, k2, k3, k4, k5, k6, k7, k8⟩ := id hk
  refine gx_iload_n (q := 1) C dX0_netTold_0 rfl rfl rfl ?_
  exact gx_ct C E hx (sx_X0_224 (As := [_]) C rfl rfl dX0_netTold_1) (fx_mustBeSquare_b _ _ _ _ v hb) kw_X0_mustBeSquare (by decide) (Nat.le_of_ble_eq_true rfl) (by omega) (by omega) dX0_netTold_1 (fun _ h => h)
set_option maxHeartbeats 800000 in
theorem xa_netTold_o (l : Launch) (D : va_G) (b : Nat) (M0 : List va_E) {R T Ti P Rw : Nat → Nat} {hi : Bool} {lm rm : Nat} (q : Nat) (hq : q < 36) (h : xw_P D b M0 R T Ti P Rw hi lm rm) (hk : okT T) : fb_CT l D b yX0_netTold cX0_netTold 2 (some .int) 10 170 0 0 [.ref (b + 0), .int (nI q)] M0 (.returned (some (.int (nI (1 - T (84 + q)))))) (fun M' => xw_P D b M' R (updN T (84 + q) (1 - T (84 + q))) Ti P Rw hi lm rm ∧ xw_F M0 M') := by
  refine fb_start [some (.ref (b + 0)), some (.int (nI q))] (by decide) (Nat.le_of_ble_eq_true rfl) rfl ?_
  intro x hl hD hb C E hx
  subst hl hD hb
  have C : fb_OK x cX0_netTold "FallsBetween" "netTold" := C
  obtain ⟨Tm, Y, Ym, Yi, lo, lom, loi, hX⟩ := h
  have hG := xw_F.rf M0
  obtain ⟨k0, k1, k2, k3, k4, k5, k6, k7, k8⟩ := id hk
  have h7 := k7 q hq
  refine gx_iload_n (q := 1) C dX0_netTold_0 rfl rfl rfl ?_
  refine gx_cv (q := 4) C E (sx_X0_224 (As := [_]) C rfl rfl dX0_netTold_1) (fx_mustBeSquare_o _ _ _ _ q hq) kw_X0_mustBeSquare (by decide) (Nat.le_of_ble_eq_true rfl) rfl rfl (by omega) (by omega) dX0_netTold_1 rfl (fun Mv rv => ?_)
  rw [rv]
  refine gx_aload_n (q := 5) C dX0_netTold_4 rfl rfl rfl ?_
  refine fg_X0_51 (q := 8) C hX.o rfl dX0_netTold_5 rfl ?_
  refine fg_X0_166 (q := 11) C hX.t.o rfl dX0_netTold_8 rfl ?_
  refine gx_iload_n (q := 12) C dX0_netTold_11 rfl rfl rfl ?_
  refine gx_aload_n (q := 13) C dX0_netTold_12 rfl rfl rfl ?_
  refine fg_X0_51 (q := 16) C hX.o rfl dX0_netTold_13 rfl ?_
  refine fg_X0_166 (q := 19) C hX.t.o rfl dX0_netTold_16 rfl ?_
  refine gx_iload_n (q := 20) C dX0_netTold_19 rfl rfl rfl ?_
  refine tv_ld_nets (q := 21) C hX.t (by omega) dX0_netTold_20 rfl ?_
  refine gn_if_ne (q := 24) (tgt := 28) C dX0_netTold_21 (by decide) rfl (by omega) (fun c21 => ?_) (fun c21 => ?_)
  · refine gx_iconst (q := 29) (v := nI (1 - T (84 + q))) C dX0_netTold_28 (by rw [show T (84 + q) = 1 by omega]; rfl) rfl ?_
    refine tv_st_nets (q := 30) C hX.t (tw_F.rf _ _) (by omega) (by omega) dX0_netTold_29 rfl (fun M hV1 hF1 => ?_)
    have hX := hX.u1 hV1 hF1
    have hG := hG.tw hF1 (by decide)
    refine gx_aload_n (q := 31) C dX0_netTold_30 rfl rfl rfl ?_
    refine fg_X0_51 (q := 34) C hX.o rfl dX0_netTold_31 rfl ?_
    refine fg_X0_166 (q := 37) C hX.t.o rfl dX0_netTold_34 rfl ?_
    refine gx_iload_n (q := 38) C dX0_netTold_37 rfl rfl rfl ?_
    refine tv_ld_nets (q := 39) C hX.t (by omega) dX0_netTold_38 rfl ?_
    rw [updN_s]
    refine gn_if_eq (q := 42) (tgt := 46) C dX0_netTold_39 (by decide) rfl (by omega) (fun c39 => ?_) (fun c39 => ?_)
    · refine gx_iconst (q := 47) (v := nI (1 - T (84 + q))) C dX0_netTold_46 (by rw [c39]; rfl) rfl ?_
      exact gx_iret C E dX0_netTold_47 (⟨⟨_, _, _, _, _, _, _, hX⟩, hG⟩) (by omega) (by omega)
    · refine gx_iconst (q := 43) (v := nI (1 - T (84 + q))) C dX0_netTold_42 (by rw [show 1 - T (84 + q) = 1 by omega]; rfl) rfl ?_
      refine gx_goto (tgt := 47) C dX0_netTold_43 (by decide) ?_
      exact gx_iret C E dX0_netTold_47 (⟨⟨_, _, _, _, _, _, _, hX⟩, hG⟩) (by omega) (by omega)
  · refine gx_iconst (q := 25) (v := nI (1 - T (84 + q))) C dX0_netTold_24 (by rw [c21]; rfl) rfl ?_
    refine gx_goto (tgt := 29) C dX0_netTold_25 (by decide) ?_
    refine tv_st_nets (q := 30) C hX.t (tw_F.rf _ _) (by omega) (by omega) dX0_netTold_29 rfl (fun M hV1 hF1 => ?_)
    have hX := hX.u1 hV1 hF1
    have hG := hG.tw hF1 (by decide)
    refine gx_aload_n (q := 31) C dX0_netTold_30 rfl rfl rfl ?_
    refine fg_X0_51 (q := 34) C hX.o rfl dX0_netTold_31 rfl ?_
    refine fg_X0_166 (q := 37) C hX.t.o rfl dX0_netTold_34 rfl ?_
    refine gx_iload_n (q := 38) C dX0_netTold_37 rfl rfl rfl ?_
    refine tv_ld_nets (q := 39) C hX.t (by omega) dX0_netTold_38 rfl ?_
    rw [updN_s]
    refine gn_if_eq (q := 42) (tgt := 46) C dX0_netTold_39 (by decide) rfl (by omega) (fun c39 => ?_) (fun c39 => ?_)
    · refine gx_iconst (q := 47) (v := nI (1 - T (84 + q))) C dX0_netTold_46 (by rw [c39]; rfl) rfl ?_
      exact gx_iret C E dX0_netTold_47 (⟨⟨_, _, _, _, _, _, _, hX⟩, hG⟩) (by omega) (by omega)
    · refine gx_iconst (q := 43) (v := nI (1 - T (84 + q))) C dX0_netTold_42 (by rw [show 1 - T (84 + q) = 1 by omega]; rfl) rfl ?_
      refine gx_goto (tgt := 47) C dX0_netTold_43 (by decide) ?_
      exact gx_iret C E dX0_netTold_47 (⟨⟨_, _, _, _, _, _, _, hX⟩, hG⟩) (by omega) (by omega)
set_option maxHeartbeats 800000 in
theorem xa_windTold_b (l : Launch) (D : va_G) (b : Nat) (M0 : List va_E) {R T Ti P Rw : Nat → Nat} {hi : Bool} {lm rm : Nat} (v : Int32) (hb : v < 0) (h : xw_P D b M0 R T Ti P Rw hi lm rm) (hk : okT T) : fb_CT l D b yX0_windTold cX0_windTold 3 (some .int) 9 154 1 7 [.ref (b + 0), .int v] M0 (.threw (b + M0.length)) (ex_R b M0 9 (-4)) := by
  refine fb_start [some (.ref (b + 0)), some (.int v), none] (by decide) (Nat.le_of_ble_eq_true rfl) rfl ?_
  intro x hl hD hb C E hx
  subst hl hD hb
  have C : fb_OK x cX0_windTold "FallsBetween" "windTold" := C
  obtain ⟨Tm, Y, Ym, Yi, lo, lom, loi, hX⟩ := h
  have hG := xw_F.rf M0
  obtain ⟨k0, k1, k2, k3, k4, k5, k6, k7, k8⟩ := id hk
  refine gx_iload_n (q := 1) C dX0_windTold_0 rfl rfl rfl ?_
  refine gx_i2l (q := 2) C dX0_windTold_1 (rfl) rfl ?_
  refine gx_lconst (q := 3) (v := 0) C dX0_windTold_2 (by decide) rfl ?_
  refine gx_ldc2 (q := 6) C dX0_windTold_3 q743 rfl ?_
  exact gx_ct C E hx (sx_X0_220 (As := [_, _, _]) C rfl rfl dX0_windTold_6) (fx_within_b _ _ _ _ _ _ _ (by rw [l_c0, l_lt]; exact hb)) kw_X0_within (by decide) (Nat.le_of_ble_eq_true rfl) (by omega) (by omega) dX0_windTold_6 (fun _ h => h)
set_option maxHeartbeats 800000 in
theorem xa_windTold_a (l : Launch) (D : va_G) (b : Nat) (M0 : List va_E) {R T Ti P Rw : Nat → Nat} {hi : Bool} {lm rm : Nat} (v : Int32) (hb : nI 16 ≤ v) (h : xw_P D b M0 R T Ti P Rw hi lm rm) (hk : okT T) : fb_CT l D b yX0_windTold cX0_windTold 3 (some .int) 9 154 1 7 [.ref (b + 0), .int v] M0 (.threw (b + M0.length)) (ex_R b M0 9 (-6)) := by
  refine fb_start [some (.ref (b + 0)), some (.int v), none] (by decide) (Nat.le_of_ble_eq_true rfl) rfl ?_
  intro x hl hD hb C E hx
  subst hl hD hb
  have C : fb_OK x cX0_windTold "FallsBetween" "windTold" := C
  obtain ⟨Tm, Y, Ym, Yi, lo, lom, loi, hX⟩ := h
  have hG := xw_F.rf M0
  obtain ⟨k0, k1, k2, k3, k4, k5, k6, k7, k8⟩ := id hk
  refine gx_iload_n (q := 1) C dX0_windTold_0 rfl rfl rfl ?_
  refine gx_i2l (q := 2) C dX0_windTold_1 (rfl) rfl ?_
  refine gx_lconst (q := 3) (v := 0) C dX0_windTold_2 (by decide) rfl ?_
  refine gx_ldc2 (q := 6) C dX0_windTold_3 q743 rfl ?_
  exact gx_ct C E hx (sx_X0_220 (As := [_, _, _]) C rfl rfl dX0_windTold_6) (fx_within_a _ _ _ _ _ _ _ (by rw [l_c0, l_le]; exact Int32.le_trans (nI_pos' (by decide)) hb) (by rw [l_k15, l_lt]; exact lt_gt (by decide) hb)) kw_X0_within (by decide) (Nat.le_of_ble_eq_true rfl) (by omega) (by omega) dX0_windTold_6 (fun _ h => h)
set_option maxHeartbeats 800000 in
theorem xa_windTold_o (l : Launch) (D : va_G) (b : Nat) (M0 : List va_E) {R T Ti P Rw : Nat → Nat} {hi : Bool} {lm rm : Nat} (v : Nat) (hv : v < 16) (h : xw_P D b M0 R T Ti P Rw hi lm rm) (hk : okT T) : fb_CT l D b yX0_windTold cX0_windTold 3 (some .int) 9 154 0 0 [.ref (b + 0), .int (nI v)] M0 (.returned (some (.int (nI (T 1))))) (fun M' => xw_P D b M' R (updN T 1 v) Ti P Rw hi lm rm ∧ xw_F M0 M') := by
  refine fb_start [some (.ref (b + 0)), some (.int (nI v)), none] (by decide) (Nat.le_of_ble_eq_true rfl) rfl ?_
  intro x hl hD hb C E hx
  subst hl hD hb
  have C : fb_OK x cX0_windTold "FallsBetween" "windTold" := C
  obtain ⟨Tm, Y, Ym, Yi, lo, lom, loi, hX⟩ := h
  have hG := xw_F.rf M0
  obtain ⟨k0, k1, k2, k3, k4, k5, k6, k7, k8⟩ := id hk
  refine gx_iload_n (q := 1) C dX0_windTold_0 rfl rfl rfl ?_
  refine gx_i2l (q := 2) C dX0_windTold_1 (rfl) rfl ?_
  refine gx_lconst (q := 3) (v := 0) C dX0_windTold_2 (by decide) rfl ?_
  refine gx_ldc2 (q := 6) C dX0_windTold_3 q743 rfl ?_
  refine gx_cv (q := 9) C E (sx_X0_220 (As := [_, _, _]) C rfl rfl dX0_windTold_6) (fx_within_o _ _ _ _ _ _ _ (in_k l_k15 (by omega) (by decide)).1 (in_k l_k15 (by omega) (by decide)).2) kw_X0_within (by decide) (Nat.le_of_ble_eq_true rfl) rfl rfl (by omega) (by omega) dX0_windTold_6 rfl (fun Mv rv => ?_)
  rw [rv]
  refine gx_aload_n (q := 10) C dX0_windTold_9 rfl rfl rfl ?_
  refine fg_X0_51 (q := 13) C hX.o rfl dX0_windTold_10 rfl ?_
  refine fg_X0_163 (q := 16) C hX.t.o rfl dX0_windTold_13 rfl ?_
  refine gx_istore_n (q := 17) (lv' := [_, _, _]) C dX0_windTold_16 rfl (Nat.le_of_ble_eq_true rfl) E.2.2.2.symm rfl rfl rfl ?_
  refine gx_aload_n (q := 18) C dX0_windTold_17 rfl rfl rfl ?_
  refine fg_X0_51 (q := 21) C hX.o rfl dX0_windTold_18 rfl ?_
  refine gx_iload_n (q := 22) C dX0_windTold_21 rfl rfl rfl ?_
  refine tv_pf_X0_wind (q := 25) C hX.t (tw_F.rf _ _) dX0_windTold_22 rfl (fun M hV1 hF1 => ?_)
  have hX := hX.u1 hV1 hF1
  have hG := hG.tw hF1 (by decide)
  refine gx_iload_n (q := 26) C dX0_windTold_25 rfl rfl rfl ?_
  exact gx_iret C E dX0_windTold_26 (⟨⟨_, _, _, _, _, _, _, hX⟩, hG⟩) (by omega) (by omega)
set_option maxHeartbeats 800000 in
theorem xa_lawTold_b (l : Launch) (D : va_G) (b : Nat) (M0 : List va_E) {R T Ti P Rw : Nat → Nat} {hi : Bool} {lm rm : Nat} (v : Int32) (hb : v < 0 ∨ nI 5 ≤ v) (h : xw_P D b M0 R T Ti P Rw hi lm rm) (hk : okT T) : fb_CT l D b yX0_lawTold cX0_lawTold 3 (some .int) 8 129 1 7 [.ref (b + 0), .int v] M0 (.threw (b + M0.length)) (ex_R b M0 9 (-2)) := by
  refine fb_start [some (.ref (b + 0)), some (.int v), none] (by decide) (Nat.le_of_ble_eq_true rfl) rfl ?_
  intro x hl hD hb C E hx
  subst hl hD hb
  have C : fb_OK x cX0_lawTold "FallsBetween" "lawTold" := C
  obtain ⟨Tm, Y, Ym, Yi, lo, lom, loi, hX⟩ := h
  have hG := xw_F.rf M0
  obtain ⟨k0, k1, k2, k3, k4, k5, k6, k7, k8⟩ := id hk
  obtain ⟨flw, hlw, _⟩ := hX.t.law
  refine gx_iload_n (q := 1) C dX0_lawTold_0 rfl rfl rfl ?_
  refine gx_i2l (q := 2) C dX0_lawTold_1 (rfl) rfl ?_
  refine gx_lconst (q := 3) (v := 0) C dX0_lawTold_2 (by decide) rfl ?_
  refine gx_aload_n (q := 4) C dX0_lawTold_3 rfl rfl rfl ?_
  refine fg_X0_51 (q := 7) C hX.o rfl dX0_lawTold_4 rfl ?_
  refine fg_X0_147 (q := 10) C hX.t.o rfl dX0_lawTold_7 rfl ?_
  refine gx_alen (q := 11) (t0 := 4) C hlw rfl rfl dX0_lawTold_10 rfl ?_
  refine gx_iconst (q := 12) (v := nI 1) C dX0_lawTold_11 (by decide) rfl ?_
  refine gx_isub (q := 13) C dX0_lawTold_12 rfl rfl ?_
  refine gx_i2l (q := 14) C dX0_lawTold_13 (rfl) rfl ?_
  refine gx_cp (q := 17) C E (sx_X0_13 (As := [_, _, _]) C rfl rfl dX0_lawTold_14) (fx_in_f _ _ _ _ _ _ _ (in_bb (m := 5) (by decide) hb)) kw_X0_in (by decide) (Nat.le_of_ble_eq_true rfl) (by omega) (by omega) dX0_lawTold_14 rfl ?_
  refine gx_bipush (q := 19) (v := -2) C dX0_lawTold_17 (by decide) rfl ?_
  exact gx_ct C E hx (sx_X0_9 (As := [_, _]) C rfl rfl dX0_lawTold_19) (fx_must_f _ _ _ _ (-2)) kw_X0_must (by decide) (Nat.le_of_ble_eq_true rfl) (by omega) (by omega) dX0_lawTold_19 (fun _ h => h)
set_option maxHeartbeats 800000 in
theorem xa_lawTold_o (l : Launch) (D : va_G) (b : Nat) (M0 : List va_E) {R T Ti P Rw : Nat → Nat} {hi : Bool} {lm rm : Nat} (v : Nat) (hv : v < 5) (h : xw_P D b M0 R T Ti P Rw hi lm rm) (hk : okT T) : fb_CT l D b yX0_lawTold cX0_lawTold 3 (some .int) 8 129 0 0 [.ref (b + 0), .int (nI v)] M0 (.returned (some (.int (nI (T 2))))) (fun M' => xw_P D b M' R (updN T 2 v) Ti P Rw hi lm rm ∧ xw_F M0 M') := by
  refine fb_start [some (.ref (b + 0)), some (.int (nI v)), none] (by decide) (Nat.le_of_ble_eq_true rfl) rfl ?_
  intro x hl hD hb C E hx
  subst hl hD hb
  have C : fb_OK x cX0_lawTold "FallsBetween" "lawTold" := C
  obtain ⟨Tm, Y, Ym, Yi, lo, lom, loi, hX⟩ := h
  have hG := xw_F.rf M0
  obtain ⟨k0, k1, k2, k3, k4, k5, k6, k7, k8⟩ := id hk
  obtain ⟨flw, hlw, _⟩ := hX.t.law
  refine gx_iload_n (q := 1) C dX0_lawTold_0 rfl rfl rfl ?_
  refine gx_i2l (q := 2) C dX0_lawTold_1 (rfl) rfl ?_
  refine gx_lconst (q := 3) (v := 0) C dX0_lawTold_2 (by decide) rfl ?_
  refine gx_aload_n (q := 4) C dX0_lawTold_3 rfl rfl rfl ?_
  refine fg_X0_51 (q := 7) C hX.o rfl dX0_lawTold_4 rfl ?_
  refine fg_X0_147 (q := 10) C hX.t.o rfl dX0_lawTold_7 rfl ?_
  refine gx_alen (q := 11) (t0 := 4) C hlw rfl rfl dX0_lawTold_10 rfl ?_
  refine gx_iconst (q := 12) (v := nI 1) C dX0_lawTold_11 (by decide) rfl ?_
  refine gx_isub (q := 13) C dX0_lawTold_12 rfl rfl ?_
  refine gx_i2l (q := 14) C dX0_lawTold_13 (rfl) rfl ?_
  refine gx_cp (q := 17) C E (sx_X0_13 (As := [_, _, _]) C rfl rfl dX0_lawTold_14) (fx_in_t _ _ _ _ _ _ _ (in_o (j := v) (m := 5) hv (by decide)).1 (in_o (j := v) (m := 5) hv (by decide)).2) kw_X0_in (by decide) (Nat.le_of_ble_eq_true rfl) (by omega) (by omega) dX0_lawTold_14 rfl ?_
  refine gx_bipush (q := 19) (v := -2) C dX0_lawTold_17 (by decide) rfl ?_
  refine gx_cv (q := 22) C E (sx_X0_9 (As := [_, _]) C rfl rfl dX0_lawTold_19) (fx_must_t _ _ _ _ (-2)) kw_X0_must (by decide) (Nat.le_of_ble_eq_true rfl) rfl rfl (by omega) (by omega) dX0_lawTold_19 rfl (fun Mv rv => ?_)
  rw [rv]
  refine gx_aload_n (q := 23) C dX0_lawTold_22 rfl rfl rfl ?_
  refine fg_X0_51 (q := 26) C hX.o rfl dX0_lawTold_23 rfl ?_
  refine fg_X0_151 (q := 29) C hX.t.o rfl dX0_lawTold_26 rfl ?_
  refine gx_istore_n (q := 30) (lv' := [_, _, _]) C dX0_lawTold_29 rfl (Nat.le_of_ble_eq_true rfl) E.2.2.2.symm rfl rfl rfl ?_
  refine gx_aload_n (q := 31) C dX0_lawTold_30 rfl rfl rfl ?_
  refine fg_X0_51 (q := 34) C hX.o rfl dX0_lawTold_31 rfl ?_
  refine gx_iload_n (q := 35) C dX0_lawTold_34 rfl rfl rfl ?_
  refine tv_pf_X0_law (q := 38) C hX.t (tw_F.rf _ _) dX0_lawTold_35 rfl (fun M hV1 hF1 => ?_)
  have hX := hX.u1 hV1 hF1
  have hG := hG.tw hF1 (by decide)
  refine gx_iload_n (q := 39) C dX0_lawTold_38 rfl rfl rfl ?_
  exact gx_iret C E dX0_lawTold_39 (⟨⟨_, _, _, _, _, _, _, hX⟩, hG⟩) (by omega) (by omega)
set_option maxHeartbeats 800000 in
theorem xa_pitIt_b (l : Launch) (D : va_G) (b : Nat) (M0 : List va_E) {R T Ti P Rw : Nat → Nat} {hi : Bool} {lm rm : Nat} (v : Int32) (hb : v < 0 ∨ nI 36 ≤ v) (h : xw_P D b M0 R T Ti P Rw hi lm rm) (hk : okT T) : fb_CT l D b yX0_pitIt cX0_pitIt 2 (some .int) 10 170 1 7 [.ref (b + 0), .int v] M0 (.threw (b + M0.length)) (ex_R b M0 9 (-1)) := by
  refine fb_start [some (.ref (b + 0)), some (.int v)] (by decide) (Nat.le_of_ble_eq_true rfl) rfl ?_
  intro x hl hD hb C E hx
  subst hl hD hb
  have C : fb_OK x cX0_pitIt "FallsBetween" "pitIt" := C
  obtain ⟨Tm, Y, Ym, Yi, lo, lom, loi, hX⟩ := h
  have hG := xw_F.rf M0
  obtain ⟨k0, k1, k2, k3, k4, k5, k6, k7, k8⟩ := id hk
  refine gx_iload_n (q := 1) C dX0_pitIt_0 rfl rfl rfl ?_
  exact gx_ct C E hx (sx_X0_224 (As := [_]) C rfl rfl dX0_pitIt_1) (fx_mustBeSquare_b _ _ _ _ v hb) kw_X0_mustBeSquare (by decide) (Nat.le_of_ble_eq_true rfl) (by omega) (by omega) dX0_pitIt_1 (fun _ h => h)
set_option maxHeartbeats 800000 in
theorem xa_pitIt_f (l : Launch) (D : va_G) (b : Nat) (M0 : List va_E) {R T Ti P Rw : Nat → Nat} {hi : Bool} {lm rm : Nat} (q : Nat) (hq : q < 36) (hf : T 3 = 8) (h : xw_P D b M0 R T Ti P Rw hi lm rm) (hk : okT T) : fb_CT l D b yX0_pitIt cX0_pitIt 2 (some .int) 10 170 1 7 [.ref (b + 0), .int (nI q)] M0 (.threw (b + M0.length)) (ex_R b M0 9 (-6)) := by
  refine fb_start [some (.ref (b + 0)), some (.int (nI q))] (by decide) (Nat.le_of_ble_eq_true rfl) rfl ?_
  intro x hl hD hb C E hx
  subst hl hD hb
  have C : fb_OK x cX0_pitIt "FallsBetween" "pitIt" := C
  obtain ⟨Tm, Y, Ym, Yi, lo, lom, loi, hX⟩ := h
  have hG := xw_F.rf M0
  obtain ⟨k0, k1, k2, k3, k4, k5, k6, k7, k8⟩ := id hk
  refine gx_iload_n (q := 1) C dX0_pitIt_0 rfl rfl rfl ?_
  refine gx_cv (q := 4) C E (sx_X0_224 (As := [_]) C rfl rfl dX0_pitIt_1) (fx_mustBeSquare_o _ _ _ _ q hq) kw_X0_mustBeSquare (by decide) (Nat.le_of_ble_eq_true rfl) rfl rfl (by omega) (by omega) dX0_pitIt_1 rfl (fun Mv rv => ?_)
  rw [rv]
  refine gx_aload_n (q := 5) C dX0_pitIt_4 rfl rfl rfl ?_
  refine fg_X0_51 (q := 8) C hX.o rfl dX0_pitIt_5 rfl ?_
  refine fg_X0_183 (q := 11) C hX.t.o rfl dX0_pitIt_8 rfl ?_
  refine gx_bipush (q := 13) (v := nI 8) C dX0_pitIt_11 (by decide) rfl ?_
  refine gn_icmp_ge (q := 16) (tgt := 20) C dX0_pitIt_13 (by decide) rfl (by omega) (by omega) (fun c13 => ?_) (fun c13 => by exfalso; omega)
  refine gx_iconst (q := 21) (v := bI false) C dX0_pitIt_20 (by decide) rfl ?_
  refine gx_bipush (q := 23) (v := -6) C dX0_pitIt_21 (by decide) rfl ?_
  exact gx_ct C E hx (sx_X0_9 (As := [_, _]) C rfl rfl dX0_pitIt_23) (fx_must_f _ _ _ _ (-6)) kw_X0_must (by decide) (Nat.le_of_ble_eq_true rfl) (by omega) (by omega) dX0_pitIt_23 (fun _ h => h)
set_option maxHeartbeats 800000 in
theorem xa_pitIt_o (l : Launch) (D : va_G) (b : Nat) (M0 : List va_E) {R T Ti P Rw : Nat → Nat} {hi : Bool} {lm rm : Nat} (q : Nat) (hq : q < 36) (hf : T 3 < 8) (h : xw_P D b M0 R T Ti P Rw hi lm rm) (hk : okT T) : fb_CT l D b yX0_pitIt cX0_pitIt 2 (some .int) 10 170 0 0 [.ref (b + 0), .int (nI q)] M0 (.returned (some (.int (nI (T 3 + 1))))) (fun M' => xw_P D b M' R (updN (updN T (4 + T 3) q) 3 (T 3 + 1)) Ti P Rw hi lm rm ∧ xw_F M0 M') := by
  refine fb_start [some (.ref (b + 0)), some (.int (nI q))] (by decide) (Nat.le_of_ble_eq_true rfl) rfl ?_
  intro x hl hD hb C E hx
  subst hl hD hb
  have C : fb_OK x cX0_pitIt "FallsBetween" "pitIt" := C
  obtain ⟨Tm, Y, Ym, Yi, lo, lom, loi, hX⟩ := h
  have hG := xw_F.rf M0
  obtain ⟨k0, k1, k2, k3, k4, k5, k6, k7, k8⟩ := id hk
  refine gx_iload_n (q := 1) C dX0_pitIt_0 rfl rfl rfl ?_
  refine gx_cv (q := 4) C E (sx_X0_224 (As := [_]) C rfl rfl dX0_pitIt_1) (fx_mustBeSquare_o _ _ _ _ q hq) kw_X0_mustBeSquare (by decide) (Nat.le_of_ble_eq_true rfl) rfl rfl (by omega) (by omega) dX0_pitIt_1 rfl (fun Mv rv => ?_)
  rw [rv]
  refine gx_aload_n (q := 5) C dX0_pitIt_4 rfl rfl rfl ?_
  refine fg_X0_51 (q := 8) C hX.o rfl dX0_pitIt_5 rfl ?_
  refine fg_X0_183 (q := 11) C hX.t.o rfl dX0_pitIt_8 rfl ?_
  refine gx_bipush (q := 13) (v := nI 8) C dX0_pitIt_11 (by decide) rfl ?_
  refine gn_icmp_ge (q := 16) (tgt := 20) C dX0_pitIt_13 (by decide) rfl (by omega) (by omega) (fun c13 => by exfalso; omega) (fun c13 => ?_)
  refine gx_iconst (q := 17) (v := bI true) C dX0_pitIt_16 (by decide) rfl ?_
  refine gx_goto (tgt := 21) C dX0_pitIt_17 (by decide) ?_
  refine gx_bipush (q := 23) (v := -6) C dX0_pitIt_21 (by decide) rfl ?_
  refine gx_cv (q := 26) C E (sx_X0_9 (As := [_, _]) C rfl rfl dX0_pitIt_23) (fx_must_t _ _ _ _ (-6)) kw_X0_must (by decide) (Nat.le_of_ble_eq_true rfl) rfl rfl (by omega) (by omega) dX0_pitIt_23 rfl (fun Mv rv => ?_)
  rw [rv]
  refine gx_aload_n (q := 27) C dX0_pitIt_26 rfl rfl rfl ?_
  refine fg_X0_51 (q := 30) C hX.o rfl dX0_pitIt_27 rfl ?_
  refine fg_X0_186 (q := 33) C hX.t.o rfl dX0_pitIt_30 rfl ?_
  refine gx_aload_n (q := 34) C dX0_pitIt_33 rfl rfl rfl ?_
  refine fg_X0_51 (q := 37) C hX.o rfl dX0_pitIt_34 rfl ?_
  refine fg_X0_183 (q := 40) C hX.t.o rfl dX0_pitIt_37 rfl ?_
  refine gx_iload_n (q := 41) C dX0_pitIt_40 rfl rfl rfl ?_
  refine tv_st_pit (q := 42) C hX.t (tw_F.rf _ _) (by omega) dX0_pitIt_41 rfl (fun M hV1 hF1 => ?_)
  have hX := hX.u1 hV1 hF1
  have hG := hG.tw hF1 (by decide)
  refine gx_aload_n (q := 43) C dX0_pitIt_42 rfl rfl rfl ?_
  refine fg_X0_51 (q := 46) C hX.o rfl dX0_pitIt_43 rfl ?_
  refine gx_dup (q := 47) C dX0_pitIt_46 rfl rfl ?_
  refine fg_X0_183 (q := 50) C hX.t.o rfl dX0_pitIt_47 rfl ?_
  rw [updN_n T (show ¬ 3 = 4 + T 3 by omega)]
  refine gx_iconst (q := 51) (v := nI 1) C dX0_pitIt_50 (by decide) rfl ?_
  refine gn_iadd (q := 52) C dX0_pitIt_51 rfl ?_
  refine tv_pf_X0_pits (q := 55) C hX.t (tw_F.rf _ _) dX0_pitIt_52 rfl (fun M hV1 hF1 => ?_)
  have hX := hX.u1 hV1 hF1
  have hG := hG.tw hF1 (by decide)
  refine gx_aload_n (q := 56) C dX0_pitIt_55 rfl rfl rfl ?_
  refine fg_X0_51 (q := 59) C hX.o rfl dX0_pitIt_56 rfl ?_
  refine fg_X0_183 (q := 62) C hX.t.o rfl dX0_pitIt_59 rfl ?_
  rw [updN_s]
  exact gx_iret C E dX0_pitIt_62 (⟨⟨_, _, _, _, _, _, _, hX⟩, hG⟩) (by omega) (by omega)
theorem shL_f {T Y : Nat → Nat} (h : fnd T Y) (g : Nat) : shL T (lyY T Y) g 36 = shT T g := shL_cg (Nat.le_refl _) (fun _ _ => rfl) (fun _ _ => rfl) (fun q hq => lyY_f h hq)
theorem bdL_cg {T U L K : Nat → Nat} (h2 : ∀ q, q < 36 → nob U q = nob T q) (h3 : ∀ q, q < 36 → L q = K q) : bdL U L 36 = bdL T K 36 := sumN_congr 36 fun q hq => by rw [h2 q hq, h3 q hq]
theorem bdL_f {T Y : Nat → Nat} (h : fnd T Y) : bdL T (lyY T Y) 36 = bdL T (lyT T) 36 := bdL_cg (fun _ _ => rfl) (fun q hq => lyY_f h hq)
/-- the gardens changed, the trees not: what lies stays told -/
theorem lyY_g {T U Y : Nat → Nat} (h : fnd T Y) (h0 : U 0 = T 0) {q : Nat} (hq : q < 36) : lyY U Y q = lyT T q := by unfold lyY; rw [h0]; exact lyY_f h hq
set_option maxHeartbeats 800000 in
theorem xa_openMind (l : Launch) (D : va_G) (b : Nat) (M0 : List va_E) {T Tm Ti Y Ym Yi : Nat → Nat} {lo lom loi : Nat} {hi : Bool} {Rw : Nat → Nat} {rm : Nat} {P : Nat → Nat} {lm : Nat} {R : Nat → Nat} (hX : xw_V D b M0 T Tm Ti Y Ym Yi lo lom loi hi Rw rm P lm R) (hk : okT T) : fb_CT l D b yX0_openMind cX0_openMind 1 (some (.object "FallsBetween$Town")) 2 40 0 0 [.ref (b + 0)] M0 (.returned (some (.ref (b + 14)))) (fun M' => tw_V D b M' 14 T Ym lom ∧ tw_F 14 M0 M') := by
  refine fb_start [some (.ref (b + 0))] (by decide) (Nat.le_of_ble_eq_true rfl) rfl ?_
  intro x hl hD hb C E hx
  subst hl hD hb
  have C : fb_OK x cX0_openMind "FallsBetween" "openMind" := C
  refine gx_aload_n (q := 1) C dX0_openMind_0 rfl rfl rfl ?_
  refine fg_X0_55 (q := 4) C hX.o rfl dX0_openMind_1 rfl ?_
  refine gx_aload_n (q := 5) C dX0_openMind_4 rfl rfl rfl ?_
  refine fg_X0_51 (q := 8) C hX.o rfl dX0_openMind_5 rfl ?_
  refine gx_cv (q := 11) C E (sx_X0_94 (As := [_]) C hX.m.o rfl rfl dX0_openMind_8) (tx_set _ _ _ _ hX.m hX.t (by omega) hk) kw_X1_set (by decide) (Nat.le_of_ble_eq_true rfl) rfl rfl (by omega) (by omega) dX0_openMind_8 rfl (fun M r8 => ?_)
  obtain ⟨hV1, hF1⟩ := r8
  have hX := hX.u2 hV1 hF1
  refine gx_aload_n (q := 12) C dX0_openMind_11 rfl rfl rfl ?_
  refine fg_X0_55 (q := 15) C hX.o rfl dX0_openMind_12 rfl ?_
  exact gx_aret C E dX0_openMind_15 (⟨hV1, hF1⟩) (by omega) (by omega)
set_option maxHeartbeats 800000 in
theorem xa_ofTree_b1 (l : Launch) (D : va_G) (b : Nat) (M0 : List va_E) {R T Ti P Rw : Nat → Nat} {hi : Bool} {lm rm : Nat} (v : Int32) (hb : v < 0 ∨ nI (T 0) ≤ v) (w : Int32) (h : xw_P D b M0 R T Ti P Rw hi lm rm) (hk : okT T) : fb_CT l D b yX0_ofTree cX0_ofTree 3 (some .int) 10 171 1 7 [.ref (b + 0), .int v, .int w] M0 (.threw (b + M0.length)) (ex_R b M0 9 (-1)) := by
  refine fb_start [some (.ref (b + 0)), some (.int v), some (.int w)] (by decide) (Nat.le_of_ble_eq_true rfl) rfl ?_
  intro x hl hD hb C E hx
  subst hl hD hb
  have C : fb_OK x cX0_ofTree "FallsBetween" "ofTree" := C
  obtain ⟨Tm, Y, Ym, Yi, lo, lom, loi, hX⟩ := h
  have hG := xw_F.rf M0
  obtain ⟨k0, k1, k2, k3, k4, k5, k6, k7, k8⟩ := id hk
  refine gx_aload_n (q := 1) C dX0_ofTree_0 rfl rfl rfl ?_
  refine gx_iload_n (q := 2) C dX0_ofTree_1 rfl rfl rfl ?_
  exact gx_ct C E hx (sx_X0_232 (As := [_]) C hX.o rfl rfl dX0_ofTree_2) (xa_mustBeTree_b _ _ _ _ v hb ⟨_, _, _, _, _, _, _, hX⟩ hk) kw_X0_mustBeTree (by decide) (Nat.le_of_ble_eq_true rfl) (by omega) (by omega) dX0_ofTree_2 (fun _ h => h)
set_option maxHeartbeats 800000 in
theorem xa_ofTree_b2 (l : Launch) (D : va_G) (b : Nat) (M0 : List va_E) {R T Ti P Rw : Nat → Nat} {hi : Bool} {lm rm : Nat} (t : Nat) (ht : t < T 0) (v : Int32) (hb : v < 0 ∨ nI 36 ≤ v) (h : xw_P D b M0 R T Ti P Rw hi lm rm) (hk : okT T) : fb_CT l D b yX0_ofTree cX0_ofTree 3 (some .int) 10 171 1 7 [.ref (b + 0), .int (nI t), .int v] M0 (.threw (b + M0.length)) (ex_R b M0 9 (-1)) := by
  refine fb_start [some (.ref (b + 0)), some (.int (nI t)), some (.int v)] (by decide) (Nat.le_of_ble_eq_true rfl) rfl ?_
  intro x hl hD hb C E hx
  subst hl hD hb
  have C : fb_OK x cX0_ofTree "FallsBetween" "ofTree" := C
  obtain ⟨Tm, Y, Ym, Yi, lo, lom, loi, hX⟩ := h
  have hG := xw_F.rf M0
  obtain ⟨k0, k1, k2, k3, k4, k5, k6, k7, k8⟩ := id hk
  refine gx_aload_n (q := 1) C dX0_ofTree_0 rfl rfl rfl ?_
  refine gx_iload_n (q := 2) C dX0_ofTree_1 rfl rfl rfl ?_
  refine gx_cv (q := 5) C E (sx_X0_232 (As := [_]) C hX.o rfl rfl dX0_ofTree_2) (xa_mustBeTree_o _ _ _ _ t ht ⟨_, _, _, _, _, _, _, hX⟩ hk) kw_X0_mustBeTree (by decide) (Nat.le_of_ble_eq_true rfl) rfl rfl (by omega) (by omega) dX0_ofTree_2 rfl (fun Mv rv => ?_)
  rw [rv]
  refine gx_iload_n (q := 6) C dX0_ofTree_5 rfl rfl rfl ?_
  exact gx_ct C E hx (sx_X0_224 (As := [_]) C rfl rfl dX0_ofTree_6) (fx_mustBeSquare_b _ _ _ _ v hb) kw_X0_mustBeSquare (by decide) (Nat.le_of_ble_eq_true rfl) (by omega) (by omega) dX0_ofTree_6 (fun _ h => h)
set_option maxHeartbeats 800000 in
theorem xa_ofTree_o (l : Launch) (D : va_G) (b : Nat) (M0 : List va_E) {R T Ti P Rw : Nat → Nat} {hi : Bool} {lm rm : Nat} (t : Nat) (ht : t < T 0) (q : Nat) (hq : q < 36) (h : xw_P D b M0 R T Ti P Rw hi lm rm) (hk : okT T) : fb_CT l D b yX0_ofTree cX0_ofTree 3 (some .int) 10 171 0 0 [.ref (b + 0), .int (nI t), .int (nI q)] M0 (.returned (some (.int (nI (flp T t q 5))))) (fun M' => xw_P D b M' R T Ti P Rw hi lm rm ∧ xw_F M0 M') := by
  refine fb_start [some (.ref (b + 0)), some (.int (nI t)), some (.int (nI q))] (by decide) (Nat.le_of_ble_eq_true rfl) rfl ?_
  intro x hl hD hb C E hx
  subst hl hD hb
  have C : fb_OK x cX0_ofTree "FallsBetween" "ofTree" := C
  obtain ⟨Tm, Y, Ym, Yi, lo, lom, loi, hX⟩ := h
  have hG := xw_F.rf M0
  obtain ⟨k0, k1, k2, k3, k4, k5, k6, k7, k8⟩ := id hk
  refine gx_aload_n (q := 1) C dX0_ofTree_0 rfl rfl rfl ?_
  refine gx_iload_n (q := 2) C dX0_ofTree_1 rfl rfl rfl ?_
  refine gx_cv (q := 5) C E (sx_X0_232 (As := [_]) C hX.o rfl rfl dX0_ofTree_2) (xa_mustBeTree_o _ _ _ _ t ht ⟨_, _, _, _, _, _, _, hX⟩ hk) kw_X0_mustBeTree (by decide) (Nat.le_of_ble_eq_true rfl) rfl rfl (by omega) (by omega) dX0_ofTree_2 rfl (fun Mv rv => ?_)
  rw [rv]
  refine gx_iload_n (q := 6) C dX0_ofTree_5 rfl rfl rfl ?_
  refine gx_cv (q := 9) C E (sx_X0_224 (As := [_]) C rfl rfl dX0_ofTree_6) (fx_mustBeSquare_o _ _ _ _ q hq) kw_X0_mustBeSquare (by decide) (Nat.le_of_ble_eq_true rfl) rfl rfl (by omega) (by omega) dX0_ofTree_6 rfl (fun Mv rv => ?_)
  rw [rv]
  refine gx_aload_n (q := 10) C dX0_ofTree_9 rfl rfl rfl ?_
  refine fg_X0_51 (q := 13) C hX.o rfl dX0_ofTree_10 rfl ?_
  refine gx_cs (q := 16) C E (sx_X0_123 (As := []) C hX.t.o rfl rfl dX0_ofTree_13) (tx_find _ _ _ _ hX.t hk) kw_X1_find (by decide) (Nat.le_of_ble_eq_true rfl) rfl rfl (by omega) (by omega) dX0_ofTree_13 rfl (fun M r13 => ?_)
  obtain ⟨⟨Y, hY, hV1⟩, hF1⟩ := r13
  have hX := hX.u1 hV1 hF1
  have hG := hG.tw hF1 (by decide)
  refine fg_X0_177 (q := 19) C hX.t.o rfl dX0_ofTree_16 rfl ?_
  refine gx_bipush (q := 21) (v := nI 36) C dX0_ofTree_19 (by decide) rfl ?_
  refine gx_iload_n (q := 22) C dX0_ofTree_21 rfl rfl rfl ?_
  refine gn_imul (q := 23) C dX0_ofTree_22 rfl ?_
  refine gx_iload_n (q := 24) C dX0_ofTree_23 rfl rfl rfl ?_
  refine gn_iadd (q := 25) C dX0_ofTree_24 rfl ?_
  refine tv_ld_lies (q := 26) C hX.t (sl36 (by omega) hq) dX0_ofTree_25 rfl ?_
  exact gx_iretE C E (by rw [hY t q ht hq]) dX0_ofTree_26 (⟨⟨_, _, _, _, _, _, _, hX⟩, hG⟩) (by omega) (by omega)
