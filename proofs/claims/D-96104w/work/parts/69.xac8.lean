/-! the component's acts: asked, images, and their numbers -/
set_option maxRecDepth 100000
set_option maxHeartbeats 800000 in
theorem xa_setAsked_b1 (l : Launch) (D : va_G) (b : Nat) (M0 : List va_E) {R T Ti P Rw : Nat → Nat} {hi : Bool} {lm rm : Nat} (v : Int32) (hb : v < 0 ∨ nI 4 ≤ v) (w u : Int32) (h : xw_P D b M0 R T Ti P Rw hi lm rm) (hk : okT T) : fb_CT l D b yX0_setAsked cX0_setAsked 4 (some .int) 10 170 1 7 [.ref (b + 0), .int v, .int w, .int u] M0 (.threw (b + M0.length)) (ex_R b M0 9 (-1)) := by
  refine fb_start [some (.ref (b + 0)), some (.int v), some (.int w), some (.int u)] (by decide) (Nat.le_of_ble_eq_true rfl) rfl ?_
  intro x hl hD hb C E hx
  subst hl hD hb
  have C : fb_OK x cX0_setAsked "FallsBetween" "setAsked" := C
  obtain ⟨Tm, Y, Ym, Yi, lo, lom, loi, hX⟩ := h
  have hG := xw_F.rf M0
  obtain ⟨k0, k1, k2, k3, k4, k5, k6, k7, k8⟩ := id hk
  refine gx_iload_n (q := 1) C dX0_setAsked_0 rfl rfl rfl ?_
  exact gx_ct C E hx (sx_X0_249 (As := [_]) C rfl rfl dX0_setAsked_1) (fx_mustBeGarden_b _ _ _ _ v hb) kw_X0_mustBeGarden (by decide) (Nat.le_of_ble_eq_true rfl) (by omega) (by omega) dX0_setAsked_1 (fun _ h => h)
set_option maxHeartbeats 800000 in
theorem xa_setAsked_b2 (l : Launch) (D : va_G) (b : Nat) (M0 : List va_E) {R T Ti P Rw : Nat → Nat} {hi : Bool} {lm rm : Nat} (g : Nat) (hg : g < 4) (v : Int32) (hb : v < nI 1) (u : Int32) (h : xw_P D b M0 R T Ti P Rw hi lm rm) (hk : okT T) : fb_CT l D b yX0_setAsked cX0_setAsked 4 (some .int) 10 170 1 7 [.ref (b + 0), .int (nI g), .int v, .int u] M0 (.threw (b + M0.length)) (ex_R b M0 9 (-4)) := by
  refine fb_start [some (.ref (b + 0)), some (.int (nI g)), some (.int v), some (.int u)] (by decide) (Nat.le_of_ble_eq_true rfl) rfl ?_
  intro x hl hD hb C E hx
  subst hl hD hb
  have C : fb_OK x cX0_setAsked "FallsBetween" "setAsked" := C
  obtain ⟨Tm, Y, Ym, Yi, lo, lom, loi, hX⟩ := h
  have hG := xw_F.rf M0
  obtain ⟨k0, k1, k2, k3, k4, k5, k6, k7, k8⟩ := id hk
  refine gx_iload_n (q := 1) C dX0_setAsked_0 rfl rfl rfl ?_
  refine gx_cv (q := 4) C E (sx_X0_249 (As := [_]) C rfl rfl dX0_setAsked_1) (fx_mustBeGarden_o _ _ _ _ g hg) kw_X0_mustBeGarden (by decide) (Nat.le_of_ble_eq_true rfl) rfl rfl (by omega) (by omega) dX0_setAsked_1 rfl (fun Mv rv => ?_)
  rw [rv]
  refine gx_iload_n (q := 5) C dX0_setAsked_4 rfl rfl rfl ?_
  refine gx_i2l (q := 6) C dX0_setAsked_5 (rfl) rfl ?_
  refine gx_lconst (q := 7) (v := 1) C dX0_setAsked_6 (by decide) rfl ?_
  refine gx_ldc2 (q := 10) C dX0_setAsked_7 q858 rfl ?_
  exact gx_ct C E hx (sx_X0_220 (As := [_, _, _]) C rfl rfl dX0_setAsked_10) (fx_within_b _ _ _ _ _ _ _ (by rw [l_c1, l_lt]; exact hb)) kw_X0_within (by decide) (Nat.le_of_ble_eq_true rfl) (by omega) (by omega) dX0_setAsked_10 (fun _ h => h)
set_option maxHeartbeats 800000 in
theorem xa_setAsked_b3 (l : Launch) (D : va_G) (b : Nat) (M0 : List va_E) {R T Ti P Rw : Nat → Nat} {hi : Bool} {lm rm : Nat} (g : Nat) (hg : g < 4) (v : Int32) (hb : nI 21 ≤ v) (u : Int32) (h : xw_P D b M0 R T Ti P Rw hi lm rm) (hk : okT T) : fb_CT l D b yX0_setAsked cX0_setAsked 4 (some .int) 10 170 1 7 [.ref (b + 0), .int (nI g), .int v, .int u] M0 (.threw (b + M0.length)) (ex_R b M0 9 (-6)) := by
  refine fb_start [some (.ref (b + 0)), some (.int (nI g)), some (.int v), some (.int u)] (by decide) (Nat.le_of_ble_eq_true rfl) rfl ?_
  intro x hl hD hb C E hx
  subst hl hD hb
  have C : fb_OK x cX0_setAsked "FallsBetween" "setAsked" := C
  obtain ⟨Tm, Y, Ym, Yi, lo, lom, loi, hX⟩ := h
  have hG := xw_F.rf M0
  obtain ⟨k0, k1, k2, k3, k4, k5, k6, k7, k8⟩ := id hk
  refine gx_iload_n (q := 1) C dX0_setAsked_0 rfl rfl rfl ?_
  refine gx_cv (q := 4) C E (sx_X0_249 (As := [_]) C rfl rfl dX0_setAsked_1) (fx_mustBeGarden_o _ _ _ _ g hg) kw_X0_mustBeGarden (by decide) (Nat.le_of_ble_eq_true rfl) rfl rfl (by omega) (by omega) dX0_setAsked_1 rfl (fun Mv rv => ?_)
  rw [rv]
  refine gx_iload_n (q := 5) C dX0_setAsked_4 rfl rfl rfl ?_
  refine gx_i2l (q := 6) C dX0_setAsked_5 (rfl) rfl ?_
  refine gx_lconst (q := 7) (v := 1) C dX0_setAsked_6 (by decide) rfl ?_
  refine gx_ldc2 (q := 10) C dX0_setAsked_7 q858 rfl ?_
  exact gx_ct C E hx (sx_X0_220 (As := [_, _, _]) C rfl rfl dX0_setAsked_10) (fx_within_a _ _ _ _ _ _ _ (by rw [l_c1, l_le]; exact Int32.le_trans (by decide) hb) (by rw [l_k20, l_lt]; exact lt_gt (by decide) hb)) kw_X0_within (by decide) (Nat.le_of_ble_eq_true rfl) (by omega) (by omega) dX0_setAsked_10 (fun _ h => h)
set_option maxHeartbeats 800000 in
theorem xa_setAsked_b4 (l : Launch) (D : va_G) (b : Nat) (M0 : List va_E) {R T Ti P Rw : Nat → Nat} {hi : Bool} {lm rm : Nat} (g : Nat) (hg : g < 4) (f : Nat) (h1 : 1 ≤ f) (h2 : f ≤ 20) (h6 : T 0 = 6) (u : Int32) (h : xw_P D b M0 R T Ti P Rw hi lm rm) (hk : okT T) : fb_CT l D b yX0_setAsked cX0_setAsked 4 (some .int) 10 170 1 7 [.ref (b + 0), .int (nI g), .int (nI f), .int u] M0 (.threw (b + M0.length)) (ex_R b M0 9 (-6)) := by
  refine fb_start [some (.ref (b + 0)), some (.int (nI g)), some (.int (nI f)), some (.int u)] (by decide) (Nat.le_of_ble_eq_true rfl) rfl ?_
  intro x hl hD hb C E hx
  subst hl hD hb
  have C : fb_OK x cX0_setAsked "FallsBetween" "setAsked" := C
  obtain ⟨Tm, Y, Ym, Yi, lo, lom, loi, hX⟩ := h
  have hG := xw_F.rf M0
  obtain ⟨k0, k1, k2, k3, k4, k5, k6, k7, k8⟩ := id hk
  refine gx_iload_n (q := 1) C dX0_setAsked_0 rfl rfl rfl ?_
  refine gx_cv (q := 4) C E (sx_X0_249 (As := [_]) C rfl rfl dX0_setAsked_1) (fx_mustBeGarden_o _ _ _ _ g hg) kw_X0_mustBeGarden (by decide) (Nat.le_of_ble_eq_true rfl) rfl rfl (by omega) (by omega) dX0_setAsked_1 rfl (fun Mv rv => ?_)
  rw [rv]
  refine gx_iload_n (q := 5) C dX0_setAsked_4 rfl rfl rfl ?_
  refine gx_i2l (q := 6) C dX0_setAsked_5 (rfl) rfl ?_
  refine gx_lconst (q := 7) (v := 1) C dX0_setAsked_6 (by decide) rfl ?_
  refine gx_ldc2 (q := 10) C dX0_setAsked_7 q858 rfl ?_
  refine gx_cv (q := 13) C E (sx_X0_220 (As := [_, _, _]) C rfl rfl dX0_setAsked_10) (fx_within_o _ _ _ _ _ _ _ (by rw [l_c1]; exact l_nn h1 (by omega)) (by rw [l_k20]; exact l_nn h2 (by decide))) kw_X0_within (by decide) (Nat.le_of_ble_eq_true rfl) rfl rfl (by omega) (by omega) dX0_setAsked_10 rfl (fun Mv rv => ?_)
  rw [rv]
  refine gx_aload_n (q := 14) C dX0_setAsked_13 rfl rfl rfl ?_
  refine fg_X0_51 (q := 17) C hX.o rfl dX0_setAsked_14 rfl ?_
  refine fg_X0_120 (q := 20) C hX.t.o rfl dX0_setAsked_17 rfl ?_
  refine gx_bipush (q := 22) (v := nI 6) C dX0_setAsked_20 (by decide) rfl ?_
  refine gn_icmp_ge (q := 25) (tgt := 29) C dX0_setAsked_22 (by decide) rfl (by omega) (by omega) (fun c22 => ?_) (fun c22 => by exfalso; omega)
  refine gx_iconst (q := 30) (v := bI false) C dX0_setAsked_29 (by decide) rfl ?_
  refine gx_bipush (q := 32) (v := -6) C dX0_setAsked_30 (by decide) rfl ?_
  exact gx_ct C E hx (sx_X0_9 (As := [_, _]) C rfl rfl dX0_setAsked_32) (fx_must_f _ _ _ _ (-6)) kw_X0_must (by decide) (Nat.le_of_ble_eq_true rfl) (by omega) (by omega) dX0_setAsked_32 (fun _ h => h)
set_option maxHeartbeats 800000 in
theorem xa_setAsked_b5 (l : Launch) (D : va_G) (b : Nat) (M0 : List va_E) {R T Ti P Rw : Nat → Nat} {hi : Bool} {lm rm : Nat} (g : Nat) (hg : g < 4) (f : Nat) (h1 : 1 ≤ f) (h2 : f ≤ 20) (h6 : T 0 < 6) (v : Int32) (hb : v < 0 ∨ nI 2 ≤ v) (h : xw_P D b M0 R T Ti P Rw hi lm rm) (hk : okT T) : fb_CT l D b yX0_setAsked cX0_setAsked 4 (some .int) 10 170 1 7 [.ref (b + 0), .int (nI g), .int (nI f), .int v] M0 (.threw (b + M0.length)) (ex_R b M0 9 (-2)) := by
  refine fb_start [some (.ref (b + 0)), some (.int (nI g)), some (.int (nI f)), some (.int v)] (by decide) (Nat.le_of_ble_eq_true rfl) rfl ?_
  intro x hl hD hb C E hx
  subst hl hD hb
  have C : fb_OK x cX0_setAsked "FallsBetween" "setAsked" := C
  obtain ⟨Tm, Y, Ym, Yi, lo, lom, loi, hX⟩ := h
  have hG := xw_F.rf M0
  obtain ⟨k0, k1, k2, k3, k4, k5, k6, k7, k8⟩ := id hk
  refine gx_iload_n (q := 1) C dX0_setAsked_0 rfl rfl rfl ?_
  refine gx_cv (q := 4) C E (sx_X0_249 (As := [_]) C rfl rfl dX0_setAsked_1) (fx_mustBeGarden_o _ _ _ _ g hg) kw_X0_mustBeGarden (by decide) (Nat.le_of_ble_eq_true rfl) rfl rfl (by omega) (by omega) dX0_setAsked_1 rfl (fun Mv rv => ?_)
  rw [rv]
  refine gx_iload_n (q := 5) C dX0_setAsked_4 rfl rfl rfl ?_
  refine gx_i2l (q := 6) C dX0_setAsked_5 (rfl) rfl ?_
  refine gx_lconst (q := 7) (v := 1) C dX0_setAsked_6 (by decide) rfl ?_
  refine gx_ldc2 (q := 10) C dX0_setAsked_7 q858 rfl ?_
  refine gx_cv (q := 13) C E (sx_X0_220 (As := [_, _, _]) C rfl rfl dX0_setAsked_10) (fx_within_o _ _ _ _ _ _ _ (by rw [l_c1]; exact l_nn h1 (by omega)) (by rw [l_k20]; exact l_nn h2 (by decide))) kw_X0_within (by decide) (Nat.le_of_ble_eq_true rfl) rfl rfl (by omega) (by omega) dX0_setAsked_10 rfl (fun Mv rv => ?_)
  rw [rv]
  refine gx_aload_n (q := 14) C dX0_setAsked_13 rfl rfl rfl ?_
  refine fg_X0_51 (q := 17) C hX.o rfl dX0_setAsked_14 rfl ?_
  refine fg_X0_120 (q := 20) C hX.t.o rfl dX0_setAsked_17 rfl ?_
  refine gx_bipush (q := 22) (v := nI 6) C dX0_setAsked_20 (by decide) rfl ?_
  refine gn_icmp_ge (q := 25) (tgt := 29) C dX0_setAsked_22 (by decide) rfl (by omega) (by omega) (fun c22 => by exfalso; omega) (fun c22 => ?_)
  refine gx_iconst (q := 26) (v := bI true) C dX0_setAsked_25 (by decide) rfl ?_
  refine gx_goto (tgt := 30) C dX0_setAsked_26 (by decide) ?_
  refine gx_bipush (q := 32) (v := -6) C dX0_setAsked_30 (by decide) rfl ?_
  refine gx_cv (q := 35) C E (sx_X0_9 (As := [_, _]) C rfl rfl dX0_setAsked_32) (fx_must_t _ _ _ _ (-6)) kw_X0_must (by decide) (Nat.le_of_ble_eq_true rfl) rfl rfl (by omega) (by omega) dX0_setAsked_32 rfl (fun Mv rv => ?_)
  rw [rv]
  refine gx_iload_n (q := 36) C dX0_setAsked_35 rfl rfl rfl ?_
  exact gx_ct C E hx (sx_X0_285 (As := [_]) C rfl rfl dX0_setAsked_36) (fx_mustBeBit_b _ _ _ _ v hb) kw_X0_mustBeBit (by decide) (Nat.le_of_ble_eq_true rfl) (by omega) (by omega) dX0_setAsked_36 (fun _ h => h)
set_option maxHeartbeats 800000 in
theorem xa_setAsked_0 (l : Launch) (D : va_G) (b : Nat) (M0 : List va_E) {R T Ti P Rw : Nat → Nat} {hi : Bool} {lm rm : Nat} (g : Nat) (hg : g < 4) (f : Nat) (h1 : 1 ≤ f) (h2 : f ≤ 20) (h6 : T 0 < 6) (hL : 54 ≤ M0.length) (h : xw_P D b M0 R T Ti P Rw hi lm rm) (hk : okT T) : fb_CT l D b yX0_setAsked cX0_setAsked 4 (some .int) 10 170 36 108 [.ref (b + 0), .int (nI g), .int (nI f), .int (nI 0)] M0 (.returned (some (.int (bs1 (stS (setO T) (setV T g f) 36))))) (fun M' => xw_P D b M' R T Ti P Rw hi lm rm ∧ xw_F M0 M') := by
  refine fb_start [some (.ref (b + 0)), some (.int (nI g)), some (.int (nI f)), some (.int (nI 0))] (by decide) (Nat.le_of_ble_eq_true rfl) rfl ?_
  intro x hl hD hb C E hx
  subst hl hD hb
  have C : fb_OK x cX0_setAsked "FallsBetween" "setAsked" := C
  obtain ⟨Tm, Y, Ym, Yi, lo, lom, loi, hX⟩ := h
  have hG := xw_F.rf M0
  obtain ⟨k0, k1, k2, k3, k4, k5, k6, k7, k8⟩ := id hk
  refine gx_iload_n (q := 1) C dX0_setAsked_0 rfl rfl rfl ?_
  refine gx_cv (q := 4) C E (sx_X0_249 (As := [_]) C rfl rfl dX0_setAsked_1) (fx_mustBeGarden_o _ _ _ _ g hg) kw_X0_mustBeGarden (by decide) (Nat.le_of_ble_eq_true rfl) rfl rfl (by omega) (by omega) dX0_setAsked_1 rfl (fun Mv rv => ?_)
  rw [rv]
  refine gx_iload_n (q := 5) C dX0_setAsked_4 rfl rfl rfl ?_
  refine gx_i2l (q := 6) C dX0_setAsked_5 (rfl) rfl ?_
  refine gx_lconst (q := 7) (v := 1) C dX0_setAsked_6 (by decide) rfl ?_
  refine gx_ldc2 (q := 10) C dX0_setAsked_7 q858 rfl ?_
  refine gx_cv (q := 13) C E (sx_X0_220 (As := [_, _, _]) C rfl rfl dX0_setAsked_10) (fx_within_o _ _ _ _ _ _ _ (by rw [l_c1]; exact l_nn h1 (by omega)) (by rw [l_k20]; exact l_nn h2 (by decide))) kw_X0_within (by decide) (Nat.le_of_ble_eq_true rfl) rfl rfl (by omega) (by omega) dX0_setAsked_10 rfl (fun Mv rv => ?_)
  rw [rv]
  refine gx_aload_n (q := 14) C dX0_setAsked_13 rfl rfl rfl ?_
  refine fg_X0_51 (q := 17) C hX.o rfl dX0_setAsked_14 rfl ?_
  refine fg_X0_120 (q := 20) C hX.t.o rfl dX0_setAsked_17 rfl ?_
  refine gx_bipush (q := 22) (v := nI 6) C dX0_setAsked_20 (by decide) rfl ?_
  refine gn_icmp_ge (q := 25) (tgt := 29) C dX0_setAsked_22 (by decide) rfl (by omega) (by omega) (fun c22 => by exfalso; omega) (fun c22 => ?_)
  refine gx_iconst (q := 26) (v := bI true) C dX0_setAsked_25 (by decide) rfl ?_
  refine gx_goto (tgt := 30) C dX0_setAsked_26 (by decide) ?_
  refine gx_bipush (q := 32) (v := -6) C dX0_setAsked_30 (by decide) rfl ?_
  refine gx_cv (q := 35) C E (sx_X0_9 (As := [_, _]) C rfl rfl dX0_setAsked_32) (fx_must_t _ _ _ _ (-6)) kw_X0_must (by decide) (Nat.le_of_ble_eq_true rfl) rfl rfl (by omega) (by omega) dX0_setAsked_32 rfl (fun Mv rv => ?_)
  rw [rv]
  refine gx_iload_n (q := 36) C dX0_setAsked_35 rfl rfl rfl ?_
  refine gx_cv (q := 39) C E (sx_X0_285 (As := [_]) C rfl rfl dX0_setAsked_36) (fx_mustBeBit_o _ _ _ _ 0 (by decide)) kw_X0_mustBeBit (by decide) (Nat.le_of_ble_eq_true rfl) rfl rfl (by omega) (by omega) dX0_setAsked_36 rfl (fun Mv rv => ?_)
  rw [rv]
  refine gx_aload_n (q := 40) C dX0_setAsked_39 rfl rfl rfl ?_
  refine gx_iload_n (q := 41) C dX0_setAsked_40 rfl rfl rfl ?_
  refine gx_iload_n (q := 42) C dX0_setAsked_41 rfl rfl rfl ?_
  refine gx_iload_n (q := 43) C dX0_setAsked_42 rfl rfl rfl ?_
  refine gx_cs (q := 46) C E (sx_X0_288 (As := [_, _, _]) C hX.o rfl rfl dX0_setAsked_43) (xa_setTold_0 _ _ _ _ g hg f h1 h2 h6 hL ⟨_, _, _, _, _, _, _, hX⟩ hk) kw_X0_setTold (by decide) (Nat.le_of_ble_eq_true rfl) rfl rfl (by omega) (by omega) dX0_setAsked_43 rfl (fun M r43 => ?_)
  obtain ⟨⟨Tm, Y, Ym, Yi, lo, lom, loi, hX⟩, hG1⟩ := r43
  have hG := hG.tr hG1
  exact gx_iret C E dX0_setAsked_46 (⟨⟨_, _, _, _, _, _, _, hX⟩, hG⟩) (by omega) (by omega)
set_option maxHeartbeats 800000 in
theorem xa_setAsked_1 (l : Launch) (D : va_G) (b : Nat) (M0 : List va_E) {R T Ti P Rw : Nat → Nat} {hi : Bool} {lm rm : Nat} (g : Nat) (hg : g < 4) (f : Nat) (h1 : 1 ≤ f) (h2 : f ≤ 20) (h6 : T 0 < 6) (hL : 54 ≤ M0.length) (h : xw_P D b M0 R T Ti P Rw hi lm rm) (hk : okT T) : fb_CT l D b yX0_setAsked cX0_setAsked 4 (some .int) 10 170 36 108 [.ref (b + 0), .int (nI g), .int (nI f), .int (nI 1)] M0 (.returned (some (.int (bs2 (stS (setO T) (setV T g f) 36))))) (fun M' => xw_P D b M' R T Ti P Rw hi lm rm ∧ xw_F M0 M') := by
  refine fb_start [some (.ref (b + 0)), some (.int (nI g)), some (.int (nI f)), some (.int (nI 1))] (by decide) (Nat.le_of_ble_eq_true rfl) rfl ?_
  intro x hl hD hb C E hx
  subst hl hD hb
  have C : fb_OK x cX0_setAsked "FallsBetween" "setAsked" := C
  obtain ⟨Tm, Y, Ym, Yi, lo, lom, loi, hX⟩ := h
  have hG := xw_F.rf M0
  obtain ⟨k0, k1, k2, k3, k4, k5, k6, k7, k8⟩ := id hk
  refine gx_iload_n (q := 1) C dX0_setAsked_0 rfl rfl rfl ?_
  refine gx_cv (q := 4) C E (sx_X0_249 (As := [_]) C rfl rfl dX0_setAsked_1) (fx_mustBeGarden_o _ _ _ _ g hg) kw_X0_mustBeGarden (by decide) (Nat.le_of_ble_eq_true rfl) rfl rfl (by omega) (by omega) dX0_setAsked_1 rfl (fun Mv rv => ?_)
  rw [rv]
  refine gx_iload_n (q := 5) C dX0_setAsked_4 rfl rfl rfl ?_
  refine gx_i2l (q := 6) C dX0_setAsked_5 (rfl) rfl ?_
  refine gx_lconst (q := 7) (v := 1) C dX0_setAsked_6 (by decide) rfl ?_
  refine gx_ldc2 (q := 10) C dX0_setAsked_7 q858 rfl ?_
  refine gx_cv (q := 13) C E (sx_X0_220 (As := [_, _, _]) C rfl rfl dX0_setAsked_10) (fx_within_o _ _ _ _ _ _ _ (by rw [l_c1]; exact l_nn h1 (by omega)) (by rw [l_k20]; exact l_nn h2 (by decide))) kw_X0_within (by decide) (Nat.le_of_ble_eq_true rfl) rfl rfl (by omega) (by omega) dX0_setAsked_10 rfl (fun Mv rv => ?_)
  rw [rv]
  refine gx_aload_n (q := 14) C dX0_setAsked_13 rfl rfl rfl ?_
  refine fg_X0_51 (q := 17) C hX.o rfl dX0_setAsked_14 rfl ?_
  refine fg_X0_120 (q := 20) C hX.t.o rfl dX0_setAsked_17 rfl ?_
  refine gx_bipush (q := 22) (v := nI 6) C dX0_setAsked_20 (by decide) rfl ?_
  refine gn_icmp_ge (q := 25) (tgt := 29) C dX0_setAsked_22 (by decide) rfl (by omega) (by omega) (fun c22 => by exfalso; omega) (fun c22 => ?_)
  refine gx_iconst (q := 26) (v := bI true) C dX0_setAsked_25 (by decide) rfl ?_
  refine gx_goto (tgt := 30) C dX0_setAsked_26 (by decide) ?_
  refine gx_bipush (q := 32) (v := -6) C dX0_setAsked_30 (by decide) rfl ?_
  refine gx_cv (q := 35) C E (sx_X0_9 (As := [_, _]) C rfl rfl dX0_setAsked_32) (fx_must_t _ _ _ _ (-6)) kw_X0_must (by decide) (Nat.le_of_ble_eq_true rfl) rfl rfl (by omega) (by omega) dX0_setAsked_32 rfl (fun Mv rv => ?_)
  rw [rv]
  refine gx_iload_n (q := 36) C dX0_setAsked_35 rfl rfl rfl ?_
  refine gx_cv (q := 39) C E (sx_X0_285 (As := [_]) C rfl rfl dX0_setAsked_36) (fx_mustBeBit_o _ _ _ _ 1 (by decide)) kw_X0_mustBeBit (by decide) (Nat.le_of_ble_eq_true rfl) rfl rfl (by omega) (by omega) dX0_setAsked_36 rfl (fun Mv rv => ?_)
  rw [rv]
  refine gx_aload_n (q := 40) C dX0_setAsked_39 rfl rfl rfl ?_
  refine gx_iload_n (q := 41) C dX0_setAsked_40 rfl rfl rfl ?_
  refine gx_iload_n (q := 42) C dX0_setAsked_41 rfl rfl rfl ?_
  refine gx_iload_n (q := 43) C dX0_setAsked_42 rfl rfl rfl ?_
  refine gx_cs (q := 46) C E (sx_X0_288 (As := [_, _, _]) C hX.o rfl rfl dX0_setAsked_43) (xa_setTold_1 _ _ _ _ g hg f h1 h2 h6 hL ⟨_, _, _, _, _, _, _, hX⟩ hk) kw_X0_setTold (by decide) (Nat.le_of_ble_eq_true rfl) rfl rfl (by omega) (by omega) dX0_setAsked_43 rfl (fun M r43 => ?_)
  obtain ⟨⟨Tm, Y, Ym, Yi, lo, lom, loi, hX⟩, hG1⟩ := r43
  have hG := hG.tr hG1
  exact gx_iret C E dX0_setAsked_46 (⟨⟨_, _, _, _, _, _, _, hX⟩, hG⟩) (by omega) (by omega)
set_option maxHeartbeats 800000 in
theorem xa_ofLast_row_b (l : Launch) (D : va_G) (b : Nat) (M0 : List va_E) {R T Ti P Rw : Nat → Nat} {hi : Bool} {lm rm : Nat} (v : Int32) (hb : v < 0) (w2 : Int32) (w3 : Int32) (h : xw_P D b M0 R T Ti P Rw hi lm rm) (hk : okT T) : fb_CT l D b yX0_ofLast cX0_ofLast 5 (some .int) 10 170 1 7 [.ref (b + 0), .int (nI 26), .int v, .int w2, .int w3] M0 (.threw (b + M0.length)) (ex_R b M0 9 (-4)) := by
  refine fb_start [some (.ref (b + 0)), some (.int (nI 26)), some (.int v), some (.int w2), some (.int w3)] (by decide) (Nat.le_of_ble_eq_true rfl) rfl ?_
  intro x hl hD hb C E hx
  subst hl hD hb
  have C : fb_OK x cX0_ofLast "FallsBetween" "ofLast" := C
  obtain ⟨Tm, Y, Ym, Yi, lo, lom, loi, hX⟩ := h
  have hG := xw_F.rf M0
  obtain ⟨k0, k1, k2, k3, k4, k5, k6, k7, k8⟩ := id hk
  refine gx_iload_n (q := 1) C dX0_ofLast_0 rfl rfl rfl ?_
  refine gx_tableIn (tgt := 32) C dX0_ofLast_1 (by decide) (by decide) (rfl) (by decide) ?_
  refine gx_iload_n (q := 33) C dX0_ofLast_32 rfl rfl rfl ?_
  refine gx_i2l (q := 34) C dX0_ofLast_33 (rfl) rfl ?_
  refine gx_lconst (q := 35) (v := 0) C dX0_ofLast_34 (by decide) rfl ?_
  refine gx_ldc2 (q := 38) C dX0_ofLast_35 q949 rfl ?_
  exact gx_ct C E hx (sx_X0_220 (As := [_, _, _]) C rfl rfl dX0_ofLast_38) (fx_within_b _ _ _ _ _ _ _ (by rw [l_c0, l_lt]; exact hb)) kw_X0_within (by decide) (Nat.le_of_ble_eq_true rfl) (by omega) (by omega) dX0_ofLast_38 (fun _ h => h)
set_option maxHeartbeats 800000 in
theorem xa_ofLast_row_a (l : Launch) (D : va_G) (b : Nat) (M0 : List va_E) {R T Ti P Rw : Nat → Nat} {hi : Bool} {lm rm : Nat} (v : Int32) (hb : nI 100 ≤ v) (w2 : Int32) (w3 : Int32) (h : xw_P D b M0 R T Ti P Rw hi lm rm) (hk : okT T) : fb_CT l D b yX0_ofLast cX0_ofLast 5 (some .int) 10 170 1 7 [.ref (b + 0), .int (nI 26), .int v, .int w2, .int w3] M0 (.threw (b + M0.length)) (ex_R b M0 9 (-6)) := by
  refine fb_start [some (.ref (b + 0)), some (.int (nI 26)), some (.int v), some (.int w2), some (.int w3)] (by decide) (Nat.le_of_ble_eq_true rfl) rfl ?_
  intro x hl hD hb C E hx
  subst hl hD hb
  have C : fb_OK x cX0_ofLast "FallsBetween" "ofLast" := C
  obtain ⟨Tm, Y, Ym, Yi, lo, lom, loi, hX⟩ := h
  have hG := xw_F.rf M0
  obtain ⟨k0, k1, k2, k3, k4, k5, k6, k7, k8⟩ := id hk
  refine gx_iload_n (q := 1) C dX0_ofLast_0 rfl rfl rfl ?_
  refine gx_tableIn (tgt := 32) C dX0_ofLast_1 (by decide) (by decide) (rfl) (by decide) ?_
  refine gx_iload_n (q := 33) C dX0_ofLast_32 rfl rfl rfl ?_
  refine gx_i2l (q := 34) C dX0_ofLast_33 (rfl) rfl ?_
  refine gx_lconst (q := 35) (v := 0) C dX0_ofLast_34 (by decide) rfl ?_
  refine gx_ldc2 (q := 38) C dX0_ofLast_35 q949 rfl ?_
  exact gx_ct C E hx (sx_X0_220 (As := [_, _, _]) C rfl rfl dX0_ofLast_38) (fx_within_a _ _ _ _ _ _ _ (by rw [l_c0, l_le]; exact Int32.le_trans (nI_pos' (by decide)) hb) (by rw [l_k99, l_lt]; exact lt_gt (by decide) hb)) kw_X0_within (by decide) (Nat.le_of_ble_eq_true rfl) (by omega) (by omega) dX0_ofLast_38 (fun _ h => h)
set_option maxHeartbeats 800000 in
theorem xa_ofLast_row_f (l : Launch) (D : va_G) (b : Nat) (M0 : List va_E) {R T Ti P Rw : Nat → Nat} {hi : Bool} {lm rm : Nat} (j : Nat) (hj : j < 100) (hf : rm = 12) (w2 : Int32) (w3 : Int32) (h : xw_P D b M0 R T Ti P Rw hi lm rm) (hk : okT T) : fb_CT l D b yX0_ofLast cX0_ofLast 5 (some .int) 10 170 1 7 [.ref (b + 0), .int (nI 26), .int (nI j), .int w2, .int w3] M0 (.threw (b + M0.length)) (ex_R b M0 9 (-6)) := by
  refine fb_start [some (.ref (b + 0)), some (.int (nI 26)), some (.int (nI j)), some (.int w2), some (.int w3)] (by decide) (Nat.le_of_ble_eq_true rfl) rfl ?_
  intro x hl hD hb C E hx
  subst hl hD hb
  have C : fb_OK x cX0_ofLast "FallsBetween" "ofLast" := C
  obtain ⟨Tm, Y, Ym, Yi, lo, lom, loi, hX⟩ := h
  have hG := xw_F.rf M0
  obtain ⟨k0, k1, k2, k3, k4, k5, k6, k7, k8⟩ := id hk
  refine gx_iload_n (q := 1) C dX0_ofLast_0 rfl rfl rfl ?_
  refine gx_tableIn (tgt := 32) C dX0_ofLast_1 (by decide) (by decide) (rfl) (by decide) ?_
  refine gx_iload_n (q := 33) C dX0_ofLast_32 rfl rfl rfl ?_
  refine gx_i2l (q := 34) C dX0_ofLast_33 (rfl) rfl ?_
  refine gx_lconst (q := 35) (v := 0) C dX0_ofLast_34 (by decide) rfl ?_
  refine gx_ldc2 (q := 38) C dX0_ofLast_35 q949 rfl ?_
  refine gx_cv (q := 41) C E (sx_X0_220 (As := [_, _, _]) C rfl rfl dX0_ofLast_38) (fx_within_o _ _ _ _ _ _ _ (in_k l_k99 (by omega) (by decide)).1 (in_k l_k99 (by omega) (by decide)).2) kw_X0_within (by decide) (Nat.le_of_ble_eq_true rfl) rfl rfl (by omega) (by omega) dX0_ofLast_38 rfl (fun Mv rv => ?_)
  rw [rv]
  refine gx_aload_n (q := 42) C dX0_ofLast_41 rfl rfl rfl ?_
  refine fg_X0_192 (q := 45) C hX.o rfl dX0_ofLast_42 rfl ?_
  refine gx_bipush (q := 47) (v := nI 12) C dX0_ofLast_45 (by decide) rfl ?_
  refine gn_icmp_ge (q := 50) (tgt := 54) C dX0_ofLast_47 (by decide) rfl (by omega) (by omega) (fun c47 => ?_) (fun c47 => by exfalso; omega)
  refine gx_iconst (q := 55) (v := bI false) C dX0_ofLast_54 (by decide) rfl ?_
  refine gx_bipush (q := 57) (v := -6) C dX0_ofLast_55 (by decide) rfl ?_
  exact gx_ct C E hx (sx_X0_9 (As := [_, _]) C rfl rfl dX0_ofLast_57) (fx_must_f _ _ _ _ (-6)) kw_X0_must (by decide) (Nat.le_of_ble_eq_true rfl) (by omega) (by omega) dX0_ofLast_57 (fun _ h => h)
set_option maxHeartbeats 800000 in
theorem xa_ofLast_row_o (l : Launch) (D : va_G) (b : Nat) (M0 : List va_E) {R T Ti P Rw : Nat → Nat} {hi : Bool} {lm rm : Nat} (j : Nat) (hj : j < 100) (hf : rm < 12) (w2 : Int32) (w3 : Int32) (h : xw_P D b M0 R T Ti P Rw hi lm rm) (hk : okT T) : fb_CT l D b yX0_ofLast cX0_ofLast 5 (some .int) 10 170 0 0 [.ref (b + 0), .int (nI 26), .int (nI j), .int w2, .int w3] M0 (.returned (some (.int (nI (rm + 1))))) (fun M' => xw_P D b M' R T Ti P (updN Rw rm j) hi lm (rm + 1) ∧ xw_F M0 M') := by
  refine fb_start [some (.ref (b + 0)), some (.int (nI 26)), some (.int (nI j)), some (.int w2), some (.int w3)] (by decide) (Nat.le_of_ble_eq_true rfl) rfl ?_
  intro x hl hD hb C E hx
  subst hl hD hb
  have C : fb_OK x cX0_ofLast "FallsBetween" "ofLast" := C
  obtain ⟨Tm, Y, Ym, Yi, lo, lom, loi, hX⟩ := h
  have hG := xw_F.rf M0
  obtain ⟨k0, k1, k2, k3, k4, k5, k6, k7, k8⟩ := id hk
  refine gx_iload_n (q := 1) C dX0_ofLast_0 rfl rfl rfl ?_
  refine gx_tableIn (tgt := 32) C dX0_ofLast_1 (by decide) (by decide) (rfl) (by decide) ?_
  refine gx_iload_n (q := 33) C dX0_ofLast_32 rfl rfl rfl ?_
  refine gx_i2l (q := 34) C dX0_ofLast_33 (rfl) rfl ?_
  refine gx_lconst (q := 35) (v := 0) C dX0_ofLast_34 (by decide) rfl ?_
  refine gx_ldc2 (q := 38) C dX0_ofLast_35 q949 rfl ?_
  refine gx_cv (q := 41) C E (sx_X0_220 (As := [_, _, _]) C rfl rfl dX0_ofLast_38) (fx_within_o _ _ _ _ _ _ _ (in_k l_k99 (by omega) (by decide)).1 (in_k l_k99 (by omega) (by decide)).2) kw_X0_within (by decide) (Nat.le_of_ble_eq_true rfl) rfl rfl (by omega) (by omega) dX0_ofLast_38 rfl (fun Mv rv => ?_)
  rw [rv]
  refine gx_aload_n (q := 42) C dX0_ofLast_41 rfl rfl rfl ?_
  refine fg_X0_192 (q := 45) C hX.o rfl dX0_ofLast_42 rfl ?_
  refine gx_bipush (q := 47) (v := nI 12) C dX0_ofLast_45 (by decide) rfl ?_
  refine gn_icmp_ge (q := 50) (tgt := 54) C dX0_ofLast_47 (by decide) rfl (by omega) (by omega) (fun c47 => by exfalso; omega) (fun c47 => ?_)
  refine gx_iconst (q := 51) (v := bI true) C dX0_ofLast_50 (by decide) rfl ?_
  refine gx_goto (tgt := 55) C dX0_ofLast_51 (by decide) ?_
  refine gx_bipush (q := 57) (v := -6) C dX0_ofLast_55 (by decide) rfl ?_
  refine gx_cv (q := 60) C E (sx_X0_9 (As := [_, _]) C rfl rfl dX0_ofLast_57) (fx_must_t _ _ _ _ (-6)) kw_X0_must (by decide) (Nat.le_of_ble_eq_true rfl) rfl rfl (by omega) (by omega) dX0_ofLast_57 rfl (fun Mv rv => ?_)
  rw [rv]
  refine gx_aload_n (q := 61) C dX0_ofLast_60 rfl rfl rfl ?_
  refine fg_X0_61 (q := 64) C hX.o rfl dX0_ofLast_61 rfl ?_
  refine gx_aload_n (q := 65) C dX0_ofLast_64 rfl rfl rfl ?_
  refine fg_X0_192 (q := 68) C hX.o rfl dX0_ofLast_65 rfl ?_
  refine gx_iload_n (q := 69) C dX0_ofLast_68 rfl rfl rfl ?_
  refine gx_i2b (q := 70) C dX0_ofLast_69 (i2b_n j hj) rfl ?_
  refine xv_st_row (q := 71) C hX hG (by omega) hj dX0_ofLast_70 rfl (fun M hX hG => ?_)
  refine gx_aload_n (q := 72) C dX0_ofLast_71 rfl rfl rfl ?_
  refine gx_dup (q := 73) C dX0_ofLast_72 rfl rfl ?_
  refine fg_X0_192 (q := 76) C hX.o rfl dX0_ofLast_73 rfl ?_
  refine gx_iconst (q := 77) (v := nI 1) C dX0_ofLast_76 (by decide) rfl ?_
  refine gn_iadd (q := 78) C dX0_ofLast_77 rfl ?_
  refine xv_pf_rowMany (q := 81) C hX hG dX0_ofLast_78 rfl (fun M hX hG => ?_)
  refine gx_aload_n (q := 82) C dX0_ofLast_81 rfl rfl rfl ?_
  refine fg_X0_192 (q := 85) C hX.o rfl dX0_ofLast_82 rfl ?_
  exact gx_iret C E dX0_ofLast_85 (⟨⟨_, _, _, _, _, _, _, hX⟩, hG⟩) (by omega) (by omega)
set_option maxHeartbeats 800000 in
theorem xa_ofLast_judge_b (l : Launch) (D : va_G) (b : Nat) (M0 : List va_E) {R T Ti P Rw : Nat → Nat} {hi : Bool} {lm rm : Nat} (v : Int32) (hb : v < 0 ∨ nI 4 ≤ v) (w2 : Int32) (w3 : Int32) (h : xw_P D b M0 R T Ti P Rw hi lm rm) (hk : okT T) : fb_CT l D b yX0_ofLast cX0_ofLast 5 (some .int) 10 170 1 7 [.ref (b + 0), .int (nI 27), .int v, .int w2, .int w3] M0 (.threw (b + M0.length)) (ex_R b M0 9 (-1)) := by
  refine fb_start [some (.ref (b + 0)), some (.int (nI 27)), some (.int v), some (.int w2), some (.int w3)] (by decide) (Nat.le_of_ble_eq_true rfl) rfl ?_
  intro x hl hD hb C E hx
  subst hl hD hb
  have C : fb_OK x cX0_ofLast "FallsBetween" "ofLast" := C
  obtain ⟨Tm, Y, Ym, Yi, lo, lom, loi, hX⟩ := h
  have hG := xw_F.rf M0
  obtain ⟨k0, k1, k2, k3, k4, k5, k6, k7, k8⟩ := id hk
  refine gx_iload_n (q := 1) C dX0_ofLast_0 rfl rfl rfl ?_
  refine gx_tableIn (tgt := 86) C dX0_ofLast_1 (by decide) (by decide) (rfl) (by decide) ?_
  refine gx_iload_n (q := 87) C dX0_ofLast_86 rfl rfl rfl ?_
  exact gx_ct C E hx (sx_X0_249 (As := [_]) C rfl rfl dX0_ofLast_87) (fx_mustBeGarden_b _ _ _ _ v hb) kw_X0_mustBeGarden (by decide) (Nat.le_of_ble_eq_true rfl) (by omega) (by omega) dX0_ofLast_87 (fun _ h => h)
set_option maxHeartbeats 800000 in
theorem xa_ofLast_judge_o (l : Launch) (D : va_G) (b : Nat) (M0 : List va_E) {R T Ti P Rw : Nat → Nat} {hi : Bool} {lm rm : Nat} (g : Nat) (hg : g < 4) (hr : rm ≤ 12) (hRw : ∀ i, i < rm → Rw i < 100) (w2 : Int32) (w3 : Int32) (h : xw_P D b M0 R T Ti P Rw hi lm rm) (hk : okT T) : fb_CT l D b yX0_ofLast cX0_ofLast 5 (some .int) 10 170 0 0 [.ref (b + 0), .int (nI 27), .int (nI g), .int w2, .int w3] M0 (.returned (some (.int (sq_ (judV T Rw g rm))))) (fun M' => xw_P D b M' R T Ti P Rw hi lm 0 ∧ xw_F M0 M') := by
  refine fb_start [some (.ref (b + 0)), some (.int (nI 27)), some (.int (nI g)), some (.int w2), some (.int w3)] (by decide) (Nat.le_of_ble_eq_true rfl) rfl ?_
  intro x hl hD hb C E hx
  subst hl hD hb
  have C : fb_OK x cX0_ofLast "FallsBetween" "ofLast" := C
  obtain ⟨Tm, Y, Ym, Yi, lo, lom, loi, hX⟩ := h
  have hG := xw_F.rf M0
  obtain ⟨k0, k1, k2, k3, k4, k5, k6, k7, k8⟩ := id hk
  refine gx_iload_n (q := 1) C dX0_ofLast_0 rfl rfl rfl ?_
  refine gx_tableIn (tgt := 86) C dX0_ofLast_1 (by decide) (by decide) (rfl) (by decide) ?_
  refine gx_iload_n (q := 87) C dX0_ofLast_86 rfl rfl rfl ?_
  refine gx_cv (q := 90) C E (sx_X0_249 (As := [_]) C rfl rfl dX0_ofLast_87) (fx_mustBeGarden_o _ _ _ _ g hg) kw_X0_mustBeGarden (by decide) (Nat.le_of_ble_eq_true rfl) rfl rfl (by omega) (by omega) dX0_ofLast_87 rfl (fun Mv rv => ?_)
  rw [rv]
  refine gx_aload_n (q := 91) C dX0_ofLast_90 rfl rfl rfl ?_
  refine gx_iload_n (q := 92) C dX0_ofLast_91 rfl rfl rfl ?_
  refine gx_cs (q := 95) C E (sx_X0_345 (As := [_]) C hX.o rfl rfl dX0_ofLast_92) (xa_judgeRow _ _ _ _ g hg hr hRw ⟨_, _, _, _, _, _, _, hX⟩ hk) kw_X0_judgeRow (by decide) (Nat.le_of_ble_eq_true rfl) rfl rfl (by omega) (by omega) dX0_ofLast_92 rfl (fun M r92 => ?_)
  obtain ⟨⟨Tm, Y, Ym, Yi, lo, lom, loi, hX⟩, hG1⟩ := r92
  have hG := hG.tr hG1
  exact gx_iret C E dX0_ofLast_95 (⟨⟨_, _, _, _, _, _, _, hX⟩, hG⟩) (by omega) (by omega)
set_option maxHeartbeats 800000 in
theorem xa_ofLast_seeds_b1 (l : Launch) (D : va_G) (b : Nat) (M0 : List va_E) {R T Ti P Rw : Nat → Nat} {hi : Bool} {lm rm : Nat} (w u : Int32) (v : Int32) (hb : v < 0 ∨ nI 4 ≤ v) (h : xw_P D b M0 R T Ti P Rw hi lm rm) (hk : okT T) : fb_CT l D b yX0_ofLast cX0_ofLast 5 (some .int) 10 170 1 7 [.ref (b + 0), .int (nI 28), .int w, .int u, .int v] M0 (.threw (b + M0.length)) (ex_R b M0 9 (-1)) := by
  refine fb_start [some (.ref (b + 0)), some (.int (nI 28)), some (.int w), some (.int u), some (.int v)] (by decide) (Nat.le_of_ble_eq_true rfl) rfl ?_
  intro x hl hD hb C E hx
  subst hl hD hb
  have C : fb_OK x cX0_ofLast "FallsBetween" "ofLast" := C
  obtain ⟨Tm, Y, Ym, Yi, lo, lom, loi, hX⟩ := h
  have hG := xw_F.rf M0
  obtain ⟨k0, k1, k2, k3, k4, k5, k6, k7, k8⟩ := id hk
  refine gx_iload_n (q := 1) C dX0_ofLast_0 rfl rfl rfl ?_
  refine gx_tableIn (tgt := 96) C dX0_ofLast_1 (by decide) (by decide) (rfl) (by decide) ?_
  refine gx_iload (q := 98) C dX0_ofLast_96 rfl rfl ?_
  exact gx_ct C E hx (sx_X0_249 (As := [_]) C rfl rfl dX0_ofLast_98) (fx_mustBeGarden_b _ _ _ _ v hb) kw_X0_mustBeGarden (by decide) (Nat.le_of_ble_eq_true rfl) (by omega) (by omega) dX0_ofLast_98 (fun _ h => h)
set_option maxHeartbeats 800000 in
theorem xa_ofLast_seeds_b2 (l : Launch) (D : va_G) (b : Nat) (M0 : List va_E) {R T Ti P Rw : Nat → Nat} {hi : Bool} {lm rm : Nat} (v : Int32) (hb : v < nI 1) (u : Int32) (g : Nat) (hg : g < 4) (h : xw_P D b M0 R T Ti P Rw hi lm rm) (hk : okT T) : fb_CT l D b yX0_ofLast cX0_ofLast 5 (some .int) 10 170 1 7 [.ref (b + 0), .int (nI 28), .int v, .int u, .int (nI g)] M0 (.threw (b + M0.length)) (ex_R b M0 9 (-4)) := by
  refine fb_start [some (.ref (b + 0)), some (.int (nI 28)), some (.int v), some (.int u), some (.int (nI g))] (by decide) (Nat.le_of_ble_eq_true rfl) rfl ?_
  intro x hl hD hb C E hx
  subst hl hD hb
  have C : fb_OK x cX0_ofLast "FallsBetween" "ofLast" := C
  obtain ⟨Tm, Y, Ym, Yi, lo, lom, loi, hX⟩ := h
  have hG := xw_F.rf M0
  obtain ⟨k0, k1, k2, k3, k4, k5, k6, k7, k8⟩ := id hk
  refine gx_iload_n (q := 1) C dX0_ofLast_0 rfl rfl rfl ?_
  refine gx_tableIn (tgt := 96) C dX0_ofLast_1 (by decide) (by decide) (rfl) (by decide) ?_
  refine gx_iload (q := 98) C dX0_ofLast_96 rfl rfl ?_
  refine gx_cv (q := 101) C E (sx_X0_249 (As := [_]) C rfl rfl dX0_ofLast_98) (fx_mustBeGarden_o _ _ _ _ g hg) kw_X0_mustBeGarden (by decide) (Nat.le_of_ble_eq_true rfl) rfl rfl (by omega) (by omega) dX0_ofLast_98 rfl (fun Mv rv => ?_)
  rw [rv]
  refine gx_iload_n (q := 102) C dX0_ofLast_101 rfl rfl rfl ?_
  refine gx_i2l (q := 103) C dX0_ofLast_102 (rfl) rfl ?_
  refine gx_lconst (q := 104) (v := 1) C dX0_ofLast_103 (by decide) rfl ?_
  refine gx_ldc2 (q := 107) C dX0_ofLast_104 q954 rfl ?_
  exact gx_ct C E hx (sx_X0_220 (As := [_, _, _]) C rfl rfl dX0_ofLast_107) (fx_within_b _ _ _ _ _ _ _ (by rw [l_c1, l_lt]; exact hb)) kw_X0_within (by decide) (Nat.le_of_ble_eq_true rfl) (by omega) (by omega) dX0_ofLast_107 (fun _ h => h)
set_option maxHeartbeats 800000 in
theorem xa_ofLast_seeds_b3 (l : Launch) (D : va_G) (b : Nat) (M0 : List va_E) {R T Ti P Rw : Nat → Nat} {hi : Bool} {lm rm : Nat} (v : Int32) (hb : nI 31 ≤ v) (u : Int32) (g : Nat) (hg : g < 4) (h : xw_P D b M0 R T Ti P Rw hi lm rm) (hk : okT T) : fb_CT l D b yX0_ofLast cX0_ofLast 5 (some .int) 10 170 1 7 [.ref (b + 0), .int (nI 28), .int v, .int u, .int (nI g)] M0 (.threw (b + M0.length)) (ex_R b M0 9 (-6)) := by
  refine fb_start [some (.ref (b + 0)), some (.int (nI 28)), some (.int v), some (.int u), some (.int (nI g))] (by decide) (Nat.le_of_ble_eq_true rfl) rfl ?_
  intro x hl hD hb C E hx
  subst hl hD hb
  have C : fb_OK x cX0_ofLast "FallsBetween" "ofLast" := C
  obtain ⟨Tm, Y, Ym, Yi, lo, lom, loi, hX⟩ := h
  have hG := xw_F.rf M0
  obtain ⟨k0, k1, k2, k3, k4, k5, k6, k7, k8⟩ := id hk
  refine gx_iload_n (q := 1) C dX0_ofLast_0 rfl rfl rfl ?_
  refine gx_tableIn (tgt := 96) C dX0_ofLast_1 (by decide) (by decide) (rfl) (by decide) ?_
  refine gx_iload (q := 98) C dX0_ofLast_96 rfl rfl ?_
  refine gx_cv (q := 101) C E (sx_X0_249 (As := [_]) C rfl rfl dX0_ofLast_98) (fx_mustBeGarden_o _ _ _ _ g hg) kw_X0_mustBeGarden (by decide) (Nat.le_of_ble_eq_true rfl) rfl rfl (by omega) (by omega) dX0_ofLast_98 rfl (fun Mv rv => ?_)
  rw [rv]
  refine gx_iload_n (q := 102) C dX0_ofLast_101 rfl rfl rfl ?_
  refine gx_i2l (q := 103) C dX0_ofLast_102 (rfl) rfl ?_
  refine gx_lconst (q := 104) (v := 1) C dX0_ofLast_103 (by decide) rfl ?_
  refine gx_ldc2 (q := 107) C dX0_ofLast_104 q954 rfl ?_
  exact gx_ct C E hx (sx_X0_220 (As := [_, _, _]) C rfl rfl dX0_ofLast_107) (fx_within_a _ _ _ _ _ _ _ (by rw [l_c1, l_le]; exact Int32.le_trans (by decide) hb) (by rw [l_k30, l_lt]; exact lt_gt (by decide) hb)) kw_X0_within (by decide) (Nat.le_of_ble_eq_true rfl) (by omega) (by omega) dX0_ofLast_107 (fun _ h => h)
set_option maxHeartbeats 800000 in
theorem xa_ofLast_seeds_o (l : Launch) (D : va_G) (b : Nat) (M0 : List va_E) {R T Ti P Rw : Nat → Nat} {hi : Bool} {lm rm : Nat} (g : Nat) (hg : g < 4) (n : Nat) (h1 : 1 ≤ n) (h2 : n ≤ 30) (z : Int32) (h : xw_P D b M0 R T Ti P Rw hi lm rm) (hk : okT T) : fb_CT l D b yX0_ofLast cX0_ofLast 5 (some .int) 10 170 0 0 [.ref (b + 0), .int (nI 28), .int (nI n), .int z, .int (nI g)] M0 (.returned (some (.int (nI (seeV T g z n))))) (fun M' => xw_P D b M' R T Ti P Rw hi lm rm ∧ xw_F M0 M') := by
  refine fb_start [some (.ref (b + 0)), some (.int (nI 28)), some (.int (nI n)), some (.int z), some (.int (nI g))] (by decide) (Nat.le_of_ble_eq_true rfl) rfl ?_
  intro x hl hD hb C E hx
  subst hl hD hb
  have C : fb_OK x cX0_ofLast "FallsBetween" "ofLast" := C
  obtain ⟨Tm, Y, Ym, Yi, lo, lom, loi, hX⟩ := h
  have hG := xw_F.rf M0
  obtain ⟨k0, k1, k2, k3, k4, k5, k6, k7, k8⟩ := id hk
  refine gx_iload_n (q := 1) C dX0_ofLast_0 rfl rfl rfl ?_
  refine gx_tableIn (tgt := 96) C dX0_ofLast_1 (by decide) (by decide) (rfl) (by decide) ?_
  refine gx_iload (q := 98) C dX0_ofLast_96 rfl rfl ?_
  refine gx_cv (q := 101) C E (sx_X0_249 (As := [_]) C rfl rfl dX0_ofLast_98) (fx_mustBeGarden_o _ _ _ _ g hg) kw_X0_mustBeGarden (by decide) (Nat.le_of_ble_eq_true rfl) rfl rfl (by omega) (by omega) dX0_ofLast_98 rfl (fun Mv rv => ?_)
  rw [rv]
  refine gx_iload_n (q := 102) C dX0_ofLast_101 rfl rfl rfl ?_
  refine gx_i2l (q := 103) C dX0_ofLast_102 (rfl) rfl ?_
  refine gx_lconst (q := 104) (v := 1) C dX0_ofLast_103 (by decide) rfl ?_
  refine gx_ldc2 (q := 107) C dX0_ofLast_104 q954 rfl ?_
  refine gx_cv (q := 110) C E (sx_X0_220 (As := [_, _, _]) C rfl rfl dX0_ofLast_107) (fx_within_o _ _ _ _ _ _ _ (by rw [l_c1]; exact l_nn h1 (by omega)) (by rw [l_k30]; exact l_nn h2 (by decide))) kw_X0_within (by decide) (Nat.le_of_ble_eq_true rfl) rfl rfl (by omega) (by omega) dX0_ofLast_107 rfl (fun Mv rv => ?_)
  rw [rv]
  refine gx_aload_n (q := 111) C dX0_ofLast_110 rfl rfl rfl ?_
  refine gx_iload_n (q := 112) C dX0_ofLast_111 rfl rfl rfl ?_
  refine gx_iload_n (q := 113) C dX0_ofLast_112 rfl rfl rfl ?_
  refine gx_iload (q := 115) C dX0_ofLast_113 rfl rfl ?_
  refine gx_cs (q := 118) C E (sx_X0_350 (As := [_, _, _]) C hX.o rfl rfl dX0_ofLast_115) (xa_bySeeds _ _ _ _ g hg n h2 z ⟨_, _, _, _, _, _, _, hX⟩ hk) kw_X0_bySeeds (by decide) (Nat.le_of_ble_eq_true rfl) rfl rfl (by omega) (by omega) dX0_ofLast_115 rfl (fun M r115 => ?_)
  obtain ⟨⟨Tm, Y, Ym, Yi, lo, lom, loi, hX⟩, hG1⟩ := r115
  have hG := hG.tr hG1
  exact gx_iret C E dX0_ofLast_118 (⟨⟨_, _, _, _, _, _, _, hX⟩, hG⟩) (by omega) (by omega)
set_option maxHeartbeats 800000 in
theorem xa_ofLast_image (l : Launch) (D : va_G) (b : Nat) (M0 : List va_E) {R T Ti P Rw : Nat → Nat} {hi : Bool} {lm rm : Nat}  (w1 : Int32) (w2 : Int32) (w3 : Int32) (h : xw_P D b M0 R T Ti P Rw hi lm rm) (hk : okT T) : fb_CT l D b yX0_ofLast cX0_ofLast 5 (some .int) 10 170 0 0 [.ref (b + 0), .int (nI 29), .int w1, .int w2, .int w3] M0 (.returned (some (.int (nI (T 0))))) (fun M' => xw_P D b M' R T T P Rw true lm rm ∧ xw_F M0 M') := by
  refine fb_start [some (.ref (b + 0)), some (.int (nI 29)), some (.int w1), some (.int w2), some (.int w3)] (by decide) (Nat.le_of_ble_eq_true rfl) rfl ?_
  intro x hl hD hb C E hx
  subst hl hD hb
  have C : fb_OK x cX0_ofLast "FallsBetween" "ofLast" := C
  obtain ⟨Tm, Y, Ym, Yi, lo, lom, loi, hX⟩ := h
  have hG := xw_F.rf M0
  obtain ⟨k0, k1, k2, k3, k4, k5, k6, k7, k8⟩ := id hk
  refine gx_iload_n (q := 1) C dX0_ofLast_0 rfl rfl rfl ?_
  refine gx_tableIn (tgt := 119) C dX0_ofLast_1 (by decide) (by decide) (rfl) (by decide) ?_
  refine gx_aload_n (q := 120) C dX0_ofLast_119 rfl rfl rfl ?_
  refine gx_iconst (q := 121) (v := bI true) C dX0_ofLast_120 (by decide) rfl ?_
  refine xv_pf_hasImage (q := 124) C hX hG dX0_ofLast_121 rfl (fun M hX hG => ?_)
  refine gx_aload_n (q := 125) C dX0_ofLast_124 rfl rfl rfl ?_
  refine fg_X0_58 (q := 128) C hX.o rfl dX0_ofLast_125 rfl ?_
  refine gx_aload_n (q := 129) C dX0_ofLast_128 rfl rfl rfl ?_
  refine fg_X0_51 (q := 132) C hX.o rfl dX0_ofLast_129 rfl ?_
  refine gx_cv (q := 135) C E (sx_X0_94 (As := [_]) C hX.i.o rfl rfl dX0_ofLast_132) (tx_set _ _ _ _ hX.i hX.t (by omega) hk) kw_X1_set (by decide) (Nat.le_of_ble_eq_true rfl) rfl rfl (by omega) (by omega) dX0_ofLast_132 rfl (fun M r132 => ?_)
  obtain ⟨hV1, hF1⟩ := r132
  have hX := hX.u3 hV1 hF1
  have hG := hG.tw hF1 (by decide)
  refine gx_aload_n (q := 136) C dX0_ofLast_135 rfl rfl rfl ?_
  refine fg_X0_51 (q := 139) C hX.o rfl dX0_ofLast_136 rfl ?_
  refine fg_X0_120 (q := 142) C hX.t.o rfl dX0_ofLast_139 rfl ?_
  exact gx_iret C E dX0_ofLast_142 (⟨⟨_, _, _, _, _, _, _, hX⟩, hG⟩) (by omega) (by omega)
set_option maxHeartbeats 800000 in
theorem xa_ofLast_on_n (l : Launch) (D : va_G) (b : Nat) (M0 : List va_E) {R T Ti P Rw : Nat → Nat} {hi : Bool} {lm rm : Nat} (hkp : hi = false) (w1 : Int32) (w2 : Int32) (w3 : Int32) (h : xw_P D b M0 R T Ti P Rw hi lm rm) (hk : okT T) : fb_CT l D b yX0_ofLast cX0_ofLast 5 (some .int) 10 170 1 7 [.ref (b + 0), .int (nI 30), .int w1, .int w2, .int w3] M0 (.threw (b + M0.length)) (ex_R b M0 9 (-3)) := by
  refine fb_start [some (.ref (b + 0)), some (.int (nI 30)), some (.int w1), some (.int w2), some (.int w3)] (by decide) (Nat.le_of_ble_eq_true rfl) rfl ?_
  intro x hl hD hb C E hx
  subst hl hD hb
  have C : fb_OK x cX0_ofLast "FallsBetween" "ofLast" := C
  obtain ⟨Tm, Y, Ym, Yi, lo, lom, loi, hX⟩ := h
  have hG := xw_F.rf M0
  obtain ⟨k0, k1, k2, k3, k4, k5, k6, k7, k8⟩ := id hk
  refine gx_iload_n (q := 1) C dX0_ofLast_0 rfl rfl rfl ?_
  refine gx_tableOut (tgt := 143) C dX0_ofLast_1 (Or.inr (by decide)) (by decide) ?_
  refine gx_aload_n (q := 144) C dX0_ofLast_143 rfl rfl rfl ?_
  refine fg_X0_353 (q := 147) C hX.o rfl dX0_ofLast_144 rfl ?_
  rw [hkp]
  refine gx_bipush (q := 149) (v := -3) C dX0_ofLast_147 (by decide) rfl ?_
  exact gx_ct C E hx (sx_X0_9 (As := [_, _]) C rfl rfl dX0_ofLast_149) (fx_must_f _ _ _ _ (-3)) kw_X0_must (by decide) (Nat.le_of_ble_eq_true rfl) (by omega) (by omega) dX0_ofLast_149 (fun _ h => h)
set_option maxHeartbeats 800000 in
theorem xa_ofLast_on_y (l : Launch) (D : va_G) (b : Nat) (M0 : List va_E) {R T Ti P Rw : Nat → Nat} {hi : Bool} {lm rm : Nat} (hkp : hi = true) (hki : okT Ti) (w1 : Int32) (w2 : Int32) (w3 : Int32) (h : xw_P D b M0 R T Ti P Rw hi lm rm) (hk : okT T) : fb_CT l D b yX0_ofLast cX0_ofLast 5 (some .int) 10 170 0 0 [.ref (b + 0), .int (nI 30), .int w1, .int w2, .int w3] M0 (.returned (some (.int (nI (Ti 0))))) (fun M' => xw_P D b M' R Ti Ti P Rw hi lm rm ∧ xw_F M0 M') := by
  refine fb_start [some (.ref (b + 0)), some (.int (nI 30)), some (.int w1), some (.int w2), some (.int w3)] (by decide) (Nat.le_of_ble_eq_true rfl) rfl ?_
  intro x hl hD hb C E hx
  subst hl hD hb
  have C : fb_OK x cX0_ofLast "FallsBetween" "ofLast" := C
  obtain ⟨Tm, Y, Ym, Yi, lo, lom, loi, hX⟩ := h
  have hG := xw_F.rf M0
  obtain ⟨k0, k1, k2, k3, k4, k5, k6, k7, k8⟩ := id hk
  refine gx_iload_n (q := 1) C dX0_ofLast_0 rfl rfl rfl ?_
  refine gx_tableOut (tgt := 143) C dX0_ofLast_1 (Or.inr (by decide)) (by decide) ?_
  refine gx_aload_n (q := 144) C dX0_ofLast_143 rfl rfl rfl ?_
  refine fg_X0_353 (q := 147) C hX.o rfl dX0_ofLast_144 rfl ?_
  rw [hkp]
  refine gx_bipush (q := 149) (v := -3) C dX0_ofLast_147 (by decide) rfl ?_
  refine gx_cv (q := 152) C E (sx_X0_9 (As := [_, _]) C rfl rfl dX0_ofLast_149) (fx_must_t _ _ _ _ (-3)) kw_X0_must (by decide) (Nat.le_of_ble_eq_true rfl) rfl rfl (by omega) (by omega) dX0_ofLast_149 rfl (fun Mv rv => ?_)
  rw [rv]
  refine gx_aload_n (q := 153) C dX0_ofLast_152 rfl rfl rfl ?_
  refine fg_X0_51 (q := 156) C hX.o rfl dX0_ofLast_153 rfl ?_
  refine gx_aload_n (q := 157) C dX0_ofLast_156 rfl rfl rfl ?_
  refine fg_X0_58 (q := 160) C hX.o rfl dX0_ofLast_157 rfl ?_
  refine gx_cv (q := 163) C E (sx_X0_94 (As := [_]) C hX.t.o rfl rfl dX0_ofLast_160) (tx_set _ _ _ _ hX.t hX.i (by omega) hki) kw_X1_set (by decide) (Nat.le_of_ble_eq_true rfl) rfl rfl (by omega) (by omega) dX0_ofLast_160 rfl (fun M r160 => ?_)
  obtain ⟨hV1, hF1⟩ := r160
  have hX := hX.u1 hV1 hF1
  have hG := hG.tw hF1 (by decide)
  refine gx_aload_n (q := 164) C dX0_ofLast_163 rfl rfl rfl ?_
  refine fg_X0_51 (q := 167) C hX.o rfl dX0_ofLast_164 rfl ?_
  refine fg_X0_120 (q := 170) C hX.t.o rfl dX0_ofLast_167 rfl ?_
  exact gx_iret C E dX0_ofLast_170 (⟨⟨_, _, _, _, _, _, _, hX⟩, hG⟩) (by omega) (by omega)
