/-! the component's acts: what tells and changes -/
set_option maxRecDepth 100000
set_option maxHeartbeats 800000 in
theorem xa_mustBeTree_o (l : Launch) (D : va_G) (b : Nat) (M0 : List va_E) {R T Ti P Rw : Nat → Nat} {hi : Bool} {lm rm : Nat} (t : Nat) (ht : t < T 0) (h : xw_P D b M0 R T Ti P Rw hi lm rm) (hk : okT T) : fb_CT l D b yX0_mustBeTree cX0_mustBeTree 2 none 9 150 0 0 [.ref (b + 0), .int (nI t)] M0 (.returned none) (fun M' => M' = M0) := by
  refine fb_start [some (.ref (b + 0)), some (.int (nI t))] (by decide) (Nat.le_of_ble_eq_true rfl) rfl ?_
  intro x hl hD hb C E hx
  subst hl hD hb
  have C : fb_OK x cX0_mustBeTree "FallsBetween" "mustBeTree" := C
  obtain ⟨Tm, Y, Ym, Yi, lo, lom, loi, hX⟩ := h
  have hG := xw_F.rf M0
  obtain ⟨k0, k1, k2, k3, k4, k5, k6, k7, k8⟩ := id hk
  refine gx_iload_n (q := 1) C dX0_mustBeTree_0 rfl rfl rfl ?_
  refine gx_aload_n (q := 2) C dX0_mustBeTree_1 rfl rfl rfl ?_
  refine fg_X0_51 (q := 5) C hX.o rfl dX0_mustBeTree_2 rfl ?_
  refine fg_X0_120 (q := 8) C hX.t.o rfl dX0_mustBeTree_5 rfl ?_
  refine gx_cv (q := 11) C E (sx_X0_214 (As := [_, _]) C rfl rfl dX0_mustBeTree_8) (fx_mustBe_o _ _ _ _ t (T 0) ht (by omega)) kw_X0_mustBe (by decide) (Nat.le_of_ble_eq_true rfl) rfl rfl (by omega) (by omega) dX0_mustBeTree_8 rfl (fun Mv rv => ?_)
  rw [rv]
  exact gx_vret C E dX0_mustBeTree_11 (rfl) (by omega) (by omega)
set_option maxHeartbeats 800000 in
theorem xa_mustBeTree_b (l : Launch) (D : va_G) (b : Nat) (M0 : List va_E) {R T Ti P Rw : Nat → Nat} {hi : Bool} {lm rm : Nat} (v : Int32) (hb : v < 0 ∨ nI (T 0) ≤ v) (h : xw_P D b M0 R T Ti P Rw hi lm rm) (hk : okT T) : fb_CT l D b yX0_mustBeTree cX0_mustBeTree 2 none 9 150 1 7 [.ref (b + 0), .int v] M0 (.threw (b + M0.length)) (ex_R b M0 9 (-1)) := by
  refine fb_start [some (.ref (b + 0)), some (.int v)] (by decide) (Nat.le_of_ble_eq_true rfl) rfl ?_
  intro x hl hD hb C E hx
  subst hl hD hb
  have C : fb_OK x cX0_mustBeTree "FallsBetween" "mustBeTree" := C
  obtain ⟨Tm, Y, Ym, Yi, lo, lom, loi, hX⟩ := h
  have hG := xw_F.rf M0
  obtain ⟨k0, k1, k2, k3, k4, k5, k6, k7, k8⟩ := id hk
  refine gx_iload_n (q := 1) C dX0_mustBeTree_0 rfl rfl rfl ?_
  refine gx_aload_n (q := 2) C dX0_mustBeTree_1 rfl rfl rfl ?_
  refine fg_X0_51 (q := 5) C hX.o rfl dX0_mustBeTree_2 rfl ?_
  refine fg_X0_120 (q := 8) C hX.t.o rfl dX0_mustBeTree_5 rfl ?_
  exact gx_ct C E hx (sx_X0_214 (As := [_, _]) C rfl rfl dX0_mustBeTree_8) (fx_mustBe_b _ _ _ _ v (T 0) (by omega) hb) kw_X0_mustBe (by decide) (Nat.le_of_ble_eq_true rfl) (by omega) (by omega) dX0_mustBeTree_8 (fun _ h => h)
set_option maxHeartbeats 800000 in
theorem xa_letterIt_b (l : Launch) (D : va_G) (b : Nat) (M0 : List va_E) {R T Ti P Rw : Nat → Nat} {hi : Bool} {lm rm : Nat} (v : Int32) (hb : v < 0) (h : xw_P D b M0 R T Ti P Rw hi lm rm) (hk : okT T) : fb_CT l D b yX0_letterIt cX0_letterIt 2 (some .int) 9 154 1 7 [.ref (b + 0), .int v] M0 (.threw (b + M0.length)) (ex_R b M0 9 (-4)) := by
  refine fb_start [some (.ref (b + 0)), some (.int v)] (by decide) (Nat.le_of_ble_eq_true rfl) rfl ?_
  intro x hl hD hb C E hx
  subst hl hD hb
  have C : fb_OK x cX0_letterIt "FallsBetween" "letterIt" := C
  obtain ⟨Tm, Y, Ym, Yi, lo, lom, loi, hX⟩ := h
  have hG := xw_F.rf M0
  obtain ⟨k0, k1, k2, k3, k4, k5, k6, k7, k8⟩ := id hk
  refine gx_iload_n (q := 1) C dX0_letterIt_0 rfl rfl rfl ?_
  refine gx_i2l (q := 2) C dX0_letterIt_1 (rfl) rfl ?_
  refine gx_lconst (q := 3) (v := 0) C dX0_letterIt_2 (by decide) rfl ?_
  refine gx_ldc2 (q := 6) C dX0_letterIt_3 q260 rfl ?_
  exact gx_ct C E hx (sx_X0_220 (As := [_, _, _]) C rfl rfl dX0_letterIt_6) (fx_within_b _ _ _ _ _ _ _ (by rw [l_c0, l_lt]; exact hb)) kw_X0_within (by decide) (Nat.le_of_ble_eq_true rfl) (by omega) (by omega) dX0_letterIt_6 (fun _ h => h)
set_option maxHeartbeats 800000 in
theorem xa_letterIt_a (l : Launch) (D : va_G) (b : Nat) (M0 : List va_E) {R T Ti P Rw : Nat → Nat} {hi : Bool} {lm rm : Nat} (v : Int32) (hb : nI 256 ≤ v) (h : xw_P D b M0 R T Ti P Rw hi lm rm) (hk : okT T) : fb_CT l D b yX0_letterIt cX0_letterIt 2 (some .int) 9 154 1 7 [.ref (b + 0), .int v] M0 (.threw (b + M0.length)) (ex_R b M0 9 (-6)) := by
  refine fb_start [some (.ref (b + 0)), some (.int v)] (by decide) (Nat.le_of_ble_eq_true rfl) rfl ?_
  intro x hl hD hb C E hx
  subst hl hD hb
  have C : fb_OK x cX0_letterIt "FallsBetween" "letterIt" := C
  obtain ⟨Tm, Y, Ym, Yi, lo, lom, loi, hX⟩ := h
  have hG := xw_F.rf M0
  obtain ⟨k0, k1, k2, k3, k4, k5, k6, k7, k8⟩ := id hk
  refine gx_iload_n (q := 1) C dX0_letterIt_0 rfl rfl rfl ?_
  refine gx_i2l (q := 2) C dX0_letterIt_1 (rfl) rfl ?_
  refine gx_lconst (q := 3) (v := 0) C dX0_letterIt_2 (by decide) rfl ?_
  refine gx_ldc2 (q := 6) C dX0_letterIt_3 q260 rfl ?_
  exact gx_ct C E hx (sx_X0_220 (As := [_, _, _]) C rfl rfl dX0_letterIt_6) (fx_within_a _ _ _ _ _ _ _ (by rw [l_c0, l_le]; exact Int32.le_trans (nI_pos' (by decide)) hb) (by rw [l_k255, l_lt]; exact lt_gt (by decide) hb)) kw_X0_within (by decide) (Nat.le_of_ble_eq_true rfl) (by omega) (by omega) dX0_letterIt_6 (fun _ h => h)
set_option maxHeartbeats 800000 in
theorem xa_letterIt_f (l : Launch) (D : va_G) (b : Nat) (M0 : List va_E) {R T Ti P Rw : Nat → Nat} {hi : Bool} {lm rm : Nat} (j : Nat) (hj : j < 256) (hf : lm = 64) (h : xw_P D b M0 R T Ti P Rw hi lm rm) (hk : okT T) : fb_CT l D b yX0_letterIt cX0_letterIt 2 (some .int) 9 154 1 7 [.ref (b + 0), .int (nI j)] M0 (.threw (b + M0.length)) (ex_R b M0 9 (-6)) := by
  refine fb_start [some (.ref (b + 0)), some (.int (nI j))] (by decide) (Nat.le_of_ble_eq_true rfl) rfl ?_
  intro x hl hD hb C E hx
  subst hl hD hb
  have C : fb_OK x cX0_letterIt "FallsBetween" "letterIt" := C
  obtain ⟨Tm, Y, Ym, Yi, lo, lom, loi, hX⟩ := h
  have hG := xw_F.rf M0
  obtain ⟨k0, k1, k2, k3, k4, k5, k6, k7, k8⟩ := id hk
  refine gx_iload_n (q := 1) C dX0_letterIt_0 rfl rfl rfl ?_
  refine gx_i2l (q := 2) C dX0_letterIt_1 (rfl) rfl ?_
  refine gx_lconst (q := 3) (v := 0) C dX0_letterIt_2 (by decide) rfl ?_
  refine gx_ldc2 (q := 6) C dX0_letterIt_3 q260 rfl ?_
  refine gx_cv (q := 9) C E (sx_X0_220 (As := [_, _, _]) C rfl rfl dX0_letterIt_6) (fx_within_o _ _ _ _ _ _ _ (in_k l_k255 (by omega) (by decide)).1 (in_k l_k255 (by omega) (by decide)).2) kw_X0_within (by decide) (Nat.le_of_ble_eq_true rfl) rfl rfl (by omega) (by omega) dX0_letterIt_6 rfl (fun Mv rv => ?_)
  rw [rv]
  refine gx_aload_n (q := 10) C dX0_letterIt_9 rfl rfl rfl ?_
  refine fg_X0_78 (q := 13) C hX.o rfl dX0_letterIt_10 rfl ?_
  refine gx_bipush (q := 15) (v := nI 64) C dX0_letterIt_13 (by decide) rfl ?_
  refine gn_icmp_ge (q := 18) (tgt := 22) C dX0_letterIt_15 (by decide) rfl (by omega) (by omega) (fun c15 => ?_) (fun c15 => by exfalso; omega)
  refine gx_iconst (q := 23) (v := bI false) C dX0_letterIt_22 (by decide) rfl ?_
  refine gx_bipush (q := 25) (v := -6) C dX0_letterIt_23 (by decide) rfl ?_
  exact gx_ct C E hx (sx_X0_9 (As := [_, _]) C rfl rfl dX0_letterIt_25) (fx_must_f _ _ _ _ (-6)) kw_X0_must (by decide) (Nat.le_of_ble_eq_true rfl) (by omega) (by omega) dX0_letterIt_25 (fun _ h => h)
theorem i2c_n : ∀ v, v < 256 → ((nI v).toUInt32 % 65536).toInt32 = nI v := by decide +kernel
theorem i2b_n : ∀ v, v < 100 → (nI v).toInt8.toInt32 = nI v := by decide +kernel
set_option maxHeartbeats 800000 in
theorem xa_letterIt_o (l : Launch) (D : va_G) (b : Nat) (M0 : List va_E) {R T Ti P Rw : Nat → Nat} {hi : Bool} {lm rm : Nat} (j : Nat) (hj : j < 256) (hf : lm < 64) (h : xw_P D b M0 R T Ti P Rw hi lm rm) (hk : okT T) : fb_CT l D b yX0_letterIt cX0_letterIt 2 (some .int) 9 154 0 0 [.ref (b + 0), .int (nI j)] M0 (.returned (some (.int (nI (lm + 1))))) (fun M' => xw_P D b M' R T Ti (updN P lm j) Rw hi (lm + 1) rm ∧ xw_F M0 M') := by
  refine fb_start [some (.ref (b + 0)), some (.int (nI j))] (by decide) (Nat.le_of_ble_eq_true rfl) rfl ?_
  intro x hl hD hb C E hx
  subst hl hD hb
  have C : fb_OK x cX0_letterIt "FallsBetween" "letterIt" := C
  obtain ⟨Tm, Y, Ym, Yi, lo, lom, loi, hX⟩ := h
  have hG := xw_F.rf M0
  obtain ⟨k0, k1, k2, k3, k4, k5, k6, k7, k8⟩ := id hk
  refine gx_iload_n (q := 1) C dX0_letterIt_0 rfl rfl rfl ?_
  refine gx_i2l (q := 2) C dX0_letterIt_1 (rfl) rfl ?_
  refine gx_lconst (q := 3) (v := 0) C dX0_letterIt_2 (by decide) rfl ?_
  refine gx_ldc2 (q := 6) C dX0_letterIt_3 q260 rfl ?_
  refine gx_cv (q := 9) C E (sx_X0_220 (As := [_, _, _]) C rfl rfl dX0_letterIt_6) (fx_within_o _ _ _ _ _ _ _ (in_k l_k255 (by omega) (by decide)).1 (in_k l_k255 (by omega) (by decide)).2) kw_X0_within (by decide) (Nat.le_of_ble_eq_true rfl) rfl rfl (by omega) (by omega) dX0_letterIt_6 rfl (fun Mv rv => ?_)
  rw [rv]
  refine gx_aload_n (q := 10) C dX0_letterIt_9 rfl rfl rfl ?_
  refine fg_X0_78 (q := 13) C hX.o rfl dX0_letterIt_10 rfl ?_
  refine gx_bipush (q := 15) (v := nI 64) C dX0_letterIt_13 (by decide) rfl ?_
  refine gn_icmp_ge (q := 18) (tgt := 22) C dX0_letterIt_15 (by decide) rfl (by omega) (by omega) (fun c15 => by exfalso; omega) (fun c15 => ?_)
  refine gx_iconst (q := 19) (v := bI true) C dX0_letterIt_18 (by decide) rfl ?_
  refine gx_goto (tgt := 23) C dX0_letterIt_19 (by decide) ?_
  refine gx_bipush (q := 25) (v := -6) C dX0_letterIt_23 (by decide) rfl ?_
  refine gx_cv (q := 28) C E (sx_X0_9 (As := [_, _]) C rfl rfl dX0_letterIt_25) (fx_must_t _ _ _ _ (-6)) kw_X0_must (by decide) (Nat.le_of_ble_eq_true rfl) rfl rfl (by omega) (by omega) dX0_letterIt_25 rfl (fun Mv rv => ?_)
  rw [rv]
  refine gx_aload_n (q := 29) C dX0_letterIt_28 rfl rfl rfl ?_
  refine fg_X0_65 (q := 32) C hX.o rfl dX0_letterIt_29 rfl ?_
  refine gx_aload_n (q := 33) C dX0_letterIt_32 rfl rfl rfl ?_
  refine fg_X0_78 (q := 36) C hX.o rfl dX0_letterIt_33 rfl ?_
  refine gx_iload_n (q := 37) C dX0_letterIt_36 rfl rfl rfl ?_
  refine gx_i2c (q := 38) C dX0_letterIt_37 (i2c_n j hj) rfl ?_
  refine xv_st_letters (q := 39) C hX hG (by omega) hj dX0_letterIt_38 rfl (fun M hX hG => ?_)
  refine gx_aload_n (q := 40) C dX0_letterIt_39 rfl rfl rfl ?_
  refine gx_dup (q := 41) C dX0_letterIt_40 rfl rfl ?_
  refine fg_X0_78 (q := 44) C hX.o rfl dX0_letterIt_41 rfl ?_
  refine gx_iconst (q := 45) (v := nI 1) C dX0_letterIt_44 (by decide) rfl ?_
  refine gn_iadd (q := 46) C dX0_letterIt_45 rfl ?_
  refine xv_pf_letterMany (q := 49) C hX hG dX0_letterIt_46 rfl (fun M hX hG => ?_)
  refine gx_aload_n (q := 50) C dX0_letterIt_49 rfl rfl rfl ?_
  refine fg_X0_78 (q := 53) C hX.o rfl dX0_letterIt_50 rfl ?_
  exact gx_iret C E dX0_letterIt_53 (⟨⟨_, _, _, _, _, _, _, hX⟩, hG⟩) (by omega) (by omega)
set_option maxHeartbeats 800000 in
theorem xa_squareTold_b (l : Launch) (D : va_G) (b : Nat) (M0 : List va_E) {R T Ti P Rw : Nat → Nat} {hi : Bool} {lm rm : Nat} (v : Int32) (hb : v < 0 ∨ nI 36 ≤ v) (w : Int32) (h : xw_P D b M0 R T Ti P Rw hi lm rm) (hk : okT T) : fb_CT l D b yX0_squareTold cX0_squareTold 3 (some .int) 10 170 1 7 [.ref (b + 0), .int v, .int w] M0 (.threw (b + M0.length)) (ex_R b M0 9 (-1)) := by
  refine fb_start [some (.ref (b + 0)), some (.int v), some (.int w)] (by decide) (Nat.le_of_ble_eq_true rfl) rfl ?_
  intro x hl hD hb C E hx
  subst hl hD hb
  have C : fb_OK x cX0_squareTold "FallsBetween" "squareTold" := C
  obtain ⟨Tm, Y, Ym, Yi, lo, lom, loi, hX⟩ := h
  have hG := xw_F.rf M0
  obtain ⟨k0, k1, k2, k3, k4, k5, k6, k7, k8⟩ := id hk
  refine gx_iload_n (q := 1) C dX0_squareTold_0 rfl rfl rfl ?_
  exact gx_ct C E hx (sx_X0_224 (As := [_]) C rfl rfl dX0_squareTold_1) (fx_mustBeSquare_b _ _ _ _ v hb) kw_X0_mustBeSquare (by decide) (Nat.le_of_ble_eq_true rfl) (by omega) (by omega) dX0_squareTold_1 (fun _ h => h)
set_option maxHeartbeats 800000 in
theorem xa_squareTold_o (l : Launch) (D : va_G) (b : Nat) (M0 : List va_E) {R T Ti P Rw : Nat → Nat} {hi : Bool} {lm rm : Nat} (q : Nat) (hq : q < 36) (w : Int32) (hw : w < 0 ∨ nI 5 ≤ w) (h : xw_P D b M0 R T Ti P Rw hi lm rm) (hk : okT T) : fb_CT l D b yX0_squareTold cX0_squareTold 3 (some .int) 10 170 1 7 [.ref (b + 0), .int (nI q), .int w] M0 (.threw (b + M0.length)) (ex_R b M0 9 (-2)) := by
  refine fb_start [some (.ref (b + 0)), some (.int (nI q)), some (.int w)] (by decide) (Nat.le_of_ble_eq_true rfl) rfl ?_
  intro x hl hD hb C E hx
  subst hl hD hb
  have C : fb_OK x cX0_squareTold "FallsBetween" "squareTold" := C
  obtain ⟨Tm, Y, Ym, Yi, lo, lom, loi, hX⟩ := h
  have hG := xw_F.rf M0
  obtain ⟨k0, k1, k2, k3, k4, k5, k6, k7, k8⟩ := id hk
  refine gx_iload_n (q := 1) C dX0_squareTold_0 rfl rfl rfl ?_
  refine gx_cv (q := 4) C E (sx_X0_224 (As := [_]) C rfl rfl dX0_squareTold_1) (fx_mustBeSquare_o _ _ _ _ q hq) kw_X0_mustBeSquare (by decide) (Nat.le_of_ble_eq_true rfl) rfl rfl (by omega) (by omega) dX0_squareTold_1 rfl (fun Mv rv => ?_)
  rw [rv]
  refine gx_iload_n (q := 5) C dX0_squareTold_4 rfl rfl rfl ?_
  refine gx_i2l (q := 6) C dX0_squareTold_5 (rfl) rfl ?_
  refine gx_lconst (q := 7) (v := 0) C dX0_squareTold_6 (by decide) rfl ?_
  refine gx_ldc2 (q := 10) C dX0_squareTold_7 q654 rfl ?_
  refine gx_cp (q := 13) C E (sx_X0_13 (As := [_, _, _]) C rfl rfl dX0_squareTold_10) (fx_in_f _ _ _ _ _ _ _ (in_kb l_k4 (by decide) hw)) kw_X0_in (by decide) (Nat.le_of_ble_eq_true rfl) (by omega) (by omega) dX0_squareTold_10 rfl ?_
  refine gx_bipush (q := 15) (v := -2) C dX0_squareTold_13 (by decide) rfl ?_
  exact gx_ct C E hx (sx_X0_9 (As := [_, _]) C rfl rfl dX0_squareTold_15) (fx_must_f _ _ _ _ (-2)) kw_X0_must (by decide) (Nat.le_of_ble_eq_true rfl) (by omega) (by omega) dX0_squareTold_15 (fun _ h => h)
set_option maxHeartbeats 800000 in
theorem xa_squareTold_0 (l : Launch) (D : va_G) (b : Nat) (M0 : List va_E) {R T Ti P Rw : Nat → Nat} {hi : Bool} {lm rm : Nat} (q : Nat) (hq : q < 36) (h : xw_P D b M0 R T Ti P Rw hi lm rm) (hk : okT T) : fb_CT l D b yX0_squareTold cX0_squareTold 3 (some .int) 10 170 0 0 [.ref (b + 0), .int (nI q), .int (nI 0)] M0 (.returned (some (.int (nI (T (12 + q)))))) (fun M' => xw_P D b M' R T Ti P Rw hi lm rm ∧ xw_F M0 M') := by
  refine fb_start [some (.ref (b + 0)), some (.int (nI q)), some (.int (nI 0))] (by decide) (Nat.le_of_ble_eq_true rfl) rfl ?_
  intro x hl hD hb C E hx
  subst hl hD hb
  have C : fb_OK x cX0_squareTold "FallsBetween" "squareTold" := C
  obtain ⟨Tm, Y, Ym, Yi, lo, lom, loi, hX⟩ := h
  have hG := xw_F.rf M0
  obtain ⟨k0, k1, k2, k3, k4, k5, k6, k7, k8⟩ := id hk
  refine gx_iload_n (q := 1) C dX0_squareTold_0 rfl rfl rfl ?_
  refine gx_cv (q := 4) C E (sx_X0_224 (As := [_]) C rfl rfl dX0_squareTold_1) (fx_mustBeSquare_o _ _ _ _ q hq) kw_X0_mustBeSquare (by decide) (Nat.le_of_ble_eq_true rfl) rfl rfl (by omega) (by omega) dX0_squareTold_1 rfl (fun Mv rv => ?_)
  rw [rv]
  refine gx_iload_n (q := 5) C dX0_squareTold_4 rfl rfl rfl ?_
  refine gx_i2l (q := 6) C dX0_squareTold_5 (rfl) rfl ?_
  refine gx_lconst (q := 7) (v := 0) C dX0_squareTold_6 (by decide) rfl ?_
  refine gx_ldc2 (q := 10) C dX0_squareTold_7 q654 rfl ?_
  refine gx_cp (q := 13) C E (sx_X0_13 (As := [_, _, _]) C rfl rfl dX0_squareTold_10) (fx_in_t _ _ _ _ _ _ _ (in_k l_k4 (j := 0) (by decide) (by decide)).1 (in_k l_k4 (j := 0) (by decide) (by decide)).2) kw_X0_in (by decide) (Nat.le_of_ble_eq_true rfl) (by omega) (by omega) dX0_squareTold_10 rfl ?_
  refine gx_bipush (q := 15) (v := -2) C dX0_squareTold_13 (by decide) rfl ?_
  refine gx_cv (q := 18) C E (sx_X0_9 (As := [_, _]) C rfl rfl dX0_squareTold_15) (fx_must_t _ _ _ _ (-2)) kw_X0_must (by decide) (Nat.le_of_ble_eq_true rfl) rfl rfl (by omega) (by omega) dX0_squareTold_15 rfl (fun Mv rv => ?_)
  rw [rv]
  refine gx_iload_n (q := 19) C dX0_squareTold_18 rfl rfl rfl ?_
  refine gx_tableIn (tgt := 48) C dX0_squareTold_19 (by decide) (by decide) (rfl) (by decide) ?_
  refine gx_aload_n (q := 49) C dX0_squareTold_48 rfl rfl rfl ?_
  refine fg_X0_51 (q := 52) C hX.o rfl dX0_squareTold_49 rfl ?_
  refine fg_X0_141 (q := 55) C hX.t.o rfl dX0_squareTold_52 rfl ?_
  refine gx_iload_n (q := 56) C dX0_squareTold_55 rfl rfl rfl ?_
  refine tv_ld_gardens (q := 57) C hX.t (by omega) dX0_squareTold_56 rfl ?_
  exact gx_iret C E dX0_squareTold_57 (⟨⟨_, _, _, _, _, _, _, hX⟩, hG⟩) (by omega) (by omega)
set_option maxHeartbeats 800000 in
theorem xa_squareTold_1 (l : Launch) (D : va_G) (b : Nat) (M0 : List va_E) {R T Ti P Rw : Nat → Nat} {hi : Bool} {lm rm : Nat} (q : Nat) (hq : q < 36) (h : xw_P D b M0 R T Ti P Rw hi lm rm) (hk : okT T) : fb_CT l D b yX0_squareTold cX0_squareTold 3 (some .int) 10 170 0 0 [.ref (b + 0), .int (nI q), .int (nI 1)] M0 (.returned (some (.int (nI (T (48 + q)))))) (fun M' => xw_P D b M' R T Ti P Rw hi lm rm ∧ xw_F M0 M') := by
  refine fb_start [some (.ref (b + 0)), some (.int (nI q)), some (.int (nI 1))] (by decide) (Nat.le_of_ble_eq_true rfl) rfl ?_
  intro x hl hD hb C E hx
  subst hl hD hb
  have C : fb_OK x cX0_squareTold "FallsBetween" "squareTold" := C
  obtain ⟨Tm, Y, Ym, Yi, lo, lom, loi, hX⟩ := h
  have hG := xw_F.rf M0
  obtain ⟨k0, k1, k2, k3, k4, k5, k6, k7, k8⟩ := id hk
  refine gx_iload_n (q := 1) C dX0_squareTold_0 rfl rfl rfl ?_
  refine gx_cv (q := 4) C E (sx_X0_224 (As := [_]) C rfl rfl dX0_squareTold_1) (fx_mustBeSquare_o _ _ _ _ q hq) kw_X0_mustBeSquare (by decide) (Nat.le_of_ble_eq_true rfl) rfl rfl (by omega) (by omega) dX0_squareTold_1 rfl (fun Mv rv => ?_)
  rw [rv]
  refine gx_iload_n (q := 5) C dX0_squareTold_4 rfl rfl rfl ?_
  refine gx_i2l (q := 6) C dX0_squareTold_5 (rfl) rfl ?_
  refine gx_lconst (q := 7) (v := 0) C dX0_squareTold_6 (by decide) rfl ?_
  refine gx_ldc2 (q := 10) C dX0_squareTold_7 q654 rfl ?_
  refine gx_cp (q := 13) C E (sx_X0_13 (As := [_, _, _]) C rfl rfl dX0_squareTold_10) (fx_in_t _ _ _ _ _ _ _ (in_k l_k4 (j := 1) (by decide) (by decide)).1 (in_k l_k4 (j := 1) (by decide) (by decide)).2) kw_X0_in (by decide) (Nat.le_of_ble_eq_true rfl) (by omega) (by omega) dX0_squareTold_10 rfl ?_
  refine gx_bipush (q := 15) (v := -2) C dX0_squareTold_13 (by decide) rfl ?_
  refine gx_cv (q := 18) C E (sx_X0_9 (As := [_, _]) C rfl rfl dX0_squareTold_15) (fx_must_t _ _ _ _ (-2)) kw_X0_must (by decide) (Nat.le_of_ble_eq_true rfl) rfl rfl (by omega) (by omega) dX0_squareTold_15 rfl (fun Mv rv => ?_)
  rw [rv]
  refine gx_iload_n (q := 19) C dX0_squareTold_18 rfl rfl rfl ?_
  refine gx_tableIn (tgt := 58) C dX0_squareTold_19 (by decide) (by decide) (rfl) (by decide) ?_
  refine gx_aload_n (q := 59) C dX0_squareTold_58 rfl rfl rfl ?_
  refine fg_X0_51 (q := 62) C hX.o rfl dX0_squareTold_59 rfl ?_
  refine fg_X0_229 (q := 65) C hX.t.o rfl dX0_squareTold_62 rfl ?_
  refine gx_iload_n (q := 66) C dX0_squareTold_65 rfl rfl rfl ?_
  refine tv_ld_heights (q := 67) C hX.t (by omega) dX0_squareTold_66 rfl ?_
  exact gx_iret C E dX0_squareTold_67 (⟨⟨_, _, _, _, _, _, _, hX⟩, hG⟩) (by omega) (by omega)
set_option maxHeartbeats 800000 in
theorem xa_squareTold_2 (l : Launch) (D : va_G) (b : Nat) (M0 : List va_E) {R T Ti P Rw : Nat → Nat} {hi : Bool} {lm rm : Nat} (q : Nat) (hq : q < 36) (h : xw_P D b M0 R T Ti P Rw hi lm rm) (hk : okT T) : fb_CT l D b yX0_squareTold cX0_squareTold 3 (some .int) 10 170 0 0 [.ref (b + 0), .int (nI q), .int (nI 2)] M0 (.returned (some (.int (nI (T (84 + q)))))) (fun M' => xw_P D b M' R T Ti P Rw hi lm rm ∧ xw_F M0 M') := by
  refine fb_start [some (.ref (b + 0)), some (.int (nI q)), some (.int (nI 2))] (by decide) (Nat.le_of_ble_eq_true rfl) rfl ?_
  intro x hl hD hb C E hx
  subst hl hD hb
  have C : fb_OK x cX0_squareTold "FallsBetween" "squareTold" := C
  obtain ⟨Tm, Y, Ym, Yi, lo, lom, loi, hX⟩ := h
  have hG := xw_F.rf M0
  obtain ⟨k0, k1, k2, k3, k4, k5, k6, k7, k8⟩ := id hk
  refine gx_iload_n (q := 1) C dX0_squareTold_0 rfl rfl rfl ?_
  refine gx_cv (q := 4) C E (sx_X0_224 (As := [_]) C rfl rfl dX0_squareTold_1) (fx_mustBeSquare_o _ _ _ _ q hq) kw_X0_mustBeSquare (by decide) (Nat.le_of_ble_eq_true rfl) rfl rfl (by omega) (by omega) dX0_squareTold_1 rfl (fun Mv rv => ?_)
  rw [rv]
  refine gx_iload_n (q := 5) C dX0_squareTold_4 rfl rfl rfl ?_
  refine gx_i2l (q := 6) C dX0_squareTold_5 (rfl) rfl ?_
  refine gx_lconst (q := 7) (v := 0) C dX0_squareTold_6 (by decide) rfl ?_
  refine gx_ldc2 (q := 10) C dX0_squareTold_7 q654 rfl ?_
  refine gx_cp (q := 13) C E (sx_X0_13 (As := [_, _, _]) C rfl rfl dX0_squareTold_10) (fx_in_t _ _ _ _ _ _ _ (in_k l_k4 (j := 2) (by decide) (by decide)).1 (in_k l_k4 (j := 2) (by decide) (by decide)).2) kw_X0_in (by decide) (Nat.le_of_ble_eq_true rfl) (by omega) (by omega) dX0_squareTold_10 rfl ?_
  refine gx_bipush (q := 15) (v := -2) C dX0_squareTold_13 (by decide) rfl ?_
  refine gx_cv (q := 18) C E (sx_X0_9 (As := [_, _]) C rfl rfl dX0_squareTold_15) (fx_must_t _ _ _ _ (-2)) kw_X0_must (by decide) (Nat.le_of_ble_eq_true rfl) rfl rfl (by omega) (by omega) dX0_squareTold_15 rfl (fun Mv rv => ?_)
  rw [rv]
  refine gx_iload_n (q := 19) C dX0_squareTold_18 rfl rfl rfl ?_
  refine gx_tableIn (tgt := 68) C dX0_squareTold_19 (by decide) (by decide) (rfl) (by decide) ?_
  refine gx_aload_n (q := 69) C dX0_squareTold_68 rfl rfl rfl ?_
  refine fg_X0_51 (q := 72) C hX.o rfl dX0_squareTold_69 rfl ?_
  refine fg_X0_166 (q := 75) C hX.t.o rfl dX0_squareTold_72 rfl ?_
  refine gx_iload_n (q := 76) C dX0_squareTold_75 rfl rfl rfl ?_
  refine tv_ld_nets (q := 77) C hX.t (by omega) dX0_squareTold_76 rfl ?_
  refine gn_if_eq (q := 80) (tgt := 84) C dX0_squareTold_77 (by decide) rfl (by have := k7 q hq; omega) (fun c77 => ?_) (fun c77 => ?_)
  · refine gx_iconst (q := 85) (v := nI (T (84 + q))) C dX0_squareTold_84 (by rw [c77]; rfl) rfl ?_
    exact gx_iret C E dX0_squareTold_85 (⟨⟨_, _, _, _, _, _, _, hX⟩, hG⟩) (by omega) (by omega)
  · refine gx_iconst (q := 81) (v := nI (T (84 + q))) C dX0_squareTold_80 (by have := k7 q hq; rw [show T (84 + q) = 1 by omega]; rfl) rfl ?_
    refine gx_goto (tgt := 85) C dX0_squareTold_81 (by decide) ?_
    exact gx_iret C E dX0_squareTold_85 (⟨⟨_, _, _, _, _, _, _, hX⟩, hG⟩) (by omega) (by omega)
set_option maxHeartbeats 800000 in
theorem xa_squareTold_3 (l : Launch) (D : va_G) (b : Nat) (M0 : List va_E) {R T Ti P Rw : Nat → Nat} {hi : Bool} {lm rm : Nat} (q : Nat) (hq : q < 36) (h : xw_P D b M0 R T Ti P Rw hi lm rm) (hk : okT T) : fb_CT l D b yX0_squareTold cX0_squareTold 3 (some .int) 10 170 0 0 [.ref (b + 0), .int (nI q), .int (nI 3)] M0 (.returned (some (.int (bI (nob T q))))) (fun M' => xw_P D b M' R T Ti P Rw hi lm rm ∧ xw_F M0 M') := by
  refine fb_start [some (.ref (b + 0)), some (.int (nI q)), some (.int (nI 3))] (by decide) (Nat.le_of_ble_eq_true rfl) rfl ?_
  intro x hl hD hb C E hx
  subst hl hD hb
  have C : fb_OK x cX0_squareTold "FallsBetween" "squareTold" := C
  obtain ⟨Tm, Y, Ym, Yi, lo, lom, loi, hX⟩ := h
  have hG := xw_F.rf M0
  obtain ⟨k0, k1, k2, k3, k4, k5, k6, k7, k8⟩ := id hk
  refine gx_iload_n (q := 1) C dX0_squareTold_0 rfl rfl rfl ?_
  refine gx_cv (q := 4) C E (sx_X0_224 (As := [_]) C rfl rfl dX0_squareTold_1) (fx_mustBeSquare_o _ _ _ _ q hq) kw_X0_mustBeSquare (by decide) (Nat.le_of_ble_eq_true rfl) rfl rfl (by omega) (by omega) dX0_squareTold_1 rfl (fun Mv rv => ?_)
  rw [rv]
  refine gx_iload_n (q := 5) C dX0_squareTold_4 rfl rfl rfl ?_
  refine gx_i2l (q := 6) C dX0_squareTold_5 (rfl) rfl ?_
  refine gx_lconst (q := 7) (v := 0) C dX0_squareTold_6 (by decide) rfl ?_
  refine gx_ldc2 (q := 10) C dX0_squareTold_7 q654 rfl ?_
  refine gx_cp (q := 13) C E (sx_X0_13 (As := [_, _, _]) C rfl rfl dX0_squareTold_10) (fx_in_t _ _ _ _ _ _ _ (in_k l_k4 (j := 3) (by decide) (by decide)).1 (in_k l_k4 (j := 3) (by decide) (by decide)).2) kw_X0_in (by decide) (Nat.le_of_ble_eq_true rfl) (by omega) (by omega) dX0_squareTold_10 rfl ?_
  refine gx_bipush (q := 15) (v := -2) C dX0_squareTold_13 (by decide) rfl ?_
  refine gx_cv (q := 18) C E (sx_X0_9 (As := [_, _]) C rfl rfl dX0_squareTold_15) (fx_must_t _ _ _ _ (-2)) kw_X0_must (by decide) (Nat.le_of_ble_eq_true rfl) rfl rfl (by omega) (by omega) dX0_squareTold_15 rfl (fun Mv rv => ?_)
  rw [rv]
  refine gx_iload_n (q := 19) C dX0_squareTold_18 rfl rfl rfl ?_
  refine gx_tableIn (tgt := 86) C dX0_squareTold_19 (by decide) (by decide) (rfl) (by decide) ?_
  refine gx_aload_n (q := 87) C dX0_squareTold_86 rfl rfl rfl ?_
  refine fg_X0_51 (q := 90) C hX.o rfl dX0_squareTold_87 rfl ?_
  refine gx_iload_n (q := 91) C dX0_squareTold_90 rfl rfl rfl ?_
  refine gx_cp (q := 94) C E (sx_X0_170 (As := [_]) C hX.t.o rfl rfl dX0_squareTold_91) (tx_isNobodys _ _ _ _ q hq hX.t hk) kw_X1_isNobodys (by decide) (Nat.le_of_ble_eq_true rfl) (by omega) (by omega) dX0_squareTold_91 rfl ?_
  refine gb_if_eq (q := 97) (tgt := 101) C dX0_squareTold_94 (by decide) rfl (fun c94 => ?_) (fun c94 => ?_)
  · refine gx_iconst (q := 102) (v := nI 0) C dX0_squareTold_101 (by decide) rfl ?_
    exact gx_iretE C E (by rw [c94]; rfl) dX0_squareTold_102 (⟨⟨_, _, _, _, _, _, _, hX⟩, hG⟩) (by omega) (by omega)
  · refine gx_iconst (q := 98) (v := nI 1) C dX0_squareTold_97 (by decide) rfl ?_
    refine gx_goto (tgt := 102) C dX0_squareTold_98 (by decide) ?_
    exact gx_iretE C E (by rw [c94]; rfl) dX0_squareTold_102 (⟨⟨_, _, _, _, _, _, _, hX⟩, hG⟩) (by omega) (by omega)
set_option maxHeartbeats 800000 in
theorem xa_squareTold_4 (l : Launch) (D : va_G) (b : Nat) (M0 : List va_E) {R T Ti P Rw : Nat → Nat} {hi : Bool} {lm rm : Nat} (q : Nat) (hq : q < 36) (h : xw_P D b M0 R T Ti P Rw hi lm rm) (hk : okT T) : fb_CT l D b yX0_squareTold cX0_squareTold 3 (some .int) 10 170 0 0 [.ref (b + 0), .int (nI q), .int (nI 4)] M0 (.returned (some (.int (sq_ (trIn T q (T 0)))))) (fun M' => xw_P D b M' R T Ti P Rw hi lm rm ∧ xw_F M0 M') := by
  refine fb_start [some (.ref (b + 0)), some (.int (nI q)), some (.int (nI 4))] (by decide) (Nat.le_of_ble_eq_true rfl) rfl ?_
  intro x hl hD hb C E hx
  subst hl hD hb
  have C : fb_OK x cX0_squareTold "FallsBetween" "squareTold" := C
  obtain ⟨Tm, Y, Ym, Yi, lo, lom, loi, hX⟩ := h
  have hG := xw_F.rf M0
  obtain ⟨k0, k1, k2, k3, k4, k5, k6, k7, k8⟩ := id hk
  refine gx_iload_n (q := 1) C dX0_squareTold_0 rfl rfl rfl ?_
  refine gx_cv (q := 4) C E (sx_X0_224 (As := [_]) C rfl rfl dX0_squareTold_1) (fx_mustBeSquare_o _ _ _ _ q hq) kw_X0_mustBeSquare (by decide) (Nat.le_of_ble_eq_true rfl) rfl rfl (by omega) (by omega) dX0_squareTold_1 rfl (fun Mv rv => ?_)
  rw [rv]
  refine gx_iload_n (q := 5) C dX0_squareTold_4 rfl rfl rfl ?_
  refine gx_i2l (q := 6) C dX0_squareTold_5 (rfl) rfl ?_
  refine gx_lconst (q := 7) (v := 0) C dX0_squareTold_6 (by decide) rfl ?_
  refine gx_ldc2 (q := 10) C dX0_squareTold_7 q654 rfl ?_
  refine gx_cp (q := 13) C E (sx_X0_13 (As := [_, _, _]) C rfl rfl dX0_squareTold_10) (fx_in_t _ _ _ _ _ _ _ (in_k l_k4 (j := 4) (by decide) (by decide)).1 (in_k l_k4 (j := 4) (by decide) (by decide)).2) kw_X0_in (by decide) (Nat.le_of_ble_eq_true rfl) (by omega) (by omega) dX0_squareTold_10 rfl ?_
  refine gx_bipush (q := 15) (v := -2) C dX0_squareTold_13 (by decide) rfl ?_
  refine gx_cv (q := 18) C E (sx_X0_9 (As := [_, _]) C rfl rfl dX0_squareTold_15) (fx_must_t _ _ _ _ (-2)) kw_X0_must (by decide) (Nat.le_of_ble_eq_true rfl) rfl rfl (by omega) (by omega) dX0_squareTold_15 rfl (fun Mv rv => ?_)
  rw [rv]
  refine gx_iload_n (q := 19) C dX0_squareTold_18 rfl rfl rfl ?_
  refine gx_tableOut (tgt := 103) C dX0_squareTold_19 (Or.inr (by decide)) (by decide) ?_
  refine gx_aload_n (q := 104) C dX0_squareTold_103 rfl rfl rfl ?_
  refine fg_X0_51 (q := 107) C hX.o rfl dX0_squareTold_104 rfl ?_
  refine gx_iload_n (q := 108) C dX0_squareTold_107 rfl rfl rfl ?_
  refine gx_cp (q := 111) C E (sx_X0_108 (As := [_]) C hX.t.o rfl rfl dX0_squareTold_108) (tx_treeAt _ _ _ _ q (by omega) hX.t hk) kw_X1_treeAt (by decide) (Nat.le_of_ble_eq_true rfl) (by omega) (by omega) dX0_squareTold_108 rfl ?_
  exact gx_iret C E dX0_squareTold_111 (⟨⟨_, _, _, _, _, _, _, hX⟩, hG⟩) (by omega) (by omega)
set_option maxHeartbeats 800000 in
theorem xa_treeTold_b (l : Launch) (D : va_G) (b : Nat) (M0 : List va_E) {R T Ti P Rw : Nat → Nat} {hi : Bool} {lm rm : Nat} (v : Int32) (hb : v < 0 ∨ nI (T 0) ≤ v) (w : Int32) (h : xw_P D b M0 R T Ti P Rw hi lm rm) (hk : okT T) : fb_CT l D b yX0_treeTold cX0_treeTold 4 (some .int) 10 171 1 7 [.ref (b + 0), .int v, .int w] M0 (.threw (b + M0.length)) (ex_R b M0 9 (-1)) := by
  refine fb_start [some (.ref (b + 0)), some (.int v), some (.int w), none] (by decide) (Nat.le_of_ble_eq_true rfl) rfl ?_
  intro x hl hD hb C E hx
  subst hl hD hb
  have C : fb_OK x cX0_treeTold "FallsBetween" "treeTold" := C
  obtain ⟨Tm, Y, Ym, Yi, lo, lom, loi, hX⟩ := h
  have hG := xw_F.rf M0
  obtain ⟨k0, k1, k2, k3, k4, k5, k6, k7, k8⟩ := id hk
  refine gx_aload_n (q := 1) C dX0_treeTold_0 rfl rfl rfl ?_
  refine gx_iload_n (q := 2) C dX0_treeTold_1 rfl rfl rfl ?_
  exact gx_ct C E hx (sx_X0_232 (As := [_]) C hX.o rfl rfl dX0_treeTold_2) (xa_mustBeTree_b _ _ _ _ v hb ⟨_, _, _, _, _, _, _, hX⟩ hk) kw_X0_mustBeTree (by decide) (Nat.le_of_ble_eq_true rfl) (by omega) (by omega) dX0_treeTold_2 (fun _ h => h)
set_option maxHeartbeats 800000 in
theorem xa_treeTold_o (l : Launch) (D : va_G) (b : Nat) (M0 : List va_E) {R T Ti P Rw : Nat → Nat} {hi : Bool} {lm rm : Nat} (t : Nat) (ht : t < T 0) (w : Int32) (hw : w < 0 ∨ nI 4 ≤ w) (h : xw_P D b M0 R T Ti P Rw hi lm rm) (hk : okT T) : fb_CT l D b yX0_treeTold cX0_treeTold 4 (some .int) 10 171 1 7 [.ref (b + 0), .int (nI t), .int w] M0 (.threw (b + M0.length)) (ex_R b M0 9 (-2)) := by
  refine fb_start [some (.ref (b + 0)), some (.int (nI t)), some (.int w), none] (by decide) (Nat.le_of_ble_eq_true rfl) rfl ?_
  intro x hl hD hb C E hx
  subst hl hD hb
  have C : fb_OK x cX0_treeTold "FallsBetween" "treeTold" := C
  obtain ⟨Tm, Y, Ym, Yi, lo, lom, loi, hX⟩ := h
  have hG := xw_F.rf M0
  obtain ⟨k0, k1, k2, k3, k4, k5, k6, k7, k8⟩ := id hk
  refine gx_aload_n (q := 1) C dX0_treeTold_0 rfl rfl rfl ?_
  refine gx_iload_n (q := 2) C dX0_treeTold_1 rfl rfl rfl ?_
  refine gx_cv (q := 5) C E (sx_X0_232 (As := [_]) C hX.o rfl rfl dX0_treeTold_2) (xa_mustBeTree_o _ _ _ _ t ht ⟨_, _, _, _, _, _, _, hX⟩ hk) kw_X0_mustBeTree (by decide) (Nat.le_of_ble_eq_true rfl) rfl rfl (by omega) (by omega) dX0_treeTold_2 rfl (fun Mv rv => ?_)
  rw [rv]
  refine gx_iload_n (q := 6) C dX0_treeTold_5 rfl rfl rfl ?_
  refine gx_i2l (q := 7) C dX0_treeTold_6 (rfl) rfl ?_
  refine gx_lconst (q := 8) (v := 0) C dX0_treeTold_7 (by decide) rfl ?_
  refine gx_ldc2 (q := 11) C dX0_treeTold_8 q702 rfl ?_
  refine gx_cp (q := 14) C E (sx_X0_13 (As := [_, _, _]) C rfl rfl dX0_treeTold_11) (fx_in_f _ _ _ _ _ _ _ (in_kb l_k3 (by decide) hw)) kw_X0_in (by decide) (Nat.le_of_ble_eq_true rfl) (by omega) (by omega) dX0_treeTold_11 rfl ?_
  refine gx_bipush (q := 16) (v := -2) C dX0_treeTold_14 (by decide) rfl ?_
  exact gx_ct C E hx (sx_X0_9 (As := [_, _]) C rfl rfl dX0_treeTold_16) (fx_must_f _ _ _ _ (-2)) kw_X0_must (by decide) (Nat.le_of_ble_eq_true rfl) (by omega) (by omega) dX0_treeTold_16 (fun _ h => h)
set_option maxHeartbeats 800000 in
theorem xa_treeTold_0 (l : Launch) (D : va_G) (b : Nat) (M0 : List va_E) {R T Ti P Rw : Nat → Nat} {hi : Bool} {lm rm : Nat} (t : Nat) (ht : t < T 0) (h : xw_P D b M0 R T Ti P Rw hi lm rm) (hk : okT T) : fb_CT l D b yX0_treeTold cX0_treeTold 4 (some .int) 10 171 0 0 [.ref (b + 0), .int (nI t), .int (nI 0)] M0 (.returned (some (.int (nI (T (120 + t)))))) (fun M' => xw_P D b M' R T Ti P Rw hi lm rm ∧ xw_F M0 M') := by
  refine fb_start [some (.ref (b + 0)), some (.int (nI t)), some (.int (nI 0)), none] (by decide) (Nat.le_of_ble_eq_true rfl) rfl ?_
  intro x hl hD hb C E hx
  subst hl hD hb
  have C : fb_OK x cX0_treeTold "FallsBetween" "treeTold" := C
  obtain ⟨Tm, Y, Ym, Yi, lo, lom, loi, hX⟩ := h
  have hG := xw_F.rf M0
  obtain ⟨k0, k1, k2, k3, k4, k5, k6, k7, k8⟩ := id hk
  have hkd := (k8 _ ht).1
  refine gx_aload_n (q := 1) C dX0_treeTold_0 rfl rfl rfl ?_
  refine gx_iload_n (q := 2) C dX0_treeTold_1 rfl rfl rfl ?_
  refine gx_cv (q := 5) C E (sx_X0_232 (As := [_]) C hX.o rfl rfl dX0_treeTold_2) (xa_mustBeTree_o _ _ _ _ t ht ⟨_, _, _, _, _, _, _, hX⟩ hk) kw_X0_mustBeTree (by decide) (Nat.le_of_ble_eq_true rfl) rfl rfl (by omega) (by omega) dX0_treeTold_2 rfl (fun Mv rv => ?_)
  rw [rv]
  refine gx_iload_n (q := 6) C dX0_treeTold_5 rfl rfl rfl ?_
  refine gx_i2l (q := 7) C dX0_treeTold_6 (rfl) rfl ?_
  refine gx_lconst (q := 8) (v := 0) C dX0_treeTold_7 (by decide) rfl ?_
  refine gx_ldc2 (q := 11) C dX0_treeTold_8 q702 rfl ?_
  refine gx_cp (q := 14) C E (sx_X0_13 (As := [_, _, _]) C rfl rfl dX0_treeTold_11) (fx_in_t _ _ _ _ _ _ _ (in_k l_k3 (j := 0) (by decide) (by decide)).1 (in_k l_k3 (j := 0) (by decide) (by decide)).2) kw_X0_in (by decide) (Nat.le_of_ble_eq_true rfl) (by omega) (by omega) dX0_treeTold_11 rfl ?_
  refine gx_bipush (q := 16) (v := -2) C dX0_treeTold_14 (by decide) rfl ?_
  refine gx_cv (q := 19) C E (sx_X0_9 (As := [_, _]) C rfl rfl dX0_treeTold_16) (fx_must_t _ _ _ _ (-2)) kw_X0_must (by decide) (Nat.le_of_ble_eq_true rfl) rfl rfl (by omega) (by omega) dX0_treeTold_16 rfl (fun Mv rv => ?_)
  rw [rv]
  refine gx_aload_n (q := 20) C dX0_treeTold_19 rfl rfl rfl ?_
  refine fg_X0_51 (q := 23) C hX.o rfl dX0_treeTold_20 rfl ?_
  refine fg_X0_116 (q := 26) C hX.t.o rfl dX0_treeTold_23 rfl ?_
  refine gx_iload_n (q := 27) C dX0_treeTold_26 rfl rfl rfl ?_
  refine tv_tree (q := 28) C hX.t (by omega) (by omega) dX0_treeTold_27 rfl (fun jt hjt hj54 => ?_)
  refine gx_astore_n (q := 29) (lv' := [_, _, _, _]) C dX0_treeTold_28 rfl (Nat.le_of_ble_eq_true rfl) E.2.2.2.symm rfl rfl rfl ?_
  refine gx_iload_n (q := 30) C dX0_treeTold_29 rfl rfl rfl ?_
  refine gn_if_ne (q := 33) (tgt := 40) C dX0_treeTold_30 (by decide) rfl (by omega) (fun c30 => by exfalso; revert c30; decide) (fun c30 => ?_)
  refine gx_aload_n (q := 34) C dX0_treeTold_33 rfl rfl rfl ?_
  refine gv_kind (q := 37) C E hjt hkd (by decide) (by decide) (Nat.le_of_ble_eq_true rfl) (by omega) (by omega) dX0_treeTold_34 rfl ?_
  refine gx_goto (tgt := 68) C dX0_treeTold_37 (by decide) ?_
  exact gx_iret C E dX0_treeTold_68 (⟨⟨_, _, _, _, _, _, _, hX⟩, hG⟩) (by omega) (by omega)
set_option maxHeartbeats 800000 in
theorem xa_treeTold_1 (l : Launch) (D : va_G) (b : Nat) (M0 : List va_E) {R T Ti P Rw : Nat → Nat} {hi : Bool} {lm rm : Nat} (t : Nat) (ht : t < T 0) (h : xw_P D b M0 R T Ti P Rw hi lm rm) (hk : okT T) : fb_CT l D b yX0_treeTold cX0_treeTold 4 (some .int) 10 171 0 0 [.ref (b + 0), .int (nI t), .int (nI 1)] M0 (.returned (some (.int (nI (T (126 + t)))))) (fun M' => xw_P D b M' R T Ti P Rw hi lm rm ∧ xw_F M0 M') := by
  refine fb_start [some (.ref (b + 0)), some (.int (nI t)), some (.int (nI 1)), none] (by decide) (Nat.le_of_ble_eq_true rfl) rfl ?_
  intro x hl hD hb C E hx
  subst hl hD hb
  have C : fb_OK x cX0_treeTold "FallsBetween" "treeTold" := C
  obtain ⟨Tm, Y, Ym, Yi, lo, lom, loi, hX⟩ := h
  have hG := xw_F.rf M0
  obtain ⟨k0, k1, k2, k3, k4, k5, k6, k7, k8⟩ := id hk
  have hkd := (k8 _ ht).1
  refine gx_aload_n (q := 1) C dX0_treeTold_0 rfl rfl rfl ?_
  refine gx_iload_n (q := 2) C dX0_treeTold_1 rfl rfl rfl ?_
  refine gx_cv (q := 5) C E (sx_X0_232 (As := [_]) C hX.o rfl rfl dX0_treeTold_2) (xa_mustBeTree_o _ _ _ _ t ht ⟨_, _, _, _, _, _, _, hX⟩ hk) kw_X0_mustBeTree (by decide) (Nat.le_of_ble_eq_true rfl) rfl rfl (by omega) (by omega) dX0_treeTold_2 rfl (fun Mv rv => ?_)
  rw [rv]
  refine gx_iload_n (q := 6) C dX0_treeTold_5 rfl rfl rfl ?_
  refine gx_i2l (q := 7) C dX0_treeTold_6 (rfl) rfl ?_
  refine gx_lconst (q := 8) (v := 0) C dX0_treeTold_7 (by decide) rfl ?_
  refine gx_ldc2 (q := 11) C dX0_treeTold_8 q702 rfl ?_
  refine gx_cp (q := 14) C E (sx_X0_13 (As := [_, _, _]) C rfl rfl dX0_treeTold_11) (fx_in_t _ _ _ _ _ _ _ (in_k l_k3 (j := 1) (by decide) (by decide)).1 (in_k l_k3 (j := 1) (by decide) (by decide)).2) kw_X0_in (by decide) (Nat.le_of_ble_eq_true rfl) (by omega) (by omega) dX0_treeTold_11 rfl ?_
  refine gx_bipush (q := 16) (v := -2) C dX0_treeTold_14 (by decide) rfl ?_
  refine gx_cv (q := 19) C E (sx_X0_9 (As := [_, _]) C rfl rfl dX0_treeTold_16) (fx_must_t _ _ _ _ (-2)) kw_X0_must (by decide) (Nat.le_of_ble_eq_true rfl) rfl rfl (by omega) (by omega) dX0_treeTold_16 rfl (fun Mv rv => ?_)
  rw [rv]
  refine gx_aload_n (q := 20) C dX0_treeTold_19 rfl rfl rfl ?_
  refine fg_X0_51 (q := 23) C hX.o rfl dX0_treeTold_20 rfl ?_
  refine fg_X0_116 (q := 26) C hX.t.o rfl dX0_treeTold_23 rfl ?_
  refine gx_iload_n (q := 27) C dX0_treeTold_26 rfl rfl rfl ?_
  refine tv_tree (q := 28) C hX.t (by omega) (by omega) dX0_treeTold_27 rfl (fun jt hjt hj54 => ?_)
  refine gx_astore_n (q := 29) (lv' := [_, _, _, _]) C dX0_treeTold_28 rfl (Nat.le_of_ble_eq_true rfl) E.2.2.2.symm rfl rfl rfl ?_
  refine gx_iload_n (q := 30) C dX0_treeTold_29 rfl rfl rfl ?_
  refine gn_if_ne (q := 33) (tgt := 40) C dX0_treeTold_30 (by decide) rfl (by omega) (fun c30 => ?_) (fun c30 => by exfalso; revert c30; decide)
  refine gx_iload_n (q := 41) C dX0_treeTold_40 rfl rfl rfl ?_
  refine gx_iconst (q := 42) (v := nI 1) C dX0_treeTold_41 (by decide) rfl ?_
  refine gn_icmp_ne (q := 45) (tgt := 52) C dX0_treeTold_42 (by decide) rfl (by omega) (by omega) (fun c42 => by exfalso; revert c42; decide) (fun c42 => ?_)
  refine gx_aload_n (q := 46) C dX0_treeTold_45 rfl rfl rfl ?_
  refine gf_X0_square (q := 49) C hjt hkd dX0_treeTold_46 rfl ?_
  refine gx_goto (tgt := 68) C dX0_treeTold_49 (by decide) ?_
  exact gx_iret C E dX0_treeTold_68 (⟨⟨_, _, _, _, _, _, _, hX⟩, hG⟩) (by omega) (by omega)
set_option maxHeartbeats 800000 in
theorem xa_treeTold_2 (l : Launch) (D : va_G) (b : Nat) (M0 : List va_E) {R T Ti P Rw : Nat → Nat} {hi : Bool} {lm rm : Nat} (t : Nat) (ht : t < T 0) (h : xw_P D b M0 R T Ti P Rw hi lm rm) (hk : okT T) : fb_CT l D b yX0_treeTold cX0_treeTold 4 (some .int) 10 171 0 0 [.ref (b + 0), .int (nI t), .int (nI 2)] M0 (.returned (some (.int (nI (T (132 + t)))))) (fun M' => xw_P D b M' R T Ti P Rw hi lm rm ∧ xw_F M0 M') := by
  refine fb_start [some (.ref (b + 0)), some (.int (nI t)), some (.int (nI 2)), none] (by decide) (Nat.le_of_ble_eq_true rfl) rfl ?_
  intro x hl hD hb C E hx
  subst hl hD hb
  have C : fb_OK x cX0_treeTold "FallsBetween" "treeTold" := C
  obtain ⟨Tm, Y, Ym, Yi, lo, lom, loi, hX⟩ := h
  have hG := xw_F.rf M0
  obtain ⟨k0, k1, k2, k3, k4, k5, k6, k7, k8⟩ := id hk
  have hkd := (k8 _ ht).1
  refine gx_aload_n (q := 1) C dX0_treeTold_0 rfl rfl rfl ?_
  refine gx_iload_n (q := 2) C dX0_treeTold_1 rfl rfl rfl ?_
  refine gx_cv (q := 5) C E (sx_X0_232 (As := [_]) C hX.o rfl rfl dX0_treeTold_2) (xa_mustBeTree_o _ _ _ _ t ht ⟨_, _, _, _, _, _, _, hX⟩ hk) kw_X0_mustBeTree (by decide) (Nat.le_of_ble_eq_true rfl) rfl rfl (by omega) (by omega) dX0_treeTold_2 rfl (fun Mv rv => ?_)
  rw [rv]
  refine gx_iload_n (q := 6) C dX0_treeTold_5 rfl rfl rfl ?_
  refine gx_i2l (q := 7) C dX0_treeTold_6 (rfl) rfl ?_
  refine gx_lconst (q := 8) (v := 0) C dX0_treeTold_7 (by decide) rfl ?_
  refine gx_ldc2 (q := 11) C dX0_treeTold_8 q702 rfl ?_
  refine gx_cp (q := 14) C E (sx_X0_13 (As := [_, _, _]) C rfl rfl dX0_treeTold_11) (fx_in_t _ _ _ _ _ _ _ (in_k l_k3 (j := 2) (by decide) (by decide)).1 (in_k l_k3 (j := 2) (by decide) (by decide)).2) kw_X0_in (by decide) (Nat.le_of_ble_eq_true rfl) (by omega) (by omega) dX0_treeTold_11 rfl ?_
  refine gx_bipush (q := 16) (v := -2) C dX0_treeTold_14 (by decide) rfl ?_
  refine gx_cv (q := 19) C E (sx_X0_9 (As := [_, _]) C rfl rfl dX0_treeTold_16) (fx_must_t _ _ _ _ (-2)) kw_X0_must (by decide) (Nat.le_of_ble_eq_true rfl) rfl rfl (by omega) (by omega) dX0_treeTold_16 rfl (fun Mv rv => ?_)
  rw [rv]
  refine gx_aload_n (q := 20) C dX0_treeTold_19 rfl rfl rfl ?_
  refine fg_X0_51 (q := 23) C hX.o rfl dX0_treeTold_20 rfl ?_
  refine fg_X0_116 (q := 26) C hX.t.o rfl dX0_treeTold_23 rfl ?_
  refine gx_iload_n (q := 27) C dX0_treeTold_26 rfl rfl rfl ?_
  refine tv_tree (q := 28) C hX.t (by omega) (by omega) dX0_treeTold_27 rfl (fun jt hjt hj54 => ?_)
  refine gx_astore_n (q := 29) (lv' := [_, _, _, _]) C dX0_treeTold_28 rfl (Nat.le_of_ble_eq_true rfl) E.2.2.2.symm rfl rfl rfl ?_
  refine gx_iload_n (q := 30) C dX0_treeTold_29 rfl rfl rfl ?_
  refine gn_if_ne (q := 33) (tgt := 40) C dX0_treeTold_30 (by decide) rfl (by omega) (fun c30 => ?_) (fun c30 => by exfalso; revert c30; decide)
  refine gx_iload_n (q := 41) C dX0_treeTold_40 rfl rfl rfl ?_
  refine gx_iconst (q := 42) (v := nI 1) C dX0_treeTold_41 (by decide) rfl ?_
  refine gn_icmp_ne (q := 45) (tgt := 52) C dX0_treeTold_42 (by decide) rfl (by omega) (by omega) (fun c42 => ?_) (fun c42 => by exfalso; revert c42; decide)
  refine gx_iload_n (q := 53) C dX0_treeTold_52 rfl rfl rfl ?_
  refine gx_iconst (q := 54) (v := nI 2) C dX0_treeTold_53 (by decide) rfl ?_
  refine gn_icmp_ne (q := 57) (tgt := 64) C dX0_treeTold_54 (by decide) rfl (by omega) (by omega) (fun c54 => by exfalso; revert c54; decide) (fun c54 => ?_)
  refine gx_aload_n (q := 58) C dX0_treeTold_57 rfl rfl rfl ?_
  refine gf_X0_fruit (q := 61) C hjt hkd dX0_treeTold_58 rfl ?_
  refine gx_goto (tgt := 68) C dX0_treeTold_61 (by decide) ?_
  exact gx_iret C E dX0_treeTold_68 (⟨⟨_, _, _, _, _, _, _, hX⟩, hG⟩) (by omega) (by omega)
set_option maxHeartbeats 800000 in
theorem xa_treeTold_3 (l : Launch) (D : va_G) (b : Nat) (M0 : List va_E) {R T Ti P Rw : Nat → Nat} {hi : Bool} {lm rm : Nat} (t : Nat) (ht : t < T 0) (h : xw_P D b M0 R T Ti P Rw hi lm rm) (hk : okT T) : fb_CT l D b yX0_treeTold cX0_treeTold 4 (some .int) 10 171 0 0 [.ref (b + 0), .int (nI t), .int (nI 3)] M0 (.returned (some (.int (nI (T (138 + t)))))) (fun M' => xw_P D b M' R T Ti P Rw hi lm rm ∧ xw_F M0 M') := by
  refine fb_start [some (.ref (b + 0)), some (.int (nI t)), some (.int (nI 3)), none] (by decide) (Nat.le_of_ble_eq_true rfl) rfl ?_
  intro x hl hD hb C E hx
  subst hl hD hb
  have C : fb_OK x cX0_treeTold "FallsBetween" "treeTold" := C
  obtain ⟨Tm, Y, Ym, Yi, lo, lom, loi, hX⟩ := h
  have hG := xw_F.rf M0
  obtain ⟨k0, k1, k2, k3, k4, k5, k6, k7, k8⟩ := id hk
  have hkd := (k8 _ ht).1
  refine gx_aload_n (q := 1) C dX0_treeTold_0 rfl rfl rfl ?_
  refine gx_iload_n (q := 2) C dX0_treeTold_1 rfl rfl rfl ?_
  refine gx_cv (q := 5) C E (sx_X0_232 (As := [_]) C hX.o rfl rfl dX0_treeTold_2) (xa_mustBeTree_o _ _ _ _ t ht ⟨_, _, _, _, _, _, _, hX⟩ hk) kw_X0_mustBeTree (by decide) (Nat.le_of_ble_eq_true rfl) rfl rfl (by omega) (by omega) dX0_treeTold_2 rfl (fun Mv rv => ?_)
  rw [rv]
  refine gx_iload_n (q := 6) C dX0_treeTold_5 rfl rfl rfl ?_
  refine gx_i2l (q := 7) C dX0_treeTold_6 (rfl) rfl ?_
  refine gx_lconst (q := 8) (v := 0) C dX0_treeTold_7 (by decide) rfl ?_
  refine gx_ldc2 (q := 11) C dX0_treeTold_8 q702 rfl ?_
  refine gx_cp (q := 14) C E (sx_X0_13 (As := [_, _, _]) C rfl rfl dX0_treeTold_11) (fx_in_t _ _ _ _ _ _ _ (in_k l_k3 (j := 3) (by decide) (by decide)).1 (in_k l_k3 (j := 3) (by decide) (by decide)).2) kw_X0_in (by decide) (Nat.le_of_ble_eq_true rfl) (by omega) (by omega) dX0_treeTold_11 rfl ?_
  refine gx_bipush (q := 16) (v := -2) C dX0_treeTold_14 (by decide) rfl ?_
  refine gx_cv (q := 19) C E (sx_X0_9 (As := [_, _]) C rfl rfl dX0_treeTold_16) (fx_must_t _ _ _ _ (-2)) kw_X0_must (by decide) (Nat.le_of_ble_eq_true rfl) rfl rfl (by omega) (by omega) dX0_treeTold_16 rfl (fun Mv rv => ?_)
  rw [rv]
  refine gx_aload_n (q := 20) C dX0_treeTold_19 rfl rfl rfl ?_
  refine fg_X0_51 (q := 23) C hX.o rfl dX0_treeTold_20 rfl ?_
  refine fg_X0_116 (q := 26) C hX.t.o rfl dX0_treeTold_23 rfl ?_
  refine gx_iload_n (q := 27) C dX0_treeTold_26 rfl rfl rfl ?_
  refine tv_tree (q := 28) C hX.t (by omega) (by omega) dX0_treeTold_27 rfl (fun jt hjt hj54 => ?_)
  refine gx_astore_n (q := 29) (lv' := [_, _, _, _]) C dX0_treeTold_28 rfl (Nat.le_of_ble_eq_true rfl) E.2.2.2.symm rfl rfl rfl ?_
  refine gx_iload_n (q := 30) C dX0_treeTold_29 rfl rfl rfl ?_
  refine gn_if_ne (q := 33) (tgt := 40) C dX0_treeTold_30 (by decide) rfl (by omega) (fun c30 => ?_) (fun c30 => by exfalso; revert c30; decide)
  refine gx_iload_n (q := 41) C dX0_treeTold_40 rfl rfl rfl ?_
  refine gx_iconst (q := 42) (v := nI 1) C dX0_treeTold_41 (by decide) rfl ?_
  refine gn_icmp_ne (q := 45) (tgt := 52) C dX0_treeTold_42 (by decide) rfl (by omega) (by omega) (fun c42 => ?_) (fun c42 => by exfalso; revert c42; decide)
  refine gx_iload_n (q := 53) C dX0_treeTold_52 rfl rfl rfl ?_
  refine gx_iconst (q := 54) (v := nI 2) C dX0_treeTold_53 (by decide) rfl ?_
  refine gn_icmp_ne (q := 57) (tgt := 64) C dX0_treeTold_54 (by decide) rfl (by omega) (by omega) (fun c54 => ?_) (fun c54 => by exfalso; revert c54; decide)
  refine gx_aload_n (q := 65) C dX0_treeTold_64 rfl rfl rfl ?_
  refine gf_X0_leans (q := 68) C hjt hkd dX0_treeTold_65 rfl ?_
  exact gx_iret C E dX0_treeTold_68 (⟨⟨_, _, _, _, _, _, _, hX⟩, hG⟩) (by omega) (by omega)
