/-! the component's acts by their numbers -/
set_option maxRecDepth 100000
set_option maxHeartbeats 800000 in
theorem xa_ofTown_letter_b (l : Launch) (D : va_G) (b : Nat) (M0 : List va_E) {R T Ti P Rw : Nat → Nat} {hi : Bool} {lm rm : Nat} (v : Int32) (hb : v < 0) (h : xw_P D b M0 R T Ti P Rw hi lm rm) (hk : okT T) : fb_CT l D b yX0_ofTown cX0_ofTown 4 (some .int) 14 266 1 7 [.ref (b + 0), .int (nI 0), .int v, .int (nI 0)] M0 (.threw (b + M0.length)) (ex_R b M0 9 (-4)) := by
  refine fb_start [some (.ref (b + 0)), some (.int (nI 0)), some (.int v), some (.int (nI 0))] (by decide) (Nat.le_of_ble_eq_true rfl) rfl ?_
  intro x hl hD hb C E hx
  subst hl hD hb
  have C : fb_OK x cX0_ofTown "FallsBetween" "ofTown" := C
  obtain ⟨Tm, Y, Ym, Yi, lo, lom, loi, hX⟩ := h
  have hG := xw_F.rf M0
  obtain ⟨k0, k1, k2, k3, k4, k5, k6, k7, k8⟩ := id hk
  refine gx_iload_n (q := 1) C dX0_ofTown_0 rfl rfl rfl ?_
  refine gx_tableIn (tgt := 52) C dX0_ofTown_1 (by decide) (by decide) (rfl) (by decide) ?_
  refine gx_aload_n (q := 53) C dX0_ofTown_52 rfl rfl rfl ?_
  refine gx_iload_n (q := 54) C dX0_ofTown_53 rfl rfl rfl ?_
  exact gx_ct C E hx (sx_X0_256 (As := [_]) C hX.o rfl rfl dX0_ofTown_54) (xa_letterIt_b _ _ _ _ v hb ⟨_, _, _, _, _, _, _, hX⟩ hk) kw_X0_letterIt (by decide) (Nat.le_of_ble_eq_true rfl) (by omega) (by omega) dX0_ofTown_54 (fun _ h => h)
set_option maxHeartbeats 800000 in
theorem xa_ofTown_letter_a (l : Launch) (D : va_G) (b : Nat) (M0 : List va_E) {R T Ti P Rw : Nat → Nat} {hi : Bool} {lm rm : Nat} (v : Int32) (hb : nI 256 ≤ v) (h : xw_P D b M0 R T Ti P Rw hi lm rm) (hk : okT T) : fb_CT l D b yX0_ofTown cX0_ofTown 4 (some .int) 14 266 1 7 [.ref (b + 0), .int (nI 0), .int v, .int (nI 0)] M0 (.threw (b + M0.length)) (ex_R b M0 9 (-6)) := by
  refine fb_start [some (.ref (b + 0)), some (.int (nI 0)), some (.int v), some (.int (nI 0))] (by decide) (Nat.le_of_ble_eq_true rfl) rfl ?_
  intro x hl hD hb C E hx
  subst hl hD hb
  have C : fb_OK x cX0_ofTown "FallsBetween" "ofTown" := C
  obtain ⟨Tm, Y, Ym, Yi, lo, lom, loi, hX⟩ := h
  have hG := xw_F.rf M0
  obtain ⟨k0, k1, k2, k3, k4, k5, k6, k7, k8⟩ := id hk
  refine gx_iload_n (q := 1) C dX0_ofTown_0 rfl rfl rfl ?_
  refine gx_tableIn (tgt := 52) C dX0_ofTown_1 (by decide) (by decide) (rfl) (by decide) ?_
  refine gx_aload_n (q := 53) C dX0_ofTown_52 rfl rfl rfl ?_
  refine gx_iload_n (q := 54) C dX0_ofTown_53 rfl rfl rfl ?_
  exact gx_ct C E hx (sx_X0_256 (As := [_]) C hX.o rfl rfl dX0_ofTown_54) (xa_letterIt_a _ _ _ _ v hb ⟨_, _, _, _, _, _, _, hX⟩ hk) kw_X0_letterIt (by decide) (Nat.le_of_ble_eq_true rfl) (by omega) (by omega) dX0_ofTown_54 (fun _ h => h)
set_option maxHeartbeats 800000 in
theorem xa_ofTown_letter_f (l : Launch) (D : va_G) (b : Nat) (M0 : List va_E) {R T Ti P Rw : Nat → Nat} {hi : Bool} {lm rm : Nat} (j : Nat) (hj : j < 256) (hf : lm = 64) (h : xw_P D b M0 R T Ti P Rw hi lm rm) (hk : okT T) : fb_CT l D b yX0_ofTown cX0_ofTown 4 (some .int) 14 266 1 7 [.ref (b + 0), .int (nI 0), .int (nI j), .int (nI 0)] M0 (.threw (b + M0.length)) (ex_R b M0 9 (-6)) := by
  refine fb_start [some (.ref (b + 0)), some (.int (nI 0)), some (.int (nI j)), some (.int (nI 0))] (by decide) (Nat.le_of_ble_eq_true rfl) rfl ?_
  intro x hl hD hb C E hx
  subst hl hD hb
  have C : fb_OK x cX0_ofTown "FallsBetween" "ofTown" := C
  obtain ⟨Tm, Y, Ym, Yi, lo, lom, loi, hX⟩ := h
  have hG := xw_F.rf M0
  obtain ⟨k0, k1, k2, k3, k4, k5, k6, k7, k8⟩ := id hk
  refine gx_iload_n (q := 1) C dX0_ofTown_0 rfl rfl rfl ?_
  refine gx_tableIn (tgt := 52) C dX0_ofTown_1 (by decide) (by decide) (rfl) (by decide) ?_
  refine gx_aload_n (q := 53) C dX0_ofTown_52 rfl rfl rfl ?_
  refine gx_iload_n (q := 54) C dX0_ofTown_53 rfl rfl rfl ?_
  exact gx_ct C E hx (sx_X0_256 (As := [_]) C hX.o rfl rfl dX0_ofTown_54) (xa_letterIt_f _ _ _ _ j hj hf ⟨_, _, _, _, _, _, _, hX⟩ hk) kw_X0_letterIt (by decide) (Nat.le_of_ble_eq_true rfl) (by omega) (by omega) dX0_ofTown_54 (fun _ h => h)
set_option maxHeartbeats 800000 in
theorem xa_ofTown_letter_o (l : Launch) (D : va_G) (b : Nat) (M0 : List va_E) {R T Ti P Rw : Nat → Nat} {hi : Bool} {lm rm : Nat} (j : Nat) (hj : j < 256) (hf : lm < 64) (h : xw_P D b M0 R T Ti P Rw hi lm rm) (hk : okT T) : fb_CT l D b yX0_ofTown cX0_ofTown 4 (some .int) 14 266 0 0 [.ref (b + 0), .int (nI 0), .int (nI j), .int (nI 0)] M0 (.returned (some (.int (nI (lm + 1))))) (fun M' => xw_P D b M' R T Ti (updN P lm j) Rw hi (lm + 1) rm ∧ xw_F M0 M') := by
  refine fb_start [some (.ref (b + 0)), some (.int (nI 0)), some (.int (nI j)), some (.int (nI 0))] (by decide) (Nat.le_of_ble_eq_true rfl) rfl ?_
  intro x hl hD hb C E hx
  subst hl hD hb
  have C : fb_OK x cX0_ofTown "FallsBetween" "ofTown" := C
  obtain ⟨Tm, Y, Ym, Yi, lo, lom, loi, hX⟩ := h
  have hG := xw_F.rf M0
  obtain ⟨k0, k1, k2, k3, k4, k5, k6, k7, k8⟩ := id hk
  refine gx_iload_n (q := 1) C dX0_ofTown_0 rfl rfl rfl ?_
  refine gx_tableIn (tgt := 52) C dX0_ofTown_1 (by decide) (by decide) (rfl) (by decide) ?_
  refine gx_aload_n (q := 53) C dX0_ofTown_52 rfl rfl rfl ?_
  refine gx_iload_n (q := 54) C dX0_ofTown_53 rfl rfl rfl ?_
  refine gx_cs (q := 57) C E (sx_X0_256 (As := [_]) C hX.o rfl rfl dX0_ofTown_54) (xa_letterIt_o _ _ _ _ j hj hf ⟨_, _, _, _, _, _, _, hX⟩ hk) kw_X0_letterIt (by decide) (Nat.le_of_ble_eq_true rfl) rfl rfl (by omega) (by omega) dX0_ofTown_54 rfl (fun M r54 => ?_)
  obtain ⟨⟨Tm, Y, Ym, Yi, lo, lom, loi, hX⟩, hG1⟩ := r54
  have hG := hG.tr hG1
  exact gx_iret C E dX0_ofTown_57 (⟨⟨_, _, _, _, _, _, _, hX⟩, hG⟩) (by omega) (by omega)
set_option maxHeartbeats 800000 in
theorem xa_ofTown_square_b (l : Launch) (D : va_G) (b : Nat) (M0 : List va_E) {R T Ti P Rw : Nat → Nat} {hi : Bool} {lm rm : Nat} (v : Int32) (hb : v < 0 ∨ nI 36 ≤ v) (w : Int32) (h : xw_P D b M0 R T Ti P Rw hi lm rm) (hk : okT T) : fb_CT l D b yX0_ofTown cX0_ofTown 4 (some .int) 14 266 1 7 [.ref (b + 0), .int (nI 2), .int v, .int w] M0 (.threw (b + M0.length)) (ex_R b M0 9 (-1)) := by
  refine fb_start [some (.ref (b + 0)), some (.int (nI 2)), some (.int v), some (.int w)] (by decide) (Nat.le_of_ble_eq_true rfl) rfl ?_
  intro x hl hD hb C E hx
  subst hl hD hb
  have C : fb_OK x cX0_ofTown "FallsBetween" "ofTown" := C
  obtain ⟨Tm, Y, Ym, Yi, lo, lom, loi, hX⟩ := h
  have hG := xw_F.rf M0
  obtain ⟨k0, k1, k2, k3, k4, k5, k6, k7, k8⟩ := id hk
  refine gx_iload_n (q := 1) C dX0_ofTown_0 rfl rfl rfl ?_
  refine gx_tableIn (tgt := 63) C dX0_ofTown_1 (by decide) (by decide) (rfl) (by decide) ?_
  refine gx_aload_n (q := 64) C dX0_ofTown_63 rfl rfl rfl ?_
  refine gx_iload_n (q := 65) C dX0_ofTown_64 rfl rfl rfl ?_
  refine gx_iload_n (q := 66) C dX0_ofTown_65 rfl rfl rfl ?_
  exact gx_ct C E hx (sx_X0_262 (As := [_, _]) C hX.o rfl rfl dX0_ofTown_66) (xa_squareTold_b _ _ _ _ v hb w ⟨_, _, _, _, _, _, _, hX⟩ hk) kw_X0_squareTold (by decide) (Nat.le_of_ble_eq_true rfl) (by omega) (by omega) dX0_ofTown_66 (fun _ h => h)
set_option maxHeartbeats 800000 in
theorem xa_ofTown_square_o (l : Launch) (D : va_G) (b : Nat) (M0 : List va_E) {R T Ti P Rw : Nat → Nat} {hi : Bool} {lm rm : Nat} (q : Nat) (hq : q < 36) (w : Int32) (hw : w < 0 ∨ nI 5 ≤ w) (h : xw_P D b M0 R T Ti P Rw hi lm rm) (hk : okT T) : fb_CT l D b yX0_ofTown cX0_ofTown 4 (some .int) 14 266 1 7 [.ref (b + 0), .int (nI 2), .int (nI q), .int w] M0 (.threw (b + M0.length)) (ex_R b M0 9 (-2)) := by
  refine fb_start [some (.ref (b + 0)), some (.int (nI 2)), some (.int (nI q)), some (.int w)] (by decide) (Nat.le_of_ble_eq_true rfl) rfl ?_
  intro x hl hD hb C E hx
  subst hl hD hb
  have C : fb_OK x cX0_ofTown "FallsBetween" "ofTown" := C
  obtain ⟨Tm, Y, Ym, Yi, lo, lom, loi, hX⟩ := h
  have hG := xw_F.rf M0
  obtain ⟨k0, k1, k2, k3, k4, k5, k6, k7, k8⟩ := id hk
  refine gx_iload_n (q := 1) C dX0_ofTown_0 rfl rfl rfl ?_
  refine gx_tableIn (tgt := 63) C dX0_ofTown_1 (by decide) (by decide) (rfl) (by decide) ?_
  refine gx_aload_n (q := 64) C dX0_ofTown_63 rfl rfl rfl ?_
  refine gx_iload_n (q := 65) C dX0_ofTown_64 rfl rfl rfl ?_
  refine gx_iload_n (q := 66) C dX0_ofTown_65 rfl rfl rfl ?_
  exact gx_ct C E hx (sx_X0_262 (As := [_, _]) C hX.o rfl rfl dX0_ofTown_66) (xa_squareTold_o _ _ _ _ q hq w hw ⟨_, _, _, _, _, _, _, hX⟩ hk) kw_X0_squareTold (by decide) (Nat.le_of_ble_eq_true rfl) (by omega) (by omega) dX0_ofTown_66 (fun _ h => h)
set_option maxHeartbeats 800000 in
theorem xa_ofTown_square_0 (l : Launch) (D : va_G) (b : Nat) (M0 : List va_E) {R T Ti P Rw : Nat → Nat} {hi : Bool} {lm rm : Nat} (q : Nat) (hq : q < 36) (h : xw_P D b M0 R T Ti P Rw hi lm rm) (hk : okT T) : fb_CT l D b yX0_ofTown cX0_ofTown 4 (some .int) 14 266 0 0 [.ref (b + 0), .int (nI 2), .int (nI q), .int (nI 0)] M0 (.returned (some (.int (nI (T (12 + q)))))) (fun M' => xw_P D b M' R T Ti P Rw hi lm rm ∧ xw_F M0 M') := by
  refine fb_start [some (.ref (b + 0)), some (.int (nI 2)), some (.int (nI q)), some (.int (nI 0))] (by decide) (Nat.le_of_ble_eq_true rfl) rfl ?_
  intro x hl hD hb C E hx
  subst hl hD hb
  have C : fb_OK x cX0_ofTown "FallsBetween" "ofTown" := C
  obtain ⟨Tm, Y, Ym, Yi, lo, lom, loi, hX⟩ := h
  have hG := xw_F.rf M0
  obtain ⟨k0, k1, k2, k3, k4, k5, k6, k7, k8⟩ := id hk
  refine gx_iload_n (q := 1) C dX0_ofTown_0 rfl rfl rfl ?_
  refine gx_tableIn (tgt := 63) C dX0_ofTown_1 (by decide) (by decide) (rfl) (by decide) ?_
  refine gx_aload_n (q := 64) C dX0_ofTown_63 rfl rfl rfl ?_
  refine gx_iload_n (q := 65) C dX0_ofTown_64 rfl rfl rfl ?_
  refine gx_iload_n (q := 66) C dX0_ofTown_65 rfl rfl rfl ?_
  refine gx_cs (q := 69) C E (sx_X0_262 (As := [_, _]) C hX.o rfl rfl dX0_ofTown_66) (xa_squareTold_0 _ _ _ _ q hq ⟨_, _, _, _, _, _, _, hX⟩ hk) kw_X0_squareTold (by decide) (Nat.le_of_ble_eq_true rfl) rfl rfl (by omega) (by omega) dX0_ofTown_66 rfl (fun M r66 => ?_)
  obtain ⟨⟨Tm, Y, Ym, Yi, lo, lom, loi, hX⟩, hG1⟩ := r66
  have hG := hG.tr hG1
  exact gx_iret C E dX0_ofTown_69 (⟨⟨_, _, _, _, _, _, _, hX⟩, hG⟩) (by omega) (by omega)
set_option maxHeartbeats 800000 in
theorem xa_ofTown_square_1 (l : Launch) (D : va_G) (b : Nat) (M0 : List va_E) {R T Ti P Rw : Nat → Nat} {hi : Bool} {lm rm : Nat} (q : Nat) (hq : q < 36) (h : xw_P D b M0 R T Ti P Rw hi lm rm) (hk : okT T) : fb_CT l D b yX0_ofTown cX0_ofTown 4 (some .int) 14 266 0 0 [.ref (b + 0), .int (nI 2), .int (nI q), .int (nI 1)] M0 (.returned (some (.int (nI (T (48 + q)))))) (fun M' => xw_P D b M' R T Ti P Rw hi lm rm ∧ xw_F M0 M') := by
  refine fb_start [some (.ref (b + 0)), some (.int (nI 2)), some (.int (nI q)), some (.int (nI 1))] (by decide) (Nat.le_of_ble_eq_true rfl) rfl ?_
  intro x hl hD hb C E hx
  subst hl hD hb
  have C : fb_OK x cX0_ofTown "FallsBetween" "ofTown" := C
  obtain ⟨Tm, Y, Ym, Yi, lo, lom, loi, hX⟩ := h
  have hG := xw_F.rf M0
  obtain ⟨k0, k1, k2, k3, k4, k5, k6, k7, k8⟩ := id hk
  refine gx_iload_n (q := 1) C dX0_ofTown_0 rfl rfl rfl ?_
  refine gx_tableIn (tgt := 63) C dX0_ofTown_1 (by decide) (by decide) (rfl) (by decide) ?_
  refine gx_aload_n (q := 64) C dX0_ofTown_63 rfl rfl rfl ?_
  refine gx_iload_n (q := 65) C dX0_ofTown_64 rfl rfl rfl ?_
  refine gx_iload_n (q := 66) C dX0_ofTown_65 rfl rfl rfl ?_
  refine gx_cs (q := 69) C E (sx_X0_262 (As := [_, _]) C hX.o rfl rfl dX0_ofTown_66) (xa_squareTold_1 _ _ _ _ q hq ⟨_, _, _, _, _, _, _, hX⟩ hk) kw_X0_squareTold (by decide) (Nat.le_of_ble_eq_true rfl) rfl rfl (by omega) (by omega) dX0_ofTown_66 rfl (fun M r66 => ?_)
  obtain ⟨⟨Tm, Y, Ym, Yi, lo, lom, loi, hX⟩, hG1⟩ := r66
  have hG := hG.tr hG1
  exact gx_iret C E dX0_ofTown_69 (⟨⟨_, _, _, _, _, _, _, hX⟩, hG⟩) (by omega) (by omega)
set_option maxHeartbeats 800000 in
theorem xa_ofTown_square_2 (l : Launch) (D : va_G) (b : Nat) (M0 : List va_E) {R T Ti P Rw : Nat → Nat} {hi : Bool} {lm rm : Nat} (q : Nat) (hq : q < 36) (h : xw_P D b M0 R T Ti P Rw hi lm rm) (hk : okT T) : fb_CT l D b yX0_ofTown cX0_ofTown 4 (some .int) 14 266 0 0 [.ref (b + 0), .int (nI 2), .int (nI q), .int (nI 2)] M0 (.returned (some (.int (nI (T (84 + q)))))) (fun M' => xw_P D b M' R T Ti P Rw hi lm rm ∧ xw_F M0 M') := by
  refine fb_start [some (.ref (b + 0)), some (.int (nI 2)), some (.int (nI q)), some (.int (nI 2))] (by decide) (Nat.le_of_ble_eq_true rfl) rfl ?_
  intro x hl hD hb C E hx
  subst hl hD hb
  have C : fb_OK x cX0_ofTown "FallsBetween" "ofTown" := C
  obtain ⟨Tm, Y, Ym, Yi, lo, lom, loi, hX⟩ := h
  have hG := xw_F.rf M0
  obtain ⟨k0, k1, k2, k3, k4, k5, k6, k7, k8⟩ := id hk
  refine gx_iload_n (q := 1) C dX0_ofTown_0 rfl rfl rfl ?_
  refine gx_tableIn (tgt := 63) C dX0_ofTown_1 (by decide) (by decide) (rfl) (by decide) ?_
  refine gx_aload_n (q := 64) C dX0_ofTown_63 rfl rfl rfl ?_
  refine gx_iload_n (q := 65) C dX0_ofTown_64 rfl rfl rfl ?_
  refine gx_iload_n (q := 66) C dX0_ofTown_65 rfl rfl rfl ?_
  refine gx_cs (q := 69) C E (sx_X0_262 (As := [_, _]) C hX.o rfl rfl dX0_ofTown_66) (xa_squareTold_2 _ _ _ _ q hq ⟨_, _, _, _, _, _, _, hX⟩ hk) kw_X0_squareTold (by decide) (Nat.le_of_ble_eq_true rfl) rfl rfl (by omega) (by omega) dX0_ofTown_66 rfl (fun M r66 => ?_)
  obtain ⟨⟨Tm, Y, Ym, Yi, lo, lom, loi, hX⟩, hG1⟩ := r66
  have hG := hG.tr hG1
  exact gx_iret C E dX0_ofTown_69 (⟨⟨_, _, _, _, _, _, _, hX⟩, hG⟩) (by omega) (by omega)
set_option maxHeartbeats 800000 in
theorem xa_ofTown_square_3 (l : Launch) (D : va_G) (b : Nat) (M0 : List va_E) {R T Ti P Rw : Nat → Nat} {hi : Bool} {lm rm : Nat} (q : Nat) (hq : q < 36) (h : xw_P D b M0 R T Ti P Rw hi lm rm) (hk : okT T) : fb_CT l D b yX0_ofTown cX0_ofTown 4 (some .int) 14 266 0 0 [.ref (b + 0), .int (nI 2), .int (nI q), .int (nI 3)] M0 (.returned (some (.int (bI (nob T q))))) (fun M' => xw_P D b M' R T Ti P Rw hi lm rm ∧ xw_F M0 M') := by
  refine fb_start [some (.ref (b + 0)), some (.int (nI 2)), some (.int (nI q)), some (.int (nI 3))] (by decide) (Nat.le_of_ble_eq_true rfl) rfl ?_
  intro x hl hD hb C E hx
  subst hl hD hb
  have C : fb_OK x cX0_ofTown "FallsBetween" "ofTown" := C
  obtain ⟨Tm, Y, Ym, Yi, lo, lom, loi, hX⟩ := h
  have hG := xw_F.rf M0
  obtain ⟨k0, k1, k2, k3, k4, k5, k6, k7, k8⟩ := id hk
  refine gx_iload_n (q := 1) C dX0_ofTown_0 rfl rfl rfl ?_
  refine gx_tableIn (tgt := 63) C dX0_ofTown_1 (by decide) (by decide) (rfl) (by decide) ?_
  refine gx_aload_n (q := 64) C dX0_ofTown_63 rfl rfl rfl ?_
  refine gx_iload_n (q := 65) C dX0_ofTown_64 rfl rfl rfl ?_
  refine gx_iload_n (q := 66) C dX0_ofTown_65 rfl rfl rfl ?_
  refine gx_cs (q := 69) C E (sx_X0_262 (As := [_, _]) C hX.o rfl rfl dX0_ofTown_66) (xa_squareTold_3 _ _ _ _ q hq ⟨_, _, _, _, _, _, _, hX⟩ hk) kw_X0_squareTold (by decide) (Nat.le_of_ble_eq_true rfl) rfl rfl (by omega) (by omega) dX0_ofTown_66 rfl (fun M r66 => ?_)
  obtain ⟨⟨Tm, Y, Ym, Yi, lo, lom, loi, hX⟩, hG1⟩ := r66
  have hG := hG.tr hG1
  exact gx_iret C E dX0_ofTown_69 (⟨⟨_, _, _, _, _, _, _, hX⟩, hG⟩) (by omega) (by omega)
set_option maxHeartbeats 800000 in
theorem xa_ofTown_square_4 (l : Launch) (D : va_G) (b : Nat) (M0 : List va_E) {R T Ti P Rw : Nat → Nat} {hi : Bool} {lm rm : Nat} (q : Nat) (hq : q < 36) (h : xw_P D b M0 R T Ti P Rw hi lm rm) (hk : okT T) : fb_CT l D b yX0_ofTown cX0_ofTown 4 (some .int) 14 266 0 0 [.ref (b + 0), .int (nI 2), .int (nI q), .int (nI 4)] M0 (.returned (some (.int (sq_ (trIn T q (T 0)))))) (fun M' => xw_P D b M' R T Ti P Rw hi lm rm ∧ xw_F M0 M') := by
  refine fb_start [some (.ref (b + 0)), some (.int (nI 2)), some (.int (nI q)), some (.int (nI 4))] (by decide) (Nat.le_of_ble_eq_true rfl) rfl ?_
  intro x hl hD hb C E hx
  subst hl hD hb
  have C : fb_OK x cX0_ofTown "FallsBetween" "ofTown" := C
  obtain ⟨Tm, Y, Ym, Yi, lo, lom, loi, hX⟩ := h
  have hG := xw_F.rf M0
  obtain ⟨k0, k1, k2, k3, k4, k5, k6, k7, k8⟩ := id hk
  refine gx_iload_n (q := 1) C dX0_ofTown_0 rfl rfl rfl ?_
  refine gx_tableIn (tgt := 63) C dX0_ofTown_1 (by decide) (by decide) (rfl) (by decide) ?_
  refine gx_aload_n (q := 64) C dX0_ofTown_63 rfl rfl rfl ?_
  refine gx_iload_n (q := 65) C dX0_ofTown_64 rfl rfl rfl ?_
  refine gx_iload_n (q := 66) C dX0_ofTown_65 rfl rfl rfl ?_
  refine gx_cs (q := 69) C E (sx_X0_262 (As := [_, _]) C hX.o rfl rfl dX0_ofTown_66) (xa_squareTold_4 _ _ _ _ q hq ⟨_, _, _, _, _, _, _, hX⟩ hk) kw_X0_squareTold (by decide) (Nat.le_of_ble_eq_true rfl) rfl rfl (by omega) (by omega) dX0_ofTown_66 rfl (fun M r66 => ?_)
  obtain ⟨⟨Tm, Y, Ym, Yi, lo, lom, loi, hX⟩, hG1⟩ := r66
  have hG := hG.tr hG1
  exact gx_iret C E dX0_ofTown_69 (⟨⟨_, _, _, _, _, _, _, hX⟩, hG⟩) (by omega) (by omega)
set_option maxHeartbeats 800000 in
theorem xa_ofTown_tree_b (l : Launch) (D : va_G) (b : Nat) (M0 : List va_E) {R T Ti P Rw : Nat → Nat} {hi : Bool} {lm rm : Nat} (v : Int32) (hb : v < 0 ∨ nI (T 0) ≤ v) (w : Int32) (h : xw_P D b M0 R T Ti P Rw hi lm rm) (hk : okT T) : fb_CT l D b yX0_ofTown cX0_ofTown 4 (some .int) 14 266 1 7 [.ref (b + 0), .int (nI 3), .int v, .int w] M0 (.threw (b + M0.length)) (ex_R b M0 9 (-1)) := by
  refine fb_start [some (.ref (b + 0)), some (.int (nI 3)), some (.int v), some (.int w)] (by decide) (Nat.le_of_ble_eq_true rfl) rfl ?_
  intro x hl hD hb C E hx
  subst hl hD hb
  have C : fb_OK x cX0_ofTown "FallsBetween" "ofTown" := C
  obtain ⟨Tm, Y, Ym, Yi, lo, lom, loi, hX⟩ := h
  have hG := xw_F.rf M0
  obtain ⟨k0, k1, k2, k3, k4, k5, k6, k7, k8⟩ := id hk
  refine gx_iload_n (q := 1) C dX0_ofTown_0 rfl rfl rfl ?_
  refine gx_tableIn (tgt := 70) C dX0_ofTown_1 (by decide) (by decide) (rfl) (by decide) ?_
  refine gx_aload_n (q := 71) C dX0_ofTown_70 rfl rfl rfl ?_
  refine gx_iload_n (q := 72) C dX0_ofTown_71 rfl rfl rfl ?_
  refine gx_iload_n (q := 73) C dX0_ofTown_72 rfl rfl rfl ?_
  exact gx_ct C E hx (sx_X0_265 (As := [_, _]) C hX.o rfl rfl dX0_ofTown_73) (xa_treeTold_b _ _ _ _ v hb w ⟨_, _, _, _, _, _, _, hX⟩ hk) kw_X0_treeTold (by decide) (Nat.le_of_ble_eq_true rfl) (by omega) (by omega) dX0_ofTown_73 (fun _ h => h)
set_option maxHeartbeats 800000 in
theorem xa_ofTown_tree_o (l : Launch) (D : va_G) (b : Nat) (M0 : List va_E) {R T Ti P Rw : Nat → Nat} {hi : Bool} {lm rm : Nat} (t : Nat) (ht : t < T 0) (w : Int32) (hw : w < 0 ∨ nI 4 ≤ w) (h : xw_P D b M0 R T Ti P Rw hi lm rm) (hk : okT T) : fb_CT l D b yX0_ofTown cX0_ofTown 4 (some .int) 14 266 1 7 [.ref (b + 0), .int (nI 3), .int (nI t), .int w] M0 (.threw (b + M0.length)) (ex_R b M0 9 (-2)) := by
  refine fb_start [some (.ref (b + 0)), some (.int (nI 3)), some (.int (nI t)), some (.int w)] (by decide) (Nat.le_of_ble_eq_true rfl) rfl ?_
  intro x hl hD hb C E hx
  subst hl hD hb
  have C : fb_OK x cX0_ofTown "FallsBetween" "ofTown" := C
  obtain ⟨Tm, Y, Ym, Yi, lo, lom, loi, hX⟩ := h
  have hG := xw_F.rf M0
  obtain ⟨k0, k1, k2, k3, k4, k5, k6, k7, k8⟩ := id hk
  refine gx_iload_n (q := 1) C dX0_ofTown_0 rfl rfl rfl ?_
  refine gx_tableIn (tgt := 70) C dX0_ofTown_1 (by decide) (by decide) (rfl) (by decide) ?_
  refine gx_aload_n (q := 71) C dX0_ofTown_70 rfl rfl rfl ?_
  refine gx_iload_n (q := 72) C dX0_ofTown_71 rfl rfl rfl ?_
  refine gx_iload_n (q := 73) C dX0_ofTown_72 rfl rfl rfl ?_
  exact gx_ct C E hx (sx_X0_265 (As := [_, _]) C hX.o rfl rfl dX0_ofTown_73) (xa_treeTold_o _ _ _ _ t ht w hw ⟨_, _, _, _, _, _, _, hX⟩ hk) kw_X0_treeTold (by decide) (Nat.le_of_ble_eq_true rfl) (by omega) (by omega) dX0_ofTown_73 (fun _ h => h)
set_option maxHeartbeats 800000 in
theorem xa_ofTown_tree_0 (l : Launch) (D : va_G) (b : Nat) (M0 : List va_E) {R T Ti P Rw : Nat → Nat} {hi : Bool} {lm rm : Nat} (t : Nat) (ht : t < T 0) (h : xw_P D b M0 R T Ti P Rw hi lm rm) (hk : okT T) : fb_CT l D b yX0_ofTown cX0_ofTown 4 (some .int) 14 266 0 0 [.ref (b + 0), .int (nI 3), .int (nI t), .int (nI 0)] M0 (.returned (some (.int (nI (T (120 + t)))))) (fun M' => xw_P D b M' R T Ti P Rw hi lm rm ∧ xw_F M0 M') := by
  refine fb_start [some (.ref (b + 0)), some (.int (nI 3)), some (.int (nI t)), some (.int (nI 0))] (by decide) (Nat.le_of_ble_eq_true rfl) rfl ?_
  intro x hl hD hb C E hx
  subst hl hD hb
  have C : fb_OK x cX0_ofTown "FallsBetween" "ofTown" := C
  obtain ⟨Tm, Y, Ym, Yi, lo, lom, loi, hX⟩ := h
  have hG := xw_F.rf M0
  obtain ⟨k0, k1, k2, k3, k4, k5, k6, k7, k8⟩ := id hk
  refine gx_iload_n (q := 1) C dX0_ofTown_0 rfl rfl rfl ?_
  refine gx_tableIn (tgt := 70) C dX0_ofTown_1 (by decide) (by decide) (rfl) (by decide) ?_
  refine gx_aload_n (q := 71) C dX0_ofTown_70 rfl rfl rfl ?_
  refine gx_iload_n (q := 72) C dX0_ofTown_71 rfl rfl rfl ?_
  refine gx_iload_n (q := 73) C dX0_ofTown_72 rfl rfl rfl ?_
  refine gx_cs (q := 76) C E (sx_X0_265 (As := [_, _]) C hX.o rfl rfl dX0_ofTown_73) (xa_treeTold_0 _ _ _ _ t ht ⟨_, _, _, _, _, _, _, hX⟩ hk) kw_X0_treeTold (by decide) (Nat.le_of_ble_eq_true rfl) rfl rfl (by omega) (by omega) dX0_ofTown_73 rfl (fun M r73 => ?_)
  obtain ⟨⟨Tm, Y, Ym, Yi, lo, lom, loi, hX⟩, hG1⟩ := r73
  have hG := hG.tr hG1
  exact gx_iret C E dX0_ofTown_76 (⟨⟨_, _, _, _, _, _, _, hX⟩, hG⟩) (by omega) (by omega)
set_option maxHeartbeats 800000 in
theorem xa_ofTown_tree_1 (l : Launch) (D : va_G) (b : Nat) (M0 : List va_E) {R T Ti P Rw : Nat → Nat} {hi : Bool} {lm rm : Nat} (t : Nat) (ht : t < T 0) (h : xw_P D b M0 R T Ti P Rw hi lm rm) (hk : okT T) : fb_CT l D b yX0_ofTown cX0_ofTown 4 (some .int) 14 266 0 0 [.ref (b + 0), .int (nI 3), .int (nI t), .int (nI 1)] M0 (.returned (some (.int (nI (T (126 + t)))))) (fun M' => xw_P D b M' R T Ti P Rw hi lm rm ∧ xw_F M0 M') := by
  refine fb_start [some (.ref (b + 0)), some (.int (nI 3)), some (.int (nI t)), some (.int (nI 1))] (by decide) (Nat.le_of_ble_eq_true rfl) rfl ?_
  intro x hl hD hb C E hx
  subst hl hD hb
  have C : fb_OK x cX0_ofTown "FallsBetween" "ofTown" := C
  obtain ⟨Tm, Y, Ym, Yi, lo, lom, loi, hX⟩ := h
  have hG := xw_F.rf M0
  obtain ⟨k0, k1, k2, k3, k4, k5, k6, k7, k8⟩ := id hk
  refine gx_iload_n (q := 1) C dX0_ofTown_0 rfl rfl rfl ?_
  refine gx_tableIn (tgt := 70) C dX0_ofTown_1 (by decide) (by decide) (rfl) (by decide) ?_
  refine gx_aload_n (q := 71) C dX0_ofTown_70 rfl rfl rfl ?_
  refine gx_iload_n (q := 72) C dX0_ofTown_71 rfl rfl rfl ?_
  refine gx_iload_n (q := 73) C dX0_ofTown_72 rfl rfl rfl ?_
  refine gx_cs (q := 76) C E (sx_X0_265 (As := [_, _]) C hX.o rfl rfl dX0_ofTown_73) (xa_treeTold_1 _ _ _ _ t ht ⟨_, _, _, _, _, _, _, hX⟩ hk) kw_X0_treeTold (by decide) (Nat.le_of_ble_eq_true rfl) rfl rfl (by omega) (by omega) dX0_ofTown_73 rfl (fun M r73 => ?_)
  obtain ⟨⟨Tm, Y, Ym, Yi, lo, lom, loi, hX⟩, hG1⟩ := r73
  have hG := hG.tr hG1
  exact gx_iret C E dX0_ofTown_76 (⟨⟨_, _, _, _, _, _, _, hX⟩, hG⟩) (by omega) (by omega)
set_option maxHeartbeats 800000 in
theorem xa_ofTown_tree_2 (l : Launch) (D : va_G) (b : Nat) (M0 : List va_E) {R T Ti P Rw : Nat → Nat} {hi : Bool} {lm rm : Nat} (t : Nat) (ht : t < T 0) (h : xw_P D b M0 R T Ti P Rw hi lm rm) (hk : okT T) : fb_CT l D b yX0_ofTown cX0_ofTown 4 (some .int) 14 266 0 0 [.ref (b + 0), .int (nI 3), .int (nI t), .int (nI 2)] M0 (.returned (some (.int (nI (T (132 + t)))))) (fun M' => xw_P D b M' R T Ti P Rw hi lm rm ∧ xw_F M0 M') := by
  refine fb_start [some (.ref (b + 0)), some (.int (nI 3)), some (.int (nI t)), some (.int (nI 2))] (by decide) (Nat.le_of_ble_eq_true rfl) rfl ?_
  intro x hl hD hb C E hx
  subst hl hD hb
  have C : fb_OK x cX0_ofTown "FallsBetween" "ofTown" := C
  obtain ⟨Tm, Y, Ym, Yi, lo, lom, loi, hX⟩ := h
  have hG := xw_F.rf M0
  obtain ⟨k0, k1, k2, k3, k4, k5, k6, k7, k8⟩ := id hk
  refine gx_iload_n (q := 1) C dX0_ofTown_0 rfl rfl rfl ?_
  refine gx_tableIn (tgt := 70) C dX0_ofTown_1 (by decide) (by decide) (rfl) (by decide) ?_
  refine gx_aload_n (q := 71) C dX0_ofTown_70 rfl rfl rfl ?_
  refine gx_iload_n (q := 72) C dX0_ofTown_71 rfl rfl rfl ?_
  refine gx_iload_n (q := 73) C dX0_ofTown_72 rfl rfl rfl ?_
  refine gx_cs (q := 76) C E (sx_X0_265 (As := [_, _]) C hX.o rfl rfl dX0_ofTown_73) (xa_treeTold_2 _ _ _ _ t ht ⟨_, _, _, _, _, _, _, hX⟩ hk) kw_X0_treeTold (by decide) (Nat.le_of_ble_eq_true rfl) rfl rfl (by omega) (by omega) dX0_ofTown_73 rfl (fun M r73 => ?_)
  obtain ⟨⟨Tm, Y, Ym, Yi, lo, lom, loi, hX⟩, hG1⟩ := r73
  have hG := hG.tr hG1
  exact gx_iret C E dX0_ofTown_76 (⟨⟨_, _, _, _, _, _, _, hX⟩, hG⟩) (by omega) (by omega)
set_option maxHeartbeats 800000 in
theorem xa_ofTown_tree_3 (l : Launch) (D : va_G) (b : Nat) (M0 : List va_E) {R T Ti P Rw : Nat → Nat} {hi : Bool} {lm rm : Nat} (t : Nat) (ht : t < T 0) (h : xw_P D b M0 R T Ti P Rw hi lm rm) (hk : okT T) : fb_CT l D b yX0_ofTown cX0_ofTown 4 (some .int) 14 266 0 0 [.ref (b + 0), .int (nI 3), .int (nI t), .int (nI 3)] M0 (.returned (some (.int (nI (T (138 + t)))))) (fun M' => xw_P D b M' R T Ti P Rw hi lm rm ∧ xw_F M0 M') := by
  refine fb_start [some (.ref (b + 0)), some (.int (nI 3)), some (.int (nI t)), some (.int (nI 3))] (by decide) (Nat.le_of_ble_eq_true rfl) rfl ?_
  intro x hl hD hb C E hx
  subst hl hD hb
  have C : fb_OK x cX0_ofTown "FallsBetween" "ofTown" := C
  obtain ⟨Tm, Y, Ym, Yi, lo, lom, loi, hX⟩ := h
  have hG := xw_F.rf M0
  obtain ⟨k0, k1, k2, k3, k4, k5, k6, k7, k8⟩ := id hk
  refine gx_iload_n (q := 1) C dX0_ofTown_0 rfl rfl rfl ?_
  refine gx_tableIn (tgt := 70) C dX0_ofTown_1 (by decide) (by decide) (rfl) (by decide) ?_
  refine gx_aload_n (q := 71) C dX0_ofTown_70 rfl rfl rfl ?_
  refine gx_iload_n (q := 72) C dX0_ofTown_71 rfl rfl rfl ?_
  refine gx_iload_n (q := 73) C dX0_ofTown_72 rfl rfl rfl ?_
  refine gx_cs (q := 76) C E (sx_X0_265 (As := [_, _]) C hX.o rfl rfl dX0_ofTown_73) (xa_treeTold_3 _ _ _ _ t ht ⟨_, _, _, _, _, _, _, hX⟩ hk) kw_X0_treeTold (by decide) (Nat.le_of_ble_eq_true rfl) rfl rfl (by omega) (by omega) dX0_ofTown_73 rfl (fun M r73 => ?_)
  obtain ⟨⟨Tm, Y, Ym, Yi, lo, lom, loi, hX⟩, hG1⟩ := r73
  have hG := hG.tr hG1
  exact gx_iret C E dX0_ofTown_76 (⟨⟨_, _, _, _, _, _, _, hX⟩, hG⟩) (by omega) (by omega)
set_option maxHeartbeats 800000 in
theorem xa_ofTown_garden_b1 (l : Launch) (D : va_G) (b : Nat) (M0 : List va_E) {R T Ti P Rw : Nat → Nat} {hi : Bool} {lm rm : Nat} (v : Int32) (hb : v < 0 ∨ nI 36 ≤ v) (w : Int32) (h : xw_P D b M0 R T Ti P Rw hi lm rm) (hk : okT T) : fb_CT l D b yX0_ofTown cX0_ofTown 4 (some .int) 14 266 1 7 [.ref (b + 0), .int (nI 4), .int v, .int w] M0 (.threw (b + M0.length)) (ex_R b M0 9 (-1)) := by
  refine fb_start [some (.ref (b + 0)), some (.int (nI 4)), some (.int v), some (.int w)] (by decide) (Nat.le_of_ble_eq_true rfl) rfl ?_
  intro x hl hD hb C E hx
  subst hl hD hb
  have C : fb_OK x cX0_ofTown "FallsBetween" "ofTown" := C
  obtain ⟨Tm, Y, Ym, Yi, lo, lom, loi, hX⟩ := h
  have hG := xw_F.rf M0
  obtain ⟨k0, k1, k2, k3, k4, k5, k6, k7, k8⟩ := id hk
  refine gx_iload_n (q := 1) C dX0_ofTown_0 rfl rfl rfl ?_
  refine gx_tableIn (tgt := 77) C dX0_ofTown_1 (by decide) (by decide) (rfl) (by decide) ?_
  refine gx_aload_n (q := 78) C dX0_ofTown_77 rfl rfl rfl ?_
  refine gx_iload_n (q := 79) C dX0_ofTown_78 rfl rfl rfl ?_
  refine gx_iload_n (q := 80) C dX0_ofTown_79 rfl rfl rfl ?_
  exact gx_ct C E hx (sx_X0_268 (As := [_, _]) C hX.o rfl rfl dX0_ofTown_80) (xa_gardenTold_b1 _ _ _ _ v hb w ⟨_, _, _, _, _, _, _, hX⟩ hk) kw_X0_gardenTold (by decide) (Nat.le_of_ble_eq_true rfl) (by omega) (by omega) dX0_ofTown_80 (fun _ h => h)
set_option maxHeartbeats 800000 in
theorem xa_ofTown_garden_b2 (l : Launch) (D : va_G) (b : Nat) (M0 : List va_E) {R T Ti P Rw : Nat → Nat} {hi : Bool} {lm rm : Nat} (q : Nat) (hq : q < 36) (v : Int32) (hb : v < 0 ∨ nI 4 ≤ v) (h : xw_P D b M0 R T Ti P Rw hi lm rm) (hk : okT T) : fb_CT l D b yX0_ofTown cX0_ofTown 4 (some .int) 14 266 1 7 [.ref (b + 0), .int (nI 4), .int (nI q), .int v] M0 (.threw (b + M0.length)) (ex_R b M0 9 (-1)) := by
  refine fb_start [some (.ref (b + 0)), some (.int (nI 4)), some (.int (nI q)), some (.int v)] (by decide) (Nat.le_of_ble_eq_true rfl) rfl ?_
  intro x hl hD hb C E hx
  subst hl hD hb
  have C : fb_OK x cX0_ofTown "FallsBetween" "ofTown" := C
  obtain ⟨Tm, Y, Ym, Yi, lo, lom, loi, hX⟩ := h
  have hG := xw_F.rf M0
  obtain ⟨k0, k1, k2, k3, k4, k5, k6, k7, k8⟩ := id hk
  refine gx_iload_n (q := 1) C dX0_ofTown_0 rfl rfl rfl ?_
  refine gx_tableIn (tgt := 77) C dX0_ofTown_1 (by decide) (by decide) (rfl) (by decide) ?_
  refine gx_aload_n (q := 78) C dX0_ofTown_77 rfl rfl rfl ?_
  refine gx_iload_n (q := 79) C dX0_ofTown_78 rfl rfl rfl ?_
  refine gx_iload_n (q := 80) C dX0_ofTown_79 rfl rfl rfl ?_
  exact gx_ct C E hx (sx_X0_268 (As := [_, _]) C hX.o rfl rfl dX0_ofTown_80) (xa_gardenTold_b2 _ _ _ _ q hq v hb ⟨_, _, _, _, _, _, _, hX⟩ hk) kw_X0_gardenTold (by decide) (Nat.le_of_ble_eq_true rfl) (by omega) (by omega) dX0_ofTown_80 (fun _ h => h)
set_option maxHeartbeats 800000 in
theorem xa_ofTown_garden_o (l : Launch) (D : va_G) (b : Nat) (M0 : List va_E) {R T Ti P Rw : Nat → Nat} {hi : Bool} {lm rm : Nat} (q : Nat) (hq : q < 36) (g : Nat) (hg : g < 4) (h : xw_P D b M0 R T Ti P Rw hi lm rm) (hk : okT T) : fb_CT l D b yX0_ofTown cX0_ofTown 4 (some .int) 14 266 0 0 [.ref (b + 0), .int (nI 4), .int (nI q), .int (nI g)] M0 (.returned (some (.int (nI (T (12 + q)))))) (fun M' => xw_P D b M' R (updN T (12 + q) g) Ti P Rw hi lm rm ∧ xw_F M0 M') := by
  refine fb_start [some (.ref (b + 0)), some (.int (nI 4)), some (.int (nI q)), some (.int (nI g))] (by decide) (Nat.le_of_ble_eq_true rfl) rfl ?_
  intro x hl hD hb C E hx
  subst hl hD hb
  have C : fb_OK x cX0_ofTown "FallsBetween" "ofTown" := C
  obtain ⟨Tm, Y, Ym, Yi, lo, lom, loi, hX⟩ := h
  have hG := xw_F.rf M0
  obtain ⟨k0, k1, k2, k3, k4, k5, k6, k7, k8⟩ := id hk
  refine gx_iload_n (q := 1) C dX0_ofTown_0 rfl rfl rfl ?_
  refine gx_tableIn (tgt := 77) C dX0_ofTown_1 (by decide) (by decide) (rfl) (by decide) ?_
  refine gx_aload_n (q := 78) C dX0_ofTown_77 rfl rfl rfl ?_
  refine gx_iload_n (q := 79) C dX0_ofTown_78 rfl rfl rfl ?_
  refine gx_iload_n (q := 80) C dX0_ofTown_79 rfl rfl rfl ?_
  refine gx_cs (q := 83) C E (sx_X0_268 (As := [_, _]) C hX.o rfl rfl dX0_ofTown_80) (xa_gardenTold_o _ _ _ _ q hq g hg ⟨_, _, _, _, _, _, _, hX⟩ hk) kw_X0_gardenTold (by decide) (Nat.le_of_ble_eq_true rfl) rfl rfl (by omega) (by omega) dX0_ofTown_80 rfl (fun M r80 => ?_)
  obtain ⟨⟨Tm, Y, Ym, Yi, lo, lom, loi, hX⟩, hG1⟩ := r80
  have hG := hG.tr hG1
  exact gx_iret C E dX0_ofTown_83 (⟨⟨_, _, _, _, _, _, _, hX⟩, hG⟩) (by omega) (by omega)
set_option maxHeartbeats 800000 in
theorem xa_ofTown_height_b1 (l : Launch) (D : va_G) (b : Nat) (M0 : List va_E) {R T Ti P Rw : Nat → Nat} {hi : Bool} {lm rm : Nat} (v : Int32) (hb : v < 0 ∨ nI 36 ≤ v) (w : Int32) (h : xw_P D b M0 R T Ti P Rw hi lm rm) (hk : okT T) : fb_CT l D b yX0_ofTown cX0_ofTown 4 (some .int) 14 266 1 7 [.ref (b + 0), .int (nI 5), .int v, .int w] M0 (.threw (b + M0.length)) (ex_R b M0 9 (-1)) := by
  refine fb_start [some (.ref (b + 0)), some (.int (nI 5)), some (.int v), some (.int w)] (by decide) (Nat.le_of_ble_eq_true rfl) rfl ?_
  intro x hl hD hb C E hx
  subst hl hD hb
  have C : fb_OK x cX0_ofTown "FallsBetween" "ofTown" := C
  obtain ⟨Tm, Y, Ym, Yi, lo, lom, loi, hX⟩ := h
  have hG := xw_F.rf M0
  obtain ⟨k0, k1, k2, k3, k4, k5, k6, k7, k8⟩ := id hk
  refine gx_iload_n (q := 1) C dX0_ofTown_0 rfl rfl rfl ?_
  refine gx_tableIn (tgt := 84) C dX0_ofTown_1 (by decide) (by decide) (rfl) (by decide) ?_
  refine gx_aload_n (q := 85) C dX0_ofTown_84 rfl rfl rfl ?_
  refine gx_iload_n (q := 86) C dX0_ofTown_85 rfl rfl rfl ?_
  refine gx_iload_n (q := 87) C dX0_ofTown_86 rfl rfl rfl ?_
  exact gx_ct C E hx (sx_X0_271 (As := [_, _]) C hX.o rfl rfl dX0_ofTown_87) (xa_heightTold_b1 _ _ _ _ v hb w ⟨_, _, _, _, _, _, _, hX⟩ hk) kw_X0_heightTold (by decide) (Nat.le_of_ble_eq_true rfl) (by omega) (by omega) dX0_ofTown_87 (fun _ h => h)
set_option maxHeartbeats 800000 in
theorem xa_ofTown_height_b2 (l : Launch) (D : va_G) (b : Nat) (M0 : List va_E) {R T Ti P Rw : Nat → Nat} {hi : Bool} {lm rm : Nat} (q : Nat) (hq : q < 36) (v : Int32) (hb : v < 0) (h : xw_P D b M0 R T Ti P Rw hi lm rm) (hk : okT T) : fb_CT l D b yX0_ofTown cX0_ofTown 4 (some .int) 14 266 1 7 [.ref (b + 0), .int (nI 5), .int (nI q), .int v] M0 (.threw (b + M0.length)) (ex_R b M0 9 (-4)) := by
  refine fb_start [some (.ref (b + 0)), some (.int (nI 5)), some (.int (nI q)), some (.int v)] (by decide) (Nat.le_of_ble_eq_true rfl) rfl ?_
  intro x hl hD hb C E hx
  subst hl hD hb
  have C : fb_OK x cX0_ofTown "FallsBetween" "ofTown" := C
  obtain ⟨Tm, Y, Ym, Yi, lo, lom, loi, hX⟩ := h
  have hG := xw_F.rf M0
  obtain ⟨k0, k1, k2, k3, k4, k5, k6, k7, k8⟩ := id hk
  refine gx_iload_n (q := 1) C dX0_ofTown_0 rfl rfl rfl ?_
  refine gx_tableIn (tgt := 84) C dX0_ofTown_1 (by decide) (by decide) (rfl) (by decide) ?_
  refine gx_aload_n (q := 85) C dX0_ofTown_84 rfl rfl rfl ?_
  refine gx_iload_n (q := 86) C dX0_ofTown_85 rfl rfl rfl ?_
  refine gx_iload_n (q := 87) C dX0_ofTown_86 rfl rfl rfl ?_
  exact gx_ct C E hx (sx_X0_271 (As := [_, _]) C hX.o rfl rfl dX0_ofTown_87) (xa_heightTold_b2 _ _ _ _ q hq v hb ⟨_, _, _, _, _, _, _, hX⟩ hk) kw_X0_heightTold (by decide) (Nat.le_of_ble_eq_true rfl) (by omega) (by omega) dX0_ofTown_87 (fun _ h => h)
set_option maxHeartbeats 800000 in
theorem xa_ofTown_height_b3 (l : Launch) (D : va_G) (b : Nat) (M0 : List va_E) {R T Ti P Rw : Nat → Nat} {hi : Bool} {lm rm : Nat} (q : Nat) (hq : q < 36) (v : Int32) (hb : nI 10 ≤ v) (h : xw_P D b M0 R T Ti P Rw hi lm rm) (hk : okT T) : fb_CT l D b yX0_ofTown cX0_ofTown 4 (some .int) 14 266 1 7 [.ref (b + 0), .int (nI 5), .int (nI q), .int v] M0 (.threw (b + M0.length)) (ex_R b M0 9 (-6)) := by
  refine fb_start [some (.ref (b + 0)), some (.int (nI 5)), some (.int (nI q)), some (.int v)] (by decide) (Nat.le_of_ble_eq_true rfl) rfl ?_
  intro x hl hD hb C E hx
  subst hl hD hb
  have C : fb_OK x cX0_ofTown "FallsBetween" "ofTown" := C
  obtain ⟨Tm, Y, Ym, Yi, lo, lom, loi, hX⟩ := h
  have hG := xw_F.rf M0
  obtain ⟨k0, k1, k2, k3, k4, k5, k6, k7, k8⟩ := id hk
  refine gx_iload_n (q := 1) C dX0_ofTown_0 rfl rfl rfl ?_
  refine gx_tableIn (tgt := 84) C dX0_ofTown_1 (by decide) (by decide) (rfl) (by decide) ?_
  refine gx_aload_n (q := 85) C dX0_ofTown_84 rfl rfl rfl ?_
  refine gx_iload_n (q := 86) C dX0_ofTown_85 rfl rfl rfl ?_
  refine gx_iload_n (q := 87) C dX0_ofTown_86 rfl rfl rfl ?_
  exact gx_ct C E hx (sx_X0_271 (As := [_, _]) C hX.o rfl rfl dX0_ofTown_87) (xa_heightTold_b3 _ _ _ _ q hq v hb ⟨_, _, _, _, _, _, _, hX⟩ hk) kw_X0_heightTold (by decide) (Nat.le_of_ble_eq_true rfl) (by omega) (by omega) dX0_ofTown_87 (fun _ h => h)
set_option maxHeartbeats 800000 in
theorem xa_ofTown_height_o (l : Launch) (D : va_G) (b : Nat) (M0 : List va_E) {R T Ti P Rw : Nat → Nat} {hi : Bool} {lm rm : Nat} (q : Nat) (hq : q < 36) (v : Nat) (hv : v < 10) (h : xw_P D b M0 R T Ti P Rw hi lm rm) (hk : okT T) : fb_CT l D b yX0_ofTown cX0_ofTown 4 (some .int) 14 266 0 0 [.ref (b + 0), .int (nI 5), .int (nI q), .int (nI v)] M0 (.returned (some (.int (nI (T (48 + q)))))) (fun M' => xw_P D b M' R (updN T (48 + q) v) Ti P Rw hi lm rm ∧ xw_F M0 M') := by
  refine fb_start [some (.ref (b + 0)), some (.int (nI 5)), some (.int (nI q)), some (.int (nI v))] (by decide) (Nat.le_of_ble_eq_true rfl) rfl ?_
  intro x hl hD hb C E hx
  subst hl hD hb
  have C : fb_OK x cX0_ofTown "FallsBetween" "ofTown" := C
  obtain ⟨Tm, Y, Ym, Yi, lo, lom, loi, hX⟩ := h
  have hG := xw_F.rf M0
  obtain ⟨k0, k1, k2, k3, k4, k5, k6, k7, k8⟩ := id hk
  refine gx_iload_n (q := 1) C dX0_ofTown_0 rfl rfl rfl ?_
  refine gx_tableIn (tgt := 84) C dX0_ofTown_1 (by decide) (by decide) (rfl) (by decide) ?_
  refine gx_aload_n (q := 85) C dX0_ofTown_84 rfl rfl rfl ?_
  refine gx_iload_n (q := 86) C dX0_ofTown_85 rfl rfl rfl ?_
  refine gx_iload_n (q := 87) C dX0_ofTown_86 rfl rfl rfl ?_
  refine gx_cs (q := 90) C E (sx_X0_271 (As := [_, _]) C hX.o rfl rfl dX0_ofTown_87) (xa_heightTold_o _ _ _ _ q hq v hv ⟨_, _, _, _, _, _, _, hX⟩ hk) kw_X0_heightTold (by decide) (Nat.le_of_ble_eq_true rfl) rfl rfl (by omega) (by omega) dX0_ofTown_87 rfl (fun M r87 => ?_)
  obtain ⟨⟨Tm, Y, Ym, Yi, lo, lom, loi, hX⟩, hG1⟩ := r87
  have hG := hG.tr hG1
  exact gx_iret C E dX0_ofTown_90 (⟨⟨_, _, _, _, _, _, _, hX⟩, hG⟩) (by omega) (by omega)
set_option maxHeartbeats 800000 in
theorem xa_ofTown_net_b (l : Launch) (D : va_G) (b : Nat) (M0 : List va_E) {R T Ti P Rw : Nat → Nat} {hi : Bool} {lm rm : Nat} (v : Int32) (hb : v < 0 ∨ nI 36 ≤ v) (h : xw_P D b M0 R T Ti P Rw hi lm rm) (hk : okT T) : fb_CT l D b yX0_ofTown cX0_ofTown 4 (some .int) 14 266 1 7 [.ref (b + 0), .int (nI 6), .int v, .int (nI 0)] M0 (.threw (b + M0.length)) (ex_R b M0 9 (-1)) := by
  refine fb_start [some (.ref (b + 0)), some (.int (nI 6)), some (.int v), some (.int (nI 0))] (by decide) (Nat.le_of_ble_eq_true rfl) rfl ?_
  intro x hl hD hb C E hx
  subst hl hD hb
  have C : fb_OK x cX0_ofTown "FallsBetween" "ofTown" := C
  obtain ⟨Tm, Y, Ym, Yi, lo, lom, loi, hX⟩ := h
  have hG := xw_F.rf M0
  obtain ⟨k0, k1, k2, k3, k4, k5, k6, k7, k8⟩ := id hk
  refine gx_iload_n (q := 1) C dX0_ofTown_0 rfl rfl rfl ?_
  refine gx_tableIn (tgt := 91) C dX0_ofTown_1 (by decide) (by decide) (rfl) (by decide) ?_
  refine gx_aload_n (q := 92) C dX0_ofTown_91 rfl rfl rfl ?_
  refine gx_iload_n (q := 93) C dX0_ofTown_92 rfl rfl rfl ?_
  exact gx_ct C E hx (sx_X0_274 (As := [_]) C hX.o rfl rfl dX0_ofTown_93) (xa_netTold_b _ _ _ _ v hb ⟨_, _, _, _, _, _, _, hX⟩ hk) kw_X0_netTold (by decide) (Nat.le_of_ble_eq_true rfl) (by omega) (by omega) dX0_ofTown_93 (fun _ h => h)
set_option maxHeartbeats 800000 in
theorem xa_ofTown_net_o (l : Launch) (D : va_G) (b : Nat) (M0 : List va_E) {R T Ti P Rw : Nat → Nat} {hi : Bool} {lm rm : Nat} (q : Nat) (hq : q < 36) (h : xw_P D b M0 R T Ti P Rw hi lm rm) (hk : okT T) : fb_CT l D b yX0_ofTown cX0_ofTown 4 (some .int) 14 266 0 0 [.ref (b + 0), .int (nI 6), .int (nI q), .int (nI 0)] M0 (.returned (some (.int (nI (1 - T (84 + q)))))) (fun M' => xw_P D b M' R (updN T (84 + q) (1 - T (84 + q))) Ti P Rw hi lm rm ∧ xw_F M0 M') := by
  refine fb_start [some (.ref (b + 0)), some (.int (nI 6)), some (.int (nI q)), some (.int (nI 0))] (by decide) (Nat.le_of_ble_eq_true rfl) rfl ?_
  intro x hl hD hb C E hx
  subst hl hD hb
  have C : fb_OK x cX0_ofTown "FallsBetween" "ofTown" := C
  obtain ⟨Tm, Y, Ym, Yi, lo, lom, loi, hX⟩ := h
  have hG := xw_F.rf M0
  obtain ⟨k0, k1, k2, k3, k4, k5, k6, k7, k8⟩ := id hk
  refine gx_iload_n (q := 1) C dX0_ofTown_0 rfl rfl rfl ?_
  refine gx_tableIn (tgt := 91) C dX0_ofTown_1 (by decide) (by decide) (rfl) (by decide) ?_
  refine gx_aload_n (q := 92) C dX0_ofTown_91 rfl rfl rfl ?_
  refine gx_iload_n (q := 93) C dX0_ofTown_92 rfl rfl rfl ?_
  refine gx_cs (q := 96) C E (sx_X0_274 (As := [_]) C hX.o rfl rfl dX0_ofTown_93) (xa_netTold_o _ _ _ _ q hq ⟨_, _, _, _, _, _, _, hX⟩ hk) kw_X0_netTold (by decide) (Nat.le_of_ble_eq_true rfl) rfl rfl (by omega) (by omega) dX0_ofTown_93 rfl (fun M r93 => ?_)
  obtain ⟨⟨Tm, Y, Ym, Yi, lo, lom, loi, hX⟩, hG1⟩ := r93
  have hG := hG.tr hG1
  exact gx_iret C E dX0_ofTown_96 (⟨⟨_, _, _, _, _, _, _, hX⟩, hG⟩) (by omega) (by omega)
set_option maxHeartbeats 800000 in
theorem xa_ofTown_wind_b (l : Launch) (D : va_G) (b : Nat) (M0 : List va_E) {R T Ti P Rw : Nat → Nat} {hi : Bool} {lm rm : Nat} (v : Int32) (hb : v < 0) (h : xw_P D b M0 R T Ti P Rw hi lm rm) (hk : okT T) : fb_CT l D b yX0_ofTown cX0_ofTown 4 (some .int) 14 266 1 7 [.ref (b + 0), .int (nI 7), .int v, .int (nI 0)] M0 (.threw (b + M0.length)) (ex_R b M0 9 (-4)) := by
  refine fb_start [some (.ref (b + 0)), some (.int (nI 7)), some (.int v), some (.int (nI 0))] (by decide) (Nat.le_of_ble_eq_true rfl) rfl ?_
  intro x hl hD hb C E hx
  subst hl hD hb
  have C : fb_OK x cX0_ofTown "FallsBetween" "ofTown" := C
  obtain ⟨Tm, Y, Ym, Yi, lo, lom, loi, hX⟩ := h
  have hG := xw_F.rf M0
  obtain ⟨k0, k1, k2, k3, k4, k5, k6, k7, k8⟩ := id hk
  refine gx_iload_n (q := 1) C dX0_ofTown_0 rfl rfl rfl ?_
  refine gx_tableIn (tgt := 97) C dX0_ofTown_1 (by decide) (by decide) (rfl) (by decide) ?_
  refine gx_aload_n (q := 98) C dX0_ofTown_97 rfl rfl rfl ?_
  refine gx_iload_n (q := 99) C dX0_ofTown_98 rfl rfl rfl ?_
  exact gx_ct C E hx (sx_X0_277 (As := [_]) C hX.o rfl rfl dX0_ofTown_99) (xa_windTold_b _ _ _ _ v hb ⟨_, _, _, _, _, _, _, hX⟩ hk) kw_X0_windTold (by decide) (Nat.le_of_ble_eq_true rfl) (by omega) (by omega) dX0_ofTown_99 (fun _ h => h)
set_option maxHeartbeats 800000 in
theorem xa_ofTown_wind_a (l : Launch) (D : va_G) (b : Nat) (M0 : List va_E) {R T Ti P Rw : Nat → Nat} {hi : Bool} {lm rm : Nat} (v : Int32) (hb : nI 16 ≤ v) (h : xw_P D b M0 R T Ti P Rw hi lm rm) (hk : okT T) : fb_CT l D b yX0_ofTown cX0_ofTown 4 (some .int) 14 266 1 7 [.ref (b + 0), .int (nI 7), .int v, .int (nI 0)] M0 (.threw (b + M0.length)) (ex_R b M0 9 (-6)) := by
  refine fb_start [some (.ref (b + 0)), some (.int (nI 7)), some (.int v), some (.int (nI 0))] (by decide) (Nat.le_of_ble_eq_true rfl) rfl ?_
  intro x hl hD hb C E hx
  subst hl hD hb
  have C : fb_OK x cX0_ofTown "FallsBetween" "ofTown" := C
  obtain ⟨Tm, Y, Ym, Yi, lo, lom, loi, hX⟩ := h
  have hG := xw_F.rf M0
  obtain ⟨k0, k1, k2, k3, k4, k5, k6, k7, k8⟩ := id hk
  refine gx_iload_n (q := 1) C dX0_ofTown_0 rfl rfl rfl ?_
  refine gx_tableIn (tgt := 97) C dX0_ofTown_1 (by decide) (by decide) (rfl) (by decide) ?_
  refine gx_aload_n (q := 98) C dX0_ofTown_97 rfl rfl rfl ?_
  refine gx_iload_n (q := 99) C dX0_ofTown_98 rfl rfl rfl ?_
  exact gx_ct C E hx (sx_X0_277 (As := [_]) C hX.o rfl rfl dX0_ofTown_99) (xa_windTold_a _ _ _ _ v hb ⟨_, _, _, _, _, _, _, hX⟩ hk) kw_X0_windTold (by decide) (Nat.le_of_ble_eq_true rfl) (by omega) (by omega) dX0_ofTown_99 (fun _ h => h)
set_option maxHeartbeats 800000 in
theorem xa_ofTown_wind_o (l : Launch) (D : va_G) (b : Nat) (M0 : List va_E) {R T Ti P Rw : Nat → Nat} {hi : Bool} {lm rm : Nat} (v : Nat) (hv : v < 16) (h : xw_P D b M0 R T Ti P Rw hi lm rm) (hk : okT T) : fb_CT l D b yX0_ofTown cX0_ofTown 4 (some .int) 14 266 0 0 [.ref (b + 0), .int (nI 7), .int (nI v), .int (nI 0)] M0 (.returned (some (.int (nI (T 1))))) (fun M' => xw_P D b M' R (updN T 1 v) Ti P Rw hi lm rm ∧ xw_F M0 M') := by
  refine fb_start [some (.ref (b + 0)), some (.int (nI 7)), some (.int (nI v)), some (.int (nI 0))] (by decide) (Nat.le_of_ble_eq_true rfl) rfl ?_
  intro x hl hD hb C E hx
  subst hl hD hb
  have C : fb_OK x cX0_ofTown "FallsBetween" "ofTown" := C
  obtain ⟨Tm, Y, Ym, Yi, lo, lom, loi, hX⟩ := h
  have hG := xw_F.rf M0
  obtain ⟨k0, k1, k2, k3, k4, k5, k6, k7, k8⟩ := id hk
  refine gx_iload_n (q := 1) C dX0_ofTown_0 rfl rfl rfl ?_
  refine gx_tableIn (tgt := 97) C dX0_ofTown_1 (by decide) (by decide) (rfl) (by decide) ?_
  refine gx_aload_n (q := 98) C dX0_ofTown_97 rfl rfl rfl ?_
  refine gx_iload_n (q := 99) C dX0_ofTown_98 rfl rfl rfl ?_
  refine gx_cs (q := 102) C E (sx_X0_277 (As := [_]) C hX.o rfl rfl dX0_ofTown_99) (xa_windTold_o _ _ _ _ v hv ⟨_, _, _, _, _, _, _, hX⟩ hk) kw_X0_windTold (by decide) (Nat.le_of_ble_eq_true rfl) rfl rfl (by omega) (by omega) dX0_ofTown_99 rfl (fun M r99 => ?_)
  obtain ⟨⟨Tm, Y, Ym, Yi, lo, lom, loi, hX⟩, hG1⟩ := r99
  have hG := hG.tr hG1
  exact gx_iret C E dX0_ofTown_102 (⟨⟨_, _, _, _, _, _, _, hX⟩, hG⟩) (by omega) (by omega)
set_option maxHeartbeats 800000 in
theorem xa_ofTown_law_b (l : Launch) (D : va_G) (b : Nat) (M0 : List va_E) {R T Ti P Rw : Nat → Nat} {hi : Bool} {lm rm : Nat} (v : Int32) (hb : v < 0 ∨ nI 5 ≤ v) (h : xw_P D b M0 R T Ti P Rw hi lm rm) (hk : okT T) : fb_CT l D b yX0_ofTown cX0_ofTown 4 (some .int) 14 266 1 7 [.ref (b + 0), .int (nI 8), .int v, .int (nI 0)] M0 (.threw (b + M0.length)) (ex_R b M0 9 (-2)) := by
  refine fb_start [some (.ref (b + 0)), some (.int (nI 8)), some (.int v), some (.int (nI 0))] (by decide) (Nat.le_of_ble_eq_true rfl) rfl ?_
  intro x hl hD hb C E hx
  subst hl hD hb
  have C : fb_OK x cX0_ofTown "FallsBetween" "ofTown" := C
  obtain ⟨Tm, Y, Ym, Yi, lo, lom, loi, hX⟩ := h
  have hG := xw_F.rf M0
  obtain ⟨k0, k1, k2, k3, k4, k5, k6, k7, k8⟩ := id hk
  refine gx_iload_n (q := 1) C dX0_ofTown_0 rfl rfl rfl ?_
  refine gx_tableIn (tgt := 103) C dX0_ofTown_1 (by decide) (by decide) (rfl) (by decide) ?_
  refine gx_aload_n (q := 104) C dX0_ofTown_103 rfl rfl rfl ?_
  refine gx_iload_n (q := 105) C dX0_ofTown_104 rfl rfl rfl ?_
  exact gx_ct C E hx (sx_X0_280 (As := [_]) C hX.o rfl rfl dX0_ofTown_105) (xa_lawTold_b _ _ _ _ v hb ⟨_, _, _, _, _, _, _, hX⟩ hk) kw_X0_lawTold (by decide) (Nat.le_of_ble_eq_true rfl) (by omega) (by omega) dX0_ofTown_105 (fun _ h => h)
set_option maxHeartbeats 800000 in
theorem xa_ofTown_law_o (l : Launch) (D : va_G) (b : Nat) (M0 : List va_E) {R T Ti P Rw : Nat → Nat} {hi : Bool} {lm rm : Nat} (v : Nat) (hv : v < 5) (h : xw_P D b M0 R T Ti P Rw hi lm rm) (hk : okT T) : fb_CT l D b yX0_ofTown cX0_ofTown 4 (some .int) 14 266 0 0 [.ref (b + 0), .int (nI 8), .int (nI v), .int (nI 0)] M0 (.returned (some (.int (nI (T 2))))) (fun M' => xw_P D b M' R (updN T 2 v) Ti P Rw hi lm rm ∧ xw_F M0 M') := by
  refine fb_start [some (.ref (b + 0)), some (.int (nI 8)), some (.int (nI v)), some (.int (nI 0))] (by decide) (Nat.le_of_ble_eq_true rfl) rfl ?_
  intro x hl hD hb C E hx
  subst hl hD hb
  have C : fb_OK x cX0_ofTown "FallsBetween" "ofTown" := C
  obtain ⟨Tm, Y, Ym, Yi, lo, lom, loi, hX⟩ := h
  have hG := xw_F.rf M0
  obtain ⟨k0, k1, k2, k3, k4, k5, k6, k7, k8⟩ := id hk
  refine gx_iload_n (q := 1) C dX0_ofTown_0 rfl rfl rfl ?_
  refine gx_tableIn (tgt := 103) C dX0_ofTown_1 (by decide) (by decide) (rfl) (by decide) ?_
  refine gx_aload_n (q := 104) C dX0_ofTown_103 rfl rfl rfl ?_
  refine gx_iload_n (q := 105) C dX0_ofTown_104 rfl rfl rfl ?_
  refine gx_cs (q := 108) C E (sx_X0_280 (As := [_]) C hX.o rfl rfl dX0_ofTown_105) (xa_lawTold_o _ _ _ _ v hv ⟨_, _, _, _, _, _, _, hX⟩ hk) kw_X0_lawTold (by decide) (Nat.le_of_ble_eq_true rfl) rfl rfl (by omega) (by omega) dX0_ofTown_105 rfl (fun M r105 => ?_)
  obtain ⟨⟨Tm, Y, Ym, Yi, lo, lom, loi, hX⟩, hG1⟩ := r105
  have hG := hG.tr hG1
  exact gx_iret C E dX0_ofTown_108 (⟨⟨_, _, _, _, _, _, _, hX⟩, hG⟩) (by omega) (by omega)
set_option maxHeartbeats 800000 in
theorem xa_ofTown_fell_b (l : Launch) (D : va_G) (b : Nat) (M0 : List va_E) {R T Ti P Rw : Nat → Nat} {hi : Bool} {lm rm : Nat} (v : Int32) (hb : v < 0 ∨ nI (T 0) ≤ v) (h : xw_P D b M0 R T Ti P Rw hi lm rm) (hk : okT T) : fb_CT l D b yX0_ofTown cX0_ofTown 4 (some .int) 14 266 1 7 [.ref (b + 0), .int (nI 9), .int v, .int (nI 0)] M0 (.threw (b + M0.length)) (ex_R b M0 9 (-1)) := by
  refine fb_start [some (.ref (b + 0)), some (.int (nI 9)), some (.int v), some (.int (nI 0))] (by decide) (Nat.le_of_ble_eq_true rfl) rfl ?_
  intro x hl hD hb C E hx
  subst hl hD hb
  have C : fb_OK x cX0_ofTown "FallsBetween" "ofTown" := C
  obtain ⟨Tm, Y, Ym, Yi, lo, lom, loi, hX⟩ := h
  have hG := xw_F.rf M0
  obtain ⟨k0, k1, k2, k3, k4, k5, k6, k7, k8⟩ := id hk
  refine gx_iload_n (q := 1) C dX0_ofTown_0 rfl rfl rfl ?_
  refine gx_tableOut (tgt := 109) C dX0_ofTown_1 (Or.inr (by decide)) (by decide) ?_
  refine gx_aload_n (q := 110) C dX0_ofTown_109 rfl rfl rfl ?_
  refine gx_iload_n (q := 111) C dX0_ofTown_110 rfl rfl rfl ?_
  exact gx_ct C E hx (sx_X0_232 (As := [_]) C hX.o rfl rfl dX0_ofTown_111) (xa_mustBeTree_b _ _ _ _ v hb ⟨_, _, _, _, _, _, _, hX⟩ hk) kw_X0_mustBeTree (by decide) (Nat.le_of_ble_eq_true rfl) (by omega) (by omega) dX0_ofTown_111 (fun _ h => h)
set_option maxHeartbeats 800000 in
theorem xa_ofTown_fell_o (l : Launch) (D : va_G) (b : Nat) (M0 : List va_E) {R T Ti P Rw : Nat → Nat} {hi : Bool} {lm rm : Nat} (t : Nat) (ht : t < T 0) (h : xw_P D b M0 R T Ti P Rw hi lm rm) (hk : okT T) : fb_CT l D b yX0_ofTown cX0_ofTown 4 (some .int) 14 266 0 0 [.ref (b + 0), .int (nI 9), .int (nI t), .int (nI 0)] M0 (.returned (some (.int (nI (T 0 - 1))))) (fun M' => xw_P D b M' R (fellT T t) Ti P Rw hi lm rm ∧ xw_F M0 M') := by
  refine fb_start [some (.ref (b + 0)), some (.int (nI 9)), some (.int (nI t)), some (.int (nI 0))] (by decide) (Nat.le_of_ble_eq_true rfl) rfl ?_
  intro x hl hD hb C E hx
  subst hl hD hb
  have C : fb_OK x cX0_ofTown "FallsBetween" "ofTown" := C
  obtain ⟨Tm, Y, Ym, Yi, lo, lom, loi, hX⟩ := h
  have hG := xw_F.rf M0
  obtain ⟨k0, k1, k2, k3, k4, k5, k6, k7, k8⟩ := id hk
  refine gx_iload_n (q := 1) C dX0_ofTown_0 rfl rfl rfl ?_
  refine gx_tableOut (tgt := 109) C dX0_ofTown_1 (Or.inr (by decide)) (by decide) ?_
  refine gx_aload_n (q := 110) C dX0_ofTown_109 rfl rfl rfl ?_
  refine gx_iload_n (q := 111) C dX0_ofTown_110 rfl rfl rfl ?_
  refine gx_cv (q := 114) C E (sx_X0_232 (As := [_]) C hX.o rfl rfl dX0_ofTown_111) (xa_mustBeTree_o _ _ _ _ t ht ⟨_, _, _, _, _, _, _, hX⟩ hk) kw_X0_mustBeTree (by decide) (Nat.le_of_ble_eq_true rfl) rfl rfl (by omega) (by omega) dX0_ofTown_111 rfl (fun Mv rv => ?_)
  rw [rv]
  refine gx_aload_n (q := 115) C dX0_ofTown_114 rfl rfl rfl ?_
  refine fg_X0_51 (q := 118) C hX.o rfl dX0_ofTown_115 rfl ?_
  refine gx_iload_n (q := 119) C dX0_ofTown_118 rfl rfl rfl ?_
  refine gx_cv (q := 122) C E (sx_X0_134 (As := [_]) C hX.t.o rfl rfl dX0_ofTown_119) (tx_removeTree _ _ _ _ t ht hX.t hk) kw_X1_removeTree (by decide) (Nat.le_of_ble_eq_true rfl) rfl rfl (by omega) (by omega) dX0_ofTown_119 rfl (fun M r119 => ?_)
  obtain ⟨hV1, hF1⟩ := r119
  have hX := hX.u1 hV1 hF1
  have hG := hG.tw hF1 (by decide)
  refine gx_aload_n (q := 123) C dX0_ofTown_122 rfl rfl rfl ?_
  refine fg_X0_51 (q := 126) C hX.o rfl dX0_ofTown_123 rfl ?_
  refine fg_X0_120 (q := 129) C hX.t.o rfl dX0_ofTown_126 rfl ?_
  rw [fellT_0]
  exact gx_iret C E dX0_ofTown_129 (⟨⟨_, _, _, _, _, _, _, hX⟩, hG⟩) (by omega) (by omega)
set_option maxHeartbeats 800000 in
theorem xa_ofFalls_lies_b (l : Launch) (D : va_G) (b : Nat) (M0 : List va_E) {R T Ti P Rw : Nat → Nat} {hi : Bool} {lm rm : Nat} (v : Int32) (hb : v < 0 ∨ nI 36 ≤ v) (h : xw_P D b M0 R T Ti P Rw hi lm rm) (hk : okT T) : fb_CT l D b yX0_ofFalls cX0_ofFalls 5 (some .int) 11 193 1 7 [.ref (b + 0), .int (nI 10), .int v, .int (nI 0), .int (nI 0)] M0 (.threw (b + M0.length)) (ex_R b M0 9 (-1)) := by
  refine fb_start [some (.ref (b + 0)), some (.int (nI 10)), some (.int v), some (.int (nI 0)), some (.int (nI 0))] (by decide) (Nat.le_of_ble_eq_true rfl) rfl ?_
  intro x hl hD hb C E hx
  subst hl hD hb
  have C : fb_OK x cX0_ofFalls "FallsBetween" "ofFalls" := C
  obtain ⟨Tm, Y, Ym, Yi, lo, lom, loi, hX⟩ := h
  have hG := xw_F.rf M0
  obtain ⟨k0, k1, k2, k3, k4, k5, k6, k7, k8⟩ := id hk
  refine gx_iload_n (q := 1) C dX0_ofFalls_0 rfl rfl rfl ?_
  refine gx_tableIn (tgt := 40) C dX0_ofFalls_1 (by decide) (by decide) (rfl) (by decide) ?_
  refine gx_iload_n (q := 41) C dX0_ofFalls_40 rfl rfl rfl ?_
  exact gx_ct C E hx (sx_X0_224 (As := [_]) C rfl rfl dX0_ofFalls_41) (fx_mustBeSquare_b _ _ _ _ v hb) kw_X0_mustBeSquare (by decide) (Nat.le_of_ble_eq_true rfl) (by omega) (by omega) dX0_ofFalls_41 (fun _ h => h)
set_option maxHeartbeats 800000 in
theorem xa_ofFalls_lies_o (l : Launch) (D : va_G) (b : Nat) (M0 : List va_E) {R T Ti P Rw : Nat → Nat} {hi : Bool} {lm rm : Nat} (q : Nat) (hq : q < 36) (h : xw_P D b M0 R T Ti P Rw hi lm rm) (hk : okT T) : fb_CT l D b yX0_ofFalls cX0_ofFalls 5 (some .int) 11 193 0 0 [.ref (b + 0), .int (nI 10), .int (nI q), .int (nI 0), .int (nI 0)] M0 (.returned (some (.int (nI (lyi T q (T 0)))))) (fun M' => xw_P D b M' R T Ti P Rw hi lm rm ∧ xw_F M0 M') := by
  refine fb_start [some (.ref (b + 0)), some (.int (nI 10)), some (.int (nI q)), some (.int (nI 0)), some (.int (nI 0))] (by decide) (Nat.le_of_ble_eq_true rfl) rfl ?_
  intro x hl hD hb C E hx
  subst hl hD hb
  have C : fb_OK x cX0_ofFalls "FallsBetween" "ofFalls" := C
  obtain ⟨Tm, Y, Ym, Yi, lo, lom, loi, hX⟩ := h
  have hG := xw_F.rf M0
  obtain ⟨k0, k1, k2, k3, k4, k5, k6, k7, k8⟩ := id hk
  refine gx_iload_n (q := 1) C dX0_ofFalls_0 rfl rfl rfl ?_
  refine gx_tableIn (tgt := 40) C dX0_ofFalls_1 (by decide) (by decide) (rfl) (by decide) ?_
  refine gx_iload_n (q := 41) C dX0_ofFalls_40 rfl rfl rfl ?_
  refine gx_cv (q := 44) C E (sx_X0_224 (As := [_]) C rfl rfl dX0_ofFalls_41) (fx_mustBeSquare_o _ _ _ _ q hq) kw_X0_mustBeSquare (by decide) (Nat.le_of_ble_eq_true rfl) rfl rfl (by omega) (by omega) dX0_ofFalls_41 rfl (fun Mv rv => ?_)
  rw [rv]
  refine gx_aload_n (q := 45) C dX0_ofFalls_44 rfl rfl rfl ?_
  refine fg_X0_51 (q := 48) C hX.o rfl dX0_ofFalls_45 rfl ?_
  refine gx_cs (q := 51) C E (sx_X0_123 (As := []) C hX.t.o rfl rfl dX0_ofFalls_48) (tx_find _ _ _ _ hX.t hk) kw_X1_find (by decide) (Nat.le_of_ble_eq_true rfl) rfl rfl (by omega) (by omega) dX0_ofFalls_48 rfl (fun M r48 => ?_)
  obtain ⟨⟨Y, hY, hV1⟩, hF1⟩ := r48
  have hX := hX.u1 hV1 hF1
  have hG := hG.tw hF1 (by decide)
  refine gx_iload_n (q := 52) C dX0_ofFalls_51 rfl rfl rfl ?_
  refine gx_cp (q := 55) C E (sx_X0_174 (As := [_]) C hX.t.o rfl rfl dX0_ofFalls_52) (tx_liesIn _ _ _ _ q hq hX.t hk) kw_X1_liesIn (by decide) (Nat.le_of_ble_eq_true rfl) (by omega) (by omega) dX0_ofFalls_52 rfl ?_
  refine gx_top (show _ = nI (lyT T q) by rw [lyY_f hY hq]) ?_
  exact gx_iret C E dX0_ofFalls_55 (⟨⟨_, _, _, _, _, _, _, hX⟩, hG⟩) (by omega) (by omega)
set_option maxHeartbeats 800000 in
theorem xa_ofFalls_of_b1 (l : Launch) (D : va_G) (b : Nat) (M0 : List va_E) {R T Ti P Rw : Nat → Nat} {hi : Bool} {lm rm : Nat} (v : Int32) (hb : v < 0 ∨ nI (T 0) ≤ v) (w : Int32) (h : xw_P D b M0 R T Ti P Rw hi lm rm) (hk : okT T) : fb_CT l D b yX0_ofFalls cX0_ofFalls 5 (some .int) 11 193 1 7 [.ref (b + 0), .int (nI 11), .int v, .int w, .int (nI 0)] M0 (.threw (b + M0.length)) (ex_R b M0 9 (-1)) := by
  refine fb_start [some (.ref (b + 0)), some (.int (nI 11)), some (.int v), some (.int w), some (.int (nI 0))] (by decide) (Nat.le_of_ble_eq_true rfl) rfl ?_
  intro x hl hD hb C E hx
  subst hl hD hb
  have C : fb_OK x cX0_ofFalls "FallsBetween" "ofFalls" := C
  obtain ⟨Tm, Y, Ym, Yi, lo, lom, loi, hX⟩ := h
  have hG := xw_F.rf M0
  obtain ⟨k0, k1, k2, k3, k4, k5, k6, k7, k8⟩ := id hk
  refine gx_iload_n (q := 1) C dX0_ofFalls_0 rfl rfl rfl ?_
  refine gx_tableIn (tgt := 56) C dX0_ofFalls_1 (by decide) (by decide) (rfl) (by decide) ?_
  refine gx_aload_n (q := 57) C dX0_ofFalls_56 rfl rfl rfl ?_
  refine gx_iload_n (q := 58) C dX0_ofFalls_57 rfl rfl rfl ?_
  refine gx_iload_n (q := 59) C dX0_ofFalls_58 rfl rfl rfl ?_
  exact gx_ct C E hx (sx_X0_291 (As := [_, _]) C hX.o rfl rfl dX0_ofFalls_59) (xa_ofTree_b1 _ _ _ _ v hb w ⟨_, _, _, _, _, _, _, hX⟩ hk) kw_X0_ofTree (by decide) (Nat.le_of_ble_eq_true rfl) (by omega) (by omega) dX0_ofFalls_59 (fun _ h => h)
set_option maxHeartbeats 800000 in
theorem xa_ofFalls_of_b2 (l : Launch) (D : va_G) (b : Nat) (M0 : List va_E) {R T Ti P Rw : Nat → Nat} {hi : Bool} {lm rm : Nat} (t : Nat) (ht : t < T 0) (v : Int32) (hb : v < 0 ∨ nI 36 ≤ v) (h : xw_P D b M0 R T Ti P Rw hi lm rm) (hk : okT T) : fb_CT l D b yX0_ofFalls cX0_ofFalls 5 (some .int) 11 193 1 7 [.ref (b + 0), .int (nI 11), .int (nI t), .int v, .int (nI 0)] M0 (.threw (b + M0.length)) (ex_R b M0 9 (-1)) := by
  refine fb_start [some (.ref (b + 0)), some (.int (nI 11)), some (.int (nI t)), some (.int v), some (.int (nI 0))] (by decide) (Nat.le_of_ble_eq_true rfl) rfl ?_
  intro x hl hD hb C E hx
  subst hl hD hb
  have C : fb_OK x cX0_ofFalls "FallsBetween" "ofFalls" := C
  obtain ⟨Tm, Y, Ym, Yi, lo, lom, loi, hX⟩ := h
  have hG := xw_F.rf M0
  obtain ⟨k0, k1, k2, k3, k4, k5, k6, k7, k8⟩ := id hk
  refine gx_iload_n (q := 1) C dX0_ofFalls_0 rfl rfl rfl ?_
  refine gx_tableIn (tgt := 56) C dX0_ofFalls_1 (by decide) (by decide) (rfl) (by decide) ?_
  refine gx_aload_n (q := 57) C dX0_ofFalls_56 rfl rfl rfl ?_
  refine gx_iload_n (q := 58) C dX0_ofFalls_57 rfl rfl rfl ?_
  refine gx_iload_n (q := 59) C dX0_ofFalls_58 rfl rfl rfl ?_
  exact gx_ct C E hx (sx_X0_291 (As := [_, _]) C hX.o rfl rfl dX0_ofFalls_59) (xa_ofTree_b2 _ _ _ _ t ht v hb ⟨_, _, _, _, _, _, _, hX⟩ hk) kw_X0_ofTree (by decide) (Nat.le_of_ble_eq_true rfl) (by omega) (by omega) dX0_ofFalls_59 (fun _ h => h)
set_option maxHeartbeats 800000 in
theorem xa_ofFalls_of_o (l : Launch) (D : va_G) (b : Nat) (M0 : List va_E) {R T Ti P Rw : Nat → Nat} {hi : Bool} {lm rm : Nat} (t : Nat) (ht : t < T 0) (q : Nat) (hq : q < 36) (h : xw_P D b M0 R T Ti P Rw hi lm rm) (hk : okT T) : fb_CT l D b yX0_ofFalls cX0_ofFalls 5 (some .int) 11 193 0 0 [.ref (b + 0), .int (nI 11), .int (nI t), .int (nI q), .int (nI 0)] M0 (.returned (some (.int (nI (flp T t q 5))))) (fun M' => xw_P D b M' R T Ti P Rw hi lm rm ∧ xw_F M0 M') := by
  refine fb_start [some (.ref (b + 0)), some (.int (nI 11)), some (.int (nI t)), some (.int (nI q)), some (.int (nI 0))] (by decide) (Nat.le_of_ble_eq_true rfl) rfl ?_
  intro x hl hD hb C E hx
  subst hl hD hb
  have C : fb_OK x cX0_ofFalls "FallsBetween" "ofFalls" := C
  obtain ⟨Tm, Y, Ym, Yi, lo, lom, loi, hX⟩ := h
  have hG := xw_F.rf M0
  obtain ⟨k0, k1, k2, k3, k4, k5, k6, k7, k8⟩ := id hk
  refine gx_iload_n (q := 1) C dX0_ofFalls_0 rfl rfl rfl ?_
  refine gx_tableIn (tgt := 56) C dX0_ofFalls_1 (by decide) (by decide) (rfl) (by decide) ?_
  refine gx_aload_n (q := 57) C dX0_ofFalls_56 rfl rfl rfl ?_
  refine gx_iload_n (q := 58) C dX0_ofFalls_57 rfl rfl rfl ?_
  refine gx_iload_n (q := 59) C dX0_ofFalls_58 rfl rfl rfl ?_
  refine gx_cs (q := 62) C E (sx_X0_291 (As := [_, _]) C hX.o rfl rfl dX0_ofFalls_59) (xa_ofTree_o _ _ _ _ t ht q hq ⟨_, _, _, _, _, _, _, hX⟩ hk) kw_X0_ofTree (by decide) (Nat.le_of_ble_eq_true rfl) rfl rfl (by omega) (by omega) dX0_ofFalls_59 rfl (fun M r59 => ?_)
  obtain ⟨⟨Tm, Y, Ym, Yi, lo, lom, loi, hX⟩, hG1⟩ := r59
  have hG := hG.tr hG1
  exact gx_iret C E dX0_ofFalls_62 (⟨⟨_, _, _, _, _, _, _, hX⟩, hG⟩) (by omega) (by omega)
set_option maxHeartbeats 800000 in
theorem xa_ofFalls_share_b (l : Launch) (D : va_G) (b : Nat) (M0 : List va_E) {R T Ti P Rw : Nat → Nat} {hi : Bool} {lm rm : Nat} (v : Int32) (hb : v < 0 ∨ nI 4 ≤ v) (h : xw_P D b M0 R T Ti P Rw hi lm rm) (hk : okT T) : fb_CT l D b yX0_ofFalls cX0_ofFalls 5 (some .int) 11 193 1 7 [.ref (b + 0), .int (nI 12), .int v, .int (nI 0), .int (nI 0)] M0 (.threw (b + M0.length)) (ex_R b M0 9 (-1)) := by
  refine fb_start [some (.ref (b + 0)), some (.int (nI 12)), some (.int v), some (.int (nI 0)), some (.int (nI 0))] (by decide) (Nat.le_of_ble_eq_true rfl) rfl ?_
  intro x hl hD hb C E hx
  subst hl hD hb
  have C : fb_OK x cX0_ofFalls "FallsBetween" "ofFalls" := C
  obtain ⟨Tm, Y, Ym, Yi, lo, lom, loi, hX⟩ := h
  have hG := xw_F.rf M0
  obtain ⟨k0, k1, k2, k3, k4, k5, k6, k7, k8⟩ := id hk
  refine gx_iload_n (q := 1) C dX0_ofFalls_0 rfl rfl rfl ?_
  refine gx_tableIn (tgt := 63) C dX0_ofFalls_1 (by decide) (by decide) (rfl) (by decide) ?_
  refine gx_iload_n (q := 64) C dX0_ofFalls_63 rfl rfl rfl ?_
  exact gx_ct C E hx (sx_X0_249 (As := [_]) C rfl rfl dX0_ofFalls_64) (fx_mustBeGarden_b _ _ _ _ v hb) kw_X0_mustBeGarden (by decide) (Nat.le_of_ble_eq_true rfl) (by omega) (by omega) dX0_ofFalls_64 (fun _ h => h)
set_option maxHeartbeats 800000 in
theorem xa_ofFalls_share_o (l : Launch) (D : va_G) (b : Nat) (M0 : List va_E) {R T Ti P Rw : Nat → Nat} {hi : Bool} {lm rm : Nat} (g : Nat) (hg : g < 4) (h : xw_P D b M0 R T Ti P Rw hi lm rm) (hk : okT T) : fb_CT l D b yX0_ofFalls cX0_ofFalls 5 (some .int) 11 193 0 0 [.ref (b + 0), .int (nI 12), .int (nI g), .int (nI 0), .int (nI 0)] M0 (.returned (some (.int (nI (shL T (fun q => lyi T q (T 0)) g 36))))) (fun M' => xw_P D b M' R T Ti P Rw hi lm rm ∧ xw_F M0 M') := by
  refine fb_start [some (.ref (b + 0)), some (.int (nI 12)), some (.int (nI g)), some (.int (nI 0)), some (.int (nI 0))] (by decide) (Nat.le_of_ble_eq_true rfl) rfl ?_
  intro x hl hD hb C E hx
  subst hl hD hb
  have C : fb_OK x cX0_ofFalls "FallsBetween" "ofFalls" := C
  obtain ⟨Tm, Y, Ym, Yi, lo, lom, loi, hX⟩ := h
  have hG := xw_F.rf M0
  obtain ⟨k0, k1, k2, k3, k4, k5, k6, k7, k8⟩ := id hk
  refine gx_iload_n (q := 1) C dX0_ofFalls_0 rfl rfl rfl ?_
  refine gx_tableIn (tgt := 63) C dX0_ofFalls_1 (by decide) (by decide) (rfl) (by decide) ?_
  refine gx_iload_n (q := 64) C dX0_ofFalls_63 rfl rfl rfl ?_
  refine gx_cv (q := 67) C E (sx_X0_249 (As := [_]) C rfl rfl dX0_ofFalls_64) (fx_mustBeGarden_o _ _ _ _ g hg) kw_X0_mustBeGarden (by decide) (Nat.le_of_ble_eq_true rfl) rfl rfl (by omega) (by omega) dX0_ofFalls_64 rfl (fun Mv rv => ?_)
  rw [rv]
  refine gx_aload_n (q := 68) C dX0_ofFalls_67 rfl rfl rfl ?_
  refine fg_X0_51 (q := 71) C hX.o rfl dX0_ofFalls_68 rfl ?_
  refine gx_cs (q := 74) C E (sx_X0_123 (As := []) C hX.t.o rfl rfl dX0_ofFalls_71) (tx_find _ _ _ _ hX.t hk) kw_X1_find (by decide) (Nat.le_of_ble_eq_true rfl) rfl rfl (by omega) (by omega) dX0_ofFalls_71 rfl (fun M r71 => ?_)
  obtain ⟨⟨Y, hY, hV1⟩, hF1⟩ := r71
  have hX := hX.u1 hV1 hF1
  have hG := hG.tw hF1 (by decide)
  refine gx_iload_n (q := 75) C dX0_ofFalls_74 rfl rfl rfl ?_
  refine gx_cp (q := 78) C E (sx_X0_126 (As := [_]) C hX.t.o rfl rfl dX0_ofFalls_75) (tx_share _ _ _ _ g (by omega) hX.t hk) kw_X1_share (by decide) (Nat.le_of_ble_eq_true rfl) (by omega) (by omega) dX0_ofFalls_75 rfl ?_
  refine gx_top (show _ = nI (shT T g) by rw [shL_f hY]) ?_
  exact gx_iret C E dX0_ofFalls_78 (⟨⟨_, _, _, _, _, _, _, hX⟩, hG⟩) (by omega) (by omega)
set_option maxHeartbeats 800000 in
theorem xa_ofFalls_birds (l : Launch) (D : va_G) (b : Nat) (M0 : List va_E) {R T Ti P Rw : Nat → Nat} {hi : Bool} {lm rm : Nat}  (h : xw_P D b M0 R T Ti P Rw hi lm rm) (hk : okT T) : fb_CT l D b yX0_ofFalls cX0_ofFalls 5 (some .int) 11 193 0 0 [.ref (b + 0), .int (nI 13), .int (nI 0), .int (nI 0), .int (nI 0)] M0 (.returned (some (.int (nI (bdL T (fun q => lyi T q (T 0)) 36))))) (fun M' => xw_P D b M' R T Ti P Rw hi lm rm ∧ xw_F M0 M') := by
  refine fb_start [some (.ref (b + 0)), some (.int (nI 13)), some (.int (nI 0)), some (.int (nI 0)), some (.int (nI 0))] (by decide) (Nat.le_of_ble_eq_true rfl) rfl ?_
  intro x hl hD hb C E hx
  subst hl hD hb
  have C : fb_OK x cX0_ofFalls "FallsBetween" "ofFalls" := C
  obtain ⟨Tm, Y, Ym, Yi, lo, lom, loi, hX⟩ := h
  have hG := xw_F.rf M0
  obtain ⟨k0, k1, k2, k3, k4, k5, k6, k7, k8⟩ := id hk
  refine gx_iload_n (q := 1) C dX0_ofFalls_0 rfl rfl rfl ?_
  refine gx_tableIn (tgt := 79) C dX0_ofFalls_1 (by decide) (by decide) (rfl) (by decide) ?_
  refine gx_aload_n (q := 80) C dX0_ofFalls_79 rfl rfl rfl ?_
  refine fg_X0_51 (q := 83) C hX.o rfl dX0_ofFalls_80 rfl ?_
  refine gx_cs (q := 86) C E (sx_X0_123 (As := []) C hX.t.o rfl rfl dX0_ofFalls_83) (tx_find _ _ _ _ hX.t hk) kw_X1_find (by decide) (Nat.le_of_ble_eq_true rfl) rfl rfl (by omega) (by omega) dX0_ofFalls_83 rfl (fun M r83 => ?_)
  obtain ⟨⟨Y, hY, hV1⟩, hF1⟩ := r83
  have hX := hX.u1 hV1 hF1
  have hG := hG.tw hF1 (by decide)
  refine gx_cp (q := 89) C E (sx_X0_137 (As := []) C hX.t.o rfl rfl dX0_ofFalls_86) (tx_birds _ _ _ _ hX.t hk) kw_X1_birds (by decide) (Nat.le_of_ble_eq_true rfl) (by omega) (by omega) dX0_ofFalls_86 rfl ?_
  refine gx_top (show _ = nI (bdL T (lyT T) 36) by rw [bdL_f hY]) ?_
  exact gx_iret C E dX0_ofFalls_89 (⟨⟨_, _, _, _, _, _, _, hX⟩, hG⟩) (by omega) (by omega)
set_option maxHeartbeats 800000 in
theorem xa_ofFalls_lost (l : Launch) (D : va_G) (b : Nat) (M0 : List va_E) {R T Ti P Rw : Nat → Nat} {hi : Bool} {lm rm : Nat}  (h : xw_P D b M0 R T Ti P Rw hi lm rm) (hk : okT T) : fb_CT l D b yX0_ofFalls cX0_ofFalls 5 (some .int) 11 193 0 0 [.ref (b + 0), .int (nI 14), .int (nI 0), .int (nI 0), .int (nI 0)] M0 (.returned (some (.int (nI (lsi T (T 0)))))) (fun M' => xw_P D b M' R T Ti P Rw hi lm rm ∧ xw_F M0 M') := by
  refine fb_start [some (.ref (b + 0)), some (.int (nI 14)), some (.int (nI 0)), some (.int (nI 0)), some (.int (nI 0))] (by decide) (Nat.le_of_ble_eq_true rfl) rfl ?_
  intro x hl hD hb C E hx
  subst hl hD hb
  have C : fb_OK x cX0_ofFalls "FallsBetween" "ofFalls" := C
  obtain ⟨Tm, Y, Ym, Yi, lo, lom, loi, hX⟩ := h
  have hG := xw_F.rf M0
  obtain ⟨k0, k1, k2, k3, k4, k5, k6, k7, k8⟩ := id hk
  refine gx_iload_n (q := 1) C dX0_ofFalls_0 rfl rfl rfl ?_
  refine gx_tableIn (tgt := 90) C dX0_ofFalls_1 (by decide) (by decide) (rfl) (by decide) ?_
  refine gx_aload_n (q := 91) C dX0_ofFalls_90 rfl rfl rfl ?_
  refine fg_X0_51 (q := 94) C hX.o rfl dX0_ofFalls_91 rfl ?_
  refine gx_cs (q := 97) C E (sx_X0_123 (As := []) C hX.t.o rfl rfl dX0_ofFalls_94) (tx_find _ _ _ _ hX.t hk) kw_X1_find (by decide) (Nat.le_of_ble_eq_true rfl) rfl rfl (by omega) (by omega) dX0_ofFalls_94 rfl (fun M r94 => ?_)
  obtain ⟨⟨Y, hY, hV1⟩, hF1⟩ := r94
  have hX := hX.u1 hV1 hF1
  have hG := hG.tw hF1 (by decide)
  refine fg_X0_154 (q := 100) C hX.t.o rfl dX0_ofFalls_97 rfl ?_
  exact gx_iret C E dX0_ofFalls_100 (⟨⟨_, _, _, _, _, _, _, hX⟩, hG⟩) (by omega) (by omega)
set_option maxHeartbeats 800000 in
theorem xa_ofFalls_set_b1 (l : Launch) (D : va_G) (b : Nat) (M0 : List va_E) {R T Ti P Rw : Nat → Nat} {hi : Bool} {lm rm : Nat} (v : Int32) (hb : v < 0 ∨ nI 4 ≤ v) (w u : Int32) (h : xw_P D b M0 R T Ti P Rw hi lm rm) (hk : okT T) : fb_CT l D b yX0_ofFalls cX0_ofFalls 5 (some .int) 11 193 1 7 [.ref (b + 0), .int (nI 15), .int v, .int w, .int u] M0 (.threw (b + M0.length)) (ex_R b M0 9 (-1)) := by
  refine fb_start [some (.ref (b + 0)), some (.int (nI 15)), some (.int v), some (.int w), some (.int u)] (by decide) (Nat.le_of_ble_eq_true rfl) rfl ?_
  intro x hl hD hb C E hx
  subst hl hD hb
  have C : fb_OK x cX0_ofFalls "FallsBetween" "ofFalls" := C
  obtain ⟨Tm, Y, Ym, Yi, lo, lom, loi, hX⟩ := h
  have hG := xw_F.rf M0
  obtain ⟨k0, k1, k2, k3, k4, k5, k6, k7, k8⟩ := id hk
  refine gx_iload_n (q := 1) C dX0_ofFalls_0 rfl rfl rfl ?_
  refine gx_tableIn (tgt := 101) C dX0_ofFalls_1 (by decide) (by decide) (rfl) (by decide) ?_
  refine gx_aload_n (q := 102) C dX0_ofFalls_101 rfl rfl rfl ?_
  refine gx_iload_n (q := 103) C dX0_ofFalls_102 rfl rfl rfl ?_
  refine gx_iload_n (q := 104) C dX0_ofFalls_103 rfl rfl rfl ?_
  refine gx_iload (q := 106) C dX0_ofFalls_104 rfl rfl ?_
  exact gx_ct C E hx (sx_X0_294 (As := [_, _, _]) C hX.o rfl rfl dX0_ofFalls_106) (xa_setAsked_b1 _ _ _ _ v hb w u ⟨_, _, _, _, _, _, _, hX⟩ hk) kw_X0_setAsked (by decide) (Nat.le_of_ble_eq_true rfl) (by omega) (by omega) dX0_ofFalls_106 (fun _ h => h)
set_option maxHeartbeats 800000 in
theorem xa_ofFalls_set_b2 (l : Launch) (D : va_G) (b : Nat) (M0 : List va_E) {R T Ti P Rw : Nat → Nat} {hi : Bool} {lm rm : Nat} (g : Nat) (hg : g < 4) (v : Int32) (hb : v < nI 1) (u : Int32) (h : xw_P D b M0 R T Ti P Rw hi lm rm) (hk : okT T) : fb_CT l D b yX0_ofFalls cX0_ofFalls 5 (some .int) 11 193 1 7 [.ref (b + 0), .int (nI 15), .int (nI g), .int v, .int u] M0 (.threw (b + M0.length)) (ex_R b M0 9 (-4)) := by
  refine fb_start [some (.ref (b + 0)), some (.int (nI 15)), some (.int (nI g)), some (.int v), some (.int u)] (by decide) (Nat.le_of_ble_eq_true rfl) rfl ?_
  intro x hl hD hb C E hx
  subst hl hD hb
  have C : fb_OK x cX0_ofFalls "FallsBetween" "ofFalls" := C
  obtain ⟨Tm, Y, Ym, Yi, lo, lom, loi, hX⟩ := h
  have hG := xw_F.rf M0
  obtain ⟨k0, k1, k2, k3, k4, k5, k6, k7, k8⟩ := id hk
  refine gx_iload_n (q := 1) C dX0_ofFalls_0 rfl rfl rfl ?_
  refine gx_tableIn (tgt := 101) C dX0_ofFalls_1 (by decide) (by decide) (rfl) (by decide) ?_
  refine gx_aload_n (q := 102) C dX0_ofFalls_101 rfl rfl rfl ?_
  refine gx_iload_n (q := 103) C dX0_ofFalls_102 rfl rfl rfl ?_
  refine gx_iload_n (q := 104) C dX0_ofFalls_103 rfl rfl rfl ?_
  refine gx_iload (q := 106) C dX0_ofFalls_104 rfl rfl ?_
  exact gx_ct C E hx (sx_X0_294 (As := [_, _, _]) C hX.o rfl rfl dX0_ofFalls_106) (xa_setAsked_b2 _ _ _ _ g hg v hb u ⟨_, _, _, _, _, _, _, hX⟩ hk) kw_X0_setAsked (by decide) (Nat.le_of_ble_eq_true rfl) (by omega) (by omega) dX0_ofFalls_106 (fun _ h => h)
set_option maxHeartbeats 800000 in
theorem xa_ofFalls_set_b3 (l : Launch) (D : va_G) (b : Nat) (M0 : List va_E) {R T Ti P Rw : Nat → Nat} {hi : Bool} {lm rm : Nat} (g : Nat) (hg : g < 4) (v : Int32) (hb : nI 21 ≤ v) (u : Int32) (h : xw_P D b M0 R T Ti P Rw hi lm rm) (hk : okT T) : fb_CT l D b yX0_ofFalls cX0_ofFalls 5 (some .int) 11 193 1 7 [.ref (b + 0), .int (nI 15), .int (nI g), .int v, .int u] M0 (.threw (b + M0.length)) (ex_R b M0 9 (-6)) := by
  refine fb_start [some (.ref (b + 0)), some (.int (nI 15)), some (.int (nI g)), some (.int v), some (.int u)] (by decide) (Nat.le_of_ble_eq_true rfl) rfl ?_
  intro x hl hD hb C E hx
  subst hl hD hb
  have C : fb_OK x cX0_ofFalls "FallsBetween" "ofFalls" := C
  obtain ⟨Tm, Y, Ym, Yi, lo, lom, loi, hX⟩ := h
  have hG := xw_F.rf M0
  obtain ⟨k0, k1, k2, k3, k4, k5, k6, k7, k8⟩ := id hk
  refine gx_iload_n (q := 1) C dX0_ofFalls_0 rfl rfl rfl ?_
  refine gx_tableIn (tgt := 101) C dX0_ofFalls_1 (by decide) (by decide) (rfl) (by decide) ?_
  refine gx_aload_n (q := 102) C dX0_ofFalls_101 rfl rfl rfl ?_
  refine gx_iload_n (q := 103) C dX0_ofFalls_102 rfl rfl rfl ?_
  refine gx_iload_n (q := 104) C dX0_ofFalls_103 rfl rfl rfl ?_
  refine gx_iload (q := 106) C dX0_ofFalls_104 rfl rfl ?_
  exact gx_ct C E hx (sx_X0_294 (As := [_, _, _]) C hX.o rfl rfl dX0_ofFalls_106) (xa_setAsked_b3 _ _ _ _ g hg v hb u ⟨_, _, _, _, _, _, _, hX⟩ hk) kw_X0_setAsked (by decide) (Nat.le_of_ble_eq_true rfl) (by omega) (by omega) dX0_ofFalls_106 (fun _ h => h)
set_option maxHeartbeats 800000 in
theorem xa_ofFalls_set_b4 (l : Launch) (D : va_G) (b : Nat) (M0 : List va_E) {R T Ti P Rw : Nat → Nat} {hi : Bool} {lm rm : Nat} (g : Nat) (hg : g < 4) (f : Nat) (h1 : 1 ≤ f) (h2 : f ≤ 20) (h6 : T 0 = 6) (u : Int32) (h : xw_P D b M0 R T Ti P Rw hi lm rm) (hk : okT T) : fb_CT l D b yX0_ofFalls cX0_ofFalls 5 (some .int) 11 193 1 7 [.ref (b + 0), .int (nI 15), .int (nI g), .int (nI f), .int u] M0 (.threw (b + M0.length)) (ex_R b M0 9 (-6)) := by
  refine fb_start [some (.ref (b + 0)), some (.int (nI 15)), some (.int (nI g)), some (.int (nI f)), some (.int u)] (by decide) (Nat.le_of_ble_eq_true rfl) rfl ?_
  intro x hl hD hb C E hx
  subst hl hD hb
  have C : fb_OK x cX0_ofFalls "FallsBetween" "ofFalls" := C
  obtain ⟨Tm, Y, Ym, Yi, lo, lom, loi, hX⟩ := h
  have hG := xw_F.rf M0
  obtain ⟨k0, k1, k2, k3, k4, k5, k6, k7, k8⟩ := id hk
  refine gx_iload_n (q := 1) C dX0_ofFalls_0 rfl rfl rfl ?_
  refine gx_tableIn (tgt := 101) C dX0_ofFalls_1 (by decide) (by decide) (rfl) (by decide) ?_
  refine gx_aload_n (q := 102) C dX0_ofFalls_101 rfl rfl rfl ?_
  refine gx_iload_n (q := 103) C dX0_ofFalls_102 rfl rfl rfl ?_
  refine gx_iload_n (q := 104) C dX0_ofFalls_103 rfl rfl rfl ?_
  refine gx_iload (q := 106) C dX0_ofFalls_104 rfl rfl ?_
  exact gx_ct C E hx (sx_X0_294 (As := [_, _, _]) C hX.o rfl rfl dX0_ofFalls_106) (xa_setAsked_b4 _ _ _ _ g hg f h1 h2 h6 u ⟨_, _, _, _, _, _, _, hX⟩ hk) kw_X0_setAsked (by decide) (Nat.le_of_ble_eq_true rfl) (by omega) (by omega) dX0_ofFalls_106 (fun _ h => h)
set_option maxHeartbeats 800000 in
theorem xa_ofFalls_set_b5 (l : Launch) (D : va_G) (b : Nat) (M0 : List va_E) {R T Ti P Rw : Nat → Nat} {hi : Bool} {lm rm : Nat} (g : Nat) (hg : g < 4) (f : Nat) (h1 : 1 ≤ f) (h2 : f ≤ 20) (h6 : T 0 < 6) (v : Int32) (hb : v < 0 ∨ nI 2 ≤ v) (h : xw_P D b M0 R T Ti P Rw hi lm rm) (hk : okT T) : fb_CT l D b yX0_ofFalls cX0_ofFalls 5 (some .int) 11 193 1 7 [.ref (b + 0), .int (nI 15), .int (nI g), .int (nI f), .int v] M0 (.threw (b + M0.length)) (ex_R b M0 9 (-2)) := by
  refine fb_start [some (.ref (b + 0)), some (.int (nI 15)), some (.int (nI g)), some (.int (nI f)), some (.int v)] (by decide) (Nat.le_of_ble_eq_true rfl) rfl ?_
  intro x hl hD hb C E hx
  subst hl hD hb
  have C : fb_OK x cX0_ofFalls "FallsBetween" "ofFalls" := C
  obtain ⟨Tm, Y, Ym, Yi, lo, lom, loi, hX⟩ := h
  have hG := xw_F.rf M0
  obtain ⟨k0, k1, k2, k3, k4, k5, k6, k7, k8⟩ := id hk
  refine gx_iload_n (q := 1) C dX0_ofFalls_0 rfl rfl rfl ?_
  refine gx_tableIn (tgt := 101) C dX0_ofFalls_1 (by decide) (by decide) (rfl) (by decide) ?_
  refine gx_aload_n (q := 102) C dX0_ofFalls_101 rfl rfl rfl ?_
  refine gx_iload_n (q := 103) C dX0_ofFalls_102 rfl rfl rfl ?_
  refine gx_iload_n (q := 104) C dX0_ofFalls_103 rfl rfl rfl ?_
  refine gx_iload (q := 106) C dX0_ofFalls_104 rfl rfl ?_
  exact gx_ct C E hx (sx_X0_294 (As := [_, _, _]) C hX.o rfl rfl dX0_ofFalls_106) (xa_setAsked_b5 _ _ _ _ g hg f h1 h2 h6 v hb ⟨_, _, _, _, _, _, _, hX⟩ hk) kw_X0_setAsked (by decide) (Nat.le_of_ble_eq_true rfl) (by omega) (by omega) dX0_ofFalls_106 (fun _ h => h)
set_option maxHeartbeats 800000 in
theorem xa_ofFalls_set_0 (l : Launch) (D : va_G) (b : Nat) (M0 : List va_E) {R T Ti P Rw : Nat → Nat} {hi : Bool} {lm rm : Nat} (g : Nat) (hg : g < 4) (f : Nat) (h1 : 1 ≤ f) (h2 : f ≤ 20) (h6 : T 0 < 6) (hL : 54 ≤ M0.length) (h : xw_P D b M0 R T Ti P Rw hi lm rm) (hk : okT T) : fb_CT l D b yX0_ofFalls cX0_ofFalls 5 (some .int) 11 193 36 108 [.ref (b + 0), .int (nI 15), .int (nI g), .int (nI f), .int (nI 0)] M0 (.returned (some (.int (bs1 (stS (setO T) (setV T g f) 36))))) (fun M' => xw_P D b M' R T Ti P Rw hi lm rm ∧ xw_F M0 M') := by
  refine fb_start [some (.ref (b + 0)), some (.int (nI 15)), some (.int (nI g)), some (.int (nI f)), some (.int (nI 0))] (by decide) (Nat.le_of_ble_eq_true rfl) rfl ?_
  intro x hl hD hb C E hx
  subst hl hD hb
  have C : fb_OK x cX0_ofFalls "FallsBetween" "ofFalls" := C
  obtain ⟨Tm, Y, Ym, Yi, lo, lom, loi, hX⟩ := h
  have hG := xw_F.rf M0
  obtain ⟨k0, k1, k2, k3, k4, k5, k6, k7, k8⟩ := id hk
  refine gx_iload_n (q := 1) C dX0_ofFalls_0 rfl rfl rfl ?_
  refine gx_tableIn (tgt := 101) C dX0_ofFalls_1 (by decide) (by decide) (rfl) (by decide) ?_
  refine gx_aload_n (q := 102) C dX0_ofFalls_101 rfl rfl rfl ?_
  refine gx_iload_n (q := 103) C dX0_ofFalls_102 rfl rfl rfl ?_
  refine gx_iload_n (q := 104) C dX0_ofFalls_103 rfl rfl rfl ?_
  refine gx_iload (q := 106) C dX0_ofFalls_104 rfl rfl ?_
  refine gx_cs (q := 109) C E (sx_X0_294 (As := [_, _, _]) C hX.o rfl rfl dX0_ofFalls_106) (xa_setAsked_0 _ _ _ _ g hg f h1 h2 h6 hL ⟨_, _, _, _, _, _, _, hX⟩ hk) kw_X0_setAsked (by decide) (Nat.le_of_ble_eq_true rfl) rfl rfl (by omega) (by omega) dX0_ofFalls_106 rfl (fun M r106 => ?_)
  obtain ⟨⟨Tm, Y, Ym, Yi, lo, lom, loi, hX⟩, hG1⟩ := r106
  have hG := hG.tr hG1
  exact gx_iret C E dX0_ofFalls_109 (⟨⟨_, _, _, _, _, _, _, hX⟩, hG⟩) (by omega) (by omega)
set_option maxHeartbeats 800000 in
theorem xa_ofFalls_set_1 (l : Launch) (D : va_G) (b : Nat) (M0 : List va_E) {R T Ti P Rw : Nat → Nat} {hi : Bool} {lm rm : Nat} (g : Nat) (hg : g < 4) (f : Nat) (h1 : 1 ≤ f) (h2 : f ≤ 20) (h6 : T 0 < 6) (hL : 54 ≤ M0.length) (h : xw_P D b M0 R T Ti P Rw hi lm rm) (hk : okT T) : fb_CT l D b yX0_ofFalls cX0_ofFalls 5 (some .int) 11 193 36 108 [.ref (b + 0), .int (nI 15), .int (nI g), .int (nI f), .int (nI 1)] M0 (.returned (some (.int (bs2 (stS (setO T) (setV T g f) 36))))) (fun M' => xw_P D b M' R T Ti P Rw hi lm rm ∧ xw_F M0 M') := by
  refine fb_start [some (.ref (b + 0)), some (.int (nI 15)), some (.int (nI g)), some (.int (nI f)), some (.int (nI 1))] (by decide) (Nat.le_of_ble_eq_true rfl) rfl ?_
  intro x hl hD hb C E hx
  subst hl hD hb
  have C : fb_OK x cX0_ofFalls "FallsBetween" "ofFalls" := C
  obtain ⟨Tm, Y, Ym, Yi, lo, lom, loi, hX⟩ := h
  have hG := xw_F.rf M0
  obtain ⟨k0, k1, k2, k3, k4, k5, k6, k7, k8⟩ := id hk
  refine gx_iload_n (q := 1) C dX0_ofFalls_0 rfl rfl rfl ?_
  refine gx_tableIn (tgt := 101) C dX0_ofFalls_1 (by decide) (by decide) (rfl) (by decide) ?_
  refine gx_aload_n (q := 102) C dX0_ofFalls_101 rfl rfl rfl ?_
  refine gx_iload_n (q := 103) C dX0_ofFalls_102 rfl rfl rfl ?_
  refine gx_iload_n (q := 104) C dX0_ofFalls_103 rfl rfl rfl ?_
  refine gx_iload (q := 106) C dX0_ofFalls_104 rfl rfl ?_
  refine gx_cs (q := 109) C E (sx_X0_294 (As := [_, _, _]) C hX.o rfl rfl dX0_ofFalls_106) (xa_setAsked_1 _ _ _ _ g hg f h1 h2 h6 hL ⟨_, _, _, _, _, _, _, hX⟩ hk) kw_X0_setAsked (by decide) (Nat.le_of_ble_eq_true rfl) rfl rfl (by omega) (by omega) dX0_ofFalls_106 rfl (fun M r106 => ?_)
  obtain ⟨⟨Tm, Y, Ym, Yi, lo, lom, loi, hX⟩, hG1⟩ := r106
  have hG := hG.tr hG1
  exact gx_iret C E dX0_ofFalls_109 (⟨⟨_, _, _, _, _, _, _, hX⟩, hG⟩) (by omega) (by omega)
set_option maxHeartbeats 800000 in
theorem xa_ofFalls_worth_b1 (l : Launch) (D : va_G) (b : Nat) (M0 : List va_E) {R T Ti P Rw : Nat → Nat} {hi : Bool} {lm rm : Nat} (v : Int32) (hb : v < 0 ∨ nI (T 0) ≤ v) (w : Int32) (h : xw_P D b M0 R T Ti P Rw hi lm rm) (hk : okT T) : fb_CT l D b yX0_ofFalls cX0_ofFalls 5 (some .int) 11 193 1 7 [.ref (b + 0), .int (nI 16), .int v, .int w, .int (nI 0)] M0 (.threw (b + M0.length)) (ex_R b M0 9 (-1)) := by
  refine fb_start [some (.ref (b + 0)), some (.int (nI 16)), some (.int v), some (.int w), some (.int (nI 0))] (by decide) (Nat.le_of_ble_eq_true rfl) rfl ?_
  intro x hl hD hb C E hx
  subst hl hD hb
  have C : fb_OK x cX0_ofFalls "FallsBetween" "ofFalls" := C
  obtain ⟨Tm, Y, Ym, Yi, lo, lom, loi, hX⟩ := h
  have hG := xw_F.rf M0
  obtain ⟨k0, k1, k2, k3, k4, k5, k6, k7, k8⟩ := id hk
  refine gx_iload_n (q := 1) C dX0_ofFalls_0 rfl rfl rfl ?_
  refine gx_tableOut (tgt := 110) C dX0_ofFalls_1 (Or.inr (by decide)) (by decide) ?_
  refine gx_aload_n (q := 111) C dX0_ofFalls_110 rfl rfl rfl ?_
  refine gx_iload_n (q := 112) C dX0_ofFalls_111 rfl rfl rfl ?_
  exact gx_ct C E hx (sx_X0_232 (As := [_]) C hX.o rfl rfl dX0_ofFalls_112) (xa_mustBeTree_b _ _ _ _ v hb ⟨_, _, _, _, _, _, _, hX⟩ hk) kw_X0_mustBeTree (by decide) (Nat.le_of_ble_eq_true rfl) (by omega) (by omega) dX0_ofFalls_112 (fun _ h => h)
set_option maxHeartbeats 800000 in
theorem xa_ofFalls_worth_b2 (l : Launch) (D : va_G) (b : Nat) (M0 : List va_E) {R T Ti P Rw : Nat → Nat} {hi : Bool} {lm rm : Nat} (t : Nat) (ht : t < T 0) (v : Int32) (hb : v < 0 ∨ nI 4 ≤ v) (h : xw_P D b M0 R T Ti P Rw hi lm rm) (hk : okT T) : fb_CT l D b yX0_ofFalls cX0_ofFalls 5 (some .int) 11 193 1 7 [.ref (b + 0), .int (nI 16), .int (nI t), .int v, .int (nI 0)] M0 (.threw (b + M0.length)) (ex_R b M0 9 (-1)) := by
  refine fb_start [some (.ref (b + 0)), some (.int (nI 16)), some (.int (nI t)), some (.int v), some (.int (nI 0))] (by decide) (Nat.le_of_ble_eq_true rfl) rfl ?_
  intro x hl hD hb C E hx
  subst hl hD hb
  have C : fb_OK x cX0_ofFalls "FallsBetween" "ofFalls" := C
  obtain ⟨Tm, Y, Ym, Yi, lo, lom, loi, hX⟩ := h
  have hG := xw_F.rf M0
  obtain ⟨k0, k1, k2, k3, k4, k5, k6, k7, k8⟩ := id hk
  refine gx_iload_n (q := 1) C dX0_ofFalls_0 rfl rfl rfl ?_
  refine gx_tableOut (tgt := 110) C dX0_ofFalls_1 (Or.inr (by decide)) (by decide) ?_
  refine gx_aload_n (q := 111) C dX0_ofFalls_110 rfl rfl rfl ?_
  refine gx_iload_n (q := 112) C dX0_ofFalls_111 rfl rfl rfl ?_
  refine gx_cv (q := 115) C E (sx_X0_232 (As := [_]) C hX.o rfl rfl dX0_ofFalls_112) (xa_mustBeTree_o _ _ _ _ t ht ⟨_, _, _, _, _, _, _, hX⟩ hk) kw_X0_mustBeTree (by decide) (Nat.le_of_ble_eq_true rfl) rfl rfl (by omega) (by omega) dX0_ofFalls_112 rfl (fun Mv rv => ?_)
  rw [rv]
  refine gx_iload_n (q := 116) C dX0_ofFalls_115 rfl rfl rfl ?_
  exact gx_ct C E hx (sx_X0_249 (As := [_]) C rfl rfl dX0_ofFalls_116) (fx_mustBeGarden_b _ _ _ _ v hb) kw_X0_mustBeGarden (by decide) (Nat.le_of_ble_eq_true rfl) (by omega) (by omega) dX0_ofFalls_116 (fun _ h => h)
set_option maxHeartbeats 800000 in
theorem xa_ofFalls_worth_o (l : Launch) (D : va_G) (b : Nat) (M0 : List va_E) {R T Ti P Rw : Nat → Nat} {hi : Bool} {lm rm : Nat} (t : Nat) (ht : t < T 0) (g : Nat) (hg : g < 4) (h : xw_P D b M0 R T Ti P Rw hi lm rm) (hk : okT T) : fb_CT l D b yX0_ofFalls cX0_ofFalls 5 (some .int) 11 193 0 0 [.ref (b + 0), .int (nI 16), .int (nI t), .int (nI g), .int (nI 0)] M0 (.returned (some (.int (nI (shL T (fun q => flp T t q 5) g 36))))) (fun M' => xw_P D b M' R T Ti P Rw hi lm rm ∧ xw_F M0 M') := by
  refine fb_start [some (.ref (b + 0)), some (.int (nI 16)), some (.int (nI t)), some (.int (nI g)), some (.int (nI 0))] (by decide) (Nat.le_of_ble_eq_true rfl) rfl ?_
  intro x hl hD hb C E hx
  subst hl hD hb
  have C : fb_OK x cX0_ofFalls "FallsBetween" "ofFalls" := C
  obtain ⟨Tm, Y, Ym, Yi, lo, lom, loi, hX⟩ := h
  have hG := xw_F.rf M0
  obtain ⟨k0, k1, k2, k3, k4, k5, k6, k7, k8⟩ := id hk
  refine gx_iload_n (q := 1) C dX0_ofFalls_0 rfl rfl rfl ?_
  refine gx_tableOut (tgt := 110) C dX0_ofFalls_1 (Or.inr (by decide)) (by decide) ?_
  refine gx_aload_n (q := 111) C dX0_ofFalls_110 rfl rfl rfl ?_
  refine gx_iload_n (q := 112) C dX0_ofFalls_111 rfl rfl rfl ?_
  refine gx_cv (q := 115) C E (sx_X0_232 (As := [_]) C hX.o rfl rfl dX0_ofFalls_112) (xa_mustBeTree_o _ _ _ _ t ht ⟨_, _, _, _, _, _, _, hX⟩ hk) kw_X0_mustBeTree (by decide) (Nat.le_of_ble_eq_true rfl) rfl rfl (by omega) (by omega) dX0_ofFalls_112 rfl (fun Mv rv => ?_)
  rw [rv]
  refine gx_iload_n (q := 116) C dX0_ofFalls_115 rfl rfl rfl ?_
  refine gx_cv (q := 119) C E (sx_X0_249 (As := [_]) C rfl rfl dX0_ofFalls_116) (fx_mustBeGarden_o _ _ _ _ g hg) kw_X0_mustBeGarden (by decide) (Nat.le_of_ble_eq_true rfl) rfl rfl (by omega) (by omega) dX0_ofFalls_116 rfl (fun Mv rv => ?_)
  rw [rv]
  refine gx_aload_n (q := 120) C dX0_ofFalls_119 rfl rfl rfl ?_
  refine gx_iload_n (q := 121) C dX0_ofFalls_120 rfl rfl rfl ?_
  refine gx_iload_n (q := 122) C dX0_ofFalls_121 rfl rfl rfl ?_
  refine gx_cs (q := 125) C E (sx_X0_297 (As := [_, _]) C hX.o rfl rfl dX0_ofFalls_122) (xa_worthOf _ _ _ _ t ht g hg ⟨_, _, _, _, _, _, _, hX⟩ hk) kw_X0_worthOf (by decide) (Nat.le_of_ble_eq_true rfl) rfl rfl (by omega) (by omega) dX0_ofFalls_122 rfl (fun M r122 => ?_)
  obtain ⟨⟨Tm, Y, Ym, Yi, lo, lom, loi, hX⟩, hG1⟩ := r122
  have hG := hG.tr hG1
  exact gx_iret C E dX0_ofFalls_125 (⟨⟨_, _, _, _, _, _, _, hX⟩, hG⟩) (by omega) (by omega)
set_option maxHeartbeats 800000 in
theorem xa_ofRest_give (l : Launch) (D : va_G) (b : Nat) (M0 : List va_E) {R T Ti P Rw : Nat → Nat} {hi : Bool} {lm rm : Nat}  (h : xw_P D b M0 R T Ti P Rw hi lm rm) (hk : okT T) : fb_CT l D b yX0_ofRest cX0_ofRest 5 (some .int) 11 194 0 0 [.ref (b + 0), .int (nI 17), .int (nI 0), .int (nI 0), .int (nI 0)] M0 (.returned (some (.int (gvE (mnS (bdL T (lyT T) 36) (givV T) 144).1)))) (fun M' => xw_P D b M' R T Ti P Rw hi lm rm ∧ xw_F M0 M') := by
  refine fb_start [some (.ref (b + 0)), some (.int (nI 17)), some (.int (nI 0)), some (.int (nI 0)), some (.int (nI 0))] (by decide) (Nat.le_of_ble_eq_true rfl) rfl ?_
  intro x hl hD hb C E hx
  subst hl hD hb
  have C : fb_OK x cX0_ofRest "FallsBetween" "ofRest" := C
  obtain ⟨Tm, Y, Ym, Yi, lo, lom, loi, hX⟩ := h
  have hG := xw_F.rf M0
  obtain ⟨k0, k1, k2, k3, k4, k5, k6, k7, k8⟩ := id hk
  refine gx_iload_n (q := 1) C dX0_ofRest_0 rfl rfl rfl ?_
  refine gx_tableIn (tgt := 52) C dX0_ofRest_1 (by decide) (by decide) (rfl) (by decide) ?_
  refine gx_aload_n (q := 53) C dX0_ofRest_52 rfl rfl rfl ?_
  refine gx_cs (q := 56) C E (sx_X0_312 (As := []) C hX.o rfl rfl dX0_ofRest_53) (xa_bestGift _ _ _ _  ⟨_, _, _, _, _, _, _, hX⟩ hk) kw_X0_bestGift (by decide) (Nat.le_of_ble_eq_true rfl) rfl rfl (by omega) (by omega) dX0_ofRest_53 rfl (fun M r53 => ?_)
  obtain ⟨⟨Tm, Y, Ym, Yi, lo, lom, loi, hX⟩, hG1⟩ := r53
  have hG := hG.tr hG1
  exact gx_iret C E dX0_ofRest_56 (⟨⟨_, _, _, _, _, _, _, hX⟩, hG⟩) (by omega) (by omega)
set_option maxHeartbeats 800000 in
theorem xa_ofRest_clean (l : Launch) (D : va_G) (b : Nat) (M0 : List va_E) {R T Ti P Rw : Nat → Nat} {hi : Bool} {lm rm : Nat}  (h : xw_P D b M0 R T Ti P Rw hi lm rm) (hk : okT T) : fb_CT l D b yX0_ofRest cX0_ofRest 5 (some .int) 11 194 0 0 [.ref (b + 0), .int (nI 18), .int (nI 0), .int (nI 0), .int (nI 0)] M0 (.returned (some (.int (nI (fsS ltB (claV T) 5).1)))) (fun M' => xw_P D b M' R T Ti P Rw hi lm rm ∧ xw_F M0 M') := by
  refine fb_start [some (.ref (b + 0)), some (.int (nI 18)), some (.int (nI 0)), some (.int (nI 0)), some (.int (nI 0))] (by decide) (Nat.le_of_ble_eq_true rfl) rfl ?_
  intro x hl hD hb C E hx
  subst hl hD hb
  have C : fb_OK x cX0_ofRest "FallsBetween" "ofRest" := C
  obtain ⟨Tm, Y, Ym, Yi, lo, lom, loi, hX⟩ := h
  have hG := xw_F.rf M0
  obtain ⟨k0, k1, k2, k3, k4, k5, k6, k7, k8⟩ := id hk
  refine gx_iload_n (q := 1) C dX0_ofRest_0 rfl rfl rfl ?_
  refine gx_tableIn (tgt := 57) C dX0_ofRest_1 (by decide) (by decide) (rfl) (by decide) ?_
  refine gx_aload_n (q := 58) C dX0_ofRest_57 rfl rfl rfl ?_
  refine gx_cs (q := 61) C E (sx_X0_315 (As := []) C hX.o rfl rfl dX0_ofRest_58) (xa_cleanest _ _ _ _  ⟨_, _, _, _, _, _, _, hX⟩ hk) kw_X0_cleanest (by decide) (Nat.le_of_ble_eq_true rfl) rfl rfl (by omega) (by omega) dX0_ofRest_58 rfl (fun M r58 => ?_)
  obtain ⟨⟨Tm, Y, Ym, Yi, lo, lom, loi, hX⟩, hG1⟩ := r58
  have hG := hG.tr hG1
  exact gx_iret C E dX0_ofRest_61 (⟨⟨_, _, _, _, _, _, _, hX⟩, hG⟩) (by omega) (by omega)
set_option maxHeartbeats 800000 in
theorem xa_ofRest_line_b (l : Launch) (D : va_G) (b : Nat) (M0 : List va_E) {R T Ti P Rw : Nat → Nat} {hi : Bool} {lm rm : Nat} (v : Int32) (hb : v < 0 ∨ nI 2 ≤ v) (h : xw_P D b M0 R T Ti P Rw hi lm rm) (hk : okT T) : fb_CT l D b yX0_ofRest cX0_ofRest 5 (some .int) 11 194 1 7 [.ref (b + 0), .int (nI 19), .int v, .int (nI 0), .int (nI 0)] M0 (.threw (b + M0.length)) (ex_R b M0 9 (-2)) := by
  refine fb_start [some (.ref (b + 0)), some (.int (nI 19)), some (.int v), some (.int (nI 0)), some (.int (nI 0))] (by decide) (Nat.le_of_ble_eq_true rfl) rfl ?_
  intro x hl hD hb C E hx
  subst hl hD hb
  have C : fb_OK x cX0_ofRest "FallsBetween" "ofRest" := C
  obtain ⟨Tm, Y, Ym, Yi, lo, lom, loi, hX⟩ := h
  have hG := xw_F.rf M0
  obtain ⟨k0, k1, k2, k3, k4, k5, k6, k7, k8⟩ := id hk
  refine gx_iload_n (q := 1) C dX0_ofRest_0 rfl rfl rfl ?_
  refine gx_tableIn (tgt := 62) C dX0_ofRest_1 (by decide) (by decide) (rfl) (by decide) ?_
  refine gx_iload_n (q := 63) C dX0_ofRest_62 rfl rfl rfl ?_
  exact gx_ct C E hx (sx_X0_285 (As := [_]) C rfl rfl dX0_ofRest_63) (fx_mustBeBit_b _ _ _ _ v hb) kw_X0_mustBeBit (by decide) (Nat.le_of_ble_eq_true rfl) (by omega) (by omega) dX0_ofRest_63 (fun _ h => h)
set_option maxHeartbeats 800000 in
theorem xa_ofRest_line_0 (l : Launch) (D : va_G) (b : Nat) (M0 : List va_E) {R T Ti P Rw : Nat → Nat} {hi : Bool} {lm rm : Nat}  (h : xw_P D b M0 R T Ti P Rw hi lm rm) (hk : okT T) : fb_CT l D b yX0_ofRest cX0_ofRest 5 (some .int) 11 194 0 0 [.ref (b + 0), .int (nI 19), .int (nI 0), .int (nI 0), .int (nI 0)] M0 (.returned (some (.int (nI ((fsS ltB (linV T 0) 5).1 + 1))))) (fun M' => xw_P D b M' R T Ti P Rw hi lm rm ∧ xw_F M0 M') := by
  refine fb_start [some (.ref (b + 0)), some (.int (nI 19)), some (.int (nI 0)), some (.int (nI 0)), some (.int (nI 0))] (by decide) (Nat.le_of_ble_eq_true rfl) rfl ?_
  intro x hl hD hb C E hx
  subst hl hD hb
  have C : fb_OK x cX0_ofRest "FallsBetween" "ofRest" := C
  obtain ⟨Tm, Y, Ym, Yi, lo, lom, loi, hX⟩ := h
  have hG := xw_F.rf M0
  obtain ⟨k0, k1, k2, k3, k4, k5, k6, k7, k8⟩ := id hk
  refine gx_iload_n (q := 1) C dX0_ofRest_0 rfl rfl rfl ?_
  refine gx_tableIn (tgt := 62) C dX0_ofRest_1 (by decide) (by decide) (rfl) (by decide) ?_
  refine gx_iload_n (q := 63) C dX0_ofRest_62 rfl rfl rfl ?_
  refine gx_cv (q := 66) C E (sx_X0_285 (As := [_]) C rfl rfl dX0_ofRest_63) (fx_mustBeBit_o _ _ _ _ 0 (by decide)) kw_X0_mustBeBit (by decide) (Nat.le_of_ble_eq_true rfl) rfl rfl (by omega) (by omega) dX0_ofRest_63 rfl (fun Mv rv => ?_)
  rw [rv]
  refine gx_aload_n (q := 67) C dX0_ofRest_66 rfl rfl rfl ?_
  refine gx_iload_n (q := 68) C dX0_ofRest_67 rfl rfl rfl ?_
  refine gx_iconst (q := 69) (v := nI 1) C dX0_ofRest_68 (by decide) rfl ?_
  refine gn_icmp_ne (q := 72) (tgt := 76) C dX0_ofRest_69 (by decide) rfl (by omega) (by omega) (fun c69 => ?_) (fun c69 => by exfalso; revert c69; decide)
  refine gx_iconst (q := 77) (v := bI false) C dX0_ofRest_76 (by decide) rfl ?_
  refine gx_cs (q := 80) C E (sx_X0_318 (As := [_]) C hX.o rfl rfl dX0_ofRest_77) (xa_bestLine_0 _ _ _ _ ⟨_, _, _, _, _, _, _, hX⟩ hk) kw_X0_bestLine (by decide) (Nat.le_of_ble_eq_true rfl) rfl rfl (by omega) (by omega) dX0_ofRest_77 rfl (fun M r77 => ?_)
  obtain ⟨⟨Tm, Y, Ym, Yi, lo, lom, loi, hX⟩, hG1⟩ := r77
  have hG := hG.tr hG1
  exact gx_iret C E dX0_ofRest_80 (⟨⟨_, _, _, _, _, _, _, hX⟩, hG⟩) (by omega) (by omega)
set_option maxHeartbeats 800000 in
theorem xa_ofRest_line_1 (l : Launch) (D : va_G) (b : Nat) (M0 : List va_E) {R T Ti P Rw : Nat → Nat} {hi : Bool} {lm rm : Nat}  (h : xw_P D b M0 R T Ti P Rw hi lm rm) (hk : okT T) : fb_CT l D b yX0_ofRest cX0_ofRest 5 (some .int) 11 194 0 0 [.ref (b + 0), .int (nI 19), .int (nI 1), .int (nI 0), .int (nI 0)] M0 (.returned (some (.int (nI ((fsS ltB (linV T 1) 5).1 + 1))))) (fun M' => xw_P D b M' R T Ti P Rw hi lm rm ∧ xw_F M0 M') := by
  refine fb_start [some (.ref (b + 0)), some (.int (nI 19)), some (.int (nI 1)), some (.int (nI 0)), some (.int (nI 0))] (by decide) (Nat.le_of_ble_eq_true rfl) rfl ?_
  intro x hl hD hb C E hx
  subst hl hD hb
  have C : fb_OK x cX0_ofRest "FallsBetween" "ofRest" := C
  obtain ⟨Tm, Y, Ym, Yi, lo, lom, loi, hX⟩ := h
  have hG := xw_F.rf M0
  obtain ⟨k0, k1, k2, k3, k4, k5, k6, k7, k8⟩ := id hk
  refine gx_iload_n (q := 1) C dX0_ofRest_0 rfl rfl rfl ?_
  refine gx_tableIn (tgt := 62) C dX0_ofRest_1 (by decide) (by decide) (rfl) (by decide) ?_
  refine gx_iload_n (q := 63) C dX0_ofRest_62 rfl rfl rfl ?_
  refine gx_cv (q := 66) C E (sx_X0_285 (As := [_]) C rfl rfl dX0_ofRest_63) (fx_mustBeBit_o _ _ _ _ 1 (by decide)) kw_X0_mustBeBit (by decide) (Nat.le_of_ble_eq_true rfl) rfl rfl (by omega) (by omega) dX0_ofRest_63 rfl (fun Mv rv => ?_)
  rw [rv]
  refine gx_aload_n (q := 67) C dX0_ofRest_66 rfl rfl rfl ?_
  refine gx_iload_n (q := 68) C dX0_ofRest_67 rfl rfl rfl ?_
  refine gx_iconst (q := 69) (v := nI 1) C dX0_ofRest_68 (by decide) rfl ?_
  refine gn_icmp_ne (q := 72) (tgt := 76) C dX0_ofRest_69 (by decide) rfl (by omega) (by omega) (fun c69 => by exfalso; revert c69; decide) (fun c69 => ?_)
  refine gx_iconst (q := 73) (v := bI true) C dX0_ofRest_72 (by decide) rfl ?_
  refine gx_goto (tgt := 77) C dX0_ofRest_73 (by decide) ?_
  refine gx_cs (q := 80) C E (sx_X0_318 (As := [_]) C hX.o rfl rfl dX0_ofRest_77) (xa_bestLine_1 _ _ _ _ ⟨_, _, _, _, _, _, _, hX⟩ hk) kw_X0_bestLine (by decide) (Nat.le_of_ble_eq_true rfl) rfl rfl (by omega) (by omega) dX0_ofRest_77 rfl (fun M r77 => ?_)
  obtain ⟨⟨Tm, Y, Ym, Yi, lo, lom, loi, hX⟩, hG1⟩ := r77
  have hG := hG.tr hG1
  exact gx_iret C E dX0_ofRest_80 (⟨⟨_, _, _, _, _, _, _, hX⟩, hG⟩) (by omega) (by omega)
set_option maxHeartbeats 800000 in
theorem xa_ofRest_winds_b1 (l : Launch) (D : va_G) (b : Nat) (M0 : List va_E) {R T Ti P Rw : Nat → Nat} {hi : Bool} {lm rm : Nat} (v : Int32) (hb : v < 0 ∨ nI 4 ≤ v) (w : Int32) (h : xw_P D b M0 R T Ti P Rw hi lm rm) (hk : okT T) : fb_CT l D b yX0_ofRest cX0_ofRest 5 (some .int) 11 194 1 7 [.ref (b + 0), .int (nI 20), .int v, .int w, .int (nI 0)] M0 (.threw (b + M0.length)) (ex_R b M0 9 (-1)) := by
  refine fb_start [some (.ref (b + 0)), some (.int (nI 20)), some (.int v), some (.int w), some (.int (nI 0))] (by decide) (Nat.le_of_ble_eq_true rfl) rfl ?_
  intro x hl hD hb C E hx
  subst hl hD hb
  have C : fb_OK x cX0_ofRest "FallsBetween" "ofRest" := C
  obtain ⟨Tm, Y, Ym, Yi, lo, lom, loi, hX⟩ := h
  have hG := xw_F.rf M0
  obtain ⟨k0, k1, k2, k3, k4, k5, k6, k7, k8⟩ := id hk
  refine gx_iload_n (q := 1) C dX0_ofRest_0 rfl rfl rfl ?_
  refine gx_tableIn (tgt := 81) C dX0_ofRest_1 (by decide) (by decide) (rfl) (by decide) ?_
  refine gx_aload_n (q := 82) C dX0_ofRest_81 rfl rfl rfl ?_
  refine gx_iload_n (q := 83) C dX0_ofRest_82 rfl rfl rfl ?_
  refine gx_iload_n (q := 84) C dX0_ofRest_83 rfl rfl rfl ?_
  exact gx_ct C E hx (sx_X0_322 (As := [_, _]) C hX.o rfl rfl dX0_ofRest_84) (xa_windsAsked_b1 _ _ _ _ v hb w ⟨_, _, _, _, _, _, _, hX⟩ hk) kw_X0_windsAsked (by decide) (Nat.le_of_ble_eq_true rfl) (by omega) (by omega) dX0_ofRest_84 (fun _ h => h)
set_option maxHeartbeats 800000 in
theorem xa_ofRest_winds_b2 (l : Launch) (D : va_G) (b : Nat) (M0 : List va_E) {R T Ti P Rw : Nat → Nat} {hi : Bool} {lm rm : Nat} (g : Nat) (hg : g < 4) (v : Int32) (hb : v < 0 ∨ nI 2 ≤ v) (h : xw_P D b M0 R T Ti P Rw hi lm rm) (hk : okT T) : fb_CT l D b yX0_ofRest cX0_ofRest 5 (some .int) 11 194 1 7 [.ref (b + 0), .int (nI 20), .int (nI g), .int v, .int (nI 0)] M0 (.threw (b + M0.length)) (ex_R b M0 9 (-2)) := by
  refine fb_start [some (.ref (b + 0)), some (.int (nI 20)), some (.int (nI g)), some (.int v), some (.int (nI 0))] (by decide) (Nat.le_of_ble_eq_true rfl) rfl ?_
  intro x hl hD hb C E hx
  subst hl hD hb
  have C : fb_OK x cX0_ofRest "FallsBetween" "ofRest" := C
  obtain ⟨Tm, Y, Ym, Yi, lo, lom, loi, hX⟩ := h
  have hG := xw_F.rf M0
  obtain ⟨k0, k1, k2, k3, k4, k5, k6, k7, k8⟩ := id hk
  refine gx_iload_n (q := 1) C dX0_ofRest_0 rfl rfl rfl ?_
  refine gx_tableIn (tgt := 81) C dX0_ofRest_1 (by decide) (by decide) (rfl) (by decide) ?_
  refine gx_aload_n (q := 82) C dX0_ofRest_81 rfl rfl rfl ?_
  refine gx_iload_n (q := 83) C dX0_ofRest_82 rfl rfl rfl ?_
  refine gx_iload_n (q := 84) C dX0_ofRest_83 rfl rfl rfl ?_
  exact gx_ct C E hx (sx_X0_322 (As := [_, _]) C hX.o rfl rfl dX0_ofRest_84) (xa_windsAsked_b2 _ _ _ _ g hg v hb ⟨_, _, _, _, _, _, _, hX⟩ hk) kw_X0_windsAsked (by decide) (Nat.le_of_ble_eq_true rfl) (by omega) (by omega) dX0_ofRest_84 (fun _ h => h)
set_option maxHeartbeats 800000 in
theorem xa_ofRest_winds_0 (l : Launch) (D : va_G) (b : Nat) (M0 : List va_E) {R T Ti P Rw : Nat → Nat} {hi : Bool} {lm rm : Nat} (g : Nat) (hg : g < 4) (h : xw_P D b M0 R T Ti P Rw hi lm rm) (hk : okT T) : fb_CT l D b yX0_ofRest cX0_ofRest 5 (some .int) 11 194 0 0 [.ref (b + 0), .int (nI 20), .int (nI g), .int (nI 0), .int (nI 0)] M0 (.returned (some (.int (nI (fsS gtB (winV T g) 16).1)))) (fun M' => xw_P D b M' R T Ti P Rw hi lm rm ∧ xw_F M0 M') := by
  refine fb_start [some (.ref (b + 0)), some (.int (nI 20)), some (.int (nI g)), some (.int (nI 0)), some (.int (nI 0))] (by decide) (Nat.le_of_ble_eq_true rfl) rfl ?_
  intro x hl hD hb C E hx
  subst hl hD hb
  have C : fb_OK x cX0_ofRest "FallsBetween" "ofRest" := C
  obtain ⟨Tm, Y, Ym, Yi, lo, lom, loi, hX⟩ := h
  have hG := xw_F.rf M0
  obtain ⟨k0, k1, k2, k3, k4, k5, k6, k7, k8⟩ := id hk
  refine gx_iload_n (q := 1) C dX0_ofRest_0 rfl rfl rfl ?_
  refine gx_tableIn (tgt := 81) C dX0_ofRest_1 (by decide) (by decide) (rfl) (by decide) ?_
  refine gx_aload_n (q := 82) C dX0_ofRest_81 rfl rfl rfl ?_
  refine gx_iload_n (q := 83) C dX0_ofRest_82 rfl rfl rfl ?_
  refine gx_iload_n (q := 84) C dX0_ofRest_83 rfl rfl rfl ?_
  refine gx_cs (q := 87) C E (sx_X0_322 (As := [_, _]) C hX.o rfl rfl dX0_ofRest_84) (xa_windsAsked_0 _ _ _ _ g hg ⟨_, _, _, _, _, _, _, hX⟩ hk) kw_X0_windsAsked (by decide) (Nat.le_of_ble_eq_true rfl) rfl rfl (by omega) (by omega) dX0_ofRest_84 rfl (fun M r84 => ?_)
  obtain ⟨⟨Tm, Y, Ym, Yi, lo, lom, loi, hX⟩, hG1⟩ := r84
  have hG := hG.tr hG1
  exact gx_iret C E dX0_ofRest_87 (⟨⟨_, _, _, _, _, _, _, hX⟩, hG⟩) (by omega) (by omega)
set_option maxHeartbeats 800000 in
theorem xa_ofRest_winds_1 (l : Launch) (D : va_G) (b : Nat) (M0 : List va_E) {R T Ti P Rw : Nat → Nat} {hi : Bool} {lm rm : Nat} (g : Nat) (hg : g < 4) (h : xw_P D b M0 R T Ti P Rw hi lm rm) (hk : okT T) : fb_CT l D b yX0_ofRest cX0_ofRest 5 (some .int) 11 194 0 0 [.ref (b + 0), .int (nI 20), .int (nI g), .int (nI 1), .int (nI 0)] M0 (.returned (some (.int (nI (lsS (winV T g) 16))))) (fun M' => xw_P D b M' R T Ti P Rw hi lm rm ∧ xw_F M0 M') := by
  refine fb_start [some (.ref (b + 0)), some (.int (nI 20)), some (.int (nI g)), some (.int (nI 1)), some (.int (nI 0))] (by decide) (Nat.le_of_ble_eq_true rfl) rfl ?_
  intro x hl hD hb C E hx
  subst hl hD hb
  have C : fb_OK x cX0_ofRest "FallsBetween" "ofRest" := C
  obtain ⟨Tm, Y, Ym, Yi, lo, lom, loi, hX⟩ := h
  have hG := xw_F.rf M0
  obtain ⟨k0, k1, k2, k3, k4, k5, k6, k7, k8⟩ := id hk
  refine gx_iload_n (q := 1) C dX0_ofRest_0 rfl rfl rfl ?_
  refine gx_tableIn (tgt := 81) C dX0_ofRest_1 (by decide) (by decide) (rfl) (by decide) ?_
  refine gx_aload_n (q := 82) C dX0_ofRest_81 rfl rfl rfl ?_
  refine gx_iload_n (q := 83) C dX0_ofRest_82 rfl rfl rfl ?_
  refine gx_iload_n (q := 84) C dX0_ofRest_83 rfl rfl rfl ?_
  refine gx_cs (q := 87) C E (sx_X0_322 (As := [_, _]) C hX.o rfl rfl dX0_ofRest_84) (xa_windsAsked_1 _ _ _ _ g hg ⟨_, _, _, _, _, _, _, hX⟩ hk) kw_X0_windsAsked (by decide) (Nat.le_of_ble_eq_true rfl) rfl rfl (by omega) (by omega) dX0_ofRest_84 rfl (fun M r84 => ?_)
  obtain ⟨⟨Tm, Y, Ym, Yi, lo, lom, loi, hX⟩, hG1⟩ := r84
  have hG := hG.tr hG1
  exact gx_iret C E dX0_ofRest_87 (⟨⟨_, _, _, _, _, _, _, hX⟩, hG⟩) (by omega) (by omega)
set_option maxHeartbeats 800000 in
theorem xa_ofRest_netted_b (l : Launch) (D : va_G) (b : Nat) (M0 : List va_E) {R T Ti P Rw : Nat → Nat} {hi : Bool} {lm rm : Nat} (v : Int32) (hb : v < 0 ∨ nI 4 ≤ v) (h : xw_P D b M0 R T Ti P Rw hi lm rm) (hk : okT T) : fb_CT l D b yX0_ofRest cX0_ofRest 5 (some .int) 11 194 1 7 [.ref (b + 0), .int (nI 21), .int v, .int (nI 0), .int (nI 0)] M0 (.threw (b + M0.length)) (ex_R b M0 9 (-1)) := by
  refine fb_start [some (.ref (b + 0)), some (.int (nI 21)), some (.int v), some (.int (nI 0)), some (.int (nI 0))] (by decide) (Nat.le_of_ble_eq_true rfl) rfl ?_
  intro x hl hD hb C E hx
  subst hl hD hb
  have C : fb_OK x cX0_ofRest "FallsBetween" "ofRest" := C
  obtain ⟨Tm, Y, Ym, Yi, lo, lom, loi, hX⟩ := h
  have hG := xw_F.rf M0
  obtain ⟨k0, k1, k2, k3, k4, k5, k6, k7, k8⟩ := id hk
  refine gx_iload_n (q := 1) C dX0_ofRest_0 rfl rfl rfl ?_
  refine gx_tableIn (tgt := 88) C dX0_ofRest_1 (by decide) (by decide) (rfl) (by decide) ?_
  refine gx_iload_n (q := 89) C dX0_ofRest_88 rfl rfl rfl ?_
  exact gx_ct C E hx (sx_X0_249 (As := [_]) C rfl rfl dX0_ofRest_89) (fx_mustBeGarden_b _ _ _ _ v hb) kw_X0_mustBeGarden (by decide) (Nat.le_of_ble_eq_true rfl) (by omega) (by omega) dX0_ofRest_89 (fun _ h => h)
set_option maxHeartbeats 800000 in
theorem xa_ofRest_netted_o (l : Launch) (D : va_G) (b : Nat) (M0 : List va_E) {R T Ti P Rw : Nat → Nat} {hi : Bool} {lm rm : Nat} (g : Nat) (hg : g < 4) (h : xw_P D b M0 R T Ti P Rw hi lm rm) (hk : okT T) : fb_CT l D b yX0_ofRest cX0_ofRest 5 (some .int) 11 194 0 0 [.ref (b + 0), .int (nI 21), .int (nI g), .int (nI 0), .int (nI 0)] M0 (.returned (some (.int (sq_ (mxS (netV T g) 36).1)))) (fun M' => xw_P D b M' R T Ti P Rw hi lm rm ∧ xw_F M0 M') := by
  refine fb_start [some (.ref (b + 0)), some (.int (nI 21)), some (.int (nI g)), some (.int (nI 0)), some (.int (nI 0))] (by decide) (Nat.le_of_ble_eq_true rfl) rfl ?_
  intro x hl hD hb C E hx
  subst hl hD hb
  have C : fb_OK x cX0_ofRest "FallsBetween" "ofRest" := C
  obtain ⟨Tm, Y, Ym, Yi, lo, lom, loi, hX⟩ := h
  have hG := xw_F.rf M0
  obtain ⟨k0, k1, k2, k3, k4, k5, k6, k7, k8⟩ := id hk
  refine gx_iload_n (q := 1) C dX0_ofRest_0 rfl rfl rfl ?_
  refine gx_tableIn (tgt := 88) C dX0_ofRest_1 (by decide) (by decide) (rfl) (by decide) ?_
  refine gx_iload_n (q := 89) C dX0_ofRest_88 rfl rfl rfl ?_
  refine gx_cv (q := 92) C E (sx_X0_249 (As := [_]) C rfl rfl dX0_ofRest_89) (fx_mustBeGarden_o _ _ _ _ g hg) kw_X0_mustBeGarden (by decide) (Nat.le_of_ble_eq_true rfl) rfl rfl (by omega) (by omega) dX0_ofRest_89 rfl (fun Mv rv => ?_)
  rw [rv]
  refine gx_aload_n (q := 93) C dX0_ofRest_92 rfl rfl rfl ?_
  refine gx_iload_n (q := 94) C dX0_ofRest_93 rfl rfl rfl ?_
  refine gx_cs (q := 97) C E (sx_X0_325 (As := [_]) C hX.o rfl rfl dX0_ofRest_94) (xa_bestNet _ _ _ _ g hg ⟨_, _, _, _, _, _, _, hX⟩ hk) kw_X0_bestNet (by decide) (Nat.le_of_ble_eq_true rfl) rfl rfl (by omega) (by omega) dX0_ofRest_94 rfl (fun M r94 => ?_)
  obtain ⟨⟨Tm, Y, Ym, Yi, lo, lom, loi, hX⟩, hG1⟩ := r94
  have hG := hG.tr hG1
  exact gx_iret C E dX0_ofRest_97 (⟨⟨_, _, _, _, _, _, _, hX⟩, hG⟩) (by omega) (by omega)
set_option maxHeartbeats 800000 in
theorem xa_ofRest_came_b (l : Launch) (D : va_G) (b : Nat) (M0 : List va_E) {R T Ti P Rw : Nat → Nat} {hi : Bool} {lm rm : Nat} (v : Int32) (hb : v < 0 ∨ nI 36 ≤ v) (h : xw_P D b M0 R T Ti P Rw hi lm rm) (hk : okT T) : fb_CT l D b yX0_ofRest cX0_ofRest 5 (some .int) 11 194 1 7 [.ref (b + 0), .int (nI 22), .int v, .int (nI 0), .int (nI 0)] M0 (.threw (b + M0.length)) (ex_R b M0 9 (-1)) := by
  refine fb_start [some (.ref (b + 0)), some (.int (nI 22)), some (.int v), some (.int (nI 0)), some (.int (nI 0))] (by decide) (Nat.le_of_ble_eq_true rfl) rfl ?_
  intro x hl hD hb C E hx
  subst hl hD hb
  have C : fb_OK x cX0_ofRest "FallsBetween" "ofRest" := C
  obtain ⟨Tm, Y, Ym, Yi, lo, lom, loi, hX⟩ := h
  have hG := xw_F.rf M0
  obtain ⟨k0, k1, k2, k3, k4, k5, k6, k7, k8⟩ := id hk
  refine gx_iload_n (q := 1) C dX0_ofRest_0 rfl rfl rfl ?_
  refine gx_tableIn (tgt := 98) C dX0_ofRest_1 (by decide) (by decide) (rfl) (by decide) ?_
  refine gx_iload_n (q := 99) C dX0_ofRest_98 rfl rfl rfl ?_
  exact gx_ct C E hx (sx_X0_224 (As := [_]) C rfl rfl dX0_ofRest_99) (fx_mustBeSquare_b _ _ _ _ v hb) kw_X0_mustBeSquare (by decide) (Nat.le_of_ble_eq_true rfl) (by omega) (by omega) dX0_ofRest_99 (fun _ h => h)
set_option maxHeartbeats 800000 in
theorem xa_ofRest_came_o (l : Launch) (D : va_G) (b : Nat) (M0 : List va_E) {R T Ti P Rw : Nat → Nat} {hi : Bool} {lm rm : Nat} (q : Nat) (hq : q < 36) (h : xw_P D b M0 R T Ti P Rw hi lm rm) (hk : okT T) : fb_CT l D b yX0_ofRest cX0_ofRest 5 (some .int) 11 194 0 0 [.ref (b + 0), .int (nI 22), .int (nI q), .int (nI 0), .int (nI 0)] M0 (.returned (some (.int (nI (camV T q (T 0)))))) (fun M' => xw_P D b M' R T Ti P Rw hi lm rm ∧ xw_F M0 M') := by
  refine fb_start [some (.ref (b + 0)), some (.int (nI 22)), some (.int (nI q)), some (.int (nI 0)), some (.int (nI 0))] (by decide) (Nat.le_of_ble_eq_true rfl) rfl ?_
  intro x hl hD hb C E hx
  subst hl hD hb
  have C : fb_OK x cX0_ofRest "FallsBetween" "ofRest" := C
  obtain ⟨Tm, Y, Ym, Yi, lo, lom, loi, hX⟩ := h
  have hG := xw_F.rf M0
  obtain ⟨k0, k1, k2, k3, k4, k5, k6, k7, k8⟩ := id hk
  refine gx_iload_n (q := 1) C dX0_ofRest_0 rfl rfl rfl ?_
  refine gx_tableIn (tgt := 98) C dX0_ofRest_1 (by decide) (by decide) (rfl) (by decide) ?_
  refine gx_iload_n (q := 99) C dX0_ofRest_98 rfl rfl rfl ?_
  refine gx_cv (q := 102) C E (sx_X0_224 (As := [_]) C rfl rfl dX0_ofRest_99) (fx_mustBeSquare_o _ _ _ _ q hq) kw_X0_mustBeSquare (by decide) (Nat.le_of_ble_eq_true rfl) rfl rfl (by omega) (by omega) dX0_ofRest_99 rfl (fun Mv rv => ?_)
  rw [rv]
  refine gx_aload_n (q := 103) C dX0_ofRest_102 rfl rfl rfl ?_
  refine gx_iload_n (q := 104) C dX0_ofRest_103 rfl rfl rfl ?_
  refine gx_cs (q := 107) C E (sx_X0_328 (As := [_]) C hX.o rfl rfl dX0_ofRest_104) (xa_cameBits _ _ _ _ q hq ⟨_, _, _, _, _, _, _, hX⟩ hk) kw_X0_cameBits (by decide) (Nat.le_of_ble_eq_true rfl) rfl rfl (by omega) (by omega) dX0_ofRest_104 rfl (fun M r104 => ?_)
  obtain ⟨⟨Tm, Y, Ym, Yi, lo, lom, loi, hX⟩, hG1⟩ := r104
  have hG := hG.tr hG1
  exact gx_iret C E dX0_ofRest_107 (⟨⟨_, _, _, _, _, _, _, hX⟩, hG⟩) (by omega) (by omega)
set_option maxHeartbeats 800000 in
theorem xa_ofRest_likely_b1 (l : Launch) (D : va_G) (b : Nat) (M0 : List va_E) {R T Ti P Rw : Nat → Nat} {hi : Bool} {lm rm : Nat} (v : Int32) (hb : v < 0 ∨ nI 36 ≤ v) (w u : Int32) (h : xw_P D b M0 R T Ti P Rw hi lm rm) (hk : okT T) : fb_CT l D b yX0_ofRest cX0_ofRest 5 (some .int) 11 194 1 7 [.ref (b + 0), .int (nI 23), .int v, .int w, .int u] M0 (.threw (b + M0.length)) (ex_R b M0 9 (-1)) := by
  refine fb_start [some (.ref (b + 0)), some (.int (nI 23)), some (.int v), some (.int w), some (.int u)] (by decide) (Nat.le_of_ble_eq_true rfl) rfl ?_
  intro x hl hD hb C E hx
  subst hl hD hb
  have C : fb_OK x cX0_ofRest "FallsBetween" "ofRest" := C
  obtain ⟨Tm, Y, Ym, Yi, lo, lom, loi, hX⟩ := h
  have hG := xw_F.rf M0
  obtain ⟨k0, k1, k2, k3, k4, k5, k6, k7, k8⟩ := id hk
  refine gx_iload_n (q := 1) C dX0_ofRest_0 rfl rfl rfl ?_
  refine gx_tableIn (tgt := 108) C dX0_ofRest_1 (by decide) (by decide) (rfl) (by decide) ?_
  refine gx_aload_n (q := 109) C dX0_ofRest_108 rfl rfl rfl ?_
  refine gx_iload_n (q := 110) C dX0_ofRest_109 rfl rfl rfl ?_
  refine gx_iload_n (q := 111) C dX0_ofRest_110 rfl rfl rfl ?_
  refine gx_iload (q := 113) C dX0_ofRest_111 rfl rfl ?_
  exact gx_ct C E hx (sx_X0_331 (As := [_, _, _]) C hX.o rfl rfl dX0_ofRest_113) (xa_likelyAsked_b1 _ _ _ _ v hb w u ⟨_, _, _, _, _, _, _, hX⟩ hk) kw_X0_likelyAsked (by decide) (Nat.le_of_ble_eq_true rfl) (by omega) (by omega) dX0_ofRest_113 (fun _ h => h)
set_option maxHeartbeats 800000 in
theorem xa_ofRest_likely_b2 (l : Launch) (D : va_G) (b : Nat) (M0 : List va_E) {R T Ti P Rw : Nat → Nat} {hi : Bool} {lm rm : Nat} (q : Nat) (hq : q < 36) (v : Int32) (hb : v < 0 ∨ nI (T 0) ≤ v) (u : Int32) (h : xw_P D b M0 R T Ti P Rw hi lm rm) (hk : okT T) : fb_CT l D b yX0_ofRest cX0_ofRest 5 (some .int) 11 194 1 7 [.ref (b + 0), .int (nI 23), .int (nI q), .int v, .int u] M0 (.threw (b + M0.length)) (ex_R b M0 9 (-1)) := by
  refine fb_start [some (.ref (b + 0)), some (.int (nI 23)), some (.int (nI q)), some (.int v), some (.int u)] (by decide) (Nat.le_of_ble_eq_true rfl) rfl ?_
  intro x hl hD hb C E hx
  subst hl hD hb
  have C : fb_OK x cX0_ofRest "FallsBetween" "ofRest" := C
  obtain ⟨Tm, Y, Ym, Yi, lo, lom, loi, hX⟩ := h
  have hG := xw_F.rf M0
  obtain ⟨k0, k1, k2, k3, k4, k5, k6, k7, k8⟩ := id hk
  refine gx_iload_n (q := 1) C dX0_ofRest_0 rfl rfl rfl ?_
  refine gx_tableIn (tgt := 108) C dX0_ofRest_1 (by decide) (by decide) (rfl) (by decide) ?_
  refine gx_aload_n (q := 109) C dX0_ofRest_108 rfl rfl rfl ?_
  refine gx_iload_n (q := 110) C dX0_ofRest_109 rfl rfl rfl ?_
  refine gx_iload_n (q := 111) C dX0_ofRest_110 rfl rfl rfl ?_
  refine gx_iload (q := 113) C dX0_ofRest_111 rfl rfl ?_
  exact gx_ct C E hx (sx_X0_331 (As := [_, _, _]) C hX.o rfl rfl dX0_ofRest_113) (xa_likelyAsked_b2 _ _ _ _ q hq v hb u ⟨_, _, _, _, _, _, _, hX⟩ hk) kw_X0_likelyAsked (by decide) (Nat.le_of_ble_eq_true rfl) (by omega) (by omega) dX0_ofRest_113 (fun _ h => h)
set_option maxHeartbeats 800000 in
theorem xa_ofRest_likely_b3 (l : Launch) (D : va_G) (b : Nat) (M0 : List va_E) {R T Ti P Rw : Nat → Nat} {hi : Bool} {lm rm : Nat} (q : Nat) (hq : q < 36) (t : Nat) (ht : t < T 0) (v : Int32) (hb : v < 0 ∨ nI 2 ≤ v) (h : xw_P D b M0 R T Ti P Rw hi lm rm) (hk : okT T) : fb_CT l D b yX0_ofRest cX0_ofRest 5 (some .int) 11 194 1 7 [.ref (b + 0), .int (nI 23), .int (nI q), .int (nI t), .int v] M0 (.threw (b + M0.length)) (ex_R b M0 9 (-2)) := by
  refine fb_start [some (.ref (b + 0)), some (.int (nI 23)), some (.int (nI q)), some (.int (nI t)), some (.int v)] (by decide) (Nat.le_of_ble_eq_true rfl) rfl ?_
  intro x hl hD hb C E hx
  subst hl hD hb
  have C : fb_OK x cX0_ofRest "FallsBetween" "ofRest" := C
  obtain ⟨Tm, Y, Ym, Yi, lo, lom, loi, hX⟩ := h
  have hG := xw_F.rf M0
  obtain ⟨k0, k1, k2, k3, k4, k5, k6, k7, k8⟩ := id hk
  refine gx_iload_n (q := 1) C dX0_ofRest_0 rfl rfl rfl ?_
  refine gx_tableIn (tgt := 108) C dX0_ofRest_1 (by decide) (by decide) (rfl) (by decide) ?_
  refine gx_aload_n (q := 109) C dX0_ofRest_108 rfl rfl rfl ?_
  refine gx_iload_n (q := 110) C dX0_ofRest_109 rfl rfl rfl ?_
  refine gx_iload_n (q := 111) C dX0_ofRest_110 rfl rfl rfl ?_
  refine gx_iload (q := 113) C dX0_ofRest_111 rfl rfl ?_
  exact gx_ct C E hx (sx_X0_331 (As := [_, _, _]) C hX.o rfl rfl dX0_ofRest_113) (xa_likelyAsked_b3 _ _ _ _ q hq t ht v hb ⟨_, _, _, _, _, _, _, hX⟩ hk) kw_X0_likelyAsked (by decide) (Nat.le_of_ble_eq_true rfl) (by omega) (by omega) dX0_ofRest_113 (fun _ h => h)
set_option maxHeartbeats 800000 in
theorem xa_ofRest_likely_0 (l : Launch) (D : va_G) (b : Nat) (M0 : List va_E) {R T Ti P Rw : Nat → Nat} {hi : Bool} {lm rm : Nat} (q : Nat) (hq : q < 36) (t : Nat) (ht : t < T 0) (h : xw_P D b M0 R T Ti P Rw hi lm rm) (hk : okT T) : fb_CT l D b yX0_ofRest cX0_ofRest 5 (some .int) 11 194 0 0 [.ref (b + 0), .int (nI 23), .int (nI q), .int (nI t), .int (nI 0)] M0 (.returned (some (.int (nI (if flp T t q 5 = 0 then 0 else flp T t q 5 / Nat.gcd (flp T t q 5) (lyT T q)))))) (fun M' => xw_P D b M' R T Ti P Rw hi lm rm ∧ xw_F M0 M') := by
  refine fb_start [some (.ref (b + 0)), some (.int (nI 23)), some (.int (nI q)), some (.int (nI t)), some (.int (nI 0))] (by decide) (Nat.le_of_ble_eq_true rfl) rfl ?_
  intro x hl hD hb C E hx
  subst hl hD hb
  have C : fb_OK x cX0_ofRest "FallsBetween" "ofRest" := C
  obtain ⟨Tm, Y, Ym, Yi, lo, lom, loi, hX⟩ := h
  have hG := xw_F.rf M0
  obtain ⟨k0, k1, k2, k3, k4, k5, k6, k7, k8⟩ := id hk
  refine gx_iload_n (q := 1) C dX0_ofRest_0 rfl rfl rfl ?_
  refine gx_tableIn (tgt := 108) C dX0_ofRest_1 (by decide) (by decide) (rfl) (by decide) ?_
  refine gx_aload_n (q := 109) C dX0_ofRest_108 rfl rfl rfl ?_
  refine gx_iload_n (q := 110) C dX0_ofRest_109 rfl rfl rfl ?_
  refine gx_iload_n (q := 111) C dX0_ofRest_110 rfl rfl rfl ?_
  refine gx_iload (q := 113) C dX0_ofRest_111 rfl rfl ?_
  refine gx_cs (q := 116) C E (sx_X0_331 (As := [_, _, _]) C hX.o rfl rfl dX0_ofRest_113) (xa_likelyAsked_0 _ _ _ _ q hq t ht ⟨_, _, _, _, _, _, _, hX⟩ hk) kw_X0_likelyAsked (by decide) (Nat.le_of_ble_eq_true rfl) rfl rfl (by omega) (by omega) dX0_ofRest_113 rfl (fun M r113 => ?_)
  obtain ⟨⟨Tm, Y, Ym, Yi, lo, lom, loi, hX⟩, hG1⟩ := r113
  have hG := hG.tr hG1
  exact gx_iret C E dX0_ofRest_116 (⟨⟨_, _, _, _, _, _, _, hX⟩, hG⟩) (by omega) (by omega)
set_option maxHeartbeats 800000 in
theorem xa_ofRest_likely_1 (l : Launch) (D : va_G) (b : Nat) (M0 : List va_E) {R T Ti P Rw : Nat → Nat} {hi : Bool} {lm rm : Nat} (q : Nat) (hq : q < 36) (t : Nat) (ht : t < T 0) (h : xw_P D b M0 R T Ti P Rw hi lm rm) (hk : okT T) : fb_CT l D b yX0_ofRest cX0_ofRest 5 (some .int) 11 194 0 0 [.ref (b + 0), .int (nI 23), .int (nI q), .int (nI t), .int (nI 1)] M0 (.returned (some (.int (nI (if flp T t q 5 = 0 then 1 else lyT T q / Nat.gcd (flp T t q 5) (lyT T q)))))) (fun M' => xw_P D b M' R T Ti P Rw hi lm rm ∧ xw_F M0 M') := by
  refine fb_start [some (.ref (b + 0)), some (.int (nI 23)), some (.int (nI q)), some (.int (nI t)), some (.int (nI 1))] (by decide) (Nat.le_of_ble_eq_true rfl) rfl ?_
  intro x hl hD hb C E hx
  subst hl hD hb
  have C : fb_OK x cX0_ofRest "FallsBetween" "ofRest" := C
  obtain ⟨Tm, Y, Ym, Yi, lo, lom, loi, hX⟩ := h
  have hG := xw_F.rf M0
  obtain ⟨k0, k1, k2, k3, k4, k5, k6, k7, k8⟩ := id hk
  refine gx_iload_n (q := 1) C dX0_ofRest_0 rfl rfl rfl ?_
  refine gx_tableIn (tgt := 108) C dX0_ofRest_1 (by decide) (by decide) (rfl) (by decide) ?_
  refine gx_aload_n (q := 109) C dX0_ofRest_108 rfl rfl rfl ?_
  refine gx_iload_n (q := 110) C dX0_ofRest_109 rfl rfl rfl ?_
  refine gx_iload_n (q := 111) C dX0_ofRest_110 rfl rfl rfl ?_
  refine gx_iload (q := 113) C dX0_ofRest_111 rfl rfl ?_
  refine gx_cs (q := 116) C E (sx_X0_331 (As := [_, _, _]) C hX.o rfl rfl dX0_ofRest_113) (xa_likelyAsked_1 _ _ _ _ q hq t ht ⟨_, _, _, _, _, _, _, hX⟩ hk) kw_X0_likelyAsked (by decide) (Nat.le_of_ble_eq_true rfl) rfl rfl (by omega) (by omega) dX0_ofRest_113 rfl (fun M r113 => ?_)
  obtain ⟨⟨Tm, Y, Ym, Yi, lo, lom, loi, hX⟩, hG1⟩ := r113
  have hG := hG.tr hG1
  exact gx_iret C E dX0_ofRest_116 (⟨⟨_, _, _, _, _, _, _, hX⟩, hG⟩) (by omega) (by omega)
set_option maxHeartbeats 800000 in
theorem xa_ofRest_pit_b (l : Launch) (D : va_G) (b : Nat) (M0 : List va_E) {R T Ti P Rw : Nat → Nat} {hi : Bool} {lm rm : Nat} (v : Int32) (hb : v < 0 ∨ nI 36 ≤ v) (h : xw_P D b M0 R T Ti P Rw hi lm rm) (hk : okT T) : fb_CT l D b yX0_ofRest cX0_ofRest 5 (some .int) 11 194 1 7 [.ref (b + 0), .int (nI 24), .int v, .int (nI 0), .int (nI 0)] M0 (.threw (b + M0.length)) (ex_R b M0 9 (-1)) := by
  refine fb_start [some (.ref (b + 0)), some (.int (nI 24)), some (.int v), some (.int (nI 0)), some (.int (nI 0))] (by decide) (Nat.le_of_ble_eq_true rfl) rfl ?_
  intro x hl hD hb C E hx
  subst hl hD hb
  have C : fb_OK x cX0_ofRest "FallsBetween" "ofRest" := C
  obtain ⟨Tm, Y, Ym, Yi, lo, lom, loi, hX⟩ := h
  have hG := xw_F.rf M0
  obtain ⟨k0, k1, k2, k3, k4, k5, k6, k7, k8⟩ := id hk
  refine gx_iload_n (q := 1) C dX0_ofRest_0 rfl rfl rfl ?_
  refine gx_tableIn (tgt := 117) C dX0_ofRest_1 (by decide) (by decide) (rfl) (by decide) ?_
  refine gx_aload_n (q := 118) C dX0_ofRest_117 rfl rfl rfl ?_
  refine gx_iload_n (q := 119) C dX0_ofRest_118 rfl rfl rfl ?_
  exact gx_ct C E hx (sx_X0_334 (As := [_]) C hX.o rfl rfl dX0_ofRest_119) (xa_pitIt_b _ _ _ _ v hb ⟨_, _, _, _, _, _, _, hX⟩ hk) kw_X0_pitIt (by decide) (Nat.le_of_ble_eq_true rfl) (by omega) (by omega) dX0_ofRest_119 (fun _ h => h)
set_option maxHeartbeats 800000 in
theorem xa_ofRest_pit_f (l : Launch) (D : va_G) (b : Nat) (M0 : List va_E) {R T Ti P Rw : Nat → Nat} {hi : Bool} {lm rm : Nat} (q : Nat) (hq : q < 36) (hf : T 3 = 8) (h : xw_P D b M0 R T Ti P Rw hi lm rm) (hk : okT T) : fb_CT l D b yX0_ofRest cX0_ofRest 5 (some .int) 11 194 1 7 [.ref (b + 0), .int (nI 24), .int (nI q), .int (nI 0), .int (nI 0)] M0 (.threw (b + M0.length)) (ex_R b M0 9 (-6)) := by
  refine fb_start [some (.ref (b + 0)), some (.int (nI 24)), some (.int (nI q)), some (.int (nI 0)), some (.int (nI 0))] (by decide) (Nat.le_of_ble_eq_true rfl) rfl ?_
  intro x hl hD hb C E hx
  subst hl hD hb
  have C : fb_OK x cX0_ofRest "FallsBetween" "ofRest" := C
  obtain ⟨Tm, Y, Ym, Yi, lo, lom, loi, hX⟩ := h
  have hG := xw_F.rf M0
  obtain ⟨k0, k1, k2, k3, k4, k5, k6, k7, k8⟩ := id hk
  refine gx_iload_n (q := 1) C dX0_ofRest_0 rfl rfl rfl ?_
  refine gx_tableIn (tgt := 117) C dX0_ofRest_1 (by decide) (by decide) (rfl) (by decide) ?_
  refine gx_aload_n (q := 118) C dX0_ofRest_117 rfl rfl rfl ?_
  refine gx_iload_n (q := 119) C dX0_ofRest_118 rfl rfl rfl ?_
  exact gx_ct C E hx (sx_X0_334 (As := [_]) C hX.o rfl rfl dX0_ofRest_119) (xa_pitIt_f _ _ _ _ q hq hf ⟨_, _, _, _, _, _, _, hX⟩ hk) kw_X0_pitIt (by decide) (Nat.le_of_ble_eq_true rfl) (by omega) (by omega) dX0_ofRest_119 (fun _ h => h)
set_option maxHeartbeats 800000 in
theorem xa_ofRest_pit_o (l : Launch) (D : va_G) (b : Nat) (M0 : List va_E) {R T Ti P Rw : Nat → Nat} {hi : Bool} {lm rm : Nat} (q : Nat) (hq : q < 36) (hf : T 3 < 8) (h : xw_P D b M0 R T Ti P Rw hi lm rm) (hk : okT T) : fb_CT l D b yX0_ofRest cX0_ofRest 5 (some .int) 11 194 0 0 [.ref (b + 0), .int (nI 24), .int (nI q), .int (nI 0), .int (nI 0)] M0 (.returned (some (.int (nI (T 3 + 1))))) (fun M' => xw_P D b M' R (updN (updN T (4 + T 3) q) 3 (T 3 + 1)) Ti P Rw hi lm rm ∧ xw_F M0 M') := by
  refine fb_start [some (.ref (b + 0)), some (.int (nI 24)), some (.int (nI q)), some (.int (nI 0)), some (.int (nI 0))] (by decide) (Nat.le_of_ble_eq_true rfl) rfl ?_
  intro x hl hD hb C E hx
  subst hl hD hb
  have C : fb_OK x cX0_ofRest "FallsBetween" "ofRest" := C
  obtain ⟨Tm, Y, Ym, Yi, lo, lom, loi, hX⟩ := h
  have hG := xw_F.rf M0
  obtain ⟨k0, k1, k2, k3, k4, k5, k6, k7, k8⟩ := id hk
  refine gx_iload_n (q := 1) C dX0_ofRest_0 rfl rfl rfl ?_
  refine gx_tableIn (tgt := 117) C dX0_ofRest_1 (by decide) (by decide) (rfl) (by decide) ?_
  refine gx_aload_n (q := 118) C dX0_ofRest_117 rfl rfl rfl ?_
  refine gx_iload_n (q := 119) C dX0_ofRest_118 rfl rfl rfl ?_
  refine gx_cs (q := 122) C E (sx_X0_334 (As := [_]) C hX.o rfl rfl dX0_ofRest_119) (xa_pitIt_o _ _ _ _ q hq hf ⟨_, _, _, _, _, _, _, hX⟩ hk) kw_X0_pitIt (by decide) (Nat.le_of_ble_eq_true rfl) rfl rfl (by omega) (by omega) dX0_ofRest_119 rfl (fun M r119 => ?_)
  obtain ⟨⟨Tm, Y, Ym, Yi, lo, lom, loi, hX⟩, hG1⟩ := r119
  have hG := hG.tr hG1
  exact gx_iret C E dX0_ofRest_122 (⟨⟨_, _, _, _, _, _, _, hX⟩, hG⟩) (by omega) (by omega)
set_option maxHeartbeats 800000 in
theorem xa_ofRest_fitting_b (l : Launch) (D : va_G) (b : Nat) (M0 : List va_E) {R T Ti P Rw : Nat → Nat} {hi : Bool} {lm rm : Nat} (v : Int32) (hb : v < 0 ∨ nI 2 ≤ v) (h : xw_P D b M0 R T Ti P Rw hi lm rm) (hk : okT T) : fb_CT l D b yX0_ofRest cX0_ofRest 5 (some .int) 11 194 1 7 [.ref (b + 0), .int (nI 25), .int v, .int (nI 0), .int (nI 0)] M0 (.threw (b + M0.length)) (ex_R b M0 9 (-2)) := by
  refine fb_start [some (.ref (b + 0)), some (.int (nI 25)), some (.int v), some (.int (nI 0)), some (.int (nI 0))] (by decide) (Nat.le_of_ble_eq_true rfl) rfl ?_
  intro x hl hD hb C E hx
  subst hl hD hb
  have C : fb_OK x cX0_ofRest "FallsBetween" "ofRest" := C
  obtain ⟨Tm, Y, Ym, Yi, lo, lom, loi, hX⟩ := h
  have hG := xw_F.rf M0
  obtain ⟨k0, k1, k2, k3, k4, k5, k6, k7, k8⟩ := id hk
  refine gx_iload_n (q := 1) C dX0_ofRest_0 rfl rfl rfl ?_
  refine gx_tableIn (tgt := 123) C dX0_ofRest_1 (by decide) (by decide) (rfl) (by decide) ?_
  refine gx_aload_n (q := 124) C dX0_ofRest_123 rfl rfl rfl ?_
  refine gx_iload_n (q := 125) C dX0_ofRest_124 rfl rfl rfl ?_
  exact gx_ct C E hx (sx_X0_337 (As := [_]) C hX.o rfl rfl dX0_ofRest_125) (xa_fittingTold_b _ _ _ _ v hb ⟨_, _, _, _, _, _, _, hX⟩ hk) kw_X0_fittingTold (by decide) (Nat.le_of_ble_eq_true rfl) (by omega) (by omega) dX0_ofRest_125 (fun _ h => h)
set_option maxHeartbeats 800000 in
theorem xa_ofRest_fitting_0 (l : Launch) (D : va_G) (b : Nat) (M0 : List va_E) {R T Ti P Rw : Nat → Nat} {hi : Bool} {lm rm : Nat}  (h : xw_P D b M0 R T Ti P Rw hi lm rm) (hk : okT T) : fb_CT l D b yX0_ofRest cX0_ofRest 5 (some .int) 11 194 0 0 [.ref (b + 0), .int (nI 25), .int (nI 0), .int (nI 0), .int (nI 0)] M0 (.returned (some (.int (nI (fitV T 16))))) (fun M' => xw_P D b M' R T Ti P Rw hi lm rm ∧ xw_F M0 M') := by
  refine fb_start [some (.ref (b + 0)), some (.int (nI 25)), some (.int (nI 0)), some (.int (nI 0)), some (.int (nI 0))] (by decide) (Nat.le_of_ble_eq_true rfl) rfl ?_
  intro x hl hD hb C E hx
  subst hl hD hb
  have C : fb_OK x cX0_ofRest "FallsBetween" "ofRest" := C
  obtain ⟨Tm, Y, Ym, Yi, lo, lom, loi, hX⟩ := h
  have hG := xw_F.rf M0
  obtain ⟨k0, k1, k2, k3, k4, k5, k6, k7, k8⟩ := id hk
  refine gx_iload_n (q := 1) C dX0_ofRest_0 rfl rfl rfl ?_
  refine gx_tableIn (tgt := 123) C dX0_ofRest_1 (by decide) (by decide) (rfl) (by decide) ?_
  refine gx_aload_n (q := 124) C dX0_ofRest_123 rfl rfl rfl ?_
  refine gx_iload_n (q := 125) C dX0_ofRest_124 rfl rfl rfl ?_
  refine gx_cs (q := 128) C E (sx_X0_337 (As := [_]) C hX.o rfl rfl dX0_ofRest_125) (xa_fittingTold_0 _ _ _ _  ⟨_, _, _, _, _, _, _, hX⟩ hk) kw_X0_fittingTold (by decide) (Nat.le_of_ble_eq_true rfl) rfl rfl (by omega) (by omega) dX0_ofRest_125 rfl (fun M r125 => ?_)
  obtain ⟨⟨Tm, Y, Ym, Yi, lo, lom, loi, hX⟩, hG1⟩ := r125
  have hG := hG.tr hG1
  exact gx_iret C E dX0_ofRest_128 (⟨⟨_, _, _, _, _, _, _, hX⟩, hG⟩) (by omega) (by omega)
set_option maxHeartbeats 800000 in
theorem xa_ofRest_fitting_1 (l : Launch) (D : va_G) (b : Nat) (M0 : List va_E) {R T Ti P Rw : Nat → Nat} {hi : Bool} {lm rm : Nat}  (h : xw_P D b M0 R T Ti P Rw hi lm rm) (hk : okT T) : fb_CT l D b yX0_ofRest cX0_ofRest 5 (some .int) 11 194 0 0 [.ref (b + 0), .int (nI 25), .int (nI 1), .int (nI 0), .int (nI 0)] M0 (.returned (some (.int (nI (fitN T 16))))) (fun M' => xw_P D b M' R T Ti P Rw hi lm rm ∧ xw_F M0 M') := by
  refine fb_start [some (.ref (b + 0)), some (.int (nI 25)), some (.int (nI 1)), some (.int (nI 0)), some (.int (nI 0))] (by decide) (Nat.le_of_ble_eq_true rfl) rfl ?_
  intro x hl hD hb C E hx
  subst hl hD hb
  have C : fb_OK x cX0_ofRest "FallsBetween" "ofRest" := C
  obtain ⟨Tm, Y, Ym, Yi, lo, lom, loi, hX⟩ := h
  have hG := xw_F.rf M0
  obtain ⟨k0, k1, k2, k3, k4, k5, k6, k7, k8⟩ := id hk
  refine gx_iload_n (q := 1) C dX0_ofRest_0 rfl rfl rfl ?_
  refine gx_tableIn (tgt := 123) C dX0_ofRest_1 (by decide) (by decide) (rfl) (by decide) ?_
  refine gx_aload_n (q := 124) C dX0_ofRest_123 rfl rfl rfl ?_
  refine gx_iload_n (q := 125) C dX0_ofRest_124 rfl rfl rfl ?_
  refine gx_cs (q := 128) C E (sx_X0_337 (As := [_]) C hX.o rfl rfl dX0_ofRest_125) (xa_fittingTold_1 _ _ _ _  ⟨_, _, _, _, _, _, _, hX⟩ hk) kw_X0_fittingTold (by decide) (Nat.le_of_ble_eq_true rfl) rfl rfl (by omega) (by omega) dX0_ofRest_125 rfl (fun M r125 => ?_)
  obtain ⟨⟨Tm, Y, Ym, Yi, lo, lom, loi, hX⟩, hG1⟩ := r125
  have hG := hG.tr hG1
  exact gx_iret C E dX0_ofRest_128 (⟨⟨_, _, _, _, _, _, _, hX⟩, hG⟩) (by omega) (by omega)
set_option maxHeartbeats 800000 in
theorem xa_ofRest_row_b (l : Launch) (D : va_G) (b : Nat) (M0 : List va_E) {R T Ti P Rw : Nat → Nat} {hi : Bool} {lm rm : Nat} (v : Int32) (hb : v < 0) (h : xw_P D b M0 R T Ti P Rw hi lm rm) (hk : okT T) : fb_CT l D b yX0_ofRest cX0_ofRest 5 (some .int) 11 194 1 7 [.ref (b + 0), .int (nI 26), .int v, .int (nI 0), .int (nI 0)] M0 (.threw (b + M0.length)) (ex_R b M0 9 (-4)) := by
  refine fb_start [some (.ref (b + 0)), some (.int (nI 26)), some (.int v), some (.int (nI 0)), some (.int (nI 0))] (by decide) (Nat.le_of_ble_eq_true rfl) rfl ?_
  intro x hl hD hb C E hx
  subst hl hD hb
  have C : fb_OK x cX0_ofRest "FallsBetween" "ofRest" := C
  obtain ⟨Tm, Y, Ym, Yi, lo, lom, loi, hX⟩ := h
  have hG := xw_F.rf M0
  obtain ⟨k0, k1, k2, k3, k4, k5, k6, k7, k8⟩ := id hk
  refine gx_iload_n (q := 1) C dX0_ofRest_0 rfl rfl rfl ?_
  refine gx_tableOut (tgt := 129) C dX0_ofRest_1 (Or.inr (by decide)) (by decide) ?_
  refine gx_aload_n (q := 130) C dX0_ofRest_129 rfl rfl rfl ?_
  refine gx_iload_n (q := 131) C dX0_ofRest_130 rfl rfl rfl ?_
  refine gx_iload_n (q := 132) C dX0_ofRest_131 rfl rfl rfl ?_
  refine gx_iload_n (q := 133) C dX0_ofRest_132 rfl rfl rfl ?_
  refine gx_iload (q := 135) C dX0_ofRest_133 rfl rfl ?_
  exact gx_ct C E hx (sx_X0_340 (As := [_, _, _, _]) C hX.o rfl rfl dX0_ofRest_135) (xa_ofLast_row_b _ _ _ _ v hb _ _ ⟨_, _, _, _, _, _, _, hX⟩ hk) kw_X0_ofLast (by decide) (Nat.le_of_ble_eq_true rfl) (by omega) (by omega) dX0_ofRest_135 (fun _ h => h)
set_option maxHeartbeats 800000 in
theorem xa_ofRest_row_a (l : Launch) (D : va_G) (b : Nat) (M0 : List va_E) {R T Ti P Rw : Nat → Nat} {hi : Bool} {lm rm : Nat} (v : Int32) (hb : nI 100 ≤ v) (h : xw_P D b M0 R T Ti P Rw hi lm rm) (hk : okT T) : fb_CT l D b yX0_ofRest cX0_ofRest 5 (some .int) 11 194 1 7 [.ref (b + 0), .int (nI 26), .int v, .int (nI 0), .int (nI 0)] M0 (.threw (b + M0.length)) (ex_R b M0 9 (-6)) := by
  refine fb_start [some (.ref (b + 0)), some (.int (nI 26)), some (.int v), some (.int (nI 0)), some (.int (nI 0))] (by decide) (Nat.le_of_ble_eq_true rfl) rfl ?_
  intro x hl hD hb C E hx
  subst hl hD hb
  have C : fb_OK x cX0_ofRest "FallsBetween" "ofRest" := C
  obtain ⟨Tm, Y, Ym, Yi, lo, lom, loi, hX⟩ := h
  have hG := xw_F.rf M0
  obtain ⟨k0, k1, k2, k3, k4, k5, k6, k7, k8⟩ := id hk
  refine gx_iload_n (q := 1) C dX0_ofRest_0 rfl rfl rfl ?_
  refine gx_tableOut (tgt := 129) C dX0_ofRest_1 (Or.inr (by decide)) (by decide) ?_
  refine gx_aload_n (q := 130) C dX0_ofRest_129 rfl rfl rfl ?_
  refine gx_iload_n (q := 131) C dX0_ofRest_130 rfl rfl rfl ?_
  refine gx_iload_n (q := 132) C dX0_ofRest_131 rfl rfl rfl ?_
  refine gx_iload_n (q := 133) C dX0_ofRest_132 rfl rfl rfl ?_
  refine gx_iload (q := 135) C dX0_ofRest_133 rfl rfl ?_
  exact gx_ct C E hx (sx_X0_340 (As := [_, _, _, _]) C hX.o rfl rfl dX0_ofRest_135) (xa_ofLast_row_a _ _ _ _ v hb _ _ ⟨_, _, _, _, _, _, _, hX⟩ hk) kw_X0_ofLast (by decide) (Nat.le_of_ble_eq_true rfl) (by omega) (by omega) dX0_ofRest_135 (fun _ h => h)
set_option maxHeartbeats 800000 in
theorem xa_ofRest_row_f (l : Launch) (D : va_G) (b : Nat) (M0 : List va_E) {R T Ti P Rw : Nat → Nat} {hi : Bool} {lm rm : Nat} (j : Nat) (hj : j < 100) (hf : rm = 12) (h : xw_P D b M0 R T Ti P Rw hi lm rm) (hk : okT T) : fb_CT l D b yX0_ofRest cX0_ofRest 5 (some .int) 11 194 1 7 [.ref (b + 0), .int (nI 26), .int (nI j), .int (nI 0), .int (nI 0)] M0 (.threw (b + M0.length)) (ex_R b M0 9 (-6)) := by
  refine fb_start [some (.ref (b + 0)), some (.int (nI 26)), some (.int (nI j)), some (.int (nI 0)), some (.int (nI 0))] (by decide) (Nat.le_of_ble_eq_true rfl) rfl ?_
  intro x hl hD hb C E hx
  subst hl hD hb
  have C : fb_OK x cX0_ofRest "FallsBetween" "ofRest" := C
  obtain ⟨Tm, Y, Ym, Yi, lo, lom, loi, hX⟩ := h
  have hG := xw_F.rf M0
  obtain ⟨k0, k1, k2, k3, k4, k5, k6, k7, k8⟩ := id hk
  refine gx_iload_n (q := 1) C dX0_ofRest_0 rfl rfl rfl ?_
  refine gx_tableOut (tgt := 129) C dX0_ofRest_1 (Or.inr (by decide)) (by decide) ?_
  refine gx_aload_n (q := 130) C dX0_ofRest_129 rfl rfl rfl ?_
  refine gx_iload_n (q := 131) C dX0_ofRest_130 rfl rfl rfl ?_
  refine gx_iload_n (q := 132) C dX0_ofRest_131 rfl rfl rfl ?_
  refine gx_iload_n (q := 133) C dX0_ofRest_132 rfl rfl rfl ?_
  refine gx_iload (q := 135) C dX0_ofRest_133 rfl rfl ?_
  exact gx_ct C E hx (sx_X0_340 (As := [_, _, _, _]) C hX.o rfl rfl dX0_ofRest_135) (xa_ofLast_row_f _ _ _ _ j hj hf _ _ ⟨_, _, _, _, _, _, _, hX⟩ hk) kw_X0_ofLast (by decide) (Nat.le_of_ble_eq_true rfl) (by omega) (by omega) dX0_ofRest_135 (fun _ h => h)
set_option maxHeartbeats 800000 in
theorem xa_ofRest_row_o (l : Launch) (D : va_G) (b : Nat) (M0 : List va_E) {R T Ti P Rw : Nat → Nat} {hi : Bool} {lm rm : Nat} (j : Nat) (hj : j < 100) (hf : rm < 12) (h : xw_P D b M0 R T Ti P Rw hi lm rm) (hk : okT T) : fb_CT l D b yX0_ofRest cX0_ofRest 5 (some .int) 11 194 0 0 [.ref (b + 0), .int (nI 26), .int (nI j), .int (nI 0), .int (nI 0)] M0 (.returned (some (.int (nI (rm + 1))))) (fun M' => xw_P D b M' R T Ti P (updN Rw rm j) hi lm (rm + 1) ∧ xw_F M0 M') := by
  refine fb_start [some (.ref (b + 0)), some (.int (nI 26)), some (.int (nI j)), some (.int (nI 0)), some (.int (nI 0))] (by decide) (Nat.le_of_ble_eq_true rfl) rfl ?_
  intro x hl hD hb C E hx
  subst hl hD hb
  have C : fb_OK x cX0_ofRest "FallsBetween" "ofRest" := C
  obtain ⟨Tm, Y, Ym, Yi, lo, lom, loi, hX⟩ := h
  have hG := xw_F.rf M0
  obtain ⟨k0, k1, k2, k3, k4, k5, k6, k7, k8⟩ := id hk
  refine gx_iload_n (q := 1) C dX0_ofRest_0 rfl rfl rfl ?_
  refine gx_tableOut (tgt := 129) C dX0_ofRest_1 (Or.inr (by decide)) (by decide) ?_
  refine gx_aload_n (q := 130) C dX0_ofRest_129 rfl rfl rfl ?_
  refine gx_iload_n (q := 131) C dX0_ofRest_130 rfl rfl rfl ?_
  refine gx_iload_n (q := 132) C dX0_ofRest_131 rfl rfl rfl ?_
  refine gx_iload_n (q := 133) C dX0_ofRest_132 rfl rfl rfl ?_
  refine gx_iload (q := 135) C dX0_ofRest_133 rfl rfl ?_
  refine gx_cs (q := 138) C E (sx_X0_340 (As := [_, _, _, _]) C hX.o rfl rfl dX0_ofRest_135) (xa_ofLast_row_o _ _ _ _ j hj hf _ _ ⟨_, _, _, _, _, _, _, hX⟩ hk) kw_X0_ofLast (by decide) (Nat.le_of_ble_eq_true rfl) rfl rfl (by omega) (by omega) dX0_ofRest_135 rfl (fun M r135 => ?_)
  obtain ⟨⟨Tm, Y, Ym, Yi, lo, lom, loi, hX⟩, hG1⟩ := r135
  have hG := hG.tr hG1
  exact gx_iret C E dX0_ofRest_138 (⟨⟨_, _, _, _, _, _, _, hX⟩, hG⟩) (by omega) (by omega)
set_option maxHeartbeats 800000 in
theorem xa_ofRest_judge_b (l : Launch) (D : va_G) (b : Nat) (M0 : List va_E) {R T Ti P Rw : Nat → Nat} {hi : Bool} {lm rm : Nat} (v : Int32) (hb : v < 0 ∨ nI 4 ≤ v) (h : xw_P D b M0 R T Ti P Rw hi lm rm) (hk : okT T) : fb_CT l D b yX0_ofRest cX0_ofRest 5 (some .int) 11 194 1 7 [.ref (b + 0), .int (nI 27), .int v, .int (nI 0), .int (nI 0)] M0 (.threw (b + M0.length)) (ex_R b M0 9 (-1)) := by
  refine fb_start [some (.ref (b + 0)), some (.int (nI 27)), some (.int v), some (.int (nI 0)), some (.int (nI 0))] (by decide) (Nat.le_of_ble_eq_true rfl) rfl ?_
  intro x hl hD hb C E hx
  subst hl hD hb
  have C : fb_OK x cX0_ofRest "FallsBetween" "ofRest" := C
  obtain ⟨Tm, Y, Ym, Yi, lo, lom, loi, hX⟩ := h
  have hG := xw_F.rf M0
  obtain ⟨k0, k1, k2, k3, k4, k5, k6, k7, k8⟩ := id hk
  refine gx_iload_n (q := 1) C dX0_ofRest_0 rfl rfl rfl ?_
  refine gx_tableOut (tgt := 129) C dX0_ofRest_1 (Or.inr (by decide)) (by decide) ?_
  refine gx_aload_n (q := 130) C dX0_ofRest_129 rfl rfl rfl ?_
  refine gx_iload_n (q := 131) C dX0_ofRest_130 rfl rfl rfl ?_
  refine gx_iload_n (q := 132) C dX0_ofRest_131 rfl rfl rfl ?_
  refine gx_iload_n (q := 133) C dX0_ofRest_132 rfl rfl rfl ?_
  refine gx_iload (q := 135) C dX0_ofRest_133 rfl rfl ?_
  exact gx_ct C E hx (sx_X0_340 (As := [_, _, _, _]) C hX.o rfl rfl dX0_ofRest_135) (xa_ofLast_judge_b _ _ _ _ v hb _ _ ⟨_, _, _, _, _, _, _, hX⟩ hk) kw_X0_ofLast (by decide) (Nat.le_of_ble_eq_true rfl) (by omega) (by omega) dX0_ofRest_135 (fun _ h => h)
set_option maxHeartbeats 800000 in
theorem xa_ofRest_judge_o (l : Launch) (D : va_G) (b : Nat) (M0 : List va_E) {R T Ti P Rw : Nat → Nat} {hi : Bool} {lm rm : Nat} (g : Nat) (hg : g < 4) (hr : rm ≤ 12) (hRw : ∀ i, i < rm → Rw i < 100) (h : xw_P D b M0 R T Ti P Rw hi lm rm) (hk : okT T) : fb_CT l D b yX0_ofRest cX0_ofRest 5 (some .int) 11 194 0 0 [.ref (b + 0), .int (nI 27), .int (nI g), .int (nI 0), .int (nI 0)] M0 (.returned (some (.int (sq_ (judV T Rw g rm))))) (fun M' => xw_P D b M' R T Ti P Rw hi lm 0 ∧ xw_F M0 M') := by
  refine fb_start [some (.ref (b + 0)), some (.int (nI 27)), some (.int (nI g)), some (.int (nI 0)), some (.int (nI 0))] (by decide) (Nat.le_of_ble_eq_true rfl) rfl ?_
  intro x hl hD hb C E hx
  subst hl hD hb
  have C : fb_OK x cX0_ofRest "FallsBetween" "ofRest" := C
  obtain ⟨Tm, Y, Ym, Yi, lo, lom, loi, hX⟩ := h
  have hG := xw_F.rf M0
  obtain ⟨k0, k1, k2, k3, k4, k5, k6, k7, k8⟩ := id hk
  refine gx_iload_n (q := 1) C dX0_ofRest_0 rfl rfl rfl ?_
  refine gx_tableOut (tgt := 129) C dX0_ofRest_1 (Or.inr (by decide)) (by decide) ?_
  refine gx_aload_n (q := 130) C dX0_ofRest_129 rfl rfl rfl ?_
  refine gx_iload_n (q := 131) C dX0_ofRest_130 rfl rfl rfl ?_
  refine gx_iload_n (q := 132) C dX0_ofRest_131 rfl rfl rfl ?_
  refine gx_iload_n (q := 133) C dX0_ofRest_132 rfl rfl rfl ?_
  refine gx_iload (q := 135) C dX0_ofRest_133 rfl rfl ?_
  refine gx_cs (q := 138) C E (sx_X0_340 (As := [_, _, _, _]) C hX.o rfl rfl dX0_ofRest_135) (xa_ofLast_judge_o _ _ _ _ g hg hr hRw _ _ ⟨_, _, _, _, _, _, _, hX⟩ hk) kw_X0_ofLast (by decide) (Nat.le_of_ble_eq_true rfl) rfl rfl (by omega) (by omega) dX0_ofRest_135 rfl (fun M r135 => ?_)
  obtain ⟨⟨Tm, Y, Ym, Yi, lo, lom, loi, hX⟩, hG1⟩ := r135
  have hG := hG.tr hG1
  exact gx_iret C E dX0_ofRest_138 (⟨⟨_, _, _, _, _, _, _, hX⟩, hG⟩) (by omega) (by omega)
set_option maxHeartbeats 800000 in
theorem xa_ofRest_seeds_b1 (l : Launch) (D : va_G) (b : Nat) (M0 : List va_E) {R T Ti P Rw : Nat → Nat} {hi : Bool} {lm rm : Nat} (w u : Int32) (v : Int32) (hb : v < 0 ∨ nI 4 ≤ v) (h : xw_P D b M0 R T Ti P Rw hi lm rm) (hk : okT T) : fb_CT l D b yX0_ofRest cX0_ofRest 5 (some .int) 11 194 1 7 [.ref (b + 0), .int (nI 28), .int w, .int u, .int v] M0 (.threw (b + M0.length)) (ex_R b M0 9 (-1)) := by
  refine fb_start [some (.ref (b + 0)), some (.int (nI 28)), some (.int w), some (.int u), some (.int v)] (by decide) (Nat.le_of_ble_eq_true rfl) rfl ?_
  intro x hl hD hb C E hx
  subst hl hD hb
  have C : fb_OK x cX0_ofRest "FallsBetween" "ofRest" := C
  obtain ⟨Tm, Y, Ym, Yi, lo, lom, loi, hX⟩ := h
  have hG := xw_F.rf M0
  obtain ⟨k0, k1, k2, k3, k4, k5, k6, k7, k8⟩ := id hk
  refine gx_iload_n (q := 1) C dX0_ofRest_0 rfl rfl rfl ?_
  refine gx_tableOut (tgt := 129) C dX0_ofRest_1 (Or.inr (by decide)) (by decide) ?_
  refine gx_aload_n (q := 130) C dX0_ofRest_129 rfl rfl rfl ?_
  refine gx_iload_n (q := 131) C dX0_ofRest_130 rfl rfl rfl ?_
  refine gx_iload_n (q := 132) C dX0_ofRest_131 rfl rfl rfl ?_
  refine gx_iload_n (q := 133) C dX0_ofRest_132 rfl rfl rfl ?_
  refine gx_iload (q := 135) C dX0_ofRest_133 rfl rfl ?_
  exact gx_ct C E hx (sx_X0_340 (As := [_, _, _, _]) C hX.o rfl rfl dX0_ofRest_135) (xa_ofLast_seeds_b1 _ _ _ _ w u v hb  ⟨_, _, _, _, _, _, _, hX⟩ hk) kw_X0_ofLast (by decide) (Nat.le_of_ble_eq_true rfl) (by omega) (by omega) dX0_ofRest_135 (fun _ h => h)
set_option maxHeartbeats 800000 in
theorem xa_ofRest_seeds_b2 (l : Launch) (D : va_G) (b : Nat) (M0 : List va_E) {R T Ti P Rw : Nat → Nat} {hi : Bool} {lm rm : Nat} (v : Int32) (hb : v < nI 1) (u : Int32) (g : Nat) (hg : g < 4) (h : xw_P D b M0 R T Ti P Rw hi lm rm) (hk : okT T) : fb_CT l D b yX0_ofRest cX0_ofRest 5 (some .int) 11 194 1 7 [.ref (b + 0), .int (nI 28), .int v, .int u, .int (nI g)] M0 (.threw (b + M0.length)) (ex_R b M0 9 (-4)) := by
  refine fb_start [some (.ref (b + 0)), some (.int (nI 28)), some (.int v), some (.int u), some (.int (nI g))] (by decide) (Nat.le_of_ble_eq_true rfl) rfl ?_
  intro x hl hD hb C E hx
  subst hl hD hb
  have C : fb_OK x cX0_ofRest "FallsBetween" "ofRest" := C
  obtain ⟨Tm, Y, Ym, Yi, lo, lom, loi, hX⟩ := h
  have hG := xw_F.rf M0
  obtain ⟨k0, k1, k2, k3, k4, k5, k6, k7, k8⟩ := id hk
  refine gx_iload_n (q := 1) C dX0_ofRest_0 rfl rfl rfl ?_
  refine gx_tableOut (tgt := 129) C dX0_ofRest_1 (Or.inr (by decide)) (by decide) ?_
  refine gx_aload_n (q := 130) C dX0_ofRest_129 rfl rfl rfl ?_
  refine gx_iload_n (q := 131) C dX0_ofRest_130 rfl rfl rfl ?_
  refine gx_iload_n (q := 132) C dX0_ofRest_131 rfl rfl rfl ?_
  refine gx_iload_n (q := 133) C dX0_ofRest_132 rfl rfl rfl ?_
  refine gx_iload (q := 135) C dX0_ofRest_133 rfl rfl ?_
  exact gx_ct C E hx (sx_X0_340 (As := [_, _, _, _]) C hX.o rfl rfl dX0_ofRest_135) (xa_ofLast_seeds_b2 _ _ _ _ v hb u g hg  ⟨_, _, _, _, _, _, _, hX⟩ hk) kw_X0_ofLast (by decide) (Nat.le_of_ble_eq_true rfl) (by omega) (by omega) dX0_ofRest_135 (fun _ h => h)
set_option maxHeartbeats 800000 in
theorem xa_ofRest_seeds_b3 (l : Launch) (D : va_G) (b : Nat) (M0 : List va_E) {R T Ti P Rw : Nat → Nat} {hi : Bool} {lm rm : Nat} (v : Int32) (hb : nI 31 ≤ v) (u : Int32) (g : Nat) (hg : g < 4) (h : xw_P D b M0 R T Ti P Rw hi lm rm) (hk : okT T) : fb_CT l D b yX0_ofRest cX0_ofRest 5 (some .int) 11 194 1 7 [.ref (b + 0), .int (nI 28), .int v, .int u, .int (nI g)] M0 (.threw (b + M0.length)) (ex_R b M0 9 (-6)) := by
  refine fb_start [some (.ref (b + 0)), some (.int (nI 28)), some (.int v), some (.int u), some (.int (nI g))] (by decide) (Nat.le_of_ble_eq_true rfl) rfl ?_
  intro x hl hD hb C E hx
  subst hl hD hb
  have C : fb_OK x cX0_ofRest "FallsBetween" "ofRest" := C
  obtain ⟨Tm, Y, Ym, Yi, lo, lom, loi, hX⟩ := h
  have hG := xw_F.rf M0
  obtain ⟨k0, k1, k2, k3, k4, k5, k6, k7, k8⟩ := id hk
  refine gx_iload_n (q := 1) C dX0_ofRest_0 rfl rfl rfl ?_
  refine gx_tableOut (tgt := 129) C dX0_ofRest_1 (Or.inr (by decide)) (by decide) ?_
  refine gx_aload_n (q := 130) C dX0_ofRest_129 rfl rfl rfl ?_
  refine gx_iload_n (q := 131) C dX0_ofRest_130 rfl rfl rfl ?_
  refine gx_iload_n (q := 132) C dX0_ofRest_131 rfl rfl rfl ?_
  refine gx_iload_n (q := 133) C dX0_ofRest_132 rfl rfl rfl ?_
  refine gx_iload (q := 135) C dX0_ofRest_133 rfl rfl ?_
  exact gx_ct C E hx (sx_X0_340 (As := [_, _, _, _]) C hX.o rfl rfl dX0_ofRest_135) (xa_ofLast_seeds_b3 _ _ _ _ v hb u g hg  ⟨_, _, _, _, _, _, _, hX⟩ hk) kw_X0_ofLast (by decide) (Nat.le_of_ble_eq_true rfl) (by omega) (by omega) dX0_ofRest_135 (fun _ h => h)
set_option maxHeartbeats 800000 in
theorem xa_ofRest_seeds_o (l : Launch) (D : va_G) (b : Nat) (M0 : List va_E) {R T Ti P Rw : Nat → Nat} {hi : Bool} {lm rm : Nat} (g : Nat) (hg : g < 4) (n : Nat) (h1 : 1 ≤ n) (h2 : n ≤ 30) (z : Int32) (h : xw_P D b M0 R T Ti P Rw hi lm rm) (hk : okT T) : fb_CT l D b yX0_ofRest cX0_ofRest 5 (some .int) 11 194 0 0 [.ref (b + 0), .int (nI 28), .int (nI n), .int z, .int (nI g)] M0 (.returned (some (.int (nI (seeV T g z n))))) (fun M' => xw_P D b M' R T Ti P Rw hi lm rm ∧ xw_F M0 M') := by
  refine fb_start [some (.ref (b + 0)), some (.int (nI 28)), some (.int (nI n)), some (.int z), some (.int (nI g))] (by decide) (Nat.le_of_ble_eq_true rfl) rfl ?_
  intro x hl hD hb C E hx
  subst hl hD hb
  have C : fb_OK x cX0_ofRest "FallsBetween" "ofRest" := C
  obtain ⟨Tm, Y, Ym, Yi, lo, lom, loi, hX⟩ := h
  have hG := xw_F.rf M0
  obtain ⟨k0, k1, k2, k3, k4, k5, k6, k7, k8⟩ := id hk
  refine gx_iload_n (q := 1) C dX0_ofRest_0 rfl rfl rfl ?_
  refine gx_tableOut (tgt := 129) C dX0_ofRest_1 (Or.inr (by decide)) (by decide) ?_
  refine gx_aload_n (q := 130) C dX0_ofRest_129 rfl rfl rfl ?_
  refine gx_iload_n (q := 131) C dX0_ofRest_130 rfl rfl rfl ?_
  refine gx_iload_n (q := 132) C dX0_ofRest_131 rfl rfl rfl ?_
  refine gx_iload_n (q := 133) C dX0_ofRest_132 rfl rfl rfl ?_
  refine gx_iload (q := 135) C dX0_ofRest_133 rfl rfl ?_
  refine gx_cs (q := 138) C E (sx_X0_340 (As := [_, _, _, _]) C hX.o rfl rfl dX0_ofRest_135) (xa_ofLast_seeds_o _ _ _ _ g hg n h1 h2 z  ⟨_, _, _, _, _, _, _, hX⟩ hk) kw_X0_ofLast (by decide) (Nat.le_of_ble_eq_true rfl) rfl rfl (by omega) (by omega) dX0_ofRest_135 rfl (fun M r135 => ?_)
  obtain ⟨⟨Tm, Y, Ym, Yi, lo, lom, loi, hX⟩, hG1⟩ := r135
  have hG := hG.tr hG1
  exact gx_iret C E dX0_ofRest_138 (⟨⟨_, _, _, _, _, _, _, hX⟩, hG⟩) (by omega) (by omega)
set_option maxHeartbeats 800000 in
theorem xa_ofRest_image (l : Launch) (D : va_G) (b : Nat) (M0 : List va_E) {R T Ti P Rw : Nat → Nat} {hi : Bool} {lm rm : Nat}  (h : xw_P D b M0 R T Ti P Rw hi lm rm) (hk : okT T) : fb_CT l D b yX0_ofRest cX0_ofRest 5 (some .int) 11 194 0 0 [.ref (b + 0), .int (nI 29), .int (nI 0), .int (nI 0), .int (nI 0)] M0 (.returned (some (.int (nI (T 0))))) (fun M' => xw_P D b M' R T T P Rw true lm rm ∧ xw_F M0 M') := by
  refine fb_start [some (.ref (b + 0)), some (.int (nI 29)), some (.int (nI 0)), some (.int (nI 0)), some (.int (nI 0))] (by decide) (Nat.le_of_ble_eq_true rfl) rfl ?_
  intro x hl hD hb C E hx
  subst hl hD hb
  have C : fb_OK x cX0_ofRest "FallsBetween" "ofRest" := C
  obtain ⟨Tm, Y, Ym, Yi, lo, lom, loi, hX⟩ := h
  have hG := xw_F.rf M0
  obtain ⟨k0, k1, k2, k3, k4, k5, k6, k7, k8⟩ := id hk
  refine gx_iload_n (q := 1) C dX0_ofRest_0 rfl rfl rfl ?_
  refine gx_tableOut (tgt := 129) C dX0_ofRest_1 (Or.inr (by decide)) (by decide) ?_
  refine gx_aload_n (q := 130) C dX0_ofRest_129 rfl rfl rfl ?_
  refine gx_iload_n (q := 131) C dX0_ofRest_130 rfl rfl rfl ?_
  refine gx_iload_n (q := 132) C dX0_ofRest_131 rfl rfl rfl ?_
  refine gx_iload_n (q := 133) C dX0_ofRest_132 rfl rfl rfl ?_
  refine gx_iload (q := 135) C dX0_ofRest_133 rfl rfl ?_
  refine gx_cs (q := 138) C E (sx_X0_340 (As := [_, _, _, _]) C hX.o rfl rfl dX0_ofRest_135) (xa_ofLast_image _ _ _ _  _ _ _ ⟨_, _, _, _, _, _, _, hX⟩ hk) kw_X0_ofLast (by decide) (Nat.le_of_ble_eq_true rfl) rfl rfl (by omega) (by omega) dX0_ofRest_135 rfl (fun M r135 => ?_)
  obtain ⟨⟨Tm, Y, Ym, Yi, lo, lom, loi, hX⟩, hG1⟩ := r135
  have hG := hG.tr hG1
  exact gx_iret C E dX0_ofRest_138 (⟨⟨_, _, _, _, _, _, _, hX⟩, hG⟩) (by omega) (by omega)
set_option maxHeartbeats 800000 in
theorem xa_ofRest_on_n (l : Launch) (D : va_G) (b : Nat) (M0 : List va_E) {R T Ti P Rw : Nat → Nat} {hi : Bool} {lm rm : Nat} (hkp : hi = false) (h : xw_P D b M0 R T Ti P Rw hi lm rm) (hk : okT T) : fb_CT l D b yX0_ofRest cX0_ofRest 5 (some .int) 11 194 1 7 [.ref (b + 0), .int (nI 30), .int (nI 0), .int (nI 0), .int (nI 0)] M0 (.threw (b + M0.length)) (ex_R b M0 9 (-3)) := by
  refine fb_start [some (.ref (b + 0)), some (.int (nI 30)), some (.int (nI 0)), some (.int (nI 0)), some (.int (nI 0))] (by decide) (Nat.le_of_ble_eq_true rfl) rfl ?_
  intro x hl hD hb C E hx
  subst hl hD hb
  have C : fb_OK x cX0_ofRest "FallsBetween" "ofRest" := C
  obtain ⟨Tm, Y, Ym, Yi, lo, lom, loi, hX⟩ := h
  have hG := xw_F.rf M0
  obtain ⟨k0, k1, k2, k3, k4, k5, k6, k7, k8⟩ := id hk
  refine gx_iload_n (q := 1) C dX0_ofRest_0 rfl rfl rfl ?_
  refine gx_tableOut (tgt := 129) C dX0_ofRest_1 (Or.inr (by decide)) (by decide) ?_
  refine gx_aload_n (q := 130) C dX0_ofRest_129 rfl rfl rfl ?_
  refine gx_iload_n (q := 131) C dX0_ofRest_130 rfl rfl rfl ?_
  refine gx_iload_n (q := 132) C dX0_ofRest_131 rfl rfl rfl ?_
  refine gx_iload_n (q := 133) C dX0_ofRest_132 rfl rfl rfl ?_
  refine gx_iload (q := 135) C dX0_ofRest_133 rfl rfl ?_
  exact gx_ct C E hx (sx_X0_340 (As := [_, _, _, _]) C hX.o rfl rfl dX0_ofRest_135) (xa_ofLast_on_n _ _ _ _ hkp _ _ _ ⟨_, _, _, _, _, _, _, hX⟩ hk) kw_X0_ofLast (by decide) (Nat.le_of_ble_eq_true rfl) (by omega) (by omega) dX0_ofRest_135 (fun _ h => h)
set_option maxHeartbeats 800000 in
theorem xa_ofRest_on_y (l : Launch) (D : va_G) (b : Nat) (M0 : List va_E) {R T Ti P Rw : Nat → Nat} {hi : Bool} {lm rm : Nat} (hkp : hi = true) (hki : okT Ti) (h : xw_P D b M0 R T Ti P Rw hi lm rm) (hk : okT T) : fb_CT l D b yX0_ofRest cX0_ofRest 5 (some .int) 11 194 0 0 [.ref (b + 0), .int (nI 30), .int (nI 0), .int (nI 0), .int (nI 0)] M0 (.returned (some (.int (nI (Ti 0))))) (fun M' => xw_P D b M' R Ti Ti P Rw hi lm rm ∧ xw_F M0 M') := by
  refine fb_start [some (.ref (b + 0)), some (.int (nI 30)), some (.int (nI 0)), some (.int (nI 0)), some (.int (nI 0))] (by decide) (Nat.le_of_ble_eq_true rfl) rfl ?_
  intro x hl hD hb C E hx
  subst hl hD hb
  have C : fb_OK x cX0_ofRest "FallsBetween" "ofRest" := C
  obtain ⟨Tm, Y, Ym, Yi, lo, lom, loi, hX⟩ := h
  have hG := xw_F.rf M0
  obtain ⟨k0, k1, k2, k3, k4, k5, k6, k7, k8⟩ := id hk
  refine gx_iload_n (q := 1) C dX0_ofRest_0 rfl rfl rfl ?_
  refine gx_tableOut (tgt := 129) C dX0_ofRest_1 (Or.inr (by decide)) (by decide) ?_
  refine gx_aload_n (q := 130) C dX0_ofRest_129 rfl rfl rfl ?_
  refine gx_iload_n (q := 131) C dX0_ofRest_130 rfl rfl rfl ?_
  refine gx_iload_n (q := 132) C dX0_ofRest_131 rfl rfl rfl ?_
  refine gx_iload_n (q := 133) C dX0_ofRest_132 rfl rfl rfl ?_
  refine gx_iload (q := 135) C dX0_ofRest_133 rfl rfl ?_
  refine gx_cs (q := 138) C E (sx_X0_340 (As := [_, _, _, _]) C hX.o rfl rfl dX0_ofRest_135) (xa_ofLast_on_y _ _ _ _ hkp hki _ _ _ ⟨_, _, _, _, _, _, _, hX⟩ hk) kw_X0_ofLast (by decide) (Nat.le_of_ble_eq_true rfl) rfl rfl (by omega) (by omega) dX0_ofRest_135 rfl (fun M r135 => ?_)
  obtain ⟨⟨Tm, Y, Ym, Yi, lo, lom, loi, hX⟩, hG1⟩ := r135
  have hG := hG.tr hG1
  exact gx_iret C E dX0_ofRest_138 (⟨⟨_, _, _, _, _, _, _, hX⟩, hG⟩) (by omega) (by omega)
