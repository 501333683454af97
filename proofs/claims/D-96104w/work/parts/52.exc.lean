/-! what refuses: its constructors, its number -/
set_option maxRecDepth 100000
set_option maxHeartbeats 4000000 in
theorem ex_super_9 (l : Launch) (D : va_G) (b : Nat) (M : List va_E) (j : Nat) (v : Value) (hM : M[j]? = some (ob 9 [.null, .null, .null, .null, .null, .int 0, v])) : fb_CT l D b yX8_init cX8_init 1 none 5 67 0 0 [.ref (b + j)] M (.returned none) (fun M' => ∃ u w : Value, M' = M.set j (ob 9 [.ref (b + j), u, w, .null, .null, .int 0, v])) := by
  refine fb_start [some (.ref (b + j))] (by decide) (Nat.le_of_ble_eq_true rfl) rfl ?_
  intro x hl hD hb C E hx
  subst hl hD hb
  have C : fb_OK x cX8_init "FallsBetween$Refusal" "<init>" := C
  refine gx_aload_n (q := 1) C dX8_init_0 rfl rfl rfl ?_
  refine gx_rtInit_9 (q := 4) C E hM (by decide) (Nat.le_of_ble_eq_true rfl) dX8_init_1 rfl (fun u w => ?_)
  exact gx_vret C E dX8_init_4 (⟨u, w, rfl⟩) (by omega) (by omega)
set_option maxHeartbeats 4000000 in
theorem ex_init_9 (l : Launch) (D : va_G) (b : Nat) (M : List va_E) (j : Nat) (z : Int32) (hM : M[j]? = some (ob 9 [.null, .null, .null, .null, .null, .int 0, (.int 0)])) : fb_CT l D b yX9_init cX9_init 2 none 6 87 0 0 [.ref (b + j), .int z] M (.returned none) (fun M' => ∃ u w : Value, M' = M.set j (ob 9 [.ref (b + j), u, w, .null, .null, .int 0, .int z])) := by
  refine fb_start [some (.ref (b + j)), some (.int z)] (by decide) (Nat.le_of_ble_eq_true rfl) rfl ?_
  intro x hl hD hb C E hx
  subst hl hD hb
  have C : fb_OK x cX9_init "FallsBetween$Refused" "<init>" := C
  refine gx_aload_n (q := 1) C dX9_init_0 rfl rfl rfl ?_
  refine gx_cv (q := 4) C E (sx_X9_1 (As := []) C rfl rfl dX9_init_1) (ex_super_9 _ _ _ _ j (.int 0) hM) kw_X8_init (by decide) (Nat.le_of_ble_eq_true rfl) rfl rfl (by omega) (by omega) dX9_init_1 rfl (fun M1 r1 => ?_)
  obtain ⟨u, w, rfl⟩ := r1
  have hl := (List.getElem?_eq_some_iff.mp hM).1
  have hM := List.getElem?_set_self (a := ob 9 [.ref (cx_b x + j), u, w, .null, .null, .int 0, .int 0]) hl
  refine gx_aload_n (q := 5) C dX9_init_4 rfl rfl rfl ?_
  refine gx_iload_n (q := 6) C dX9_init_5 rfl rfl rfl ?_
  refine fp_X9_7 (q := 9) C hM rfl dX9_init_6 rfl ?_
  exact gx_vret C E dX9_init_9 (⟨u, w, by rw [List.set_set]; rfl⟩) (by omega) (by omega)
set_option maxHeartbeats 4000000 in
theorem ex_number_9 (l : Launch) (D : va_G) (b : Nat) (M : List va_E) (j : Nat) (u w : Value) (z : Int32) (hM : M[j]? = some (ob 9 [.ref (b + j), u, w, .null, .null, .int 0, .int z])) : fb_CT l D b yX9_number cX9_number 1 (some .int) 0 0 0 0 [.ref (b + j)] M (.returned (some (.int z))) (fun M' => M' = M) := by
  refine fb_start [some (.ref (b + j))] (by decide) (Nat.le_of_ble_eq_true rfl) rfl ?_
  intro x hl hD hb C E hx
  subst hl hD hb
  have C : fb_OK x cX9_number "FallsBetween$Refused" "number" := C
  refine gx_aload_n (q := 1) C dX9_number_0 rfl rfl rfl ?_
  refine fg_X9_7 (q := 4) C hM rfl dX9_number_1 rfl ?_
  exact gx_iret C E dX9_number_4 (rfl) (by omega) (by omega)
set_option maxHeartbeats 4000000 in
theorem ex_super_11 (l : Launch) (D : va_G) (b : Nat) (M : List va_E) (j : Nat) (v : Value) (hM : M[j]? = some (ob 11 [.null, .null, .null, .null, .null, .int 0, v])) : fb_CT l D b yX8_init cX8_init 1 none 5 67 0 0 [.ref (b + j)] M (.returned none) (fun M' => ∃ u w : Value, M' = M.set j (ob 11 [.ref (b + j), u, w, .null, .null, .int 0, v])) := by
  refine fb_start [some (.ref (b + j))] (by decide) (Nat.le_of_ble_eq_true rfl) rfl ?_
  intro x hl hD hb C E hx
  subst hl hD hb
  have C : fb_OK x cX8_init "FallsBetween$Refusal" "<init>" := C
  refine gx_aload_n (q := 1) C dX8_init_0 rfl rfl rfl ?_
  refine gx_rtInit_11 (q := 4) C E hM (by decide) (Nat.le_of_ble_eq_true rfl) dX8_init_1 rfl (fun u w => ?_)
  exact gx_vret C E dX8_init_4 (⟨u, w, rfl⟩) (by omega) (by omega)
set_option maxHeartbeats 4000000 in
theorem ex_init_11 (l : Launch) (D : va_G) (b : Nat) (M : List va_E) (j : Nat) (z : Int32) (hM : M[j]? = some (ob 11 [.null, .null, .null, .null, .null, .int 0, (.int 0)])) : fb_CT l D b yX11_init cX11_init 2 none 6 87 0 0 [.ref (b + j), .int z] M (.returned none) (fun M' => ∃ u w : Value, M' = M.set j (ob 11 [.ref (b + j), u, w, .null, .null, .int 0, .int z])) := by
  refine fb_start [some (.ref (b + j)), some (.int z)] (by decide) (Nat.le_of_ble_eq_true rfl) rfl ?_
  intro x hl hD hb C E hx
  subst hl hD hb
  have C : fb_OK x cX11_init "FallsBetween$Fault" "<init>" := C
  refine gx_aload_n (q := 1) C dX11_init_0 rfl rfl rfl ?_
  refine gx_cv (q := 4) C E (sx_X11_1 (As := []) C rfl rfl dX11_init_1) (ex_super_11 _ _ _ _ j (.int 0) hM) kw_X8_init (by decide) (Nat.le_of_ble_eq_true rfl) rfl rfl (by omega) (by omega) dX11_init_1 rfl (fun M1 r1 => ?_)
  obtain ⟨u, w, rfl⟩ := r1
  have hl := (List.getElem?_eq_some_iff.mp hM).1
  have hM := List.getElem?_set_self (a := ob 11 [.ref (cx_b x + j), u, w, .null, .null, .int 0, .int 0]) hl
  refine gx_aload_n (q := 5) C dX11_init_4 rfl rfl rfl ?_
  refine gx_iload_n (q := 6) C dX11_init_5 rfl rfl rfl ?_
  refine fp_X11_7 (q := 9) C hM rfl dX11_init_6 rfl ?_
  exact gx_vret C E dX11_init_9 (⟨u, w, by rw [List.set_set]; rfl⟩) (by omega) (by omega)
set_option maxHeartbeats 4000000 in
theorem ex_number_11 (l : Launch) (D : va_G) (b : Nat) (M : List va_E) (j : Nat) (u w : Value) (z : Int32) (hM : M[j]? = some (ob 11 [.ref (b + j), u, w, .null, .null, .int 0, .int z])) : fb_CT l D b yX11_number cX11_number 1 (some .int) 0 0 0 0 [.ref (b + j)] M (.returned (some (.int z))) (fun M' => M' = M) := by
  refine fb_start [some (.ref (b + j))] (by decide) (Nat.le_of_ble_eq_true rfl) rfl ?_
  intro x hl hD hb C E hx
  subst hl hD hb
  have C : fb_OK x cX11_number "FallsBetween$Fault" "number" := C
  refine gx_aload_n (q := 1) C dX11_number_0 rfl rfl rfl ?_
  refine fg_X11_7 (q := 4) C hM rfl dX11_number_1 rfl ?_
  exact gx_iret C E dX11_number_4 (rfl) (by omega) (by omega)
set_option maxHeartbeats 4000000 in
theorem fx_must_t (l : Launch) (D : va_G) (b : Nat) (M : List va_E) (z : Int32) : fb_CT l D b yX0_must cX0_must 2 none 7 108 0 0 [.int (bI true), .int z] M (.returned none) (fun M' => M' = M) := by
  refine fb_start [some (.int (bI true)), some (.int z)] (by decide) (Nat.le_of_ble_eq_true rfl) rfl ?_
  intro x hl hD hb C E hx
  subst hl hD hb
  have C : fb_OK x cX0_must "FallsBetween" "must" := C
  refine gx_iload_n (q := 1) C dX0_must_0 rfl rfl rfl ?_
  refine gb_if_ne (q := 4) (tgt := 13) C dX0_must_1 (by decide) rfl (fun c1 => ?_) (fun c1 => by exfalso; cases c1)
  exact gx_vret C E dX0_must_13 (rfl) (by omega) (by omega)
/-- what a refusal leaves: one cell more, that tells the number -/
def ex_R (b : Nat) (M : List va_E) (ci : Nat) (z : Int32) (M' : List va_E) : Prop := ∃ u w : Value, M' = M ++ [ob ci [.ref (b + M.length), u, w, .null, .null, .int 0, .int z]]
set_option maxHeartbeats 4000000 in
theorem fx_must_f (l : Launch) (D : va_G) (b : Nat) (M : List va_E) (z : Int32) : fb_CT l D b yX0_must cX0_must 2 none 7 108 1 7 [.int (bI false), .int z] M (.threw (b + M.length)) (ex_R b M 9 z) := by
  refine fb_start [some (.int (bI false)), some (.int z)] (by decide) (Nat.le_of_ble_eq_true rfl) rfl ?_
  intro x hl hD hb C E hx
  subst hl hD hb
  have C : fb_OK x cX0_must "FallsBetween" "must" := C
  refine gx_iload_n (q := 1) C dX0_must_0 rfl rfl rfl ?_
  refine gb_if_ne (q := 4) (tgt := 13) C dX0_must_1 (by decide) rfl (fun c1 => by exfalso; cases c1) (fun c1 => ?_)
  refine gx_new (q := 7) (ci := 9) (fs := [.null, .null, .null, .null, .null, .int 0, .int 0]) C E rfl in_X9 tyX9 tyX9_ok q267 q268 q80 (by decide) (by omega) (by omega) dX0_must_4 rfl ?_
  have hM : (M ++ [ob 9 [.null, .null, .null, .null, .null, .int 0, .int 0]])[M.length]? = some (ob 9 [.null, .null, .null, .null, .null, .int 0, .int 0]) := by rw [List.getElem?_append_right (Nat.le_refl _), Nat.sub_self]; rfl
  refine gx_dup (q := 8) C dX0_must_7 rfl rfl ?_
  refine gx_iload_n (q := 9) C dX0_must_8 rfl rfl rfl ?_
  refine gx_cv (q := 12) C E (sx_X0_3 (As := [_]) C rfl rfl dX0_must_9) (ex_init_9 _ _ _ _ M.length z hM) kw_X9_init (by decide) (Nat.le_of_ble_eq_true rfl) rfl rfl (by omega) (by omega) dX0_must_9 rfl (fun M1 r1 => ?_)
  obtain ⟨u, w, rfl⟩ := r1
  exact gx_athrow C E hx dX0_must_12 (⟨u, w, by rw [List.set_append_right _ _ (Nat.le_refl _), Nat.sub_self]; rfl⟩) (by omega) (by omega)
