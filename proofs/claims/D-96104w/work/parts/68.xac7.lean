/-! the component's acts: a tree more -/
set_option maxRecDepth 100000
set_option maxHeartbeats 800000 in
theorem ti_X14_14 (l : Launch) (D : va_G) (b : Nat) (M : List va_E) (j q f le : Nat) (hM : M[j]? = some (ob 14 [.int 0, .int 0, .int 0])) : fb_CT l D b yX14_init cX14_init 4 none 1 14 0 0 [.ref (b + j), .int (nI q), .int (nI f), .int (nI le)] M (.returned none) (fun M' => M' = M.set j (ob 14 [.int (nI q), .int (nI f), .int (nI le)])) := by
  refine fb_start [some (.ref (b + j)), some (.int (nI q)), some (.int (nI f)), some (.int (nI le))] (by decide) (Nat.le_of_ble_eq_true rfl) rfl ?_
  intro x hl hD hb C E hx
  subst hl hD hb
  have C : fb_OK x cX14_init "FallsBetween$Tree" "<init>" := C
  refine gx_aload_n (q := 1) C dX14_init_0 rfl rfl rfl ?_
  refine gx_objInit (q := 4) C E q429 q104 q105 (by decide) (Nat.le_of_ble_eq_true rfl) dX14_init_1 rfl ?_
  refine gx_aload_n (q := 5) C dX14_init_4 rfl rfl rfl ?_
  refine gx_iload_n (q := 6) C dX14_init_5 rfl rfl rfl ?_
  refine fp_X14_7_X14 (q := 9) C hM rfl dX14_init_6 rfl ?_
  have hl := (List.getElem?_eq_some_iff.mp hM).1
  have hM := List.getElem?_set_self (a := ob 14 [.int (nI q), .int 0, .int 0]) hl
  refine gx_aload_n (q := 10) C dX14_init_9 rfl rfl rfl ?_
  refine gx_iload_n (q := 11) C dX14_init_10 rfl rfl rfl ?_
  refine fp_X14_13_X14 (q := 14) C hM rfl dX14_init_11 rfl ?_
  rw [List.set_set]
  have hM := List.getElem?_set_self (a := ob 14 [.int (nI q), .int (nI f), .int 0]) hl
  refine gx_aload_n (q := 15) C dX14_init_14 rfl rfl rfl ?_
  refine gx_iload_n (q := 16) C dX14_init_15 rfl rfl rfl ?_
  refine fp_X14_16_X14 (q := 19) C hM rfl dX14_init_16 rfl ?_
  rw [List.set_set]
  exact gx_vret C E dX14_init_19 (rfl) (by omega) (by omega)
set_option maxHeartbeats 800000 in
theorem ti_X14_15 (l : Launch) (D : va_G) (b : Nat) (M : List va_E) (j q f le : Nat) (hM : M[j]? = some (ob 15 [.int 0, .int 0, .int 0])) : fb_CT l D b yX14_init cX14_init 4 none 1 14 0 0 [.ref (b + j), .int (nI q), .int (nI f), .int (nI le)] M (.returned none) (fun M' => M' = M.set j (ob 15 [.int (nI q), .int (nI f), .int (nI le)])) := by
  refine fb_start [some (.ref (b + j)), some (.int (nI q)), some (.int (nI f)), some (.int (nI le))] (by decide) (Nat.le_of_ble_eq_true rfl) rfl ?_
  intro x hl hD hb C E hx
  subst hl hD hb
  have C : fb_OK x cX14_init "FallsBetween$Tree" "<init>" := C
  refine gx_aload_n (q := 1) C dX14_init_0 rfl rfl rfl ?_
  refine gx_objInit (q := 4) C E q429 q104 q105 (by decide) (Nat.le_of_ble_eq_true rfl) dX14_init_1 rfl ?_
  refine gx_aload_n (q := 5) C dX14_init_4 rfl rfl rfl ?_
  refine gx_iload_n (q := 6) C dX14_init_5 rfl rfl rfl ?_
  refine fp_X14_7_X15 (q := 9) C hM rfl dX14_init_6 rfl ?_
  have hl := (List.getElem?_eq_some_iff.mp hM).1
  have hM := List.getElem?_set_self (a := ob 15 [.int (nI q), .int 0, .int 0]) hl
  refine gx_aload_n (q := 10) C dX14_init_9 rfl rfl rfl ?_
  refine gx_iload_n (q := 11) C dX14_init_10 rfl rfl rfl ?_
  refine fp_X14_13_X15 (q := 14) C hM rfl dX14_init_11 rfl ?_
  rw [List.set_set]
  have hM := List.getElem?_set_self (a := ob 15 [.int (nI q), .int (nI f), .int 0]) hl
  refine gx_aload_n (q := 15) C dX14_init_14 rfl rfl rfl ?_
  refine gx_iload_n (q := 16) C dX14_init_15 rfl rfl rfl ?_
  refine fp_X14_16_X15 (q := 19) C hM rfl dX14_init_16 rfl ?_
  rw [List.set_set]
  exact gx_vret C E dX14_init_19 (rfl) (by omega) (by omega)
set_option maxHeartbeats 800000 in
theorem ti_X14_16 (l : Launch) (D : va_G) (b : Nat) (M : List va_E) (j q f le : Nat) (hM : M[j]? = some (ob 16 [.int 0, .int 0, .int 0])) : fb_CT l D b yX14_init cX14_init 4 none 1 14 0 0 [.ref (b + j), .int (nI q), .int (nI f), .int (nI le)] M (.returned none) (fun M' => M' = M.set j (ob 16 [.int (nI q), .int (nI f), .int (nI le)])) := by
  refine fb_start [some (.ref (b + j)), some (.int (nI q)), some (.int (nI f)), some (.int (nI le))] (by decide) (Nat.le_of_ble_eq_true rfl) rfl ?_
  intro x hl hD hb C E hx
  subst hl hD hb
  have C : fb_OK x cX14_init "FallsBetween$Tree" "<init>" := C
  refine gx_aload_n (q := 1) C dX14_init_0 rfl rfl rfl ?_
  refine gx_objInit (q := 4) C E q429 q104 q105 (by decide) (Nat.le_of_ble_eq_true rfl) dX14_init_1 rfl ?_
  refine gx_aload_n (q := 5) C dX14_init_4 rfl rfl rfl ?_
  refine gx_iload_n (q := 6) C dX14_init_5 rfl rfl rfl ?_
  refine fp_X14_7_X16 (q := 9) C hM rfl dX14_init_6 rfl ?_
  have hl := (List.getElem?_eq_some_iff.mp hM).1
  have hM := List.getElem?_set_self (a := ob 16 [.int (nI q), .int 0, .int 0]) hl
  refine gx_aload_n (q := 10) C dX14_init_9 rfl rfl rfl ?_
  refine gx_iload_n (q := 11) C dX14_init_10 rfl rfl rfl ?_
  refine fp_X14_13_X16 (q := 14) C hM rfl dX14_init_11 rfl ?_
  rw [List.set_set]
  have hM := List.getElem?_set_self (a := ob 16 [.int (nI q), .int (nI f), .int 0]) hl
  refine gx_aload_n (q := 15) C dX14_init_14 rfl rfl rfl ?_
  refine gx_iload_n (q := 16) C dX14_init_15 rfl rfl rfl ?_
  refine fp_X14_16_X16 (q := 19) C hM rfl dX14_init_16 rfl ?_
  rw [List.set_set]
  exact gx_vret C E dX14_init_19 (rfl) (by omega) (by omega)
set_option maxHeartbeats 800000 in
theorem ti_X14_17 (l : Launch) (D : va_G) (b : Nat) (M : List va_E) (j q f le : Nat) (hM : M[j]? = some (ob 17 [.int 0, .int 0, .int 0])) : fb_CT l D b yX14_init cX14_init 4 none 1 14 0 0 [.ref (b + j), .int (nI q), .int (nI f), .int (nI le)] M (.returned none) (fun M' => M' = M.set j (ob 17 [.int (nI q), .int (nI f), .int (nI le)])) := by
  refine fb_start [some (.ref (b + j)), some (.int (nI q)), some (.int (nI f)), some (.int (nI le))] (by decide) (Nat.le_of_ble_eq_true rfl) rfl ?_
  intro x hl hD hb C E hx
  subst hl hD hb
  have C : fb_OK x cX14_init "FallsBetween$Tree" "<init>" := C
  refine gx_aload_n (q := 1) C dX14_init_0 rfl rfl rfl ?_
  refine gx_objInit (q := 4) C E q429 q104 q105 (by decide) (Nat.le_of_ble_eq_true rfl) dX14_init_1 rfl ?_
  refine gx_aload_n (q := 5) C dX14_init_4 rfl rfl rfl ?_
  refine gx_iload_n (q := 6) C dX14_init_5 rfl rfl rfl ?_
  refine fp_X14_7_X17 (q := 9) C hM rfl dX14_init_6 rfl ?_
  have hl := (List.getElem?_eq_some_iff.mp hM).1
  have hM := List.getElem?_set_self (a := ob 17 [.int (nI q), .int 0, .int 0]) hl
  refine gx_aload_n (q := 10) C dX14_init_9 rfl rfl rfl ?_
  refine gx_iload_n (q := 11) C dX14_init_10 rfl rfl rfl ?_
  refine fp_X14_13_X17 (q := 14) C hM rfl dX14_init_11 rfl ?_
  rw [List.set_set]
  have hM := List.getElem?_set_self (a := ob 17 [.int (nI q), .int (nI f), .int 0]) hl
  refine gx_aload_n (q := 15) C dX14_init_14 rfl rfl rfl ?_
  refine gx_iload_n (q := 16) C dX14_init_15 rfl rfl rfl ?_
  refine fp_X14_16_X17 (q := 19) C hM rfl dX14_init_16 rfl ?_
  rw [List.set_set]
  exact gx_vret C E dX14_init_19 (rfl) (by omega) (by omega)
set_option maxHeartbeats 800000 in
theorem ti_X14_18 (l : Launch) (D : va_G) (b : Nat) (M : List va_E) (j q f le : Nat) (hM : M[j]? = some (ob 18 [.int 0, .int 0, .int 0])) : fb_CT l D b yX14_init cX14_init 4 none 1 14 0 0 [.ref (b + j), .int (nI q), .int (nI f), .int (nI le)] M (.returned none) (fun M' => M' = M.set j (ob 18 [.int (nI q), .int (nI f), .int (nI le)])) := by
  refine fb_start [some (.ref (b + j)), some (.int (nI q)), some (.int (nI f)), some (.int (nI le))] (by decide) (Nat.le_of_ble_eq_true rfl) rfl ?_
  intro x hl hD hb C E hx
  subst hl hD hb
  have C : fb_OK x cX14_init "FallsBetween$Tree" "<init>" := C
  refine gx_aload_n (q := 1) C dX14_init_0 rfl rfl rfl ?_
  refine gx_objInit (q := 4) C E q429 q104 q105 (by decide) (Nat.le_of_ble_eq_true rfl) dX14_init_1 rfl ?_
  refine gx_aload_n (q := 5) C dX14_init_4 rfl rfl rfl ?_
  refine gx_iload_n (q := 6) C dX14_init_5 rfl rfl rfl ?_
  refine fp_X14_7_X18 (q := 9) C hM rfl dX14_init_6 rfl ?_
  have hl := (List.getElem?_eq_some_iff.mp hM).1
  have hM := List.getElem?_set_self (a := ob 18 [.int (nI q), .int 0, .int 0]) hl
  refine gx_aload_n (q := 10) C dX14_init_9 rfl rfl rfl ?_
  refine gx_iload_n (q := 11) C dX14_init_10 rfl rfl rfl ?_
  refine fp_X14_13_X18 (q := 14) C hM rfl dX14_init_11 rfl ?_
  rw [List.set_set]
  have hM := List.getElem?_set_self (a := ob 18 [.int (nI q), .int (nI f), .int 0]) hl
  refine gx_aload_n (q := 15) C dX14_init_14 rfl rfl rfl ?_
  refine gx_iload_n (q := 16) C dX14_init_15 rfl rfl rfl ?_
  refine fp_X14_16_X18 (q := 19) C hM rfl dX14_init_16 rfl ?_
  rw [List.set_set]
  exact gx_vret C E dX14_init_19 (rfl) (by omega) (by omega)
set_option maxHeartbeats 800000 in
theorem ti_X14_19 (l : Launch) (D : va_G) (b : Nat) (M : List va_E) (j q f le : Nat) (hM : M[j]? = some (ob 19 [.int 0, .int 0, .int 0])) : fb_CT l D b yX14_init cX14_init 4 none 1 14 0 0 [.ref (b + j), .int (nI q), .int (nI f), .int (nI le)] M (.returned none) (fun M' => M' = M.set j (ob 19 [.int (nI q), .int (nI f), .int (nI le)])) := by
  refine fb_start [some (.ref (b + j)), some (.int (nI q)), some (.int (nI f)), some (.int (nI le))] (by decide) (Nat.le_of_ble_eq_true rfl) rfl ?_
  intro x hl hD hb C E hx
  subst hl hD hb
  have C : fb_OK x cX14_init "FallsBetween$Tree" "<init>" := C
  refine gx_aload_n (q := 1) C dX14_init_0 rfl rfl rfl ?_
  refine gx_objInit (q := 4) C E q429 q104 q105 (by decide) (Nat.le_of_ble_eq_true rfl) dX14_init_1 rfl ?_
  refine gx_aload_n (q := 5) C dX14_init_4 rfl rfl rfl ?_
  refine gx_iload_n (q := 6) C dX14_init_5 rfl rfl rfl ?_
  refine fp_X14_7_X19 (q := 9) C hM rfl dX14_init_6 rfl ?_
  have hl := (List.getElem?_eq_some_iff.mp hM).1
  have hM := List.getElem?_set_self (a := ob 19 [.int (nI q), .int 0, .int 0]) hl
  refine gx_aload_n (q := 10) C dX14_init_9 rfl rfl rfl ?_
  refine gx_iload_n (q := 11) C dX14_init_10 rfl rfl rfl ?_
  refine fp_X14_13_X19 (q := 14) C hM rfl dX14_init_11 rfl ?_
  rw [List.set_set]
  have hM := List.getElem?_set_self (a := ob 19 [.int (nI q), .int (nI f), .int 0]) hl
  refine gx_aload_n (q := 15) C dX14_init_14 rfl rfl rfl ?_
  refine gx_iload_n (q := 16) C dX14_init_15 rfl rfl rfl ?_
  refine fp_X14_16_X19 (q := 19) C hM rfl dX14_init_16 rfl ?_
  rw [List.set_set]
  exact gx_vret C E dX14_init_19 (rfl) (by omega) (by omega)
set_option maxHeartbeats 800000 in
theorem ti_X15_15 (l : Launch) (D : va_G) (b : Nat) (M : List va_E) (j q f le : Nat) (hM : M[j]? = some (ob 15 [.int 0, .int 0, .int 0])) : fb_CT l D b yX15_init cX15_init 4 none 2 37 0 0 [.ref (b + j), .int (nI q), .int (nI f), .int (nI le)] M (.returned none) (fun M' => M' = M.set j (ob 15 [.int (nI q), .int (nI f), .int (nI le)])) := by
  refine fb_start [some (.ref (b + j)), some (.int (nI q)), some (.int (nI f)), some (.int (nI le))] (by decide) (Nat.le_of_ble_eq_true rfl) rfl ?_
  intro x hl hD hb C E hx
  subst hl hD hb
  have C : fb_OK x cX15_init "FallsBetween$Damson" "<init>" := C
  refine gx_aload_n (q := 1) C dX15_init_0 rfl rfl rfl ?_
  refine gx_iload_n (q := 2) C dX15_init_1 rfl rfl rfl ?_
  refine gx_iload_n (q := 3) C dX15_init_2 rfl rfl rfl ?_
  refine gx_iload_n (q := 4) C dX15_init_3 rfl rfl rfl ?_
  refine gx_cv (q := 7) C E (sx_X15_1 (As := [_, _, _]) C rfl rfl dX15_init_4) (ti_X14_15 _ _ _ _ j q f le hM) kw_X14_init (by decide) (Nat.le_of_ble_eq_true rfl) rfl rfl (by omega) (by omega) dX15_init_4 rfl (fun M1 r1 => ?_)
  rw [r1]
  exact gx_vret C E dX15_init_7 (rfl) (by omega) (by omega)
set_option maxHeartbeats 800000 in
theorem ti_X15_19 (l : Launch) (D : va_G) (b : Nat) (M : List va_E) (j q f le : Nat) (hM : M[j]? = some (ob 19 [.int 0, .int 0, .int 0])) : fb_CT l D b yX15_init cX15_init 4 none 2 37 0 0 [.ref (b + j), .int (nI q), .int (nI f), .int (nI le)] M (.returned none) (fun M' => M' = M.set j (ob 19 [.int (nI q), .int (nI f), .int (nI le)])) := by
  refine fb_start [some (.ref (b + j)), some (.int (nI q)), some (.int (nI f)), some (.int (nI le))] (by decide) (Nat.le_of_ble_eq_true rfl) rfl ?_
  intro x hl hD hb C E hx
  subst hl hD hb
  have C : fb_OK x cX15_init "FallsBetween$Damson" "<init>" := C
  refine gx_aload_n (q := 1) C dX15_init_0 rfl rfl rfl ?_
  refine gx_iload_n (q := 2) C dX15_init_1 rfl rfl rfl ?_
  refine gx_iload_n (q := 3) C dX15_init_2 rfl rfl rfl ?_
  refine gx_iload_n (q := 4) C dX15_init_3 rfl rfl rfl ?_
  refine gx_cv (q := 7) C E (sx_X15_1 (As := [_, _, _]) C rfl rfl dX15_init_4) (ti_X14_19 _ _ _ _ j q f le hM) kw_X14_init (by decide) (Nat.le_of_ble_eq_true rfl) rfl rfl (by omega) (by omega) dX15_init_4 rfl (fun M1 r1 => ?_)
  rw [r1]
  exact gx_vret C E dX15_init_7 (rfl) (by omega) (by omega)
set_option maxHeartbeats 800000 in
theorem ti_X16_16 (l : Launch) (D : va_G) (b : Nat) (M : List va_E) (j q f le : Nat) (hM : M[j]? = some (ob 16 [.int 0, .int 0, .int 0])) : fb_CT l D b yX16_init cX16_init 4 none 2 37 0 0 [.ref (b + j), .int (nI q), .int (nI f), .int (nI le)] M (.returned none) (fun M' => M' = M.set j (ob 16 [.int (nI q), .int (nI f), .int (nI le)])) := by
  refine fb_start [some (.ref (b + j)), some (.int (nI q)), some (.int (nI f)), some (.int (nI le))] (by decide) (Nat.le_of_ble_eq_true rfl) rfl ?_
  intro x hl hD hb C E hx
  subst hl hD hb
  have C : fb_OK x cX16_init "FallsBetween$Leaner" "<init>" := C
  refine gx_aload_n (q := 1) C dX16_init_0 rfl rfl rfl ?_
  refine gx_iload_n (q := 2) C dX16_init_1 rfl rfl rfl ?_
  refine gx_iload_n (q := 3) C dX16_init_2 rfl rfl rfl ?_
  refine gx_iload_n (q := 4) C dX16_init_3 rfl rfl rfl ?_
  refine gx_cv (q := 7) C E (sx_X16_1 (As := [_, _, _]) C rfl rfl dX16_init_4) (ti_X14_16 _ _ _ _ j q f le hM) kw_X14_init (by decide) (Nat.le_of_ble_eq_true rfl) rfl rfl (by omega) (by omega) dX16_init_4 rfl (fun M1 r1 => ?_)
  rw [r1]
  exact gx_vret C E dX16_init_7 (rfl) (by omega) (by omega)
set_option maxHeartbeats 800000 in
theorem ti_X17_17 (l : Launch) (D : va_G) (b : Nat) (M : List va_E) (j q f le : Nat) (hM : M[j]? = some (ob 17 [.int 0, .int 0, .int 0])) : fb_CT l D b yX17_init cX17_init 4 none 2 37 0 0 [.ref (b + j), .int (nI q), .int (nI f), .int (nI le)] M (.returned none) (fun M' => M' = M.set j (ob 17 [.int (nI q), .int (nI f), .int (nI le)])) := by
  refine fb_start [some (.ref (b + j)), some (.int (nI q)), some (.int (nI f)), some (.int (nI le))] (by decide) (Nat.le_of_ble_eq_true rfl) rfl ?_
  intro x hl hD hb C E hx
  subst hl hD hb
  have C : fb_OK x cX17_init "FallsBetween$Apple" "<init>" := C
  refine gx_aload_n (q := 1) C dX17_init_0 rfl rfl rfl ?_
  refine gx_iload_n (q := 2) C dX17_init_1 rfl rfl rfl ?_
  refine gx_iload_n (q := 3) C dX17_init_2 rfl rfl rfl ?_
  refine gx_iload_n (q := 4) C dX17_init_3 rfl rfl rfl ?_
  refine gx_cv (q := 7) C E (sx_X17_1 (As := [_, _, _]) C rfl rfl dX17_init_4) (ti_X14_17 _ _ _ _ j q f le hM) kw_X14_init (by decide) (Nat.le_of_ble_eq_true rfl) rfl rfl (by omega) (by omega) dX17_init_4 rfl (fun M1 r1 => ?_)
  rw [r1]
  exact gx_vret C E dX17_init_7 (rfl) (by omega) (by omega)
set_option maxHeartbeats 800000 in
theorem ti_X17_18 (l : Launch) (D : va_G) (b : Nat) (M : List va_E) (j q f le : Nat) (hM : M[j]? = some (ob 18 [.int 0, .int 0, .int 0])) : fb_CT l D b yX17_init cX17_init 4 none 2 37 0 0 [.ref (b + j), .int (nI q), .int (nI f), .int (nI le)] M (.returned none) (fun M' => M' = M.set j (ob 18 [.int (nI q), .int (nI f), .int (nI le)])) := by
  refine fb_start [some (.ref (b + j)), some (.int (nI q)), some (.int (nI f)), some (.int (nI le))] (by decide) (Nat.le_of_ble_eq_true rfl) rfl ?_
  intro x hl hD hb C E hx
  subst hl hD hb
  have C : fb_OK x cX17_init "FallsBetween$Apple" "<init>" := C
  refine gx_aload_n (q := 1) C dX17_init_0 rfl rfl rfl ?_
  refine gx_iload_n (q := 2) C dX17_init_1 rfl rfl rfl ?_
  refine gx_iload_n (q := 3) C dX17_init_2 rfl rfl rfl ?_
  refine gx_iload_n (q := 4) C dX17_init_3 rfl rfl rfl ?_
  refine gx_cv (q := 7) C E (sx_X17_1 (As := [_, _, _]) C rfl rfl dX17_init_4) (ti_X14_18 _ _ _ _ j q f le hM) kw_X14_init (by decide) (Nat.le_of_ble_eq_true rfl) rfl rfl (by omega) (by omega) dX17_init_4 rfl (fun M1 r1 => ?_)
  rw [r1]
  exact gx_vret C E dX17_init_7 (rfl) (by omega) (by omega)
set_option maxHeartbeats 800000 in
theorem ti_X18_18 (l : Launch) (D : va_G) (b : Nat) (M : List va_E) (j q f le : Nat) (hM : M[j]? = some (ob 18 [.int 0, .int 0, .int 0])) : fb_CT l D b yX18_init cX18_init 4 none 3 60 0 0 [.ref (b + j), .int (nI q), .int (nI f), .int (nI le)] M (.returned none) (fun M' => M' = M.set j (ob 18 [.int (nI q), .int (nI f), .int (nI le)])) := by
  refine fb_start [some (.ref (b + j)), some (.int (nI q)), some (.int (nI f)), some (.int (nI le))] (by decide) (Nat.le_of_ble_eq_true rfl) rfl ?_
  intro x hl hD hb C E hx
  subst hl hD hb
  have C : fb_OK x cX18_init "FallsBetween$RoundApple" "<init>" := C
  refine gx_aload_n (q := 1) C dX18_init_0 rfl rfl rfl ?_
  refine gx_iload_n (q := 2) C dX18_init_1 rfl rfl rfl ?_
  refine gx_iload_n (q := 3) C dX18_init_2 rfl rfl rfl ?_
  refine gx_iload_n (q := 4) C dX18_init_3 rfl rfl rfl ?_
  refine gx_cv (q := 7) C E (sx_X18_1 (As := [_, _, _]) C rfl rfl dX18_init_4) (ti_X17_18 _ _ _ _ j q f le hM) kw_X17_init (by decide) (Nat.le_of_ble_eq_true rfl) rfl rfl (by omega) (by omega) dX18_init_4 rfl (fun M1 r1 => ?_)
  rw [r1]
  exact gx_vret C E dX18_init_7 (rfl) (by omega) (by omega)
set_option maxHeartbeats 800000 in
theorem ti_X19_19 (l : Launch) (D : va_G) (b : Nat) (M : List va_E) (j q f le : Nat) (hM : M[j]? = some (ob 19 [.int 0, .int 0, .int 0])) : fb_CT l D b yX19_init cX19_init 4 none 3 60 0 0 [.ref (b + j), .int (nI q), .int (nI f), .int (nI le)] M (.returned none) (fun M' => M' = M.set j (ob 19 [.int (nI q), .int (nI f), .int (nI le)])) := by
  refine fb_start [some (.ref (b + j)), some (.int (nI q)), some (.int (nI f)), some (.int (nI le))] (by decide) (Nat.le_of_ble_eq_true rfl) rfl ?_
  intro x hl hD hb C E hx
  subst hl hD hb
  have C : fb_OK x cX19_init "FallsBetween$Still" "<init>" := C
  refine gx_aload_n (q := 1) C dX19_init_0 rfl rfl rfl ?_
  refine gx_iload_n (q := 2) C dX19_init_1 rfl rfl rfl ?_
  refine gx_iload_n (q := 3) C dX19_init_2 rfl rfl rfl ?_
  refine gx_iload_n (q := 4) C dX19_init_3 rfl rfl rfl ?_
  refine gx_cv (q := 7) C E (sx_X19_1 (As := [_, _, _]) C rfl rfl dX19_init_4) (ti_X15_19 _ _ _ _ j q f le hM) kw_X15_init (by decide) (Nat.le_of_ble_eq_true rfl) rfl rfl (by omega) (by omega) dX19_init_4 rfl (fun M1 r1 => ?_)
  rw [r1]
  exact gx_vret C E dX19_init_7 (rfl) (by omega) (by omega)
theorem moT_lo {T : Nat → Nat} {k q f le i : Nat} (h0 : 0 < i) (h : i < 120) : moT T k q f le i = T i := by
  unfold moT
  rw [updN_n _ (by omega), updN_n _ (by omega), updN_n _ (by omega), updN_n _ (by omega), updN_n _ (by omega)]
theorem tw_tr.more {b : Nat} {M : List va_E} {T : Nat → Nat} {ft : Nat → Option Nat} {j k q f le : Nat} (h : tw_tr b M T ft) (h6 : T 0 < 6) (hj : 54 ≤ j) (hk : k ≤ 5) (hM : M[j]? = some (ob (14 + k) [.int (nI q), .int (nI f), .int (nI le)])) : tw_tr b M (moT T k q f le) (va_up ft (T 0) (some (b + j))) := by
  refine ⟨fun i hi => ?_, fun i hi => ?_⟩
  · rw [moT_0] at hi
    by_cases e : i = T 0
    · subst e
      refine ⟨j, hj, by simp [va_up], ?_⟩
      rw [hM]
      congr 1
      unfold tw_E moT
      simp [updN]
    · obtain ⟨j2, e1, e2, e3⟩ := h.1 i (by omega)
      refine ⟨j2, e1, by simp [va_up, e]; exact e2, ?_⟩
      rw [e3]
      unfold tw_E
      have g : ∀ c, c < 4 → moT T k q f le (120 + 6 * c + i) = T (120 + 6 * c + i) := by
        intro c hc
        unfold moT
        rw [updN_n _ (by omega), updN_n _ (by omega), updN_n _ (by omega), updN_n _ (by omega), updN_n _ (by omega)]
      have g0 := g 0 (by omega)
      have g1 := g 1 (by omega)
      have g2 := g 2 (by omega)
      have g3 := g 3 (by omega)
      rw [show 120 + i = 120 + 6 * 0 + i by omega, show 126 + i = 120 + 6 * 1 + i by omega, show 132 + i = 120 + 6 * 2 + i by omega, show 138 + i = 120 + 6 * 3 + i by omega, g0, g1, g2, g3]
  · by_cases e : i = T 0
    · subst e
      exact Or.inr ⟨j, k, _, hj, by omega, by simp [va_up], hM⟩
    · have : va_up ft (T 0) (some (b + j)) i = ft i := by simp [va_up, e]
      rw [this]
      exact h.2 i hi
/-- one tree more -/
theorem tw_C.more {D : va_G} {b : Nat} {M0 M : List va_E} {t : Nat} {T Y : Nat → Nat} {lo j k q f le : Nat} {fl : Nat → Option Nat} {fg fh fn : Nat → Int32} {ft : Nat → Option Nat} {fp fy : Nat → Int32} (h : tw_C D b M t (nI (T 0 + 1)) (nI (T 1)) (nI (T 2)) (nI (T 3)) (nI lo) fl fg fh fn (va_up ft (T 0) (some (b + j))) fp fy) (b2 : ∀ i, i < 5 → fl i = some (b + (t + 2 + i))) (b4 : ∀ i, i < 36 → fg i = nI (T (12 + i))) (b5 : ∀ i, i < 36 → fh i = nI (T (48 + i))) (b6 : ∀ i, i < 36 → fn i = nI (T (84 + i))) (b7 : tw_tr b M0 T ft) (b8 : ∀ i, i < 8 → fp i = nI (T (4 + i))) (b9 : ∀ i, i < 252 → fy i = nI (Y i)) (hF : tw_F t M0 M) (h6 : T 0 < 6) (hj : 54 ≤ j) (hk : k ≤ 5) (hM : M0[j]? = some (ob (14 + k) [.int (nI q), .int (nI f), .int (nI le)])) : tw_V D b M t (moT T k q f le) Y lo := by
  have hle := h.1
  refine tw_C.V (fl := fl) (fg := fg) (fh := fh) (fn := fn) (ft := va_up ft (T 0) (some (b + j))) (fp := fp) (fy := fy) ?_ b2 (fun i hi => by rw [moT_lo (by omega) (by omega)]; exact b4 i hi) (fun i hi => by rw [moT_lo (by omega) (by omega)]; exact b5 i hi) (fun i hi => by rw [moT_lo (by omega) (by omega)]; exact b6 i hi) ?_ (fun i hi => by rw [moT_lo (by omega) (by omega)]; exact b8 i hi) b9
  · rw [moT_0, moT_lo (by decide) (by decide), moT_lo (by decide) (by decide), moT_lo (by decide) (by decide)]
    exact h
  · exact (b7.keep fun i hi _ => hF.2 i (by omega)).more h6 hj hk (by rw [hF.2 j (by omega)]; exact hM)
theorem tc_pf_X0_trees {x : fb_X} {cc : ByteArray} {nm : String} {M M0 : List va_E} {k n pc q : Nat} {lv : List (Option Value)} {st : List Value} {t : Nat} {n0 n1 n2 n3 n4 v : Int32} {fl : Nat → Option Nat} {fg fh fn : Nat → Int32} {ft : Nat → Option Nat} {fp fy : Nat → Int32} (C : fb_OK x cc "FallsBetween" nm) (hC : tw_C (cx_D x) (cx_b x) M t n0 n1 n2 n3 n4 fl fg fh fn ft fp fy) (hF : tw_F t M0 M) (d : decode cc pc = .ok (.putfield 120, 3)) (hq : pc + 3 = q) (kk : ∀ M' : List va_E, tw_C (cx_D x) (cx_b x) M' t v n1 n2 n3 n4 fl fg fh fn ft fp fy → tw_F t M0 M' → fb_G x M' k n q lv st) : fb_G x M k n pc lv (.int v :: .ref (cx_b x + t) :: st) := fp_X0_120 C hC.2.1 rfl d hq (kk _ hC.seto (hF.st _ _ (by omega)))
theorem tc_pf_X13_trees {x : fb_X} {cc : ByteArray} {nm : String} {M M0 : List va_E} {k n pc q : Nat} {lv : List (Option Value)} {st : List Value} {t : Nat} {n0 n1 n2 n3 n4 v : Int32} {fl : Nat → Option Nat} {fg fh fn : Nat → Int32} {ft : Nat → Option Nat} {fp fy : Nat → Int32} (C : fb_OK x cc "FallsBetween$TreeTold" nm) (hC : tw_C (cx_D x) (cx_b x) M t n0 n1 n2 n3 n4 fl fg fh fn ft fp fy) (hF : tw_F t M0 M) (d : decode cc pc = .ok (.putfield 39, 3)) (hq : pc + 3 = q) (kk : ∀ M' : List va_E, tw_C (cx_D x) (cx_b x) M' t v n1 n2 n3 n4 fl fg fh fn ft fp fy → tw_F t M0 M' → fb_G x M' k n q lv st) : fb_G x M k n pc lv (.int v :: .ref (cx_b x + t) :: st) := fp_X13_39 C hC.2.1 rfl d hq (kk _ hC.seto (hF.st _ _ (by omega)))
theorem tc_ast {x : fb_X} {cc : ByteArray} {own nm : String} {M M0 : List va_E} {k n pc q : Nat} {lv : List (Option Value)} {st : List Value} {t : Nat} {n0 n1 n2 n3 n4 : Int32} {fl : Nat → Option Nat} {fg fh fn : Nat → Int32} {ft : Nat → Option Nat} {fp fy : Nat → Int32} {i jv kd : Nat} {fs : List Value} (C : fb_OK x cc own nm) (hC : tw_C (cx_D x) (cx_b x) M t n0 n1 n2 n3 n4 fl fg fh fn ft fp fy) (hF : tw_F t M0 M) (hi : i < 7) (hv : M[jv]? = some (ob (14 + kd) fs)) (hkd : kd ≤ 5) (d : decode cc pc = .ok (.aastore, 1)) (hq : pc + 1 = q) (kk : ∀ M' : List va_E, tw_C (cx_D x) (cx_b x) M' t n0 n1 n2 n3 n4 fl fg fh fn (va_up ft i (some (cx_b x + jv))) fp fy → tw_F t M0 M' → fb_G x M' k n q lv st) : fb_G x M k n pc lv (.ref (cx_b x + jv) :: .int (nI i) :: .ref (cx_b x + (t + 10)) :: st) := gx_aast (t0 := 5) C hC.2.2.2.2.2.2.2.1 rfl hi (by decide) hv (asg_tree C hkd) d hq (kk _ hC.sett (hF.st _ _ (by omega)))
theorem stS_mx {p : Nat × Nat} {v : Nat} (h : v ≤ p.2) : max p.2 v = p.2 := Nat.max_eq_left h
set_option maxHeartbeats 800000 in
theorem xa_setTold_0 (l : Launch) (D : va_G) (b : Nat) (M0 : List va_E) {R T Ti P Rw : Nat → Nat} {hi : Bool} {lm rm : Nat} (g : Nat) (hg : g < 4) (f : Nat) (h1 : 1 ≤ f) (h2 : f ≤ 20) (h6 : T 0 < 6) (hL : 54 ≤ M0.length) (h : xw_P D b M0 R T Ti P Rw hi lm rm) (hk : okT T) : fb_CT l D b yX0_setTold cX0_setTold 9 (some .int) 6 141 36 108 [.ref (b + 0), .int (nI g), .int (nI f), .int (nI 0)] M0 (.returned (some (.int (bs1 (stS (setO T) (setV T g f) 36))))) (fun M' => xw_P D b M' R T Ti P Rw hi lm rm ∧ xw_F M0 M') := by
  refine fb_start [some (.ref (b + 0)), some (.int (nI g)), some (.int (nI f)), some (.int (nI 0)), none, none, none, none, none] (by decide) (Nat.le_of_ble_eq_true rfl) rfl ?_
  intro x hl hD hb C E hx
  subst hl hD hb
  have C : fb_OK x cX0_setTold "FallsBetween" "setTold" := C
  obtain ⟨Tm, Y, Ym, Yi, lo, lom, loi, hX⟩ := h
  have hG := xw_F.rf M0
  obtain ⟨k0, k1, k2, k3, k4, k5, k6, k7, k8⟩ := id hk
  refine gx_bipush (q := 2) (v := bs1 none) C dX0_setTold_0 (rfl) rfl ?_
  refine gx_istore (q := 4) (lv' := [_, _, _, _, _, _, _, _, _]) C dX0_setTold_2 (Nat.le_of_ble_eq_true rfl) E.2.2.2.symm rfl rfl rfl ?_
  refine gx_bipush (q := 6) (v := bs2 none) C dX0_setTold_4 (rfl) rfl ?_
  refine gx_istore (q := 8) (lv' := [_, _, _, _, _, _, _, _, _]) C dX0_setTold_6 (Nat.le_of_ble_eq_true rfl) E.2.2.2.symm rfl rfl rfl ?_
  refine gx_iconst (q := 9) (v := nI 0) C dX0_setTold_8 (by decide) rfl ?_
  refine gx_istore (q := 11) (lv' := [_, _, _, _, _, _, _, _, _]) C dX0_setTold_9 (Nat.le_of_ble_eq_true rfl) E.2.2.2.symm rfl rfl rfl ?_
  have Lq : ∀ q, q ≤ 36 → ∀ (M : List va_E) (Tm Ym : Nat → Nat) (lom : Nat), xw_V (cx_D x) (cx_b x) M T Tm Ti Y Ym Yi lo lom loi hi Rw rm P lm R → xw_F M0 M → fb_G x M q (3 * q) 11 [some (.ref (cx_b x + 0)), some (.int (nI g)), some (.int (nI f)), some (.int (nI 0)), some (.int (bs1 (stS (setO T) (setV T g f) q))), some (.int (bs2 (stS (setO T) (setV T g f) q))), some (.int (nI q)), none, none] [] := by
    refine fb_dn 36 ?_ ?_
    · intro M Tm Ym lom hX hG
      refine gx_iload (q := 13) C dX0_setTold_11 rfl rfl ?_
      refine gx_bipush (q := 15) (v := nI 36) C dX0_setTold_13 (by decide) rfl ?_
      refine gn_icmp_ge (q := 18) (tgt := 113) C dX0_setTold_15 (by decide) rfl (by omega) (by omega) (fun c15 => ?_) (fun c15 => by exfalso; omega)
      refine gx_iload_n (q := 114) C dX0_setTold_113 rfl rfl rfl ?_
      refine gn_if_ne (q := 117) (tgt := 122) C dX0_setTold_114 (by decide) rfl (by omega) (fun c114 => by exfalso; revert c114; decide) (fun c114 => ?_)
      refine gx_iload (q := 119) C dX0_setTold_117 rfl rfl ?_
      refine gx_goto (tgt := 124) C dX0_setTold_119 (by decide) ?_
      exact gx_iret C E dX0_setTold_124 (⟨⟨_, _, _, _, _, _, _, hX⟩, hG⟩) (by omega) (by omega)
    · intro q hq ih M Tm Ym lom hX hG
      have hv := setV_le (g := g) hk h6 hq h1 h2
      refine gx_iload (q := 13) C dX0_setTold_11 rfl rfl ?_
      refine gx_bipush (q := 15) (v := nI 36) C dX0_setTold_13 (by decide) rfl ?_
      refine gn_icmp_ge (q := 18) (tgt := 113) C dX0_setTold_15 (by decide) rfl (by omega) (by omega) (fun c15 => by exfalso; omega) (fun c15 => ?_)
      refine gx_aload_n (q := 19) C dX0_setTold_18 rfl rfl rfl ?_
      refine fg_X0_51 (q := 22) C hX.o rfl dX0_setTold_19 rfl ?_
      refine gx_iload (q := 24) C dX0_setTold_22 rfl rfl ?_
      refine gx_cp (q := 27) C E (sx_X0_108 (As := [_]) C hX.t.o rfl rfl dX0_setTold_24) (tx_treeAt _ _ _ _ q (by omega) hX.t hk) kw_X1_treeAt (by decide) (Nat.le_of_ble_eq_true rfl) (by omega) (by omega) dX0_setTold_24 rfl ?_
      refine gx_bipush (q := 29) (v := -9) C dX0_setTold_27 (by decide) rfl ?_
      refine gq_icmp_ne (q := 32) (tgt := 107) C dX0_setTold_29 (by decide) rfl (fun z hz => by have := (fstN_spec hz).1; omega) (fun z29 c29 => ?_) (fun c29 => ?_)
      · rw [stS_o (show setO T q = true by unfold setO; rw [c29]; rfl)] at ih
        refine gn_inc (q := 110) (lv' := [_, _, _, _, _, _, _, _, _]) C dX0_setTold_107 rfl E.2.2.2.symm rfl rfl rfl ?_
        refine gx_goto (tgt := 11) C dX0_setTold_110 (by decide) ?_
        refine gx_widen (k' := q + 1) (n' := 3 * (q + 1)) (by omega) (by omega) ?_
        first | exact ih M _ _ _ hX hG | (refine gx_drop 7 ?_; refine gx_drop 8 ?_; exact ih M _ _ _ hX hG)
      · have hoc : setO T q = false := by unfold setO; rw [c29]; rfl
        refine gx_aload_n (q := 33) C dX0_setTold_32 rfl rfl rfl ?_
        refine gx_cs (q := 36) C E (sx_X0_112 (As := []) C hX.o rfl rfl dX0_setTold_33) (xa_openMind _ _ _ _ hX hk) kw_X0_openMind (by decide) (Nat.le_of_ble_eq_true rfl) rfl rfl (by omega) (by omega) dX0_setTold_33 rfl (fun M r33 => ?_)
        obtain ⟨hV1, hF1⟩ := r33
        have hX := hX.u2 hV1 hF1
        have hG := hG.tw hF1 (by decide)
        obtain ⟨fl, fg, fh, fn, ft, fp, fy, hC, y2, y4, y5, y6, y7, y8, y9⟩ := hX.m.C
        refine gx_astore (q := 38) (lv' := [_, _, _, _, _, _, _, _, _]) C dX0_setTold_36 (Nat.le_of_ble_eq_true rfl) E.2.2.2.symm rfl rfl rfl ?_
        refine gx_aload (q := 40) C dX0_setTold_38 rfl rfl ?_
        refine fg_X0_116 (q := 43) C hC.2.1 rfl dX0_setTold_40 rfl ?_
        refine gx_aload (q := 45) C dX0_setTold_43 rfl rfl ?_
        refine fg_X0_120 (q := 48) C hC.2.1 rfl dX0_setTold_45 rfl ?_
        refine gx_new (q := 51) (ci := 14) (fs := [.int 0, .int 0, .int 0]) C E rfl in_X14 tyX14 tyX14_ok q424 q425 q85 (by decide) (by omega) (by omega) dX0_setTold_48 rfl ?_
        have hN : (M ++ [ob 14 [.int 0, .int 0, .int 0]])[M.length]? = some (ob 14 [.int 0, .int 0, .int 0]) := by rw [List.getElem?_append_right (Nat.le_refl _), Nat.sub_self]; rfl
        refine gx_dup (q := 52) C dX0_setTold_51 rfl rfl ?_
        refine gx_iload (q := 54) C dX0_setTold_52 rfl rfl ?_
        refine gx_iload_n (q := 55) C dX0_setTold_54 rfl rfl rfl ?_
        refine gx_iconst (q := 56) (v := nI 0) C dX0_setTold_55 (by decide) rfl ?_
        refine gx_cv (q := 59) C E (sx_X0_25 (As := [_, _, _]) C rfl rfl dX0_setTold_56) (ti_X14_14 _ _ _ _ M.length q f 0 hN) kw_X14_init (by decide) (Nat.le_of_ble_eq_true rfl) rfl rfl (by omega) (by omega) dX0_setTold_56 rfl (fun M1 r1 => ?_)
        rw [r1, List.set_append_right _ _ (Nat.le_refl _), Nat.sub_self]
        have hL1 : 54 ≤ M.length := Nat.le_trans hL hG.1
        have hX := hX.app ([ob 14 [.int 0, .int 0, .int 0]].set 0 (ob 14 [.int (nI q), .int (nI f), .int (nI 0)]))
        have hG := hG.app ([ob 14 [.int 0, .int 0, .int 0]].set 0 (ob 14 [.int (nI q), .int (nI f), .int (nI 0)]))
        have hj : (M ++ [ob 14 [.int 0, .int 0, .int 0]].set 0 (ob 14 [.int (nI q), .int (nI f), .int (nI 0)]))[M.length]? = some (ob (14 + 0) [.int (nI q), .int (nI f), .int (nI 0)]) := by rw [List.getElem?_append_right (Nat.le_refl _), Nat.sub_self]; rfl
        generalize M.length = jn at hj hL1 ⊢
        generalize M ++ [ob 14 [.int 0, .int 0, .int 0]].set 0 (ob 14 [.int (nI q), .int (nI f), .int (nI 0)]) = M at hX hG hj ⊢
        clear hC y2 y4 y5 y6 y7 y8 y9
        obtain ⟨fl, fg, fh, fn, ft, fp, fy, hC, y2, y4, y5, y6, y7, y8, y9⟩ := hX.m.C
        have hF1 := tw_F.rf 14 M
        refine tc_ast (q := 60) C hC hF1 (by omega) hj (by decide) dX0_setTold_59 rfl (fun M hC hF1 => ?_)
        refine gx_aload (q := 62) C dX0_setTold_60 rfl rfl ?_
        refine gx_dup (q := 63) C dX0_setTold_62 rfl rfl ?_
        refine fg_X0_120 (q := 66) C hC.2.1 rfl dX0_setTold_63 rfl ?_
        refine gx_iconst (q := 67) (v := nI 1) C dX0_setTold_66 (by decide) rfl ?_
        refine gn_iadd (q := 68) C dX0_setTold_67 rfl ?_
        refine tc_pf_X0_trees (q := 71) C hC hF1 dX0_setTold_68 rfl (fun M hC hF1 => ?_)
        have hV1 := hC.more y2 y4 y5 y6 y7 y8 y9 hF1 h6 hL1 (by decide) hj
        have hX := hX.u2 hV1 hF1
        have hG := hG.tw hF1 (by decide)
        have hkm : okT (moT T 0 q f 0) := moT_ok hk h6 (by omega) hq h1 h2 (by omega)
        refine gx_aload (q := 73) C dX0_setTold_71 rfl rfl ?_
        refine gx_cs (q := 76) C E (sx_X0_123 (As := []) C hC.2.1 rfl rfl dX0_setTold_73) (tx_find _ _ _ _ hX.m hkm) kw_X1_find (by decide) (Nat.le_of_ble_eq_true rfl) rfl rfl (by omega) (by omega) dX0_setTold_73 rfl (fun M r73 => ?_)
        obtain ⟨⟨Ym, hYm, hV1⟩, hF1⟩ := r73
        have hX := hX.u2 hV1 hF1
        have hG := hG.tw hF1 (by decide)
        refine gx_iload_n (q := 77) C dX0_setTold_76 rfl rfl rfl ?_
        refine gx_cp (q := 80) C E (sx_X0_126 (As := [_]) C hX.m.o rfl rfl dX0_setTold_77) (tx_share _ _ _ _ g (by omega) hX.m hkm) kw_X1_share (by decide) (Nat.le_of_ble_eq_true rfl) (by omega) (by omega) dX0_setTold_77 rfl ?_
        refine gx_top (show _ = nI (setV T g f q) by rw [shL_f hYm]; rfl) ?_
        refine gx_istore (q := 82) (lv' := [_, _, _, _, _, _, _, _, _]) C dX0_setTold_80 (Nat.le_of_ble_eq_true rfl) E.2.2.2.symm rfl rfl rfl ?_
        rcases hst : stS (setO T) (setV T g f) q with _ | p
        · rw [bs1_n, bs2_n]
          rw [stS_n hoc hst, bs1_s, bs2_s] at ih
          refine gx_iload (q := 84) C dX0_setTold_82 rfl rfl ?_
          refine gx_iload (q := 86) C dX0_setTold_84 rfl rfl ?_
          refine gx_icmp_le (q := 89) (tgt := 94) C dX0_setTold_86 (by decide) rfl (fun c86 => by exfalso; exact nI_g9 (by omega) c86) (fun c86 => ?_)
          refine gx_iload (q := 91) C dX0_setTold_89 rfl rfl ?_
          refine gx_goto (tgt := 96) C dX0_setTold_91 (by decide) ?_
          refine gx_istore (q := 98) (lv' := [_, _, _, _, _, _, _, _, _]) C dX0_setTold_96 (Nat.le_of_ble_eq_true rfl) E.2.2.2.symm rfl rfl rfl ?_
          refine gx_iload (q := 100) C dX0_setTold_98 rfl rfl ?_
          refine gx_iload (q := 102) C dX0_setTold_100 rfl rfl ?_
          refine gm_max9 (q := 105) (by omega) C E q870 (by decide) (Nat.le_of_ble_eq_true rfl) (by omega) (by omega) dX0_setTold_102 rfl ?_
          refine gx_istore (q := 107) (lv' := [_, _, _, _, _, _, _, _, _]) C dX0_setTold_105 (Nat.le_of_ble_eq_true rfl) E.2.2.2.symm rfl rfl rfl ?_
          refine gn_inc (q := 110) (lv' := [_, _, _, _, _, _, _, _, _]) C dX0_setTold_107 rfl E.2.2.2.symm rfl rfl rfl ?_
          refine gx_goto (tgt := 11) C dX0_setTold_110 (by decide) ?_
          refine gx_widen (k' := q + 1) (n' := 3 * (q + 1)) (by omega) (by omega) ?_
          first | exact ih M _ _ _ hX hG | (refine gx_drop 7 ?_; refine gx_drop 8 ?_; exact ih M _ _ _ hX hG)
        · obtain ⟨hp1, hp2⟩ := stS_b (m := 129600) q (fun i hi => setV_le hk h6 (by omega) h1 h2) p hst
          rw [bs1_s, bs2_s]
          refine gx_iload (q := 84) C dX0_setTold_82 rfl rfl ?_
          refine gx_iload (q := 86) C dX0_setTold_84 rfl rfl ?_
          refine gn_icmp_le (q := 89) (tgt := 94) C dX0_setTold_86 (by decide) rfl (by omega) (by omega) (fun c86 => ?_) (fun c86 => ?_)
          · rw [stS_f hoc hst c86, bs1_s, bs2_s] at ih
            have hmx : max p.2 (setV T g f q) = p.2 := Nat.max_eq_left c86
            refine gx_iload (q := 96) C dX0_setTold_94 rfl rfl ?_
            refine gx_istore (q := 98) (lv' := [_, _, _, _, _, _, _, _, _]) C dX0_setTold_96 (Nat.le_of_ble_eq_true rfl) E.2.2.2.symm rfl rfl rfl ?_
            refine gx_iload (q := 100) C dX0_setTold_98 rfl rfl ?_
            refine gx_iload (q := 102) C dX0_setTold_100 rfl rfl ?_
            refine gm_max (q := 105) (by omega) (by omega) C E q870 (by decide) (Nat.le_of_ble_eq_true rfl) (by omega) (by omega) dX0_setTold_102 rfl ?_
            rw [hmx]
            refine gx_istore (q := 107) (lv' := [_, _, _, _, _, _, _, _, _]) C dX0_setTold_105 (Nat.le_of_ble_eq_true rfl) E.2.2.2.symm rfl rfl rfl ?_
            refine gn_inc (q := 110) (lv' := [_, _, _, _, _, _, _, _, _]) C dX0_setTold_107 rfl E.2.2.2.symm rfl rfl rfl ?_
            refine gx_goto (tgt := 11) C dX0_setTold_110 (by decide) ?_
            refine gx_widen (k' := q + 1) (n' := 3 * (q + 1)) (by omega) (by omega) ?_
            first | exact ih M _ _ _ hX hG | (refine gx_drop 7 ?_; refine gx_drop 8 ?_; exact ih M _ _ _ hX hG)
          · rw [stS_t hoc hst (by omega), bs1_s, bs2_s] at ih
            have hmx : max p.2 (setV T g f q) = setV T g f q := Nat.max_eq_right (by omega)
            refine gx_iload (q := 91) C dX0_setTold_89 rfl rfl ?_
            refine gx_goto (tgt := 96) C dX0_setTold_91 (by decide) ?_
            refine gx_istore (q := 98) (lv' := [_, _, _, _, _, _, _, _, _]) C dX0_setTold_96 (Nat.le_of_ble_eq_true rfl) E.2.2.2.symm rfl rfl rfl ?_
            refine gx_iload (q := 100) C dX0_setTold_98 rfl rfl ?_
            refine gx_iload (q := 102) C dX0_setTold_100 rfl rfl ?_
            refine gm_max (q := 105) (by omega) (by omega) C E q870 (by decide) (Nat.le_of_ble_eq_true rfl) (by omega) (by omega) dX0_setTold_102 rfl ?_
            rw [hmx]
            refine gx_istore (q := 107) (lv' := [_, _, _, _, _, _, _, _, _]) C dX0_setTold_105 (Nat.le_of_ble_eq_true rfl) E.2.2.2.symm rfl rfl rfl ?_
            refine gn_inc (q := 110) (lv' := [_, _, _, _, _, _, _, _, _]) C dX0_setTold_107 rfl E.2.2.2.symm rfl rfl rfl ?_
            refine gx_goto (tgt := 11) C dX0_setTold_110 (by decide) ?_
            refine gx_widen (k' := q + 1) (n' := 3 * (q + 1)) (by omega) (by omega) ?_
            first | exact ih M _ _ _ hX hG | (refine gx_drop 7 ?_; refine gx_drop 8 ?_; exact ih M _ _ _ hX hG)
  exact Lq 0 (by omega) M0 _ _ _ hX hG
set_option maxHeartbeats 800000 in
theorem xa_setTold_1 (l : Launch) (D : va_G) (b : Nat) (M0 : List va_E) {R T Ti P Rw : Nat → Nat} {hi : Bool} {lm rm : Nat} (g : Nat) (hg : g < 4) (f : Nat) (h1 : 1 ≤ f) (h2 : f ≤ 20) (h6 : T 0 < 6) (hL : 54 ≤ M0.length) (h : xw_P D b M0 R T Ti P Rw hi lm rm) (hk : okT T) : fb_CT l D b yX0_setTold cX0_setTold 9 (some .int) 6 141 36 108 [.ref (b + 0), .int (nI g), .int (nI f), .int (nI 1)] M0 (.returned (some (.int (bs2 (stS (setO T) (setV T g f) 36))))) (fun M' => xw_P D b M' R T Ti P Rw hi lm rm ∧ xw_F M0 M') := by
  refine fb_start [some (.ref (b + 0)), some (.int (nI g)), some (.int (nI f)), some (.int (nI 1)), none, none, none, none, none] (by decide) (Nat.le_of_ble_eq_true rfl) rfl ?_
  intro x hl hD hb C E hx
  subst hl hD hb
  have C : fb_OK x cX0_setTold "FallsBetween" "setTold" := C
  obtain ⟨Tm, Y, Ym, Yi, lo, lom, loi, hX⟩ := h
  have hG := xw_F.rf M0
  obtain ⟨k0, k1, k2, k3, k4, k5, k6, k7, k8⟩ := id hk
  refine gx_bipush (q := 2) (v := bs1 none) C dX0_setTold_0 (rfl) rfl ?_
  refine gx_istore (q := 4) (lv' := [_, _, _, _, _, _, _, _, _]) C dX0_setTold_2 (Nat.le_of_ble_eq_true rfl) E.2.2.2.symm rfl rfl rfl ?_
  refine gx_bipush (q := 6) (v := bs2 none) C dX0_setTold_4 (rfl) rfl ?_
  refine gx_istore (q := 8) (lv' := [_, _, _, _, _, _, _, _, _]) C dX0_setTold_6 (Nat.le_of_ble_eq_true rfl) E.2.2.2.symm rfl rfl rfl ?_
  refine gx_iconst (q := 9) (v := nI 0) C dX0_setTold_8 (by decide) rfl ?_
  refine gx_istore (q := 11) (lv' := [_, _, _, _, _, _, _, _, _]) C dX0_setTold_9 (Nat.le_of_ble_eq_true rfl) E.2.2.2.symm rfl rfl rfl ?_
  have Lq : ∀ q, q ≤ 36 → ∀ (M : List va_E) (Tm Ym : Nat → Nat) (lom : Nat), xw_V (cx_D x) (cx_b x) M T Tm Ti Y Ym Yi lo lom loi hi Rw rm P lm R → xw_F M0 M → fb_G x M q (3 * q) 11 [some (.ref (cx_b x + 0)), some (.int (nI g)), some (.int (nI f)), some (.int (nI 1)), some (.int (bs1 (stS (setO T) (setV T g f) q))), some (.int (bs2 (stS (setO T) (setV T g f) q))), some (.int (nI q)), none, none] [] := by
    refine fb_dn 36 ?_ ?_
    · intro M Tm Ym lom hX hG
      refine gx_iload (q := 13) C dX0_setTold_11 rfl rfl ?_
      refine gx_bipush (q := 15) (v := nI 36) C dX0_setTold_13 (by decide) rfl ?_
      refine gn_icmp_ge (q := 18) (tgt := 113) C dX0_setTold_15 (by decide) rfl (by omega) (by omega) (fun c15 => ?_) (fun c15 => by exfalso; omega)
      refine gx_iload_n (q := 114) C dX0_setTold_113 rfl rfl rfl ?_
      refine gn_if_ne (q := 117) (tgt := 122) C dX0_setTold_114 (by decide) rfl (by omega) (fun c114 => ?_) (fun c114 => by exfalso; revert c114; decide)
      refine gx_iload (q := 124) C dX0_setTold_122 rfl rfl ?_
      exact gx_iret C E dX0_setTold_124 (⟨⟨_, _, _, _, _, _, _, hX⟩, hG⟩) (by omega) (by omega)
    · intro q hq ih M Tm Ym lom hX hG
      have hv := setV_le (g := g) hk h6 hq h1 h2
      refine gx_iload (q := 13) C dX0_setTold_11 rfl rfl ?_
      refine gx_bipush (q := 15) (v := nI 36) C dX0_setTold_13 (by decide) rfl ?_
      refine gn_icmp_ge (q := 18) (tgt := 113) C dX0_setTold_15 (by decide) rfl (by omega) (by omega) (fun c15 => by exfalso; omega) (fun c15 => ?_)
      refine gx_aload_n (q := 19) C dX0_setTold_18 rfl rfl rfl ?_
      refine fg_X0_51 (q := 22) C hX.o rfl dX0_setTold_19 rfl ?_
      refine gx_iload (q := 24) C dX0_setTold_22 rfl rfl ?_
      refine gx_cp (q := 27) C E (sx_X0_108 (As := [_]) C hX.t.o rfl rfl dX0_setTold_24) (tx_treeAt _ _ _ _ q (by omega) hX.t hk) kw_X1_treeAt (by decide) (Nat.le_of_ble_eq_true rfl) (by omega) (by omega) dX0_setTold_24 rfl ?_
      refine gx_bipush (q := 29) (v := -9) C dX0_setTold_27 (by decide) rfl ?_
      refine gq_icmp_ne (q := 32) (tgt := 107) C dX0_setTold_29 (by decide) rfl (fun z hz => by have := (fstN_spec hz).1; omega) (fun z29 c29 => ?_) (fun c29 => ?_)
      · rw [stS_o (show setO T q = true by unfold setO; rw [c29]; rfl)] at ih
        refine gn_inc (q := 110) (lv' := [_, _, _, _, _, _, _, _, _]) C dX0_setTold_107 rfl E.2.2.2.symm rfl rfl rfl ?_
        refine gx_goto (tgt := 11) C dX0_setTold_110 (by decide) ?_
        refine gx_widen (k' := q + 1) (n' := 3 * (q + 1)) (by omega) (by omega) ?_
        first | exact ih M _ _ _ hX hG | (refine gx_drop 7 ?_; refine gx_drop 8 ?_; exact ih M _ _ _ hX hG)
      · have hoc : setO T q = false := by unfold setO; rw [c29]; rfl
        refine gx_aload_n (q := 33) C dX0_setTold_32 rfl rfl rfl ?_
        refine gx_cs (q := 36) C E (sx_X0_112 (As := []) C hX.o rfl rfl dX0_setTold_33) (xa_openMind _ _ _ _ hX hk) kw_X0_openMind (by decide) (Nat.le_of_ble_eq_true rfl) rfl rfl (by omega) (by omega) dX0_setTold_33 rfl (fun M r33 => ?_)
        obtain ⟨hV1, hF1⟩ := r33
        have hX := hX.u2 hV1 hF1
        have hG := hG.tw hF1 (by decide)
        obtain ⟨fl, fg, fh, fn, ft, fp, fy, hC, y2, y4, y5, y6, y7, y8, y9⟩ := hX.m.C
        refine gx_astore (q := 38) (lv' := [_, _, _, _, _, _, _, _, _]) C dX0_setTold_36 (Nat.le_of_ble_eq_true rfl) E.2.2.2.symm rfl rfl rfl ?_
        refine gx_aload (q := 40) C dX0_setTold_38 rfl rfl ?_
        refine fg_X0_116 (q := 43) C hC.2.1 rfl dX0_setTold_40 rfl ?_
        refine gx_aload (q := 45) C dX0_setTold_43 rfl rfl ?_
        refine fg_X0_120 (q := 48) C hC.2.1 rfl dX0_setTold_45 rfl ?_
        refine gx_new (q := 51) (ci := 14) (fs := [.int 0, .int 0, .int 0]) C E rfl in_X14 tyX14 tyX14_ok q424 q425 q85 (by decide) (by omega) (by omega) dX0_setTold_48 rfl ?_
        have hN : (M ++ [ob 14 [.int 0, .int 0, .int 0]])[M.length]? = some (ob 14 [.int 0, .int 0, .int 0]) := by rw [List.getElem?_append_right (Nat.le_refl _), Nat.sub_self]; rfl
        refine gx_dup (q := 52) C dX0_setTold_51 rfl rfl ?_
        refine gx_iload (q := 54) C dX0_setTold_52 rfl rfl ?_
        refine gx_iload_n (q := 55) C dX0_setTold_54 rfl rfl rfl ?_
        refine gx_iconst (q := 56) (v := nI 0) C dX0_setTold_55 (by decide) rfl ?_
        refine gx_cv (q := 59) C E (sx_X0_25 (As := [_, _, _]) C rfl rfl dX0_setTold_56) (ti_X14_14 _ _ _ _ M.length q f 0 hN) kw_X14_init (by decide) (Nat.le_of_ble_eq_true rfl) rfl rfl (by omega) (by omega) dX0_setTold_56 rfl (fun M1 r1 => ?_)
        rw [r1, List.set_append_right _ _ (Nat.le_refl _), Nat.sub_self]
        have hL1 : 54 ≤ M.length := Nat.le_trans hL hG.1
        have hX := hX.app ([ob 14 [.int 0, .int 0, .int 0]].set 0 (ob 14 [.int (nI q), .int (nI f), .int (nI 0)]))
        have hG := hG.app ([ob 14 [.int 0, .int 0, .int 0]].set 0 (ob 14 [.int (nI q), .int (nI f), .int (nI 0)]))
        have hj : (M ++ [ob 14 [.int 0, .int 0, .int 0]].set 0 (ob 14 [.int (nI q), .int (nI f), .int (nI 0)]))[M.length]? = some (ob (14 + 0) [.int (nI q), .int (nI f), .int (nI 0)]) := by rw [List.getElem?_append_right (Nat.le_refl _), Nat.sub_self]; rfl
        generalize M.length = jn at hj hL1 ⊢
        generalize M ++ [ob 14 [.int 0, .int 0, .int 0]].set 0 (ob 14 [.int (nI q), .int (nI f), .int (nI 0)]) = M at hX hG hj ⊢
        clear hC y2 y4 y5 y6 y7 y8 y9
        obtain ⟨fl, fg, fh, fn, ft, fp, fy, hC, y2, y4, y5, y6, y7, y8, y9⟩ := hX.m.C
        have hF1 := tw_F.rf 14 M
        refine tc_ast (q := 60) C hC hF1 (by omega) hj (by decide) dX0_setTold_59 rfl (fun M hC hF1 => ?_)
        refine gx_aload (q := 62) C dX0_setTold_60 rfl rfl ?_
        refine gx_dup (q := 63) C dX0_setTold_62 rfl rfl ?_
        refine fg_X0_120 (q := 66) C hC.2.1 rfl dX0_setTold_63 rfl ?_
        refine gx_iconst (q := 67) (v := nI 1) C dX0_setTold_66 (by decide) rfl ?_
        refine gn_iadd (q := 68) C dX0_setTold_67 rfl ?_
        refine tc_pf_X0_trees (q := 71) C hC hF1 dX0_setTold_68 rfl (fun M hC hF1 => ?_)
        have hV1 := hC.more y2 y4 y5 y6 y7 y8 y9 hF1 h6 hL1 (by decide) hj
        have hX := hX.u2 hV1 hF1
        have hG := hG.tw hF1 (by decide)
        have hkm : okT (moT T 0 q f 0) := moT_ok hk h6 (by omega) hq h1 h2 (by omega)
        refine gx_aload (q := 73) C dX0_setTold_71 rfl rfl ?_
        refine gx_cs (q := 76) C E (sx_X0_123 (As := []) C hC.2.1 rfl rfl dX0_setTold_73) (tx_find _ _ _ _ hX.m hkm) kw_X1_find (by decide) (Nat.le_of_ble_eq_true rfl) rfl rfl (by omega) (by omega) dX0_setTold_73 rfl (fun M r73 => ?_)
        obtain ⟨⟨Ym, hYm, hV1⟩, hF1⟩ := r73
        have hX := hX.u2 hV1 hF1
        have hG := hG.tw hF1 (by decide)
        refine gx_iload_n (q := 77) C dX0_setTold_76 rfl rfl rfl ?_
        refine gx_cp (q := 80) C E (sx_X0_126 (As := [_]) C hX.m.o rfl rfl dX0_setTold_77) (tx_share _ _ _ _ g (by omega) hX.m hkm) kw_X1_share (by decide) (Nat.le_of_ble_eq_true rfl) (by omega) (by omega) dX0_setTold_77 rfl ?_
        refine gx_top (show _ = nI (setV T g f q) by rw [shL_f hYm]; rfl) ?_
        refine gx_istore (q := 82) (lv' := [_, _, _, _, _, _, _, _, _]) C dX0_setTold_80 (Nat.le_of_ble_eq_true rfl) E.2.2.2.symm rfl rfl rfl ?_
        rcases hst : stS (setO T) (setV T g f) q with _ | p
        · rw [bs1_n, bs2_n]
          rw [stS_n hoc hst, bs1_s, bs2_s] at ih
          refine gx_iload (q := 84) C dX0_setTold_82 rfl rfl ?_
          refine gx_iload (q := 86) C dX0_setTold_84 rfl rfl ?_
          refine gx_icmp_le (q := 89) (tgt := 94) C dX0_setTold_86 (by decide) rfl (fun c86 => by exfalso; exact nI_g9 (by omega) c86) (fun c86 => ?_)
          refine gx_iload (q := 91) C dX0_setTold_89 rfl rfl ?_
          refine gx_goto (tgt := 96) C dX0_setTold_91 (by decide) ?_
          refine gx_istore (q := 98) (lv' := [_, _, _, _, _, _, _, _, _]) C dX0_setTold_96 (Nat.le_of_ble_eq_true rfl) E.2.2.2.symm rfl rfl rfl ?_
          refine gx_iload (q := 100) C dX0_setTold_98 rfl rfl ?_
          refine gx_iload (q := 102) C dX0_setTold_100 rfl rfl ?_
          refine gm_max9 (q := 105) (by omega) C E q870 (by decide) (Nat.le_of_ble_eq_true rfl) (by omega) (by omega) dX0_setTold_102 rfl ?_
          refine gx_istore (q := 107) (lv' := [_, _, _, _, _, _, _, _, _]) C dX0_setTold_105 (Nat.le_of_ble_eq_true rfl) E.2.2.2.symm rfl rfl rfl ?_
          refine gn_inc (q := 110) (lv' := [_, _, _, _, _, _, _, _, _]) C dX0_setTold_107 rfl E.2.2.2.symm rfl rfl rfl ?_
          refine gx_goto (tgt := 11) C dX0_setTold_110 (by decide) ?_
          refine gx_widen (k' := q + 1) (n' := 3 * (q + 1)) (by omega) (by omega) ?_
          first | exact ih M _ _ _ hX hG | (refine gx_drop 7 ?_; refine gx_drop 8 ?_; exact ih M _ _ _ hX hG)
        · obtain ⟨hp1, hp2⟩ := stS_b (m := 129600) q (fun i hi => setV_le hk h6 (by omega) h1 h2) p hst
          rw [bs1_s, bs2_s]
          refine gx_iload (q := 84) C dX0_setTold_82 rfl rfl ?_
          refine gx_iload (q := 86) C dX0_setTold_84 rfl rfl ?_
          refine gn_icmp_le (q := 89) (tgt := 94) C dX0_setTold_86 (by decide) rfl (by omega) (by omega) (fun c86 => ?_) (fun c86 => ?_)
          · rw [stS_f hoc hst c86, bs1_s, bs2_s] at ih
            have hmx : max p.2 (setV T g f q) = p.2 := Nat.max_eq_left c86
            refine gx_iload (q := 96) C dX0_setTold_94 rfl rfl ?_
            refine gx_istore (q := 98) (lv' := [_, _, _, _, _, _, _, _, _]) C dX0_setTold_96 (Nat.le_of_ble_eq_true rfl) E.2.2.2.symm rfl rfl rfl ?_
            refine gx_iload (q := 100) C dX0_setTold_98 rfl rfl ?_
            refine gx_iload (q := 102) C dX0_setTold_100 rfl rfl ?_
            refine gm_max (q := 105) (by omega) (by omega) C E q870 (by decide) (Nat.le_of_ble_eq_true rfl) (by omega) (by omega) dX0_setTold_102 rfl ?_
            rw [hmx]
            refine gx_istore (q := 107) (lv' := [_, _, _, _, _, _, _, _, _]) C dX0_setTold_105 (Nat.le_of_ble_eq_true rfl) E.2.2.2.symm rfl rfl rfl ?_
            refine gn_inc (q := 110) (lv' := [_, _, _, _, _, _, _, _, _]) C dX0_setTold_107 rfl E.2.2.2.symm rfl rfl rfl ?_
            refine gx_goto (tgt := 11) C dX0_setTold_110 (by decide) ?_
            refine gx_widen (k' := q + 1) (n' := 3 * (q + 1)) (by omega) (by omega) ?_
            first | exact ih M _ _ _ hX hG | (refine gx_drop 7 ?_; refine gx_drop 8 ?_; exact ih M _ _ _ hX hG)
          · rw [stS_t hoc hst (by omega), bs1_s, bs2_s] at ih
            have hmx : max p.2 (setV T g f q) = setV T g f q := Nat.max_eq_right (by omega)
            refine gx_iload (q := 91) C dX0_setTold_89 rfl rfl ?_
            refine gx_goto (tgt := 96) C dX0_setTold_91 (by decide) ?_
            refine gx_istore (q := 98) (lv' := [_, _, _, _, _, _, _, _, _]) C dX0_setTold_96 (Nat.le_of_ble_eq_true rfl) E.2.2.2.symm rfl rfl rfl ?_
            refine gx_iload (q := 100) C dX0_setTold_98 rfl rfl ?_
            refine gx_iload (q := 102) C dX0_setTold_100 rfl rfl ?_
            refine gm_max (q := 105) (by omega) (by omega) C E q870 (by decide) (Nat.le_of_ble_eq_true rfl) (by omega) (by omega) dX0_setTold_102 rfl ?_
            rw [hmx]
            refine gx_istore (q := 107) (lv' := [_, _, _, _, _, _, _, _, _]) C dX0_setTold_105 (Nat.le_of_ble_eq_true rfl) E.2.2.2.symm rfl rfl rfl ?_
            refine gn_inc (q := 110) (lv' := [_, _, _, _, _, _, _, _, _]) C dX0_setTold_107 rfl E.2.2.2.symm rfl rfl rfl ?_
            refine gx_goto (tgt := 11) C dX0_setTold_110 (by decide) ?_
            refine gx_widen (k' := q + 1) (n' := 3 * (q + 1)) (by omega) (by omega) ?_
            first | exact ih M _ _ _ hX hG | (refine gx_drop 7 ?_; refine gx_drop 8 ?_; exact ih M _ _ _ hX hG)
  exact Lq 0 (by omega) M0 _ _ _ hX hG
