/-! what is told: its constructors -/
set_option maxRecDepth 100000
set_option maxHeartbeats 800000 in
theorem td_X12_20 (l : Launch) (D : va_G) (b : Nat) (M : List va_E) (j : Nat) (a : Nat) (hM : M[j]? = some (ob 20 [.int 0, .int 0, .int 0])) : fb_CT l D b yX12_init cX12_init 2 none 1 14 0 0 [.ref (b + j), .int (nI a)] M (.returned none) (fun M' => M' = M.set j (ob 20 [.int (nI a), .int 0, .int 0])) := by
  refine fb_start [some (.ref (b + j)), some (.int (nI a))] (by decide) (Nat.le_of_ble_eq_true rfl) rfl ?_
  intro x hl hD hb C E hx
  subst hl hD hb
  have C : fb_OK x cX12_init "FallsBetween$Told" "<init>" := C
  refine gx_aload_n (q := 1) C dX12_init_0 rfl rfl rfl ?_
  refine gx_objInit (q := 4) C E q506 q104 q105 (by decide) (Nat.le_of_ble_eq_true rfl) dX12_init_1 rfl ?_
  refine gx_aload_n (q := 5) C dX12_init_4 rfl rfl rfl ?_
  refine gx_iload_n (q := 6) C dX12_init_5 rfl rfl rfl ?_
  refine fp_X12_7_X20 (q := 9) C hM rfl dX12_init_6 rfl ?_
  exact gx_vret C E dX12_init_9 (rfl) (by omega) (by omega)
set_option maxHeartbeats 800000 in
theorem td_X12_21 (l : Launch) (D : va_G) (b : Nat) (M : List va_E) (j : Nat) (a : Nat) (hM : M[j]? = some (ob 21 [.int 0, .int 0, .int 0])) : fb_CT l D b yX12_init cX12_init 2 none 1 14 0 0 [.ref (b + j), .int (nI a)] M (.returned none) (fun M' => M' = M.set j (ob 21 [.int (nI a), .int 0, .int 0])) := by
  refine fb_start [some (.ref (b + j)), some (.int (nI a))] (by decide) (Nat.le_of_ble_eq_true rfl) rfl ?_
  intro x hl hD hb C E hx
  subst hl hD hb
  have C : fb_OK x cX12_init "FallsBetween$Told" "<init>" := C
  refine gx_aload_n (q := 1) C dX12_init_0 rfl rfl rfl ?_
  refine gx_objInit (q := 4) C E q506 q104 q105 (by decide) (Nat.le_of_ble_eq_true rfl) dX12_init_1 rfl ?_
  refine gx_aload_n (q := 5) C dX12_init_4 rfl rfl rfl ?_
  refine gx_iload_n (q := 6) C dX12_init_5 rfl rfl rfl ?_
  refine fp_X12_7_X21 (q := 9) C hM rfl dX12_init_6 rfl ?_
  exact gx_vret C E dX12_init_9 (rfl) (by omega) (by omega)
set_option maxHeartbeats 800000 in
theorem td_X12_22 (l : Launch) (D : va_G) (b : Nat) (M : List va_E) (j : Nat) (a : Nat) (hM : M[j]? = some (ob 22 [.int 0, .int 0, .int 0])) : fb_CT l D b yX12_init cX12_init 2 none 1 14 0 0 [.ref (b + j), .int (nI a)] M (.returned none) (fun M' => M' = M.set j (ob 22 [.int (nI a), .int 0, .int 0])) := by
  refine fb_start [some (.ref (b + j)), some (.int (nI a))] (by decide) (Nat.le_of_ble_eq_true rfl) rfl ?_
  intro x hl hD hb C E hx
  subst hl hD hb
  have C : fb_OK x cX12_init "FallsBetween$Told" "<init>" := C
  refine gx_aload_n (q := 1) C dX12_init_0 rfl rfl rfl ?_
  refine gx_objInit (q := 4) C E q506 q104 q105 (by decide) (Nat.le_of_ble_eq_true rfl) dX12_init_1 rfl ?_
  refine gx_aload_n (q := 5) C dX12_init_4 rfl rfl rfl ?_
  refine gx_iload_n (q := 6) C dX12_init_5 rfl rfl rfl ?_
  refine fp_X12_7_X22 (q := 9) C hM rfl dX12_init_6 rfl ?_
  exact gx_vret C E dX12_init_9 (rfl) (by omega) (by omega)
set_option maxHeartbeats 800000 in
theorem td_X12_24 (l : Launch) (D : va_G) (b : Nat) (M : List va_E) (j : Nat) (a : Nat) (hM : M[j]? = some (ob 24 [.int 0, .int 0, .int 0])) : fb_CT l D b yX12_init cX12_init 2 none 1 14 0 0 [.ref (b + j), .int (nI a)] M (.returned none) (fun M' => M' = M.set j (ob 24 [.int (nI a), .int 0, .int 0])) := by
  refine fb_start [some (.ref (b + j)), some (.int (nI a))] (by decide) (Nat.le_of_ble_eq_true rfl) rfl ?_
  intro x hl hD hb C E hx
  subst hl hD hb
  have C : fb_OK x cX12_init "FallsBetween$Told" "<init>" := C
  refine gx_aload_n (q := 1) C dX12_init_0 rfl rfl rfl ?_
  refine gx_objInit (q := 4) C E q506 q104 q105 (by decide) (Nat.le_of_ble_eq_true rfl) dX12_init_1 rfl ?_
  refine gx_aload_n (q := 5) C dX12_init_4 rfl rfl rfl ?_
  refine gx_iload_n (q := 6) C dX12_init_5 rfl rfl rfl ?_
  refine fp_X12_7_X24 (q := 9) C hM rfl dX12_init_6 rfl ?_
  exact gx_vret C E dX12_init_9 (rfl) (by omega) (by omega)
set_option maxHeartbeats 800000 in
theorem td_X12_23 (l : Launch) (D : va_G) (b : Nat) (M : List va_E) (j : Nat) (a : Nat) (hM : M[j]? = some (ob 23 [.int 0, .int 0, .int 0])) : fb_CT l D b yX12_init cX12_init 2 none 1 14 0 0 [.ref (b + j), .int (nI a)] M (.returned none) (fun M' => M' = M.set j (ob 23 [.int (nI a), .int 0, .int 0])) := by
  refine fb_start [some (.ref (b + j)), some (.int (nI a))] (by decide) (Nat.le_of_ble_eq_true rfl) rfl ?_
  intro x hl hD hb C E hx
  subst hl hD hb
  have C : fb_OK x cX12_init "FallsBetween$Told" "<init>" := C
  refine gx_aload_n (q := 1) C dX12_init_0 rfl rfl rfl ?_
  refine gx_objInit (q := 4) C E q506 q104 q105 (by decide) (Nat.le_of_ble_eq_true rfl) dX12_init_1 rfl ?_
  refine gx_aload_n (q := 5) C dX12_init_4 rfl rfl rfl ?_
  refine gx_iload_n (q := 6) C dX12_init_5 rfl rfl rfl ?_
  refine fp_X12_7_X23 (q := 9) C hM rfl dX12_init_6 rfl ?_
  exact gx_vret C E dX12_init_9 (rfl) (by omega) (by omega)
set_option maxHeartbeats 800000 in
theorem td_X12_13 (l : Launch) (D : va_G) (b : Nat) (M : List va_E) (j : Nat) (a : Nat) (hM : M[j]? = some (ob 13 [.int 0, .null])) : fb_CT l D b yX12_init cX12_init 2 none 1 14 0 0 [.ref (b + j), .int (nI a)] M (.returned none) (fun M' => M' = M.set j (ob 13 [.int (nI a), .null])) := by
  refine fb_start [some (.ref (b + j)), some (.int (nI a))] (by decide) (Nat.le_of_ble_eq_true rfl) rfl ?_
  intro x hl hD hb C E hx
  subst hl hD hb
  have C : fb_OK x cX12_init "FallsBetween$Told" "<init>" := C
  refine gx_aload_n (q := 1) C dX12_init_0 rfl rfl rfl ?_
  refine gx_objInit (q := 4) C E q506 q104 q105 (by decide) (Nat.le_of_ble_eq_true rfl) dX12_init_1 rfl ?_
  refine gx_aload_n (q := 5) C dX12_init_4 rfl rfl rfl ?_
  refine gx_iload_n (q := 6) C dX12_init_5 rfl rfl rfl ?_
  refine fp_X12_7_X13 (q := 9) C hM rfl dX12_init_6 rfl ?_
  exact gx_vret C E dX12_init_9 (rfl) (by omega) (by omega)
set_option maxHeartbeats 800000 in
theorem td_X20_20 (l : Launch) (D : va_G) (b : Nat) (M : List va_E) (j : Nat) (a q v : Nat) (hM : M[j]? = some (ob 20 [.int 0, .int 0, .int 0])) : fb_CT l D b yX20_init cX20_init 4 none 2 35 0 0 [.ref (b + j), .int (nI a), .int (nI q), .int (nI v)] M (.returned none) (fun M' => M' = M.set j (ob 20 [.int (nI a), .int (nI q), .int (nI v)])) := by
  refine fb_start [some (.ref (b + j)), some (.int (nI a)), some (.int (nI q)), some (.int (nI v))] (by decide) (Nat.le_of_ble_eq_true rfl) rfl ?_
  intro x hl hD hb C E hx
  subst hl hD hb
  have C : fb_OK x cX20_init "FallsBetween$SquareTold" "<init>" := C
  refine gx_aload_n (q := 1) C dX20_init_0 rfl rfl rfl ?_
  refine gx_iload_n (q := 2) C dX20_init_1 rfl rfl rfl ?_
  refine gx_cv (q := 5) C E (sx_X20_3 (As := [_]) C rfl rfl dX20_init_2) (td_X12_20 _ _ _ _ j a hM) kw_X12_init (by decide) (Nat.le_of_ble_eq_true rfl) rfl rfl (by omega) (by omega) dX20_init_2 rfl (fun M1 r1 => ?_)
  rw [r1]
  have hl := (List.getElem?_eq_some_iff.mp hM).1
  have hM := List.getElem?_set_self (a := ob 20 [.int (nI a), .int 0, .int 0]) hl
  refine gx_aload_n (q := 6) C dX20_init_5 rfl rfl rfl ?_
  refine gx_iload_n (q := 7) C dX20_init_6 rfl rfl rfl ?_
  refine fp_X20_9_X20 (q := 10) C hM rfl dX20_init_7 rfl ?_
  rw [List.set_set]
  have hM := List.getElem?_set_self (a := ob 20 [.int (nI a), .int (nI q), .int 0]) hl
  refine gx_aload_n (q := 11) C dX20_init_10 rfl rfl rfl ?_
  refine gx_iload_n (q := 12) C dX20_init_11 rfl rfl rfl ?_
  refine fp_X20_15_X20 (q := 15) C hM rfl dX20_init_12 rfl ?_
  rw [List.set_set]
  exact gx_vret C E dX20_init_15 (rfl) (by omega) (by omega)
set_option maxHeartbeats 800000 in
theorem td_X20_21 (l : Launch) (D : va_G) (b : Nat) (M : List va_E) (j : Nat) (a q v : Nat) (hM : M[j]? = some (ob 21 [.int 0, .int 0, .int 0])) : fb_CT l D b yX20_init cX20_init 4 none 2 35 0 0 [.ref (b + j), .int (nI a), .int (nI q), .int (nI v)] M (.returned none) (fun M' => M' = M.set j (ob 21 [.int (nI a), .int (nI q), .int (nI v)])) := by
  refine fb_start [some (.ref (b + j)), some (.int (nI a)), some (.int (nI q)), some (.int (nI v))] (by decide) (Nat.le_of_ble_eq_true rfl) rfl ?_
  intro x hl hD hb C E hx
  subst hl hD hb
  have C : fb_OK x cX20_init "FallsBetween$SquareTold" "<init>" := C
  refine gx_aload_n (q := 1) C dX20_init_0 rfl rfl rfl ?_
  refine gx_iload_n (q := 2) C dX20_init_1 rfl rfl rfl ?_
  refine gx_cv (q := 5) C E (sx_X20_3 (As := [_]) C rfl rfl dX20_init_2) (td_X12_21 _ _ _ _ j a hM) kw_X12_init (by decide) (Nat.le_of_ble_eq_true rfl) rfl rfl (by omega) (by omega) dX20_init_2 rfl (fun M1 r1 => ?_)
  rw [r1]
  have hl := (List.getElem?_eq_some_iff.mp hM).1
  have hM := List.getElem?_set_self (a := ob 21 [.int (nI a), .int 0, .int 0]) hl
  refine gx_aload_n (q := 6) C dX20_init_5 rfl rfl rfl ?_
  refine gx_iload_n (q := 7) C dX20_init_6 rfl rfl rfl ?_
  refine fp_X20_9_X21 (q := 10) C hM rfl dX20_init_7 rfl ?_
  rw [List.set_set]
  have hM := List.getElem?_set_self (a := ob 21 [.int (nI a), .int (nI q), .int 0]) hl
  refine gx_aload_n (q := 11) C dX20_init_10 rfl rfl rfl ?_
  refine gx_iload_n (q := 12) C dX20_init_11 rfl rfl rfl ?_
  refine fp_X20_15_X21 (q := 15) C hM rfl dX20_init_12 rfl ?_
  rw [List.set_set]
  exact gx_vret C E dX20_init_15 (rfl) (by omega) (by omega)
set_option maxHeartbeats 800000 in
theorem td_X20_22 (l : Launch) (D : va_G) (b : Nat) (M : List va_E) (j : Nat) (a q v : Nat) (hM : M[j]? = some (ob 22 [.int 0, .int 0, .int 0])) : fb_CT l D b yX20_init cX20_init 4 none 2 35 0 0 [.ref (b + j), .int (nI a), .int (nI q), .int (nI v)] M (.returned none) (fun M' => M' = M.set j (ob 22 [.int (nI a), .int (nI q), .int (nI v)])) := by
  refine fb_start [some (.ref (b + j)), some (.int (nI a)), some (.int (nI q)), some (.int (nI v))] (by decide) (Nat.le_of_ble_eq_true rfl) rfl ?_
  intro x hl hD hb C E hx
  subst hl hD hb
  have C : fb_OK x cX20_init "FallsBetween$SquareTold" "<init>" := C
  refine gx_aload_n (q := 1) C dX20_init_0 rfl rfl rfl ?_
  refine gx_iload_n (q := 2) C dX20_init_1 rfl rfl rfl ?_
  refine gx_cv (q := 5) C E (sx_X20_3 (As := [_]) C rfl rfl dX20_init_2) (td_X12_22 _ _ _ _ j a hM) kw_X12_init (by decide) (Nat.le_of_ble_eq_true rfl) rfl rfl (by omega) (by omega) dX20_init_2 rfl (fun M1 r1 => ?_)
  rw [r1]
  have hl := (List.getElem?_eq_some_iff.mp hM).1
  have hM := List.getElem?_set_self (a := ob 22 [.int (nI a), .int 0, .int 0]) hl
  refine gx_aload_n (q := 6) C dX20_init_5 rfl rfl rfl ?_
  refine gx_iload_n (q := 7) C dX20_init_6 rfl rfl rfl ?_
  refine fp_X20_9_X22 (q := 10) C hM rfl dX20_init_7 rfl ?_
  rw [List.set_set]
  have hM := List.getElem?_set_self (a := ob 22 [.int (nI a), .int (nI q), .int 0]) hl
  refine gx_aload_n (q := 11) C dX20_init_10 rfl rfl rfl ?_
  refine gx_iload_n (q := 12) C dX20_init_11 rfl rfl rfl ?_
  refine fp_X20_15_X22 (q := 15) C hM rfl dX20_init_12 rfl ?_
  rw [List.set_set]
  exact gx_vret C E dX20_init_15 (rfl) (by omega) (by omega)
set_option maxHeartbeats 800000 in
theorem td_X20_24 (l : Launch) (D : va_G) (b : Nat) (M : List va_E) (j : Nat) (a q v : Nat) (hM : M[j]? = some (ob 24 [.int 0, .int 0, .int 0])) : fb_CT l D b yX20_init cX20_init 4 none 2 35 0 0 [.ref (b + j), .int (nI a), .int (nI q), .int (nI v)] M (.returned none) (fun M' => M' = M.set j (ob 24 [.int (nI a), .int (nI q), .int (nI v)])) := by
  refine fb_start [some (.ref (b + j)), some (.int (nI a)), some (.int (nI q)), some (.int (nI v))] (by decide) (Nat.le_of_ble_eq_true rfl) rfl ?_
  intro x hl hD hb C E hx
  subst hl hD hb
  have C : fb_OK x cX20_init "FallsBetween$SquareTold" "<init>" := C
  refine gx_aload_n (q := 1) C dX20_init_0 rfl rfl rfl ?_
  refine gx_iload_n (q := 2) C dX20_init_1 rfl rfl rfl ?_
  refine gx_cv (q := 5) C E (sx_X20_3 (As := [_]) C rfl rfl dX20_init_2) (td_X12_24 _ _ _ _ j a hM) kw_X12_init (by decide) (Nat.le_of_ble_eq_true rfl) rfl rfl (by omega) (by omega) dX20_init_2 rfl (fun M1 r1 => ?_)
  rw [r1]
  have hl := (List.getElem?_eq_some_iff.mp hM).1
  have hM := List.getElem?_set_self (a := ob 24 [.int (nI a), .int 0, .int 0]) hl
  refine gx_aload_n (q := 6) C dX20_init_5 rfl rfl rfl ?_
  refine gx_iload_n (q := 7) C dX20_init_6 rfl rfl rfl ?_
  refine fp_X20_9_X24 (q := 10) C hM rfl dX20_init_7 rfl ?_
  rw [List.set_set]
  have hM := List.getElem?_set_self (a := ob 24 [.int (nI a), .int (nI q), .int 0]) hl
  refine gx_aload_n (q := 11) C dX20_init_10 rfl rfl rfl ?_
  refine gx_iload_n (q := 12) C dX20_init_11 rfl rfl rfl ?_
  refine fp_X20_15_X24 (q := 15) C hM rfl dX20_init_12 rfl ?_
  rw [List.set_set]
  exact gx_vret C E dX20_init_15 (rfl) (by omega) (by omega)
set_option maxHeartbeats 800000 in
theorem td_X21_21 (l : Launch) (D : va_G) (b : Nat) (M : List va_E) (j : Nat) (a q v : Nat) (hM : M[j]? = some (ob 21 [.int 0, .int 0, .int 0])) : fb_CT l D b yX21_init cX21_init 4 none 3 58 0 0 [.ref (b + j), .int (nI a), .int (nI q), .int (nI v)] M (.returned none) (fun M' => M' = M.set j (ob 21 [.int (nI a), .int (nI q), .int (nI v)])) := by
  refine fb_start [some (.ref (b + j)), some (.int (nI a)), some (.int (nI q)), some (.int (nI v))] (by decide) (Nat.le_of_ble_eq_true rfl) rfl ?_
  intro x hl hD hb C E hx
  subst hl hD hb
  have C : fb_OK x cX21_init "FallsBetween$GardenTold" "<init>" := C
  refine gx_aload_n (q := 1) C dX21_init_0 rfl rfl rfl ?_
  refine gx_iload_n (q := 2) C dX21_init_1 rfl rfl rfl ?_
  refine gx_iload_n (q := 3) C dX21_init_2 rfl rfl rfl ?_
  refine gx_iload_n (q := 4) C dX21_init_3 rfl rfl rfl ?_
  refine gx_cv (q := 7) C E (sx_X21_3 (As := [_, _, _]) C rfl rfl dX21_init_4) (td_X20_21 _ _ _ _ j a q v hM) kw_X20_init (by decide) (Nat.le_of_ble_eq_true rfl) rfl rfl (by omega) (by omega) dX21_init_4 rfl (fun M1 r1 => ?_)
  rw [r1]
  exact gx_vret C E dX21_init_7 (rfl) (by omega) (by omega)
set_option maxHeartbeats 800000 in
theorem td_X21_22 (l : Launch) (D : va_G) (b : Nat) (M : List va_E) (j : Nat) (a q v : Nat) (hM : M[j]? = some (ob 22 [.int 0, .int 0, .int 0])) : fb_CT l D b yX21_init cX21_init 4 none 3 58 0 0 [.ref (b + j), .int (nI a), .int (nI q), .int (nI v)] M (.returned none) (fun M' => M' = M.set j (ob 22 [.int (nI a), .int (nI q), .int (nI v)])) := by
  refine fb_start [some (.ref (b + j)), some (.int (nI a)), some (.int (nI q)), some (.int (nI v))] (by decide) (Nat.le_of_ble_eq_true rfl) rfl ?_
  intro x hl hD hb C E hx
  subst hl hD hb
  have C : fb_OK x cX21_init "FallsBetween$GardenTold" "<init>" := C
  refine gx_aload_n (q := 1) C dX21_init_0 rfl rfl rfl ?_
  refine gx_iload_n (q := 2) C dX21_init_1 rfl rfl rfl ?_
  refine gx_iload_n (q := 3) C dX21_init_2 rfl rfl rfl ?_
  refine gx_iload_n (q := 4) C dX21_init_3 rfl rfl rfl ?_
  refine gx_cv (q := 7) C E (sx_X21_3 (As := [_, _, _]) C rfl rfl dX21_init_4) (td_X20_22 _ _ _ _ j a q v hM) kw_X20_init (by decide) (Nat.le_of_ble_eq_true rfl) rfl rfl (by omega) (by omega) dX21_init_4 rfl (fun M1 r1 => ?_)
  rw [r1]
  exact gx_vret C E dX21_init_7 (rfl) (by omega) (by omega)
set_option maxHeartbeats 800000 in
theorem td_X22_22 (l : Launch) (D : va_G) (b : Nat) (M : List va_E) (j : Nat) (a q v : Nat) (hM : M[j]? = some (ob 22 [.int 0, .int 0, .int 0])) : fb_CT l D b yX22_init cX22_init 4 none 4 81 0 0 [.ref (b + j), .int (nI a), .int (nI q), .int (nI v)] M (.returned none) (fun M' => M' = M.set j (ob 22 [.int (nI a), .int (nI q), .int (nI v)])) := by
  refine fb_start [some (.ref (b + j)), some (.int (nI a)), some (.int (nI q)), some (.int (nI v))] (by decide) (Nat.le_of_ble_eq_true rfl) rfl ?_
  intro x hl hD hb C E hx
  subst hl hD hb
  have C : fb_OK x cX22_init "FallsBetween$ColumnTold" "<init>" := C
  refine gx_aload_n (q := 1) C dX22_init_0 rfl rfl rfl ?_
  refine gx_iload_n (q := 2) C dX22_init_1 rfl rfl rfl ?_
  refine gx_iload_n (q := 3) C dX22_init_2 rfl rfl rfl ?_
  refine gx_iload_n (q := 4) C dX22_init_3 rfl rfl rfl ?_
  refine gx_cv (q := 7) C E (sx_X22_3 (As := [_, _, _]) C rfl rfl dX22_init_4) (td_X21_22 _ _ _ _ j a q v hM) kw_X21_init (by decide) (Nat.le_of_ble_eq_true rfl) rfl rfl (by omega) (by omega) dX22_init_4 rfl (fun M1 r1 => ?_)
  rw [r1]
  exact gx_vret C E dX22_init_7 (rfl) (by omega) (by omega)
set_option maxHeartbeats 800000 in
theorem td_X24_24 (l : Launch) (D : va_G) (b : Nat) (M : List va_E) (j : Nat) (a q : Nat) (hM : M[j]? = some (ob 24 [.int 0, .int 0, .int 0])) : fb_CT l D b yX24_init cX24_init 3 none 3 58 0 0 [.ref (b + j), .int (nI a), .int (nI q)] M (.returned none) (fun M' => M' = M.set j (ob 24 [.int (nI a), .int (nI q), .int (nI 0)])) := by
  refine fb_start [some (.ref (b + j)), some (.int (nI a)), some (.int (nI q))] (by decide) (Nat.le_of_ble_eq_true rfl) rfl ?_
  intro x hl hD hb C E hx
  subst hl hD hb
  have C : fb_OK x cX24_init "FallsBetween$NetTold" "<init>" := C
  refine gx_aload_n (q := 1) C dX24_init_0 rfl rfl rfl ?_
  refine gx_iload_n (q := 2) C dX24_init_1 rfl rfl rfl ?_
  refine gx_iload_n (q := 3) C dX24_init_2 rfl rfl rfl ?_
  refine gx_iconst (q := 4) (v := nI 0) C dX24_init_3 (by decide) rfl ?_
  refine gx_cv (q := 7) C E (sx_X24_1 (As := [_, _, _]) C rfl rfl dX24_init_4) (td_X20_24 _ _ _ _ j a q 0 hM) kw_X20_init (by decide) (Nat.le_of_ble_eq_true rfl) rfl rfl (by omega) (by omega) dX24_init_4 rfl (fun M1 r1 => ?_)
  rw [r1]
  exact gx_vret C E dX24_init_7 (rfl) (by omega) (by omega)
set_option maxHeartbeats 800000 in
theorem td_X23_23 (l : Launch) (D : va_G) (b : Nat) (M : List va_E) (j : Nat) (a v : Nat) (z : Bool) (hM : M[j]? = some (ob 23 [.int 0, .int 0, .int 0])) : fb_CT l D b yX23_init cX23_init 4 none 2 35 0 0 [.ref (b + j), .int (nI a), .int (bI z), .int (nI v)] M (.returned none) (fun M' => M' = M.set j (ob 23 [.int (nI a), .int (bI z), .int (nI v)])) := by
  refine fb_start [some (.ref (b + j)), some (.int (nI a)), some (.int (bI z)), some (.int (nI v))] (by decide) (Nat.le_of_ble_eq_true rfl) rfl ?_
  intro x hl hD hb C E hx
  subst hl hD hb
  have C : fb_OK x cX23_init "FallsBetween$NumberTold" "<init>" := C
  refine gx_aload_n (q := 1) C dX23_init_0 rfl rfl rfl ?_
  refine gx_iload_n (q := 2) C dX23_init_1 rfl rfl rfl ?_
  refine gx_cv (q := 5) C E (sx_X23_1 (As := [_]) C rfl rfl dX23_init_2) (td_X12_23 _ _ _ _ j a hM) kw_X12_init (by decide) (Nat.le_of_ble_eq_true rfl) rfl rfl (by omega) (by omega) dX23_init_2 rfl (fun M1 r1 => ?_)
  rw [r1]
  have hl := (List.getElem?_eq_some_iff.mp hM).1
  have hM := List.getElem?_set_self (a := ob 23 [.int (nI a), .int 0, .int 0]) hl
  refine gx_aload_n (q := 6) C dX23_init_5 rfl rfl rfl ?_
  refine gx_iload_n (q := 7) C dX23_init_6 rfl rfl rfl ?_
  refine fp_X23_7 (q := 10) C hM (bI_nar z) (by cases z <;> rfl) rfl dX23_init_7 rfl ?_
  rw [List.set_set]
  have hM := List.getElem?_set_self (a := ob 23 [.int (nI a), .int (bI z), .int 0]) hl
  refine gx_aload_n (q := 11) C dX23_init_10 rfl rfl rfl ?_
  refine gx_iload_n (q := 12) C dX23_init_11 rfl rfl rfl ?_
  refine fp_X23_13 (q := 15) C hM rfl dX23_init_12 rfl ?_
  rw [List.set_set]
  exact gx_vret C E dX23_init_15 (rfl) (by omega) (by omega)
set_option maxHeartbeats 800000 in
theorem td_X13_13 (l : Launch) (D : va_G) (b : Nat) (M : List va_E) (j : Nat) (a jt : Nat) (hM : M[j]? = some (ob 13 [.int 0, .null])) : fb_CT l D b yX13_init cX13_init 3 none 2 35 0 0 [.ref (b + j), .int (nI a), .ref (b + jt)] M (.returned none) (fun M' => M' = M.set j (ob 13 [.int (nI a), .ref (b + jt)])) := by
  refine fb_start [some (.ref (b + j)), some (.int (nI a)), some (.ref (b + jt))] (by decide) (Nat.le_of_ble_eq_true rfl) rfl ?_
  intro x hl hD hb C E hx
  subst hl hD hb
  have C : fb_OK x cX13_init "FallsBetween$TreeTold" "<init>" := C
  refine gx_aload_n (q := 1) C dX13_init_0 rfl rfl rfl ?_
  refine gx_iload_n (q := 2) C dX13_init_1 rfl rfl rfl ?_
  refine gx_cv (q := 5) C E (sx_X13_3 (As := [_]) C rfl rfl dX13_init_2) (td_X12_13 _ _ _ _ j a hM) kw_X12_init (by decide) (Nat.le_of_ble_eq_true rfl) rfl rfl (by omega) (by omega) dX13_init_2 rfl (fun M1 r1 => ?_)
  rw [r1]
  have hl := (List.getElem?_eq_some_iff.mp hM).1
  have hM := List.getElem?_set_self (a := ob 13 [.int (nI a), .null]) hl
  refine gx_aload_n (q := 6) C dX13_init_5 rfl rfl rfl ?_
  refine gx_aload_n (q := 7) C dX13_init_6 rfl rfl rfl ?_
  refine fp_X13_9 (q := 10) C hM rfl dX13_init_7 rfl ?_
  rw [List.set_set]
  exact gx_vret C E dX13_init_10 (rfl) (by omega) (by omega)
