/-! the component: trees by kinds -/
set_option maxRecDepth 100000
set_option maxHeartbeats 4000000 in
theorem tr_own_0 (l : Launch) (D : va_G) (b : Nat) (M : List va_E) (j : Nat) {fs : List Value}  (hM : M[j]? = some (ob 14 fs)) : fb_CT l D b yX14_own cX14_own 1 (some .int) 0 0 0 0 [.ref (b + j)] M (.returned (some (.int (nI 2)))) (fun M' => M' = M) := by
  refine fb_start [some (.ref (b + j))] (by decide) (Nat.le_of_ble_eq_true rfl) rfl ?_
  intro x hl hD hb C E hx
  subst hl hD hb
  have C : fb_OK x cX14_own "FallsBetween$Tree" "own" := C
  refine gx_iconst (q := 1) (v := nI 2) C dX14_own_0 (by decide) rfl ?_
  exact gx_iret C E dX14_own_1 (rfl) (by omega) (by omega)
set_option maxHeartbeats 4000000 in
theorem tr_kind_0 (l : Launch) (D : va_G) (b : Nat) (M : List va_E) (j : Nat) {fs : List Value}  (hM : M[j]? = some (ob 14 fs)) : fb_CT l D b yX14_kind cX14_kind 1 (some .int) 0 0 0 0 [.ref (b + j)] M (.returned (some (.int (nI 0)))) (fun M' => M' = M) := by
  refine fb_start [some (.ref (b + j))] (by decide) (Nat.le_of_ble_eq_true rfl) rfl ?_
  intro x hl hD hb C E hx
  subst hl hD hb
  have C : fb_OK x cX14_kind "FallsBetween$Tree" "kind" := C
  refine gx_iconst (q := 1) (v := nI 0) C dX14_kind_0 (by decide) rfl ?_
  exact gx_iret C E dX14_kind_1 (rfl) (by omega) (by omega)
set_option maxHeartbeats 4000000 in
theorem tr_rolls_0 (l : Launch) (D : va_G) (b : Nat) (M : List va_E) (j : Nat) {fs : List Value}  (hM : M[j]? = some (ob 14 fs)) : fb_CT l D b yX14_rolls cX14_rolls 1 (some .int) 0 0 0 0 [.ref (b + j)] M (.returned (some (.int (nI 0)))) (fun M' => M' = M) := by
  refine fb_start [some (.ref (b + j))] (by decide) (Nat.le_of_ble_eq_true rfl) rfl ?_
  intro x hl hD hb C E hx
  subst hl hD hb
  have C : fb_OK x cX14_rolls "FallsBetween$Tree" "rolls" := C
  refine gx_iconst (q := 1) (v := nI 0) C dX14_rolls_0 (by decide) rfl ?_
  exact gx_iret C E dX14_rolls_1 (rfl) (by omega) (by omega)
set_option maxHeartbeats 4000000 in
theorem tr_blown0_0 (l : Launch) (D : va_G) (b : Nat) (M : List va_E) (j : Nat) {fs : List Value}  (hM : M[j]? = some (ob 14 fs)) : fb_CT l D b yX14_isBlown cX14_isBlown 1 (some .boolean) 0 0 0 0 [.ref (b + j)] M (.returned (some (.int (bI true)))) (fun M' => M' = M) := by
  refine fb_start [some (.ref (b + j))] (by decide) (Nat.le_of_ble_eq_true rfl) rfl ?_
  intro x hl hD hb C E hx
  subst hl hD hb
  have C : fb_OK x cX14_isBlown "FallsBetween$Tree" "isBlown" := C
  refine gx_iconst (q := 1) (v := bI true) C dX14_isBlown_0 (by decide) rfl ?_
  exact gx_zret C E (by first | exact bI_nar _ | rfl) dX14_isBlown_1 (rfl) (by omega) (by omega)
set_option maxHeartbeats 4000000 in
theorem tr_side0_0 (l : Launch) (D : va_G) (b : Nat) (M : List va_E) (j : Nat) {fs : List Value} (s : Nat) (hM : M[j]? = some (ob 14 fs)) : fb_CT l D b yX14_toSide cX14_toSide 2 (some .int) 0 0 0 0 [.ref (b + j), .int (nI s)] M (.returned (some (.int (nI 2)))) (fun M' => M' = M) := by
  refine fb_start [some (.ref (b + j)), some (.int (nI s))] (by decide) (Nat.le_of_ble_eq_true rfl) rfl ?_
  intro x hl hD hb C E hx
  subst hl hD hb
  have C : fb_OK x cX14_toSide "FallsBetween$Tree" "toSide" := C
  refine gx_iconst (q := 1) (v := nI 2) C dX14_toSide_0 (by decide) rfl ?_
  exact gx_iret C E dX14_toSide_1 (rfl) (by omega) (by omega)
set_option maxHeartbeats 4000000 in
theorem tr_own0_1 (l : Launch) (D : va_G) (b : Nat) (M : List va_E) (j : Nat) {fs : List Value}  (hM : M[j]? = some (ob 15 fs)) : fb_CT l D b yX14_own cX14_own 1 (some .int) 0 0 0 0 [.ref (b + j)] M (.returned (some (.int (nI 2)))) (fun M' => M' = M) := by
  refine fb_start [some (.ref (b + j))] (by decide) (Nat.le_of_ble_eq_true rfl) rfl ?_
  intro x hl hD hb C E hx
  subst hl hD hb
  have C : fb_OK x cX14_own "FallsBetween$Tree" "own" := C
  refine gx_iconst (q := 1) (v := nI 2) C dX14_own_0 (by decide) rfl ?_
  exact gx_iret C E dX14_own_1 (rfl) (by omega) (by omega)
set_option maxHeartbeats 4000000 in
theorem tr_own_1 (l : Launch) (D : va_G) (b : Nat) (M : List va_E) (j : Nat) {fs : List Value}  (hM : M[j]? = some (ob 15 fs)) : fb_CT l D b yX15_own cX15_own 1 (some .int) 1 20 0 0 [.ref (b + j)] M (.returned (some (.int (nI 6)))) (fun M' => M' = M) := by
  refine fb_start [some (.ref (b + j))] (by decide) (Nat.le_of_ble_eq_true rfl) rfl ?_
  intro x hl hD hb C E hx
  subst hl hD hb
  have C : fb_OK x cX15_own "FallsBetween$Damson" "own" := C
  refine gx_iconst (q := 1) (v := nI 3) C dX15_own_0 (by decide) rfl ?_
  refine gx_aload_n (q := 2) C dX15_own_1 rfl rfl rfl ?_
  refine gx_cp (q := 5) C E (sx_X15_7_X15 (As := []) C hM rfl rfl dX15_own_2) (tr_own0_1 _ _ _ _ j hM) kw_X14_own (by decide) (Nat.le_of_ble_eq_true rfl) (by omega) (by omega) dX15_own_2 rfl ?_
  refine gn_imul (q := 6) C dX15_own_5 rfl ?_
  exact gx_iret C E dX15_own_6 (rfl) (by omega) (by omega)
set_option maxHeartbeats 4000000 in
theorem tr_kind_1 (l : Launch) (D : va_G) (b : Nat) (M : List va_E) (j : Nat) {fs : List Value}  (hM : M[j]? = some (ob 15 fs)) : fb_CT l D b yX15_kind cX15_kind 1 (some .int) 0 0 0 0 [.ref (b + j)] M (.returned (some (.int (nI 1)))) (fun M' => M' = M) := by
  refine fb_start [some (.ref (b + j))] (by decide) (Nat.le_of_ble_eq_true rfl) rfl ?_
  intro x hl hD hb C E hx
  subst hl hD hb
  have C : fb_OK x cX15_kind "FallsBetween$Damson" "kind" := C
  refine gx_iconst (q := 1) (v := nI 1) C dX15_kind_0 (by decide) rfl ?_
  exact gx_iret C E dX15_kind_1 (rfl) (by omega) (by omega)
set_option maxHeartbeats 4000000 in
theorem tr_rolls_1 (l : Launch) (D : va_G) (b : Nat) (M : List va_E) (j : Nat) {fs : List Value}  (hM : M[j]? = some (ob 15 fs)) : fb_CT l D b yX14_rolls cX14_rolls 1 (some .int) 0 0 0 0 [.ref (b + j)] M (.returned (some (.int (nI 0)))) (fun M' => M' = M) := by
  refine fb_start [some (.ref (b + j))] (by decide) (Nat.le_of_ble_eq_true rfl) rfl ?_
  intro x hl hD hb C E hx
  subst hl hD hb
  have C : fb_OK x cX14_rolls "FallsBetween$Tree" "rolls" := C
  refine gx_iconst (q := 1) (v := nI 0) C dX14_rolls_0 (by decide) rfl ?_
  exact gx_iret C E dX14_rolls_1 (rfl) (by omega) (by omega)
set_option maxHeartbeats 4000000 in
theorem tr_blown0_1 (l : Launch) (D : va_G) (b : Nat) (M : List va_E) (j : Nat) {fs : List Value}  (hM : M[j]? = some (ob 15 fs)) : fb_CT l D b yX14_isBlown cX14_isBlown 1 (some .boolean) 0 0 0 0 [.ref (b + j)] M (.returned (some (.int (bI true)))) (fun M' => M' = M) := by
  refine fb_start [some (.ref (b + j))] (by decide) (Nat.le_of_ble_eq_true rfl) rfl ?_
  intro x hl hD hb C E hx
  subst hl hD hb
  have C : fb_OK x cX14_isBlown "FallsBetween$Tree" "isBlown" := C
  refine gx_iconst (q := 1) (v := bI true) C dX14_isBlown_0 (by decide) rfl ?_
  exact gx_zret C E (by first | exact bI_nar _ | rfl) dX14_isBlown_1 (rfl) (by omega) (by omega)
set_option maxHeartbeats 4000000 in
theorem tr_side0_1 (l : Launch) (D : va_G) (b : Nat) (M : List va_E) (j : Nat) {fs : List Value} (s : Nat) (hM : M[j]? = some (ob 15 fs)) : fb_CT l D b yX14_toSide cX14_toSide 2 (some .int) 0 0 0 0 [.ref (b + j), .int (nI s)] M (.returned (some (.int (nI 2)))) (fun M' => M' = M) := by
  refine fb_start [some (.ref (b + j)), some (.int (nI s))] (by decide) (Nat.le_of_ble_eq_true rfl) rfl ?_
  intro x hl hD hb C E hx
  subst hl hD hb
  have C : fb_OK x cX14_toSide "FallsBetween$Tree" "toSide" := C
  refine gx_iconst (q := 1) (v := nI 2) C dX14_toSide_0 (by decide) rfl ?_
  exact gx_iret C E dX14_toSide_1 (rfl) (by omega) (by omega)
set_option maxHeartbeats 4000000 in
theorem tr_side_1 (l : Launch) (D : va_G) (b : Nat) (M : List va_E) (j : Nat) {fs : List Value} (s : Nat) (hM : M[j]? = some (ob 15 fs)) : fb_CT l D b yX15_toSide cX15_toSide 2 (some .int) 1 21 0 0 [.ref (b + j), .int (nI s)] M (.returned (some (.int (nI 1)))) (fun M' => M' = M) := by
  refine fb_start [some (.ref (b + j)), some (.int (nI s))] (by decide) (Nat.le_of_ble_eq_true rfl) rfl ?_
  intro x hl hD hb C E hx
  subst hl hD hb
  have C : fb_OK x cX15_toSide "FallsBetween$Damson" "toSide" := C
  refine gx_aload_n (q := 1) C dX15_toSide_0 rfl rfl rfl ?_
  refine gx_iload_n (q := 2) C dX15_toSide_1 rfl rfl rfl ?_
  refine gx_cp (q := 5) C E (sx_X15_11_X15 (As := [_]) C hM rfl rfl dX15_toSide_2) (tr_side0_1 _ _ _ _ j s hM) kw_X14_toSide (by decide) (Nat.le_of_ble_eq_true rfl) (by omega) (by omega) dX15_toSide_2 rfl ?_
  refine gx_iconst (q := 6) (v := nI 2) C dX15_toSide_5 (by decide) rfl ?_
  refine gn_idiv (q := 7) C dX15_toSide_6 (by omega) (by omega) (by omega) rfl ?_
  exact gx_iret C E dX15_toSide_7 (rfl) (by omega) (by omega)
set_option maxHeartbeats 4000000 in
theorem tr_own0_2 (l : Launch) (D : va_G) (b : Nat) (M : List va_E) (j : Nat) {fs : List Value}  (hM : M[j]? = some (ob 16 fs)) : fb_CT l D b yX14_own cX14_own 1 (some .int) 0 0 0 0 [.ref (b + j)] M (.returned (some (.int (nI 2)))) (fun M' => M' = M) := by
  refine fb_start [some (.ref (b + j))] (by decide) (Nat.le_of_ble_eq_true rfl) rfl ?_
  intro x hl hD hb C E hx
  subst hl hD hb
  have C : fb_OK x cX14_own "FallsBetween$Tree" "own" := C
  refine gx_iconst (q := 1) (v := nI 2) C dX14_own_0 (by decide) rfl ?_
  exact gx_iret C E dX14_own_1 (rfl) (by omega) (by omega)
set_option maxHeartbeats 4000000 in
theorem tr_own_2 (l : Launch) (D : va_G) (b : Nat) (M : List va_E) (j : Nat) {fs : List Value}  (hM : M[j]? = some (ob 16 fs)) : fb_CT l D b yX16_own cX16_own 1 (some .int) 1 20 0 0 [.ref (b + j)] M (.returned (some (.int (nI 4)))) (fun M' => M' = M) := by
  refine fb_start [some (.ref (b + j))] (by decide) (Nat.le_of_ble_eq_true rfl) rfl ?_
  intro x hl hD hb C E hx
  subst hl hD hb
  have C : fb_OK x cX16_own "FallsBetween$Leaner" "own" := C
  refine gx_iconst (q := 1) (v := nI 2) C dX16_own_0 (by decide) rfl ?_
  refine gx_aload_n (q := 2) C dX16_own_1 rfl rfl rfl ?_
  refine gx_cp (q := 5) C E (sx_X16_7_X16 (As := []) C hM rfl rfl dX16_own_2) (tr_own0_2 _ _ _ _ j hM) kw_X14_own (by decide) (Nat.le_of_ble_eq_true rfl) (by omega) (by omega) dX16_own_2 rfl ?_
  refine gn_imul (q := 6) C dX16_own_5 rfl ?_
  exact gx_iret C E dX16_own_6 (rfl) (by omega) (by omega)
set_option maxHeartbeats 4000000 in
theorem tr_kind_2 (l : Launch) (D : va_G) (b : Nat) (M : List va_E) (j : Nat) {fs : List Value}  (hM : M[j]? = some (ob 16 fs)) : fb_CT l D b yX16_kind cX16_kind 1 (some .int) 0 0 0 0 [.ref (b + j)] M (.returned (some (.int (nI 2)))) (fun M' => M' = M) := by
  refine fb_start [some (.ref (b + j))] (by decide) (Nat.le_of_ble_eq_true rfl) rfl ?_
  intro x hl hD hb C E hx
  subst hl hD hb
  have C : fb_OK x cX16_kind "FallsBetween$Leaner" "kind" := C
  refine gx_iconst (q := 1) (v := nI 2) C dX16_kind_0 (by decide) rfl ?_
  exact gx_iret C E dX16_kind_1 (rfl) (by omega) (by omega)
set_option maxHeartbeats 4000000 in
theorem tr_rolls_2 (l : Launch) (D : va_G) (b : Nat) (M : List va_E) (j : Nat) {fs : List Value}  (hM : M[j]? = some (ob 16 fs)) : fb_CT l D b yX14_rolls cX14_rolls 1 (some .int) 0 0 0 0 [.ref (b + j)] M (.returned (some (.int (nI 0)))) (fun M' => M' = M) := by
  refine fb_start [some (.ref (b + j))] (by decide) (Nat.le_of_ble_eq_true rfl) rfl ?_
  intro x hl hD hb C E hx
  subst hl hD hb
  have C : fb_OK x cX14_rolls "FallsBetween$Tree" "rolls" := C
  refine gx_iconst (q := 1) (v := nI 0) C dX14_rolls_0 (by decide) rfl ?_
  exact gx_iret C E dX14_rolls_1 (rfl) (by omega) (by omega)
set_option maxHeartbeats 4000000 in
theorem tr_blown0_2 (l : Launch) (D : va_G) (b : Nat) (M : List va_E) (j : Nat) {fs : List Value}  (hM : M[j]? = some (ob 16 fs)) : fb_CT l D b yX14_isBlown cX14_isBlown 1 (some .boolean) 0 0 0 0 [.ref (b + j)] M (.returned (some (.int (bI true)))) (fun M' => M' = M) := by
  refine fb_start [some (.ref (b + j))] (by decide) (Nat.le_of_ble_eq_true rfl) rfl ?_
  intro x hl hD hb C E hx
  subst hl hD hb
  have C : fb_OK x cX14_isBlown "FallsBetween$Tree" "isBlown" := C
  refine gx_iconst (q := 1) (v := bI true) C dX14_isBlown_0 (by decide) rfl ?_
  exact gx_zret C E (by first | exact bI_nar _ | rfl) dX14_isBlown_1 (rfl) (by omega) (by omega)
set_option maxHeartbeats 4000000 in
theorem tr_side0_2 (l : Launch) (D : va_G) (b : Nat) (M : List va_E) (j : Nat) {fs : List Value} (s : Nat) (hM : M[j]? = some (ob 16 fs)) : fb_CT l D b yX14_toSide cX14_toSide 2 (some .int) 0 0 0 0 [.ref (b + j), .int (nI s)] M (.returned (some (.int (nI 2)))) (fun M' => M' = M) := by
  refine fb_start [some (.ref (b + j)), some (.int (nI s))] (by decide) (Nat.le_of_ble_eq_true rfl) rfl ?_
  intro x hl hD hb C E hx
  subst hl hD hb
  have C : fb_OK x cX14_toSide "FallsBetween$Tree" "toSide" := C
  refine gx_iconst (q := 1) (v := nI 2) C dX14_toSide_0 (by decide) rfl ?_
  exact gx_iret C E dX14_toSide_1 (rfl) (by omega) (by omega)
set_option maxHeartbeats 4000000 in
theorem tr_own_3 (l : Launch) (D : va_G) (b : Nat) (M : List va_E) (j : Nat) {fs : List Value}  (hM : M[j]? = some (ob 17 fs)) : fb_CT l D b yX14_own cX14_own 1 (some .int) 0 0 0 0 [.ref (b + j)] M (.returned (some (.int (nI 2)))) (fun M' => M' = M) := by
  refine fb_start [some (.ref (b + j))] (by decide) (Nat.le_of_ble_eq_true rfl) rfl ?_
  intro x hl hD hb C E hx
  subst hl hD hb
  have C : fb_OK x cX14_own "FallsBetween$Tree" "own" := C
  refine gx_iconst (q := 1) (v := nI 2) C dX14_own_0 (by decide) rfl ?_
  exact gx_iret C E dX14_own_1 (rfl) (by omega) (by omega)
set_option maxHeartbeats 4000000 in
theorem tr_kind_3 (l : Launch) (D : va_G) (b : Nat) (M : List va_E) (j : Nat) {fs : List Value}  (hM : M[j]? = some (ob 17 fs)) : fb_CT l D b yX17_kind cX17_kind 1 (some .int) 0 0 0 0 [.ref (b + j)] M (.returned (some (.int (nI 3)))) (fun M' => M' = M) := by
  refine fb_start [some (.ref (b + j))] (by decide) (Nat.le_of_ble_eq_true rfl) rfl ?_
  intro x hl hD hb C E hx
  subst hl hD hb
  have C : fb_OK x cX17_kind "FallsBetween$Apple" "kind" := C
  refine gx_iconst (q := 1) (v := nI 3) C dX17_kind_0 (by decide) rfl ?_
  exact gx_iret C E dX17_kind_1 (rfl) (by omega) (by omega)
set_option maxHeartbeats 4000000 in
theorem tr_rolls0_3 (l : Launch) (D : va_G) (b : Nat) (M : List va_E) (j : Nat) {fs : List Value}  (hM : M[j]? = some (ob 17 fs)) : fb_CT l D b yX14_rolls cX14_rolls 1 (some .int) 0 0 0 0 [.ref (b + j)] M (.returned (some (.int (nI 0)))) (fun M' => M' = M) := by
  refine fb_start [some (.ref (b + j))] (by decide) (Nat.le_of_ble_eq_true rfl) rfl ?_
  intro x hl hD hb C E hx
  subst hl hD hb
  have C : fb_OK x cX14_rolls "FallsBetween$Tree" "rolls" := C
  refine gx_iconst (q := 1) (v := nI 0) C dX14_rolls_0 (by decide) rfl ?_
  exact gx_iret C E dX14_rolls_1 (rfl) (by omega) (by omega)
set_option maxHeartbeats 4000000 in
theorem tr_rolls1_3 (l : Launch) (D : va_G) (b : Nat) (M : List va_E) (j : Nat) {fs : List Value}  (hM : M[j]? = some (ob 17 fs)) : fb_CT l D b yX17_rolls cX17_rolls 1 (some .int) 1 20 0 0 [.ref (b + j)] M (.returned (some (.int (nI 1)))) (fun M' => M' = M) := by
  refine fb_start [some (.ref (b + j))] (by decide) (Nat.le_of_ble_eq_true rfl) rfl ?_
  intro x hl hD hb C E hx
  subst hl hD hb
  have C : fb_OK x cX17_rolls "FallsBetween$Apple" "rolls" := C
  refine gx_iconst (q := 1) (v := nI 1) C dX17_rolls_0 (by decide) rfl ?_
  refine gx_aload_n (q := 2) C dX17_rolls_1 rfl rfl rfl ?_
  refine gx_cp (q := 5) C E (sx_X17_7_X17 (As := []) C hM rfl rfl dX17_rolls_2) (tr_rolls0_3 _ _ _ _ j hM) kw_X14_rolls (by decide) (Nat.le_of_ble_eq_true rfl) (by omega) (by omega) dX17_rolls_2 rfl ?_
  refine gn_iadd (q := 6) C dX17_rolls_5 rfl ?_
  exact gx_iret C E dX17_rolls_6 (rfl) (by omega) (by omega)
set_option maxHeartbeats 4000000 in
theorem tr_blown0_3 (l : Launch) (D : va_G) (b : Nat) (M : List va_E) (j : Nat) {fs : List Value}  (hM : M[j]? = some (ob 17 fs)) : fb_CT l D b yX14_isBlown cX14_isBlown 1 (some .boolean) 0 0 0 0 [.ref (b + j)] M (.returned (some (.int (bI true)))) (fun M' => M' = M) := by
  refine fb_start [some (.ref (b + j))] (by decide) (Nat.le_of_ble_eq_true rfl) rfl ?_
  intro x hl hD hb C E hx
  subst hl hD hb
  have C : fb_OK x cX14_isBlown "FallsBetween$Tree" "isBlown" := C
  refine gx_iconst (q := 1) (v := bI true) C dX14_isBlown_0 (by decide) rfl ?_
  exact gx_zret C E (by first | exact bI_nar _ | rfl) dX14_isBlown_1 (rfl) (by omega) (by omega)
set_option maxHeartbeats 4000000 in
theorem tr_side0_3 (l : Launch) (D : va_G) (b : Nat) (M : List va_E) (j : Nat) {fs : List Value} (s : Nat) (hM : M[j]? = some (ob 17 fs)) : fb_CT l D b yX14_toSide cX14_toSide 2 (some .int) 0 0 0 0 [.ref (b + j), .int (nI s)] M (.returned (some (.int (nI 2)))) (fun M' => M' = M) := by
  refine fb_start [some (.ref (b + j)), some (.int (nI s))] (by decide) (Nat.le_of_ble_eq_true rfl) rfl ?_
  intro x hl hD hb C E hx
  subst hl hD hb
  have C : fb_OK x cX14_toSide "FallsBetween$Tree" "toSide" := C
  refine gx_iconst (q := 1) (v := nI 2) C dX14_toSide_0 (by decide) rfl ?_
  exact gx_iret C E dX14_toSide_1 (rfl) (by omega) (by omega)
set_option maxHeartbeats 4000000 in
theorem tr_own_4 (l : Launch) (D : va_G) (b : Nat) (M : List va_E) (j : Nat) {fs : List Value}  (hM : M[j]? = some (ob 18 fs)) : fb_CT l D b yX14_own cX14_own 1 (some .int) 0 0 0 0 [.ref (b + j)] M (.returned (some (.int (nI 2)))) (fun M' => M' = M) := by
  refine fb_start [some (.ref (b + j))] (by decide) (Nat.le_of_ble_eq_true rfl) rfl ?_
  intro x hl hD hb C E hx
  subst hl hD hb
  have C : fb_OK x cX14_own "FallsBetween$Tree" "own" := C
  refine gx_iconst (q := 1) (v := nI 2) C dX14_own_0 (by decide) rfl ?_
  exact gx_iret C E dX14_own_1 (rfl) (by omega) (by omega)
set_option maxHeartbeats 4000000 in
theorem tr_kind_4 (l : Launch) (D : va_G) (b : Nat) (M : List va_E) (j : Nat) {fs : List Value}  (hM : M[j]? = some (ob 18 fs)) : fb_CT l D b yX18_kind cX18_kind 1 (some .int) 0 0 0 0 [.ref (b + j)] M (.returned (some (.int (nI 4)))) (fun M' => M' = M) := by
  refine fb_start [some (.ref (b + j))] (by decide) (Nat.le_of_ble_eq_true rfl) rfl ?_
  intro x hl hD hb C E hx
  subst hl hD hb
  have C : fb_OK x cX18_kind "FallsBetween$RoundApple" "kind" := C
  refine gx_iconst (q := 1) (v := nI 4) C dX18_kind_0 (by decide) rfl ?_
  exact gx_iret C E dX18_kind_1 (rfl) (by omega) (by omega)
set_option maxHeartbeats 4000000 in
theorem tr_rolls0_4 (l : Launch) (D : va_G) (b : Nat) (M : List va_E) (j : Nat) {fs : List Value}  (hM : M[j]? = some (ob 18 fs)) : fb_CT l D b yX14_rolls cX14_rolls 1 (some .int) 0 0 0 0 [.ref (b + j)] M (.returned (some (.int (nI 0)))) (fun M' => M' = M) := by
  refine fb_start [some (.ref (b + j))] (by decide) (Nat.le_of_ble_eq_true rfl) rfl ?_
  intro x hl hD hb C E hx
  subst hl hD hb
  have C : fb_OK x cX14_rolls "FallsBetween$Tree" "rolls" := C
  refine gx_iconst (q := 1) (v := nI 0) C dX14_rolls_0 (by decide) rfl ?_
  exact gx_iret C E dX14_rolls_1 (rfl) (by omega) (by omega)
set_option maxHeartbeats 4000000 in
theorem tr_rolls1_4 (l : Launch) (D : va_G) (b : Nat) (M : List va_E) (j : Nat) {fs : List Value}  (hM : M[j]? = some (ob 18 fs)) : fb_CT l D b yX17_rolls cX17_rolls 1 (some .int) 1 20 0 0 [.ref (b + j)] M (.returned (some (.int (nI 1)))) (fun M' => M' = M) := by
  refine fb_start [some (.ref (b + j))] (by decide) (Nat.le_of_ble_eq_true rfl) rfl ?_
  intro x hl hD hb C E hx
  subst hl hD hb
  have C : fb_OK x cX17_rolls "FallsBetween$Apple" "rolls" := C
  refine gx_iconst (q := 1) (v := nI 1) C dX17_rolls_0 (by decide) rfl ?_
  refine gx_aload_n (q := 2) C dX17_rolls_1 rfl rfl rfl ?_
  refine gx_cp (q := 5) C E (sx_X17_7_X18 (As := []) C hM rfl rfl dX17_rolls_2) (tr_rolls0_4 _ _ _ _ j hM) kw_X14_rolls (by decide) (Nat.le_of_ble_eq_true rfl) (by omega) (by omega) dX17_rolls_2 rfl ?_
  refine gn_iadd (q := 6) C dX17_rolls_5 rfl ?_
  exact gx_iret C E dX17_rolls_6 (rfl) (by omega) (by omega)
set_option maxHeartbeats 4000000 in
theorem tr_rolls2_4 (l : Launch) (D : va_G) (b : Nat) (M : List va_E) (j : Nat) {fs : List Value}  (hM : M[j]? = some (ob 18 fs)) : fb_CT l D b yX18_rolls cX18_rolls 1 (some .int) 2 40 0 0 [.ref (b + j)] M (.returned (some (.int (nI 2)))) (fun M' => M' = M) := by
  refine fb_start [some (.ref (b + j))] (by decide) (Nat.le_of_ble_eq_true rfl) rfl ?_
  intro x hl hD hb C E hx
  subst hl hD hb
  have C : fb_OK x cX18_rolls "FallsBetween$RoundApple" "rolls" := C
  refine gx_iconst (q := 1) (v := nI 1) C dX18_rolls_0 (by decide) rfl ?_
  refine gx_aload_n (q := 2) C dX18_rolls_1 rfl rfl rfl ?_
  refine gx_cp (q := 5) C E (sx_X18_7_X18 (As := []) C hM rfl rfl dX18_rolls_2) (tr_rolls1_4 _ _ _ _ j hM) kw_X17_rolls (by decide) (Nat.le_of_ble_eq_true rfl) (by omega) (by omega) dX18_rolls_2 rfl ?_
  refine gn_iadd (q := 6) C dX18_rolls_5 rfl ?_
  exact gx_iret C E dX18_rolls_6 (rfl) (by omega) (by omega)
set_option maxHeartbeats 4000000 in
theorem tr_blown0_4 (l : Launch) (D : va_G) (b : Nat) (M : List va_E) (j : Nat) {fs : List Value}  (hM : M[j]? = some (ob 18 fs)) : fb_CT l D b yX14_isBlown cX14_isBlown 1 (some .boolean) 0 0 0 0 [.ref (b + j)] M (.returned (some (.int (bI true)))) (fun M' => M' = M) := by
  refine fb_start [some (.ref (b + j))] (by decide) (Nat.le_of_ble_eq_true rfl) rfl ?_
  intro x hl hD hb C E hx
  subst hl hD hb
  have C : fb_OK x cX14_isBlown "FallsBetween$Tree" "isBlown" := C
  refine gx_iconst (q := 1) (v := bI true) C dX14_isBlown_0 (by decide) rfl ?_
  exact gx_zret C E (by first | exact bI_nar _ | rfl) dX14_isBlown_1 (rfl) (by omega) (by omega)
set_option maxHeartbeats 4000000 in
theorem tr_side0_4 (l : Launch) (D : va_G) (b : Nat) (M : List va_E) (j : Nat) {fs : List Value} (s : Nat) (hM : M[j]? = some (ob 18 fs)) : fb_CT l D b yX14_toSide cX14_toSide 2 (some .int) 0 0 0 0 [.ref (b + j), .int (nI s)] M (.returned (some (.int (nI 2)))) (fun M' => M' = M) := by
  refine fb_start [some (.ref (b + j)), some (.int (nI s))] (by decide) (Nat.le_of_ble_eq_true rfl) rfl ?_
  intro x hl hD hb C E hx
  subst hl hD hb
  have C : fb_OK x cX14_toSide "FallsBetween$Tree" "toSide" := C
  refine gx_iconst (q := 1) (v := nI 2) C dX14_toSide_0 (by decide) rfl ?_
  exact gx_iret C E dX14_toSide_1 (rfl) (by omega) (by omega)
set_option maxHeartbeats 4000000 in
theorem tr_own0_5 (l : Launch) (D : va_G) (b : Nat) (M : List va_E) (j : Nat) {fs : List Value}  (hM : M[j]? = some (ob 19 fs)) : fb_CT l D b yX14_own cX14_own 1 (some .int) 0 0 0 0 [.ref (b + j)] M (.returned (some (.int (nI 2)))) (fun M' => M' = M) := by
  refine fb_start [some (.ref (b + j))] (by decide) (Nat.le_of_ble_eq_true rfl) rfl ?_
  intro x hl hD hb C E hx
  subst hl hD hb
  have C : fb_OK x cX14_own "FallsBetween$Tree" "own" := C
  refine gx_iconst (q := 1) (v := nI 2) C dX14_own_0 (by decide) rfl ?_
  exact gx_iret C E dX14_own_1 (rfl) (by omega) (by omega)
set_option maxHeartbeats 4000000 in
theorem tr_own_5 (l : Launch) (D : va_G) (b : Nat) (M : List va_E) (j : Nat) {fs : List Value}  (hM : M[j]? = some (ob 19 fs)) : fb_CT l D b yX15_own cX15_own 1 (some .int) 1 20 0 0 [.ref (b + j)] M (.returned (some (.int (nI 6)))) (fun M' => M' = M) := by
  refine fb_start [some (.ref (b + j))] (by decide) (Nat.le_of_ble_eq_true rfl) rfl ?_
  intro x hl hD hb C E hx
  subst hl hD hb
  have C : fb_OK x cX15_own "FallsBetween$Damson" "own" := C
  refine gx_iconst (q := 1) (v := nI 3) C dX15_own_0 (by decide) rfl ?_
  refine gx_aload_n (q := 2) C dX15_own_1 rfl rfl rfl ?_
  refine gx_cp (q := 5) C E (sx_X15_7_X19 (As := []) C hM rfl rfl dX15_own_2) (tr_own0_5 _ _ _ _ j hM) kw_X14_own (by decide) (Nat.le_of_ble_eq_true rfl) (by omega) (by omega) dX15_own_2 rfl ?_
  refine gn_imul (q := 6) C dX15_own_5 rfl ?_
  exact gx_iret C E dX15_own_6 (rfl) (by omega) (by omega)
set_option maxHeartbeats 4000000 in
theorem tr_kind_5 (l : Launch) (D : va_G) (b : Nat) (M : List va_E) (j : Nat) {fs : List Value}  (hM : M[j]? = some (ob 19 fs)) : fb_CT l D b yX19_kind cX19_kind 1 (some .int) 0 0 0 0 [.ref (b + j)] M (.returned (some (.int (nI 5)))) (fun M' => M' = M) := by
  refine fb_start [some (.ref (b + j))] (by decide) (Nat.le_of_ble_eq_true rfl) rfl ?_
  intro x hl hD hb C E hx
  subst hl hD hb
  have C : fb_OK x cX19_kind "FallsBetween$Still" "kind" := C
  refine gx_iconst (q := 1) (v := nI 5) C dX19_kind_0 (by decide) rfl ?_
  exact gx_iret C E dX19_kind_1 (rfl) (by omega) (by omega)
set_option maxHeartbeats 4000000 in
theorem tr_rolls_5 (l : Launch) (D : va_G) (b : Nat) (M : List va_E) (j : Nat) {fs : List Value}  (hM : M[j]? = some (ob 19 fs)) : fb_CT l D b yX14_rolls cX14_rolls 1 (some .int) 0 0 0 0 [.ref (b + j)] M (.returned (some (.int (nI 0)))) (fun M' => M' = M) := by
  refine fb_start [some (.ref (b + j))] (by decide) (Nat.le_of_ble_eq_true rfl) rfl ?_
  intro x hl hD hb C E hx
  subst hl hD hb
  have C : fb_OK x cX14_rolls "FallsBetween$Tree" "rolls" := C
  refine gx_iconst (q := 1) (v := nI 0) C dX14_rolls_0 (by decide) rfl ?_
  exact gx_iret C E dX14_rolls_1 (rfl) (by omega) (by omega)
set_option maxHeartbeats 4000000 in
theorem tr_blown0_5 (l : Launch) (D : va_G) (b : Nat) (M : List va_E) (j : Nat) {fs : List Value}  (hM : M[j]? = some (ob 19 fs)) : fb_CT l D b yX14_isBlown cX14_isBlown 1 (some .boolean) 0 0 0 0 [.ref (b + j)] M (.returned (some (.int (bI true)))) (fun M' => M' = M) := by
  refine fb_start [some (.ref (b + j))] (by decide) (Nat.le_of_ble_eq_true rfl) rfl ?_
  intro x hl hD hb C E hx
  subst hl hD hb
  have C : fb_OK x cX14_isBlown "FallsBetween$Tree" "isBlown" := C
  refine gx_iconst (q := 1) (v := bI true) C dX14_isBlown_0 (by decide) rfl ?_
  exact gx_zret C E (by first | exact bI_nar _ | rfl) dX14_isBlown_1 (rfl) (by omega) (by omega)
set_option maxHeartbeats 4000000 in
theorem tr_blown_5 (l : Launch) (D : va_G) (b : Nat) (M : List va_E) (j : Nat) {fs : List Value}  (hM : M[j]? = some (ob 19 fs)) : fb_CT l D b yX19_isBlown cX19_isBlown 1 (some .boolean) 1 20 0 0 [.ref (b + j)] M (.returned (some (.int (bI false)))) (fun M' => M' = M) := by
  refine fb_start [some (.ref (b + j))] (by decide) (Nat.le_of_ble_eq_true rfl) rfl ?_
  intro x hl hD hb C E hx
  subst hl hD hb
  have C : fb_OK x cX19_isBlown "FallsBetween$Still" "isBlown" := C
  refine gx_aload_n (q := 1) C dX19_isBlown_0 rfl rfl rfl ?_
  refine gx_cp (q := 4) C E (sx_X19_7_X19 (As := []) C hM rfl rfl dX19_isBlown_1) (tr_blown0_5 _ _ _ _ j hM) kw_X14_isBlown (by decide) (Nat.le_of_ble_eq_true rfl) (by omega) (by omega) dX19_isBlown_1 rfl ?_
  refine gb_if_ne (q := 7) (tgt := 11) C dX19_isBlown_4 (by decide) rfl (fun c4 => ?_) (fun c4 => by exfalso; cases c4)
  refine gx_iconst (q := 12) (v := bI false) C dX19_isBlown_11 (by decide) rfl ?_
  exact gx_zret C E (by first | exact bI_nar _ | rfl) dX19_isBlown_12 (rfl) (by omega) (by omega)
set_option maxHeartbeats 4000000 in
theorem tr_side0_5 (l : Launch) (D : va_G) (b : Nat) (M : List va_E) (j : Nat) {fs : List Value} (s : Nat) (hM : M[j]? = some (ob 19 fs)) : fb_CT l D b yX14_toSide cX14_toSide 2 (some .int) 0 0 0 0 [.ref (b + j), .int (nI s)] M (.returned (some (.int (nI 2)))) (fun M' => M' = M) := by
  refine fb_start [some (.ref (b + j)), some (.int (nI s))] (by decide) (Nat.le_of_ble_eq_true rfl) rfl ?_
  intro x hl hD hb C E hx
  subst hl hD hb
  have C : fb_OK x cX14_toSide "FallsBetween$Tree" "toSide" := C
  refine gx_iconst (q := 1) (v := nI 2) C dX14_toSide_0 (by decide) rfl ?_
  exact gx_iret C E dX14_toSide_1 (rfl) (by omega) (by omega)
set_option maxHeartbeats 4000000 in
theorem tr_side_5 (l : Launch) (D : va_G) (b : Nat) (M : List va_E) (j : Nat) {fs : List Value} (s : Nat) (hM : M[j]? = some (ob 19 fs)) : fb_CT l D b yX15_toSide cX15_toSide 2 (some .int) 1 21 0 0 [.ref (b + j), .int (nI s)] M (.returned (some (.int (nI 1)))) (fun M' => M' = M) := by
  refine fb_start [some (.ref (b + j)), some (.int (nI s))] (by decide) (Nat.le_of_ble_eq_true rfl) rfl ?_
  intro x hl hD hb C E hx
  subst hl hD hb
  have C : fb_OK x cX15_toSide "FallsBetween$Damson" "toSide" := C
  refine gx_aload_n (q := 1) C dX15_toSide_0 rfl rfl rfl ?_
  refine gx_iload_n (q := 2) C dX15_toSide_1 rfl rfl rfl ?_
  refine gx_cp (q := 5) C E (sx_X15_11_X19 (As := [_]) C hM rfl rfl dX15_toSide_2) (tr_side0_5 _ _ _ _ j s hM) kw_X14_toSide (by decide) (Nat.le_of_ble_eq_true rfl) (by omega) (by omega) dX15_toSide_2 rfl ?_
  refine gx_iconst (q := 6) (v := nI 2) C dX15_toSide_5 (by decide) rfl ?_
  refine gn_idiv (q := 7) C dX15_toSide_6 (by omega) (by omega) (by omega) rfl ?_
  exact gx_iret C E dX15_toSide_7 (rfl) (by omega) (by omega)
set_option maxHeartbeats 4000000 in
theorem tr_side_2 (l : Launch) (D : va_G) (b : Nat) (M : List va_E) (j s le : Nat) (u w : Value) (hs : s < 4) (hle : le < 4) (hM : M[j]? = some (ob 16 [u, w, .int (nI le)])) : fb_CT l D b yX16_toSide cX16_toSide 2 (some .int) 1 21 0 0 [.ref (b + j), .int (nI s)] M (.returned (some (.int (nI (if s = le then 6 else 0))))) (fun M' => M' = M) := by
  refine fb_start [some (.ref (b + j)), some (.int (nI s))] (by decide) (Nat.le_of_ble_eq_true rfl) rfl ?_
  intro x hl hD hb C E hx
  subst hl hD hb
  have C : fb_OK x cX16_toSide "FallsBetween$Leaner" "toSide" := C
  refine gx_iload_n (q := 1) C dX16_toSide_0 rfl rfl rfl ?_
  refine gx_aload_n (q := 2) C dX16_toSide_1 rfl rfl rfl ?_
  refine fg_X16_11 (q := 5) C hM rfl dX16_toSide_2 rfl ?_
  refine gn_icmp_ne (q := 8) (tgt := 18) C dX16_toSide_5 (by decide) rfl (by omega) (by omega) (fun c5 => ?_) (fun c5 => ?_)
  · have hZ : (if s = le then 6 else 0) = 0 := if_neg c5
    refine gx_iconst (q := 19) (v := nI 0) C dX16_toSide_18 (by decide) rfl ?_
    exact gx_iretE C E (by rw [hZ]) dX16_toSide_19 (rfl) (by omega) (by omega)
  · have hZ : (if s = le then 6 else 0) = 6 := if_pos c5
    refine gx_iconst (q := 9) (v := nI 3) C dX16_toSide_8 (by decide) rfl ?_
    refine gx_aload_n (q := 10) C dX16_toSide_9 rfl rfl rfl ?_
    refine gx_iload_n (q := 11) C dX16_toSide_10 rfl rfl rfl ?_
    refine gx_cp (q := 14) C E (sx_X16_17_X16 (As := [_]) C hM rfl rfl dX16_toSide_11) (tr_side0_2 _ _ _ _ j s hM) kw_X14_toSide (by decide) (Nat.le_of_ble_eq_true rfl) (by omega) (by omega) dX16_toSide_11 rfl ?_
    refine gn_imul (q := 15) C dX16_toSide_14 rfl ?_
    refine gx_goto (tgt := 19) C dX16_toSide_15 (by decide) ?_
    exact gx_iretE C E (by rw [hZ]) dX16_toSide_19 (rfl) (by omega) (by omega)
def rlN (k : Nat) : Nat := if k = 3 then 1 else if k = 4 then 2 else 0
def trC (k q f le : Nat) : va_E := ob (14 + k) [.int (nI q), .int (nI f), .int (nI le)]
theorem gv_own {x : fb_X} {cc : ByteArray} {nm : String} {M : List va_E} {k n pc q : Nat} {lv : List (Option Value)} {st : List Value} {L : Nat} {r : Option FieldType} {o : Outcome} {Rel : List va_E → Prop} {fr lo mc ms : Nat} {j kd a f le : Nat} (C : fb_OK x cc "FallsBetween$Town" nm) (E : fb_RT x L r o Rel fr lo mc ms) (hM : M[j]? = some (ob (14 + kd) [.int (nI a), .int (nI f), .int (nI le)])) (hkd : kd ≤ 5) (h1 : 3 ≤ fr) (h2 : 60 ≤ lo) (hW : (st.map fun v => v.category).sum ≤ 8) (hk : k ≤ mc) (hn : n ≤ ms) (d : decode cc pc = .ok (.invokevirtual 105, 3)) (hq : pc + 3 = q) (kk : fb_G x M k n q lv (.int (nI (ten kd le 0)) :: st)) : fb_G x M k n pc lv (.ref (cx_b x + j) :: st) := by
  rcases (by omega : kd = 0 ∨ kd = 1 ∨ kd = 2 ∨ kd = 3 ∨ kd = 4 ∨ kd = 5) with rfl | rfl | rfl | rfl | rfl | rfl
  · exact gx_cp C E (sx_X1_105_X14 (As := []) C hM rfl rfl d) (tr_own_0 _ _ _ _ j hM) kw_X14_own ⟨by omega, by omega⟩ hW hk hn d hq kk
  · exact gx_cp C E (sx_X1_105_X15 (As := []) C hM rfl rfl d) (tr_own_1 _ _ _ _ j hM) kw_X15_own ⟨by omega, by omega⟩ hW hk hn d hq kk
  · exact gx_cp C E (sx_X1_105_X16 (As := []) C hM rfl rfl d) (tr_own_2 _ _ _ _ j hM) kw_X16_own ⟨by omega, by omega⟩ hW hk hn d hq kk
  · exact gx_cp C E (sx_X1_105_X17 (As := []) C hM rfl rfl d) (tr_own_3 _ _ _ _ j hM) kw_X14_own ⟨by omega, by omega⟩ hW hk hn d hq kk
  · exact gx_cp C E (sx_X1_105_X18 (As := []) C hM rfl rfl d) (tr_own_4 _ _ _ _ j hM) kw_X14_own ⟨by omega, by omega⟩ hW hk hn d hq kk
  · exact gx_cp C E (sx_X1_105_X19 (As := []) C hM rfl rfl d) (tr_own_5 _ _ _ _ j hM) kw_X15_own ⟨by omega, by omega⟩ hW hk hn d hq kk
theorem gv_rolls {x : fb_X} {cc : ByteArray} {nm : String} {M : List va_E} {k n pc q : Nat} {lv : List (Option Value)} {st : List Value} {L : Nat} {r : Option FieldType} {o : Outcome} {Rel : List va_E → Prop} {fr lo mc ms : Nat} {j kd a f le : Nat} (C : fb_OK x cc "FallsBetween$Town" nm) (E : fb_RT x L r o Rel fr lo mc ms) (hM : M[j]? = some (ob (14 + kd) [.int (nI a), .int (nI f), .int (nI le)])) (hkd : kd ≤ 5) (h1 : 3 ≤ fr) (h2 : 60 ≤ lo) (hW : (st.map fun v => v.category).sum ≤ 8) (hk : k ≤ mc) (hn : n ≤ ms) (d : decode cc pc = .ok (.invokevirtual 91, 3)) (hq : pc + 3 = q) (kk : fb_G x M k n q lv (.int (nI (rlN kd)) :: st)) : fb_G x M k n pc lv (.ref (cx_b x + j) :: st) := by
  rcases (by omega : kd = 0 ∨ kd = 1 ∨ kd = 2 ∨ kd = 3 ∨ kd = 4 ∨ kd = 5) with rfl | rfl | rfl | rfl | rfl | rfl
  · exact gx_cp C E (sx_X1_91_X14 (As := []) C hM rfl rfl d) (tr_rolls_0 _ _ _ _ j hM) kw_X14_rolls ⟨by omega, by omega⟩ hW hk hn d hq kk
  · exact gx_cp C E (sx_X1_91_X15 (As := []) C hM rfl rfl d) (tr_rolls_1 _ _ _ _ j hM) kw_X14_rolls ⟨by omega, by omega⟩ hW hk hn d hq kk
  · exact gx_cp C E (sx_X1_91_X16 (As := []) C hM rfl rfl d) (tr_rolls_2 _ _ _ _ j hM) kw_X14_rolls ⟨by omega, by omega⟩ hW hk hn d hq kk
  · exact gx_cp C E (sx_X1_91_X17 (As := []) C hM rfl rfl d) (tr_rolls1_3 _ _ _ _ j hM) kw_X17_rolls ⟨by omega, by omega⟩ hW hk hn d hq kk
  · exact gx_cp C E (sx_X1_91_X18 (As := []) C hM rfl rfl d) (tr_rolls2_4 _ _ _ _ j hM) kw_X18_rolls ⟨by omega, by omega⟩ hW hk hn d hq kk
  · exact gx_cp C E (sx_X1_91_X19 (As := []) C hM rfl rfl d) (tr_rolls_5 _ _ _ _ j hM) kw_X14_rolls ⟨by omega, by omega⟩ hW hk hn d hq kk
theorem gv_blown {x : fb_X} {cc : ByteArray} {nm : String} {M : List va_E} {k n pc q : Nat} {lv : List (Option Value)} {st : List Value} {L : Nat} {r : Option FieldType} {o : Outcome} {Rel : List va_E → Prop} {fr lo mc ms : Nat} {j kd a f le : Nat} (C : fb_OK x cc "FallsBetween$Town" nm) (E : fb_RT x L r o Rel fr lo mc ms) (hM : M[j]? = some (ob (14 + kd) [.int (nI a), .int (nI f), .int (nI le)])) (hkd : kd ≤ 5) (h1 : 3 ≤ fr) (h2 : 60 ≤ lo) (hW : (st.map fun v => v.category).sum ≤ 8) (hk : k ≤ mc) (hn : n ≤ ms) (d : decode cc pc = .ok (.invokevirtual 83, 3)) (hq : pc + 3 = q) (kk : fb_G x M k n q lv (.int (bI (decide (¬ kd = 5))) :: st)) : fb_G x M k n pc lv (.ref (cx_b x + j) :: st) := by
  rcases (by omega : kd = 0 ∨ kd = 1 ∨ kd = 2 ∨ kd = 3 ∨ kd = 4 ∨ kd = 5) with rfl | rfl | rfl | rfl | rfl | rfl
  · exact gx_cp C E (sx_X1_83_X14 (As := []) C hM rfl rfl d) (tr_blown0_0 _ _ _ _ j hM) kw_X14_isBlown ⟨by omega, by omega⟩ hW hk hn d hq kk
  · exact gx_cp C E (sx_X1_83_X15 (As := []) C hM rfl rfl d) (tr_blown0_1 _ _ _ _ j hM) kw_X14_isBlown ⟨by omega, by omega⟩ hW hk hn d hq kk
  · exact gx_cp C E (sx_X1_83_X16 (As := []) C hM rfl rfl d) (tr_blown0_2 _ _ _ _ j hM) kw_X14_isBlown ⟨by omega, by omega⟩ hW hk hn d hq kk
  · exact gx_cp C E (sx_X1_83_X17 (As := []) C hM rfl rfl d) (tr_blown0_3 _ _ _ _ j hM) kw_X14_isBlown ⟨by omega, by omega⟩ hW hk hn d hq kk
  · exact gx_cp C E (sx_X1_83_X18 (As := []) C hM rfl rfl d) (tr_blown0_4 _ _ _ _ j hM) kw_X14_isBlown ⟨by omega, by omega⟩ hW hk hn d hq kk
  · exact gx_cp C E (sx_X1_83_X19 (As := []) C hM rfl rfl d) (tr_blown_5 _ _ _ _ j hM) kw_X19_isBlown ⟨by omega, by omega⟩ hW hk hn d hq kk
theorem gv_side {x : fb_X} {cc : ByteArray} {nm : String} {M : List va_E} {k n pc q : Nat} {lv : List (Option Value)} {st : List Value} {L : Nat} {r : Option FieldType} {o : Outcome} {Rel : List va_E → Prop} {fr lo mc ms : Nat} {j kd a f le s : Nat} (C : fb_OK x cc "FallsBetween$Town" nm) (E : fb_RT x L r o Rel fr lo mc ms) (hM : M[j]? = some (ob (14 + kd) [.int (nI a), .int (nI f), .int (nI le)])) (hkd : kd ≤ 5) (hs : s < 4) (hle : le < 4) (h1 : 3 ≤ fr) (h2 : 60 ≤ lo) (hW : (st.map fun v => v.category).sum ≤ 8) (hk : k ≤ mc) (hn : n ≤ ms) (d : decode cc pc = .ok (.invokevirtual 112, 3)) (hq : pc + 3 = q) (kk : fb_G x M k n q lv (.int (nI (ten kd le (s + 1))) :: st)) : fb_G x M k n pc lv (.int (nI s) :: .ref (cx_b x + j) :: st) := by
  rcases (by omega : kd = 0 ∨ kd = 1 ∨ kd = 2 ∨ kd = 3 ∨ kd = 4 ∨ kd = 5) with rfl | rfl | rfl | rfl | rfl | rfl
  · exact gx_cp C E (sx_X1_112_X14 (As := [_]) C hM rfl rfl d) (tr_side0_0 _ _ _ _ j s hM) kw_X14_toSide ⟨by omega, by omega⟩ hW hk hn d hq kk
  · exact gx_cp C E (sx_X1_112_X15 (As := [_]) C hM rfl rfl d) (tr_side_1 _ _ _ _ j s hM) kw_X15_toSide ⟨by omega, by omega⟩ hW hk hn d hq kk
  · exact gx_cp C E (sx_X1_112_X16 (As := [_]) C hM rfl rfl d) (tr_side_2 _ _ _ _ j s le _ _ hs hle hM) kw_X16_toSide ⟨by omega, by omega⟩ hW hk hn d hq kk
  · exact gx_cp C E (sx_X1_112_X17 (As := [_]) C hM rfl rfl d) (tr_side0_3 _ _ _ _ j s hM) kw_X14_toSide ⟨by omega, by omega⟩ hW hk hn d hq kk
  · exact gx_cp C E (sx_X1_112_X18 (As := [_]) C hM rfl rfl d) (tr_side0_4 _ _ _ _ j s hM) kw_X14_toSide ⟨by omega, by omega⟩ hW hk hn d hq kk
  · exact gx_cp C E (sx_X1_112_X19 (As := [_]) C hM rfl rfl d) (tr_side_5 _ _ _ _ j s hM) kw_X15_toSide ⟨by omega, by omega⟩ hW hk hn d hq kk
theorem gv_kind {x : fb_X} {cc : ByteArray} {nm : String} {M : List va_E} {k n pc q : Nat} {lv : List (Option Value)} {st : List Value} {L : Nat} {r : Option FieldType} {o : Outcome} {Rel : List va_E → Prop} {fr lo mc ms : Nat} {j kd a f le : Nat} (C : fb_OK x cc "FallsBetween" nm) (E : fb_RT x L r o Rel fr lo mc ms) (hM : M[j]? = some (ob (14 + kd) [.int (nI a), .int (nI f), .int (nI le)])) (hkd : kd ≤ 5) (h1 : 3 ≤ fr) (h2 : 60 ≤ lo) (hW : (st.map fun v => v.category).sum ≤ 8) (hk : k ≤ mc) (hn : n ≤ ms) (d : decode cc pc = .ok (.invokevirtual 237, 3)) (hq : pc + 3 = q) (kk : fb_G x M k n q lv (.int (nI kd) :: st)) : fb_G x M k n pc lv (.ref (cx_b x + j) :: st) := by
  rcases (by omega : kd = 0 ∨ kd = 1 ∨ kd = 2 ∨ kd = 3 ∨ kd = 4 ∨ kd = 5) with rfl | rfl | rfl | rfl | rfl | rfl
  · exact gx_cp C E (sx_X0_237_X14 (As := []) C hM rfl rfl d) (tr_kind_0 _ _ _ _ j hM) kw_X14_kind ⟨by omega, by omega⟩ hW hk hn d hq kk
  · exact gx_cp C E (sx_X0_237_X15 (As := []) C hM rfl rfl d) (tr_kind_1 _ _ _ _ j hM) kw_X15_kind ⟨by omega, by omega⟩ hW hk hn d hq kk
  · exact gx_cp C E (sx_X0_237_X16 (As := []) C hM rfl rfl d) (tr_kind_2 _ _ _ _ j hM) kw_X16_kind ⟨by omega, by omega⟩ hW hk hn d hq kk
  · exact gx_cp C E (sx_X0_237_X17 (As := []) C hM rfl rfl d) (tr_kind_3 _ _ _ _ j hM) kw_X17_kind ⟨by omega, by omega⟩ hW hk hn d hq kk
  · exact gx_cp C E (sx_X0_237_X18 (As := []) C hM rfl rfl d) (tr_kind_4 _ _ _ _ j hM) kw_X18_kind ⟨by omega, by omega⟩ hW hk hn d hq kk
  · exact gx_cp C E (sx_X0_237_X19 (As := []) C hM rfl rfl d) (tr_kind_5 _ _ _ _ j hM) kw_X19_kind ⟨by omega, by omega⟩ hW hk hn d hq kk
