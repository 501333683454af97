/-! the component: what its static methods do -/
set_option maxRecDepth 100000
theorem lc_neg {a c : Int64} : lg_cmp a c < 0 ↔ a < c := by
  have h := lg_cmp_ge a c
  rw [← Int32.not_le, h, Int64.not_le]
theorem lc_pos {a c : Int64} : 0 < lg_cmp a c ↔ c < a := by
  unfold lg_cmp
  by_cases h : a > c
  · rw [if_pos h]
    exact ⟨fun _ => h, fun _ => by decide⟩
  · rw [if_neg h]
    constructor
    · intro z
      split at z <;> exact absurd z (by decide)
    · intro z
      exact absurd z h
theorem l_lt {a c : Int32} : a.toInt64 < c.toInt64 ↔ a < c := by rw [Int64.lt_iff_toInt_lt, Int32.toInt_toInt64, Int32.toInt_toInt64, Int32.lt_iff_toInt_lt]
theorem l_le {a c : Int32} : a.toInt64 ≤ c.toInt64 ↔ a ≤ c := by rw [Int64.le_iff_toInt_le, Int32.toInt_toInt64, Int32.toInt_toInt64, Int32.le_iff_toInt_le]
/-- a bound of a whole number, told as a long -/
theorem l_c0 : (0 : Int64) = (nI 0).toInt64 := by decide
theorem l_c1 : (1 : Int64) = (nI 1).toInt64 := by decide
theorem l_nn {j m : Nat} (h : j ≤ m) (hm : m < 2 ^ 31) : (nI j).toInt64 ≤ (nI m).toInt64 := l_le.mpr ((nI_leI (by omega) hm).mpr h)
theorem l_m1 {m : Nat} (h : 0 < m) : (nI m - nI 1).toInt64 = (nI (m - 1)).toInt64 := by rw [pk_sub (by omega)]
theorem l_k1 : (1 : Int64) = (nI 1).toInt64 := by decide
theorem l_k3 : (3 : Int64) = (nI 3).toInt64 := by decide
theorem l_k4 : (4 : Int64) = (nI 4).toInt64 := by decide
theorem l_k5 : (5 : Int64) = (nI 5).toInt64 := by decide
theorem l_k9 : (9 : Int64) = (nI 9).toInt64 := by decide
theorem l_k15 : (15 : Int64) = (nI 15).toInt64 := by decide
theorem l_k16 : (16 : Int64) = (nI 16).toInt64 := by decide
theorem l_k20 : (20 : Int64) = (nI 20).toInt64 := by decide
theorem l_k30 : (30 : Int64) = (nI 30).toInt64 := by decide
theorem l_k99 : (99 : Int64) = (nI 99).toInt64 := by decide
theorem l_k255 : (255 : Int64) = (nI 255).toInt64 := by decide
theorem l_k11 : (11 : Int64) = (nI 11).toInt64 := by decide
set_option maxHeartbeats 4000000 in
theorem fx_in_t (l : Launch) (D : va_G) (b : Nat) (M : List va_E) (a p q : Int64) (h1 : p ≤ a) (h2 : a ≤ q) : fb_CT l D b yX0_in cX0_in 6 (some .boolean) 0 0 0 0 [.long a, .long p, .long q] M (.returned (some (.int (bI true)))) (fun M' => M' = M) := by
  refine fb_start [some (.long a), none, some (.long p), none, some (.long q), none] (by decide) (Nat.le_of_ble_eq_true rfl) rfl ?_
  intro x hl hD hb C E hx
  subst hl hD hb
  have C : fb_OK x cX0_in "FallsBetween" "in" := C
  refine gx_lload_n (q := 1) C dX0_in_0 rfl rfl rfl ?_
  refine gx_lload_n (q := 2) C dX0_in_1 rfl rfl rfl ?_
  refine gx_lcmp (q := 3) C dX0_in_2 rfl rfl ?_
  refine gx_if_lt (q := 6) (tgt := 17) C dX0_in_3 (by decide) rfl (fun c3 => by exfalso; exact Int64.not_lt.mpr h1 (lc_neg.mp c3)) (fun c3 => ?_)
  refine gx_lload_n (q := 7) C dX0_in_6 rfl rfl rfl ?_
  refine gx_lload (q := 9) C dX0_in_7 rfl rfl ?_
  refine gx_lcmp (q := 10) C dX0_in_9 rfl rfl ?_
  refine gx_if_gt (q := 13) (tgt := 17) C dX0_in_10 (by decide) rfl (fun c10 => by exfalso; exact Int64.not_lt.mpr h2 (lc_pos.mp c10)) (fun c10 => ?_)
  refine gx_iconst (q := 14) (v := nI 1) C dX0_in_13 (by decide) rfl ?_
  refine gx_goto (tgt := 18) C dX0_in_14 (by decide) ?_
  exact gx_zret C E (by first | exact bI_nar _ | rfl) dX0_in_18 (rfl) (by omega) (by omega)
set_option maxHeartbeats 4000000 in
theorem fx_in_f (l : Launch) (D : va_G) (b : Nat) (M : List va_E) (a p q : Int64) (h : a < p ∨ q < a) : fb_CT l D b yX0_in cX0_in 6 (some .boolean) 0 0 0 0 [.long a, .long p, .long q] M (.returned (some (.int (bI false)))) (fun M' => M' = M) := by
  refine fb_start [some (.long a), none, some (.long p), none, some (.long q), none] (by decide) (Nat.le_of_ble_eq_true rfl) rfl ?_
  intro x hl hD hb C E hx
  subst hl hD hb
  have C : fb_OK x cX0_in "FallsBetween" "in" := C
  refine gx_lload_n (q := 1) C dX0_in_0 rfl rfl rfl ?_
  refine gx_lload_n (q := 2) C dX0_in_1 rfl rfl rfl ?_
  refine gx_lcmp (q := 3) C dX0_in_2 rfl rfl ?_
  refine gx_if_lt (q := 6) (tgt := 17) C dX0_in_3 (by decide) rfl (fun c3 => ?_) (fun c3 => ?_)
  · refine gx_iconst (q := 18) (v := nI 0) C dX0_in_17 (by decide) rfl ?_
    exact gx_zret C E (by first | exact bI_nar _ | rfl) dX0_in_18 (rfl) (by omega) (by omega)
  · refine gx_lload_n (q := 7) C dX0_in_6 rfl rfl rfl ?_
    refine gx_lload (q := 9) C dX0_in_7 rfl rfl ?_
    refine gx_lcmp (q := 10) C dX0_in_9 rfl rfl ?_
    refine gx_if_gt (q := 13) (tgt := 17) C dX0_in_10 (by decide) rfl (fun c10 => ?_) (fun c10 => by exfalso; exact c10 (lc_pos.mpr (h.resolve_left (fun z => c3 (lc_neg.mpr z)))))
    refine gx_iconst (q := 18) (v := nI 0) C dX0_in_17 (by decide) rfl ?_
    exact gx_zret C E (by first | exact bI_nar _ | rfl) dX0_in_18 (rfl) (by omega) (by omega)
set_option maxHeartbeats 4000000 in
theorem fx_within_o (l : Launch) (D : va_G) (b : Nat) (M : List va_E) (a p q : Int64) (h1 : p ≤ a) (h2 : a ≤ q) : fb_CT l D b yX0_within cX0_within 6 none 8 129 0 0 [.long a, .long p, .long q] M (.returned none) (fun M' => M' = M) := by
  refine fb_start [some (.long a), none, some (.long p), none, some (.long q), none] (by decide) (Nat.le_of_ble_eq_true rfl) rfl ?_
  intro x hl hD hb C E hx
  subst hl hD hb
  have C : fb_OK x cX0_within "FallsBetween" "within" := C
  refine gx_lload_n (q := 1) C dX0_within_0 rfl rfl rfl ?_
  refine gx_lload_n (q := 2) C dX0_within_1 rfl rfl rfl ?_
  refine gx_lcmp (q := 3) C dX0_within_2 rfl rfl ?_
  refine gx_if_lt (q := 6) (tgt := 10) C dX0_within_3 (by decide) rfl (fun c3 => by exfalso; exact Int64.not_lt.mpr h1 (lc_neg.mp c3)) (fun c3 => ?_)
  refine gx_iconst (q := 7) (v := bI true) C dX0_within_6 (by decide) rfl ?_
  refine gx_goto (tgt := 11) C dX0_within_7 (by decide) ?_
  refine gx_bipush (q := 13) (v := -4) C dX0_within_11 (by decide) rfl ?_
  refine gx_cv (q := 16) C E (sx_X0_9 (As := [_, _]) C rfl rfl dX0_within_13) (fx_must_t _ _ _ _ (-4)) kw_X0_must (by decide) (Nat.le_of_ble_eq_true rfl) rfl rfl (by omega) (by omega) dX0_within_13 rfl (fun Mv rv => ?_)
  rw [rv]
  refine gx_lload_n (q := 17) C dX0_within_16 rfl rfl rfl ?_
  refine gx_lload (q := 19) C dX0_within_17 rfl rfl ?_
  refine gx_lcmp (q := 20) C dX0_within_19 rfl rfl ?_
  refine gx_if_gt (q := 23) (tgt := 27) C dX0_within_20 (by decide) rfl (fun c20 => by exfalso; exact Int64.not_lt.mpr h2 (lc_pos.mp c20)) (fun c20 => ?_)
  refine gx_iconst (q := 24) (v := bI true) C dX0_within_23 (by decide) rfl ?_
  refine gx_goto (tgt := 28) C dX0_within_24 (by decide) ?_
  refine gx_bipush (q := 30) (v := -6) C dX0_within_28 (by decide) rfl ?_
  refine gx_cv (q := 33) C E (sx_X0_9 (As := [_, _]) C rfl rfl dX0_within_30) (fx_must_t _ _ _ _ (-6)) kw_X0_must (by decide) (Nat.le_of_ble_eq_true rfl) rfl rfl (by omega) (by omega) dX0_within_30 rfl (fun Mv rv => ?_)
  rw [rv]
  exact gx_vret C E dX0_within_33 (rfl) (by omega) (by omega)
set_option maxHeartbeats 4000000 in
theorem fx_within_b (l : Launch) (D : va_G) (b : Nat) (M : List va_E) (a p q : Int64) (h1 : a < p) : fb_CT l D b yX0_within cX0_within 6 none 8 129 1 7 [.long a, .long p, .long q] M (.threw (b + M.length)) (ex_R b M 9 (-4)) := by
  refine fb_start [some (.long a), none, some (.long p), none, some (.long q), none] (by decide) (Nat.le_of_ble_eq_true rfl) rfl ?_
  intro x hl hD hb C E hx
  subst hl hD hb
  have C : fb_OK x cX0_within "FallsBetween" "within" := C
  refine gx_lload_n (q := 1) C dX0_within_0 rfl rfl rfl ?_
  refine gx_lload_n (q := 2) C dX0_within_1 rfl rfl rfl ?_
  refine gx_lcmp (q := 3) C dX0_within_2 rfl rfl ?_
  refine gx_if_lt (q := 6) (tgt := 10) C dX0_within_3 (by decide) rfl (fun c3 => ?_) (fun c3 => by exfalso; exact c3 (lc_neg.mpr h1))
  refine gx_iconst (q := 11) (v := bI false) C dX0_within_10 (by decide) rfl ?_
  refine gx_bipush (q := 13) (v := -4) C dX0_within_11 (by decide) rfl ?_
  exact gx_ct C E hx (sx_X0_9 (As := [_, _]) C rfl rfl dX0_within_13) (fx_must_f _ _ _ _ (-4)) kw_X0_must (by decide) (Nat.le_of_ble_eq_true rfl) (by omega) (by omega) dX0_within_13 (fun _ h => h)
set_option maxHeartbeats 4000000 in
theorem fx_within_a (l : Launch) (D : va_G) (b : Nat) (M : List va_E) (a p q : Int64) (h1 : p ≤ a) (h2 : q < a) : fb_CT l D b yX0_within cX0_within 6 none 8 129 1 7 [.long a, .long p, .long q] M (.threw (b + M.length)) (ex_R b M 9 (-6)) := by
  refine fb_start [some (.long a), none, some (.long p), none, some (.long q), none] (by decide) (Nat.le_of_ble_eq_true rfl) rfl ?_
  intro x hl hD hb C E hx
  subst hl hD hb
  have C : fb_OK x cX0_within "FallsBetween" "within" := C
  refine gx_lload_n (q := 1) C dX0_within_0 rfl rfl rfl ?_
  refine gx_lload_n (q := 2) C dX0_within_1 rfl rfl rfl ?_
  refine gx_lcmp (q := 3) C dX0_within_2 rfl rfl ?_
  refine gx_if_lt (q := 6) (tgt := 10) C dX0_within_3 (by decide) rfl (fun c3 => by exfalso; exact Int64.not_lt.mpr h1 (lc_neg.mp c3)) (fun c3 => ?_)
  refine gx_iconst (q := 7) (v := bI true) C dX0_within_6 (by decide) rfl ?_
  refine gx_goto (tgt := 11) C dX0_within_7 (by decide) ?_
  refine gx_bipush (q := 13) (v := -4) C dX0_within_11 (by decide) rfl ?_
  refine gx_cv (q := 16) C E (sx_X0_9 (As := [_, _]) C rfl rfl dX0_within_13) (fx_must_t _ _ _ _ (-4)) kw_X0_must (by decide) (Nat.le_of_ble_eq_true rfl) rfl rfl (by omega) (by omega) dX0_within_13 rfl (fun Mv rv => ?_)
  rw [rv]
  refine gx_lload_n (q := 17) C dX0_within_16 rfl rfl rfl ?_
  refine gx_lload (q := 19) C dX0_within_17 rfl rfl ?_
  refine gx_lcmp (q := 20) C dX0_within_19 rfl rfl ?_
  refine gx_if_gt (q := 23) (tgt := 27) C dX0_within_20 (by decide) rfl (fun c20 => ?_) (fun c20 => by exfalso; exact c20 (lc_pos.mpr h2))
  refine gx_iconst (q := 28) (v := bI false) C dX0_within_27 (by decide) rfl ?_
  refine gx_bipush (q := 30) (v := -6) C dX0_within_28 (by decide) rfl ?_
  exact gx_ct C E hx (sx_X0_9 (As := [_, _]) C rfl rfl dX0_within_30) (fx_must_f _ _ _ _ (-6)) kw_X0_must (by decide) (Nat.le_of_ble_eq_true rfl) (by omega) (by omega) dX0_within_30 (fun _ h => h)
theorem in_o {j m : Nat} (h : j < m) (hm : m < 2 ^ 31) : (0 : Int64) ≤ (nI j).toInt64 ∧ (nI j).toInt64 ≤ (nI m - nI 1).toInt64 := by
  rw [l_m1 (by omega), l_c0]
  exact ⟨l_nn (Nat.zero_le _) (by omega), l_nn (by omega) (by omega)⟩
theorem in_b {v : Int32} {m : Nat} (h0 : 0 < m) (hm : m < 2 ^ 31) (h : v < 0 ∨ nI m ≤ v) : v.toInt64 < 0 ∨ (nI m - nI 1).toInt64 < v.toInt64 := by
  rw [l_m1 h0, l_c0, l_lt, l_lt]
  rcases h with h | h
  · exact Or.inl h
  · exact Or.inr (Int32.lt_of_lt_of_le (nI_lt (by omega) hm) h)
theorem in_b0 {v : Int32} (h : v < 0 ∨ nI 0 ≤ v) : v.toInt64 < 0 ∨ (nI 0 - nI 1).toInt64 < v.toInt64 := by
  rw [l_c0, l_lt, l_lt]
  rcases h with h | h
  · exact Or.inl h
  · exact Or.inr (Int32.lt_of_lt_of_le (by decide) h)
theorem in_bb {v : Int32} {m : Nat} (hm : m < 2 ^ 31) (h : v < 0 ∨ nI m ≤ v) : v.toInt64 < 0 ∨ (nI m - nI 1).toInt64 < v.toInt64 := by
  cases m with
  | zero => exact in_b0 h
  | succ m => exact in_b (Nat.succ_pos m) hm h
set_option maxHeartbeats 4000000 in
theorem fx_mustBe_o (l : Launch) (D : va_G) (b : Nat) (M : List va_E) (j m : Nat) (h : j < m) (hm : m < 2 ^ 31) : fb_CT l D b yX0_mustBe cX0_mustBe 2 none 8 129 0 0 [.int (nI j), .int (nI m)] M (.returned none) (fun M' => M' = M) := by
  refine fb_start [some (.int (nI j)), some (.int (nI m))] (by decide) (Nat.le_of_ble_eq_true rfl) rfl ?_
  intro x hl hD hb C E hx
  subst hl hD hb
  have C : fb_OK x cX0_mustBe "FallsBetween" "mustBe" := C
  refine gx_iload_n (q := 1) C dX0_mustBe_0 rfl rfl rfl ?_
  refine gx_i2l (q := 2) C dX0_mustBe_1 (rfl) rfl ?_
  refine gx_lconst (q := 3) (v := 0) C dX0_mustBe_2 (by decide) rfl ?_
  refine gx_iload_n (q := 4) C dX0_mustBe_3 rfl rfl rfl ?_
  refine gx_iconst (q := 5) (v := nI 1) C dX0_mustBe_4 (by decide) rfl ?_
  refine gx_isub (q := 6) C dX0_mustBe_5 rfl rfl ?_
  refine gx_i2l (q := 7) C dX0_mustBe_6 (rfl) rfl ?_
  refine gx_cp (q := 10) C E (sx_X0_13 (As := [_, _, _]) C rfl rfl dX0_mustBe_7) (fx_in_t _ _ _ _ _ _ _ (in_o h hm).1 (in_o h hm).2) kw_X0_in (by decide) (Nat.le_of_ble_eq_true rfl) (by omega) (by omega) dX0_mustBe_7 rfl ?_
  refine gx_iconst (q := 11) (v := -1) C dX0_mustBe_10 (by decide) rfl ?_
  refine gx_cv (q := 14) C E (sx_X0_9 (As := [_, _]) C rfl rfl dX0_mustBe_11) (fx_must_t _ _ _ _ (-1)) kw_X0_must (by decide) (Nat.le_of_ble_eq_true rfl) rfl rfl (by omega) (by omega) dX0_mustBe_11 rfl (fun Mv rv => ?_)
  rw [rv]
  exact gx_vret C E dX0_mustBe_14 (rfl) (by omega) (by omega)
set_option maxHeartbeats 4000000 in
theorem fx_mustBe_b (l : Launch) (D : va_G) (b : Nat) (M : List va_E) (v : Int32) (m : Nat) (hm : m < 2 ^ 31) (h : v < 0 ∨ nI m ≤ v) : fb_CT l D b yX0_mustBe cX0_mustBe 2 none 8 129 1 7 [.int v, .int (nI m)] M (.threw (b + M.length)) (ex_R b M 9 (-1)) := by
  refine fb_start [some (.int v), some (.int (nI m))] (by decide) (Nat.le_of_ble_eq_true rfl) rfl ?_
  intro x hl hD hb C E hx
  subst hl hD hb
  have C : fb_OK x cX0_mustBe "FallsBetween" "mustBe" := C
  refine gx_iload_n (q := 1) C dX0_mustBe_0 rfl rfl rfl ?_
  refine gx_i2l (q := 2) C dX0_mustBe_1 (rfl) rfl ?_
  refine gx_lconst (q := 3) (v := 0) C dX0_mustBe_2 (by decide) rfl ?_
  refine gx_iload_n (q := 4) C dX0_mustBe_3 rfl rfl rfl ?_
  refine gx_iconst (q := 5) (v := nI 1) C dX0_mustBe_4 (by decide) rfl ?_
  refine gx_isub (q := 6) C dX0_mustBe_5 rfl rfl ?_
  refine gx_i2l (q := 7) C dX0_mustBe_6 (rfl) rfl ?_
  refine gx_cp (q := 10) C E (sx_X0_13 (As := [_, _, _]) C rfl rfl dX0_mustBe_7) (fx_in_f _ _ _ _ _ _ _ (in_bb hm h)) kw_X0_in (by decide) (Nat.le_of_ble_eq_true rfl) (by omega) (by omega) dX0_mustBe_7 rfl ?_
  refine gx_iconst (q := 11) (v := -1) C dX0_mustBe_10 (by decide) rfl ?_
  exact gx_ct C E hx (sx_X0_9 (As := [_, _]) C rfl rfl dX0_mustBe_11) (fx_must_f _ _ _ _ (-1)) kw_X0_must (by decide) (Nat.le_of_ble_eq_true rfl) (by omega) (by omega) dX0_mustBe_11 (fun _ h => h)
set_option maxHeartbeats 4000000 in
theorem fx_mustBeSquare_o (l : Launch) (D : va_G) (b : Nat) (M : List va_E) (j : Nat) (h : j < 36) : fb_CT l D b yX0_mustBeSquare cX0_mustBeSquare 1 none 9 150 0 0 [.int (nI j)] M (.returned none) (fun M' => M' = M) := by
  refine fb_start [some (.int (nI j))] (by decide) (Nat.le_of_ble_eq_true rfl) rfl ?_
  intro x hl hD hb C E hx
  subst hl hD hb
  have C : fb_OK x cX0_mustBeSquare "FallsBetween" "mustBeSquare" := C
  refine gx_iload_n (q := 1) C dX0_mustBeSquare_0 rfl rfl rfl ?_
  refine gx_bipush (q := 3) (v := nI 36) C dX0_mustBeSquare_1 (by decide) rfl ?_
  refine gx_cv (q := 6) C E (sx_X0_214 (As := [_, _]) C rfl rfl dX0_mustBeSquare_3) (fx_mustBe_o _ _ _ _ j 36 h (by decide)) kw_X0_mustBe (by decide) (Nat.le_of_ble_eq_true rfl) rfl rfl (by omega) (by omega) dX0_mustBeSquare_3 rfl (fun Mv rv => ?_)
  rw [rv]
  exact gx_vret C E dX0_mustBeSquare_6 (rfl) (by omega) (by omega)
set_option maxHeartbeats 4000000 in
theorem fx_mustBeSquare_b (l : Launch) (D : va_G) (b : Nat) (M : List va_E) (v : Int32) (h : v < 0 ∨ nI 36 ≤ v) : fb_CT l D b yX0_mustBeSquare cX0_mustBeSquare 1 none 9 150 1 7 [.int v] M (.threw (b + M.length)) (ex_R b M 9 (-1)) := by
  refine fb_start [some (.int v)] (by decide) (Nat.le_of_ble_eq_true rfl) rfl ?_
  intro x hl hD hb C E hx
  subst hl hD hb
  have C : fb_OK x cX0_mustBeSquare "FallsBetween" "mustBeSquare" := C
  refine gx_iload_n (q := 1) C dX0_mustBeSquare_0 rfl rfl rfl ?_
  refine gx_bipush (q := 3) (v := nI 36) C dX0_mustBeSquare_1 (by decide) rfl ?_
  exact gx_ct C E hx (sx_X0_214 (As := [_, _]) C rfl rfl dX0_mustBeSquare_3) (fx_mustBe_b _ _ _ _ v 36 (by decide) h) kw_X0_mustBe (by decide) (Nat.le_of_ble_eq_true rfl) (by omega) (by omega) dX0_mustBeSquare_3 (fun _ h => h)
set_option maxHeartbeats 4000000 in
theorem fx_mustBeGarden_o (l : Launch) (D : va_G) (b : Nat) (M : List va_E) (j : Nat) (h : j < 4) : fb_CT l D b yX0_mustBeGarden cX0_mustBeGarden 1 none 9 150 0 0 [.int (nI j)] M (.returned none) (fun M' => M' = M) := by
  refine fb_start [some (.int (nI j))] (by decide) (Nat.le_of_ble_eq_true rfl) rfl ?_
  intro x hl hD hb C E hx
  subst hl hD hb
  have C : fb_OK x cX0_mustBeGarden "FallsBetween" "mustBeGarden" := C
  refine gx_iload_n (q := 1) C dX0_mustBeGarden_0 rfl rfl rfl ?_
  refine gx_iconst (q := 2) (v := nI 4) C dX0_mustBeGarden_1 (by decide) rfl ?_
  refine gx_cv (q := 5) C E (sx_X0_214 (As := [_, _]) C rfl rfl dX0_mustBeGarden_2) (fx_mustBe_o _ _ _ _ j 4 h (by decide)) kw_X0_mustBe (by decide) (Nat.le_of_ble_eq_true rfl) rfl rfl (by omega) (by omega) dX0_mustBeGarden_2 rfl (fun Mv rv => ?_)
  rw [rv]
  exact gx_vret C E dX0_mustBeGarden_5 (rfl) (by omega) (by omega)
set_option maxHeartbeats 4000000 in
theorem fx_mustBeGarden_b (l : Launch) (D : va_G) (b : Nat) (M : List va_E) (v : Int32) (h : v < 0 ∨ nI 4 ≤ v) : fb_CT l D b yX0_mustBeGarden cX0_mustBeGarden 1 none 9 150 1 7 [.int v] M (.threw (b + M.length)) (ex_R b M 9 (-1)) := by
  refine fb_start [some (.int v)] (by decide) (Nat.le_of_ble_eq_true rfl) rfl ?_
  intro x hl hD hb C E hx
  subst hl hD hb
  have C : fb_OK x cX0_mustBeGarden "FallsBetween" "mustBeGarden" := C
  refine gx_iload_n (q := 1) C dX0_mustBeGarden_0 rfl rfl rfl ?_
  refine gx_iconst (q := 2) (v := nI 4) C dX0_mustBeGarden_1 (by decide) rfl ?_
  exact gx_ct C E hx (sx_X0_214 (As := [_, _]) C rfl rfl dX0_mustBeGarden_2) (fx_mustBe_b _ _ _ _ v 4 (by decide) h) kw_X0_mustBe (by decide) (Nat.le_of_ble_eq_true rfl) (by omega) (by omega) dX0_mustBeGarden_2 (fun _ h => h)
theorem in_k {j m : Nat} {z : Int64} (hz : z = (nI m).toInt64) (h : j ≤ m) (hm : m < 2 ^ 31) : (0 : Int64) ≤ (nI j).toInt64 ∧ (nI j).toInt64 ≤ z := by
  rw [hz, l_c0]
  exact ⟨l_nn (Nat.zero_le _) (by omega), l_nn h hm⟩
theorem in_kb {v : Int32} {m : Nat} {z : Int64} (hz : z = (nI m).toInt64) (hm : m + 1 < 2 ^ 31) (h : v < 0 ∨ nI (m + 1) ≤ v) : v.toInt64 < 0 ∨ z < v.toInt64 := by
  rw [hz, l_c0, l_lt, l_lt]
  rcases h with h | h
  · exact Or.inl h
  · exact Or.inr (Int32.lt_of_lt_of_le (nI_lt (Nat.lt_succ_self m) hm) h)
set_option maxHeartbeats 4000000 in
theorem fx_mustBeBit_o (l : Launch) (D : va_G) (b : Nat) (M : List va_E) (j : Nat) (h : j < 2) : fb_CT l D b yX0_mustBeBit cX0_mustBeBit 1 none 8 129 0 0 [.int (nI j)] M (.returned none) (fun M' => M' = M) := by
  refine fb_start [some (.int (nI j))] (by decide) (Nat.le_of_ble_eq_true rfl) rfl ?_
  intro x hl hD hb C E hx
  subst hl hD hb
  have C : fb_OK x cX0_mustBeBit "FallsBetween" "mustBeBit" := C
  refine gx_iload_n (q := 1) C dX0_mustBeBit_0 rfl rfl rfl ?_
  refine gx_i2l (q := 2) C dX0_mustBeBit_1 (rfl) rfl ?_
  refine gx_lconst (q := 3) (v := 0) C dX0_mustBeBit_2 (by decide) rfl ?_
  refine gx_lconst (q := 4) (v := 1) C dX0_mustBeBit_3 (by decide) rfl ?_
  refine gx_cp (q := 7) C E (sx_X0_13 (As := [_, _, _]) C rfl rfl dX0_mustBeBit_4) (fx_in_t _ _ _ _ _ _ _ (in_k l_k1 (by omega) (by decide)).1 (in_k l_k1 (by omega) (by decide)).2) kw_X0_in (by decide) (Nat.le_of_ble_eq_true rfl) (by omega) (by omega) dX0_mustBeBit_4 rfl ?_
  refine gx_bipush (q := 9) (v := -2) C dX0_mustBeBit_7 (by decide) rfl ?_
  refine gx_cv (q := 12) C E (sx_X0_9 (As := [_, _]) C rfl rfl dX0_mustBeBit_9) (fx_must_t _ _ _ _ (-2)) kw_X0_must (by decide) (Nat.le_of_ble_eq_true rfl) rfl rfl (by omega) (by omega) dX0_mustBeBit_9 rfl (fun Mv rv => ?_)
  rw [rv]
  exact gx_vret C E dX0_mustBeBit_12 (rfl) (by omega) (by omega)
set_option maxHeartbeats 4000000 in
theorem fx_mustBeBit_b (l : Launch) (D : va_G) (b : Nat) (M : List va_E) (v : Int32) (h : v < 0 ∨ nI 2 ≤ v) : fb_CT l D b yX0_mustBeBit cX0_mustBeBit 1 none 8 129 1 7 [.int v] M (.threw (b + M.length)) (ex_R b M 9 (-2)) := by
  refine fb_start [some (.int v)] (by decide) (Nat.le_of_ble_eq_true rfl) rfl ?_
  intro x hl hD hb C E hx
  subst hl hD hb
  have C : fb_OK x cX0_mustBeBit "FallsBetween" "mustBeBit" := C
  refine gx_iload_n (q := 1) C dX0_mustBeBit_0 rfl rfl rfl ?_
  refine gx_i2l (q := 2) C dX0_mustBeBit_1 (rfl) rfl ?_
  refine gx_lconst (q := 3) (v := 0) C dX0_mustBeBit_2 (by decide) rfl ?_
  refine gx_lconst (q := 4) (v := 1) C dX0_mustBeBit_3 (by decide) rfl ?_
  refine gx_cp (q := 7) C E (sx_X0_13 (As := [_, _, _]) C rfl rfl dX0_mustBeBit_4) (fx_in_f _ _ _ _ _ _ _ (in_kb l_k1 (by decide) h)) kw_X0_in (by decide) (Nat.le_of_ble_eq_true rfl) (by omega) (by omega) dX0_mustBeBit_4 rfl ?_
  refine gx_bipush (q := 9) (v := -2) C dX0_mustBeBit_7 (by decide) rfl ?_
  exact gx_ct C E hx (sx_X0_9 (As := [_, _]) C rfl rfl dX0_mustBeBit_9) (fx_must_f _ _ _ _ (-2)) kw_X0_must (by decide) (Nat.le_of_ble_eq_true rfl) (by omega) (by omega) dX0_mustBeBit_9 (fun _ h => h)
theorem nI_ge6 {a : Nat} (h : 6 ≤ a) (ha : a < 2 ^ 31) : nI (5 + 1) ≤ nI a := (nI_leI (by decide) ha).mpr h
set_option maxHeartbeats 4000000 in
theorem fx_bes0i (l : Launch) (D : va_G) (b : Nat) (M : List va_E) (q : Nat) (hq : q < 36) (h : 1 ≤ q / 6) : fb_CT l D b yX0_beside cX0_beside 4 (some .int) 1 25 0 0 [.int (nI q), .int (nI 0)] M (.returned (some (.int (sq_ (bes q 0 1))))) (fun M' => M' = M) := by
  refine fb_start [some (.int (nI q)), some (.int (nI 0)), none, none] (by decide) (Nat.le_of_ble_eq_true rfl) rfl ?_
  intro x hl hD hb C E hx
  subst hl hD hb
  have C : fb_OK x cX0_beside "FallsBetween" "beside" := C
  refine gx_iload_n (q := 1) C dX0_beside_0 rfl rfl rfl ?_
  refine gx_bipush (q := 3) (v := nI 6) C dX0_beside_1 (by decide) rfl ?_
  refine gn_idiv (q := 4) C dX0_beside_3 (by omega) (by omega) (by omega) rfl ?_
  refine gx_iload_n (q := 5) C dX0_beside_4 rfl rfl rfl ?_
  refine gx_iconst (q := 6) (v := nI 2) C dX0_beside_5 (by decide) rfl ?_
  refine gn_icmp_ne (q := 9) (tgt := 13) C dX0_beside_6 (by decide) rfl (by omega) (by omega) (fun c6 => ?_) (fun c6 => by exfalso; omega)
  refine gx_iload_n (q := 14) C dX0_beside_13 rfl rfl rfl ?_
  refine gn_if_ne (q := 17) (tgt := 21) C dX0_beside_14 (by decide) rfl (by omega) (fun c14 => by exfalso; omega) (fun c14 => ?_)
  refine gx_iconst (q := 18) (v := -1) C dX0_beside_17 (by decide) rfl ?_
  refine gx_goto (tgt := 22) C dX0_beside_18 (by decide) ?_
  refine gx_iadd (q := 23) C dX0_beside_22 (sb_m1 (by omega)) rfl ?_
  refine gx_istore_n (q := 24) (lv' := [_, _, _, _]) C dX0_beside_23 rfl (Nat.le_of_ble_eq_true rfl) E.2.2.2.symm rfl rfl rfl ?_
  refine gx_iload_n (q := 25) C dX0_beside_24 rfl rfl rfl ?_
  refine gx_bipush (q := 27) (v := nI 6) C dX0_beside_25 (by decide) rfl ?_
  refine gn_irem (q := 28) C dX0_beside_27 (by omega) (by omega) (by omega) rfl ?_
  refine gx_iload_n (q := 29) C dX0_beside_28 rfl rfl rfl ?_
  refine gx_iconst (q := 30) (v := nI 1) C dX0_beside_29 (by decide) rfl ?_
  refine gn_icmp_ne (q := 33) (tgt := 37) C dX0_beside_30 (by decide) rfl (by omega) (by omega) (fun c30 => ?_) (fun c30 => by exfalso; omega)
  refine gx_iload_n (q := 38) C dX0_beside_37 rfl rfl rfl ?_
  refine gx_iconst (q := 39) (v := nI 3) C dX0_beside_38 (by decide) rfl ?_
  refine gn_icmp_ne (q := 42) (tgt := 46) C dX0_beside_39 (by decide) rfl (by omega) (by omega) (fun c39 => ?_) (fun c39 => by exfalso; omega)
  refine gx_iconst (q := 47) (v := nI 0) C dX0_beside_46 (by decide) rfl ?_
  refine gn_iadd (q := 48) C dX0_beside_47 rfl ?_
  refine gx_istore_n (q := 49) (lv' := [_, _, _, _]) C dX0_beside_48 rfl (Nat.le_of_ble_eq_true rfl) E.2.2.2.symm rfl rfl rfl ?_
  refine gx_iload_n (q := 50) C dX0_beside_49 rfl rfl rfl ?_
  refine gx_i2l (q := 51) C dX0_beside_50 (rfl) rfl ?_
  refine gx_lconst (q := 52) (v := 0) C dX0_beside_51 (by decide) rfl ?_
  refine gx_ldc2 (q := 55) C dX0_beside_52 q670 rfl ?_
  refine gx_cp (q := 58) C E (sx_X0_13 (As := [_, _, _]) C rfl rfl dX0_beside_55) (fx_in_t _ _ _ _ _ _ _ (in_k l_k5 (by omega) (by decide)).1 (in_k l_k5 (by omega) (by decide)).2) kw_X0_in (by decide) (Nat.le_of_ble_eq_true rfl) (by omega) (by omega) dX0_beside_55 rfl ?_
  refine gb_if_eq (q := 61) (tgt := 82) C dX0_beside_58 (by decide) rfl (fun c58 => by exfalso; cases c58) (fun c58 => ?_)
  refine gx_iload_n (q := 62) C dX0_beside_61 rfl rfl rfl ?_
  refine gx_i2l (q := 63) C dX0_beside_62 (rfl) rfl ?_
  refine gx_lconst (q := 64) (v := 0) C dX0_beside_63 (by decide) rfl ?_
  refine gx_ldc2 (q := 67) C dX0_beside_64 q670 rfl ?_
  refine gx_cp (q := 70) C E (sx_X0_13 (As := [_, _, _]) C rfl rfl dX0_beside_67) (fx_in_t _ _ _ _ _ _ _ (in_k l_k5 (by omega) (by decide)).1 (in_k l_k5 (by omega) (by decide)).2) kw_X0_in (by decide) (Nat.le_of_ble_eq_true rfl) (by omega) (by omega) dX0_beside_67 rfl ?_
  refine gb_if_eq (q := 73) (tgt := 82) C dX0_beside_70 (by decide) rfl (fun c70 => by exfalso; cases c70) (fun c70 => ?_)
  refine gx_bipush (q := 75) (v := nI 6) C dX0_beside_73 (by decide) rfl ?_
  refine gx_iload_n (q := 76) C dX0_beside_75 rfl rfl rfl ?_
  refine gn_imul (q := 77) C dX0_beside_76 rfl ?_
  refine gx_iload_n (q := 78) C dX0_beside_77 rfl rfl rfl ?_
  refine gn_iadd (q := 79) C dX0_beside_78 rfl ?_
  refine gx_goto (tgt := 84) C dX0_beside_79 (by decide) ?_
  exact gx_iretE C E (by rw [show bes q 0 1 = some (q - 6) by simp [bes]; omega, sq_some]; congr 1; omega) dX0_beside_84 (rfl) (by omega) (by omega)
set_option maxHeartbeats 4000000 in
theorem fx_bes0o (l : Launch) (D : va_G) (b : Nat) (M : List va_E) (q : Nat) (hq : q < 36) (h : q / 6 = 0) : fb_CT l D b yX0_beside cX0_beside 4 (some .int) 1 25 0 0 [.int (nI q), .int (nI 0)] M (.returned (some (.int (sq_ (bes q 0 1))))) (fun M' => M' = M) := by
  refine fb_start [some (.int (nI q)), some (.int (nI 0)), none, none] (by decide) (Nat.le_of_ble_eq_true rfl) rfl ?_
  intro x hl hD hb C E hx
  subst hl hD hb
  have C : fb_OK x cX0_beside "FallsBetween" "beside" := C
  have hneg : (nI (q / 6) + -1).toInt64 < 0 := by rw [h]; decide
  refine gx_iload_n (q := 1) C dX0_beside_0 rfl rfl rfl ?_
  refine gx_bipush (q := 3) (v := nI 6) C dX0_beside_1 (by decide) rfl ?_
  refine gn_idiv (q := 4) C dX0_beside_3 (by omega) (by omega) (by omega) rfl ?_
  refine gx_iload_n (q := 5) C dX0_beside_4 rfl rfl rfl ?_
  refine gx_iconst (q := 6) (v := nI 2) C dX0_beside_5 (by decide) rfl ?_
  refine gn_icmp_ne (q := 9) (tgt := 13) C dX0_beside_6 (by decide) rfl (by omega) (by omega) (fun c6 => ?_) (fun c6 => by exfalso; omega)
  refine gx_iload_n (q := 14) C dX0_beside_13 rfl rfl rfl ?_
  refine gn_if_ne (q := 17) (tgt := 21) C dX0_beside_14 (by decide) rfl (by omega) (fun c14 => by exfalso; omega) (fun c14 => ?_)
  refine gx_iconst (q := 18) (v := -1) C dX0_beside_17 (by decide) rfl ?_
  refine gx_goto (tgt := 22) C dX0_beside_18 (by decide) ?_
  refine gx_iadd (q := 23) C dX0_beside_22 (rfl) rfl ?_
  refine gx_istore_n (q := 24) (lv' := [_, _, _, _]) C dX0_beside_23 rfl (Nat.le_of_ble_eq_true rfl) E.2.2.2.symm rfl rfl rfl ?_
  refine gx_iload_n (q := 25) C dX0_beside_24 rfl rfl rfl ?_
  refine gx_bipush (q := 27) (v := nI 6) C dX0_beside_25 (by decide) rfl ?_
  refine gn_irem (q := 28) C dX0_beside_27 (by omega) (by omega) (by omega) rfl ?_
  refine gx_iload_n (q := 29) C dX0_beside_28 rfl rfl rfl ?_
  refine gx_iconst (q := 30) (v := nI 1) C dX0_beside_29 (by decide) rfl ?_
  refine gn_icmp_ne (q := 33) (tgt := 37) C dX0_beside_30 (by decide) rfl (by omega) (by omega) (fun c30 => ?_) (fun c30 => by exfalso; omega)
  refine gx_iload_n (q := 38) C dX0_beside_37 rfl rfl rfl ?_
  refine gx_iconst (q := 39) (v := nI 3) C dX0_beside_38 (by decide) rfl ?_
  refine gn_icmp_ne (q := 42) (tgt := 46) C dX0_beside_39 (by decide) rfl (by omega) (by omega) (fun c39 => ?_) (fun c39 => by exfalso; omega)
  refine gx_iconst (q := 47) (v := nI 0) C dX0_beside_46 (by decide) rfl ?_
  refine gn_iadd (q := 48) C dX0_beside_47 rfl ?_
  refine gx_istore_n (q := 49) (lv' := [_, _, _, _]) C dX0_beside_48 rfl (Nat.le_of_ble_eq_true rfl) E.2.2.2.symm rfl rfl rfl ?_
  refine gx_iload_n (q := 50) C dX0_beside_49 rfl rfl rfl ?_
  refine gx_i2l (q := 51) C dX0_beside_50 (rfl) rfl ?_
  refine gx_lconst (q := 52) (v := 0) C dX0_beside_51 (by decide) rfl ?_
  refine gx_ldc2 (q := 55) C dX0_beside_52 q670 rfl ?_
  refine gx_cp (q := 58) C E (sx_X0_13 (As := [_, _, _]) C rfl rfl dX0_beside_55) (fx_in_f _ _ _ _ _ _ _ (Or.inl hneg)) kw_X0_in (by decide) (Nat.le_of_ble_eq_true rfl) (by omega) (by omega) dX0_beside_55 rfl ?_
  refine gb_if_eq (q := 61) (tgt := 82) C dX0_beside_58 (by decide) rfl (fun c58 => ?_) (fun c58 => by exfalso; cases c58)
  refine gx_bipush (q := 84) (v := -9) C dX0_beside_82 (by decide) rfl ?_
  exact gx_iretE C E (by rw [show bes q 0 1 = none by simp [bes]; omega]; rfl) dX0_beside_84 (rfl) (by omega) (by omega)
set_option maxHeartbeats 4000000 in
theorem fx_bes1i (l : Launch) (D : va_G) (b : Nat) (M : List va_E) (q : Nat) (hq : q < 36) (h : q % 6 + 1 ≤ 5) : fb_CT l D b yX0_beside cX0_beside 4 (some .int) 1 25 0 0 [.int (nI q), .int (nI 1)] M (.returned (some (.int (sq_ (bes q 1 1))))) (fun M' => M' = M) := by
  refine fb_start [some (.int (nI q)), some (.int (nI 1)), none, none] (by decide) (Nat.le_of_ble_eq_true rfl) rfl ?_
  intro x hl hD hb C E hx
  subst hl hD hb
  have C : fb_OK x cX0_beside "FallsBetween" "beside" := C
  refine gx_iload_n (q := 1) C dX0_beside_0 rfl rfl rfl ?_
  refine gx_bipush (q := 3) (v := nI 6) C dX0_beside_1 (by decide) rfl ?_
  refine gn_idiv (q := 4) C dX0_beside_3 (by omega) (by omega) (by omega) rfl ?_
  refine gx_iload_n (q := 5) C dX0_beside_4 rfl rfl rfl ?_
  refine gx_iconst (q := 6) (v := nI 2) C dX0_beside_5 (by decide) rfl ?_
  refine gn_icmp_ne (q := 9) (tgt := 13) C dX0_beside_6 (by decide) rfl (by omega) (by omega) (fun c6 => ?_) (fun c6 => by exfalso; omega)
  refine gx_iload_n (q := 14) C dX0_beside_13 rfl rfl rfl ?_
  refine gn_if_ne (q := 17) (tgt := 21) C dX0_beside_14 (by decide) rfl (by omega) (fun c14 => ?_) (fun c14 => by exfalso; omega)
  refine gx_iconst (q := 22) (v := nI 0) C dX0_beside_21 (by decide) rfl ?_
  refine gn_iadd (q := 23) C dX0_beside_22 rfl ?_
  refine gx_istore_n (q := 24) (lv' := [_, _, _, _]) C dX0_beside_23 rfl (Nat.le_of_ble_eq_true rfl) E.2.2.2.symm rfl rfl rfl ?_
  refine gx_iload_n (q := 25) C dX0_beside_24 rfl rfl rfl ?_
  refine gx_bipush (q := 27) (v := nI 6) C dX0_beside_25 (by decide) rfl ?_
  refine gn_irem (q := 28) C dX0_beside_27 (by omega) (by omega) (by omega) rfl ?_
  refine gx_iload_n (q := 29) C dX0_beside_28 rfl rfl rfl ?_
  refine gx_iconst (q := 30) (v := nI 1) C dX0_beside_29 (by decide) rfl ?_
  refine gn_icmp_ne (q := 33) (tgt := 37) C dX0_beside_30 (by decide) rfl (by omega) (by omega) (fun c30 => by exfalso; omega) (fun c30 => ?_)
  refine gx_iconst (q := 34) (v := nI 1) C dX0_beside_33 (by decide) rfl ?_
  refine gx_goto (tgt := 47) C dX0_beside_34 (by decide) ?_
  refine gn_iadd (q := 48) C dX0_beside_47 rfl ?_
  refine gx_istore_n (q := 49) (lv' := [_, _, _, _]) C dX0_beside_48 rfl (Nat.le_of_ble_eq_true rfl) E.2.2.2.symm rfl rfl rfl ?_
  refine gx_iload_n (q := 50) C dX0_beside_49 rfl rfl rfl ?_
  refine gx_i2l (q := 51) C dX0_beside_50 (rfl) rfl ?_
  refine gx_lconst (q := 52) (v := 0) C dX0_beside_51 (by decide) rfl ?_
  refine gx_ldc2 (q := 55) C dX0_beside_52 q670 rfl ?_
  refine gx_cp (q := 58) C E (sx_X0_13 (As := [_, _, _]) C rfl rfl dX0_beside_55) (fx_in_t _ _ _ _ _ _ _ (in_k l_k5 (by omega) (by decide)).1 (in_k l_k5 (by omega) (by decide)).2) kw_X0_in (by decide) (Nat.le_of_ble_eq_true rfl) (by omega) (by omega) dX0_beside_55 rfl ?_
  refine gb_if_eq (q := 61) (tgt := 82) C dX0_beside_58 (by decide) rfl (fun c58 => by exfalso; cases c58) (fun c58 => ?_)
  refine gx_iload_n (q := 62) C dX0_beside_61 rfl rfl rfl ?_
  refine gx_i2l (q := 63) C dX0_beside_62 (rfl) rfl ?_
  refine gx_lconst (q := 64) (v := 0) C dX0_beside_63 (by decide) rfl ?_
  refine gx_ldc2 (q := 67) C dX0_beside_64 q670 rfl ?_
  refine gx_cp (q := 70) C E (sx_X0_13 (As := [_, _, _]) C rfl rfl dX0_beside_67) (fx_in_t _ _ _ _ _ _ _ (in_k l_k5 (by omega) (by decide)).1 (in_k l_k5 (by omega) (by decide)).2) kw_X0_in (by decide) (Nat.le_of_ble_eq_true rfl) (by omega) (by omega) dX0_beside_67 rfl ?_
  refine gb_if_eq (q := 73) (tgt := 82) C dX0_beside_70 (by decide) rfl (fun c70 => by exfalso; cases c70) (fun c70 => ?_)
  refine gx_bipush (q := 75) (v := nI 6) C dX0_beside_73 (by decide) rfl ?_
  refine gx_iload_n (q := 76) C dX0_beside_75 rfl rfl rfl ?_
  refine gn_imul (q := 77) C dX0_beside_76 rfl ?_
  refine gx_iload_n (q := 78) C dX0_beside_77 rfl rfl rfl ?_
  refine gn_iadd (q := 79) C dX0_beside_78 rfl ?_
  refine gx_goto (tgt := 84) C dX0_beside_79 (by decide) ?_
  exact gx_iretE C E (by rw [show bes q 1 1 = some (q + 1) by simp [bes]; omega, sq_some]; congr 1; omega) dX0_beside_84 (rfl) (by omega) (by omega)
set_option maxHeartbeats 4000000 in
theorem fx_bes1o (l : Launch) (D : va_G) (b : Nat) (M : List va_E) (q : Nat) (hq : q < 36) (h : 5 < q % 6 + 1) : fb_CT l D b yX0_beside cX0_beside 4 (some .int) 1 25 0 0 [.int (nI q), .int (nI 1)] M (.returned (some (.int (sq_ (bes q 1 1))))) (fun M' => M' = M) := by
  refine fb_start [some (.int (nI q)), some (.int (nI 1)), none, none] (by decide) (Nat.le_of_ble_eq_true rfl) rfl ?_
  intro x hl hD hb C E hx
  subst hl hD hb
  have C : fb_OK x cX0_beside "FallsBetween" "beside" := C
  refine gx_iload_n (q := 1) C dX0_beside_0 rfl rfl rfl ?_
  refine gx_bipush (q := 3) (v := nI 6) C dX0_beside_1 (by decide) rfl ?_
  refine gn_idiv (q := 4) C dX0_beside_3 (by omega) (by omega) (by omega) rfl ?_
  refine gx_iload_n (q := 5) C dX0_beside_4 rfl rfl rfl ?_
  refine gx_iconst (q := 6) (v := nI 2) C dX0_beside_5 (by decide) rfl ?_
  refine gn_icmp_ne (q := 9) (tgt := 13) C dX0_beside_6 (by decide) rfl (by omega) (by omega) (fun c6 => ?_) (fun c6 => by exfalso; omega)
  refine gx_iload_n (q := 14) C dX0_beside_13 rfl rfl rfl ?_
  refine gn_if_ne (q := 17) (tgt := 21) C dX0_beside_14 (by decide) rfl (by omega) (fun c14 => ?_) (fun c14 => by exfalso; omega)
  refine gx_iconst (q := 22) (v := nI 0) C dX0_beside_21 (by decide) rfl ?_
  refine gn_iadd (q := 23) C dX0_beside_22 rfl ?_
  refine gx_istore_n (q := 24) (lv' := [_, _, _, _]) C dX0_beside_23 rfl (Nat.le_of_ble_eq_true rfl) E.2.2.2.symm rfl rfl rfl ?_
  refine gx_iload_n (q := 25) C dX0_beside_24 rfl rfl rfl ?_
  refine gx_bipush (q := 27) (v := nI 6) C dX0_beside_25 (by decide) rfl ?_
  refine gn_irem (q := 28) C dX0_beside_27 (by omega) (by omega) (by omega) rfl ?_
  refine gx_iload_n (q := 29) C dX0_beside_28 rfl rfl rfl ?_
  refine gx_iconst (q := 30) (v := nI 1) C dX0_beside_29 (by decide) rfl ?_
  refine gn_icmp_ne (q := 33) (tgt := 37) C dX0_beside_30 (by decide) rfl (by omega) (by omega) (fun c30 => by exfalso; omega) (fun c30 => ?_)
  refine gx_iconst (q := 34) (v := nI 1) C dX0_beside_33 (by decide) rfl ?_
  refine gx_goto (tgt := 47) C dX0_beside_34 (by decide) ?_
  refine gn_iadd (q := 48) C dX0_beside_47 rfl ?_
  refine gx_istore_n (q := 49) (lv' := [_, _, _, _]) C dX0_beside_48 rfl (Nat.le_of_ble_eq_true rfl) E.2.2.2.symm rfl rfl rfl ?_
  refine gx_iload_n (q := 50) C dX0_beside_49 rfl rfl rfl ?_
  refine gx_i2l (q := 51) C dX0_beside_50 (rfl) rfl ?_
  refine gx_lconst (q := 52) (v := 0) C dX0_beside_51 (by decide) rfl ?_
  refine gx_ldc2 (q := 55) C dX0_beside_52 q670 rfl ?_
  refine gx_cp (q := 58) C E (sx_X0_13 (As := [_, _, _]) C rfl rfl dX0_beside_55) (fx_in_t _ _ _ _ _ _ _ (in_k l_k5 (by omega) (by decide)).1 (in_k l_k5 (by omega) (by decide)).2) kw_X0_in (by decide) (Nat.le_of_ble_eq_true rfl) (by omega) (by omega) dX0_beside_55 rfl ?_
  refine gb_if_eq (q := 61) (tgt := 82) C dX0_beside_58 (by decide) rfl (fun c58 => by exfalso; cases c58) (fun c58 => ?_)
  refine gx_iload_n (q := 62) C dX0_beside_61 rfl rfl rfl ?_
  refine gx_i2l (q := 63) C dX0_beside_62 (rfl) rfl ?_
  refine gx_lconst (q := 64) (v := 0) C dX0_beside_63 (by decide) rfl ?_
  refine gx_ldc2 (q := 67) C dX0_beside_64 q670 rfl ?_
  refine gx_cp (q := 70) C E (sx_X0_13 (As := [_, _, _]) C rfl rfl dX0_beside_67) (fx_in_f _ _ _ _ _ _ _ (in_kb l_k5 (by decide) (Or.inr (nI_ge6 (by omega) (by omega))))) kw_X0_in (by decide) (Nat.le_of_ble_eq_true rfl) (by omega) (by omega) dX0_beside_67 rfl ?_
  refine gb_if_eq (q := 73) (tgt := 82) C dX0_beside_70 (by decide) rfl (fun c70 => ?_) (fun c70 => by exfalso; cases c70)
  refine gx_bipush (q := 84) (v := -9) C dX0_beside_82 (by decide) rfl ?_
  exact gx_iretE C E (by rw [show bes q 1 1 = none by simp [bes]; omega]; rfl) dX0_beside_84 (rfl) (by omega) (by omega)
set_option maxHeartbeats 4000000 in
theorem fx_bes2i (l : Launch) (D : va_G) (b : Nat) (M : List va_E) (q : Nat) (hq : q < 36) (h : q / 6 + 1 ≤ 5) : fb_CT l D b yX0_beside cX0_beside 4 (some .int) 1 25 0 0 [.int (nI q), .int (nI 2)] M (.returned (some (.int (sq_ (bes q 2 1))))) (fun M' => M' = M) := by
  refine fb_start [some (.int (nI q)), some (.int (nI 2)), none, none] (by decide) (Nat.le_of_ble_eq_true rfl) rfl ?_
  intro x hl hD hb C E hx
  subst hl hD hb
  have C : fb_OK x cX0_beside "FallsBetween" "beside" := C
  refine gx_iload_n (q := 1) C dX0_beside_0 rfl rfl rfl ?_
  refine gx_bipush (q := 3) (v := nI 6) C dX0_beside_1 (by decide) rfl ?_
  refine gn_idiv (q := 4) C dX0_beside_3 (by omega) (by omega) (by omega) rfl ?_
  refine gx_iload_n (q := 5) C dX0_beside_4 rfl rfl rfl ?_
  refine gx_iconst (q := 6) (v := nI 2) C dX0_beside_5 (by decide) rfl ?_
  refine gn_icmp_ne (q := 9) (tgt := 13) C dX0_beside_6 (by decide) rfl (by omega) (by omega) (fun c6 => by exfalso; omega) (fun c6 => ?_)
  refine gx_iconst (q := 10) (v := nI 1) C dX0_beside_9 (by decide) rfl ?_
  refine gx_goto (tgt := 22) C dX0_beside_10 (by decide) ?_
  refine gn_iadd (q := 23) C dX0_beside_22 rfl ?_
  refine gx_istore_n (q := 24) (lv' := [_, _, _, _]) C dX0_beside_23 rfl (Nat.le_of_ble_eq_true rfl) E.2.2.2.symm rfl rfl rfl ?_
  refine gx_iload_n (q := 25) C dX0_beside_24 rfl rfl rfl ?_
  refine gx_bipush (q := 27) (v := nI 6) C dX0_beside_25 (by decide) rfl ?_
  refine gn_irem (q := 28) C dX0_beside_27 (by omega) (by omega) (by omega) rfl ?_
  refine gx_iload_n (q := 29) C dX0_beside_28 rfl rfl rfl ?_
  refine gx_iconst (q := 30) (v := nI 1) C dX0_beside_29 (by decide) rfl ?_
  refine gn_icmp_ne (q := 33) (tgt := 37) C dX0_beside_30 (by decide) rfl (by omega) (by omega) (fun c30 => ?_) (fun c30 => by exfalso; omega)
  refine gx_iload_n (q := 38) C dX0_beside_37 rfl rfl rfl ?_
  refine gx_iconst (q := 39) (v := nI 3) C dX0_beside_38 (by decide) rfl ?_
  refine gn_icmp_ne (q := 42) (tgt := 46) C dX0_beside_39 (by decide) rfl (by omega) (by omega) (fun c39 => ?_) (fun c39 => by exfalso; omega)
  refine gx_iconst (q := 47) (v := nI 0) C dX0_beside_46 (by decide) rfl ?_
  refine gn_iadd (q := 48) C dX0_beside_47 rfl ?_
  refine gx_istore_n (q := 49) (lv' := [_, _, _, _]) C dX0_beside_48 rfl (Nat.le_of_ble_eq_true rfl) E.2.2.2.symm rfl rfl rfl ?_
  refine gx_iload_n (q := 50) C dX0_beside_49 rfl rfl rfl ?_
  refine gx_i2l (q := 51) C dX0_beside_50 (rfl) rfl ?_
  refine gx_lconst (q := 52) (v := 0) C dX0_beside_51 (by decide) rfl ?_
  refine gx_ldc2 (q := 55) C dX0_beside_52 q670 rfl ?_
  refine gx_cp (q := 58) C E (sx_X0_13 (As := [_, _, _]) C rfl rfl dX0_beside_55) (fx_in_t _ _ _ _ _ _ _ (in_k l_k5 (by omega) (by decide)).1 (in_k l_k5 (by omega) (by decide)).2) kw_X0_in (by decide) (Nat.le_of_ble_eq_true rfl) (by omega) (by omega) dX0_beside_55 rfl ?_
  refine gb_if_eq (q := 61) (tgt := 82) C dX0_beside_58 (by decide) rfl (fun c58 => by exfalso; cases c58) (fun c58 => ?_)
  refine gx_iload_n (q := 62) C dX0_beside_61 rfl rfl rfl ?_
  refine gx_i2l (q := 63) C dX0_beside_62 (rfl) rfl ?_
  refine gx_lconst (q := 64) (v := 0) C dX0_beside_63 (by decide) rfl ?_
  refine gx_ldc2 (q := 67) C dX0_beside_64 q670 rfl ?_
  refine gx_cp (q := 70) C E (sx_X0_13 (As := [_, _, _]) C rfl rfl dX0_beside_67) (fx_in_t _ _ _ _ _ _ _ (in_k l_k5 (by omega) (by decide)).1 (in_k l_k5 (by omega) (by decide)).2) kw_X0_in (by decide) (Nat.le_of_ble_eq_true rfl) (by omega) (by omega) dX0_beside_67 rfl ?_
  refine gb_if_eq (q := 73) (tgt := 82) C dX0_beside_70 (by decide) rfl (fun c70 => by exfalso; cases c70) (fun c70 => ?_)
  refine gx_bipush (q := 75) (v := nI 6) C dX0_beside_73 (by decide) rfl ?_
  refine gx_iload_n (q := 76) C dX0_beside_75 rfl rfl rfl ?_
  refine gn_imul (q := 77) C dX0_beside_76 rfl ?_
  refine gx_iload_n (q := 78) C dX0_beside_77 rfl rfl rfl ?_
  refine gn_iadd (q := 79) C dX0_beside_78 rfl ?_
  refine gx_goto (tgt := 84) C dX0_beside_79 (by decide) ?_
  exact gx_iretE C E (by rw [show bes q 2 1 = some (q + 6) by simp [bes]; omega, sq_some]; congr 1; omega) dX0_beside_84 (rfl) (by omega) (by omega)
set_option maxHeartbeats 4000000 in
theorem fx_bes2o (l : Launch) (D : va_G) (b : Nat) (M : List va_E) (q : Nat) (hq : q < 36) (h : 5 < q / 6 + 1) : fb_CT l D b yX0_beside cX0_beside 4 (some .int) 1 25 0 0 [.int (nI q), .int (nI 2)] M (.returned (some (.int (sq_ (bes q 2 1))))) (fun M' => M' = M) := by
  refine fb_start [some (.int (nI q)), some (.int (nI 2)), none, none] (by decide) (Nat.le_of_ble_eq_true rfl) rfl ?_
  intro x hl hD hb C E hx
  subst hl hD hb
  have C : fb_OK x cX0_beside "FallsBetween" "beside" := C
  refine gx_iload_n (q := 1) C dX0_beside_0 rfl rfl rfl ?_
  refine gx_bipush (q := 3) (v := nI 6) C dX0_beside_1 (by decide) rfl ?_
  refine gn_idiv (q := 4) C dX0_beside_3 (by omega) (by omega) (by omega) rfl ?_
  refine gx_iload_n (q := 5) C dX0_beside_4 rfl rfl rfl ?_
  refine gx_iconst (q := 6) (v := nI 2) C dX0_beside_5 (by decide) rfl ?_
  refine gn_icmp_ne (q := 9) (tgt := 13) C dX0_beside_6 (by decide) rfl (by omega) (by omega) (fun c6 => by exfalso; omega) (fun c6 => ?_)
  refine gx_iconst (q := 10) (v := nI 1) C dX0_beside_9 (by decide) rfl ?_
  refine gx_goto (tgt := 22) C dX0_beside_10 (by decide) ?_
  refine gn_iadd (q := 23) C dX0_beside_22 rfl ?_
  refine gx_istore_n (q := 24) (lv' := [_, _, _, _]) C dX0_beside_23 rfl (Nat.le_of_ble_eq_true rfl) E.2.2.2.symm rfl rfl rfl ?_
  refine gx_iload_n (q := 25) C dX0_beside_24 rfl rfl rfl ?_
  refine gx_bipush (q := 27) (v := nI 6) C dX0_beside_25 (by decide) rfl ?_
  refine gn_irem (q := 28) C dX0_beside_27 (by omega) (by omega) (by omega) rfl ?_
  refine gx_iload_n (q := 29) C dX0_beside_28 rfl rfl rfl ?_
  refine gx_iconst (q := 30) (v := nI 1) C dX0_beside_29 (by decide) rfl ?_
  refine gn_icmp_ne (q := 33) (tgt := 37) C dX0_beside_30 (by decide) rfl (by omega) (by omega) (fun c30 => ?_) (fun c30 => by exfalso; omega)
  refine gx_iload_n (q := 38) C dX0_beside_37 rfl rfl rfl ?_
  refine gx_iconst (q := 39) (v := nI 3) C dX0_beside_38 (by decide) rfl ?_
  refine gn_icmp_ne (q := 42) (tgt := 46) C dX0_beside_39 (by decide) rfl (by omega) (by omega) (fun c39 => ?_) (fun c39 => by exfalso; omega)
  refine gx_iconst (q := 47) (v := nI 0) C dX0_beside_46 (by decide) rfl ?_
  refine gn_iadd (q := 48) C dX0_beside_47 rfl ?_
  refine gx_istore_n (q := 49) (lv' := [_, _, _, _]) C dX0_beside_48 rfl (Nat.le_of_ble_eq_true rfl) E.2.2.2.symm rfl rfl rfl ?_
  refine gx_iload_n (q := 50) C dX0_beside_49 rfl rfl rfl ?_
  refine gx_i2l (q := 51) C dX0_beside_50 (rfl) rfl ?_
  refine gx_lconst (q := 52) (v := 0) C dX0_beside_51 (by decide) rfl ?_
  refine gx_ldc2 (q := 55) C dX0_beside_52 q670 rfl ?_
  refine gx_cp (q := 58) C E (sx_X0_13 (As := [_, _, _]) C rfl rfl dX0_beside_55) (fx_in_f _ _ _ _ _ _ _ (in_kb l_k5 (by decide) (Or.inr (nI_ge6 (by omega) (by omega))))) kw_X0_in (by decide) (Nat.le_of_ble_eq_true rfl) (by omega) (by omega) dX0_beside_55 rfl ?_
  refine gb_if_eq (q := 61) (tgt := 82) C dX0_beside_58 (by decide) rfl (fun c58 => ?_) (fun c58 => by exfalso; cases c58)
  refine gx_bipush (q := 84) (v := -9) C dX0_beside_82 (by decide) rfl ?_
  exact gx_iretE C E (by rw [show bes q 2 1 = none by simp [bes]; omega]; rfl) dX0_beside_84 (rfl) (by omega) (by omega)
set_option maxHeartbeats 4000000 in
theorem fx_bes3i (l : Launch) (D : va_G) (b : Nat) (M : List va_E) (q : Nat) (hq : q < 36) (h : 1 ≤ q % 6) : fb_CT l D b yX0_beside cX0_beside 4 (some .int) 1 25 0 0 [.int (nI q), .int (nI 3)] M (.returned (some (.int (sq_ (bes q 3 1))))) (fun M' => M' = M) := by
  refine fb_start [some (.int (nI q)), some (.int (nI 3)), none, none] (by decide) (Nat.le_of_ble_eq_true rfl) rfl ?_
  intro x hl hD hb C E hx
  subst hl hD hb
  have C : fb_OK x cX0_beside "FallsBetween" "beside" := C
  refine gx_iload_n (q := 1) C dX0_beside_0 rfl rfl rfl ?_
  refine gx_bipush (q := 3) (v := nI 6) C dX0_beside_1 (by decide) rfl ?_
  refine gn_idiv (q := 4) C dX0_beside_3 (by omega) (by omega) (by omega) rfl ?_
  refine gx_iload_n (q := 5) C dX0_beside_4 rfl rfl rfl ?_
  refine gx_iconst (q := 6) (v := nI 2) C dX0_beside_5 (by decide) rfl ?_
  refine gn_icmp_ne (q := 9) (tgt := 13) C dX0_beside_6 (by decide) rfl (by omega) (by omega) (fun c6 => ?_) (fun c6 => by exfalso; omega)
  refine gx_iload_n (q := 14) C dX0_beside_13 rfl rfl rfl ?_
  refine gn_if_ne (q := 17) (tgt := 21) C dX0_beside_14 (by decide) rfl (by omega) (fun c14 => ?_) (fun c14 => by exfalso; omega)
  refine gx_iconst (q := 22) (v := nI 0) C dX0_beside_21 (by decide) rfl ?_
  refine gn_iadd (q := 23) C dX0_beside_22 rfl ?_
  refine gx_istore_n (q := 24) (lv' := [_, _, _, _]) C dX0_beside_23 rfl (Nat.le_of_ble_eq_true rfl) E.2.2.2.symm rfl rfl rfl ?_
  refine gx_iload_n (q := 25) C dX0_beside_24 rfl rfl rfl ?_
  refine gx_bipush (q := 27) (v := nI 6) C dX0_beside_25 (by decide) rfl ?_
  refine gn_irem (q := 28) C dX0_beside_27 (by omega) (by omega) (by omega) rfl ?_
  refine gx_iload_n (q := 29) C dX0_beside_28 rfl rfl rfl ?_
  refine gx_iconst (q := 30) (v := nI 1) C dX0_beside_29 (by decide) rfl ?_
  refine gn_icmp_ne (q := 33) (tgt := 37) C dX0_beside_30 (by decide) rfl (by omega) (by omega) (fun c30 => ?_) (fun c30 => by exfalso; omega)
  refine gx_iload_n (q := 38) C dX0_beside_37 rfl rfl rfl ?_
  refine gx_iconst (q := 39) (v := nI 3) C dX0_beside_38 (by decide) rfl ?_
  refine gn_icmp_ne (q := 42) (tgt := 46) C dX0_beside_39 (by decide) rfl (by omega) (by omega) (fun c39 => by exfalso; omega) (fun c39 => ?_)
  refine gx_iconst (q := 43) (v := -1) C dX0_beside_42 (by decide) rfl ?_
  refine gx_goto (tgt := 47) C dX0_beside_43 (by decide) ?_
  refine gx_iadd (q := 48) C dX0_beside_47 (sb_m1 (by omega)) rfl ?_
  refine gx_istore_n (q := 49) (lv' := [_, _, _, _]) C dX0_beside_48 rfl (Nat.le_of_ble_eq_true rfl) E.2.2.2.symm rfl rfl rfl ?_
  refine gx_iload_n (q := 50) C dX0_beside_49 rfl rfl rfl ?_
  refine gx_i2l (q := 51) C dX0_beside_50 (rfl) rfl ?_
  refine gx_lconst (q := 52) (v := 0) C dX0_beside_51 (by decide) rfl ?_
  refine gx_ldc2 (q := 55) C dX0_beside_52 q670 rfl ?_
  refine gx_cp (q := 58) C E (sx_X0_13 (As := [_, _, _]) C rfl rfl dX0_beside_55) (fx_in_t _ _ _ _ _ _ _ (in_k l_k5 (by omega) (by decide)).1 (in_k l_k5 (by omega) (by decide)).2) kw_X0_in (by decide) (Nat.le_of_ble_eq_true rfl) (by omega) (by omega) dX0_beside_55 rfl ?_
  refine gb_if_eq (q := 61) (tgt := 82) C dX0_beside_58 (by decide) rfl (fun c58 => by exfalso; cases c58) (fun c58 => ?_)
  refine gx_iload_n (q := 62) C dX0_beside_61 rfl rfl rfl ?_
  refine gx_i2l (q := 63) C dX0_beside_62 (rfl) rfl ?_
  refine gx_lconst (q := 64) (v := 0) C dX0_beside_63 (by decide) rfl ?_
  refine gx_ldc2 (q := 67) C dX0_beside_64 q670 rfl ?_
  refine gx_cp (q := 70) C E (sx_X0_13 (As := [_, _, _]) C rfl rfl dX0_beside_67) (fx_in_t _ _ _ _ _ _ _ (in_k l_k5 (by omega) (by decide)).1 (in_k l_k5 (by omega) (by decide)).2) kw_X0_in (by decide) (Nat.le_of_ble_eq_true rfl) (by omega) (by omega) dX0_beside_67 rfl ?_
  refine gb_if_eq (q := 73) (tgt := 82) C dX0_beside_70 (by decide) rfl (fun c70 => by exfalso; cases c70) (fun c70 => ?_)
  refine gx_bipush (q := 75) (v := nI 6) C dX0_beside_73 (by decide) rfl ?_
  refine gx_iload_n (q := 76) C dX0_beside_75 rfl rfl rfl ?_
  refine gn_imul (q := 77) C dX0_beside_76 rfl ?_
  refine gx_iload_n (q := 78) C dX0_beside_77 rfl rfl rfl ?_
  refine gn_iadd (q := 79) C dX0_beside_78 rfl ?_
  refine gx_goto (tgt := 84) C dX0_beside_79 (by decide) ?_
  exact gx_iretE C E (by rw [show bes q 3 1 = some (q - 1) by simp [bes]; omega, sq_some]; congr 1; omega) dX0_beside_84 (rfl) (by omega) (by omega)
set_option maxHeartbeats 4000000 in
theorem fx_bes3o (l : Launch) (D : va_G) (b : Nat) (M : List va_E) (q : Nat) (hq : q < 36) (h : q % 6 = 0) : fb_CT l D b yX0_beside cX0_beside 4 (some .int) 1 25 0 0 [.int (nI q), .int (nI 3)] M (.returned (some (.int (sq_ (bes q 3 1))))) (fun M' => M' = M) := by
  refine fb_start [some (.int (nI q)), some (.int (nI 3)), none, none] (by decide) (Nat.le_of_ble_eq_true rfl) rfl ?_
  intro x hl hD hb C E hx
  subst hl hD hb
  have C : fb_OK x cX0_beside "FallsBetween" "beside" := C
  have hneg : (nI (q % 6) + -1).toInt64 < 0 := by rw [h]; decide
  refine gx_iload_n (q := 1) C dX0_beside_0 rfl rfl rfl ?_
  refine gx_bipush (q := 3) (v := nI 6) C dX0_beside_1 (by decide) rfl ?_
  refine gn_idiv (q := 4) C dX0_beside_3 (by omega) (by omega) (by omega) rfl ?_
  refine gx_iload_n (q := 5) C dX0_beside_4 rfl rfl rfl ?_
  refine gx_iconst (q := 6) (v := nI 2) C dX0_beside_5 (by decide) rfl ?_
  refine gn_icmp_ne (q := 9) (tgt := 13) C dX0_beside_6 (by decide) rfl (by omega) (by omega) (fun c6 => ?_) (fun c6 => by exfalso; omega)
  refine gx_iload_n (q := 14) C dX0_beside_13 rfl rfl rfl ?_
  refine gn_if_ne (q := 17) (tgt := 21) C dX0_beside_14 (by decide) rfl (by omega) (fun c14 => ?_) (fun c14 => by exfalso; omega)
  refine gx_iconst (q := 22) (v := nI 0) C dX0_beside_21 (by decide) rfl ?_
  refine gn_iadd (q := 23) C dX0_beside_22 rfl ?_
  refine gx_istore_n (q := 24) (lv' := [_, _, _, _]) C dX0_beside_23 rfl (Nat.le_of_ble_eq_true rfl) E.2.2.2.symm rfl rfl rfl ?_
  refine gx_iload_n (q := 25) C dX0_beside_24 rfl rfl rfl ?_
  refine gx_bipush (q := 27) (v := nI 6) C dX0_beside_25 (by decide) rfl ?_
  refine gn_irem (q := 28) C dX0_beside_27 (by omega) (by omega) (by omega) rfl ?_
  refine gx_iload_n (q := 29) C dX0_beside_28 rfl rfl rfl ?_
  refine gx_iconst (q := 30) (v := nI 1) C dX0_beside_29 (by decide) rfl ?_
  refine gn_icmp_ne (q := 33) (tgt := 37) C dX0_beside_30 (by decide) rfl (by omega) (by omega) (fun c30 => ?_) (fun c30 => by exfalso; omega)
  refine gx_iload_n (q := 38) C dX0_beside_37 rfl rfl rfl ?_
  refine gx_iconst (q := 39) (v := nI 3) C dX0_beside_38 (by decide) rfl ?_
  refine gn_icmp_ne (q := 42) (tgt := 46) C dX0_beside_39 (by decide) rfl (by omega) (by omega) (fun c39 => by exfalso; omega) (fun c39 => ?_)
  refine gx_iconst (q := 43) (v := -1) C dX0_beside_42 (by decide) rfl ?_
  refine gx_goto (tgt := 47) C dX0_beside_43 (by decide) ?_
  refine gx_iadd (q := 48) C dX0_beside_47 (rfl) rfl ?_
  refine gx_istore_n (q := 49) (lv' := [_, _, _, _]) C dX0_beside_48 rfl (Nat.le_of_ble_eq_true rfl) E.2.2.2.symm rfl rfl rfl ?_
  refine gx_iload_n (q := 50) C dX0_beside_49 rfl rfl rfl ?_
  refine gx_i2l (q := 51) C dX0_beside_50 (rfl) rfl ?_
  refine gx_lconst (q := 52) (v := 0) C dX0_beside_51 (by decide) rfl ?_
  refine gx_ldc2 (q := 55) C dX0_beside_52 q670 rfl ?_
  refine gx_cp (q := 58) C E (sx_X0_13 (As := [_, _, _]) C rfl rfl dX0_beside_55) (fx_in_t _ _ _ _ _ _ _ (in_k l_k5 (by omega) (by decide)).1 (in_k l_k5 (by omega) (by decide)).2) kw_X0_in (by decide) (Nat.le_of_ble_eq_true rfl) (by omega) (by omega) dX0_beside_55 rfl ?_
  refine gb_if_eq (q := 61) (tgt := 82) C dX0_beside_58 (by decide) rfl (fun c58 => by exfalso; cases c58) (fun c58 => ?_)
  refine gx_iload_n (q := 62) C dX0_beside_61 rfl rfl rfl ?_
  refine gx_i2l (q := 63) C dX0_beside_62 (rfl) rfl ?_
  refine gx_lconst (q := 64) (v := 0) C dX0_beside_63 (by decide) rfl ?_
  refine gx_ldc2 (q := 67) C dX0_beside_64 q670 rfl ?_
  refine gx_cp (q := 70) C E (sx_X0_13 (As := [_, _, _]) C rfl rfl dX0_beside_67) (fx_in_f _ _ _ _ _ _ _ (Or.inl hneg)) kw_X0_in (by decide) (Nat.le_of_ble_eq_true rfl) (by omega) (by omega) dX0_beside_67 rfl ?_
  refine gb_if_eq (q := 73) (tgt := 82) C dX0_beside_70 (by decide) rfl (fun c70 => ?_) (fun c70 => by exfalso; cases c70)
  refine gx_bipush (q := 84) (v := -9) C dX0_beside_82 (by decide) rfl ?_
  exact gx_iretE C E (by rw [show bes q 3 1 = none by simp [bes]; omega]; rfl) dX0_beside_84 (rfl) (by omega) (by omega)
theorem fx_beside (l : Launch) (D : va_G) (b : Nat) (M : List va_E) (q s : Nat) (hq : q < 36) (hs : s < 4) : fb_CT l D b yX0_beside cX0_beside 4 (some .int) 1 25 0 0 [.int (nI q), .int (nI s)] M (.returned (some (.int (sq_ (bes q s 1))))) (fun M' => M' = M) := by
  match s, hs with
  | 0, _ =>
    rcases Nat.eq_zero_or_pos (q / 6) with h | h
    · exact fx_bes0o l D b M q hq h
    · exact fx_bes0i l D b M q hq h
  | 1, _ =>
    rcases Nat.lt_or_ge 5 (q % 6 + 1) with h | h
    · exact fx_bes1o l D b M q hq h
    · exact fx_bes1i l D b M q hq h
  | 2, _ =>
    rcases Nat.lt_or_ge 5 (q / 6 + 1) with h | h
    · exact fx_bes2o l D b M q hq h
    · exact fx_bes2i l D b M q hq h
  | 3, _ =>
    rcases Nat.eq_zero_or_pos (q % 6) with h | h
    · exact fx_bes3o l D b M q hq h
    · exact fx_bes3i l D b M q hq h
def farN (q s : Nat) : Nat → Option Nat
  | 0 => some q
  | n + 1 => match farN q s n with
    | none => none
    | some a => bes a s 1
theorem farN_n {q s n : Nat} (h : farN q s n = none) : farN q s (n + 1) = none := by rw [farN, h]
theorem farN_s {q s n a : Nat} (h : farN q s n = some a) : farN q s (n + 1) = bes a s 1 := by rw [farN, h]
theorem farN_eq : ∀ q, q < 36 → ∀ s, s < 4 → ∀ f, f < 4 → farN q s f = bes q s f := by decide +kernel
theorem farN_lt {q s : Nat} (hq : q < 36) (n : Nat) : ∀ a, farN q s n = some a → a < 36 := by
  induction n with
  | zero => intro a h; cases h; exact hq
  | succ n ih =>
    intro a h
    unfold farN at h
    split at h
    · cases h
    · rename_i z hz
      exact bes_lt (ih z hz) h
theorem farN_0 {q s n m : Nat} (h : farN q s n = none) (hm : n ≤ m) : farN q s m = none := by
  induction m with
  | zero =>
    have : n = 0 := by omega
    subst this; exact h
  | succ m ih =>
    by_cases e : n = m + 1
    · subst e; exact h
    · exact farN_n (ih (by omega))
set_option maxHeartbeats 4000000 in
theorem fx_far (l : Launch) (D : va_G) (b : Nat) (M : List va_E) (q s f : Nat) (hq : q < 36) (hs : s < 4) (hf : f < 4) : fb_CT l D b yX0_far cX0_far 5 (some .int) 2 48 0 0 [.int (nI q), .int (nI s), .int (nI f)] M (.returned (some (.int (sq_ (bes q s f))))) (fun M' => M' = M) := by
  refine fb_start [some (.int (nI q)), some (.int (nI s)), some (.int (nI f)), none, none] (by decide) (Nat.le_of_ble_eq_true rfl) rfl ?_
  intro x hl hD hb C E hx
  subst hl hD hb
  have C : fb_OK x cX0_far "FallsBetween" "far" := C
  refine gx_iload_n (q := 1) C dX0_far_0 rfl rfl rfl ?_
  refine gx_istore_n (q := 2) (lv' := [_, _, _, _, _]) C dX0_far_1 rfl (Nat.le_of_ble_eq_true rfl) E.2.2.2.symm rfl rfl rfl ?_
  refine gx_iconst (q := 3) (v := nI 0) C dX0_far_2 (by decide) rfl ?_
  refine gx_istore (q := 5) (lv' := [_, _, _, _, _]) C dX0_far_3 (Nat.le_of_ble_eq_true rfl) E.2.2.2.symm rfl rfl rfl ?_
  have Lp : ∀ k, k ≤ f → fb_G x M 0 0 5 [some (.int (nI q)), some (.int (nI s)), some (.int (nI f)), some (.int (sq_ (farN q s k))), some (.int (nI k))] [] := by
    refine fb_dn f ?_ ?_
    · skip
      refine gx_iload (q := 7) C dX0_far_5 rfl rfl ?_
      refine gx_iload_n (q := 8) C dX0_far_7 rfl rfl rfl ?_
      refine gn_icmp_ge (q := 11) (tgt := 29) C dX0_far_8 (by decide) rfl (by omega) (by omega) (fun c8 => ?_) (fun c8 => by exfalso; omega)
      refine gx_iload_n (q := 30) C dX0_far_29 rfl rfl rfl ?_
      exact gx_iretE C E (by rw [farN_eq q hq s hs f hf]) dX0_far_30 (rfl) (by omega) (by omega)
    · intro k hk ih
      refine gx_iload (q := 7) C dX0_far_5 rfl rfl ?_
      refine gx_iload_n (q := 8) C dX0_far_7 rfl rfl rfl ?_
      refine gn_icmp_ge (q := 11) (tgt := 29) C dX0_far_8 (by decide) rfl (by omega) (by omega) (fun c8 => by exfalso; omega) (fun c8 => ?_)
      refine gx_iload_n (q := 12) C dX0_far_11 rfl rfl rfl ?_
      refine gx_bipush (q := 14) (v := -9) C dX0_far_12 (by decide) rfl ?_
      refine gq_icmp_eq (q := 17) (tgt := 29) C dX0_far_14 (by decide) rfl (fun z h => by have := farN_lt hq k z h; omega) (fun c14 => ?_) (fun z14 c14 => ?_)
      · rw [c14]
        refine gx_iload_n (q := 30) C dX0_far_29 rfl rfl rfl ?_
        exact gx_iretE C E (by rw [← farN_eq q hq s hs f hf, farN_0 c14 (by omega)]) dX0_far_30 (rfl) (by omega) (by omega)
      · rw [c14, sq_some]
        have hz := farN_lt hq k z14 c14
        rw [farN_s c14] at ih
        refine gx_iload_n (q := 18) C dX0_far_17 rfl rfl rfl ?_
        refine gx_iload_n (q := 19) C dX0_far_18 rfl rfl rfl ?_
        refine gx_cp (q := 22) C E (sx_X0_19 (As := [_, _]) C rfl rfl dX0_far_19) (fx_beside _ _ _ _ z14 s hz hs) kw_X0_beside (by decide) (Nat.le_of_ble_eq_true rfl) (by omega) (by omega) dX0_far_19 rfl ?_
        refine gx_istore_n (q := 23) (lv' := [_, _, _, _, _]) C dX0_far_22 rfl (Nat.le_of_ble_eq_true rfl) E.2.2.2.symm rfl rfl rfl ?_
        refine gn_inc (q := 26) (lv' := [_, _, _, _, _]) C dX0_far_23 rfl E.2.2.2.symm rfl rfl rfl ?_
        refine gx_goto (tgt := 5) C dX0_far_26 (by decide) ?_
        exact ih
  exact Lp 0 (by omega)
