/-! THE PLAIN LAW: the town as one row of numbers T (0 trees, 1 wind, 2 law, 3 pits; 4 the pits; 12 gardens; 48 heights; 84 nets; 120 kinds; 126 squares; 132 fruit; 138 leans) -/
/-- the square beside q to the side s, f on -/
def bes (q s f : Nat) : Option Nat :=
  if s = 0 then (if f ≤ q / 6 then some (q - 6 * f) else none)
  else if s = 1 then (if q % 6 + f ≤ 5 then some (q + f) else none)
  else if s = 2 then (if q / 6 + f ≤ 5 then some (q + 6 * f) else none)
  else (if f ≤ q % 6 then some (q - f) else none)
theorem bes_lt {q s f a : Nat} (hq : q < 36) (h : bes q s f = some a) : a < 36 := by
  unfold bes at h
  repeat' split at h
  all_goals first | (cases h; omega) | (cases h)
theorem bes_lt31 {q s f : Nat} (hq : q < 36) : ∀ a, bes q s f = some a → a < 2 ^ 31 := fun a h => by have := bes_lt hq h; omega
/-- where one rolls to: the lowest of it and those beside it -/
def rol (T : Nat → Nat) (q : Nat) : Nat → Nat
  | 0 => q
  | n + 1 => match bes q n 1 with
    | none => rol T q n
    | some a => if T (48 + a) < T (48 + rol T q n) then a else rol T q n
theorem rol_lt {T : Nat → Nat} {q : Nat} (hq : q < 36) (n : Nat) : rol T q n < 36 := by
  induction n with
  | zero => exact hq
  | succ n ih =>
    unfold rol
    split
    · exact ih
    · rename_i a h
      split
      · exact bes_lt hq h
      · exact ih
def oth (T : Nat → Nat) (q : Nat) (r : Option Nat) : Bool := match r with
  | none => false
  | some a => decide (¬ T (12 + a) = T (12 + q))
def cor (q s1 s2 : Nat) : Option Nat := match bes q s1 1 with
  | none => none
  | some a => bes a s2 1
def low (T : Nat → Nat) (q : Nat) : Bool := match bes q 2 1 with
  | none => false
  | some a => decide (T (48 + a) < T (48 + q))
/-- the law alone says that the square is nobody's -/
def lawN (T : Nat → Nat) (q l : Nat) : Bool :=
  if l = 0 then false
  else if l = 1 then (oth T q (bes q 0 1) || oth T q (bes q 1 1) || oth T q (bes q 2 1) || oth T q (bes q 3 1))
  else if l = 2 then (oth T q (bes q 0 1) || oth T q (bes q 1 1) || oth T q (bes q 2 1) || oth T q (bes q 3 1) || oth T q (cor q 0 3) || oth T q (cor q 0 1) || oth T q (cor q 2 3) || oth T q (cor q 2 1))
  else if l = 3 then oth T q (bes q 2 1)
  else (oth T q (bes q 2 1) && low T q)
def nob (T : Nat → Nat) (q : Nat) : Bool := decide (T (84 + q) = 0) && lawN T q (T 2)
/-- the first tree of n that stands in the square -/
def fstN (f : Nat → Bool) : Nat → Option Nat
  | 0 => none
  | n + 1 => match fstN f n with
    | some t => some t
    | none => if f n then some n else none
theorem fstN_none {f : Nat → Bool} (n : Nat) (h : ∀ t, t < n → f t = false) : fstN f n = none := by
  induction n with
  | zero => rfl
  | succ n ih => simp [fstN, ih fun t ht => h t (by omega), h n (by omega)]
theorem fstN_some {f : Nat → Bool} {i : Nat} (n : Nat) (hi : i < n) (hf : f i = true) (h : ∀ t, t < i → f t = false) : fstN f n = some i := by
  induction n with
  | zero => omega
  | succ n ih =>
    by_cases hn : i < n
    · simp [fstN, ih hn]
    · have : i = n := by omega
      subst this
      simp [fstN, fstN_none i h, hf]
theorem fstN_spec {f : Nat → Bool} {i n : Nat} (h : fstN f n = some i) : i < n ∧ f i = true ∧ ∀ t, t < i → f t = false := by
  induction n with
  | zero => cases h
  | succ n ih =>
    unfold fstN at h
    split at h
    · rename_i t ht
      cases h
      obtain ⟨h1, h2⟩ := ih ht
      exact ⟨by omega, h2⟩
    · rename_i hn
      split at h
      · rename_i hf
        cases h
        refine ⟨by omega, hf, fun t ht => ?_⟩
        cases hft : f t with
        | false => rfl
        | true =>
          exfalso
          have key : ∀ m, t < m → fstN f m ≠ none := by
            intro m hm
            induction m with
            | zero => omega
            | succ m ihm =>
              unfold fstN
              split
              · simp
              · rename_i hnn
                by_cases htm : t < m
                · exact absurd hnn (ihm htm)
                · have : t = m := by omega
                  subst this
                  simp [hft]
          exact key _ ht hn
      · cases h
def trIn (T : Nat → Nat) (q n : Nat) : Option Nat := fstN (fun t => decide (T (126 + t) = q)) n
def st0 (T : Nat → Nat) (t p : Nat) : Option Nat := if p = 0 then some (T (126 + t)) else bes (T (126 + t)) (p - 1) 1
def blow (T : Nat → Nat) (t : Nat) (r : Option Nat) : Option Nat := match r with
  | none => none
  | some q => if T (120 + t) = 5 then some q else bes q (T 1 / 4) (T 1 % 4)
def roll (T : Nat → Nat) (t q : Nat) : Nat := if T (120 + t) = 3 then rol T q 4 else if T (120 + t) = 4 then rol T (rol T q 4) 4 else q
/-- where the part p of the tree t comes to lie -/
def pos (T : Nat → Nat) (t p : Nat) : Option Nat := (blow T t (st0 T t p)).map (roll T t)
def ten (k le p : Nat) : Nat := if p = 0 then (if k = 1 ∨ k = 5 then 6 else if k = 2 then 4 else 2) else (if k = 1 ∨ k = 5 then 1 else if k = 2 then (if p - 1 = le then 6 else 0) else 2)
def amt (T : Nat → Nat) (t p : Nat) : Nat := T (132 + t) * ten (T (120 + t)) (T (138 + t)) p
def flp (T : Nat → Nat) (t q n : Nat) : Nat := sumN (fun p => if pos T t p = some q then amt T t p else 0) n
def lop (T : Nat → Nat) (t n : Nat) : Nat := sumN (fun p => if pos T t p = none then amt T t p else 0) n
def lyi (T : Nat → Nat) (q n : Nat) : Nat := sumN (fun t => flp T t q 5) n
def lsi (T : Nat → Nat) (n : Nat) : Nat := sumN (fun t => lop T t 5) n
/-- a town as it must be -/
def okT (T : Nat → Nat) : Prop := T 0 ≤ 6 ∧ T 1 < 16 ∧ T 2 ≤ 4 ∧ T 3 ≤ 8 ∧ (∀ i, i < T 3 → T (4 + i) < 36) ∧ (∀ i, i < 36 → T (12 + i) < 4) ∧ (∀ i, i < 36 → T (48 + i) ≤ 9) ∧ (∀ i, i < 36 → T (84 + i) ≤ 1) ∧ ∀ t, t < T 0 → T (120 + t) ≤ 5 ∧ T (126 + t) < 36 ∧ 1 ≤ T (132 + t) ∧ T (132 + t) ≤ 20 ∧ T (138 + t) ≤ 3
theorem blow_lt {T : Nat → Nat} {t a : Nat} {r : Option Nat} (hr : ∀ z, r = some z → z < 36) (h : blow T t r = some a) : a < 36 := by
  unfold blow at h
  split at h
  · cases h
  · rename_i z
    have hz := hr z rfl
    split at h
    · cases h; exact hz
    · exact bes_lt hz h
theorem st0_lt {T : Nat → Nat} {t p a : Nat} (hs : T (126 + t) < 36) (h : st0 T t p = some a) : a < 36 := by
  unfold st0 at h
  split at h
  · cases h; exact hs
  · exact bes_lt hs h
theorem roll_lt {T : Nat → Nat} {t q : Nat} (hq : q < 36) : roll T t q < 36 := by
  unfold roll
  split
  · exact rol_lt hq 4
  · split
    · exact rol_lt (rol_lt hq 4) 4
    · exact hq
theorem pos_lt {T : Nat → Nat} {t p a : Nat} (hs : T (126 + t) < 36) (h : pos T t p = some a) : a < 36 := by
  unfold pos at h
  cases hb : blow T t (st0 T t p) with
  | none => rw [hb] at h; cases h
  | some z =>
    rw [hb] at h
    cases h
    exact roll_lt (blow_lt (fun w hw => st0_lt hs hw) hb)
theorem ten_le (k le p : Nat) : ten k le p ≤ 6 := by
  unfold ten
  repeat' split
  all_goals omega
theorem amt_le {T : Nat → Nat} {t p : Nat} (h : T (132 + t) ≤ 20) : amt T t p ≤ 120 := by
  unfold amt
  have := Nat.mul_le_mul h (ten_le (T (120 + t)) (T (138 + t)) p)
  omega
theorem flp_le {T : Nat → Nat} {t q n : Nat} (h : T (132 + t) ≤ 20) : flp T t q n ≤ n * 120 := by
  refine sumN_le n fun i _ => ?_
  split
  · exact amt_le h
  · omega
theorem lop_le {T : Nat → Nat} {t n : Nat} (h : T (132 + t) ≤ 20) : lop T t n ≤ n * 120 := by
  refine sumN_le n fun i _ => ?_
  split
  · exact amt_le h
  · omega
theorem lyi_le {T : Nat → Nat} {q n : Nat} (h : ∀ t, t < n → T (132 + t) ≤ 20) : lyi T q n ≤ n * 600 := sumN_le n fun i hi => flp_le (h i hi)
theorem lsi_le {T : Nat → Nat} {n : Nat} (h : ∀ t, t < n → T (132 + t) ≤ 20) : lsi T n ≤ n * 600 := sumN_le n fun i hi => lop_le (h i hi)
