/-! what the greater acts answer, in plain numbers -/
def mxS (v : Nat → Nat) : Nat → Option Nat × Nat
  | 0 => (none, 0)
  | n + 1 => if (mxS v n).2 < v n then (some n, v n) else mxS v n
def mnS (i : Nat) (v : Nat → Nat) : Nat → Option Nat × Nat
  | 0 => (none, i)
  | n + 1 => if v n < (mnS i v n).2 then (some n, v n) else mnS i v n
/-- the first, and then each that goes before the best -/
def fsS (c : Nat → Nat → Bool) (v : Nat → Nat) : Nat → Nat × Nat
  | 0 => (0, 0)
  | n + 1 => if n = 0 ∨ c (v n) (fsS c v n).2 = true then (n, v n) else fsS c v n
def lsS (v : Nat → Nat) : Nat → Nat
  | 0 => 0
  | n + 1 => if n = 0 then v 0 else min (lsS v n) (v n)
def stS (oc : Nat → Bool) (v : Nat → Nat) : Nat → Option (Nat × Nat)
  | 0 => none
  | n + 1 => if oc n = true then stS oc v n else match stS oc v n with
    | none => some (n, v n)
    | some p => if p.2 < v n then some (n, v n) else some p
theorem mxS_t {v : Nat → Nat} {n : Nat} (h : (mxS v n).2 < v n) : mxS v (n + 1) = (some n, v n) := by simp [mxS, h]
theorem mxS_f {v : Nat → Nat} {n : Nat} (h : v n ≤ (mxS v n).2) : mxS v (n + 1) = mxS v n := by rw [mxS, if_neg (by omega)]
theorem mnS_t {i : Nat} {v : Nat → Nat} {n : Nat} (h : v n < (mnS i v n).2) : mnS i v (n + 1) = (some n, v n) := by simp [mnS, h]
theorem mnS_f {i : Nat} {v : Nat → Nat} {n : Nat} (h : (mnS i v n).2 ≤ v n) : mnS i v (n + 1) = mnS i v n := by rw [mnS, if_neg (by omega)]
theorem fsS_t {c : Nat → Nat → Bool} {v : Nat → Nat} {n : Nat} (h : n = 0 ∨ c (v n) (fsS c v n).2 = true) : fsS c v (n + 1) = (n, v n) := by rw [fsS, if_pos h]
theorem fsS_f {c : Nat → Nat → Bool} {v : Nat → Nat} {n : Nat} (h : ¬ (n = 0 ∨ c (v n) (fsS c v n).2 = true)) : fsS c v (n + 1) = fsS c v n := by rw [fsS, if_neg h]
theorem fsS_lt {c : Nat → Nat → Bool} {v : Nat → Nat} (n : Nat) (h : 0 < n) : (fsS c v n).1 < n := by
  induction n with
  | zero => omega
  | succ n ih =>
    unfold fsS
    split
    · exact Nat.lt_succ_self n
    · rename_i hn
      have : 0 < n := Nat.pos_of_ne_zero fun z => hn (Or.inl z)
      have := ih this
      omega
theorem fsS_b {c : Nat → Nat → Bool} {v : Nat → Nat} {m : Nat} (n : Nat) (h : ∀ i, i < n → v i ≤ m) : (fsS c v n).2 ≤ m := by
  induction n with
  | zero => exact Nat.zero_le _
  | succ n ih =>
    unfold fsS
    split
    · exact h n (Nat.lt_succ_self n)
    · exact ih fun i hi => h i (by omega)
theorem lsS_b {v : Nat → Nat} {m : Nat} (n : Nat) (h : ∀ i, i < n → v i ≤ m) : lsS v n ≤ m := by
  induction n with
  | zero => exact Nat.zero_le _
  | succ n ih =>
    unfold lsS
    split
    · exact h 0 (by omega)
    · exact Nat.le_trans (Nat.min_le_right _ _) (h n (Nat.lt_succ_self n))
theorem mxS_b {v : Nat → Nat} {m : Nat} (n : Nat) (h : ∀ i, i < n → v i ≤ m) : (mxS v n).2 ≤ m := by
  induction n with
  | zero => exact Nat.zero_le _
  | succ n ih =>
    unfold mxS
    split
    · exact h n (Nat.lt_succ_self n)
    · exact ih fun i hi => h i (by omega)
theorem mxS_lt {v : Nat → Nat} (n : Nat) : ∀ z, (mxS v n).1 = some z → z < n := by
  induction n with
  | zero => intro z h; cases h
  | succ n ih =>
    intro z h
    unfold mxS at h
    split at h
    · cases h; exact Nat.lt_succ_self n
    · have := ih z h; omega
theorem mnS_b {i : Nat} {v : Nat → Nat} (n : Nat) : (mnS i v n).2 ≤ i := by
  induction n with
  | zero => exact Nat.le_refl _
  | succ n ih =>
    unfold mnS
    split
    · omega
    · exact ih
theorem mnS_lt {i : Nat} {v : Nat → Nat} (n : Nat) : ∀ z, (mnS i v n).1 = some z → z < n := by
  induction n with
  | zero => intro z h; cases h
  | succ n ih =>
    intro z h
    unfold mnS at h
    split at h
    · cases h; exact Nat.lt_succ_self n
    · have := ih z h; omega
theorem stS_o {oc : Nat → Bool} {v : Nat → Nat} {n : Nat} (h : oc n = true) : stS oc v (n + 1) = stS oc v n := by simp [stS, h]
theorem stS_n {oc : Nat → Bool} {v : Nat → Nat} {n : Nat} (h : oc n = false) (g : stS oc v n = none) : stS oc v (n + 1) = some (n, v n) := by simp [stS, h, g]
theorem stS_t {oc : Nat → Bool} {v : Nat → Nat} {n : Nat} {p : Nat × Nat} (h : oc n = false) (g : stS oc v n = some p) (k : p.2 < v n) : stS oc v (n + 1) = some (n, v n) := by simp [stS, h, g, k]
theorem stS_f {oc : Nat → Bool} {v : Nat → Nat} {n : Nat} {p : Nat × Nat} (h : oc n = false) (g : stS oc v n = some p) (k : v n ≤ p.2) : stS oc v (n + 1) = some p := by
  simp only [stS, h, g]
  rw [if_neg (by decide), if_neg (by omega)]
theorem stS_b {oc : Nat → Bool} {v : Nat → Nat} {m : Nat} (n : Nat) (h : ∀ i, i < n → v i ≤ m) : ∀ p, stS oc v n = some p → p.1 < n ∧ p.2 ≤ m := by
  induction n with
  | zero => intro p h; cases h
  | succ n ih =>
    intro p hp
    have ih := ih fun i hi => h i (by omega)
    unfold stS at hp
    split at hp
    · obtain ⟨a, b⟩ := ih p hp; exact ⟨by omega, b⟩
    · split at hp
      · cases hp; exact ⟨Nat.lt_succ_self n, h n (Nat.lt_succ_self n)⟩
      · rename_i p' hp'
        split at hp
        · cases hp; exact ⟨Nat.lt_succ_self n, h n (Nat.lt_succ_self n)⟩
        · cases hp
          obtain ⟨a, b⟩ := ih _ hp'
          exact ⟨by omega, b⟩
theorem updN_u (T : Nat → Nat) (k v w : Nat) : updN (updN T k v) k w = updN T k w := by
  funext j
  by_cases h : j = k
  · subst h; rw [updN_s, updN_s]
  · rw [updN_n _ h, updN_n _ h, updN_n _ h]
theorem updN_r (T : Nat → Nat) (k : Nat) : updN T k (T k) = T := by
  funext j
  by_cases h : j = k
  · subst h; rw [updN_s]
  · rw [updN_n _ h]
/-- the shares, the birds, of a town with all that fell -/
abbrev lyT (T : Nat → Nat) : Nat → Nat := fun q => lyi T q (T 0)
def shT (T : Nat → Nat) (g : Nat) : Nat := shL T (lyT T) g 36
def moT (T : Nat → Nat) (k q f le : Nat) : Nat → Nat := updN (updN (updN (updN (updN T (120 + T 0) k) (126 + T 0) q) (132 + T 0) f) (138 + T 0) le) 0 (T 0 + 1)
def fellT (T : Nat → Nat) (t : Nat) : Nat → Nat := fun i => if i = 0 then T 0 - 1 else if 120 ≤ i ∧ t ≤ (i - 120) % 6 ∧ (i - 120) % 6 < T 0 - 1 then T (i + 1) else T i
def drT (T : Nat → Nat) (c : Nat) : Nat → Nat := fun i => if 12 ≤ i ∧ i < 48 then (if (i - 12) % 6 < c then 0 else 1) else T i
/-- the towns agree where it matters: a felled tree's numbers don't -/
def samT (T U : Nat → Nat) : Prop := ∀ i, i < 120 ∨ (i - 120) % 6 < T 0 ∧ i < 144 → U i = T i
def setV (T : Nat → Nat) (g f q : Nat) : Nat := shT (moT T 0 q f 0) g
def setO (T : Nat → Nat) (q : Nat) : Bool := (trIn T q (T 0)).isSome
def givV (T : Nat → Nat) (n : Nat) : Nat := bdL (updN T (12 + n / 4) (n % 4)) (lyT T) 36
def claV (T : Nat → Nat) (n : Nat) : Nat := bdL (updN T 2 n) (lyT T) 36
def linV (T : Nat → Nat) (w n : Nat) : Nat := if w = 0 then bdL (drT T (n + 1)) (lyT T) 36 else dif (shL (drT T (n + 1)) (lyT T) 0 36) (shL (drT T (n + 1)) (lyT T) 1 36)
def winV (T : Nat → Nat) (g n : Nat) : Nat := shT (updN T 1 n) g
def netV (T : Nat → Nat) (g q : Nat) : Nat := if T (84 + q) = 0 ∧ T (12 + q) = g ∧ nob T q = true then lyT T q else 0
def camV (T : Nat → Nat) (q n : Nat) : Nat := sumN (fun t => if 0 < flp T t q 5 then 2 ^ t else 0) n
def fitB (T : Nat → Nat) (w n : Nat) : Bool := (fstN (fun k => decide (lyT (updN T 1 w) (T (4 + k)) = 0)) n).isNone
def fitV (T : Nat → Nat) (n : Nat) : Nat := sumN (fun w => if fitB T w (T 3) = true then 2 ^ w else 0) n
def fitN (T : Nat → Nat) (n : Nat) : Nat := sumN (fun w => if fitB T w (T 3) = true then 1 else 0) n
def judB (T : Nat → Nat) (g q : Nat) : Bool := decide (q < 36) && decide (T (12 + q) = g) && !nob T q && decide (0 < lyT T q)
def judV (T Rw : Nat → Nat) (g n : Nat) : Option Nat := fstN (fun k => !judB T g (Rw k)) n
def seeZ (z : Int32) : Nat → Int32
  | 0 => z
  | n + 1 => seeZ z n * 1664525 + 1013904223
def seeW (z : Int32) : Nat := z.toBitVec.toNat % 2 ^ 31 / 256 % 16
def seeV (T : Nat → Nat) (g : Nat) (z : Int32) (n : Nat) : Nat := sumN (fun k => winV T g (seeW (seeZ z (k + 1)))) n
theorem lyT_le {T : Nat → Nat} (hk : okT T) (q : Nat) : lyT T q ≤ 3600 := by
  have h := lyi_le (T := T) (q := q) (n := T 0) fun t ht => (hk.2.2.2.2.2.2.2.2 t ht).2.2.2.1
  have := hk.1
  show lyi T q (T 0) ≤ 3600
  omega
theorem shL_le {T L : Nat → Nat} {g n m : Nat} (h : ∀ q, q < n → L q ≤ m) : shL T L g n ≤ n * m := by
  refine sumN_le n fun i hi => ?_
  split
  · exact h i hi
  · exact Nat.zero_le _
theorem bdL_le {T L : Nat → Nat} {n m : Nat} (h : ∀ q, q < n → L q ≤ m) : bdL T L n ≤ n * m := by
  refine sumN_le n fun i hi => ?_
  split
  · exact h i hi
  · exact Nat.zero_le _
theorem shT_le {T : Nat → Nat} (hk : okT T) (g : Nat) : shT T g ≤ 129600 := shL_le (n := 36) (m := 3600) fun q _ => lyT_le hk q
theorem moT_ok {T : Nat → Nat} (hk : okT T) {k q f le : Nat} (h0 : T 0 < 6) (h1 : k ≤ 5) (h2 : q < 36) (h3 : 1 ≤ f) (h4 : f ≤ 20) (h5 : le ≤ 3) : okT (moT T k q f le) := by
  obtain ⟨k0, k1, k2, k3, k4, k5, k6, k7, k8⟩ := hk
  have g : ∀ j, 0 < j → j < 120 → moT T k q f le j = T j := by
    intro j a1 a2
    unfold moT
    rw [updN_n _ (by omega), updN_n _ (by omega), updN_n _ (by omega), updN_n _ (by omega), updN_n _ (by omega)]
  have e0 : moT T k q f le 0 = T 0 + 1 := by unfold moT; rw [updN_s]
  refine ⟨by rw [e0]; omega, by rw [g 1 (by omega) (by omega)]; exact k1, by rw [g 2 (by omega) (by omega)]; exact k2, by rw [g 3 (by omega) (by omega)]; exact k3, fun i hi => ?_, fun i hi => by rw [g _ (by omega) (by omega)]; exact k5 i hi, fun i hi => by rw [g _ (by omega) (by omega)]; exact k6 i hi, fun i hi => by rw [g _ (by omega) (by omega)]; exact k7 i hi, fun t ht => ?_⟩
  · rw [g 3 (by omega) (by omega)] at hi
    rw [g _ (by omega) (by omega)]
    exact k4 i hi
  · rw [e0] at ht
    unfold moT
    by_cases e : t = T 0
    · subst e
      refine ⟨?_, ?_, ?_, ?_, ?_⟩ <;> simp [updN] <;> omega
    · have := k8 t (by omega)
      refine ⟨?_, ?_, ?_, ?_, ?_⟩ <;> simp [updN, e] <;> (repeat' split) <;> omega
theorem okT_at {T : Nat → Nat} (hk : okT T) {t : Nat} (ht : t < T 0) : T (120 + t) ≤ 5 ∧ T (126 + t) < 36 ∧ 1 ≤ T (132 + t) ∧ T (132 + t) ≤ 20 ∧ T (138 + t) ≤ 3 := hk.2.2.2.2.2.2.2.2 t ht
