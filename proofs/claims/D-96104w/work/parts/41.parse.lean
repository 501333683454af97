/-! the plain law of what is told by letters: P the letters, n how many; a place, or where it fails -/
set_option maxRecDepth 100000
def digE (P : Nat → Nat) (n a : Nat) : Option Nat := if a < n ∧ 48 ≤ P a ∧ P a ≤ 57 then some (P a - 48) else none
def dgE (P : Nat → Nat) (n a : Nat) : Except Nat (Nat × Nat) := match digE P n a with
  | some d => .ok (d, a + 1)
  | none => .error a
def twE (P : Nat → Nat) (n a : Nat) : Except Nat (Nat × Nat) := match digE P n a with
  | none => .error a
  | some d => match digE P n (a + 1) with
    | none => .error (a + 1)
    | some e => .ok (10 * d + e, a + 2)
def frE (P : Nat → Nat) (n a : Nat) : Except Nat (Nat × Nat) := match digE P n a with
  | none => .error a
  | some d => match digE P n (a + 1) with
    | none => .ok (d, a + 1)
    | some e => .ok (10 * d + e, a + 2)
def exE (P : Nat → Nat) (n c a : Nat) : Except Nat Nat := if a < n ∧ P a = c then .ok (a + 1) else .error a
def onE (P : Nat → Nat) (n : Nat) (f : Nat → Nat) (m a : Nat) : Except Nat (Nat × Nat) := if a < n then (match fstN (fun k => decide (P a = f k)) m with
  | some k => .ok (k, a + 1)
  | none => .error a) else .error a
def tld : Type := Nat × Nat × Nat × Nat × Nat
def tld.s (t : tld) : Nat := Prod.fst t
def tld.f0 (t : tld) : Nat := Prod.fst (Prod.snd t)
def tld.f1 (t : tld) : Nat := Prod.fst (Prod.snd (Prod.snd t))
def tld.f2 (t : tld) : Nat := Prod.fst (Prod.snd (Prod.snd (Prod.snd t)))
def tld.f3 (t : tld) : Nat := Prod.snd (Prod.snd (Prod.snd (Prod.snd t)))
def tmk (s a c d e : Nat) : tld := (s, a, c, d, e)
theorem tmk_s (s a c d e : Nat) : (tmk s a c d e).s = s := rfl
theorem tmk_0 (s a c d e : Nat) : (tmk s a c d e).f0 = a := rfl
theorem tmk_1 (s a c d e : Nat) : (tmk s a c d e).f1 = c := rfl
theorem tmk_2 (s a c d e : Nat) : (tmk s a c d e).f2 = d := rfl
theorem tmk_3 (s a c d e : Nat) : (tmk s a c d e).f3 = e := rfl
def endE (P : Nat → Nat) (n : Nat) (t : tld) (a : Nat) : Except Nat (tld × Nat) := match exE P n 59 a with
  | .error e => .error e
  | .ok a => .ok (t, a)
def trE (P : Nat → Nat) (n a : Nat) : Except Nat (tld × Nat) := match onE P n md_kd 6 a with
  | .error e => .error e
  | .ok (k, a) => match twE P n a with
    | .error e => .error e
    | .ok (q, a) => match frE P n a with
      | .error e => .error e
      | .ok (f, a) => match exE P n 44 a with
        | .error e => .error e
        | .ok a => match dgE P n a with
          | .error e => .error e
          | .ok (l, a) => endE P n (tmk 0 k q f l) a
def t21E (P : Nat → Nat) (n s a : Nat) : Except Nat (tld × Nat) := match twE P n a with
  | .error e => .error e
  | .ok (q, a) => match dgE P n a with
    | .error e => .error e
    | .ok (v, a) => endE P n (tmk s q v 0 0) a
def t11E (P : Nat → Nat) (n s a : Nat) : Except Nat (tld × Nat) := match dgE P n a with
  | .error e => .error e
  | .ok (q, a) => match dgE P n a with
    | .error e => .error e
    | .ok (v, a) => endE P n (tmk s q v 0 0) a
def t1E (P : Nat → Nat) (n s a : Nat) : Except Nat (tld × Nat) := match dgE P n a with
  | .error e => .error e
  | .ok (q, a) => endE P n (tmk s q 0 0 0) a
def t2E (P : Nat → Nat) (n s a : Nat) : Except Nat (tld × Nat) := match twE P n a with
  | .error e => .error e
  | .ok (q, a) => endE P n (tmk s q 0 0 0) a
def bodE (P : Nat → Nat) (n s a : Nat) : Except Nat (tld × Nat) :=
  if s = 0 then trE P n a else if s = 1 ∨ s = 3 then t21E P n s a else if s = 2 ∨ s = 4 then t11E P n s a else if s = 5 then t1E P n s a else t2E P n s a
def stE (P : Nat → Nat) (n a : Nat) : Except Nat (tld × Nat) := match onE P n md_bg 7 a with
  | .error e => .error e
  | .ok (s, a) => bodE P n s a
theorem digE_b {P : Nat → Nat} {n a d : Nat} (h : digE P n a = some d) : a < n ∧ d ≤ 9 ∧ P a = d + 48 := by
  unfold digE at h
  split at h
  · cases h; omega
  · cases h
theorem digE_s {P : Nat → Nat} {n a : Nat} (h1 : a < n) (h2 : 48 ≤ P a) (h3 : P a ≤ 57) : digE P n a = some (P a - 48) := by unfold digE; rw [if_pos ⟨h1, h2, h3⟩]
theorem digE_1 {P : Nat → Nat} {n a : Nat} (h : n ≤ a) : digE P n a = none := by unfold digE; rw [if_neg (by omega)]
theorem digE_2 {P : Nat → Nat} {n a : Nat} (h : P a < 48) : digE P n a = none := by unfold digE; rw [if_neg (by omega)]
theorem digE_3 {P : Nat → Nat} {n a : Nat} (h : 57 < P a) : digE P n a = none := by unfold digE; rw [if_neg (by omega)]
theorem dgE_b {P : Nat → Nat} {n a d a' : Nat} (h : dgE P n a = .ok (d, a')) : a < n ∧ a' = a + 1 ∧ d ≤ 9 := by
  unfold dgE at h
  split at h
  · rename_i hd
    have := digE_b hd
    cases h; omega
  · cases h
theorem dgE_e {P : Nat → Nat} {n a e : Nat} (hn : a ≤ n) (h : dgE P n a = .error e) : e ≤ n := by
  unfold dgE at h
  split at h
  · cases h
  · cases h; exact hn
theorem twE_b {P : Nat → Nat} {n a v a' : Nat} (h : twE P n a = .ok (v, a')) : a' = a + 2 ∧ a' ≤ n ∧ v ≤ 99 := by
  unfold twE at h
  split at h
  · cases h
  · rename_i hd
    have := digE_b hd
    split at h
    · cases h
    · rename_i he
      have := digE_b he
      cases h; omega
theorem twE_e {P : Nat → Nat} {n a e : Nat} (hn : a ≤ n) (h : twE P n a = .error e) : e ≤ n := by
  unfold twE at h
  split at h
  · cases h; exact hn
  · rename_i hd
    have := digE_b hd
    split at h
    · cases h; omega
    · cases h
theorem frE_b {P : Nat → Nat} {n a v a' : Nat} (h : frE P n a = .ok (v, a')) : a < a' ∧ a' ≤ n ∧ v ≤ 99 := by
  unfold frE at h
  split at h
  · cases h
  · rename_i hd
    have := digE_b hd
    split at h
    · cases h; omega
    · rename_i he
      have := digE_b he
      cases h; omega
theorem frE_e {P : Nat → Nat} {n a e : Nat} (hn : a ≤ n) (h : frE P n a = .error e) : e ≤ n := by
  unfold frE at h
  split at h
  · cases h; exact hn
  · split at h
    · cases h
    · cases h
theorem exE_b {P : Nat → Nat} {n c a a' : Nat} (h : exE P n c a = .ok a') : a' = a + 1 ∧ a < n ∧ P a = c := by
  unfold exE at h
  split at h
  · cases h; omega
  · cases h
theorem exE_e {P : Nat → Nat} {n c a e : Nat} (h : exE P n c a = .error e) : e = a ∧ ¬ (a < n ∧ P a = c) := by
  unfold exE at h
  split at h
  · cases h
  · cases h; exact ⟨rfl, by assumption⟩
theorem onE_b {P f : Nat → Nat} {n m a k a' : Nat} (h : onE P n f m a = .ok (k, a')) : a' = a + 1 ∧ a < n ∧ k < m ∧ P a = f k := by
  unfold onE at h
  split at h
  · split at h
    · rename_i hf
      have := fstN_spec hf
      cases h
      exact ⟨rfl, by assumption, this.1, of_decide_eq_true this.2.1⟩
    · cases h
  · cases h
theorem onE_e {P f : Nat → Nat} {n m a e : Nat} (h : onE P n f m a = .error e) : e = a := by
  unfold onE at h
  split at h
  · split at h
    · cases h
    · cases h; rfl
  · cases h; rfl
theorem endE_b {P : Nat → Nat} {n a a' : Nat} {t t' : tld} (h : endE P n t a = .ok (t', a')) : t' = t ∧ a' = a + 1 ∧ a' ≤ n := by
  unfold endE at h
  split at h
  · cases h
  · rename_i he
    have := exE_b he
    cases h
    exact ⟨rfl, this.1, by omega⟩
theorem endE_e {P : Nat → Nat} {n a e : Nat} {t : tld} (hn : a ≤ n) (h : endE P n t a = .error e) : e ≤ n := by
  unfold endE at h
  split at h
  · rename_i he
    have := exE_e he
    cases h; omega
  · cases h
/-- what a told thing's numbers can be -/
def tldB (t : tld) : Prop := t.s ≤ 6 ∧ t.f0 ≤ 99 ∧ t.f1 ≤ 99 ∧ t.f2 ≤ 99 ∧ t.f3 ≤ 9 ∧ (t.s = 0 → t.f0 ≤ 5) ∧ (¬ t.s = 0 → t.f1 ≤ 9) ∧ ((t.s = 2 ∨ t.s = 4 ∨ t.s = 5) → t.f0 ≤ 9)
theorem trE_b {P : Nat → Nat} {n a a' : Nat} {t : tld} (h : trE P n a = .ok (t, a')) : tldB t ∧ a < a' ∧ a' ≤ n ∧ t.s = 0 := by
  unfold trE at h
  split at h
  · cases h
  rename_i h1
  have b1 := onE_b h1
  split at h
  · cases h
  rename_i h2
  have b2 := twE_b h2
  split at h
  · cases h
  rename_i h3
  have b3 := frE_b h3
  split at h
  · cases h
  rename_i h4
  have b4 := exE_b h4
  split at h
  · cases h
  rename_i h5
  have b5 := dgE_b h5
  have b6 := endE_b h
  obtain ⟨e, b6⟩ := b6
  subst e
  refine ⟨⟨?_, ?_, ?_, ?_, ?_, ?_, ?_, ?_⟩, by omega, by omega, rfl⟩ <;> (try simp only [tmk_s, tmk_0, tmk_1, tmk_2, tmk_3, not_true_eq_false, false_implies]) <;> intros <;> omega
theorem t21E_b {P : Nat → Nat} {n a a' s : Nat} {t : tld} (hs : s = 1 ∨ s = 3) (h : t21E P n s a = .ok (t, a')) : tldB t ∧ a < a' ∧ a' ≤ n ∧ t.s = s := by
  unfold t21E at h
  split at h
  · cases h
  rename_i h2
  have b2 := twE_b h2
  split at h
  · cases h
  rename_i h5
  have b5 := dgE_b h5
  obtain ⟨e, b6⟩ := endE_b h
  subst e
  refine ⟨⟨?_, ?_, ?_, ?_, ?_, ?_, ?_, ?_⟩, by omega, by omega, rfl⟩ <;> (try simp only [tmk_s, tmk_0, tmk_1, tmk_2, tmk_3]) <;> intros <;> omega
theorem t11E_b {P : Nat → Nat} {n a a' s : Nat} {t : tld} (hs : s = 2 ∨ s = 4) (h : t11E P n s a = .ok (t, a')) : tldB t ∧ a < a' ∧ a' ≤ n ∧ t.s = s := by
  unfold t11E at h
  split at h
  · cases h
  rename_i h2
  have b2 := dgE_b h2
  split at h
  · cases h
  rename_i h5
  have b5 := dgE_b h5
  obtain ⟨e, b6⟩ := endE_b h
  subst e
  refine ⟨⟨?_, ?_, ?_, ?_, ?_, ?_, ?_, ?_⟩, by omega, by omega, rfl⟩ <;> (try simp only [tmk_s, tmk_0, tmk_1, tmk_2, tmk_3]) <;> intros <;> omega
theorem t1E_b {P : Nat → Nat} {n a a' s : Nat} {t : tld} (hs : s = 5) (h : t1E P n s a = .ok (t, a')) : tldB t ∧ a < a' ∧ a' ≤ n ∧ t.s = s := by
  unfold t1E at h
  split at h
  · cases h
  rename_i h2
  have b2 := dgE_b h2
  obtain ⟨e, b6⟩ := endE_b h
  subst e
  refine ⟨⟨?_, ?_, ?_, ?_, ?_, ?_, ?_, ?_⟩, by omega, by omega, rfl⟩ <;> (try simp only [tmk_s, tmk_0, tmk_1, tmk_2, tmk_3]) <;> intros <;> omega
theorem t2E_b {P : Nat → Nat} {n a a' s : Nat} {t : tld} (hs : s = 6) (h : t2E P n s a = .ok (t, a')) : tldB t ∧ a < a' ∧ a' ≤ n ∧ t.s = s := by
  unfold t2E at h
  split at h
  · cases h
  rename_i h2
  have b2 := twE_b h2
  obtain ⟨e, b6⟩ := endE_b h
  subst e
  refine ⟨⟨?_, ?_, ?_, ?_, ?_, ?_, ?_, ?_⟩, by omega, by omega, rfl⟩ <;> (try simp only [tmk_s, tmk_0, tmk_1, tmk_2, tmk_3]) <;> intros <;> omega
theorem bodE_b {P : Nat → Nat} {n a a' s : Nat} {t : tld} (hs : s < 7) (h : bodE P n s a = .ok (t, a')) : tldB t ∧ a < a' ∧ a' ≤ n ∧ t.s = s := by
  unfold bodE at h
  split at h
  · rename_i e; subst e; exact trE_b h
  split at h
  · exact t21E_b (by assumption) h
  split at h
  · exact t11E_b (by assumption) h
  split at h
  · exact t1E_b (by assumption) h
  · exact t2E_b (by omega) h
theorem stE_b {P : Nat → Nat} {n a a' : Nat} {t : tld} (h : stE P n a = .ok (t, a')) : tldB t ∧ a + 1 < a' ∧ a' ≤ n ∧ a < n := by
  unfold stE at h
  split at h
  · cases h
  rename_i h1
  have b1 := onE_b h1
  have := bodE_b b1.2.2.1 h
  exact ⟨this.1, by omega, by omega, by omega⟩
/-- what is told, all of it, with where each begins -/
def psE (P : Nat → Nat) (n : Nat) : Nat → Nat → Except Nat (List (Nat × tld))
  | 0, a => .error a
  | k + 1, a => match stE P n a with
    | .error e => .error e
    | .ok (t, a') => if a' < n then (match psE P n k a' with
      | .error e => .error e
      | .ok l => .ok ((a, t) :: l)) else .ok [(a, t)]
theorem psE_e {P : Nat → Nat} {n k a e : Nat} (h : stE P n a = .error e) : psE P n (k + 1) a = .error e := by rw [psE, h]
theorem psE_l {P : Nat → Nat} {n k a a' : Nat} {t : tld} (h : stE P n a = .ok (t, a')) (h2 : n ≤ a') : psE P n (k + 1) a = .ok [(a, t)] := by
  rw [psE, h]
  show (if a' < n then _ else _) = _
  rw [if_neg (by omega)]
theorem psE_m {P : Nat → Nat} {n k a a' : Nat} {t : tld} (h : stE P n a = .ok (t, a')) (h2 : a' < n) : psE P n (k + 1) a = (match psE P n k a' with
      | .error e => .error e
      | .ok l => .ok ((a, t) :: l)) := by
  rw [psE, h]
  show (if a' < n then _ else _) = _
  rw [if_pos h2]
def fl4 (t : tld) (i : Nat) : Nat := if i = 0 then t.f0 else if i = 1 then t.f1 else if i = 2 then t.f2 else t.f3
/-- the numbers that count -/
def agr (t : tld) (F : Nat → Nat) : Prop := F 0 = t.f0 ∧ ((t.s ≤ 4) → F 1 = t.f1) ∧ (t.s = 0 → F 2 = t.f2 ∧ F 3 = t.f3)
def muS (s : Nat) (F T : Nat → Nat) : Bool :=
  if s = 0 then decide (F 1 < 36) && decide (1 ≤ F 2) && decide (F 2 ≤ 20) && decide (F 3 ≤ 3) && decide (T 0 < 6) && (trIn T (F 1) (T 0)).isNone
  else if s = 1 then decide (F 0 < 36) && decide (F 1 ≤ 3)
  else if s = 2 then decide (F 0 < 6) && decide (F 1 ≤ 3)
  else if s = 4 then decide (F 0 ≤ 3) && decide (F 1 ≤ 3)
  else if s = 5 then decide (F 0 ≤ 4)
  else decide (F 0 < 36)
def clT (T : Nat → Nat) (c g : Nat) : Nat → Nat := fun i => if 12 ≤ i ∧ i < 48 ∧ (i - 12) % 6 = c then g else T i
def coT (s : Nat) (F T : Nat → Nat) : Nat → Nat :=
  if s = 0 then moT T (F 0) (F 1) (F 2) (F 3)
  else if s = 1 then updN T (12 + F 0) (F 1)
  else if s = 2 then clT T (F 0) (F 1)
  else if s = 3 then updN T (48 + F 0) (F 1)
  else if s = 4 then updN T 1 (4 * F 0 + F 1)
  else if s = 5 then updN T 2 (F 0)
  else updN T (84 + F 0) (1 - T (84 + F 0))
def cmE (t : tld) (T : Nat → Nat) : Option (Nat → Nat) := if muS t.s (fl4 t) T = true then some (coT t.s (fl4 t) T) else none
def apE : List (Nat × tld) → (Nat → Nat) → Except Nat (Nat → Nat)
  | [], T => .ok T
  | (a, t) :: l, T => match cmE t T with
    | none => .error a
    | some T' => apE l T'
theorem muS_cg {t : tld} {F T : Nat → Nat} (hs : t.s ≤ 6) (h : agr t F) : muS t.s F T = muS t.s (fl4 t) T := by
  obtain ⟨h0, h1, h2⟩ := h
  unfold muS
  by_cases e0 : t.s = 0
  · rw [if_pos e0, if_pos e0, (h2 e0).1, (h2 e0).2, h1 (by omega)]; rfl
  rw [if_neg e0, if_neg e0]
  by_cases e1 : t.s = 1
  · rw [if_pos e1, if_pos e1, h0, h1 (by omega)]; rfl
  rw [if_neg e1, if_neg e1]
  by_cases e2 : t.s = 2
  · rw [if_pos e2, if_pos e2, h0, h1 (by omega)]; rfl
  rw [if_neg e2, if_neg e2]
  by_cases e4 : t.s = 4
  · rw [if_pos e4, if_pos e4, h0, h1 (by omega)]; rfl
  rw [if_neg e4, if_neg e4, h0]
  rfl
theorem coT_cg {t : tld} {F T : Nat → Nat} (hs : t.s ≤ 6) (h : agr t F) : coT t.s F T = coT t.s (fl4 t) T := by
  obtain ⟨h0, h1, h2⟩ := h
  unfold coT
  by_cases e0 : t.s = 0
  · rw [if_pos e0, if_pos e0, (h2 e0).1, (h2 e0).2, h0, h1 (by omega)]; rfl
  rw [if_neg e0, if_neg e0]
  by_cases e1 : t.s = 1
  · rw [if_pos e1, if_pos e1, h0, h1 (by omega)]; rfl
  rw [if_neg e1, if_neg e1]
  by_cases e2 : t.s = 2
  · rw [if_pos e2, if_pos e2, h0, h1 (by omega)]; rfl
  rw [if_neg e2, if_neg e2]
  by_cases e3 : t.s = 3
  · rw [if_pos e3, if_pos e3, h0, h1 (by omega)]; rfl
  rw [if_neg e3, if_neg e3]
  by_cases e4 : t.s = 4
  · rw [if_pos e4, if_pos e4, h0, h1 (by omega)]; rfl
  rw [if_neg e4, if_neg e4, h0]
  rfl
theorem clT_ok {T : Nat → Nat} (hk : okT T) {c g : Nat} (hg : g < 4) : okT (clT T c g) := by
  obtain ⟨k0, k1, k2, k3, k4, k5, k6, k7, k8⟩ := hk
  have e : ∀ j, j < 12 ∨ 48 ≤ j → clT T c g j = T j := fun j hj => by unfold clT; rw [if_neg (by omega)]
  refine ⟨by rw [e _ (by omega)]; exact k0, by rw [e _ (by omega)]; exact k1, by rw [e _ (by omega)]; exact k2, by rw [e _ (by omega)]; exact k3, fun i hi => ?_, fun i hi => ?_, fun i hi => by rw [e _ (by omega)]; exact k6 i hi, fun i hi => by rw [e _ (by omega)]; exact k7 i hi, fun t ht => ?_⟩
  · rw [e 3 (by omega)] at hi
    rw [e _ (by omega)]
    exact k4 i hi
  · unfold clT
    split
    · exact hg
    · exact k5 i hi
  · rw [e 0 (by omega)] at ht
    rw [e _ (by omega), e _ (by omega), e _ (by omega), e _ (by omega)]
    exact k8 t ht
theorem coT_ok {t : tld} {T : Nat → Nat} (hk : okT T) (hb : tldB t) (h : muS t.s (fl4 t) T = true) : okT (coT t.s (fl4 t) T) := by
  obtain ⟨b0, b1, b2, b3, b4, b5, b6, b7⟩ := hb
  have e0 : fl4 t 0 = t.f0 := rfl
  have e1 : fl4 t 1 = t.f1 := rfl
  have e2 : fl4 t 2 = t.f2 := rfl
  have e3 : fl4 t 3 = t.f3 := rfl
  unfold muS at h
  unfold coT
  rw [e0, e1, e2, e3] at h ⊢
  split
  · rename_i z
    rw [if_pos z] at h
    simp only [Bool.and_eq_true, decide_eq_true_eq] at h
    exact moT_ok hk (by omega) (b5 z) (by omega) (by omega) (by omega) (by omega)
  rename_i z0
  rw [if_neg z0] at h
  have b6 := b6 z0
  split
  · rename_i z
    rw [if_pos z] at h
    simp only [Bool.and_eq_true, decide_eq_true_eq] at h
    exact okT_up hk (by omega)
  rename_i z1
  rw [if_neg z1] at h
  split
  · rename_i z
    rw [if_pos z] at h
    simp only [Bool.and_eq_true, decide_eq_true_eq] at h
    exact clT_ok hk (by omega)
  rename_i z2
  rw [if_neg z2] at h
  split
  · rename_i z
    rw [if_neg (by omega), if_neg (by omega)] at h
    simp only [decide_eq_true_eq] at h
    exact okT_up hk (by omega)
  split
  · rename_i z
    rw [if_pos z] at h
    simp only [Bool.and_eq_true, decide_eq_true_eq] at h
    exact okT_up hk (by omega)
  rename_i z4
  rw [if_neg z4] at h
  split
  · rename_i z
    rw [if_pos z] at h
    simp only [decide_eq_true_eq] at h
    exact okT_up hk (by omega)
  · rename_i z
    rw [if_neg z] at h
    simp only [decide_eq_true_eq] at h
    exact okT_up hk (by omega)
/-- the figures read one after another: the number, where, how many -/
def figL (P : Nat → Nat) (n : Nat) : Nat → Nat → Nat → Nat × Nat × Nat
  | 0, v, a => (v, a, 0)
  | k + 1, v, a => match digE P n a with
    | none => (v, a, 0)
    | some d => ((figL P n k (10 * v + d) (a + 1)).1, (figL P n k (10 * v + d) (a + 1)).2.1, (figL P n k (10 * v + d) (a + 1)).2.2 + 1)
theorem figL_n {P : Nat → Nat} {n k v a : Nat} (h : digE P n a = none) : figL P n k v a = (v, a, 0) := by
  cases k with
  | zero => rfl
  | succ k => rw [figL, h]
theorem figL_s {P : Nat → Nat} {n k v a d : Nat} (h : digE P n a = some d) : figL P n (k + 1) v a = ((figL P n k (10 * v + d) (a + 1)).1, (figL P n k (10 * v + d) (a + 1)).2.1, (figL P n k (10 * v + d) (a + 1)).2.2 + 1) := by rw [figL, h]
theorem fig1_e {P : Nat → Nat} {n a e : Nat} (h : dgE P n a = .error e) : figL P n 1 0 a = (0, e, 0) := by
  unfold dgE at h
  split at h
  · cases h
  · rename_i hd
    cases h
    rw [figL_n hd]
theorem fig1_o {P : Nat → Nat} {n a d a' : Nat} (h : dgE P n a = .ok (d, a')) : figL P n 1 0 a = (d, a', 1) := by
  unfold dgE at h
  split at h
  · rename_i hd
    cases h
    rw [figL_s hd]
    simp [figL]
  · cases h
theorem fig2_e {P : Nat → Nat} {n a e : Nat} (h : twE P n a = .error e) : ∃ u c, figL P n 2 0 a = (u, e, c) ∧ c < 2 ∧ u ≤ 99 := by
  unfold twE at h
  split at h
  · rename_i hd
    cases h
    exact ⟨0, 0, figL_n hd, by omega, by omega⟩
  · rename_i d hd
    have hb := digE_b hd
    split at h
    · rename_i h2
      cases h
      exact ⟨d, 1, by rw [figL_s hd, figL_n h2]; simp, by omega, by omega⟩
    · cases h
theorem fig2_o {P : Nat → Nat} {n a v a' : Nat} (h : twE P n a = .ok (v, a')) : figL P n 2 0 a = (v, a', 2) := by
  unfold twE at h
  split at h
  · cases h
  · rename_i hd
    split at h
    · cases h
    · rename_i h2
      cases h
      rw [figL_s hd, figL_s h2]
      simp [figL]
theorem fig12_e {P : Nat → Nat} {n a e : Nat} (h : frE P n a = .error e) : figL P n 2 0 a = (0, e, 0) := by
  unfold frE at h
  split at h
  · rename_i hd
    cases h
    exact figL_n hd
  · split at h
    · cases h
    · cases h
theorem fig12_o {P : Nat → Nat} {n a v a' : Nat} (h : frE P n a = .ok (v, a')) : ∃ c, figL P n 2 0 a = (v, a', c) ∧ 1 ≤ c := by
  unfold frE at h
  split at h
  · cases h
  · rename_i d hd
    split at h
    · rename_i h2
      cases h
      exact ⟨1, by rw [figL_s hd, figL_n h2]; simp, by omega⟩
    · rename_i h2
      cases h
      exact ⟨2, by rw [figL_s hd, figL_s h2]; simp [figL], by omega⟩
