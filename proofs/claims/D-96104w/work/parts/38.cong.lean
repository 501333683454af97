/-! the plain law: what agrees where towns agree -/
set_option maxRecDepth 100000
theorem cor_lt {q s1 s2 a : Nat} (hq : q < 36) (h : cor q s1 s2 = some a) : a < 36 := by
  unfold cor at h
  split at h
  · cases h
  · rename_i z hz
    exact bes_lt (bes_lt hq hz) h
theorem oth_cg {T U : Nat → Nat} (h : ∀ i, 12 ≤ i → i < 48 → U i = T i) {q : Nat} {r : Option Nat} (hq : q < 36) (hr : ∀ z, r = some z → z < 36) : oth U q r = oth T q r := by
  unfold oth
  split
  · rfl
  · rename_i a
    have := hr a rfl
    rw [h (12 + a) (by omega) (by omega), h (12 + q) (by omega) (by omega)]
theorem low_cg {T U : Nat → Nat} (h : ∀ i, 48 ≤ i → i < 84 → U i = T i) {q : Nat} (hq : q < 36) : low U q = low T q := by
  unfold low
  split
  · rfl
  · rename_i a ha
    have := bes_lt hq ha
    rw [h (48 + a) (by omega) (by omega), h (48 + q) (by omega) (by omega)]
theorem lawN_cg {T U : Nat → Nat} (h : ∀ i, 12 ≤ i → i < 84 → U i = T i) {q : Nat} (hq : q < 36) (l : Nat) : lawN U q l = lawN T q l := by
  have g : ∀ i, 12 ≤ i → i < 48 → U i = T i := fun i a c => h i a (by omega)
  have g2 : ∀ i, 48 ≤ i → i < 84 → U i = T i := fun i a c => h i (by omega) c
  have e : ∀ s, oth U q (bes q s 1) = oth T q (bes q s 1) := fun s => oth_cg g hq fun z hz => bes_lt hq hz
  have e2 : ∀ s1 s2, oth U q (cor q s1 s2) = oth T q (cor q s1 s2) := fun s1 s2 => oth_cg g hq fun z hz => cor_lt hq hz
  unfold lawN
  simp only [e, e2, low_cg g2 hq]
theorem nob_cg {T U : Nat → Nat} (h2 : U 2 = T 2) {q : Nat} (h : ∀ i, 12 ≤ i → i < 84 → U i = T i) (hn : U (84 + q) = T (84 + q)) (hq : q < 36) : nob U q = nob T q := by
  unfold nob
  rw [lawN_cg h hq, h2, hn]
theorem rol_cg {T U : Nat → Nat} (h : ∀ i, 48 ≤ i → i < 84 → U i = T i) {q : Nat} (hq : q < 36) (n : Nat) : rol U q n = rol T q n := by
  induction n with
  | zero => rfl
  | succ n ih =>
    unfold rol
    rw [ih]
    split
    · rfl
    · rename_i a ha
      have h1 := bes_lt hq ha
      have h2 := rol_lt (T := T) hq n
      rw [h (48 + a) (by omega) (by omega), h (48 + rol T q n) (by omega) (by omega)]
theorem samT.lo {T U : Nat → Nat} (h : samT T U) {i : Nat} (hi : i < 120) : U i = T i := h i (Or.inl hi)
theorem samT.rf (T : Nat → Nat) : samT T T := fun _ _ => rfl
theorem samT.tr {T U V : Nat → Nat} (h : samT T U) (g : samT U V) : samT T V := fun i hi => (g i (by rw [h.lo (by omega)]; exact hi)).trans (h i hi)
theorem samT.k {T U : Nat → Nat} (h : samT T U) (h6 : T 0 ≤ 6) {t : Nat} (ht : t < T 0) : U (120 + t) = T (120 + t) := h _ (Or.inr ⟨by omega, by omega⟩)
theorem samT.a {T U : Nat → Nat} (h : samT T U) (h6 : T 0 ≤ 6) {t : Nat} (ht : t < T 0) : U (126 + t) = T (126 + t) := h _ (Or.inr ⟨by omega, by omega⟩)
theorem samT.f {T U : Nat → Nat} (h : samT T U) (h6 : T 0 ≤ 6) {t : Nat} (ht : t < T 0) : U (132 + t) = T (132 + t) := h _ (Or.inr ⟨by omega, by omega⟩)
theorem samT.l {T U : Nat → Nat} (h : samT T U) (h6 : T 0 ≤ 6) {t : Nat} (ht : t < T 0) : U (138 + t) = T (138 + t) := h _ (Or.inr ⟨by omega, by omega⟩)
theorem samT.ok {T U : Nat → Nat} (h : samT T U) (hk : okT T) : okT U := by
  obtain ⟨k0, k1, k2, k3, k4, k5, k6, k7, k8⟩ := hk
  refine ⟨by rw [h.lo (by omega)]; exact k0, by rw [h.lo (by omega)]; exact k1, by rw [h.lo (by omega)]; exact k2, by rw [h.lo (by omega)]; exact k3, fun i hi => ?_, fun i hi => by rw [h.lo (by omega)]; exact k5 i hi, fun i hi => by rw [h.lo (by omega)]; exact k6 i hi, fun i hi => by rw [h.lo (by omega)]; exact k7 i hi, fun t ht => ?_⟩
  · rw [h.lo (by omega)] at hi
    rw [h.lo (by omega)]
    exact k4 i hi
  · rw [h.lo (by omega)] at ht
    rw [h.k k0 ht, h.a k0 ht, h.f k0 ht, h.l k0 ht]
    exact k8 t ht
theorem pos_cg {T U : Nat → Nat} (h : samT T U) (hk : okT T) {t : Nat} (ht : t < T 0) (p : Nat) : pos U t p = pos T t p := by
  have a := (okT_at hk ht).2.1
  have e0 : st0 U t p = st0 T t p := by unfold st0; rw [h.a hk.1 ht]
  have e1 : blow U t (st0 T t p) = blow T t (st0 T t p) := by
    unfold blow
    split
    · rfl
    · rw [h.k hk.1 ht, h.lo (by omega)]
  have e2 : ∀ z, z < 36 → roll U t z = roll T t z := by
    intro z hz
    have g : ∀ i, 48 ≤ i → i < 84 → U i = T i := fun i _ c => h.lo (by omega)
    unfold roll
    rw [h.k hk.1 ht, rol_cg g hz, rol_cg g (rol_lt hz 4)]
  unfold pos
  rw [e0, e1]
  cases hb : blow T t (st0 T t p) with
  | none => rfl
  | some z => exact congrArg some (e2 z (blow_lt (fun w hw => st0_lt a hw) hb))
theorem amt_cg {T U : Nat → Nat} (h : samT T U) (hk : okT T) {t : Nat} (ht : t < T 0) (p : Nat) : amt U t p = amt T t p := by
  unfold amt
  rw [h.f hk.1 ht, h.k hk.1 ht, h.l hk.1 ht]
theorem flp_cg {T U : Nat → Nat} (h : samT T U) (hk : okT T) {t : Nat} (ht : t < T 0) (q n : Nat) : flp U t q n = flp T t q n := sumN_congr n fun p _ => by rw [pos_cg h hk ht, amt_cg h hk ht]
theorem lyT_cg {T U : Nat → Nat} (h : samT T U) (hk : okT T) : lyT U = lyT T := by
  funext q
  show lyi U q (U 0) = lyi T q (T 0)
  rw [h.lo (by omega)]
  exact sumN_congr (T 0) fun t ht => flp_cg h hk ht q 5
theorem nobs_cg {T U : Nat → Nat} (h : samT T U) {q : Nat} (hq : q < 36) : nob U q = nob T q := nob_cg (h.lo (by omega)) (fun i _ c => h.lo (by omega)) (h.lo (by omega)) hq
theorem shL_cg {T U L K : Nat → Nat} {g n : Nat} (hn : n ≤ 36) (h : ∀ q, q < 36 → U (12 + q) = T (12 + q)) (h2 : ∀ q, q < 36 → nob U q = nob T q) (h3 : ∀ q, q < 36 → L q = K q) : shL U L g n = shL T K g n := sumN_congr n fun q hq => by rw [h q (by omega), h2 q (by omega), h3 q (by omega)]
theorem shT_cg {T U : Nat → Nat} (h : samT T U) (hk : okT T) (g : Nat) : shT U g = shT T g := by
  unfold shT
  rw [lyT_cg h hk]
  exact shL_cg (Nat.le_refl _) (fun q hq => h.lo (by omega)) (fun q hq => nobs_cg h hq) (fun _ _ => rfl)
theorem fstN_cg {f g : Nat → Bool} (n : Nat) (h : ∀ i, i < n → f i = g i) : fstN f n = fstN g n := by
  induction n with
  | zero => rfl
  | succ n ih =>
    unfold fstN
    rw [ih fun i hi => h i (by omega), h n (by omega)]
theorem trIn_cg {T U : Nat → Nat} (h : samT T U) (hk : okT T) (q : Nat) : trIn U q (U 0) = trIn T q (T 0) := by
  unfold trIn
  rw [h.lo (by omega)]
  exact fstN_cg (T 0) fun t ht => by rw [h.a hk.1 ht]
theorem moT_sam {T U : Nat → Nat} (h : samT T U) (h6 : T 0 < 6) (k q f le : Nat) : samT (moT T k q f le) (moT U k q f le) := by
  have e0 : U 0 = T 0 := h.lo (by omega)
  intro i hi
  have e1 : moT T k q f le 0 = T 0 + 1 := by unfold moT; rw [updN_s]
  rw [e1] at hi
  unfold moT
  rw [e0]
  unfold updN
  by_cases h0 : i = 0
  · rw [if_pos h0, if_pos h0]
  · rw [if_neg h0, if_neg h0]
    by_cases h1 : i = 138 + T 0
    · rw [if_pos h1, if_pos h1]
    · rw [if_neg h1, if_neg h1]
      by_cases h2 : i = 132 + T 0
      · rw [if_pos h2, if_pos h2]
      · rw [if_neg h2, if_neg h2]
        by_cases h3 : i = 126 + T 0
        · rw [if_pos h3, if_pos h3]
        · rw [if_neg h3, if_neg h3]
          by_cases h4 : i = 120 + T 0
          · rw [if_pos h4, if_pos h4]
          · rw [if_neg h4, if_neg h4]
            exact h i (by omega)
theorem moT_back {T : Nat → Nat} (h6 : T 0 < 6) (k q f le : Nat) : samT T (updN (moT T k q f le) 0 (T 0)) := by
  intro i hi
  by_cases h0 : i = 0
  · rw [h0, updN_s]
  · rw [updN_n _ h0]
    unfold moT
    rw [updN_n _ h0, updN_n _ (by omega), updN_n _ (by omega), updN_n _ (by omega), updN_n _ (by omega)]
def ltB (a c : Nat) : Bool := decide (a < c)
def gtB (a c : Nat) : Bool := decide (c < a)
theorem ltB_t {a c : Nat} (h : a < c) : ltB a c = true := decide_eq_true h
theorem gtB_t {a c : Nat} (h : c < a) : gtB a c = true := decide_eq_true h
theorem ltB_f {n a c : Nat} (h0 : ¬ n = 0) (h : c ≤ a) : ¬ (n = 0 ∨ ltB a c = true) := fun z => z.elim h0 fun z => by have := of_decide_eq_true z; omega
theorem gtB_f {n a c : Nat} (h0 : ¬ n = 0) (h : a ≤ c) : ¬ (n = 0 ∨ gtB a c = true) := fun z => z.elim h0 fun z => by have := of_decide_eq_true z; omega
/-- one term of a sum has grown -/
theorem sumN_up {f g : Nat → Nat} {q d : Nat} (n : Nat) (hq : q < n) (h : ∀ i, i < n → ¬ i = q → g i = f i) (hd : g q = f q + d) : sumN g n = sumN f n + d := by
  induction n with
  | zero => omega
  | succ n ih =>
    rw [sumN_s, sumN_s]
    by_cases e : q = n
    · subst e
      rw [sumN_congr q fun i hi => h i (by omega) (by omega), hd, Nat.add_assoc]
    · rw [ih (by omega) fun i hi hne => h i (by omega) hne, h n (by omega) (fun z => e z.symm)]
      omega
theorem net_sh {T : Nat → Nat} {g q : Nat} (hq : q < 36) (h0 : T (84 + q) = 0) : shL (updN T (84 + q) 1) (lyT T) g 36 = shT T g + netV T g q := by
  unfold shT
  refine sumN_up 36 hq (fun i hi hne => ?_) ?_
  · rw [updN_n _ (by omega), nob_cg (T := T) (updN_n _ (by omega)) (fun j a c => updN_n _ (by omega)) (updN_n _ (by omega)) hi]
  · have e : nob (updN T (84 + q) 1) q = false := nob_n (updN_s _ _ _)
    rw [e, updN_n _ (by omega)]
    unfold netV
    by_cases h1 : T (12 + q) = g
    · cases h2 : nob T q <;> simp [h0, h1]
    · simp [h1]
theorem netV_n {T : Nat → Nat} {g q : Nat} (h : ¬ T (84 + q) = 0) : netV T g q = 0 := by simp [netV, h]
theorem netV_le {T : Nat → Nat} (hk : okT T) (g q : Nat) : netV T g q ≤ 3600 := by
  unfold netV
  split
  · exact lyT_le hk q
  · omega
theorem claV_le {T : Nat → Nat} (hk : okT T) (n : Nat) : claV T n ≤ 129600 := bdL_le (n := 36) (m := 3600) fun q _ => lyT_le hk q
theorem givV_le {T : Nat → Nat} (hk : okT T) (n : Nat) : givV T n ≤ 129600 := bdL_le (n := 36) (m := 3600) fun q _ => lyT_le hk q
theorem bdT_le {T : Nat → Nat} (hk : okT T) : bdL T (lyT T) 36 ≤ 129600 := bdL_le (n := 36) (m := 3600) fun q _ => lyT_le hk q
theorem linV_le {T : Nat → Nat} (hk : okT T) (w n : Nat) : linV T w n ≤ 259200 := by
  unfold linV
  have h1 : bdL (drT T (n + 1)) (lyT T) 36 ≤ 36 * 3600 := bdL_le (n := 36) (m := 3600) fun q _ => lyT_le hk q
  have h2 : ∀ g, shL (drT T (n + 1)) (lyT T) g 36 ≤ 36 * 3600 := fun g => shL_le (n := 36) (m := 3600) fun q _ => lyT_le hk q
  have a := h2 0
  have c := h2 1
  split
  · omega
  · unfold dif; omega
theorem winV_le {T : Nat → Nat} (hk : okT T) (g : Nat) {n : Nat} (hn : n < 16) : winV T g n ≤ 129600 := shT_le (okT_up hk (by omega)) g
theorem setV_le {T : Nat → Nat} (hk : okT T) (h0 : T 0 < 6) {g f q : Nat} (hq : q < 36) (h1 : 1 ≤ f) (h2 : f ≤ 20) : setV T g f q ≤ 129600 := shT_le (moT_ok hk h0 (by omega) hq h1 h2 (by omega)) g
theorem shLd_le {T : Nat → Nat} (hk : okT T) (n g : Nat) : shL (drT T n) (lyT T) g 36 ≤ 129600 := shL_le (n := 36) (m := 3600) fun q _ => lyT_le hk q
theorem drT_ok {T : Nat → Nat} (hk : okT T) (c : Nat) : okT (drT T c) := by
  obtain ⟨k0, k1, k2, k3, k4, k5, k6, k7, k8⟩ := hk
  have g : ∀ j, j < 12 ∨ 48 ≤ j → drT T c j = T j := fun j hj => by unfold drT; rw [if_neg (by omega)]
  refine ⟨by rw [g _ (by omega)]; exact k0, by rw [g _ (by omega)]; exact k1, by rw [g _ (by omega)]; exact k2, by rw [g _ (by omega)]; exact k3, fun i hi => ?_, fun i hi => ?_, fun i hi => by rw [g _ (by omega)]; exact k6 i hi, fun i hi => by rw [g _ (by omega)]; exact k7 i hi, fun t ht => ?_⟩
  · rw [g 3 (by omega)] at hi
    rw [g _ (by omega)]
    exact k4 i hi
  · unfold drT
    split
    · split <;> omega
    · exact k5 i hi
  · rw [g 0 (by omega)] at ht
    rw [g _ (by omega), g _ (by omega), g _ (by omega), g _ (by omega)]
    exact k8 t ht
/-- bits laid over one another -/
theorem ior_ok {a n : Nat} (h : a < 2 ^ n) : nI a ||| nI (2 ^ n) = nI (a + 2 ^ n) := by
  have e : a + 2 ^ n = a ||| 2 ^ n := by
    have := Nat.two_pow_add_eq_or_of_lt h 1
    rw [Nat.mul_one] at this
    rw [Nat.add_comm, this, Nat.or_comm]
  unfold nI
  rw [e]
  apply Int32.toBitVec_inj.mp
  simp [BitVec.ofNat_or]
theorem ior_0 (a : Nat) : nI a ||| nI 0 = nI (a + 0) := by
  unfold nI
  apply Int32.toBitVec_inj.mp
  simp
theorem sumP_lt {f : Nat → Bool} (n : Nat) : sumN (fun t => if f t = true then 2 ^ t else 0) n < 2 ^ n := by
  induction n with
  | zero => exact Nat.zero_lt_one
  | succ n ih =>
    rw [sumN_s, Nat.pow_succ]
    split <;> omega
theorem camV_lt (T : Nat → Nat) (q n : Nat) : camV T q n < 2 ^ n := by
  induction n with
  | zero => exact Nat.zero_lt_one
  | succ n ih =>
    unfold camV at ih ⊢
    rw [sumN_s, Nat.pow_succ]
    split <;> omega
theorem shl_16 : ∀ t, t < 16 → nI 1 <<< (nI t &&& 31) = nI (2 ^ t) := by decide +kernel
theorem bt_less : ∀ t, t < 6 → ∀ u, u < 6 → bt (63 - 2 ^ t) u = if u = t then 0 else 1 := by decide +kernel
theorem and_63 : ∀ t, t < 6 → nI 63 &&& (nI (2 ^ t) ^^^ (-1)) = nI (63 - 2 ^ t) := by decide +kernel
theorem and_63' : ∀ t, t < 6 → nI 63 &&& ((nI 1 <<< (nI t &&& 31)) ^^^ (-1)) = nI (63 - 2 ^ t) := by decide +kernel
theorem mL_less (T : Nat → Nat) (q t n : Nat) (hn : n ≤ 6) (ht : t < n) : mL T (63 - 2 ^ t) n 0 q + flp T t q 5 = lyi T q n := by
  unfold mL lyi
  rw [show flp T n q 0 = 0 from rfl, Nat.mul_zero, Nat.add_zero]
  refine (sumN_up (q := t) (d := flp T t q 5) n ht (fun i hi hne => ?_) ?_).symm
  · rw [bt_less t (by omega) i (by omega), if_neg hne, Nat.one_mul]
  · rw [bt_less t (by omega) t (by omega), if_pos rfl, Nat.zero_mul, Nat.zero_add]
theorem shL_add (T L K J : Nat → Nat) (g n : Nat) (h : ∀ q, q < n → J q = L q + K q) : shL T J g n = shL T L g n + shL T K g n := by
  unfold shL
  induction n with
  | zero => rfl
  | succ n ih =>
    rw [sumN_s, sumN_s, sumN_s, ih fun q hq => h q (by omega), h n (by omega)]
    split <;> omega
