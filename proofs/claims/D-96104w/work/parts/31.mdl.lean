/-! the reference FallsBetweenModel: its cells stand at 43 (the object), 44 refused, 45 now, 46 then, 47 before, 48 tape, 49 begins, 50 kinds, 51 field, 52 lies, 53 row -/
set_option maxRecDepth 100000
abbrev md_O (b : Nat) (kp td aa we so lo ro : Int32) : va_E := ob 7 [.ref (b + 44), .ref (b + 45), .ref (b + 46), .ref (b + 47), .int kp, .ref (b + 48), .int td, .int aa, .int we, .ref (b + 49), .ref (b + 50), .int so, .ref (b + 51), .ref (b + 52), .int lo, .ref (b + 53), .int ro]
def md_bg (i : Nat) : Nat := [116, 103, 99, 104, 119, 108, 110].getD i 0
def md_kd (i : Nat) : Nat := [112, 100, 108, 97, 114, 115].getD i 0
/-- the array's n places hold the numbers L -/
def md_A (n : Nat) (f : Nat → Int32) (L : Nat → Nat) : Prop := ∀ i, i < n → f i = nI (L i)
def updN (T : Nat → Nat) (k v : Nat) : Nat → Nat := fun j => if j = k then v else T j
theorem updN_s (T : Nat → Nat) (k v : Nat) : updN T k v k = v := by simp [updN]
theorem updN_n (T : Nat → Nat) {k v j : Nat} (h : ¬ j = k) : updN T k v j = T j := by simp [updN, h]
theorem md_A.up {n : Nat} {f : Nat → Int32} {T : Nat → Nat} (h : md_A n f T) (k v : Nat) : md_A n (upd f k (nI v)) (updN T k v) := by
  intro i hi
  by_cases hk : i = k
  · subst hk
    rw [pk_us, updN_s]
  · rw [pk_un hk, updN_n T hk, h i hi]
theorem md_A.eq {n : Nat} {f : Nat → Int32} {T T' : Nat → Nat} (h : md_A n f T) (he : ∀ i, i < n → T i = T' i) : md_A n f T' := fun i hi => by rw [h i hi, he i hi]
def md_W (D : va_G) (b : Nat) (M : List va_E) (rf nw th bf tp fl li rw : Nat → Int32) (kp td aa we so lo ro : Int32) : Prop :=
  M[43]? = some (md_O b kp td aa we so lo ro) ∧ M[44]? = some (aI D 7 rf) ∧ M[45]? = some (aI D 144 nw) ∧ M[46]? = some (aI D 144 th) ∧ M[47]? = some (aI D 144 bf) ∧ M[48]? = some (aI D 64 tp) ∧ M[51]? = some (aI D 4 fl) ∧ M[52]? = some (aI D 36 li) ∧ M[53]? = some (aI D 12 rw) ∧ (∃ bg : Nat → Int32, M[49]? = some (aC D 7 bg) ∧ ∀ i, i < 7 → bg i = nI (md_bg i)) ∧ ∃ kd : Nat → Int32, M[50]? = some (aC D 6 kd) ∧ ∀ i, i < 6 → kd i = nI (md_kd i)
def md_V (D : va_G) (b : Nat) (M : List va_E) (R T Ti Bf P F L Rw : Nat → Nat) (kp : Bool) (td aa : Nat) (we : Bool) (so lo ro : Nat) : Prop :=
  ∃ rf nw th bf tp fl li rw : Nat → Int32, md_W D b M rf nw th bf tp fl li rw (bI kp) (nI td) (nI aa) (bI we) (nI so) (nI lo) (nI ro) ∧ md_A 7 rf R ∧ md_A 144 nw T ∧ md_A 144 th Ti ∧ md_A 144 bf Bf ∧ md_A 64 tp P ∧ md_A 4 fl F ∧ md_A 36 li L ∧ md_A 12 rw Rw
theorem md_V.o {D : va_G} {b : Nat} {M : List va_E} {R T Ti Bf P F L Rw : Nat → Nat} {kp we : Bool} {td aa so lo ro : Nat} (h : md_V D b M R T Ti Bf P F L Rw kp td aa we so lo ro) : M[43]? = some (md_O b (bI kp) (nI td) (nI aa) (bI we) (nI so) (nI lo) (nI ro)) := by
  obtain ⟨rf, nw, th, bf, tp, fl, li, rw, ⟨w0, w1, w2, w3, w4, w5, w6, w7, w8, wb, wk⟩, a0, a1, a2, a3, a4, a5, a6, a7⟩ := h
  exact w0
theorem md_V.rf {D : va_G} {b : Nat} {M : List va_E} {R T Ti Bf P F L Rw : Nat → Nat} {kp we : Bool} {td aa so lo ro : Nat} (h : md_V D b M R T Ti Bf P F L Rw kp td aa we so lo ro) : ∃ f : Nat → Int32, M[44]? = some (aI D 7 f) ∧ md_A 7 f R := by
  obtain ⟨rf, nw, th, bf, tp, fl, li, rw, ⟨w0, w1, w2, w3, w4, w5, w6, w7, w8, wb, wk⟩, a0, a1, a2, a3, a4, a5, a6, a7⟩ := h
  exact ⟨rf, w1, a0⟩
theorem md_V.nw {D : va_G} {b : Nat} {M : List va_E} {R T Ti Bf P F L Rw : Nat → Nat} {kp we : Bool} {td aa so lo ro : Nat} (h : md_V D b M R T Ti Bf P F L Rw kp td aa we so lo ro) : ∃ f : Nat → Int32, M[45]? = some (aI D 144 f) ∧ md_A 144 f T := by
  obtain ⟨rf, nw, th, bf, tp, fl, li, rw, ⟨w0, w1, w2, w3, w4, w5, w6, w7, w8, wb, wk⟩, a0, a1, a2, a3, a4, a5, a6, a7⟩ := h
  exact ⟨nw, w2, a1⟩
theorem md_V.th {D : va_G} {b : Nat} {M : List va_E} {R T Ti Bf P F L Rw : Nat → Nat} {kp we : Bool} {td aa so lo ro : Nat} (h : md_V D b M R T Ti Bf P F L Rw kp td aa we so lo ro) : ∃ f : Nat → Int32, M[46]? = some (aI D 144 f) ∧ md_A 144 f Ti := by
  obtain ⟨rf, nw, th, bf, tp, fl, li, rw, ⟨w0, w1, w2, w3, w4, w5, w6, w7, w8, wb, wk⟩, a0, a1, a2, a3, a4, a5, a6, a7⟩ := h
  exact ⟨th, w3, a2⟩
theorem md_V.bf {D : va_G} {b : Nat} {M : List va_E} {R T Ti Bf P F L Rw : Nat → Nat} {kp we : Bool} {td aa so lo ro : Nat} (h : md_V D b M R T Ti Bf P F L Rw kp td aa we so lo ro) : ∃ f : Nat → Int32, M[47]? = some (aI D 144 f) ∧ md_A 144 f Bf := by
  obtain ⟨rf, nw, th, bf, tp, fl, li, rw, ⟨w0, w1, w2, w3, w4, w5, w6, w7, w8, wb, wk⟩, a0, a1, a2, a3, a4, a5, a6, a7⟩ := h
  exact ⟨bf, w4, a3⟩
theorem md_V.tp {D : va_G} {b : Nat} {M : List va_E} {R T Ti Bf P F L Rw : Nat → Nat} {kp we : Bool} {td aa so lo ro : Nat} (h : md_V D b M R T Ti Bf P F L Rw kp td aa we so lo ro) : ∃ f : Nat → Int32, M[48]? = some (aI D 64 f) ∧ md_A 64 f P := by
  obtain ⟨rf, nw, th, bf, tp, fl, li, rw, ⟨w0, w1, w2, w3, w4, w5, w6, w7, w8, wb, wk⟩, a0, a1, a2, a3, a4, a5, a6, a7⟩ := h
  exact ⟨tp, w5, a4⟩
theorem md_V.fl {D : va_G} {b : Nat} {M : List va_E} {R T Ti Bf P F L Rw : Nat → Nat} {kp we : Bool} {td aa so lo ro : Nat} (h : md_V D b M R T Ti Bf P F L Rw kp td aa we so lo ro) : ∃ f : Nat → Int32, M[51]? = some (aI D 4 f) ∧ md_A 4 f F := by
  obtain ⟨rf, nw, th, bf, tp, fl, li, rw, ⟨w0, w1, w2, w3, w4, w5, w6, w7, w8, wb, wk⟩, a0, a1, a2, a3, a4, a5, a6, a7⟩ := h
  exact ⟨fl, w6, a5⟩
theorem md_V.li {D : va_G} {b : Nat} {M : List va_E} {R T Ti Bf P F L Rw : Nat → Nat} {kp we : Bool} {td aa so lo ro : Nat} (h : md_V D b M R T Ti Bf P F L Rw kp td aa we so lo ro) : ∃ f : Nat → Int32, M[52]? = some (aI D 36 f) ∧ md_A 36 f L := by
  obtain ⟨rf, nw, th, bf, tp, fl, li, rw, ⟨w0, w1, w2, w3, w4, w5, w6, w7, w8, wb, wk⟩, a0, a1, a2, a3, a4, a5, a6, a7⟩ := h
  exact ⟨li, w7, a6⟩
theorem md_V.rw {D : va_G} {b : Nat} {M : List va_E} {R T Ti Bf P F L Rw : Nat → Nat} {kp we : Bool} {td aa so lo ro : Nat} (h : md_V D b M R T Ti Bf P F L Rw kp td aa we so lo ro) : ∃ f : Nat → Int32, M[53]? = some (aI D 12 f) ∧ md_A 12 f Rw := by
  obtain ⟨rf, nw, th, bf, tp, fl, li, rw, ⟨w0, w1, w2, w3, w4, w5, w6, w7, w8, wb, wk⟩, a0, a1, a2, a3, a4, a5, a6, a7⟩ := h
  exact ⟨rw, w8, a7⟩
theorem md_V.bg {D : va_G} {b : Nat} {M : List va_E} {R T Ti Bf P F L Rw : Nat → Nat} {kp we : Bool} {td aa so lo ro : Nat} (h : md_V D b M R T Ti Bf P F L Rw kp td aa we so lo ro) : ∃ bg : Nat → Int32, M[49]? = some (aC D 7 bg) ∧ ∀ i, i < 7 → bg i = nI (md_bg i) := by
  obtain ⟨rf, nw, th, bf, tp, fl, li, rw, ⟨w0, w1, w2, w3, w4, w5, w6, w7, w8, wb, wk⟩, a0, a1, a2, a3, a4, a5, a6, a7⟩ := h
  exact wb
theorem md_V.kd {D : va_G} {b : Nat} {M : List va_E} {R T Ti Bf P F L Rw : Nat → Nat} {kp we : Bool} {td aa so lo ro : Nat} (h : md_V D b M R T Ti Bf P F L Rw kp td aa we so lo ro) : ∃ kd : Nat → Int32, M[50]? = some (aC D 6 kd) ∧ ∀ i, i < 6 → kd i = nI (md_kd i) := by
  obtain ⟨rf, nw, th, bf, tp, fl, li, rw, ⟨w0, w1, w2, w3, w4, w5, w6, w7, w8, wb, wk⟩, a0, a1, a2, a3, a4, a5, a6, a7⟩ := h
  exact wk
theorem md_V.seto {D : va_G} {b : Nat} {M : List va_E} {R T Ti Bf P F L Rw : Nat → Nat} {kp we : Bool} {td aa so lo ro : Nat} {kp' we' : Bool} {td' aa' so' lo' ro' : Nat} (h : md_V D b M R T Ti Bf P F L Rw kp td aa we so lo ro) : md_V D b ((M.set 43 (md_O b (bI kp') (nI td') (nI aa') (bI we') (nI so') (nI lo') (nI ro')))) R T Ti Bf P F L Rw kp' td' aa' we' so' lo' ro' := by
  obtain ⟨rf, nw, th, bf, tp, fl, li, rw, ⟨w0, w1, w2, w3, w4, w5, w6, w7, w8, wb, wk⟩, a0, a1, a2, a3, a4, a5, a6, a7⟩ := h
  have hl := (List.getElem?_eq_some_iff.mp w0).1
  exact ⟨rf, nw, th, bf, tp, fl, li, rw, ⟨by rw [List.getElem?_set_self hl], by rw [List.getElem?_set_ne (by decide)]; exact w1, by rw [List.getElem?_set_ne (by decide)]; exact w2, by rw [List.getElem?_set_ne (by decide)]; exact w3, by rw [List.getElem?_set_ne (by decide)]; exact w4, by rw [List.getElem?_set_ne (by decide)]; exact w5, by rw [List.getElem?_set_ne (by decide)]; exact w6, by rw [List.getElem?_set_ne (by decide)]; exact w7, by rw [List.getElem?_set_ne (by decide)]; exact w8, by obtain ⟨g, g1, g2⟩ := wb; exact ⟨g, by rw [List.getElem?_set_ne (by decide)]; exact g1, g2⟩, by obtain ⟨g, g1, g2⟩ := wk; exact ⟨g, by rw [List.getElem?_set_ne (by decide)]; exact g1, g2⟩⟩, a0, a1, a2, a3, a4, a5, a6, a7⟩
theorem md_V.setrf {D : va_G} {b : Nat} {M : List va_E} {R T Ti Bf P F L Rw : Nat → Nat} {kp we : Bool} {td aa so lo ro : Nat} {g : Nat → Int32} {U : Nat → Nat} (h : md_V D b M R T Ti Bf P F L Rw kp td aa we so lo ro) (hg : md_A 7 g U) : md_V D b ((M.set 44 (aI D 7 g))) U T Ti Bf P F L Rw kp td aa we so lo ro := by
  obtain ⟨rf, nw, th, bf, tp, fl, li, rw, ⟨w0, w1, w2, w3, w4, w5, w6, w7, w8, wb, wk⟩, a0, a1, a2, a3, a4, a5, a6, a7⟩ := h
  have hl := (List.getElem?_eq_some_iff.mp w1).1
  exact ⟨g, nw, th, bf, tp, fl, li, rw, ⟨by rw [List.getElem?_set_ne (by decide)]; exact w0, by rw [List.getElem?_set_self hl], by rw [List.getElem?_set_ne (by decide)]; exact w2, by rw [List.getElem?_set_ne (by decide)]; exact w3, by rw [List.getElem?_set_ne (by decide)]; exact w4, by rw [List.getElem?_set_ne (by decide)]; exact w5, by rw [List.getElem?_set_ne (by decide)]; exact w6, by rw [List.getElem?_set_ne (by decide)]; exact w7, by rw [List.getElem?_set_ne (by decide)]; exact w8, by obtain ⟨g, g1, g2⟩ := wb; exact ⟨g, by rw [List.getElem?_set_ne (by decide)]; exact g1, g2⟩, by obtain ⟨g, g1, g2⟩ := wk; exact ⟨g, by rw [List.getElem?_set_ne (by decide)]; exact g1, g2⟩⟩, hg, a1, a2, a3, a4, a5, a6, a7⟩
theorem md_V.eqrf {D : va_G} {b : Nat} {M : List va_E} {R T Ti Bf P F L Rw : Nat → Nat} {kp we : Bool} {td aa so lo ro : Nat} {U : Nat → Nat} (h : md_V D b M R T Ti Bf P F L Rw kp td aa we so lo ro) (he : ∀ i, i < 7 → R i = U i) : md_V D b M U T Ti Bf P F L Rw kp td aa we so lo ro := by
  obtain ⟨rf, nw, th, bf, tp, fl, li, rw, ⟨w0, w1, w2, w3, w4, w5, w6, w7, w8, wb, wk⟩, a0, a1, a2, a3, a4, a5, a6, a7⟩ := h
  exact ⟨rf, nw, th, bf, tp, fl, li, rw, ⟨w0, w1, w2, w3, w4, w5, w6, w7, w8, wb, wk⟩, a0.eq he, a1, a2, a3, a4, a5, a6, a7⟩
theorem md_V.setnw {D : va_G} {b : Nat} {M : List va_E} {R T Ti Bf P F L Rw : Nat → Nat} {kp we : Bool} {td aa so lo ro : Nat} {g : Nat → Int32} {U : Nat → Nat} (h : md_V D b M R T Ti Bf P F L Rw kp td aa we so lo ro) (hg : md_A 144 g U) : md_V D b ((M.set 45 (aI D 144 g))) R U Ti Bf P F L Rw kp td aa we so lo ro := by
  obtain ⟨rf, nw, th, bf, tp, fl, li, rw, ⟨w0, w1, w2, w3, w4, w5, w6, w7, w8, wb, wk⟩, a0, a1, a2, a3, a4, a5, a6, a7⟩ := h
  have hl := (List.getElem?_eq_some_iff.mp w2).1
  exact ⟨rf, g, th, bf, tp, fl, li, rw, ⟨by rw [List.getElem?_set_ne (by decide)]; exact w0, by rw [List.getElem?_set_ne (by decide)]; exact w1, by rw [List.getElem?_set_self hl], by rw [List.getElem?_set_ne (by decide)]; exact w3, by rw [List.getElem?_set_ne (by decide)]; exact w4, by rw [List.getElem?_set_ne (by decide)]; exact w5, by rw [List.getElem?_set_ne (by decide)]; exact w6, by rw [List.getElem?_set_ne (by decide)]; exact w7, by rw [List.getElem?_set_ne (by decide)]; exact w8, by obtain ⟨g, g1, g2⟩ := wb; exact ⟨g, by rw [List.getElem?_set_ne (by decide)]; exact g1, g2⟩, by obtain ⟨g, g1, g2⟩ := wk; exact ⟨g, by rw [List.getElem?_set_ne (by decide)]; exact g1, g2⟩⟩, a0, hg, a2, a3, a4, a5, a6, a7⟩
theorem md_V.eqnw {D : va_G} {b : Nat} {M : List va_E} {R T Ti Bf P F L Rw : Nat → Nat} {kp we : Bool} {td aa so lo ro : Nat} {U : Nat → Nat} (h : md_V D b M R T Ti Bf P F L Rw kp td aa we so lo ro) (he : ∀ i, i < 144 → T i = U i) : md_V D b M R U Ti Bf P F L Rw kp td aa we so lo ro := by
  obtain ⟨rf, nw, th, bf, tp, fl, li, rw, ⟨w0, w1, w2, w3, w4, w5, w6, w7, w8, wb, wk⟩, a0, a1, a2, a3, a4, a5, a6, a7⟩ := h
  exact ⟨rf, nw, th, bf, tp, fl, li, rw, ⟨w0, w1, w2, w3, w4, w5, w6, w7, w8, wb, wk⟩, a0, a1.eq he, a2, a3, a4, a5, a6, a7⟩
theorem md_V.setth {D : va_G} {b : Nat} {M : List va_E} {R T Ti Bf P F L Rw : Nat → Nat} {kp we : Bool} {td aa so lo ro : Nat} {g : Nat → Int32} {U : Nat → Nat} (h : md_V D b M R T Ti Bf P F L Rw kp td aa we so lo ro) (hg : md_A 144 g U) : md_V D b ((M.set 46 (aI D 144 g))) R T U Bf P F L Rw kp td aa we so lo ro := by
  obtain ⟨rf, nw, th, bf, tp, fl, li, rw, ⟨w0, w1, w2, w3, w4, w5, w6, w7, w8, wb, wk⟩, a0, a1, a2, a3, a4, a5, a6, a7⟩ := h
  have hl := (List.getElem?_eq_some_iff.mp w3).1
  exact ⟨rf, nw, g, bf, tp, fl, li, rw, ⟨by rw [List.getElem?_set_ne (by decide)]; exact w0, by rw [List.getElem?_set_ne (by decide)]; exact w1, by rw [List.getElem?_set_ne (by decide)]; exact w2, by rw [List.getElem?_set_self hl], by rw [List.getElem?_set_ne (by decide)]; exact w4, by rw [List.getElem?_set_ne (by decide)]; exact w5, by rw [List.getElem?_set_ne (by decide)]; exact w6, by rw [List.getElem?_set_ne (by decide)]; exact w7, by rw [List.getElem?_set_ne (by decide)]; exact w8, by obtain ⟨g, g1, g2⟩ := wb; exact ⟨g, by rw [List.getElem?_set_ne (by decide)]; exact g1, g2⟩, by obtain ⟨g, g1, g2⟩ := wk; exact ⟨g, by rw [List.getElem?_set_ne (by decide)]; exact g1, g2⟩⟩, a0, a1, hg, a3, a4, a5, a6, a7⟩
theorem md_V.eqth {D : va_G} {b : Nat} {M : List va_E} {R T Ti Bf P F L Rw : Nat → Nat} {kp we : Bool} {td aa so lo ro : Nat} {U : Nat → Nat} (h : md_V D b M R T Ti Bf P F L Rw kp td aa we so lo ro) (he : ∀ i, i < 144 → Ti i = U i) : md_V D b M R T U Bf P F L Rw kp td aa we so lo ro := by
  obtain ⟨rf, nw, th, bf, tp, fl, li, rw, ⟨w0, w1, w2, w3, w4, w5, w6, w7, w8, wb, wk⟩, a0, a1, a2, a3, a4, a5, a6, a7⟩ := h
  exact ⟨rf, nw, th, bf, tp, fl, li, rw, ⟨w0, w1, w2, w3, w4, w5, w6, w7, w8, wb, wk⟩, a0, a1, a2.eq he, a3, a4, a5, a6, a7⟩
theorem md_V.setbf {D : va_G} {b : Nat} {M : List va_E} {R T Ti Bf P F L Rw : Nat → Nat} {kp we : Bool} {td aa so lo ro : Nat} {g : Nat → Int32} {U : Nat → Nat} (h : md_V D b M R T Ti Bf P F L Rw kp td aa we so lo ro) (hg : md_A 144 g U) : md_V D b ((M.set 47 (aI D 144 g))) R T Ti U P F L Rw kp td aa we so lo ro := by
  obtain ⟨rf, nw, th, bf, tp, fl, li, rw, ⟨w0, w1, w2, w3, w4, w5, w6, w7, w8, wb, wk⟩, a0, a1, a2, a3, a4, a5, a6, a7⟩ := h
  have hl := (List.getElem?_eq_some_iff.mp w4).1
  exact ⟨rf, nw, th, g, tp, fl, li, rw, ⟨by rw [List.getElem?_set_ne (by decide)]; exact w0, by rw [List.getElem?_set_ne (by decide)]; exact w1, by rw [List.getElem?_set_ne (by decide)]; exact w2, by rw [List.getElem?_set_ne (by decide)]; exact w3, by rw [List.getElem?_set_self hl], by rw [List.getElem?_set_ne (by decide)]; exact w5, by rw [List.getElem?_set_ne (by decide)]; exact w6, by rw [List.getElem?_set_ne (by decide)]; exact w7, by rw [List.getElem?_set_ne (by decide)]; exact w8, by obtain ⟨g, g1, g2⟩ := wb; exact ⟨g, by rw [List.getElem?_set_ne (by decide)]; exact g1, g2⟩, by obtain ⟨g, g1, g2⟩ := wk; exact ⟨g, by rw [List.getElem?_set_ne (by decide)]; exact g1, g2⟩⟩, a0, a1, a2, hg, a4, a5, a6, a7⟩
theorem md_V.eqbf {D : va_G} {b : Nat} {M : List va_E} {R T Ti Bf P F L Rw : Nat → Nat} {kp we : Bool} {td aa so lo ro : Nat} {U : Nat → Nat} (h : md_V D b M R T Ti Bf P F L Rw kp td aa we so lo ro) (he : ∀ i, i < 144 → Bf i = U i) : md_V D b M R T Ti U P F L Rw kp td aa we so lo ro := by
  obtain ⟨rf, nw, th, bf, tp, fl, li, rw, ⟨w0, w1, w2, w3, w4, w5, w6, w7, w8, wb, wk⟩, a0, a1, a2, a3, a4, a5, a6, a7⟩ := h
  exact ⟨rf, nw, th, bf, tp, fl, li, rw, ⟨w0, w1, w2, w3, w4, w5, w6, w7, w8, wb, wk⟩, a0, a1, a2, a3.eq he, a4, a5, a6, a7⟩
theorem md_V.settp {D : va_G} {b : Nat} {M : List va_E} {R T Ti Bf P F L Rw : Nat → Nat} {kp we : Bool} {td aa so lo ro : Nat} {g : Nat → Int32} {U : Nat → Nat} (h : md_V D b M R T Ti Bf P F L Rw kp td aa we so lo ro) (hg : md_A 64 g U) : md_V D b ((M.set 48 (aI D 64 g))) R T Ti Bf U F L Rw kp td aa we so lo ro := by
  obtain ⟨rf, nw, th, bf, tp, fl, li, rw, ⟨w0, w1, w2, w3, w4, w5, w6, w7, w8, wb, wk⟩, a0, a1, a2, a3, a4, a5, a6, a7⟩ := h
  have hl := (List.getElem?_eq_some_iff.mp w5).1
  exact ⟨rf, nw, th, bf, g, fl, li, rw, ⟨by rw [List.getElem?_set_ne (by decide)]; exact w0, by rw [List.getElem?_set_ne (by decide)]; exact w1, by rw [List.getElem?_set_ne (by decide)]; exact w2, by rw [List.getElem?_set_ne (by decide)]; exact w3, by rw [List.getElem?_set_ne (by decide)]; exact w4, by rw [List.getElem?_set_self hl], by rw [List.getElem?_set_ne (by decide)]; exact w6, by rw [List.getElem?_set_ne (by decide)]; exact w7, by rw [List.getElem?_set_ne (by decide)]; exact w8, by obtain ⟨g, g1, g2⟩ := wb; exact ⟨g, by rw [List.getElem?_set_ne (by decide)]; exact g1, g2⟩, by obtain ⟨g, g1, g2⟩ := wk; exact ⟨g, by rw [List.getElem?_set_ne (by decide)]; exact g1, g2⟩⟩, a0, a1, a2, a3, hg, a5, a6, a7⟩
theorem md_V.eqtp {D : va_G} {b : Nat} {M : List va_E} {R T Ti Bf P F L Rw : Nat → Nat} {kp we : Bool} {td aa so lo ro : Nat} {U : Nat → Nat} (h : md_V D b M R T Ti Bf P F L Rw kp td aa we so lo ro) (he : ∀ i, i < 64 → P i = U i) : md_V D b M R T Ti Bf U F L Rw kp td aa we so lo ro := by
  obtain ⟨rf, nw, th, bf, tp, fl, li, rw, ⟨w0, w1, w2, w3, w4, w5, w6, w7, w8, wb, wk⟩, a0, a1, a2, a3, a4, a5, a6, a7⟩ := h
  exact ⟨rf, nw, th, bf, tp, fl, li, rw, ⟨w0, w1, w2, w3, w4, w5, w6, w7, w8, wb, wk⟩, a0, a1, a2, a3, a4.eq he, a5, a6, a7⟩
theorem md_V.setfl {D : va_G} {b : Nat} {M : List va_E} {R T Ti Bf P F L Rw : Nat → Nat} {kp we : Bool} {td aa so lo ro : Nat} {g : Nat → Int32} {U : Nat → Nat} (h : md_V D b M R T Ti Bf P F L Rw kp td aa we so lo ro) (hg : md_A 4 g U) : md_V D b ((M.set 51 (aI D 4 g))) R T Ti Bf P U L Rw kp td aa we so lo ro := by
  obtain ⟨rf, nw, th, bf, tp, fl, li, rw, ⟨w0, w1, w2, w3, w4, w5, w6, w7, w8, wb, wk⟩, a0, a1, a2, a3, a4, a5, a6, a7⟩ := h
  have hl := (List.getElem?_eq_some_iff.mp w6).1
  exact ⟨rf, nw, th, bf, tp, g, li, rw, ⟨by rw [List.getElem?_set_ne (by decide)]; exact w0, by rw [List.getElem?_set_ne (by decide)]; exact w1, by rw [List.getElem?_set_ne (by decide)]; exact w2, by rw [List.getElem?_set_ne (by decide)]; exact w3, by rw [List.getElem?_set_ne (by decide)]; exact w4, by rw [List.getElem?_set_ne (by decide)]; exact w5, by rw [List.getElem?_set_self hl], by rw [List.getElem?_set_ne (by decide)]; exact w7, by rw [List.getElem?_set_ne (by decide)]; exact w8, by obtain ⟨g, g1, g2⟩ := wb; exact ⟨g, by rw [List.getElem?_set_ne (by decide)]; exact g1, g2⟩, by obtain ⟨g, g1, g2⟩ := wk; exact ⟨g, by rw [List.getElem?_set_ne (by decide)]; exact g1, g2⟩⟩, a0, a1, a2, a3, a4, hg, a6, a7⟩
theorem md_V.eqfl {D : va_G} {b : Nat} {M : List va_E} {R T Ti Bf P F L Rw : Nat → Nat} {kp we : Bool} {td aa so lo ro : Nat} {U : Nat → Nat} (h : md_V D b M R T Ti Bf P F L Rw kp td aa we so lo ro) (he : ∀ i, i < 4 → F i = U i) : md_V D b M R T Ti Bf P U L Rw kp td aa we so lo ro := by
  obtain ⟨rf, nw, th, bf, tp, fl, li, rw, ⟨w0, w1, w2, w3, w4, w5, w6, w7, w8, wb, wk⟩, a0, a1, a2, a3, a4, a5, a6, a7⟩ := h
  exact ⟨rf, nw, th, bf, tp, fl, li, rw, ⟨w0, w1, w2, w3, w4, w5, w6, w7, w8, wb, wk⟩, a0, a1, a2, a3, a4, a5.eq he, a6, a7⟩
theorem md_V.setli {D : va_G} {b : Nat} {M : List va_E} {R T Ti Bf P F L Rw : Nat → Nat} {kp we : Bool} {td aa so lo ro : Nat} {g : Nat → Int32} {U : Nat → Nat} (h : md_V D b M R T Ti Bf P F L Rw kp td aa we so lo ro) (hg : md_A 36 g U) : md_V D b ((M.set 52 (aI D 36 g))) R T Ti Bf P F U Rw kp td aa we so lo ro := by
  obtain ⟨rf, nw, th, bf, tp, fl, li, rw, ⟨w0, w1, w2, w3, w4, w5, w6, w7, w8, wb, wk⟩, a0, a1, a2, a3, a4, a5, a6, a7⟩ := h
  have hl := (List.getElem?_eq_some_iff.mp w7).1
  exact ⟨rf, nw, th, bf, tp, fl, g, rw, ⟨by rw [List.getElem?_set_ne (by decide)]; exact w0, by rw [List.getElem?_set_ne (by decide)]; exact w1, by rw [List.getElem?_set_ne (by decide)]; exact w2, by rw [List.getElem?_set_ne (by decide)]; exact w3, by rw [List.getElem?_set_ne (by decide)]; exact w4, by rw [List.getElem?_set_ne (by decide)]; exact w5, by rw [List.getElem?_set_ne (by decide)]; exact w6, by rw [List.getElem?_set_self hl], by rw [List.getElem?_set_ne (by decide)]; exact w8, by obtain ⟨g, g1, g2⟩ := wb; exact ⟨g, by rw [List.getElem?_set_ne (by decide)]; exact g1, g2⟩, by obtain ⟨g, g1, g2⟩ := wk; exact ⟨g, by rw [List.getElem?_set_ne (by decide)]; exact g1, g2⟩⟩, a0, a1, a2, a3, a4, a5, hg, a7⟩
theorem md_V.eqli {D : va_G} {b : Nat} {M : List va_E} {R T Ti Bf P F L Rw : Nat → Nat} {kp we : Bool} {td aa so lo ro : Nat} {U : Nat → Nat} (h : md_V D b M R T Ti Bf P F L Rw kp td aa we so lo ro) (he : ∀ i, i < 36 → L i = U i) : md_V D b M R T Ti Bf P F U Rw kp td aa we so lo ro := by
  obtain ⟨rf, nw, th, bf, tp, fl, li, rw, ⟨w0, w1, w2, w3, w4, w5, w6, w7, w8, wb, wk⟩, a0, a1, a2, a3, a4, a5, a6, a7⟩ := h
  exact ⟨rf, nw, th, bf, tp, fl, li, rw, ⟨w0, w1, w2, w3, w4, w5, w6, w7, w8, wb, wk⟩, a0, a1, a2, a3, a4, a5, a6.eq he, a7⟩
theorem md_V.setrw {D : va_G} {b : Nat} {M : List va_E} {R T Ti Bf P F L Rw : Nat → Nat} {kp we : Bool} {td aa so lo ro : Nat} {g : Nat → Int32} {U : Nat → Nat} (h : md_V D b M R T Ti Bf P F L Rw kp td aa we so lo ro) (hg : md_A 12 g U) : md_V D b ((M.set 53 (aI D 12 g))) R T Ti Bf P F L U kp td aa we so lo ro := by
  obtain ⟨rf, nw, th, bf, tp, fl, li, rw, ⟨w0, w1, w2, w3, w4, w5, w6, w7, w8, wb, wk⟩, a0, a1, a2, a3, a4, a5, a6, a7⟩ := h
  have hl := (List.getElem?_eq_some_iff.mp w8).1
  exact ⟨rf, nw, th, bf, tp, fl, li, g, ⟨by rw [List.getElem?_set_ne (by decide)]; exact w0, by rw [List.getElem?_set_ne (by decide)]; exact w1, by rw [List.getElem?_set_ne (by decide)]; exact w2, by rw [List.getElem?_set_ne (by decide)]; exact w3, by rw [List.getElem?_set_ne (by decide)]; exact w4, by rw [List.getElem?_set_ne (by decide)]; exact w5, by rw [List.getElem?_set_ne (by decide)]; exact w6, by rw [List.getElem?_set_ne (by decide)]; exact w7, by rw [List.getElem?_set_self hl], by obtain ⟨g, g1, g2⟩ := wb; exact ⟨g, by rw [List.getElem?_set_ne (by decide)]; exact g1, g2⟩, by obtain ⟨g, g1, g2⟩ := wk; exact ⟨g, by rw [List.getElem?_set_ne (by decide)]; exact g1, g2⟩⟩, a0, a1, a2, a3, a4, a5, a6, hg⟩
theorem md_V.eqrw {D : va_G} {b : Nat} {M : List va_E} {R T Ti Bf P F L Rw : Nat → Nat} {kp we : Bool} {td aa so lo ro : Nat} {U : Nat → Nat} (h : md_V D b M R T Ti Bf P F L Rw kp td aa we so lo ro) (he : ∀ i, i < 12 → Rw i = U i) : md_V D b M R T Ti Bf P F L U kp td aa we so lo ro := by
  obtain ⟨rf, nw, th, bf, tp, fl, li, rw, ⟨w0, w1, w2, w3, w4, w5, w6, w7, w8, wb, wk⟩, a0, a1, a2, a3, a4, a5, a6, a7⟩ := h
  exact ⟨rf, nw, th, bf, tp, fl, li, rw, ⟨w0, w1, w2, w3, w4, w5, w6, w7, w8, wb, wk⟩, a0, a1, a2, a3, a4, a5, a6, a7.eq he⟩
/-- nothing but the reference's cells has changed -/
def md_F (M M' : List va_E) : Prop := M'.length = M.length ∧ ∀ j : Nat, (j < 43 ∨ 54 ≤ j) → M'[j]? = M[j]?
theorem md_F.rf (M : List va_E) : md_F M M := ⟨rfl, fun _ _ => rfl⟩
theorem md_F.tr {M M1 M2 : List va_E} (h1 : md_F M M1) (h2 : md_F M1 M2) : md_F M M2 := ⟨h2.1.trans h1.1, fun j hj => (h2.2 j hj).trans (h1.2 j hj)⟩
theorem md_F.st {M M1 : List va_E} (h : md_F M M1) (k : Nat) (e : va_E) (hk : 43 ≤ k ∧ k < 54) : md_F M (M1.set k e) := ⟨by rw [List.length_set]; exact h.1, fun j hj => by rw [List.getElem?_set_ne (by omega)]; exact h.2 j hj⟩
theorem mv_ld_refused {x : fb_X} {cc : ByteArray} {own nm : String} {M : List va_E} {k n pc q : Nat} {lv : List (Option Value)} {st : List Value} {R T Ti Bf P F L Rw : Nat → Nat} {kp we : Bool} {td aa so lo ro : Nat} {i : Nat} (C : fb_OK x cc own nm) (hV : md_V (cx_D x) (cx_b x) M R T Ti Bf P F L Rw kp td aa we so lo ro) (hi : i < 7) (d : decode cc pc = .ok (.iaload, 1)) (hq : pc + 1 = q) (kk : fb_G x M k n q lv (.int (nI (R i)) :: st)) : fb_G x M k n pc lv (.int (nI i) :: .ref (cx_b x + 44) :: st) := by
  obtain ⟨g, g1, g2⟩ := hV.rf
  exact gx_iald C g1 hi (by decide) (g2 i hi) d hq kk
theorem mv_st_refused {x : fb_X} {cc : ByteArray} {own nm : String} {M M0 : List va_E} {k n pc q : Nat} {lv : List (Option Value)} {st : List Value} {R T Ti Bf P F L Rw : Nat → Nat} {kp we : Bool} {td aa so lo ro : Nat} {i v : Nat} (C : fb_OK x cc own nm) (hV : md_V (cx_D x) (cx_b x) M R T Ti Bf P F L Rw kp td aa we so lo ro) (hF : md_F M0 M) (hi : i < 7) (d : decode cc pc = .ok (.iastore, 1)) (hq : pc + 1 = q) (kk : ∀ M' : List va_E, md_V (cx_D x) (cx_b x) M' (updN R i v) T Ti Bf P F L Rw kp td aa we so lo ro → md_F M0 M' → fb_G x M' k n q lv st) : fb_G x M k n pc lv (.int (nI v) :: .int (nI i) :: .ref (cx_b x + 44) :: st) := by
  obtain ⟨g, g1, g2⟩ := hV.rf
  exact gx_iast C g1 hi (by decide) d hq (kk _ (hV.setrf (g2.up i v)) (hF.st 44 _ (by decide)))
theorem mv_ld_now {x : fb_X} {cc : ByteArray} {own nm : String} {M : List va_E} {k n pc q : Nat} {lv : List (Option Value)} {st : List Value} {R T Ti Bf P F L Rw : Nat → Nat} {kp we : Bool} {td aa so lo ro : Nat} {i : Nat} (C : fb_OK x cc own nm) (hV : md_V (cx_D x) (cx_b x) M R T Ti Bf P F L Rw kp td aa we so lo ro) (hi : i < 144) (d : decode cc pc = .ok (.iaload, 1)) (hq : pc + 1 = q) (kk : fb_G x M k n q lv (.int (nI (T i)) :: st)) : fb_G x M k n pc lv (.int (nI i) :: .ref (cx_b x + 45) :: st) := by
  obtain ⟨g, g1, g2⟩ := hV.nw
  exact gx_iald C g1 hi (by decide) (g2 i hi) d hq kk
theorem mv_st_now {x : fb_X} {cc : ByteArray} {own nm : String} {M M0 : List va_E} {k n pc q : Nat} {lv : List (Option Value)} {st : List Value} {R T Ti Bf P F L Rw : Nat → Nat} {kp we : Bool} {td aa so lo ro : Nat} {i v : Nat} (C : fb_OK x cc own nm) (hV : md_V (cx_D x) (cx_b x) M R T Ti Bf P F L Rw kp td aa we so lo ro) (hF : md_F M0 M) (hi : i < 144) (d : decode cc pc = .ok (.iastore, 1)) (hq : pc + 1 = q) (kk : ∀ M' : List va_E, md_V (cx_D x) (cx_b x) M' R (updN T i v) Ti Bf P F L Rw kp td aa we so lo ro → md_F M0 M' → fb_G x M' k n q lv st) : fb_G x M k n pc lv (.int (nI v) :: .int (nI i) :: .ref (cx_b x + 45) :: st) := by
  obtain ⟨g, g1, g2⟩ := hV.nw
  exact gx_iast C g1 hi (by decide) d hq (kk _ (hV.setnw (g2.up i v)) (hF.st 45 _ (by decide)))
theorem mv_ld_then {x : fb_X} {cc : ByteArray} {own nm : String} {M : List va_E} {k n pc q : Nat} {lv : List (Option Value)} {st : List Value} {R T Ti Bf P F L Rw : Nat → Nat} {kp we : Bool} {td aa so lo ro : Nat} {i : Nat} (C : fb_OK x cc own nm) (hV : md_V (cx_D x) (cx_b x) M R T Ti Bf P F L Rw kp td aa we so lo ro) (hi : i < 144) (d : decode cc pc = .ok (.iaload, 1)) (hq : pc + 1 = q) (kk : fb_G x M k n q lv (.int (nI (Ti i)) :: st)) : fb_G x M k n pc lv (.int (nI i) :: .ref (cx_b x + 46) :: st) := by
  obtain ⟨g, g1, g2⟩ := hV.th
  exact gx_iald C g1 hi (by decide) (g2 i hi) d hq kk
theorem mv_st_then {x : fb_X} {cc : ByteArray} {own nm : String} {M M0 : List va_E} {k n pc q : Nat} {lv : List (Option Value)} {st : List Value} {R T Ti Bf P F L Rw : Nat → Nat} {kp we : Bool} {td aa so lo ro : Nat} {i v : Nat} (C : fb_OK x cc own nm) (hV : md_V (cx_D x) (cx_b x) M R T Ti Bf P F L Rw kp td aa we so lo ro) (hF : md_F M0 M) (hi : i < 144) (d : decode cc pc = .ok (.iastore, 1)) (hq : pc + 1 = q) (kk : ∀ M' : List va_E, md_V (cx_D x) (cx_b x) M' R T (updN Ti i v) Bf P F L Rw kp td aa we so lo ro → md_F M0 M' → fb_G x M' k n q lv st) : fb_G x M k n pc lv (.int (nI v) :: .int (nI i) :: .ref (cx_b x + 46) :: st) := by
  obtain ⟨g, g1, g2⟩ := hV.th
  exact gx_iast C g1 hi (by decide) d hq (kk _ (hV.setth (g2.up i v)) (hF.st 46 _ (by decide)))
theorem mv_ld_before {x : fb_X} {cc : ByteArray} {own nm : String} {M : List va_E} {k n pc q : Nat} {lv : List (Option Value)} {st : List Value} {R T Ti Bf P F L Rw : Nat → Nat} {kp we : Bool} {td aa so lo ro : Nat} {i : Nat} (C : fb_OK x cc own nm) (hV : md_V (cx_D x) (cx_b x) M R T Ti Bf P F L Rw kp td aa we so lo ro) (hi : i < 144) (d : decode cc pc = .ok (.iaload, 1)) (hq : pc + 1 = q) (kk : fb_G x M k n q lv (.int (nI (Bf i)) :: st)) : fb_G x M k n pc lv (.int (nI i) :: .ref (cx_b x + 47) :: st) := by
  obtain ⟨g, g1, g2⟩ := hV.bf
  exact gx_iald C g1 hi (by decide) (g2 i hi) d hq kk
theorem mv_st_before {x : fb_X} {cc : ByteArray} {own nm : String} {M M0 : List va_E} {k n pc q : Nat} {lv : List (Option Value)} {st : List Value} {R T Ti Bf P F L Rw : Nat → Nat} {kp we : Bool} {td aa so lo ro : Nat} {i v : Nat} (C : fb_OK x cc own nm) (hV : md_V (cx_D x) (cx_b x) M R T Ti Bf P F L Rw kp td aa we so lo ro) (hF : md_F M0 M) (hi : i < 144) (d : decode cc pc = .ok (.iastore, 1)) (hq : pc + 1 = q) (kk : ∀ M' : List va_E, md_V (cx_D x) (cx_b x) M' R T Ti (updN Bf i v) P F L Rw kp td aa we so lo ro → md_F M0 M' → fb_G x M' k n q lv st) : fb_G x M k n pc lv (.int (nI v) :: .int (nI i) :: .ref (cx_b x + 47) :: st) := by
  obtain ⟨g, g1, g2⟩ := hV.bf
  exact gx_iast C g1 hi (by decide) d hq (kk _ (hV.setbf (g2.up i v)) (hF.st 47 _ (by decide)))
theorem mv_ld_tape {x : fb_X} {cc : ByteArray} {own nm : String} {M : List va_E} {k n pc q : Nat} {lv : List (Option Value)} {st : List Value} {R T Ti Bf P F L Rw : Nat → Nat} {kp we : Bool} {td aa so lo ro : Nat} {i : Nat} (C : fb_OK x cc own nm) (hV : md_V (cx_D x) (cx_b x) M R T Ti Bf P F L Rw kp td aa we so lo ro) (hi : i < 64) (d : decode cc pc = .ok (.iaload, 1)) (hq : pc + 1 = q) (kk : fb_G x M k n q lv (.int (nI (P i)) :: st)) : fb_G x M k n pc lv (.int (nI i) :: .ref (cx_b x + 48) :: st) := by
  obtain ⟨g, g1, g2⟩ := hV.tp
  exact gx_iald C g1 hi (by decide) (g2 i hi) d hq kk
theorem mv_st_tape {x : fb_X} {cc : ByteArray} {own nm : String} {M M0 : List va_E} {k n pc q : Nat} {lv : List (Option Value)} {st : List Value} {R T Ti Bf P F L Rw : Nat → Nat} {kp we : Bool} {td aa so lo ro : Nat} {i v : Nat} (C : fb_OK x cc own nm) (hV : md_V (cx_D x) (cx_b x) M R T Ti Bf P F L Rw kp td aa we so lo ro) (hF : md_F M0 M) (hi : i < 64) (d : decode cc pc = .ok (.iastore, 1)) (hq : pc + 1 = q) (kk : ∀ M' : List va_E, md_V (cx_D x) (cx_b x) M' R T Ti Bf (updN P i v) F L Rw kp td aa we so lo ro → md_F M0 M' → fb_G x M' k n q lv st) : fb_G x M k n pc lv (.int (nI v) :: .int (nI i) :: .ref (cx_b x + 48) :: st) := by
  obtain ⟨g, g1, g2⟩ := hV.tp
  exact gx_iast C g1 hi (by decide) d hq (kk _ (hV.settp (g2.up i v)) (hF.st 48 _ (by decide)))
theorem mv_ld_field {x : fb_X} {cc : ByteArray} {own nm : String} {M : List va_E} {k n pc q : Nat} {lv : List (Option Value)} {st : List Value} {R T Ti Bf P F L Rw : Nat → Nat} {kp we : Bool} {td aa so lo ro : Nat} {i : Nat} (C : fb_OK x cc own nm) (hV : md_V (cx_D x) (cx_b x) M R T Ti Bf P F L Rw kp td aa we so lo ro) (hi : i < 4) (d : decode cc pc = .ok (.iaload, 1)) (hq : pc + 1 = q) (kk : fb_G x M k n q lv (.int (nI (F i)) :: st)) : fb_G x M k n pc lv (.int (nI i) :: .ref (cx_b x + 51) :: st) := by
  obtain ⟨g, g1, g2⟩ := hV.fl
  exact gx_iald C g1 hi (by decide) (g2 i hi) d hq kk
theorem mv_st_field {x : fb_X} {cc : ByteArray} {own nm : String} {M M0 : List va_E} {k n pc q : Nat} {lv : List (Option Value)} {st : List Value} {R T Ti Bf P F L Rw : Nat → Nat} {kp we : Bool} {td aa so lo ro : Nat} {i v : Nat} (C : fb_OK x cc own nm) (hV : md_V (cx_D x) (cx_b x) M R T Ti Bf P F L Rw kp td aa we so lo ro) (hF : md_F M0 M) (hi : i < 4) (d : decode cc pc = .ok (.iastore, 1)) (hq : pc + 1 = q) (kk : ∀ M' : List va_E, md_V (cx_D x) (cx_b x) M' R T Ti Bf P (updN F i v) L Rw kp td aa we so lo ro → md_F M0 M' → fb_G x M' k n q lv st) : fb_G x M k n pc lv (.int (nI v) :: .int (nI i) :: .ref (cx_b x + 51) :: st) := by
  obtain ⟨g, g1, g2⟩ := hV.fl
  exact gx_iast C g1 hi (by decide) d hq (kk _ (hV.setfl (g2.up i v)) (hF.st 51 _ (by decide)))
theorem mv_ld_lies {x : fb_X} {cc : ByteArray} {own nm : String} {M : List va_E} {k n pc q : Nat} {lv : List (Option Value)} {st : List Value} {R T Ti Bf P F L Rw : Nat → Nat} {kp we : Bool} {td aa so lo ro : Nat} {i : Nat} (C : fb_OK x cc own nm) (hV : md_V (cx_D x) (cx_b x) M R T Ti Bf P F L Rw kp td aa we so lo ro) (hi : i < 36) (d : decode cc pc = .ok (.iaload, 1)) (hq : pc + 1 = q) (kk : fb_G x M k n q lv (.int (nI (L i)) :: st)) : fb_G x M k n pc lv (.int (nI i) :: .ref (cx_b x + 52) :: st) := by
  obtain ⟨g, g1, g2⟩ := hV.li
  exact gx_iald C g1 hi (by decide) (g2 i hi) d hq kk
theorem mv_st_lies {x : fb_X} {cc : ByteArray} {own nm : String} {M M0 : List va_E} {k n pc q : Nat} {lv : List (Option Value)} {st : List Value} {R T Ti Bf P F L Rw : Nat → Nat} {kp we : Bool} {td aa so lo ro : Nat} {i v : Nat} (C : fb_OK x cc own nm) (hV : md_V (cx_D x) (cx_b x) M R T Ti Bf P F L Rw kp td aa we so lo ro) (hF : md_F M0 M) (hi : i < 36) (d : decode cc pc = .ok (.iastore, 1)) (hq : pc + 1 = q) (kk : ∀ M' : List va_E, md_V (cx_D x) (cx_b x) M' R T Ti Bf P F (updN L i v) Rw kp td aa we so lo ro → md_F M0 M' → fb_G x M' k n q lv st) : fb_G x M k n pc lv (.int (nI v) :: .int (nI i) :: .ref (cx_b x + 52) :: st) := by
  obtain ⟨g, g1, g2⟩ := hV.li
  exact gx_iast C g1 hi (by decide) d hq (kk _ (hV.setli (g2.up i v)) (hF.st 52 _ (by decide)))
theorem mv_ld_row {x : fb_X} {cc : ByteArray} {own nm : String} {M : List va_E} {k n pc q : Nat} {lv : List (Option Value)} {st : List Value} {R T Ti Bf P F L Rw : Nat → Nat} {kp we : Bool} {td aa so lo ro : Nat} {i : Nat} (C : fb_OK x cc own nm) (hV : md_V (cx_D x) (cx_b x) M R T Ti Bf P F L Rw kp td aa we so lo ro) (hi : i < 12) (d : decode cc pc = .ok (.iaload, 1)) (hq : pc + 1 = q) (kk : fb_G x M k n q lv (.int (nI (Rw i)) :: st)) : fb_G x M k n pc lv (.int (nI i) :: .ref (cx_b x + 53) :: st) := by
  obtain ⟨g, g1, g2⟩ := hV.rw
  exact gx_iald C g1 hi (by decide) (g2 i hi) d hq kk
theorem mv_st_row {x : fb_X} {cc : ByteArray} {own nm : String} {M M0 : List va_E} {k n pc q : Nat} {lv : List (Option Value)} {st : List Value} {R T Ti Bf P F L Rw : Nat → Nat} {kp we : Bool} {td aa so lo ro : Nat} {i v : Nat} (C : fb_OK x cc own nm) (hV : md_V (cx_D x) (cx_b x) M R T Ti Bf P F L Rw kp td aa we so lo ro) (hF : md_F M0 M) (hi : i < 12) (d : decode cc pc = .ok (.iastore, 1)) (hq : pc + 1 = q) (kk : ∀ M' : List va_E, md_V (cx_D x) (cx_b x) M' R T Ti Bf P F L (updN Rw i v) kp td aa we so lo ro → md_F M0 M' → fb_G x M' k n q lv st) : fb_G x M k n pc lv (.int (nI v) :: .int (nI i) :: .ref (cx_b x + 53) :: st) := by
  obtain ⟨g, g1, g2⟩ := hV.rw
  exact gx_iast C g1 hi (by decide) d hq (kk _ (hV.setrw (g2.up i v)) (hF.st 53 _ (by decide)))
theorem mv_ld_begins {x : fb_X} {cc : ByteArray} {own nm : String} {M : List va_E} {k n pc q : Nat} {lv : List (Option Value)} {st : List Value} {R T Ti Bf P F L Rw : Nat → Nat} {kp we : Bool} {td aa so lo ro : Nat} {i : Nat} (C : fb_OK x cc own nm) (hV : md_V (cx_D x) (cx_b x) M R T Ti Bf P F L Rw kp td aa we so lo ro) (hi : i < 7) (d : decode cc pc = .ok (.caload, 1)) (hq : pc + 1 = q) (kk : fb_G x M k n q lv (.int (nI (md_bg i)) :: st)) : fb_G x M k n pc lv (.int (nI i) :: .ref (cx_b x + 49) :: st) := by
  obtain ⟨g, g1, g2⟩ := hV.bg
  exact gx_cald C g1 hi (by decide) (g2 i hi) d hq kk
theorem mv_ld_kinds {x : fb_X} {cc : ByteArray} {own nm : String} {M : List va_E} {k n pc q : Nat} {lv : List (Option Value)} {st : List Value} {R T Ti Bf P F L Rw : Nat → Nat} {kp we : Bool} {td aa so lo ro : Nat} {i : Nat} (C : fb_OK x cc own nm) (hV : md_V (cx_D x) (cx_b x) M R T Ti Bf P F L Rw kp td aa we so lo ro) (hi : i < 6) (d : decode cc pc = .ok (.caload, 1)) (hq : pc + 1 = q) (kk : fb_G x M k n q lv (.int (nI (md_kd i)) :: st)) : fb_G x M k n pc lv (.int (nI i) :: .ref (cx_b x + 50) :: st) := by
  obtain ⟨g, g1, g2⟩ := hV.kd
  exact gx_cald C g1 hi (by decide) (g2 i hi) d hq kk
theorem mv_pf_kept {x : fb_X} {cc : ByteArray} {nm : String} {M M0 : List va_E} {k n pc q : Nat} {lv : List (Option Value)} {st : List Value} {R T Ti Bf P F L Rw : Nat → Nat} {kp we : Bool} {td aa so lo ro : Nat} {v : Bool} (C : fb_OK x cc "FallsBetweenModel" nm) (hV : md_V (cx_D x) (cx_b x) M R T Ti Bf P F L Rw kp td aa we so lo ro) (hF : md_F M0 M) (d : decode cc pc = .ok (.putfield 41, 3)) (hq : pc + 3 = q) (kk : ∀ M' : List va_E, md_V (cx_D x) (cx_b x) M' R T Ti Bf P F L Rw v td aa we so lo ro → md_F M0 M' → fb_G x M' k n q lv st) : fb_G x M k n pc lv (.int (bI v) :: .ref (cx_b x + 43) :: st) := fp_X7_41 C hV.o (bI_nar v) (by cases v <;> rfl) rfl d hq (kk _ hV.seto (hF.st 43 _ (by decide)))
theorem mv_pf_taped {x : fb_X} {cc : ByteArray} {nm : String} {M M0 : List va_E} {k n pc q : Nat} {lv : List (Option Value)} {st : List Value} {R T Ti Bf P F L Rw : Nat → Nat} {kp we : Bool} {td aa so lo ro : Nat} {v : Nat} (C : fb_OK x cc "FallsBetweenModel" nm) (hV : md_V (cx_D x) (cx_b x) M R T Ti Bf P F L Rw kp td aa we so lo ro) (hF : md_F M0 M) (d : decode cc pc = .ok (.putfield 53, 3)) (hq : pc + 3 = q) (kk : ∀ M' : List va_E, md_V (cx_D x) (cx_b x) M' R T Ti Bf P F L Rw kp v aa we so lo ro → md_F M0 M' → fb_G x M' k n q lv st) : fb_G x M k n pc lv (.int (nI v) :: .ref (cx_b x + 43) :: st) := fp_X7_53 C hV.o rfl d hq (kk _ hV.seto (hF.st 43 _ (by decide)))
theorem mv_pf_at {x : fb_X} {cc : ByteArray} {nm : String} {M M0 : List va_E} {k n pc q : Nat} {lv : List (Option Value)} {st : List Value} {R T Ti Bf P F L Rw : Nat → Nat} {kp we : Bool} {td aa so lo ro : Nat} {v : Nat} (C : fb_OK x cc "FallsBetweenModel" nm) (hV : md_V (cx_D x) (cx_b x) M R T Ti Bf P F L Rw kp td aa we so lo ro) (hF : md_F M0 M) (d : decode cc pc = .ok (.putfield 60, 3)) (hq : pc + 3 = q) (kk : ∀ M' : List va_E, md_V (cx_D x) (cx_b x) M' R T Ti Bf P F L Rw kp td v we so lo ro → md_F M0 M' → fb_G x M' k n q lv st) : fb_G x M k n pc lv (.int (nI v) :: .ref (cx_b x + 43) :: st) := fp_X7_60 C hV.o rfl d hq (kk _ hV.seto (hF.st 43 _ (by decide)))
theorem mv_pf_well {x : fb_X} {cc : ByteArray} {nm : String} {M M0 : List va_E} {k n pc q : Nat} {lv : List (Option Value)} {st : List Value} {R T Ti Bf P F L Rw : Nat → Nat} {kp we : Bool} {td aa so lo ro : Nat} {v : Bool} (C : fb_OK x cc "FallsBetweenModel" nm) (hV : md_V (cx_D x) (cx_b x) M R T Ti Bf P F L Rw kp td aa we so lo ro) (hF : md_F M0 M) (d : decode cc pc = .ok (.putfield 57, 3)) (hq : pc + 3 = q) (kk : ∀ M' : List va_E, md_V (cx_D x) (cx_b x) M' R T Ti Bf P F L Rw kp td aa v so lo ro → md_F M0 M' → fb_G x M' k n q lv st) : fb_G x M k n pc lv (.int (bI v) :: .ref (cx_b x + 43) :: st) := fp_X7_57 C hV.o (bI_nar v) (by cases v <;> rfl) rfl d hq (kk _ hV.seto (hF.st 43 _ (by decide)))
theorem mv_pf_sort {x : fb_X} {cc : ByteArray} {nm : String} {M M0 : List va_E} {k n pc q : Nat} {lv : List (Option Value)} {st : List Value} {R T Ti Bf P F L Rw : Nat → Nat} {kp we : Bool} {td aa so lo ro : Nat} {v : Nat} (C : fb_OK x cc "FallsBetweenModel" nm) (hV : md_V (cx_D x) (cx_b x) M R T Ti Bf P F L Rw kp td aa we so lo ro) (hF : md_F M0 M) (d : decode cc pc = .ok (.putfield 67, 3)) (hq : pc + 3 = q) (kk : ∀ M' : List va_E, md_V (cx_D x) (cx_b x) M' R T Ti Bf P F L Rw kp td aa we v lo ro → md_F M0 M' → fb_G x M' k n q lv st) : fb_G x M k n pc lv (.int (nI v) :: .ref (cx_b x + 43) :: st) := fp_X7_67 C hV.o rfl d hq (kk _ hV.seto (hF.st 43 _ (by decide)))
theorem mv_pf_lost {x : fb_X} {cc : ByteArray} {nm : String} {M M0 : List va_E} {k n pc q : Nat} {lv : List (Option Value)} {st : List Value} {R T Ti Bf P F L Rw : Nat → Nat} {kp we : Bool} {td aa so lo ro : Nat} {v : Nat} (C : fb_OK x cc "FallsBetweenModel" nm) (hV : md_V (cx_D x) (cx_b x) M R T Ti Bf P F L Rw kp td aa we so lo ro) (hF : md_F M0 M) (d : decode cc pc = .ok (.putfield 111, 3)) (hq : pc + 3 = q) (kk : ∀ M' : List va_E, md_V (cx_D x) (cx_b x) M' R T Ti Bf P F L Rw kp td aa we so v ro → md_F M0 M' → fb_G x M' k n q lv st) : fb_G x M k n pc lv (.int (nI v) :: .ref (cx_b x + 43) :: st) := fp_X7_111 C hV.o rfl d hq (kk _ hV.seto (hF.st 43 _ (by decide)))
theorem mv_pf_rows {x : fb_X} {cc : ByteArray} {nm : String} {M M0 : List va_E} {k n pc q : Nat} {lv : List (Option Value)} {st : List Value} {R T Ti Bf P F L Rw : Nat → Nat} {kp we : Bool} {td aa so lo ro : Nat} {v : Nat} (C : fb_OK x cc "FallsBetweenModel" nm) (hV : md_V (cx_D x) (cx_b x) M R T Ti Bf P F L Rw kp td aa we so lo ro) (hF : md_F M0 M) (d : decode cc pc = .ok (.putfield 151, 3)) (hq : pc + 3 = q) (kk : ∀ M' : List va_E, md_V (cx_D x) (cx_b x) M' R T Ti Bf P F L Rw kp td aa we so lo v → md_F M0 M' → fb_G x M' k n q lv st) : fb_G x M k n pc lv (.int (nI v) :: .ref (cx_b x + 43) :: st) := fp_X7_151 C hV.o rfl d hq (kk _ hV.seto (hF.st 43 _ (by decide)))
set_option maxHeartbeats 4000000 in
theorem md_no (l : Launch) (D : va_G) (b : Nat) (M : List va_E) {R T Ti Bf P F L Rw : Nat → Nat} {kp we : Bool} {td aa so lo ro : Nat} (v : Int32) (w : Nat) (hv : -v = nI w) (hw : w < 7) (hV : md_V D b M R T Ti Bf P F L Rw kp td aa we so lo ro) : fb_CT l D b yX7_no cX7_no 2 (some .int) 0 0 0 0 [.ref (b + 43), .int v] M (.returned (some (.int v))) (fun M' => md_V D b M' (updN R w (R w + 1)) T Ti Bf P F L Rw kp td aa we so lo ro ∧ md_F M M') := by
  refine fb_start [some (.ref (b + 43)), some (.int v)] (by decide) (Nat.le_of_ble_eq_true rfl) rfl ?_
  intro x hl hD hb C E hx
  subst hl hD hb
  have C : fb_OK x cX7_no "FallsBetweenModel" "no" := C
  have hF := md_F.rf M
  refine gx_aload_n (q := 1) C dX7_no_0 rfl rfl rfl ?_
  refine fg_X7_7 (q := 4) C hV.o rfl dX7_no_1 rfl ?_
  refine gx_iload_n (q := 5) C dX7_no_4 rfl rfl rfl ?_
  refine gx_ineg (q := 6) C dX7_no_5 (hv) rfl ?_
  refine gx_dup2 (q := 7) C dX7_no_6 rfl rfl rfl ?_
  refine mv_ld_refused (q := 8) C hV (by omega) dX7_no_7 rfl ?_
  refine gx_iconst (q := 9) (v := nI 1) C dX7_no_8 (by decide) rfl ?_
  refine gn_iadd (q := 10) C dX7_no_9 rfl ?_
  refine mv_st_refused (q := 11) C hV hF (by omega) dX7_no_10 rfl (fun M hV hF => ?_)
  refine gx_iload_n (q := 12) C dX7_no_11 rfl rfl rfl ?_
  exact gx_iret C E dX7_no_12 (⟨hV, hF⟩) (by omega) (by omega)
set_option maxHeartbeats 4000000 in
theorem md_isNone_t (l : Launch) (D : va_G) (b : Nat) (M : List va_E) (v m : Int32) (h : v < 0 ∨ m ≤ v) : fb_CT l D b yX7_isNone cX7_isNone 2 (some .boolean) 0 0 0 0 [.int v, .int m] M (.returned (some (.int (bI true)))) (fun M' => M' = M) := by
  refine fb_start [some (.int v), some (.int m)] (by decide) (Nat.le_of_ble_eq_true rfl) rfl ?_
  intro x hl hD hb C E hx
  subst hl hD hb
  have C : fb_OK x cX7_isNone "FallsBetweenModel" "isNone" := C
  refine gx_iload_n (q := 1) C dX7_isNone_0 rfl rfl rfl ?_
  refine gx_if_lt (q := 4) (tgt := 9) C dX7_isNone_1 (by decide) rfl (fun c1 => ?_) (fun c1 => ?_)
  · refine gx_iconst (q := 10) (v := nI 1) C dX7_isNone_9 (by decide) rfl ?_
    refine gx_goto (tgt := 14) C dX7_isNone_10 (by decide) ?_
    exact gx_zret C E (by first | exact bI_nar _ | rfl) dX7_isNone_14 (rfl) (by omega) (by omega)
  · refine gx_iload_n (q := 5) C dX7_isNone_4 rfl rfl rfl ?_
    refine gx_iload_n (q := 6) C dX7_isNone_5 rfl rfl rfl ?_
    refine gx_icmp_lt (q := 9) (tgt := 13) C dX7_isNone_6 (by decide) rfl (fun c6 => by exfalso; exact Int32.not_le.mpr c6 (h.resolve_left c1)) (fun c6 => ?_)
    refine gx_iconst (q := 10) (v := nI 1) C dX7_isNone_9 (by decide) rfl ?_
    refine gx_goto (tgt := 14) C dX7_isNone_10 (by decide) ?_
    exact gx_zret C E (by first | exact bI_nar _ | rfl) dX7_isNone_14 (rfl) (by omega) (by omega)
set_option maxHeartbeats 4000000 in
theorem md_isNone_f (l : Launch) (D : va_G) (b : Nat) (M : List va_E) (v m : Int32) (h1 : ¬ v < 0) (h2 : ¬ m ≤ v) : fb_CT l D b yX7_isNone cX7_isNone 2 (some .boolean) 0 0 0 0 [.int v, .int m] M (.returned (some (.int (bI false)))) (fun M' => M' = M) := by
  refine fb_start [some (.int v), some (.int m)] (by decide) (Nat.le_of_ble_eq_true rfl) rfl ?_
  intro x hl hD hb C E hx
  subst hl hD hb
  have C : fb_OK x cX7_isNone "FallsBetweenModel" "isNone" := C
  refine gx_iload_n (q := 1) C dX7_isNone_0 rfl rfl rfl ?_
  refine gx_if_lt (q := 4) (tgt := 9) C dX7_isNone_1 (by decide) rfl (fun c1 => by exfalso; exact h1 c1) (fun c1 => ?_)
  refine gx_iload_n (q := 5) C dX7_isNone_4 rfl rfl rfl ?_
  refine gx_iload_n (q := 6) C dX7_isNone_5 rfl rfl rfl ?_
  refine gx_icmp_lt (q := 9) (tgt := 13) C dX7_isNone_6 (by decide) rfl (fun c6 => ?_) (fun c6 => by exfalso; exact c6 (Int32.not_le.mp h2))
  refine gx_iconst (q := 14) (v := nI 0) C dX7_isNone_13 (by decide) rfl ?_
  exact gx_zret C E (by first | exact bI_nar _ | rfl) dX7_isNone_14 (rfl) (by omega) (by omega)
theorem md_isNone_n (l : Launch) (D : va_G) (b : Nat) (M : List va_E) (j m : Nat) (h : j < m) (hm : m < 2 ^ 31) : fb_CT l D b yX7_isNone cX7_isNone 2 (some .boolean) 0 0 0 0 [.int (nI j), .int (nI m)] M (.returned (some (.int (bI false)))) (fun M' => M' = M) := md_isNone_f l D b M _ _ (nI_pos (by omega)) (nI_ge h hm)
set_option maxHeartbeats 4000000 in
theorem md_treeIn (l : Launch) (D : va_G) (b : Nat) (M : List va_E) {R T Ti Bf P F L Rw : Nat → Nat} {kp we : Bool} {td aa so lo ro : Nat} (q : Nat) (hq : q < 2 ^ 31) (hV : md_V D b M R T Ti Bf P F L Rw kp td aa we so lo ro) (hk : okT T) : fb_CT l D b yX7_treeIn cX7_treeIn 3 (some .int) 0 0 0 0 [.ref (b + 43), .int (nI q)] M (.returned (some (.int (sq_ (trIn T q (T 0)))))) (fun M' => M' = M) := by
  refine fb_start [some (.ref (b + 43)), some (.int (nI q)), none] (by decide) (Nat.le_of_ble_eq_true rfl) rfl ?_
  intro x hl hD hb C E hx
  subst hl hD hb
  have C : fb_OK x cX7_treeIn "FallsBetweenModel" "treeIn" := C
  obtain ⟨k0, k1, k2, k3, k4, k5, k6, k7, k8⟩ := hk
  refine gx_iconst (q := 1) (v := nI 0) C dX7_treeIn_0 (by decide) rfl ?_
  refine gx_istore_n (q := 2) (lv' := [_, _, _]) C dX7_treeIn_1 rfl (Nat.le_of_ble_eq_true rfl) E.2.2.2.symm rfl rfl rfl ?_
  have Lp : ∀ i, i ≤ T 0 → (∀ t, t < i → ¬ T (126 + t) = q) → fb_G x M 0 0 2 [some (.ref (cx_b x + 43)), some (.int (nI q)), some (.int (nI i))] [] := by
    refine fb_dn (T 0) ?_ ?_
    · intro hall
      refine gx_iload_n (q := 3) C dX7_treeIn_2 rfl rfl rfl ?_
      refine gx_aload_n (q := 4) C dX7_treeIn_3 rfl rfl rfl ?_
      refine fg_X7_13 (q := 7) C hV.o rfl dX7_treeIn_4 rfl ?_
      refine gx_iconst (q := 8) (v := nI 0) C dX7_treeIn_7 (by decide) rfl ?_
      refine mv_ld_now (q := 9) C hV (by omega) dX7_treeIn_8 rfl ?_
      refine gn_icmp_ge (q := 12) (tgt := 33) C dX7_treeIn_9 (by decide) rfl (by omega) (by omega) (fun c9 => ?_) (fun c9 => by exfalso; omega)
      refine gx_bipush (q := 35) (v := -9) C dX7_treeIn_33 (by decide) rfl ?_
      exact gx_iretE C E ((congrArg sq_ (fstN_none (T 0) (fun t ht => decide_eq_false (hall t ht)))).symm) dX7_treeIn_35 (rfl) (by omega) (by omega)
    · intro i hi ih hall
      refine gx_iload_n (q := 3) C dX7_treeIn_2 rfl rfl rfl ?_
      refine gx_aload_n (q := 4) C dX7_treeIn_3 rfl rfl rfl ?_
      refine fg_X7_13 (q := 7) C hV.o rfl dX7_treeIn_4 rfl ?_
      refine gx_iconst (q := 8) (v := nI 0) C dX7_treeIn_7 (by decide) rfl ?_
      refine mv_ld_now (q := 9) C hV (by omega) dX7_treeIn_8 rfl ?_
      refine gn_icmp_ge (q := 12) (tgt := 33) C dX7_treeIn_9 (by decide) rfl (by omega) (by omega) (fun c9 => by exfalso; omega) (fun c9 => ?_)
      refine gx_aload_n (q := 13) C dX7_treeIn_12 rfl rfl rfl ?_
      refine fg_X7_13 (q := 16) C hV.o rfl dX7_treeIn_13 rfl ?_
      refine gx_bipush (q := 18) (v := nI 126) C dX7_treeIn_16 (by decide) rfl ?_
      refine gx_iload_n (q := 19) C dX7_treeIn_18 rfl rfl rfl ?_
      refine gn_iadd (q := 20) C dX7_treeIn_19 rfl ?_
      refine mv_ld_now (q := 21) C hV (by omega) dX7_treeIn_20 rfl ?_
      refine gx_iload_n (q := 22) C dX7_treeIn_21 rfl rfl rfl ?_
      refine gn_icmp_ne (q := 25) (tgt := 27) C dX7_treeIn_22 (by decide) rfl (by have := (k8 _ hi).2.1; omega) (by omega) (fun c22 => ?_) (fun c22 => ?_)
      · refine gn_inc (q := 30) (lv' := [_, _, _]) C dX7_treeIn_27 rfl E.2.2.2.symm rfl rfl rfl ?_
        refine gx_goto (tgt := 2) C dX7_treeIn_30 (by decide) ?_
        exact ih (fun t ht => by rcases Nat.lt_succ_iff_lt_or_eq.mp ht with h | h; exact hall t h; exact h ▸ c22)
      · refine gx_iload_n (q := 26) C dX7_treeIn_25 rfl rfl rfl ?_
        exact gx_iretE C E ((congrArg sq_ (fstN_some (T 0) hi (decide_eq_true c22) (fun t ht => decide_eq_false (hall t ht)))).symm) dX7_treeIn_26 (rfl) (by omega) (by omega)
  exact Lp 0 (by omega) (fun t ht => absurd ht (Nat.not_lt_zero t))
def cpN {α : Type} (f g : Nat → α) (i : Nat) : Nat → α := fun j => if j < i then f j else g j
theorem cpN_s (f g : Nat → Int32) (i : Nat) : upd (cpN f g i) i (f i) = cpN f g (i + 1) := by
  funext j
  by_cases h : j = i
  · subst h
    simp [upd, cpN]
  · rw [pk_un h]
    unfold cpN
    by_cases h2 : j < i
    · rw [if_pos h2, if_pos (by omega)]
    · rw [if_neg h2, if_neg (by omega)]
theorem cpN_0 (f g : Nat → Int32) : cpN f g 0 = g := by
  funext j
  simp [cpN]
theorem fb_set_self {α : Type} {l : List α} {i : Nat} {a : α} (h : l[i]? = some a) : l.set i a = l := by
  obtain ⟨h1, h2⟩ := List.getElem?_eq_some_iff.mp h
  rw [← h2]
  exact List.set_getElem_self h1
set_option maxHeartbeats 4000000 in
theorem md_move (l : Launch) (D : va_G) (b : Nat) (M : List va_E) {f g : Nat → Int32} (jf jt : Nat) (hne : jt ≠ jf) (hf : M[jf]? = some (aI D 144 f)) (ht : M[jt]? = some (aI D 144 g)) : fb_CT l D b yX7_move cX7_move 3 none 0 0 0 0 [.ref (b + jf), .ref (b + jt)] M (.returned none) (fun M' => M' = M.set jt (aI D 144 (cpN f g 144))) := by
  refine fb_start [some (.ref (b + jf)), some (.ref (b + jt)), none] (by decide) (Nat.le_of_ble_eq_true rfl) rfl ?_
  intro x hl hD hb C E hx
  subst hl hD hb
  have C : fb_OK x cX7_move "FallsBetweenModel" "move" := C
  refine gx_iconst (q := 1) (v := nI 0) C dX7_move_0 (by decide) rfl ?_
  refine gx_istore_n (q := 2) (lv' := [_, _, _]) C dX7_move_1 rfl (Nat.le_of_ble_eq_true rfl) E.2.2.2.symm rfl rfl rfl ?_
  have Lp : ∀ i, i ≤ 144 → fb_G x (M.set jt (aI (cx_D x) 144 (cpN f g i))) 0 0 2 [some (.ref (cx_b x + jf)), some (.ref (cx_b x + jt)), some (.int (nI i))] [] := by
    refine fb_dn 144 ?_ ?_
    · skip
      refine gx_iload_n (q := 3) C dX7_move_2 rfl rfl rfl ?_
      refine gx_sipush (q := 6) (v := nI 144) C dX7_move_3 (by decide) rfl ?_
      refine gn_icmp_ge (q := 9) (tgt := 21) C dX7_move_6 (by decide) rfl (by omega) (by omega) (fun c6 => ?_) (fun c6 => by exfalso; omega)
      exact gx_vret C E dX7_move_21 (rfl) (by omega) (by omega)
    · intro i hi ih
      have hf1 : (M.set jt (aI (cx_D x) 144 (cpN f g i)))[jf]? = some (aI (cx_D x) 144 f) := by rw [List.getElem?_set_ne hne]; exact hf
      have ht1 : (M.set jt (aI (cx_D x) 144 (cpN f g i)))[jt]? = some (aI (cx_D x) 144 (cpN f g i)) := by rw [List.getElem?_set_self (List.getElem?_eq_some_iff.mp ht).1]
      refine gx_iload_n (q := 3) C dX7_move_2 rfl rfl rfl ?_
      refine gx_sipush (q := 6) (v := nI 144) C dX7_move_3 (by decide) rfl ?_
      refine gn_icmp_ge (q := 9) (tgt := 21) C dX7_move_6 (by decide) rfl (by omega) (by omega) (fun c6 => by exfalso; omega) (fun c6 => ?_)
      refine gx_aload_n (q := 10) C dX7_move_9 rfl rfl rfl ?_
      refine gx_iload_n (q := 11) C dX7_move_10 rfl rfl rfl ?_
      refine gx_aload_n (q := 12) C dX7_move_11 rfl rfl rfl ?_
      refine gx_iload_n (q := 13) C dX7_move_12 rfl rfl rfl ?_
      refine gx_iald (q := 14) C hf1 (by omega) (by decide) (rfl) dX7_move_13 rfl ?_
      refine gx_iast (q := 15) C ht1 (by omega) (by decide) dX7_move_14 rfl ?_
      rw [List.set_set, cpN_s]
      refine gn_inc (q := 18) (lv' := [_, _, _]) C dX7_move_15 rfl E.2.2.2.symm rfl rfl rfl ?_
      refine gx_goto (tgt := 2) C dX7_move_18 (by decide) ?_
      exact ih
  have h0 := Lp 0 (by omega)
  rw [cpN_0, show M.set jt (aI (cx_D x) 144 g) = M from fb_set_self ht] at h0
  exact h0
set_option maxHeartbeats 4000000 in
theorem md_divisor (l : Launch) (D : va_G) (b : Nat) (M : List va_E) (a c : Nat) (ha : a < 2 ^ 31) (hc : c < 2 ^ 31) : fb_CT l D b yX7_divisor cX7_divisor 5 (some .int) 0 0 0 0 [.int (nI a), .int (nI c)] M (.returned (some (.int (nI (Nat.gcd a c))))) (fun M' => M' = M) := by
  refine fb_start [some (.int (nI a)), some (.int (nI c)), none, none, none] (by decide) (Nat.le_of_ble_eq_true rfl) rfl ?_
  intro x hl hD hb C E hx
  subst hl hD hb
  have C : fb_OK x cX7_divisor "FallsBetweenModel" "divisor" := C
  refine gx_iload_n (q := 1) C dX7_divisor_0 rfl rfl rfl ?_
  refine gx_istore_n (q := 2) (lv' := [_, _, _, _, _]) C dX7_divisor_1 rfl (Nat.le_of_ble_eq_true rfl) E.2.2.2.symm rfl rfl rfl ?_
  refine gx_iload_n (q := 3) C dX7_divisor_2 rfl rfl rfl ?_
  refine gx_istore_n (q := 4) (lv' := [_, _, _, _, _]) C dX7_divisor_3 rfl (Nat.le_of_ble_eq_true rfl) E.2.2.2.symm rfl rfl rfl ?_
  have Lp : ∀ (m z y : Nat), z < m → y < 2 ^ 31 → z < 2 ^ 31 → Nat.gcd y z = Nat.gcd a c → fb_G x M 0 0 4 [some (.int (nI a)), some (.int (nI c)), some (.int (nI y)), some (.int (nI z)), none] [] := by
    intro m
    induction m
    · intro z y h; omega
    · rename_i m ih
      intro z y hz hy hz2 hg
      refine gx_iload_n (q := 5) C dX7_divisor_4 rfl rfl rfl ?_
      refine gn_if_eq (q := 8) (tgt := 21) C dX7_divisor_5 (by decide) rfl (by omega) (fun c5 => ?_) (fun c5 => ?_)
      · subst c5
        refine gx_iload_n (q := 22) C dX7_divisor_21 rfl rfl rfl ?_
        exact gx_iretE C E (by rw [← hg, Nat.gcd_zero_right]) dX7_divisor_22 (rfl) (by omega) (by omega)
      · refine gx_iload_n (q := 9) C dX7_divisor_8 rfl rfl rfl ?_
        refine gx_iload_n (q := 10) C dX7_divisor_9 rfl rfl rfl ?_
        refine gn_irem (q := 11) C dX7_divisor_10 (by omega) (by omega) (by omega) rfl ?_
        refine gx_istore (q := 13) (lv' := [_, _, _, _, _]) C dX7_divisor_11 (Nat.le_of_ble_eq_true rfl) E.2.2.2.symm rfl rfl rfl ?_
        refine gx_iload_n (q := 14) C dX7_divisor_13 rfl rfl rfl ?_
        refine gx_istore_n (q := 15) (lv' := [_, _, _, _, _]) C dX7_divisor_14 rfl (Nat.le_of_ble_eq_true rfl) E.2.2.2.symm rfl rfl rfl ?_
        refine gx_iload (q := 17) C dX7_divisor_15 rfl rfl ?_
        refine gx_istore_n (q := 18) (lv' := [_, _, _, _, _]) C dX7_divisor_17 rfl (Nat.le_of_ble_eq_true rfl) E.2.2.2.symm rfl rfl rfl ?_
        refine gx_goto (tgt := 4) C dX7_divisor_18 (by decide) ?_
        refine gx_drop 4 ?_
        exact ih (y % z) z (by have := Nat.mod_lt y c5; omega) hz2 (by have := Nat.mod_lt y c5; omega) (by rw [← hg, Nat.gcd_comm y z, Nat.gcd_rec z y, Nat.gcd_comm])
  exact Lp (c + 1) c a (by omega) ha hc rfl
set_option maxHeartbeats 4000000 in
theorem md_sumOf (l : Launch) (D : va_G) (b : Nat) (M : List va_E) {R T Ti Bf P F L Rw : Nat → Nat} {kp we : Bool} {td aa so lo ro : Nat} (fm m : Nat) (hm : fm + m ≤ 144) (hV : md_V D b M R T Ti Bf P F L Rw kp td aa we so lo ro) : fb_CT l D b yX7_sumOf cX7_sumOf 5 (some .int) 0 0 0 0 [.ref (b + 43), .int (nI fm), .int (nI m)] M (.returned (some (.int (nI (sumN (fun j => T (fm + j)) m))))) (fun M' => M' = M) := by
  refine fb_start [some (.ref (b + 43)), some (.int (nI fm)), some (.int (nI m)), none, none] (by decide) (Nat.le_of_ble_eq_true rfl) rfl ?_
  intro x hl hD hb C E hx
  subst hl hD hb
  have C : fb_OK x cX7_sumOf "FallsBetweenModel" "sumOf" := C
  refine gx_iconst (q := 1) (v := nI 0) C dX7_sumOf_0 (by decide) rfl ?_
  refine gx_istore_n (q := 2) (lv' := [_, _, _, _, _]) C dX7_sumOf_1 rfl (Nat.le_of_ble_eq_true rfl) E.2.2.2.symm rfl rfl rfl ?_
  refine gx_iconst (q := 3) (v := nI 0) C dX7_sumOf_2 (by decide) rfl ?_
  refine gx_istore (q := 5) (lv' := [_, _, _, _, _]) C dX7_sumOf_3 (Nat.le_of_ble_eq_true rfl) E.2.2.2.symm rfl rfl rfl ?_
  have Lp : ∀ i, i ≤ m → fb_G x M 0 0 5 [some (.ref (cx_b x + 43)), some (.int (nI fm)), some (.int (nI m)), some (.int (nI (sumN (fun j => T (fm + j)) i))), some (.int (nI i))] [] := by
    refine fb_dn m ?_ ?_
    · skip
      refine gx_iload (q := 7) C dX7_sumOf_5 rfl rfl ?_
      refine gx_iload_n (q := 8) C dX7_sumOf_7 rfl rfl rfl ?_
      refine gn_icmp_ge (q := 11) (tgt := 29) C dX7_sumOf_8 (by decide) rfl (by omega) (by omega) (fun c8 => ?_) (fun c8 => by exfalso; omega)
      refine gx_iload_n (q := 30) C dX7_sumOf_29 rfl rfl rfl ?_
      exact gx_iret C E dX7_sumOf_30 (rfl) (by omega) (by omega)
    · intro i hi ih
      refine gx_iload (q := 7) C dX7_sumOf_5 rfl rfl ?_
      refine gx_iload_n (q := 8) C dX7_sumOf_7 rfl rfl rfl ?_
      refine gn_icmp_ge (q := 11) (tgt := 29) C dX7_sumOf_8 (by decide) rfl (by omega) (by omega) (fun c8 => by exfalso; omega) (fun c8 => ?_)
      refine gx_iload_n (q := 12) C dX7_sumOf_11 rfl rfl rfl ?_
      refine gx_aload_n (q := 13) C dX7_sumOf_12 rfl rfl rfl ?_
      refine fg_X7_13 (q := 16) C hV.o rfl dX7_sumOf_13 rfl ?_
      refine gx_iload_n (q := 17) C dX7_sumOf_16 rfl rfl rfl ?_
      refine gx_iload (q := 19) C dX7_sumOf_17 rfl rfl ?_
      refine gn_iadd (q := 20) C dX7_sumOf_19 rfl ?_
      refine mv_ld_now (q := 21) C hV (by omega) dX7_sumOf_20 rfl ?_
      refine gn_iadd (q := 22) C dX7_sumOf_21 rfl ?_
      refine gx_istore_n (q := 23) (lv' := [_, _, _, _, _]) C dX7_sumOf_22 rfl (Nat.le_of_ble_eq_true rfl) E.2.2.2.symm rfl rfl rfl ?_
      refine gn_inc (q := 26) (lv' := [_, _, _, _, _]) C dX7_sumOf_23 rfl E.2.2.2.symm rfl rfl rfl ?_
      refine gx_goto (tgt := 5) C dX7_sumOf_26 (by decide) ?_
      exact ih
  exact Lp 0 (by omega)
