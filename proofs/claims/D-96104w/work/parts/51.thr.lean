/-! the constructors of Throwable and those below it; nobody asks for a trace -/
set_option maxRecDepth 100000
theorem thr_c1 : prog_31_method_1_code = LibCode.Throwable.Init0.code := by decide +kernel
theorem thr_c2 : prog_31_method_18_code = LibCode.Throwable.Fill.code := by decide +kernel
theorem thr_c3 : prog_29_method_1_code = Bundle.five := by decide +kernel
theorem thr_c4 : prog_27_method_1_code = Bundle.five := by decide +kernel
theorem thr_words {x : fb_X} {cc : ByteArray} {own nm : String} (C : fb_OK x cc own nm) : ∀ w ∈ Bundle.throwableAtoms, w.before (cx_a x) (cx_s x) = true := by
  have e1 := C.wd q292
  have e2 := C.wd q302
  rw [thr_c1] at e1
  rw [thr_c2] at e2
  intro w hw
  simp only [Bundle.throwableAtoms, List.mem_cons, List.not_mem_nil, or_false] at hw
  rcases hw with rfl | rfl | rfl | rfl | rfl | rfl | rfl | rfl | rfl | rfl | rfl | rfl | rfl | rfl | rfl | rfl | rfl | rfl | rfl | rfl | rfl | rfl | rfl | rfl
  · exact C.wd q76
  · exact C.wd q290
  · exact C.wd q299
  · exact e2
  · exact C.wd q305
  · exact C.wd q307
  · exact C.wd q291
  · exact e1
  · exact C.wd q104
  · exact C.wd q105
  · exact C.wd q293
  · exact C.wd q298
  · exact C.wd q303
  · exact C.wd q323
  · exact C.wd q280
  · exact C.wd q324
  · exact C.wd q282
  · exact C.wd q325
  · exact C.wd q284
  · exact C.wd q294
  · exact C.kk.2.2.1.lays
  · exact C.wd q296
  · exact C.kk.2.2.2.lays
  · exact C.wd q286
theorem thr_chain {x : fb_X} {cc : ByteArray} {own nm : String} (C : fb_OK x cc own nm) : ∀ w ∈ Bundle.chain0Atoms "java/lang/RuntimeException" ["java/lang/Exception"], w.before (cx_a x) (cx_s x) = true := by
  have e1 := C.wd q316
  have e2 := C.wd q319
  rw [thr_c3] at e1
  rw [thr_c4] at e2
  intro w hw
  simp only [Bundle.chain0Atoms, Bundle.passAtoms, List.mem_append, List.mem_cons, List.not_mem_nil, or_false] at hw
  rcases hw with (rfl | rfl | rfl | rfl | rfl) | (rfl | rfl | rfl | rfl | rfl)
  · exact C.wd q315
  · exact e1
  · exact C.wd q317
  · exact C.wd q318
  · exact va_Nw.use rfl (C.nw q273 rfl)
  · exact C.wd q318
  · exact e2
  · exact C.wd q320
  · exact C.wd q291
  · exact va_Nw.use rfl (C.nw q275 rfl)
set_option maxHeartbeats 4000000 in
theorem gx_rtInit_9 {x : fb_X} {cc : ByteArray} {nm : String} {M : List va_E} {k n pc q : Nat} {lv : List (Option Value)} {st : List Value} {L : Nat} {r : Option FieldType} {o : Outcome} {Rel : List va_E → Prop} {fr lo mc ms : Nat} {j : Nat} {v : Value} (C : fb_OK x cc "FallsBetween$Refusal" nm) (E : fb_RT x L r o Rel fr lo mc ms) (hM : M[j]? = some (ob 9 [.null, .null, .null, .null, .null, .int 0, v])) (h1 : 5 ≤ fr) (h2 : (st.map fun v => v.category).sum + 67 ≤ lo) (d : decode cc pc = .ok (.invokespecial 1, 3)) (hq : pc + 3 = q)
    (kk : ∀ u w : Value, fb_G x (M.set j (ob 9 [.ref (cx_b x + j), u, w, .null, .null, .int 0, v])) k n q lv st) : fb_G x M k n pc lv (.ref (cx_b x + j) :: st) := by
  subst hq
  intro H locs ls g1 g2 g3 T0 hT X
  have hpl := X.magic
  have howns : (cx_e x).platform.frameOwnsMonitors = true := by rw [X.admits.platform]
  have hfin : (cx_e x).platform.finalization = false := by rw [X.admits.platform]
  have htr : (cx_e x).platform.stackTraces = false := Launch.traces_off C.fl X.admits
  obtain ⟨T, Z, L0, LZ, Y⟩ := ThrowableC.of_atoms (args := cx_a x) (s := cx_s x) howns hfin hpl (thr_words C)
  obtain ⟨P1, Ps, hlen, L1, hL, hP1m, hlink1, hlink⟩ := Bundle.chain0 (args := cx_a x) hpl Y.init0 ["java/lang/Exception"] "java/lang/RuntimeException" (by decide) (by decide) (thr_chain C)
  obtain ⟨⟨r0, hr0, cell, c1, c2, c3, c4⟩, cellm, m1, m2, m3⟩ := g1.2 j _ hM
  cases m1.symm.trans c1
  cases hr0
  have hKn := C.K.1 9 _ rfl
  obtain ⟨hfound, k0, hk, hord⟩ := hKn.2
  have hcell : T0.heap[cx_b x + j]? = some cell := by rw [hT]; exact c1
  have sl : ∀ (i : Nat) (hi : i < 7) (cf : ClassId) (kf : Class) (fi : Nat) (f : Field), (cx_s x).fieldFound? (TX9 i).1 (TX9 i).2.1 (TX9 i).2.2.1 = some (cf, kf, fi, f) → f.slot = (cx_D x).2 9 i := by
    intro i hi cf kf fi f hf
    obtain ⟨cf', kf', fi', f', hf', hs⟩ := hKn.1 i hi
    have := Option.some.inj (hf.symm.trans hf')
    simp only [Prod.mk.injEq] at this
    rw [this.2.2.2]
    exact hs
  have s0 := sl 0 (by decide) _ _ _ _ Y.cause
  have s1 := sl 1 (by decide) _ _ _ _ Y.stack
  have s2 := sl 2 (by decide) _ _ _ _ Y.supp
  obtain ⟨ci198, i198, fB, hk198, hg198, ha198, hsB, -, hnB, htB, hffB⟩ := Cond.ownField (t := .object "java/lang/Object") Y.found L0.cls (by decide +kernel) (C.wd q289) (C.wd q288) (cx_e x).platform hpl
  have s4 := sl 4 (by decide) _ _ _ _ hffB
  have hap := va_apart (own := "FallsBetween$Refusal") C.wds in_X9 tyX9 tyX9_ok nmX9 C.K (ci := 9) rfl
  have n40 : (cx_D x).2 9 4 ≠ (cx_D x).2 9 0 := hap 4 0 (by decide) (by decide) (by decide)
  have n41 : (cx_D x).2 9 4 ≠ (cx_D x).2 9 1 := hap 4 1 (by decide) (by decide) (by decide)
  have n42 : (cx_D x).2 9 4 ≠ (cx_D x).2 9 2 := hap 4 2 (by decide) (by decide) (by decide)
  -- the statics
  obtain ⟨cfU, kfU, fiU, fU, aU, cellU, vU, u0a, u1, u2, u3, u4, u5, u6, u7, u8, u9, u10⟩ := C.kk.2.2.1
  obtain ⟨cfV, kfV, fiV, fV, aV, cellV, vV, v0a, v1, v2, v3, v4, v5, v6, v7, v8, v9, v10⟩ := C.kk.2.2.2
  have eU := Option.some.inj (u1.symm.trans Y.unassigned)
  have eV := Option.some.inj (v1.symm.trans Y.sentinel)
  simp only [Prod.mk.injEq] at eU eV
  obtain ⟨eU1, eU2, eU3, eU4⟩ := eU
  obtain ⟨eV1, eV2, eV3, eV4⟩ := eV
  subst eU2 eU4 eV4
  have aUS : aU = T.aS := Option.some.inj (u3.symm.trans L0.statics)
  have aVS : aV = T.aS := Option.some.inj ((by rw [eV2] at v3; exact v3 : T.kT.statics = some aV).symm.trans L0.statics)
  subst aUS
  rw [aVS] at v5
  cases u5.symm.trans v5
  have hcellS : T0.heap[T.aS]? = some cellU := by rw [hT, g2.2.1 T.aS (Array.getElem?_eq_some_iff.mp u5).1 u10]; exact u5
  have hneS : T.aS ≠ cx_b x + j := fun z => u10 (by rw [z]; exact Nat.le_add_right _ _)
  have hknownS : cellU.vm ≠ .unknown := fun z => by rw [z] at u6; cases u6
  have tyC := (Cond.laysAt hfound hk Y.cause (C.wd q279)).1
  have tyS := (Cond.laysAt hfound hk Y.stack (C.wd q281)).1
  have tyP := (Cond.laysAt hfound hk Y.supp (C.wd q283)).1
  have tk : ∀ (f : Field) (i : Nat) (hi : i < 7) (w : Value), f.slot = (cx_D x).2 9 i → k0.instanceTypes[f.slot]? = some f.type → fits f.type w = true → Takes (cx_s x) cell f w := by
    intro f i hi w hs hty hw
    refine ⟨by rw [hs]; exact (Array.getElem?_eq_some_iff.mp (c4 i hi)).1, ?_⟩
    rw [c2, c3]
    simp [State.fitsSlot, State.slotType?, hk, hord, hty, hw]
  have hsel0 : selectMethod (cx_e x).platform (cx_s x).vm cell.cls T.fill0 = .method T.fill0 := by
    rw [c2]
    obtain ⟨c2', r2, m2', q1, q2, q3, q4, -⟩ := Cond.selects_spec (C.wd q277)
    cases Option.some.inj (q1.symm.trans hfound)
    cases Option.some.inj (q2.symm.trans (State.methodFound?_of_named Y.fill0 (by decide)))
    cases Option.some.inj (q3.symm.trans Y.fill0)
    rw [Launch.admits_selectMethod X.admits]; exact q4
  have hselF : selectMethod (cx_e x).platform (cx_s x).vm cell.cls T.fill = .method T.fill := by
    rw [c2]
    obtain ⟨c2', r2, m2', q1, q2, q3, q4, -⟩ := Cond.selects_spec (C.wd q278)
    cases Option.some.inj (q1.symm.trans hfound)
    cases Option.some.inj (q2.symm.trans (State.methodFound?_of_named Y.fill (by decide)))
    cases Option.some.inj (q3.symm.trans Y.fill)
    rw [Launch.admits_selectMethod X.admits]; exact q4
  have hskip : SkipFacts T (cx_e x).platform (cx_s x) (fun u => u) ⟨vU, u9⟩ ((preparedCellV T.toThrowableT cell (cx_b x + j) ⟨vU, u9⟩ ⟨vV, v9⟩).withEntry T0.cur) :=
    ⟨{ ci198 := ci198, i198 := i198, fBack := fB }, ⟨hk198, hg198, ha198, hsB⟩, by
      have h4 : cell.slots[(cx_D x).2 9 4]? = some .null := c4 4 (by decide)
      show (preparedCellV T.toThrowableT cell (cx_b x + j) ⟨vU, u9⟩ ⟨vV, v9⟩).slots[fB.slot]? = some .null
      rw [s4]
      simp [preparedCellV, Cell.setSlot, Array.getElem?_setIfInBounds, s0, s1, s2, n40.symm, n41.symm, n42.symm, h4], fun _ _ => rfl⟩
  obtain ⟨tm, methC, cdC, kC, vm₁, hnC, -, -, -, -, -, -, -, hW₁, st1⟩ := Steps.initCold (tb := (cx_p x).tables) (e := cx_e x) (below := cx_w x) (s := cx_s x) (U := T0) X.here C.exec X.warmed hpl C.own (t := Bundle.init0 "java/lang/RuntimeException") rfl rfl (by decide)
    (C.wd q314) (C.wd q315) (bytes := prog_29_method_1_code) (maxL := 1) (C.wd q316) (f := F0 (cx_m x) pc ls (.ref (cx_b x + j) :: st)) rfl (a := cx_b x + j) (rest := st) rfl (by rw [C.code]; exact d)
  cases Option.some.inj (hnC.symm.trans hP1m)
  have X₁ := X.noted hW₁
  obtain ⟨vm₂, X₂, st2⟩ := X₁.ctorPlainOffV C.exec (g := { F0 (cx_m x) pc ls (.ref (cx_b x + j) :: st) with stack := st }) rfl g3.1 T L0 Z LZ (P1 :: Ps)
    (fun P hP => by rcases List.mem_cons.mp hP with rfl | hP; exact L1; exact hL P hP) ⟨hlink1, hlink⟩ (u0 := ⟨vU, u9⟩) (sen := ⟨vV, v9⟩) (self := cx_b x + j) (cell := cell) (cellS := cellU)
    hcell (fun _ h => by rw [c3] at h; cases h) (by rw [c3]; decide) m2 m3 hsel0 hselF hcellS hneS hknownS u8 v8
    (tk _ 0 (by decide) _ s0 tyC (by rw [Y.causeType]; rfl)) (tk _ 1 (by decide) _ s1 tyS (by rw [Y.stackType]; exact fits_refV_array _ ⟨vU, u9⟩)) (tk _ 2 (by decide) _ s2 tyP (by rw [Y.suppType]; exact fits_refV_object _ ⟨vV, v9⟩)) Y.objLocals hskip htr [] (by rw [C.code]; exact d)
    (by rw [E.2.2.1]; show (P1 :: Ps).length + 2 < fr; rw [List.length_cons, hlen]; show 1 + 1 + 2 < fr; omega) (by rw [E.2.2.1]; show 2 * 0 + (st.map fun v => v.category).sum + (13 * (P1 :: Ps).length + 41) ≤ lo; rw [List.length_cons, hlen]; show _ + (13 * (1 + 1) + 41) ≤ lo; omega)
  have hlt : cx_b x + j < ((T0.setVm vm₁).setVm vm₂).heap.size := (Array.getElem?_eq_some_iff.mp hcell).1
  have hU := heapAt_setCell_self (s := (T0.setVm vm₁).setVm vm₂) ((preparedCellV T.toThrowableT cell (cx_b x + j) ⟨vU, u9⟩ ⟨vV, v9⟩).setSlot T.fStack.slot vU) hlt
  generalize hT2 : ((T0.setVm vm₁).setVm vm₂).setCell (cx_b x + j) ((preparedCellV T.toThrowableT cell (cx_b x + j) ⟨vU, u9⟩ ⟨vV, v9⟩).setSlot T.fStack.slot vU) = T2 at X₂ st2 hU
  have zz : T2.heap.size = H.size := by rw [← hT2, size_setCell, ← hT]; rfl
  have oq : ∀ q : Nat, q ≠ cx_b x + j → T2.heap[q]? = H[q]? := fun q hq => by rw [← hT2, heapAt_setCell_ne _ (Ne.symm hq), ← hT]; rfl
  have hS : fb_S x T2.heap (locs ++ [⟨cx_b x + j, T.fCause.slot⟩, ⟨cx_b x + j, T.fStack.slot⟩, ⟨cx_b x + j, T.fSupp.slot⟩, ⟨cx_b x + j, T.fStack.slot⟩]) := by
    refine ⟨by rw [zz]; exact g2.1, fun q w1 w2 => ?_, fun q hq => ?_⟩
    · rw [oq q (fun e => w2 (by rw [e]; exact Nat.le_add_right _ _))]
      exact g2.2.1 q w1 w2
    · rcases List.mem_append.mp hq with w | w
      · exact g2.2.2 q w
      · show cx_b x ≤ q.base
        simp only [List.mem_cons, List.not_mem_nil, or_false] at w
        rcases w with rfl | rfl | rfl | rfl <;> exact Nat.le_add_right _ _
  have hP : fb_HP (cx_D x) (cx_b x) (M.set j (ob 9 [.ref (cx_b x + j), vU, vV, .null, .null, .int 0, v])) T2.heap := g1.set hM ⟨⟨_, rfl, by
    refine ⟨_, hU, c2, c3, ?_⟩
    rw [preparedCellV, s0, s1, s2]
    intro i hi
    have := t_set (t_set (t_set (t_set c4 hap (k := 0) (by decide) (.ref (cx_b x + j))) hap (k := 1) (by decide) vU) hap (k := 2) (by decide) vV) hap (k := 1) (by decide) vU i hi
    refine this.trans (congrArg some ?_)
    have hi : i < 7 := hi
    have h7 : i = 0 ∨ i = 1 ∨ i = 2 ∨ i = 3 ∨ i = 4 ∨ i = 5 ∨ i = 6 := by omega
    rcases h7 with rfl | rfl | rfl | rfl | rfl | rfl | rfl <;> rfl⟩, ⟨_, hU, m2, m3⟩⟩ zz oq
  obtain ⟨t, a1, b1⟩ := kk vU vV _ _ ls hP hS g3 T2 rfl X₂
  refine ⟨t, st1 _ (fun acts => ?_), b1⟩
  rw [doInvoke_state]
  exact st2 _ a1
set_option maxHeartbeats 4000000 in
theorem gx_rtInit_11 {x : fb_X} {cc : ByteArray} {nm : String} {M : List va_E} {k n pc q : Nat} {lv : List (Option Value)} {st : List Value} {L : Nat} {r : Option FieldType} {o : Outcome} {Rel : List va_E → Prop} {fr lo mc ms : Nat} {j : Nat} {v : Value} (C : fb_OK x cc "FallsBetween$Refusal" nm) (E : fb_RT x L r o Rel fr lo mc ms) (hM : M[j]? = some (ob 11 [.null, .null, .null, .null, .null, .int 0, v])) (h1 : 5 ≤ fr) (h2 : (st.map fun v => v.category).sum + 67 ≤ lo) (d : decode cc pc = .ok (.invokespecial 1, 3)) (hq : pc + 3 = q)
    (kk : ∀ u w : Value, fb_G x (M.set j (ob 11 [.ref (cx_b x + j), u, w, .null, .null, .int 0, v])) k n q lv st) : fb_G x M k n pc lv (.ref (cx_b x + j) :: st) := by
  subst hq
  intro H locs ls g1 g2 g3 T0 hT X
  have hpl := X.magic
  have howns : (cx_e x).platform.frameOwnsMonitors = true := by rw [X.admits.platform]
  have hfin : (cx_e x).platform.finalization = false := by rw [X.admits.platform]
  have htr : (cx_e x).platform.stackTraces = false := Launch.traces_off C.fl X.admits
  obtain ⟨T, Z, L0, LZ, Y⟩ := ThrowableC.of_atoms (args := cx_a x) (s := cx_s x) howns hfin hpl (thr_words C)
  obtain ⟨P1, Ps, hlen, L1, hL, hP1m, hlink1, hlink⟩ := Bundle.chain0 (args := cx_a x) hpl Y.init0 ["java/lang/Exception"] "java/lang/RuntimeException" (by decide) (by decide) (thr_chain C)
  obtain ⟨⟨r0, hr0, cell, c1, c2, c3, c4⟩, cellm, m1, m2, m3⟩ := g1.2 j _ hM
  cases m1.symm.trans c1
  cases hr0
  have hKn := C.K.1 11 _ rfl
  obtain ⟨hfound, k0, hk, hord⟩ := hKn.2
  have hcell : T0.heap[cx_b x + j]? = some cell := by rw [hT]; exact c1
  have sl : ∀ (i : Nat) (hi : i < 7) (cf : ClassId) (kf : Class) (fi : Nat) (f : Field), (cx_s x).fieldFound? (TX11 i).1 (TX11 i).2.1 (TX11 i).2.2.1 = some (cf, kf, fi, f) → f.slot = (cx_D x).2 11 i := by
    intro i hi cf kf fi f hf
    obtain ⟨cf', kf', fi', f', hf', hs⟩ := hKn.1 i hi
    have := Option.some.inj (hf.symm.trans hf')
    simp only [Prod.mk.injEq] at this
    rw [this.2.2.2]
    exact hs
  have s0 := sl 0 (by decide) _ _ _ _ Y.cause
  have s1 := sl 1 (by decide) _ _ _ _ Y.stack
  have s2 := sl 2 (by decide) _ _ _ _ Y.supp
  obtain ⟨ci198, i198, fB, hk198, hg198, ha198, hsB, -, hnB, htB, hffB⟩ := Cond.ownField (t := .object "java/lang/Object") Y.found L0.cls (by decide +kernel) (C.wd q289) (C.wd q288) (cx_e x).platform hpl
  have s4 := sl 4 (by decide) _ _ _ _ hffB
  have hap := va_apart (own := "FallsBetween$Refusal") C.wds in_X11 tyX11 tyX11_ok nmX11 C.K (ci := 11) rfl
  have n40 : (cx_D x).2 11 4 ≠ (cx_D x).2 11 0 := hap 4 0 (by decide) (by decide) (by decide)
  have n41 : (cx_D x).2 11 4 ≠ (cx_D x).2 11 1 := hap 4 1 (by decide) (by decide) (by decide)
  have n42 : (cx_D x).2 11 4 ≠ (cx_D x).2 11 2 := hap 4 2 (by decide) (by decide) (by decide)
  -- the statics
  obtain ⟨cfU, kfU, fiU, fU, aU, cellU, vU, u0a, u1, u2, u3, u4, u5, u6, u7, u8, u9, u10⟩ := C.kk.2.2.1
  obtain ⟨cfV, kfV, fiV, fV, aV, cellV, vV, v0a, v1, v2, v3, v4, v5, v6, v7, v8, v9, v10⟩ := C.kk.2.2.2
  have eU := Option.some.inj (u1.symm.trans Y.unassigned)
  have eV := Option.some.inj (v1.symm.trans Y.sentinel)
  simp only [Prod.mk.injEq] at eU eV
  obtain ⟨eU1, eU2, eU3, eU4⟩ := eU
  obtain ⟨eV1, eV2, eV3, eV4⟩ := eV
  subst eU2 eU4 eV4
  have aUS : aU = T.aS := Option.some.inj (u3.symm.trans L0.statics)
  have aVS : aV = T.aS := Option.some.inj ((by rw [eV2] at v3; exact v3 : T.kT.statics = some aV).symm.trans L0.statics)
  subst aUS
  rw [aVS] at v5
  cases u5.symm.trans v5
  have hcellS : T0.heap[T.aS]? = some cellU := by rw [hT, g2.2.1 T.aS (Array.getElem?_eq_some_iff.mp u5).1 u10]; exact u5
  have hneS : T.aS ≠ cx_b x + j := fun z => u10 (by rw [z]; exact Nat.le_add_right _ _)
  have hknownS : cellU.vm ≠ .unknown := fun z => by rw [z] at u6; cases u6
  have tyC := (Cond.laysAt hfound hk Y.cause (C.wd q376)).1
  have tyS := (Cond.laysAt hfound hk Y.stack (C.wd q377)).1
  have tyP := (Cond.laysAt hfound hk Y.supp (C.wd q378)).1
  have tk : ∀ (f : Field) (i : Nat) (hi : i < 7) (w : Value), f.slot = (cx_D x).2 11 i → k0.instanceTypes[f.slot]? = some f.type → fits f.type w = true → Takes (cx_s x) cell f w := by
    intro f i hi w hs hty hw
    refine ⟨by rw [hs]; exact (Array.getElem?_eq_some_iff.mp (c4 i hi)).1, ?_⟩
    rw [c2, c3]
    simp [State.fitsSlot, State.slotType?, hk, hord, hty, hw]
  have hsel0 : selectMethod (cx_e x).platform (cx_s x).vm cell.cls T.fill0 = .method T.fill0 := by
    rw [c2]
    obtain ⟨c2', r2, m2', q1, q2, q3, q4, -⟩ := Cond.selects_spec (C.wd q375)
    cases Option.some.inj (q1.symm.trans hfound)
    cases Option.some.inj (q2.symm.trans (State.methodFound?_of_named Y.fill0 (by decide)))
    cases Option.some.inj (q3.symm.trans Y.fill0)
    rw [Launch.admits_selectMethod X.admits]; exact q4
  have hselF : selectMethod (cx_e x).platform (cx_s x).vm cell.cls T.fill = .method T.fill := by
    rw [c2]
    obtain ⟨c2', r2, m2', q1, q2, q3, q4, -⟩ := Cond.selects_spec (C.wd q301)
    cases Option.some.inj (q1.symm.trans hfound)
    cases Option.some.inj (q2.symm.trans (State.methodFound?_of_named Y.fill (by decide)))
    cases Option.some.inj (q3.symm.trans Y.fill)
    rw [Launch.admits_selectMethod X.admits]; exact q4
  have hskip : SkipFacts T (cx_e x).platform (cx_s x) (fun u => u) ⟨vU, u9⟩ ((preparedCellV T.toThrowableT cell (cx_b x + j) ⟨vU, u9⟩ ⟨vV, v9⟩).withEntry T0.cur) :=
    ⟨{ ci198 := ci198, i198 := i198, fBack := fB }, ⟨hk198, hg198, ha198, hsB⟩, by
      have h4 : cell.slots[(cx_D x).2 11 4]? = some .null := c4 4 (by decide)
      show (preparedCellV T.toThrowableT cell (cx_b x + j) ⟨vU, u9⟩ ⟨vV, v9⟩).slots[fB.slot]? = some .null
      rw [s4]
      simp [preparedCellV, Cell.setSlot, Array.getElem?_setIfInBounds, s0, s1, s2, n40.symm, n41.symm, n42.symm, h4], fun _ _ => rfl⟩
  obtain ⟨tm, methC, cdC, kC, vm₁, hnC, -, -, -, -, -, -, -, hW₁, st1⟩ := Steps.initCold (tb := (cx_p x).tables) (e := cx_e x) (below := cx_w x) (s := cx_s x) (U := T0) X.here C.exec X.warmed hpl C.own (t := Bundle.init0 "java/lang/RuntimeException") rfl rfl (by decide)
    (C.wd q314) (C.wd q315) (bytes := prog_29_method_1_code) (maxL := 1) (C.wd q316) (f := F0 (cx_m x) pc ls (.ref (cx_b x + j) :: st)) rfl (a := cx_b x + j) (rest := st) rfl (by rw [C.code]; exact d)
  cases Option.some.inj (hnC.symm.trans hP1m)
  have X₁ := X.noted hW₁
  obtain ⟨vm₂, X₂, st2⟩ := X₁.ctorPlainOffV C.exec (g := { F0 (cx_m x) pc ls (.ref (cx_b x + j) :: st) with stack := st }) rfl g3.1 T L0 Z LZ (P1 :: Ps)
    (fun P hP => by rcases List.mem_cons.mp hP with rfl | hP; exact L1; exact hL P hP) ⟨hlink1, hlink⟩ (u0 := ⟨vU, u9⟩) (sen := ⟨vV, v9⟩) (self := cx_b x + j) (cell := cell) (cellS := cellU)
    hcell (fun _ h => by rw [c3] at h; cases h) (by rw [c3]; decide) m2 m3 hsel0 hselF hcellS hneS hknownS u8 v8
    (tk _ 0 (by decide) _ s0 tyC (by rw [Y.causeType]; rfl)) (tk _ 1 (by decide) _ s1 tyS (by rw [Y.stackType]; exact fits_refV_array _ ⟨vU, u9⟩)) (tk _ 2 (by decide) _ s2 tyP (by rw [Y.suppType]; exact fits_refV_object _ ⟨vV, v9⟩)) Y.objLocals hskip htr [] (by rw [C.code]; exact d)
    (by rw [E.2.2.1]; show (P1 :: Ps).length + 2 < fr; rw [List.length_cons, hlen]; show 1 + 1 + 2 < fr; omega) (by rw [E.2.2.1]; show 2 * 0 + (st.map fun v => v.category).sum + (13 * (P1 :: Ps).length + 41) ≤ lo; rw [List.length_cons, hlen]; show _ + (13 * (1 + 1) + 41) ≤ lo; omega)
  have hlt : cx_b x + j < ((T0.setVm vm₁).setVm vm₂).heap.size := (Array.getElem?_eq_some_iff.mp hcell).1
  have hU := heapAt_setCell_self (s := (T0.setVm vm₁).setVm vm₂) ((preparedCellV T.toThrowableT cell (cx_b x + j) ⟨vU, u9⟩ ⟨vV, v9⟩).setSlot T.fStack.slot vU) hlt
  generalize hT2 : ((T0.setVm vm₁).setVm vm₂).setCell (cx_b x + j) ((preparedCellV T.toThrowableT cell (cx_b x + j) ⟨vU, u9⟩ ⟨vV, v9⟩).setSlot T.fStack.slot vU) = T2 at X₂ st2 hU
  have zz : T2.heap.size = H.size := by rw [← hT2, size_setCell, ← hT]; rfl
  have oq : ∀ q : Nat, q ≠ cx_b x + j → T2.heap[q]? = H[q]? := fun q hq => by rw [← hT2, heapAt_setCell_ne _ (Ne.symm hq), ← hT]; rfl
  have hS : fb_S x T2.heap (locs ++ [⟨cx_b x + j, T.fCause.slot⟩, ⟨cx_b x + j, T.fStack.slot⟩, ⟨cx_b x + j, T.fSupp.slot⟩, ⟨cx_b x + j, T.fStack.slot⟩]) := by
    refine ⟨by rw [zz]; exact g2.1, fun q w1 w2 => ?_, fun q hq => ?_⟩
    · rw [oq q (fun e => w2 (by rw [e]; exact Nat.le_add_right _ _))]
      exact g2.2.1 q w1 w2
    · rcases List.mem_append.mp hq with w | w
      · exact g2.2.2 q w
      · show cx_b x ≤ q.base
        simp only [List.mem_cons, List.not_mem_nil, or_false] at w
        rcases w with rfl | rfl | rfl | rfl <;> exact Nat.le_add_right _ _
  have hP : fb_HP (cx_D x) (cx_b x) (M.set j (ob 11 [.ref (cx_b x + j), vU, vV, .null, .null, .int 0, v])) T2.heap := g1.set hM ⟨⟨_, rfl, by
    refine ⟨_, hU, c2, c3, ?_⟩
    rw [preparedCellV, s0, s1, s2]
    intro i hi
    have := t_set (t_set (t_set (t_set c4 hap (k := 0) (by decide) (.ref (cx_b x + j))) hap (k := 1) (by decide) vU) hap (k := 2) (by decide) vV) hap (k := 1) (by decide) vU i hi
    refine this.trans (congrArg some ?_)
    have hi : i < 7 := hi
    have h7 : i = 0 ∨ i = 1 ∨ i = 2 ∨ i = 3 ∨ i = 4 ∨ i = 5 ∨ i = 6 := by omega
    rcases h7 with rfl | rfl | rfl | rfl | rfl | rfl | rfl <;> rfl⟩, ⟨_, hU, m2, m3⟩⟩ zz oq
  obtain ⟨t, a1, b1⟩ := kk vU vV _ _ ls hP hS g3 T2 rfl X₂
  refine ⟨t, st1 _ (fun acts => ?_), b1⟩
  rw [doInvoke_state]
  exact st2 _ a1
