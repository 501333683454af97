/-! calls: how an invoking instruction comes to its callee (fb_Inv), the callee's contract run from there, with an answer or with a throw -/
set_option maxRecDepth 100000
def fb_Inv (x : fb_X) (H : Heap) (locs : List Loc) (k n : Nat) (g0 : JFrame) (rest : List Value) (y : MethodName) (av : List Value) : Prop :=
  ∀ T : State, T.heap = H → fb_St x T locs k n → ∃ (vm₁ : Vm) (mk : MethodId), fb_St x (T.setVm vm₁) locs k n ∧ (T.setVm vm₁).methodNamed? y = some mk ∧ ∀ target, Steps (cx_p x).tables (cx_e x) (cx_w x) (doInvoke (cx_e x) ((T.setVm vm₁).setTop { g0 with stack := rest }) [] mk av.toArray).1 target → Steps (cx_p x).tables (cx_e x) (cx_w x) (T.setTop g0) target
/-- at a site: for every heap that the list M describes -/
def fb_Site (x : fb_X) (M : List va_E) (k n pc : Nat) (lv : List (Option Value)) (st rest : List Value) (y : MethodName) (av : List Value) : Prop :=
  ∀ (H : Heap) (locs : List Loc) (ls : Array Slot), fb_HP (cx_D x) (cx_b x) M H → fb_LV ls (cx_c x).maxLocals lv → fb_Inv x H locs k n (F0 (cx_m x) pc ls st) rest y av
theorem ix_V {x : fb_X} {cc : ByteArray} {own nm : String} {M : List va_E} {k n pc : Nat} {lv : List (Option Value)} {st : List Value} {idx j ci L : Nat} {fs As rest : List Value} {rc : vw_C} {y : MethodName} {bytes : ByteArray} {r : Option FieldType} (C : fb_OK x cc own nm) (hl : Cond.methodLink own idx y ∈ lw_all) (hin : Cond.instanceMethod y ∈ lw_all) (hsel : Cond.selects rc.1 y y ∈ lw_all) (hcd : Cond.code y bytes L r ∈ lw_all) (hy : y.cls ≠ "java/lang/invoke/MethodHandle" ∧ y.cls ≠ "java/lang/invoke/VarHandle") (hn : (parseMethodDescriptor y.desc).map (fun d => d.parameters.length) = some As.length) (hM : M[j]? = some (ob ci fs)) (hc : fb_cl[ci]? = some rc) (hst : st = As.reverse ++ .ref (cx_b x + j) :: rest) (d : decode cc pc = .ok (.invokevirtual idx, 3)) : fb_Site x M k n pc lv st rest y (.ref (cx_b x + j) :: As) := by
  intro H locs ls g1 g3 T hT X
  obtain ⟨cellB, hcB, hoB, hclB⟩ := va_recv C.K (fb_HP.one g1 hM) hc (q0 := 0) rfl
  obtain ⟨mk, methM, hnamed, hmethM, hstM, habM⟩ := Cond.instanceMethod_spec (C.wd hin)
  obtain ⟨methM', cM, hmethM', -, -, -, -, -, -, hsigM⟩ := Cond.code_spec hnamed (C.wd hcd)
  cases hmethM.symm.trans hmethM'
  obtain ⟨c2, r2, m2, q1, q2, q3, q4, kP, hkP, hkPi⟩ := Cond.selects_spec (C.wd hsel)
  cases hclB.symm.trans q1
  cases (State.methodFound?_of_named hnamed hy).symm.trans q2
  cases hnamed.symm.trans q3
  have hselP : selectMethod (cx_e x).platform (cx_s x).vm cellB.cls mk = .method mk := by rw [Launch.admits_selectMethod X.admits]; exact q4
  obtain ⟨vm₁, X₁, hstep₁⟩ := X.invokevirtual C.exec C.own (C.wd hl) hnamed hmethM hstM hkP hkPi hy (a := cx_b x + j) (cell := cellB) (by rw [hT]; exact hcB)
    (fun z h => by rw [h] at hoB; cases hoB) hselP hmethM habM hkP hkPi (g := F0 (cx_m x) pc ls st) rfl (argsL := As) (rest := rest) (by have hz := hn; rw [hsigM] at hz; exact (Option.some.inj hz).symm) hst (by rw [C.code]; exact d)
  exact ⟨vm₁, mk, X₁, X₁.named hnamed, fun target h => hstep₁ _ fun acts => by rw [doInvoke_state]; exact h⟩
/-- a call with handlers in the callee (codeWith) -/
theorem ix_VW {x : fb_X} {cc : ByteArray} {own nm : String} {M : List va_E} {k n pc : Nat} {lv : List (Option Value)} {st : List Value} {idx j ci L : Nat} {fs As rest : List Value} {rc : vw_C} {y : MethodName} {bytes : ByteArray} {r : Option FieldType} {hh : List (Nat × Nat × Nat × Nat)} (C : fb_OK x cc own nm) (hl : Cond.methodLink own idx y ∈ lw_all) (hin : Cond.instanceMethod y ∈ lw_all) (hsel : Cond.selects rc.1 y y ∈ lw_all) (hcd : Cond.codeWith y bytes L r hh ∈ lw_all) (hy : y.cls ≠ "java/lang/invoke/MethodHandle" ∧ y.cls ≠ "java/lang/invoke/VarHandle") (hn : (parseMethodDescriptor y.desc).map (fun d => d.parameters.length) = some As.length) (hM : M[j]? = some (ob ci fs)) (hc : fb_cl[ci]? = some rc) (hst : st = As.reverse ++ .ref (cx_b x + j) :: rest) (d : decode cc pc = .ok (.invokevirtual idx, 3)) : fb_Site x M k n pc lv st rest y (.ref (cx_b x + j) :: As) := by
  intro H locs ls g1 g3 T hT X
  obtain ⟨cellB, hcB, hoB, hclB⟩ := va_recv C.K (fb_HP.one g1 hM) hc (q0 := 0) rfl
  obtain ⟨mk, methM, hnamed, hmethM, hstM, habM⟩ := Cond.instanceMethod_spec (C.wd hin)
  obtain ⟨m9, methM', cM, hn9, hmethM', -, -, -, -, -, -, hsigM⟩ := Cond.codeWith_spec (C.wd hcd)
  cases hnamed.symm.trans hn9
  cases hmethM.symm.trans hmethM'
  obtain ⟨c2, r2, m2, q1, q2, q3, q4, kP, hkP, hkPi⟩ := Cond.selects_spec (C.wd hsel)
  cases hclB.symm.trans q1
  cases (State.methodFound?_of_named hnamed hy).symm.trans q2
  cases hnamed.symm.trans q3
  have hselP : selectMethod (cx_e x).platform (cx_s x).vm cellB.cls mk = .method mk := by rw [Launch.admits_selectMethod X.admits]; exact q4
  obtain ⟨vm₁, X₁, hstep₁⟩ := X.invokevirtual C.exec C.own (C.wd hl) hnamed hmethM hstM hkP hkPi hy (a := cx_b x + j) (cell := cellB) (by rw [hT]; exact hcB)
    (fun z h => by rw [h] at hoB; cases hoB) hselP hmethM habM hkP hkPi (g := F0 (cx_m x) pc ls st) rfl (argsL := As) (rest := rest) (by have hz := hn; rw [hsigM] at hz; exact (Option.some.inj hz).symm) hst (by rw [C.code]; exact d)
  exact ⟨vm₁, mk, X₁, X₁.named hnamed, fun target h => hstep₁ _ fun acts => by rw [doInvoke_state]; exact h⟩
/-- the method y that the receiver's class selects for the named one z (of owner) -/
theorem ix_U {x : fb_X} {cc : ByteArray} {own nm : String} {M : List va_E} {k n pc : Nat} {lv : List (Option Value)} {st : List Value} {idx j ci : Nat} {fs As rest : List Value} {rc : vw_C} {y z : MethodName} {owner : String} (C : fb_OK x cc own nm) (hl : Cond.methodLink own idx z ∈ lw_all) (hsm : Cond.sameMethod z.cls owner z.name z.desc ∈ lw_all) (hd0 : va_Decl (cx_s x) ⟨owner, z.name, z.desc⟩) (hsel : Cond.selects rc.1 z y ∈ lw_all) (hin : Cond.instanceMethod y ∈ lw_all) (hy : owner ≠ "java/lang/invoke/MethodHandle" ∧ owner ≠ "java/lang/invoke/VarHandle") (hn : (parseMethodDescriptor z.desc).map (fun d => d.parameters.length) = some As.length) (hM : M[j]? = some (ob ci fs)) (hc : fb_cl[ci]? = some rc) (hst : st = As.reverse ++ .ref (cx_b x + j) :: rest) (d : decode cc pc = .ok (.invokevirtual idx, 3)) : fb_Site x M k n pc lv st rest y (.ref (cx_b x + j) :: As) := by
  intro H locs ls g1 g3 T hT X
  obtain ⟨cellB, hcB, hoB, hclB⟩ := va_recv C.K (fb_HP.one g1 hM) hc (q0 := 0) rfl
  obtain ⟨r0, r, hnn, hrm, hstR, hsigM⟩ := hd0
  obtain ⟨cn, ck, r1, hcn, hck, hni, hf, hn1⟩ := Cond.sameMethod_found (C.wd hsm)
  cases hnn.symm.trans hn1
  obtain ⟨mk, methM, hnamed, hmethM, -, habM⟩ := Cond.instanceMethod_spec (C.wd hin)
  obtain ⟨c2, r2, m2, q1, q2, q3, q4, kP, hkP, hkPi⟩ := Cond.selects_spec (C.wd hsel)
  cases hclB.symm.trans q1
  cases hf.symm.trans q2
  cases hnamed.symm.trans q3
  have hselP : selectMethod (cx_e x).platform (cx_s x).vm cellB.cls r0 = .method mk := by rw [Launch.admits_selectMethod X.admits]; exact q4
  obtain ⟨vm₁, X₁, hstep₁⟩ := X.invokevirtualUp C.exec C.own (C.wd hl) (C.wd hsm) hy hnn hrm hstR (a := cx_b x + j) (cell := cellB) (by rw [hT]; exact hcB)
    (fun z h => by rw [h] at hoB; cases hoB) hselP hmethM habM hkP hkPi (g := F0 (cx_m x) pc ls st) rfl (argsL := As) (rest := rest) (by have hz := hn; rw [hsigM] at hz; exact (Option.some.inj hz).symm) hst (by rw [C.code]; exact d)
  exact ⟨vm₁, mk, X₁, X₁.named hnamed, fun target h => hstep₁ _ fun acts => by rw [doInvoke_state]; exact h⟩
theorem ix_S {x : fb_X} {cc : ByteArray} {own nm : String} {M : List va_E} {k n pc : Nat} {lv : List (Option Value)} {st : List Value} {idx L : Nat} {As rest : List Value} {y : MethodName} {bytes : ByteArray} {r : Option FieldType} (C : fb_OK x cc own nm) (hl : Cond.methodLink own idx y ∈ lw_all) (hs : Cond.static y ∈ lw_all) (hini : Cond.initialized y.cls ∈ lw_all) (hcd : Cond.code y bytes L r ∈ lw_all) (hy : y.cls ≠ "java/lang/invoke/MethodHandle" ∧ y.cls ≠ "java/lang/invoke/VarHandle") (hn : (parseMethodDescriptor y.desc).map (fun d => d.parameters.length) = some As.length) (hst : st = As.reverse ++ rest) (d : decode cc pc = .ok (.invokestatic idx, 3)) : fb_Site x M k n pc lv st rest y As := by
  intro H locs ls g1 g3 T hT X
  obtain ⟨mk, hnamed⟩ := Cond.code_named (C.wd hcd)
  obtain ⟨methM, cM, hmethM, -, -, -, -, -, -, hsigM⟩ := Cond.code_spec hnamed (C.wd hcd)
  have hstatic : methM.isStatic = true := Cond.static_spec hnamed hmethM (C.wd hs)
  obtain ⟨kP, hkP, -⟩ := className_of_methodNamed hnamed
  have hinitP : kP.init = .initialized := Cond.initialized_spec (findClass_of_methodNamed hnamed) hkP (C.wd hini)
  obtain ⟨vm₁, X₁, hstep₁⟩ := X.invokestatic C.exec C.own (C.wd hl) hnamed hmethM hstatic hkP hinitP hy (g := F0 (cx_m x) pc ls st) rfl (argsL := As) (rest := rest) (by have hz := hn; rw [hsigM] at hz; exact (Option.some.inj hz).symm) hst (by rw [C.code]; exact d)
  exact ⟨vm₁, mk, X₁, X₁.named hnamed, fun target h => hstep₁ _ fun acts => by rw [doInvoke_state]; exact h⟩
theorem ix_SN {x : fb_X} {cc : ByteArray} {own nm : String} {M : List va_E} {k n pc : Nat} {lv : List (Option Value)} {st : List Value} {idx L : Nat} {As rest : List Value} {y : MethodName} {bytes : ByteArray} {r : Option FieldType} (C : fb_OK x cc own nm) {host : String} (hl : Cond.methodLinkNest own idx y host ∈ lw_tbl) (hs : Cond.static y ∈ lw_all) (hini : Cond.initialized y.cls ∈ lw_all) (hcd : Cond.code y bytes L r ∈ lw_all) (hy : y.cls ≠ "java/lang/invoke/MethodHandle" ∧ y.cls ≠ "java/lang/invoke/VarHandle") (hn : (parseMethodDescriptor y.desc).map (fun d => d.parameters.length) = some As.length) (hst : st = As.reverse ++ rest) (d : decode cc pc = .ok (.invokestatic idx, 3)) : fb_Site x M k n pc lv st rest y As := by
  intro H locs ls g1 g3 T hT X
  obtain ⟨mk, hnamed⟩ := Cond.code_named (C.wd hcd)
  obtain ⟨methM, cM, hmethM, -, -, -, -, -, -, hsigM⟩ := Cond.code_spec hnamed (C.wd hcd)
  have hstatic : methM.isStatic = true := Cond.static_spec hnamed hmethM (C.wd hs)
  obtain ⟨kP, hkP, -⟩ := className_of_methodNamed hnamed
  have hinitP : kP.init = .initialized := Cond.initialized_spec (findClass_of_methodNamed hnamed) hkP (C.wd hini)
  obtain ⟨vm₁, X₁, hstep₁⟩ := X.invokestaticNest C.exec C.own (va_Nw.use rfl (C.nw hl rfl)) hnamed hmethM hstatic hkP hinitP hy (g := F0 (cx_m x) pc ls st) rfl (argsL := As) (rest := rest) (by have hz := hn; rw [hsigM] at hz; exact (Option.some.inj hz).symm) hst (by rw [C.code]; exact d)
  exact ⟨vm₁, mk, X₁, X₁.named hnamed, fun target h => hstep₁ _ fun acts => by rw [doInvoke_state]; exact h⟩
theorem ix_I {x : fb_X} {cc : ByteArray} {own nm : String} {M : List va_E} {k n pc : Nat} {lv : List (Option Value)} {st : List Value} {idx L a : Nat} {As rest : List Value} {y : MethodName} {bytes : ByteArray} (C : fb_OK x cc own nm) (hl : Cond.methodLink own idx y ∈ lw_all) (hin : Cond.instanceMethod y ∈ lw_all) (hcd : Cond.code y bytes L none ∈ lw_all) (hy1 : y.name = "<init>") (hy : y.cls ≠ "java/lang/invoke/MethodHandle" ∧ y.cls ≠ "java/lang/invoke/VarHandle") (hn : (parseMethodDescriptor y.desc).map (fun d => d.parameters.length) = some As.length) (hst : st = As.reverse ++ .ref a :: rest) (d : decode cc pc = .ok (.invokespecial idx, 3)) : fb_Site x M k n pc lv st rest y (.ref a :: As) := by
  intro H locs ls g1 g3 T hT X
  have hpl : (cx_e x).platform.magicAccessors = ({} : Platform).magicAccessors := by rw [X.admits.platform]
  obtain ⟨mk, methM, cM, kP, vm₁, hnamed, hmethM, hcodeM, -, hlocalsM, -, hkP, -, hW₁, hstep₁⟩ := Steps.initColdArgs (e := cx_e x) X.here C.exec X.warmed hpl C.own hy1 hy (C.wd hl) (C.wd hin) (C.wd hcd) (f := F0 (cx_m x) pc ls st) rfl (argsL := As) (rest := rest) (fun sig hsigM => (by have hz := hn; rw [hsigM] at hz; exact (Option.some.inj hz).symm)) hst (by rw [C.code]; exact d)
  have X₁ := X.noted hW₁
  exact ⟨vm₁, mk, X₁, X₁.named hnamed, fun target h => hstep₁ _ fun acts => by rw [doInvoke_state]; exact h⟩
theorem ix_IN {x : fb_X} {cc : ByteArray} {own nm : String} {M : List va_E} {k n pc : Nat} {lv : List (Option Value)} {st : List Value} {idx L a : Nat} {As rest : List Value} {y : MethodName} {bytes : ByteArray} (C : fb_OK x cc own nm) {host : String} (hl : Cond.methodLinkNest own idx y host ∈ lw_tbl) (hin : Cond.instanceMethod y ∈ lw_all) (hcd : Cond.code y bytes L none ∈ lw_all) (hy1 : y.name = "<init>") (hy : y.cls ≠ "java/lang/invoke/MethodHandle" ∧ y.cls ≠ "java/lang/invoke/VarHandle") (hn : (parseMethodDescriptor y.desc).map (fun d => d.parameters.length) = some As.length) (hst : st = As.reverse ++ .ref a :: rest) (d : decode cc pc = .ok (.invokespecial idx, 3)) : fb_Site x M k n pc lv st rest y (.ref a :: As) := by
  intro H locs ls g1 g3 T hT X
  have hpl : (cx_e x).platform.magicAccessors = ({} : Platform).magicAccessors := by rw [X.admits.platform]
  obtain ⟨mk, methM, cM, kP, vm₁, hnamed, hmethM, hcodeM, -, hlocalsM, -, hkP, -, hW₁, hstep₁⟩ := Steps.initColdArgsNest (e := cx_e x) X.here C.exec X.warmed hpl C.own hy1 hy (va_Nw.use rfl (C.nw hl rfl)) (C.wd hin) (C.wd hcd) (f := F0 (cx_m x) pc ls st) rfl (argsL := As) (rest := rest) (fun sig hsigM => (by have hz := hn; rw [hsigM] at hz; exact (Option.some.inj hz).symm)) hst (by rw [C.code]; exact d)
  have X₁ := X.noted hW₁
  exact ⟨vm₁, mk, X₁, X₁.named hnamed, fun target h => hstep₁ _ fun acts => by rw [doInvoke_state]; exact h⟩
theorem ix_SU {x : fb_X} {cc : ByteArray} {own nm : String} {M : List va_E} {k n pc : Nat} {lv : List (Option Value)} {st : List Value} {idx j ci L : Nat} {fs As rest : List Value} {rc : vw_C} {y : MethodName} {bytes : ByteArray} {r : Option FieldType} (C : fb_OK x cc own nm) (hl : Cond.methodLink own idx y ∈ lw_all) (hsm : Cond.sameMethod y.cls y.cls y.name y.desc ∈ lw_all) (hsup : Cond.superclass own y.cls ∈ lw_all) (hin : Cond.instanceMethod y ∈ lw_all) (hcd : Cond.code y bytes L r ∈ lw_all) (hno : y.name ≠ "<init>") (hn : (parseMethodDescriptor y.desc).map (fun d => d.parameters.length) = some As.length) (hM : M[j]? = some (ob ci fs)) (hc : fb_cl[ci]? = some rc) (hst : st = As.reverse ++ .ref (cx_b x + j) :: rest) (d : decode cc pc = .ok (.invokespecial idx, 3)) : fb_Site x M k n pc lv st rest y (.ref (cx_b x + j) :: As) := by
  intro H locs ls g1 g3 T hT X
  obtain ⟨cellB, hcB, hoB, hclB⟩ := va_recv C.K (fb_HP.one g1 hM) hc (q0 := 0) rfl
  obtain ⟨hfc, kB, hkB, -⟩ := (C.K.1 ci rc hc).2
  have hcc : cellB.cls = (cx_D x).1 ci := Option.some.inj (hclB.symm.trans hfc)
  obtain ⟨mk, methM, hnamed, hmethM, hstM, habM⟩ := Cond.instanceMethod_spec (C.wd hin)
  obtain ⟨methM', cM, hmethM', -, -, -, -, -, -, hsigM⟩ := Cond.code_spec hnamed (C.wd hcd)
  cases hmethM.symm.trans hmethM'
  obtain ⟨ps, dk, kp, hps, hdk, hkp, hsuper, -, -, hnid⟩ := Cond.superclass_spec C.own (C.wd hsup)
  have hnn : (cx_s x).methodNamed? ⟨y.cls, y.name, y.desc⟩ = some mk := hnamed
  have hpm : ps = mk.cls := Option.some.inj (hps.symm.trans (findClass_of_methodNamed hnamed))
  have hsub : (cx_s x).vm.isSubclass ps mk.cls = true := by rw [hpm]; simp [Vm.isSubclass, Vm.isSubclassAux]
  obtain ⟨vm₁, X₁, hstep₁⟩ := X.invokespecialUp C.exec C.own (C.wd hl) (C.wd hsm) hnn hmethM hstM habM hno hdk hnid hps hsuper hsub (a := cx_b x + j) (cell := cellB) (by rw [hT]; exact hcB)
    (fun z h => by rw [h] at hoB; cases hoB) (by rw [hcc]; exact hkB) (g := F0 (cx_m x) pc ls st) rfl (argsL := As) (rest := rest) (by have hz := hn; rw [hsigM] at hz; exact (Option.some.inj hz).symm) hst (by rw [C.code]; exact d)
  exact ⟨vm₁, mk, X₁, X₁.named hnamed, fun target h => hstep₁ _ (by rw [doInvoke_state]; exact h)⟩
/-- the callee returned: the caller's body goes on -/
theorem fb_runR {x : fb_X} {cc cy : ByteArray} {own nm : String} {M : List va_E} {k n pc : Nat} {ls : Array Slot} {st rest : List Value} {y : MethodName} {av : List Value} {L L' : Nat} {r r' : Option FieldType} {o : Outcome} {Rel Rel' : List va_E → Prop} {fr lo mc ms fr' lo' mc' ms' : Nat} {v : Option Value} {H : Heap} {locs : List Loc} {ig : Instr} 
    (C : fb_OK x cc own nm) (E : fb_RT x L r o Rel fr lo mc ms) (hI : fb_Inv x H locs k n (F0 (cx_m x) pc ls st) rest y av) (hCT : fb_CT (cx_l x) (cx_D x) (cx_b x) y cy L' r' fr' lo' mc' ms' av M (.returned v) Rel') (hcd : Cond.code y cy L' r' ∈ lw_all) (hini : Cond.initialized y.cls ∈ lw_all) (hfr : fr' + 1 ≤ fr) (hlo : 8 + (L' + 11) + lo' ≤ lo) (hW : (rest.map fun v => v.category).sum ≤ 8) (h1 : k + mc' ≤ mc) (h2 : n + ms' ≤ ms) (d : decode cc pc = .ok (ig, 3)) (g1 : fb_HP (cx_D x) (cx_b x) M H) (g2 : fb_S x H locs) (g3 : ls.size = (cx_c x).maxLocals)
    (kk : ∀ (H1 : Heap) (locs1 : List Loc) (M' : List va_E), Rel' M' → fb_HP (cx_D x) (cx_b x) M' H1 → fb_S x H1 locs1 → fb_W x H1 locs1 (k + mc') (n + ms') (F0 (cx_m x) (pc + 3) ls (v.toList ++ rest))) : fb_W x H locs k n (F0 (cx_m x) pc ls st) := by
  have hMet : Met (cx_l x) y (ws_ y cy L' r') ({ frames := fr', cells := mc', slots := ms', locals := lo' } : Room) (fb_Pc (cx_D x) (cx_b x) av M) (fun _ s' o' t => o' = .returned v ∧ (∃ M' : List va_E, Rel' M' ∧ fb_HP (cx_D x) (cx_b x) M' t.heap) ∧ va_F (fun q => cx_b x ≤ q) s' t) mc' ms' (fun q => cx_b x ≤ q) := by
    refine fb_mono (hCT C.fl) ?_
    intro a s o t ⟨e1, e2, ⟨L', e3, e4⟩, e5, e6⟩
    exact ⟨⟨e1, e5, e6⟩, L', ⟨⟨v, e1⟩, e2, e3⟩, e4⟩
  have hB := back_of (R := cx_R x) (p := cx_p x) (e := cx_e x) (below := cx_w x) (s := cx_s x) (sargs := cx_a x) (len := 3) (W := 8) (bytes := cy) (maxL := L') (ret := r') hMet (fun a U g mk h => ⟨h.1, h.2.1, h.2.2.calling⟩) rfl rfl (by rw [E.2.2.1]; exact hfr) (by rw [E.2.2.1]; exact hlo) (pay_in C.wds (lw_meth hcd)) List.mem_cons_self (fun a' U hW => word_at hW (Or.inl (by first | rfl | simp [Cond.onTables, Cond.keeps, Cond.steady])) (C.wd hini))
  intro T hT X
  obtain ⟨vm₁, mk, X₁, hmk, hst⟩ := hI T hT X
  have hU : (T.setVm vm₁).heap = H := hT
  obtain ⟨v', B, X', ⟨g', mk', t, L'', b1, b2, ⟨b3, ⟨M', b4, b5⟩, b6⟩, b7, b8, b9, b10⟩, hs⟩ := hB (cx_m x) (cx_t x) (cx_c x) ⟨T.setVm vm₁, locs, k, n⟩ { F0 (cx_m x) pc ls st with stack := rest } ig mk av.toArray X₁ rfl g3 (by rw [C.code]; exact d) (by show 2 * 0 + (rest.map fun v => v.category).sum ≤ 8; omega) hmk
    ⟨by rw [E.2.2.1]; exact h1, by rw [E.2.2.1]; exact h2, rfl, by rw [hU]; exact g1, C.kk.moved X₁.warmed (fun a ha hb => by rw [hU]; exact g2.2.1 a ha hb)⟩
  obtain ⟨U', locs', k', n'⟩ := B
  dsimp only [Pt.U, Pt.locs, Pt.cells, Pt.slots] at X' b1 b2 b6 b7 b9 b10 hs
  cases b3
  subst b7 b9 b10
  have hb6 : va_F (fun q => cx_b x ≤ q) (T.setVm vm₁) t := b6
  have hf : ∀ q : Nat, q < H.size → ¬ cx_b x ≤ q → t.heap[q]? = H[q]? := fun q e1 e2 => by
    have := hb6.2 q (by rw [hU]; exact e1) e2
    rw [hU] at this
    exact this
  obtain ⟨t2, a1, b1'⟩ := kk U'.heap (locs ++ L'') M' b4 (by rw [b1]; exact b5) ⟨by rw [b1]; exact Nat.le_trans g2.1 (by have := hb6.1; rw [hU] at this; exact this), fun q e1 e2 => by rw [b1, hf q (Nat.lt_of_lt_of_le e1 g2.1) e2]; exact g2.2.1 q e1 e2, fun q hq => by
      rcases List.mem_append.mp hq with h | h
      · exact g2.2.2 q h
      · exact b8 q h⟩ U' rfl X'
  exact ⟨t2, hst _ (hs.trans a1), b1'⟩
/-- the callee threw: the note lies over the caller's frame -/
theorem fb_runT {x : fb_X} {cc cy : ByteArray} {own nm : String} {M : List va_E} {k n pc : Nat} {ls : Array Slot} {st rest : List Value} {y : MethodName} {av : List Value} {L L' : Nat} {r r' : Option FieldType} {o : Outcome} {Rel Rel' : List va_E → Prop} {fr lo mc ms fr' lo' mc' ms' a0 : Nat} {H : Heap} {locs : List Loc} {ig : Instr} 
    (C : fb_OK x cc own nm) (E : fb_RT x L r o Rel fr lo mc ms) (hI : fb_Inv x H locs k n (F0 (cx_m x) pc ls st) rest y av) (hCT : fb_CT (cx_l x) (cx_D x) (cx_b x) y cy L' r' fr' lo' mc' ms' av M (.threw a0) Rel') (hcd : Cond.code y cy L' r' ∈ lw_all) (hini : Cond.initialized y.cls ∈ lw_all) (hfr : fr' + 1 ≤ fr) (hlo : 8 + (L' + 11) + lo' ≤ lo) (hW : (rest.map fun v => v.category).sum ≤ 8) (h1 : k + mc' ≤ mc) (h2 : n + ms' ≤ ms) (d : decode cc pc = .ok (ig, 3)) (g1 : fb_HP (cx_D x) (cx_b x) M H) (g2 : fb_S x H locs) (g3 : ls.size = (cx_c x).maxLocals)
    (T : State) (hT : T.heap = H) (X : fb_St x T locs k n) : ∃ (T' : State) (locs1 : List Loc) (M' : List va_E), Rel' M' ∧ fb_HP (cx_D x) (cx_b x) M' T'.heap ∧ fb_S x T'.heap locs1 ∧ fb_St x T' locs1 (k + mc') (n + ms') ∧ ∀ target, Steps (cx_p x).tables (cx_e x) (cx_w x) ((T'.setTop { F0 (cx_m x) pc ls st with stack := rest }).pushFrame (.throwing a0)) target → Steps (cx_p x).tables (cx_e x) (cx_w x) (T.setTop (F0 (cx_m x) pc ls st)) target := by
  obtain ⟨vm₁, mk, X₁, hmk, hst⟩ := hI T hT X
  have hU : (T.setVm vm₁).heap = H := hT
  have hM := hCT C.fl
  have hws : ∀ w ∈ ws_ y cy L' r', ∀ (a' : Array Value) (U : State), (cx_s x).WarmedH U.vm → w.before a' U = true := pay_in C.wds (lw_meth hcd)
  have hcode := hws _ List.mem_cons_self av.toArray (T.setVm vm₁) X₁.warmed
  have hinit : (Cond.initialized y.cls).before av.toArray (T.setVm vm₁) = true := word_at X₁.warmed (Or.inl (by first | rfl | simp [Cond.onTables, Cond.keeps, Cond.steady])) (C.wd hini)
  obtain ⟨methY, cY, hmY, hcY, -, hlY, -, -, -, -⟩ := Cond.code_spec hmk hcode
  obtain ⟨kY, hkY, -⟩ := className_of_methodNamed hmk
  have hinitY : kY.init = .initialized := Cond.initialized_spec (findClass_of_methodNamed hmk) hkY hinit
  have hat : At (T.setVm vm₁) ({ F0 (cx_m x) pc ls st with stack := rest } : JFrame).method (cx_c x) (cx_w x) := X₁.here
  have dg : decode (cx_c x).code ({ F0 (cx_m x) pc ls st with stack := rest } : JFrame).pc = .ok (ig, 3) := by rw [C.code]; exact d
  have happ : (headSpec (ws_ y cy L' r') ({ frames := fr', cells := mc', slots := ms', locals := lo' } : Room)).appliesLoose y (cx_e x).platform ((T.setVm vm₁).calling { F0 (cx_m x) pc ls st with stack := rest } mk av.toArray) = true :=
    Spec.appliesLoose_calling (g := { F0 (cx_m x) pc ls st with stack := rest }) hat dg hmk hkY hinitY
      (X₁.room_calling (g := { F0 (cx_m x) pc ls st with stack := rest }) (R' := ({ frames := fr', cells := mc', slots := ms', locals := lo' } : Room)) g3 hmY hcY (by rw [E.2.2.1]; exact hfr) (by rw [hlY, E.2.2.1]; show 2 * 0 + (rest.map fun v => v.category).sum + (L' + 11) + lo' ≤ lo; omega) (by rw [E.2.2.1]; exact h1) (by rw [E.2.2.1]; exact h2)) (atoms_intro fun w hw => hws w hw _ _ X₁.warmed)
  obtain ⟨mid, hmid⟩ := hat.above
  have hfrm : ((T.setVm vm₁).setTop { F0 (cx_m x) pc ls st with stack := rest }).frames = (.java { F0 (cx_m x) pc ls st with stack := rest } :: mid) ++ (cx_w x) := by rw [State.frames_setTop' _ hat.top, hmid]; rfl
  obtain ⟨o', s₂, hsteps, -, hend, hq⟩ := Steps.callFree hM (cx_p x) X₁.admits X₁.cas X₁.clock (acts := []) hfrm happ ⟨rfl, by show fb_HP _ _ _ (T.setVm vm₁).heap; rw [hU]; exact g1, (C.kk.moved X₁.warmed (fun a ha hb => by rw [hU]; exact g2.2.1 a ha hb)).calling⟩ trivial
  obtain ⟨rfl, b2, ⟨L'', b3, b4⟩, ⟨M', b5, b6⟩, b7⟩ := hq
  rw [State.frames_setTop' _ hat.top] at hend
  have hmid0 : (T.setVm vm₁).frames.tail = cx_w x := X₁.tail
  rw [hmid0] at hend
  obtain ⟨T', X', hW', hsame', ht⟩ := X₁.outOfThrown (g := { F0 (cx_m x) pc ls st with stack := rest }) rfl hend b2 b3
  have hheap : T'.heap = s₂.heap := by rw [ht]; exact (throwing_heap T' _ _).symm
  have hb7 : va_F (fun q => cx_b x ≤ q) (T.setVm vm₁) s₂ := b7
  have hf : ∀ q : Nat, q < H.size → ¬ cx_b x ≤ q → s₂.heap[q]? = H[q]? := fun q e1 e2 => by
    have := hb7.2 q (by rw [hU]; exact e1) e2
    rw [hU] at this
    exact this
  refine ⟨T', locs ++ L'', M', b5, by rw [hheap]; exact b6, ⟨by rw [hheap]; exact Nat.le_trans g2.1 (by have := hb7.1; rw [hU] at this; exact this), fun q e1 e2 => by rw [hheap, hf q (Nat.lt_of_lt_of_le e1 g2.1) e2]; exact g2.2.1 q e1 e2, fun q hq => by
      rcases List.mem_append.mp hq with h | h
      · exact g2.2.2 q h
      · exact b4 q h⟩, X', fun target h => hst _ (hsteps.trans (by rw [ht]; exact h))⟩
/-- a call of a method that leaves the heap as it is: its answer v -/
theorem gx_cp {x : fb_X} {cc : ByteArray} {own nm : String} {M : List va_E} {k n pc q : Nat} {lv : List (Option Value)} {st : List Value} {L : Nat} {r : Option FieldType} {o : Outcome} {Rel : List va_E → Prop} {fr lo mc ms : Nat} {cy : ByteArray} {rest av : List Value} {y : MethodName} {L' fr' lo' : Nat} {r' : Option FieldType} {v : Value} {ig : Instr} (C : fb_OK x cc own nm) (E : fb_RT x L r o Rel fr lo mc ms) (hI : fb_Site x M k n pc lv st rest y av) (hCT : fb_CT (cx_l x) (cx_D x) (cx_b x) y cy L' r' fr' lo' 0 0 av M (.returned (some v)) (fun M' => M' = M)) (hw : Cond.code y cy L' r' ∈ lw_all ∧ Cond.initialized y.cls ∈ lw_all) (hR : fr' + 1 ≤ fr ∧ 8 + (L' + 11) + lo' ≤ lo) (hW : (rest.map fun v => v.category).sum ≤ 8) (h1 : k ≤ mc) (h2 : n ≤ ms) (d : decode cc pc = .ok (ig, 3)) (hq : pc + 3 = q) (kk : fb_G x M k n q lv (v :: rest)) : fb_G x M k n pc lv st := by
  subst hq
  exact fun H locs ls g1 g2 g3 => fb_runR C E (hI H locs ls g1 g3) hCT hw.1 hw.2 hR.1 hR.2 hW h1 h2 d g1 g2 g3.1 (fun H1 locs1 M' hM' e1 e2 => by subst hM'; exact kk H1 locs1 ls e1 e2 g3)
/-- a call that answers v and leaves a heap of Rel' -/
theorem gx_cs {x : fb_X} {cc : ByteArray} {own nm : String} {M : List va_E} {k n pc q : Nat} {lv : List (Option Value)} {st : List Value} {L : Nat} {r : Option FieldType} {o : Outcome} {Rel : List va_E → Prop} {fr lo mc ms : Nat} {cy : ByteArray} {rest av : List Value} {y : MethodName} {L' fr' lo' mc' ms' k' n' : Nat} {r' : Option FieldType} {v : Value} {ig : Instr} {Rel' : List va_E → Prop} (C : fb_OK x cc own nm) (E : fb_RT x L r o Rel fr lo mc ms) (hI : fb_Site x M k n pc lv st rest y av) (hCT : fb_CT (cx_l x) (cx_D x) (cx_b x) y cy L' r' fr' lo' mc' ms' av M (.returned (some v)) Rel') (hw : Cond.code y cy L' r' ∈ lw_all ∧ Cond.initialized y.cls ∈ lw_all) (hR : fr' + 1 ≤ fr ∧ 8 + (L' + 11) + lo' ≤ lo) (hW : (rest.map fun v => v.category).sum ≤ 8) (hk : k + mc' = k') (hn : n + ms' = n') (h1 : k' ≤ mc) (h2 : n' ≤ ms) (d : decode cc pc = .ok (ig, 3)) (hq : pc + 3 = q) (kk : ∀ M' : List va_E, Rel' M' → fb_G x M' k' n' q lv (v :: rest)) : fb_G x M k n pc lv st := by
  subst hq hk hn
  exact fun H locs ls g1 g2 g3 => fb_runR C E (hI H locs ls g1 g3) hCT hw.1 hw.2 hR.1 hR.2 hW h1 h2 d g1 g2 g3.1 (fun H1 locs1 M' hM' e1 e2 => kk M' hM' H1 locs1 ls e1 e2 g3)
/-- a void call -/
theorem gx_cv {x : fb_X} {cc : ByteArray} {own nm : String} {M : List va_E} {k n pc q : Nat} {lv : List (Option Value)} {st : List Value} {L : Nat} {r : Option FieldType} {o : Outcome} {Rel : List va_E → Prop} {fr lo mc ms : Nat} {cy : ByteArray} {rest av : List Value} {y : MethodName} {L' fr' lo' mc' ms' k' n' : Nat} {r' : Option FieldType} {ig : Instr} {Rel' : List va_E → Prop} (C : fb_OK x cc own nm) (E : fb_RT x L r o Rel fr lo mc ms) (hI : fb_Site x M k n pc lv st rest y av) (hCT : fb_CT (cx_l x) (cx_D x) (cx_b x) y cy L' r' fr' lo' mc' ms' av M (.returned none) Rel') (hw : Cond.code y cy L' r' ∈ lw_all ∧ Cond.initialized y.cls ∈ lw_all) (hR : fr' + 1 ≤ fr ∧ 8 + (L' + 11) + lo' ≤ lo) (hW : (rest.map fun v => v.category).sum ≤ 8) (hk : k + mc' = k') (hn : n + ms' = n') (h1 : k' ≤ mc) (h2 : n' ≤ ms) (d : decode cc pc = .ok (ig, 3)) (hq : pc + 3 = q) (kk : ∀ M' : List va_E, Rel' M' → fb_G x M' k' n' q lv rest) : fb_G x M k n pc lv st := by
  subst hq hk hn
  exact fun H locs ls g1 g2 g3 => fb_runR C E (hI H locs ls g1 g3) hCT hw.1 hw.2 hR.1 hR.2 hW h1 h2 d g1 g2 g3.1 (fun H1 locs1 M' hM' e1 e2 => kk M' hM' H1 locs1 ls e1 e2 g3)
/-- the method throws what lies on the stack -/
theorem gx_athrow {x : fb_X} {cc : ByteArray} {own nm : String} {M : List va_E} {k n pc : Nat} {lv : List (Option Value)} {st : List Value} {L : Nat} {r : Option FieldType} {Rel : List va_E → Prop} {fr lo mc ms a : Nat} (C : fb_OK x cc own nm) (E : fb_RT x L r (.threw a) Rel fr lo mc ms) (hx : (cx_c x).exceptionTable.isEmpty = true) (d : decode cc pc = .ok (.athrow, 1)) (hR : Rel M) (h1 : k ≤ mc) (h2 : n ≤ ms) : fb_G x M k n pc lv (.ref a :: st) := by
  intro H locs ls g1 g2 g3
  refine W.widen h1 h2 ?_
  intro T hT X
  obtain ⟨hwalk, hrun, hended, hWU, hsame⟩ := X.athrowLeaves C.exec (g := F0 (cx_m x) pc ls (.ref a :: st)) rfl rfl rfl (fun y hy => by rw [Array.isEmpty_iff.mp hx] at hy; cases hy) (a := a) (rest := st) rfl (by rw [C.code]; exact d) C.lk
  refine ⟨_, hwalk, ?_⟩
  rw [E.1]
  exact ⟨hrun, hended, rfl, hWU, ⟨locs, hsame, g2.2.2⟩, ⟨M, hR, by show fb_HP _ _ _ T.heap; rw [hT]; exact g1⟩, g2.F hT⟩
/-- a call that throws, out of a method without handlers -/
theorem gx_ct {x : fb_X} {cc : ByteArray} {own nm : String} {M : List va_E} {k n pc : Nat} {lv : List (Option Value)} {st : List Value} {L : Nat} {r : Option FieldType} {Rel : List va_E → Prop} {fr lo mc ms a : Nat} {cy : ByteArray} {rest av : List Value} {y : MethodName} {L' fr' lo' mc' ms' : Nat} {r' : Option FieldType} {ig : Instr} {Rel' : List va_E → Prop} (C : fb_OK x cc own nm) (E : fb_RT x L r (.threw a) Rel fr lo mc ms) (hx : (cx_c x).exceptionTable.isEmpty = true) (hI : fb_Site x M k n pc lv st rest y av) (hCT : fb_CT (cx_l x) (cx_D x) (cx_b x) y cy L' r' fr' lo' mc' ms' av M (.threw a) Rel') (hw : Cond.code y cy L' r' ∈ lw_all ∧ Cond.initialized y.cls ∈ lw_all) (hR : fr' + 1 ≤ fr ∧ 8 + (L' + 11) + lo' ≤ lo) (hW : (rest.map fun v => v.category).sum ≤ 8) (h1 : k + mc' ≤ mc) (h2 : n + ms' ≤ ms) (d : decode cc pc = .ok (ig, 3)) (hrel : ∀ M', Rel' M' → Rel M') : fb_G x M k n pc lv st := by
  intro H locs ls g1 g2 g3 T hT X
  obtain ⟨T', locs1, M', b1, b2, b3, X', hs⟩ := fb_runT C E (hI H locs ls g1 g3) hCT hw.1 hw.2 hR.1 hR.2 hW h1 h2 d g1 g2 g3.1 T hT X
  have X2 := stand_widen X' h1 h2
  obtain ⟨hwalk, hrun, hended, hWU, hsame⟩ := X2.leaveThrown a (g := { F0 (cx_m x) pc ls st with stack := rest }) rfl rfl rfl (fun y hy => by rw [Array.isEmpty_iff.mp hx] at hy; cases hy) C.lk
  refine ⟨_, hs _ hwalk, ?_⟩
  rw [E.1]
  exact ⟨hrun, hended, rfl, hWU, ⟨locs1, hsame, b3.2.2⟩, ⟨M', hrel M' b1, b2⟩, b3.F rfl⟩
/-- super.m where the named superclass inherits m -/
theorem ix_SU2 {x : fb_X} {cc : ByteArray} {own nm : String} {M : List va_E} {k n pc : Nat} {lv : List (Option Value)} {st : List Value} {idx j ci L : Nat} {fs As rest : List Value} {rc : vw_C} {y z : MethodName} {bytes : ByteArray} {r : Option FieldType} (C : fb_OK x cc own nm) (hl : Cond.methodLink own idx z ∈ lw_all) (hsm : Cond.sameMethod z.cls y.cls z.name z.desc ∈ lw_all) (hsup : Cond.superclass own z.cls ∈ lw_all) (hsup2 : Cond.superclass z.cls y.cls ∈ lw_all) (hin : Cond.instanceMethod y ∈ lw_all) (hcd : Cond.code y bytes L r ∈ lw_all) (hyz : (⟨y.cls, z.name, z.desc⟩ : MethodName) = y) (hno : z.name ≠ "<init>") (hn : (parseMethodDescriptor y.desc).map (fun d => d.parameters.length) = some As.length) (hM : M[j]? = some (ob ci fs)) (hc : fb_cl[ci]? = some rc) (hst : st = As.reverse ++ .ref (cx_b x + j) :: rest) (d : decode cc pc = .ok (.invokespecial idx, 3)) : fb_Site x M k n pc lv st rest y (.ref (cx_b x + j) :: As) := by
  intro H locs ls g1 g3 T hT X
  obtain ⟨cellB, hcB, hoB, hclB⟩ := va_recv C.K (fb_HP.one g1 hM) hc (q0 := 0) rfl
  obtain ⟨hfc, kB, hkB, -⟩ := (C.K.1 ci rc hc).2
  have hcc : cellB.cls = (cx_D x).1 ci := Option.some.inj (hclB.symm.trans hfc)
  obtain ⟨mk, methM, hnamed, hmethM, hstM, habM⟩ := Cond.instanceMethod_spec (C.wd hin)
  obtain ⟨methM', cM, hmethM', -, -, -, -, -, -, hsigM⟩ := Cond.code_spec hnamed (C.wd hcd)
  cases hmethM.symm.trans hmethM'
  obtain ⟨ps, dk, kp, hps, hdk, hkp, hsuper, -, -, hnid⟩ := Cond.superclass_spec C.own (C.wd hsup)
  obtain ⟨ps2, dk2, kp2, hps2, hdk2, hkp2, hsuper2, -, -, hnid2⟩ := Cond.superclass_spec hps (C.wd hsup2)
  have hnn : (cx_s x).methodNamed? ⟨y.cls, z.name, z.desc⟩ = some mk := by rw [hyz]; exact hnamed
  have hpm : ps2 = mk.cls := Option.some.inj (hps2.symm.trans (findClass_of_methodNamed hnamed))
  have hsub : (cx_s x).vm.isSubclass ps mk.cls = true := by
    rw [← hpm]
    unfold Vm.isSubclass
    have hpos : ∃ w, (cx_s x).vm.classes.size = w + 1 := ⟨(cx_s x).vm.classes.size - 1, by have := (Array.getElem?_eq_some_iff.mp hdk).1; omega⟩
    obtain ⟨w, hw⟩ := hpos
    rw [hw]
    simp [Vm.isSubclassAux, hdk2, hsuper2]
  obtain ⟨vm₁, X₁, hstep₁⟩ := X.invokespecialUp C.exec C.own (C.wd hl) (C.wd hsm) hnn hmethM hstM habM hno hdk hnid hps hsuper hsub (a := cx_b x + j) (cell := cellB) (by rw [hT]; exact hcB)
    (fun z h => by rw [h] at hoB; cases hoB) (by rw [hcc]; exact hkB) (g := F0 (cx_m x) pc ls st) rfl (argsL := As) (rest := rest) (by have hz := hn; rw [hsigM] at hz; exact (Option.some.inj hz).symm) hst (by rw [C.code]; exact d)
  exact ⟨vm₁, mk, X₁, X₁.named hnamed, fun target h => hstep₁ _ (by rw [doInvoke_state]; exact h)⟩
def dif (a c : Nat) : Nat := a - c + (c - a)
theorem nI_sg {a c : Nat} (ha : a < 2 ^ 30) (hc : c < 2 ^ 30) : 0 ≤ nI a - nI c ↔ c ≤ a := by
  rw [Int32.le_iff_toInt_le, pk_sub_toInt ha hc]
  simp
theorem nI_sd {a c : Nat} (h : c ≤ a) : nI a - nI c = nI (dif a c) := by
  rw [pk_sub h]
  congr 1
  unfold dif
  omega
theorem nI_sn {a c : Nat} (h : a < c) : 0 - (nI a - nI c) = nI (dif a c) := by
  rw [Int32.zero_sub, Int32.neg_sub, pk_sub (by omega)]
  congr 1
  unfold dif
  omega
theorem nI_mx {a c : Nat} (ha : a < 2 ^ 31) (hc : c < 2 ^ 31) : (if nI a < nI c then nI c else nI a) = nI (max a c) := by
  by_cases h : a < c
  · rw [if_pos ((nI_ltI ha hc).mpr h)]; congr 1; omega
  · rw [if_neg (fun z => h ((nI_ltI ha hc).mp z))]; congr 1; omega
theorem nI_mx9 {c : Nat} (hc : c < 2 ^ 31) : (if (-9 : Int32) < nI c then nI c else -9) = nI c := if_pos (Int32.lt_of_lt_of_le (by decide) (nI_pos' hc))
theorem nI_mi {a c : Nat} (ha : a < 2 ^ 31) (hc : c < 2 ^ 31) : (if nI c < nI a then nI c else nI a) = nI (min a c) := by
  by_cases h : c < a
  · rw [if_pos ((nI_ltI hc ha).mpr h)]; congr 1; omega
  · rw [if_neg (fun z => h ((nI_ltI hc ha).mp z))]; congr 1; omega
theorem nI_ab {a c : Nat} (ha : a < 2 ^ 30) (hc : c < 2 ^ 30) : (if 0 ≤ nI a - nI c then nI a - nI c else 0 - (nI a - nI c)) = nI (dif a c) := by
  by_cases h : c ≤ a
  · rw [if_pos ((nI_sg ha hc).mpr h)]; exact nI_sd h
  · rw [if_neg (fun z => h ((nI_sg ha hc).mp z))]; exact nI_sn (by omega)
theorem gm_max {x : fb_X} {cc : ByteArray} {own nm : String} {M : List va_E} {k n pc q : Nat} {lv : List (Option Value)} {st : List Value} {L : Nat} {r : Option FieldType} {o : Outcome} {Rel : List va_E → Prop} {fr lo mc ms : Nat} {idx : Nat} {a c : Nat} (ha : a < 2 ^ 31) (hc : c < 2 ^ 31) (C : fb_OK x cc own nm) (E : fb_RT x L r o Rel fr lo mc ms) (hl : Cond.methodLink own idx Lib.Math.max.name ∈ lw_all) (hR : 1 ≤ fr) (hW : (st.map fun v => v.category).sum + 13 ≤ lo) (h1 : k ≤ mc) (h2 : n ≤ ms) (d : decode cc pc = .ok (.invokestatic idx, 3)) (hq : pc + 3 = q) (kk : fb_G x M k n q lv (.int (nI (max a c)) :: st)) : fb_G x M k n pc lv (.int (nI c) :: .int (nI a) :: st) := by
  subst hq
  intro H locs ls g1 g2 g3
  refine va_mmax C.exec C.code g3.1.symm C.own (C.wd hl) (C.wd (show Cond.static Lib.Math.max.name ∈ lw_all from q871)) (C.wd (show Cond.initialized "java/lang/Math" ∈ lw_all from q97)) (C.wd (show Cond.code Lib.Math.max.name Lib.Math.max.code 2 (some .int) ∈ lw_all from q872)) (by rw [E.2.2.1]; exact hR) (by rw [E.2.2.1]; exact hW) (by rw [E.2.2.1]; exact h1) (by rw [E.2.2.1]; exact h2) d ?_
  rw [show (if nI a < nI c then nI c else nI a) = nI (max a c) from nI_mx ha hc]
  exact kk H locs ls g1 g2 g3
theorem gm_max9 {x : fb_X} {cc : ByteArray} {own nm : String} {M : List va_E} {k n pc q : Nat} {lv : List (Option Value)} {st : List Value} {L : Nat} {r : Option FieldType} {o : Outcome} {Rel : List va_E → Prop} {fr lo mc ms : Nat} {idx : Nat} {c : Nat} (hc : c < 2 ^ 31) (C : fb_OK x cc own nm) (E : fb_RT x L r o Rel fr lo mc ms) (hl : Cond.methodLink own idx Lib.Math.max.name ∈ lw_all) (hR : 1 ≤ fr) (hW : (st.map fun v => v.category).sum + 13 ≤ lo) (h1 : k ≤ mc) (h2 : n ≤ ms) (d : decode cc pc = .ok (.invokestatic idx, 3)) (hq : pc + 3 = q) (kk : fb_G x M k n q lv (.int (nI c) :: st)) : fb_G x M k n pc lv (.int (nI c) :: .int (-9) :: st) := by
  subst hq
  intro H locs ls g1 g2 g3
  refine va_mmax C.exec C.code g3.1.symm C.own (C.wd hl) (C.wd (show Cond.static Lib.Math.max.name ∈ lw_all from q871)) (C.wd (show Cond.initialized "java/lang/Math" ∈ lw_all from q97)) (C.wd (show Cond.code Lib.Math.max.name Lib.Math.max.code 2 (some .int) ∈ lw_all from q872)) (by rw [E.2.2.1]; exact hR) (by rw [E.2.2.1]; exact hW) (by rw [E.2.2.1]; exact h1) (by rw [E.2.2.1]; exact h2) d ?_
  rw [show (if (-9 : Int32) < nI c then nI c else -9) = nI c from nI_mx9 hc]
  exact kk H locs ls g1 g2 g3
theorem gm_min {x : fb_X} {cc : ByteArray} {own nm : String} {M : List va_E} {k n pc q : Nat} {lv : List (Option Value)} {st : List Value} {L : Nat} {r : Option FieldType} {o : Outcome} {Rel : List va_E → Prop} {fr lo mc ms : Nat} {idx : Nat} {a c : Nat} (ha : a < 2 ^ 31) (hc : c < 2 ^ 31) (C : fb_OK x cc own nm) (E : fb_RT x L r o Rel fr lo mc ms) (hl : Cond.methodLink own idx Lib.Math.min.name ∈ lw_all) (hR : 1 ≤ fr) (hW : (st.map fun v => v.category).sum + 13 ≤ lo) (h1 : k ≤ mc) (h2 : n ≤ ms) (d : decode cc pc = .ok (.invokestatic idx, 3)) (hq : pc + 3 = q) (kk : fb_G x M k n q lv (.int (nI (min a c)) :: st)) : fb_G x M k n pc lv (.int (nI c) :: .int (nI a) :: st) := by
  subst hq
  intro H locs ls g1 g2 g3
  refine va_mmin C.exec C.code g3.1.symm C.own (C.wd hl) (C.wd (show Cond.static Lib.Math.min.name ∈ lw_all from q886)) (C.wd (show Cond.initialized "java/lang/Math" ∈ lw_all from q97)) (C.wd (show Cond.code Lib.Math.min.name Lib.Math.min.code 2 (some .int) ∈ lw_all from q887)) (by rw [E.2.2.1]; exact hR) (by rw [E.2.2.1]; exact hW) (by rw [E.2.2.1]; exact h1) (by rw [E.2.2.1]; exact h2) d ?_
  rw [show (if nI c < nI a then nI c else nI a) = nI (min a c) from nI_mi ha hc]
  exact kk H locs ls g1 g2 g3
theorem gm_abs {x : fb_X} {cc : ByteArray} {own nm : String} {M : List va_E} {k n pc q : Nat} {lv : List (Option Value)} {st : List Value} {L : Nat} {r : Option FieldType} {o : Outcome} {Rel : List va_E → Prop} {fr lo mc ms : Nat} {idx : Nat} {a c : Nat} (ha : a < 2 ^ 30) (hc : c < 2 ^ 30) (C : fb_OK x cc own nm) (E : fb_RT x L r o Rel fr lo mc ms) (hl : Cond.methodLink own idx Lib.Math.abs.name ∈ lw_all) (hR : 1 ≤ fr) (hW : (st.map fun v => v.category).sum + 13 ≤ lo) (h1 : k ≤ mc) (h2 : n ≤ ms) (d : decode cc pc = .ok (.invokestatic idx, 3)) (hq : pc + 3 = q) (kk : fb_G x M k n q lv (.int (nI (dif a c)) :: st)) : fb_G x M k n pc lv (.int (nI a - nI c) :: st) := by
  subst hq
  intro H locs ls g1 g2 g3
  refine va_mabs C.exec C.code g3.1.symm C.own (C.wd hl) (C.wd (show Cond.static Lib.Math.abs.name ∈ lw_all from q901)) (C.wd (show Cond.initialized "java/lang/Math" ∈ lw_all from q97)) (C.wd (show Cond.code Lib.Math.abs.name Lib.Math.abs.code 1 (some .int) ∈ lw_all from q902)) (by rw [E.2.2.1]; exact hR) (by rw [E.2.2.1]; exact hW) (by rw [E.2.2.1]; exact h1) (by rw [E.2.2.1]; exact h2) d ?_
  rw [show (if 0 ≤ nI a - nI c then nI a - nI c else 0 - (nI a - nI c)) = nI (dif a c) from nI_ab ha hc]
  exact kk H locs ls g1 g2 g3
