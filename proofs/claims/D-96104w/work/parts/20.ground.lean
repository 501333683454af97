/-! THE GROUND: one abstract heap (the cells made since the law's start, in the order in which they were made), one judgement of a walk over it, one form of a contract -/
set_option maxRecDepth 100000
def fb_T0 : u_T := fun _ => ("", "", "", false)
abbrev fb_cl : List vw_C := [(RX0, TX0, 9), (RX1, TX1, 12), (RX2, fb_T0, 0), (RX3, fb_T0, 0), (RX4, fb_T0, 0), (RX5, fb_T0, 0), (RX6, fb_T0, 0), (RX7, TX7, 17), (RX1, TX1, 12), (RX9, TX9, 7), (RX10, TX10, 3), (RX11, TX11, 7), (RX1, TX1, 12), (RX13, TX13, 2), (RX14, TX14, 3), (RX15, TX15, 3), (RX16, TX16, 3), (RX17, TX17, 3), (RX18, TX18, 3), (RX19, TX19, 3), (RX20, TX20, 3), (RX21, TX21, 3), (RX22, TX22, 3), (RX23, TX23, 3), (RX24, TX24, 3)]
abbrev fb_ty (D : va_G) : List (ClassId × FieldType) := [(D.1 100, .int), (D.1 101, .boolean), (D.1 102, .byte), (D.1 103, .char), (D.1 104, .object RX2), (D.1 105, .object RX14), (D.1 106, .object RX12)]
/-- cells: int, boolean, byte, char arrays; arrays of references (104 Law, 105 Tree, 106 Told); objects -/
abbrev aI (D : va_G) (n : Nat) (f : Nat → Int32) : va_E := .inl (D.1 100, n, .inl f)
abbrev aZ (D : va_G) (n : Nat) (f : Nat → Int32) : va_E := .inl (D.1 101, n, .inl f)
abbrev aB (D : va_G) (n : Nat) (f : Nat → Int32) : va_E := .inl (D.1 102, n, .inl f)
abbrev aC (D : va_G) (n : Nat) (f : Nat → Int32) : va_E := .inl (D.1 103, n, .inl f)
abbrev aQ (D : va_G) (t n : Nat) (f : Nat → Option Nat) : va_E := .inl (D.1 t, n, .inr (.inr (.inr (.inr f))))
abbrev ob (c : Nat) (fs : List Value) : va_E := .inr (c, fs)
/-- the heap from b on is the list M -/
def fb_mon (H : Heap) (a : Nat) : Prop := ∃ cell : Cell, H[a]? = some cell ∧ cell.monitor.owner = none ∧ cell.monitor.count = 0
/-- a cell, and nobody holds its monitor -/
def fb_at (D : va_G) (q : Nat × va_E) (H : Heap) : Prop := va_at D fb_cl q H ∧ fb_mon H q.1
theorem fb_at.kept {D : va_G} {q : Nat × va_E} {H H1 : Heap} (h : fb_at D q H) (hq : H1[q.1]? = H[q.1]?) : fb_at D q H1 := ⟨h.1.kept hq, by obtain ⟨c, h1, h2⟩ := h.2; exact ⟨c, by rw [hq]; exact h1, h2⟩⟩
def fb_HP (D : va_G) (b : Nat) (M : List va_E) (H : Heap) : Prop := H.size = b + M.length ∧ ∀ (k : Nat) (e : va_E), M[k]? = some e → fb_at D (b + k, e) H
theorem fb_HP.set {D : va_G} {b : Nat} {M : List va_E} {H H1 : Heap} {k : Nat} {e0 e : va_E} (h : fb_HP D b M H) (hk : M[k]? = some e0) (he : fb_at D (b + k, e) H1) (z : H1.size = H.size) (oq : ∀ q : Nat, q ≠ b + k → H1[q]? = H[q]?) : fb_HP D b (M.set k e) H1 := by
  have hl := (List.getElem?_eq_some_iff.mp hk).1
  refine ⟨by rw [z, h.1, List.length_set], fun j e' hj => ?_⟩
  by_cases hjk : j = k
  · subst hjk
    rw [List.getElem?_set_self hl] at hj
    cases hj
    exact he
  · rw [List.getElem?_set_ne (Ne.symm hjk)] at hj
    exact (h.2 j e' hj).kept (oq (b + j) (by omega))
theorem fb_HP.push {D : va_G} {b : Nat} {M : List va_E} {H H1 : Heap} {e : va_E} (h : fb_HP D b M H) (he : fb_at D (b + M.length, e) H1) (z : H1.size = H.size + 1) (oq : ∀ q : Nat, q < H.size → H1[q]? = H[q]?) : fb_HP D b (M ++ [e]) H1 := by
  refine ⟨by rw [z, h.1, List.length_append, List.length_singleton, Nat.add_assoc], fun j e' hj => ?_⟩
  by_cases hl : j < M.length
  · rw [List.getElem?_append_left hl] at hj
    exact (h.2 j e' hj).kept (oq (b + j) (by rw [h.1]; omega))
  · rw [List.getElem?_append_right (by omega)] at hj
    have hz : j - M.length < 1 := (List.getElem?_eq_some_iff.mp hj).1
    have hj0 : j = M.length := by omega
    subst hj0
    rw [Nat.sub_self] at hj
    cases hj
    exact he
/-- the locals, by their places -/
def fb_LV (ls : Array Slot) (nL : Nat) (lv : List (Option Value)) : Prop := ls.size = nL ∧ lv_wf ls ∧ ∀ (i : Nat) (v : Value), lv[i]? = some (some v) → ls[i]? = some (.val v)
def fb_lvl (lv : List (Option Value)) : List (Nat × Value) := lv.zipIdx.filterMap (fun q => q.1.map (fun v => (q.2, v)))
theorem fb_lvl_mem {lv : List (Option Value)} {i : Nat} {v : Value} : (i, v) ∈ fb_lvl lv ↔ lv[i]? = some (some v) := by
  unfold fb_lvl
  rw [List.mem_filterMap]
  constructor
  · rintro ⟨⟨o, j⟩, hm, ho⟩
    have h1 := List.mem_zipIdx_iff_getElem?.mp hm
    cases o with
    | none => simp at ho
    | some w =>
      simp at ho
      obtain ⟨rfl, rfl⟩ := ho
      simpa using h1
  · intro h
    exact ⟨(some v, i), List.mem_zipIdx_iff_getElem?.mpr (by simpa using h), rfl⟩
theorem fb_LV.has {ls : Array Slot} {nL : Nat} {lv : List (Option Value)} (h : fb_LV ls nL lv) : lv_has ls nL (fb_lvl lv) := ⟨h.1, h.2.1, fun q hq => h.2.2 q.1 q.2 (fb_lvl_mem.mp hq)⟩
theorem fb_LV.of {ls : Array Slot} {nL : Nat} {lv : List (Option Value)} (h : lv_has ls nL (fb_lvl lv)) : fb_LV ls nL lv := ⟨h.1, h.2.1, fun i v hv => h.2.2 (i, v) (fb_lvl_mem.mpr hv)⟩
def fb_c1 (o : Option Value) : Bool := match o with
  | none => true
  | some v => v.category == 1
theorem fb_LV.put {ls : Array Slot} {nL i : Nat} {lv : List (Option Value)} {v : Value} (h : lv_has ls nL ((i, v) :: (fb_lvl lv).filter (fun q => !(q.1 == i) && !(q.1 + 1 == i && q.2.category == 2)))) (hc : lv.all fb_c1 = true) : fb_LV ls nL (lv.set i (some v)) := by
  refine ⟨h.1, h.2.1, fun j w hj => h.2.2 (j, w) ?_⟩
  by_cases hji : j = i
  · subst hji
    rw [List.getElem?_set] at hj
    simp at hj
    obtain ⟨_, rfl⟩ := hj
    exact List.mem_cons_self
  · rw [List.getElem?_set_ne (Ne.symm hji)] at hj
    refine List.mem_cons_of_mem _ (List.mem_filter.mpr ⟨fb_lvl_mem.mpr hj, ?_⟩)
    have h1 : fb_c1 (some w) = true := List.all_eq_true.mp hc _ (List.mem_of_getElem? hj)
    have h2 : w.category = 1 := by simpa [fb_c1] using h1
    simp [hji, h2]
theorem fb_lvl_at {lv : List (Option Value)} {i : Nat} {v : Value} (h : lv[i]? = some (some v)) : ∃ k : Nat, (fb_lvl lv)[k]? = some (i, v) := List.getElem?_of_mem (fb_lvl_mem.mpr h)
/-- what every state of a run keeps: classes, the words that don't ride in the lists, Throwable's two statics -/
def fb_nw : Cond → Bool
  | .fieldLinkNest .. => true
  | .methodLinkNest .. => true
  | .castable .. => true
  | .declares .. => true
  | .arrayOver (.object _) => true
  | _ => false
theorem fb_nw_moved {w : Cond} {s U : State} (hW : s.WarmedH U.vm) (hg : fb_nw w = true) (h0 : va_Nw w s) : va_Nw w U := by
  unfold fb_nw at hg
  split at hg
  · exact va_Nw.warmF hW h0
  · exact va_Nw.warmM hW h0
  · exact va_Nw.warmC hW h0
  · exact va_Nw.warmD hW h0
  · exact va_AO.moved hW.alike h0
  · cases hg
/-- a static field that holds a reference or nothing -/
def fb_Zs (C n d : String) (A : Nat → Prop) (U : State) (H : Heap) : Prop := ∃ (cf : ClassId) (kf : Class) (fi : Nat) (f : Field) (a : Nat) (cell : Cell) (v : Value), U.vm.findClass C = some cf ∧ U.fieldFound? C n d = some (cf, kf, fi, f) ∧ f.isStatic = true ∧ kf.statics = some a ∧ kf.staticTypes[f.slot]? = some f.type ∧ H[a]? = some cell ∧ cell.vm.isStatics = true ∧ cell.cls = cf ∧ cell.slots[f.slot]? = some v ∧ v.isRef = true ∧ ¬ A a
theorem fb_Zs.moved {C n d : String} {A : Nat → Prop} {u U : State} {H : Heap} (hvm : u.vm.Alike U.vm) (h : fb_Zs C n d A u H) : fb_Zs C n d A U H := by
  obtain ⟨cf, kf, fi, f, a, cell, v, h0, h1, h2, h3, h4, h5⟩ := h
  obtain ⟨k', hi', he⟩ := State.fieldFound?_setVm hvm h1
  exact ⟨cf, k', fi, f, a, cell, v, by rw [hvm.findClass]; exact h0, hi', h2, by rw [he]; exact h3, by rw [he]; exact h4, h5⟩
theorem fb_Zs.kept {C n d : String} {A : Nat → Prop} {U : State} {H H1 : Heap} (h : fb_Zs C n d A U H) (hq : ∀ a : Nat, a < H.size → ¬ A a → H1[a]? = H[a]?) : fb_Zs C n d A U H1 := by
  obtain ⟨cf, kf, fi, f, a, cell, v, h0, h1, h2, h3, h4, h5, h6, h7, h8, h9, h10⟩ := h
  exact ⟨cf, kf, fi, f, a, cell, v, h0, h1, h2, h3, h4, by rw [hq a (Array.getElem?_eq_some_iff.mp h5).1 h10]; exact h5, h6, h7, h8, h9, h10⟩
theorem fb_Zs.lays {C n d : String} {A : Nat → Prop} {U : State} {args : Array Value} (h : fb_Zs C n d A U U.heap) : (Cond.laysStatic C n d).before args U = true := by
  obtain ⟨cf, kf, fi, f, a, cell, v, h0, h1, h2, h3, h4, h5, h6, h7, h8, h9, h10⟩ := h
  have hlt : f.slot < cell.slots.size := (Array.getElem?_eq_some_iff.mp h8).1
  simp [Cond.before, Cond.holds, Cond.value, h0, h1, h2, h3, h4, h5, h6, h7, hlt]
def fb_KK (D : va_G) (b : Nat) (U : State) : Prop :=
  va_K D fb_cl (fb_ty D) U ∧ (∀ w ∈ lw_tbl, fb_nw w = true → va_Nw w U) ∧ fb_Zs "java/lang/Throwable" "UNASSIGNED_STACK" "[Ljava/lang/StackTraceElement;" (fun q => b ≤ q) U U.heap ∧ fb_Zs "java/lang/Throwable" "SUPPRESSED_SENTINEL" "Ljava/util/List;" (fun q => b ≤ q) U U.heap
theorem fb_KK.moved {D : va_G} {b : Nat} {s U : State} (hW : s.WarmedH U.vm) (hh : ∀ a : Nat, a < s.heap.size → ¬ b ≤ a → U.heap[a]? = s.heap[a]?) (h : fb_KK D b s) : fb_KK D b U :=
  ⟨va_K.moved hW.alike h.1, fun w hw hg => fb_nw_moved hW hg (h.2.1 w hw hg), (h.2.2.1.moved hW.alike).kept hh, (h.2.2.2.moved hW.alike).kept hh⟩
theorem fb_KK.calling {D : va_G} {b : Nat} {U : State} {g : JFrame} {mk : MethodId} {a : Array Value} (h : fb_KK D b U) : fb_KK D b (U.calling g mk a) :=
  ⟨va_K.moved (u := U) (U := U.calling g mk a) (Vm.Alike.refl U.vm) h.1, fun w hw hg => fb_nw_moved (s := U) (U := U.calling g mk a) (State.WarmedH.refl U) hg (h.2.1 w hw hg), fb_Zs.moved (u := U) (U := U.calling g mk a) (Vm.Alike.refl U.vm) h.2.2.1, fb_Zs.moved (u := U) (U := U.calling g mk a) (Vm.Alike.refl U.vm) h.2.2.2⟩
/-- all that stays the same in the walk of a body -/
abbrev fb_X := Program × Launch × Env × Room × State × MethodId × Array Value × List Frame × Method × Code × va_G × Nat × (State → Prop)
abbrev cx_p (x : fb_X) : Program := x.1
abbrev cx_l (x : fb_X) : Launch := x.2.1
abbrev cx_e (x : fb_X) : Env := x.2.2.1
abbrev cx_R (x : fb_X) : Room := x.2.2.2.1
abbrev cx_s (x : fb_X) : State := x.2.2.2.2.1
abbrev cx_m (x : fb_X) : MethodId := x.2.2.2.2.2.1
abbrev cx_a (x : fb_X) : Array Value := x.2.2.2.2.2.2.1
abbrev cx_w (x : fb_X) : List Frame := x.2.2.2.2.2.2.2.1
abbrev cx_t (x : fb_X) : Method := x.2.2.2.2.2.2.2.2.1
abbrev cx_c (x : fb_X) : Code := x.2.2.2.2.2.2.2.2.2.1
abbrev cx_D (x : fb_X) : va_G := x.2.2.2.2.2.2.2.2.2.2.1
abbrev cx_b (x : fb_X) : Nat := x.2.2.2.2.2.2.2.2.2.2.2.1
abbrev cx_Q (x : fb_X) : State → Prop := x.2.2.2.2.2.2.2.2.2.2.2.2
abbrev fb_St (x : fb_X) (T : State) (locs : List Loc) (k n : Nat) : Prop := Stand (cx_p x) (cx_l x) (cx_e x) (cx_R x) (cx_s x) (cx_m x) (cx_a x) (cx_w x) (cx_t x) (cx_c x) T locs k n
abbrev fb_W (x : fb_X) (H : Heap) (locs : List Loc) (k n : Nat) (g : JFrame) : Prop := W (cx_p x) (cx_l x) (cx_e x) (cx_R x) (cx_s x) (cx_m x) (cx_a x) (cx_w x) (cx_t x) (cx_c x) H locs k n (cx_Q x) g
abbrev fb_S (x : fb_X) (H : Heap) (locs : List Loc) : Prop := va_S (fun q => cx_b x ≤ q) (cx_s x).heap H locs
/-- the body's code, its class's and its own name; the machine; the tables -/
def fb_OK (x : fb_X) (cc : ByteArray) (own nm : String) : Prop :=
  (cx_p x).tables.exec = Jvm.exec ∧ (cx_c x).code = cc ∧ (cx_s x).vm.findClass own = some (cx_m x).cls ∧ (∀ w ∈ lw_all, w.before (cx_a x) (cx_s x) = true) ∧ fb_KK (cx_D x) (cx_b x) (cx_s x) ∧ cx_b x ≤ (cx_s x).heap.size ∧ (cx_t x).locks = false ∧ (cx_t x).name = nm ∧ (cx_l x).flags = flags0
theorem fb_OK.exec {x : fb_X} {cc : ByteArray} {own nm : String} (C : fb_OK x cc own nm) : (cx_p x).tables.exec = Jvm.exec := C.1
theorem fb_OK.code {x : fb_X} {cc : ByteArray} {own nm : String} (C : fb_OK x cc own nm) : (cx_c x).code = cc := C.2.1
theorem fb_OK.own {x : fb_X} {cc : ByteArray} {own nm : String} (C : fb_OK x cc own nm) : (cx_s x).vm.findClass own = some (cx_m x).cls := C.2.2.1
theorem fb_OK.wd {x : fb_X} {cc : ByteArray} {own nm : String} (C : fb_OK x cc own nm) {w : Cond} (h : w ∈ lw_all) : w.before (cx_a x) (cx_s x) = true := C.2.2.2.1 w h
theorem fb_OK.wds {x : fb_X} {cc : ByteArray} {own nm : String} (C : fb_OK x cc own nm) : ∀ w ∈ lw_all, w.before (cx_a x) (cx_s x) = true := C.2.2.2.1
theorem fb_OK.kk {x : fb_X} {cc : ByteArray} {own nm : String} (C : fb_OK x cc own nm) : fb_KK (cx_D x) (cx_b x) (cx_s x) := C.2.2.2.2.1
theorem fb_OK.K {x : fb_X} {cc : ByteArray} {own nm : String} (C : fb_OK x cc own nm) : va_K (cx_D x) fb_cl (fb_ty (cx_D x)) (cx_s x) := C.2.2.2.2.1.1
theorem fb_OK.nw {x : fb_X} {cc : ByteArray} {own nm : String} (C : fb_OK x cc own nm) {w : Cond} (h : w ∈ lw_tbl) (g : fb_nw w = true) : va_Nw w (cx_s x) := C.2.2.2.2.1.2.1 w h g
theorem fb_OK.le {x : fb_X} {cc : ByteArray} {own nm : String} (C : fb_OK x cc own nm) : cx_b x ≤ (cx_s x).heap.size := C.2.2.2.2.2.1
theorem fb_OK.lk {x : fb_X} {cc : ByteArray} {own nm : String} (C : fb_OK x cc own nm) : (cx_t x).locks = false := C.2.2.2.2.2.2.1
theorem fb_OK.nm {x : fb_X} {cc : ByteArray} {own nm : String} (C : fb_OK x cc own nm) : (cx_t x).name = nm := C.2.2.2.2.2.2.2.1
theorem fb_OK.fl {x : fb_X} {cc : ByteArray} {own nm : String} (C : fb_OK x cc own nm) : (cx_l x).flags = flags0 := C.2.2.2.2.2.2.2.2
/-- THE JUDGEMENT: at pc, with the heap M, the locals lv, the operand stack st, k cells of n slots made, the walk comes to its end -/
def fb_G (x : fb_X) (M : List va_E) (k n pc : Nat) (lv : List (Option Value)) (st : List Value) : Prop :=
  ∀ (H : Heap) (locs : List Loc) (ls : Array Slot), fb_HP (cx_D x) (cx_b x) M H → fb_S x H locs → fb_LV ls (cx_c x).maxLocals lv → fb_W x H locs k n (F0 (cx_m x) pc ls st)
/-- the end of a body: its outcome, what holds of the heap behind it, its room -/
def fb_Qc (D : va_G) (b : Nat) (o : Outcome) (Rel : List va_E → Prop) (mc ms : Nat) : Array Value → State → Outcome → State → Prop := fun _ st o' t =>
  o' = o ∧ st.WarmedH t.vm ∧ (∃ L : List Loc, st.sameButNew ({ t with vm := st.vm } : State) L mc ms ∧ ∀ q ∈ L, b ≤ q.base) ∧ (∃ M' : List va_E, Rel M' ∧ fb_HP D b M' t.heap) ∧ va_F (fun q => b ≤ q) st t
def fb_EQ (below : List Frame) (D : va_G) (b : Nat) (o : Outcome) (Rel : List va_E → Prop) (mc ms : Nat) (s : State) : State → Prop := fun t => t.status = .running ∧ Ended t below o ∧ fb_Qc D b o Rel mc ms #[] s o t
def fb_RT (x : fb_X) (L : Nat) (r : Option FieldType) (o : Outcome) (Rel : List va_E → Prop) (fr lo mc ms : Nat) : Prop :=
  cx_Q x = fb_EQ (cx_w x) (cx_D x) (cx_b x) o Rel mc ms (cx_s x) ∧ (cx_t x).sig.returnType = r ∧ cx_R x = ({ frames := fr, cells := mc, slots := ms, locals := lo } : Room) ∧ (cx_c x).maxLocals = L
def fb_Pc (D : va_G) (b : Nat) (av : List Value) (M : List va_E) : Array Value → State → Prop := fun v U => v = av.toArray ∧ fb_HP D b M U.heap ∧ fb_KK D b U
/-- A CONTRACT: called with av at the heap M, the method ends with o, at a heap that Rel allows; it takes fr frames, lo words of locals, at most mc cells of ms slots -/
def fb_CT (l : Launch) (D : va_G) (b : Nat) (y : MethodName) (cc : ByteArray) (L : Nat) (r : Option FieldType) (fr lo mc ms : Nat) (av : List Value) (M : List va_E) (o : Outcome) (Rel : List va_E → Prop) : Prop :=
  l.flags = flags0 → MetFree l y (headSpec (ws_ y cc L r) ({ frames := fr, cells := mc, slots := ms, locals := lo } : Room)) (fb_Pc D b av M) (fun _ _ _ _ _ => True) (fb_Qc D b o Rel mc ms)
theorem fb_mono {l : Launch} {y : MethodName} {S : Spec} {P : Array Value → State → Prop} {K : Program → Env → List Frame → State → Array Value → Prop} {Q Q' : Array Value → State → Outcome → State → Prop} (h : MetFree l y S P K Q) (hq : ∀ a s o t, Q a s o t → Q' a s o t) : MetFree l y S P K Q' := fun p e ha hc hk s m args below hf happ hP hK => by
  obtain ⟨n, o, h1, h2, h3, h4⟩ := h p e ha hc hk s m args below hf happ hP hK
  exact ⟨n, o, h1, h2, h3, hq _ _ _ _ h4⟩
/-- a contract out of the walk of its body; the body has no handlers -/
theorem fb_start {l : Launch} {D : va_G} {b : Nat} {y : MethodName} {cc : ByteArray} {L : Nat} {r : Option FieldType} {fr lo mc ms : Nat} {av : List Value} {M : List va_E} {o : Outcome} {Rel : List va_E → Prop} (lv0 : List (Option Value)) (hy : plainName y.cls = true) (hlen : (lg_sl av).length ≤ L) (hent : fb_lvl lv0 = lv_args 0 av)
    (body : ∀ x : fb_X, cx_l x = l → cx_D x = D → cx_b x = b → fb_OK x cc y.cls y.name → fb_RT x L r o Rel fr lo mc ms → (cx_c x).exceptionTable.isEmpty = true → fb_G x M 0 0 0 lv0 []) : fb_CT l D b y cc L r fr lo mc ms av M o Rel := by
  intro hfl
  refine MetFree.of_bodyS (code := cc) (maxLocals := L) (ret := r) hy ?_ ?_
  · intro args s m h hn
    obtain ⟨meth, c, h1, h2, h3, h4, h5, h6, -, -⟩ := Cond.code_spec hn (atoms_spec (ws := ws_ y cc L r) h _ List.mem_cons_self)
    exact ⟨meth, c, h1, h2, h3, h4, h5, h6⟩
  · intro p e s m args below meth c s₁ B hml hv _
    obtain ⟨rfl, hP, hK⟩ := hv
    have hh0 : s₁.heap = s.heap := by rw [B.state]; rfl
    have hts := atoms_spec (ws := ws_ y cc L r) B.pre
    have hl := lv_entry av (n := L) hlen
    have hG := body (p, l, e, ({ frames := fr, cells := mc, slots := ms, locals := lo } : Room), s, m, av.toArray, below, meth, c, D, b, fb_EQ below D b o Rel mc ms s) rfl rfl rfl
      ⟨B.exec, B.bytes, findClass_of_methodNamed B.named, fun w h => hts w (List.mem_cons_of_mem _ h), hK, by show b ≤ s.heap.size; rw [hP.1]; exact Nat.le_add_right _ _, B.notSynchronized, (name_of_methodNamed B.named B.method).1, hfl⟩
      ⟨rfl, B.returns, rfl, hml⟩ (BodyLoose.noHandlers B (hts _ List.mem_cons_self)) s.heap [] _ hP va_S.rf (fb_LV.of (by show lv_has _ c.maxLocals _; rw [hml, hent]; exact hl))
    rw [lg_entry_eq]
    obtain ⟨t, a1, b1, b2, b3⟩ := hG s₁ hh0 (Stand.of_body B)
    exact ⟨t, o, a1, b1, b2, b3⟩
theorem gx_iconst {x : fb_X} {cc : ByteArray} {own nm : String} {M : List va_E} {k n pc q : Nat} {lv : List (Option Value)} {st : List Value} {z : Int} {v : Int32} (C : fb_OK x cc own nm) (d : decode cc pc = .ok (.iconst z, 1)) (hv : Int32.ofInt z = v) (hq : pc + 1 = q) (kk : fb_G x M k n q lv (.int v :: st)) : fb_G x M k n pc lv (st) := by
  subst hq
  exact fun H locs ls h1 h2 h3 => lv_iconst C.exec C.code d hv (kk H locs ls h1 h2 h3)
theorem gx_bipush {x : fb_X} {cc : ByteArray} {own nm : String} {M : List va_E} {k n pc q : Nat} {lv : List (Option Value)} {st : List Value} {z : Int} {v : Int32} (C : fb_OK x cc own nm) (d : decode cc pc = .ok (.bipush z, 2)) (hv : (Int8.ofInt z).toInt32 = v) (hq : pc + 2 = q) (kk : fb_G x M k n q lv (.int v :: st)) : fb_G x M k n pc lv (st) := by
  subst hq
  exact fun H locs ls h1 h2 h3 => lv_bipush C.exec C.code d hv (kk H locs ls h1 h2 h3)
theorem gx_sipush {x : fb_X} {cc : ByteArray} {own nm : String} {M : List va_E} {k n pc q : Nat} {lv : List (Option Value)} {st : List Value} {z : Int} {v : Int32} (C : fb_OK x cc own nm) (d : decode cc pc = .ok (.sipush z, 3)) (hv : (Int16.ofInt z).toInt32 = v) (hq : pc + 3 = q) (kk : fb_G x M k n q lv (.int v :: st)) : fb_G x M k n pc lv (st) := by
  subst hq
  exact fun H locs ls h1 h2 h3 => lv_sipush C.exec C.code d hv (kk H locs ls h1 h2 h3)
theorem gx_lconst {x : fb_X} {cc : ByteArray} {own nm : String} {M : List va_E} {k n pc q : Nat} {lv : List (Option Value)} {st : List Value} {z : Fin 2} {v : Int64} (C : fb_OK x cc own nm) (d : decode cc pc = .ok (.lconst z, 1)) (hv : Int64.ofNat (z : Nat) = v) (hq : pc + 1 = q) (kk : fb_G x M k n q lv (.long v :: st)) : fb_G x M k n pc lv (st) := by
  subst hq
  exact fun H locs ls h1 h2 h3 => lv_lconst C.exec C.code d hv (kk H locs ls h1 h2 h3)
theorem gx_ldc {x : fb_X} {cc : ByteArray} {own nm : String} {M : List va_E} {k n pc q : Nat} {lv : List (Option Value)} {st : List Value} {i : Nat} {v : Int32} (C : fb_OK x cc own nm) (d : decode cc pc = .ok (.ldc i, 2)) (hc : Cond.constant own i v ∈ lw_all) (hq : pc + 2 = q) (kk : fb_G x M k n q lv (.int v :: st)) : fb_G x M k n pc lv (st) := by
  subst hq
  exact fun H locs ls h1 h2 h3 => lv_ldc C.exec C.code C.own (C.wd hc) d (kk H locs ls h1 h2 h3)
theorem gx_ldc2 {x : fb_X} {cc : ByteArray} {own nm : String} {M : List va_E} {k n pc q : Nat} {lv : List (Option Value)} {st : List Value} {i : Nat} {v : Int64} (C : fb_OK x cc own nm) (d : decode cc pc = .ok (.ldc2_w i, 3)) (hc : Cond.constantLong own i v ∈ lw_all) (hq : pc + 3 = q) (kk : fb_G x M k n q lv (.long v :: st)) : fb_G x M k n pc lv (st) := by
  subst hq
  exact fun H locs ls h1 h2 h3 => lv_ldc2 C.exec C.code C.own (C.wd hc) d (kk H locs ls h1 h2 h3)
theorem gx_iload_n {x : fb_X} {cc : ByteArray} {own nm : String} {M : List va_E} {k n pc q : Nat} {lv : List (Option Value)} {st : List Value} {j : Fin 4} {i : Nat} {a : Int32} (C : fb_OK x cc own nm) (d : decode cc pc = .ok (.iload_n j, 1)) (hi : (j : Nat) = i) (hl : lv[i]? = some (some (.int a))) (hq : pc + 1 = q) (kk : fb_G x M k n q lv (.int a :: st)) : fb_G x M k n pc lv (st) := by
  subst hq
  exact fun H locs ls h1 h2 h3 => lv_iload_n C.exec C.code d hi (h3.2.2 i _ hl) (kk H locs ls h1 h2 h3)
theorem gx_iload {x : fb_X} {cc : ByteArray} {own nm : String} {M : List va_E} {k n pc q : Nat} {lv : List (Option Value)} {st : List Value} {i : Nat} {a : Int32} (C : fb_OK x cc own nm) (d : decode cc pc = .ok (.iload i, 2)) (hl : lv[i]? = some (some (.int a))) (hq : pc + 2 = q) (kk : fb_G x M k n q lv (.int a :: st)) : fb_G x M k n pc lv (st) := by
  subst hq
  exact fun H locs ls h1 h2 h3 => lv_iload C.exec C.code d (h3.2.2 i _ hl) (kk H locs ls h1 h2 h3)
theorem gx_lload_n {x : fb_X} {cc : ByteArray} {own nm : String} {M : List va_E} {k n pc q : Nat} {lv : List (Option Value)} {st : List Value} {j : Fin 4} {i : Nat} {a : Int64} (C : fb_OK x cc own nm) (d : decode cc pc = .ok (.lload_n j, 1)) (hi : (j : Nat) = i) (hl : lv[i]? = some (some (.long a))) (hq : pc + 1 = q) (kk : fb_G x M k n q lv (.long a :: st)) : fb_G x M k n pc lv (st) := by
  subst hq
  exact fun H locs ls h1 h2 h3 => lv_lload_n C.exec C.code d hi (h3.2.2 i _ hl) (kk H locs ls h1 h2 h3)
theorem gx_lload {x : fb_X} {cc : ByteArray} {own nm : String} {M : List va_E} {k n pc q : Nat} {lv : List (Option Value)} {st : List Value} {i : Nat} {a : Int64} (C : fb_OK x cc own nm) (d : decode cc pc = .ok (.lload i, 2)) (hl : lv[i]? = some (some (.long a))) (hq : pc + 2 = q) (kk : fb_G x M k n q lv (.long a :: st)) : fb_G x M k n pc lv (st) := by
  subst hq
  exact fun H locs ls h1 h2 h3 => lv_lload C.exec C.code d (h3.2.2 i _ hl) (kk H locs ls h1 h2 h3)
theorem gx_aload_n {x : fb_X} {cc : ByteArray} {own nm : String} {M : List va_E} {k n pc q : Nat} {lv : List (Option Value)} {st : List Value} {j : Fin 4} {i : Nat} {a : Nat} (C : fb_OK x cc own nm) (d : decode cc pc = .ok (.aload_n j, 1)) (hi : (j : Nat) = i) (hl : lv[i]? = some (some (.ref a))) (hq : pc + 1 = q) (kk : fb_G x M k n q lv (.ref a :: st)) : fb_G x M k n pc lv (st) := by
  subst hq
  exact fun H locs ls h1 h2 h3 => lv_aload_n C.exec C.code d hi (h3.2.2 i _ hl) (kk H locs ls h1 h2 h3)
theorem gx_aload {x : fb_X} {cc : ByteArray} {own nm : String} {M : List va_E} {k n pc q : Nat} {lv : List (Option Value)} {st : List Value} {i : Nat} {a : Nat} (C : fb_OK x cc own nm) (d : decode cc pc = .ok (.aload i, 2)) (hl : lv[i]? = some (some (.ref a))) (hq : pc + 2 = q) (kk : fb_G x M k n q lv (.ref a :: st)) : fb_G x M k n pc lv (st) := by
  subst hq
  exact fun H locs ls h1 h2 h3 => lv_aload C.exec C.code d (h3.2.2 i _ hl) (kk H locs ls h1 h2 h3)
theorem gx_istore_n {x : fb_X} {cc : ByteArray} {own nm : String} {M : List va_E} {k n pc q : Nat} {lv : List (Option Value)} {st : List Value} {lv' : List (Option Value)} {j : Fin 4} {i : Nat} {a : Int32} (C : fb_OK x cc own nm) (d : decode cc pc = .ok (.istore_n j, 1)) (hi : (j : Nat) = i) (hn : i < lv.length) (hL : lv.length = (cx_c x).maxLocals) (h1 : lv.all fb_c1 = true) (hs : lv.set i (some (.int a)) = lv') (hq : pc + 1 = q) (kk : fb_G x M k n q lv' st) : fb_G x M k n pc lv (.int a :: st) := by
  subst hq hs
  exact fun H locs ls g1 g2 g3 => lv_istore_n C.exec C.code d hi g3.has (hL ▸ hn) rfl (fun ls' hl => kk H locs ls' g1 g2 (fb_LV.put hl h1))
theorem gx_istore {x : fb_X} {cc : ByteArray} {own nm : String} {M : List va_E} {k n pc q : Nat} {lv : List (Option Value)} {st : List Value} {lv' : List (Option Value)} {i : Nat} {a : Int32} (C : fb_OK x cc own nm) (d : decode cc pc = .ok (.istore i, 2)) (hn : i < lv.length) (hL : lv.length = (cx_c x).maxLocals) (h1 : lv.all fb_c1 = true) (hs : lv.set i (some (.int a)) = lv') (hq : pc + 2 = q) (kk : fb_G x M k n q lv' st) : fb_G x M k n pc lv (.int a :: st) := by
  subst hq hs
  exact fun H locs ls g1 g2 g3 => lv_istore C.exec C.code d g3.has (hL ▸ hn) rfl (fun ls' hl => kk H locs ls' g1 g2 (fb_LV.put hl h1))
theorem gx_astore_n {x : fb_X} {cc : ByteArray} {own nm : String} {M : List va_E} {k n pc q : Nat} {lv : List (Option Value)} {st : List Value} {lv' : List (Option Value)} {j : Fin 4} {i : Nat} {a : Nat} (C : fb_OK x cc own nm) (d : decode cc pc = .ok (.astore_n j, 1)) (hi : (j : Nat) = i) (hn : i < lv.length) (hL : lv.length = (cx_c x).maxLocals) (h1 : lv.all fb_c1 = true) (hs : lv.set i (some (.ref a)) = lv') (hq : pc + 1 = q) (kk : fb_G x M k n q lv' st) : fb_G x M k n pc lv (.ref a :: st) := by
  subst hq hs
  exact fun H locs ls g1 g2 g3 => lv_astore_n C.exec C.code d hi g3.has (hL ▸ hn) rfl (fun ls' hl => kk H locs ls' g1 g2 (fb_LV.put hl h1))
theorem gx_astore {x : fb_X} {cc : ByteArray} {own nm : String} {M : List va_E} {k n pc q : Nat} {lv : List (Option Value)} {st : List Value} {lv' : List (Option Value)} {i : Nat} {a : Nat} (C : fb_OK x cc own nm) (d : decode cc pc = .ok (.astore i, 2)) (hn : i < lv.length) (hL : lv.length = (cx_c x).maxLocals) (h1 : lv.all fb_c1 = true) (hs : lv.set i (some (.ref a)) = lv') (hq : pc + 2 = q) (kk : fb_G x M k n q lv' st) : fb_G x M k n pc lv (.ref a :: st) := by
  subst hq hs
  exact fun H locs ls g1 g2 g3 => lv_astore C.exec C.code d g3.has (hL ▸ hn) rfl (fun ls' hl => kk H locs ls' g1 g2 (fb_LV.put hl h1))
theorem gx_iinc {x : fb_X} {cc : ByteArray} {own nm : String} {M : List va_E} {k n pc q : Nat} {lv : List (Option Value)} {st : List Value} {lv' : List (Option Value)} {i : Nat} {z : Int} {a v : Int32} (C : fb_OK x cc own nm) (d : decode cc pc = .ok (.iinc i z, 3)) (hl : lv[i]? = some (some (.int a))) (hL : lv.length = (cx_c x).maxLocals) (hv : a + Int32.ofInt z = v) (h1 : lv.all fb_c1 = true) (hs : lv.set i (some (.int v)) = lv') (hq : pc + 3 = q) (kk : fb_G x M k n q lv' st) : fb_G x M k n pc lv st := by
  subst hq hs
  intro H locs ls g1 g2 g3
  obtain ⟨j, hj⟩ := fb_lvl_at hl
  exact lv_iinc C.exec C.code d g3.has hj hv (hL ▸ (List.getElem?_eq_some_iff.mp hl).1) rfl (fun ls' hl => kk H locs ls' g1 g2 (fb_LV.put hl h1))
theorem gx_iadd {x : fb_X} {cc : ByteArray} {own nm : String} {M : List va_E} {k n pc q : Nat} {lv : List (Option Value)} {st : List Value} {a c v : Int32} (C : fb_OK x cc own nm) (d : decode cc pc = .ok (.iadd, 1)) (hv : a + c = v) (hq : pc + 1 = q) (kk : fb_G x M k n q lv (.int v :: st)) : fb_G x M k n pc lv (.int c :: .int a :: st) := by
  subst hq hv
  exact fun H locs ls h1 h2 h3 => lv_iadd C.exec C.code d (kk H locs ls h1 h2 h3)
theorem gx_isub {x : fb_X} {cc : ByteArray} {own nm : String} {M : List va_E} {k n pc q : Nat} {lv : List (Option Value)} {st : List Value} {a c v : Int32} (C : fb_OK x cc own nm) (d : decode cc pc = .ok (.isub, 1)) (hv : a - c = v) (hq : pc + 1 = q) (kk : fb_G x M k n q lv (.int v :: st)) : fb_G x M k n pc lv (.int c :: .int a :: st) := by
  subst hq hv
  exact fun H locs ls h1 h2 h3 => lv_isub C.exec C.code d (kk H locs ls h1 h2 h3)
theorem gx_imul {x : fb_X} {cc : ByteArray} {own nm : String} {M : List va_E} {k n pc q : Nat} {lv : List (Option Value)} {st : List Value} {a c v : Int32} (C : fb_OK x cc own nm) (d : decode cc pc = .ok (.imul, 1)) (hv : a * c = v) (hq : pc + 1 = q) (kk : fb_G x M k n q lv (.int v :: st)) : fb_G x M k n pc lv (.int c :: .int a :: st) := by
  subst hq hv
  exact fun H locs ls h1 h2 h3 => lv_imul C.exec C.code d (kk H locs ls h1 h2 h3)
theorem gx_iand {x : fb_X} {cc : ByteArray} {own nm : String} {M : List va_E} {k n pc q : Nat} {lv : List (Option Value)} {st : List Value} {a c v : Int32} (C : fb_OK x cc own nm) (d : decode cc pc = .ok (.iand, 1)) (hv : a &&& c = v) (hq : pc + 1 = q) (kk : fb_G x M k n q lv (.int v :: st)) : fb_G x M k n pc lv (.int c :: .int a :: st) := by
  subst hq hv
  exact fun H locs ls h1 h2 h3 => lv_iand C.exec C.code d (kk H locs ls h1 h2 h3)
theorem gx_ior {x : fb_X} {cc : ByteArray} {own nm : String} {M : List va_E} {k n pc q : Nat} {lv : List (Option Value)} {st : List Value} {a c v : Int32} (C : fb_OK x cc own nm) (d : decode cc pc = .ok (.ior, 1)) (hv : a ||| c = v) (hq : pc + 1 = q) (kk : fb_G x M k n q lv (.int v :: st)) : fb_G x M k n pc lv (.int c :: .int a :: st) := by
  subst hq hv
  exact fun H locs ls h1 h2 h3 => lv_ior C.exec C.code d (kk H locs ls h1 h2 h3)
theorem gx_ixor {x : fb_X} {cc : ByteArray} {own nm : String} {M : List va_E} {k n pc q : Nat} {lv : List (Option Value)} {st : List Value} {a c v : Int32} (C : fb_OK x cc own nm) (d : decode cc pc = .ok (.ixor, 1)) (hv : a ^^^ c = v) (hq : pc + 1 = q) (kk : fb_G x M k n q lv (.int v :: st)) : fb_G x M k n pc lv (.int c :: .int a :: st) := by
  subst hq hv
  exact fun H locs ls h1 h2 h3 => lv_ixor C.exec C.code d (kk H locs ls h1 h2 h3)
theorem gx_ishl {x : fb_X} {cc : ByteArray} {own nm : String} {M : List va_E} {k n pc q : Nat} {lv : List (Option Value)} {st : List Value} {a c v : Int32} (C : fb_OK x cc own nm) (d : decode cc pc = .ok (.ishl, 1)) (hv : a <<< (c &&& 31) = v) (hq : pc + 1 = q) (kk : fb_G x M k n q lv (.int v :: st)) : fb_G x M k n pc lv (.int c :: .int a :: st) := by
  subst hq hv
  exact fun H locs ls h1 h2 h3 => lv_ishl C.exec C.code d (kk H locs ls h1 h2 h3)
theorem gx_ishr {x : fb_X} {cc : ByteArray} {own nm : String} {M : List va_E} {k n pc q : Nat} {lv : List (Option Value)} {st : List Value} {a c v : Int32} (C : fb_OK x cc own nm) (d : decode cc pc = .ok (.ishr, 1)) (hv : a >>> (c &&& 31) = v) (hq : pc + 1 = q) (kk : fb_G x M k n q lv (.int v :: st)) : fb_G x M k n pc lv (.int c :: .int a :: st) := by
  subst hq hv
  exact fun H locs ls h1 h2 h3 => lv_ishr C.exec C.code d (kk H locs ls h1 h2 h3)
theorem gx_idiv {x : fb_X} {cc : ByteArray} {own nm : String} {M : List va_E} {k n pc q : Nat} {lv : List (Option Value)} {st : List Value} {a c v : Int32} (C : fb_OK x cc own nm) (d : decode cc pc = .ok (.idiv, 1)) (hne : ¬ c = 0) (hv : a / c = v) (hq : pc + 1 = q) (kk : fb_G x M k n q lv (.int v :: st)) : fb_G x M k n pc lv (.int c :: .int a :: st) := by
  subst hq hv
  exact fun H locs ls h1 h2 h3 => lv_idiv C.exec C.code d hne (kk H locs ls h1 h2 h3)
theorem gx_irem {x : fb_X} {cc : ByteArray} {own nm : String} {M : List va_E} {k n pc q : Nat} {lv : List (Option Value)} {st : List Value} {a c v : Int32} (C : fb_OK x cc own nm) (d : decode cc pc = .ok (.irem, 1)) (hne : ¬ c = 0) (hv : a - a / c * c = v) (hq : pc + 1 = q) (kk : fb_G x M k n q lv (.int v :: st)) : fb_G x M k n pc lv (.int c :: .int a :: st) := by
  subst hq hv
  exact fun H locs ls h1 h2 h3 => lv_irem C.exec C.code d hne (kk H locs ls h1 h2 h3)
theorem gx_ineg {x : fb_X} {cc : ByteArray} {own nm : String} {M : List va_E} {k n pc q : Nat} {lv : List (Option Value)} {st : List Value} {a v : Int32} (C : fb_OK x cc own nm) (d : decode cc pc = .ok (.ineg, 1)) (hv : -a = v) (hq : pc + 1 = q) (kk : fb_G x M k n q lv (.int v :: st)) : fb_G x M k n pc lv (.int a :: st) := by
  subst hq hv
  exact fun H locs ls h1 h2 h3 => lv_ineg C.exec C.code d (kk H locs ls h1 h2 h3)
theorem gx_i2l {x : fb_X} {cc : ByteArray} {own nm : String} {M : List va_E} {k n pc q : Nat} {lv : List (Option Value)} {st : List Value} {a : Int32} {v : Int64} (C : fb_OK x cc own nm) (d : decode cc pc = .ok (.i2l, 1)) (hv : a.toInt64 = v) (hq : pc + 1 = q) (kk : fb_G x M k n q lv (.long v :: st)) : fb_G x M k n pc lv (.int a :: st) := by
  subst hq
  exact fun H locs ls h1 h2 h3 => lv_i2l C.exec C.code d hv (kk H locs ls h1 h2 h3)
theorem gx_i2b {x : fb_X} {cc : ByteArray} {own nm : String} {M : List va_E} {k n pc q : Nat} {lv : List (Option Value)} {st : List Value} {a v : Int32} (C : fb_OK x cc own nm) (d : decode cc pc = .ok (.i2b, 1)) (hv : a.toInt8.toInt32 = v) (hq : pc + 1 = q) (kk : fb_G x M k n q lv (.int v :: st)) : fb_G x M k n pc lv (.int a :: st) := by
  subst hq
  exact fun H locs ls h1 h2 h3 => lv_i2b C.exec C.code d hv (kk H locs ls h1 h2 h3)
theorem gx_i2c {x : fb_X} {cc : ByteArray} {own nm : String} {M : List va_E} {k n pc q : Nat} {lv : List (Option Value)} {st : List Value} {a v : Int32} (C : fb_OK x cc own nm) (d : decode cc pc = .ok (.i2c, 1)) (hv : (a.toUInt32 % 65536).toInt32 = v) (hq : pc + 1 = q) (kk : fb_G x M k n q lv (.int v :: st)) : fb_G x M k n pc lv (.int a :: st) := by
  subst hq
  exact fun H locs ls h1 h2 h3 => lv_i2c C.exec C.code d hv (kk H locs ls h1 h2 h3)
theorem gx_lcmp {x : fb_X} {cc : ByteArray} {own nm : String} {M : List va_E} {k n pc q : Nat} {lv : List (Option Value)} {st : List Value} {a c : Int64} {v : Int32} (C : fb_OK x cc own nm) (d : decode cc pc = .ok (.lcmp, 1)) (hv : lg_cmp a c = v) (hq : pc + 1 = q) (kk : fb_G x M k n q lv (.int v :: st)) : fb_G x M k n pc lv (.long c :: .long a :: st) := by
  subst hq hv
  exact fun H locs ls h1 h2 h3 => W.lcmp C.exec C.code d (kk H locs ls h1 h2 h3)
theorem gx_dup {x : fb_X} {cc : ByteArray} {own nm : String} {M : List va_E} {k n pc q : Nat} {lv : List (Option Value)} {st : List Value} {v : Value} (C : fb_OK x cc own nm) (d : decode cc pc = .ok (.dup, 1)) (hv : v.category = 1) (hq : pc + 1 = q) (kk : fb_G x M k n q lv (v :: v :: st)) : fb_G x M k n pc lv (v :: st) := by
  subst hq
  exact fun H locs ls h1 h2 h3 => lv_dup C.exec C.code d hv (kk H locs ls h1 h2 h3)
theorem gx_pop {x : fb_X} {cc : ByteArray} {own nm : String} {M : List va_E} {k n pc q : Nat} {lv : List (Option Value)} {st : List Value} {v : Value} (C : fb_OK x cc own nm) (d : decode cc pc = .ok (.pop, 1)) (hv : v.category = 1) (hq : pc + 1 = q) (kk : fb_G x M k n q lv (st)) : fb_G x M k n pc lv (v :: st) := by
  subst hq
  exact fun H locs ls h1 h2 h3 => lv_pop C.exec C.code d hv (kk H locs ls h1 h2 h3)
theorem gx_dup2 {x : fb_X} {cc : ByteArray} {own nm : String} {M : List va_E} {k n pc q : Nat} {lv : List (Option Value)} {st : List Value} {v w : Value} (C : fb_OK x cc own nm) (d : decode cc pc = .ok (.dup2, 1)) (hv : v.category = 1) (hw : w.category = 1) (hq : pc + 1 = q) (kk : fb_G x M k n q lv (v :: w :: v :: w :: st)) : fb_G x M k n pc lv (v :: w :: st) := by
  subst hq
  exact fun H locs ls h1 h2 h3 => lv_dup2_11 C.exec C.code d hv hw (kk H locs ls h1 h2 h3)
theorem gx_if_eq {x : fb_X} {cc : ByteArray} {own nm : String} {M : List va_E} {k n pc q : Nat} {lv : List (Option Value)} {st : List Value} {a : Int32} {off : Int} {tgt : Nat} (C : fb_OK x cc own nm) (d : decode cc pc = .ok (.ifCond .eq off, 3)) (ht : (pc : Int) + off = (tgt : Int)) (hq : pc + 3 = q) (kt : a = 0 → fb_G x M k n tgt lv st) (kf : ¬ (a = 0) → fb_G x M k n q lv st) : fb_G x M k n pc lv (.int a :: st) := by
  subst hq
  exact fun H locs ls h1 h2 h3 => lv_if_eq C.exec C.code d ht (fun h => kt h H locs ls h1 h2 h3) (fun h => kf h H locs ls h1 h2 h3)
theorem gx_icmp_eq {x : fb_X} {cc : ByteArray} {own nm : String} {M : List va_E} {k n pc q : Nat} {lv : List (Option Value)} {st : List Value} {a c : Int32} {off : Int} {tgt : Nat} (C : fb_OK x cc own nm) (d : decode cc pc = .ok (.if_icmp .eq off, 3)) (ht : (pc : Int) + off = (tgt : Int)) (hq : pc + 3 = q) (kt : a = c → fb_G x M k n tgt lv st) (kf : ¬ (a = c) → fb_G x M k n q lv st) : fb_G x M k n pc lv (.int c :: .int a :: st) := by
  subst hq
  exact fun H locs ls h1 h2 h3 => lv_icmp_eq C.exec C.code d ht (fun h => kt h H locs ls h1 h2 h3) (fun h => kf h H locs ls h1 h2 h3)
theorem gx_if_ne {x : fb_X} {cc : ByteArray} {own nm : String} {M : List va_E} {k n pc q : Nat} {lv : List (Option Value)} {st : List Value} {a : Int32} {off : Int} {tgt : Nat} (C : fb_OK x cc own nm) (d : decode cc pc = .ok (.ifCond .ne off, 3)) (ht : (pc : Int) + off = (tgt : Int)) (hq : pc + 3 = q) (kt : ¬ a = 0 → fb_G x M k n tgt lv st) (kf : a = 0 → fb_G x M k n q lv st) : fb_G x M k n pc lv (.int a :: st) := by
  subst hq
  exact fun H locs ls h1 h2 h3 => lv_if_ne C.exec C.code d ht (fun h => kt h H locs ls h1 h2 h3) (fun h => kf h H locs ls h1 h2 h3)
theorem gx_icmp_ne {x : fb_X} {cc : ByteArray} {own nm : String} {M : List va_E} {k n pc q : Nat} {lv : List (Option Value)} {st : List Value} {a c : Int32} {off : Int} {tgt : Nat} (C : fb_OK x cc own nm) (d : decode cc pc = .ok (.if_icmp .ne off, 3)) (ht : (pc : Int) + off = (tgt : Int)) (hq : pc + 3 = q) (kt : ¬ a = c → fb_G x M k n tgt lv st) (kf : a = c → fb_G x M k n q lv st) : fb_G x M k n pc lv (.int c :: .int a :: st) := by
  subst hq
  exact fun H locs ls h1 h2 h3 => lv_icmp_ne C.exec C.code d ht (fun h => kt h H locs ls h1 h2 h3) (fun h => kf h H locs ls h1 h2 h3)
theorem gx_if_lt {x : fb_X} {cc : ByteArray} {own nm : String} {M : List va_E} {k n pc q : Nat} {lv : List (Option Value)} {st : List Value} {a : Int32} {off : Int} {tgt : Nat} (C : fb_OK x cc own nm) (d : decode cc pc = .ok (.ifCond .lt off, 3)) (ht : (pc : Int) + off = (tgt : Int)) (hq : pc + 3 = q) (kt : a < 0 → fb_G x M k n tgt lv st) (kf : ¬ (a < 0) → fb_G x M k n q lv st) : fb_G x M k n pc lv (.int a :: st) := by
  subst hq
  exact fun H locs ls h1 h2 h3 => lv_if_lt C.exec C.code d ht (fun h => kt h H locs ls h1 h2 h3) (fun h => kf h H locs ls h1 h2 h3)
theorem gx_icmp_lt {x : fb_X} {cc : ByteArray} {own nm : String} {M : List va_E} {k n pc q : Nat} {lv : List (Option Value)} {st : List Value} {a c : Int32} {off : Int} {tgt : Nat} (C : fb_OK x cc own nm) (d : decode cc pc = .ok (.if_icmp .lt off, 3)) (ht : (pc : Int) + off = (tgt : Int)) (hq : pc + 3 = q) (kt : a < c → fb_G x M k n tgt lv st) (kf : ¬ (a < c) → fb_G x M k n q lv st) : fb_G x M k n pc lv (.int c :: .int a :: st) := by
  subst hq
  exact fun H locs ls h1 h2 h3 => lv_icmp_lt C.exec C.code d ht (fun h => kt h H locs ls h1 h2 h3) (fun h => kf h H locs ls h1 h2 h3)
theorem gx_if_ge {x : fb_X} {cc : ByteArray} {own nm : String} {M : List va_E} {k n pc q : Nat} {lv : List (Option Value)} {st : List Value} {a : Int32} {off : Int} {tgt : Nat} (C : fb_OK x cc own nm) (d : decode cc pc = .ok (.ifCond .ge off, 3)) (ht : (pc : Int) + off = (tgt : Int)) (hq : pc + 3 = q) (kt : 0 ≤ a → fb_G x M k n tgt lv st) (kf : ¬ (0 ≤ a) → fb_G x M k n q lv st) : fb_G x M k n pc lv (.int a :: st) := by
  subst hq
  exact fun H locs ls h1 h2 h3 => lv_if_ge C.exec C.code d ht (fun h => kt h H locs ls h1 h2 h3) (fun h => kf h H locs ls h1 h2 h3)
theorem gx_icmp_ge {x : fb_X} {cc : ByteArray} {own nm : String} {M : List va_E} {k n pc q : Nat} {lv : List (Option Value)} {st : List Value} {a c : Int32} {off : Int} {tgt : Nat} (C : fb_OK x cc own nm) (d : decode cc pc = .ok (.if_icmp .ge off, 3)) (ht : (pc : Int) + off = (tgt : Int)) (hq : pc + 3 = q) (kt : c ≤ a → fb_G x M k n tgt lv st) (kf : ¬ (c ≤ a) → fb_G x M k n q lv st) : fb_G x M k n pc lv (.int c :: .int a :: st) := by
  subst hq
  exact fun H locs ls h1 h2 h3 => lv_icmp_ge C.exec C.code d ht (fun h => kt h H locs ls h1 h2 h3) (fun h => kf h H locs ls h1 h2 h3)
theorem gx_if_gt {x : fb_X} {cc : ByteArray} {own nm : String} {M : List va_E} {k n pc q : Nat} {lv : List (Option Value)} {st : List Value} {a : Int32} {off : Int} {tgt : Nat} (C : fb_OK x cc own nm) (d : decode cc pc = .ok (.ifCond .gt off, 3)) (ht : (pc : Int) + off = (tgt : Int)) (hq : pc + 3 = q) (kt : 0 < a → fb_G x M k n tgt lv st) (kf : ¬ (0 < a) → fb_G x M k n q lv st) : fb_G x M k n pc lv (.int a :: st) := by
  subst hq
  exact fun H locs ls h1 h2 h3 => lv_if_gt C.exec C.code d ht (fun h => kt h H locs ls h1 h2 h3) (fun h => kf h H locs ls h1 h2 h3)
theorem gx_icmp_gt {x : fb_X} {cc : ByteArray} {own nm : String} {M : List va_E} {k n pc q : Nat} {lv : List (Option Value)} {st : List Value} {a c : Int32} {off : Int} {tgt : Nat} (C : fb_OK x cc own nm) (d : decode cc pc = .ok (.if_icmp .gt off, 3)) (ht : (pc : Int) + off = (tgt : Int)) (hq : pc + 3 = q) (kt : c < a → fb_G x M k n tgt lv st) (kf : ¬ (c < a) → fb_G x M k n q lv st) : fb_G x M k n pc lv (.int c :: .int a :: st) := by
  subst hq
  exact fun H locs ls h1 h2 h3 => lv_icmp_gt C.exec C.code d ht (fun h => kt h H locs ls h1 h2 h3) (fun h => kf h H locs ls h1 h2 h3)
theorem gx_if_le {x : fb_X} {cc : ByteArray} {own nm : String} {M : List va_E} {k n pc q : Nat} {lv : List (Option Value)} {st : List Value} {a : Int32} {off : Int} {tgt : Nat} (C : fb_OK x cc own nm) (d : decode cc pc = .ok (.ifCond .le off, 3)) (ht : (pc : Int) + off = (tgt : Int)) (hq : pc + 3 = q) (kt : a ≤ 0 → fb_G x M k n tgt lv st) (kf : ¬ (a ≤ 0) → fb_G x M k n q lv st) : fb_G x M k n pc lv (.int a :: st) := by
  subst hq
  exact fun H locs ls h1 h2 h3 => lv_if_le C.exec C.code d ht (fun h => kt h H locs ls h1 h2 h3) (fun h => kf h H locs ls h1 h2 h3)
theorem gx_icmp_le {x : fb_X} {cc : ByteArray} {own nm : String} {M : List va_E} {k n pc q : Nat} {lv : List (Option Value)} {st : List Value} {a c : Int32} {off : Int} {tgt : Nat} (C : fb_OK x cc own nm) (d : decode cc pc = .ok (.if_icmp .le off, 3)) (ht : (pc : Int) + off = (tgt : Int)) (hq : pc + 3 = q) (kt : a ≤ c → fb_G x M k n tgt lv st) (kf : ¬ (a ≤ c) → fb_G x M k n q lv st) : fb_G x M k n pc lv (.int c :: .int a :: st) := by
  subst hq
  exact fun H locs ls h1 h2 h3 => lv_icmp_le C.exec C.code d ht (fun h => kt h H locs ls h1 h2 h3) (fun h => kf h H locs ls h1 h2 h3)
theorem gx_goto {x : fb_X} {cc : ByteArray} {own nm : String} {M : List va_E} {k n pc : Nat} {lv : List (Option Value)} {st : List Value} {off : Int} {tgt : Nat} (C : fb_OK x cc own nm) (d : decode cc pc = .ok (.goto off, 3)) (ht : (pc : Int) + off = (tgt : Int)) (kk : fb_G x M k n tgt lv st) : fb_G x M k n pc lv st :=
  fun H locs ls h1 h2 h3 => lv_goto C.exec C.code d ht (kk H locs ls h1 h2 h3)
theorem gx_tableIn {x : fb_X} {cc : ByteArray} {own nm : String} {M : List va_E} {k n pc : Nat} {lv : List (Option Value)} {st : List Value} {dflt lo hi : Int} {offs : Array Int} {len : Nat} {a : Int32} {off : Int} {tgt : Nat} (C : fb_OK x cc own nm) (d : decode cc pc = .ok (.tableswitch dflt lo hi offs, len)) (g1 : ¬ a.toInt < lo) (g2 : ¬ hi < a.toInt) (ho : offs[(a.toInt - lo).toNat]? = some off) (ht : (pc : Int) + off = (tgt : Int)) (kk : fb_G x M k n tgt lv st) : fb_G x M k n pc lv (.int a :: st) :=
  fun H locs ls h1 h2 h3 => lv_tableIn C.exec C.code d g1 g2 ho ht (kk H locs ls h1 h2 h3)
theorem gx_tableOut {x : fb_X} {cc : ByteArray} {own nm : String} {M : List va_E} {k n pc : Nat} {lv : List (Option Value)} {st : List Value} {dflt lo hi : Int} {offs : Array Int} {len : Nat} {a : Int32} {tgt : Nat} (C : fb_OK x cc own nm) (d : decode cc pc = .ok (.tableswitch dflt lo hi offs, len)) (g : a.toInt < lo ∨ hi < a.toInt) (ht : (pc : Int) + dflt = (tgt : Int)) (kk : fb_G x M k n tgt lv st) : fb_G x M k n pc lv (.int a :: st) :=
  fun H locs ls h1 h2 h3 => lv_tableOut C.exec C.code d g ht (kk H locs ls h1 h2 h3)
theorem gx_lookup {x : fb_X} {cc : ByteArray} {own nm : String} {M : List va_E} {k n pc : Nat} {lv : List (Option Value)} {st : List Value} {dflt : Int} {ps : Array (Int × Int)} {len : Nat} {a : Int32} {off : Int} {tgt : Nat} (C : fb_OK x cc own nm) (d : decode cc pc = .ok (.lookupswitch dflt ps, len)) (hp : (ps.toList.zip (ps.toList.drop 1)).all (fun (a, next) => a.1 < next.1) = true) (ho : Op.lookupswitch.offset ps.toList dflt a.toInt = off) (ht : (pc : Int) + off = (tgt : Int)) (kk : fb_G x M k n tgt lv st) : fb_G x M k n pc lv (.int a :: st) :=
  fun H locs ls h1 h2 h3 => lv_lookup C.exec C.code d hp ho ht (kk H locs ls h1 h2 h3)
theorem gx_top {x : fb_X} {M : List va_E} {k n pc : Nat} {lv : List (Option Value)} {st : List Value} {a c : Int32} (h : a = c) (kk : fb_G x M k n pc lv (.int c :: st)) : fb_G x M k n pc lv (.int a :: st) := h ▸ kk
theorem gx_widen {x : fb_X} {M : List va_E} {k n pc : Nat} {lv : List (Option Value)} {st : List Value} {k' n' : Nat} (h1 : k ≤ k') (h2 : n ≤ n') (kk : fb_G x M k' n' pc lv st) : fb_G x M k n pc lv st := fun H locs ls g1 g2 g3 => W.widen h1 h2 (kk H locs ls g1 g2 g3)
theorem gx_fewer {x : fb_X} {M : List va_E} {k n pc : Nat} {lv : List (Option Value)} {st : List Value} {lv' : List (Option Value)} (h : ∀ (i : Nat) (v : Value), lv'[i]? = some (some v) → lv[i]? = some (some v)) (kk : fb_G x M k n pc lv' st) : fb_G x M k n pc lv st := fun H locs ls g1 g2 g3 => kk H locs ls g1 g2 ⟨g3.1, g3.2.1, fun i v hv => g3.2.2 i v (h i v hv)⟩
theorem gx_drop {x : fb_X} {M : List va_E} {k n pc : Nat} {lv : List (Option Value)} {st : List Value} (i : Nat) (kk : fb_G x M k n pc (lv.set i none) st) : fb_G x M k n pc lv st := gx_fewer (fun j v h => by
  by_cases hj : i = j
  · subst hj
    rw [List.getElem?_set] at h
    simp at h
  · rw [List.getElem?_set_ne hj] at h
    exact h) kk
