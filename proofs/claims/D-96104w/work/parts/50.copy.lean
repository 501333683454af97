/-! System.arraycopy of a whole array -/
set_option maxRecDepth 100000
theorem cp_cell (cA : ClassId) {N : Nat} (f g : Nat → Value) : (arrV cA N g).storeRun 0 ((arrV cA N f).stretch 0 N) = arrV cA N f := by
  have hf := Cell.storeRun_facts (arrV cA N g) 0 ((arrV cA N f).stretch 0 N)
  have hs : ((arrV cA N g).storeRun 0 ((arrV cA N f).stretch 0 N)).slots = (arrV cA N f).slots := by
    apply Array.ext_getElem?
    intro j
    rw [Cell.storeRun_get _ _ _ _ (by rw [Cell.stretch_length, arrV_size]; omega), Cell.stretch_length]
    by_cases hj : j < N
    · rw [if_pos (by omega), arrV_read _ _ hj]
      simp [Cell.stretch, hj, arrV_read _ _ hj, Array.getD_eq_getD_getElem?]
    · rw [if_neg (by omega), Array.getElem?_eq_none (by rw [arrV_size]; omega), Array.getElem?_eq_none (by rw [arrV_size]; omega)]
  rw [Cell.eq_with_slots hf.1 hf.2.1 hf.2.2.2.1 hf.2.2.2.2, hs]
  rfl
theorem gx_copy {x : fb_X} {cc : ByteArray} {nm : String} {M : List va_E} {k n pc q : Nat} {lv : List (Option Value)} {st : List Value} {L : Nat} {r : Option FieldType} {o : Outcome} {Rel : List va_E → Prop} {fr lo mc ms : Nat} {js jd N t0 : Nat} {cA : ClassId} {ty : FieldType} {F G : Nat → Value} {af ag : vp_A} (C : fb_OK x cc "FallsBetween$Town" nm) (E : fb_RT x L r o Rel fr lo mc ms) (hs : M[js]? = some (.inl (cA, af))) (hd : M[jd]? = some (.inl (cA, ag))) (ht : (fb_ty (cx_D x))[t0]? = some (cA, ty)) (hF : vp_cell cA af = arrV cA N F) (hG : vp_cell cA ag = arrV cA N G) (hN : N < 2 ^ 31) (hr : refKind ty = refKind ty)
    (hv : ∀ H : Heap, fb_HP (cx_D x) (cx_b x) M H → ∀ i, i < N → fits ty (F i) = true ∧ ∀ (vm : Vm) (comp : ClassId) (T : State), (cx_s x).vm.Alike vm → T.heap = H → (∀ kA : Class, (cx_s x).vm.classes[cA]? = some kA → kA.kind = .array comp ty) → (T.setVm vm).takes comp (F i))
    (h1 : 1 ≤ fr) (h2 : (st.map fun v => v.category).sum + 19 ≤ lo) (d : decode cc pc = .ok (.invokestatic 66, 3)) (hq : pc + 3 = q) (kk : fb_G x (M.set jd (.inl (cA, af))) k n q lv st) : fb_G x M k n pc lv (.int (nI N) :: .int (nI 0) :: .ref (cx_b x + jd) :: .int (nI 0) :: .ref (cx_b x + js) :: st) := by
  subst hq
  intro H locs ls g1 g2 g3
  intro T hT X
  have e1 : T.heap[cx_b x + js]? = some (arrV cA N F) := by rw [hT, ← hF]; exact (g1.2 js _ hs).1
  have e2 : T.heap[cx_b x + jd]? = some (arrV cA N G) := by rw [hT, ← hG]; exact (g1.2 jd _ hd).1
  obtain ⟨os, ks, hks, comp, hkind⟩ := (C.K.2 t0 _ ht).1 N F
  have hnw : nativeFrameWords "java/lang/System" "arraycopy" 5 + 11 ≤ 19 := by decide +kernel
  have z0 : (nI 0).toNatClampNeg = 0 := by decide
  have zN : (nI N).toNatClampNeg = N := nI_clamp hN
  have hsz : ∀ z : Nat → Value, ¬ (nI 0).toInt + (nI N).toInt > (arrV cA N z).slots.size := by
    intro z
    rw [arrV_size, nI_toInt hN, show (nI 0).toInt = 0 by decide]
    omega
  obtain ⟨vm1, hw1, X1, st1⟩ := X.arraycopyK (index := 66) (own := "FallsBetween$Town") C.exec C.own (C.wd q587) (C.wd q589) (C.wd q588) (C.wd q96) e1 e2 os os (fun z => by cases z) (fun z => by cases z) hks hks hkind hkind
    (by cases hz : refKind ty <;> simp) (by decide) (by decide) (nI_pos hN) (hsz F) (hsz G)
    (fun vm hw i hi => by
      rw [zN] at hi
      rw [z0, Nat.zero_add]
      have e : (arrV cA N F).slots.getD i .null = F i := by
        rw [Array.getD_eq_getD_getElem?, arrV_read _ _ hi]
        rfl
      rw [e]
      obtain ⟨f1, f2⟩ := hv H g1 i hi
      exact ⟨f1, f2 vm comp T hw.alike hT fun kA hkA => by
        have : kA = ks := Option.some.inj (hkA.symm.trans hks)
        rw [this]; exact hkind⟩)
    (g := F0 (cx_m x) pc ls _) (rest := st) rfl g3.1 rfl (by rw [C.code]; exact d) (by rw [E.2.2.1]; exact h1) (by rw [E.2.2.1]; show 2 * 0 + _ + _ ≤ lo; omega)
  have hcell : copied (arrV cA N F) (arrV cA N G) (nI 0) (nI 0) (nI N) = arrV cA N F := by
    show (arrV cA N G).storeRun (nI 0).toNatClampNeg ((arrV cA N F).stretch (nI 0).toNatClampNeg (nI N).toNatClampNeg) = _
    rw [z0, zN]
    exact cp_cell cA F G
  rw [hcell] at X1 st1
  have hlt : cx_b x + jd < T.heap.size := (Array.getElem?_eq_some_iff.mp e2).1
  have zz : ((T.setVm vm1).setCell (cx_b x + jd) (arrV cA N F)).heap.size = H.size := by rw [size_setCell, ← hT]; rfl
  have oq : ∀ q : Nat, q ≠ cx_b x + jd → ((T.setVm vm1).setCell (cx_b x + jd) (arrV cA N F)).heap[q]? = H[q]? := fun q hq => by rw [heapAt_setCell_ne _ (Ne.symm hq), ← hT]; rfl
  have hS : fb_S x ((T.setVm vm1).setCell (cx_b x + jd) (arrV cA N F)).heap (locs ++ Stand.copyLocs (cx_b x + jd) (nI 0).toNatClampNeg (nI N).toNatClampNeg) := by
    refine ⟨by rw [zz]; exact g2.1, fun q w1 w2 => ?_, fun q hq => ?_⟩
    · rw [oq q (fun e => w2 (by rw [e]; exact Nat.le_add_right _ _))]
      exact g2.2.1 q w1 w2
    · rcases List.mem_append.mp hq with w | w
      · exact g2.2.2 q w
      · show cx_b x ≤ q.base
        rw [Stand.copyLocs_base w]
        exact Nat.le_add_right _ _
  have hP : fb_HP (cx_D x) (cx_b x) (M.set jd (.inl (cA, af))) ((T.setVm vm1).setCell (cx_b x + jd) (arrV cA N F)).heap := g1.set hd ⟨by
    show ((T.setVm vm1).setCell (cx_b x + jd) (arrV cA N F)).heap[_]? = some (vp_cell _ _)
    rw [hF]
    exact heapAt_setCell_self _ hlt, ⟨_, heapAt_setCell_self _ hlt, rfl, rfl⟩⟩ zz oq
  obtain ⟨t, a1, b1⟩ := kk _ _ ls hP hS g3 _ rfl X1
  exact ⟨t, st1 t a1, b1⟩
theorem gx_copy_i {x : fb_X} {cc : ByteArray} {nm : String} {M : List va_E} {k n pc q : Nat} {lv : List (Option Value)} {st : List Value} {L : Nat} {r : Option FieldType} {o : Outcome} {Rel : List va_E → Prop} {fr lo mc ms : Nat} {js jd N : Nat} {f g : Nat → Int32} (C : fb_OK x cc "FallsBetween$Town" nm) (E : fb_RT x L r o Rel fr lo mc ms) (hs : M[js]? = some (aI (cx_D x) N f)) (hd : M[jd]? = some (aI (cx_D x) N g)) (hN : N < 2 ^ 31) (h1 : 1 ≤ fr) (h2 : (st.map fun v => v.category).sum + 19 ≤ lo) (d : decode cc pc = .ok (.invokestatic 66, 3)) (hq : pc + 3 = q) (kk : fb_G x (M.set jd (aI (cx_D x) N f)) k n q lv st) : fb_G x M k n pc lv (.int (nI N) :: .int (nI 0) :: .ref (cx_b x + jd) :: .int (nI 0) :: .ref (cx_b x + js) :: st) :=
  gx_copy (t0 := 0) C E hs hd rfl (vp_cell_i _ _ _) (vp_cell_i _ _ _) hN rfl (fun H _ i _ => ⟨rfl, fun _ _ _ _ _ _ => trivial⟩) h1 h2 d hq kk
theorem gx_copy_z {x : fb_X} {cc : ByteArray} {nm : String} {M : List va_E} {k n pc q : Nat} {lv : List (Option Value)} {st : List Value} {L : Nat} {r : Option FieldType} {o : Outcome} {Rel : List va_E → Prop} {fr lo mc ms : Nat} {js jd N : Nat} {f g : Nat → Int32} (C : fb_OK x cc "FallsBetween$Town" nm) (E : fb_RT x L r o Rel fr lo mc ms) (hs : M[js]? = some (aZ (cx_D x) N f)) (hd : M[jd]? = some (aZ (cx_D x) N g)) (hz : ∀ i, i < N → fits .boolean (.int (f i)) = true) (hN : N < 2 ^ 31) (h1 : 1 ≤ fr) (h2 : (st.map fun v => v.category).sum + 19 ≤ lo) (d : decode cc pc = .ok (.invokestatic 66, 3)) (hq : pc + 3 = q) (kk : fb_G x (M.set jd (aZ (cx_D x) N f)) k n q lv st) : fb_G x M k n pc lv (.int (nI N) :: .int (nI 0) :: .ref (cx_b x + jd) :: .int (nI 0) :: .ref (cx_b x + js) :: st) :=
  gx_copy (t0 := 1) C E hs hd rfl (vp_cell_i _ _ _) (vp_cell_i _ _ _) hN rfl (fun H _ i hi => ⟨hz i hi, fun _ _ _ _ _ _ => trivial⟩) h1 h2 d hq kk
/-- a slot holds nothing, or an object of a class that may lie there -/
def cp_ok (x : fb_X) (M : List va_E) (E : String) (r : Option Nat) : Prop := r = none ∨ ∃ (j ci : Nat) (fs : List Value), r = some (cx_b x + j) ∧ M[j]? = some (ob ci fs) ∧ fb_asg x ci E
theorem gx_copy_q {x : fb_X} {cc : ByteArray} {nm : String} {M : List va_E} {k n pc q : Nat} {lv : List (Option Value)} {st : List Value} {L : Nat} {r : Option FieldType} {o : Outcome} {Rel : List va_E → Prop} {fr lo mc ms : Nat} {js jd N t t0 : Nat} {CN : String} {f g : Nat → Option Nat} (C : fb_OK x cc "FallsBetween$Town" nm) (E : fb_RT x L r o Rel fr lo mc ms) (hs : M[js]? = some (aQ (cx_D x) t N f)) (hd : M[jd]? = some (aQ (cx_D x) t N g)) (ht : (fb_ty (cx_D x))[t0]? = some ((cx_D x).1 t, .object CN)) (hv : ∀ i, i < N → cp_ok x M CN (f i)) (hN : N < 2 ^ 31) (h1 : 1 ≤ fr) (h2 : (st.map fun v => v.category).sum + 19 ≤ lo) (d : decode cc pc = .ok (.invokestatic 66, 3)) (hq : pc + 3 = q) (kk : fb_G x (M.set jd (aQ (cx_D x) t N f)) k n q lv st) : fb_G x M k n pc lv (.int (nI N) :: .int (nI 0) :: .ref (cx_b x + jd) :: .int (nI 0) :: .ref (cx_b x + js) :: st) := by
  refine gx_copy (t0 := t0) C E hs hd ht (vp_cell_q _ _ _) (vp_cell_q _ _ _) hN rfl (fun H hP i hi => ?_) h1 h2 d hq kk
  rcases hv i hi with hn | ⟨j, ci, fs, hj, hM, r0, hc, has⟩
  · rw [hn]
    exact ⟨rfl, fun _ _ _ _ _ _ => trivial⟩
  · rw [hj]
    refine ⟨rfl, fun vm comp T hal hT hkd => ?_⟩
    obtain ⟨r', hr', cellV, g1, g2, g3, -⟩ := (hP.2 j _ hM).1
    obtain ⟨kA, comp', k1, k2, k3, -⟩ := (C.K.2 t0 _ ht).2
    have hcomp : comp = comp' := by
      have := (hkd kA k1).symm.trans k2
      injection this
    subst hcomp
    have hcls := (C.K.1 ci r0 hc).2
    obtain ⟨kC, hkC, -⟩ := hcls.2
    obtain ⟨kE, hkE, -⟩ := Vm.findClass_spec k3
    obtain ⟨kC', hkC', -⟩ := hal.2.2 _ _ hkC
    obtain ⟨kE', hkE', -⟩ := hal.2.2 _ _ hkE
    show ∃ c, (T.setVm vm).heap[cx_b x + j]? = some c ∧ _
    refine ⟨cellV, by show T.heap[_]? = _; rw [hT]; exact g1, (fun q h => by rw [g3] at h; cases h), ⟨kC', by rw [g2]; exact hkC'⟩, ⟨kE', hkE'⟩, ?_⟩
    show vm.assignable _ _ = true
    rw [hal.assignable, g2]
    exact has _ k3
