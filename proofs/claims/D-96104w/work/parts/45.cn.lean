/-! rows for what is built: the heap is A ++ l -/
set_option maxRecDepth 100000
theorem cn_at {A l : List va_E} {n0 i j : Nat} {e : va_E} (hA : A.length = n0) (hj : n0 + i = j) (h : l[i]? = some e) : (A ++ l)[j]? = some e := by
  subst hA hj
  rw [List.getElem?_append_right (Nat.le_add_right _ _), Nat.add_sub_cancel_left]
  exact h
theorem cn_lo {A l : List va_E} {j : Nat} (h : j < A.length) : (A ++ l)[j]? = A[j]? := List.getElem?_append_left h
theorem cn_set {x : fb_X} {A l : List va_E} {k n pc n0 i j : Nat} {lv : List (Option Value)} {st : List Value} {e : va_E} (hA : A.length = n0) (hj : n0 + i = j) (kk : fb_G x (A ++ l.set i e) k n pc lv st) : fb_G x ((A ++ l).set j e) k n pc lv st := by
  subst hA hj
  rw [List.set_append_right _ _ (Nat.le_add_right _ _), Nat.add_sub_cancel_left]
  exact kk
theorem cn_newa_i {x : fb_X} {cc : ByteArray} {own nm : String} {A l : List va_E} {k n pc q : Nat} {lv : List (Option Value)} {st : List Value} {L : Nat} {r : Option FieldType} {o : Outcome} {Rel : List va_E → Prop} {fr lo mc ms : Nat} {N n0 k0 m : Nat} (C : fb_OK x cc own nm) (E : fb_RT x L r o Rel fr lo mc ms) (hA : A.length = n0) (hl : l.length = k0) (hm : n0 + k0 = m) (ha : Cond.arrayClass .int ∈ lw_all) (hN : N < 2 ^ 16) (h1 : k + 1 ≤ mc) (h2 : n + N ≤ ms) (d : decode cc pc = .ok (.newarray .int, 2)) (hq : pc + 2 = q) (kk : fb_G x (A ++ (l ++ [aI (cx_D x) N (fun _ => 0)])) (k + 1) (n + N) q lv (.ref (cx_b x + m) :: st)) : fb_G x (A ++ l) k n pc lv (.int (nI N) :: st) := by
  subst hA hl hm
  refine gx_newa_i C E ha hN h1 h2 d hq ?_
  rw [List.append_assoc, List.length_append]
  exact kk
theorem cn_newa_z {x : fb_X} {cc : ByteArray} {own nm : String} {A l : List va_E} {k n pc q : Nat} {lv : List (Option Value)} {st : List Value} {L : Nat} {r : Option FieldType} {o : Outcome} {Rel : List va_E → Prop} {fr lo mc ms : Nat} {N n0 k0 m : Nat} (C : fb_OK x cc own nm) (E : fb_RT x L r o Rel fr lo mc ms) (hA : A.length = n0) (hl : l.length = k0) (hm : n0 + k0 = m) (ha : Cond.arrayClass .boolean ∈ lw_all) (hN : N < 2 ^ 16) (h1 : k + 1 ≤ mc) (h2 : n + N ≤ ms) (d : decode cc pc = .ok (.newarray .boolean, 2)) (hq : pc + 2 = q) (kk : fb_G x (A ++ (l ++ [aZ (cx_D x) N (fun _ => 0)])) (k + 1) (n + N) q lv (.ref (cx_b x + m) :: st)) : fb_G x (A ++ l) k n pc lv (.int (nI N) :: st) := by
  subst hA hl hm
  refine gx_newa_z C E ha hN h1 h2 d hq ?_
  rw [List.append_assoc, List.length_append]
  exact kk
theorem cn_newa_b {x : fb_X} {cc : ByteArray} {own nm : String} {A l : List va_E} {k n pc q : Nat} {lv : List (Option Value)} {st : List Value} {L : Nat} {r : Option FieldType} {o : Outcome} {Rel : List va_E → Prop} {fr lo mc ms : Nat} {N n0 k0 m : Nat} (C : fb_OK x cc own nm) (E : fb_RT x L r o Rel fr lo mc ms) (hA : A.length = n0) (hl : l.length = k0) (hm : n0 + k0 = m) (ha : Cond.arrayClass .byte ∈ lw_all) (hN : N < 2 ^ 16) (h1 : k + 1 ≤ mc) (h2 : n + N ≤ ms) (d : decode cc pc = .ok (.newarray .byte, 2)) (hq : pc + 2 = q) (kk : fb_G x (A ++ (l ++ [aB (cx_D x) N (fun _ => 0)])) (k + 1) (n + N) q lv (.ref (cx_b x + m) :: st)) : fb_G x (A ++ l) k n pc lv (.int (nI N) :: st) := by
  subst hA hl hm
  refine gx_newa_b C E ha hN h1 h2 d hq ?_
  rw [List.append_assoc, List.length_append]
  exact kk
theorem cn_newa_c {x : fb_X} {cc : ByteArray} {own nm : String} {A l : List va_E} {k n pc q : Nat} {lv : List (Option Value)} {st : List Value} {L : Nat} {r : Option FieldType} {o : Outcome} {Rel : List va_E → Prop} {fr lo mc ms : Nat} {N n0 k0 m : Nat} (C : fb_OK x cc own nm) (E : fb_RT x L r o Rel fr lo mc ms) (hA : A.length = n0) (hl : l.length = k0) (hm : n0 + k0 = m) (ha : Cond.arrayClass .char ∈ lw_all) (hN : N < 2 ^ 16) (h1 : k + 1 ≤ mc) (h2 : n + N ≤ ms) (d : decode cc pc = .ok (.newarray .char, 2)) (hq : pc + 2 = q) (kk : fb_G x (A ++ (l ++ [aC (cx_D x) N (fun _ => 0)])) (k + 1) (n + N) q lv (.ref (cx_b x + m) :: st)) : fb_G x (A ++ l) k n pc lv (.int (nI N) :: st) := by
  subst hA hl hm
  refine gx_newa_c C E ha hN h1 h2 d hq ?_
  rw [List.append_assoc, List.length_append]
  exact kk
theorem cn_newq {x : fb_X} {cc : ByteArray} {own nm : String} {A l : List va_E} {k n pc q : Nat} {lv : List (Option Value)} {st : List Value} {L : Nat} {r : Option FieldType} {o : Outcome} {Rel : List va_E → Prop} {fr lo mc ms : Nat} {N t t0 idx n0 k0 m : Nat} {CN : String} (C : fb_OK x cc own nm) (E : fb_RT x L r o Rel fr lo mc ms) (hA : A.length = n0) (hl : l.length = k0) (hm : n0 + k0 = m) (ht : (fb_ty (cx_D x))[t0]? = some ((cx_D x).1 t, .object CN)) (hcl : Cond.classLink own idx CN ∈ lw_all) (hov : Cond.arrayOver (.object CN) ∈ lw_tbl) (hN : N < 2 ^ 16) (h1 : k + 1 ≤ mc) (h2 : n + N ≤ ms) (d : decode cc pc = .ok (.anewarray idx, 3)) (hq : pc + 3 = q) (kk : fb_G x (A ++ (l ++ [aQ (cx_D x) t N (fun _ => none)])) (k + 1) (n + N) q lv (.ref (cx_b x + m) :: st)) : fb_G x (A ++ l) k n pc lv (.int (nI N) :: st) := by
  subst hA hl hm
  refine gx_newq C E ht hcl hov hN h1 h2 d hq ?_
  rw [List.append_assoc, List.length_append]
  exact kk
theorem cn_new {x : fb_X} {cc : ByteArray} {own nm : String} {A l : List va_E} {k n pc q : Nat} {lv : List (Option Value)} {st : List Value} {L : Nat} {r : Option FieldType} {o : Outcome} {Rel : List va_E → Prop} {fr lo mc ms : Nat} {N ci idx n0 k0 m : Nat} {CC : String} {T : u_T} {fs : List Value} (C : fb_OK x cc own nm) (E : fb_RT x L r o Rel fr lo mc ms) (hA : A.length = n0) (hl : l.length = k0) (hm : n0 + k0 = m) (hc : fb_cl[ci]? = some (CC, T, N)) (hin : ∀ w ∈ u_ws CC T N, w ∈ lw_all) (ty : Nat → FieldType) (hty : ∀ k, k < N → parseFieldDescriptor (T k).2.2.1 = some (ty k)) (hcl : Cond.classLink own idx CC ∈ lw_all) (hins : Cond.instantiable CC N ∈ lw_all) (hini : Cond.initialized CC ∈ lw_all) (hfs : ∀ j, j < N → defaultValue (ty j) = vp_V fs j) (h1 : k + 1 ≤ mc) (h2 : n + N ≤ ms) (d : decode cc pc = .ok (.new idx, 3)) (hq : pc + 3 = q) (kk : fb_G x (A ++ (l ++ [ob ci fs])) (k + 1) (n + N) q lv (.ref (cx_b x + m) :: st)) : fb_G x (A ++ l) k n pc lv st := by
  subst hA hl hm
  refine gx_new C E hc hin ty hty hcl hins hini hfs h1 h2 d hq ?_
  rw [List.append_assoc, List.length_append]
  exact kk
