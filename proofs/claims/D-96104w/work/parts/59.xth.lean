/-! the component: a town copied, a tree taken out -/
set_option maxRecDepth 100000
/-- a town's cells, whatever they hold -/
def tw_C (D : va_G) (b : Nat) (M : List va_E) (t : Nat) (n0 n1 n2 n3 n4 : Int32) (fl : Nat → Option Nat) (fg fh fn : Nat → Int32) (ft : Nat → Option Nat) (fp fy : Nat → Int32) : Prop :=
  t + 13 ≤ 54 ∧ M[t]? = some (ob 1 [.ref (b + (t + 1)), .ref (b + (t + 7)), .ref (b + (t + 8)), .ref (b + (t + 9)), .int n0, .ref (b + (t + 10)), .int n1, .int n2, .int n3, .ref (b + (t + 11)), .ref (b + (t + 12)), .int n4]) ∧ M[t + 1]? = some (aQ D 104 5 fl) ∧ (∀ i, i < 5 → M[t + 2 + i]? = some (ob (2 + i) [])) ∧ M[t + 7]? = some (aI D 36 fg) ∧ M[t + 8]? = some (aI D 36 fh) ∧ M[t + 9]? = some (aZ D 36 fn) ∧ M[t + 10]? = some (aQ D 105 7 ft) ∧ M[t + 11]? = some (aI D 8 fp) ∧ M[t + 12]? = some (aI D 252 fy)
theorem tw_V.C {D : va_G} {b : Nat} {M : List va_E} {t : Nat} {T Y : Nat → Nat} {lo : Nat} (h : tw_V D b M t T Y lo) : ∃ (fl : Nat → Option Nat) (fg fh fn : Nat → Int32) (ft : Nat → Option Nat) (fp fy : Nat → Int32), tw_C D b M t (nI (T 0)) (nI (T 1)) (nI (T 2)) (nI (T 3)) (nI lo) fl fg fh fn ft fp fy ∧ (∀ i, i < 5 → fl i = some (b + (t + 2 + i))) ∧ (∀ i, i < 36 → fg i = nI (T (12 + i))) ∧ (∀ i, i < 36 → fh i = nI (T (48 + i))) ∧ (∀ i, i < 36 → fn i = nI (T (84 + i))) ∧ tw_tr b M T ft ∧ (∀ i, i < 8 → fp i = nI (T (4 + i))) ∧ ∀ i, i < 252 → fy i = nI (Y i) := by
  obtain ⟨h0, h1, ⟨f2, a2, b2⟩, h3, ⟨f4, a4, b4⟩, ⟨f5, a5, b5⟩, ⟨f6, a6, b6⟩, ⟨f7, a7, b7⟩, ⟨f8, a8, b8⟩, ⟨f9, a9, b9⟩⟩ := h
  exact ⟨f2, f4, f5, f6, f7, f8, f9, ⟨h0, h1, a2, h3, a4, a5, a6, a7, a8, a9⟩, b2, b4, b5, b6, b7, b8, b9⟩
theorem tw_C.V {D : va_G} {b : Nat} {M : List va_E} {t : Nat} {T Y : Nat → Nat} {lo : Nat} {fl : Nat → Option Nat} {fg fh fn : Nat → Int32} {ft : Nat → Option Nat} {fp fy : Nat → Int32} (h : tw_C D b M t (nI (T 0)) (nI (T 1)) (nI (T 2)) (nI (T 3)) (nI lo) fl fg fh fn ft fp fy) (b2 : ∀ i, i < 5 → fl i = some (b + (t + 2 + i))) (b4 : ∀ i, i < 36 → fg i = nI (T (12 + i))) (b5 : ∀ i, i < 36 → fh i = nI (T (48 + i))) (b6 : ∀ i, i < 36 → fn i = nI (T (84 + i))) (b7 : tw_tr b M T ft) (b8 : ∀ i, i < 8 → fp i = nI (T (4 + i))) (b9 : ∀ i, i < 252 → fy i = nI (Y i)) : tw_V D b M t T Y lo := by
  obtain ⟨h0, h1, a2, h3, a4, a5, a6, a7, a8, a9⟩ := h
  exact ⟨h0, h1, ⟨fl, a2, b2⟩, h3, ⟨fg, a4, b4⟩, ⟨fh, a5, b5⟩, ⟨fn, a6, b6⟩, ⟨ft, a7, b7⟩, ⟨fp, a8, b8⟩, ⟨fy, a9, b9⟩⟩
theorem tw_C.seto {D : va_G} {b : Nat} {M : List va_E} {t : Nat} {n0 n1 n2 n3 n4 : Int32} {fl : Nat → Option Nat} {fg fh fn : Nat → Int32} {ft : Nat → Option Nat} {fp fy : Nat → Int32} {n0' n1' n2' n3' n4' : Int32} (h : tw_C D b M t n0 n1 n2 n3 n4 fl fg fh fn ft fp fy) : tw_C D b (M.set (t) (ob 1 [.ref (b + (t + 1)), .ref (b + (t + 7)), .ref (b + (t + 8)), .ref (b + (t + 9)), .int n0', .ref (b + (t + 10)), .int n1', .int n2', .int n3', .ref (b + (t + 11)), .ref (b + (t + 12)), .int n4'])) t n0' n1' n2' n3' n4' fl fg fh fn ft fp fy := by
  obtain ⟨h0, h1, a2, h3, a4, a5, a6, a7, a8, a9⟩ := h
  have hl : t < M.length := (List.getElem?_eq_some_iff.mp h1).1
  exact ⟨h0, by rw [List.getElem?_set_self hl], by rw [List.getElem?_set_ne (by omega)]; exact a2, fun i hi => by rw [List.getElem?_set_ne (by omega)]; exact h3 i hi, by rw [List.getElem?_set_ne (by omega)]; exact a4, by rw [List.getElem?_set_ne (by omega)]; exact a5, by rw [List.getElem?_set_ne (by omega)]; exact a6, by rw [List.getElem?_set_ne (by omega)]; exact a7, by rw [List.getElem?_set_ne (by omega)]; exact a8, by rw [List.getElem?_set_ne (by omega)]; exact a9⟩
theorem tw_C.setg {D : va_G} {b : Nat} {M : List va_E} {t : Nat} {n0 n1 n2 n3 n4 : Int32} {fl : Nat → Option Nat} {fg fh fn : Nat → Int32} {ft : Nat → Option Nat} {fp fy : Nat → Int32} {g : Nat → Int32} (h : tw_C D b M t n0 n1 n2 n3 n4 fl fg fh fn ft fp fy) : tw_C D b (M.set (t + 7) (aI D 36 g)) t n0 n1 n2 n3 n4 fl g fh fn ft fp fy := by
  obtain ⟨h0, h1, a2, h3, a4, a5, a6, a7, a8, a9⟩ := h
  have hl : t + 7 < M.length := (List.getElem?_eq_some_iff.mp a4).1
  exact ⟨h0, by rw [List.getElem?_set_ne (by omega)]; exact h1, by rw [List.getElem?_set_ne (by omega)]; exact a2, fun i hi => by rw [List.getElem?_set_ne (by omega)]; exact h3 i hi, by rw [List.getElem?_set_self hl], by rw [List.getElem?_set_ne (by omega)]; exact a5, by rw [List.getElem?_set_ne (by omega)]; exact a6, by rw [List.getElem?_set_ne (by omega)]; exact a7, by rw [List.getElem?_set_ne (by omega)]; exact a8, by rw [List.getElem?_set_ne (by omega)]; exact a9⟩
theorem tw_C.seth {D : va_G} {b : Nat} {M : List va_E} {t : Nat} {n0 n1 n2 n3 n4 : Int32} {fl : Nat → Option Nat} {fg fh fn : Nat → Int32} {ft : Nat → Option Nat} {fp fy : Nat → Int32} {g : Nat → Int32} (h : tw_C D b M t n0 n1 n2 n3 n4 fl fg fh fn ft fp fy) : tw_C D b (M.set (t + 8) (aI D 36 g)) t n0 n1 n2 n3 n4 fl fg g fn ft fp fy := by
  obtain ⟨h0, h1, a2, h3, a4, a5, a6, a7, a8, a9⟩ := h
  have hl : t + 8 < M.length := (List.getElem?_eq_some_iff.mp a5).1
  exact ⟨h0, by rw [List.getElem?_set_ne (by omega)]; exact h1, by rw [List.getElem?_set_ne (by omega)]; exact a2, fun i hi => by rw [List.getElem?_set_ne (by omega)]; exact h3 i hi, by rw [List.getElem?_set_ne (by omega)]; exact a4, by rw [List.getElem?_set_self hl], by rw [List.getElem?_set_ne (by omega)]; exact a6, by rw [List.getElem?_set_ne (by omega)]; exact a7, by rw [List.getElem?_set_ne (by omega)]; exact a8, by rw [List.getElem?_set_ne (by omega)]; exact a9⟩
theorem tw_C.setn {D : va_G} {b : Nat} {M : List va_E} {t : Nat} {n0 n1 n2 n3 n4 : Int32} {fl : Nat → Option Nat} {fg fh fn : Nat → Int32} {ft : Nat → Option Nat} {fp fy : Nat → Int32} {g : Nat → Int32} (h : tw_C D b M t n0 n1 n2 n3 n4 fl fg fh fn ft fp fy) : tw_C D b (M.set (t + 9) (aZ D 36 g)) t n0 n1 n2 n3 n4 fl fg fh g ft fp fy := by
  obtain ⟨h0, h1, a2, h3, a4, a5, a6, a7, a8, a9⟩ := h
  have hl : t + 9 < M.length := (List.getElem?_eq_some_iff.mp a6).1
  exact ⟨h0, by rw [List.getElem?_set_ne (by omega)]; exact h1, by rw [List.getElem?_set_ne (by omega)]; exact a2, fun i hi => by rw [List.getElem?_set_ne (by omega)]; exact h3 i hi, by rw [List.getElem?_set_ne (by omega)]; exact a4, by rw [List.getElem?_set_ne (by omega)]; exact a5, by rw [List.getElem?_set_self hl], by rw [List.getElem?_set_ne (by omega)]; exact a7, by rw [List.getElem?_set_ne (by omega)]; exact a8, by rw [List.getElem?_set_ne (by omega)]; exact a9⟩
theorem tw_C.setp {D : va_G} {b : Nat} {M : List va_E} {t : Nat} {n0 n1 n2 n3 n4 : Int32} {fl : Nat → Option Nat} {fg fh fn : Nat → Int32} {ft : Nat → Option Nat} {fp fy : Nat → Int32} {g : Nat → Int32} (h : tw_C D b M t n0 n1 n2 n3 n4 fl fg fh fn ft fp fy) : tw_C D b (M.set (t + 11) (aI D 8 g)) t n0 n1 n2 n3 n4 fl fg fh fn ft g fy := by
  obtain ⟨h0, h1, a2, h3, a4, a5, a6, a7, a8, a9⟩ := h
  have hl : t + 11 < M.length := (List.getElem?_eq_some_iff.mp a8).1
  exact ⟨h0, by rw [List.getElem?_set_ne (by omega)]; exact h1, by rw [List.getElem?_set_ne (by omega)]; exact a2, fun i hi => by rw [List.getElem?_set_ne (by omega)]; exact h3 i hi, by rw [List.getElem?_set_ne (by omega)]; exact a4, by rw [List.getElem?_set_ne (by omega)]; exact a5, by rw [List.getElem?_set_ne (by omega)]; exact a6, by rw [List.getElem?_set_ne (by omega)]; exact a7, by rw [List.getElem?_set_self hl], by rw [List.getElem?_set_ne (by omega)]; exact a9⟩
theorem tw_C.sett {D : va_G} {b : Nat} {M : List va_E} {t : Nat} {n0 n1 n2 n3 n4 : Int32} {fl : Nat → Option Nat} {fg fh fn : Nat → Int32} {ft : Nat → Option Nat} {fp fy : Nat → Int32} {g : Nat → Option Nat} (h : tw_C D b M t n0 n1 n2 n3 n4 fl fg fh fn ft fp fy) : tw_C D b (M.set (t + 10) (aQ D 105 7 g)) t n0 n1 n2 n3 n4 fl fg fh fn g fp fy := by
  obtain ⟨h0, h1, a2, h3, a4, a5, a6, a7, a8, a9⟩ := h
  have hl : t + 10 < M.length := (List.getElem?_eq_some_iff.mp a7).1
  exact ⟨h0, by rw [List.getElem?_set_ne (by omega)]; exact h1, by rw [List.getElem?_set_ne (by omega)]; exact a2, fun i hi => by rw [List.getElem?_set_ne (by omega)]; exact h3 i hi, by rw [List.getElem?_set_ne (by omega)]; exact a4, by rw [List.getElem?_set_ne (by omega)]; exact a5, by rw [List.getElem?_set_ne (by omega)]; exact a6, by rw [List.getElem?_set_self hl], by rw [List.getElem?_set_ne (by omega)]; exact a8, by rw [List.getElem?_set_ne (by omega)]; exact a9⟩
theorem tc_pf_trees {x : fb_X} {cc : ByteArray} {nm : String} {M M0 : List va_E} {k n pc q : Nat} {lv : List (Option Value)} {st : List Value} {t : Nat} {n0 n1 n2 n3 n4 v : Int32} {fl : Nat → Option Nat} {fg fh fn : Nat → Int32} {ft : Nat → Option Nat} {fp fy : Nat → Int32} (C : fb_OK x cc "FallsBetween$Town" nm) (hC : tw_C (cx_D x) (cx_b x) M t n0 n1 n2 n3 n4 fl fg fh fn ft fp fy) (hF : tw_F t M0 M) (d : decode cc pc = .ok (.putfield 53, 3)) (hq : pc + 3 = q) (kk : ∀ M' : List va_E, tw_C (cx_D x) (cx_b x) M' t v n1 n2 n3 n4 fl fg fh fn ft fp fy → tw_F t M0 M' → fb_G x M' k n q lv st) : fb_G x M k n pc lv (.int v :: .ref (cx_b x + t) :: st) := fp_X1_53 C hC.2.1 rfl d hq (kk _ hC.seto (hF.st _ _ (by omega)))
theorem tc_pf_wind {x : fb_X} {cc : ByteArray} {nm : String} {M M0 : List va_E} {k n pc q : Nat} {lv : List (Option Value)} {st : List Value} {t : Nat} {n0 n1 n2 n3 n4 v : Int32} {fl : Nat → Option Nat} {fg fh fn : Nat → Int32} {ft : Nat → Option Nat} {fp fy : Nat → Int32} (C : fb_OK x cc "FallsBetween$Town" nm) (hC : tw_C (cx_D x) (cx_b x) M t n0 n1 n2 n3 n4 fl fg fh fn ft fp fy) (hF : tw_F t M0 M) (d : decode cc pc = .ok (.putfield 57, 3)) (hq : pc + 3 = q) (kk : ∀ M' : List va_E, tw_C (cx_D x) (cx_b x) M' t n0 v n2 n3 n4 fl fg fh fn ft fp fy → tw_F t M0 M' → fb_G x M' k n q lv st) : fb_G x M k n pc lv (.int v :: .ref (cx_b x + t) :: st) := fp_X1_57 C hC.2.1 rfl d hq (kk _ hC.seto (hF.st _ _ (by omega)))
theorem tc_pf_law {x : fb_X} {cc : ByteArray} {nm : String} {M M0 : List va_E} {k n pc q : Nat} {lv : List (Option Value)} {st : List Value} {t : Nat} {n0 n1 n2 n3 n4 v : Int32} {fl : Nat → Option Nat} {fg fh fn : Nat → Int32} {ft : Nat → Option Nat} {fp fy : Nat → Int32} (C : fb_OK x cc "FallsBetween$Town" nm) (hC : tw_C (cx_D x) (cx_b x) M t n0 n1 n2 n3 n4 fl fg fh fn ft fp fy) (hF : tw_F t M0 M) (d : decode cc pc = .ok (.putfield 60, 3)) (hq : pc + 3 = q) (kk : ∀ M' : List va_E, tw_C (cx_D x) (cx_b x) M' t n0 n1 v n3 n4 fl fg fh fn ft fp fy → tw_F t M0 M' → fb_G x M' k n q lv st) : fb_G x M k n pc lv (.int v :: .ref (cx_b x + t) :: st) := fp_X1_60 C hC.2.1 rfl d hq (kk _ hC.seto (hF.st _ _ (by omega)))
theorem tc_pf_pits {x : fb_X} {cc : ByteArray} {nm : String} {M M0 : List va_E} {k n pc q : Nat} {lv : List (Option Value)} {st : List Value} {t : Nat} {n0 n1 n2 n3 n4 v : Int32} {fl : Nat → Option Nat} {fg fh fn : Nat → Int32} {ft : Nat → Option Nat} {fp fy : Nat → Int32} (C : fb_OK x cc "FallsBetween$Town" nm) (hC : tw_C (cx_D x) (cx_b x) M t n0 n1 n2 n3 n4 fl fg fh fn ft fp fy) (hF : tw_F t M0 M) (d : decode cc pc = .ok (.putfield 63, 3)) (hq : pc + 3 = q) (kk : ∀ M' : List va_E, tw_C (cx_D x) (cx_b x) M' t n0 n1 n2 v n4 fl fg fh fn ft fp fy → tw_F t M0 M' → fb_G x M' k n q lv st) : fb_G x M k n pc lv (.int v :: .ref (cx_b x + t) :: st) := fp_X1_63 C hC.2.1 rfl d hq (kk _ hC.seto (hF.st _ _ (by omega)))
theorem tw_V.keepF {D : va_G} {b : Nat} {M M' : List va_E} {t t2 : Nat} {T Y : Nat → Nat} {lo : Nat} (h : tw_V D b M t2 T Y lo) (hF : tw_F t M M') (hne : t2 + 13 ≤ t ∨ t + 13 ≤ t2) (hle : t + 13 ≤ 54) : tw_V D b M' t2 T Y lo := h.keep fun j hj _ => hF.2 j (by have := h.le; omega)
theorem asg_tree {x : fb_X} {cc : ByteArray} {own nm : String} (C : fb_OK x cc own nm) {kd : Nat} (h : kd ≤ 5) : fb_asg x (14 + kd) RX14 := by
  rcases (by omega : kd = 0 ∨ kd = 1 ∨ kd = 2 ∨ kd = 3 ∨ kd = 4 ∨ kd = 5) with rfl | rfl | rfl | rfl | rfl | rfl
  · exact fb_asg.self C (ci := 14) rfl
  · exact fb_asg.up C (ci := 15) (r := (RX15, TX15, 3)) rfl q1400
  · exact fb_asg.up C (ci := 16) (r := (RX16, TX16, 3)) rfl q1401
  · exact fb_asg.up C (ci := 17) (r := (RX17, TX17, 3)) rfl q1402
  · exact fb_asg.up C (ci := 18) (r := (RX18, TX18, 3)) rfl q1403
  · exact fb_asg.up C (ci := 19) (r := (RX19, TX19, 3)) rfl q1404
set_option maxHeartbeats 4000000 in
theorem tx_set (l : Launch) (D : va_G) (b : Nat) (M0 : List va_E) {t t2 : Nat} {T T2 Y Y2 : Nat → Nat} {lo lo2 : Nat} (hV : tw_V D b M0 t T Y lo) (hV2 : tw_V D b M0 t2 T2 Y2 lo2) (hne : t2 + 13 ≤ t ∨ t + 13 ≤ t2) (hk : okT T2) : fb_CT l D b yX1_set cX1_set 2 none 1 19 0 0 [.ref (b + t), .ref (b + t2)] M0 (.returned none) (fun M' => tw_V D b M' t T2 Y lo ∧ tw_F t M0 M') := by
  refine fb_start [some (.ref (b + t)), some (.ref (b + t2))] (by decide) (Nat.le_of_ble_eq_true rfl) rfl ?_
  intro x hl hD hb C E hx
  subst hl hD hb
  have C : fb_OK x cX1_set "FallsBetween$Town" "set" := C
  obtain ⟨k0, k1, k2, k3, k4, k5, k6, k7, k8⟩ := id hk
  have hF := tw_F.rf t M0
  obtain ⟨fl, fg, fh, fn, ft, fp, fy, hC, c2, c4, c5, c6, c7, c8, c9⟩ := hV.C
  obtain ⟨l2, g2, h2, n2_, t2_, p2, y2, hC2, d2, d4, d5, d6, d7, d8, d9⟩ := hV2.C
  have hle := hV.le
  have hle2 := hV2.le
  have hsg2 : ∀ M : List va_E, tw_F t M0 M → M[t2 + 7]? = some (aI (cx_D x) 36 g2) := fun M hF => by rw [hF.2 _ (by omega)]; exact hC2.2.2.2.2.1
  have hsh2 : ∀ M : List va_E, tw_F t M0 M → M[t2 + 8]? = some (aI (cx_D x) 36 h2) := fun M hF => by rw [hF.2 _ (by omega)]; exact hC2.2.2.2.2.2.1
  have hsn2_ : ∀ M : List va_E, tw_F t M0 M → M[t2 + 9]? = some (aZ (cx_D x) 36 n2_) := fun M hF => by rw [hF.2 _ (by omega)]; exact hC2.2.2.2.2.2.2.1
  have hst2_ : ∀ M : List va_E, tw_F t M0 M → M[t2 + 10]? = some (aQ (cx_D x) 105 7 t2_) := fun M hF => by rw [hF.2 _ (by omega)]; exact hC2.2.2.2.2.2.2.2.1
  have hsp2 : ∀ M : List va_E, tw_F t M0 M → M[t2 + 11]? = some (aI (cx_D x) 8 p2) := fun M hF => by rw [hF.2 _ (by omega)]; exact hC2.2.2.2.2.2.2.2.2.1
  have hz2 : ∀ i, i < 36 → fits .boolean (.int (n2_ i)) = true := fun i hi => by rw [d6 i hi]; rcases (by have := k7 i hi; omega : T2 (84 + i) = 0 ∨ T2 (84 + i) = 1) with e | e <;> rw [e] <;> rfl
  have hok : ∀ M : List va_E, tw_F t M0 M → ∀ i, i < 7 → cp_ok x M "FallsBetween$Tree" (t2_ i) := fun M hF i hi => by
    rcases d7.2 i hi with h0 | ⟨j, kd, fs, e1, e2, e3, e4⟩
    · exact Or.inl h0
    · exact Or.inr ⟨j, 14 + kd, fs, e3, by rw [hF.2 j (by omega)]; exact e4, asg_tree C (by omega)⟩
  refine gx_aload_n (q := 1) C dX1_set_0 rfl rfl rfl ?_
  refine gx_aload_n (q := 2) C dX1_set_1 rfl rfl rfl ?_
  refine fg_X1_53 (q := 5) C (hV2.keepF hF hne hle).o rfl dX1_set_2 rfl ?_
  refine tc_pf_trees (q := 8) C hC hF dX1_set_5 rfl (fun M hC hF => ?_)
  refine gx_aload_n (q := 9) C dX1_set_8 rfl rfl rfl ?_
  refine gx_aload_n (q := 10) C dX1_set_9 rfl rfl rfl ?_
  refine fg_X1_57 (q := 13) C (hV2.keepF hF hne hle).o rfl dX1_set_10 rfl ?_
  refine tc_pf_wind (q := 16) C hC hF dX1_set_13 rfl (fun M hC hF => ?_)
  refine gx_aload_n (q := 17) C dX1_set_16 rfl rfl rfl ?_
  refine gx_aload_n (q := 18) C dX1_set_17 rfl rfl rfl ?_
  refine fg_X1_60 (q := 21) C (hV2.keepF hF hne hle).o rfl dX1_set_18 rfl ?_
  refine tc_pf_law (q := 24) C hC hF dX1_set_21 rfl (fun M hC hF => ?_)
  refine gx_aload_n (q := 25) C dX1_set_24 rfl rfl rfl ?_
  refine gx_aload_n (q := 26) C dX1_set_25 rfl rfl rfl ?_
  refine fg_X1_63 (q := 29) C (hV2.keepF hF hne hle).o rfl dX1_set_26 rfl ?_
  refine tc_pf_pits (q := 32) C hC hF dX1_set_29 rfl (fun M hC hF => ?_)
  refine gx_aload_n (q := 33) C dX1_set_32 rfl rfl rfl ?_
  refine fg_X1_30 (q := 36) C (hV2.keepF hF hne hle).o rfl dX1_set_33 rfl ?_
  refine gx_iconst (q := 37) (v := nI 0) C dX1_set_36 (by decide) rfl ?_
  refine gx_aload_n (q := 38) C dX1_set_37 rfl rfl rfl ?_
  refine fg_X1_30 (q := 41) C hC.2.1 rfl dX1_set_38 rfl ?_
  refine gx_iconst (q := 42) (v := nI 0) C dX1_set_41 (by decide) rfl ?_
  refine gx_bipush (q := 44) (v := nI 36) C dX1_set_42 (by decide) rfl ?_
  refine gx_copy_i (q := 47) C E (hsg2 M hF) hC.2.2.2.2.1 (by decide) (by decide) (Nat.le_of_ble_eq_true rfl) dX1_set_44 rfl ?_
  have hC := hC.setg (g := g2)
  have hF := hF.st (t + 7) (aI (cx_D x) 36 g2) (by omega)
  generalize M.set (t + 7) (aI (cx_D x) 36 g2) = M at hC hF
  refine gx_aload_n (q := 48) C dX1_set_47 rfl rfl rfl ?_
  refine fg_X1_34 (q := 51) C (hV2.keepF hF hne hle).o rfl dX1_set_48 rfl ?_
  refine gx_iconst (q := 52) (v := nI 0) C dX1_set_51 (by decide) rfl ?_
  refine gx_aload_n (q := 53) C dX1_set_52 rfl rfl rfl ?_
  refine fg_X1_34 (q := 56) C hC.2.1 rfl dX1_set_53 rfl ?_
  refine gx_iconst (q := 57) (v := nI 0) C dX1_set_56 (by decide) rfl ?_
  refine gx_bipush (q := 59) (v := nI 36) C dX1_set_57 (by decide) rfl ?_
  refine gx_copy_i (q := 62) C E (hsh2 M hF) hC.2.2.2.2.2.1 (by decide) (by decide) (Nat.le_of_ble_eq_true rfl) dX1_set_59 rfl ?_
  have hC := hC.seth (g := h2)
  have hF := hF.st (t + 8) (aI (cx_D x) 36 h2) (by omega)
  generalize M.set (t + 8) (aI (cx_D x) 36 h2) = M at hC hF
  refine gx_aload_n (q := 63) C dX1_set_62 rfl rfl rfl ?_
  refine fg_X1_37 (q := 66) C (hV2.keepF hF hne hle).o rfl dX1_set_63 rfl ?_
  refine gx_iconst (q := 67) (v := nI 0) C dX1_set_66 (by decide) rfl ?_
  refine gx_aload_n (q := 68) C dX1_set_67 rfl rfl rfl ?_
  refine fg_X1_37 (q := 71) C hC.2.1 rfl dX1_set_68 rfl ?_
  refine gx_iconst (q := 72) (v := nI 0) C dX1_set_71 (by decide) rfl ?_
  refine gx_bipush (q := 74) (v := nI 36) C dX1_set_72 (by decide) rfl ?_
  refine gx_copy_z (q := 77) C E (hsn2_ M hF) hC.2.2.2.2.2.2.1 (fun i hi => hz2 i hi) (by decide) (by decide) (Nat.le_of_ble_eq_true rfl) dX1_set_74 rfl ?_
  have hC := hC.setn (g := n2_)
  have hF := hF.st (t + 9) (aZ (cx_D x) 36 n2_) (by omega)
  generalize M.set (t + 9) (aZ (cx_D x) 36 n2_) = M at hC hF
  refine gx_aload_n (q := 78) C dX1_set_77 rfl rfl rfl ?_
  refine fg_X1_43 (q := 81) C (hV2.keepF hF hne hle).o rfl dX1_set_78 rfl ?_
  refine gx_iconst (q := 82) (v := nI 0) C dX1_set_81 (by decide) rfl ?_
  refine gx_aload_n (q := 83) C dX1_set_82 rfl rfl rfl ?_
  refine fg_X1_43 (q := 86) C hC.2.1 rfl dX1_set_83 rfl ?_
  refine gx_iconst (q := 87) (v := nI 0) C dX1_set_86 (by decide) rfl ?_
  refine gx_aload_n (q := 88) C dX1_set_87 rfl rfl rfl ?_
  refine fg_X1_43 (q := 91) C hC.2.1 rfl dX1_set_88 rfl ?_
  refine gx_alen (q := 92) (t0 := 5) C hC.2.2.2.2.2.2.2.1 rfl rfl dX1_set_91 rfl ?_
  refine gx_copy_q (N := 7) (t := 105) (t0 := 5) (q := 95) C E (hst2_ M hF) hC.2.2.2.2.2.2.2.1 rfl (fun i hi => hok M hF i hi) (by decide) (by decide) (Nat.le_of_ble_eq_true rfl) dX1_set_92 rfl ?_
  have hC := hC.sett (g := t2_)
  have hF := hF.st (t + 10) (aQ (cx_D x) 105 7 t2_) (by omega)
  generalize M.set (t + 10) (aQ (cx_D x) 105 7 t2_) = M at hC hF
  refine gx_aload_n (q := 96) C dX1_set_95 rfl rfl rfl ?_
  refine fg_X1_47 (q := 99) C (hV2.keepF hF hne hle).o rfl dX1_set_96 rfl ?_
  refine gx_iconst (q := 100) (v := nI 0) C dX1_set_99 (by decide) rfl ?_
  refine gx_aload_n (q := 101) C dX1_set_100 rfl rfl rfl ?_
  refine fg_X1_47 (q := 104) C hC.2.1 rfl dX1_set_101 rfl ?_
  refine gx_iconst (q := 105) (v := nI 0) C dX1_set_104 (by decide) rfl ?_
  refine gx_bipush (q := 107) (v := nI 8) C dX1_set_105 (by decide) rfl ?_
  refine gx_copy_i (q := 110) C E (hsp2 M hF) hC.2.2.2.2.2.2.2.2.1 (by decide) (by decide) (Nat.le_of_ble_eq_true rfl) dX1_set_107 rfl ?_
  have hC := hC.setp (g := p2)
  have hF := hF.st (t + 11) (aI (cx_D x) 8 p2) (by omega)
  generalize M.set (t + 11) (aI (cx_D x) 8 p2) = M at hC hF
  exact gx_vret C E dX1_set_110 (⟨hC.V (T := T2) (Y := Y) c2 d4 d5 d6 (d7.keep fun j hj _ => hF.2 j (by omega)) d8 c9, hF⟩) (by omega) (by omega)
def rmF (f : Nat → Option Nat) (w u : Nat) : Nat → Option Nat := fun i => if w ≤ i ∧ i < u then f (i + 1) else f i
theorem rmF_0 (f : Nat → Option Nat) (w : Nat) : rmF f w w = f := by
  funext i
  unfold rmF
  rw [if_neg (by omega)]
theorem rmF_s {f : Nat → Option Nat} {w u : Nat} (h : w ≤ u) : va_up (rmF f w u) u (f (u + 1)) = rmF f w (u + 1) := by
  funext i
  unfold va_up rmF
  by_cases e : i = u
  · subst e
    rw [if_pos rfl, if_pos (by omega)]
  · rw [if_neg e]
    by_cases h1 : w ≤ i ∧ i < u
    · rw [if_pos h1, if_pos (by omega)]
    · rw [if_neg h1, if_neg (by omega)]
theorem rmF_at {f : Nat → Option Nat} {w u : Nat} : rmF f w u (u + 1) = f (u + 1) := by
  unfold rmF
  rw [if_neg (by omega)]
theorem tw_tr.fell {b : Nat} {M : List va_E} {T : Nat → Nat} {f : Nat → Option Nat} {w : Nat} (h : tw_tr b M T f) (h6 : T 0 ≤ 6) (hw : w < T 0) : tw_tr b M (fellT T w) (rmF f w (T 0 - 1)) := by
  refine ⟨fun i hi => ?_, fun i hi => ?_⟩
  · rw [fellT_0] at hi
    have f0 := fellT_at w i 0 hi h6 (by omega)
    have f1 := fellT_at w i 1 hi h6 (by omega)
    have f2 := fellT_at w i 2 hi h6 (by omega)
    have f3 := fellT_at w i 3 hi h6 (by omega)
    unfold tw_E
    rw [show 120 + i = 120 + 6 * 0 + i by omega, show 126 + i = 120 + 6 * 1 + i by omega, show 132 + i = 120 + 6 * 2 + i by omega, show 138 + i = 120 + 6 * 3 + i by omega, f0, f1, f2, f3]
    unfold rmF
    by_cases e : i < w
    · rw [if_neg (by omega), if_pos e]
      exact h.1 i (by omega)
    · rw [if_pos (by omega), if_neg e]
      exact h.1 (i + 1) (by omega)
  · unfold rmF
    split
    · exact h.2 (i + 1) (by omega)
    · exact h.2 i hi
set_option maxHeartbeats 4000000 in
theorem tx_removeTree (l : Launch) (D : va_G) (b : Nat) (M0 : List va_E) {t : Nat} {T Y : Nat → Nat} {lo : Nat} (w : Nat) (hw : w < T 0) (hV : tw_V D b M0 t T Y lo) (hk : okT T) : fb_CT l D b yX1_removeTree cX1_removeTree 3 none 0 0 0 0 [.ref (b + t), .int (nI w)] M0 (.returned none) (fun M' => tw_V D b M' t (fellT T w) Y lo ∧ tw_F t M0 M') := by
  refine fb_start [some (.ref (b + t)), some (.int (nI w)), none] (by decide) (Nat.le_of_ble_eq_true rfl) rfl ?_
  intro x hl hD hb C E hx
  subst hl hD hb
  have C : fb_OK x cX1_removeTree "FallsBetween$Town" "removeTree" := C
  obtain ⟨k0, k1, k2, k3, k4, k5, k6, k7, k8⟩ := id hk
  have hF := tw_F.rf t M0
  obtain ⟨fl, fg, fh, fn, ft, fp, fy, hC, y2, y4, y5, y6, y7, y8, y9⟩ := hV.C
  have hle := hV.le
  have h6 := k0
  refine gx_iload_n (q := 1) C dX1_removeTree_0 rfl rfl rfl ?_
  refine gx_istore_n (q := 2) (lv' := [_, _, _]) C dX1_removeTree_1 rfl (Nat.le_of_ble_eq_true rfl) E.2.2.2.symm rfl rfl rfl ?_
  have Lu : ∀ u, u ≤ T 0 - 1 → w ≤ u → ∀ M : List va_E, tw_C (cx_D x) (cx_b x) M t (nI (T 0)) (nI (T 1)) (nI (T 2)) (nI (T 3)) (nI lo) fl fg fh fn (rmF ft w u) fp fy → tw_F t M0 M → fb_G x M 0 0 2 [some (.ref (cx_b x + t)), some (.int (nI w)), some (.int (nI u))] [] := by
    refine fb_dn (T 0 - 1) ?_ ?_
    · intro hwu M hC hF
      refine gx_iload_n (q := 3) C dX1_removeTree_2 rfl rfl rfl ?_
      refine gx_iconst (q := 4) (v := nI 1) C dX1_removeTree_3 (by decide) rfl ?_
      refine gn_iadd (q := 5) C dX1_removeTree_4 rfl ?_
      refine gx_aload_n (q := 6) C dX1_removeTree_5 rfl rfl rfl ?_
      refine fg_X1_53 (q := 9) C hC.2.1 rfl dX1_removeTree_6 rfl ?_
      refine gn_icmp_ge (q := 12) (tgt := 32) C dX1_removeTree_9 (by decide) rfl (by omega) (by omega) (fun c9 => ?_) (fun c9 => by exfalso; omega)
      refine gx_aload_n (q := 33) C dX1_removeTree_32 rfl rfl rfl ?_
      refine gx_dup (q := 34) C dX1_removeTree_33 rfl rfl ?_
      refine fg_X1_53 (q := 37) C hC.2.1 rfl dX1_removeTree_34 rfl ?_
      refine gx_iconst (q := 38) (v := nI 1) C dX1_removeTree_37 (by decide) rfl ?_
      refine gn_isub (q := 39) C dX1_removeTree_38 (by omega) rfl ?_
      refine tc_pf_trees (q := 42) C hC hF dX1_removeTree_39 rfl (fun M hC hF => ?_)
      exact gx_vret C E dX1_removeTree_42 (⟨(show tw_C (cx_D x) (cx_b x) M t (nI (fellT T w 0)) (nI (fellT T w 1)) (nI (fellT T w 2)) (nI (fellT T w 3)) (nI lo) fl fg fh fn (rmF ft w (T 0 - 1)) fp fy from by rw [fellT_0, fellT_lo (by decide) (by decide), fellT_lo (by decide) (by decide), fellT_lo (by decide) (by decide)]; exact hC).V y2 (fun i hi => by rw [fellT_lo (by omega) (by omega)]; exact y4 i hi) (fun i hi => by rw [fellT_lo (by omega) (by omega)]; exact y5 i hi) (fun i hi => by rw [fellT_lo (by omega) (by omega)]; exact y6 i hi) ((y7.keep fun j hj _ => hF.2 j (by omega)).fell h6 hw) (fun i hi => by rw [fellT_lo (by omega) (by omega)]; exact y8 i hi) y9, hF⟩) (by omega) (by omega)
    · intro u hu ih hwu M hC hF
      obtain ⟨j, e1, e2, e3⟩ := y7.1 (u + 1) (by omega)
      have e4 := hF.2 j (by omega)
      rw [e3] at e4
      have hkd := (k8 (u + 1) (by omega)).1
      refine gx_iload_n (q := 3) C dX1_removeTree_2 rfl rfl rfl ?_
      refine gx_iconst (q := 4) (v := nI 1) C dX1_removeTree_3 (by decide) rfl ?_
      refine gn_iadd (q := 5) C dX1_removeTree_4 rfl ?_
      refine gx_aload_n (q := 6) C dX1_removeTree_5 rfl rfl rfl ?_
      refine fg_X1_53 (q := 9) C hC.2.1 rfl dX1_removeTree_6 rfl ?_
      refine gn_icmp_ge (q := 12) (tgt := 32) C dX1_removeTree_9 (by decide) rfl (by omega) (by omega) (fun c9 => by exfalso; omega) (fun c9 => ?_)
      refine gx_aload_n (q := 13) C dX1_removeTree_12 rfl rfl rfl ?_
      refine fg_X1_43 (q := 16) C hC.2.1 rfl dX1_removeTree_13 rfl ?_
      refine gx_iload_n (q := 17) C dX1_removeTree_16 rfl rfl rfl ?_
      refine gx_aload_n (q := 18) C dX1_removeTree_17 rfl rfl rfl ?_
      refine fg_X1_43 (q := 21) C hC.2.1 rfl dX1_removeTree_18 rfl ?_
      refine gx_iload_n (q := 22) C dX1_removeTree_21 rfl rfl rfl ?_
      refine gx_iconst (q := 23) (v := nI 1) C dX1_removeTree_22 (by decide) rfl ?_
      refine gn_iadd (q := 24) C dX1_removeTree_23 rfl ?_
      refine gx_aald (q := 25) (t0 := 5) C hC.2.2.2.2.2.2.2.1 rfl (by omega) (by decide) (rmF_at.trans e2) dX1_removeTree_24 rfl ?_
      refine gx_aast (q := 26) (t0 := 5) C hC.2.2.2.2.2.2.2.1 rfl (by omega) (by decide) e4 (asg_tree C hkd) dX1_removeTree_25 rfl ?_
      rw [← e2, rmF_s hwu]
      have hC := hC.sett (g := rmF ft w (u + 1))
      have hF := hF.st (t + 10) (aQ (cx_D x) 105 7 (rmF ft w (u + 1))) (by omega)
      generalize M.set (t + 10) (aQ (cx_D x) 105 7 (rmF ft w (u + 1))) = M at hC hF
      refine gn_inc (q := 29) (lv' := [_, _, _]) C dX1_removeTree_26 rfl E.2.2.2.symm rfl rfl rfl ?_
      refine gx_goto (tgt := 2) C dX1_removeTree_29 (by decide) ?_
      exact ih (by omega) M hC hF
  exact Lu w (by omega) (Nat.le_refl w) M0 (by rw [rmF_0]; exact hC) hF
