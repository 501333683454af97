/-! rows that read and write cells of the heap M -/
set_option maxRecDepth 100000
theorem fb_HP.one {D : va_G} {b : Nat} {M : List va_E} {H : Heap} {j : Nat} {e : va_E} (h : fb_HP D b M H) (hM : M[j]? = some e) : va_P D fb_cl [(b + j, e)] H := by
  intro k q hk
  cases k with
  | zero =>
    cases hk
    exact (h.2 j e hM).1
  | succ k => simp at hk
theorem fb_mon.set {H H1 : Heap} {a i : Nat} {cell : Cell} {v : Value} (h : fb_mon H a) (h1 : H[a]? = some cell) (h2 : H1[a]? = some (cell.setSlot i v)) : fb_mon H1 a := by
  obtain ⟨c, g1, g2, g3⟩ := h
  cases g1.symm.trans h1
  exact ⟨_, h2, g2, g3⟩
theorem fb_lt {D : va_G} {b : Nat} {M : List va_E} {H : Heap} {j : Nat} {e : va_E} (h : fb_HP D b M H) (hM : M[j]? = some e) : b + j < H.size := by
  rw [h.1]
  exact Nat.add_lt_add_left (List.getElem?_eq_some_iff.mp hM).1 b
theorem gx_get {x : fb_X} {cc : ByteArray} {own nm : String} {M : List va_E} {k n pc q : Nat} {lv : List (Option Value)} {st : List Value} {j ci i N idx : Nat} {fs : List Value} {CC ref : String} {T : u_T} {v : Value} (C : fb_OK x cc own nm) (hM : M[j]? = some (ob ci fs)) (hc : fb_cl[ci]? = some (CC, T, N)) (hin : ∀ w ∈ u_ws CC T N, w ∈ lw_all) (hi : i < N) (hl : Cond.fieldLink own idx ref (T i).2.1 (T i).2.2.1 ∈ lw_all) (hsame : ∀ z, (cx_s x).fieldFound? (T i).1 (T i).2.1 (T i).2.2.1 = some z → (cx_s x).fieldFound? ref (T i).2.1 (T i).2.2.1 = some z) (hv : fs[i]? = some v) (d : decode cc pc = .ok (.getfield idx, 3)) (hq : pc + 3 = q) (kk : fb_G x M k n q lv (v :: st)) : fb_G x M k n pc lv (.ref (cx_b x + j) :: st) := by
  subst hq
  exact fun H locs ls h1 h2 h3 => va_get C.exec C.code C.wds hin C.own C.K (fb_HP.one h1 hM) 0 rfl hc i hi (C.wd hl) hsame hv d (kk H locs ls h1 h2 h3)
theorem gx_getN {x : fb_X} {cc : ByteArray} {own nm : String} {M : List va_E} {k n pc q : Nat} {lv : List (Option Value)} {st : List Value} {j ci i N idx : Nat} {fs : List Value} {CC ref : String} {T : u_T} {v : Value} {host : String} (C : fb_OK x cc own nm) (hM : M[j]? = some (ob ci fs)) (hc : fb_cl[ci]? = some (CC, T, N)) (hin : ∀ w ∈ u_ws CC T N, w ∈ lw_all) (hi : i < N) (hl : Cond.fieldLinkNest own idx ref (T i).2.1 (T i).2.2.1 host ∈ lw_tbl) (hsame : ∀ z, (cx_s x).fieldFound? (T i).1 (T i).2.1 (T i).2.2.1 = some z → (cx_s x).fieldFound? ref (T i).2.1 (T i).2.2.1 = some z) (hv : fs[i]? = some v) (d : decode cc pc = .ok (.getfield idx, 3)) (hq : pc + 3 = q) (kk : fb_G x M k n q lv (v :: st)) : fb_G x M k n pc lv (.ref (cx_b x + j) :: st) := by
  subst hq
  exact fun H locs ls h1 h2 h3 => va_getN C.exec C.code C.wds hin C.own C.K (fb_HP.one h1 hM) 0 rfl hc i hi (va_Nw.use rfl (C.nw hl rfl)) hsame hv d (kk H locs ls h1 h2 h3)
theorem gx_put {x : fb_X} {cc : ByteArray} {own nm : String} {M : List va_E} {k n pc q : Nat} {lv : List (Option Value)} {st : List Value} {j ci i N idx : Nat} {fs : List Value} {CC ref : String} {T : u_T} {v : Value} {ty : FieldType} (C : fb_OK x cc own nm) (hM : M[j]? = some (ob ci fs)) (hc : fb_cl[ci]? = some (CC, T, N)) (hin : ∀ w ∈ u_ws CC T N, w ∈ lw_all) (ty0 : Nat → FieldType) (hty : ∀ k, k < N → parseFieldDescriptor (T k).2.2.1 = some (ty0 k)) (hnm : ∀ a, a < N → ∀ b, b < N → a ≠ b → (T a).2.1 ≠ (T b).2.1) (hi : i < N) (hl : Cond.fieldLink own idx ref (T i).2.1 (T i).2.2.1 ∈ lw_all) (hsame : ∀ z, (cx_s x).fieldFound? (T i).1 (T i).2.1 (T i).2.2.1 = some z → (cx_s x).fieldFound? ref (T i).2.1 (T i).2.2.1 = some z) (hfin : (T i).2.2.2 = false) (hd : parseFieldDescriptor (T i).2.2.1 = some ty) (hn : narrow ty v = v) (hfit : fits ty v = true) (hlen : i < fs.length) (d : decode cc pc = .ok (.putfield idx, 3)) (hq : pc + 3 = q) (kk : fb_G x (M.set j (ob ci (fs.set i v))) k n q lv st) : fb_G x M k n pc lv (v :: .ref (cx_b x + j) :: st) := by
  subst hq
  have hap := va_apart (own := own) C.wds hin ty0 hty hnm C.K hc
  intro H locs ls h1 h2 h3
  obtain ⟨r, g1, cell, q1, q2, q3, q4⟩ := (h1.2 j _ hM).1
  have hr : r = (CC, T, N) := Option.some.inj (g1.symm.trans hc)
  subst hr
  obtain ⟨hS, hfc, kC, hkC, hkind⟩ := C.K.1 ci _ hc
  obtain ⟨cf, kf, fi, f, hi', hsl⟩ := hS i hi
  have hlay := C.wd (hin _ (u_in_lay hi))
  unfold u_lay at hlay
  rw [if_neg (by rw [hfin]; decide)] at hlay
  have hst := (u_facts hfc hkC (u_lays C.wds hin hi) hi').1
  have h6 := u_store hfc hkC hkind hlay hi' hd hn hfit
  refine W.putK C.exec C.code (f := f) ⟨C.own, C.wd hl, ⟨_, _, _, hsame _ hi'⟩, hst⟩ (by rw [q2]; exact h6) q1 q3 (by rw [hsl]; exact k2_hasslot (q4 i hi)) rfl rfl d fun H' e1 e2 e3 => ?_
  rw [hsl] at e1 ⊢
  exact kk H' _ ls (h1.set hM ⟨⟨_, hc, t_OB.to (V := updV (vp_V fs) i v) ⟨_, e1, q2, q3, t_set q4 hap hi v⟩ (fun j _ => vp_updV_set hlen v j)⟩, fb_mon.set (h1.2 j _ hM).2 q1 e1⟩ e2 e3) (h2.put e2 e3 (Nat.le_add_right _ _)) h3
theorem gx_putN {x : fb_X} {cc : ByteArray} {own nm : String} {M : List va_E} {k n pc q : Nat} {lv : List (Option Value)} {st : List Value} {j ci i N idx : Nat} {fs : List Value} {CC ref : String} {T : u_T} {v : Value} {host : String} {ty : FieldType} (C : fb_OK x cc own nm) (hM : M[j]? = some (ob ci fs)) (hc : fb_cl[ci]? = some (CC, T, N)) (hin : ∀ w ∈ u_ws CC T N, w ∈ lw_all) (ty0 : Nat → FieldType) (hty : ∀ k, k < N → parseFieldDescriptor (T k).2.2.1 = some (ty0 k)) (hnm : ∀ a, a < N → ∀ b, b < N → a ≠ b → (T a).2.1 ≠ (T b).2.1) (hi : i < N) (hl : Cond.fieldLinkNest own idx ref (T i).2.1 (T i).2.2.1 host ∈ lw_tbl) (hsame : ∀ z, (cx_s x).fieldFound? (T i).1 (T i).2.1 (T i).2.2.1 = some z → (cx_s x).fieldFound? ref (T i).2.1 (T i).2.2.1 = some z) (hfin : (T i).2.2.2 = false) (hd : parseFieldDescriptor (T i).2.2.1 = some ty) (hn : narrow ty v = v) (hfit : fits ty v = true) (hlen : i < fs.length) (d : decode cc pc = .ok (.putfield idx, 3)) (hq : pc + 3 = q) (kk : fb_G x (M.set j (ob ci (fs.set i v))) k n q lv st) : fb_G x M k n pc lv (v :: .ref (cx_b x + j) :: st) := by
  subst hq
  have hap := va_apart (own := own) C.wds hin ty0 hty hnm C.K hc
  intro H locs ls h1 h2 h3
  obtain ⟨r, g1, cell, q1, q2, q3, q4⟩ := (h1.2 j _ hM).1
  have hr : r = (CC, T, N) := Option.some.inj (g1.symm.trans hc)
  subst hr
  obtain ⟨hS, hfc, kC, hkC, hkind⟩ := C.K.1 ci _ hc
  obtain ⟨cf, kf, fi, f, hi', hsl⟩ := hS i hi
  have hlay := C.wd (hin _ (u_in_lay hi))
  unfold u_lay at hlay
  rw [if_neg (by rw [hfin]; decide)] at hlay
  have hst := (u_facts hfc hkC (u_lays C.wds hin hi) hi').1
  have h6 := u_store hfc hkC hkind hlay hi' hd hn hfit
  refine va_WputK C.exec C.code (f := f) C.own (va_Nw.use rfl (C.nw hl rfl)) (hsame _ hi') hst (by rw [q2]; exact h6) q1 q3 (by rw [hsl]; exact k2_hasslot (q4 i hi)) rfl rfl d fun H' e1 e2 e3 => ?_
  rw [hsl] at e1 ⊢
  exact kk H' _ ls (h1.set hM ⟨⟨_, hc, t_OB.to (V := updV (vp_V fs) i v) ⟨_, e1, q2, q3, t_set q4 hap hi v⟩ (fun j _ => vp_updV_set hlen v j)⟩, fb_mon.set (h1.2 j _ hM).2 q1 e1⟩ e2 e3) (h2.put e2 e3 (Nat.le_add_right _ _)) h3
theorem gx_putF {x : fb_X} {cc : ByteArray} {own nm : String} {M : List va_E} {k n pc q : Nat} {lv : List (Option Value)} {st : List Value} {j ci i N idx : Nat} {fs : List Value} {CC ref : String} {T : u_T} {v : Value} {ty : FieldType} (C : fb_OK x cc own nm) (hM : M[j]? = some (ob ci fs)) (hc : fb_cl[ci]? = some (CC, T, N)) (hin : ∀ w ∈ u_ws CC T N, w ∈ lw_all) (ty0 : Nat → FieldType) (hty : ∀ k, k < N → parseFieldDescriptor (T k).2.2.1 = some (ty0 k)) (hnm : ∀ a, a < N → ∀ b, b < N → a ≠ b → (T a).2.1 ≠ (T b).2.1) (hi : i < N) (hl : Cond.fieldLink own idx ref (T i).2.1 (T i).2.2.1 ∈ lw_all) (hsame : ∀ z, (cx_s x).fieldFound? (T i).1 (T i).2.1 (T i).2.2.1 = some z → (cx_s x).fieldFound? ref (T i).2.1 (T i).2.2.1 = some z) (hfin : (T i).2.2.2 = true) (hin2 : nm = "<init>") (hdecl : (T i).1 = own) (hd : parseFieldDescriptor (T i).2.2.1 = some ty) (hn : narrow ty v = v) (hfit : fits ty v = true) (hlen : i < fs.length) (d : decode cc pc = .ok (.putfield idx, 3)) (hq : pc + 3 = q) (kk : fb_G x (M.set j (ob ci (fs.set i v))) k n q lv st) : fb_G x M k n pc lv (v :: .ref (cx_b x + j) :: st) := by
  subst hq
  have hap := va_apart (own := own) C.wds hin ty0 hty hnm C.K hc
  intro H locs ls h1 h2 h3
  obtain ⟨r, g1, cell, q1, q2, q3, q4⟩ := (h1.2 j _ hM).1
  have hr : r = (CC, T, N) := Option.some.inj (g1.symm.trans hc)
  subst hr
  obtain ⟨hS, hfc, kC, hkC, hkind⟩ := C.K.1 ci _ hc
  obtain ⟨cf, kf, fi, f, hi', hsl⟩ := hS i hi
  have hlay := C.wd (hin _ (u_in_lay hi))
  unfold u_lay at hlay
  rw [if_pos hfin] at hlay
  have hst := (u_facts hfc hkC (u_lays C.wds hin hi) hi').1
  have hcf : (cx_m x).cls = cf := by
    obtain ⟨_, _, c', _, _, _, -, -, hf', -, -, -, hown2, -⟩ := Cond.laysFinal_spec hlay
    have e1 : c' = cf := by have := hi'.symm.trans hf'; simp at this; exact this.1.symm
    rw [hdecl] at hown2
    rw [← e1]; exact Option.some.inj (C.own.symm.trans hown2)
  have h6 := u_fits hfc hkC hkind (Or.inr hlay) hi' hd hn hfit
  refine W.putFinK C.exec C.code C.own (C.wd hl) (hsame _ hi') hst hcf (C.nm.trans hin2) (by rw [q2]; exact h6) q1 q3 (by rw [hsl]; exact k2_hasslot (q4 i hi)) rfl rfl d fun H' e1 e2 e3 => ?_
  rw [hsl] at e1 ⊢
  exact kk H' _ ls (h1.set hM ⟨⟨_, hc, t_OB.to (V := updV (vp_V fs) i v) ⟨_, e1, q2, q3, t_set q4 hap hi v⟩ (fun j _ => vp_updV_set hlen v j)⟩, fb_mon.set (h1.2 j _ hM).2 q1 e1⟩ e2 e3) (h2.put e2 e3 (Nat.le_add_right _ _)) h3
theorem gx_iald {x : fb_X} {cc : ByteArray} {own nm : String} {M : List va_E} {k n pc q : Nat} {lv : List (Option Value)} {st : List Value} {j i N : Nat} {f : Nat → Int32} {v : Int32} (C : fb_OK x cc own nm) (hM : M[j]? = some (aI (cx_D x) N f)) (hi : i < N) (hN : N < 2 ^ 31) (hv : f i = v) (d : decode cc pc = .ok (.iaload, 1)) (hq : pc + 1 = q) (kk : fb_G x M k n q lv (.int v :: st)) : fb_G x M k n pc lv (.int (nI i) :: .ref (cx_b x + j) :: st) := by
  subst hq hv
  intro H locs ls h1 h2 h3
  refine va_iald C.exec C.code C.K (fb_HP.one h1 hM) 0 0 rfl rfl (vp_in_nI hi hN) d ?_
  rw [nI_clamp (Nat.lt_trans hi hN)]
  exact kk H locs ls h1 h2 h3
theorem gx_zald {x : fb_X} {cc : ByteArray} {own nm : String} {M : List va_E} {k n pc q : Nat} {lv : List (Option Value)} {st : List Value} {j i N : Nat} {f : Nat → Int32} {v : Int32} (C : fb_OK x cc own nm) (hM : M[j]? = some (aZ (cx_D x) N f)) (hi : i < N) (hN : N < 2 ^ 31) (hv : f i = v) (d : decode cc pc = .ok (.baload, 1)) (hq : pc + 1 = q) (kk : fb_G x M k n q lv (.int v :: st)) : fb_G x M k n pc lv (.int (nI i) :: .ref (cx_b x + j) :: st) := by
  subst hq hv
  intro H locs ls h1 h2 h3
  refine va_zald C.exec C.code C.K (fb_HP.one h1 hM) 0 1 rfl rfl (vp_in_nI hi hN) d ?_
  rw [nI_clamp (Nat.lt_trans hi hN)]
  exact kk H locs ls h1 h2 h3
theorem gx_bald {x : fb_X} {cc : ByteArray} {own nm : String} {M : List va_E} {k n pc q : Nat} {lv : List (Option Value)} {st : List Value} {j i N : Nat} {f : Nat → Int32} {v : Int32} (C : fb_OK x cc own nm) (hM : M[j]? = some (aB (cx_D x) N f)) (hi : i < N) (hN : N < 2 ^ 31) (hv : f i = v) (d : decode cc pc = .ok (.baload, 1)) (hq : pc + 1 = q) (kk : fb_G x M k n q lv (.int v :: st)) : fb_G x M k n pc lv (.int (nI i) :: .ref (cx_b x + j) :: st) := by
  subst hq hv
  intro H locs ls h1 h2 h3
  refine va_bald C.exec C.code C.K (fb_HP.one h1 hM) 0 2 rfl rfl (vp_in_nI hi hN) d ?_
  rw [nI_clamp (Nat.lt_trans hi hN)]
  exact kk H locs ls h1 h2 h3
theorem gx_cald {x : fb_X} {cc : ByteArray} {own nm : String} {M : List va_E} {k n pc q : Nat} {lv : List (Option Value)} {st : List Value} {j i N : Nat} {f : Nat → Int32} {v : Int32} (C : fb_OK x cc own nm) (hM : M[j]? = some (aC (cx_D x) N f)) (hi : i < N) (hN : N < 2 ^ 31) (hv : f i = v) (d : decode cc pc = .ok (.caload, 1)) (hq : pc + 1 = q) (kk : fb_G x M k n q lv (.int v :: st)) : fb_G x M k n pc lv (.int (nI i) :: .ref (cx_b x + j) :: st) := by
  subst hq hv
  intro H locs ls h1 h2 h3
  refine va_cald C.exec C.code C.K (fb_HP.one h1 hM) 0 3 rfl rfl (vp_in_nI hi hN) d ?_
  rw [nI_clamp (Nat.lt_trans hi hN)]
  exact kk H locs ls h1 h2 h3
theorem gx_iast {x : fb_X} {cc : ByteArray} {own nm : String} {M : List va_E} {k n pc q : Nat} {lv : List (Option Value)} {st : List Value} {j i N : Nat} {f : Nat → Int32} {a : Int32} (C : fb_OK x cc own nm) (hM : M[j]? = some (aI (cx_D x) N f)) (hi : i < N) (hN : N < 2 ^ 31) (d : decode cc pc = .ok (.iastore, 1)) (hq : pc + 1 = q) (kk : fb_G x (M.set j (aI (cx_D x) N (upd f i a))) k n q lv st) : fb_G x M k n pc lv (.int a :: .int (nI i) :: .ref (cx_b x + j) :: st) := by
  subst hq
  intro H locs ls h1 h2 h3
  refine W.iast C.exec C.code (h1.2 j _ hM).1 ((C.K.2 0 _ rfl).1 N (fun j => .int (f j))) (fun q => by cases q) (by show ¬ (_ < 0 ∨ (arrV _ _ _).slots.size ≤ _); rw [arrV_size]; exact vp_in_nI hi hN) rfl rfl d fun H1 e z oq => ?_
  rw [nI_clamp (Nat.lt_trans hi hN)] at e ⊢
  refine kk H1 _ ls (h1.set hM ⟨?_, ⟨_, e, rfl, rfl⟩⟩ z oq) (h2.put z oq (Nat.le_add_right _ _)) h3
  show H1[_]? = some (vp_cell _ _)
  rw [e, vp_cell_i, vp_cell_i, arrV_store]
  congr 2
  funext w
  by_cases hw : w = i
  · subst hw
    simp [updV, upd]
  · simp [updV, upd, hw]
theorem gx_zast {x : fb_X} {cc : ByteArray} {own nm : String} {M : List va_E} {k n pc q : Nat} {lv : List (Option Value)} {st : List Value} {j i N : Nat} {f : Nat → Int32} {a : Int32} (C : fb_OK x cc own nm) (hM : M[j]? = some (aZ (cx_D x) N f)) (hi : i < N) (hN : N < 2 ^ 31) (hnar : narrow .boolean (.int a) = .int a) (d : decode cc pc = .ok (.bastore, 1)) (hq : pc + 1 = q) (kk : fb_G x (M.set j (aZ (cx_D x) N (upd f i a))) k n q lv st) : fb_G x M k n pc lv (.int a :: .int (nI i) :: .ref (cx_b x + j) :: st) := by
  subst hq
  intro H locs ls h1 h2 h3
  refine W.zast C.exec C.code (h1.2 j _ hM).1 ((C.K.2 1 _ rfl).1 N (fun j => .int (f j))) (fun q => by cases q) (by show ¬ (_ < 0 ∨ (arrV _ _ _).slots.size ≤ _); rw [arrV_size]; exact vp_in_nI hi hN) rfl rfl d fun H1 e z oq => ?_
  rw [hnar] at e
  rw [nI_clamp (Nat.lt_trans hi hN)] at e ⊢
  refine kk H1 _ ls (h1.set hM ⟨?_, ⟨_, e, rfl, rfl⟩⟩ z oq) (h2.put z oq (Nat.le_add_right _ _)) h3
  show H1[_]? = some (vp_cell _ _)
  rw [e, vp_cell_i, vp_cell_i, arrV_store]
  congr 2
  funext w
  by_cases hw : w = i
  · subst hw
    simp [updV, upd]
  · simp [updV, upd, hw]
theorem gx_bast {x : fb_X} {cc : ByteArray} {own nm : String} {M : List va_E} {k n pc q : Nat} {lv : List (Option Value)} {st : List Value} {j i N : Nat} {f : Nat → Int32} {a : Int32} (C : fb_OK x cc own nm) (hM : M[j]? = some (aB (cx_D x) N f)) (hi : i < N) (hN : N < 2 ^ 31) (hnar : narrow .byte (.int a) = .int a) (d : decode cc pc = .ok (.bastore, 1)) (hq : pc + 1 = q) (kk : fb_G x (M.set j (aB (cx_D x) N (upd f i a))) k n q lv st) : fb_G x M k n pc lv (.int a :: .int (nI i) :: .ref (cx_b x + j) :: st) := by
  subst hq
  intro H locs ls h1 h2 h3
  refine W.bast C.exec C.code (h1.2 j _ hM).1 ((C.K.2 2 _ rfl).1 N (fun j => .int (f j))) (fun q => by cases q) (by show ¬ (_ < 0 ∨ (arrV _ _ _).slots.size ≤ _); rw [arrV_size]; exact vp_in_nI hi hN) rfl rfl d fun H1 e z oq => ?_
  rw [hnar] at e
  rw [nI_clamp (Nat.lt_trans hi hN)] at e ⊢
  refine kk H1 _ ls (h1.set hM ⟨?_, ⟨_, e, rfl, rfl⟩⟩ z oq) (h2.put z oq (Nat.le_add_right _ _)) h3
  show H1[_]? = some (vp_cell _ _)
  rw [e, vp_cell_i, vp_cell_i, arrV_store]
  congr 2
  funext w
  by_cases hw : w = i
  · subst hw
    simp [updV, upd]
  · simp [updV, upd, hw]
theorem gx_cast {x : fb_X} {cc : ByteArray} {own nm : String} {M : List va_E} {k n pc q : Nat} {lv : List (Option Value)} {st : List Value} {j i N : Nat} {f : Nat → Int32} {a : Int32} (C : fb_OK x cc own nm) (hM : M[j]? = some (aC (cx_D x) N f)) (hi : i < N) (hN : N < 2 ^ 31) (hnar : narrow .char (.int a) = .int a) (d : decode cc pc = .ok (.castore, 1)) (hq : pc + 1 = q) (kk : fb_G x (M.set j (aC (cx_D x) N (upd f i a))) k n q lv st) : fb_G x M k n pc lv (.int a :: .int (nI i) :: .ref (cx_b x + j) :: st) := by
  subst hq
  intro H locs ls h1 h2 h3
  refine W.cast C.exec C.code (h1.2 j _ hM).1 ((C.K.2 3 _ rfl).1 N (fun j => .int (f j))) (fun q => by cases q) (by show ¬ (_ < 0 ∨ (arrV _ _ _).slots.size ≤ _); rw [arrV_size]; exact vp_in_nI hi hN) rfl rfl d fun H1 e z oq => ?_
  rw [hnar] at e
  rw [nI_clamp (Nat.lt_trans hi hN)] at e ⊢
  refine kk H1 _ ls (h1.set hM ⟨?_, ⟨_, e, rfl, rfl⟩⟩ z oq) (h2.put z oq (Nat.le_add_right _ _)) h3
  show H1[_]? = some (vp_cell _ _)
  rw [e, vp_cell_i, vp_cell_i, arrV_store]
  congr 2
  funext w
  by_cases hw : w = i
  · subst hw
    simp [updV, upd]
  · simp [updV, upd, hw]
theorem gx_aald {x : fb_X} {cc : ByteArray} {own nm : String} {M : List va_E} {k n pc q : Nat} {lv : List (Option Value)} {st : List Value} {j i N t t0 a : Nat} {f : Nat → Option Nat} {CN : String} (C : fb_OK x cc own nm) (hM : M[j]? = some (aQ (cx_D x) t N f)) (ht : (fb_ty (cx_D x))[t0]? = some ((cx_D x).1 t, .object CN)) (hi : i < N) (hN : N < 2 ^ 31) (hv : f i = some a) (d : decode cc pc = .ok (.aaload, 1)) (hq : pc + 1 = q) (kk : fb_G x M k n q lv (.ref a :: st)) : fb_G x M k n pc lv (.int (nI i) :: .ref (cx_b x + j) :: st) := by
  subst hq
  intro H locs ls h1 h2 h3
  refine va_aldq C.exec C.code C.K (fb_HP.one h1 hM) 0 t0 rfl ht (vp_in_nI hi hN) d ?_
  rw [nI_clamp (Nat.lt_trans hi hN), hv]
  exact kk H locs ls h1 h2 h3
/-- an object of the class number ci may lie in an array of E -/
def fb_asg (x : fb_X) (ci : Nat) (E : String) : Prop := ∃ (r : vw_C), fb_cl[ci]? = some r ∧ ∀ comp : ClassId, (cx_s x).vm.findClass E = some comp → (cx_s x).vm.assignable ((cx_D x).1 ci) comp = true
theorem fb_asg.self {x : fb_X} {cc : ByteArray} {own nm : String} (C : fb_OK x cc own nm) {ci : Nat} {r : vw_C} (hc : fb_cl[ci]? = some r) : fb_asg x ci r.1 := by
  refine ⟨r, hc, fun comp h => ?_⟩
  have hk := (C.K.1 ci r hc).2
  cases hk.1.symm.trans h
  exact va_assign hk
theorem fb_asg.up {x : fb_X} {cc : ByteArray} {own nm : String} (C : fb_OK x cc own nm) {ci : Nat} {r : vw_C} {E : String} (hc : fb_cl[ci]? = some r) (hw : Cond.castable r.1 E ∈ lw_tbl) : fb_asg x ci E := by
  refine ⟨r, hc, fun comp h => ?_⟩
  have hk := (C.K.1 ci r hc).2
  obtain ⟨c1, c2, e1, e2, e3⟩ := Cond.castable_spec (va_Nw.use (A := #[]) rfl (C.nw hw rfl))
  cases hk.1.symm.trans e1
  cases h.symm.trans e2
  exact e3
theorem gx_aast {x : fb_X} {cc : ByteArray} {own nm : String} {M : List va_E} {k n pc q : Nat} {lv : List (Option Value)} {st : List Value} {j i N t t0 jv ci : Nat} {vs : List Value} {f : Nat → Option Nat} {E : String} (C : fb_OK x cc own nm) (hM : M[j]? = some (aQ (cx_D x) t N f)) (ht : (fb_ty (cx_D x))[t0]? = some ((cx_D x).1 t, .object E)) (hi : i < N) (hN : N < 2 ^ 31) (hv : M[jv]? = some (ob ci vs)) (hasg : fb_asg x ci E) (d : decode cc pc = .ok (.aastore, 1)) (hq : pc + 1 = q) (kk : fb_G x (M.set j (aQ (cx_D x) t N (va_up f i (some (cx_b x + jv))))) k n q lv st) : fb_G x M k n pc lv (.ref (cx_b x + jv) :: .int (nI i) :: .ref (cx_b x + j) :: st) := by
  subst hq
  intro H locs ls h1 h2 h3
  obtain ⟨r, hc, has⟩ := hasg
  obtain ⟨r', hr', cellV, g1, g2, g3, -⟩ := (h1.2 jv _ hv).1
  have hcls := (C.K.1 ci r hc).2
  obtain ⟨kA, comp, k1, k2, k3, -⟩ := (C.K.2 t0 _ ht).2
  obtain ⟨kC, hkC, -⟩ := hcls.2
  obtain ⟨kE, hkE, -⟩ := Vm.findClass_spec k3
  have hin := vp_in_nI hi hN
  refine W.aast C.exec C.code (h1.2 j _ hM).1 (fun q h => by cases h) (fun h => by cases h) k1 k2 rfl hkE ⟨fun z => hin (Or.inl z), by show _ < (arrV _ _ _).slots.size; rw [arrV_size, nI_clamp (Nat.lt_trans hi hN)]; exact hi⟩ g1 (fun q h => by rw [g3] at h; cases h) (by rw [g2]; exact hkC) (by rw [g2]; exact has _ k3) rfl rfl d fun H1 e z oq => ?_
  rw [nI_clamp (Nat.lt_trans hi hN)] at e ⊢
  refine kk H1 _ ls (h1.set hM ⟨?_, ⟨_, e, rfl, rfl⟩⟩ z oq) (h2.put z oq (Nat.le_add_right _ _)) h3
  show H1[_]? = some (vp_cell _ _)
  rw [e, vp_cell_q, vp_cell_q, arrV_store]
  congr 2
  funext w
  by_cases hw : w = i
  · subst hw
    simp [updV, va_up, va_rf]
  · simp [updV, va_up, hw]
theorem gx_alen {x : fb_X} {cc : ByteArray} {own nm : String} {M : List va_E} {k n pc q : Nat} {lv : List (Option Value)} {st : List Value} {j t0 : Nat} {cA : ClassId} {ty : FieldType} {a : vp_A} {v : Int32} (C : fb_OK x cc own nm) (hM : M[j]? = some (.inl (cA, a))) (ht : (fb_ty (cx_D x))[t0]? = some (cA, ty)) (hv : nI a.1 = v) (d : decode cc pc = .ok (.arraylength, 1)) (hq : pc + 1 = q) (kk : fb_G x M k n q lv (.int v :: st)) : fb_G x M k n pc lv (.ref (cx_b x + j) :: st) := by
  subst hq
  exact fun H locs ls h1 h2 h3 => va_alen C.exec C.code C.K (fb_HP.one h1 hM) 0 t0 rfl ht hv d (kk H locs ls h1 h2 h3)
theorem gx_newa_i {x : fb_X} {cc : ByteArray} {own nm : String} {M : List va_E} {k n pc q : Nat} {lv : List (Option Value)} {st : List Value} {L : Nat} {r : Option FieldType} {o : Outcome} {Rel : List va_E → Prop} {fr lo mc ms : Nat} {N : Nat} (C : fb_OK x cc own nm) (E : fb_RT x L r o Rel fr lo mc ms) (ha : Cond.arrayClass .int ∈ lw_all) (hN : N < 2 ^ 16) (h1 : k + 1 ≤ mc) (h2 : n + N ≤ ms) (d : decode cc pc = .ok (.newarray .int, 2)) (hq : pc + 2 = q) (kk : fb_G x (M ++ [aI (cx_D x) N (fun _ => 0)]) (k + 1) (n + N) q lv (.ref (cx_b x + M.length) :: st)) : fb_G x M k n pc lv (.int (nI N) :: st) := by
  subst hq
  intro H locs ls g1 g2 g3
  refine va_newaK (atype := .int) C.exec C.code (C.wd ha) rfl d rfl (nI_pos (by omega)) (nI_clamp (by omega)) (by show N * _ ≤ 536870912; simp [componentBytes, newarray.typeOf]; try omega) (by rw [E.2.2.1]; exact h1) (by rw [E.2.2.1]; exact h2) g1.1 fun H1 cA e1 z1 o1 hAr hNm => ?_
  have hcA : cA = (cx_D x).1 (100 + 0) := Option.some.inj (hNm.symm.trans (C.K.2 0 _ rfl).2)
  subst hcA
  refine kk H1 locs ls (g1.push ⟨?_, ⟨_, e1, rfl, rfl⟩⟩ (by rw [z1, g1.1]) (fun q hq => o1 q (by rw [← g1.1]; exact hq))) ⟨Nat.le_trans g2.1 (by rw [z1, g1.1]; omega), fun w w1 w2 => (o1 w (by rw [← g1.1]; exact Nat.lt_of_lt_of_le w1 g2.1)).trans (g2.2.1 w w1 w2), g2.2.2⟩ g3
  show H1[_]? = some (vp_cell _ _)
  rw [vp_cell_i]
  exact e1
theorem gx_newa_z {x : fb_X} {cc : ByteArray} {own nm : String} {M : List va_E} {k n pc q : Nat} {lv : List (Option Value)} {st : List Value} {L : Nat} {r : Option FieldType} {o : Outcome} {Rel : List va_E → Prop} {fr lo mc ms : Nat} {N : Nat} (C : fb_OK x cc own nm) (E : fb_RT x L r o Rel fr lo mc ms) (ha : Cond.arrayClass .boolean ∈ lw_all) (hN : N < 2 ^ 16) (h1 : k + 1 ≤ mc) (h2 : n + N ≤ ms) (d : decode cc pc = .ok (.newarray .boolean, 2)) (hq : pc + 2 = q) (kk : fb_G x (M ++ [aZ (cx_D x) N (fun _ => 0)]) (k + 1) (n + N) q lv (.ref (cx_b x + M.length) :: st)) : fb_G x M k n pc lv (.int (nI N) :: st) := by
  subst hq
  intro H locs ls g1 g2 g3
  refine va_newaK (atype := .boolean) C.exec C.code (C.wd ha) rfl d rfl (nI_pos (by omega)) (nI_clamp (by omega)) (by show N * _ ≤ 536870912; simp [componentBytes, newarray.typeOf]; try omega) (by rw [E.2.2.1]; exact h1) (by rw [E.2.2.1]; exact h2) g1.1 fun H1 cA e1 z1 o1 hAr hNm => ?_
  have hcA : cA = (cx_D x).1 (100 + 1) := Option.some.inj (hNm.symm.trans (C.K.2 1 _ rfl).2)
  subst hcA
  refine kk H1 locs ls (g1.push ⟨?_, ⟨_, e1, rfl, rfl⟩⟩ (by rw [z1, g1.1]) (fun q hq => o1 q (by rw [← g1.1]; exact hq))) ⟨Nat.le_trans g2.1 (by rw [z1, g1.1]; omega), fun w w1 w2 => (o1 w (by rw [← g1.1]; exact Nat.lt_of_lt_of_le w1 g2.1)).trans (g2.2.1 w w1 w2), g2.2.2⟩ g3
  show H1[_]? = some (vp_cell _ _)
  rw [vp_cell_i]
  exact e1
theorem gx_newa_b {x : fb_X} {cc : ByteArray} {own nm : String} {M : List va_E} {k n pc q : Nat} {lv : List (Option Value)} {st : List Value} {L : Nat} {r : Option FieldType} {o : Outcome} {Rel : List va_E → Prop} {fr lo mc ms : Nat} {N : Nat} (C : fb_OK x cc own nm) (E : fb_RT x L r o Rel fr lo mc ms) (ha : Cond.arrayClass .byte ∈ lw_all) (hN : N < 2 ^ 16) (h1 : k + 1 ≤ mc) (h2 : n + N ≤ ms) (d : decode cc pc = .ok (.newarray .byte, 2)) (hq : pc + 2 = q) (kk : fb_G x (M ++ [aB (cx_D x) N (fun _ => 0)]) (k + 1) (n + N) q lv (.ref (cx_b x + M.length) :: st)) : fb_G x M k n pc lv (.int (nI N) :: st) := by
  subst hq
  intro H locs ls g1 g2 g3
  refine va_newaK (atype := .byte) C.exec C.code (C.wd ha) rfl d rfl (nI_pos (by omega)) (nI_clamp (by omega)) (by show N * _ ≤ 536870912; simp [componentBytes, newarray.typeOf]; try omega) (by rw [E.2.2.1]; exact h1) (by rw [E.2.2.1]; exact h2) g1.1 fun H1 cA e1 z1 o1 hAr hNm => ?_
  have hcA : cA = (cx_D x).1 (100 + 2) := Option.some.inj (hNm.symm.trans (C.K.2 2 _ rfl).2)
  subst hcA
  refine kk H1 locs ls (g1.push ⟨?_, ⟨_, e1, rfl, rfl⟩⟩ (by rw [z1, g1.1]) (fun q hq => o1 q (by rw [← g1.1]; exact hq))) ⟨Nat.le_trans g2.1 (by rw [z1, g1.1]; omega), fun w w1 w2 => (o1 w (by rw [← g1.1]; exact Nat.lt_of_lt_of_le w1 g2.1)).trans (g2.2.1 w w1 w2), g2.2.2⟩ g3
  show H1[_]? = some (vp_cell _ _)
  rw [vp_cell_i]
  exact e1
theorem gx_newa_c {x : fb_X} {cc : ByteArray} {own nm : String} {M : List va_E} {k n pc q : Nat} {lv : List (Option Value)} {st : List Value} {L : Nat} {r : Option FieldType} {o : Outcome} {Rel : List va_E → Prop} {fr lo mc ms : Nat} {N : Nat} (C : fb_OK x cc own nm) (E : fb_RT x L r o Rel fr lo mc ms) (ha : Cond.arrayClass .char ∈ lw_all) (hN : N < 2 ^ 16) (h1 : k + 1 ≤ mc) (h2 : n + N ≤ ms) (d : decode cc pc = .ok (.newarray .char, 2)) (hq : pc + 2 = q) (kk : fb_G x (M ++ [aC (cx_D x) N (fun _ => 0)]) (k + 1) (n + N) q lv (.ref (cx_b x + M.length) :: st)) : fb_G x M k n pc lv (.int (nI N) :: st) := by
  subst hq
  intro H locs ls g1 g2 g3
  refine va_newaK (atype := .char) C.exec C.code (C.wd ha) rfl d rfl (nI_pos (by omega)) (nI_clamp (by omega)) (by show N * _ ≤ 536870912; simp [componentBytes, newarray.typeOf]; try omega) (by rw [E.2.2.1]; exact h1) (by rw [E.2.2.1]; exact h2) g1.1 fun H1 cA e1 z1 o1 hAr hNm => ?_
  have hcA : cA = (cx_D x).1 (100 + 3) := Option.some.inj (hNm.symm.trans (C.K.2 3 _ rfl).2)
  subst hcA
  refine kk H1 locs ls (g1.push ⟨?_, ⟨_, e1, rfl, rfl⟩⟩ (by rw [z1, g1.1]) (fun q hq => o1 q (by rw [← g1.1]; exact hq))) ⟨Nat.le_trans g2.1 (by rw [z1, g1.1]; omega), fun w w1 w2 => (o1 w (by rw [← g1.1]; exact Nat.lt_of_lt_of_le w1 g2.1)).trans (g2.2.1 w w1 w2), g2.2.2⟩ g3
  show H1[_]? = some (vp_cell _ _)
  rw [vp_cell_i]
  exact e1
theorem gx_newq {x : fb_X} {cc : ByteArray} {own nm : String} {M : List va_E} {k n pc q : Nat} {lv : List (Option Value)} {st : List Value} {L : Nat} {r : Option FieldType} {o : Outcome} {Rel : List va_E → Prop} {fr lo mc ms : Nat} {N t t0 idx : Nat} {CN : String} (C : fb_OK x cc own nm) (E : fb_RT x L r o Rel fr lo mc ms) (ht : (fb_ty (cx_D x))[t0]? = some ((cx_D x).1 t, .object CN)) (hcl : Cond.classLink own idx CN ∈ lw_all) (hov : Cond.arrayOver (.object CN) ∈ lw_tbl) (hN : N < 2 ^ 16) (h1 : k + 1 ≤ mc) (h2 : n + N ≤ ms) (d : decode cc pc = .ok (.anewarray idx, 3)) (hq : pc + 3 = q) (kk : fb_G x (M ++ [aQ (cx_D x) t N (fun _ => none)]) (k + 1) (n + N) q lv (.ref (cx_b x + M.length) :: st)) : fb_G x M k n pc lv (.int (nI N) :: st) := by
  subst hq
  intro H locs ls g1 g2 g3
  have hz : (nI N).toNatClampNeg = N := nI_clamp (by omega)
  have hAO : va_AO CN (cx_s x) := C.nw hov rfl
  refine W.anew C.exec C.code C.own (C.wd hcl) (va_AO.use hAO) rfl d rfl (nI_pos (by omega)) (by rw [hz]; omega) (by rw [E.2.2.1]; exact h1) (by rw [E.2.2.1, hz]; exact h2) fun cA kA comp f1 f2 f3 f4 => ?_
  rw [hz, g1.1]
  have hcA : cA = (cx_D x).1 t := by
    obtain ⟨kA', comp', -, -, -, r4⟩ := (C.K.2 t0 _ ht).2
    exact Option.some.inj (f1.symm.trans r4)
  subst hcA
  generalize hH1 : H.push ({ cls := (cx_D x).1 t, slots := Array.replicate N .null, vm := .none } : Cell) = H1
  have z1 : H1.size = H.size + 1 := by rw [← hH1, Array.size_push]
  have e1 : H1[H.size]? = some (arrV ((cx_D x).1 t) N (fun _ => .null)) := by rw [← hH1, Array.getElem?_push_size, ← arrV_new]
  have o1 : ∀ q : Nat, q < H.size → H1[q]? = H[q]? := fun q hq => by rw [← hH1, Array.getElem?_push, if_neg (Nat.ne_of_lt hq)]
  refine kk H1 locs ls (g1.push ⟨?_, ⟨_, by rw [← g1.1]; exact e1, rfl, rfl⟩⟩ z1 o1) ⟨Nat.le_trans g2.1 (by rw [z1]; omega), fun w w1 w2 => (o1 w (Nat.lt_of_lt_of_le w1 g2.1)).trans (g2.2.1 w w1 w2), g2.2.2⟩ g3
  show H1[_]? = some (vp_cell _ _)
  rw [vp_cell_q, ← g1.1]
  exact e1
theorem gx_new {x : fb_X} {cc : ByteArray} {own nm : String} {M : List va_E} {k n pc q : Nat} {lv : List (Option Value)} {st : List Value} {L : Nat} {r : Option FieldType} {o : Outcome} {Rel : List va_E → Prop} {fr lo mc ms : Nat} {N ci idx : Nat} {CC : String} {T : u_T} {fs : List Value} (C : fb_OK x cc own nm) (E : fb_RT x L r o Rel fr lo mc ms) (hc : fb_cl[ci]? = some (CC, T, N)) (hin : ∀ w ∈ u_ws CC T N, w ∈ lw_all) (ty : Nat → FieldType) (hty : ∀ k, k < N → parseFieldDescriptor (T k).2.2.1 = some (ty k)) (hcl : Cond.classLink own idx CC ∈ lw_all) (hins : Cond.instantiable CC N ∈ lw_all) (hini : Cond.initialized CC ∈ lw_all) (hfs : ∀ j, j < N → defaultValue (ty j) = vp_V fs j) (h1 : k + 1 ≤ mc) (h2 : n + N ≤ ms) (d : decode cc pc = .ok (.new idx, 3)) (hq : pc + 3 = q) (kk : fb_G x (M ++ [ob ci fs]) (k + 1) (n + N) q lv (.ref (cx_b x + M.length) :: st)) : fb_G x M k n pc lv st := by
  subst hq
  intro H locs ls g1 g2 g3
  have hKn := C.K.1 ci _ hc
  refine W.newcK C.exec C.code C.own (C.wd hcl) (C.wd hins) (C.wd hini) rfl d (by rw [E.2.2.1]; exact h1) (by rw [E.2.2.1]; exact h2) hKn.2.1 g1.1 fun H1 kC hkC e1 z1 o1 => ?_
  exact kk H1 locs ls (g1.push ⟨⟨_, hc, (u_born ty C.wds hin hKn hkC e1 hty).to hfs⟩, ⟨_, e1, rfl, rfl⟩⟩ (by rw [z1, g1.1]) (fun q hq => o1 q (by rw [← g1.1]; exact hq))) ⟨Nat.le_trans g2.1 (by rw [z1, g1.1]; omega), fun w w1 w2 => (o1 w (by rw [← g1.1]; exact Nat.lt_of_lt_of_le w1 g2.1)).trans (g2.2.1 w w1 w2), g2.2.2⟩ g3
theorem gx_objInit {x : fb_X} {cc : ByteArray} {own nm : String} {M : List va_E} {k n pc q : Nat} {lv : List (Option Value)} {st : List Value} {L : Nat} {r : Option FieldType} {o : Outcome} {Rel : List va_E → Prop} {fr lo mc ms : Nat} {idx j : Nat} (C : fb_OK x cc own nm) (E : fb_RT x L r o Rel fr lo mc ms) (hl : Cond.methodLink own idx objectInit ∈ lw_all) (hi : Cond.instanceMethod objectInit ∈ lw_all) (hcd : Cond.code objectInit ⟨#[0xb1]⟩ 1 none ∈ lw_all) (h1 : 1 ≤ fr) (h2 : (st.map fun v => v.category).sum + 12 ≤ lo) (d : decode cc pc = .ok (.invokespecial idx, 3)) (hq : pc + 3 = q) (kk : fb_G x M k n q lv st) : fb_G x M k n pc lv (.ref j :: st) := by
  subst hq
  exact fun H locs ls g1 g2 g3 => W.objInit C.exec C.code C.own (C.wd hl) (C.wd hi) (C.wd hcd) rfl g3.1 rfl d (by rw [E.2.2.1]; exact h1) (by rw [E.2.2.1]; show 2 * 0 + _ + 12 ≤ lo; omega) (kk H locs ls g1 g2 g3)
theorem fb_fin {x : fb_X} {L : Nat} {r : Option FieldType} {o : Outcome} {Rel : List va_E → Prop} {fr lo mc ms : Nat} {H : Heap} {locs : List Loc} {k n : Nat} {g : JFrame} {M : List va_E} (E : fb_RT x L r o Rel fr lo mc ms) (hP : fb_HP (cx_D x) (cx_b x) M H) (hR : Rel M)
    (kk : ∀ Qc : Array Value → State → Outcome → State → Prop, (∀ t : State, t.heap = H → (cx_s x).WarmedH t.vm → Qc (cx_a x) (cx_s x) o t) → W (cx_p x) (cx_l x) (cx_e x) (cx_R x) (cx_s x) (cx_m x) (cx_a x) (cx_w x) (cx_t x) (cx_c x) H locs mc ms (MQ (cx_w x) Qc (cx_a x) (cx_s x) mc ms (fun q => cx_b x ≤ q)) g) (h1 : k ≤ mc) (h2 : n ≤ ms) (hS : fb_S x H locs) (hret : ∃ v, o = .returned v) : fb_W x H locs k n g := by
  refine W.widen h1 h2 ?_
  intro T hT X
  obtain ⟨t, a1, o', b1, b2, b3, L', b4, b5⟩ := kk (fun _ s o' t => o' = o ∧ t.heap = H) (fun t ht _ => ⟨rfl, ht⟩) T hT X
  obtain ⟨rfl, ht⟩ := b3
  refine ⟨t, a1, ?_⟩
  rw [E.1]
  exact ⟨b1, b2, rfl, b4.2.1, ⟨L', b4.2.2, b5⟩, ⟨M, hR, by rw [ht]; exact hP⟩, hS.F ht⟩
theorem gx_iret {x : fb_X} {cc : ByteArray} {own nm : String} {M : List va_E} {k n pc : Nat} {lv : List (Option Value)} {L : Nat} {Rel : List va_E → Prop} {fr lo mc ms : Nat} {v : Int32} (C : fb_OK x cc own nm) (E : fb_RT x L (some .int) (.returned (some (.int v))) Rel fr lo mc ms) (d : decode cc pc = .ok (.ireturn, 1)) (hR : Rel M) (h1 : k ≤ mc) (h2 : n ≤ ms) : fb_G x M k n pc lv [.int v] :=
  fun H locs ls g1 g2 g3 => fb_fin E g1 hR (fun Qc hq => W.iret C.exec C.code E.2.1 hq g2.2.2 d C.lk) h1 h2 g2 ⟨_, rfl⟩
theorem gx_zret {x : fb_X} {cc : ByteArray} {own nm : String} {M : List va_E} {k n pc : Nat} {lv : List (Option Value)} {L : Nat} {Rel : List va_E → Prop} {fr lo mc ms : Nat} {v : Int32} (C : fb_OK x cc own nm) (E : fb_RT x L (some .boolean) (.returned (some (.int v))) Rel fr lo mc ms) (hn : narrow .boolean (.int v) = .int v) (d : decode cc pc = .ok (.ireturn, 1)) (hR : Rel M) (h1 : k ≤ mc) (h2 : n ≤ ms) : fb_G x M k n pc lv [.int v] :=
  fun H locs ls g1 g2 g3 => fb_fin E g1 hR (fun Qc hq => W.zret C.exec C.code E.2.1 hn hq g2.2.2 d C.lk) h1 h2 g2 ⟨_, rfl⟩
theorem gx_iretE {x : fb_X} {cc : ByteArray} {own nm : String} {M : List va_E} {k n pc : Nat} {lv : List (Option Value)} {L : Nat} {Rel : List va_E → Prop} {fr lo mc ms : Nat} {v a : Int32} (C : fb_OK x cc own nm) (E : fb_RT x L (some .int) (.returned (some (.int v))) Rel fr lo mc ms) (hv : a = v) (d : decode cc pc = .ok (.ireturn, 1)) (hR : Rel M) (h1 : k ≤ mc) (h2 : n ≤ ms) : fb_G x M k n pc lv [.int a] := by
  subst hv
  exact gx_iret C E d hR h1 h2
theorem gx_zretE {x : fb_X} {cc : ByteArray} {own nm : String} {M : List va_E} {k n pc : Nat} {lv : List (Option Value)} {L : Nat} {Rel : List va_E → Prop} {fr lo mc ms : Nat} {v a : Int32} (C : fb_OK x cc own nm) (E : fb_RT x L (some .boolean) (.returned (some (.int v))) Rel fr lo mc ms) (hv : a = v) (hn : narrow .boolean (.int v) = .int v) (d : decode cc pc = .ok (.ireturn, 1)) (hR : Rel M) (h1 : k ≤ mc) (h2 : n ≤ ms) : fb_G x M k n pc lv [.int a] := by
  subst hv
  exact gx_zret C E hn d hR h1 h2
theorem gx_vret {x : fb_X} {cc : ByteArray} {own nm : String} {M : List va_E} {k n pc : Nat} {lv : List (Option Value)} {L : Nat} {Rel : List va_E → Prop} {fr lo mc ms : Nat} (C : fb_OK x cc own nm) (E : fb_RT x L none (.returned none) Rel fr lo mc ms) (d : decode cc pc = .ok (.return_, 1)) (hR : Rel M) (h1 : k ≤ mc) (h2 : n ≤ ms) : fb_G x M k n pc lv [] :=
  fun H locs ls g1 g2 g3 => fb_fin E g1 hR (fun Qc hq => W.vret C.exec C.code E.2.1 hq g2.2.2 d C.lk) h1 h2 g2 ⟨_, rfl⟩
theorem gx_aret {x : fb_X} {cc : ByteArray} {own nm : String} {M : List va_E} {k n pc : Nat} {lv : List (Option Value)} {L : Nat} {Rel : List va_E → Prop} {fr lo mc ms a : Nat} {CN : String} (C : fb_OK x cc own nm) (E : fb_RT x L (some (.object CN)) (.returned (some (.ref a))) Rel fr lo mc ms) (d : decode cc pc = .ok (.areturn, 1)) (hR : Rel M) (h1 : k ≤ mc) (h2 : n ≤ ms) : fb_G x M k n pc lv [.ref a] :=
  fun H locs ls g1 g2 g3 => fb_fin E g1 hR (fun Qc hq => W.aret C.exec C.code E.2.1 (Or.inl ⟨_, rfl⟩) (Or.inr ⟨_, rfl⟩) hq g2.2.2 d C.lk) h1 h2 g2 ⟨_, rfl⟩
