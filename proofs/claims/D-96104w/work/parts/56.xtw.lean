/-! the component: what a town tells -/
set_option maxRecDepth 100000
theorem gf_X1_square {x : fb_X} {cc : ByteArray} {nm : String} {M : List va_E} {k n pc q : Nat} {lv : List (Option Value)} {st : List Value} {j kd a f le : Nat} (C : fb_OK x cc "FallsBetween$Town" nm) (hM : M[j]? = some (ob (14 + kd) [.int (nI a), .int (nI f), .int (nI le)])) (hkd : kd ≤ 5) (d : decode cc pc = .ok (.getfield 76, 3)) (hq : pc + 3 = q) (kk : fb_G x M k n q lv (.int (nI a) :: st)) : fb_G x M k n pc lv (.ref (cx_b x + j) :: st) := by
  rcases (by omega : kd = 0 ∨ kd = 1 ∨ kd = 2 ∨ kd = 3 ∨ kd = 4 ∨ kd = 5) with rfl | rfl | rfl | rfl | rfl | rfl
  · exact fg_X1_76_X14 C hM rfl d hq kk
  · exact fg_X1_76_X15 C hM rfl d hq kk
  · exact fg_X1_76_X16 C hM rfl d hq kk
  · exact fg_X1_76_X17 C hM rfl d hq kk
  · exact fg_X1_76_X18 C hM rfl d hq kk
  · exact fg_X1_76_X19 C hM rfl d hq kk
theorem gf_X1_fruit {x : fb_X} {cc : ByteArray} {nm : String} {M : List va_E} {k n pc q : Nat} {lv : List (Option Value)} {st : List Value} {j kd a f le : Nat} (C : fb_OK x cc "FallsBetween$Town" nm) (hM : M[j]? = some (ob (14 + kd) [.int (nI a), .int (nI f), .int (nI le)])) (hkd : kd ≤ 5) (d : decode cc pc = .ok (.getfield 102, 3)) (hq : pc + 3 = q) (kk : fb_G x M k n q lv (.int (nI f) :: st)) : fb_G x M k n pc lv (.ref (cx_b x + j) :: st) := by
  rcases (by omega : kd = 0 ∨ kd = 1 ∨ kd = 2 ∨ kd = 3 ∨ kd = 4 ∨ kd = 5) with rfl | rfl | rfl | rfl | rfl | rfl
  · exact fg_X1_102_X14 C hM rfl d hq kk
  · exact fg_X1_102_X15 C hM rfl d hq kk
  · exact fg_X1_102_X16 C hM rfl d hq kk
  · exact fg_X1_102_X17 C hM rfl d hq kk
  · exact fg_X1_102_X18 C hM rfl d hq kk
  · exact fg_X1_102_X19 C hM rfl d hq kk
theorem gf_X0_square {x : fb_X} {cc : ByteArray} {nm : String} {M : List va_E} {k n pc q : Nat} {lv : List (Option Value)} {st : List Value} {j kd a f le : Nat} (C : fb_OK x cc "FallsBetween" nm) (hM : M[j]? = some (ob (14 + kd) [.int (nI a), .int (nI f), .int (nI le)])) (hkd : kd ≤ 5) (d : decode cc pc = .ok (.getfield 240, 3)) (hq : pc + 3 = q) (kk : fb_G x M k n q lv (.int (nI a) :: st)) : fb_G x M k n pc lv (.ref (cx_b x + j) :: st) := by
  rcases (by omega : kd = 0 ∨ kd = 1 ∨ kd = 2 ∨ kd = 3 ∨ kd = 4 ∨ kd = 5) with rfl | rfl | rfl | rfl | rfl | rfl
  · exact fg_X0_240_X14 C hM rfl d hq kk
  · exact fg_X0_240_X15 C hM rfl d hq kk
  · exact fg_X0_240_X16 C hM rfl d hq kk
  · exact fg_X0_240_X17 C hM rfl d hq kk
  · exact fg_X0_240_X18 C hM rfl d hq kk
  · exact fg_X0_240_X19 C hM rfl d hq kk
theorem gf_X0_fruit {x : fb_X} {cc : ByteArray} {nm : String} {M : List va_E} {k n pc q : Nat} {lv : List (Option Value)} {st : List Value} {j kd a f le : Nat} (C : fb_OK x cc "FallsBetween" nm) (hM : M[j]? = some (ob (14 + kd) [.int (nI a), .int (nI f), .int (nI le)])) (hkd : kd ≤ 5) (d : decode cc pc = .ok (.getfield 243, 3)) (hq : pc + 3 = q) (kk : fb_G x M k n q lv (.int (nI f) :: st)) : fb_G x M k n pc lv (.ref (cx_b x + j) :: st) := by
  rcases (by omega : kd = 0 ∨ kd = 1 ∨ kd = 2 ∨ kd = 3 ∨ kd = 4 ∨ kd = 5) with rfl | rfl | rfl | rfl | rfl | rfl
  · exact fg_X0_243_X14 C hM rfl d hq kk
  · exact fg_X0_243_X15 C hM rfl d hq kk
  · exact fg_X0_243_X16 C hM rfl d hq kk
  · exact fg_X0_243_X17 C hM rfl d hq kk
  · exact fg_X0_243_X18 C hM rfl d hq kk
  · exact fg_X0_243_X19 C hM rfl d hq kk
theorem gf_X0_leans {x : fb_X} {cc : ByteArray} {nm : String} {M : List va_E} {k n pc q : Nat} {lv : List (Option Value)} {st : List Value} {j kd a f le : Nat} (C : fb_OK x cc "FallsBetween" nm) (hM : M[j]? = some (ob (14 + kd) [.int (nI a), .int (nI f), .int (nI le)])) (hkd : kd ≤ 5) (d : decode cc pc = .ok (.getfield 246, 3)) (hq : pc + 3 = q) (kk : fb_G x M k n q lv (.int (nI le) :: st)) : fb_G x M k n pc lv (.ref (cx_b x + j) :: st) := by
  rcases (by omega : kd = 0 ∨ kd = 1 ∨ kd = 2 ∨ kd = 3 ∨ kd = 4 ∨ kd = 5) with rfl | rfl | rfl | rfl | rfl | rfl
  · exact fg_X0_246_X14 C hM rfl d hq kk
  · exact fg_X0_246_X15 C hM rfl d hq kk
  · exact fg_X0_246_X16 C hM rfl d hq kk
  · exact fg_X0_246_X17 C hM rfl d hq kk
  · exact fg_X0_246_X18 C hM rfl d hq kk
  · exact fg_X0_246_X19 C hM rfl d hq kk
theorem gf_X13_square {x : fb_X} {cc : ByteArray} {nm : String} {M : List va_E} {k n pc q : Nat} {lv : List (Option Value)} {st : List Value} {j kd a f le : Nat} (C : fb_OK x cc "FallsBetween$TreeTold" nm) (hM : M[j]? = some (ob (14 + kd) [.int (nI a), .int (nI f), .int (nI le)])) (hkd : kd ≤ 5) (d : decode cc pc = .ok (.getfield 15, 3)) (hq : pc + 3 = q) (kk : fb_G x M k n q lv (.int (nI a) :: st)) : fb_G x M k n pc lv (.ref (cx_b x + j) :: st) := by
  rcases (by omega : kd = 0 ∨ kd = 1 ∨ kd = 2 ∨ kd = 3 ∨ kd = 4 ∨ kd = 5) with rfl | rfl | rfl | rfl | rfl | rfl
  · exact fg_X13_15_X14 C hM rfl d hq kk
  · exact fg_X13_15_X15 C hM rfl d hq kk
  · exact fg_X13_15_X16 C hM rfl d hq kk
  · exact fg_X13_15_X17 C hM rfl d hq kk
  · exact fg_X13_15_X18 C hM rfl d hq kk
  · exact fg_X13_15_X19 C hM rfl d hq kk
theorem gf_X13_fruit {x : fb_X} {cc : ByteArray} {nm : String} {M : List va_E} {k n pc q : Nat} {lv : List (Option Value)} {st : List Value} {j kd a f le : Nat} (C : fb_OK x cc "FallsBetween$TreeTold" nm) (hM : M[j]? = some (ob (14 + kd) [.int (nI a), .int (nI f), .int (nI le)])) (hkd : kd ≤ 5) (d : decode cc pc = .ok (.getfield 21, 3)) (hq : pc + 3 = q) (kk : fb_G x M k n q lv (.int (nI f) :: st)) : fb_G x M k n pc lv (.ref (cx_b x + j) :: st) := by
  rcases (by omega : kd = 0 ∨ kd = 1 ∨ kd = 2 ∨ kd = 3 ∨ kd = 4 ∨ kd = 5) with rfl | rfl | rfl | rfl | rfl | rfl
  · exact fg_X13_21_X14 C hM rfl d hq kk
  · exact fg_X13_21_X15 C hM rfl d hq kk
  · exact fg_X13_21_X16 C hM rfl d hq kk
  · exact fg_X13_21_X17 C hM rfl d hq kk
  · exact fg_X13_21_X18 C hM rfl d hq kk
  · exact fg_X13_21_X19 C hM rfl d hq kk
theorem gf_X13_leans {x : fb_X} {cc : ByteArray} {nm : String} {M : List va_E} {k n pc q : Nat} {lv : List (Option Value)} {st : List Value} {j kd a f le : Nat} (C : fb_OK x cc "FallsBetween$TreeTold" nm) (hM : M[j]? = some (ob (14 + kd) [.int (nI a), .int (nI f), .int (nI le)])) (hkd : kd ≤ 5) (d : decode cc pc = .ok (.getfield 30, 3)) (hq : pc + 3 = q) (kk : fb_G x M k n q lv (.int (nI le) :: st)) : fb_G x M k n pc lv (.ref (cx_b x + j) :: st) := by
  rcases (by omega : kd = 0 ∨ kd = 1 ∨ kd = 2 ∨ kd = 3 ∨ kd = 4 ∨ kd = 5) with rfl | rfl | rfl | rfl | rfl | rfl
  · exact fg_X13_30_X14 C hM rfl d hq kk
  · exact fg_X13_30_X15 C hM rfl d hq kk
  · exact fg_X13_30_X16 C hM rfl d hq kk
  · exact fg_X13_30_X17 C hM rfl d hq kk
  · exact fg_X13_30_X18 C hM rfl d hq kk
  · exact fg_X13_30_X19 C hM rfl d hq kk
set_option maxHeartbeats 4000000 in
theorem tx_isOther (l : Launch) (D : va_G) (b : Nat) (M : List va_E) {t : Nat} {T Y : Nat → Nat} {lo : Nat} (q : Nat) (r : Option Nat) (hq : q < 36) (hr : ∀ z, r = some z → z < 36) (hV : tw_V D b M t T Y lo) (hk : okT T) : fb_CT l D b yX1_isOther cX1_isOther 3 (some .boolean) 0 0 0 0 [.ref (b + t), .int (nI q), .int (sq_ r)] M (.returned (some (.int (bI (oth T q r))))) (fun M' => M' = M) := by
  refine fb_start [some (.ref (b + t)), some (.int (nI q)), some (.int (sq_ r))] (by decide) (Nat.le_of_ble_eq_true rfl) rfl ?_
  intro x hl hD hb C E hx
  subst hl hD hb
  have C : fb_OK x cX1_isOther "FallsBetween$Town" "isOther" := C
  obtain ⟨k0, k1, k2, k3, k4, k5, k6, k7, k8⟩ := id hk
  refine gx_iload_n (q := 1) C dX1_isOther_0 rfl rfl rfl ?_
  refine gx_bipush (q := 3) (v := -9) C dX1_isOther_1 (by decide) rfl ?_
  refine gq_icmp_eq (q := 6) (tgt := 25) C dX1_isOther_3 (by decide) rfl (fun z h => by have := hr z h; omega) (fun c3 => ?_) (fun z3 c3 => ?_)
  · have hZ : oth T q r = false := oth_n c3
    refine gx_iconst (q := 26) (v := bI false) C dX1_isOther_25 (by decide) rfl ?_
    exact gx_zretE C E (by rw [hZ]) (by first | exact bI_nar _ | rfl) dX1_isOther_26 (rfl) (by omega) (by omega)
  · rw [c3, sq_some]
    have hz := hr z3 c3
    refine gx_aload_n (q := 7) C dX1_isOther_6 rfl rfl rfl ?_
    refine fg_X1_30 (q := 10) C hV.o rfl dX1_isOther_7 rfl ?_
    refine gx_iload_n (q := 11) C dX1_isOther_10 rfl rfl rfl ?_
    refine tv_ld_gardens (q := 12) C hV (by omega) dX1_isOther_11 rfl ?_
    refine gx_aload_n (q := 13) C dX1_isOther_12 rfl rfl rfl ?_
    refine fg_X1_30 (q := 16) C hV.o rfl dX1_isOther_13 rfl ?_
    refine gx_iload_n (q := 17) C dX1_isOther_16 rfl rfl rfl ?_
    refine tv_ld_gardens (q := 18) C hV (by omega) dX1_isOther_17 rfl ?_
    refine gn_icmp_eq (q := 21) (tgt := 25) C dX1_isOther_18 (by decide) rfl (by have := k5 _ hz; omega) (by have := k5 _ hq; omega) (fun c18 => ?_) (fun c18 => ?_)
    · have hZ : oth T q (some z3) = false := oth_e rfl c18
      rw [← c3] at hZ
      refine gx_iconst (q := 26) (v := bI false) C dX1_isOther_25 (by decide) rfl ?_
      exact gx_zretE C E (by rw [hZ]) (by first | exact bI_nar _ | rfl) dX1_isOther_26 (rfl) (by omega) (by omega)
    · have hZ : oth T q (some z3) = true := oth_d rfl c18
      rw [← c3] at hZ
      refine gx_iconst (q := 22) (v := bI true) C dX1_isOther_21 (by decide) rfl ?_
      refine gx_goto (tgt := 26) C dX1_isOther_22 (by decide) ?_
      exact gx_zretE C E (by rw [hZ]) (by first | exact bI_nar _ | rfl) dX1_isOther_26 (rfl) (by omega) (by omega)
set_option maxHeartbeats 4000000 in
theorem tx_treeAt (l : Launch) (D : va_G) (b : Nat) (M : List va_E) {t : Nat} {T Y : Nat → Nat} {lo : Nat} (q : Nat) (hq : q < 2 ^ 31) (hV : tw_V D b M t T Y lo) (hk : okT T) : fb_CT l D b yX1_treeAt cX1_treeAt 3 (some .int) 0 0 0 0 [.ref (b + t), .int (nI q)] M (.returned (some (.int (sq_ (trIn T q (T 0)))))) (fun M' => M' = M) := by
  refine fb_start [some (.ref (b + t)), some (.int (nI q)), none] (by decide) (Nat.le_of_ble_eq_true rfl) rfl ?_
  intro x hl hD hb C E hx
  subst hl hD hb
  have C : fb_OK x cX1_treeAt "FallsBetween$Town" "treeAt" := C
  obtain ⟨k0, k1, k2, k3, k4, k5, k6, k7, k8⟩ := id hk
  refine gx_iconst (q := 1) (v := nI 0) C dX1_treeAt_0 (by decide) rfl ?_
  refine gx_istore_n (q := 2) (lv' := [_, _, _]) C dX1_treeAt_1 rfl (Nat.le_of_ble_eq_true rfl) E.2.2.2.symm rfl rfl rfl ?_
  have Lp : ∀ i, i ≤ T 0 → (∀ u, u < i → ¬ T (126 + u) = q) → fb_G x M 0 0 2 [some (.ref (cx_b x + t)), some (.int (nI q)), some (.int (nI i))] [] := by
    refine fb_dn (T 0) ?_ ?_
    · intro hall
      refine gx_iload_n (q := 3) C dX1_treeAt_2 rfl rfl rfl ?_
      refine gx_aload_n (q := 4) C dX1_treeAt_3 rfl rfl rfl ?_
      refine fg_X1_53 (q := 7) C hV.o rfl dX1_treeAt_4 rfl ?_
      refine gn_icmp_ge (q := 10) (tgt := 31) C dX1_treeAt_7 (by decide) rfl (by omega) (by omega) (fun c7 => ?_) (fun c7 => by exfalso; omega)
      refine gx_bipush (q := 33) (v := -9) C dX1_treeAt_31 (by decide) rfl ?_
      exact gx_iretE C E ((congrArg sq_ (fstN_none (T 0) (fun u hu => decide_eq_false (hall u hu)))).symm) dX1_treeAt_33 (rfl) (by omega) (by omega)
    · intro i hi ih hall
      have hkd := (k8 _ hi).1
      refine gx_iload_n (q := 3) C dX1_treeAt_2 rfl rfl rfl ?_
      refine gx_aload_n (q := 4) C dX1_treeAt_3 rfl rfl rfl ?_
      refine fg_X1_53 (q := 7) C hV.o rfl dX1_treeAt_4 rfl ?_
      refine gn_icmp_ge (q := 10) (tgt := 31) C dX1_treeAt_7 (by decide) rfl (by omega) (by omega) (fun c7 => by exfalso; omega) (fun c7 => ?_)
      refine gx_aload_n (q := 11) C dX1_treeAt_10 rfl rfl rfl ?_
      refine fg_X1_43 (q := 14) C hV.o rfl dX1_treeAt_11 rfl ?_
      refine gx_iload_n (q := 15) C dX1_treeAt_14 rfl rfl rfl ?_
      refine tv_tree (q := 16) C hV (by omega) (by omega) dX1_treeAt_15 rfl (fun jt hjt hj54 => ?_)
      refine gf_X1_square (q := 19) C hjt hkd dX1_treeAt_16 rfl ?_
      refine gx_iload_n (q := 20) C dX1_treeAt_19 rfl rfl rfl ?_
      refine gn_icmp_ne (q := 23) (tgt := 25) C dX1_treeAt_20 (by decide) rfl (by have := (k8 _ hi).2.1; omega) (by omega) (fun c20 => ?_) (fun c20 => ?_)
      · refine gn_inc (q := 28) (lv' := [_, _, _]) C dX1_treeAt_25 rfl E.2.2.2.symm rfl rfl rfl ?_
        refine gx_goto (tgt := 2) C dX1_treeAt_28 (by decide) ?_
        exact ih (fun u hu => by rcases Nat.lt_succ_iff_lt_or_eq.mp hu with h | h; exact hall u h; exact h ▸ c20)
      · refine gx_iload_n (q := 24) C dX1_treeAt_23 rfl rfl rfl ?_
        exact gx_iretE C E ((congrArg sq_ (fstN_some (T 0) hi (decide_eq_true c20) (fun u hu => decide_eq_false (hall u hu)))).symm) dX1_treeAt_24 (rfl) (by omega) (by omega)
  exact Lp 0 (by omega) (fun u hu => absurd hu (Nat.not_lt_zero u))
set_option maxHeartbeats 4000000 in
theorem tx_rolled (l : Launch) (D : va_G) (b : Nat) (M : List va_E) {t : Nat} {T Y : Nat → Nat} {lo : Nat} (q : Nat) (hq : q < 36) (hV : tw_V D b M t T Y lo) (hk : okT T) : fb_CT l D b yX1_rolled cX1_rolled 5 (some .int) 2 48 0 0 [.ref (b + t), .int (nI q)] M (.returned (some (.int (nI (rol T q 4))))) (fun M' => M' = M) := by
  refine fb_start [some (.ref (b + t)), some (.int (nI q)), none, none, none] (by decide) (Nat.le_of_ble_eq_true rfl) rfl ?_
  intro x hl hD hb C E hx
  subst hl hD hb
  have C : fb_OK x cX1_rolled "FallsBetween$Town" "rolled" := C
  obtain ⟨k0, k1, k2, k3, k4, k5, k6, k7, k8⟩ := id hk
  refine gx_iload_n (q := 1) C dX1_rolled_0 rfl rfl rfl ?_
  refine gx_istore_n (q := 2) (lv' := [_, _, _, _, _]) C dX1_rolled_1 rfl (Nat.le_of_ble_eq_true rfl) E.2.2.2.symm rfl rfl rfl ?_
  refine gx_iconst (q := 3) (v := nI 0) C dX1_rolled_2 (by decide) rfl ?_
  refine gx_istore_n (q := 4) (lv' := [_, _, _, _, _]) C dX1_rolled_3 rfl (Nat.le_of_ble_eq_true rfl) E.2.2.2.symm rfl rfl rfl ?_
  have Lp : ∀ i, i ≤ 4 → fb_G x M 0 0 4 [some (.ref (cx_b x + t)), some (.int (nI q)), some (.int (nI (rol T q i))), some (.int (nI i)), none] [] := by
    refine fb_dn 4 ?_ ?_
    · skip
      refine gx_iload_n (q := 5) C dX1_rolled_4 rfl rfl rfl ?_
      refine gx_iconst (q := 6) (v := nI 4) C dX1_rolled_5 (by decide) rfl ?_
      refine gn_icmp_ge (q := 9) (tgt := 52) C dX1_rolled_6 (by decide) rfl (by omega) (by omega) (fun c6 => ?_) (fun c6 => by exfalso; omega)
      refine gx_iload_n (q := 53) C dX1_rolled_52 rfl rfl rfl ?_
      exact gx_iret C E dX1_rolled_53 (rfl) (by omega) (by omega)
    · intro i hi ih
      have hr := rol_lt (T := T) hq i
      refine gx_iload_n (q := 5) C dX1_rolled_4 rfl rfl rfl ?_
      refine gx_iconst (q := 6) (v := nI 4) C dX1_rolled_5 (by decide) rfl ?_
      refine gn_icmp_ge (q := 9) (tgt := 52) C dX1_rolled_6 (by decide) rfl (by omega) (by omega) (fun c6 => by exfalso; omega) (fun c6 => ?_)
      refine gx_iload_n (q := 10) C dX1_rolled_9 rfl rfl rfl ?_
      refine gx_iload_n (q := 11) C dX1_rolled_10 rfl rfl rfl ?_
      refine gx_cp (q := 14) C E (sx_X1_79 (As := [_, _]) C rfl rfl dX1_rolled_11) (fx_beside _ _ _ _ q i hq (by omega)) kw_X0_beside (by decide) (Nat.le_of_ble_eq_true rfl) (by omega) (by omega) dX1_rolled_11 rfl ?_
      refine gx_istore (q := 16) (lv' := [_, _, _, _, _]) C dX1_rolled_14 (Nat.le_of_ble_eq_true rfl) E.2.2.2.symm rfl rfl rfl ?_
      refine gx_iload (q := 18) C dX1_rolled_16 rfl rfl ?_
      refine gx_bipush (q := 20) (v := -9) C dX1_rolled_18 (by decide) rfl ?_
      refine gq_icmp_eq (q := 23) (tgt := 44) C dX1_rolled_20 (by decide) rfl (bes_lt31 hq) (fun c20 => ?_) (fun z20 c20 => ?_)
      · rw [rol_n c20] at ih
        refine gx_iload_n (q := 45) C dX1_rolled_44 rfl rfl rfl ?_
        refine gx_istore_n (q := 46) (lv' := [_, _, _, _, _]) C dX1_rolled_45 rfl (Nat.le_of_ble_eq_true rfl) E.2.2.2.symm rfl rfl rfl ?_
        refine gn_inc (q := 49) (lv' := [_, _, _, _, _]) C dX1_rolled_46 rfl E.2.2.2.symm rfl rfl rfl ?_
        refine gx_goto (tgt := 4) C dX1_rolled_49 (by decide) ?_
        refine gx_drop 4 ?_
        exact ih
      · rw [c20, sq_some]
        have hz := bes_lt hq c20
        refine gx_aload_n (q := 24) C dX1_rolled_23 rfl rfl rfl ?_
        refine fg_X1_34 (q := 27) C hV.o rfl dX1_rolled_24 rfl ?_
        refine gx_iload (q := 29) C dX1_rolled_27 rfl rfl ?_
        refine tv_ld_heights (q := 30) C hV (by omega) dX1_rolled_29 rfl ?_
        refine gx_aload_n (q := 31) C dX1_rolled_30 rfl rfl rfl ?_
        refine fg_X1_34 (q := 34) C hV.o rfl dX1_rolled_31 rfl ?_
        refine gx_iload_n (q := 35) C dX1_rolled_34 rfl rfl rfl ?_
        refine tv_ld_heights (q := 36) C hV (by omega) dX1_rolled_35 rfl ?_
        refine gn_icmp_ge (q := 39) (tgt := 44) C dX1_rolled_36 (by decide) rfl (by have := k6 _ hz; omega) (by have := k6 _ hr; omega) (fun c36 => ?_) (fun c36 => ?_)
        · rw [rol_k c20 c36] at ih
          refine gx_iload_n (q := 45) C dX1_rolled_44 rfl rfl rfl ?_
          refine gx_istore_n (q := 46) (lv' := [_, _, _, _, _]) C dX1_rolled_45 rfl (Nat.le_of_ble_eq_true rfl) E.2.2.2.symm rfl rfl rfl ?_
          refine gn_inc (q := 49) (lv' := [_, _, _, _, _]) C dX1_rolled_46 rfl E.2.2.2.symm rfl rfl rfl ?_
          refine gx_goto (tgt := 4) C dX1_rolled_49 (by decide) ?_
          refine gx_drop 4 ?_
          exact ih
        · rw [rol_l c20 c36] at ih
          refine gx_iload (q := 41) C dX1_rolled_39 rfl rfl ?_
          refine gx_goto (tgt := 45) C dX1_rolled_41 (by decide) ?_
          refine gx_istore_n (q := 46) (lv' := [_, _, _, _, _]) C dX1_rolled_45 rfl (Nat.le_of_ble_eq_true rfl) E.2.2.2.symm rfl rfl rfl ?_
          refine gn_inc (q := 49) (lv' := [_, _, _, _, _]) C dX1_rolled_46 rfl E.2.2.2.symm rfl rfl rfl ?_
          refine gx_goto (tgt := 4) C dX1_rolled_49 (by decide) ?_
          refine gx_drop 4 ?_
          exact ih
  exact Lp 0 (by omega)
theorem bI_or (a c : Bool) : bI a ||| bI c = bI (a || c) := by cases a <;> cases c <;> rfl
theorem bI_and (a c : Bool) : bI a &&& bI c = bI (a && c) := by cases a <;> cases c <;> rfl
set_option maxHeartbeats 4000000 in
theorem tl_0_X2 (l : Launch) (D : va_G) (b : Nat) (M : List va_E) {t : Nat} {T Y : Nat → Nat} {lo : Nat} (j q : Nat) (hq : q < 36) (hM : M[j]? = some (ob 2 [])) (hV : tw_V D b M t T Y lo) (hk : okT T) : fb_CT l D b yX2_isNobodys cX2_isNobodys 3 (some .boolean) 0 0 0 0 [.ref (b + j), .ref (b + t), .int (nI q)] M (.returned (some (.int (bI (false))))) (fun M' => M' = M) := by
  refine fb_start [some (.ref (b + j)), some (.ref (b + t)), some (.int (nI q))] (by decide) (Nat.le_of_ble_eq_true rfl) rfl ?_
  intro x hl hD hb C E hx
  subst hl hD hb
  have C : fb_OK x cX2_isNobodys "FallsBetween$Law" "isNobodys" := C
  obtain ⟨k0, k1, k2, k3, k4, k5, k6, k7, k8⟩ := id hk
  refine gx_iconst (q := 1) (v := bI false) C dX2_isNobodys_0 (by decide) rfl ?_
  exact gx_zret C E (by first | exact bI_nar _ | rfl) dX2_isNobodys_1 (rfl) (by omega) (by omega)
set_option maxHeartbeats 4000000 in
theorem tl_0_X3 (l : Launch) (D : va_G) (b : Nat) (M : List va_E) {t : Nat} {T Y : Nat → Nat} {lo : Nat} (j q : Nat) (hq : q < 36) (hM : M[j]? = some (ob 3 [])) (hV : tw_V D b M t T Y lo) (hk : okT T) : fb_CT l D b yX2_isNobodys cX2_isNobodys 3 (some .boolean) 0 0 0 0 [.ref (b + j), .ref (b + t), .int (nI q)] M (.returned (some (.int (bI (false))))) (fun M' => M' = M) := by
  refine fb_start [some (.ref (b + j)), some (.ref (b + t)), some (.int (nI q))] (by decide) (Nat.le_of_ble_eq_true rfl) rfl ?_
  intro x hl hD hb C E hx
  subst hl hD hb
  have C : fb_OK x cX2_isNobodys "FallsBetween$Law" "isNobodys" := C
  obtain ⟨k0, k1, k2, k3, k4, k5, k6, k7, k8⟩ := id hk
  refine gx_iconst (q := 1) (v := bI false) C dX2_isNobodys_0 (by decide) rfl ?_
  exact gx_zret C E (by first | exact bI_nar _ | rfl) dX2_isNobodys_1 (rfl) (by omega) (by omega)
set_option maxHeartbeats 4000000 in
theorem tl_0_X4 (l : Launch) (D : va_G) (b : Nat) (M : List va_E) {t : Nat} {T Y : Nat → Nat} {lo : Nat} (j q : Nat) (hq : q < 36) (hM : M[j]? = some (ob 4 [])) (hV : tw_V D b M t T Y lo) (hk : okT T) : fb_CT l D b yX2_isNobodys cX2_isNobodys 3 (some .boolean) 0 0 0 0 [.ref (b + j), .ref (b + t), .int (nI q)] M (.returned (some (.int (bI (false))))) (fun M' => M' = M) := by
  refine fb_start [some (.ref (b + j)), some (.ref (b + t)), some (.int (nI q))] (by decide) (Nat.le_of_ble_eq_true rfl) rfl ?_
  intro x hl hD hb C E hx
  subst hl hD hb
  have C : fb_OK x cX2_isNobodys "FallsBetween$Law" "isNobodys" := C
  obtain ⟨k0, k1, k2, k3, k4, k5, k6, k7, k8⟩ := id hk
  refine gx_iconst (q := 1) (v := bI false) C dX2_isNobodys_0 (by decide) rfl ?_
  exact gx_zret C E (by first | exact bI_nar _ | rfl) dX2_isNobodys_1 (rfl) (by omega) (by omega)
set_option maxHeartbeats 4000000 in
theorem tl_0_X5 (l : Launch) (D : va_G) (b : Nat) (M : List va_E) {t : Nat} {T Y : Nat → Nat} {lo : Nat} (j q : Nat) (hq : q < 36) (hM : M[j]? = some (ob 5 [])) (hV : tw_V D b M t T Y lo) (hk : okT T) : fb_CT l D b yX2_isNobodys cX2_isNobodys 3 (some .boolean) 0 0 0 0 [.ref (b + j), .ref (b + t), .int (nI q)] M (.returned (some (.int (bI (false))))) (fun M' => M' = M) := by
  refine fb_start [some (.ref (b + j)), some (.ref (b + t)), some (.int (nI q))] (by decide) (Nat.le_of_ble_eq_true rfl) rfl ?_
  intro x hl hD hb C E hx
  subst hl hD hb
  have C : fb_OK x cX2_isNobodys "FallsBetween$Law" "isNobodys" := C
  obtain ⟨k0, k1, k2, k3, k4, k5, k6, k7, k8⟩ := id hk
  refine gx_iconst (q := 1) (v := bI false) C dX2_isNobodys_0 (by decide) rfl ?_
  exact gx_zret C E (by first | exact bI_nar _ | rfl) dX2_isNobodys_1 (rfl) (by omega) (by omega)
set_option maxHeartbeats 4000000 in
theorem tl_0_X6 (l : Launch) (D : va_G) (b : Nat) (M : List va_E) {t : Nat} {T Y : Nat → Nat} {lo : Nat} (j q : Nat) (hq : q < 36) (hM : M[j]? = some (ob 6 [])) (hV : tw_V D b M t T Y lo) (hk : okT T) : fb_CT l D b yX2_isNobodys cX2_isNobodys 3 (some .boolean) 0 0 0 0 [.ref (b + j), .ref (b + t), .int (nI q)] M (.returned (some (.int (bI (false))))) (fun M' => M' = M) := by
  refine fb_start [some (.ref (b + j)), some (.ref (b + t)), some (.int (nI q))] (by decide) (Nat.le_of_ble_eq_true rfl) rfl ?_
  intro x hl hD hb C E hx
  subst hl hD hb
  have C : fb_OK x cX2_isNobodys "FallsBetween$Law" "isNobodys" := C
  obtain ⟨k0, k1, k2, k3, k4, k5, k6, k7, k8⟩ := id hk
  refine gx_iconst (q := 1) (v := bI false) C dX2_isNobodys_0 (by decide) rfl ?_
  exact gx_zret C E (by first | exact bI_nar _ | rfl) dX2_isNobodys_1 (rfl) (by omega) (by omega)
set_option maxHeartbeats 4000000 in
theorem tl_1_X3 (l : Launch) (D : va_G) (b : Nat) (M : List va_E) {t : Nat} {T Y : Nat → Nat} {lo : Nat} (j q : Nat) (hq : q < 36) (hM : M[j]? = some (ob 3 [])) (hV : tw_V D b M t T Y lo) (hk : okT T) : fb_CT l D b yX3_isNobodys cX3_isNobodys 5 (some .boolean) 2 48 0 0 [.ref (b + j), .ref (b + t), .int (nI q)] M (.returned (some (.int (bI (upto T q 4))))) (fun M' => M' = M) := by
  refine fb_start [some (.ref (b + j)), some (.ref (b + t)), some (.int (nI q)), none, none] (by decide) (Nat.le_of_ble_eq_true rfl) rfl ?_
  intro x hl hD hb C E hx
  subst hl hD hb
  have C : fb_OK x cX3_isNobodys "FallsBetween$Beside" "isNobodys" := C
  obtain ⟨k0, k1, k2, k3, k4, k5, k6, k7, k8⟩ := id hk
  refine gx_aload_n (q := 1) C dX3_isNobodys_0 rfl rfl rfl ?_
  refine gx_aload_n (q := 2) C dX3_isNobodys_1 rfl rfl rfl ?_
  refine gx_iload_n (q := 3) C dX3_isNobodys_2 rfl rfl rfl ?_
  refine gx_cp (q := 6) C E (sx_X3_7_X3 (As := [_, _]) C hM rfl rfl dX3_isNobodys_3) (tl_0_X3 _ _ _ _ j q hq hM hV hk) kw_X2_isNobodys (by decide) (Nat.le_of_ble_eq_true rfl) (by omega) (by omega) dX3_isNobodys_3 rfl ?_
  refine gx_istore_n (q := 7) (lv' := [_, _, _, _, _]) C dX3_isNobodys_6 rfl (Nat.le_of_ble_eq_true rfl) E.2.2.2.symm rfl rfl rfl ?_
  refine gx_iconst (q := 8) (v := nI 0) C dX3_isNobodys_7 (by decide) rfl ?_
  refine gx_istore (q := 10) (lv' := [_, _, _, _, _]) C dX3_isNobodys_8 (Nat.le_of_ble_eq_true rfl) E.2.2.2.symm rfl rfl rfl ?_
  have Lp : ∀ i, i ≤ 4 → fb_G x M 0 0 10 [some (.ref (cx_b x + j)), some (.ref (cx_b x + t)), some (.int (nI q)), some (.int (bI (upto T q i))), some (.int (nI i))] [] := by
    refine fb_dn 4 ?_ ?_
    · skip
      refine gx_iload (q := 12) C dX3_isNobodys_10 rfl rfl ?_
      refine gx_iconst (q := 13) (v := nI 4) C dX3_isNobodys_12 (by decide) rfl ?_
      refine gn_icmp_ge (q := 16) (tgt := 36) C dX3_isNobodys_13 (by decide) rfl (by omega) (by omega) (fun c13 => ?_) (fun c13 => by exfalso; omega)
      refine gx_iload_n (q := 37) C dX3_isNobodys_36 rfl rfl rfl ?_
      exact gx_zret C E (by first | exact bI_nar _ | rfl) dX3_isNobodys_37 (rfl) (by omega) (by omega)
    · intro i hi ih
      refine gx_iload (q := 12) C dX3_isNobodys_10 rfl rfl ?_
      refine gx_iconst (q := 13) (v := nI 4) C dX3_isNobodys_12 (by decide) rfl ?_
      refine gn_icmp_ge (q := 16) (tgt := 36) C dX3_isNobodys_13 (by decide) rfl (by omega) (by omega) (fun c13 => by exfalso; omega) (fun c13 => ?_)
      refine gx_iload_n (q := 17) C dX3_isNobodys_16 rfl rfl rfl ?_
      refine gx_aload_n (q := 18) C dX3_isNobodys_17 rfl rfl rfl ?_
      refine gx_iload_n (q := 19) C dX3_isNobodys_18 rfl rfl rfl ?_
      refine gx_iload_n (q := 20) C dX3_isNobodys_19 rfl rfl rfl ?_
      refine gx_iload (q := 22) C dX3_isNobodys_20 rfl rfl ?_
      refine gx_cp (q := 25) C E (sx_X3_11 (As := [_, _]) C rfl rfl dX3_isNobodys_22) (fx_beside _ _ _ _ q i hq (by omega)) kw_X0_beside (by decide) (Nat.le_of_ble_eq_true rfl) (by omega) (by omega) dX3_isNobodys_22 rfl ?_
      refine gx_cp (q := 28) C E (sx_X3_17 (As := [_, _]) C hV.o rfl rfl dX3_isNobodys_25) (tx_isOther _ _ _ _ q (bes q i 1) hq (fun z h => bes_lt hq h) hV hk) kw_X1_isOther (by decide) (Nat.le_of_ble_eq_true rfl) (by omega) (by omega) dX3_isNobodys_25 rfl ?_
      refine gx_ior (q := 29) C dX3_isNobodys_28 (bI_or _ _) rfl ?_
      refine gx_istore_n (q := 30) (lv' := [_, _, _, _, _]) C dX3_isNobodys_29 rfl (Nat.le_of_ble_eq_true rfl) E.2.2.2.symm rfl rfl rfl ?_
      refine gn_inc (q := 33) (lv' := [_, _, _, _, _]) C dX3_isNobodys_30 rfl E.2.2.2.symm rfl rfl rfl ?_
      refine gx_goto (tgt := 10) C dX3_isNobodys_33 (by decide) ?_
      exact ih
  exact Lp 0 (by omega)
set_option maxHeartbeats 4000000 in
theorem tl_1_X4 (l : Launch) (D : va_G) (b : Nat) (M : List va_E) {t : Nat} {T Y : Nat → Nat} {lo : Nat} (j q : Nat) (hq : q < 36) (hM : M[j]? = some (ob 4 [])) (hV : tw_V D b M t T Y lo) (hk : okT T) : fb_CT l D b yX3_isNobodys cX3_isNobodys 5 (some .boolean) 2 48 0 0 [.ref (b + j), .ref (b + t), .int (nI q)] M (.returned (some (.int (bI (upto T q 4))))) (fun M' => M' = M) := by
  refine fb_start [some (.ref (b + j)), some (.ref (b + t)), some (.int (nI q)), none, none] (by decide) (Nat.le_of_ble_eq_true rfl) rfl ?_
  intro x hl hD hb C E hx
  subst hl hD hb
  have C : fb_OK x cX3_isNobodys "FallsBetween$Beside" "isNobodys" := C
  obtain ⟨k0, k1, k2, k3, k4, k5, k6, k7, k8⟩ := id hk
  refine gx_aload_n (q := 1) C dX3_isNobodys_0 rfl rfl rfl ?_
  refine gx_aload_n (q := 2) C dX3_isNobodys_1 rfl rfl rfl ?_
  refine gx_iload_n (q := 3) C dX3_isNobodys_2 rfl rfl rfl ?_
  refine gx_cp (q := 6) C E (sx_X3_7_X4 (As := [_, _]) C hM rfl rfl dX3_isNobodys_3) (tl_0_X4 _ _ _ _ j q hq hM hV hk) kw_X2_isNobodys (by decide) (Nat.le_of_ble_eq_true rfl) (by omega) (by omega) dX3_isNobodys_3 rfl ?_
  refine gx_istore_n (q := 7) (lv' := [_, _, _, _, _]) C dX3_isNobodys_6 rfl (Nat.le_of_ble_eq_true rfl) E.2.2.2.symm rfl rfl rfl ?_
  refine gx_iconst (q := 8) (v := nI 0) C dX3_isNobodys_7 (by decide) rfl ?_
  refine gx_istore (q := 10) (lv' := [_, _, _, _, _]) C dX3_isNobodys_8 (Nat.le_of_ble_eq_true rfl) E.2.2.2.symm rfl rfl rfl ?_
  have Lp : ∀ i, i ≤ 4 → fb_G x M 0 0 10 [some (.ref (cx_b x + j)), some (.ref (cx_b x + t)), some (.int (nI q)), some (.int (bI (upto T q i))), some (.int (nI i))] [] := by
    refine fb_dn 4 ?_ ?_
    · skip
      refine gx_iload (q := 12) C dX3_isNobodys_10 rfl rfl ?_
      refine gx_iconst (q := 13) (v := nI 4) C dX3_isNobodys_12 (by decide) rfl ?_
      refine gn_icmp_ge (q := 16) (tgt := 36) C dX3_isNobodys_13 (by decide) rfl (by omega) (by omega) (fun c13 => ?_) (fun c13 => by exfalso; omega)
      refine gx_iload_n (q := 37) C dX3_isNobodys_36 rfl rfl rfl ?_
      exact gx_zret C E (by first | exact bI_nar _ | rfl) dX3_isNobodys_37 (rfl) (by omega) (by omega)
    · intro i hi ih
      refine gx_iload (q := 12) C dX3_isNobodys_10 rfl rfl ?_
      refine gx_iconst (q := 13) (v := nI 4) C dX3_isNobodys_12 (by decide) rfl ?_
      refine gn_icmp_ge (q := 16) (tgt := 36) C dX3_isNobodys_13 (by decide) rfl (by omega) (by omega) (fun c13 => by exfalso; omega) (fun c13 => ?_)
      refine gx_iload_n (q := 17) C dX3_isNobodys_16 rfl rfl rfl ?_
      refine gx_aload_n (q := 18) C dX3_isNobodys_17 rfl rfl rfl ?_
      refine gx_iload_n (q := 19) C dX3_isNobodys_18 rfl rfl rfl ?_
      refine gx_iload_n (q := 20) C dX3_isNobodys_19 rfl rfl rfl ?_
      refine gx_iload (q := 22) C dX3_isNobodys_20 rfl rfl ?_
      refine gx_cp (q := 25) C E (sx_X3_11 (As := [_, _]) C rfl rfl dX3_isNobodys_22) (fx_beside _ _ _ _ q i hq (by omega)) kw_X0_beside (by decide) (Nat.le_of_ble_eq_true rfl) (by omega) (by omega) dX3_isNobodys_22 rfl ?_
      refine gx_cp (q := 28) C E (sx_X3_17 (As := [_, _]) C hV.o rfl rfl dX3_isNobodys_25) (tx_isOther _ _ _ _ q (bes q i 1) hq (fun z h => bes_lt hq h) hV hk) kw_X1_isOther (by decide) (Nat.le_of_ble_eq_true rfl) (by omega) (by omega) dX3_isNobodys_25 rfl ?_
      refine gx_ior (q := 29) C dX3_isNobodys_28 (bI_or _ _) rfl ?_
      refine gx_istore_n (q := 30) (lv' := [_, _, _, _, _]) C dX3_isNobodys_29 rfl (Nat.le_of_ble_eq_true rfl) E.2.2.2.symm rfl rfl rfl ?_
      refine gn_inc (q := 33) (lv' := [_, _, _, _, _]) C dX3_isNobodys_30 rfl E.2.2.2.symm rfl rfl rfl ?_
      refine gx_goto (tgt := 10) C dX3_isNobodys_33 (by decide) ?_
      exact ih
  exact Lp 0 (by omega)
set_option maxHeartbeats 4000000 in
theorem tl_2_X4 (l : Launch) (D : va_G) (b : Nat) (M : List va_E) {t : Nat} {T Y : Nat → Nat} {lo : Nat} (j q : Nat) (hq : q < 36) (hM : M[j]? = some (ob 4 [])) (hV : tw_V D b M t T Y lo) (hk : okT T) : fb_CT l D b yX4_isNobodys cX4_isNobodys 6 (some .boolean) 3 72 0 0 [.ref (b + j), .ref (b + t), .int (nI q)] M (.returned (some (.int (bI (upto T q 4 || (oth T q (cor q 0 1) || oth T q (cor q 0 3)) || (oth T q (cor q 2 1) || oth T q (cor q 2 3))))))) (fun M' => M' = M) := by
  refine fb_start [some (.ref (b + j)), some (.ref (b + t)), some (.int (nI q)), none, none, none] (by decide) (Nat.le_of_ble_eq_true rfl) rfl ?_
  intro x hl hD hb C E hx
  subst hl hD hb
  have C : fb_OK x cX4_isNobodys "FallsBetween$Corners" "isNobodys" := C
  obtain ⟨k0, k1, k2, k3, k4, k5, k6, k7, k8⟩ := id hk
  refine gx_aload_n (q := 1) C dX4_isNobodys_0 rfl rfl rfl ?_
  refine gx_aload_n (q := 2) C dX4_isNobodys_1 rfl rfl rfl ?_
  refine gx_iload_n (q := 3) C dX4_isNobodys_2 rfl rfl rfl ?_
  refine gx_cp (q := 6) C E (sx_X4_9_X4 (As := [_, _]) C hM rfl rfl dX4_isNobodys_3) (tl_1_X4 _ _ _ _ j q hq hM hV hk) kw_X3_isNobodys (by decide) (Nat.le_of_ble_eq_true rfl) (by omega) (by omega) dX4_isNobodys_3 rfl ?_
  refine gx_istore_n (q := 7) (lv' := [_, _, _, _, _, _]) C dX4_isNobodys_6 rfl (Nat.le_of_ble_eq_true rfl) E.2.2.2.symm rfl rfl rfl ?_
  refine gx_iconst (q := 8) (v := nI 0) C dX4_isNobodys_7 (by decide) rfl ?_
  refine gx_istore (q := 10) (lv' := [_, _, _, _, _, _]) C dX4_isNobodys_8 (Nat.le_of_ble_eq_true rfl) E.2.2.2.symm rfl rfl rfl ?_
  refine gx_iload (q := 12) C dX4_isNobodys_10 rfl rfl ?_
  refine gx_iconst (q := 13) (v := nI 4) C dX4_isNobodys_12 (by decide) rfl ?_
  refine gn_icmp_ge (q := 16) (tgt := 73) C dX4_isNobodys_13 (by decide) rfl (by omega) (by omega) (fun c13 => by exfalso; revert c13; decide) (fun c13 => ?_)
  have K0 : ∀ z : Bool, z = (oth T q (cor q 0 1) || oth T q (cor q 0 3)) → fb_G x M 0 0 65 [some (.ref (cx_b x + j)), some (.ref (cx_b x + t)), some (.int (nI q)), some (.int (bI (upto T q 4))), some (.int (nI 0)), none] [.int (bI z), .int (bI (upto T q 4))] := by
    intro z0 hz0
    refine gx_ior (q := 66) C dX4_isNobodys_65 (bI_or _ _) rfl ?_
    refine gx_istore_n (q := 67) (lv' := [_, _, _, _, _, _]) C dX4_isNobodys_66 rfl (Nat.le_of_ble_eq_true rfl) E.2.2.2.symm rfl rfl rfl ?_
    refine gx_iinc (q := 70) (v := nI 2) (lv' := [_, _, _, _, _, _]) C dX4_isNobodys_67 rfl E.2.2.2.symm (by decide) rfl rfl rfl ?_
    refine gx_goto (tgt := 10) C dX4_isNobodys_70 (by decide) ?_
    refine gx_iload (q := 12) C dX4_isNobodys_10 rfl rfl ?_
    refine gx_iconst (q := 13) (v := nI 4) C dX4_isNobodys_12 (by decide) rfl ?_
    refine gn_icmp_ge (q := 16) (tgt := 73) C dX4_isNobodys_13 (by decide) rfl (by omega) (by omega) (fun c13 => by exfalso; revert c13; decide) (fun c13 => ?_)
    have K2 : ∀ z : Bool, z = (oth T q (cor q 2 1) || oth T q (cor q 2 3)) → fb_G x M 0 0 65 [some (.ref (cx_b x + j)), some (.ref (cx_b x + t)), some (.int (nI q)), some (.int (bI (upto T q 4 || z0))), some (.int (nI 2)), none] [.int (bI z), .int (bI (upto T q 4 || z0))] := by
      intro z2 hz2
      refine gx_ior (q := 66) C dX4_isNobodys_65 (bI_or _ _) rfl ?_
      refine gx_istore_n (q := 67) (lv' := [_, _, _, _, _, _]) C dX4_isNobodys_66 rfl (Nat.le_of_ble_eq_true rfl) E.2.2.2.symm rfl rfl rfl ?_
      refine gx_iinc (q := 70) (v := nI 4) (lv' := [_, _, _, _, _, _]) C dX4_isNobodys_67 rfl E.2.2.2.symm (by decide) rfl rfl rfl ?_
      refine gx_goto (tgt := 10) C dX4_isNobodys_70 (by decide) ?_
      refine gx_iload (q := 12) C dX4_isNobodys_10 rfl rfl ?_
      refine gx_iconst (q := 13) (v := nI 4) C dX4_isNobodys_12 (by decide) rfl ?_
      refine gn_icmp_ge (q := 16) (tgt := 73) C dX4_isNobodys_13 (by decide) rfl (by omega) (by omega) (fun c13 => ?_) (fun c13 => by exfalso; revert c13; decide)
      refine gx_iload_n (q := 74) C dX4_isNobodys_73 rfl rfl rfl ?_
      exact gx_zretE C E (by rw [hz0, hz2]) (by first | exact bI_nar _ | rfl) dX4_isNobodys_74 (rfl) (by omega) (by omega)
    refine gx_iload_n (q := 17) C dX4_isNobodys_16 rfl rfl rfl ?_
    refine gx_iload (q := 19) C dX4_isNobodys_17 rfl rfl ?_
    refine gx_cp (q := 22) C E (sx_X4_13 (As := [_, _]) C rfl rfl dX4_isNobodys_19) (fx_beside _ _ _ _ q 2 hq (by omega)) kw_X0_beside (by decide) (Nat.le_of_ble_eq_true rfl) (by omega) (by omega) dX4_isNobodys_19 rfl ?_
    refine gx_istore (q := 24) (lv' := [_, _, _, _, _, _]) C dX4_isNobodys_22 (Nat.le_of_ble_eq_true rfl) E.2.2.2.symm rfl rfl rfl ?_
    refine gx_iload_n (q := 25) C dX4_isNobodys_24 rfl rfl rfl ?_
    refine gx_iload (q := 27) C dX4_isNobodys_25 rfl rfl ?_
    refine gx_bipush (q := 29) (v := -9) C dX4_isNobodys_27 (by decide) rfl ?_
    refine gq_icmp_eq (q := 32) (tgt := 64) C dX4_isNobodys_29 (by decide) rfl (bes_lt31 hq) (fun c29 => ?_) (fun z29 c29 => ?_)
    · have hZ : false = (oth T q (cor q 2 1) || oth T q (cor q 2 3)) := by simp [cor, c29, oth]
      refine gx_iconst (q := 65) (v := bI false) C dX4_isNobodys_64 (by decide) rfl ?_
      refine gx_drop 5 ?_
      first | exact K2 true hZ | exact K2 false hZ
    · rw [c29, sq_some]
      have hz := bes_lt hq c29
      have e1 : cor q 2 1 = bes z29 1 1 := by simp [cor, c29]
      have e3 : cor q 2 3 = bes z29 3 1 := by simp [cor, c29]
      refine gx_aload_n (q := 33) C dX4_isNobodys_32 rfl rfl rfl ?_
      refine gx_iload_n (q := 34) C dX4_isNobodys_33 rfl rfl rfl ?_
      refine gx_iload (q := 36) C dX4_isNobodys_34 rfl rfl ?_
      refine gx_iconst (q := 37) (v := nI 1) C dX4_isNobodys_36 (by decide) rfl ?_
      refine gx_cp (q := 40) C E (sx_X4_13 (As := [_, _]) C rfl rfl dX4_isNobodys_37) (fx_beside _ _ _ _ z29 1 hz (by omega)) kw_X0_beside (by decide) (Nat.le_of_ble_eq_true rfl) (by omega) (by omega) dX4_isNobodys_37 rfl ?_
      refine gx_cp (q := 43) C E (sx_X4_17 (As := [_, _]) C hV.o rfl rfl dX4_isNobodys_40) (tx_isOther _ _ _ _ q (bes z29 1 1) hq (fun z h => bes_lt hz h) hV hk) kw_X1_isOther (by decide) (Nat.le_of_ble_eq_true rfl) (by omega) (by omega) dX4_isNobodys_40 rfl ?_
      refine gb_if_ne (q := 46) (tgt := 60) C dX4_isNobodys_43 (by decide) rfl (fun c43 => ?_) (fun c43 => ?_)
      · have hZ : true = (oth T q (cor q 2 1) || oth T q (cor q 2 3)) := by rw [e1, c43]; rfl
        refine gx_iconst (q := 61) (v := bI true) C dX4_isNobodys_60 (by decide) rfl ?_
        refine gx_goto (tgt := 65) C dX4_isNobodys_61 (by decide) ?_
        refine gx_drop 5 ?_
        first | exact K2 true hZ | exact K2 false hZ
      · refine gx_aload_n (q := 47) C dX4_isNobodys_46 rfl rfl rfl ?_
        refine gx_iload_n (q := 48) C dX4_isNobodys_47 rfl rfl rfl ?_
        refine gx_iload (q := 50) C dX4_isNobodys_48 rfl rfl ?_
        refine gx_iconst (q := 51) (v := nI 3) C dX4_isNobodys_50 (by decide) rfl ?_
        refine gx_cp (q := 54) C E (sx_X4_13 (As := [_, _]) C rfl rfl dX4_isNobodys_51) (fx_beside _ _ _ _ z29 3 hz (by omega)) kw_X0_beside (by decide) (Nat.le_of_ble_eq_true rfl) (by omega) (by omega) dX4_isNobodys_51 rfl ?_
        refine gx_cp (q := 57) C E (sx_X4_17 (As := [_, _]) C hV.o rfl rfl dX4_isNobodys_54) (tx_isOther _ _ _ _ q (bes z29 3 1) hq (fun z h => bes_lt hz h) hV hk) kw_X1_isOther (by decide) (Nat.le_of_ble_eq_true rfl) (by omega) (by omega) dX4_isNobodys_54 rfl ?_
        refine gb_if_eq (q := 60) (tgt := 64) C dX4_isNobodys_57 (by decide) rfl (fun c57 => ?_) (fun c57 => ?_)
        · have hZ : false = (oth T q (cor q 2 1) || oth T q (cor q 2 3)) := by rw [e1, e3, c43, c57]; rfl
          refine gx_iconst (q := 65) (v := bI false) C dX4_isNobodys_64 (by decide) rfl ?_
          refine gx_drop 5 ?_
          first | exact K2 true hZ | exact K2 false hZ
        · have hZ : true = (oth T q (cor q 2 1) || oth T q (cor q 2 3)) := by rw [e1, e3, c43, c57]; rfl
          refine gx_iconst (q := 61) (v := bI true) C dX4_isNobodys_60 (by decide) rfl ?_
          refine gx_goto (tgt := 65) C dX4_isNobodys_61 (by decide) ?_
          refine gx_drop 5 ?_
          first | exact K2 true hZ | exact K2 false hZ
  refine gx_iload_n (q := 17) C dX4_isNobodys_16 rfl rfl rfl ?_
  refine gx_iload (q := 19) C dX4_isNobodys_17 rfl rfl ?_
  refine gx_cp (q := 22) C E (sx_X4_13 (As := [_, _]) C rfl rfl dX4_isNobodys_19) (fx_beside _ _ _ _ q 0 hq (by omega)) kw_X0_beside (by decide) (Nat.le_of_ble_eq_true rfl) (by omega) (by omega) dX4_isNobodys_19 rfl ?_
  refine gx_istore (q := 24) (lv' := [_, _, _, _, _, _]) C dX4_isNobodys_22 (Nat.le_of_ble_eq_true rfl) E.2.2.2.symm rfl rfl rfl ?_
  refine gx_iload_n (q := 25) C dX4_isNobodys_24 rfl rfl rfl ?_
  refine gx_iload (q := 27) C dX4_isNobodys_25 rfl rfl ?_
  refine gx_bipush (q := 29) (v := -9) C dX4_isNobodys_27 (by decide) rfl ?_
  refine gq_icmp_eq (q := 32) (tgt := 64) C dX4_isNobodys_29 (by decide) rfl (bes_lt31 hq) (fun c29 => ?_) (fun z29 c29 => ?_)
  · have hZ : false = (oth T q (cor q 0 1) || oth T q (cor q 0 3)) := by simp [cor, c29, oth]
    refine gx_iconst (q := 65) (v := bI false) C dX4_isNobodys_64 (by decide) rfl ?_
    refine gx_drop 5 ?_
    first | exact K0 true hZ | exact K0 false hZ
  · rw [c29, sq_some]
    have hz := bes_lt hq c29
    have e1 : cor q 0 1 = bes z29 1 1 := by simp [cor, c29]
    have e3 : cor q 0 3 = bes z29 3 1 := by simp [cor, c29]
    refine gx_aload_n (q := 33) C dX4_isNobodys_32 rfl rfl rfl ?_
    refine gx_iload_n (q := 34) C dX4_isNobodys_33 rfl rfl rfl ?_
    refine gx_iload (q := 36) C dX4_isNobodys_34 rfl rfl ?_
    refine gx_iconst (q := 37) (v := nI 1) C dX4_isNobodys_36 (by decide) rfl ?_
    refine gx_cp (q := 40) C E (sx_X4_13 (As := [_, _]) C rfl rfl dX4_isNobodys_37) (fx_beside _ _ _ _ z29 1 hz (by omega)) kw_X0_beside (by decide) (Nat.le_of_ble_eq_true rfl) (by omega) (by omega) dX4_isNobodys_37 rfl ?_
    refine gx_cp (q := 43) C E (sx_X4_17 (As := [_, _]) C hV.o rfl rfl dX4_isNobodys_40) (tx_isOther _ _ _ _ q (bes z29 1 1) hq (fun z h => bes_lt hz h) hV hk) kw_X1_isOther (by decide) (Nat.le_of_ble_eq_true rfl) (by omega) (by omega) dX4_isNobodys_40 rfl ?_
    refine gb_if_ne (q := 46) (tgt := 60) C dX4_isNobodys_43 (by decide) rfl (fun c43 => ?_) (fun c43 => ?_)
    · have hZ : true = (oth T q (cor q 0 1) || oth T q (cor q 0 3)) := by rw [e1, c43]; rfl
      refine gx_iconst (q := 61) (v := bI true) C dX4_isNobodys_60 (by decide) rfl ?_
      refine gx_goto (tgt := 65) C dX4_isNobodys_61 (by decide) ?_
      refine gx_drop 5 ?_
      first | exact K0 true hZ | exact K0 false hZ
    · refine gx_aload_n (q := 47) C dX4_isNobodys_46 rfl rfl rfl ?_
      refine gx_iload_n (q := 48) C dX4_isNobodys_47 rfl rfl rfl ?_
      refine gx_iload (q := 50) C dX4_isNobodys_48 rfl rfl ?_
      refine gx_iconst (q := 51) (v := nI 3) C dX4_isNobodys_50 (by decide) rfl ?_
      refine gx_cp (q := 54) C E (sx_X4_13 (As := [_, _]) C rfl rfl dX4_isNobodys_51) (fx_beside _ _ _ _ z29 3 hz (by omega)) kw_X0_beside (by decide) (Nat.le_of_ble_eq_true rfl) (by omega) (by omega) dX4_isNobodys_51 rfl ?_
      refine gx_cp (q := 57) C E (sx_X4_17 (As := [_, _]) C hV.o rfl rfl dX4_isNobodys_54) (tx_isOther _ _ _ _ q (bes z29 3 1) hq (fun z h => bes_lt hz h) hV hk) kw_X1_isOther (by decide) (Nat.le_of_ble_eq_true rfl) (by omega) (by omega) dX4_isNobodys_54 rfl ?_
      refine gb_if_eq (q := 60) (tgt := 64) C dX4_isNobodys_57 (by decide) rfl (fun c57 => ?_) (fun c57 => ?_)
      · have hZ : false = (oth T q (cor q 0 1) || oth T q (cor q 0 3)) := by rw [e1, e3, c43, c57]; rfl
        refine gx_iconst (q := 65) (v := bI false) C dX4_isNobodys_64 (by decide) rfl ?_
        refine gx_drop 5 ?_
        first | exact K0 true hZ | exact K0 false hZ
      · have hZ : true = (oth T q (cor q 0 1) || oth T q (cor q 0 3)) := by rw [e1, e3, c43, c57]; rfl
        refine gx_iconst (q := 61) (v := bI true) C dX4_isNobodys_60 (by decide) rfl ?_
        refine gx_goto (tgt := 65) C dX4_isNobodys_61 (by decide) ?_
        refine gx_drop 5 ?_
        first | exact K0 true hZ | exact K0 false hZ
set_option maxHeartbeats 4000000 in
theorem tl_3_X5 (l : Launch) (D : va_G) (b : Nat) (M : List va_E) {t : Nat} {T Y : Nat → Nat} {lo : Nat} (j q : Nat) (hq : q < 36) (hM : M[j]? = some (ob 5 [])) (hV : tw_V D b M t T Y lo) (hk : okT T) : fb_CT l D b yX5_isNobodys cX5_isNobodys 3 (some .boolean) 2 48 0 0 [.ref (b + j), .ref (b + t), .int (nI q)] M (.returned (some (.int (bI (oth T q (bes q 2 1)))))) (fun M' => M' = M) := by
  refine fb_start [some (.ref (b + j)), some (.ref (b + t)), some (.int (nI q))] (by decide) (Nat.le_of_ble_eq_true rfl) rfl ?_
  intro x hl hD hb C E hx
  subst hl hD hb
  have C : fb_OK x cX5_isNobodys "FallsBetween$Down" "isNobodys" := C
  obtain ⟨k0, k1, k2, k3, k4, k5, k6, k7, k8⟩ := id hk
  refine gx_aload_n (q := 1) C dX5_isNobodys_0 rfl rfl rfl ?_
  refine gx_aload_n (q := 2) C dX5_isNobodys_1 rfl rfl rfl ?_
  refine gx_iload_n (q := 3) C dX5_isNobodys_2 rfl rfl rfl ?_
  refine gx_cp (q := 6) C E (sx_X5_7_X5 (As := [_, _]) C hM rfl rfl dX5_isNobodys_3) (tl_0_X5 _ _ _ _ j q hq hM hV hk) kw_X2_isNobodys (by decide) (Nat.le_of_ble_eq_true rfl) (by omega) (by omega) dX5_isNobodys_3 rfl ?_
  refine gb_if_ne (q := 9) (tgt := 22) C dX5_isNobodys_6 (by decide) rfl (fun c6 => by exfalso; cases c6) (fun c6 => ?_)
  refine gx_aload_n (q := 10) C dX5_isNobodys_9 rfl rfl rfl ?_
  refine gx_iload_n (q := 11) C dX5_isNobodys_10 rfl rfl rfl ?_
  refine gx_iload_n (q := 12) C dX5_isNobodys_11 rfl rfl rfl ?_
  refine gx_iconst (q := 13) (v := nI 2) C dX5_isNobodys_12 (by decide) rfl ?_
  refine gx_cp (q := 16) C E (sx_X5_11 (As := [_, _]) C rfl rfl dX5_isNobodys_13) (fx_beside _ _ _ _ q 2 hq (by omega)) kw_X0_beside (by decide) (Nat.le_of_ble_eq_true rfl) (by omega) (by omega) dX5_isNobodys_13 rfl ?_
  refine gx_cp (q := 19) C E (sx_X5_17 (As := [_, _]) C hV.o rfl rfl dX5_isNobodys_16) (tx_isOther _ _ _ _ q (bes q 2 1) hq (fun z h => bes_lt hq h) hV hk) kw_X1_isOther (by decide) (Nat.le_of_ble_eq_true rfl) (by omega) (by omega) dX5_isNobodys_16 rfl ?_
  refine gb_if_eq (q := 22) (tgt := 26) C dX5_isNobodys_19 (by decide) rfl (fun c19 => ?_) (fun c19 => ?_)
  · refine gx_iconst (q := 27) (v := bI false) C dX5_isNobodys_26 (by decide) rfl ?_
    exact gx_zretE C E (by rw [c19]) (by first | exact bI_nar _ | rfl) dX5_isNobodys_27 (rfl) (by omega) (by omega)
  · refine gx_iconst (q := 23) (v := bI true) C dX5_isNobodys_22 (by decide) rfl ?_
    refine gx_goto (tgt := 27) C dX5_isNobodys_23 (by decide) ?_
    exact gx_zretE C E (by rw [c19]) (by first | exact bI_nar _ | rfl) dX5_isNobodys_27 (rfl) (by omega) (by omega)
set_option maxHeartbeats 4000000 in
theorem tl_3_X6 (l : Launch) (D : va_G) (b : Nat) (M : List va_E) {t : Nat} {T Y : Nat → Nat} {lo : Nat} (j q : Nat) (hq : q < 36) (hM : M[j]? = some (ob 6 [])) (hV : tw_V D b M t T Y lo) (hk : okT T) : fb_CT l D b yX5_isNobodys cX5_isNobodys 3 (some .boolean) 2 48 0 0 [.ref (b + j), .ref (b + t), .int (nI q)] M (.returned (some (.int (bI (oth T q (bes q 2 1)))))) (fun M' => M' = M) := by
  refine fb_start [some (.ref (b + j)), some (.ref (b + t)), some (.int (nI q))] (by decide) (Nat.le_of_ble_eq_true rfl) rfl ?_
  intro x hl hD hb C E hx
  subst hl hD hb
  have C : fb_OK x cX5_isNobodys "FallsBetween$Down" "isNobodys" := C
  obtain ⟨k0, k1, k2, k3, k4, k5, k6, k7, k8⟩ := id hk
  refine gx_aload_n (q := 1) C dX5_isNobodys_0 rfl rfl rfl ?_
  refine gx_aload_n (q := 2) C dX5_isNobodys_1 rfl rfl rfl ?_
  refine gx_iload_n (q := 3) C dX5_isNobodys_2 rfl rfl rfl ?_
  refine gx_cp (q := 6) C E (sx_X5_7_X6 (As := [_, _]) C hM rfl rfl dX5_isNobodys_3) (tl_0_X6 _ _ _ _ j q hq hM hV hk) kw_X2_isNobodys (by decide) (Nat.le_of_ble_eq_true rfl) (by omega) (by omega) dX5_isNobodys_3 rfl ?_
  refine gb_if_ne (q := 9) (tgt := 22) C dX5_isNobodys_6 (by decide) rfl (fun c6 => by exfalso; cases c6) (fun c6 => ?_)
  refine gx_aload_n (q := 10) C dX5_isNobodys_9 rfl rfl rfl ?_
  refine gx_iload_n (q := 11) C dX5_isNobodys_10 rfl rfl rfl ?_
  refine gx_iload_n (q := 12) C dX5_isNobodys_11 rfl rfl rfl ?_
  refine gx_iconst (q := 13) (v := nI 2) C dX5_isNobodys_12 (by decide) rfl ?_
  refine gx_cp (q := 16) C E (sx_X5_11 (As := [_, _]) C rfl rfl dX5_isNobodys_13) (fx_beside _ _ _ _ q 2 hq (by omega)) kw_X0_beside (by decide) (Nat.le_of_ble_eq_true rfl) (by omega) (by omega) dX5_isNobodys_13 rfl ?_
  refine gx_cp (q := 19) C E (sx_X5_17 (As := [_, _]) C hV.o rfl rfl dX5_isNobodys_16) (tx_isOther _ _ _ _ q (bes q 2 1) hq (fun z h => bes_lt hq h) hV hk) kw_X1_isOther (by decide) (Nat.le_of_ble_eq_true rfl) (by omega) (by omega) dX5_isNobodys_16 rfl ?_
  refine gb_if_eq (q := 22) (tgt := 26) C dX5_isNobodys_19 (by decide) rfl (fun c19 => ?_) (fun c19 => ?_)
  · refine gx_iconst (q := 27) (v := bI false) C dX5_isNobodys_26 (by decide) rfl ?_
    exact gx_zretE C E (by rw [c19]) (by first | exact bI_nar _ | rfl) dX5_isNobodys_27 (rfl) (by omega) (by omega)
  · refine gx_iconst (q := 23) (v := bI true) C dX5_isNobodys_22 (by decide) rfl ?_
    refine gx_goto (tgt := 27) C dX5_isNobodys_23 (by decide) ?_
    exact gx_zretE C E (by rw [c19]) (by first | exact bI_nar _ | rfl) dX5_isNobodys_27 (rfl) (by omega) (by omega)
set_option maxHeartbeats 4000000 in
theorem tl_4_X6 (l : Launch) (D : va_G) (b : Nat) (M : List va_E) {t : Nat} {T Y : Nat → Nat} {lo : Nat} (j q : Nat) (hq : q < 36) (hM : M[j]? = some (ob 6 [])) (hV : tw_V D b M t T Y lo) (hk : okT T) : fb_CT l D b yX6_isNobodys cX6_isNobodys 3 (some .boolean) 3 70 0 0 [.ref (b + j), .ref (b + t), .int (nI q)] M (.returned (some (.int (bI (oth T q (bes q 2 1) && low T q))))) (fun M' => M' = M) := by
  refine fb_start [some (.ref (b + j)), some (.ref (b + t)), some (.int (nI q))] (by decide) (Nat.le_of_ble_eq_true rfl) rfl ?_
  intro x hl hD hb C E hx
  subst hl hD hb
  have C : fb_OK x cX6_isNobodys "FallsBetween$Low" "isNobodys" := C
  obtain ⟨k0, k1, k2, k3, k4, k5, k6, k7, k8⟩ := id hk
  refine gx_aload_n (q := 1) C dX6_isNobodys_0 rfl rfl rfl ?_
  refine gx_aload_n (q := 2) C dX6_isNobodys_1 rfl rfl rfl ?_
  refine gx_iload_n (q := 3) C dX6_isNobodys_2 rfl rfl rfl ?_
  refine gx_cp (q := 6) C E (sx_X6_7_X6 (As := [_, _]) C hM rfl rfl dX6_isNobodys_3) (tl_3_X6 _ _ _ _ j q hq hM hV hk) kw_X5_isNobodys (by decide) (Nat.le_of_ble_eq_true rfl) (by omega) (by omega) dX6_isNobodys_3 rfl ?_
  refine gb_if_eq (q := 9) (tgt := 32) C dX6_isNobodys_6 (by decide) rfl (fun c6 => ?_) (fun c6 => ?_)
  · have hZ : false = (oth T q (bes q 2 1) && low T q) := by rw [c6]; rfl
    refine gx_iconst (q := 33) (v := bI false) C dX6_isNobodys_32 (by decide) rfl ?_
    exact gx_zretE C E (by rw [hZ]) (by first | exact bI_nar _ | rfl) dX6_isNobodys_33 (rfl) (by omega) (by omega)
  · obtain ⟨z, hz⟩ := oth_z c6
    have hzl := bes_lt hq hz
    refine gx_aload_n (q := 10) C dX6_isNobodys_9 rfl rfl rfl ?_
    refine fg_X6_11 (q := 13) C hV.o rfl dX6_isNobodys_10 rfl ?_
    refine gx_iload_n (q := 14) C dX6_isNobodys_13 rfl rfl rfl ?_
    refine gx_iconst (q := 15) (v := nI 2) C dX6_isNobodys_14 (by decide) rfl ?_
    refine gx_cp (q := 18) C E (sx_X6_17 (As := [_, _]) C rfl rfl dX6_isNobodys_15) (fx_beside _ _ _ _ q 2 hq (by omega)) kw_X0_beside (by decide) (Nat.le_of_ble_eq_true rfl) (by omega) (by omega) dX6_isNobodys_15 rfl ?_
    rw [hz, sq_some]
    refine tv_ld_heights (q := 19) C hV (hzl) dX6_isNobodys_18 rfl ?_
    refine gx_aload_n (q := 20) C dX6_isNobodys_19 rfl rfl rfl ?_
    refine fg_X6_11 (q := 23) C hV.o rfl dX6_isNobodys_20 rfl ?_
    refine gx_iload_n (q := 24) C dX6_isNobodys_23 rfl rfl rfl ?_
    refine tv_ld_heights (q := 25) C hV (by omega) dX6_isNobodys_24 rfl ?_
    refine gn_icmp_ge (q := 28) (tgt := 32) C dX6_isNobodys_25 (by decide) rfl (by have := k6 _ hzl; omega) (by have := k6 _ hq; omega) (fun c25 => ?_) (fun c25 => ?_)
    · have hZ : false = (oth T q (bes q 2 1) && low T q) := by rw [c6]; simp [low, hz]; omega
      refine gx_iconst (q := 33) (v := bI false) C dX6_isNobodys_32 (by decide) rfl ?_
      exact gx_zretE C E (by rw [hZ]) (by first | exact bI_nar _ | rfl) dX6_isNobodys_33 (rfl) (by omega) (by omega)
    · have hZ : true = (oth T q (bes q 2 1) && low T q) := by rw [c6]; simp [low, hz]; omega
      refine gx_iconst (q := 29) (v := bI true) C dX6_isNobodys_28 (by decide) rfl ?_
      refine gx_goto (tgt := 33) C dX6_isNobodys_29 (by decide) ?_
      exact gx_zretE C E (by rw [hZ]) (by first | exact bI_nar _ | rfl) dX6_isNobodys_33 (rfl) (by omega) (by omega)
theorem lawN_0 (T : Nat → Nat) (q : Nat) : lawN T q 0 = false := rfl
theorem lawN_1 (T : Nat → Nat) (q : Nat) : lawN T q 1 = upto T q 4 := by simp [lawN, upto]
theorem lawN_2 (T : Nat → Nat) (q : Nat) : lawN T q 2 = (upto T q 4 || (oth T q (cor q 0 1) || oth T q (cor q 0 3)) || (oth T q (cor q 2 1) || oth T q (cor q 2 3))) := by simp [lawN, upto, Bool.or_comm, Bool.or_left_comm, Bool.or_assoc]
theorem lawN_3 (T : Nat → Nat) (q : Nat) : lawN T q 3 = oth T q (bes q 2 1) := by simp [lawN]
theorem lawN_4 (T : Nat → Nat) (q : Nat) : lawN T q 4 = (oth T q (bes q 2 1) && low T q) := by simp [lawN]
theorem gv_law {x : fb_X} {cc : ByteArray} {nm : String} {M : List va_E} {k n pc q : Nat} {lv : List (Option Value)} {st : List Value} {L : Nat} {r : Option FieldType} {o : Outcome} {Rel : List va_E → Prop} {fr lo' mc ms : Nat} {t : Nat} {T Y : Nat → Nat} {lo : Nat} {qq : Nat} (C : fb_OK x cc "FallsBetween$Town" nm) (E : fb_RT x L r o Rel fr lo' mc ms) (hV : tw_V (cx_D x) (cx_b x) M t T Y lo) (hk : okT T) (hqq : qq < 36) (h1 : 4 ≤ fr) (h2 : 97 ≤ lo') (hW : (st.map fun v => v.category).sum ≤ 8) (hkk : k ≤ mc) (hn : n ≤ ms) (d : decode cc pc = .ok (.invokevirtual 72, 3)) (hq : pc + 3 = q) (kk : fb_G x M k n q lv (.int (bI (lawN T qq (T 2))) :: st)) : fb_G x M k n pc lv (.int (nI qq) :: .ref (cx_b x + t) :: .ref (cx_b x + (t + 2 + T 2)) :: st) := by
  have h4 := hk.2.2.1
  have hM := hV.lw (T 2) (by omega)
  rcases (by omega : T 2 = 0 ∨ T 2 = 1 ∨ T 2 = 2 ∨ T 2 = 3 ∨ T 2 = 4) with e | e | e | e | e <;> rw [e] at hM kk ⊢
  · exact gx_cp C E (sx_X1_72_X2 (As := [_, _]) C hM rfl rfl d) (tl_0_X2 _ _ _ _ _ qq hqq hM hV hk) kw_X2_isNobodys ⟨by omega, by omega⟩ hW hkk hn d hq (by rw [← lawN_0]; exact kk)
  · exact gx_cp C E (sx_X1_72_X3 (As := [_, _]) C hM rfl rfl d) (tl_1_X3 _ _ _ _ _ qq hqq hM hV hk) kw_X3_isNobodys ⟨by omega, by omega⟩ hW hkk hn d hq (by rw [← lawN_1]; exact kk)
  · exact gx_cp C E (sx_X1_72_X4 (As := [_, _]) C hM rfl rfl d) (tl_2_X4 _ _ _ _ _ qq hqq hM hV hk) kw_X4_isNobodys ⟨by omega, by omega⟩ hW hkk hn d hq (by rw [← lawN_2]; exact kk)
  · exact gx_cp C E (sx_X1_72_X5 (As := [_, _]) C hM rfl rfl d) (tl_3_X5 _ _ _ _ _ qq hqq hM hV hk) kw_X5_isNobodys ⟨by omega, by omega⟩ hW hkk hn d hq (by rw [← lawN_3]; exact kk)
  · exact gx_cp C E (sx_X1_72_X6 (As := [_, _]) C hM rfl rfl d) (tl_4_X6 _ _ _ _ _ qq hqq hM hV hk) kw_X6_isNobodys ⟨by omega, by omega⟩ hW hkk hn d hq (by rw [← lawN_4]; exact kk)
theorem tv_law {x : fb_X} {cc : ByteArray} {own nm : String} {M : List va_E} {k n pc q : Nat} {lv : List (Option Value)} {st : List Value} {t : Nat} {T Y : Nat → Nat} {lo : Nat} (C : fb_OK x cc own nm) (hV : tw_V (cx_D x) (cx_b x) M t T Y lo) (hi : T 2 < 5) (d : decode cc pc = .ok (.aaload, 1)) (hq : pc + 1 = q) (kk : fb_G x M k n q lv (.ref (cx_b x + (t + 2 + T 2)) :: st)) : fb_G x M k n pc lv (.int (nI (T 2)) :: .ref (cx_b x + (t + 1)) :: st) := by
  obtain ⟨f, f1, f2⟩ := hV.law
  exact gx_aald (t0 := 4) C f1 rfl hi (by decide) (f2 _ hi) d hq kk
set_option maxHeartbeats 4000000 in
theorem tx_isNobodys (l : Launch) (D : va_G) (b : Nat) (M : List va_E) {t : Nat} {T Y : Nat → Nat} {lo : Nat} (q : Nat) (hq : q < 36) (hV : tw_V D b M t T Y lo) (hk : okT T) : fb_CT l D b yX1_isNobodys cX1_isNobodys 2 (some .boolean) 4 97 0 0 [.ref (b + t), .int (nI q)] M (.returned (some (.int (bI (nob T q))))) (fun M' => M' = M) := by
  refine fb_start [some (.ref (b + t)), some (.int (nI q))] (by decide) (Nat.le_of_ble_eq_true rfl) rfl ?_
  intro x hl hD hb C E hx
  subst hl hD hb
  have C : fb_OK x cX1_isNobodys "FallsBetween$Town" "isNobodys" := C
  obtain ⟨k0, k1, k2, k3, k4, k5, k6, k7, k8⟩ := id hk
  refine gx_aload_n (q := 1) C dX1_isNobodys_0 rfl rfl rfl ?_
  refine fg_X1_37 (q := 4) C hV.o rfl dX1_isNobodys_1 rfl ?_
  refine gx_iload_n (q := 5) C dX1_isNobodys_4 rfl rfl rfl ?_
  refine tv_ld_nets (q := 6) C hV (by omega) dX1_isNobodys_5 rfl ?_
  refine gn_if_ne (q := 9) (tgt := 30) C dX1_isNobodys_6 (by decide) rfl (by have := k7 _ hq; omega) (fun c6 => ?_) (fun c6 => ?_)
  · have hZ : nob T q = false := by simp [nob, show ¬ T (84 + q) = 0 by omega]
    refine gx_iconst (q := 31) (v := bI false) C dX1_isNobodys_30 (by decide) rfl ?_
    exact gx_zretE C E (by rw [hZ]) (by first | exact bI_nar _ | rfl) dX1_isNobodys_31 (rfl) (by omega) (by omega)
  · refine gx_aload_n (q := 10) C dX1_isNobodys_9 rfl rfl rfl ?_
    refine fg_X1_24 (q := 13) C hV.o rfl dX1_isNobodys_10 rfl ?_
    refine gx_aload_n (q := 14) C dX1_isNobodys_13 rfl rfl rfl ?_
    refine fg_X1_60 (q := 17) C hV.o rfl dX1_isNobodys_14 rfl ?_
    refine tv_law (q := 18) C hV (by omega) dX1_isNobodys_17 rfl ?_
    refine gx_aload_n (q := 19) C dX1_isNobodys_18 rfl rfl rfl ?_
    refine gx_iload_n (q := 20) C dX1_isNobodys_19 rfl rfl rfl ?_
    refine gv_law (q := 23) C E hV hk hq (by decide) (by decide) (Nat.le_of_ble_eq_true rfl) (by omega) (by omega) dX1_isNobodys_20 rfl ?_
    refine gb_if_eq (q := 26) (tgt := 30) C dX1_isNobodys_23 (by decide) rfl (fun c23 => ?_) (fun c23 => ?_)
    · have hZ : nob T q = false := by simp [nob, c23]
      refine gx_iconst (q := 31) (v := bI false) C dX1_isNobodys_30 (by decide) rfl ?_
      exact gx_zretE C E (by rw [hZ]) (by first | exact bI_nar _ | rfl) dX1_isNobodys_31 (rfl) (by omega) (by omega)
    · have hZ : nob T q = true := by simp [nob, c23]; omega
      refine gx_iconst (q := 27) (v := bI true) C dX1_isNobodys_26 (by decide) rfl ?_
      refine gx_goto (tgt := 31) C dX1_isNobodys_27 (by decide) ?_
      exact gx_zretE C E (by rw [hZ]) (by first | exact bI_nar _ | rfl) dX1_isNobodys_31 (rfl) (by omega) (by omega)
