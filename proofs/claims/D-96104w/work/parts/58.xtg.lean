/-! the component: where all lies; shares -/
set_option maxRecDepth 100000
/-- what lies of the tree v in q, when the trees before u and p parts of u have fallen -/
def fnW (T : Nat → Nat) (u p v q : Nat) : Nat := if v < u then flp T v q 5 else if v = u then flp T u q p else 0
def fnS (T : Nat → Nat) (u p : Nat) (Y : Nat → Nat) : Prop := ∀ v q, v < T 0 → q < 36 → Y (36 * v + q) = fnW T u p v q
def fnL (T : Nat → Nat) (u p : Nat) : Nat := lsi T u + lop T u p
def fnd (T Y : Nat → Nat) : Prop := ∀ v q, v < T 0 → q < 36 → Y (36 * v + q) = flp T v q 5
theorem fnS_step {T Y : Nat → Nat} {u p w : Nat} {r : Option Nat} (hk : okT T) (hu : u < T 0) (h : fnS T u p Y) (hr : r = st0 T u p) (hw : w = ten (T (120 + u)) (T (138 + u)) p) : fnS T u (p + 1) (fyY T Y u r w) := by
  subst hr hw
  intro v q hv hq
  have h1 : flp T u q (p + 1) = flp T u q p + (if pos T u p = some q then amt T u p else 0) := rfl
  have e : dnP T u (st0 T u p) = pos T u p := rfl
  cases hp : pos T u p with
  | none =>
    rw [fyY_n (e.trans hp), h v q hv hq]
    unfold fnW
    rw [h1, hp]
    simp
  | some a =>
    have ha : a < 36 := pos_lt (okT_at hk hu).2.1 hp
    rw [fyY_s (e.trans hp)]
    by_cases hx : v = u ∧ q = a
    · obtain ⟨rfl, rfl⟩ := hx
      rw [updN_s, h v q hv hq]
      unfold fnW
      rw [if_neg (Nat.lt_irrefl _), if_pos rfl, if_neg (Nat.lt_irrefl _), if_pos rfl, h1, hp, if_pos rfl]
      rfl
    · rw [updN_n _ (by omega), h v q hv hq]
      unfold fnW
      by_cases hvu : v = u
      · subst hvu
        rw [if_neg (Nat.lt_irrefl _), if_pos rfl, if_neg (Nat.lt_irrefl _), if_pos rfl, h1, hp, if_neg (fun z => hx ⟨rfl, (Option.some.inj z).symm⟩), Nat.add_zero]
      · rw [if_neg hvu, if_neg hvu]
theorem fnL_step {T : Nat → Nat} {u p w : Nat} {r : Option Nat} (hr : r = st0 T u p) (hw : w = ten (T (120 + u)) (T (138 + u)) p) : fyO T u r w (fnL T u p) = fnL T u (p + 1) := by
  subst hr hw
  have h1 : lop T u (p + 1) = lop T u p + (if pos T u p = none then amt T u p else 0) := rfl
  have e : dnP T u (st0 T u p) = pos T u p := rfl
  unfold fnL
  cases hp : pos T u p with
  | none => rw [fyO_n (e.trans hp), h1, hp, if_pos rfl, Nat.add_assoc]; rfl
  | some a => rw [fyO_s (e.trans hp), h1, hp]; simp
theorem fnS_next {T Y : Nat → Nat} {u : Nat} (h : fnS T u 5 Y) : fnS T (u + 1) 0 Y := by
  intro v q hv hq
  rw [h v q hv hq]
  unfold fnW
  by_cases h1 : v < u
  · rw [if_pos h1, if_pos (by omega)]
  · rw [if_neg h1]
    by_cases h2 : v = u
    · subst h2
      rw [if_pos rfl, if_pos (by omega)]
    · rw [if_neg h2, if_neg (by omega)]
      split
      · rename_i e; subst e; rfl
      · rfl
theorem fnL_next (T : Nat → Nat) (u : Nat) : fnL T u 5 = fnL T (u + 1) 0 := by unfold fnL; rw [show lop T (u + 1) 0 = 0 from rfl, Nat.add_zero]; rfl
theorem fnS_end {T Y : Nat → Nat} (h : fnS T (T 0) 0 Y) : fnd T Y := by
  intro v q hv hq
  rw [h v q hv hq]
  unfold fnW
  rw [if_pos hv]
theorem fnL_end (T : Nat → Nat) : fnL T (T 0) 0 = lsi T (T 0) := Nat.add_zero _
theorem fnS_0 {T Y : Nat → Nat} (h : ∀ k, k < T 0 * 36 → Y k = 0) : fnS T 0 0 Y := by
  intro v q hv hq
  rw [h _ (by omega)]
  unfold fnW
  rw [if_neg (Nat.not_lt_zero v)]
  split <;> rfl
set_option maxHeartbeats 4000000 in
theorem tx_find (l : Launch) (D : va_G) (b : Nat) (M0 : List va_E) {t : Nat} {T Y : Nat → Nat} {lo : Nat} (hV : tw_V D b M0 t T Y lo) (hk : okT T) : fb_CT l D b yX1_find cX1_find 4 (some (.object "FallsBetween$Town")) 4 98 0 0 [.ref (b + t)] M0 (.returned (some (.ref (b + t)))) (fun M' => (∃ Y' : Nat → Nat, fnd T Y' ∧ tw_V D b M' t T Y' (lsi T (T 0))) ∧ tw_F t M0 M') := by
  refine fb_start [some (.ref (b + t)), none, none, none] (by decide) (Nat.le_of_ble_eq_true rfl) rfl ?_
  intro x hl hD hb C E hx
  subst hl hD hb
  have C : fb_OK x cX1_find "FallsBetween$Town" "find" := C
  have hF := tw_F.rf t M0
  obtain ⟨k0, k1, k2, k3, k4, k5, k6, k7, k8⟩ := id hk
  refine gx_aload_n (q := 1) C dX1_find_0 rfl rfl rfl ?_
  refine gx_iconst (q := 2) (v := nI 0) C dX1_find_1 (by decide) rfl ?_
  refine tv_pf_X1_lost (q := 5) C hV hF dX1_find_2 rfl (fun M hV hF => ?_)
  refine gx_iconst (q := 6) (v := nI 0) C dX1_find_5 (by decide) rfl ?_
  refine gx_istore_n (q := 7) (lv' := [_, _, _, _]) C dX1_find_6 rfl (Nat.le_of_ble_eq_true rfl) E.2.2.2.symm rfl rfl rfl ?_
  have Lz : ∀ i, i ≤ T 0 * 36 → ∀ (M : List va_E) (Yc : Nat → Nat), tw_V (cx_D x) (cx_b x) M t T Yc 0 → tw_F t M0 M → (∀ k, k < i → Yc k = 0) → fb_G x M 0 0 7 [some (.ref (cx_b x + t)), some (.int (nI i)), none, none] [] := by
    refine fb_dn (T 0 * 36) ?_ ?_
    · intro M Yc hV hF hZ
      refine gx_iload_n (q := 8) C dX1_find_7 rfl rfl rfl ?_
      refine gx_aload_n (q := 9) C dX1_find_8 rfl rfl rfl ?_
      refine fg_X1_53 (q := 12) C hV.o rfl dX1_find_9 rfl ?_
      refine gx_bipush (q := 14) (v := nI 36) C dX1_find_12 (by decide) rfl ?_
      refine gn_imul (q := 15) C dX1_find_14 rfl ?_
      refine gn_icmp_ge (q := 18) (tgt := 31) C dX1_find_15 (by decide) rfl (by omega) (by omega) (fun c15 => ?_) (fun c15 => by exfalso; omega)
      refine gx_iconst (q := 32) (v := nI 0) C dX1_find_31 (by decide) rfl ?_
      refine gx_istore_n (q := 33) (lv' := [_, _, _, _]) C dX1_find_32 rfl (Nat.le_of_ble_eq_true rfl) E.2.2.2.symm rfl rfl rfl ?_
      have Lu : ∀ u, u ≤ T 0 → ∀ (M : List va_E) (Yc : Nat → Nat), tw_V (cx_D x) (cx_b x) M t T Yc (fnL T u 0) → tw_F t M0 M → fnS T u 0 Yc → fb_G x M 0 0 33 [some (.ref (cx_b x + t)), some (.int (nI u)), none, none] [] := by
        refine fb_dn (T 0) ?_ ?_
        · intro M Yc hV hF hS
          rw [fnL_end] at hV
          refine gx_iload_n (q := 34) C dX1_find_33 rfl rfl rfl ?_
          refine gx_aload_n (q := 35) C dX1_find_34 rfl rfl rfl ?_
          refine fg_X1_53 (q := 38) C hV.o rfl dX1_find_35 rfl ?_
          refine gn_icmp_ge (q := 41) (tgt := 98) C dX1_find_38 (by decide) rfl (by omega) (by omega) (fun c38 => ?_) (fun c38 => by exfalso; omega)
          refine gx_aload_n (q := 99) C dX1_find_98 rfl rfl rfl ?_
          exact gx_aret C E dX1_find_99 (⟨⟨Yc, fnS_end hS, hV⟩, hF⟩) (by omega) (by omega)
        · intro u hu ih M Yc hV hF hS
          have hkd := (k8 _ hu).1
          have hq := (k8 _ hu).2.1
          have hle : T (138 + u) < 4 := by have := (k8 _ hu).2.2.2.2; omega
          refine gx_iload_n (q := 34) C dX1_find_33 rfl rfl rfl ?_
          refine gx_aload_n (q := 35) C dX1_find_34 rfl rfl rfl ?_
          refine fg_X1_53 (q := 38) C hV.o rfl dX1_find_35 rfl ?_
          refine gn_icmp_ge (q := 41) (tgt := 98) C dX1_find_38 (by decide) rfl (by omega) (by omega) (fun c38 => by exfalso; omega) (fun c38 => ?_)
          refine gx_aload_n (q := 42) C dX1_find_41 rfl rfl rfl ?_
          refine fg_X1_43 (q := 45) C hV.o rfl dX1_find_42 rfl ?_
          refine gx_iload_n (q := 46) C dX1_find_45 rfl rfl rfl ?_
          refine tv_tree (q := 47) C hV (by omega) (by omega) dX1_find_46 rfl (fun jt hjt hj54 => ?_)
          have hj0 : M0[jt]? = some (tw_E T u) := by rw [← hF.2 jt (by have := hV.le; omega)]; exact hjt
          refine gx_astore_n (q := 48) (lv' := [_, _, _, _]) C dX1_find_47 rfl (Nat.le_of_ble_eq_true rfl) E.2.2.2.symm rfl rfl rfl ?_
          refine gx_aload_n (q := 49) C dX1_find_48 rfl rfl rfl ?_
          refine gx_iload_n (q := 50) C dX1_find_49 rfl rfl rfl ?_
          refine gx_aload_n (q := 51) C dX1_find_50 rfl rfl rfl ?_
          refine gf_X1_square (q := 54) C hjt hkd dX1_find_51 rfl ?_
          refine gx_aload_n (q := 55) C dX1_find_54 rfl rfl rfl ?_
          refine gv_own (q := 58) C E hjt hkd (by decide) (by decide) (Nat.le_of_ble_eq_true rfl) (by omega) (by omega) dX1_find_55 rfl ?_
          refine gx_cv (q := 61) C E (sx_X1_108 (As := [_, _, _]) C hV.o rfl rfl dX1_find_58) (tx_falls _ _ _ _ u (some (T (126 + u))) _ hu (fun z h => by cases h; exact hq) hV hk) kw_X1_falls (by decide) (Nat.le_of_ble_eq_true rfl) rfl rfl (by omega) (by omega) dX1_find_58 rfl (fun M r58 => ?_)
          obtain ⟨hV, hG⟩ := r58
          have hF := hF.tr hG
          have hS := fnS_step hk hu hS (r := some (T (126 + u))) (by simp [st0]) rfl
          rw [fnL_step (r := some (T (126 + u))) (by simp [st0]) rfl] at hV
          refine gx_iconst (q := 62) (v := nI 0) C dX1_find_61 (by decide) rfl ?_
          refine gx_istore_n (q := 63) (lv' := [_, _, _, _]) C dX1_find_62 rfl (Nat.le_of_ble_eq_true rfl) E.2.2.2.symm rfl rfl rfl ?_
          have Ls : ∀ i, i ≤ 4 → ∀ (M : List va_E) (Yc : Nat → Nat), tw_V (cx_D x) (cx_b x) M t T Yc (fnL T u (i + 1)) → tw_F t M0 M → fnS T u (i + 1) Yc → fb_G x M 0 0 63 [some (.ref (cx_b x + t)), some (.int (nI u)), some (.ref (cx_b x + jt)), some (.int (nI i))] [] := by
            refine fb_dn 4 ?_ ?_
            · intro M Yc hV hF hS
              refine gx_iload_n (q := 64) C dX1_find_63 rfl rfl rfl ?_
              refine gx_iconst (q := 65) (v := nI 4) C dX1_find_64 (by decide) rfl ?_
              refine gn_icmp_ge (q := 68) (tgt := 92) C dX1_find_65 (by decide) rfl (by omega) (by omega) (fun c65 => ?_) (fun c65 => by exfalso; omega)
              refine gn_inc (q := 95) (lv' := [_, _, _, _]) C dX1_find_92 rfl E.2.2.2.symm rfl rfl rfl ?_
              refine gx_goto (tgt := 33) C dX1_find_95 (by decide) ?_
              refine gx_drop 2 ?_
              refine gx_drop 3 ?_
              rw [fnL_next] at hV
              exact ih M Yc hV hF (fnS_next hS)
            · intro i hi ihs M Yc hV hF hS
              have hjt : M[jt]? = some (tw_E T u) := by rw [hF.2 jt (by have := hV.le; omega)]; exact hj0
              refine gx_iload_n (q := 64) C dX1_find_63 rfl rfl rfl ?_
              refine gx_iconst (q := 65) (v := nI 4) C dX1_find_64 (by decide) rfl ?_
              refine gn_icmp_ge (q := 68) (tgt := 92) C dX1_find_65 (by decide) rfl (by omega) (by omega) (fun c65 => by exfalso; omega) (fun c65 => ?_)
              refine gx_aload_n (q := 69) C dX1_find_68 rfl rfl rfl ?_
              refine gx_iload_n (q := 70) C dX1_find_69 rfl rfl rfl ?_
              refine gx_aload_n (q := 71) C dX1_find_70 rfl rfl rfl ?_
              refine gf_X1_square (q := 74) C hjt hkd dX1_find_71 rfl ?_
              refine gx_iload_n (q := 75) C dX1_find_74 rfl rfl rfl ?_
              refine gx_cp (q := 78) C E (sx_X1_79 (As := [_, _]) C rfl rfl dX1_find_75) (fx_beside _ _ _ _ (T (126 + u)) i hq (by omega)) kw_X0_beside (by decide) (Nat.le_of_ble_eq_true rfl) (by omega) (by omega) dX1_find_75 rfl ?_
              refine gx_aload_n (q := 79) C dX1_find_78 rfl rfl rfl ?_
              refine gx_iload_n (q := 80) C dX1_find_79 rfl rfl rfl ?_
              refine gv_side (q := 83) C E hjt hkd hi hle (by decide) (by decide) (Nat.le_of_ble_eq_true rfl) (by omega) (by omega) dX1_find_80 rfl ?_
              refine gx_cv (q := 86) C E (sx_X1_108 (As := [_, _, _]) C hV.o rfl rfl dX1_find_83) (tx_falls _ _ _ _ u (bes (T (126 + u)) i 1) _ hu (fun z h => bes_lt hq h) hV hk) kw_X1_falls (by decide) (Nat.le_of_ble_eq_true rfl) rfl rfl (by omega) (by omega) dX1_find_83 rfl (fun M r83 => ?_)
              obtain ⟨hV, hG⟩ := r83
              have hF := hF.tr hG
              have hS := fnS_step hk hu hS (r := bes (T (126 + u)) i 1) (by simp [st0]) rfl
              rw [fnL_step (r := bes (T (126 + u)) i 1) (by simp [st0]) rfl] at hV
              refine gn_inc (q := 89) (lv' := [_, _, _, _]) C dX1_find_86 rfl E.2.2.2.symm rfl rfl rfl ?_
              refine gx_goto (tgt := 63) C dX1_find_89 (by decide) ?_
              exact ihs M _ hV hF hS
          exact Ls 0 (by omega) M _ hV hF hS
      exact Lu 0 (by omega) M Yc (by rw [show fnL T 0 0 = 0 from rfl]; exact hV) hF (fnS_0 hZ)
    · intro i hi ih M Yc hV hF hZ
      refine gx_iload_n (q := 8) C dX1_find_7 rfl rfl rfl ?_
      refine gx_aload_n (q := 9) C dX1_find_8 rfl rfl rfl ?_
      refine fg_X1_53 (q := 12) C hV.o rfl dX1_find_9 rfl ?_
      refine gx_bipush (q := 14) (v := nI 36) C dX1_find_12 (by decide) rfl ?_
      refine gn_imul (q := 15) C dX1_find_14 rfl ?_
      refine gn_icmp_ge (q := 18) (tgt := 31) C dX1_find_15 (by decide) rfl (by omega) (by omega) (fun c15 => by exfalso; omega) (fun c15 => ?_)
      refine gx_aload_n (q := 19) C dX1_find_18 rfl rfl rfl ?_
      refine fg_X1_50 (q := 22) C hV.o rfl dX1_find_19 rfl ?_
      refine gx_iload_n (q := 23) C dX1_find_22 rfl rfl rfl ?_
      refine gx_iconst (q := 24) (v := nI 0) C dX1_find_23 (by decide) rfl ?_
      refine tv_st_lies (q := 25) C hV hF (by omega) dX1_find_24 rfl (fun M hV hF => ?_)
      refine gn_inc (q := 28) (lv' := [_, _, _, _]) C dX1_find_25 rfl E.2.2.2.symm rfl rfl rfl ?_
      refine gx_goto (tgt := 7) C dX1_find_28 (by decide) ?_
      exact ih M _ hV hF (fun k hk2 => by by_cases e : k = i; rw [e, updN_s]; rw [updN_n _ e]; exact hZ k (by omega))
  exact Lz 0 (by omega) M Y hV hF (fun k hk2 => absurd hk2 (Nat.not_lt_zero k))
def lyY (T Y : Nat → Nat) (q : Nat) : Nat := sumN (fun u => Y (36 * u + q)) (T 0)
theorem lyY_f {T Y : Nat → Nat} (h : fnd T Y) {q : Nat} (hq : q < 36) : lyY T Y q = lyT T q := sumN_congr (T 0) fun u hu => h u q hu hq
set_option maxHeartbeats 4000000 in
theorem tx_liesIn (l : Launch) (D : va_G) (b : Nat) (M : List va_E) {t : Nat} {T Y : Nat → Nat} {lo : Nat} (q : Nat) (hq : q < 36) (hV : tw_V D b M t T Y lo) (hk : okT T) : fb_CT l D b yX1_liesIn cX1_liesIn 4 (some .int) 0 0 0 0 [.ref (b + t), .int (nI q)] M (.returned (some (.int (nI (lyY T Y q))))) (fun M' => M' = M) := by
  refine fb_start [some (.ref (b + t)), some (.int (nI q)), none, none] (by decide) (Nat.le_of_ble_eq_true rfl) rfl ?_
  intro x hl hD hb C E hx
  subst hl hD hb
  have C : fb_OK x cX1_liesIn "FallsBetween$Town" "liesIn" := C
  obtain ⟨k0, k1, k2, k3, k4, k5, k6, k7, k8⟩ := id hk
  refine gx_iconst (q := 1) (v := nI 0) C dX1_liesIn_0 (by decide) rfl ?_
  refine gx_istore_n (q := 2) (lv' := [_, _, _, _]) C dX1_liesIn_1 rfl (Nat.le_of_ble_eq_true rfl) E.2.2.2.symm rfl rfl rfl ?_
  refine gx_iconst (q := 3) (v := nI 0) C dX1_liesIn_2 (by decide) rfl ?_
  refine gx_istore_n (q := 4) (lv' := [_, _, _, _]) C dX1_liesIn_3 rfl (Nat.le_of_ble_eq_true rfl) E.2.2.2.symm rfl rfl rfl ?_
  have Lp : ∀ i, i ≤ T 0 → fb_G x M 0 0 4 [some (.ref (cx_b x + t)), some (.int (nI q)), some (.int (nI (sumN (fun u => Y (36 * u + q)) i))), some (.int (nI i))] [] := by
    refine fb_dn (T 0) ?_ ?_
    · skip
      refine gx_iload_n (q := 5) C dX1_liesIn_4 rfl rfl rfl ?_
      refine gx_aload_n (q := 6) C dX1_liesIn_5 rfl rfl rfl ?_
      refine fg_X1_53 (q := 9) C hV.o rfl dX1_liesIn_6 rfl ?_
      refine gn_icmp_ge (q := 12) (tgt := 32) C dX1_liesIn_9 (by decide) rfl (by omega) (by omega) (fun c9 => ?_) (fun c9 => by exfalso; omega)
      refine gx_iload_n (q := 33) C dX1_liesIn_32 rfl rfl rfl ?_
      exact gx_iret C E dX1_liesIn_33 (rfl) (by omega) (by omega)
    · intro i hi ih
      refine gx_iload_n (q := 5) C dX1_liesIn_4 rfl rfl rfl ?_
      refine gx_aload_n (q := 6) C dX1_liesIn_5 rfl rfl rfl ?_
      refine fg_X1_53 (q := 9) C hV.o rfl dX1_liesIn_6 rfl ?_
      refine gn_icmp_ge (q := 12) (tgt := 32) C dX1_liesIn_9 (by decide) rfl (by omega) (by omega) (fun c9 => by exfalso; omega) (fun c9 => ?_)
      refine gx_iload_n (q := 13) C dX1_liesIn_12 rfl rfl rfl ?_
      refine gx_aload_n (q := 14) C dX1_liesIn_13 rfl rfl rfl ?_
      refine fg_X1_50 (q := 17) C hV.o rfl dX1_liesIn_14 rfl ?_
      refine gx_bipush (q := 19) (v := nI 36) C dX1_liesIn_17 (by decide) rfl ?_
      refine gx_iload_n (q := 20) C dX1_liesIn_19 rfl rfl rfl ?_
      refine gn_imul (q := 21) C dX1_liesIn_20 rfl ?_
      refine gx_iload_n (q := 22) C dX1_liesIn_21 rfl rfl rfl ?_
      refine gn_iadd (q := 23) C dX1_liesIn_22 rfl ?_
      refine tv_ld_lies (q := 24) C hV (sl36 (by omega) hq) dX1_liesIn_23 rfl ?_
      refine gn_iadd (q := 25) C dX1_liesIn_24 rfl ?_
      refine gx_istore_n (q := 26) (lv' := [_, _, _, _]) C dX1_liesIn_25 rfl (Nat.le_of_ble_eq_true rfl) E.2.2.2.symm rfl rfl rfl ?_
      refine gn_inc (q := 29) (lv' := [_, _, _, _]) C dX1_liesIn_26 rfl E.2.2.2.symm rfl rfl rfl ?_
      refine gx_goto (tgt := 4) C dX1_liesIn_29 (by decide) ?_
      exact ih
  exact Lp 0 (by omega)
set_option maxHeartbeats 4000000 in
theorem tx_share (l : Launch) (D : va_G) (b : Nat) (M : List va_E) {t : Nat} {T Y : Nat → Nat} {lo : Nat} (g : Nat) (hg : g < 2 ^ 31) (hV : tw_V D b M t T Y lo) (hk : okT T) : fb_CT l D b yX1_share cX1_share 4 (some .int) 5 118 0 0 [.ref (b + t), .int (nI g)] M (.returned (some (.int (nI (shL T (lyY T Y) g 36))))) (fun M' => M' = M) := by
  refine fb_start [some (.ref (b + t)), some (.int (nI g)), none, none] (by decide) (Nat.le_of_ble_eq_true rfl) rfl ?_
  intro x hl hD hb C E hx
  subst hl hD hb
  have C : fb_OK x cX1_share "FallsBetween$Town" "share" := C
  obtain ⟨k0, k1, k2, k3, k4, k5, k6, k7, k8⟩ := id hk
  refine gx_iconst (q := 1) (v := nI 0) C dX1_share_0 (by decide) rfl ?_
  refine gx_istore_n (q := 2) (lv' := [_, _, _, _]) C dX1_share_1 rfl (Nat.le_of_ble_eq_true rfl) E.2.2.2.symm rfl rfl rfl ?_
  refine gx_iconst (q := 3) (v := nI 0) C dX1_share_2 (by decide) rfl ?_
  refine gx_istore_n (q := 4) (lv' := [_, _, _, _]) C dX1_share_3 rfl (Nat.le_of_ble_eq_true rfl) E.2.2.2.symm rfl rfl rfl ?_
  have Lp : ∀ i, i ≤ 36 → fb_G x M 0 0 4 [some (.ref (cx_b x + t)), some (.int (nI g)), some (.int (nI (shL T (lyY T Y) g i))), some (.int (nI i))] [] := by
    refine fb_dn 36 ?_ ?_
    · skip
      refine gx_iload_n (q := 5) C dX1_share_4 rfl rfl rfl ?_
      refine gx_bipush (q := 7) (v := nI 36) C dX1_share_5 (by decide) rfl ?_
      refine gn_icmp_ge (q := 10) (tgt := 46) C dX1_share_7 (by decide) rfl (by omega) (by omega) (fun c7 => ?_) (fun c7 => by exfalso; omega)
      refine gx_iload_n (q := 47) C dX1_share_46 rfl rfl rfl ?_
      exact gx_iret C E dX1_share_47 (rfl) (by omega) (by omega)
    · intro i hi ih
      refine gx_iload_n (q := 5) C dX1_share_4 rfl rfl rfl ?_
      refine gx_bipush (q := 7) (v := nI 36) C dX1_share_5 (by decide) rfl ?_
      refine gn_icmp_ge (q := 10) (tgt := 46) C dX1_share_7 (by decide) rfl (by omega) (by omega) (fun c7 => by exfalso; omega) (fun c7 => ?_)
      refine gx_iload_n (q := 11) C dX1_share_10 rfl rfl rfl ?_
      refine gx_aload_n (q := 12) C dX1_share_11 rfl rfl rfl ?_
      refine fg_X1_30 (q := 15) C hV.o rfl dX1_share_12 rfl ?_
      refine gx_iload_n (q := 16) C dX1_share_15 rfl rfl rfl ?_
      refine tv_ld_gardens (q := 17) C hV (by omega) dX1_share_16 rfl ?_
      refine gx_iload_n (q := 18) C dX1_share_17 rfl rfl rfl ?_
      refine gn_icmp_ne (q := 21) (tgt := 37) C dX1_share_18 (by decide) rfl (by have := k5 _ hi; omega) (by omega) (fun c18 => ?_) (fun c18 => ?_)
      · rw [shL_s2 c18] at ih
        refine gx_iconst (q := 38) (v := nI 0) C dX1_share_37 (by decide) rfl ?_
        refine gn_iadd (q := 39) C dX1_share_38 rfl ?_
        refine gx_istore_n (q := 40) (lv' := [_, _, _, _]) C dX1_share_39 rfl (Nat.le_of_ble_eq_true rfl) E.2.2.2.symm rfl rfl rfl ?_
        refine gn_inc (q := 43) (lv' := [_, _, _, _]) C dX1_share_40 rfl E.2.2.2.symm rfl rfl rfl ?_
        refine gx_goto (tgt := 4) C dX1_share_43 (by decide) ?_
        exact ih
      · refine gx_aload_n (q := 22) C dX1_share_21 rfl rfl rfl ?_
        refine gx_iload_n (q := 23) C dX1_share_22 rfl rfl rfl ?_
        refine gx_cp (q := 26) C E (sx_X1_115 (As := [_]) C hV.o rfl rfl dX1_share_23) (tx_isNobodys _ _ _ _ i hi hV hk) kw_X1_isNobodys (by decide) (Nat.le_of_ble_eq_true rfl) (by omega) (by omega) dX1_share_23 rfl ?_
        refine gb_if_ne (q := 29) (tgt := 37) C dX1_share_26 (by decide) rfl (fun c26 => ?_) (fun c26 => ?_)
        · rw [shL_s3 c26] at ih
          refine gx_iconst (q := 38) (v := nI 0) C dX1_share_37 (by decide) rfl ?_
          refine gn_iadd (q := 39) C dX1_share_38 rfl ?_
          refine gx_istore_n (q := 40) (lv' := [_, _, _, _]) C dX1_share_39 rfl (Nat.le_of_ble_eq_true rfl) E.2.2.2.symm rfl rfl rfl ?_
          refine gn_inc (q := 43) (lv' := [_, _, _, _]) C dX1_share_40 rfl E.2.2.2.symm rfl rfl rfl ?_
          refine gx_goto (tgt := 4) C dX1_share_43 (by decide) ?_
          exact ih
        · rw [shL_s1 c18 c26] at ih
          refine gx_aload_n (q := 30) C dX1_share_29 rfl rfl rfl ?_
          refine gx_iload_n (q := 31) C dX1_share_30 rfl rfl rfl ?_
          refine gx_cp (q := 34) C E (sx_X1_118 (As := [_]) C hV.o rfl rfl dX1_share_31) (tx_liesIn _ _ _ _ i hi hV hk) kw_X1_liesIn (by decide) (Nat.le_of_ble_eq_true rfl) (by omega) (by omega) dX1_share_31 rfl ?_
          refine gx_goto (tgt := 38) C dX1_share_34 (by decide) ?_
          refine gn_iadd (q := 39) C dX1_share_38 rfl ?_
          refine gx_istore_n (q := 40) (lv' := [_, _, _, _]) C dX1_share_39 rfl (Nat.le_of_ble_eq_true rfl) E.2.2.2.symm rfl rfl rfl ?_
          refine gn_inc (q := 43) (lv' := [_, _, _, _]) C dX1_share_40 rfl E.2.2.2.symm rfl rfl rfl ?_
          refine gx_goto (tgt := 4) C dX1_share_43 (by decide) ?_
          exact ih
  exact Lp 0 (by omega)
set_option maxHeartbeats 4000000 in
theorem tx_birds (l : Launch) (D : va_G) (b : Nat) (M : List va_E) {t : Nat} {T Y : Nat → Nat} {lo : Nat} (hV : tw_V D b M t T Y lo) (hk : okT T) : fb_CT l D b yX1_birds cX1_birds 3 (some .int) 5 118 0 0 [.ref (b + t)] M (.returned (some (.int (nI (bdL T (lyY T Y) 36))))) (fun M' => M' = M) := by
  refine fb_start [some (.ref (b + t)), none, none] (by decide) (Nat.le_of_ble_eq_true rfl) rfl ?_
  intro x hl hD hb C E hx
  subst hl hD hb
  have C : fb_OK x cX1_birds "FallsBetween$Town" "birds" := C
  obtain ⟨k0, k1, k2, k3, k4, k5, k6, k7, k8⟩ := id hk
  refine gx_iconst (q := 1) (v := nI 0) C dX1_birds_0 (by decide) rfl ?_
  refine gx_istore_n (q := 2) (lv' := [_, _, _]) C dX1_birds_1 rfl (Nat.le_of_ble_eq_true rfl) E.2.2.2.symm rfl rfl rfl ?_
  refine gx_iconst (q := 3) (v := nI 0) C dX1_birds_2 (by decide) rfl ?_
  refine gx_istore_n (q := 4) (lv' := [_, _, _]) C dX1_birds_3 rfl (Nat.le_of_ble_eq_true rfl) E.2.2.2.symm rfl rfl rfl ?_
  have Lp : ∀ i, i ≤ 36 → fb_G x M 0 0 4 [some (.ref (cx_b x + t)), some (.int (nI (bdL T (lyY T Y) i))), some (.int (nI i))] [] := by
    refine fb_dn 36 ?_ ?_
    · skip
      refine gx_iload_n (q := 5) C dX1_birds_4 rfl rfl rfl ?_
      refine gx_bipush (q := 7) (v := nI 36) C dX1_birds_5 (by decide) rfl ?_
      refine gn_icmp_ge (q := 10) (tgt := 36) C dX1_birds_7 (by decide) rfl (by omega) (by omega) (fun c7 => ?_) (fun c7 => by exfalso; omega)
      refine gx_iload_n (q := 37) C dX1_birds_36 rfl rfl rfl ?_
      exact gx_iret C E dX1_birds_37 (rfl) (by omega) (by omega)
    · intro i hi ih
      refine gx_iload_n (q := 5) C dX1_birds_4 rfl rfl rfl ?_
      refine gx_bipush (q := 7) (v := nI 36) C dX1_birds_5 (by decide) rfl ?_
      refine gn_icmp_ge (q := 10) (tgt := 36) C dX1_birds_7 (by decide) rfl (by omega) (by omega) (fun c7 => by exfalso; omega) (fun c7 => ?_)
      refine gx_iload_n (q := 11) C dX1_birds_10 rfl rfl rfl ?_
      refine gx_aload_n (q := 12) C dX1_birds_11 rfl rfl rfl ?_
      refine gx_iload_n (q := 13) C dX1_birds_12 rfl rfl rfl ?_
      refine gx_cp (q := 16) C E (sx_X1_115 (As := [_]) C hV.o rfl rfl dX1_birds_13) (tx_isNobodys _ _ _ _ i hi hV hk) kw_X1_isNobodys (by decide) (Nat.le_of_ble_eq_true rfl) (by omega) (by omega) dX1_birds_13 rfl ?_
      refine gb_if_eq (q := 19) (tgt := 27) C dX1_birds_16 (by decide) rfl (fun c16 => ?_) (fun c16 => ?_)
      · rw [bdL_s2 c16] at ih
        refine gx_iconst (q := 28) (v := nI 0) C dX1_birds_27 (by decide) rfl ?_
        refine gn_iadd (q := 29) C dX1_birds_28 rfl ?_
        refine gx_istore_n (q := 30) (lv' := [_, _, _]) C dX1_birds_29 rfl (Nat.le_of_ble_eq_true rfl) E.2.2.2.symm rfl rfl rfl ?_
        refine gn_inc (q := 33) (lv' := [_, _, _]) C dX1_birds_30 rfl E.2.2.2.symm rfl rfl rfl ?_
        refine gx_goto (tgt := 4) C dX1_birds_33 (by decide) ?_
        exact ih
      · rw [bdL_s1 c16] at ih
        refine gx_aload_n (q := 20) C dX1_birds_19 rfl rfl rfl ?_
        refine gx_iload_n (q := 21) C dX1_birds_20 rfl rfl rfl ?_
        refine gx_cp (q := 24) C E (sx_X1_118 (As := [_]) C hV.o rfl rfl dX1_birds_21) (tx_liesIn _ _ _ _ i hi hV hk) kw_X1_liesIn (by decide) (Nat.le_of_ble_eq_true rfl) (by omega) (by omega) dX1_birds_21 rfl ?_
        refine gx_goto (tgt := 28) C dX1_birds_24 (by decide) ?_
        refine gn_iadd (q := 29) C dX1_birds_28 rfl ?_
        refine gx_istore_n (q := 30) (lv' := [_, _, _]) C dX1_birds_29 rfl (Nat.le_of_ble_eq_true rfl) E.2.2.2.symm rfl rfl rfl ?_
        refine gn_inc (q := 33) (lv' := [_, _, _]) C dX1_birds_30 rfl E.2.2.2.symm rfl rfl rfl ?_
        refine gx_goto (tgt := 4) C dX1_birds_33 (by decide) ?_
        exact ih
  exact Lp 0 (by omega)
set_option maxHeartbeats 4000000 in
theorem tx_draw (l : Launch) (D : va_G) (b : Nat) (M0 : List va_E) {t : Nat} {T Y : Nat → Nat} {lo : Nat} (c : Nat) (hc : c < 2 ^ 31) (hV : tw_V D b M0 t T Y lo) : fb_CT l D b yX1_draw cX1_draw 3 none 0 0 0 0 [.ref (b + t), .int (nI c)] M0 (.returned none) (fun M' => tw_V D b M' t (drT T c) Y lo ∧ tw_F t M0 M') := by
  refine fb_start [some (.ref (b + t)), some (.int (nI c)), none] (by decide) (Nat.le_of_ble_eq_true rfl) rfl ?_
  intro x hl hD hb C E hx
  subst hl hD hb
  have C : fb_OK x cX1_draw "FallsBetween$Town" "draw" := C
  have hF := tw_F.rf t M0
  refine gx_iconst (q := 1) (v := nI 0) C dX1_draw_0 (by decide) rfl ?_
  refine gx_istore_n (q := 2) (lv' := [_, _, _]) C dX1_draw_1 rfl (Nat.le_of_ble_eq_true rfl) E.2.2.2.symm rfl rfl rfl ?_
  have Li : ∀ i, i ≤ 36 → ∀ (M : List va_E) (U : Nat → Nat), tw_V (cx_D x) (cx_b x) M t U Y lo → tw_F t M0 M → (∀ j, (j < 12 ∨ 48 ≤ j) → U j = T j) → (∀ j, j < i → U (12 + j) = if j % 6 < c then 0 else 1) → fb_G x M 0 0 2 [some (.ref (cx_b x + t)), some (.int (nI c)), some (.int (nI i))] [] := by
    refine fb_dn 36 ?_ ?_
    · intro M U hV hF hU hW
      have hUT : U = drT T c := funext fun i => drT_in hU hW i
      rw [hUT] at hV
      refine gx_iload_n (q := 3) C dX1_draw_2 rfl rfl rfl ?_
      refine gx_bipush (q := 5) (v := nI 36) C dX1_draw_3 (by decide) rfl ?_
      refine gn_icmp_ge (q := 8) (tgt := 33) C dX1_draw_5 (by decide) rfl (by omega) (by omega) (fun c5 => ?_) (fun c5 => by exfalso; omega)
      exact gx_vret C E dX1_draw_33 (⟨hV, hF⟩) (by omega) (by omega)
    · intro i hi ihi M U hV hF hU hW
      refine gx_iload_n (q := 3) C dX1_draw_2 rfl rfl rfl ?_
      refine gx_bipush (q := 5) (v := nI 36) C dX1_draw_3 (by decide) rfl ?_
      refine gn_icmp_ge (q := 8) (tgt := 33) C dX1_draw_5 (by decide) rfl (by omega) (by omega) (fun c5 => by exfalso; omega) (fun c5 => ?_)
      refine gx_aload_n (q := 9) C dX1_draw_8 rfl rfl rfl ?_
      refine fg_X1_30 (q := 12) C hV.o rfl dX1_draw_9 rfl ?_
      refine gx_iload_n (q := 13) C dX1_draw_12 rfl rfl rfl ?_
      refine gx_iload_n (q := 14) C dX1_draw_13 rfl rfl rfl ?_
      refine gx_bipush (q := 16) (v := nI 6) C dX1_draw_14 (by decide) rfl ?_
      refine gn_irem (q := 17) C dX1_draw_16 (by omega) (by omega) (by omega) rfl ?_
      refine gx_iload_n (q := 18) C dX1_draw_17 rfl rfl rfl ?_
      refine gn_icmp_ge (q := 21) (tgt := 25) C dX1_draw_18 (by decide) rfl (by omega) (by omega) (fun c18 => ?_) (fun c18 => ?_)
      · refine gx_iconst (q := 26) (v := nI 1) C dX1_draw_25 (by decide) rfl ?_
        refine tv_st_gardens (q := 27) C hV hF (by omega) dX1_draw_26 rfl (fun M hV hF => ?_)
        have hW2 : ∀ j, j < i + 1 → updN U (12 + i) 1 (12 + j) = if j % 6 < c then 0 else 1 := by
          intro j hj
          by_cases e : j = i
          · subst e; rw [updN_s]; first | rw [if_pos (by omega)] | rw [if_neg (by omega)]
          · rw [updN_n _ (by omega)]; exact hW j (by omega)
        refine gn_inc (q := 30) (lv' := [_, _, _]) C dX1_draw_27 rfl E.2.2.2.symm rfl rfl rfl ?_
        refine gx_goto (tgt := 2) C dX1_draw_30 (by decide) ?_
        exact ihi M _ hV hF (fun j hj => by rw [updN_n _ (by omega)]; exact hU j hj) hW2
      · refine gx_iconst (q := 22) (v := nI 0) C dX1_draw_21 (by decide) rfl ?_
        refine gx_goto (tgt := 26) C dX1_draw_22 (by decide) ?_
        refine tv_st_gardens (q := 27) C hV hF (by omega) dX1_draw_26 rfl (fun M hV hF => ?_)
        have hW2 : ∀ j, j < i + 1 → updN U (12 + i) 0 (12 + j) = if j % 6 < c then 0 else 1 := by
          intro j hj
          by_cases e : j = i
          · subst e; rw [updN_s]; first | rw [if_pos (by omega)] | rw [if_neg (by omega)]
          · rw [updN_n _ (by omega)]; exact hW j (by omega)
        refine gn_inc (q := 30) (lv' := [_, _, _]) C dX1_draw_27 rfl E.2.2.2.symm rfl rfl rfl ?_
        refine gx_goto (tgt := 2) C dX1_draw_30 (by decide) ?_
        exact ihi M _ hV hF (fun j hj => by rw [updN_n _ (by omega)]; exact hU j hj) hW2
  exact Li 0 (by omega) M0 T hV hF (fun _ _ => rfl) (fun j hj => absurd hj (Nat.not_lt_zero j))
