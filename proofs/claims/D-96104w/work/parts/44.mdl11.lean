/-! the reference: the town told -/
set_option maxRecDepth 100000
theorem fb_up {P : Nat → Prop} (h0 : P 0) (hs : ∀ k, P k → P (k + 1)) : ∀ k, P k := fun k => by
  induction k with
  | zero => exact h0
  | succ k ih => exact hs k ih
theorem fb_li {α : Type} {P : List α → Prop} (h0 : P []) (hs : ∀ p l, P l → P (p :: l)) : ∀ l, P l := fun l => by
  induction l with
  | nil => exact h0
  | cons p l ih => exact hs p l ih
theorem psE_ne {P : Nat → Nat} {n k a : Nat} : ¬ psE P n k a = .ok [] := by
  cases k with
  | zero => intro h; cases h
  | succ k =>
    intro h
    cases hS : stE P n a with
    | error e => rw [psE_e hS] at h; cases h
    | ok p =>
      obtain ⟨t, a'⟩ := p
      by_cases h2 : a' < n
      · rw [psE_m hS h2] at h
        cases hp : psE P n k a' with
        | error e => rw [hp] at h; cases h
        | ok l => rw [hp] at h; cases h
      · rw [psE_l hS (by omega)] at h; cases h
theorem psE_c {P : Nat → Nat} {n k a : Nat} {p : Nat × tld} {l : List (Nat × tld)} (h : psE P n k a = .ok (p :: l)) : ∃ t a', stE P n a = .ok (t, a') ∧ p = (a, t) ∧ (l = [] ∧ n ≤ a' ∨ ∃ k', psE P n k' a' = .ok l) := by
  cases k with
  | zero => cases h
  | succ k =>
    cases hS : stE P n a with
    | error e => rw [psE_e hS] at h; cases h
    | ok z =>
      obtain ⟨t, a'⟩ := z
      refine ⟨t, a', rfl, ?_⟩
      by_cases h2 : a' < n
      · rw [psE_m hS h2] at h
        cases hp : psE P n k a' with
        | error e => rw [hp] at h; cases h
        | ok l' => rw [hp] at h; cases h; exact ⟨rfl, Or.inr ⟨k, hp⟩⟩
      · rw [psE_l hS (by omega)] at h; cases h; exact ⟨rfl, Or.inl ⟨rfl, by omega⟩⟩
theorem psE_me {P : Nat → Nat} {n k a a' e : Nat} {t : tld} (hS : stE P n a = .ok (t, a')) (h2 : a' < n) (h : psE P n (k + 1) a = .error e) : psE P n k a' = .error e := by
  rw [psE_m hS h2] at h
  cases hp : psE P n k a' with
  | error e' => rw [hp] at h; cases h; rfl
  | ok l' => rw [hp] at h; cases h
theorem psE_mo {P : Nat → Nat} {n k a a' : Nat} {t : tld} {l : List (Nat × tld)} (hS : stE P n a = .ok (t, a')) (h2 : a' < n) (h : psE P n (k + 1) a = .ok l) : ∃ l', psE P n k a' = .ok l' ∧ l.length = l'.length + 1 := by
  rw [psE_m hS h2] at h
  cases hp : psE P n k a' with
  | error e' => rw [hp] at h; cases h
  | ok l' => rw [hp] at h; cases h; exact ⟨l', rfl, rfl⟩
theorem apE_t {t : tld} {T : Nat → Nat} {a : Nat} {l : List (Nat × tld)} (h : muS t.s (fl4 t) T = true) : apE ((a, t) :: l) T = apE l (coT t.s (fl4 t) T) := by simp [apE, cmE, h]
theorem apE_f {t : tld} {T : Nat → Nat} {a : Nat} {l : List (Nat × tld)} (h : muS t.s (fl4 t) T = false) : apE ((a, t) :: l) T = .error a := by simp [apE, cmE, h]
set_option maxHeartbeats 4000000 in
theorem md_read_e (l : Launch) (D : va_G) (b : Nat) (M0 : List va_E) {R T Ti Bf P F L Rw : Nat → Nat} {kp we : Bool} {td aa so lo ro : Nat} (h64 : td ≤ 64) (hP : ∀ i, i < td → P i < 256) {e : Nat} (h : psE P td 65 0 = .error e) (hV : md_V D b M0 R T Ti Bf P F L Rw kp td aa we so lo ro) (hk : okT T) : fb_CT l D b yX7_read cX7_read 3 (some .int) 2 46 0 0 [.ref (b + 43)] M0 (.returned (some (.int (-1000 - nI e)))) (fun M' => md_P D b M' R T Ti P Rw kp td ro ∧ md_F M0 M') := by
  refine fb_start [some (.ref (b + 43)), none, none] (by decide) (Nat.le_of_ble_eq_true rfl) rfl ?_
  intro x hl hD hb C E hx
  subst hl hD hb
  have C : fb_OK x cX7_read "FallsBetweenModel" "read" := C
  have hF := md_F.rf M0
  refine gx_iconst (q := 1) (v := nI 0) C dX7_read_0 (by decide) rfl ?_
  refine gx_istore_n (q := 2) (lv' := [_, _, _]) C dX7_read_1 rfl (Nat.le_of_ble_eq_true rfl) E.2.2.2.symm rfl rfl rfl ?_
  refine gx_aload_n (q := 3) C dX7_read_2 rfl rfl rfl ?_
  refine gx_iconst (q := 4) (v := nI 0) C dX7_read_3 (by decide) rfl ?_
  refine mv_pf_at (q := 7) C hV hF dX7_read_4 rfl (fun M hV hF => ?_)
  refine gx_aload_n (q := 8) C dX7_read_7 rfl rfl rfl ?_
  refine gx_iconst (q := 9) (v := bI true) C dX7_read_8 (by decide) rfl ?_
  refine mv_pf_well (q := 12) C hV hF dX7_read_9 rfl (fun M hV hF => ?_)
  have Lp : ∀ k, ∀ (a n so : Nat) (F : Nat → Nat) (M : List va_E), md_V (cx_D x) (cx_b x) M R T Ti Bf P F L Rw kp td a true so lo ro → md_F M0 M → a ≤ td → psE P td k a = .error e → td - a < k → fb_G x M 0 0 12 [some (.ref (cx_b x + 43)), some (.int (nI n)), none] [] := by
    refine fb_up ?_ ?_
    · intro a n so F M hV hF ha h hk0
      omega
    · intro k ih a n so F M hV hF ha h hk0
      refine gx_aload_n (q := 13) C dX7_read_12 rfl rfl rfl ?_
      refine gx_cv (q := 16) C E (sx_X7_85 (As := []) C hV.o rfl rfl dX7_read_13) (md_statement _ _ _ _ h64 hP ha hV) kw_X7_statement (by decide) (Nat.le_of_ble_eq_true rfl) rfl rfl (by omega) (by omega) dX7_read_13 rfl (fun M r13 => ?_)
      obtain ⟨hV, hG⟩ := r13
      have hF := hF.tr hG
      rcases hS : stE P td a with e' | ⟨t, a'⟩
      · rw [hS] at hV
        obtain ⟨so, F, hV⟩ := hV
        rw [psE_e hS] at h
        cases h
        refine gn_inc (q := 19) (lv' := [_, _, _]) C dX7_read_16 rfl E.2.2.2.symm rfl rfl rfl ?_
        refine gx_aload_n (q := 20) C dX7_read_19 rfl rfl rfl ?_
        refine fg_X7_57 (q := 23) C hV.o rfl dX7_read_20 rfl ?_
        refine gb_if_eq (q := 26) (tgt := 37) C dX7_read_23 (by decide) rfl (fun c23 => ?_) (fun c23 => by exfalso; cases c23)
        refine gx_aload_n (q := 38) C dX7_read_37 rfl rfl rfl ?_
        refine fg_X7_57 (q := 41) C hV.o rfl dX7_read_38 rfl ?_
        refine gb_if_ne (q := 44) (tgt := 53) C dX7_read_41 (by decide) rfl (fun c41 => by exfalso; cases c41) (fun c41 => ?_)
        refine gx_sipush (q := 47) (v := -1000) C dX7_read_44 (by decide) rfl ?_
        refine gx_aload_n (q := 48) C dX7_read_47 rfl rfl rfl ?_
        refine fg_X7_60 (q := 51) C hV.o rfl dX7_read_48 rfl ?_
        refine gx_isub (q := 52) C dX7_read_51 rfl rfl ?_
        exact gx_iret C E dX7_read_52 (⟨⟨_, _, _, _, _, _, _, hV⟩, hF⟩) (by omega) (by omega)
      · rw [hS] at hV
        obtain ⟨F, hV, hg⟩ := hV
        have hb := stE_b hS
        have h1 : a' ≤ td := hb.2.2.1
        refine gn_inc (q := 19) (lv' := [_, _, _]) C dX7_read_16 rfl E.2.2.2.symm rfl rfl rfl ?_
        refine gx_aload_n (q := 20) C dX7_read_19 rfl rfl rfl ?_
        refine fg_X7_57 (q := 23) C hV.o rfl dX7_read_20 rfl ?_
        refine gb_if_eq (q := 26) (tgt := 37) C dX7_read_23 (by decide) rfl (fun c23 => by exfalso; cases c23) (fun c23 => ?_)
        refine gx_aload_n (q := 27) C dX7_read_26 rfl rfl rfl ?_
        refine fg_X7_60 (q := 30) C hV.o rfl dX7_read_27 rfl ?_
        refine gx_aload_n (q := 31) C dX7_read_30 rfl rfl rfl ?_
        refine fg_X7_53 (q := 34) C hV.o rfl dX7_read_31 rfl ?_
        refine gn_icmp_lt (q := 37) (tgt := 12) C dX7_read_34 (by decide) rfl (by omega) (by omega) (fun c34 => ?_) (fun c34 => by exfalso; rw [psE_l hS c34] at h; cases h)
        have h := psE_me hS c34 h
        exact ih _ _ _ _ M hV hF (by omega) h (by omega)
  exact Lp 65 0 0 _ _ M hV hF (by omega) h (by omega)
set_option maxHeartbeats 4000000 in
theorem md_read_o (l0 : Launch) (D : va_G) (b : Nat) (M0 : List va_E) {R T Ti Bf P F L Rw : Nat → Nat} {kp we : Bool} {td aa so lo ro : Nat} (h64 : td ≤ 64) (hP : ∀ i, i < td → P i < 256) {l : List (Nat × tld)} {U : Nat → Nat} (h : psE P td 65 0 = .ok l) (hA : apE l T = .ok U) (hV : md_V D b M0 R T Ti Bf P F L Rw kp td aa we so lo ro) (hk : okT T) : fb_CT l0 D b yX7_read cX7_read 3 (some .int) 2 46 0 0 [.ref (b + 43)] M0 (.returned (some (.int (nI l.length)))) (fun M' => md_P D b M' R U Ti P Rw kp td ro ∧ md_F M0 M') := by
  refine fb_start [some (.ref (b + 43)), none, none] (by decide) (Nat.le_of_ble_eq_true rfl) rfl ?_
  intro x hl hD hb C E hx
  subst hl hD hb
  have C : fb_OK x cX7_read "FallsBetweenModel" "read" := C
  have hF := md_F.rf M0
  refine gx_iconst (q := 1) (v := nI 0) C dX7_read_0 (by decide) rfl ?_
  refine gx_istore_n (q := 2) (lv' := [_, _, _]) C dX7_read_1 rfl (Nat.le_of_ble_eq_true rfl) E.2.2.2.symm rfl rfl rfl ?_
  refine gx_aload_n (q := 3) C dX7_read_2 rfl rfl rfl ?_
  refine gx_iconst (q := 4) (v := nI 0) C dX7_read_3 (by decide) rfl ?_
  refine mv_pf_at (q := 7) C hV hF dX7_read_4 rfl (fun M hV hF => ?_)
  refine gx_aload_n (q := 8) C dX7_read_7 rfl rfl rfl ?_
  refine gx_iconst (q := 9) (v := bI true) C dX7_read_8 (by decide) rfl ?_
  refine mv_pf_well (q := 12) C hV hF dX7_read_9 rfl (fun M hV hF => ?_)
  have K1 : ∀ (a so : Nat) (F : Nat → Nat) (M : List va_E), md_V (cx_D x) (cx_b x) M R T Ti Bf P F L Rw kp td a true so lo ro → md_F M0 M → fb_G x M 0 0 37 [some (.ref (cx_b x + 43)), some (.int (nI l.length)), none] [] := by
    intro a so F M hV hF
    refine gx_aload_n (q := 38) C dX7_read_37 rfl rfl rfl ?_
    refine fg_X7_57 (q := 41) C hV.o rfl dX7_read_38 rfl ?_
    refine gb_if_ne (q := 44) (tgt := 53) C dX7_read_41 (by decide) rfl (fun c41 => ?_) (fun c41 => by exfalso; cases c41)
    refine gx_aload_n (q := 54) C dX7_read_53 rfl rfl rfl ?_
    refine fg_X7_13 (q := 57) C hV.o rfl dX7_read_54 rfl ?_
    refine gx_aload_n (q := 58) C dX7_read_57 rfl rfl rfl ?_
    refine fg_X7_19 (q := 61) C hV.o rfl dX7_read_58 rfl ?_
    obtain ⟨f, f1, f2⟩ := hV.nw
    obtain ⟨t, t1, t2⟩ := hV.bf
    refine gx_cv (q := 64) C E (sx_X7_45 (As := [_, _]) C rfl rfl dX7_read_61) (md_move _ _ _ _ 45 47 (by decide) f1 t1) kw_X7_move (by decide) (Nat.le_of_ble_eq_true rfl) rfl rfl (by omega) (by omega) dX7_read_61 rfl (fun M r61 => ?_)
    have hV := hV.setbf (g := cpN f t 144) (U := T) (fun i hi => by rw [cpN, if_pos hi]; exact f2 i hi)
    rw [← r61] at hV
    have hF := hF.st 47 (aI (cx_D x) 144 (cpN f t 144)) (by decide)
    rw [← r61] at hF
    refine gx_aload_n (q := 65) C dX7_read_64 rfl rfl rfl ?_
    refine gx_iconst (q := 66) (v := nI 0) C dX7_read_65 (by decide) rfl ?_
    refine mv_pf_at (q := 69) C hV hF dX7_read_66 rfl (fun M hV hF => ?_)
    have L2 : ∀ w : List (Nat × tld), ∀ (a so k : Nat) (F Tc : Nat → Nat) (M : List va_E), md_V (cx_D x) (cx_b x) M R Tc Ti T P F L Rw kp td a true so lo ro → md_F M0 M → okT Tc → a ≤ td → (w = [] ∧ td ≤ a ∨ psE P td k a = .ok w) → apE w Tc = .ok U → fb_G x M 0 0 69 [some (.ref (cx_b x + 43)), some (.int (nI l.length)), none] [] := by
      refine fb_li ?_ ?_
      · intro a so k F Tc M hV hF hkc ha h hA
        have h := h.resolve_right psE_ne
        cases hA
        refine gx_aload_n (q := 70) C dX7_read_69 rfl rfl rfl ?_
        refine fg_X7_60 (q := 73) C hV.o rfl dX7_read_70 rfl ?_
        refine gx_aload_n (q := 74) C dX7_read_73 rfl rfl rfl ?_
        refine fg_X7_53 (q := 77) C hV.o rfl dX7_read_74 rfl ?_
        refine gn_icmp_ge (q := 80) (tgt := 120) C dX7_read_77 (by decide) rfl (by omega) (by omega) (fun c77 => ?_) (fun c77 => by exfalso; have := h.2; omega)
        refine gx_iload_n (q := 121) C dX7_read_120 rfl rfl rfl ?_
        exact gx_iret C E dX7_read_121 (⟨⟨_, _, _, _, _, _, _, hV⟩, hF⟩) (by omega) (by omega)
      · intro p w ih a so k F Tc M hV hF hkc ha h hA
        have h := h.resolve_left (fun z => by cases z.1)
        obtain ⟨t, a', hS, hp, hr⟩ := psE_c h
        subst hp
        have hb := stE_b hS
        have h1 : a' ≤ td := hb.2.2.1
        have h2 : a < td := hb.2.2.2
        refine gx_aload_n (q := 70) C dX7_read_69 rfl rfl rfl ?_
        refine fg_X7_60 (q := 73) C hV.o rfl dX7_read_70 rfl ?_
        refine gx_aload_n (q := 74) C dX7_read_73 rfl rfl rfl ?_
        refine fg_X7_53 (q := 77) C hV.o rfl dX7_read_74 rfl ?_
        refine gn_icmp_ge (q := 80) (tgt := 120) C dX7_read_77 (by decide) rfl (by omega) (by omega) (fun c77 => by exfalso; omega) (fun c77 => ?_)
        refine gx_aload_n (q := 81) C dX7_read_80 rfl rfl rfl ?_
        refine fg_X7_60 (q := 84) C hV.o rfl dX7_read_81 rfl ?_
        refine gx_istore_n (q := 85) (lv' := [_, _, _]) C dX7_read_84 rfl (Nat.le_of_ble_eq_true rfl) E.2.2.2.symm rfl rfl rfl ?_
        refine gx_aload_n (q := 86) C dX7_read_85 rfl rfl rfl ?_
        refine gx_cv (q := 89) C E (sx_X7_85 (As := []) C hV.o rfl rfl dX7_read_86) (md_statement _ _ _ _ h64 hP (by omega) hV) kw_X7_statement (by decide) (Nat.le_of_ble_eq_true rfl) rfl rfl (by omega) (by omega) dX7_read_86 rfl (fun M r86 => ?_)
        obtain ⟨hV, hG⟩ := r86
        have hF := hF.tr hG
        rw [hS] at hV
        obtain ⟨F, hV, hg⟩ := hV
        refine gx_aload_n (q := 90) C dX7_read_89 rfl rfl rfl ?_
        refine gx_cp (q := 93) C E (sx_X7_88 (As := []) C hV.o rfl rfl dX7_read_90) (md_isAsItMustBe _ _ _ _ t rfl hb.1 hg hV hkc) kw_X7_isAsItMustBe (by decide) (Nat.le_of_ble_eq_true rfl) (by omega) (by omega) dX7_read_90 rfl ?_
        refine gb_if_ne (q := 96) (tgt := 113) C dX7_read_93 (by decide) rfl (fun c93 => ?_) (fun c93 => by exfalso; rw [apE_f c93] at hA; cases hA)
        rw [apE_t c93] at hA
        refine gx_aload_n (q := 114) C dX7_read_113 rfl rfl rfl ?_
        refine gx_cv (q := 117) C E (sx_X7_92 (As := []) C hV.o rfl rfl dX7_read_114) (md_come _ _ _ _ t rfl hb.1 hg hV hkc c93) kw_X7_come (by decide) (Nat.le_of_ble_eq_true rfl) rfl rfl (by omega) (by omega) dX7_read_114 rfl (fun M r114 => ?_)
        obtain ⟨hV, hG⟩ := r114
        have hF := hF.tr hG
        refine gx_goto (tgt := 69) C dX7_read_117 (by decide) ?_
        refine gx_drop 2 ?_
        obtain ⟨k', hr⟩ : ∃ k', w = [] ∧ td ≤ a' ∨ psE P td k' a' = .ok w := hr.elim (fun z => ⟨0, Or.inl z⟩) (fun ⟨k1, z⟩ => ⟨k1, Or.inr z⟩)
        exact ih a' _ k' _ _ M hV hF (coT_ok hkc hb.1 c93) (by omega) hr hA
    exact L2 l 0 _ 65 _ T M hV hF hk (by omega) (Or.inr h) hA
  have Lp : ∀ k, ∀ (a n so : Nat) (F : Nat → Nat) (l1 : List (Nat × tld)) (M : List va_E), md_V (cx_D x) (cx_b x) M R T Ti Bf P F L Rw kp td a true so lo ro → md_F M0 M → a ≤ td → psE P td k a = .ok l1 → n + l1.length = l.length → td - a < k → fb_G x M 0 0 12 [some (.ref (cx_b x + 43)), some (.int (nI n)), none] [] := by
    refine fb_up ?_ ?_
    · intro a n so F l1 M hV hF ha h hn hk0
      omega
    · intro k ih a n so F l1 M hV hF ha h hn hk0
      refine gx_aload_n (q := 13) C dX7_read_12 rfl rfl rfl ?_
      refine gx_cv (q := 16) C E (sx_X7_85 (As := []) C hV.o rfl rfl dX7_read_13) (md_statement _ _ _ _ h64 hP ha hV) kw_X7_statement (by decide) (Nat.le_of_ble_eq_true rfl) rfl rfl (by omega) (by omega) dX7_read_13 rfl (fun M r13 => ?_)
      obtain ⟨hV, hG⟩ := r13
      have hF := hF.tr hG
      rcases hS : stE P td a with e' | ⟨t, a'⟩
      · rw [hS] at hV
        obtain ⟨so, F, hV⟩ := hV
        rw [psE_e hS] at h
        cases h
        skip
      · rw [hS] at hV
        obtain ⟨F, hV, hg⟩ := hV
        have hb := stE_b hS
        have h1 : a' ≤ td := hb.2.2.1
        refine gn_inc (q := 19) (lv' := [_, _, _]) C dX7_read_16 rfl E.2.2.2.symm rfl rfl rfl ?_
        refine gx_aload_n (q := 20) C dX7_read_19 rfl rfl rfl ?_
        refine fg_X7_57 (q := 23) C hV.o rfl dX7_read_20 rfl ?_
        refine gb_if_eq (q := 26) (tgt := 37) C dX7_read_23 (by decide) rfl (fun c23 => by exfalso; cases c23) (fun c23 => ?_)
        refine gx_aload_n (q := 27) C dX7_read_26 rfl rfl rfl ?_
        refine fg_X7_60 (q := 30) C hV.o rfl dX7_read_27 rfl ?_
        refine gx_aload_n (q := 31) C dX7_read_30 rfl rfl rfl ?_
        refine fg_X7_53 (q := 34) C hV.o rfl dX7_read_31 rfl ?_
        refine gn_icmp_lt (q := 37) (tgt := 12) C dX7_read_34 (by decide) rfl (by omega) (by omega) (fun c34 => ?_) (fun c34 => ?_)
        · obtain ⟨l1, h, hlen⟩ := psE_mo hS c34 h
          exact ih _ _ _ _ _ M hV hF (by omega) h (by omega) (by omega)
        · rw [psE_l hS c34] at h
          cases h
          have hn : n + 1 = l.length := hn
          rw [hn]
          exact K1 _ _ _ M hV hF
  exact Lp 65 0 0 _ _ l M hV hF (by omega) h (by omega) (by omega)
set_option maxHeartbeats 4000000 in
theorem md_read_a (l0 : Launch) (D : va_G) (b : Nat) (M0 : List va_E) {R T Ti Bf P F L Rw : Nat → Nat} {kp we : Bool} {td aa so lo ro : Nat} (h64 : td ≤ 64) (hP : ∀ i, i < td → P i < 256) {l : List (Nat × tld)} {ae : Nat} (h : psE P td 65 0 = .ok l) (hA : apE l T = .error ae) (hV : md_V D b M0 R T Ti Bf P F L Rw kp td aa we so lo ro) (hk : okT T) : fb_CT l0 D b yX7_read cX7_read 3 (some .int) 2 46 0 0 [.ref (b + 43)] M0 (.returned (some (.int (-2000 - nI ae)))) (fun M' => md_P D b M' R T Ti P Rw kp td ro ∧ md_F M0 M') := by
  refine fb_start [some (.ref (b + 43)), none, none] (by decide) (Nat.le_of_ble_eq_true rfl) rfl ?_
  intro x hl hD hb C E hx
  subst hl hD hb
  have C : fb_OK x cX7_read "FallsBetweenModel" "read" := C
  have hF := md_F.rf M0
  refine gx_iconst (q := 1) (v := nI 0) C dX7_read_0 (by decide) rfl ?_
  refine gx_istore_n (q := 2) (lv' := [_, _, _]) C dX7_read_1 rfl (Nat.le_of_ble_eq_true rfl) E.2.2.2.symm rfl rfl rfl ?_
  refine gx_aload_n (q := 3) C dX7_read_2 rfl rfl rfl ?_
  refine gx_iconst (q := 4) (v := nI 0) C dX7_read_3 (by decide) rfl ?_
  refine mv_pf_at (q := 7) C hV hF dX7_read_4 rfl (fun M hV hF => ?_)
  refine gx_aload_n (q := 8) C dX7_read_7 rfl rfl rfl ?_
  refine gx_iconst (q := 9) (v := bI true) C dX7_read_8 (by decide) rfl ?_
  refine mv_pf_well (q := 12) C hV hF dX7_read_9 rfl (fun M hV hF => ?_)
  have K1 : ∀ (a so : Nat) (F : Nat → Nat) (M : List va_E), md_V (cx_D x) (cx_b x) M R T Ti Bf P F L Rw kp td a true so lo ro → md_F M0 M → fb_G x M 0 0 37 [some (.ref (cx_b x + 43)), some (.int (nI l.length)), none] [] := by
    intro a so F M hV hF
    refine gx_aload_n (q := 38) C dX7_read_37 rfl rfl rfl ?_
    refine fg_X7_57 (q := 41) C hV.o rfl dX7_read_38 rfl ?_
    refine gb_if_ne (q := 44) (tgt := 53) C dX7_read_41 (by decide) rfl (fun c41 => ?_) (fun c41 => by exfalso; cases c41)
    refine gx_aload_n (q := 54) C dX7_read_53 rfl rfl rfl ?_
    refine fg_X7_13 (q := 57) C hV.o rfl dX7_read_54 rfl ?_
    refine gx_aload_n (q := 58) C dX7_read_57 rfl rfl rfl ?_
    refine fg_X7_19 (q := 61) C hV.o rfl dX7_read_58 rfl ?_
    obtain ⟨f, f1, f2⟩ := hV.nw
    obtain ⟨t, t1, t2⟩ := hV.bf
    refine gx_cv (q := 64) C E (sx_X7_45 (As := [_, _]) C rfl rfl dX7_read_61) (md_move _ _ _ _ 45 47 (by decide) f1 t1) kw_X7_move (by decide) (Nat.le_of_ble_eq_true rfl) rfl rfl (by omega) (by omega) dX7_read_61 rfl (fun M r61 => ?_)
    have hV := hV.setbf (g := cpN f t 144) (U := T) (fun i hi => by rw [cpN, if_pos hi]; exact f2 i hi)
    rw [← r61] at hV
    have hF := hF.st 47 (aI (cx_D x) 144 (cpN f t 144)) (by decide)
    rw [← r61] at hF
    refine gx_aload_n (q := 65) C dX7_read_64 rfl rfl rfl ?_
    refine gx_iconst (q := 66) (v := nI 0) C dX7_read_65 (by decide) rfl ?_
    refine mv_pf_at (q := 69) C hV hF dX7_read_66 rfl (fun M hV hF => ?_)
    have L2 : ∀ w : List (Nat × tld), ∀ (a so k : Nat) (F Tc : Nat → Nat) (M : List va_E), md_V (cx_D x) (cx_b x) M R Tc Ti T P F L Rw kp td a true so lo ro → md_F M0 M → okT Tc → a ≤ td → (w = [] ∧ td ≤ a ∨ psE P td k a = .ok w) → apE w Tc = .error ae → fb_G x M 0 0 69 [some (.ref (cx_b x + 43)), some (.int (nI l.length)), none] [] := by
      refine fb_li ?_ ?_
      · intro a so k F Tc M hV hF hkc ha h hA
        cases hA
      · intro p w ih a so k F Tc M hV hF hkc ha h hA
        have h := h.resolve_left (fun z => by cases z.1)
        obtain ⟨t, a', hS, hp, hr⟩ := psE_c h
        subst hp
        have hb := stE_b hS
        have h1 : a' ≤ td := hb.2.2.1
        have h2 : a < td := hb.2.2.2
        refine gx_aload_n (q := 70) C dX7_read_69 rfl rfl rfl ?_
        refine fg_X7_60 (q := 73) C hV.o rfl dX7_read_70 rfl ?_
        refine gx_aload_n (q := 74) C dX7_read_73 rfl rfl rfl ?_
        refine fg_X7_53 (q := 77) C hV.o rfl dX7_read_74 rfl ?_
        refine gn_icmp_ge (q := 80) (tgt := 120) C dX7_read_77 (by decide) rfl (by omega) (by omega) (fun c77 => by exfalso; omega) (fun c77 => ?_)
        refine gx_aload_n (q := 81) C dX7_read_80 rfl rfl rfl ?_
        refine fg_X7_60 (q := 84) C hV.o rfl dX7_read_81 rfl ?_
        refine gx_istore_n (q := 85) (lv' := [_, _, _]) C dX7_read_84 rfl (Nat.le_of_ble_eq_true rfl) E.2.2.2.symm rfl rfl rfl ?_
        refine gx_aload_n (q := 86) C dX7_read_85 rfl rfl rfl ?_
        refine gx_cv (q := 89) C E (sx_X7_85 (As := []) C hV.o rfl rfl dX7_read_86) (md_statement _ _ _ _ h64 hP (by omega) hV) kw_X7_statement (by decide) (Nat.le_of_ble_eq_true rfl) rfl rfl (by omega) (by omega) dX7_read_86 rfl (fun M r86 => ?_)
        obtain ⟨hV, hG⟩ := r86
        have hF := hF.tr hG
        rw [hS] at hV
        obtain ⟨F, hV, hg⟩ := hV
        refine gx_aload_n (q := 90) C dX7_read_89 rfl rfl rfl ?_
        refine gx_cp (q := 93) C E (sx_X7_88 (As := []) C hV.o rfl rfl dX7_read_90) (md_isAsItMustBe _ _ _ _ t rfl hb.1 hg hV hkc) kw_X7_isAsItMustBe (by decide) (Nat.le_of_ble_eq_true rfl) (by omega) (by omega) dX7_read_90 rfl ?_
        refine gb_if_ne (q := 96) (tgt := 113) C dX7_read_93 (by decide) rfl (fun c93 => ?_) (fun c93 => ?_)
        · rw [apE_t c93] at hA
          refine gx_aload_n (q := 114) C dX7_read_113 rfl rfl rfl ?_
          refine gx_cv (q := 117) C E (sx_X7_92 (As := []) C hV.o rfl rfl dX7_read_114) (md_come _ _ _ _ t rfl hb.1 hg hV hkc c93) kw_X7_come (by decide) (Nat.le_of_ble_eq_true rfl) rfl rfl (by omega) (by omega) dX7_read_114 rfl (fun M r114 => ?_)
          obtain ⟨hV, hG⟩ := r114
          have hF := hF.tr hG
          refine gx_goto (tgt := 69) C dX7_read_117 (by decide) ?_
          refine gx_drop 2 ?_
          obtain ⟨k', hr⟩ : ∃ k', w = [] ∧ td ≤ a' ∨ psE P td k' a' = .ok w := hr.elim (fun z => ⟨0, Or.inl z⟩) (fun ⟨k1, z⟩ => ⟨k1, Or.inr z⟩)
          exact ih a' _ k' _ _ M hV hF (coT_ok hkc hb.1 c93) (by omega) hr hA
        · rw [apE_f c93] at hA
          have hA : a = ae := Except.error.inj hA
          refine gx_aload_n (q := 97) C dX7_read_96 rfl rfl rfl ?_
          refine fg_X7_19 (q := 100) C hV.o rfl dX7_read_97 rfl ?_
          refine gx_aload_n (q := 101) C dX7_read_100 rfl rfl rfl ?_
          refine fg_X7_13 (q := 104) C hV.o rfl dX7_read_101 rfl ?_
          obtain ⟨f, f1, f2⟩ := hV.bf
          obtain ⟨t, t1, t2⟩ := hV.nw
          refine gx_cv (q := 107) C E (sx_X7_45 (As := [_, _]) C rfl rfl dX7_read_104) (md_move _ _ _ _ 47 45 (by decide) f1 t1) kw_X7_move (by decide) (Nat.le_of_ble_eq_true rfl) rfl rfl (by omega) (by omega) dX7_read_104 rfl (fun M r104 => ?_)
          have hV := hV.setnw (g := cpN f t 144) (U := T) (fun i hi => by rw [cpN, if_pos hi]; exact f2 i hi)
          rw [← r104] at hV
          have hF := hF.st 45 (aI (cx_D x) 144 (cpN f t 144)) (by decide)
          rw [← r104] at hF
          refine gx_sipush (q := 110) (v := -2000) C dX7_read_107 (by decide) rfl ?_
          refine gx_iload_n (q := 111) C dX7_read_110 rfl rfl rfl ?_
          refine gx_isub (q := 112) C dX7_read_111 rfl rfl ?_
          exact gx_iretE C E (by rw [hA]) dX7_read_112 (⟨⟨_, _, _, _, _, _, _, hV⟩, hF⟩) (by omega) (by omega)
    exact L2 l 0 _ 65 _ T M hV hF hk (by omega) (Or.inr h) hA
  have Lp : ∀ k, ∀ (a n so : Nat) (F : Nat → Nat) (l1 : List (Nat × tld)) (M : List va_E), md_V (cx_D x) (cx_b x) M R T Ti Bf P F L Rw kp td a true so lo ro → md_F M0 M → a ≤ td → psE P td k a = .ok l1 → n + l1.length = l.length → td - a < k → fb_G x M 0 0 12 [some (.ref (cx_b x + 43)), some (.int (nI n)), none] [] := by
    refine fb_up ?_ ?_
    · intro a n so F l1 M hV hF ha h hn hk0
      omega
    · intro k ih a n so F l1 M hV hF ha h hn hk0
      refine gx_aload_n (q := 13) C dX7_read_12 rfl rfl rfl ?_
      refine gx_cv (q := 16) C E (sx_X7_85 (As := []) C hV.o rfl rfl dX7_read_13) (md_statement _ _ _ _ h64 hP ha hV) kw_X7_statement (by decide) (Nat.le_of_ble_eq_true rfl) rfl rfl (by omega) (by omega) dX7_read_13 rfl (fun M r13 => ?_)
      obtain ⟨hV, hG⟩ := r13
      have hF := hF.tr hG
      rcases hS : stE P td a with e' | ⟨t, a'⟩
      · rw [hS] at hV
        obtain ⟨so, F, hV⟩ := hV
        rw [psE_e hS] at h
        cases h
        skip
      · rw [hS] at hV
        obtain ⟨F, hV, hg⟩ := hV
        have hb := stE_b hS
        have h1 : a' ≤ td := hb.2.2.1
        refine gn_inc (q := 19) (lv' := [_, _, _]) C dX7_read_16 rfl E.2.2.2.symm rfl rfl rfl ?_
        refine gx_aload_n (q := 20) C dX7_read_19 rfl rfl rfl ?_
        refine fg_X7_57 (q := 23) C hV.o rfl dX7_read_20 rfl ?_
        refine gb_if_eq (q := 26) (tgt := 37) C dX7_read_23 (by decide) rfl (fun c23 => by exfalso; cases c23) (fun c23 => ?_)
        refine gx_aload_n (q := 27) C dX7_read_26 rfl rfl rfl ?_
        refine fg_X7_60 (q := 30) C hV.o rfl dX7_read_27 rfl ?_
        refine gx_aload_n (q := 31) C dX7_read_30 rfl rfl rfl ?_
        refine fg_X7_53 (q := 34) C hV.o rfl dX7_read_31 rfl ?_
        refine gn_icmp_lt (q := 37) (tgt := 12) C dX7_read_34 (by decide) rfl (by omega) (by omega) (fun c34 => ?_) (fun c34 => ?_)
        · obtain ⟨l1, h, hlen⟩ := psE_mo hS c34 h
          exact ih _ _ _ _ _ M hV hF (by omega) h (by omega) (by omega)
        · rw [psE_l hS c34] at h
          cases h
          have hn : n + 1 = l.length := hn
          rw [hn]
          exact K1 _ _ _ M hV hF
  exact Lp 65 0 0 _ _ l M hV hF (by omega) h (by omega) (by omega)
set_option maxHeartbeats 4000000 in
theorem mp_town_e (l : Launch) (D : va_G) (b : Nat) (M0 : List va_E) {R T Ti P Rw : Nat → Nat} {kp : Bool} {td ro : Nat} (h64 : td ≤ 64) (hP : ∀ i, i < td → P i < 256) {e : Nat} (hp : psE P td 65 0 = .error e) (h : md_P D b M0 R T Ti P Rw kp td ro) (hk : okT T) : fb_CT l D b yX7_town cX7_town 2 (some .int) 3 68 0 0 [.ref (b + 43)] M0 (.returned (some (.int (-1000 - nI e)))) (fun M' => md_P D b M' R T Ti P Rw kp 0 ro ∧ md_F M0 M') := by
  refine fb_start [some (.ref (b + 43)), none] (by decide) (Nat.le_of_ble_eq_true rfl) rfl ?_
  intro x hl hD hb C E hx
  subst hl hD hb
  have C : fb_OK x cX7_town "FallsBetweenModel" "town" := C
  obtain ⟨Bf, F, L, aa, we, so, lo, hV⟩ := h
  have hF := md_F.rf M0
  obtain ⟨k0, k1, k2, k3, k4, k5, k6, k7, k8⟩ := id hk
  refine gx_aload_n (q := 1) C dX7_town_0 rfl rfl rfl ?_
  refine gx_cs (q := 4) C E (sx_X7_95 (As := []) C hV.o rfl rfl dX7_town_1) (md_read_e _ _ _ _ h64 hP hp hV hk) kw_X7_read (by decide) (Nat.le_of_ble_eq_true rfl) rfl rfl (by omega) (by omega) dX7_town_1 rfl (fun M r1 => ?_)
  obtain ⟨⟨Bf, F, L, aa, we, so, lo, hV⟩, hG⟩ := r1
  have hF := hF.tr hG
  refine gx_istore_n (q := 5) (lv' := [_, _]) C dX7_town_4 rfl (Nat.le_of_ble_eq_true rfl) E.2.2.2.symm rfl rfl rfl ?_
  refine gx_aload_n (q := 6) C dX7_town_5 rfl rfl rfl ?_
  refine gx_iconst (q := 7) (v := nI 0) C dX7_town_6 (by decide) rfl ?_
  refine mv_pf_taped (q := 10) C hV hF dX7_town_7 rfl (fun M hV hF => ?_)
  refine gx_iload_n (q := 11) C dX7_town_10 rfl rfl rfl ?_
  exact gx_iret C E dX7_town_11 (⟨⟨_, _, _, _, _, _, _, hV⟩, hF⟩) (by omega) (by omega)
set_option maxHeartbeats 4000000 in
theorem mp_town_a (l : Launch) (D : va_G) (b : Nat) (M0 : List va_E) {R T Ti P Rw : Nat → Nat} {kp : Bool} {td ro : Nat} (h64 : td ≤ 64) (hP : ∀ i, i < td → P i < 256) {w : List (Nat × tld)} {ae : Nat} (hp : psE P td 65 0 = .ok w) (hA : apE w T = .error ae) (h : md_P D b M0 R T Ti P Rw kp td ro) (hk : okT T) : fb_CT l D b yX7_town cX7_town 2 (some .int) 3 68 0 0 [.ref (b + 43)] M0 (.returned (some (.int (-2000 - nI ae)))) (fun M' => md_P D b M' R T Ti P Rw kp 0 ro ∧ md_F M0 M') := by
  refine fb_start [some (.ref (b + 43)), none] (by decide) (Nat.le_of_ble_eq_true rfl) rfl ?_
  intro x hl hD hb C E hx
  subst hl hD hb
  have C : fb_OK x cX7_town "FallsBetweenModel" "town" := C
  obtain ⟨Bf, F, L, aa, we, so, lo, hV⟩ := h
  have hF := md_F.rf M0
  obtain ⟨k0, k1, k2, k3, k4, k5, k6, k7, k8⟩ := id hk
  refine gx_aload_n (q := 1) C dX7_town_0 rfl rfl rfl ?_
  refine gx_cs (q := 4) C E (sx_X7_95 (As := []) C hV.o rfl rfl dX7_town_1) (md_read_a _ _ _ _ h64 hP hp hA hV hk) kw_X7_read (by decide) (Nat.le_of_ble_eq_true rfl) rfl rfl (by omega) (by omega) dX7_town_1 rfl (fun M r1 => ?_)
  obtain ⟨⟨Bf, F, L, aa, we, so, lo, hV⟩, hG⟩ := r1
  have hF := hF.tr hG
  refine gx_istore_n (q := 5) (lv' := [_, _]) C dX7_town_4 rfl (Nat.le_of_ble_eq_true rfl) E.2.2.2.symm rfl rfl rfl ?_
  refine gx_aload_n (q := 6) C dX7_town_5 rfl rfl rfl ?_
  refine gx_iconst (q := 7) (v := nI 0) C dX7_town_6 (by decide) rfl ?_
  refine mv_pf_taped (q := 10) C hV hF dX7_town_7 rfl (fun M hV hF => ?_)
  refine gx_iload_n (q := 11) C dX7_town_10 rfl rfl rfl ?_
  exact gx_iret C E dX7_town_11 (⟨⟨_, _, _, _, _, _, _, hV⟩, hF⟩) (by omega) (by omega)
set_option maxHeartbeats 4000000 in
theorem mp_town_o (l : Launch) (D : va_G) (b : Nat) (M0 : List va_E) {R T Ti P Rw : Nat → Nat} {kp : Bool} {td ro : Nat} (h64 : td ≤ 64) (hP : ∀ i, i < td → P i < 256) {w : List (Nat × tld)} {U : Nat → Nat} (hp : psE P td 65 0 = .ok w) (hA : apE w T = .ok U) (h : md_P D b M0 R T Ti P Rw kp td ro) (hk : okT T) : fb_CT l D b yX7_town cX7_town 2 (some .int) 3 68 0 0 [.ref (b + 43)] M0 (.returned (some (.int (nI w.length)))) (fun M' => md_P D b M' R U Ti P Rw kp 0 ro ∧ md_F M0 M') := by
  refine fb_start [some (.ref (b + 43)), none] (by decide) (Nat.le_of_ble_eq_true rfl) rfl ?_
  intro x hl hD hb C E hx
  subst hl hD hb
  have C : fb_OK x cX7_town "FallsBetweenModel" "town" := C
  obtain ⟨Bf, F, L, aa, we, so, lo, hV⟩ := h
  have hF := md_F.rf M0
  obtain ⟨k0, k1, k2, k3, k4, k5, k6, k7, k8⟩ := id hk
  refine gx_aload_n (q := 1) C dX7_town_0 rfl rfl rfl ?_
  refine gx_cs (q := 4) C E (sx_X7_95 (As := []) C hV.o rfl rfl dX7_town_1) (md_read_o _ _ _ _ h64 hP hp hA hV hk) kw_X7_read (by decide) (Nat.le_of_ble_eq_true rfl) rfl rfl (by omega) (by omega) dX7_town_1 rfl (fun M r1 => ?_)
  obtain ⟨⟨Bf, F, L, aa, we, so, lo, hV⟩, hG⟩ := r1
  have hF := hF.tr hG
  refine gx_istore_n (q := 5) (lv' := [_, _]) C dX7_town_4 rfl (Nat.le_of_ble_eq_true rfl) E.2.2.2.symm rfl rfl rfl ?_
  refine gx_aload_n (q := 6) C dX7_town_5 rfl rfl rfl ?_
  refine gx_iconst (q := 7) (v := nI 0) C dX7_town_6 (by decide) rfl ?_
  refine mv_pf_taped (q := 10) C hV hF dX7_town_7 rfl (fun M hV hF => ?_)
  refine gx_iload_n (q := 11) C dX7_town_10 rfl rfl rfl ?_
  exact gx_iret C E dX7_town_11 (⟨⟨_, _, _, _, _, _, _, hV⟩, hF⟩) (by omega) (by omega)
