/-! the reference: what is told by letters -/
set_option maxRecDepth 100000
theorem onE_first {P f : Nat → Nat} {n m a k a' : Nat} (h : onE P n f m a = .ok (k, a')) : ∀ j, j < k → ¬ P a = f j := by
  unfold onE at h
  split at h
  · split at h
    · rename_i hf
      have := fstN_spec hf
      cases h
      exact fun j hj => of_decide_eq_false (this.2.2 j hj)
    · cases h
  · cases h
theorem fstN_all {f : Nat → Bool} {n : Nat} (h : fstN f n = none) : ∀ j, j < n → f j = false := by
  induction n with
  | zero => intro j hj; omega
  | succ n ih =>
    intro j hj
    unfold fstN at h
    split at h
    · cases h
    · rename_i hn
      split at h
      · cases h
      · rename_i hf
        by_cases e : j = n
        · subst e; exact eq_false_of_ne_true hf
        · exact ih hn j (by omega)
theorem onE_none {P f : Nat → Nat} {n m a e : Nat} (h : onE P n f m a = .error e) : a < n → ∀ j, j < m → ¬ P a = f j := by
  intro ha
  unfold onE at h
  rw [if_pos ha] at h
  split at h
  · cases h
  · rename_i hn
    exact fun j hj => of_decide_eq_false (fstN_all hn j hj)
set_option maxHeartbeats 4000000 in
theorem md_expect_o (l : Launch) (D : va_G) (b : Nat) (M0 : List va_E) {R T Ti Bf P F L Rw : Nat → Nat} {kp : Bool} {td aa so lo ro : Nat} (c : Nat) (hc : c < 256) (h64 : td ≤ 64) (hP : ∀ i, i < td → P i < 256) {a' : Nat} (h : exE P td c aa = .ok a') (hV : md_V D b M0 R T Ti Bf P F L Rw kp td aa true so lo ro) : fb_CT l D b yX7_expect cX7_expect 2 none 0 0 0 0 [.ref (b + 43), .int (nI c)] M0 (.returned none) (fun M' => md_V D b M' R T Ti Bf P F L Rw kp td a' true so lo ro ∧ md_F M0 M') := by
  refine fb_start [some (.ref (b + 43)), some (.int (nI c))] (by decide) (Nat.le_of_ble_eq_true rfl) rfl ?_
  intro x hl hD hb C E hx
  subst hl hD hb
  have C : fb_OK x cX7_expect "FallsBetweenModel" "expect" := C
  have hF := md_F.rf M0
  have hb := h64
  refine gx_aload_n (q := 1) C dX7_expect_0 rfl rfl rfl ?_
  refine fg_X7_57 (q := 4) C hV.o rfl dX7_expect_1 rfl ?_
  obtain ⟨e1, e2, e3⟩ := exE_b h
  subst e1
  have h2 := hP aa e2
  refine gb_if_eq (q := 7) (tgt := 44) C dX7_expect_4 (by decide) rfl (fun c4 => by exfalso; cases c4) (fun c4 => ?_)
  refine gx_aload_n (q := 8) C dX7_expect_7 rfl rfl rfl ?_
  refine fg_X7_60 (q := 11) C hV.o rfl dX7_expect_8 rfl ?_
  refine gx_aload_n (q := 12) C dX7_expect_11 rfl rfl rfl ?_
  refine fg_X7_53 (q := 15) C hV.o rfl dX7_expect_12 rfl ?_
  refine gn_icmp_ge (q := 18) (tgt := 44) C dX7_expect_15 (by decide) rfl (by omega) (by omega) (fun c15 => by exfalso; omega) (fun c15 => ?_)
  refine gx_aload_n (q := 19) C dX7_expect_18 rfl rfl rfl ?_
  refine fg_X7_22 (q := 22) C hV.o rfl dX7_expect_19 rfl ?_
  refine gx_aload_n (q := 23) C dX7_expect_22 rfl rfl rfl ?_
  refine fg_X7_60 (q := 26) C hV.o rfl dX7_expect_23 rfl ?_
  refine mv_ld_tape (q := 27) C hV (by omega) dX7_expect_26 rfl ?_
  refine gx_iload_n (q := 28) C dX7_expect_27 rfl rfl rfl ?_
  refine gn_icmp_ne (q := 31) (tgt := 44) C dX7_expect_28 (by decide) rfl (by omega) (by omega) (fun c28 => by exfalso; exact c28 e3) (fun c28 => ?_)
  refine gx_aload_n (q := 32) C dX7_expect_31 rfl rfl rfl ?_
  refine gx_dup (q := 33) C dX7_expect_32 rfl rfl ?_
  refine fg_X7_60 (q := 36) C hV.o rfl dX7_expect_33 rfl ?_
  refine gx_iconst (q := 37) (v := nI 1) C dX7_expect_36 (by decide) rfl ?_
  refine gn_iadd (q := 38) C dX7_expect_37 rfl ?_
  refine mv_pf_at (q := 41) C hV hF dX7_expect_38 rfl (fun M hV hF => ?_)
  refine gx_goto (tgt := 49) C dX7_expect_41 (by decide) ?_
  exact gx_vret C E dX7_expect_49 (⟨hV, hF⟩) (by omega) (by omega)
set_option maxHeartbeats 4000000 in
theorem md_expect_e (l : Launch) (D : va_G) (b : Nat) (M0 : List va_E) {R T Ti Bf P F L Rw : Nat → Nat} {kp : Bool} {td aa so lo ro : Nat} (c : Nat) (hc : c < 256) (h64 : td ≤ 64) (hP : ∀ i, i < td → P i < 256) {e : Nat} (h : exE P td c aa = .error e) (ha : aa ≤ td) (hV : md_V D b M0 R T Ti Bf P F L Rw kp td aa true so lo ro) : fb_CT l D b yX7_expect cX7_expect 2 none 0 0 0 0 [.ref (b + 43), .int (nI c)] M0 (.returned none) (fun M' => md_V D b M' R T Ti Bf P F L Rw kp td e false so lo ro ∧ md_F M0 M') := by
  refine fb_start [some (.ref (b + 43)), some (.int (nI c))] (by decide) (Nat.le_of_ble_eq_true rfl) rfl ?_
  intro x hl hD hb C E hx
  subst hl hD hb
  have C : fb_OK x cX7_expect "FallsBetweenModel" "expect" := C
  have hF := md_F.rf M0
  have hb := h64
  refine gx_aload_n (q := 1) C dX7_expect_0 rfl rfl rfl ?_
  refine fg_X7_57 (q := 4) C hV.o rfl dX7_expect_1 rfl ?_
  obtain ⟨e1, e2⟩ := exE_e h
  subst e1
  refine gb_if_eq (q := 7) (tgt := 44) C dX7_expect_4 (by decide) rfl (fun c4 => by exfalso; cases c4) (fun c4 => ?_)
  refine gx_aload_n (q := 8) C dX7_expect_7 rfl rfl rfl ?_
  refine fg_X7_60 (q := 11) C hV.o rfl dX7_expect_8 rfl ?_
  refine gx_aload_n (q := 12) C dX7_expect_11 rfl rfl rfl ?_
  refine fg_X7_53 (q := 15) C hV.o rfl dX7_expect_12 rfl ?_
  refine gn_icmp_ge (q := 18) (tgt := 44) C dX7_expect_15 (by decide) rfl (by omega) (by omega) (fun c15 => ?_) (fun c15 => ?_)
  · refine gx_aload_n (q := 45) C dX7_expect_44 rfl rfl rfl ?_
    refine gx_iconst (q := 46) (v := bI false) C dX7_expect_45 (by decide) rfl ?_
    refine mv_pf_well (q := 49) C hV hF dX7_expect_46 rfl (fun M hV hF => ?_)
    exact gx_vret C E dX7_expect_49 (⟨hV, hF⟩) (by omega) (by omega)
  · have h2 := hP _ c15
    refine gx_aload_n (q := 19) C dX7_expect_18 rfl rfl rfl ?_
    refine fg_X7_22 (q := 22) C hV.o rfl dX7_expect_19 rfl ?_
    refine gx_aload_n (q := 23) C dX7_expect_22 rfl rfl rfl ?_
    refine fg_X7_60 (q := 26) C hV.o rfl dX7_expect_23 rfl ?_
    refine mv_ld_tape (q := 27) C hV (by omega) dX7_expect_26 rfl ?_
    refine gx_iload_n (q := 28) C dX7_expect_27 rfl rfl rfl ?_
    refine gn_icmp_ne (q := 31) (tgt := 44) C dX7_expect_28 (by decide) rfl (by omega) (by omega) (fun c28 => ?_) (fun c28 => by exfalso; exact e2 ⟨c15, c28⟩)
    refine gx_aload_n (q := 45) C dX7_expect_44 rfl rfl rfl ?_
    refine gx_iconst (q := 46) (v := bI false) C dX7_expect_45 (by decide) rfl ?_
    refine mv_pf_well (q := 49) C hV hF dX7_expect_46 rfl (fun M hV hF => ?_)
    exact gx_vret C E dX7_expect_49 (⟨hV, hF⟩) (by omega) (by omega)
set_option maxHeartbeats 4000000 in
theorem md_expect_f (l : Launch) (D : va_G) (b : Nat) (M0 : List va_E) {R T Ti Bf P F L Rw : Nat → Nat} {kp : Bool} {td aa so lo ro : Nat} (c : Nat) (hc : c < 256) (h64 : td ≤ 64) (hP : ∀ i, i < td → P i < 256)  (hV : md_V D b M0 R T Ti Bf P F L Rw kp td aa false so lo ro) : fb_CT l D b yX7_expect cX7_expect 2 none 0 0 0 0 [.ref (b + 43), .int (nI c)] M0 (.returned none) (fun M' => md_V D b M' R T Ti Bf P F L Rw kp td aa false so lo ro ∧ md_F M0 M') := by
  refine fb_start [some (.ref (b + 43)), some (.int (nI c))] (by decide) (Nat.le_of_ble_eq_true rfl) rfl ?_
  intro x hl hD hb C E hx
  subst hl hD hb
  have C : fb_OK x cX7_expect "FallsBetweenModel" "expect" := C
  have hF := md_F.rf M0
  have hb := h64
  refine gx_aload_n (q := 1) C dX7_expect_0 rfl rfl rfl ?_
  refine fg_X7_57 (q := 4) C hV.o rfl dX7_expect_1 rfl ?_
  refine gb_if_eq (q := 7) (tgt := 44) C dX7_expect_4 (by decide) rfl (fun c4 => ?_) (fun c4 => by exfalso; cases c4)
  refine gx_aload_n (q := 45) C dX7_expect_44 rfl rfl rfl ?_
  refine gx_iconst (q := 46) (v := bI false) C dX7_expect_45 (by decide) rfl ?_
  refine mv_pf_well (q := 49) C hV hF dX7_expect_46 rfl (fun M hV hF => ?_)
  exact gx_vret C E dX7_expect_49 (⟨hV, hF⟩) (by omega) (by omega)
set_option maxHeartbeats 4000000 in
theorem md_oneOf_bg_o (l : Launch) (D : va_G) (b : Nat) (M0 : List va_E) {R T Ti Bf P F L Rw : Nat → Nat} {kp : Bool} {td aa so lo ro : Nat} (h64 : td ≤ 64) (hP : ∀ i, i < td → P i < 256) {r a' : Nat} (h : onE P td md_bg 7 aa = .ok (r, a')) (hV : md_V D b M0 R T Ti Bf P F L Rw kp td aa true so lo ro) : fb_CT l D b yX7_oneOf cX7_oneOf 4 (some .int) 0 0 0 0 [.ref (b + 43), .ref (b + 49)] M0 (.returned (some (.int (nI r)))) (fun M' => md_V D b M' R T Ti Bf P F L Rw kp td a' true so lo ro ∧ md_F M0 M') := by
  refine fb_start [some (.ref (b + 43)), some (.ref (b + 49)), none, none] (by decide) (Nat.le_of_ble_eq_true rfl) rfl ?_
  intro x hl hD hb C E hx
  subst hl hD hb
  have C : fb_OK x cX7_oneOf "FallsBetweenModel" "oneOf" := C
  have hF := md_F.rf M0
  obtain ⟨g0, g1, g2⟩ := hV.bg
  have hbd : ∀ i, i < 7 → md_bg i < 256 := by decide
  obtain ⟨e1, e2, e3, e4⟩ := onE_b h
  have e5 := onE_first h
  subst e1
  have h2 := hP aa e2
  refine gx_iconst (q := 1) (v := -1) C dX7_oneOf_0 (by decide) rfl ?_
  refine gx_istore_n (q := 2) (lv' := [_, _, _, _]) C dX7_oneOf_1 rfl (Nat.le_of_ble_eq_true rfl) E.2.2.2.symm rfl rfl rfl ?_
  refine gx_iconst (q := 3) (v := nI 0) C dX7_oneOf_2 (by decide) rfl ?_
  refine gx_istore_n (q := 4) (lv' := [_, _, _, _]) C dX7_oneOf_3 rfl (Nat.le_of_ble_eq_true rfl) E.2.2.2.symm rfl rfl rfl ?_
  have Lp : ∀ k, k ≤ r → fb_G x M0 0 0 4 [some (.ref (cx_b x + 43)), some (.ref (cx_b x + 49)), some (.int (-1)), some (.int (nI k))] [] := by
    refine fb_dn r ?_ ?_
    · skip
      refine gx_iload_n (q := 5) C dX7_oneOf_4 rfl rfl rfl ?_
      refine gx_aload_n (q := 6) C dX7_oneOf_5 rfl rfl rfl ?_
      refine gx_alen (q := 7) (t0 := 3) C g1 rfl rfl dX7_oneOf_6 rfl ?_
      refine gn_icmp_ge (q := 10) (tgt := 55) C dX7_oneOf_7 (by decide) rfl (by omega) (by omega) (fun c7 => by exfalso; omega) (fun c7 => ?_)
      refine gx_aload_n (q := 11) C dX7_oneOf_10 rfl rfl rfl ?_
      refine fg_X7_57 (q := 14) C hV.o rfl dX7_oneOf_11 rfl ?_
      refine gb_if_eq (q := 17) (tgt := 55) C dX7_oneOf_14 (by decide) rfl (fun c14 => by exfalso; cases c14) (fun c14 => ?_)
      refine gx_iload_n (q := 18) C dX7_oneOf_17 rfl rfl rfl ?_
      refine gx_if_ge (q := 21) (tgt := 55) C dX7_oneOf_18 (by decide) rfl (fun c18 => by exfalso; revert c18; decide) (fun c18 => ?_)
      refine gx_aload_n (q := 22) C dX7_oneOf_21 rfl rfl rfl ?_
      refine fg_X7_60 (q := 25) C hV.o rfl dX7_oneOf_22 rfl ?_
      refine gx_aload_n (q := 26) C dX7_oneOf_25 rfl rfl rfl ?_
      refine fg_X7_53 (q := 29) C hV.o rfl dX7_oneOf_26 rfl ?_
      refine gn_icmp_ge (q := 32) (tgt := 49) C dX7_oneOf_29 (by decide) rfl (by omega) (by omega) (fun c29 => by exfalso; omega) (fun c29 => ?_)
      refine gx_aload_n (q := 33) C dX7_oneOf_32 rfl rfl rfl ?_
      refine fg_X7_22 (q := 36) C hV.o rfl dX7_oneOf_33 rfl ?_
      refine gx_aload_n (q := 37) C dX7_oneOf_36 rfl rfl rfl ?_
      refine fg_X7_60 (q := 40) C hV.o rfl dX7_oneOf_37 rfl ?_
      refine mv_ld_tape (q := 41) C hV (by omega) dX7_oneOf_40 rfl ?_
      refine gx_aload_n (q := 42) C dX7_oneOf_41 rfl rfl rfl ?_
      refine gx_iload_n (q := 43) C dX7_oneOf_42 rfl rfl rfl ?_
      refine mv_ld_begins (q := 44) C hV (by omega) dX7_oneOf_43 rfl ?_
      refine gn_icmp_ne (q := 47) (tgt := 49) C dX7_oneOf_44 (by decide) rfl (by omega) (by have := hbd r (by omega); omega) (fun c44 => by exfalso; exact c44 e4) (fun c44 => ?_)
      refine gx_iload_n (q := 48) C dX7_oneOf_47 rfl rfl rfl ?_
      refine gx_istore_n (q := 49) (lv' := [_, _, _, _]) C dX7_oneOf_48 rfl (Nat.le_of_ble_eq_true rfl) E.2.2.2.symm rfl rfl rfl ?_
      refine gn_inc (q := 52) (lv' := [_, _, _, _]) C dX7_oneOf_49 rfl E.2.2.2.symm rfl rfl rfl ?_
      refine gx_goto (tgt := 4) C dX7_oneOf_52 (by decide) ?_
      refine gx_iload_n (q := 5) C dX7_oneOf_4 rfl rfl rfl ?_
      refine gx_aload_n (q := 6) C dX7_oneOf_5 rfl rfl rfl ?_
      refine gx_alen (q := 7) (t0 := 3) C g1 rfl rfl dX7_oneOf_6 rfl ?_
      refine gn_icmp_ge (q := 10) (tgt := 55) C dX7_oneOf_7 (by decide) rfl (by omega) (by omega) (fun c7 => ?_) (fun c7 => ?_)
      · refine gx_iload_n (q := 56) C dX7_oneOf_55 rfl rfl rfl ?_
        refine gx_if_ge (q := 59) (tgt := 66) C dX7_oneOf_56 (by decide) rfl (fun c56 => ?_) (fun c56 => by exfalso; exact c56 (nI_pos' (by omega)))
        refine gx_aload_n (q := 67) C dX7_oneOf_66 rfl rfl rfl ?_
        refine gx_dup (q := 68) C dX7_oneOf_67 rfl rfl ?_
        refine fg_X7_60 (q := 71) C hV.o rfl dX7_oneOf_68 rfl ?_
        refine gx_iconst (q := 72) (v := nI 1) C dX7_oneOf_71 (by decide) rfl ?_
        refine gn_iadd (q := 73) C dX7_oneOf_72 rfl ?_
        refine mv_pf_at (q := 76) C hV hF dX7_oneOf_73 rfl (fun M hV hF => ?_)
        refine gx_iload_n (q := 77) C dX7_oneOf_76 rfl rfl rfl ?_
        exact gx_iret C E dX7_oneOf_77 (⟨hV, hF⟩) (by omega) (by omega)
      · refine gx_aload_n (q := 11) C dX7_oneOf_10 rfl rfl rfl ?_
        refine fg_X7_57 (q := 14) C hV.o rfl dX7_oneOf_11 rfl ?_
        refine gb_if_eq (q := 17) (tgt := 55) C dX7_oneOf_14 (by decide) rfl (fun c14 => by exfalso; cases c14) (fun c14 => ?_)
        refine gx_iload_n (q := 18) C dX7_oneOf_17 rfl rfl rfl ?_
        refine gx_if_ge (q := 21) (tgt := 55) C dX7_oneOf_18 (by decide) rfl (fun c18 => ?_) (fun c18 => by exfalso; exact c18 (nI_pos' (by omega)))
        refine gx_iload_n (q := 56) C dX7_oneOf_55 rfl rfl rfl ?_
        refine gx_if_ge (q := 59) (tgt := 66) C dX7_oneOf_56 (by decide) rfl (fun c56 => ?_) (fun c56 => by exfalso; exact c56 (nI_pos' (by omega)))
        refine gx_aload_n (q := 67) C dX7_oneOf_66 rfl rfl rfl ?_
        refine gx_dup (q := 68) C dX7_oneOf_67 rfl rfl ?_
        refine fg_X7_60 (q := 71) C hV.o rfl dX7_oneOf_68 rfl ?_
        refine gx_iconst (q := 72) (v := nI 1) C dX7_oneOf_71 (by decide) rfl ?_
        refine gn_iadd (q := 73) C dX7_oneOf_72 rfl ?_
        refine mv_pf_at (q := 76) C hV hF dX7_oneOf_73 rfl (fun M hV hF => ?_)
        refine gx_iload_n (q := 77) C dX7_oneOf_76 rfl rfl rfl ?_
        exact gx_iret C E dX7_oneOf_77 (⟨hV, hF⟩) (by omega) (by omega)
    · intro k hk4 ih
      refine gx_iload_n (q := 5) C dX7_oneOf_4 rfl rfl rfl ?_
      refine gx_aload_n (q := 6) C dX7_oneOf_5 rfl rfl rfl ?_
      refine gx_alen (q := 7) (t0 := 3) C g1 rfl rfl dX7_oneOf_6 rfl ?_
      refine gn_icmp_ge (q := 10) (tgt := 55) C dX7_oneOf_7 (by decide) rfl (by omega) (by omega) (fun c7 => by exfalso; omega) (fun c7 => ?_)
      refine gx_aload_n (q := 11) C dX7_oneOf_10 rfl rfl rfl ?_
      refine fg_X7_57 (q := 14) C hV.o rfl dX7_oneOf_11 rfl ?_
      refine gb_if_eq (q := 17) (tgt := 55) C dX7_oneOf_14 (by decide) rfl (fun c14 => by exfalso; cases c14) (fun c14 => ?_)
      refine gx_iload_n (q := 18) C dX7_oneOf_17 rfl rfl rfl ?_
      refine gx_if_ge (q := 21) (tgt := 55) C dX7_oneOf_18 (by decide) rfl (fun c18 => by exfalso; revert c18; decide) (fun c18 => ?_)
      refine gx_aload_n (q := 22) C dX7_oneOf_21 rfl rfl rfl ?_
      refine fg_X7_60 (q := 25) C hV.o rfl dX7_oneOf_22 rfl ?_
      refine gx_aload_n (q := 26) C dX7_oneOf_25 rfl rfl rfl ?_
      refine fg_X7_53 (q := 29) C hV.o rfl dX7_oneOf_26 rfl ?_
      refine gn_icmp_ge (q := 32) (tgt := 49) C dX7_oneOf_29 (by decide) rfl (by omega) (by omega) (fun c29 => by exfalso; omega) (fun c29 => ?_)
      refine gx_aload_n (q := 33) C dX7_oneOf_32 rfl rfl rfl ?_
      refine fg_X7_22 (q := 36) C hV.o rfl dX7_oneOf_33 rfl ?_
      refine gx_aload_n (q := 37) C dX7_oneOf_36 rfl rfl rfl ?_
      refine fg_X7_60 (q := 40) C hV.o rfl dX7_oneOf_37 rfl ?_
      refine mv_ld_tape (q := 41) C hV (by omega) dX7_oneOf_40 rfl ?_
      refine gx_aload_n (q := 42) C dX7_oneOf_41 rfl rfl rfl ?_
      refine gx_iload_n (q := 43) C dX7_oneOf_42 rfl rfl rfl ?_
      refine mv_ld_begins (q := 44) C hV (by omega) dX7_oneOf_43 rfl ?_
      refine gn_icmp_ne (q := 47) (tgt := 49) C dX7_oneOf_44 (by decide) rfl (by omega) (by have := hbd k (by omega); omega) (fun c44 => ?_) (fun c44 => by exfalso; exact e5 k hk4 c44)
      refine gn_inc (q := 52) (lv' := [_, _, _, _]) C dX7_oneOf_49 rfl E.2.2.2.symm rfl rfl rfl ?_
      refine gx_goto (tgt := 4) C dX7_oneOf_52 (by decide) ?_
      exact ih
  exact Lp 0 (by omega)
set_option maxHeartbeats 4000000 in
theorem md_oneOf_bg_e (l : Launch) (D : va_G) (b : Nat) (M0 : List va_E) {R T Ti Bf P F L Rw : Nat → Nat} {kp : Bool} {td aa so lo ro : Nat} (h64 : td ≤ 64) (hP : ∀ i, i < td → P i < 256) {e : Nat} (h : onE P td md_bg 7 aa = .error e) (ha : aa ≤ td) (hV : md_V D b M0 R T Ti Bf P F L Rw kp td aa true so lo ro) : fb_CT l D b yX7_oneOf cX7_oneOf 4 (some .int) 0 0 0 0 [.ref (b + 43), .ref (b + 49)] M0 (.returned (some (.int (nI 0)))) (fun M' => md_V D b M' R T Ti Bf P F L Rw kp td e false so lo ro ∧ md_F M0 M') := by
  refine fb_start [some (.ref (b + 43)), some (.ref (b + 49)), none, none] (by decide) (Nat.le_of_ble_eq_true rfl) rfl ?_
  intro x hl hD hb C E hx
  subst hl hD hb
  have C : fb_OK x cX7_oneOf "FallsBetweenModel" "oneOf" := C
  have hF := md_F.rf M0
  obtain ⟨g0, g1, g2⟩ := hV.bg
  have hbd : ∀ i, i < 7 → md_bg i < 256 := by decide
  have e1 := onE_e h
  have e5 := onE_none h
  subst e1
  refine gx_iconst (q := 1) (v := -1) C dX7_oneOf_0 (by decide) rfl ?_
  refine gx_istore_n (q := 2) (lv' := [_, _, _, _]) C dX7_oneOf_1 rfl (Nat.le_of_ble_eq_true rfl) E.2.2.2.symm rfl rfl rfl ?_
  refine gx_iconst (q := 3) (v := nI 0) C dX7_oneOf_2 (by decide) rfl ?_
  refine gx_istore_n (q := 4) (lv' := [_, _, _, _]) C dX7_oneOf_3 rfl (Nat.le_of_ble_eq_true rfl) E.2.2.2.symm rfl rfl rfl ?_
  have Lp : ∀ k, k ≤ 7 → fb_G x M0 0 0 4 [some (.ref (cx_b x + 43)), some (.ref (cx_b x + 49)), some (.int (-1)), some (.int (nI k))] [] := by
    refine fb_dn 7 ?_ ?_
    · skip
      refine gx_iload_n (q := 5) C dX7_oneOf_4 rfl rfl rfl ?_
      refine gx_aload_n (q := 6) C dX7_oneOf_5 rfl rfl rfl ?_
      refine gx_alen (q := 7) (t0 := 3) C g1 rfl rfl dX7_oneOf_6 rfl ?_
      refine gn_icmp_ge (q := 10) (tgt := 55) C dX7_oneOf_7 (by decide) rfl (by omega) (by omega) (fun c7 => ?_) (fun c7 => by exfalso; omega)
      refine gx_iload_n (q := 56) C dX7_oneOf_55 rfl rfl rfl ?_
      refine gx_if_ge (q := 59) (tgt := 66) C dX7_oneOf_56 (by decide) rfl (fun c56 => by exfalso; revert c56; decide) (fun c56 => ?_)
      refine gx_aload_n (q := 60) C dX7_oneOf_59 rfl rfl rfl ?_
      refine gx_iconst (q := 61) (v := bI false) C dX7_oneOf_60 (by decide) rfl ?_
      refine mv_pf_well (q := 64) C hV hF dX7_oneOf_61 rfl (fun M hV hF => ?_)
      refine gx_iconst (q := 65) (v := nI 0) C dX7_oneOf_64 (by decide) rfl ?_
      exact gx_iret C E dX7_oneOf_65 (⟨hV, hF⟩) (by omega) (by omega)
    · intro k hk4 ih
      refine gx_iload_n (q := 5) C dX7_oneOf_4 rfl rfl rfl ?_
      refine gx_aload_n (q := 6) C dX7_oneOf_5 rfl rfl rfl ?_
      refine gx_alen (q := 7) (t0 := 3) C g1 rfl rfl dX7_oneOf_6 rfl ?_
      refine gn_icmp_ge (q := 10) (tgt := 55) C dX7_oneOf_7 (by decide) rfl (by omega) (by omega) (fun c7 => by exfalso; omega) (fun c7 => ?_)
      refine gx_aload_n (q := 11) C dX7_oneOf_10 rfl rfl rfl ?_
      refine fg_X7_57 (q := 14) C hV.o rfl dX7_oneOf_11 rfl ?_
      refine gb_if_eq (q := 17) (tgt := 55) C dX7_oneOf_14 (by decide) rfl (fun c14 => by exfalso; cases c14) (fun c14 => ?_)
      refine gx_iload_n (q := 18) C dX7_oneOf_17 rfl rfl rfl ?_
      refine gx_if_ge (q := 21) (tgt := 55) C dX7_oneOf_18 (by decide) rfl (fun c18 => by exfalso; revert c18; decide) (fun c18 => ?_)
      refine gx_aload_n (q := 22) C dX7_oneOf_21 rfl rfl rfl ?_
      refine fg_X7_60 (q := 25) C hV.o rfl dX7_oneOf_22 rfl ?_
      refine gx_aload_n (q := 26) C dX7_oneOf_25 rfl rfl rfl ?_
      refine fg_X7_53 (q := 29) C hV.o rfl dX7_oneOf_26 rfl ?_
      refine gn_icmp_ge (q := 32) (tgt := 49) C dX7_oneOf_29 (by decide) rfl (by omega) (by omega) (fun c29 => ?_) (fun c29 => ?_)
      · refine gn_inc (q := 52) (lv' := [_, _, _, _]) C dX7_oneOf_49 rfl E.2.2.2.symm rfl rfl rfl ?_
        refine gx_goto (tgt := 4) C dX7_oneOf_52 (by decide) ?_
        exact ih
      · refine gx_aload_n (q := 33) C dX7_oneOf_32 rfl rfl rfl ?_
        refine fg_X7_22 (q := 36) C hV.o rfl dX7_oneOf_33 rfl ?_
        refine gx_aload_n (q := 37) C dX7_oneOf_36 rfl rfl rfl ?_
        refine fg_X7_60 (q := 40) C hV.o rfl dX7_oneOf_37 rfl ?_
        refine mv_ld_tape (q := 41) C hV (by omega) dX7_oneOf_40 rfl ?_
        refine gx_aload_n (q := 42) C dX7_oneOf_41 rfl rfl rfl ?_
        refine gx_iload_n (q := 43) C dX7_oneOf_42 rfl rfl rfl ?_
        refine mv_ld_begins (q := 44) C hV (by omega) dX7_oneOf_43 rfl ?_
        refine gn_icmp_ne (q := 47) (tgt := 49) C dX7_oneOf_44 (by decide) rfl (by have := hP _ c29; omega) (by have := hbd k (by omega); omega) (fun c44 => ?_) (fun c44 => by exfalso; exact e5 c29 k hk4 c44)
        refine gn_inc (q := 52) (lv' := [_, _, _, _]) C dX7_oneOf_49 rfl E.2.2.2.symm rfl rfl rfl ?_
        refine gx_goto (tgt := 4) C dX7_oneOf_52 (by decide) ?_
        exact ih
  exact Lp 0 (by omega)
set_option maxHeartbeats 4000000 in
theorem md_oneOf_bg_f (l : Launch) (D : va_G) (b : Nat) (M0 : List va_E) {R T Ti Bf P F L Rw : Nat → Nat} {kp : Bool} {td aa so lo ro : Nat} (h64 : td ≤ 64) (hP : ∀ i, i < td → P i < 256)  (hV : md_V D b M0 R T Ti Bf P F L Rw kp td aa false so lo ro) : fb_CT l D b yX7_oneOf cX7_oneOf 4 (some .int) 0 0 0 0 [.ref (b + 43), .ref (b + 49)] M0 (.returned (some (.int (nI 0)))) (fun M' => md_V D b M' R T Ti Bf P F L Rw kp td aa false so lo ro ∧ md_F M0 M') := by
  refine fb_start [some (.ref (b + 43)), some (.ref (b + 49)), none, none] (by decide) (Nat.le_of_ble_eq_true rfl) rfl ?_
  intro x hl hD hb C E hx
  subst hl hD hb
  have C : fb_OK x cX7_oneOf "FallsBetweenModel" "oneOf" := C
  have hF := md_F.rf M0
  obtain ⟨g0, g1, g2⟩ := hV.bg
  have hbd : ∀ i, i < 7 → md_bg i < 256 := by decide
  refine gx_iconst (q := 1) (v := -1) C dX7_oneOf_0 (by decide) rfl ?_
  refine gx_istore_n (q := 2) (lv' := [_, _, _, _]) C dX7_oneOf_1 rfl (Nat.le_of_ble_eq_true rfl) E.2.2.2.symm rfl rfl rfl ?_
  refine gx_iconst (q := 3) (v := nI 0) C dX7_oneOf_2 (by decide) rfl ?_
  refine gx_istore_n (q := 4) (lv' := [_, _, _, _]) C dX7_oneOf_3 rfl (Nat.le_of_ble_eq_true rfl) E.2.2.2.symm rfl rfl rfl ?_
  refine gx_iload_n (q := 5) C dX7_oneOf_4 rfl rfl rfl ?_
  refine gx_aload_n (q := 6) C dX7_oneOf_5 rfl rfl rfl ?_
  refine gx_alen (q := 7) (t0 := 3) C g1 rfl rfl dX7_oneOf_6 rfl ?_
  refine gn_icmp_ge (q := 10) (tgt := 55) C dX7_oneOf_7 (by decide) rfl (by omega) (by omega) (fun c7 => by exfalso; omega) (fun c7 => ?_)
  refine gx_aload_n (q := 11) C dX7_oneOf_10 rfl rfl rfl ?_
  refine fg_X7_57 (q := 14) C hV.o rfl dX7_oneOf_11 rfl ?_
  refine gb_if_eq (q := 17) (tgt := 55) C dX7_oneOf_14 (by decide) rfl (fun c14 => ?_) (fun c14 => by exfalso; cases c14)
  refine gx_iload_n (q := 56) C dX7_oneOf_55 rfl rfl rfl ?_
  refine gx_if_ge (q := 59) (tgt := 66) C dX7_oneOf_56 (by decide) rfl (fun c56 => by exfalso; revert c56; decide) (fun c56 => ?_)
  refine gx_aload_n (q := 60) C dX7_oneOf_59 rfl rfl rfl ?_
  refine gx_iconst (q := 61) (v := bI false) C dX7_oneOf_60 (by decide) rfl ?_
  refine mv_pf_well (q := 64) C hV hF dX7_oneOf_61 rfl (fun M hV hF => ?_)
  refine gx_iconst (q := 65) (v := nI 0) C dX7_oneOf_64 (by decide) rfl ?_
  exact gx_iret C E dX7_oneOf_65 (⟨hV, hF⟩) (by omega) (by omega)
set_option maxHeartbeats 4000000 in
theorem md_oneOf_kd_o (l : Launch) (D : va_G) (b : Nat) (M0 : List va_E) {R T Ti Bf P F L Rw : Nat → Nat} {kp : Bool} {td aa so lo ro : Nat} (h64 : td ≤ 64) (hP : ∀ i, i < td → P i < 256) {r a' : Nat} (h : onE P td md_kd 6 aa = .ok (r, a')) (hV : md_V D b M0 R T Ti Bf P F L Rw kp td aa true so lo ro) : fb_CT l D b yX7_oneOf cX7_oneOf 4 (some .int) 0 0 0 0 [.ref (b + 43), .ref (b + 50)] M0 (.returned (some (.int (nI r)))) (fun M' => md_V D b M' R T Ti Bf P F L Rw kp td a' true so lo ro ∧ md_F M0 M') := by
  refine fb_start [some (.ref (b + 43)), some (.ref (b + 50)), none, none] (by decide) (Nat.le_of_ble_eq_true rfl) rfl ?_
  intro x hl hD hb C E hx
  subst hl hD hb
  have C : fb_OK x cX7_oneOf "FallsBetweenModel" "oneOf" := C
  have hF := md_F.rf M0
  obtain ⟨g0, g1, g2⟩ := hV.kd
  have hbd : ∀ i, i < 6 → md_kd i < 256 := by decide
  obtain ⟨e1, e2, e3, e4⟩ := onE_b h
  have e5 := onE_first h
  subst e1
  have h2 := hP aa e2
  refine gx_iconst (q := 1) (v := -1) C dX7_oneOf_0 (by decide) rfl ?_
  refine gx_istore_n (q := 2) (lv' := [_, _, _, _]) C dX7_oneOf_1 rfl (Nat.le_of_ble_eq_true rfl) E.2.2.2.symm rfl rfl rfl ?_
  refine gx_iconst (q := 3) (v := nI 0) C dX7_oneOf_2 (by decide) rfl ?_
  refine gx_istore_n (q := 4) (lv' := [_, _, _, _]) C dX7_oneOf_3 rfl (Nat.le_of_ble_eq_true rfl) E.2.2.2.symm rfl rfl rfl ?_
  have Lp : ∀ k, k ≤ r → fb_G x M0 0 0 4 [some (.ref (cx_b x + 43)), some (.ref (cx_b x + 50)), some (.int (-1)), some (.int (nI k))] [] := by
    refine fb_dn r ?_ ?_
    · skip
      refine gx_iload_n (q := 5) C dX7_oneOf_4 rfl rfl rfl ?_
      refine gx_aload_n (q := 6) C dX7_oneOf_5 rfl rfl rfl ?_
      refine gx_alen (q := 7) (t0 := 3) C g1 rfl rfl dX7_oneOf_6 rfl ?_
      refine gn_icmp_ge (q := 10) (tgt := 55) C dX7_oneOf_7 (by decide) rfl (by omega) (by omega) (fun c7 => by exfalso; omega) (fun c7 => ?_)
      refine gx_aload_n (q := 11) C dX7_oneOf_10 rfl rfl rfl ?_
      refine fg_X7_57 (q := 14) C hV.o rfl dX7_oneOf_11 rfl ?_
      refine gb_if_eq (q := 17) (tgt := 55) C dX7_oneOf_14 (by decide) rfl (fun c14 => by exfalso; cases c14) (fun c14 => ?_)
      refine gx_iload_n (q := 18) C dX7_oneOf_17 rfl rfl rfl ?_
      refine gx_if_ge (q := 21) (tgt := 55) C dX7_oneOf_18 (by decide) rfl (fun c18 => by exfalso; revert c18; decide) (fun c18 => ?_)
      refine gx_aload_n (q := 22) C dX7_oneOf_21 rfl rfl rfl ?_
      refine fg_X7_60 (q := 25) C hV.o rfl dX7_oneOf_22 rfl ?_
      refine gx_aload_n (q := 26) C dX7_oneOf_25 rfl rfl rfl ?_
      refine fg_X7_53 (q := 29) C hV.o rfl dX7_oneOf_26 rfl ?_
      refine gn_icmp_ge (q := 32) (tgt := 49) C dX7_oneOf_29 (by decide) rfl (by omega) (by omega) (fun c29 => by exfalso; omega) (fun c29 => ?_)
      refine gx_aload_n (q := 33) C dX7_oneOf_32 rfl rfl rfl ?_
      refine fg_X7_22 (q := 36) C hV.o rfl dX7_oneOf_33 rfl ?_
      refine gx_aload_n (q := 37) C dX7_oneOf_36 rfl rfl rfl ?_
      refine fg_X7_60 (q := 40) C hV.o rfl dX7_oneOf_37 rfl ?_
      refine mv_ld_tape (q := 41) C hV (by omega) dX7_oneOf_40 rfl ?_
      refine gx_aload_n (q := 42) C dX7_oneOf_41 rfl rfl rfl ?_
      refine gx_iload_n (q := 43) C dX7_oneOf_42 rfl rfl rfl ?_
      refine mv_ld_kinds (q := 44) C hV (by omega) dX7_oneOf_43 rfl ?_
      refine gn_icmp_ne (q := 47) (tgt := 49) C dX7_oneOf_44 (by decide) rfl (by omega) (by have := hbd r (by omega); omega) (fun c44 => by exfalso; exact c44 e4) (fun c44 => ?_)
      refine gx_iload_n (q := 48) C dX7_oneOf_47 rfl rfl rfl ?_
      refine gx_istore_n (q := 49) (lv' := [_, _, _, _]) C dX7_oneOf_48 rfl (Nat.le_of_ble_eq_true rfl) E.2.2.2.symm rfl rfl rfl ?_
      refine gn_inc (q := 52) (lv' := [_, _, _, _]) C dX7_oneOf_49 rfl E.2.2.2.symm rfl rfl rfl ?_
      refine gx_goto (tgt := 4) C dX7_oneOf_52 (by decide) ?_
      refine gx_iload_n (q := 5) C dX7_oneOf_4 rfl rfl rfl ?_
      refine gx_aload_n (q := 6) C dX7_oneOf_5 rfl rfl rfl ?_
      refine gx_alen (q := 7) (t0 := 3) C g1 rfl rfl dX7_oneOf_6 rfl ?_
      refine gn_icmp_ge (q := 10) (tgt := 55) C dX7_oneOf_7 (by decide) rfl (by omega) (by omega) (fun c7 => ?_) (fun c7 => ?_)
      · refine gx_iload_n (q := 56) C dX7_oneOf_55 rfl rfl rfl ?_
        refine gx_if_ge (q := 59) (tgt := 66) C dX7_oneOf_56 (by decide) rfl (fun c56 => ?_) (fun c56 => by exfalso; exact c56 (nI_pos' (by omega)))
        refine gx_aload_n (q := 67) C dX7_oneOf_66 rfl rfl rfl ?_
        refine gx_dup (q := 68) C dX7_oneOf_67 rfl rfl ?_
        refine fg_X7_60 (q := 71) C hV.o rfl dX7_oneOf_68 rfl ?_
        refine gx_iconst (q := 72) (v := nI 1) C dX7_oneOf_71 (by decide) rfl ?_
        refine gn_iadd (q := 73) C dX7_oneOf_72 rfl ?_
        refine mv_pf_at (q := 76) C hV hF dX7_oneOf_73 rfl (fun M hV hF => ?_)
        refine gx_iload_n (q := 77) C dX7_oneOf_76 rfl rfl rfl ?_
        exact gx_iret C E dX7_oneOf_77 (⟨hV, hF⟩) (by omega) (by omega)
      · refine gx_aload_n (q := 11) C dX7_oneOf_10 rfl rfl rfl ?_
        refine fg_X7_57 (q := 14) C hV.o rfl dX7_oneOf_11 rfl ?_
        refine gb_if_eq (q := 17) (tgt := 55) C dX7_oneOf_14 (by decide) rfl (fun c14 => by exfalso; cases c14) (fun c14 => ?_)
        refine gx_iload_n (q := 18) C dX7_oneOf_17 rfl rfl rfl ?_
        refine gx_if_ge (q := 21) (tgt := 55) C dX7_oneOf_18 (by decide) rfl (fun c18 => ?_) (fun c18 => by exfalso; exact c18 (nI_pos' (by omega)))
        refine gx_iload_n (q := 56) C dX7_oneOf_55 rfl rfl rfl ?_
        refine gx_if_ge (q := 59) (tgt := 66) C dX7_oneOf_56 (by decide) rfl (fun c56 => ?_) (fun c56 => by exfalso; exact c56 (nI_pos' (by omega)))
        refine gx_aload_n (q := 67) C dX7_oneOf_66 rfl rfl rfl ?_
        refine gx_dup (q := 68) C dX7_oneOf_67 rfl rfl ?_
        refine fg_X7_60 (q := 71) C hV.o rfl dX7_oneOf_68 rfl ?_
        refine gx_iconst (q := 72) (v := nI 1) C dX7_oneOf_71 (by decide) rfl ?_
        refine gn_iadd (q := 73) C dX7_oneOf_72 rfl ?_
        refine mv_pf_at (q := 76) C hV hF dX7_oneOf_73 rfl (fun M hV hF => ?_)
        refine gx_iload_n (q := 77) C dX7_oneOf_76 rfl rfl rfl ?_
        exact gx_iret C E dX7_oneOf_77 (⟨hV, hF⟩) (by omega) (by omega)
    · intro k hk4 ih
      refine gx_iload_n (q := 5) C dX7_oneOf_4 rfl rfl rfl ?_
      refine gx_aload_n (q := 6) C dX7_oneOf_5 rfl rfl rfl ?_
      refine gx_alen (q := 7) (t0 := 3) C g1 rfl rfl dX7_oneOf_6 rfl ?_
      refine gn_icmp_ge (q := 10) (tgt := 55) C dX7_oneOf_7 (by decide) rfl (by omega) (by omega) (fun c7 => by exfalso; omega) (fun c7 => ?_)
      refine gx_aload_n (q := 11) C dX7_oneOf_10 rfl rfl rfl ?_
      refine fg_X7_57 (q := 14) C hV.o rfl dX7_oneOf_11 rfl ?_
      refine gb_if_eq (q := 17) (tgt := 55) C dX7_oneOf_14 (by decide) rfl (fun c14 => by exfalso; cases c14) (fun c14 => ?_)
      refine gx_iload_n (q := 18) C dX7_oneOf_17 rfl rfl rfl ?_
      refine gx_if_ge (q := 21) (tgt := 55) C dX7_oneOf_18 (by decide) rfl (fun c18 => by exfalso; revert c18; decide) (fun c18 => ?_)
      refine gx_aload_n (q := 22) C dX7_oneOf_21 rfl rfl rfl ?_
      refine fg_X7_60 (q := 25) C hV.o rfl dX7_oneOf_22 rfl ?_
      refine gx_aload_n (q := 26) C dX7_oneOf_25 rfl rfl rfl ?_
      refine fg_X7_53 (q := 29) C hV.o rfl dX7_oneOf_26 rfl ?_
      refine gn_icmp_ge (q := 32) (tgt := 49) C dX7_oneOf_29 (by decide) rfl (by omega) (by omega) (fun c29 => by exfalso; omega) (fun c29 => ?_)
      refine gx_aload_n (q := 33) C dX7_oneOf_32 rfl rfl rfl ?_
      refine fg_X7_22 (q := 36) C hV.o rfl dX7_oneOf_33 rfl ?_
      refine gx_aload_n (q := 37) C dX7_oneOf_36 rfl rfl rfl ?_
      refine fg_X7_60 (q := 40) C hV.o rfl dX7_oneOf_37 rfl ?_
      refine mv_ld_tape (q := 41) C hV (by omega) dX7_oneOf_40 rfl ?_
      refine gx_aload_n (q := 42) C dX7_oneOf_41 rfl rfl rfl ?_
      refine gx_iload_n (q := 43) C dX7_oneOf_42 rfl rfl rfl ?_
      refine mv_ld_kinds (q := 44) C hV (by omega) dX7_oneOf_43 rfl ?_
      refine gn_icmp_ne (q := 47) (tgt := 49) C dX7_oneOf_44 (by decide) rfl (by omega) (by have := hbd k (by omega); omega) (fun c44 => ?_) (fun c44 => by exfalso; exact e5 k hk4 c44)
      refine gn_inc (q := 52) (lv' := [_, _, _, _]) C dX7_oneOf_49 rfl E.2.2.2.symm rfl rfl rfl ?_
      refine gx_goto (tgt := 4) C dX7_oneOf_52 (by decide) ?_
      exact ih
  exact Lp 0 (by omega)
set_option maxHeartbeats 4000000 in
theorem md_oneOf_kd_e (l : Launch) (D : va_G) (b : Nat) (M0 : List va_E) {R T Ti Bf P F L Rw : Nat → Nat} {kp : Bool} {td aa so lo ro : Nat} (h64 : td ≤ 64) (hP : ∀ i, i < td → P i < 256) {e : Nat} (h : onE P td md_kd 6 aa = .error e) (ha : aa ≤ td) (hV : md_V D b M0 R T Ti Bf P F L Rw kp td aa true so lo ro) : fb_CT l D b yX7_oneOf cX7_oneOf 4 (some .int) 0 0 0 0 [.ref (b + 43), .ref (b + 50)] M0 (.returned (some (.int (nI 0)))) (fun M' => md_V D b M' R T Ti Bf P F L Rw kp td e false so lo ro ∧ md_F M0 M') := by
  refine fb_start [some (.ref (b + 43)), some (.ref (b + 50)), none, none] (by decide) (Nat.le_of_ble_eq_true rfl) rfl ?_
  intro x hl hD hb C E hx
  subst hl hD hb
  have C : fb_OK x cX7_oneOf "FallsBetweenModel" "oneOf" := C
  have hF := md_F.rf M0
  obtain ⟨g0, g1, g2⟩ := hV.kd
  have hbd : ∀ i, i < 6 → md_kd i < 256 := by decide
  have e1 := onE_e h
  have e5 := onE_none h
  subst e1
  refine gx_iconst (q := 1) (v := -1) C dX7_oneOf_0 (by decide) rfl ?_
  refine gx_istore_n (q := 2) (lv' := [_, _, _, _]) C dX7_oneOf_1 rfl (Nat.le_of_ble_eq_true rfl) E.2.2.2.symm rfl rfl rfl ?_
  refine gx_iconst (q := 3) (v := nI 0) C dX7_oneOf_2 (by decide) rfl ?_
  refine gx_istore_n (q := 4) (lv' := [_, _, _, _]) C dX7_oneOf_3 rfl (Nat.le_of_ble_eq_true rfl) E.2.2.2.symm rfl rfl rfl ?_
  have Lp : ∀ k, k ≤ 6 → fb_G x M0 0 0 4 [some (.ref (cx_b x + 43)), some (.ref (cx_b x + 50)), some (.int (-1)), some (.int (nI k))] [] := by
    refine fb_dn 6 ?_ ?_
    · skip
      refine gx_iload_n (q := 5) C dX7_oneOf_4 rfl rfl rfl ?_
      refine gx_aload_n (q := 6) C dX7_oneOf_5 rfl rfl rfl ?_
      refine gx_alen (q := 7) (t0 := 3) C g1 rfl rfl dX7_oneOf_6 rfl ?_
      refine gn_icmp_ge (q := 10) (tgt := 55) C dX7_oneOf_7 (by decide) rfl (by omega) (by omega) (fun c7 => ?_) (fun c7 => by exfalso; omega)
      refine gx_iload_n (q := 56) C dX7_oneOf_55 rfl rfl rfl ?_
      refine gx_if_ge (q := 59) (tgt := 66) C dX7_oneOf_56 (by decide) rfl (fun c56 => by exfalso; revert c56; decide) (fun c56 => ?_)
      refine gx_aload_n (q := 60) C dX7_oneOf_59 rfl rfl rfl ?_
      refine gx_iconst (q := 61) (v := bI false) C dX7_oneOf_60 (by decide) rfl ?_
      refine mv_pf_well (q := 64) C hV hF dX7_oneOf_61 rfl (fun M hV hF => ?_)
      refine gx_iconst (q := 65) (v := nI 0) C dX7_oneOf_64 (by decide) rfl ?_
      exact gx_iret C E dX7_oneOf_65 (⟨hV, hF⟩) (by omega) (by omega)
    · intro k hk4 ih
      refine gx_iload_n (q := 5) C dX7_oneOf_4 rfl rfl rfl ?_
      refine gx_aload_n (q := 6) C dX7_oneOf_5 rfl rfl rfl ?_
      refine gx_alen (q := 7) (t0 := 3) C g1 rfl rfl dX7_oneOf_6 rfl ?_
      refine gn_icmp_ge (q := 10) (tgt := 55) C dX7_oneOf_7 (by decide) rfl (by omega) (by omega) (fun c7 => by exfalso; omega) (fun c7 => ?_)
      refine gx_aload_n (q := 11) C dX7_oneOf_10 rfl rfl rfl ?_
      refine fg_X7_57 (q := 14) C hV.o rfl dX7_oneOf_11 rfl ?_
      refine gb_if_eq (q := 17) (tgt := 55) C dX7_oneOf_14 (by decide) rfl (fun c14 => by exfalso; cases c14) (fun c14 => ?_)
      refine gx_iload_n (q := 18) C dX7_oneOf_17 rfl rfl rfl ?_
      refine gx_if_ge (q := 21) (tgt := 55) C dX7_oneOf_18 (by decide) rfl (fun c18 => by exfalso; revert c18; decide) (fun c18 => ?_)
      refine gx_aload_n (q := 22) C dX7_oneOf_21 rfl rfl rfl ?_
      refine fg_X7_60 (q := 25) C hV.o rfl dX7_oneOf_22 rfl ?_
      refine gx_aload_n (q := 26) C dX7_oneOf_25 rfl rfl rfl ?_
      refine fg_X7_53 (q := 29) C hV.o rfl dX7_oneOf_26 rfl ?_
      refine gn_icmp_ge (q := 32) (tgt := 49) C dX7_oneOf_29 (by decide) rfl (by omega) (by omega) (fun c29 => ?_) (fun c29 => ?_)
      · refine gn_inc (q := 52) (lv' := [_, _, _, _]) C dX7_oneOf_49 rfl E.2.2.2.symm rfl rfl rfl ?_
        refine gx_goto (tgt := 4) C dX7_oneOf_52 (by decide) ?_
        exact ih
      · refine gx_aload_n (q := 33) C dX7_oneOf_32 rfl rfl rfl ?_
        refine fg_X7_22 (q := 36) C hV.o rfl dX7_oneOf_33 rfl ?_
        refine gx_aload_n (q := 37) C dX7_oneOf_36 rfl rfl rfl ?_
        refine fg_X7_60 (q := 40) C hV.o rfl dX7_oneOf_37 rfl ?_
        refine mv_ld_tape (q := 41) C hV (by omega) dX7_oneOf_40 rfl ?_
        refine gx_aload_n (q := 42) C dX7_oneOf_41 rfl rfl rfl ?_
        refine gx_iload_n (q := 43) C dX7_oneOf_42 rfl rfl rfl ?_
        refine mv_ld_kinds (q := 44) C hV (by omega) dX7_oneOf_43 rfl ?_
        refine gn_icmp_ne (q := 47) (tgt := 49) C dX7_oneOf_44 (by decide) rfl (by have := hP _ c29; omega) (by have := hbd k (by omega); omega) (fun c44 => ?_) (fun c44 => by exfalso; exact e5 c29 k hk4 c44)
        refine gn_inc (q := 52) (lv' := [_, _, _, _]) C dX7_oneOf_49 rfl E.2.2.2.symm rfl rfl rfl ?_
        refine gx_goto (tgt := 4) C dX7_oneOf_52 (by decide) ?_
        exact ih
  exact Lp 0 (by omega)
set_option maxHeartbeats 4000000 in
theorem md_oneOf_kd_f (l : Launch) (D : va_G) (b : Nat) (M0 : List va_E) {R T Ti Bf P F L Rw : Nat → Nat} {kp : Bool} {td aa so lo ro : Nat} (h64 : td ≤ 64) (hP : ∀ i, i < td → P i < 256)  (hV : md_V D b M0 R T Ti Bf P F L Rw kp td aa false so lo ro) : fb_CT l D b yX7_oneOf cX7_oneOf 4 (some .int) 0 0 0 0 [.ref (b + 43), .ref (b + 50)] M0 (.returned (some (.int (nI 0)))) (fun M' => md_V D b M' R T Ti Bf P F L Rw kp td aa false so lo ro ∧ md_F M0 M') := by
  refine fb_start [some (.ref (b + 43)), some (.ref (b + 50)), none, none] (by decide) (Nat.le_of_ble_eq_true rfl) rfl ?_
  intro x hl hD hb C E hx
  subst hl hD hb
  have C : fb_OK x cX7_oneOf "FallsBetweenModel" "oneOf" := C
  have hF := md_F.rf M0
  obtain ⟨g0, g1, g2⟩ := hV.kd
  have hbd : ∀ i, i < 6 → md_kd i < 256 := by decide
  refine gx_iconst (q := 1) (v := -1) C dX7_oneOf_0 (by decide) rfl ?_
  refine gx_istore_n (q := 2) (lv' := [_, _, _, _]) C dX7_oneOf_1 rfl (Nat.le_of_ble_eq_true rfl) E.2.2.2.symm rfl rfl rfl ?_
  refine gx_iconst (q := 3) (v := nI 0) C dX7_oneOf_2 (by decide) rfl ?_
  refine gx_istore_n (q := 4) (lv' := [_, _, _, _]) C dX7_oneOf_3 rfl (Nat.le_of_ble_eq_true rfl) E.2.2.2.symm rfl rfl rfl ?_
  refine gx_iload_n (q := 5) C dX7_oneOf_4 rfl rfl rfl ?_
  refine gx_aload_n (q := 6) C dX7_oneOf_5 rfl rfl rfl ?_
  refine gx_alen (q := 7) (t0 := 3) C g1 rfl rfl dX7_oneOf_6 rfl ?_
  refine gn_icmp_ge (q := 10) (tgt := 55) C dX7_oneOf_7 (by decide) rfl (by omega) (by omega) (fun c7 => by exfalso; omega) (fun c7 => ?_)
  refine gx_aload_n (q := 11) C dX7_oneOf_10 rfl rfl rfl ?_
  refine fg_X7_57 (q := 14) C hV.o rfl dX7_oneOf_11 rfl ?_
  refine gb_if_eq (q := 17) (tgt := 55) C dX7_oneOf_14 (by decide) rfl (fun c14 => ?_) (fun c14 => by exfalso; cases c14)
  refine gx_iload_n (q := 56) C dX7_oneOf_55 rfl rfl rfl ?_
  refine gx_if_ge (q := 59) (tgt := 66) C dX7_oneOf_56 (by decide) rfl (fun c56 => by exfalso; revert c56; decide) (fun c56 => ?_)
  refine gx_aload_n (q := 60) C dX7_oneOf_59 rfl rfl rfl ?_
  refine gx_iconst (q := 61) (v := bI false) C dX7_oneOf_60 (by decide) rfl ?_
  refine mv_pf_well (q := 64) C hV hF dX7_oneOf_61 rfl (fun M hV hF => ?_)
  refine gx_iconst (q := 65) (v := nI 0) C dX7_oneOf_64 (by decide) rfl ?_
  exact gx_iret C E dX7_oneOf_65 (⟨hV, hF⟩) (by omega) (by omega)
theorem figL_e {P : Nat → Nat} {n k v a : Nat} {r : Nat × Nat × Nat} {j : Nat} (h1 : (figL P n k v a).1 = r.1) (h2 : (figL P n k v a).2.1 = r.2.1) (h3 : j + (figL P n k v a).2.2 = r.2.2) (h : digE P n a = none ∨ k = 0) : v = r.1 ∧ a = r.2.1 ∧ j = r.2.2 := by
  have e : figL P n k v a = (v, a, 0) := by
    rcases h with h | h
    · exact figL_n h
    · subst h; rfl
  rw [e] at h1 h2 h3
  exact ⟨h1, h2, h3⟩
set_option maxHeartbeats 4000000 in
theorem md_figures (l : Launch) (D : va_G) (b : Nat) (M0 : List va_E) {R T Ti Bf P F L Rw : Nat → Nat} {kp : Bool} {td aa so lo ro : Nat} (least most : Nat) (hl : least ≤ 2) (hm : most ≤ 2) (h64 : td ≤ 64) (hP : ∀ i, i < td → P i < 256) (ha : aa ≤ td) (hV : md_V D b M0 R T Ti Bf P F L Rw kp td aa true so lo ro) : fb_CT l D b yX7_figures cX7_figures 5 (some .int) 0 0 0 0 [.ref (b + 43), .int (nI least), .int (nI most)] M0 (.returned (some (.int (nI (figL P td most 0 aa).1)))) (fun M' => md_V D b M' R T Ti Bf P F L Rw kp td ((figL P td most 0 aa).2.1) (decide (least ≤ (figL P td most 0 aa).2.2)) so lo ro ∧ md_F M0 M') := by
  refine fb_start [some (.ref (b + 43)), some (.int (nI least)), some (.int (nI most)), none, none] (by decide) (Nat.le_of_ble_eq_true rfl) rfl ?_
  intro x hl hD hb C E hx
  subst hl hD hb
  have C : fb_OK x cX7_figures "FallsBetweenModel" "figures" := C
  have hF := md_F.rf M0
  refine gx_iconst (q := 1) (v := nI 0) C dX7_figures_0 (by decide) rfl ?_
  refine gx_istore_n (q := 2) (lv' := [_, _, _, _, _]) C dX7_figures_1 rfl (Nat.le_of_ble_eq_true rfl) E.2.2.2.symm rfl rfl rfl ?_
  refine gx_iconst (q := 3) (v := nI 0) C dX7_figures_2 (by decide) rfl ?_
  refine gx_istore (q := 5) (lv' := [_, _, _, _, _]) C dX7_figures_3 (Nat.le_of_ble_eq_true rfl) E.2.2.2.symm rfl rfl rfl ?_
  have K : ∀ (M : List va_E) (v a k : Nat), md_V (cx_D x) (cx_b x) M R T Ti Bf P F L Rw kp td a true so lo ro → md_F M0 M → v = (figL P td most 0 aa).1 ∧ a = (figL P td most 0 aa).2.1 ∧ k = (figL P td most 0 aa).2.2 → k ≤ 2 → fb_G x M 0 0 91 [some (.ref (cx_b x + 43)), some (.int (nI least)), some (.int (nI most)), some (.int (nI v)), some (.int (nI k))] [] := by
    intro M v a k hV hF hz hk2
    obtain ⟨z1, z2, z3⟩ := hz
    refine gx_iload (q := 93) C dX7_figures_91 rfl rfl ?_
    refine gx_iload_n (q := 94) C dX7_figures_93 rfl rfl rfl ?_
    refine gn_icmp_ge (q := 97) (tgt := 102) C dX7_figures_94 (by decide) rfl (by omega) (by omega) (fun c94 => ?_) (fun c94 => ?_)
    · rw [z2] at hV
      have hw : true = decide (least ≤ (figL P td most 0 aa).2.2) := (decide_eq_true (by omega)).symm
      refine gx_iload_n (q := 103) C dX7_figures_102 rfl rfl rfl ?_
      exact gx_iretE C E (by rw [z1]) dX7_figures_103 (⟨by rw [← hw]; exact hV, hF⟩) (by omega) (by omega)
    · rw [z2] at hV
      have hw : false = decide (least ≤ (figL P td most 0 aa).2.2) := (decide_eq_false (by omega)).symm
      refine gx_aload_n (q := 98) C dX7_figures_97 rfl rfl rfl ?_
      refine gx_iconst (q := 99) (v := bI false) C dX7_figures_98 (by decide) rfl ?_
      refine mv_pf_well (q := 102) C hV hF dX7_figures_99 rfl (fun M hV hF => ?_)
      refine gx_iload_n (q := 103) C dX7_figures_102 rfl rfl rfl ?_
      exact gx_iretE C E (by rw [z1]) dX7_figures_103 (⟨by rw [← hw]; exact hV, hF⟩) (by omega) (by omega)
  have Lp : ∀ k, k ≤ most → ∀ (M : List va_E) (v a : Nat), md_V (cx_D x) (cx_b x) M R T Ti Bf P F L Rw kp td a true so lo ro → md_F M0 M → a ≤ td → (figL P td (most - k) v a).1 = (figL P td most 0 aa).1 → (figL P td (most - k) v a).2.1 = (figL P td most 0 aa).2.1 → k + (figL P td (most - k) v a).2.2 = (figL P td most 0 aa).2.2 → fb_G x M 0 0 5 [some (.ref (cx_b x + 43)), some (.int (nI least)), some (.int (nI most)), some (.int (nI v)), some (.int (nI k))] [] := by
    refine fb_dn most ?_ ?_
    · intro M v a hV hF ha h1 h2 h3
      refine gx_aload_n (q := 6) C dX7_figures_5 rfl rfl rfl ?_
      refine fg_X7_57 (q := 9) C hV.o rfl dX7_figures_6 rfl ?_
      refine gb_if_eq (q := 12) (tgt := 91) C dX7_figures_9 (by decide) rfl (fun c9 => by exfalso; cases c9) (fun c9 => ?_)
      refine gx_iload (q := 14) C dX7_figures_12 rfl rfl ?_
      refine gx_iload_n (q := 15) C dX7_figures_14 rfl rfl rfl ?_
      refine gn_icmp_ge (q := 18) (tgt := 91) C dX7_figures_15 (by decide) rfl (by omega) (by omega) (fun c15 => ?_) (fun c15 => by exfalso; omega)
      have hZ : digE P td a = none ∨ most - most = 0 := Or.inr (Nat.sub_self _)
      exact K M v a most hV hF (figL_e h1 h2 h3 hZ) (by omega)
    · intro k hk4 ih M v a hV hF ha h1 h2 h3
      refine gx_aload_n (q := 6) C dX7_figures_5 rfl rfl rfl ?_
      refine fg_X7_57 (q := 9) C hV.o rfl dX7_figures_6 rfl ?_
      refine gb_if_eq (q := 12) (tgt := 91) C dX7_figures_9 (by decide) rfl (fun c9 => by exfalso; cases c9) (fun c9 => ?_)
      refine gx_iload (q := 14) C dX7_figures_12 rfl rfl ?_
      refine gx_iload_n (q := 15) C dX7_figures_14 rfl rfl rfl ?_
      refine gn_icmp_ge (q := 18) (tgt := 91) C dX7_figures_15 (by decide) rfl (by omega) (by omega) (fun c15 => by exfalso; omega) (fun c15 => ?_)
      refine gx_aload_n (q := 19) C dX7_figures_18 rfl rfl rfl ?_
      refine fg_X7_60 (q := 22) C hV.o rfl dX7_figures_19 rfl ?_
      refine gx_aload_n (q := 23) C dX7_figures_22 rfl rfl rfl ?_
      refine fg_X7_53 (q := 26) C hV.o rfl dX7_figures_23 rfl ?_
      refine gn_icmp_ge (q := 29) (tgt := 91) C dX7_figures_26 (by decide) rfl (by omega) (by omega) (fun c26 => ?_) (fun c26 => ?_)
      · have hZ : digE P td a = none ∨ most - k = 0 := Or.inl (digE_1 c26)
        exact K M v a k hV hF (figL_e h1 h2 h3 hZ) (by omega)
      · have hp := hP a c26
        refine gx_aload_n (q := 30) C dX7_figures_29 rfl rfl rfl ?_
        refine fg_X7_22 (q := 33) C hV.o rfl dX7_figures_30 rfl ?_
        refine gx_aload_n (q := 34) C dX7_figures_33 rfl rfl rfl ?_
        refine fg_X7_60 (q := 37) C hV.o rfl dX7_figures_34 rfl ?_
        refine mv_ld_tape (q := 38) C hV (by omega) dX7_figures_37 rfl ?_
        refine gx_bipush (q := 40) (v := nI 48) C dX7_figures_38 (by decide) rfl ?_
        refine gn_icmp_lt (q := 43) (tgt := 91) C dX7_figures_40 (by decide) rfl (by omega) (by omega) (fun c40 => ?_) (fun c40 => ?_)
        · have hZ : digE P td a = none ∨ most - k = 0 := Or.inl (digE_2 c40)
          exact K M v a k hV hF (figL_e h1 h2 h3 hZ) (by omega)
        · refine gx_aload_n (q := 44) C dX7_figures_43 rfl rfl rfl ?_
          refine fg_X7_22 (q := 47) C hV.o rfl dX7_figures_44 rfl ?_
          refine gx_aload_n (q := 48) C dX7_figures_47 rfl rfl rfl ?_
          refine fg_X7_60 (q := 51) C hV.o rfl dX7_figures_48 rfl ?_
          refine mv_ld_tape (q := 52) C hV (by omega) dX7_figures_51 rfl ?_
          refine gx_bipush (q := 54) (v := nI 57) C dX7_figures_52 (by decide) rfl ?_
          refine gn_icmp_gt (q := 57) (tgt := 91) C dX7_figures_54 (by decide) rfl (by omega) (by omega) (fun c54 => ?_) (fun c54 => ?_)
          · have hZ : digE P td a = none ∨ most - k = 0 := Or.inl (digE_3 c54)
            exact K M v a k hV hF (figL_e h1 h2 h3 hZ) (by omega)
          · have hd := digE_s c26 c40 c54
            rw [show most - k = most - (k + 1) + 1 by omega, figL_s hd] at h1 h2 h3
            refine gx_bipush (q := 59) (v := nI 10) C dX7_figures_57 (by decide) rfl ?_
            refine gx_iload_n (q := 60) C dX7_figures_59 rfl rfl rfl ?_
            refine gn_imul (q := 61) C dX7_figures_60 rfl ?_
            refine gx_aload_n (q := 62) C dX7_figures_61 rfl rfl rfl ?_
            refine fg_X7_22 (q := 65) C hV.o rfl dX7_figures_62 rfl ?_
            refine gx_aload_n (q := 66) C dX7_figures_65 rfl rfl rfl ?_
            refine fg_X7_60 (q := 69) C hV.o rfl dX7_figures_66 rfl ?_
            refine mv_ld_tape (q := 70) C hV (by omega) dX7_figures_69 rfl ?_
            refine gn_iadd (q := 71) C dX7_figures_70 rfl ?_
            refine gx_bipush (q := 73) (v := nI 48) C dX7_figures_71 (by decide) rfl ?_
            refine gn_isub (q := 74) C dX7_figures_73 (by omega) rfl ?_
            refine gx_top (show _ = nI (10 * v + (P a - 48)) by rw [Nat.add_sub_assoc c40]) ?_
            refine gx_istore_n (q := 75) (lv' := [_, _, _, _, _]) C dX7_figures_74 rfl (Nat.le_of_ble_eq_true rfl) E.2.2.2.symm rfl rfl rfl ?_
            refine gx_aload_n (q := 76) C dX7_figures_75 rfl rfl rfl ?_
            refine gx_dup (q := 77) C dX7_figures_76 rfl rfl ?_
            refine fg_X7_60 (q := 80) C hV.o rfl dX7_figures_77 rfl ?_
            refine gx_iconst (q := 81) (v := nI 1) C dX7_figures_80 (by decide) rfl ?_
            refine gn_iadd (q := 82) C dX7_figures_81 rfl ?_
            refine mv_pf_at (q := 85) C hV hF dX7_figures_82 rfl (fun M hV hF => ?_)
            refine gn_inc (q := 88) (lv' := [_, _, _, _, _]) C dX7_figures_85 rfl E.2.2.2.symm rfl rfl rfl ?_
            refine gx_goto (tgt := 5) C dX7_figures_88 (by decide) ?_
            exact ih M _ _ hV hF (by omega) h1 h2 (by dsimp only at h3; omega)
  exact Lp 0 (by omega) M0 0 aa hV hF ha rfl rfl (Nat.zero_add _)
set_option maxHeartbeats 4000000 in
theorem md_fig_f (l : Launch) (D : va_G) (b : Nat) (M0 : List va_E) {R T Ti Bf P F L Rw : Nat → Nat} {kp : Bool} {td aa so lo ro : Nat} (least most : Nat) (hl : 1 ≤ least ∧ least ≤ 2) (hm : most ≤ 2) (hV : md_V D b M0 R T Ti Bf P F L Rw kp td aa false so lo ro) : fb_CT l D b yX7_figures cX7_figures 5 (some .int) 0 0 0 0 [.ref (b + 43), .int (nI least), .int (nI most)] M0 (.returned (some (.int (nI 0)))) (fun M' => md_V D b M' R T Ti Bf P F L Rw kp td aa false so lo ro ∧ md_F M0 M') := by
  refine fb_start [some (.ref (b + 43)), some (.int (nI least)), some (.int (nI most)), none, none] (by decide) (Nat.le_of_ble_eq_true rfl) rfl ?_
  intro x hl hD hb C E hx
  subst hl hD hb
  have C : fb_OK x cX7_figures "FallsBetweenModel" "figures" := C
  have hF := md_F.rf M0
  refine gx_iconst (q := 1) (v := nI 0) C dX7_figures_0 (by decide) rfl ?_
  refine gx_istore_n (q := 2) (lv' := [_, _, _, _, _]) C dX7_figures_1 rfl (Nat.le_of_ble_eq_true rfl) E.2.2.2.symm rfl rfl rfl ?_
  refine gx_iconst (q := 3) (v := nI 0) C dX7_figures_2 (by decide) rfl ?_
  refine gx_istore (q := 5) (lv' := [_, _, _, _, _]) C dX7_figures_3 (Nat.le_of_ble_eq_true rfl) E.2.2.2.symm rfl rfl rfl ?_
  refine gx_aload_n (q := 6) C dX7_figures_5 rfl rfl rfl ?_
  refine fg_X7_57 (q := 9) C hV.o rfl dX7_figures_6 rfl ?_
  refine gb_if_eq (q := 12) (tgt := 91) C dX7_figures_9 (by decide) rfl (fun c9 => ?_) (fun c9 => by exfalso; cases c9)
  refine gx_iload (q := 93) C dX7_figures_91 rfl rfl ?_
  refine gx_iload_n (q := 94) C dX7_figures_93 rfl rfl rfl ?_
  refine gn_icmp_ge (q := 97) (tgt := 102) C dX7_figures_94 (by decide) rfl (by omega) (by omega) (fun c94 => by exfalso; omega) (fun c94 => ?_)
  refine gx_aload_n (q := 98) C dX7_figures_97 rfl rfl rfl ?_
  refine gx_iconst (q := 99) (v := bI false) C dX7_figures_98 (by decide) rfl ?_
  refine mv_pf_well (q := 102) C hV hF dX7_figures_99 rfl (fun M hV hF => ?_)
  refine gx_iload_n (q := 103) C dX7_figures_102 rfl rfl rfl ?_
  exact gx_iret C E dX7_figures_103 (⟨hV, hF⟩) (by omega) (by omega)
theorem md_fig22_o (l : Launch) (D : va_G) (b : Nat) (M0 : List va_E) {R T Ti Bf P F L Rw : Nat → Nat} {kp : Bool} {td aa so lo ro : Nat} (h64 : td ≤ 64) (hP : ∀ i, i < td → P i < 256) (ha : aa ≤ td) {v a' : Nat} (h : twE P td aa = .ok (v, a')) (hV : md_V D b M0 R T Ti Bf P F L Rw kp td aa true so lo ro) : fb_CT l D b yX7_figures cX7_figures 5 (some .int) 0 0 0 0 [.ref (b + 43), .int (nI 2), .int (nI 2)] M0 (.returned (some (.int (nI v)))) (fun M' => md_V D b M' R T Ti Bf P F L Rw kp td a' true so lo ro ∧ md_F M0 M') := by
  have z := md_figures l D b M0 2 2 (by decide) (by decide) h64 hP ha hV
  rw [fig2_o h] at z
  exact z
theorem md_fig22_e (l : Launch) (D : va_G) (b : Nat) (M0 : List va_E) {R T Ti Bf P F L Rw : Nat → Nat} {kp : Bool} {td aa so lo ro : Nat} (h64 : td ≤ 64) (hP : ∀ i, i < td → P i < 256) (ha : aa ≤ td) {e u c : Nat} (he : figL P td 2 0 aa = (u, e, c)) (hc : c < 2) (hV : md_V D b M0 R T Ti Bf P F L Rw kp td aa true so lo ro) : fb_CT l D b yX7_figures cX7_figures 5 (some .int) 0 0 0 0 [.ref (b + 43), .int (nI 2), .int (nI 2)] M0 (.returned (some (.int (nI u)))) (fun M' => md_V D b M' R T Ti Bf P F L Rw kp td e false so lo ro ∧ md_F M0 M') := by
  have z := md_figures l D b M0 2 2 (by decide) (by decide) h64 hP ha hV
  rw [he, show decide (2 ≤ (u, e, c).2.2) = false from decide_eq_false (Nat.not_le.mpr hc)] at z
  exact z
theorem md_fig12_o (l : Launch) (D : va_G) (b : Nat) (M0 : List va_E) {R T Ti Bf P F L Rw : Nat → Nat} {kp : Bool} {td aa so lo ro : Nat} (h64 : td ≤ 64) (hP : ∀ i, i < td → P i < 256) (ha : aa ≤ td) {v a' c : Nat} (he : figL P td 2 0 aa = (v, a', c)) (hc : 1 ≤ c) (hV : md_V D b M0 R T Ti Bf P F L Rw kp td aa true so lo ro) : fb_CT l D b yX7_figures cX7_figures 5 (some .int) 0 0 0 0 [.ref (b + 43), .int (nI 1), .int (nI 2)] M0 (.returned (some (.int (nI v)))) (fun M' => md_V D b M' R T Ti Bf P F L Rw kp td a' true so lo ro ∧ md_F M0 M') := by
  have z := md_figures l D b M0 1 2 (by decide) (by decide) h64 hP ha hV
  rw [he, show decide (1 ≤ (v, a', c).2.2) = true from decide_eq_true hc] at z
  exact z
theorem md_fig12_e (l : Launch) (D : va_G) (b : Nat) (M0 : List va_E) {R T Ti Bf P F L Rw : Nat → Nat} {kp : Bool} {td aa so lo ro : Nat} (h64 : td ≤ 64) (hP : ∀ i, i < td → P i < 256) (ha : aa ≤ td) {e : Nat} (h : frE P td aa = .error e) (hV : md_V D b M0 R T Ti Bf P F L Rw kp td aa true so lo ro) : fb_CT l D b yX7_figures cX7_figures 5 (some .int) 0 0 0 0 [.ref (b + 43), .int (nI 1), .int (nI 2)] M0 (.returned (some (.int (nI 0)))) (fun M' => md_V D b M' R T Ti Bf P F L Rw kp td e false so lo ro ∧ md_F M0 M') := by
  have z := md_figures l D b M0 1 2 (by decide) (by decide) h64 hP ha hV
  rw [fig12_e h] at z
  exact z
theorem md_fig11_o (l : Launch) (D : va_G) (b : Nat) (M0 : List va_E) {R T Ti Bf P F L Rw : Nat → Nat} {kp : Bool} {td aa so lo ro : Nat} (h64 : td ≤ 64) (hP : ∀ i, i < td → P i < 256) (ha : aa ≤ td) {v a' : Nat} (h : dgE P td aa = .ok (v, a')) (hV : md_V D b M0 R T Ti Bf P F L Rw kp td aa true so lo ro) : fb_CT l D b yX7_figures cX7_figures 5 (some .int) 0 0 0 0 [.ref (b + 43), .int (nI 1), .int (nI 1)] M0 (.returned (some (.int (nI v)))) (fun M' => md_V D b M' R T Ti Bf P F L Rw kp td a' true so lo ro ∧ md_F M0 M') := by
  have z := md_figures l D b M0 1 1 (by decide) (by decide) h64 hP ha hV
  rw [fig1_o h] at z
  exact z
theorem md_fig11_e (l : Launch) (D : va_G) (b : Nat) (M0 : List va_E) {R T Ti Bf P F L Rw : Nat → Nat} {kp : Bool} {td aa so lo ro : Nat} (h64 : td ≤ 64) (hP : ∀ i, i < td → P i < 256) (ha : aa ≤ td) {e : Nat} (h : dgE P td aa = .error e) (hV : md_V D b M0 R T Ti Bf P F L Rw kp td aa true so lo ro) : fb_CT l D b yX7_figures cX7_figures 5 (some .int) 0 0 0 0 [.ref (b + 43), .int (nI 1), .int (nI 1)] M0 (.returned (some (.int (nI 0)))) (fun M' => md_V D b M' R T Ti Bf P F L Rw kp td e false so lo ro ∧ md_F M0 M') := by
  have z := md_figures l D b M0 1 1 (by decide) (by decide) h64 hP ha hV
  rw [fig1_e h] at z
  exact z
