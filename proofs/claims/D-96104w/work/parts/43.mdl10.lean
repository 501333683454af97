/-! the reference: statements, the town told -/
set_option maxRecDepth 100000
def stR (D : va_G) (b : Nat) (R T Ti Bf P L Rw : Nat → Nat) (kp : Bool) (td lo ro : Nat) (M : List va_E) (r : Except Nat (tld × Nat)) : Prop := match r with
  | .error e => ∃ (so : Nat) (F : Nat → Nat), md_V D b M R T Ti Bf P F L Rw kp td e false so lo ro
  | .ok p => ∃ F : Nat → Nat, md_V D b M R T Ti Bf P F L Rw kp td (p.2) true (p.1.s) lo ro ∧ agr p.1 F
set_option maxHeartbeats 4000000 in
theorem md_statement (l : Launch) (D : va_G) (b : Nat) (M0 : List va_E) {R T Ti Bf P F L Rw : Nat → Nat} {kp : Bool} {td aa so lo ro : Nat} (h64 : td ≤ 64) (hP : ∀ i, i < td → P i < 256) (ha : aa ≤ td) (hV : md_V D b M0 R T Ti Bf P F L Rw kp td aa true so lo ro) : fb_CT l D b yX7_statement cX7_statement 1 none 1 24 0 0 [.ref (b + 43)] M0 (.returned none) (fun M' => stR D b R T Ti Bf P L Rw kp td lo ro M' (stE P td aa) ∧ md_F M0 M') := by
  refine fb_start [some (.ref (b + 43))] (by decide) (Nat.le_of_ble_eq_true rfl) rfl ?_
  intro x hl hD hb C E hx
  subst hl hD hb
  have C : fb_OK x cX7_statement "FallsBetweenModel" "statement" := C
  have hF := md_F.rf M0
  rcases hO : onE P td md_bg 7 aa with e | ⟨s, a1⟩
  · have hb := onE_e hO
    refine gx_aload_n (q := 1) C dX7_statement_0 rfl rfl rfl ?_
    refine gx_aload_n (q := 2) C dX7_statement_1 rfl rfl rfl ?_
    refine gx_aload_n (q := 3) C dX7_statement_2 rfl rfl rfl ?_
    refine fg_X7_25 (q := 6) C hV.o rfl dX7_statement_3 rfl ?_
    refine gx_cs (q := 9) C E (sx_X7_63 (As := [_]) C hV.o rfl rfl dX7_statement_6) (md_oneOf_bg_e _ _ _ _ h64 hP hO ha hV) kw_X7_oneOf (by decide) (Nat.le_of_ble_eq_true rfl) rfl rfl (by omega) (by omega) dX7_statement_6 rfl (fun M r6 => ?_)
    obtain ⟨hV, hG⟩ := r6
    have hF := hF.tr hG
    refine mv_pf_sort (q := 12) C hV hF dX7_statement_9 rfl (fun M hV hF => ?_)
    refine gx_aload_n (q := 13) C dX7_statement_12 rfl rfl rfl ?_
    refine fg_X7_67 (q := 16) C hV.o rfl dX7_statement_13 rfl ?_
    refine gx_tableIn (tgt := 56) C dX7_statement_16 (by decide) (by decide) (rfl) (by decide) ?_
    refine gx_aload_n (q := 57) C dX7_statement_56 rfl rfl rfl ?_
    refine fg_X7_32 (q := 60) C hV.o rfl dX7_statement_57 rfl ?_
    refine gx_iconst (q := 61) (v := nI 0) C dX7_statement_60 (by decide) rfl ?_
    refine gx_aload_n (q := 62) C dX7_statement_61 rfl rfl rfl ?_
    refine gx_aload_n (q := 63) C dX7_statement_62 rfl rfl rfl ?_
    refine fg_X7_29 (q := 66) C hV.o rfl dX7_statement_63 rfl ?_
    refine gx_cs (q := 69) C E (sx_X7_63 (As := [_]) C hV.o rfl rfl dX7_statement_66) (md_oneOf_kd_f _ _ _ _ h64 hP hV) kw_X7_oneOf (by decide) (Nat.le_of_ble_eq_true rfl) rfl rfl (by omega) (by omega) dX7_statement_66 rfl (fun M r66 => ?_)
    obtain ⟨hV, hG⟩ := r66
    have hF := hF.tr hG
    refine mv_st_field (q := 70) C hV hF (by omega) dX7_statement_69 rfl (fun M hV hF => ?_)
    refine gx_aload_n (q := 71) C dX7_statement_70 rfl rfl rfl ?_
    refine fg_X7_32 (q := 74) C hV.o rfl dX7_statement_71 rfl ?_
    refine gx_iconst (q := 75) (v := nI 1) C dX7_statement_74 (by decide) rfl ?_
    refine gx_aload_n (q := 76) C dX7_statement_75 rfl rfl rfl ?_
    refine gx_iconst (q := 77) (v := nI 2) C dX7_statement_76 (by decide) rfl ?_
    refine gx_iconst (q := 78) (v := nI 2) C dX7_statement_77 (by decide) rfl ?_
    refine gx_cs (q := 81) C E (sx_X7_70 (As := [_, _]) C hV.o rfl rfl dX7_statement_78) (md_fig_f _ _ _ _ 2 2 (by decide) (by decide) hV) kw_X7_figures (by decide) (Nat.le_of_ble_eq_true rfl) rfl rfl (by omega) (by omega) dX7_statement_78 rfl (fun M r78 => ?_)
    obtain ⟨hV, hG⟩ := r78
    have hF := hF.tr hG
    refine mv_st_field (q := 82) C hV hF (by omega) dX7_statement_81 rfl (fun M hV hF => ?_)
    refine gx_aload_n (q := 83) C dX7_statement_82 rfl rfl rfl ?_
    refine fg_X7_32 (q := 86) C hV.o rfl dX7_statement_83 rfl ?_
    refine gx_iconst (q := 87) (v := nI 2) C dX7_statement_86 (by decide) rfl ?_
    refine gx_aload_n (q := 88) C dX7_statement_87 rfl rfl rfl ?_
    refine gx_iconst (q := 89) (v := nI 1) C dX7_statement_88 (by decide) rfl ?_
    refine gx_iconst (q := 90) (v := nI 2) C dX7_statement_89 (by decide) rfl ?_
    refine gx_cs (q := 93) C E (sx_X7_70 (As := [_, _]) C hV.o rfl rfl dX7_statement_90) (md_fig_f _ _ _ _ 1 2 (by decide) (by decide) hV) kw_X7_figures (by decide) (Nat.le_of_ble_eq_true rfl) rfl rfl (by omega) (by omega) dX7_statement_90 rfl (fun M r90 => ?_)
    obtain ⟨hV, hG⟩ := r90
    have hF := hF.tr hG
    refine mv_st_field (q := 94) C hV hF (by omega) dX7_statement_93 rfl (fun M hV hF => ?_)
    refine gx_aload_n (q := 95) C dX7_statement_94 rfl rfl rfl ?_
    refine gx_bipush (q := 97) (v := nI 44) C dX7_statement_95 (by decide) rfl ?_
    refine gx_cv (q := 100) C E (sx_X7_74 (As := [_]) C hV.o rfl rfl dX7_statement_97) (md_expect_f _ _ _ _ 44 (by decide) h64 hP hV) kw_X7_expect (by decide) (Nat.le_of_ble_eq_true rfl) rfl rfl (by omega) (by omega) dX7_statement_97 rfl (fun M r97 => ?_)
    obtain ⟨hV, hG⟩ := r97
    have hF := hF.tr hG
    refine gx_aload_n (q := 101) C dX7_statement_100 rfl rfl rfl ?_
    refine fg_X7_32 (q := 104) C hV.o rfl dX7_statement_101 rfl ?_
    refine gx_iconst (q := 105) (v := nI 3) C dX7_statement_104 (by decide) rfl ?_
    refine gx_aload_n (q := 106) C dX7_statement_105 rfl rfl rfl ?_
    refine gx_iconst (q := 107) (v := nI 1) C dX7_statement_106 (by decide) rfl ?_
    refine gx_iconst (q := 108) (v := nI 1) C dX7_statement_107 (by decide) rfl ?_
    refine gx_cs (q := 111) C E (sx_X7_70 (As := [_, _]) C hV.o rfl rfl dX7_statement_108) (md_fig_f _ _ _ _ 1 1 (by decide) (by decide) hV) kw_X7_figures (by decide) (Nat.le_of_ble_eq_true rfl) rfl rfl (by omega) (by omega) dX7_statement_108 rfl (fun M r108 => ?_)
    obtain ⟨hV, hG⟩ := r108
    have hF := hF.tr hG
    refine mv_st_field (q := 112) C hV hF (by omega) dX7_statement_111 rfl (fun M hV hF => ?_)
    refine gx_goto (tgt := 196) C dX7_statement_112 (by decide) ?_
    refine gx_aload_n (q := 197) C dX7_statement_196 rfl rfl rfl ?_
    refine gx_bipush (q := 199) (v := nI 59) C dX7_statement_197 (by decide) rfl ?_
    refine gx_cv (q := 202) C E (sx_X7_74 (As := [_]) C hV.o rfl rfl dX7_statement_199) (md_expect_f _ _ _ _ 59 (by decide) h64 hP hV) kw_X7_expect (by decide) (Nat.le_of_ble_eq_true rfl) rfl rfl (by omega) (by omega) dX7_statement_199 rfl (fun M r199 => ?_)
    obtain ⟨hV, hG⟩ := r199
    have hF := hF.tr hG
    have hE : stE P td aa = .error e := by simp [stE, bodE, trE, t21E, t11E, t1E, t2E, endE, hO]
    exact gx_vret C E dX7_statement_202 (⟨by rw [hE]; exact ⟨_, _, hV⟩, hF⟩) (by omega) (by omega)
  · have hbO := onE_b hO
    obtain hs7 : s = 0 ∨ s = 1 ∨ s = 2 ∨ s = 3 ∨ s = 4 ∨ s = 5 ∨ s = 6 := by omega
    rcases hs7 with rfl | rfl | rfl | rfl | rfl | rfl | rfl
    · skip
      refine gx_aload_n (q := 1) C dX7_statement_0 rfl rfl rfl ?_
      refine gx_aload_n (q := 2) C dX7_statement_1 rfl rfl rfl ?_
      refine gx_aload_n (q := 3) C dX7_statement_2 rfl rfl rfl ?_
      refine fg_X7_25 (q := 6) C hV.o rfl dX7_statement_3 rfl ?_
      refine gx_cs (q := 9) C E (sx_X7_63 (As := [_]) C hV.o rfl rfl dX7_statement_6) (md_oneOf_bg_o _ _ _ _ h64 hP hO hV) kw_X7_oneOf (by decide) (Nat.le_of_ble_eq_true rfl) rfl rfl (by omega) (by omega) dX7_statement_6 rfl (fun M r6 => ?_)
      obtain ⟨hV, hG⟩ := r6
      have hF := hF.tr hG
      refine mv_pf_sort (q := 12) C hV hF dX7_statement_9 rfl (fun M hV hF => ?_)
      refine gx_aload_n (q := 13) C dX7_statement_12 rfl rfl rfl ?_
      refine fg_X7_67 (q := 16) C hV.o rfl dX7_statement_13 rfl ?_
      refine gx_tableIn (tgt := 56) C dX7_statement_16 (by decide) (by decide) (rfl) (by decide) ?_
      refine gx_aload_n (q := 57) C dX7_statement_56 rfl rfl rfl ?_
      refine fg_X7_32 (q := 60) C hV.o rfl dX7_statement_57 rfl ?_
      refine gx_iconst (q := 61) (v := nI 0) C dX7_statement_60 (by decide) rfl ?_
      refine gx_aload_n (q := 62) C dX7_statement_61 rfl rfl rfl ?_
      refine gx_aload_n (q := 63) C dX7_statement_62 rfl rfl rfl ?_
      refine fg_X7_29 (q := 66) C hV.o rfl dX7_statement_63 rfl ?_
      rcases hx0 : onE P td md_kd 6 a1 with e | ⟨v0, a2⟩
      · have hb0 := onE_e hx0
        refine gx_cs (q := 69) C E (sx_X7_63 (As := [_]) C hV.o rfl rfl dX7_statement_66) (md_oneOf_kd_e _ _ _ _ h64 hP hx0 (by omega) hV) kw_X7_oneOf (by decide) (Nat.le_of_ble_eq_true rfl) rfl rfl (by omega) (by omega) dX7_statement_66 rfl (fun M r66 => ?_)
        obtain ⟨hV, hG⟩ := r66
        have hF := hF.tr hG
        refine mv_st_field (q := 70) C hV hF (by omega) dX7_statement_69 rfl (fun M hV hF => ?_)
        refine gx_aload_n (q := 71) C dX7_statement_70 rfl rfl rfl ?_
        refine fg_X7_32 (q := 74) C hV.o rfl dX7_statement_71 rfl ?_
        refine gx_iconst (q := 75) (v := nI 1) C dX7_statement_74 (by decide) rfl ?_
        refine gx_aload_n (q := 76) C dX7_statement_75 rfl rfl rfl ?_
        refine gx_iconst (q := 77) (v := nI 2) C dX7_statement_76 (by decide) rfl ?_
        refine gx_iconst (q := 78) (v := nI 2) C dX7_statement_77 (by decide) rfl ?_
        refine gx_cs (q := 81) C E (sx_X7_70 (As := [_, _]) C hV.o rfl rfl dX7_statement_78) (md_fig_f _ _ _ _ 2 2 (by decide) (by decide) hV) kw_X7_figures (by decide) (Nat.le_of_ble_eq_true rfl) rfl rfl (by omega) (by omega) dX7_statement_78 rfl (fun M r78 => ?_)
        obtain ⟨hV, hG⟩ := r78
        have hF := hF.tr hG
        refine mv_st_field (q := 82) C hV hF (by omega) dX7_statement_81 rfl (fun M hV hF => ?_)
        refine gx_aload_n (q := 83) C dX7_statement_82 rfl rfl rfl ?_
        refine fg_X7_32 (q := 86) C hV.o rfl dX7_statement_83 rfl ?_
        refine gx_iconst (q := 87) (v := nI 2) C dX7_statement_86 (by decide) rfl ?_
        refine gx_aload_n (q := 88) C dX7_statement_87 rfl rfl rfl ?_
        refine gx_iconst (q := 89) (v := nI 1) C dX7_statement_88 (by decide) rfl ?_
        refine gx_iconst (q := 90) (v := nI 2) C dX7_statement_89 (by decide) rfl ?_
        refine gx_cs (q := 93) C E (sx_X7_70 (As := [_, _]) C hV.o rfl rfl dX7_statement_90) (md_fig_f _ _ _ _ 1 2 (by decide) (by decide) hV) kw_X7_figures (by decide) (Nat.le_of_ble_eq_true rfl) rfl rfl (by omega) (by omega) dX7_statement_90 rfl (fun M r90 => ?_)
        obtain ⟨hV, hG⟩ := r90
        have hF := hF.tr hG
        refine mv_st_field (q := 94) C hV hF (by omega) dX7_statement_93 rfl (fun M hV hF => ?_)
        refine gx_aload_n (q := 95) C dX7_statement_94 rfl rfl rfl ?_
        refine gx_bipush (q := 97) (v := nI 44) C dX7_statement_95 (by decide) rfl ?_
        refine gx_cv (q := 100) C E (sx_X7_74 (As := [_]) C hV.o rfl rfl dX7_statement_97) (md_expect_f _ _ _ _ 44 (by decide) h64 hP hV) kw_X7_expect (by decide) (Nat.le_of_ble_eq_true rfl) rfl rfl (by omega) (by omega) dX7_statement_97 rfl (fun M r97 => ?_)
        obtain ⟨hV, hG⟩ := r97
        have hF := hF.tr hG
        refine gx_aload_n (q := 101) C dX7_statement_100 rfl rfl rfl ?_
        refine fg_X7_32 (q := 104) C hV.o rfl dX7_statement_101 rfl ?_
        refine gx_iconst (q := 105) (v := nI 3) C dX7_statement_104 (by decide) rfl ?_
        refine gx_aload_n (q := 106) C dX7_statement_105 rfl rfl rfl ?_
        refine gx_iconst (q := 107) (v := nI 1) C dX7_statement_106 (by decide) rfl ?_
        refine gx_iconst (q := 108) (v := nI 1) C dX7_statement_107 (by decide) rfl ?_
        refine gx_cs (q := 111) C E (sx_X7_70 (As := [_, _]) C hV.o rfl rfl dX7_statement_108) (md_fig_f _ _ _ _ 1 1 (by decide) (by decide) hV) kw_X7_figures (by decide) (Nat.le_of_ble_eq_true rfl) rfl rfl (by omega) (by omega) dX7_statement_108 rfl (fun M r108 => ?_)
        obtain ⟨hV, hG⟩ := r108
        have hF := hF.tr hG
        refine mv_st_field (q := 112) C hV hF (by omega) dX7_statement_111 rfl (fun M hV hF => ?_)
        refine gx_goto (tgt := 196) C dX7_statement_112 (by decide) ?_
        refine gx_aload_n (q := 197) C dX7_statement_196 rfl rfl rfl ?_
        refine gx_bipush (q := 199) (v := nI 59) C dX7_statement_197 (by decide) rfl ?_
        refine gx_cv (q := 202) C E (sx_X7_74 (As := [_]) C hV.o rfl rfl dX7_statement_199) (md_expect_f _ _ _ _ 59 (by decide) h64 hP hV) kw_X7_expect (by decide) (Nat.le_of_ble_eq_true rfl) rfl rfl (by omega) (by omega) dX7_statement_199 rfl (fun M r199 => ?_)
        obtain ⟨hV, hG⟩ := r199
        have hF := hF.tr hG
        have hE : stE P td aa = .error e := by simp [stE, bodE, trE, t21E, t11E, t1E, t2E, endE, hO, hx0]
        exact gx_vret C E dX7_statement_202 (⟨by rw [hE]; exact ⟨_, _, hV⟩, hF⟩) (by omega) (by omega)
      · have hb0 := onE_b hx0
        refine gx_cs (q := 69) C E (sx_X7_63 (As := [_]) C hV.o rfl rfl dX7_statement_66) (md_oneOf_kd_o _ _ _ _ h64 hP hx0 hV) kw_X7_oneOf (by decide) (Nat.le_of_ble_eq_true rfl) rfl rfl (by omega) (by omega) dX7_statement_66 rfl (fun M r66 => ?_)
        obtain ⟨hV, hG⟩ := r66
        have hF := hF.tr hG
        refine mv_st_field (q := 70) C hV hF (by omega) dX7_statement_69 rfl (fun M hV hF => ?_)
        refine gx_aload_n (q := 71) C dX7_statement_70 rfl rfl rfl ?_
        refine fg_X7_32 (q := 74) C hV.o rfl dX7_statement_71 rfl ?_
        refine gx_iconst (q := 75) (v := nI 1) C dX7_statement_74 (by decide) rfl ?_
        refine gx_aload_n (q := 76) C dX7_statement_75 rfl rfl rfl ?_
        refine gx_iconst (q := 77) (v := nI 2) C dX7_statement_76 (by decide) rfl ?_
        refine gx_iconst (q := 78) (v := nI 2) C dX7_statement_77 (by decide) rfl ?_
        rcases hx1 : twE P td a2 with e | ⟨v1, a3⟩
        · have hb1 := twE_e (by omega) hx1
          obtain ⟨u1, c1, he1, hc1, _⟩ := fig2_e hx1
          refine gx_cs (q := 81) C E (sx_X7_70 (As := [_, _]) C hV.o rfl rfl dX7_statement_78) (md_fig22_e _ _ _ _ h64 hP (by omega) he1 hc1 hV) kw_X7_figures (by decide) (Nat.le_of_ble_eq_true rfl) rfl rfl (by omega) (by omega) dX7_statement_78 rfl (fun M r78 => ?_)
          obtain ⟨hV, hG⟩ := r78
          have hF := hF.tr hG
          refine mv_st_field (q := 82) C hV hF (by omega) dX7_statement_81 rfl (fun M hV hF => ?_)
          refine gx_aload_n (q := 83) C dX7_statement_82 rfl rfl rfl ?_
          refine fg_X7_32 (q := 86) C hV.o rfl dX7_statement_83 rfl ?_
          refine gx_iconst (q := 87) (v := nI 2) C dX7_statement_86 (by decide) rfl ?_
          refine gx_aload_n (q := 88) C dX7_statement_87 rfl rfl rfl ?_
          refine gx_iconst (q := 89) (v := nI 1) C dX7_statement_88 (by decide) rfl ?_
          refine gx_iconst (q := 90) (v := nI 2) C dX7_statement_89 (by decide) rfl ?_
          refine gx_cs (q := 93) C E (sx_X7_70 (As := [_, _]) C hV.o rfl rfl dX7_statement_90) (md_fig_f _ _ _ _ 1 2 (by decide) (by decide) hV) kw_X7_figures (by decide) (Nat.le_of_ble_eq_true rfl) rfl rfl (by omega) (by omega) dX7_statement_90 rfl (fun M r90 => ?_)
          obtain ⟨hV, hG⟩ := r90
          have hF := hF.tr hG
          refine mv_st_field (q := 94) C hV hF (by omega) dX7_statement_93 rfl (fun M hV hF => ?_)
          refine gx_aload_n (q := 95) C dX7_statement_94 rfl rfl rfl ?_
          refine gx_bipush (q := 97) (v := nI 44) C dX7_statement_95 (by decide) rfl ?_
          refine gx_cv (q := 100) C E (sx_X7_74 (As := [_]) C hV.o rfl rfl dX7_statement_97) (md_expect_f _ _ _ _ 44 (by decide) h64 hP hV) kw_X7_expect (by decide) (Nat.le_of_ble_eq_true rfl) rfl rfl (by omega) (by omega) dX7_statement_97 rfl (fun M r97 => ?_)
          obtain ⟨hV, hG⟩ := r97
          have hF := hF.tr hG
          refine gx_aload_n (q := 101) C dX7_statement_100 rfl rfl rfl ?_
          refine fg_X7_32 (q := 104) C hV.o rfl dX7_statement_101 rfl ?_
          refine gx_iconst (q := 105) (v := nI 3) C dX7_statement_104 (by decide) rfl ?_
          refine gx_aload_n (q := 106) C dX7_statement_105 rfl rfl rfl ?_
          refine gx_iconst (q := 107) (v := nI 1) C dX7_statement_106 (by decide) rfl ?_
          refine gx_iconst (q := 108) (v := nI 1) C dX7_statement_107 (by decide) rfl ?_
          refine gx_cs (q := 111) C E (sx_X7_70 (As := [_, _]) C hV.o rfl rfl dX7_statement_108) (md_fig_f _ _ _ _ 1 1 (by decide) (by decide) hV) kw_X7_figures (by decide) (Nat.le_of_ble_eq_true rfl) rfl rfl (by omega) (by omega) dX7_statement_108 rfl (fun M r108 => ?_)
          obtain ⟨hV, hG⟩ := r108
          have hF := hF.tr hG
          refine mv_st_field (q := 112) C hV hF (by omega) dX7_statement_111 rfl (fun M hV hF => ?_)
          refine gx_goto (tgt := 196) C dX7_statement_112 (by decide) ?_
          refine gx_aload_n (q := 197) C dX7_statement_196 rfl rfl rfl ?_
          refine gx_bipush (q := 199) (v := nI 59) C dX7_statement_197 (by decide) rfl ?_
          refine gx_cv (q := 202) C E (sx_X7_74 (As := [_]) C hV.o rfl rfl dX7_statement_199) (md_expect_f _ _ _ _ 59 (by decide) h64 hP hV) kw_X7_expect (by decide) (Nat.le_of_ble_eq_true rfl) rfl rfl (by omega) (by omega) dX7_statement_199 rfl (fun M r199 => ?_)
          obtain ⟨hV, hG⟩ := r199
          have hF := hF.tr hG
          have hE : stE P td aa = .error e := by simp [stE, bodE, trE, t21E, t11E, t1E, t2E, endE, hO, hx0, hx1]
          exact gx_vret C E dX7_statement_202 (⟨by rw [hE]; exact ⟨_, _, hV⟩, hF⟩) (by omega) (by omega)
        · have hb1 := twE_b hx1
          refine gx_cs (q := 81) C E (sx_X7_70 (As := [_, _]) C hV.o rfl rfl dX7_statement_78) (md_fig22_o _ _ _ _ h64 hP (by omega) hx1 hV) kw_X7_figures (by decide) (Nat.le_of_ble_eq_true rfl) rfl rfl (by omega) (by omega) dX7_statement_78 rfl (fun M r78 => ?_)
          obtain ⟨hV, hG⟩ := r78
          have hF := hF.tr hG
          refine mv_st_field (q := 82) C hV hF (by omega) dX7_statement_81 rfl (fun M hV hF => ?_)
          refine gx_aload_n (q := 83) C dX7_statement_82 rfl rfl rfl ?_
          refine fg_X7_32 (q := 86) C hV.o rfl dX7_statement_83 rfl ?_
          refine gx_iconst (q := 87) (v := nI 2) C dX7_statement_86 (by decide) rfl ?_
          refine gx_aload_n (q := 88) C dX7_statement_87 rfl rfl rfl ?_
          refine gx_iconst (q := 89) (v := nI 1) C dX7_statement_88 (by decide) rfl ?_
          refine gx_iconst (q := 90) (v := nI 2) C dX7_statement_89 (by decide) rfl ?_
          rcases hx2 : frE P td a3 with e | ⟨v2, a4⟩
          · have hb2 := frE_e (by omega) hx2
            refine gx_cs (q := 93) C E (sx_X7_70 (As := [_, _]) C hV.o rfl rfl dX7_statement_90) (md_fig12_e _ _ _ _ h64 hP (by omega) hx2 hV) kw_X7_figures (by decide) (Nat.le_of_ble_eq_true rfl) rfl rfl (by omega) (by omega) dX7_statement_90 rfl (fun M r90 => ?_)
            obtain ⟨hV, hG⟩ := r90
            have hF := hF.tr hG
            refine mv_st_field (q := 94) C hV hF (by omega) dX7_statement_93 rfl (fun M hV hF => ?_)
            refine gx_aload_n (q := 95) C dX7_statement_94 rfl rfl rfl ?_
            refine gx_bipush (q := 97) (v := nI 44) C dX7_statement_95 (by decide) rfl ?_
            refine gx_cv (q := 100) C E (sx_X7_74 (As := [_]) C hV.o rfl rfl dX7_statement_97) (md_expect_f _ _ _ _ 44 (by decide) h64 hP hV) kw_X7_expect (by decide) (Nat.le_of_ble_eq_true rfl) rfl rfl (by omega) (by omega) dX7_statement_97 rfl (fun M r97 => ?_)
            obtain ⟨hV, hG⟩ := r97
            have hF := hF.tr hG
            refine gx_aload_n (q := 101) C dX7_statement_100 rfl rfl rfl ?_
            refine fg_X7_32 (q := 104) C hV.o rfl dX7_statement_101 rfl ?_
            refine gx_iconst (q := 105) (v := nI 3) C dX7_statement_104 (by decide) rfl ?_
            refine gx_aload_n (q := 106) C dX7_statement_105 rfl rfl rfl ?_
            refine gx_iconst (q := 107) (v := nI 1) C dX7_statement_106 (by decide) rfl ?_
            refine gx_iconst (q := 108) (v := nI 1) C dX7_statement_107 (by decide) rfl ?_
            refine gx_cs (q := 111) C E (sx_X7_70 (As := [_, _]) C hV.o rfl rfl dX7_statement_108) (md_fig_f _ _ _ _ 1 1 (by decide) (by decide) hV) kw_X7_figures (by decide) (Nat.le_of_ble_eq_true rfl) rfl rfl (by omega) (by omega) dX7_statement_108 rfl (fun M r108 => ?_)
            obtain ⟨hV, hG⟩ := r108
            have hF := hF.tr hG
            refine mv_st_field (q := 112) C hV hF (by omega) dX7_statement_111 rfl (fun M hV hF => ?_)
            refine gx_goto (tgt := 196) C dX7_statement_112 (by decide) ?_
            refine gx_aload_n (q := 197) C dX7_statement_196 rfl rfl rfl ?_
            refine gx_bipush (q := 199) (v := nI 59) C dX7_statement_197 (by decide) rfl ?_
            refine gx_cv (q := 202) C E (sx_X7_74 (As := [_]) C hV.o rfl rfl dX7_statement_199) (md_expect_f _ _ _ _ 59 (by decide) h64 hP hV) kw_X7_expect (by decide) (Nat.le_of_ble_eq_true rfl) rfl rfl (by omega) (by omega) dX7_statement_199 rfl (fun M r199 => ?_)
            obtain ⟨hV, hG⟩ := r199
            have hF := hF.tr hG
            have hE : stE P td aa = .error e := by simp [stE, bodE, trE, t21E, t11E, t1E, t2E, endE, hO, hx0, hx1, hx2]
            exact gx_vret C E dX7_statement_202 (⟨by rw [hE]; exact ⟨_, _, hV⟩, hF⟩) (by omega) (by omega)
          · have hb2 := frE_b hx2
            obtain ⟨c2, he2, hc2⟩ := fig12_o hx2
            refine gx_cs (q := 93) C E (sx_X7_70 (As := [_, _]) C hV.o rfl rfl dX7_statement_90) (md_fig12_o _ _ _ _ h64 hP (by omega) he2 hc2 hV) kw_X7_figures (by decide) (Nat.le_of_ble_eq_true rfl) rfl rfl (by omega) (by omega) dX7_statement_90 rfl (fun M r90 => ?_)
            obtain ⟨hV, hG⟩ := r90
            have hF := hF.tr hG
            refine mv_st_field (q := 94) C hV hF (by omega) dX7_statement_93 rfl (fun M hV hF => ?_)
            refine gx_aload_n (q := 95) C dX7_statement_94 rfl rfl rfl ?_
            refine gx_bipush (q := 97) (v := nI 44) C dX7_statement_95 (by decide) rfl ?_
            rcases hx3 : exE P td 44 a4 with e | a5
            · have hb3 := (exE_e hx3).1
              refine gx_cv (q := 100) C E (sx_X7_74 (As := [_]) C hV.o rfl rfl dX7_statement_97) (md_expect_e _ _ _ _ 44 (by decide) h64 hP hx3 (by omega) hV) kw_X7_expect (by decide) (Nat.le_of_ble_eq_true rfl) rfl rfl (by omega) (by omega) dX7_statement_97 rfl (fun M r97 => ?_)
              obtain ⟨hV, hG⟩ := r97
              have hF := hF.tr hG
              refine gx_aload_n (q := 101) C dX7_statement_100 rfl rfl rfl ?_
              refine fg_X7_32 (q := 104) C hV.o rfl dX7_statement_101 rfl ?_
              refine gx_iconst (q := 105) (v := nI 3) C dX7_statement_104 (by decide) rfl ?_
              refine gx_aload_n (q := 106) C dX7_statement_105 rfl rfl rfl ?_
              refine gx_iconst (q := 107) (v := nI 1) C dX7_statement_106 (by decide) rfl ?_
              refine gx_iconst (q := 108) (v := nI 1) C dX7_statement_107 (by decide) rfl ?_
              refine gx_cs (q := 111) C E (sx_X7_70 (As := [_, _]) C hV.o rfl rfl dX7_statement_108) (md_fig_f _ _ _ _ 1 1 (by decide) (by decide) hV) kw_X7_figures (by decide) (Nat.le_of_ble_eq_true rfl) rfl rfl (by omega) (by omega) dX7_statement_108 rfl (fun M r108 => ?_)
              obtain ⟨hV, hG⟩ := r108
              have hF := hF.tr hG
              refine mv_st_field (q := 112) C hV hF (by omega) dX7_statement_111 rfl (fun M hV hF => ?_)
              refine gx_goto (tgt := 196) C dX7_statement_112 (by decide) ?_
              refine gx_aload_n (q := 197) C dX7_statement_196 rfl rfl rfl ?_
              refine gx_bipush (q := 199) (v := nI 59) C dX7_statement_197 (by decide) rfl ?_
              refine gx_cv (q := 202) C E (sx_X7_74 (As := [_]) C hV.o rfl rfl dX7_statement_199) (md_expect_f _ _ _ _ 59 (by decide) h64 hP hV) kw_X7_expect (by decide) (Nat.le_of_ble_eq_true rfl) rfl rfl (by omega) (by omega) dX7_statement_199 rfl (fun M r199 => ?_)
              obtain ⟨hV, hG⟩ := r199
              have hF := hF.tr hG
              have hE : stE P td aa = .error e := by simp [stE, bodE, trE, t21E, t11E, t1E, t2E, endE, hO, hx0, hx1, hx2, hx3]
              exact gx_vret C E dX7_statement_202 (⟨by rw [hE]; exact ⟨_, _, hV⟩, hF⟩) (by omega) (by omega)
            · have hb3 := exE_b hx3
              refine gx_cv (q := 100) C E (sx_X7_74 (As := [_]) C hV.o rfl rfl dX7_statement_97) (md_expect_o _ _ _ _ 44 (by decide) h64 hP hx3 hV) kw_X7_expect (by decide) (Nat.le_of_ble_eq_true rfl) rfl rfl (by omega) (by omega) dX7_statement_97 rfl (fun M r97 => ?_)
              obtain ⟨hV, hG⟩ := r97
              have hF := hF.tr hG
              refine gx_aload_n (q := 101) C dX7_statement_100 rfl rfl rfl ?_
              refine fg_X7_32 (q := 104) C hV.o rfl dX7_statement_101 rfl ?_
              refine gx_iconst (q := 105) (v := nI 3) C dX7_statement_104 (by decide) rfl ?_
              refine gx_aload_n (q := 106) C dX7_statement_105 rfl rfl rfl ?_
              refine gx_iconst (q := 107) (v := nI 1) C dX7_statement_106 (by decide) rfl ?_
              refine gx_iconst (q := 108) (v := nI 1) C dX7_statement_107 (by decide) rfl ?_
              rcases hx4 : dgE P td a5 with e | ⟨v4, a6⟩
              · have hb4 := dgE_e (by omega) hx4
                refine gx_cs (q := 111) C E (sx_X7_70 (As := [_, _]) C hV.o rfl rfl dX7_statement_108) (md_fig11_e _ _ _ _ h64 hP (by omega) hx4 hV) kw_X7_figures (by decide) (Nat.le_of_ble_eq_true rfl) rfl rfl (by omega) (by omega) dX7_statement_108 rfl (fun M r108 => ?_)
                obtain ⟨hV, hG⟩ := r108
                have hF := hF.tr hG
                refine mv_st_field (q := 112) C hV hF (by omega) dX7_statement_111 rfl (fun M hV hF => ?_)
                refine gx_goto (tgt := 196) C dX7_statement_112 (by decide) ?_
                refine gx_aload_n (q := 197) C dX7_statement_196 rfl rfl rfl ?_
                refine gx_bipush (q := 199) (v := nI 59) C dX7_statement_197 (by decide) rfl ?_
                refine gx_cv (q := 202) C E (sx_X7_74 (As := [_]) C hV.o rfl rfl dX7_statement_199) (md_expect_f _ _ _ _ 59 (by decide) h64 hP hV) kw_X7_expect (by decide) (Nat.le_of_ble_eq_true rfl) rfl rfl (by omega) (by omega) dX7_statement_199 rfl (fun M r199 => ?_)
                obtain ⟨hV, hG⟩ := r199
                have hF := hF.tr hG
                have hE : stE P td aa = .error e := by simp [stE, bodE, trE, t21E, t11E, t1E, t2E, endE, hO, hx0, hx1, hx2, hx3, hx4]
                exact gx_vret C E dX7_statement_202 (⟨by rw [hE]; exact ⟨_, _, hV⟩, hF⟩) (by omega) (by omega)
              · have hb4 := dgE_b hx4
                refine gx_cs (q := 111) C E (sx_X7_70 (As := [_, _]) C hV.o rfl rfl dX7_statement_108) (md_fig11_o _ _ _ _ h64 hP (by omega) hx4 hV) kw_X7_figures (by decide) (Nat.le_of_ble_eq_true rfl) rfl rfl (by omega) (by omega) dX7_statement_108 rfl (fun M r108 => ?_)
                obtain ⟨hV, hG⟩ := r108
                have hF := hF.tr hG
                refine mv_st_field (q := 112) C hV hF (by omega) dX7_statement_111 rfl (fun M hV hF => ?_)
                refine gx_goto (tgt := 196) C dX7_statement_112 (by decide) ?_
                refine gx_aload_n (q := 197) C dX7_statement_196 rfl rfl rfl ?_
                refine gx_bipush (q := 199) (v := nI 59) C dX7_statement_197 (by decide) rfl ?_
                rcases hx5 : exE P td 59 a6 with e | a7
                · have hb5 := (exE_e hx5).1
                  refine gx_cv (q := 202) C E (sx_X7_74 (As := [_]) C hV.o rfl rfl dX7_statement_199) (md_expect_e _ _ _ _ 59 (by decide) h64 hP hx5 (by omega) hV) kw_X7_expect (by decide) (Nat.le_of_ble_eq_true rfl) rfl rfl (by omega) (by omega) dX7_statement_199 rfl (fun M r199 => ?_)
                  obtain ⟨hV, hG⟩ := r199
                  have hF := hF.tr hG
                  have hE : stE P td aa = .error e := by simp [stE, bodE, trE, t21E, t11E, t1E, t2E, endE, hO, hx0, hx1, hx2, hx3, hx4, hx5]
                  exact gx_vret C E dX7_statement_202 (⟨by rw [hE]; exact ⟨_, _, hV⟩, hF⟩) (by omega) (by omega)
                · have hb5 := exE_b hx5
                  refine gx_cv (q := 202) C E (sx_X7_74 (As := [_]) C hV.o rfl rfl dX7_statement_199) (md_expect_o _ _ _ _ 59 (by decide) h64 hP hx5 hV) kw_X7_expect (by decide) (Nat.le_of_ble_eq_true rfl) rfl rfl (by omega) (by omega) dX7_statement_199 rfl (fun M r199 => ?_)
                  obtain ⟨hV, hG⟩ := r199
                  have hF := hF.tr hG
                  have hE : stE P td aa = .ok (tmk 0 v0 v1 v2 v4, a7) := by simp [stE, bodE, trE, t21E, t11E, t1E, t2E, endE, hO, hx0, hx1, hx2, hx3, hx4, hx5]
                  exact gx_vret C E dX7_statement_202 (⟨by rw [hE]; exact ⟨_, hV, by refine ⟨rfl, ?_, ?_⟩ <;> intro h <;> first | rfl | exact ⟨rfl, rfl⟩ | (simp [tmk_s] at h)⟩, hF⟩) (by omega) (by omega)
    · skip
      refine gx_aload_n (q := 1) C dX7_statement_0 rfl rfl rfl ?_
      refine gx_aload_n (q := 2) C dX7_statement_1 rfl rfl rfl ?_
      refine gx_aload_n (q := 3) C dX7_statement_2 rfl rfl rfl ?_
      refine fg_X7_25 (q := 6) C hV.o rfl dX7_statement_3 rfl ?_
      refine gx_cs (q := 9) C E (sx_X7_63 (As := [_]) C hV.o rfl rfl dX7_statement_6) (md_oneOf_bg_o _ _ _ _ h64 hP hO hV) kw_X7_oneOf (by decide) (Nat.le_of_ble_eq_true rfl) rfl rfl (by omega) (by omega) dX7_statement_6 rfl (fun M r6 => ?_)
      obtain ⟨hV, hG⟩ := r6
      have hF := hF.tr hG
      refine mv_pf_sort (q := 12) C hV hF dX7_statement_9 rfl (fun M hV hF => ?_)
      refine gx_aload_n (q := 13) C dX7_statement_12 rfl rfl rfl ?_
      refine fg_X7_67 (q := 16) C hV.o rfl dX7_statement_13 rfl ?_
      refine gx_tableIn (tgt := 115) C dX7_statement_16 (by decide) (by decide) (rfl) (by decide) ?_
      refine gx_aload_n (q := 116) C dX7_statement_115 rfl rfl rfl ?_
      refine fg_X7_32 (q := 119) C hV.o rfl dX7_statement_116 rfl ?_
      refine gx_iconst (q := 120) (v := nI 0) C dX7_statement_119 (by decide) rfl ?_
      refine gx_aload_n (q := 121) C dX7_statement_120 rfl rfl rfl ?_
      refine gx_iconst (q := 122) (v := nI 2) C dX7_statement_121 (by decide) rfl ?_
      refine gx_iconst (q := 123) (v := nI 2) C dX7_statement_122 (by decide) rfl ?_
      rcases hx0 : twE P td a1 with e | ⟨v0, a2⟩
      · have hb0 := twE_e (by omega) hx0
        obtain ⟨u0, c0, he0, hc0, _⟩ := fig2_e hx0
        refine gx_cs (q := 126) C E (sx_X7_70 (As := [_, _]) C hV.o rfl rfl dX7_statement_123) (md_fig22_e _ _ _ _ h64 hP (by omega) he0 hc0 hV) kw_X7_figures (by decide) (Nat.le_of_ble_eq_true rfl) rfl rfl (by omega) (by omega) dX7_statement_123 rfl (fun M r123 => ?_)
        obtain ⟨hV, hG⟩ := r123
        have hF := hF.tr hG
        refine mv_st_field (q := 127) C hV hF (by omega) dX7_statement_126 rfl (fun M hV hF => ?_)
        refine gx_aload_n (q := 128) C dX7_statement_127 rfl rfl rfl ?_
        refine fg_X7_32 (q := 131) C hV.o rfl dX7_statement_128 rfl ?_
        refine gx_iconst (q := 132) (v := nI 1) C dX7_statement_131 (by decide) rfl ?_
        refine gx_aload_n (q := 133) C dX7_statement_132 rfl rfl rfl ?_
        refine gx_iconst (q := 134) (v := nI 1) C dX7_statement_133 (by decide) rfl ?_
        refine gx_iconst (q := 135) (v := nI 1) C dX7_statement_134 (by decide) rfl ?_
        refine gx_cs (q := 138) C E (sx_X7_70 (As := [_, _]) C hV.o rfl rfl dX7_statement_135) (md_fig_f _ _ _ _ 1 1 (by decide) (by decide) hV) kw_X7_figures (by decide) (Nat.le_of_ble_eq_true rfl) rfl rfl (by omega) (by omega) dX7_statement_135 rfl (fun M r135 => ?_)
        obtain ⟨hV, hG⟩ := r135
        have hF := hF.tr hG
        refine mv_st_field (q := 139) C hV hF (by omega) dX7_statement_138 rfl (fun M hV hF => ?_)
        refine gx_goto (tgt := 196) C dX7_statement_139 (by decide) ?_
        refine gx_aload_n (q := 197) C dX7_statement_196 rfl rfl rfl ?_
        refine gx_bipush (q := 199) (v := nI 59) C dX7_statement_197 (by decide) rfl ?_
        refine gx_cv (q := 202) C E (sx_X7_74 (As := [_]) C hV.o rfl rfl dX7_statement_199) (md_expect_f _ _ _ _ 59 (by decide) h64 hP hV) kw_X7_expect (by decide) (Nat.le_of_ble_eq_true rfl) rfl rfl (by omega) (by omega) dX7_statement_199 rfl (fun M r199 => ?_)
        obtain ⟨hV, hG⟩ := r199
        have hF := hF.tr hG
        have hE : stE P td aa = .error e := by simp [stE, bodE, trE, t21E, t11E, t1E, t2E, endE, hO, hx0]
        exact gx_vret C E dX7_statement_202 (⟨by rw [hE]; exact ⟨_, _, hV⟩, hF⟩) (by omega) (by omega)
      · have hb0 := twE_b hx0
        refine gx_cs (q := 126) C E (sx_X7_70 (As := [_, _]) C hV.o rfl rfl dX7_statement_123) (md_fig22_o _ _ _ _ h64 hP (by omega) hx0 hV) kw_X7_figures (by decide) (Nat.le_of_ble_eq_true rfl) rfl rfl (by omega) (by omega) dX7_statement_123 rfl (fun M r123 => ?_)
        obtain ⟨hV, hG⟩ := r123
        have hF := hF.tr hG
        refine mv_st_field (q := 127) C hV hF (by omega) dX7_statement_126 rfl (fun M hV hF => ?_)
        refine gx_aload_n (q := 128) C dX7_statement_127 rfl rfl rfl ?_
        refine fg_X7_32 (q := 131) C hV.o rfl dX7_statement_128 rfl ?_
        refine gx_iconst (q := 132) (v := nI 1) C dX7_statement_131 (by decide) rfl ?_
        refine gx_aload_n (q := 133) C dX7_statement_132 rfl rfl rfl ?_
        refine gx_iconst (q := 134) (v := nI 1) C dX7_statement_133 (by decide) rfl ?_
        refine gx_iconst (q := 135) (v := nI 1) C dX7_statement_134 (by decide) rfl ?_
        rcases hx1 : dgE P td a2 with e | ⟨v1, a3⟩
        · have hb1 := dgE_e (by omega) hx1
          refine gx_cs (q := 138) C E (sx_X7_70 (As := [_, _]) C hV.o rfl rfl dX7_statement_135) (md_fig11_e _ _ _ _ h64 hP (by omega) hx1 hV) kw_X7_figures (by decide) (Nat.le_of_ble_eq_true rfl) rfl rfl (by omega) (by omega) dX7_statement_135 rfl (fun M r135 => ?_)
          obtain ⟨hV, hG⟩ := r135
          have hF := hF.tr hG
          refine mv_st_field (q := 139) C hV hF (by omega) dX7_statement_138 rfl (fun M hV hF => ?_)
          refine gx_goto (tgt := 196) C dX7_statement_139 (by decide) ?_
          refine gx_aload_n (q := 197) C dX7_statement_196 rfl rfl rfl ?_
          refine gx_bipush (q := 199) (v := nI 59) C dX7_statement_197 (by decide) rfl ?_
          refine gx_cv (q := 202) C E (sx_X7_74 (As := [_]) C hV.o rfl rfl dX7_statement_199) (md_expect_f _ _ _ _ 59 (by decide) h64 hP hV) kw_X7_expect (by decide) (Nat.le_of_ble_eq_true rfl) rfl rfl (by omega) (by omega) dX7_statement_199 rfl (fun M r199 => ?_)
          obtain ⟨hV, hG⟩ := r199
          have hF := hF.tr hG
          have hE : stE P td aa = .error e := by simp [stE, bodE, trE, t21E, t11E, t1E, t2E, endE, hO, hx0, hx1]
          exact gx_vret C E dX7_statement_202 (⟨by rw [hE]; exact ⟨_, _, hV⟩, hF⟩) (by omega) (by omega)
        · have hb1 := dgE_b hx1
          refine gx_cs (q := 138) C E (sx_X7_70 (As := [_, _]) C hV.o rfl rfl dX7_statement_135) (md_fig11_o _ _ _ _ h64 hP (by omega) hx1 hV) kw_X7_figures (by decide) (Nat.le_of_ble_eq_true rfl) rfl rfl (by omega) (by omega) dX7_statement_135 rfl (fun M r135 => ?_)
          obtain ⟨hV, hG⟩ := r135
          have hF := hF.tr hG
          refine mv_st_field (q := 139) C hV hF (by omega) dX7_statement_138 rfl (fun M hV hF => ?_)
          refine gx_goto (tgt := 196) C dX7_statement_139 (by decide) ?_
          refine gx_aload_n (q := 197) C dX7_statement_196 rfl rfl rfl ?_
          refine gx_bipush (q := 199) (v := nI 59) C dX7_statement_197 (by decide) rfl ?_
          rcases hx2 : exE P td 59 a3 with e | a4
          · have hb2 := (exE_e hx2).1
            refine gx_cv (q := 202) C E (sx_X7_74 (As := [_]) C hV.o rfl rfl dX7_statement_199) (md_expect_e _ _ _ _ 59 (by decide) h64 hP hx2 (by omega) hV) kw_X7_expect (by decide) (Nat.le_of_ble_eq_true rfl) rfl rfl (by omega) (by omega) dX7_statement_199 rfl (fun M r199 => ?_)
            obtain ⟨hV, hG⟩ := r199
            have hF := hF.tr hG
            have hE : stE P td aa = .error e := by simp [stE, bodE, trE, t21E, t11E, t1E, t2E, endE, hO, hx0, hx1, hx2]
            exact gx_vret C E dX7_statement_202 (⟨by rw [hE]; exact ⟨_, _, hV⟩, hF⟩) (by omega) (by omega)
          · have hb2 := exE_b hx2
            refine gx_cv (q := 202) C E (sx_X7_74 (As := [_]) C hV.o rfl rfl dX7_statement_199) (md_expect_o _ _ _ _ 59 (by decide) h64 hP hx2 hV) kw_X7_expect (by decide) (Nat.le_of_ble_eq_true rfl) rfl rfl (by omega) (by omega) dX7_statement_199 rfl (fun M r199 => ?_)
            obtain ⟨hV, hG⟩ := r199
            have hF := hF.tr hG
            have hE : stE P td aa = .ok (tmk 1 v0 v1 0 0, a4) := by simp [stE, bodE, trE, t21E, t11E, t1E, t2E, endE, hO, hx0, hx1, hx2]
            exact gx_vret C E dX7_statement_202 (⟨by rw [hE]; exact ⟨_, hV, by refine ⟨rfl, ?_, ?_⟩ <;> intro h <;> first | rfl | exact ⟨rfl, rfl⟩ | (simp [tmk_s] at h)⟩, hF⟩) (by omega) (by omega)
    · skip
      refine gx_aload_n (q := 1) C dX7_statement_0 rfl rfl rfl ?_
      refine gx_aload_n (q := 2) C dX7_statement_1 rfl rfl rfl ?_
      refine gx_aload_n (q := 3) C dX7_statement_2 rfl rfl rfl ?_
      refine fg_X7_25 (q := 6) C hV.o rfl dX7_statement_3 rfl ?_
      refine gx_cs (q := 9) C E (sx_X7_63 (As := [_]) C hV.o rfl rfl dX7_statement_6) (md_oneOf_bg_o _ _ _ _ h64 hP hO hV) kw_X7_oneOf (by decide) (Nat.le_of_ble_eq_true rfl) rfl rfl (by omega) (by omega) dX7_statement_6 rfl (fun M r6 => ?_)
      obtain ⟨hV, hG⟩ := r6
      have hF := hF.tr hG
      refine mv_pf_sort (q := 12) C hV hF dX7_statement_9 rfl (fun M hV hF => ?_)
      refine gx_aload_n (q := 13) C dX7_statement_12 rfl rfl rfl ?_
      refine fg_X7_67 (q := 16) C hV.o rfl dX7_statement_13 rfl ?_
      refine gx_tableIn (tgt := 142) C dX7_statement_16 (by decide) (by decide) (rfl) (by decide) ?_
      refine gx_aload_n (q := 143) C dX7_statement_142 rfl rfl rfl ?_
      refine fg_X7_32 (q := 146) C hV.o rfl dX7_statement_143 rfl ?_
      refine gx_iconst (q := 147) (v := nI 0) C dX7_statement_146 (by decide) rfl ?_
      refine gx_aload_n (q := 148) C dX7_statement_147 rfl rfl rfl ?_
      refine gx_iconst (q := 149) (v := nI 1) C dX7_statement_148 (by decide) rfl ?_
      refine gx_iconst (q := 150) (v := nI 1) C dX7_statement_149 (by decide) rfl ?_
      rcases hx0 : dgE P td a1 with e | ⟨v0, a2⟩
      · have hb0 := dgE_e (by omega) hx0
        refine gx_cs (q := 153) C E (sx_X7_70 (As := [_, _]) C hV.o rfl rfl dX7_statement_150) (md_fig11_e _ _ _ _ h64 hP (by omega) hx0 hV) kw_X7_figures (by decide) (Nat.le_of_ble_eq_true rfl) rfl rfl (by omega) (by omega) dX7_statement_150 rfl (fun M r150 => ?_)
        obtain ⟨hV, hG⟩ := r150
        have hF := hF.tr hG
        refine mv_st_field (q := 154) C hV hF (by omega) dX7_statement_153 rfl (fun M hV hF => ?_)
        refine gx_aload_n (q := 155) C dX7_statement_154 rfl rfl rfl ?_
        refine fg_X7_32 (q := 158) C hV.o rfl dX7_statement_155 rfl ?_
        refine gx_iconst (q := 159) (v := nI 1) C dX7_statement_158 (by decide) rfl ?_
        refine gx_aload_n (q := 160) C dX7_statement_159 rfl rfl rfl ?_
        refine gx_iconst (q := 161) (v := nI 1) C dX7_statement_160 (by decide) rfl ?_
        refine gx_iconst (q := 162) (v := nI 1) C dX7_statement_161 (by decide) rfl ?_
        refine gx_cs (q := 165) C E (sx_X7_70 (As := [_, _]) C hV.o rfl rfl dX7_statement_162) (md_fig_f _ _ _ _ 1 1 (by decide) (by decide) hV) kw_X7_figures (by decide) (Nat.le_of_ble_eq_true rfl) rfl rfl (by omega) (by omega) dX7_statement_162 rfl (fun M r162 => ?_)
        obtain ⟨hV, hG⟩ := r162
        have hF := hF.tr hG
        refine mv_st_field (q := 166) C hV hF (by omega) dX7_statement_165 rfl (fun M hV hF => ?_)
        refine gx_goto (tgt := 196) C dX7_statement_166 (by decide) ?_
        refine gx_aload_n (q := 197) C dX7_statement_196 rfl rfl rfl ?_
        refine gx_bipush (q := 199) (v := nI 59) C dX7_statement_197 (by decide) rfl ?_
        refine gx_cv (q := 202) C E (sx_X7_74 (As := [_]) C hV.o rfl rfl dX7_statement_199) (md_expect_f _ _ _ _ 59 (by decide) h64 hP hV) kw_X7_expect (by decide) (Nat.le_of_ble_eq_true rfl) rfl rfl (by omega) (by omega) dX7_statement_199 rfl (fun M r199 => ?_)
        obtain ⟨hV, hG⟩ := r199
        have hF := hF.tr hG
        have hE : stE P td aa = .error e := by simp [stE, bodE, trE, t21E, t11E, t1E, t2E, endE, hO, hx0]
        exact gx_vret C E dX7_statement_202 (⟨by rw [hE]; exact ⟨_, _, hV⟩, hF⟩) (by omega) (by omega)
      · have hb0 := dgE_b hx0
        refine gx_cs (q := 153) C E (sx_X7_70 (As := [_, _]) C hV.o rfl rfl dX7_statement_150) (md_fig11_o _ _ _ _ h64 hP (by omega) hx0 hV) kw_X7_figures (by decide) (Nat.le_of_ble_eq_true rfl) rfl rfl (by omega) (by omega) dX7_statement_150 rfl (fun M r150 => ?_)
        obtain ⟨hV, hG⟩ := r150
        have hF := hF.tr hG
        refine mv_st_field (q := 154) C hV hF (by omega) dX7_statement_153 rfl (fun M hV hF => ?_)
        refine gx_aload_n (q := 155) C dX7_statement_154 rfl rfl rfl ?_
        refine fg_X7_32 (q := 158) C hV.o rfl dX7_statement_155 rfl ?_
        refine gx_iconst (q := 159) (v := nI 1) C dX7_statement_158 (by decide) rfl ?_
        refine gx_aload_n (q := 160) C dX7_statement_159 rfl rfl rfl ?_
        refine gx_iconst (q := 161) (v := nI 1) C dX7_statement_160 (by decide) rfl ?_
        refine gx_iconst (q := 162) (v := nI 1) C dX7_statement_161 (by decide) rfl ?_
        rcases hx1 : dgE P td a2 with e | ⟨v1, a3⟩
        · have hb1 := dgE_e (by omega) hx1
          refine gx_cs (q := 165) C E (sx_X7_70 (As := [_, _]) C hV.o rfl rfl dX7_statement_162) (md_fig11_e _ _ _ _ h64 hP (by omega) hx1 hV) kw_X7_figures (by decide) (Nat.le_of_ble_eq_true rfl) rfl rfl (by omega) (by omega) dX7_statement_162 rfl (fun M r162 => ?_)
          obtain ⟨hV, hG⟩ := r162
          have hF := hF.tr hG
          refine mv_st_field (q := 166) C hV hF (by omega) dX7_statement_165 rfl (fun M hV hF => ?_)
          refine gx_goto (tgt := 196) C dX7_statement_166 (by decide) ?_
          refine gx_aload_n (q := 197) C dX7_statement_196 rfl rfl rfl ?_
          refine gx_bipush (q := 199) (v := nI 59) C dX7_statement_197 (by decide) rfl ?_
          refine gx_cv (q := 202) C E (sx_X7_74 (As := [_]) C hV.o rfl rfl dX7_statement_199) (md_expect_f _ _ _ _ 59 (by decide) h64 hP hV) kw_X7_expect (by decide) (Nat.le_of_ble_eq_true rfl) rfl rfl (by omega) (by omega) dX7_statement_199 rfl (fun M r199 => ?_)
          obtain ⟨hV, hG⟩ := r199
          have hF := hF.tr hG
          have hE : stE P td aa = .error e := by simp [stE, bodE, trE, t21E, t11E, t1E, t2E, endE, hO, hx0, hx1]
          exact gx_vret C E dX7_statement_202 (⟨by rw [hE]; exact ⟨_, _, hV⟩, hF⟩) (by omega) (by omega)
        · have hb1 := dgE_b hx1
          refine gx_cs (q := 165) C E (sx_X7_70 (As := [_, _]) C hV.o rfl rfl dX7_statement_162) (md_fig11_o _ _ _ _ h64 hP (by omega) hx1 hV) kw_X7_figures (by decide) (Nat.le_of_ble_eq_true rfl) rfl rfl (by omega) (by omega) dX7_statement_162 rfl (fun M r162 => ?_)
          obtain ⟨hV, hG⟩ := r162
          have hF := hF.tr hG
          refine mv_st_field (q := 166) C hV hF (by omega) dX7_statement_165 rfl (fun M hV hF => ?_)
          refine gx_goto (tgt := 196) C dX7_statement_166 (by decide) ?_
          refine gx_aload_n (q := 197) C dX7_statement_196 rfl rfl rfl ?_
          refine gx_bipush (q := 199) (v := nI 59) C dX7_statement_197 (by decide) rfl ?_
          rcases hx2 : exE P td 59 a3 with e | a4
          · have hb2 := (exE_e hx2).1
            refine gx_cv (q := 202) C E (sx_X7_74 (As := [_]) C hV.o rfl rfl dX7_statement_199) (md_expect_e _ _ _ _ 59 (by decide) h64 hP hx2 (by omega) hV) kw_X7_expect (by decide) (Nat.le_of_ble_eq_true rfl) rfl rfl (by omega) (by omega) dX7_statement_199 rfl (fun M r199 => ?_)
            obtain ⟨hV, hG⟩ := r199
            have hF := hF.tr hG
            have hE : stE P td aa = .error e := by simp [stE, bodE, trE, t21E, t11E, t1E, t2E, endE, hO, hx0, hx1, hx2]
            exact gx_vret C E dX7_statement_202 (⟨by rw [hE]; exact ⟨_, _, hV⟩, hF⟩) (by omega) (by omega)
          · have hb2 := exE_b hx2
            refine gx_cv (q := 202) C E (sx_X7_74 (As := [_]) C hV.o rfl rfl dX7_statement_199) (md_expect_o _ _ _ _ 59 (by decide) h64 hP hx2 hV) kw_X7_expect (by decide) (Nat.le_of_ble_eq_true rfl) rfl rfl (by omega) (by omega) dX7_statement_199 rfl (fun M r199 => ?_)
            obtain ⟨hV, hG⟩ := r199
            have hF := hF.tr hG
            have hE : stE P td aa = .ok (tmk 2 v0 v1 0 0, a4) := by simp [stE, bodE, trE, t21E, t11E, t1E, t2E, endE, hO, hx0, hx1, hx2]
            exact gx_vret C E dX7_statement_202 (⟨by rw [hE]; exact ⟨_, hV, by refine ⟨rfl, ?_, ?_⟩ <;> intro h <;> first | rfl | exact ⟨rfl, rfl⟩ | (simp [tmk_s] at h)⟩, hF⟩) (by omega) (by omega)
    · skip
      refine gx_aload_n (q := 1) C dX7_statement_0 rfl rfl rfl ?_
      refine gx_aload_n (q := 2) C dX7_statement_1 rfl rfl rfl ?_
      refine gx_aload_n (q := 3) C dX7_statement_2 rfl rfl rfl ?_
      refine fg_X7_25 (q := 6) C hV.o rfl dX7_statement_3 rfl ?_
      refine gx_cs (q := 9) C E (sx_X7_63 (As := [_]) C hV.o rfl rfl dX7_statement_6) (md_oneOf_bg_o _ _ _ _ h64 hP hO hV) kw_X7_oneOf (by decide) (Nat.le_of_ble_eq_true rfl) rfl rfl (by omega) (by omega) dX7_statement_6 rfl (fun M r6 => ?_)
      obtain ⟨hV, hG⟩ := r6
      have hF := hF.tr hG
      refine mv_pf_sort (q := 12) C hV hF dX7_statement_9 rfl (fun M hV hF => ?_)
      refine gx_aload_n (q := 13) C dX7_statement_12 rfl rfl rfl ?_
      refine fg_X7_67 (q := 16) C hV.o rfl dX7_statement_13 rfl ?_
      refine gx_tableIn (tgt := 115) C dX7_statement_16 (by decide) (by decide) (rfl) (by decide) ?_
      refine gx_aload_n (q := 116) C dX7_statement_115 rfl rfl rfl ?_
      refine fg_X7_32 (q := 119) C hV.o rfl dX7_statement_116 rfl ?_
      refine gx_iconst (q := 120) (v := nI 0) C dX7_statement_119 (by decide) rfl ?_
      refine gx_aload_n (q := 121) C dX7_statement_120 rfl rfl rfl ?_
      refine gx_iconst (q := 122) (v := nI 2) C dX7_statement_121 (by decide) rfl ?_
      refine gx_iconst (q := 123) (v := nI 2) C dX7_statement_122 (by decide) rfl ?_
      rcases hx0 : twE P td a1 with e | ⟨v0, a2⟩
      · have hb0 := twE_e (by omega) hx0
        obtain ⟨u0, c0, he0, hc0, _⟩ := fig2_e hx0
        refine gx_cs (q := 126) C E (sx_X7_70 (As := [_, _]) C hV.o rfl rfl dX7_statement_123) (md_fig22_e _ _ _ _ h64 hP (by omega) he0 hc0 hV) kw_X7_figures (by decide) (Nat.le_of_ble_eq_true rfl) rfl rfl (by omega) (by omega) dX7_statement_123 rfl (fun M r123 => ?_)
        obtain ⟨hV, hG⟩ := r123
        have hF := hF.tr hG
        refine mv_st_field (q := 127) C hV hF (by omega) dX7_statement_126 rfl (fun M hV hF => ?_)
        refine gx_aload_n (q := 128) C dX7_statement_127 rfl rfl rfl ?_
        refine fg_X7_32 (q := 131) C hV.o rfl dX7_statement_128 rfl ?_
        refine gx_iconst (q := 132) (v := nI 1) C dX7_statement_131 (by decide) rfl ?_
        refine gx_aload_n (q := 133) C dX7_statement_132 rfl rfl rfl ?_
        refine gx_iconst (q := 134) (v := nI 1) C dX7_statement_133 (by decide) rfl ?_
        refine gx_iconst (q := 135) (v := nI 1) C dX7_statement_134 (by decide) rfl ?_
        refine gx_cs (q := 138) C E (sx_X7_70 (As := [_, _]) C hV.o rfl rfl dX7_statement_135) (md_fig_f _ _ _ _ 1 1 (by decide) (by decide) hV) kw_X7_figures (by decide) (Nat.le_of_ble_eq_true rfl) rfl rfl (by omega) (by omega) dX7_statement_135 rfl (fun M r135 => ?_)
        obtain ⟨hV, hG⟩ := r135
        have hF := hF.tr hG
        refine mv_st_field (q := 139) C hV hF (by omega) dX7_statement_138 rfl (fun M hV hF => ?_)
        refine gx_goto (tgt := 196) C dX7_statement_139 (by decide) ?_
        refine gx_aload_n (q := 197) C dX7_statement_196 rfl rfl rfl ?_
        refine gx_bipush (q := 199) (v := nI 59) C dX7_statement_197 (by decide) rfl ?_
        refine gx_cv (q := 202) C E (sx_X7_74 (As := [_]) C hV.o rfl rfl dX7_statement_199) (md_expect_f _ _ _ _ 59 (by decide) h64 hP hV) kw_X7_expect (by decide) (Nat.le_of_ble_eq_true rfl) rfl rfl (by omega) (by omega) dX7_statement_199 rfl (fun M r199 => ?_)
        obtain ⟨hV, hG⟩ := r199
        have hF := hF.tr hG
        have hE : stE P td aa = .error e := by simp [stE, bodE, trE, t21E, t11E, t1E, t2E, endE, hO, hx0]
        exact gx_vret C E dX7_statement_202 (⟨by rw [hE]; exact ⟨_, _, hV⟩, hF⟩) (by omega) (by omega)
      · have hb0 := twE_b hx0
        refine gx_cs (q := 126) C E (sx_X7_70 (As := [_, _]) C hV.o rfl rfl dX7_statement_123) (md_fig22_o _ _ _ _ h64 hP (by omega) hx0 hV) kw_X7_figures (by decide) (Nat.le_of_ble_eq_true rfl) rfl rfl (by omega) (by omega) dX7_statement_123 rfl (fun M r123 => ?_)
        obtain ⟨hV, hG⟩ := r123
        have hF := hF.tr hG
        refine mv_st_field (q := 127) C hV hF (by omega) dX7_statement_126 rfl (fun M hV hF => ?_)
        refine gx_aload_n (q := 128) C dX7_statement_127 rfl rfl rfl ?_
        refine fg_X7_32 (q := 131) C hV.o rfl dX7_statement_128 rfl ?_
        refine gx_iconst (q := 132) (v := nI 1) C dX7_statement_131 (by decide) rfl ?_
        refine gx_aload_n (q := 133) C dX7_statement_132 rfl rfl rfl ?_
        refine gx_iconst (q := 134) (v := nI 1) C dX7_statement_133 (by decide) rfl ?_
        refine gx_iconst (q := 135) (v := nI 1) C dX7_statement_134 (by decide) rfl ?_
        rcases hx1 : dgE P td a2 with e | ⟨v1, a3⟩
        · have hb1 := dgE_e (by omega) hx1
          refine gx_cs (q := 138) C E (sx_X7_70 (As := [_, _]) C hV.o rfl rfl dX7_statement_135) (md_fig11_e _ _ _ _ h64 hP (by omega) hx1 hV) kw_X7_figures (by decide) (Nat.le_of_ble_eq_true rfl) rfl rfl (by omega) (by omega) dX7_statement_135 rfl (fun M r135 => ?_)
          obtain ⟨hV, hG⟩ := r135
          have hF := hF.tr hG
          refine mv_st_field (q := 139) C hV hF (by omega) dX7_statement_138 rfl (fun M hV hF => ?_)
          refine gx_goto (tgt := 196) C dX7_statement_139 (by decide) ?_
          refine gx_aload_n (q := 197) C dX7_statement_196 rfl rfl rfl ?_
          refine gx_bipush (q := 199) (v := nI 59) C dX7_statement_197 (by decide) rfl ?_
          refine gx_cv (q := 202) C E (sx_X7_74 (As := [_]) C hV.o rfl rfl dX7_statement_199) (md_expect_f _ _ _ _ 59 (by decide) h64 hP hV) kw_X7_expect (by decide) (Nat.le_of_ble_eq_true rfl) rfl rfl (by omega) (by omega) dX7_statement_199 rfl (fun M r199 => ?_)
          obtain ⟨hV, hG⟩ := r199
          have hF := hF.tr hG
          have hE : stE P td aa = .error e := by simp [stE, bodE, trE, t21E, t11E, t1E, t2E, endE, hO, hx0, hx1]
          exact gx_vret C E dX7_statement_202 (⟨by rw [hE]; exact ⟨_, _, hV⟩, hF⟩) (by omega) (by omega)
        · have hb1 := dgE_b hx1
          refine gx_cs (q := 138) C E (sx_X7_70 (As := [_, _]) C hV.o rfl rfl dX7_statement_135) (md_fig11_o _ _ _ _ h64 hP (by omega) hx1 hV) kw_X7_figures (by decide) (Nat.le_of_ble_eq_true rfl) rfl rfl (by omega) (by omega) dX7_statement_135 rfl (fun M r135 => ?_)
          obtain ⟨hV, hG⟩ := r135
          have hF := hF.tr hG
          refine mv_st_field (q := 139) C hV hF (by omega) dX7_statement_138 rfl (fun M hV hF => ?_)
          refine gx_goto (tgt := 196) C dX7_statement_139 (by decide) ?_
          refine gx_aload_n (q := 197) C dX7_statement_196 rfl rfl rfl ?_
          refine gx_bipush (q := 199) (v := nI 59) C dX7_statement_197 (by decide) rfl ?_
          rcases hx2 : exE P td 59 a3 with e | a4
          · have hb2 := (exE_e hx2).1
            refine gx_cv (q := 202) C E (sx_X7_74 (As := [_]) C hV.o rfl rfl dX7_statement_199) (md_expect_e _ _ _ _ 59 (by decide) h64 hP hx2 (by omega) hV) kw_X7_expect (by decide) (Nat.le_of_ble_eq_true rfl) rfl rfl (by omega) (by omega) dX7_statement_199 rfl (fun M r199 => ?_)
            obtain ⟨hV, hG⟩ := r199
            have hF := hF.tr hG
            have hE : stE P td aa = .error e := by simp [stE, bodE, trE, t21E, t11E, t1E, t2E, endE, hO, hx0, hx1, hx2]
            exact gx_vret C E dX7_statement_202 (⟨by rw [hE]; exact ⟨_, _, hV⟩, hF⟩) (by omega) (by omega)
          · have hb2 := exE_b hx2
            refine gx_cv (q := 202) C E (sx_X7_74 (As := [_]) C hV.o rfl rfl dX7_statement_199) (md_expect_o _ _ _ _ 59 (by decide) h64 hP hx2 hV) kw_X7_expect (by decide) (Nat.le_of_ble_eq_true rfl) rfl rfl (by omega) (by omega) dX7_statement_199 rfl (fun M r199 => ?_)
            obtain ⟨hV, hG⟩ := r199
            have hF := hF.tr hG
            have hE : stE P td aa = .ok (tmk 3 v0 v1 0 0, a4) := by simp [stE, bodE, trE, t21E, t11E, t1E, t2E, endE, hO, hx0, hx1, hx2]
            exact gx_vret C E dX7_statement_202 (⟨by rw [hE]; exact ⟨_, hV, by refine ⟨rfl, ?_, ?_⟩ <;> intro h <;> first | rfl | exact ⟨rfl, rfl⟩ | (simp [tmk_s] at h)⟩, hF⟩) (by omega) (by omega)
    · skip
      refine gx_aload_n (q := 1) C dX7_statement_0 rfl rfl rfl ?_
      refine gx_aload_n (q := 2) C dX7_statement_1 rfl rfl rfl ?_
      refine gx_aload_n (q := 3) C dX7_statement_2 rfl rfl rfl ?_
      refine fg_X7_25 (q := 6) C hV.o rfl dX7_statement_3 rfl ?_
      refine gx_cs (q := 9) C E (sx_X7_63 (As := [_]) C hV.o rfl rfl dX7_statement_6) (md_oneOf_bg_o _ _ _ _ h64 hP hO hV) kw_X7_oneOf (by decide) (Nat.le_of_ble_eq_true rfl) rfl rfl (by omega) (by omega) dX7_statement_6 rfl (fun M r6 => ?_)
      obtain ⟨hV, hG⟩ := r6
      have hF := hF.tr hG
      refine mv_pf_sort (q := 12) C hV hF dX7_statement_9 rfl (fun M hV hF => ?_)
      refine gx_aload_n (q := 13) C dX7_statement_12 rfl rfl rfl ?_
      refine fg_X7_67 (q := 16) C hV.o rfl dX7_statement_13 rfl ?_
      refine gx_tableIn (tgt := 142) C dX7_statement_16 (by decide) (by decide) (rfl) (by decide) ?_
      refine gx_aload_n (q := 143) C dX7_statement_142 rfl rfl rfl ?_
      refine fg_X7_32 (q := 146) C hV.o rfl dX7_statement_143 rfl ?_
      refine gx_iconst (q := 147) (v := nI 0) C dX7_statement_146 (by decide) rfl ?_
      refine gx_aload_n (q := 148) C dX7_statement_147 rfl rfl rfl ?_
      refine gx_iconst (q := 149) (v := nI 1) C dX7_statement_148 (by decide) rfl ?_
      refine gx_iconst (q := 150) (v := nI 1) C dX7_statement_149 (by decide) rfl ?_
      rcases hx0 : dgE P td a1 with e | ⟨v0, a2⟩
      · have hb0 := dgE_e (by omega) hx0
        refine gx_cs (q := 153) C E (sx_X7_70 (As := [_, _]) C hV.o rfl rfl dX7_statement_150) (md_fig11_e _ _ _ _ h64 hP (by omega) hx0 hV) kw_X7_figures (by decide) (Nat.le_of_ble_eq_true rfl) rfl rfl (by omega) (by omega) dX7_statement_150 rfl (fun M r150 => ?_)
        obtain ⟨hV, hG⟩ := r150
        have hF := hF.tr hG
        refine mv_st_field (q := 154) C hV hF (by omega) dX7_statement_153 rfl (fun M hV hF => ?_)
        refine gx_aload_n (q := 155) C dX7_statement_154 rfl rfl rfl ?_
        refine fg_X7_32 (q := 158) C hV.o rfl dX7_statement_155 rfl ?_
        refine gx_iconst (q := 159) (v := nI 1) C dX7_statement_158 (by decide) rfl ?_
        refine gx_aload_n (q := 160) C dX7_statement_159 rfl rfl rfl ?_
        refine gx_iconst (q := 161) (v := nI 1) C dX7_statement_160 (by decide) rfl ?_
        refine gx_iconst (q := 162) (v := nI 1) C dX7_statement_161 (by decide) rfl ?_
        refine gx_cs (q := 165) C E (sx_X7_70 (As := [_, _]) C hV.o rfl rfl dX7_statement_162) (md_fig_f _ _ _ _ 1 1 (by decide) (by decide) hV) kw_X7_figures (by decide) (Nat.le_of_ble_eq_true rfl) rfl rfl (by omega) (by omega) dX7_statement_162 rfl (fun M r162 => ?_)
        obtain ⟨hV, hG⟩ := r162
        have hF := hF.tr hG
        refine mv_st_field (q := 166) C hV hF (by omega) dX7_statement_165 rfl (fun M hV hF => ?_)
        refine gx_goto (tgt := 196) C dX7_statement_166 (by decide) ?_
        refine gx_aload_n (q := 197) C dX7_statement_196 rfl rfl rfl ?_
        refine gx_bipush (q := 199) (v := nI 59) C dX7_statement_197 (by decide) rfl ?_
        refine gx_cv (q := 202) C E (sx_X7_74 (As := [_]) C hV.o rfl rfl dX7_statement_199) (md_expect_f _ _ _ _ 59 (by decide) h64 hP hV) kw_X7_expect (by decide) (Nat.le_of_ble_eq_true rfl) rfl rfl (by omega) (by omega) dX7_statement_199 rfl (fun M r199 => ?_)
        obtain ⟨hV, hG⟩ := r199
        have hF := hF.tr hG
        have hE : stE P td aa = .error e := by simp [stE, bodE, trE, t21E, t11E, t1E, t2E, endE, hO, hx0]
        exact gx_vret C E dX7_statement_202 (⟨by rw [hE]; exact ⟨_, _, hV⟩, hF⟩) (by omega) (by omega)
      · have hb0 := dgE_b hx0
        refine gx_cs (q := 153) C E (sx_X7_70 (As := [_, _]) C hV.o rfl rfl dX7_statement_150) (md_fig11_o _ _ _ _ h64 hP (by omega) hx0 hV) kw_X7_figures (by decide) (Nat.le_of_ble_eq_true rfl) rfl rfl (by omega) (by omega) dX7_statement_150 rfl (fun M r150 => ?_)
        obtain ⟨hV, hG⟩ := r150
        have hF := hF.tr hG
        refine mv_st_field (q := 154) C hV hF (by omega) dX7_statement_153 rfl (fun M hV hF => ?_)
        refine gx_aload_n (q := 155) C dX7_statement_154 rfl rfl rfl ?_
        refine fg_X7_32 (q := 158) C hV.o rfl dX7_statement_155 rfl ?_
        refine gx_iconst (q := 159) (v := nI 1) C dX7_statement_158 (by decide) rfl ?_
        refine gx_aload_n (q := 160) C dX7_statement_159 rfl rfl rfl ?_
        refine gx_iconst (q := 161) (v := nI 1) C dX7_statement_160 (by decide) rfl ?_
        refine gx_iconst (q := 162) (v := nI 1) C dX7_statement_161 (by decide) rfl ?_
        rcases hx1 : dgE P td a2 with e | ⟨v1, a3⟩
        · have hb1 := dgE_e (by omega) hx1
          refine gx_cs (q := 165) C E (sx_X7_70 (As := [_, _]) C hV.o rfl rfl dX7_statement_162) (md_fig11_e _ _ _ _ h64 hP (by omega) hx1 hV) kw_X7_figures (by decide) (Nat.le_of_ble_eq_true rfl) rfl rfl (by omega) (by omega) dX7_statement_162 rfl (fun M r162 => ?_)
          obtain ⟨hV, hG⟩ := r162
          have hF := hF.tr hG
          refine mv_st_field (q := 166) C hV hF (by omega) dX7_statement_165 rfl (fun M hV hF => ?_)
          refine gx_goto (tgt := 196) C dX7_statement_166 (by decide) ?_
          refine gx_aload_n (q := 197) C dX7_statement_196 rfl rfl rfl ?_
          refine gx_bipush (q := 199) (v := nI 59) C dX7_statement_197 (by decide) rfl ?_
          refine gx_cv (q := 202) C E (sx_X7_74 (As := [_]) C hV.o rfl rfl dX7_statement_199) (md_expect_f _ _ _ _ 59 (by decide) h64 hP hV) kw_X7_expect (by decide) (Nat.le_of_ble_eq_true rfl) rfl rfl (by omega) (by omega) dX7_statement_199 rfl (fun M r199 => ?_)
          obtain ⟨hV, hG⟩ := r199
          have hF := hF.tr hG
          have hE : stE P td aa = .error e := by simp [stE, bodE, trE, t21E, t11E, t1E, t2E, endE, hO, hx0, hx1]
          exact gx_vret C E dX7_statement_202 (⟨by rw [hE]; exact ⟨_, _, hV⟩, hF⟩) (by omega) (by omega)
        · have hb1 := dgE_b hx1
          refine gx_cs (q := 165) C E (sx_X7_70 (As := [_, _]) C hV.o rfl rfl dX7_statement_162) (md_fig11_o _ _ _ _ h64 hP (by omega) hx1 hV) kw_X7_figures (by decide) (Nat.le_of_ble_eq_true rfl) rfl rfl (by omega) (by omega) dX7_statement_162 rfl (fun M r162 => ?_)
          obtain ⟨hV, hG⟩ := r162
          have hF := hF.tr hG
          refine mv_st_field (q := 166) C hV hF (by omega) dX7_statement_165 rfl (fun M hV hF => ?_)
          refine gx_goto (tgt := 196) C dX7_statement_166 (by decide) ?_
          refine gx_aload_n (q := 197) C dX7_statement_196 rfl rfl rfl ?_
          refine gx_bipush (q := 199) (v := nI 59) C dX7_statement_197 (by decide) rfl ?_
          rcases hx2 : exE P td 59 a3 with e | a4
          · have hb2 := (exE_e hx2).1
            refine gx_cv (q := 202) C E (sx_X7_74 (As := [_]) C hV.o rfl rfl dX7_statement_199) (md_expect_e _ _ _ _ 59 (by decide) h64 hP hx2 (by omega) hV) kw_X7_expect (by decide) (Nat.le_of_ble_eq_true rfl) rfl rfl (by omega) (by omega) dX7_statement_199 rfl (fun M r199 => ?_)
            obtain ⟨hV, hG⟩ := r199
            have hF := hF.tr hG
            have hE : stE P td aa = .error e := by simp [stE, bodE, trE, t21E, t11E, t1E, t2E, endE, hO, hx0, hx1, hx2]
            exact gx_vret C E dX7_statement_202 (⟨by rw [hE]; exact ⟨_, _, hV⟩, hF⟩) (by omega) (by omega)
          · have hb2 := exE_b hx2
            refine gx_cv (q := 202) C E (sx_X7_74 (As := [_]) C hV.o rfl rfl dX7_statement_199) (md_expect_o _ _ _ _ 59 (by decide) h64 hP hx2 hV) kw_X7_expect (by decide) (Nat.le_of_ble_eq_true rfl) rfl rfl (by omega) (by omega) dX7_statement_199 rfl (fun M r199 => ?_)
            obtain ⟨hV, hG⟩ := r199
            have hF := hF.tr hG
            have hE : stE P td aa = .ok (tmk 4 v0 v1 0 0, a4) := by simp [stE, bodE, trE, t21E, t11E, t1E, t2E, endE, hO, hx0, hx1, hx2]
            exact gx_vret C E dX7_statement_202 (⟨by rw [hE]; exact ⟨_, hV, by refine ⟨rfl, ?_, ?_⟩ <;> intro h <;> first | rfl | exact ⟨rfl, rfl⟩ | (simp [tmk_s] at h)⟩, hF⟩) (by omega) (by omega)
    · skip
      refine gx_aload_n (q := 1) C dX7_statement_0 rfl rfl rfl ?_
      refine gx_aload_n (q := 2) C dX7_statement_1 rfl rfl rfl ?_
      refine gx_aload_n (q := 3) C dX7_statement_2 rfl rfl rfl ?_
      refine fg_X7_25 (q := 6) C hV.o rfl dX7_statement_3 rfl ?_
      refine gx_cs (q := 9) C E (sx_X7_63 (As := [_]) C hV.o rfl rfl dX7_statement_6) (md_oneOf_bg_o _ _ _ _ h64 hP hO hV) kw_X7_oneOf (by decide) (Nat.le_of_ble_eq_true rfl) rfl rfl (by omega) (by omega) dX7_statement_6 rfl (fun M r6 => ?_)
      obtain ⟨hV, hG⟩ := r6
      have hF := hF.tr hG
      refine mv_pf_sort (q := 12) C hV hF dX7_statement_9 rfl (fun M hV hF => ?_)
      refine gx_aload_n (q := 13) C dX7_statement_12 rfl rfl rfl ?_
      refine fg_X7_67 (q := 16) C hV.o rfl dX7_statement_13 rfl ?_
      refine gx_tableIn (tgt := 169) C dX7_statement_16 (by decide) (by decide) (rfl) (by decide) ?_
      refine gx_aload_n (q := 170) C dX7_statement_169 rfl rfl rfl ?_
      refine fg_X7_32 (q := 173) C hV.o rfl dX7_statement_170 rfl ?_
      refine gx_iconst (q := 174) (v := nI 0) C dX7_statement_173 (by decide) rfl ?_
      refine gx_aload_n (q := 175) C dX7_statement_174 rfl rfl rfl ?_
      refine gx_iconst (q := 176) (v := nI 1) C dX7_statement_175 (by decide) rfl ?_
      refine gx_iconst (q := 177) (v := nI 1) C dX7_statement_176 (by decide) rfl ?_
      rcases hx0 : dgE P td a1 with e | ⟨v0, a2⟩
      · have hb0 := dgE_e (by omega) hx0
        refine gx_cs (q := 180) C E (sx_X7_70 (As := [_, _]) C hV.o rfl rfl dX7_statement_177) (md_fig11_e _ _ _ _ h64 hP (by omega) hx0 hV) kw_X7_figures (by decide) (Nat.le_of_ble_eq_true rfl) rfl rfl (by omega) (by omega) dX7_statement_177 rfl (fun M r177 => ?_)
        obtain ⟨hV, hG⟩ := r177
        have hF := hF.tr hG
        refine mv_st_field (q := 181) C hV hF (by omega) dX7_statement_180 rfl (fun M hV hF => ?_)
        refine gx_goto (tgt := 196) C dX7_statement_181 (by decide) ?_
        refine gx_aload_n (q := 197) C dX7_statement_196 rfl rfl rfl ?_
        refine gx_bipush (q := 199) (v := nI 59) C dX7_statement_197 (by decide) rfl ?_
        refine gx_cv (q := 202) C E (sx_X7_74 (As := [_]) C hV.o rfl rfl dX7_statement_199) (md_expect_f _ _ _ _ 59 (by decide) h64 hP hV) kw_X7_expect (by decide) (Nat.le_of_ble_eq_true rfl) rfl rfl (by omega) (by omega) dX7_statement_199 rfl (fun M r199 => ?_)
        obtain ⟨hV, hG⟩ := r199
        have hF := hF.tr hG
        have hE : stE P td aa = .error e := by simp [stE, bodE, trE, t21E, t11E, t1E, t2E, endE, hO, hx0]
        exact gx_vret C E dX7_statement_202 (⟨by rw [hE]; exact ⟨_, _, hV⟩, hF⟩) (by omega) (by omega)
      · have hb0 := dgE_b hx0
        refine gx_cs (q := 180) C E (sx_X7_70 (As := [_, _]) C hV.o rfl rfl dX7_statement_177) (md_fig11_o _ _ _ _ h64 hP (by omega) hx0 hV) kw_X7_figures (by decide) (Nat.le_of_ble_eq_true rfl) rfl rfl (by omega) (by omega) dX7_statement_177 rfl (fun M r177 => ?_)
        obtain ⟨hV, hG⟩ := r177
        have hF := hF.tr hG
        refine mv_st_field (q := 181) C hV hF (by omega) dX7_statement_180 rfl (fun M hV hF => ?_)
        refine gx_goto (tgt := 196) C dX7_statement_181 (by decide) ?_
        refine gx_aload_n (q := 197) C dX7_statement_196 rfl rfl rfl ?_
        refine gx_bipush (q := 199) (v := nI 59) C dX7_statement_197 (by decide) rfl ?_
        rcases hx1 : exE P td 59 a2 with e | a3
        · have hb1 := (exE_e hx1).1
          refine gx_cv (q := 202) C E (sx_X7_74 (As := [_]) C hV.o rfl rfl dX7_statement_199) (md_expect_e _ _ _ _ 59 (by decide) h64 hP hx1 (by omega) hV) kw_X7_expect (by decide) (Nat.le_of_ble_eq_true rfl) rfl rfl (by omega) (by omega) dX7_statement_199 rfl (fun M r199 => ?_)
          obtain ⟨hV, hG⟩ := r199
          have hF := hF.tr hG
          have hE : stE P td aa = .error e := by simp [stE, bodE, trE, t21E, t11E, t1E, t2E, endE, hO, hx0, hx1]
          exact gx_vret C E dX7_statement_202 (⟨by rw [hE]; exact ⟨_, _, hV⟩, hF⟩) (by omega) (by omega)
        · have hb1 := exE_b hx1
          refine gx_cv (q := 202) C E (sx_X7_74 (As := [_]) C hV.o rfl rfl dX7_statement_199) (md_expect_o _ _ _ _ 59 (by decide) h64 hP hx1 hV) kw_X7_expect (by decide) (Nat.le_of_ble_eq_true rfl) rfl rfl (by omega) (by omega) dX7_statement_199 rfl (fun M r199 => ?_)
          obtain ⟨hV, hG⟩ := r199
          have hF := hF.tr hG
          have hE : stE P td aa = .ok (tmk 5 v0 0 0 0, a3) := by simp [stE, bodE, trE, t21E, t11E, t1E, t2E, endE, hO, hx0, hx1]
          exact gx_vret C E dX7_statement_202 (⟨by rw [hE]; exact ⟨_, hV, by refine ⟨rfl, ?_, ?_⟩ <;> intro h <;> first | rfl | exact ⟨rfl, rfl⟩ | (simp [tmk_s] at h)⟩, hF⟩) (by omega) (by omega)
    · skip
      refine gx_aload_n (q := 1) C dX7_statement_0 rfl rfl rfl ?_
      refine gx_aload_n (q := 2) C dX7_statement_1 rfl rfl rfl ?_
      refine gx_aload_n (q := 3) C dX7_statement_2 rfl rfl rfl ?_
      refine fg_X7_25 (q := 6) C hV.o rfl dX7_statement_3 rfl ?_
      refine gx_cs (q := 9) C E (sx_X7_63 (As := [_]) C hV.o rfl rfl dX7_statement_6) (md_oneOf_bg_o _ _ _ _ h64 hP hO hV) kw_X7_oneOf (by decide) (Nat.le_of_ble_eq_true rfl) rfl rfl (by omega) (by omega) dX7_statement_6 rfl (fun M r6 => ?_)
      obtain ⟨hV, hG⟩ := r6
      have hF := hF.tr hG
      refine mv_pf_sort (q := 12) C hV hF dX7_statement_9 rfl (fun M hV hF => ?_)
      refine gx_aload_n (q := 13) C dX7_statement_12 rfl rfl rfl ?_
      refine fg_X7_67 (q := 16) C hV.o rfl dX7_statement_13 rfl ?_
      refine gx_tableOut (tgt := 184) C dX7_statement_16 (Or.inr (by decide)) (by decide) ?_
      refine gx_aload_n (q := 185) C dX7_statement_184 rfl rfl rfl ?_
      refine fg_X7_32 (q := 188) C hV.o rfl dX7_statement_185 rfl ?_
      refine gx_iconst (q := 189) (v := nI 0) C dX7_statement_188 (by decide) rfl ?_
      refine gx_aload_n (q := 190) C dX7_statement_189 rfl rfl rfl ?_
      refine gx_iconst (q := 191) (v := nI 2) C dX7_statement_190 (by decide) rfl ?_
      refine gx_iconst (q := 192) (v := nI 2) C dX7_statement_191 (by decide) rfl ?_
      rcases hx0 : twE P td a1 with e | ⟨v0, a2⟩
      · have hb0 := twE_e (by omega) hx0
        obtain ⟨u0, c0, he0, hc0, _⟩ := fig2_e hx0
        refine gx_cs (q := 195) C E (sx_X7_70 (As := [_, _]) C hV.o rfl rfl dX7_statement_192) (md_fig22_e _ _ _ _ h64 hP (by omega) he0 hc0 hV) kw_X7_figures (by decide) (Nat.le_of_ble_eq_true rfl) rfl rfl (by omega) (by omega) dX7_statement_192 rfl (fun M r192 => ?_)
        obtain ⟨hV, hG⟩ := r192
        have hF := hF.tr hG
        refine mv_st_field (q := 196) C hV hF (by omega) dX7_statement_195 rfl (fun M hV hF => ?_)
        refine gx_aload_n (q := 197) C dX7_statement_196 rfl rfl rfl ?_
        refine gx_bipush (q := 199) (v := nI 59) C dX7_statement_197 (by decide) rfl ?_
        refine gx_cv (q := 202) C E (sx_X7_74 (As := [_]) C hV.o rfl rfl dX7_statement_199) (md_expect_f _ _ _ _ 59 (by decide) h64 hP hV) kw_X7_expect (by decide) (Nat.le_of_ble_eq_true rfl) rfl rfl (by omega) (by omega) dX7_statement_199 rfl (fun M r199 => ?_)
        obtain ⟨hV, hG⟩ := r199
        have hF := hF.tr hG
        have hE : stE P td aa = .error e := by simp [stE, bodE, trE, t21E, t11E, t1E, t2E, endE, hO, hx0]
        exact gx_vret C E dX7_statement_202 (⟨by rw [hE]; exact ⟨_, _, hV⟩, hF⟩) (by omega) (by omega)
      · have hb0 := twE_b hx0
        refine gx_cs (q := 195) C E (sx_X7_70 (As := [_, _]) C hV.o rfl rfl dX7_statement_192) (md_fig22_o _ _ _ _ h64 hP (by omega) hx0 hV) kw_X7_figures (by decide) (Nat.le_of_ble_eq_true rfl) rfl rfl (by omega) (by omega) dX7_statement_192 rfl (fun M r192 => ?_)
        obtain ⟨hV, hG⟩ := r192
        have hF := hF.tr hG
        refine mv_st_field (q := 196) C hV hF (by omega) dX7_statement_195 rfl (fun M hV hF => ?_)
        refine gx_aload_n (q := 197) C dX7_statement_196 rfl rfl rfl ?_
        refine gx_bipush (q := 199) (v := nI 59) C dX7_statement_197 (by decide) rfl ?_
        rcases hx1 : exE P td 59 a2 with e | a3
        · have hb1 := (exE_e hx1).1
          refine gx_cv (q := 202) C E (sx_X7_74 (As := [_]) C hV.o rfl rfl dX7_statement_199) (md_expect_e _ _ _ _ 59 (by decide) h64 hP hx1 (by omega) hV) kw_X7_expect (by decide) (Nat.le_of_ble_eq_true rfl) rfl rfl (by omega) (by omega) dX7_statement_199 rfl (fun M r199 => ?_)
          obtain ⟨hV, hG⟩ := r199
          have hF := hF.tr hG
          have hE : stE P td aa = .error e := by simp [stE, bodE, trE, t21E, t11E, t1E, t2E, endE, hO, hx0, hx1]
          exact gx_vret C E dX7_statement_202 (⟨by rw [hE]; exact ⟨_, _, hV⟩, hF⟩) (by omega) (by omega)
        · have hb1 := exE_b hx1
          refine gx_cv (q := 202) C E (sx_X7_74 (As := [_]) C hV.o rfl rfl dX7_statement_199) (md_expect_o _ _ _ _ 59 (by decide) h64 hP hx1 hV) kw_X7_expect (by decide) (Nat.le_of_ble_eq_true rfl) rfl rfl (by omega) (by omega) dX7_statement_199 rfl (fun M r199 => ?_)
          obtain ⟨hV, hG⟩ := r199
          have hF := hF.tr hG
          have hE : stE P td aa = .ok (tmk 6 v0 0 0 0, a3) := by simp [stE, bodE, trE, t21E, t11E, t1E, t2E, endE, hO, hx0, hx1]
          exact gx_vret C E dX7_statement_202 (⟨by rw [hE]; exact ⟨_, hV, by refine ⟨rfl, ?_, ?_⟩ <;> intro h <;> first | rfl | exact ⟨rfl, rfl⟩ | (simp [tmk_s] at h)⟩, hF⟩) (by omega) (by omega)
set_option maxHeartbeats 4000000 in
theorem md_isAsItMustBe (l : Launch) (D : va_G) (b : Nat) (M0 : List va_E) {R T Ti Bf P F L Rw : Nat → Nat} {kp we : Bool} {td aa so lo ro : Nat} (t : tld) (hs : so = t.s) (hb : tldB t) (hg : agr t F) (hV : md_V D b M0 R T Ti Bf P F L Rw kp td aa we so lo ro) (hk : okT T) : fb_CT l D b yX7_isAsItMustBe cX7_isAsItMustBe 1 (some .boolean) 1 22 0 0 [.ref (b + 43)] M0 (.returned (some (.int (bI (muS t.s (fl4 t) T))))) (fun M' => M' = M0) := by
  refine fb_start [some (.ref (b + 43))] (by decide) (Nat.le_of_ble_eq_true rfl) rfl ?_
  intro x hl hD hb C E hx
  subst hl hD hb
  have C : fb_OK x cX7_isAsItMustBe "FallsBetweenModel" "isAsItMustBe" := C
  obtain ⟨k0, k1, k2, k3, k4, k5, k6, k7, k8⟩ := id hk
  obtain ⟨b0, b1, b2, b3, b4, b5, b6, b7⟩ := id hb
  obtain ⟨g0, g1, g2⟩ := id hg
  rcases (show t.s = 0 ∨ t.s = 1 ∨ t.s = 2 ∨ t.s = 3 ∨ t.s = 4 ∨ t.s = 5 ∨ t.s = 6 by omega) with hs7 | hs7 | hs7 | hs7 | hs7 | hs7 | hs7
  · have hz : t.s = 0 := hs7
    have g1 := g1 (by omega)
    have g2 := g2 (by omega)
    rw [hz] at hs
    subst hs
    refine gx_aload_n (q := 1) C dX7_isAsItMustBe_0 rfl rfl rfl ?_
    refine fg_X7_67 (q := 4) C hV.o rfl dX7_isAsItMustBe_1 rfl ?_
    refine gx_tableIn (tgt := 44) C dX7_isAsItMustBe_4 (by decide) (by decide) (rfl) (by decide) ?_
    refine gx_aload_n (q := 45) C dX7_isAsItMustBe_44 rfl rfl rfl ?_
    refine fg_X7_32 (q := 48) C hV.o rfl dX7_isAsItMustBe_45 rfl ?_
    refine gx_iconst (q := 49) (v := nI 1) C dX7_isAsItMustBe_48 (by decide) rfl ?_
    refine mv_ld_field (q := 50) C hV (by omega) dX7_isAsItMustBe_49 rfl ?_
    refine gx_bipush (q := 52) (v := nI 36) C dX7_isAsItMustBe_50 (by decide) rfl ?_
    refine gn_icmp_ge (q := 55) (tgt := 116) C dX7_isAsItMustBe_52 (by decide) rfl (by omega) (by omega) (fun c52 => ?_) (fun c52 => ?_)
    · have hZ : muS t.s (fl4 t) T = false := by rw [← muS_cg hb.1 hg]; simp [muS, hz, show ¬ F 1 < 36 by omega]
      refine gx_iconst (q := 117) (v := bI false) C dX7_isAsItMustBe_116 (by decide) rfl ?_
      exact gx_zretE C E (by rw [hZ]) (by first | exact bI_nar _ | rfl) dX7_isAsItMustBe_117 (rfl) (by omega) (by omega)
    · refine gx_aload_n (q := 56) C dX7_isAsItMustBe_55 rfl rfl rfl ?_
      refine fg_X7_32 (q := 59) C hV.o rfl dX7_isAsItMustBe_56 rfl ?_
      refine gx_iconst (q := 60) (v := nI 2) C dX7_isAsItMustBe_59 (by decide) rfl ?_
      refine mv_ld_field (q := 61) C hV (by omega) dX7_isAsItMustBe_60 rfl ?_
      refine gx_iconst (q := 62) (v := nI 1) C dX7_isAsItMustBe_61 (by decide) rfl ?_
      refine gn_icmp_lt (q := 65) (tgt := 116) C dX7_isAsItMustBe_62 (by decide) rfl (by omega) (by omega) (fun c62 => ?_) (fun c62 => ?_)
      · have hZ : muS t.s (fl4 t) T = false := by rw [← muS_cg hb.1 hg]; simp [muS, hz, show ¬ 1 ≤ F 2 by omega]
        refine gx_iconst (q := 117) (v := bI false) C dX7_isAsItMustBe_116 (by decide) rfl ?_
        exact gx_zretE C E (by rw [hZ]) (by first | exact bI_nar _ | rfl) dX7_isAsItMustBe_117 (rfl) (by omega) (by omega)
      · refine gx_aload_n (q := 66) C dX7_isAsItMustBe_65 rfl rfl rfl ?_
        refine fg_X7_32 (q := 69) C hV.o rfl dX7_isAsItMustBe_66 rfl ?_
        refine gx_iconst (q := 70) (v := nI 2) C dX7_isAsItMustBe_69 (by decide) rfl ?_
        refine mv_ld_field (q := 71) C hV (by omega) dX7_isAsItMustBe_70 rfl ?_
        refine gx_bipush (q := 73) (v := nI 20) C dX7_isAsItMustBe_71 (by decide) rfl ?_
        refine gn_icmp_gt (q := 76) (tgt := 116) C dX7_isAsItMustBe_73 (by decide) rfl (by omega) (by omega) (fun c73 => ?_) (fun c73 => ?_)
        · have hZ : muS t.s (fl4 t) T = false := by rw [← muS_cg hb.1 hg]; simp [muS, hz, show ¬ F 2 ≤ 20 by omega]
          refine gx_iconst (q := 117) (v := bI false) C dX7_isAsItMustBe_116 (by decide) rfl ?_
          exact gx_zretE C E (by rw [hZ]) (by first | exact bI_nar _ | rfl) dX7_isAsItMustBe_117 (rfl) (by omega) (by omega)
        · refine gx_aload_n (q := 77) C dX7_isAsItMustBe_76 rfl rfl rfl ?_
          refine fg_X7_32 (q := 80) C hV.o rfl dX7_isAsItMustBe_77 rfl ?_
          refine gx_iconst (q := 81) (v := nI 3) C dX7_isAsItMustBe_80 (by decide) rfl ?_
          refine mv_ld_field (q := 82) C hV (by omega) dX7_isAsItMustBe_81 rfl ?_
          refine gx_iconst (q := 83) (v := nI 3) C dX7_isAsItMustBe_82 (by decide) rfl ?_
          refine gn_icmp_gt (q := 86) (tgt := 116) C dX7_isAsItMustBe_83 (by decide) rfl (by omega) (by omega) (fun c83 => ?_) (fun c83 => ?_)
          · have hZ : muS t.s (fl4 t) T = false := by rw [← muS_cg hb.1 hg]; simp [muS, hz, show ¬ F 3 ≤ 3 by omega]
            refine gx_iconst (q := 117) (v := bI false) C dX7_isAsItMustBe_116 (by decide) rfl ?_
            exact gx_zretE C E (by rw [hZ]) (by first | exact bI_nar _ | rfl) dX7_isAsItMustBe_117 (rfl) (by omega) (by omega)
          · refine gx_aload_n (q := 87) C dX7_isAsItMustBe_86 rfl rfl rfl ?_
            refine fg_X7_13 (q := 90) C hV.o rfl dX7_isAsItMustBe_87 rfl ?_
            refine gx_iconst (q := 91) (v := nI 0) C dX7_isAsItMustBe_90 (by decide) rfl ?_
            refine mv_ld_now (q := 92) C hV (by omega) dX7_isAsItMustBe_91 rfl ?_
            refine gx_bipush (q := 94) (v := nI 6) C dX7_isAsItMustBe_92 (by decide) rfl ?_
            refine gn_icmp_ge (q := 97) (tgt := 116) C dX7_isAsItMustBe_94 (by decide) rfl (by omega) (by omega) (fun c94 => ?_) (fun c94 => ?_)
            · have hZ : muS t.s (fl4 t) T = false := by rw [← muS_cg hb.1 hg]; simp [muS, hz, show ¬ T 0 < 6 by omega]
              refine gx_iconst (q := 117) (v := bI false) C dX7_isAsItMustBe_116 (by decide) rfl ?_
              exact gx_zretE C E (by rw [hZ]) (by first | exact bI_nar _ | rfl) dX7_isAsItMustBe_117 (rfl) (by omega) (by omega)
            · refine gx_aload_n (q := 98) C dX7_isAsItMustBe_97 rfl rfl rfl ?_
              refine gx_aload_n (q := 99) C dX7_isAsItMustBe_98 rfl rfl rfl ?_
              refine fg_X7_32 (q := 102) C hV.o rfl dX7_isAsItMustBe_99 rfl ?_
              refine gx_iconst (q := 103) (v := nI 1) C dX7_isAsItMustBe_102 (by decide) rfl ?_
              refine mv_ld_field (q := 104) C hV (by omega) dX7_isAsItMustBe_103 rfl ?_
              refine gx_cp (q := 107) C E (sx_X7_78 (As := [_]) C hV.o rfl rfl dX7_isAsItMustBe_104) (md_treeIn _ _ _ _ (F 1) (by omega) hV hk) kw_X7_treeIn (by decide) (Nat.le_of_ble_eq_true rfl) (by omega) (by omega) dX7_isAsItMustBe_104 rfl ?_
              refine gx_bipush (q := 109) (v := -9) C dX7_isAsItMustBe_107 (by decide) rfl ?_
              refine gq_icmp_ne (q := 112) (tgt := 116) C dX7_isAsItMustBe_109 (by decide) rfl (fun z hz => by have := (fstN_spec hz).1; omega) (fun z109 c109 => ?_) (fun c109 => ?_)
              · have hZ : muS t.s (fl4 t) T = false := by rw [← muS_cg hb.1 hg]; simp [muS, hz, c109]
                refine gx_iconst (q := 117) (v := bI false) C dX7_isAsItMustBe_116 (by decide) rfl ?_
                exact gx_zretE C E (by rw [hZ]) (by first | exact bI_nar _ | rfl) dX7_isAsItMustBe_117 (rfl) (by omega) (by omega)
              · have hZ : muS t.s (fl4 t) T = true := by rw [← muS_cg hb.1 hg]; simp [muS, hz, c109, show F 1 < 36 by omega, show 1 ≤ F 2 by omega, show F 2 ≤ 20 by omega, show F 3 ≤ 3 by omega, show T 0 < 6 by omega]
                refine gx_iconst (q := 113) (v := bI true) C dX7_isAsItMustBe_112 (by decide) rfl ?_
                refine gx_goto (tgt := 117) C dX7_isAsItMustBe_113 (by decide) ?_
                exact gx_zretE C E (by rw [hZ]) (by first | exact bI_nar _ | rfl) dX7_isAsItMustBe_117 (rfl) (by omega) (by omega)
  · have hz : t.s = 1 := hs7
    have g1 := g1 (by omega)
    rw [hz] at hs
    subst hs
    refine gx_aload_n (q := 1) C dX7_isAsItMustBe_0 rfl rfl rfl ?_
    refine fg_X7_67 (q := 4) C hV.o rfl dX7_isAsItMustBe_1 rfl ?_
    refine gx_tableIn (tgt := 118) C dX7_isAsItMustBe_4 (by decide) (by decide) (rfl) (by decide) ?_
    refine gx_aload_n (q := 119) C dX7_isAsItMustBe_118 rfl rfl rfl ?_
    refine fg_X7_32 (q := 122) C hV.o rfl dX7_isAsItMustBe_119 rfl ?_
    refine gx_iconst (q := 123) (v := nI 0) C dX7_isAsItMustBe_122 (by decide) rfl ?_
    refine mv_ld_field (q := 124) C hV (by omega) dX7_isAsItMustBe_123 rfl ?_
    refine gx_bipush (q := 126) (v := nI 36) C dX7_isAsItMustBe_124 (by decide) rfl ?_
    refine gn_icmp_ge (q := 129) (tgt := 143) C dX7_isAsItMustBe_126 (by decide) rfl (by omega) (by omega) (fun c126 => ?_) (fun c126 => ?_)
    · have hZ : muS t.s (fl4 t) T = false := by rw [← muS_cg hb.1 hg]; simp [muS, hz, show ¬ F 0 < 36 by omega]
      refine gx_iconst (q := 144) (v := bI false) C dX7_isAsItMustBe_143 (by decide) rfl ?_
      exact gx_zretE C E (by rw [hZ]) (by first | exact bI_nar _ | rfl) dX7_isAsItMustBe_144 (rfl) (by omega) (by omega)
    · refine gx_aload_n (q := 130) C dX7_isAsItMustBe_129 rfl rfl rfl ?_
      refine fg_X7_32 (q := 133) C hV.o rfl dX7_isAsItMustBe_130 rfl ?_
      refine gx_iconst (q := 134) (v := nI 1) C dX7_isAsItMustBe_133 (by decide) rfl ?_
      refine mv_ld_field (q := 135) C hV (by omega) dX7_isAsItMustBe_134 rfl ?_
      refine gx_iconst (q := 136) (v := nI 3) C dX7_isAsItMustBe_135 (by decide) rfl ?_
      refine gn_icmp_gt (q := 139) (tgt := 143) C dX7_isAsItMustBe_136 (by decide) rfl (by omega) (by omega) (fun c136 => ?_) (fun c136 => ?_)
      · have hZ : muS t.s (fl4 t) T = false := by rw [← muS_cg hb.1 hg]; simp [muS, hz, show ¬ F 1 ≤ 3 by omega]
        refine gx_iconst (q := 144) (v := bI false) C dX7_isAsItMustBe_143 (by decide) rfl ?_
        exact gx_zretE C E (by rw [hZ]) (by first | exact bI_nar _ | rfl) dX7_isAsItMustBe_144 (rfl) (by omega) (by omega)
      · have hZ : muS t.s (fl4 t) T = true := by rw [← muS_cg hb.1 hg]; simp [muS, hz, show F 0 < 36 by omega, show F 1 ≤ 3 by omega]
        refine gx_iconst (q := 140) (v := bI true) C dX7_isAsItMustBe_139 (by decide) rfl ?_
        refine gx_goto (tgt := 144) C dX7_isAsItMustBe_140 (by decide) ?_
        exact gx_zretE C E (by rw [hZ]) (by first | exact bI_nar _ | rfl) dX7_isAsItMustBe_144 (rfl) (by omega) (by omega)
  · have hz : t.s = 2 := hs7
    have g1 := g1 (by omega)
    rw [hz] at hs
    subst hs
    refine gx_aload_n (q := 1) C dX7_isAsItMustBe_0 rfl rfl rfl ?_
    refine fg_X7_67 (q := 4) C hV.o rfl dX7_isAsItMustBe_1 rfl ?_
    refine gx_tableIn (tgt := 145) C dX7_isAsItMustBe_4 (by decide) (by decide) (rfl) (by decide) ?_
    refine gx_aload_n (q := 146) C dX7_isAsItMustBe_145 rfl rfl rfl ?_
    refine fg_X7_32 (q := 149) C hV.o rfl dX7_isAsItMustBe_146 rfl ?_
    refine gx_iconst (q := 150) (v := nI 0) C dX7_isAsItMustBe_149 (by decide) rfl ?_
    refine mv_ld_field (q := 151) C hV (by omega) dX7_isAsItMustBe_150 rfl ?_
    refine gx_bipush (q := 153) (v := nI 6) C dX7_isAsItMustBe_151 (by decide) rfl ?_
    refine gn_icmp_ge (q := 156) (tgt := 170) C dX7_isAsItMustBe_153 (by decide) rfl (by omega) (by omega) (fun c153 => ?_) (fun c153 => ?_)
    · have hZ : muS t.s (fl4 t) T = false := by rw [← muS_cg hb.1 hg]; simp [muS, hz, show ¬ F 0 < 6 by omega]
      refine gx_iconst (q := 171) (v := bI false) C dX7_isAsItMustBe_170 (by decide) rfl ?_
      exact gx_zretE C E (by rw [hZ]) (by first | exact bI_nar _ | rfl) dX7_isAsItMustBe_171 (rfl) (by omega) (by omega)
    · refine gx_aload_n (q := 157) C dX7_isAsItMustBe_156 rfl rfl rfl ?_
      refine fg_X7_32 (q := 160) C hV.o rfl dX7_isAsItMustBe_157 rfl ?_
      refine gx_iconst (q := 161) (v := nI 1) C dX7_isAsItMustBe_160 (by decide) rfl ?_
      refine mv_ld_field (q := 162) C hV (by omega) dX7_isAsItMustBe_161 rfl ?_
      refine gx_iconst (q := 163) (v := nI 3) C dX7_isAsItMustBe_162 (by decide) rfl ?_
      refine gn_icmp_gt (q := 166) (tgt := 170) C dX7_isAsItMustBe_163 (by decide) rfl (by omega) (by omega) (fun c163 => ?_) (fun c163 => ?_)
      · have hZ : muS t.s (fl4 t) T = false := by rw [← muS_cg hb.1 hg]; simp [muS, hz, show ¬ F 1 ≤ 3 by omega]
        refine gx_iconst (q := 171) (v := bI false) C dX7_isAsItMustBe_170 (by decide) rfl ?_
        exact gx_zretE C E (by rw [hZ]) (by first | exact bI_nar _ | rfl) dX7_isAsItMustBe_171 (rfl) (by omega) (by omega)
      · have hZ : muS t.s (fl4 t) T = true := by rw [← muS_cg hb.1 hg]; simp [muS, hz, show F 0 < 6 by omega, show F 1 ≤ 3 by omega]
        refine gx_iconst (q := 167) (v := bI true) C dX7_isAsItMustBe_166 (by decide) rfl ?_
        refine gx_goto (tgt := 171) C dX7_isAsItMustBe_167 (by decide) ?_
        exact gx_zretE C E (by rw [hZ]) (by first | exact bI_nar _ | rfl) dX7_isAsItMustBe_171 (rfl) (by omega) (by omega)
  · have hz : t.s = 3 := hs7
    have g1 := g1 (by omega)
    rw [hz] at hs
    subst hs
    refine gx_aload_n (q := 1) C dX7_isAsItMustBe_0 rfl rfl rfl ?_
    refine fg_X7_67 (q := 4) C hV.o rfl dX7_isAsItMustBe_1 rfl ?_
    refine gx_tableIn (tgt := 214) C dX7_isAsItMustBe_4 (by decide) (by decide) (rfl) (by decide) ?_
    refine gx_aload_n (q := 215) C dX7_isAsItMustBe_214 rfl rfl rfl ?_
    refine fg_X7_32 (q := 218) C hV.o rfl dX7_isAsItMustBe_215 rfl ?_
    refine gx_iconst (q := 219) (v := nI 0) C dX7_isAsItMustBe_218 (by decide) rfl ?_
    refine mv_ld_field (q := 220) C hV (by omega) dX7_isAsItMustBe_219 rfl ?_
    refine gx_bipush (q := 222) (v := nI 36) C dX7_isAsItMustBe_220 (by decide) rfl ?_
    refine gn_icmp_ge (q := 225) (tgt := 229) C dX7_isAsItMustBe_222 (by decide) rfl (by omega) (by omega) (fun c222 => ?_) (fun c222 => ?_)
    · have hZ : muS t.s (fl4 t) T = false := by rw [← muS_cg hb.1 hg]; simp [muS, hz, show ¬ F 0 < 36 by omega]
      refine gx_iconst (q := 230) (v := bI false) C dX7_isAsItMustBe_229 (by decide) rfl ?_
      exact gx_zretE C E (by rw [hZ]) (by first | exact bI_nar _ | rfl) dX7_isAsItMustBe_230 (rfl) (by omega) (by omega)
    · have hZ : muS t.s (fl4 t) T = true := by rw [← muS_cg hb.1 hg]; simp [muS, hz, show F 0 < 36 by omega]
      refine gx_iconst (q := 226) (v := bI true) C dX7_isAsItMustBe_225 (by decide) rfl ?_
      refine gx_goto (tgt := 230) C dX7_isAsItMustBe_226 (by decide) ?_
      exact gx_zretE C E (by rw [hZ]) (by first | exact bI_nar _ | rfl) dX7_isAsItMustBe_230 (rfl) (by omega) (by omega)
  · have hz : t.s = 4 := hs7
    have g1 := g1 (by omega)
    rw [hz] at hs
    subst hs
    refine gx_aload_n (q := 1) C dX7_isAsItMustBe_0 rfl rfl rfl ?_
    refine fg_X7_67 (q := 4) C hV.o rfl dX7_isAsItMustBe_1 rfl ?_
    refine gx_tableIn (tgt := 172) C dX7_isAsItMustBe_4 (by decide) (by decide) (rfl) (by decide) ?_
    refine gx_aload_n (q := 173) C dX7_isAsItMustBe_172 rfl rfl rfl ?_
    refine fg_X7_32 (q := 176) C hV.o rfl dX7_isAsItMustBe_173 rfl ?_
    refine gx_iconst (q := 177) (v := nI 0) C dX7_isAsItMustBe_176 (by decide) rfl ?_
    refine mv_ld_field (q := 178) C hV (by omega) dX7_isAsItMustBe_177 rfl ?_
    refine gx_iconst (q := 179) (v := nI 3) C dX7_isAsItMustBe_178 (by decide) rfl ?_
    refine gn_icmp_gt (q := 182) (tgt := 196) C dX7_isAsItMustBe_179 (by decide) rfl (by omega) (by omega) (fun c179 => ?_) (fun c179 => ?_)
    · have hZ : muS t.s (fl4 t) T = false := by rw [← muS_cg hb.1 hg]; simp [muS, hz, show ¬ F 0 ≤ 3 by omega]
      refine gx_iconst (q := 197) (v := bI false) C dX7_isAsItMustBe_196 (by decide) rfl ?_
      exact gx_zretE C E (by rw [hZ]) (by first | exact bI_nar _ | rfl) dX7_isAsItMustBe_197 (rfl) (by omega) (by omega)
    · refine gx_aload_n (q := 183) C dX7_isAsItMustBe_182 rfl rfl rfl ?_
      refine fg_X7_32 (q := 186) C hV.o rfl dX7_isAsItMustBe_183 rfl ?_
      refine gx_iconst (q := 187) (v := nI 1) C dX7_isAsItMustBe_186 (by decide) rfl ?_
      refine mv_ld_field (q := 188) C hV (by omega) dX7_isAsItMustBe_187 rfl ?_
      refine gx_iconst (q := 189) (v := nI 3) C dX7_isAsItMustBe_188 (by decide) rfl ?_
      refine gn_icmp_gt (q := 192) (tgt := 196) C dX7_isAsItMustBe_189 (by decide) rfl (by omega) (by omega) (fun c189 => ?_) (fun c189 => ?_)
      · have hZ : muS t.s (fl4 t) T = false := by rw [← muS_cg hb.1 hg]; simp [muS, hz, show ¬ F 1 ≤ 3 by omega]
        refine gx_iconst (q := 197) (v := bI false) C dX7_isAsItMustBe_196 (by decide) rfl ?_
        exact gx_zretE C E (by rw [hZ]) (by first | exact bI_nar _ | rfl) dX7_isAsItMustBe_197 (rfl) (by omega) (by omega)
      · have hZ : muS t.s (fl4 t) T = true := by rw [← muS_cg hb.1 hg]; simp [muS, hz, show F 0 ≤ 3 by omega, show F 1 ≤ 3 by omega]
        refine gx_iconst (q := 193) (v := bI true) C dX7_isAsItMustBe_192 (by decide) rfl ?_
        refine gx_goto (tgt := 197) C dX7_isAsItMustBe_193 (by decide) ?_
        exact gx_zretE C E (by rw [hZ]) (by first | exact bI_nar _ | rfl) dX7_isAsItMustBe_197 (rfl) (by omega) (by omega)
  · have hz : t.s = 5 := hs7
    rw [hz] at hs
    subst hs
    refine gx_aload_n (q := 1) C dX7_isAsItMustBe_0 rfl rfl rfl ?_
    refine fg_X7_67 (q := 4) C hV.o rfl dX7_isAsItMustBe_1 rfl ?_
    refine gx_tableIn (tgt := 198) C dX7_isAsItMustBe_4 (by decide) (by decide) (rfl) (by decide) ?_
    refine gx_aload_n (q := 199) C dX7_isAsItMustBe_198 rfl rfl rfl ?_
    refine fg_X7_32 (q := 202) C hV.o rfl dX7_isAsItMustBe_199 rfl ?_
    refine gx_iconst (q := 203) (v := nI 0) C dX7_isAsItMustBe_202 (by decide) rfl ?_
    refine mv_ld_field (q := 204) C hV (by omega) dX7_isAsItMustBe_203 rfl ?_
    refine gx_iconst (q := 205) (v := nI 4) C dX7_isAsItMustBe_204 (by decide) rfl ?_
    refine gn_icmp_gt (q := 208) (tgt := 212) C dX7_isAsItMustBe_205 (by decide) rfl (by omega) (by omega) (fun c205 => ?_) (fun c205 => ?_)
    · have hZ : muS t.s (fl4 t) T = false := by rw [← muS_cg hb.1 hg]; simp [muS, hz, show ¬ F 0 ≤ 4 by omega]
      refine gx_iconst (q := 213) (v := bI false) C dX7_isAsItMustBe_212 (by decide) rfl ?_
      exact gx_zretE C E (by rw [hZ]) (by first | exact bI_nar _ | rfl) dX7_isAsItMustBe_213 (rfl) (by omega) (by omega)
    · have hZ : muS t.s (fl4 t) T = true := by rw [← muS_cg hb.1 hg]; simp [muS, hz, show F 0 ≤ 4 by omega]
      refine gx_iconst (q := 209) (v := bI true) C dX7_isAsItMustBe_208 (by decide) rfl ?_
      refine gx_goto (tgt := 213) C dX7_isAsItMustBe_209 (by decide) ?_
      exact gx_zretE C E (by rw [hZ]) (by first | exact bI_nar _ | rfl) dX7_isAsItMustBe_213 (rfl) (by omega) (by omega)
  · have hz : t.s = 6 := hs7
    rw [hz] at hs
    subst hs
    refine gx_aload_n (q := 1) C dX7_isAsItMustBe_0 rfl rfl rfl ?_
    refine fg_X7_67 (q := 4) C hV.o rfl dX7_isAsItMustBe_1 rfl ?_
    refine gx_tableOut (tgt := 214) C dX7_isAsItMustBe_4 (Or.inr (by decide)) (by decide) ?_
    refine gx_aload_n (q := 215) C dX7_isAsItMustBe_214 rfl rfl rfl ?_
    refine fg_X7_32 (q := 218) C hV.o rfl dX7_isAsItMustBe_215 rfl ?_
    refine gx_iconst (q := 219) (v := nI 0) C dX7_isAsItMustBe_218 (by decide) rfl ?_
    refine mv_ld_field (q := 220) C hV (by omega) dX7_isAsItMustBe_219 rfl ?_
    refine gx_bipush (q := 222) (v := nI 36) C dX7_isAsItMustBe_220 (by decide) rfl ?_
    refine gn_icmp_ge (q := 225) (tgt := 229) C dX7_isAsItMustBe_222 (by decide) rfl (by omega) (by omega) (fun c222 => ?_) (fun c222 => ?_)
    · have hZ : muS t.s (fl4 t) T = false := by rw [← muS_cg hb.1 hg]; simp [muS, hz, show ¬ F 0 < 36 by omega]
      refine gx_iconst (q := 230) (v := bI false) C dX7_isAsItMustBe_229 (by decide) rfl ?_
      exact gx_zretE C E (by rw [hZ]) (by first | exact bI_nar _ | rfl) dX7_isAsItMustBe_230 (rfl) (by omega) (by omega)
    · have hZ : muS t.s (fl4 t) T = true := by rw [← muS_cg hb.1 hg]; simp [muS, hz, show F 0 < 36 by omega]
      refine gx_iconst (q := 226) (v := bI true) C dX7_isAsItMustBe_225 (by decide) rfl ?_
      refine gx_goto (tgt := 230) C dX7_isAsItMustBe_226 (by decide) ?_
      exact gx_zretE C E (by rw [hZ]) (by first | exact bI_nar _ | rfl) dX7_isAsItMustBe_230 (rfl) (by omega) (by omega)
def clU (T : Nat → Nat) (c g r : Nat) : Nat → Nat := fun i => if 12 ≤ i ∧ i < 48 ∧ (i - 12) % 6 = c ∧ (i - 12) / 6 < r then g else T i
theorem clU_0 (T : Nat → Nat) (c g i : Nat) : T i = clU T c g 0 i := by unfold clU; rw [if_neg (by omega)]
theorem clU_6 (T : Nat → Nat) (c g i : Nat) : clU T c g 6 i = clT T c g i := by
  unfold clU clT
  by_cases h : 12 ≤ i ∧ i < 48 ∧ (i - 12) % 6 = c
  · rw [if_pos (by omega), if_pos h]
  · rw [if_neg (by omega), if_neg h]
theorem clU_s {T : Nat → Nat} {c g r : Nat} (hc : c < 6) (hr : r < 6) (i : Nat) : updN (clU T c g r) (12 + 6 * r + c) g i = clU T c g (r + 1) i := by
  by_cases h : i = 12 + 6 * r + c
  · rw [h, updN_s]
    unfold clU
    rw [if_pos (by omega)]
  · rw [updN_n _ h]
    unfold clU
    by_cases h1 : 12 ≤ i ∧ i < 48 ∧ (i - 12) % 6 = c ∧ (i - 12) / 6 < r
    · rw [if_pos h1, if_pos (by omega)]
    · rw [if_neg h1, if_neg (by omega)]
set_option maxHeartbeats 4000000 in
theorem md_come (l : Launch) (D : va_G) (b : Nat) (M0 : List va_E) {R T Ti Bf P F L Rw : Nat → Nat} {kp we : Bool} {td aa so lo ro : Nat} (t : tld) (hs : so = t.s) (hb : tldB t) (hg : agr t F) (hV : md_V D b M0 R T Ti Bf P F L Rw kp td aa we so lo ro) (hk : okT T) (hm : muS t.s (fl4 t) T = true) : fb_CT l D b yX7_come cX7_come 2 none 1 25 0 0 [.ref (b + 43)] M0 (.returned none) (fun M' => md_V D b M' R (coT t.s (fl4 t) T) Ti Bf P F L Rw kp td aa we so lo ro ∧ md_F M0 M') := by
  refine fb_start [some (.ref (b + 43)), none] (by decide) (Nat.le_of_ble_eq_true rfl) rfl ?_
  intro x hl hD hb C E hx
  subst hl hD hb
  have C : fb_OK x cX7_come "FallsBetweenModel" "come" := C
  have hF := md_F.rf M0
  obtain ⟨k0, k1, k2, k3, k4, k5, k6, k7, k8⟩ := id hk
  obtain ⟨b0, b1, b2, b3, b4, b5, b6, b7⟩ := id hb
  obtain ⟨g0, g1, g2⟩ := id hg
  rcases (show t.s = 0 ∨ t.s = 1 ∨ t.s = 2 ∨ t.s = 3 ∨ t.s = 4 ∨ t.s = 5 ∨ t.s = 6 by omega) with hs7 | hs7 | hs7 | hs7 | hs7 | hs7 | hs7
  · have hz : t.s = 0 := hs7
    have g1 := g1 (by omega)
    have g2 := g2 (by omega)
    rw [hz] at hs
    subst hs
    rw [← muS_cg hb.1 hg, hz] at hm
    simp [muS] at hm
    refine gx_aload_n (q := 1) C dX7_come_0 rfl rfl rfl ?_
    refine fg_X7_67 (q := 4) C hV.o rfl dX7_come_1 rfl ?_
    refine gx_tableIn (tgt := 44) C dX7_come_4 (by decide) (by decide) (rfl) (by decide) ?_
    refine gx_aload_n (q := 45) C dX7_come_44 rfl rfl rfl ?_
    refine gx_aload_n (q := 46) C dX7_come_45 rfl rfl rfl ?_
    refine fg_X7_32 (q := 49) C hV.o rfl dX7_come_46 rfl ?_
    refine gx_iconst (q := 50) (v := nI 0) C dX7_come_49 (by decide) rfl ?_
    refine mv_ld_field (q := 51) C hV (by omega) dX7_come_50 rfl ?_
    refine gx_aload_n (q := 52) C dX7_come_51 rfl rfl rfl ?_
    refine fg_X7_32 (q := 55) C hV.o rfl dX7_come_52 rfl ?_
    refine gx_iconst (q := 56) (v := nI 1) C dX7_come_55 (by decide) rfl ?_
    refine mv_ld_field (q := 57) C hV (by omega) dX7_come_56 rfl ?_
    refine gx_aload_n (q := 58) C dX7_come_57 rfl rfl rfl ?_
    refine fg_X7_32 (q := 61) C hV.o rfl dX7_come_58 rfl ?_
    refine gx_iconst (q := 62) (v := nI 2) C dX7_come_61 (by decide) rfl ?_
    refine mv_ld_field (q := 63) C hV (by omega) dX7_come_62 rfl ?_
    refine gx_aload_n (q := 64) C dX7_come_63 rfl rfl rfl ?_
    refine fg_X7_32 (q := 67) C hV.o rfl dX7_come_64 rfl ?_
    refine gx_iconst (q := 68) (v := nI 3) C dX7_come_67 (by decide) rfl ?_
    refine mv_ld_field (q := 69) C hV (by omega) dX7_come_68 rfl ?_
    refine gx_cv (q := 72) C E (sx_X7_81 (As := [_, _, _, _]) C hV.o rfl rfl dX7_come_69) (md_more _ _ _ _ (F 0) (F 1) (F 2) (F 3) (by omega) hV) kw_X7_more (by decide) (Nat.le_of_ble_eq_true rfl) rfl rfl (by omega) (by omega) dX7_come_69 rfl (fun M r69 => ?_)
    obtain ⟨hV, hG⟩ := r69
    have hF := hF.tr hG
    refine gx_goto (tgt := 232) C dX7_come_72 (by decide) ?_
    exact gx_vret C E dX7_come_232 (⟨by rw [← coT_cg hb.1 hg, hz]; exact hV, hF⟩) (by omega) (by omega)
  · have hz : t.s = 1 := hs7
    have g1 := g1 (by omega)
    rw [hz] at hs
    subst hs
    rw [← muS_cg hb.1 hg, hz] at hm
    simp [muS] at hm
    refine gx_aload_n (q := 1) C dX7_come_0 rfl rfl rfl ?_
    refine fg_X7_67 (q := 4) C hV.o rfl dX7_come_1 rfl ?_
    refine gx_tableIn (tgt := 75) C dX7_come_4 (by decide) (by decide) (rfl) (by decide) ?_
    refine gx_aload_n (q := 76) C dX7_come_75 rfl rfl rfl ?_
    refine fg_X7_13 (q := 79) C hV.o rfl dX7_come_76 rfl ?_
    refine gx_bipush (q := 81) (v := nI 12) C dX7_come_79 (by decide) rfl ?_
    refine gx_aload_n (q := 82) C dX7_come_81 rfl rfl rfl ?_
    refine fg_X7_32 (q := 85) C hV.o rfl dX7_come_82 rfl ?_
    refine gx_iconst (q := 86) (v := nI 0) C dX7_come_85 (by decide) rfl ?_
    refine mv_ld_field (q := 87) C hV (by omega) dX7_come_86 rfl ?_
    refine gn_iadd (q := 88) C dX7_come_87 rfl ?_
    refine gx_aload_n (q := 89) C dX7_come_88 rfl rfl rfl ?_
    refine fg_X7_32 (q := 92) C hV.o rfl dX7_come_89 rfl ?_
    refine gx_iconst (q := 93) (v := nI 1) C dX7_come_92 (by decide) rfl ?_
    refine mv_ld_field (q := 94) C hV (by omega) dX7_come_93 rfl ?_
    refine mv_st_now (q := 95) C hV hF (by omega) dX7_come_94 rfl (fun M hV hF => ?_)
    refine gx_goto (tgt := 232) C dX7_come_95 (by decide) ?_
    exact gx_vret C E dX7_come_232 (⟨by rw [← coT_cg hb.1 hg, hz]; exact hV, hF⟩) (by omega) (by omega)
  · have hz : t.s = 2 := hs7
    have g1 := g1 (by omega)
    rw [hz] at hs
    subst hs
    rw [← muS_cg hb.1 hg, hz] at hm
    simp [muS] at hm
    refine gx_aload_n (q := 1) C dX7_come_0 rfl rfl rfl ?_
    refine fg_X7_67 (q := 4) C hV.o rfl dX7_come_1 rfl ?_
    refine gx_tableIn (tgt := 98) C dX7_come_4 (by decide) (by decide) (rfl) (by decide) ?_
    refine gx_iconst (q := 99) (v := nI 0) C dX7_come_98 (by decide) rfl ?_
    refine gx_istore_n (q := 100) (lv' := [_, _]) C dX7_come_99 rfl (Nat.le_of_ble_eq_true rfl) E.2.2.2.symm rfl rfl rfl ?_
    have Lr : ∀ r, r ≤ 6 → ∀ M : List va_E, md_V (cx_D x) (cx_b x) M R (clU T (F 0) (F 1) r) Ti Bf P F L Rw kp td aa we 2 lo ro → md_F M0 M → fb_G x M 0 0 100 [some (.ref (cx_b x + 43)), some (.int (nI r))] [] := by
      refine fb_dn 6 ?_ ?_
      · intro M hV hF
        have hV := hV.eqnw (fun i _ => clU_6 T (F 0) (F 1) i)
        refine gx_iload_n (q := 101) C dX7_come_100 rfl rfl rfl ?_
        refine gx_bipush (q := 103) (v := nI 6) C dX7_come_101 (by decide) rfl ?_
        refine gn_icmp_ge (q := 106) (tgt := 137) C dX7_come_103 (by decide) rfl (by omega) (by omega) (fun c103 => ?_) (fun c103 => by exfalso; omega)
        refine gx_goto (tgt := 232) C dX7_come_137 (by decide) ?_
        exact gx_vret C E dX7_come_232 (⟨by rw [← coT_cg hb.1 hg, hz]; exact hV, hF⟩) (by omega) (by omega)
      · intro r hr ih M hV hF
        refine gx_iload_n (q := 101) C dX7_come_100 rfl rfl rfl ?_
        refine gx_bipush (q := 103) (v := nI 6) C dX7_come_101 (by decide) rfl ?_
        refine gn_icmp_ge (q := 106) (tgt := 137) C dX7_come_103 (by decide) rfl (by omega) (by omega) (fun c103 => by exfalso; omega) (fun c103 => ?_)
        refine gx_aload_n (q := 107) C dX7_come_106 rfl rfl rfl ?_
        refine fg_X7_13 (q := 110) C hV.o rfl dX7_come_107 rfl ?_
        refine gx_bipush (q := 112) (v := nI 12) C dX7_come_110 (by decide) rfl ?_
        refine gx_bipush (q := 114) (v := nI 6) C dX7_come_112 (by decide) rfl ?_
        refine gx_iload_n (q := 115) C dX7_come_114 rfl rfl rfl ?_
        refine gn_imul (q := 116) C dX7_come_115 rfl ?_
        refine gn_iadd (q := 117) C dX7_come_116 rfl ?_
        refine gx_aload_n (q := 118) C dX7_come_117 rfl rfl rfl ?_
        refine fg_X7_32 (q := 121) C hV.o rfl dX7_come_118 rfl ?_
        refine gx_iconst (q := 122) (v := nI 0) C dX7_come_121 (by decide) rfl ?_
        refine mv_ld_field (q := 123) C hV (by omega) dX7_come_122 rfl ?_
        refine gn_iadd (q := 124) C dX7_come_123 rfl ?_
        refine gx_aload_n (q := 125) C dX7_come_124 rfl rfl rfl ?_
        refine fg_X7_32 (q := 128) C hV.o rfl dX7_come_125 rfl ?_
        refine gx_iconst (q := 129) (v := nI 1) C dX7_come_128 (by decide) rfl ?_
        refine mv_ld_field (q := 130) C hV (by omega) dX7_come_129 rfl ?_
        refine mv_st_now (q := 131) C hV hF (by omega) dX7_come_130 rfl (fun M hV hF => ?_)
        refine gn_inc (q := 134) (lv' := [_, _]) C dX7_come_131 rfl E.2.2.2.symm rfl rfl rfl ?_
        refine gx_goto (tgt := 100) C dX7_come_134 (by decide) ?_
        exact ih M (hV.eqnw (fun i _ => clU_s (by omega) hr i)) hF
    exact Lr 0 (by omega) M0 (hV.eqnw (fun i _ => clU_0 T (F 0) (F 1) i)) hF
  · have hz : t.s = 3 := hs7
    have g1 := g1 (by omega)
    rw [hz] at hs
    subst hs
    rw [← muS_cg hb.1 hg, hz] at hm
    simp [muS] at hm
    refine gx_aload_n (q := 1) C dX7_come_0 rfl rfl rfl ?_
    refine fg_X7_67 (q := 4) C hV.o rfl dX7_come_1 rfl ?_
    refine gx_tableIn (tgt := 140) C dX7_come_4 (by decide) (by decide) (rfl) (by decide) ?_
    refine gx_aload_n (q := 141) C dX7_come_140 rfl rfl rfl ?_
    refine fg_X7_13 (q := 144) C hV.o rfl dX7_come_141 rfl ?_
    refine gx_bipush (q := 146) (v := nI 48) C dX7_come_144 (by decide) rfl ?_
    refine gx_aload_n (q := 147) C dX7_come_146 rfl rfl rfl ?_
    refine fg_X7_32 (q := 150) C hV.o rfl dX7_come_147 rfl ?_
    refine gx_iconst (q := 151) (v := nI 0) C dX7_come_150 (by decide) rfl ?_
    refine mv_ld_field (q := 152) C hV (by omega) dX7_come_151 rfl ?_
    refine gn_iadd (q := 153) C dX7_come_152 rfl ?_
    refine gx_aload_n (q := 154) C dX7_come_153 rfl rfl rfl ?_
    refine fg_X7_32 (q := 157) C hV.o rfl dX7_come_154 rfl ?_
    refine gx_iconst (q := 158) (v := nI 1) C dX7_come_157 (by decide) rfl ?_
    refine mv_ld_field (q := 159) C hV (by omega) dX7_come_158 rfl ?_
    refine mv_st_now (q := 160) C hV hF (by omega) dX7_come_159 rfl (fun M hV hF => ?_)
    refine gx_goto (tgt := 232) C dX7_come_160 (by decide) ?_
    exact gx_vret C E dX7_come_232 (⟨by rw [← coT_cg hb.1 hg, hz]; exact hV, hF⟩) (by omega) (by omega)
  · have hz : t.s = 4 := hs7
    have g1 := g1 (by omega)
    rw [hz] at hs
    subst hs
    rw [← muS_cg hb.1 hg, hz] at hm
    simp [muS] at hm
    refine gx_aload_n (q := 1) C dX7_come_0 rfl rfl rfl ?_
    refine fg_X7_67 (q := 4) C hV.o rfl dX7_come_1 rfl ?_
    refine gx_tableIn (tgt := 163) C dX7_come_4 (by decide) (by decide) (rfl) (by decide) ?_
    refine gx_aload_n (q := 164) C dX7_come_163 rfl rfl rfl ?_
    refine fg_X7_13 (q := 167) C hV.o rfl dX7_come_164 rfl ?_
    refine gx_iconst (q := 168) (v := nI 1) C dX7_come_167 (by decide) rfl ?_
    refine gx_iconst (q := 169) (v := nI 4) C dX7_come_168 (by decide) rfl ?_
    refine gx_aload_n (q := 170) C dX7_come_169 rfl rfl rfl ?_
    refine fg_X7_32 (q := 173) C hV.o rfl dX7_come_170 rfl ?_
    refine gx_iconst (q := 174) (v := nI 0) C dX7_come_173 (by decide) rfl ?_
    refine mv_ld_field (q := 175) C hV (by omega) dX7_come_174 rfl ?_
    refine gn_imul (q := 176) C dX7_come_175 rfl ?_
    refine gx_aload_n (q := 177) C dX7_come_176 rfl rfl rfl ?_
    refine fg_X7_32 (q := 180) C hV.o rfl dX7_come_177 rfl ?_
    refine gx_iconst (q := 181) (v := nI 1) C dX7_come_180 (by decide) rfl ?_
    refine mv_ld_field (q := 182) C hV (by omega) dX7_come_181 rfl ?_
    refine gn_iadd (q := 183) C dX7_come_182 rfl ?_
    refine mv_st_now (q := 184) C hV hF (by omega) dX7_come_183 rfl (fun M hV hF => ?_)
    refine gx_goto (tgt := 232) C dX7_come_184 (by decide) ?_
    exact gx_vret C E dX7_come_232 (⟨by rw [← coT_cg hb.1 hg, hz]; exact hV, hF⟩) (by omega) (by omega)
  · have hz : t.s = 5 := hs7
    rw [hz] at hs
    subst hs
    rw [← muS_cg hb.1 hg, hz] at hm
    simp [muS] at hm
    refine gx_aload_n (q := 1) C dX7_come_0 rfl rfl rfl ?_
    refine fg_X7_67 (q := 4) C hV.o rfl dX7_come_1 rfl ?_
    refine gx_tableIn (tgt := 187) C dX7_come_4 (by decide) (by decide) (rfl) (by decide) ?_
    refine gx_aload_n (q := 188) C dX7_come_187 rfl rfl rfl ?_
    refine fg_X7_13 (q := 191) C hV.o rfl dX7_come_188 rfl ?_
    refine gx_iconst (q := 192) (v := nI 2) C dX7_come_191 (by decide) rfl ?_
    refine gx_aload_n (q := 193) C dX7_come_192 rfl rfl rfl ?_
    refine fg_X7_32 (q := 196) C hV.o rfl dX7_come_193 rfl ?_
    refine gx_iconst (q := 197) (v := nI 0) C dX7_come_196 (by decide) rfl ?_
    refine mv_ld_field (q := 198) C hV (by omega) dX7_come_197 rfl ?_
    refine mv_st_now (q := 199) C hV hF (by omega) dX7_come_198 rfl (fun M hV hF => ?_)
    refine gx_goto (tgt := 232) C dX7_come_199 (by decide) ?_
    exact gx_vret C E dX7_come_232 (⟨by rw [← coT_cg hb.1 hg, hz]; exact hV, hF⟩) (by omega) (by omega)
  · have hz : t.s = 6 := hs7
    rw [hz] at hs
    subst hs
    rw [← muS_cg hb.1 hg, hz] at hm
    simp [muS] at hm
    refine gx_aload_n (q := 1) C dX7_come_0 rfl rfl rfl ?_
    refine fg_X7_67 (q := 4) C hV.o rfl dX7_come_1 rfl ?_
    refine gx_tableOut (tgt := 202) C dX7_come_4 (Or.inr (by decide)) (by decide) ?_
    refine gx_aload_n (q := 203) C dX7_come_202 rfl rfl rfl ?_
    refine fg_X7_13 (q := 206) C hV.o rfl dX7_come_203 rfl ?_
    refine gx_bipush (q := 208) (v := nI 84) C dX7_come_206 (by decide) rfl ?_
    refine gx_aload_n (q := 209) C dX7_come_208 rfl rfl rfl ?_
    refine fg_X7_32 (q := 212) C hV.o rfl dX7_come_209 rfl ?_
    refine gx_iconst (q := 213) (v := nI 0) C dX7_come_212 (by decide) rfl ?_
    refine mv_ld_field (q := 214) C hV (by omega) dX7_come_213 rfl ?_
    refine gn_iadd (q := 215) C dX7_come_214 rfl ?_
    refine gx_iconst (q := 216) (v := nI 1) C dX7_come_215 (by decide) rfl ?_
    refine gx_aload_n (q := 217) C dX7_come_216 rfl rfl rfl ?_
    refine fg_X7_13 (q := 220) C hV.o rfl dX7_come_217 rfl ?_
    refine gx_bipush (q := 222) (v := nI 84) C dX7_come_220 (by decide) rfl ?_
    refine gx_aload_n (q := 223) C dX7_come_222 rfl rfl rfl ?_
    refine fg_X7_32 (q := 226) C hV.o rfl dX7_come_223 rfl ?_
    refine gx_iconst (q := 227) (v := nI 0) C dX7_come_226 (by decide) rfl ?_
    refine mv_ld_field (q := 228) C hV (by omega) dX7_come_227 rfl ?_
    refine gn_iadd (q := 229) C dX7_come_228 rfl ?_
    refine mv_ld_now (q := 230) C hV (by omega) dX7_come_229 rfl ?_
    refine gn_isub (q := 231) C dX7_come_230 (k7 _ (by omega)) rfl ?_
    refine mv_st_now (q := 232) C hV hF (by omega) dX7_come_231 rfl (fun M hV hF => ?_)
    exact gx_vret C E dX7_come_232 (⟨by rw [← coT_cg hb.1 hg, hz]; exact hV, hF⟩) (by omega) (by omega)
