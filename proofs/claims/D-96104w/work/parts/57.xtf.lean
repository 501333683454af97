/-! the component: what falls in a town; a town copied, changed -/
set_option maxRecDepth 100000
theorem dnP_roll {T : Nat → Nat} {t a : Nat} (hk : okT T) (ht : t < T 0) {r : Option Nat} (h : blow T t r = some a) : dnP T t r = some (roll T t a) := by unfold dnP; rw [h]; rfl
def fyY (T Y : Nat → Nat) (u : Nat) (r : Option Nat) (w : Nat) : Nat → Nat := match dnP T u r with
  | none => Y
  | some a => updN Y (36 * u + a) (Y (36 * u + a) + T (132 + u) * w)
def fyO (T : Nat → Nat) (u : Nat) (r : Option Nat) (w lo : Nat) : Nat := match dnP T u r with
  | none => lo + T (132 + u) * w
  | some _ => lo
theorem fyY_n {T Y : Nat → Nat} {u w : Nat} {r : Option Nat} (h : dnP T u r = none) : fyY T Y u r w = Y := by simp [fyY, h]
theorem fyY_s {T Y : Nat → Nat} {u w a : Nat} {r : Option Nat} (h : dnP T u r = some a) : fyY T Y u r w = updN Y (36 * u + a) (Y (36 * u + a) + T (132 + u) * w) := by simp [fyY, h]
theorem fyO_n {T : Nat → Nat} {u w lo : Nat} {r : Option Nat} (h : dnP T u r = none) : fyO T u r w lo = lo + T (132 + u) * w := by simp [fyO, h]
theorem fyO_s {T : Nat → Nat} {u w a lo : Nat} {r : Option Nat} (h : dnP T u r = some a) : fyO T u r w lo = lo := by simp [fyO, h]
/-- rolled so often -/
def rlT (T : Nat → Nat) : Nat → Nat → Nat
  | 0, a => a
  | n + 1, a => rol T (rlT T n a) 4
theorem rlT_lt {T : Nat → Nat} (n : Nat) {a : Nat} (ha : a < 36) : rlT T n a < 36 := by
  induction n with
  | zero => exact ha
  | succ n ih => exact rol_lt ih 4
theorem rlT_roll (T : Nat → Nat) (u a : Nat) : rlT T (rlN (T (120 + u))) a = roll T u a := by
  unfold rlN roll
  by_cases h3 : T (120 + u) = 3
  · rw [if_pos h3, if_pos h3]; rfl
  · rw [if_neg h3, if_neg h3]
    by_cases h4 : T (120 + u) = 4
    · rw [if_pos h4, if_pos h4]; rfl
    · rw [if_neg h4, if_neg h4]; rfl
theorem rlN_le (k : Nat) : rlN k ≤ 2 := by unfold rlN; split; omega; split <;> omega
theorem blow_5 {T : Nat → Nat} {u z : Nat} (h : decide (¬ T (120 + u) = 5) = false) : blow T u (some z) = some z := by simp at h; simp [blow, h]
theorem blow_w {T : Nat → Nat} {u z : Nat} (h : decide (¬ T (120 + u) = 5) = true) : blow T u (some z) = bes z (T 1 / 4) (T 1 % 4) := by simp at h; simp [blow, h]
theorem sl36 {u a : Nat} (hu : u < 7) (ha : a < 36) : 36 * u + a < 252 := by omega
set_option maxHeartbeats 4000000 in
theorem tx_falls (l : Launch) (D : va_G) (b : Nat) (M0 : List va_E) {t : Nat} {T Y : Nat → Nat} {lo : Nat} (u : Nat) (r : Option Nat) (w : Nat) (hu : u < T 0) (hr : ∀ z, r = some z → z < 36) (hV : tw_V D b M0 t T Y lo) (hk : okT T) : fb_CT l D b yX1_falls cX1_falls 7 none 3 72 0 0 [.ref (b + t), .int (nI u), .int (sq_ r), .int (nI w)] M0 (.returned none) (fun M' => tw_V D b M' t T (fyY T Y u r w) (fyO T u r w lo) ∧ tw_F t M0 M') := by
  refine fb_start [some (.ref (b + t)), some (.int (nI u)), some (.int (sq_ r)), some (.int (nI w)), none, none, none] (by decide) (Nat.le_of_ble_eq_true rfl) rfl ?_
  intro x hl hD hb C E hx
  subst hl hD hb
  have C : fb_OK x cX1_falls "FallsBetween$Town" "falls" := C
  have hF := tw_F.rf t M0
  obtain ⟨k0, k1, k2, k3, k4, k5, k6, k7, k8⟩ := id hk
  have hkd := (k8 _ hu).1
  have hrl := rlN_le (T (120 + u))
  refine gx_aload_n (q := 1) C dX1_falls_0 rfl rfl rfl ?_
  refine fg_X1_43 (q := 4) C hV.o rfl dX1_falls_1 rfl ?_
  refine gx_iload_n (q := 5) C dX1_falls_4 rfl rfl rfl ?_
  refine tv_tree (q := 6) C hV (by omega) (by omega) dX1_falls_5 rfl (fun jt hjt hj54 => ?_)
  refine gx_astore (q := 8) (lv' := [_, _, _, _, _, _, _]) C dX1_falls_6 (Nat.le_of_ble_eq_true rfl) E.2.2.2.symm rfl rfl rfl ?_
  rcases r with _ | z
  · rw [sq_none]
    have hE : dnP T u none = none := rfl
    refine gx_iload_n (q := 9) C dX1_falls_8 rfl rfl rfl ?_
    refine gx_bipush (q := 11) (v := -9) C dX1_falls_9 (by decide) rfl ?_
    refine gx_icmp_ne (q := 14) (tgt := 19) C dX1_falls_11 (by decide) rfl (fun c11 => by exfalso; revert c11; decide) (fun c11 => ?_)
    refine gx_bipush (q := 16) (v := -9) C dX1_falls_14 (by decide) rfl ?_
    refine gx_goto (tgt := 47) C dX1_falls_16 (by decide) ?_
    refine gx_istore (q := 49) (lv' := [_, _, _, _, _, _, _]) C dX1_falls_47 (Nat.le_of_ble_eq_true rfl) E.2.2.2.symm rfl rfl rfl ?_
    refine gx_iconst (q := 50) (v := nI 0) C dX1_falls_49 (by decide) rfl ?_
    refine gx_istore (q := 52) (lv' := [_, _, _, _, _, _, _]) C dX1_falls_50 (Nat.le_of_ble_eq_true rfl) E.2.2.2.symm rfl rfl rfl ?_
    refine gx_iload (q := 54) C dX1_falls_52 rfl rfl ?_
    refine gx_aload (q := 56) C dX1_falls_54 rfl rfl ?_
    refine gv_rolls (q := 59) C E hjt hkd (by decide) (by decide) (Nat.le_of_ble_eq_true rfl) (by omega) (by omega) dX1_falls_56 rfl ?_
    have hrl := rlN_le (T (120 + u))
    refine gn_icmp_ge (q := 62) (tgt := 83) C dX1_falls_59 (by decide) rfl (by omega) (by omega) (fun c59 => ?_) (fun c59 => ?_)
    · refine gx_iload (q := 85) C dX1_falls_83 rfl rfl ?_
      refine gx_bipush (q := 87) (v := -9) C dX1_falls_85 (by decide) rfl ?_
      refine gx_icmp_ne (q := 90) (tgt := 109) C dX1_falls_87 (by decide) rfl (fun c87 => by exfalso; revert c87; decide) (fun c87 => ?_)
      refine gx_aload_n (q := 91) C dX1_falls_90 rfl rfl rfl ?_
      refine gx_dup (q := 92) C dX1_falls_91 rfl rfl ?_
      refine fg_X1_99 (q := 95) C hV.o rfl dX1_falls_92 rfl ?_
      refine gx_aload (q := 97) C dX1_falls_95 rfl rfl ?_
      refine gf_X1_fruit (q := 100) C hjt hkd dX1_falls_97 rfl ?_
      refine gx_iload_n (q := 101) C dX1_falls_100 rfl rfl rfl ?_
      refine gn_imul (q := 102) C dX1_falls_101 rfl ?_
      refine gn_iadd (q := 103) C dX1_falls_102 rfl ?_
      refine tv_pf_X1_lost (q := 106) C hV hF dX1_falls_103 rfl (fun M hV hF => ?_)
      refine gx_goto (tgt := 131) C dX1_falls_106 (by decide) ?_
      exact gx_vret C E dX1_falls_131 (by rw [fyY_n hE, fyO_n hE]; exact ⟨hV, hF⟩) (by omega) (by omega)
    · refine gx_iload (q := 64) C dX1_falls_62 rfl rfl ?_
      refine gx_bipush (q := 66) (v := -9) C dX1_falls_64 (by decide) rfl ?_
      refine gx_icmp_eq (q := 69) (tgt := 83) C dX1_falls_66 (by decide) rfl (fun c66 => ?_) (fun c66 => by exfalso; revert c66; decide)
      refine gx_iload (q := 85) C dX1_falls_83 rfl rfl ?_
      refine gx_bipush (q := 87) (v := -9) C dX1_falls_85 (by decide) rfl ?_
      refine gx_icmp_ne (q := 90) (tgt := 109) C dX1_falls_87 (by decide) rfl (fun c87 => by exfalso; revert c87; decide) (fun c87 => ?_)
      refine gx_aload_n (q := 91) C dX1_falls_90 rfl rfl rfl ?_
      refine gx_dup (q := 92) C dX1_falls_91 rfl rfl ?_
      refine fg_X1_99 (q := 95) C hV.o rfl dX1_falls_92 rfl ?_
      refine gx_aload (q := 97) C dX1_falls_95 rfl rfl ?_
      refine gf_X1_fruit (q := 100) C hjt hkd dX1_falls_97 rfl ?_
      refine gx_iload_n (q := 101) C dX1_falls_100 rfl rfl rfl ?_
      refine gn_imul (q := 102) C dX1_falls_101 rfl ?_
      refine gn_iadd (q := 103) C dX1_falls_102 rfl ?_
      refine tv_pf_X1_lost (q := 106) C hV hF dX1_falls_103 rfl (fun M hV hF => ?_)
      refine gx_goto (tgt := 131) C dX1_falls_106 (by decide) ?_
      exact gx_vret C E dX1_falls_131 (by rw [fyY_n hE, fyO_n hE]; exact ⟨hV, hF⟩) (by omega) (by omega)
  · rw [sq_some]
    have hz := hr z rfl
    have K : ∀ a, blow T u (some z) = some a → fb_G x M0 0 0 47 [some (.ref (cx_b x + t)), some (.int (nI u)), some (.int (nI z)), some (.int (nI w)), some (.ref (cx_b x + jt)), none, none] [.int (nI a)] := by
      intro a hB
      have ha := blow_lt hr hB
      refine gx_istore (q := 49) (lv' := [_, _, _, _, _, _, _]) C dX1_falls_47 (Nat.le_of_ble_eq_true rfl) E.2.2.2.symm rfl rfl rfl ?_
      refine gx_iconst (q := 50) (v := nI 0) C dX1_falls_49 (by decide) rfl ?_
      refine gx_istore (q := 52) (lv' := [_, _, _, _, _, _, _]) C dX1_falls_50 (Nat.le_of_ble_eq_true rfl) E.2.2.2.symm rfl rfl rfl ?_
      have Lp : ∀ i, i ≤ rlN (T (120 + u)) → fb_G x M0 0 0 52 [some (.ref (cx_b x + t)), some (.int (nI u)), some (.int (nI z)), some (.int (nI w)), some (.ref (cx_b x + jt)), some (.int (nI (rlT T i a))), some (.int (nI i))] [] := by
        refine fb_dn (rlN (T (120 + u))) ?_ ?_
        · have hE : dnP T u (some z) = some (rlT T (rlN (T (120 + u))) a) := by rw [rlT_roll]; exact dnP_roll hk hu hB
          have hi5 := rlT_lt (T := T) (rlN (T (120 + u))) ha
          refine gx_iload (q := 54) C dX1_falls_52 rfl rfl ?_
          refine gx_aload (q := 56) C dX1_falls_54 rfl rfl ?_
          refine gv_rolls (q := 59) C E hjt hkd (by decide) (by decide) (Nat.le_of_ble_eq_true rfl) (by omega) (by omega) dX1_falls_56 rfl ?_
          refine gn_icmp_ge (q := 62) (tgt := 83) C dX1_falls_59 (by decide) rfl (by omega) (by omega) (fun c59 => ?_) (fun c59 => by exfalso; omega)
          refine gx_iload (q := 85) C dX1_falls_83 rfl rfl ?_
          refine gx_bipush (q := 87) (v := -9) C dX1_falls_85 (by decide) rfl ?_
          refine gx_icmp_ne (q := 90) (tgt := 109) C dX1_falls_87 (by decide) rfl (fun c87 => ?_) (fun c87 => by exfalso; exact nI_m9 (by omega) c87)
          refine gx_aload_n (q := 110) C dX1_falls_109 rfl rfl rfl ?_
          refine fg_X1_50 (q := 113) C hV.o rfl dX1_falls_110 rfl ?_
          refine gx_bipush (q := 115) (v := nI 36) C dX1_falls_113 (by decide) rfl ?_
          refine gx_iload_n (q := 116) C dX1_falls_115 rfl rfl rfl ?_
          refine gn_imul (q := 117) C dX1_falls_116 rfl ?_
          refine gx_iload (q := 119) C dX1_falls_117 rfl rfl ?_
          refine gn_iadd (q := 120) C dX1_falls_119 rfl ?_
          refine gx_dup2 (q := 121) C dX1_falls_120 rfl rfl rfl ?_
          refine tv_ld_lies (q := 122) C hV (sl36 (by omega) hi5) dX1_falls_121 rfl ?_
          refine gx_aload (q := 124) C dX1_falls_122 rfl rfl ?_
          refine gf_X1_fruit (q := 127) C hjt hkd dX1_falls_124 rfl ?_
          refine gx_iload_n (q := 128) C dX1_falls_127 rfl rfl rfl ?_
          refine gn_imul (q := 129) C dX1_falls_128 rfl ?_
          refine gn_iadd (q := 130) C dX1_falls_129 rfl ?_
          refine tv_st_lies (q := 131) C hV hF (sl36 (by omega) hi5) dX1_falls_130 rfl (fun M hV hF => ?_)
          exact gx_vret C E dX1_falls_131 (by rw [fyY_s hE, fyO_s hE]; exact ⟨hV, hF⟩) (by omega) (by omega)
        · intro i hi ih
          have hi5 := rlT_lt (T := T) i ha
          refine gx_iload (q := 54) C dX1_falls_52 rfl rfl ?_
          refine gx_aload (q := 56) C dX1_falls_54 rfl rfl ?_
          refine gv_rolls (q := 59) C E hjt hkd (by decide) (by decide) (Nat.le_of_ble_eq_true rfl) (by omega) (by omega) dX1_falls_56 rfl ?_
          refine gn_icmp_ge (q := 62) (tgt := 83) C dX1_falls_59 (by decide) rfl (by omega) (by omega) (fun c59 => by exfalso; omega) (fun c59 => ?_)
          refine gx_iload (q := 64) C dX1_falls_62 rfl rfl ?_
          refine gx_bipush (q := 66) (v := -9) C dX1_falls_64 (by decide) rfl ?_
          refine gx_icmp_eq (q := 69) (tgt := 83) C dX1_falls_66 (by decide) rfl (fun c66 => by exfalso; exact nI_m9 (by omega) c66) (fun c66 => ?_)
          refine gx_aload_n (q := 70) C dX1_falls_69 rfl rfl rfl ?_
          refine gx_iload (q := 72) C dX1_falls_70 rfl rfl ?_
          refine gx_cp (q := 75) C E (sx_X1_95 (As := [_]) C hV.o rfl rfl dX1_falls_72) (tx_rolled _ _ _ _ (rlT T i a) hi5 hV hk) kw_X1_rolled (by decide) (Nat.le_of_ble_eq_true rfl) (by omega) (by omega) dX1_falls_72 rfl ?_
          refine gx_istore (q := 77) (lv' := [_, _, _, _, _, _, _]) C dX1_falls_75 (Nat.le_of_ble_eq_true rfl) E.2.2.2.symm rfl rfl rfl ?_
          refine gn_inc (q := 80) (lv' := [_, _, _, _, _, _, _]) C dX1_falls_77 rfl E.2.2.2.symm rfl rfl rfl ?_
          refine gx_goto (tgt := 52) C dX1_falls_80 (by decide) ?_
          exact ih
      exact Lp 0 (by omega)
    refine gx_iload_n (q := 9) C dX1_falls_8 rfl rfl rfl ?_
    refine gx_bipush (q := 11) (v := -9) C dX1_falls_9 (by decide) rfl ?_
    refine gx_icmp_ne (q := 14) (tgt := 19) C dX1_falls_11 (by decide) rfl (fun c11 => ?_) (fun c11 => by exfalso; exact nI_m9 (by omega) c11)
    refine gx_aload (q := 21) C dX1_falls_19 rfl rfl ?_
    refine gv_blown (q := 24) C E hjt hkd (by decide) (by decide) (Nat.le_of_ble_eq_true rfl) (by omega) (by omega) dX1_falls_21 rfl ?_
    refine gb_if_eq (q := 27) (tgt := 46) C dX1_falls_24 (by decide) rfl (fun c24 => ?_) (fun c24 => ?_)
    · have hB : blow T u (some z) = some z := blow_5 c24
      refine gx_iload_n (q := 47) C dX1_falls_46 rfl rfl rfl ?_
      exact K _ hB
    · have hB0 : blow T u (some z) = bes z (T 1 / 4) (T 1 % 4) := blow_w c24
      refine gx_iload_n (q := 28) C dX1_falls_27 rfl rfl rfl ?_
      refine gx_aload_n (q := 29) C dX1_falls_28 rfl rfl rfl ?_
      refine fg_X1_57 (q := 32) C hV.o rfl dX1_falls_29 rfl ?_
      refine gx_iconst (q := 33) (v := nI 4) C dX1_falls_32 (by decide) rfl ?_
      refine gn_idiv (q := 34) C dX1_falls_33 (by omega) (by omega) (by omega) rfl ?_
      refine gx_aload_n (q := 35) C dX1_falls_34 rfl rfl rfl ?_
      refine fg_X1_57 (q := 38) C hV.o rfl dX1_falls_35 rfl ?_
      refine gx_iconst (q := 39) (v := nI 4) C dX1_falls_38 (by decide) rfl ?_
      refine gn_irem (q := 40) C dX1_falls_39 (by omega) (by omega) (by omega) rfl ?_
      refine gx_cp (q := 43) C E (sx_X1_87 (As := [_, _, _]) C rfl rfl dX1_falls_40) (fx_far _ _ _ _ z (T 1 / 4) (T 1 % 4) hz (by omega) (by omega)) kw_X0_far (by decide) (Nat.le_of_ble_eq_true rfl) (by omega) (by omega) dX1_falls_40 rfl ?_
      rcases hb : bes z (T 1 / 4) (T 1 % 4) with _ | a
      · rw [sq_none]
        have hE : dnP T u (some z) = none := by unfold dnP; rw [hB0, hb]; rfl
        refine gx_goto (tgt := 47) C dX1_falls_43 (by decide) ?_
        refine gx_istore (q := 49) (lv' := [_, _, _, _, _, _, _]) C dX1_falls_47 (Nat.le_of_ble_eq_true rfl) E.2.2.2.symm rfl rfl rfl ?_
        refine gx_iconst (q := 50) (v := nI 0) C dX1_falls_49 (by decide) rfl ?_
        refine gx_istore (q := 52) (lv' := [_, _, _, _, _, _, _]) C dX1_falls_50 (Nat.le_of_ble_eq_true rfl) E.2.2.2.symm rfl rfl rfl ?_
        refine gx_iload (q := 54) C dX1_falls_52 rfl rfl ?_
        refine gx_aload (q := 56) C dX1_falls_54 rfl rfl ?_
        refine gv_rolls (q := 59) C E hjt hkd (by decide) (by decide) (Nat.le_of_ble_eq_true rfl) (by omega) (by omega) dX1_falls_56 rfl ?_
        have hrl := rlN_le (T (120 + u))
        refine gn_icmp_ge (q := 62) (tgt := 83) C dX1_falls_59 (by decide) rfl (by omega) (by omega) (fun c59 => ?_) (fun c59 => ?_)
        · refine gx_iload (q := 85) C dX1_falls_83 rfl rfl ?_
          refine gx_bipush (q := 87) (v := -9) C dX1_falls_85 (by decide) rfl ?_
          refine gx_icmp_ne (q := 90) (tgt := 109) C dX1_falls_87 (by decide) rfl (fun c87 => by exfalso; revert c87; decide) (fun c87 => ?_)
          refine gx_aload_n (q := 91) C dX1_falls_90 rfl rfl rfl ?_
          refine gx_dup (q := 92) C dX1_falls_91 rfl rfl ?_
          refine fg_X1_99 (q := 95) C hV.o rfl dX1_falls_92 rfl ?_
          refine gx_aload (q := 97) C dX1_falls_95 rfl rfl ?_
          refine gf_X1_fruit (q := 100) C hjt hkd dX1_falls_97 rfl ?_
          refine gx_iload_n (q := 101) C dX1_falls_100 rfl rfl rfl ?_
          refine gn_imul (q := 102) C dX1_falls_101 rfl ?_
          refine gn_iadd (q := 103) C dX1_falls_102 rfl ?_
          refine tv_pf_X1_lost (q := 106) C hV hF dX1_falls_103 rfl (fun M hV hF => ?_)
          refine gx_goto (tgt := 131) C dX1_falls_106 (by decide) ?_
          exact gx_vret C E dX1_falls_131 (by rw [fyY_n hE, fyO_n hE]; exact ⟨hV, hF⟩) (by omega) (by omega)
        · refine gx_iload (q := 64) C dX1_falls_62 rfl rfl ?_
          refine gx_bipush (q := 66) (v := -9) C dX1_falls_64 (by decide) rfl ?_
          refine gx_icmp_eq (q := 69) (tgt := 83) C dX1_falls_66 (by decide) rfl (fun c66 => ?_) (fun c66 => by exfalso; revert c66; decide)
          refine gx_iload (q := 85) C dX1_falls_83 rfl rfl ?_
          refine gx_bipush (q := 87) (v := -9) C dX1_falls_85 (by decide) rfl ?_
          refine gx_icmp_ne (q := 90) (tgt := 109) C dX1_falls_87 (by decide) rfl (fun c87 => by exfalso; revert c87; decide) (fun c87 => ?_)
          refine gx_aload_n (q := 91) C dX1_falls_90 rfl rfl rfl ?_
          refine gx_dup (q := 92) C dX1_falls_91 rfl rfl ?_
          refine fg_X1_99 (q := 95) C hV.o rfl dX1_falls_92 rfl ?_
          refine gx_aload (q := 97) C dX1_falls_95 rfl rfl ?_
          refine gf_X1_fruit (q := 100) C hjt hkd dX1_falls_97 rfl ?_
          refine gx_iload_n (q := 101) C dX1_falls_100 rfl rfl rfl ?_
          refine gn_imul (q := 102) C dX1_falls_101 rfl ?_
          refine gn_iadd (q := 103) C dX1_falls_102 rfl ?_
          refine tv_pf_X1_lost (q := 106) C hV hF dX1_falls_103 rfl (fun M hV hF => ?_)
          refine gx_goto (tgt := 131) C dX1_falls_106 (by decide) ?_
          exact gx_vret C E dX1_falls_131 (by rw [fyY_n hE, fyO_n hE]; exact ⟨hV, hF⟩) (by omega) (by omega)
      · rw [sq_some]
        have hB : blow T u (some z) = some a := by rw [hB0, hb]
        refine gx_goto (tgt := 47) C dX1_falls_43 (by decide) ?_
        exact K _ hB
