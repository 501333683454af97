/-! the reference: what comes down, all falls -/
set_option maxRecDepth 100000
def dnP (T : Nat → Nat) (t : Nat) (r : Option Nat) : Option Nat := (blow T t r).map (roll T t)
def dnL (T : Nat → Nat) (t : Nat) (r : Option Nat) (v : Nat) (L : Nat → Nat) : Nat → Nat := match dnP T t r with
  | none => L
  | some a => updN L a (L a + v)
def dnO (T : Nat → Nat) (t : Nat) (r : Option Nat) (v lo : Nat) : Nat := match dnP T t r with
  | none => lo + v
  | some _ => lo
theorem dnL_n {T : Nat → Nat} {t v : Nat} {r : Option Nat} {L : Nat → Nat} (h : dnP T t r = none) : dnL T t r v L = L := by simp [dnL, h]
theorem dnL_s {T : Nat → Nat} {t v a : Nat} {r : Option Nat} {L : Nat → Nat} (h : dnP T t r = some a) : dnL T t r v L = updN L a (L a + v) := by simp [dnL, h]
theorem dnO_n {T : Nat → Nat} {t v lo : Nat} {r : Option Nat} (h : dnP T t r = none) : dnO T t r v lo = lo + v := by simp [dnO, h]
theorem dnO_s {T : Nat → Nat} {t v a lo : Nat} {r : Option Nat} (h : dnP T t r = some a) : dnO T t r v lo = lo := by simp [dnO, h]
/-- the bit of a tree -/
def bt (s t : Nat) : Nat := s / 2 ^ t % 2
theorem bt_ok : ∀ s, s < 64 → ∀ t, t < 6 → (nI s >>> (nI t &&& 31)) &&& nI 1 = nI (bt s t) := by decide +kernel
/-- what lies in q, what is lost, when the trees before t and p parts of t have fallen -/
def mL (T : Nat → Nat) (s t p q : Nat) : Nat := sumN (fun u => bt s u * flp T u q 5) t + bt s t * flp T t q p
def mO (T : Nat → Nat) (s t p : Nat) : Nat := sumN (fun u => bt s u * lop T u 5) t + bt s t * lop T t p
theorem mL_step {T : Nat → Nat} {s t p v : Nat} {r : Option Nat} (hr : r = st0 T t p) (hv : v = bt s t * amt T t p) : dnL T t r v (mL T s t p) = mL T s t (p + 1) := by
  subst hr hv
  have e : dnP T t (st0 T t p) = pos T t p := rfl
  funext q
  have h1 : flp T t q (p + 1) = flp T t q p + (if pos T t p = some q then amt T t p else 0) := rfl
  cases h : pos T t p with
  | none =>
    rw [dnL_n (e.trans h)]
    unfold mL
    rw [h1, h]
    simp
  | some a =>
    rw [dnL_s (e.trans h)]
    by_cases hq : q = a
    · subst hq
      rw [updN_s]
      unfold mL
      rw [h1, h, if_pos rfl, Nat.mul_add, Nat.add_assoc]
    · rw [updN_n _ hq]
      unfold mL
      rw [h1, h, if_neg (fun z => hq (Option.some.inj z).symm), Nat.add_zero]
theorem mO_step {T : Nat → Nat} {s t p v : Nat} {r : Option Nat} (hr : r = st0 T t p) (hv : v = bt s t * amt T t p) : dnO T t r v (mO T s t p) = mO T s t (p + 1) := by
  subst hr hv
  have e : dnP T t (st0 T t p) = pos T t p := rfl
  have h1 : lop T t (p + 1) = lop T t p + (if pos T t p = none then amt T t p else 0) := rfl
  cases h : pos T t p with
  | none =>
    rw [dnO_n (e.trans h)]
    unfold mO
    rw [h1, h, if_pos rfl, Nat.mul_add, Nat.add_assoc]
  | some a =>
    rw [dnO_s (e.trans h)]
    unfold mO
    rw [h1, h]
    simp
theorem mL_next (T : Nat → Nat) (s t : Nat) : mL T s t 5 = mL T s (t + 1) 0 := by
  funext q
  simp [mL, sumN, flp]
theorem mO_next (T : Nat → Nat) (s t : Nat) : mO T s t 5 = mO T s (t + 1) 0 := by simp [mO, sumN, lop]
theorem mL_0 (T : Nat → Nat) (s q : Nat) : mL T s 0 0 q = 0 := by simp [mL, sumN, flp]
theorem mO_0 (T : Nat → Nat) (s : Nat) : mO T s 0 0 = 0 := by simp [mO, sumN, lop]
set_option maxHeartbeats 4000000 in
theorem md_down (l : Launch) (D : va_G) (b : Nat) (M0 : List va_E) {R T Ti Bf P F L Rw : Nat → Nat} {kp we : Bool} {td aa so lo ro : Nat} (t v : Nat) (r : Option Nat) (ht : t < T 0) (hr : ∀ z, r = some z → z < 36) (hV : md_V D b M0 R T Ti Bf P F L Rw kp td aa we so lo ro) (hk : okT T) : fb_CT l D b yX7_down cX7_down 6 none 2 48 0 0 [.ref (b + 43), .int (nI t), .int (sq_ r), .int (nI v)] M0 (.returned none) (fun M' => md_V D b M' R T Ti Bf P F (dnL T t r v L) Rw kp td aa we so (dnO T t r v lo) ro ∧ md_F M0 M') := by
  refine fb_start [some (.ref (b + 43)), some (.int (nI t)), some (.int (sq_ r)), some (.int (nI v)), none, none] (by decide) (Nat.le_of_ble_eq_true rfl) rfl ?_
  intro x hl hD hb C E hx
  subst hl hD hb
  have C : fb_OK x cX7_down "FallsBetweenModel" "down" := C
  have hF := md_F.rf M0
  obtain ⟨k0, k1, k2, k3, k4, k5, k6, k7, k8⟩ := id hk
  refine gx_aload_n (q := 1) C dX7_down_0 rfl rfl rfl ?_
  refine fg_X7_13 (q := 4) C hV.o rfl dX7_down_1 rfl ?_
  refine gx_bipush (q := 6) (v := nI 120) C dX7_down_4 (by decide) rfl ?_
  refine gx_iload_n (q := 7) C dX7_down_6 rfl rfl rfl ?_
  refine gn_iadd (q := 8) C dX7_down_7 rfl ?_
  refine mv_ld_now (q := 9) C hV (by omega) dX7_down_8 rfl ?_
  refine gx_istore (q := 11) (lv' := [_, _, _, _, _, _]) C dX7_down_9 (Nat.le_of_ble_eq_true rfl) E.2.2.2.symm rfl rfl rfl ?_
  refine gx_iload_n (q := 12) C dX7_down_11 rfl rfl rfl ?_
  refine gx_bipush (q := 14) (v := -9) C dX7_down_12 (by decide) rfl ?_
  refine gq_icmp_eq (q := 17) (tgt := 23) C dX7_down_14 (by decide) rfl (fun z h => by have := hr z h; omega) (fun c14 => ?_) (fun z14 c14 => ?_)
  · subst c14
    refine gx_iload_n (q := 24) C dX7_down_23 rfl rfl rfl ?_
    refine gx_goto (tgt := 47) C dX7_down_24 (by decide) ?_
    refine gx_istore (q := 49) (lv' := [_, _, _, _, _, _]) C dX7_down_47 (Nat.le_of_ble_eq_true rfl) E.2.2.2.symm rfl rfl rfl ?_
    refine gx_iload (q := 51) C dX7_down_49 rfl rfl ?_
    refine gx_bipush (q := 53) (v := -9) C dX7_down_51 (by decide) rfl ?_
    refine gq_icmp_ne (q := 56) (tgt := 67) C dX7_down_53 (by decide) rfl (fun z h => by cases h) (fun z53 c53 => by exfalso; cases c53) (fun c53 => ?_)
    have hE : dnP T t none = none := rfl
    refine gx_aload_n (q := 57) C dX7_down_56 rfl rfl rfl ?_
    refine gx_dup (q := 58) C dX7_down_57 rfl rfl ?_
    refine fg_X7_111 (q := 61) C hV.o rfl dX7_down_58 rfl ?_
    refine gx_iload_n (q := 62) C dX7_down_61 rfl rfl rfl ?_
    refine gn_iadd (q := 63) C dX7_down_62 rfl ?_
    refine mv_pf_lost (q := 66) C hV hF dX7_down_63 rfl (fun M hV hF => ?_)
    exact gx_vret C E dX7_down_66 (by rw [dnL_n hE, dnO_n hE]; exact ⟨hV, hF⟩) (by omega) (by omega)
  · subst c14
    rw [sq_some]
    have hz := hr z14 rfl
    refine gx_iload (q := 19) C dX7_down_17 rfl rfl ?_
    refine gx_iconst (q := 20) (v := nI 5) C dX7_down_19 (by decide) rfl ?_
    refine gn_icmp_ne (q := 23) (tgt := 27) C dX7_down_20 (by decide) rfl (by have := (k8 _ ht).1; omega) (by omega) (fun c20 => ?_) (fun c20 => ?_)
    · refine gx_iload_n (q := 28) C dX7_down_27 rfl rfl rfl ?_
      refine gx_aload_n (q := 29) C dX7_down_28 rfl rfl rfl ?_
      refine fg_X7_13 (q := 32) C hV.o rfl dX7_down_29 rfl ?_
      refine gx_iconst (q := 33) (v := nI 1) C dX7_down_32 (by decide) rfl ?_
      refine mv_ld_now (q := 34) C hV (by omega) dX7_down_33 rfl ?_
      refine gx_iconst (q := 35) (v := nI 4) C dX7_down_34 (by decide) rfl ?_
      refine gn_idiv (q := 36) C dX7_down_35 (by omega) (by omega) (by omega) rfl ?_
      refine gx_aload_n (q := 37) C dX7_down_36 rfl rfl rfl ?_
      refine fg_X7_13 (q := 40) C hV.o rfl dX7_down_37 rfl ?_
      refine gx_iconst (q := 41) (v := nI 1) C dX7_down_40 (by decide) rfl ?_
      refine mv_ld_now (q := 42) C hV (by omega) dX7_down_41 rfl ?_
      refine gx_iconst (q := 43) (v := nI 4) C dX7_down_42 (by decide) rfl ?_
      refine gn_irem (q := 44) C dX7_down_43 (by omega) (by omega) (by omega) rfl ?_
      refine gx_cp (q := 47) C E (sx_X7_99 (As := [_, _, _]) C rfl rfl dX7_down_44) (md_beside _ _ _ _ z14 (T 1 / 4) (T 1 % 4) hz (by omega) (by omega)) kw_X7_beside (by decide) (Nat.le_of_ble_eq_true rfl) (by omega) (by omega) dX7_down_44 rfl ?_
      refine gx_istore (q := 49) (lv' := [_, _, _, _, _, _]) C dX7_down_47 (Nat.le_of_ble_eq_true rfl) E.2.2.2.symm rfl rfl rfl ?_
      refine gx_iload (q := 51) C dX7_down_49 rfl rfl ?_
      refine gx_bipush (q := 53) (v := -9) C dX7_down_51 (by decide) rfl ?_
      refine gq_icmp_ne (q := 56) (tgt := 67) C dX7_down_53 (by decide) rfl (bes_lt31 hz) (fun z53 c53 => ?_) (fun c53 => ?_)
      · rw [c53, sq_some]
        have hz5 := bes_lt hz c53
        refine gx_iload (q := 69) C dX7_down_67 rfl rfl ?_
        refine gx_iconst (q := 70) (v := nI 3) C dX7_down_69 (by decide) rfl ?_
        refine gn_icmp_eq (q := 73) (tgt := 79) C dX7_down_70 (by decide) rfl (by have := (k8 _ ht).1; omega) (by omega) (fun c70 => ?_) (fun c70 => ?_)
        · refine gx_aload_n (q := 80) C dX7_down_79 rfl rfl rfl ?_
          refine gx_iload (q := 82) C dX7_down_80 rfl rfl ?_
          refine gx_cp (q := 85) C E (sx_X7_114 (As := [_]) C hV.o rfl rfl dX7_down_82) (md_rolled _ _ _ _ z53 hz5 hV hk) kw_X7_rolled (by decide) (Nat.le_of_ble_eq_true rfl) (by omega) (by omega) dX7_down_82 rfl ?_
          refine gx_goto (tgt := 90) C dX7_down_85 (by decide) ?_
          refine gx_istore (q := 92) (lv' := [_, _, _, _, _, _]) C dX7_down_90 (Nat.le_of_ble_eq_true rfl) E.2.2.2.symm rfl rfl rfl ?_
          refine gx_iload (q := 94) C dX7_down_92 rfl rfl ?_
          refine gx_iconst (q := 95) (v := nI 4) C dX7_down_94 (by decide) rfl ?_
          refine gn_icmp_ne (q := 98) (tgt := 107) C dX7_down_95 (by decide) rfl (by have := (k8 _ ht).1; omega) (by omega) (fun c95 => ?_) (fun c95 => by exfalso; omega)
          refine gx_iload (q := 109) C dX7_down_107 rfl rfl ?_
          refine gx_istore (q := 111) (lv' := [_, _, _, _, _, _]) C dX7_down_109 (Nat.le_of_ble_eq_true rfl) E.2.2.2.symm rfl rfl rfl ?_
          have hE : dnP T t (some z14) = some (rol T z53 4) := by simp [dnP, blow, roll, c20, c53, c70]
          have hi5 := rol_lt (T := T) hz5 4
          refine gx_aload_n (q := 112) C dX7_down_111 rfl rfl rfl ?_
          refine fg_X7_35 (q := 115) C hV.o rfl dX7_down_112 rfl ?_
          refine gx_iload (q := 117) C dX7_down_115 rfl rfl ?_
          refine gx_dup2 (q := 118) C dX7_down_117 rfl rfl rfl ?_
          refine mv_ld_lies (q := 119) C hV (hi5) dX7_down_118 rfl ?_
          refine gx_iload_n (q := 120) C dX7_down_119 rfl rfl rfl ?_
          refine gn_iadd (q := 121) C dX7_down_120 rfl ?_
          refine mv_st_lies (q := 122) C hV hF (hi5) dX7_down_121 rfl (fun M hV hF => ?_)
          exact gx_vret C E dX7_down_122 (by rw [dnL_s hE, dnO_s hE]; exact ⟨hV, hF⟩) (by omega) (by omega)
        · refine gx_iload (q := 75) C dX7_down_73 rfl rfl ?_
          refine gx_iconst (q := 76) (v := nI 4) C dX7_down_75 (by decide) rfl ?_
          refine gn_icmp_ne (q := 79) (tgt := 88) C dX7_down_76 (by decide) rfl (by have := (k8 _ ht).1; omega) (by omega) (fun c76 => ?_) (fun c76 => ?_)
          · refine gx_iload (q := 90) C dX7_down_88 rfl rfl ?_
            refine gx_istore (q := 92) (lv' := [_, _, _, _, _, _]) C dX7_down_90 (Nat.le_of_ble_eq_true rfl) E.2.2.2.symm rfl rfl rfl ?_
            refine gx_iload (q := 94) C dX7_down_92 rfl rfl ?_
            refine gx_iconst (q := 95) (v := nI 4) C dX7_down_94 (by decide) rfl ?_
            refine gn_icmp_ne (q := 98) (tgt := 107) C dX7_down_95 (by decide) rfl (by have := (k8 _ ht).1; omega) (by omega) (fun c95 => ?_) (fun c95 => by exfalso; omega)
            refine gx_iload (q := 109) C dX7_down_107 rfl rfl ?_
            refine gx_istore (q := 111) (lv' := [_, _, _, _, _, _]) C dX7_down_109 (Nat.le_of_ble_eq_true rfl) E.2.2.2.symm rfl rfl rfl ?_
            have hE : dnP T t (some z14) = some (z53) := by simp [dnP, blow, roll, c20, c53, c70, c76]
            have hi5 := hz5
            refine gx_aload_n (q := 112) C dX7_down_111 rfl rfl rfl ?_
            refine fg_X7_35 (q := 115) C hV.o rfl dX7_down_112 rfl ?_
            refine gx_iload (q := 117) C dX7_down_115 rfl rfl ?_
            refine gx_dup2 (q := 118) C dX7_down_117 rfl rfl rfl ?_
            refine mv_ld_lies (q := 119) C hV (hi5) dX7_down_118 rfl ?_
            refine gx_iload_n (q := 120) C dX7_down_119 rfl rfl rfl ?_
            refine gn_iadd (q := 121) C dX7_down_120 rfl ?_
            refine mv_st_lies (q := 122) C hV hF (hi5) dX7_down_121 rfl (fun M hV hF => ?_)
            exact gx_vret C E dX7_down_122 (by rw [dnL_s hE, dnO_s hE]; exact ⟨hV, hF⟩) (by omega) (by omega)
          · refine gx_aload_n (q := 80) C dX7_down_79 rfl rfl rfl ?_
            refine gx_iload (q := 82) C dX7_down_80 rfl rfl ?_
            refine gx_cp (q := 85) C E (sx_X7_114 (As := [_]) C hV.o rfl rfl dX7_down_82) (md_rolled _ _ _ _ z53 hz5 hV hk) kw_X7_rolled (by decide) (Nat.le_of_ble_eq_true rfl) (by omega) (by omega) dX7_down_82 rfl ?_
            refine gx_goto (tgt := 90) C dX7_down_85 (by decide) ?_
            refine gx_istore (q := 92) (lv' := [_, _, _, _, _, _]) C dX7_down_90 (Nat.le_of_ble_eq_true rfl) E.2.2.2.symm rfl rfl rfl ?_
            refine gx_iload (q := 94) C dX7_down_92 rfl rfl ?_
            refine gx_iconst (q := 95) (v := nI 4) C dX7_down_94 (by decide) rfl ?_
            refine gn_icmp_ne (q := 98) (tgt := 107) C dX7_down_95 (by decide) rfl (by have := (k8 _ ht).1; omega) (by omega) (fun c95 => by exfalso; omega) (fun c95 => ?_)
            refine gx_aload_n (q := 99) C dX7_down_98 rfl rfl rfl ?_
            refine gx_iload (q := 101) C dX7_down_99 rfl rfl ?_
            refine gx_cp (q := 104) C E (sx_X7_114 (As := [_]) C hV.o rfl rfl dX7_down_101) (md_rolled _ _ _ _ (rol T z53 4) (rol_lt hz5 4) hV hk) kw_X7_rolled (by decide) (Nat.le_of_ble_eq_true rfl) (by omega) (by omega) dX7_down_101 rfl ?_
            refine gx_goto (tgt := 109) C dX7_down_104 (by decide) ?_
            refine gx_istore (q := 111) (lv' := [_, _, _, _, _, _]) C dX7_down_109 (Nat.le_of_ble_eq_true rfl) E.2.2.2.symm rfl rfl rfl ?_
            have hE : dnP T t (some z14) = some (rol T (rol T z53 4) 4) := by simp [dnP, blow, roll, c20, c53, c70, c76]
            have hi5 := rol_lt (T := T) (rol_lt (T := T) hz5 4) 4
            refine gx_aload_n (q := 112) C dX7_down_111 rfl rfl rfl ?_
            refine fg_X7_35 (q := 115) C hV.o rfl dX7_down_112 rfl ?_
            refine gx_iload (q := 117) C dX7_down_115 rfl rfl ?_
            refine gx_dup2 (q := 118) C dX7_down_117 rfl rfl rfl ?_
            refine mv_ld_lies (q := 119) C hV (hi5) dX7_down_118 rfl ?_
            refine gx_iload_n (q := 120) C dX7_down_119 rfl rfl rfl ?_
            refine gn_iadd (q := 121) C dX7_down_120 rfl ?_
            refine mv_st_lies (q := 122) C hV hF (hi5) dX7_down_121 rfl (fun M hV hF => ?_)
            exact gx_vret C E dX7_down_122 (by rw [dnL_s hE, dnO_s hE]; exact ⟨hV, hF⟩) (by omega) (by omega)
      · have hE : dnP T t (some z14) = none := by simp [dnP, blow, c20, c53]
        refine gx_aload_n (q := 57) C dX7_down_56 rfl rfl rfl ?_
        refine gx_dup (q := 58) C dX7_down_57 rfl rfl ?_
        refine fg_X7_111 (q := 61) C hV.o rfl dX7_down_58 rfl ?_
        refine gx_iload_n (q := 62) C dX7_down_61 rfl rfl rfl ?_
        refine gn_iadd (q := 63) C dX7_down_62 rfl ?_
        refine mv_pf_lost (q := 66) C hV hF dX7_down_63 rfl (fun M hV hF => ?_)
        exact gx_vret C E dX7_down_66 (by rw [dnL_n hE, dnO_n hE]; exact ⟨hV, hF⟩) (by omega) (by omega)
    · have hz5 := hz
      refine gx_iload_n (q := 24) C dX7_down_23 rfl rfl rfl ?_
      refine gx_goto (tgt := 47) C dX7_down_24 (by decide) ?_
      refine gx_istore (q := 49) (lv' := [_, _, _, _, _, _]) C dX7_down_47 (Nat.le_of_ble_eq_true rfl) E.2.2.2.symm rfl rfl rfl ?_
      refine gx_iload (q := 51) C dX7_down_49 rfl rfl ?_
      refine gx_bipush (q := 53) (v := -9) C dX7_down_51 (by decide) rfl ?_
      refine gx_icmp_ne (q := 56) (tgt := 67) C dX7_down_53 (by decide) rfl (fun c53 => ?_) (fun c53 => by exfalso; exact nI_m9 (by omega) c53)
      refine gx_iload (q := 69) C dX7_down_67 rfl rfl ?_
      refine gx_iconst (q := 70) (v := nI 3) C dX7_down_69 (by decide) rfl ?_
      refine gn_icmp_eq (q := 73) (tgt := 79) C dX7_down_70 (by decide) rfl (by have := (k8 _ ht).1; omega) (by omega) (fun c70 => by exfalso; omega) (fun c70 => ?_)
      refine gx_iload (q := 75) C dX7_down_73 rfl rfl ?_
      refine gx_iconst (q := 76) (v := nI 4) C dX7_down_75 (by decide) rfl ?_
      refine gn_icmp_ne (q := 79) (tgt := 88) C dX7_down_76 (by decide) rfl (by have := (k8 _ ht).1; omega) (by omega) (fun c76 => ?_) (fun c76 => by exfalso; omega)
      refine gx_iload (q := 90) C dX7_down_88 rfl rfl ?_
      refine gx_istore (q := 92) (lv' := [_, _, _, _, _, _]) C dX7_down_90 (Nat.le_of_ble_eq_true rfl) E.2.2.2.symm rfl rfl rfl ?_
      refine gx_iload (q := 94) C dX7_down_92 rfl rfl ?_
      refine gx_iconst (q := 95) (v := nI 4) C dX7_down_94 (by decide) rfl ?_
      refine gn_icmp_ne (q := 98) (tgt := 107) C dX7_down_95 (by decide) rfl (by have := (k8 _ ht).1; omega) (by omega) (fun c95 => ?_) (fun c95 => by exfalso; omega)
      refine gx_iload (q := 109) C dX7_down_107 rfl rfl ?_
      refine gx_istore (q := 111) (lv' := [_, _, _, _, _, _]) C dX7_down_109 (Nat.le_of_ble_eq_true rfl) E.2.2.2.symm rfl rfl rfl ?_
      have hE : dnP T t (some z14) = some (z14) := by simp [dnP, blow, roll, c20]
      have hi5 := hz5
      refine gx_aload_n (q := 112) C dX7_down_111 rfl rfl rfl ?_
      refine fg_X7_35 (q := 115) C hV.o rfl dX7_down_112 rfl ?_
      refine gx_iload (q := 117) C dX7_down_115 rfl rfl ?_
      refine gx_dup2 (q := 118) C dX7_down_117 rfl rfl rfl ?_
      refine mv_ld_lies (q := 119) C hV (hi5) dX7_down_118 rfl ?_
      refine gx_iload_n (q := 120) C dX7_down_119 rfl rfl rfl ?_
      refine gn_iadd (q := 121) C dX7_down_120 rfl ?_
      refine mv_st_lies (q := 122) C hV hF (hi5) dX7_down_121 rfl (fun M hV hF => ?_)
      exact gx_vret C E dX7_down_122 (by rw [dnL_s hE, dnO_s hE]; exact ⟨hV, hF⟩) (by omega) (by omega)
set_option maxHeartbeats 4000000 in
theorem md_fall (l : Launch) (D : va_G) (b : Nat) (M0 : List va_E) {R T Ti Bf P F L Rw : Nat → Nat} {kp we : Bool} {td aa so lo ro : Nat} (s : Nat) (hs : s < 64) (hV : md_V D b M0 R T Ti Bf P F L Rw kp td aa we so lo ro) (hk : okT T) : fb_CT l D b yX7_fall cX7_fall 9 none 3 73 0 0 [.ref (b + 43), .int (nI s)] M0 (.returned none) (fun M' => md_V D b M' R T Ti Bf P F (mL T s (T 0) 0) Rw kp td aa we so (mO T s (T 0) 0) ro ∧ md_F M0 M') := by
  refine fb_start [some (.ref (b + 43)), some (.int (nI s)), none, none, none, none, none, none, none] (by decide) (Nat.le_of_ble_eq_true rfl) rfl ?_
  intro x hl hD hb C E hx
  subst hl hD hb
  have C : fb_OK x cX7_fall "FallsBetweenModel" "fall" := C
  have hF := md_F.rf M0
  obtain ⟨k0, k1, k2, k3, k4, k5, k6, k7, k8⟩ := id hk
  refine gx_aload_n (q := 1) C dX7_fall_0 rfl rfl rfl ?_
  refine gx_iconst (q := 2) (v := nI 0) C dX7_fall_1 (by decide) rfl ?_
  refine mv_pf_lost (q := 5) C hV hF dX7_fall_2 rfl (fun M hV hF => ?_)
  refine gx_iconst (q := 6) (v := nI 0) C dX7_fall_5 (by decide) rfl ?_
  refine gx_istore_n (q := 7) (lv' := [_, _, _, _, _, _, _, _, _]) C dX7_fall_6 rfl (Nat.le_of_ble_eq_true rfl) E.2.2.2.symm rfl rfl rfl ?_
  have Lz : ∀ i, i ≤ 36 → ∀ (M : List va_E) (L : Nat → Nat), md_V (cx_D x) (cx_b x) M R T Ti Bf P F L Rw kp td aa we so 0 ro → md_F M0 M → (∀ j, j < i → L j = 0) → fb_G x M 0 0 7 [some (.ref (cx_b x + 43)), some (.int (nI s)), some (.int (nI i)), none, none, none, none, none, none] [] := by
    refine fb_dn 36 ?_ ?_
    · intro M L hV hF hL
      have hV := hV.eqli (U := mL T s 0 0) (fun i hi => by rw [hL i hi, mL_0])
      have e0 := mO_0 T s
      refine gx_iload_n (q := 8) C dX7_fall_7 rfl rfl rfl ?_
      refine gx_bipush (q := 10) (v := nI 36) C dX7_fall_8 (by decide) rfl ?_
      refine gn_icmp_ge (q := 13) (tgt := 26) C dX7_fall_10 (by decide) rfl (by omega) (by omega) (fun c10 => ?_) (fun c10 => by exfalso; omega)
      refine gx_iconst (q := 27) (v := nI 0) C dX7_fall_26 (by decide) rfl ?_
      refine gx_istore_n (q := 28) (lv' := [_, _, _, _, _, _, _, _, _]) C dX7_fall_27 rfl (Nat.le_of_ble_eq_true rfl) E.2.2.2.symm rfl rfl rfl ?_
      have hV : md_V (cx_D x) (cx_b x) M R T Ti Bf P F (mL T s 0 0) Rw kp td aa we so (mO T s 0 0) ro := by rw [e0]; exact hV
      have Lt : ∀ t, t ≤ T 0 → ∀ M : List va_E, md_V (cx_D x) (cx_b x) M R T Ti Bf P F (mL T s t 0) Rw kp td aa we so (mO T s t 0) ro → md_F M0 M → fb_G x M 0 0 28 [some (.ref (cx_b x + 43)), some (.int (nI s)), some (.int (nI t)), none, none, none, none, none, none] [] := by
        refine fb_dn (T 0) ?_ ?_
        · intro M hV hF
          refine gx_iload_n (q := 29) C dX7_fall_28 rfl rfl rfl ?_
          refine gx_aload_n (q := 30) C dX7_fall_29 rfl rfl rfl ?_
          refine fg_X7_13 (q := 33) C hV.o rfl dX7_fall_30 rfl ?_
          refine gx_iconst (q := 34) (v := nI 0) C dX7_fall_33 (by decide) rfl ?_
          refine mv_ld_now (q := 35) C hV (by omega) dX7_fall_34 rfl ?_
          refine gn_icmp_ge (q := 38) (tgt := 213) C dX7_fall_35 (by decide) rfl (by omega) (by omega) (fun c35 => ?_) (fun c35 => by exfalso; omega)
          exact gx_vret C E dX7_fall_213 (⟨hV, hF⟩) (by omega) (by omega)
        · intro t ht ih M hV hF
          refine gx_iload_n (q := 29) C dX7_fall_28 rfl rfl rfl ?_
          refine gx_aload_n (q := 30) C dX7_fall_29 rfl rfl rfl ?_
          refine fg_X7_13 (q := 33) C hV.o rfl dX7_fall_30 rfl ?_
          refine gx_iconst (q := 34) (v := nI 0) C dX7_fall_33 (by decide) rfl ?_
          refine mv_ld_now (q := 35) C hV (by omega) dX7_fall_34 rfl ?_
          refine gn_icmp_ge (q := 38) (tgt := 213) C dX7_fall_35 (by decide) rfl (by omega) (by omega) (fun c35 => by exfalso; omega) (fun c35 => ?_)
          refine gx_aload_n (q := 39) C dX7_fall_38 rfl rfl rfl ?_
          refine fg_X7_13 (q := 42) C hV.o rfl dX7_fall_39 rfl ?_
          refine gx_bipush (q := 44) (v := nI 120) C dX7_fall_42 (by decide) rfl ?_
          refine gx_iload_n (q := 45) C dX7_fall_44 rfl rfl rfl ?_
          refine gn_iadd (q := 46) C dX7_fall_45 rfl ?_
          refine mv_ld_now (q := 47) C hV (by omega) dX7_fall_46 rfl ?_
          refine gx_istore_n (q := 48) (lv' := [_, _, _, _, _, _, _, _, _]) C dX7_fall_47 rfl (Nat.le_of_ble_eq_true rfl) E.2.2.2.symm rfl rfl rfl ?_
          refine gx_iload_n (q := 49) C dX7_fall_48 rfl rfl rfl ?_
          refine gx_iload_n (q := 50) C dX7_fall_49 rfl rfl rfl ?_
          refine gx_ishr (q := 51) C dX7_fall_50 rfl rfl ?_
          refine gx_iconst (q := 52) (v := nI 1) C dX7_fall_51 (by decide) rfl ?_
          refine gx_iand (q := 53) C dX7_fall_52 (bt_ok s hs t (by omega)) rfl ?_
          refine gx_aload_n (q := 54) C dX7_fall_53 rfl rfl rfl ?_
          refine fg_X7_13 (q := 57) C hV.o rfl dX7_fall_54 rfl ?_
          refine gx_sipush (q := 60) (v := nI 132) C dX7_fall_57 (by decide) rfl ?_
          refine gx_iload_n (q := 61) C dX7_fall_60 rfl rfl rfl ?_
          refine gn_iadd (q := 62) C dX7_fall_61 rfl ?_
          refine mv_ld_now (q := 63) C hV (by omega) dX7_fall_62 rfl ?_
          refine gn_imul (q := 64) C dX7_fall_63 rfl ?_
          refine gx_istore (q := 66) (lv' := [_, _, _, _, _, _, _, _, _]) C dX7_fall_64 (Nat.le_of_ble_eq_true rfl) E.2.2.2.symm rfl rfl rfl ?_
          have K1 : ∀ w0 : Nat, w0 = ten (T (120 + t)) (T (138 + t)) 0 → fb_G x M 0 0 91 [some (.ref (cx_b x + 43)), some (.int (nI s)), some (.int (nI t)), some (.int (nI (T (120 + t)))), some (.int (nI (bt s t * T (132 + t)))), none, none, none, none] [.int (nI w0)] := by
            intro w0 hw0
            refine gx_istore (q := 93) (lv' := [_, _, _, _, _, _, _, _, _]) C dX7_fall_91 (Nat.le_of_ble_eq_true rfl) E.2.2.2.symm rfl rfl rfl ?_
            have K2 : ∀ w1 : Nat, w1 = (if T (120 + t) = 1 ∨ T (120 + t) = 5 then 1 else if T (120 + t) = 2 then 0 else 2) → fb_G x M 0 0 117 [some (.ref (cx_b x + 43)), some (.int (nI s)), some (.int (nI t)), some (.int (nI (T (120 + t)))), some (.int (nI (bt s t * T (132 + t)))), some (.int (nI w0)), none, none, none] [.int (nI w1)] := by
              intro w1 hw1
              refine gx_istore (q := 119) (lv' := [_, _, _, _, _, _, _, _, _]) C dX7_fall_117 (Nat.le_of_ble_eq_true rfl) E.2.2.2.symm rfl rfl rfl ?_
              refine gx_aload_n (q := 120) C dX7_fall_119 rfl rfl rfl ?_
              refine gx_iload_n (q := 121) C dX7_fall_120 rfl rfl rfl ?_
              refine gx_aload_n (q := 122) C dX7_fall_121 rfl rfl rfl ?_
              refine fg_X7_13 (q := 125) C hV.o rfl dX7_fall_122 rfl ?_
              refine gx_bipush (q := 127) (v := nI 126) C dX7_fall_125 (by decide) rfl ?_
              refine gx_iload_n (q := 128) C dX7_fall_127 rfl rfl rfl ?_
              refine gn_iadd (q := 129) C dX7_fall_128 rfl ?_
              refine mv_ld_now (q := 130) C hV (by omega) dX7_fall_129 rfl ?_
              refine gx_iload (q := 132) C dX7_fall_130 rfl rfl ?_
              refine gx_iload (q := 134) C dX7_fall_132 rfl rfl ?_
              refine gn_imul (q := 135) C dX7_fall_134 rfl ?_
              refine gx_cv (q := 138) C E (sx_X7_117 (As := [_, _, _]) C hV.o rfl rfl dX7_fall_135) (md_down _ _ _ _ t _ (some (T (126 + t))) ht (fun z h => by cases h; exact (k8 _ ht).2.1) hV hk) kw_X7_down (by decide) (Nat.le_of_ble_eq_true rfl) rfl rfl (by omega) (by omega) dX7_fall_135 rfl (fun M r135 => ?_)
              obtain ⟨hV, hG⟩ := r135
              have hF := hF.tr hG
              have eL := mL_step (T := T) (s := s) (t := t) (p := 0) (r := some (T (126 + t))) (v := w0 * (bt s t * T (132 + t))) (by simp [st0]) (by rw [hw0, amt, Nat.mul_comm, Nat.mul_assoc])
              have eO := mO_step (T := T) (s := s) (t := t) (p := 0) (r := some (T (126 + t))) (v := w0 * (bt s t * T (132 + t))) (by simp [st0]) (by rw [hw0, amt, Nat.mul_comm, Nat.mul_assoc])
              rw [eL, eO] at hV
              refine gx_iconst (q := 139) (v := nI 0) C dX7_fall_138 (by decide) rfl ?_
              refine gx_istore (q := 141) (lv' := [_, _, _, _, _, _, _, _, _]) C dX7_fall_139 (Nat.le_of_ble_eq_true rfl) E.2.2.2.symm rfl rfl rfl ?_
              have Ls : ∀ i, i ≤ 4 → ∀ M : List va_E, md_V (cx_D x) (cx_b x) M R T Ti Bf P F (mL T s t (i + 1)) Rw kp td aa we so (mO T s t (i + 1)) ro → md_F M0 M → fb_G x M 0 0 141 [some (.ref (cx_b x + 43)), some (.int (nI s)), some (.int (nI t)), some (.int (nI (T (120 + t)))), some (.int (nI (bt s t * T (132 + t)))), some (.int (nI w0)), some (.int (nI w1)), some (.int (nI i)), none] [] := by
                refine fb_dn 4 ?_ ?_
                · intro M hV hF
                  rw [mL_next, mO_next] at hV
                  refine gx_iload (q := 143) C dX7_fall_141 rfl rfl ?_
                  refine gx_iconst (q := 144) (v := nI 4) C dX7_fall_143 (by decide) rfl ?_
                  refine gn_icmp_ge (q := 147) (tgt := 207) C dX7_fall_144 (by decide) rfl (by omega) (by omega) (fun c144 => ?_) (fun c144 => by exfalso; omega)
                  refine gn_inc (q := 210) (lv' := [_, _, _, _, _, _, _, _, _]) C dX7_fall_207 rfl E.2.2.2.symm rfl rfl rfl ?_
                  refine gx_goto (tgt := 28) C dX7_fall_210 (by decide) ?_
                  refine gx_drop 3 ?_
                  refine gx_drop 4 ?_
                  refine gx_drop 5 ?_
                  refine gx_drop 6 ?_
                  refine gx_drop 7 ?_
                  refine gx_drop 8 ?_
                  exact ih M hV hF
                · intro i hi ihs M hV hF
                  refine gx_iload (q := 143) C dX7_fall_141 rfl rfl ?_
                  refine gx_iconst (q := 144) (v := nI 4) C dX7_fall_143 (by decide) rfl ?_
                  refine gn_icmp_ge (q := 147) (tgt := 207) C dX7_fall_144 (by decide) rfl (by omega) (by omega) (fun c144 => by exfalso; omega) (fun c144 => ?_)
                  have K3 : ∀ w : Nat, w = ten (T (120 + t)) (T (138 + t)) (i + 1) → fb_G x M 0 0 174 [some (.ref (cx_b x + 43)), some (.int (nI s)), some (.int (nI t)), some (.int (nI (T (120 + t)))), some (.int (nI (bt s t * T (132 + t)))), some (.int (nI w0)), some (.int (nI w1)), some (.int (nI i)), none] [.int (nI w)] := by
                    intro w hw
                    refine gx_istore (q := 176) (lv' := [_, _, _, _, _, _, _, _, _]) C dX7_fall_174 (Nat.le_of_ble_eq_true rfl) E.2.2.2.symm rfl rfl rfl ?_
                    refine gx_aload_n (q := 177) C dX7_fall_176 rfl rfl rfl ?_
                    refine gx_iload_n (q := 178) C dX7_fall_177 rfl rfl rfl ?_
                    refine gx_aload_n (q := 179) C dX7_fall_178 rfl rfl rfl ?_
                    refine fg_X7_13 (q := 182) C hV.o rfl dX7_fall_179 rfl ?_
                    refine gx_bipush (q := 184) (v := nI 126) C dX7_fall_182 (by decide) rfl ?_
                    refine gx_iload_n (q := 185) C dX7_fall_184 rfl rfl rfl ?_
                    refine gn_iadd (q := 186) C dX7_fall_185 rfl ?_
                    refine mv_ld_now (q := 187) C hV (by omega) dX7_fall_186 rfl ?_
                    refine gx_iload (q := 189) C dX7_fall_187 rfl rfl ?_
                    refine gx_iconst (q := 190) (v := nI 1) C dX7_fall_189 (by decide) rfl ?_
                    refine gx_cp (q := 193) C E (sx_X7_99 (As := [_, _, _]) C rfl rfl dX7_fall_190) (md_beside _ _ _ _ (T (126 + t)) i 1 (k8 _ ht).2.1 (by omega) (by omega)) kw_X7_beside (by decide) (Nat.le_of_ble_eq_true rfl) (by omega) (by omega) dX7_fall_190 rfl ?_
                    refine gx_iload (q := 195) C dX7_fall_193 rfl rfl ?_
                    refine gx_iload (q := 197) C dX7_fall_195 rfl rfl ?_
                    refine gn_imul (q := 198) C dX7_fall_197 rfl ?_
                    refine gx_cv (q := 201) C E (sx_X7_117 (As := [_, _, _]) C hV.o rfl rfl dX7_fall_198) (md_down _ _ _ _ t _ (bes (T (126 + t)) i 1) ht (fun z h => bes_lt (k8 _ ht).2.1 h) hV hk) kw_X7_down (by decide) (Nat.le_of_ble_eq_true rfl) rfl rfl (by omega) (by omega) dX7_fall_198 rfl (fun M r198 => ?_)
                    obtain ⟨hV, hG⟩ := r198
                    have hF := hF.tr hG
                    have eL := mL_step (T := T) (s := s) (t := t) (p := i + 1) (r := bes (T (126 + t)) i 1) (v := w * (bt s t * T (132 + t))) (by simp [st0]) (by rw [hw, amt, Nat.mul_comm, Nat.mul_assoc])
                    have eO := mO_step (T := T) (s := s) (t := t) (p := i + 1) (r := bes (T (126 + t)) i 1) (v := w * (bt s t * T (132 + t))) (by simp [st0]) (by rw [hw, amt, Nat.mul_comm, Nat.mul_assoc])
                    rw [eL, eO] at hV
                    refine gn_inc (q := 204) (lv' := [_, _, _, _, _, _, _, _, _]) C dX7_fall_201 rfl E.2.2.2.symm rfl rfl rfl ?_
                    refine gx_goto (tgt := 141) C dX7_fall_204 (by decide) ?_
                    refine gx_drop 8 ?_
                    exact ihs M hV hF
                  refine gx_iload_n (q := 148) C dX7_fall_147 rfl rfl rfl ?_
                  refine gx_iconst (q := 149) (v := nI 2) C dX7_fall_148 (by decide) rfl ?_
                  refine gn_icmp_ne (q := 152) (tgt := 172) C dX7_fall_149 (by decide) rfl (by have := (k8 _ ht).1; omega) (by omega) (fun c149 => ?_) (fun c149 => ?_)
                  · have hX : w1 = ten (T (120 + t)) (T (138 + t)) (i + 1) := by rw [hw1]; simp [ten, c149]
                    refine gx_iload (q := 174) C dX7_fall_172 rfl rfl ?_
                    first | exact K3 _ hX | exact K3 6 hX
                  · refine gx_iload (q := 154) C dX7_fall_152 rfl rfl ?_
                    refine gx_aload_n (q := 155) C dX7_fall_154 rfl rfl rfl ?_
                    refine fg_X7_13 (q := 158) C hV.o rfl dX7_fall_155 rfl ?_
                    refine gx_sipush (q := 161) (v := nI 138) C dX7_fall_158 (by decide) rfl ?_
                    refine gx_iload_n (q := 162) C dX7_fall_161 rfl rfl rfl ?_
                    refine gn_iadd (q := 163) C dX7_fall_162 rfl ?_
                    refine mv_ld_now (q := 164) C hV (by omega) dX7_fall_163 rfl ?_
                    refine gn_icmp_ne (q := 167) (tgt := 172) C dX7_fall_164 (by decide) rfl (by omega) (by have := (k8 _ ht).2.2.2.2; omega) (fun c164 => ?_) (fun c164 => ?_)
                    · have hX : w1 = ten (T (120 + t)) (T (138 + t)) (i + 1) := by rw [hw1]; simp [ten, c149, c164]
                      refine gx_iload (q := 174) C dX7_fall_172 rfl rfl ?_
                      first | exact K3 _ hX | exact K3 6 hX
                    · have hX : 6 = ten (T (120 + t)) (T (138 + t)) (i + 1) := by simp [ten, c149, c164]
                      refine gx_bipush (q := 169) (v := nI 6) C dX7_fall_167 (by decide) rfl ?_
                      refine gx_goto (tgt := 174) C dX7_fall_169 (by decide) ?_
                      first | exact K3 _ hX | exact K3 6 hX
              refine gx_fewer ?_ (Ls 0 (by omega) M hV hF)
              intro j v h
              exact h
            refine gx_iload_n (q := 94) C dX7_fall_93 rfl rfl rfl ?_
            refine gx_iconst (q := 95) (v := nI 1) C dX7_fall_94 (by decide) rfl ?_
            refine gn_icmp_eq (q := 98) (tgt := 103) C dX7_fall_95 (by decide) rfl (by have := (k8 _ ht).1; omega) (by omega) (fun c95 => ?_) (fun c95 => ?_)
            · have hX : 1 = (if T (120 + t) = 1 ∨ T (120 + t) = 5 then 1 else if T (120 + t) = 2 then 0 else 2) := by simp [c95]
              refine gx_iconst (q := 104) (v := nI 1) C dX7_fall_103 (by decide) rfl ?_
              refine gx_goto (tgt := 117) C dX7_fall_104 (by decide) ?_
              first | exact K2 1 hX | exact K2 0 hX | exact K2 2 hX
            · refine gx_iload_n (q := 99) C dX7_fall_98 rfl rfl rfl ?_
              refine gx_iconst (q := 100) (v := nI 5) C dX7_fall_99 (by decide) rfl ?_
              refine gn_icmp_ne (q := 103) (tgt := 107) C dX7_fall_100 (by decide) rfl (by have := (k8 _ ht).1; omega) (by omega) (fun c100 => ?_) (fun c100 => ?_)
              · refine gx_iload_n (q := 108) C dX7_fall_107 rfl rfl rfl ?_
                refine gx_iconst (q := 109) (v := nI 2) C dX7_fall_108 (by decide) rfl ?_
                refine gn_icmp_ne (q := 112) (tgt := 116) C dX7_fall_109 (by decide) rfl (by have := (k8 _ ht).1; omega) (by omega) (fun c109 => ?_) (fun c109 => ?_)
                · have hX : 2 = (if T (120 + t) = 1 ∨ T (120 + t) = 5 then 1 else if T (120 + t) = 2 then 0 else 2) := by simp [c95, c100, c109]
                  refine gx_iconst (q := 117) (v := nI 2) C dX7_fall_116 (by decide) rfl ?_
                  first | exact K2 1 hX | exact K2 0 hX | exact K2 2 hX
                · have hX : 0 = (if T (120 + t) = 1 ∨ T (120 + t) = 5 then 1 else if T (120 + t) = 2 then 0 else 2) := by simp [c95, c100, c109]
                  refine gx_iconst (q := 113) (v := nI 0) C dX7_fall_112 (by decide) rfl ?_
                  refine gx_goto (tgt := 117) C dX7_fall_113 (by decide) ?_
                  first | exact K2 1 hX | exact K2 0 hX | exact K2 2 hX
              · have hX : 1 = (if T (120 + t) = 1 ∨ T (120 + t) = 5 then 1 else if T (120 + t) = 2 then 0 else 2) := by simp [c100]
                refine gx_iconst (q := 104) (v := nI 1) C dX7_fall_103 (by decide) rfl ?_
                refine gx_goto (tgt := 117) C dX7_fall_104 (by decide) ?_
                first | exact K2 1 hX | exact K2 0 hX | exact K2 2 hX
          refine gx_iload_n (q := 67) C dX7_fall_66 rfl rfl rfl ?_
          refine gx_iconst (q := 68) (v := nI 1) C dX7_fall_67 (by decide) rfl ?_
          refine gn_icmp_eq (q := 71) (tgt := 76) C dX7_fall_68 (by decide) rfl (by have := (k8 _ ht).1; omega) (by omega) (fun c68 => ?_) (fun c68 => ?_)
          · have hX : 6 = ten (T (120 + t)) (T (138 + t)) 0 := by simp [ten, c68]
            refine gx_bipush (q := 78) (v := nI 6) C dX7_fall_76 (by decide) rfl ?_
            refine gx_goto (tgt := 91) C dX7_fall_78 (by decide) ?_
            first | exact K1 6 hX | exact K1 4 hX | exact K1 2 hX
          · refine gx_iload_n (q := 72) C dX7_fall_71 rfl rfl rfl ?_
            refine gx_iconst (q := 73) (v := nI 5) C dX7_fall_72 (by decide) rfl ?_
            refine gn_icmp_ne (q := 76) (tgt := 81) C dX7_fall_73 (by decide) rfl (by have := (k8 _ ht).1; omega) (by omega) (fun c73 => ?_) (fun c73 => ?_)
            · refine gx_iload_n (q := 82) C dX7_fall_81 rfl rfl rfl ?_
              refine gx_iconst (q := 83) (v := nI 2) C dX7_fall_82 (by decide) rfl ?_
              refine gn_icmp_ne (q := 86) (tgt := 90) C dX7_fall_83 (by decide) rfl (by have := (k8 _ ht).1; omega) (by omega) (fun c83 => ?_) (fun c83 => ?_)
              · have hX : 2 = ten (T (120 + t)) (T (138 + t)) 0 := by simp [ten, c68, c73, c83]
                refine gx_iconst (q := 91) (v := nI 2) C dX7_fall_90 (by decide) rfl ?_
                first | exact K1 6 hX | exact K1 4 hX | exact K1 2 hX
              · have hX : 4 = ten (T (120 + t)) (T (138 + t)) 0 := by simp [ten, c68, c73, c83]
                refine gx_iconst (q := 87) (v := nI 4) C dX7_fall_86 (by decide) rfl ?_
                refine gx_goto (tgt := 91) C dX7_fall_87 (by decide) ?_
                first | exact K1 6 hX | exact K1 4 hX | exact K1 2 hX
            · have hX : 6 = ten (T (120 + t)) (T (138 + t)) 0 := by simp [ten, c73]
              refine gx_bipush (q := 78) (v := nI 6) C dX7_fall_76 (by decide) rfl ?_
              refine gx_goto (tgt := 91) C dX7_fall_78 (by decide) ?_
              first | exact K1 6 hX | exact K1 4 hX | exact K1 2 hX
      exact Lt 0 (by omega) M hV hF
    · intro i hi ih M L hV hF hL
      refine gx_iload_n (q := 8) C dX7_fall_7 rfl rfl rfl ?_
      refine gx_bipush (q := 10) (v := nI 36) C dX7_fall_8 (by decide) rfl ?_
      refine gn_icmp_ge (q := 13) (tgt := 26) C dX7_fall_10 (by decide) rfl (by omega) (by omega) (fun c10 => by exfalso; omega) (fun c10 => ?_)
      refine gx_aload_n (q := 14) C dX7_fall_13 rfl rfl rfl ?_
      refine fg_X7_35 (q := 17) C hV.o rfl dX7_fall_14 rfl ?_
      refine gx_iload_n (q := 18) C dX7_fall_17 rfl rfl rfl ?_
      refine gx_iconst (q := 19) (v := nI 0) C dX7_fall_18 (by decide) rfl ?_
      refine mv_st_lies (q := 20) C hV hF (by omega) dX7_fall_19 rfl (fun M hV hF => ?_)
      refine gn_inc (q := 23) (lv' := [_, _, _, _, _, _, _, _, _]) C dX7_fall_20 rfl E.2.2.2.symm rfl rfl rfl ?_
      refine gx_goto (tgt := 7) C dX7_fall_23 (by decide) ?_
      exact ih M _ hV hF (fun j hj => by by_cases e : j = i; rw [e, updN_s]; rw [updN_n _ e]; exact hL j (by omega))
  exact Lz 0 (by omega) M L hV hF (fun j hj => absurd hj (Nat.not_lt_zero j))
