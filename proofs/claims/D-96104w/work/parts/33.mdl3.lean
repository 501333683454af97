/-! the reference: corners, nobody's squares, what falls -/
set_option maxRecDepth 100000
def corN (T : Nat → Nat) (q : Nat) : Bool := oth T q (cor q 0 3) || oth T q (cor q 0 1) || oth T q (cor q 2 3) || oth T q (cor q 2 1)
theorem cor_up {q s : Nat} (h : q / 6 = 0) : cor q 0 s = none := by unfold cor; rw [show bes q 0 1 = none by simp [bes, h]]
theorem cor_dn {q s : Nat} (h : 6 ≤ q / 6 + 1) : cor q 2 s = none := by unfold cor; rw [show bes q 2 1 = none by simp [bes]; omega]
theorem cor_u {q s : Nat} (h : 0 < q / 6) : cor q 0 s = bes (q - 6) s 1 := by unfold cor; rw [show bes q 0 1 = some (q - 6) by simp [bes]; omega]
theorem cor_d {q s : Nat} (h : q / 6 + 1 < 6) : cor q 2 s = bes (q + 6) s 1 := by unfold cor; rw [show bes q 2 1 = some (q + 6) by simp [bes]; omega]
theorem cor_03n {q : Nat} (hr : 0 < q / 6) (h : q % 6 = 0) : cor q 0 3 = none := by rw [cor_u hr]; simp [bes]; omega
theorem cor_01n {q : Nat} (hr : 0 < q / 6) (h : 6 ≤ q % 6 + 1) : cor q 0 1 = none := by rw [cor_u hr]; simp [bes]; omega
theorem cor_23n {q : Nat} (hr : q / 6 + 1 < 6) (h : q % 6 = 0) : cor q 2 3 = none := by rw [cor_d hr]; simp [bes]; omega
theorem cor_21n {q : Nat} (hr : q / 6 + 1 < 6) (h : 6 ≤ q % 6 + 1) : cor q 2 1 = none := by rw [cor_d hr]; simp [bes]; omega
theorem cor_03s {q : Nat} (hr : 0 < q / 6) (h : 0 < q % 6) : cor q 0 3 = some (6 * (q / 6 - 1) + (q % 6 - 1)) := by rw [cor_u hr]; simp [bes]; omega
theorem cor_01s {q : Nat} (hr : 0 < q / 6) (h : q % 6 + 1 < 6) : cor q 0 1 = some (6 * (q / 6 - 1) + (q % 6 + 1)) := by rw [cor_u hr]; simp [bes]; omega
theorem cor_23s {q : Nat} (hr : q / 6 + 1 < 6) (h : 0 < q % 6) : cor q 2 3 = some (6 * (q / 6 + 1) + (q % 6 - 1)) := by rw [cor_d hr]; simp [bes]; omega
theorem cor_21s {q : Nat} (hr : q / 6 + 1 < 6) (h : q % 6 + 1 < 6) : cor q 2 1 = some (6 * (q / 6 + 1) + (q % 6 + 1)) := by rw [cor_d hr]; simp [bes]; omega
theorem nI_mz {a : Nat} (ha : a < 2 ^ 31) (h : nI a + (-1) < 0) : a = 0 := by
  rcases Nat.eq_zero_or_pos a with z | z
  · exact z
  · rw [sb_m1 z] at h
    exact absurd h (nI_pos (by omega))
theorem nI_mp {a : Nat} (h : ¬ nI a + (-1) < 0) : 0 < a := Nat.pos_of_ne_zero fun z => h (by rw [z]; decide)
set_option maxHeartbeats 4000000 in
theorem md_isOtherAtCorner (l : Launch) (D : va_G) (b : Nat) (M : List va_E) {R T Ti Bf P F L Rw : Nat → Nat} {kp we : Bool} {td aa so lo ro : Nat} (q : Nat) (hq : q < 36) (hV : md_V D b M R T Ti Bf P F L Rw kp td aa we so lo ro) (hk : okT T) : fb_CT l D b yX7_isOtherAtCorner cX7_isOtherAtCorner 7 (some .boolean) 0 0 0 0 [.ref (b + 43), .int (nI q)] M (.returned (some (.int (bI (corN T q))))) (fun M' => M' = M) := by
  refine fb_start [some (.ref (b + 43)), some (.int (nI q)), none, none, none, none, none] (by decide) (Nat.le_of_ble_eq_true rfl) rfl ?_
  intro x hl hD hb C E hx
  subst hl hD hb
  have C : fb_OK x cX7_isOtherAtCorner "FallsBetweenModel" "isOtherAtCorner" := C
  obtain ⟨k0, k1, k2, k3, k4, k5, k6, k7, k8⟩ := hk
  refine gx_iconst (q := 1) (v := bI false) C dX7_isOtherAtCorner_0 (by decide) rfl ?_
  refine gx_istore_n (q := 2) (lv' := [_, _, _, _, _, _, _]) C dX7_isOtherAtCorner_1 rfl (Nat.le_of_ble_eq_true rfl) E.2.2.2.symm rfl rfl rfl ?_
  refine gx_iconst (q := 3) (v := -1) C dX7_isOtherAtCorner_2 (by decide) rfl ?_
  refine gx_istore_n (q := 4) (lv' := [_, _, _, _, _, _, _]) C dX7_isOtherAtCorner_3 rfl (Nat.le_of_ble_eq_true rfl) E.2.2.2.symm rfl rfl rfl ?_
  refine gx_iload_n (q := 5) C dX7_isOtherAtCorner_4 rfl rfl rfl ?_
  refine gx_iconst (q := 6) (v := nI 2) C dX7_isOtherAtCorner_5 (by decide) rfl ?_
  refine gx_icmp_ge (q := 9) (tgt := 109) C dX7_isOtherAtCorner_6 (by decide) rfl (fun c6 => by exfalso; revert c6; decide) (fun c6 => ?_)
  refine gx_iconst (q := 10) (v := -1) C dX7_isOtherAtCorner_9 (by decide) rfl ?_
  refine gx_istore (q := 12) (lv' := [_, _, _, _, _, _, _]) C dX7_isOtherAtCorner_10 (Nat.le_of_ble_eq_true rfl) E.2.2.2.symm rfl rfl rfl ?_
  refine gx_iload (q := 14) C dX7_isOtherAtCorner_12 rfl rfl ?_
  refine gx_iconst (q := 15) (v := nI 2) C dX7_isOtherAtCorner_14 (by decide) rfl ?_
  refine gx_icmp_ge (q := 18) (tgt := 103) C dX7_isOtherAtCorner_15 (by decide) rfl (fun c15 => by exfalso; revert c15; decide) (fun c15 => ?_)
  have K0 : ∀ z : Bool, z = (false || oth T q (cor q 0 3)) → fb_G x M 0 0 97 [some (.ref (cx_b x + 43)), some (.int (nI q)), some (.int (bI z)), some (.int (-1)), some (.int (-1)), none, none] [] := by
    intro z1 hz1
    refine gx_iinc (q := 100) (v := nI 1) (lv' := [_, _, _, _, _, _, _]) C dX7_isOtherAtCorner_97 rfl E.2.2.2.symm (by decide) rfl rfl rfl ?_
    refine gx_goto (tgt := 12) C dX7_isOtherAtCorner_100 (by decide) ?_
    refine gx_iload (q := 14) C dX7_isOtherAtCorner_12 rfl rfl ?_
    refine gx_iconst (q := 15) (v := nI 2) C dX7_isOtherAtCorner_14 (by decide) rfl ?_
    refine gn_icmp_ge (q := 18) (tgt := 103) C dX7_isOtherAtCorner_15 (by decide) rfl (by omega) (by omega) (fun c15 => by exfalso; revert c15; decide) (fun c15 => ?_)
    have K1 : ∀ z : Bool, z = (z1 || oth T q (cor q 0 1)) → fb_G x M 0 0 97 [some (.ref (cx_b x + 43)), some (.int (nI q)), some (.int (bI z)), some (.int (-1)), some (.int (nI 1)), none, none] [] := by
      intro z2 hz2
      refine gx_iinc (q := 100) (v := nI 3) (lv' := [_, _, _, _, _, _, _]) C dX7_isOtherAtCorner_97 rfl E.2.2.2.symm (by decide) rfl rfl rfl ?_
      refine gx_goto (tgt := 12) C dX7_isOtherAtCorner_100 (by decide) ?_
      refine gx_iload (q := 14) C dX7_isOtherAtCorner_12 rfl rfl ?_
      refine gx_iconst (q := 15) (v := nI 2) C dX7_isOtherAtCorner_14 (by decide) rfl ?_
      refine gn_icmp_ge (q := 18) (tgt := 103) C dX7_isOtherAtCorner_15 (by decide) rfl (by omega) (by omega) (fun c15 => ?_) (fun c15 => by exfalso; revert c15; decide)
      refine gx_iinc (q := 106) (v := nI 1) (lv' := [_, _, _, _, _, _, _]) C dX7_isOtherAtCorner_103 rfl E.2.2.2.symm (by decide) rfl rfl rfl ?_
      refine gx_goto (tgt := 4) C dX7_isOtherAtCorner_106 (by decide) ?_
      refine gx_iload_n (q := 5) C dX7_isOtherAtCorner_4 rfl rfl rfl ?_
      refine gx_iconst (q := 6) (v := nI 2) C dX7_isOtherAtCorner_5 (by decide) rfl ?_
      refine gn_icmp_ge (q := 9) (tgt := 109) C dX7_isOtherAtCorner_6 (by decide) rfl (by omega) (by omega) (fun c6 => by exfalso; revert c6; decide) (fun c6 => ?_)
      refine gx_iconst (q := 10) (v := -1) C dX7_isOtherAtCorner_9 (by decide) rfl ?_
      refine gx_istore (q := 12) (lv' := [_, _, _, _, _, _, _]) C dX7_isOtherAtCorner_10 (Nat.le_of_ble_eq_true rfl) E.2.2.2.symm rfl rfl rfl ?_
      refine gx_iload (q := 14) C dX7_isOtherAtCorner_12 rfl rfl ?_
      refine gx_iconst (q := 15) (v := nI 2) C dX7_isOtherAtCorner_14 (by decide) rfl ?_
      refine gx_icmp_ge (q := 18) (tgt := 103) C dX7_isOtherAtCorner_15 (by decide) rfl (fun c15 => by exfalso; revert c15; decide) (fun c15 => ?_)
      have K2 : ∀ z : Bool, z = (z2 || oth T q (cor q 2 3)) → fb_G x M 0 0 97 [some (.ref (cx_b x + 43)), some (.int (nI q)), some (.int (bI z)), some (.int (nI 1)), some (.int (-1)), none, none] [] := by
        intro z3 hz3
        refine gx_iinc (q := 100) (v := nI 1) (lv' := [_, _, _, _, _, _, _]) C dX7_isOtherAtCorner_97 rfl E.2.2.2.symm (by decide) rfl rfl rfl ?_
        refine gx_goto (tgt := 12) C dX7_isOtherAtCorner_100 (by decide) ?_
        refine gx_iload (q := 14) C dX7_isOtherAtCorner_12 rfl rfl ?_
        refine gx_iconst (q := 15) (v := nI 2) C dX7_isOtherAtCorner_14 (by decide) rfl ?_
        refine gn_icmp_ge (q := 18) (tgt := 103) C dX7_isOtherAtCorner_15 (by decide) rfl (by omega) (by omega) (fun c15 => by exfalso; revert c15; decide) (fun c15 => ?_)
        have K3 : ∀ z : Bool, z = (z3 || oth T q (cor q 2 1)) → fb_G x M 0 0 97 [some (.ref (cx_b x + 43)), some (.int (nI q)), some (.int (bI z)), some (.int (nI 1)), some (.int (nI 1)), none, none] [] := by
          intro z4 hz4
          refine gx_iinc (q := 100) (v := nI 3) (lv' := [_, _, _, _, _, _, _]) C dX7_isOtherAtCorner_97 rfl E.2.2.2.symm (by decide) rfl rfl rfl ?_
          refine gx_goto (tgt := 12) C dX7_isOtherAtCorner_100 (by decide) ?_
          refine gx_iload (q := 14) C dX7_isOtherAtCorner_12 rfl rfl ?_
          refine gx_iconst (q := 15) (v := nI 2) C dX7_isOtherAtCorner_14 (by decide) rfl ?_
          refine gn_icmp_ge (q := 18) (tgt := 103) C dX7_isOtherAtCorner_15 (by decide) rfl (by omega) (by omega) (fun c15 => ?_) (fun c15 => by exfalso; revert c15; decide)
          refine gx_iinc (q := 106) (v := nI 3) (lv' := [_, _, _, _, _, _, _]) C dX7_isOtherAtCorner_103 rfl E.2.2.2.symm (by decide) rfl rfl rfl ?_
          refine gx_goto (tgt := 4) C dX7_isOtherAtCorner_106 (by decide) ?_
          refine gx_iload_n (q := 5) C dX7_isOtherAtCorner_4 rfl rfl rfl ?_
          refine gx_iconst (q := 6) (v := nI 2) C dX7_isOtherAtCorner_5 (by decide) rfl ?_
          refine gn_icmp_ge (q := 9) (tgt := 109) C dX7_isOtherAtCorner_6 (by decide) rfl (by omega) (by omega) (fun c6 => ?_) (fun c6 => by exfalso; revert c6; decide)
          refine gx_iload_n (q := 110) C dX7_isOtherAtCorner_109 rfl rfl rfl ?_
          exact gx_zretE C E (by rw [hz4, hz3, hz2, hz1]; simp [corN]) (bI_nar _) dX7_isOtherAtCorner_110 (rfl) (by omega) (by omega)
        refine gx_iload_n (q := 19) C dX7_isOtherAtCorner_18 rfl rfl rfl ?_
        refine gx_bipush (q := 21) (v := nI 6) C dX7_isOtherAtCorner_19 (by decide) rfl ?_
        refine gn_idiv (q := 22) C dX7_isOtherAtCorner_21 (by omega) (by omega) (by omega) rfl ?_
        refine gx_iload_n (q := 23) C dX7_isOtherAtCorner_22 rfl rfl rfl ?_
        refine gn_iadd (q := 24) C dX7_isOtherAtCorner_23 rfl ?_
        refine gx_istore (q := 26) (lv' := [_, _, _, _, _, _, _]) C dX7_isOtherAtCorner_24 (Nat.le_of_ble_eq_true rfl) E.2.2.2.symm rfl rfl rfl ?_
        refine gx_iload_n (q := 27) C dX7_isOtherAtCorner_26 rfl rfl rfl ?_
        refine gx_bipush (q := 29) (v := nI 6) C dX7_isOtherAtCorner_27 (by decide) rfl ?_
        refine gn_irem (q := 30) C dX7_isOtherAtCorner_29 (by omega) (by omega) (by omega) rfl ?_
        refine gx_iload (q := 32) C dX7_isOtherAtCorner_30 rfl rfl ?_
        refine gn_iadd (q := 33) C dX7_isOtherAtCorner_32 rfl ?_
        refine gx_istore (q := 35) (lv' := [_, _, _, _, _, _, _]) C dX7_isOtherAtCorner_33 (Nat.le_of_ble_eq_true rfl) E.2.2.2.symm rfl rfl rfl ?_
        refine gx_iload_n (q := 36) C dX7_isOtherAtCorner_35 rfl rfl rfl ?_
        refine gb_if_ne (q := 39) (tgt := 91) C dX7_isOtherAtCorner_36 (by decide) rfl (fun c36 => ?_) (fun c36 => ?_)
        · have hZ : true = (z3 || oth T q (cor q 2 1)) := by rw [c36]; rfl
          refine gx_iconst (q := 92) (v := nI 1) C dX7_isOtherAtCorner_91 (by decide) rfl ?_
          refine gx_goto (tgt := 96) C dX7_isOtherAtCorner_92 (by decide) ?_
          refine gx_istore_n (q := 97) (lv' := [_, _, _, _, _, _, _]) C dX7_isOtherAtCorner_96 rfl (Nat.le_of_ble_eq_true rfl) E.2.2.2.symm rfl rfl rfl ?_
          refine gx_drop 5 ?_
          refine gx_drop 6 ?_
          first | exact K3 true hZ | exact K3 false hZ
        · refine gx_iload (q := 41) C dX7_isOtherAtCorner_39 rfl rfl ?_
          refine gx_if_lt (q := 44) (tgt := 95) C dX7_isOtherAtCorner_41 (by decide) rfl (fun c41 => by exfalso; exact nI_pos (by omega) c41) (fun c41 => ?_)
          refine gx_iload (q := 46) C dX7_isOtherAtCorner_44 rfl rfl ?_
          refine gx_bipush (q := 48) (v := nI 6) C dX7_isOtherAtCorner_46 (by decide) rfl ?_
          refine gn_icmp_ge (q := 51) (tgt := 95) C dX7_isOtherAtCorner_48 (by decide) rfl (by omega) (by omega) (fun c48 => ?_) (fun c48 => ?_)
          · have hO : oth T q (cor q 2 1) = false := oth_n (cor_dn c48)
            have hZ : false = (z3 || oth T q (cor q 2 1)) := by rw [c36, hO]; rfl
            refine gx_iconst (q := 96) (v := nI 0) C dX7_isOtherAtCorner_95 (by decide) rfl ?_
            refine gx_istore_n (q := 97) (lv' := [_, _, _, _, _, _, _]) C dX7_isOtherAtCorner_96 rfl (Nat.le_of_ble_eq_true rfl) E.2.2.2.symm rfl rfl rfl ?_
            refine gx_drop 5 ?_
            refine gx_drop 6 ?_
            first | exact K3 true hZ | exact K3 false hZ
          · have hr := c48
            refine gx_iload (q := 53) C dX7_isOtherAtCorner_51 rfl rfl ?_
            refine gx_if_lt (q := 56) (tgt := 95) C dX7_isOtherAtCorner_53 (by decide) rfl (fun c53 => by exfalso; exact nI_pos (by omega) c53) (fun c53 => ?_)
            refine gx_iload (q := 58) C dX7_isOtherAtCorner_56 rfl rfl ?_
            refine gx_bipush (q := 60) (v := nI 6) C dX7_isOtherAtCorner_58 (by decide) rfl ?_
            refine gn_icmp_ge (q := 63) (tgt := 95) C dX7_isOtherAtCorner_60 (by decide) rfl (by omega) (by omega) (fun c60 => ?_) (fun c60 => ?_)
            · have hO : oth T q (cor q 2 1) = false := oth_n (cor_21n hr c60)
              have hZ : false = (z3 || oth T q (cor q 2 1)) := by rw [c36, hO]; rfl
              refine gx_iconst (q := 96) (v := nI 0) C dX7_isOtherAtCorner_95 (by decide) rfl ?_
              refine gx_istore_n (q := 97) (lv' := [_, _, _, _, _, _, _]) C dX7_isOtherAtCorner_96 rfl (Nat.le_of_ble_eq_true rfl) E.2.2.2.symm rfl rfl rfl ?_
              refine gx_drop 5 ?_
              refine gx_drop 6 ?_
              first | exact K3 true hZ | exact K3 false hZ
            · have hc := c60
              refine gx_aload_n (q := 64) C dX7_isOtherAtCorner_63 rfl rfl rfl ?_
              refine fg_X7_13 (q := 67) C hV.o rfl dX7_isOtherAtCorner_64 rfl ?_
              refine gx_bipush (q := 69) (v := nI 12) C dX7_isOtherAtCorner_67 (by decide) rfl ?_
              refine gx_bipush (q := 71) (v := nI 6) C dX7_isOtherAtCorner_69 (by decide) rfl ?_
              refine gx_iload (q := 73) C dX7_isOtherAtCorner_71 rfl rfl ?_
              refine gn_imul (q := 74) C dX7_isOtherAtCorner_73 rfl ?_
              refine gn_iadd (q := 75) C dX7_isOtherAtCorner_74 rfl ?_
              refine gx_iload (q := 77) C dX7_isOtherAtCorner_75 rfl rfl ?_
              refine gn_iadd (q := 78) C dX7_isOtherAtCorner_77 rfl ?_
              refine mv_ld_now (q := 79) C hV (by omega) dX7_isOtherAtCorner_78 rfl ?_
              refine gx_aload_n (q := 80) C dX7_isOtherAtCorner_79 rfl rfl rfl ?_
              refine fg_X7_13 (q := 83) C hV.o rfl dX7_isOtherAtCorner_80 rfl ?_
              refine gx_bipush (q := 85) (v := nI 12) C dX7_isOtherAtCorner_83 (by decide) rfl ?_
              refine gx_iload_n (q := 86) C dX7_isOtherAtCorner_85 rfl rfl rfl ?_
              refine gn_iadd (q := 87) C dX7_isOtherAtCorner_86 rfl ?_
              refine mv_ld_now (q := 88) C hV (by omega) dX7_isOtherAtCorner_87 rfl ?_
              refine gn_icmp_eq (q := 91) (tgt := 95) C dX7_isOtherAtCorner_88 (by decide) rfl (by have := k5 (6 * (q / 6 + 1) + (q % 6 + 1)) (by omega); rw [Nat.add_assoc]; omega) (by have := k5 _ hq; omega) (fun c88 => ?_) (fun c88 => ?_)
              · have hO : oth T q (cor q 2 1) = false := oth_e (cor_21s hr hc) (by rw [← Nat.add_assoc]; exact c88)
                have hZ : false = (z3 || oth T q (cor q 2 1)) := by rw [c36, hO]; rfl
                refine gx_iconst (q := 96) (v := nI 0) C dX7_isOtherAtCorner_95 (by decide) rfl ?_
                refine gx_istore_n (q := 97) (lv' := [_, _, _, _, _, _, _]) C dX7_isOtherAtCorner_96 rfl (Nat.le_of_ble_eq_true rfl) E.2.2.2.symm rfl rfl rfl ?_
                refine gx_drop 5 ?_
                refine gx_drop 6 ?_
                first | exact K3 true hZ | exact K3 false hZ
              · have hO : oth T q (cor q 2 1) = true := oth_d (cor_21s hr hc) (by rw [← Nat.add_assoc]; exact c88)
                have hZ : true = (z3 || oth T q (cor q 2 1)) := by rw [c36, hO]; rfl
                refine gx_iconst (q := 92) (v := nI 1) C dX7_isOtherAtCorner_91 (by decide) rfl ?_
                refine gx_goto (tgt := 96) C dX7_isOtherAtCorner_92 (by decide) ?_
                refine gx_istore_n (q := 97) (lv' := [_, _, _, _, _, _, _]) C dX7_isOtherAtCorner_96 rfl (Nat.le_of_ble_eq_true rfl) E.2.2.2.symm rfl rfl rfl ?_
                refine gx_drop 5 ?_
                refine gx_drop 6 ?_
                first | exact K3 true hZ | exact K3 false hZ
      refine gx_iload_n (q := 19) C dX7_isOtherAtCorner_18 rfl rfl rfl ?_
      refine gx_bipush (q := 21) (v := nI 6) C dX7_isOtherAtCorner_19 (by decide) rfl ?_
      refine gn_idiv (q := 22) C dX7_isOtherAtCorner_21 (by omega) (by omega) (by omega) rfl ?_
      refine gx_iload_n (q := 23) C dX7_isOtherAtCorner_22 rfl rfl rfl ?_
      refine gn_iadd (q := 24) C dX7_isOtherAtCorner_23 rfl ?_
      refine gx_istore (q := 26) (lv' := [_, _, _, _, _, _, _]) C dX7_isOtherAtCorner_24 (Nat.le_of_ble_eq_true rfl) E.2.2.2.symm rfl rfl rfl ?_
      refine gx_iload_n (q := 27) C dX7_isOtherAtCorner_26 rfl rfl rfl ?_
      refine gx_bipush (q := 29) (v := nI 6) C dX7_isOtherAtCorner_27 (by decide) rfl ?_
      refine gn_irem (q := 30) C dX7_isOtherAtCorner_29 (by omega) (by omega) (by omega) rfl ?_
      refine gx_iload (q := 32) C dX7_isOtherAtCorner_30 rfl rfl ?_
      refine gx_iadd (q := 33) C dX7_isOtherAtCorner_32 rfl rfl ?_
      refine gx_istore (q := 35) (lv' := [_, _, _, _, _, _, _]) C dX7_isOtherAtCorner_33 (Nat.le_of_ble_eq_true rfl) E.2.2.2.symm rfl rfl rfl ?_
      refine gx_iload_n (q := 36) C dX7_isOtherAtCorner_35 rfl rfl rfl ?_
      refine gb_if_ne (q := 39) (tgt := 91) C dX7_isOtherAtCorner_36 (by decide) rfl (fun c36 => ?_) (fun c36 => ?_)
      · have hZ : true = (z2 || oth T q (cor q 2 3)) := by rw [c36]; rfl
        refine gx_iconst (q := 92) (v := nI 1) C dX7_isOtherAtCorner_91 (by decide) rfl ?_
        refine gx_goto (tgt := 96) C dX7_isOtherAtCorner_92 (by decide) ?_
        refine gx_istore_n (q := 97) (lv' := [_, _, _, _, _, _, _]) C dX7_isOtherAtCorner_96 rfl (Nat.le_of_ble_eq_true rfl) E.2.2.2.symm rfl rfl rfl ?_
        refine gx_drop 5 ?_
        refine gx_drop 6 ?_
        first | exact K2 true hZ | exact K2 false hZ
      · refine gx_iload (q := 41) C dX7_isOtherAtCorner_39 rfl rfl ?_
        refine gx_if_lt (q := 44) (tgt := 95) C dX7_isOtherAtCorner_41 (by decide) rfl (fun c41 => by exfalso; exact nI_pos (by omega) c41) (fun c41 => ?_)
        refine gx_iload (q := 46) C dX7_isOtherAtCorner_44 rfl rfl ?_
        refine gx_bipush (q := 48) (v := nI 6) C dX7_isOtherAtCorner_46 (by decide) rfl ?_
        refine gn_icmp_ge (q := 51) (tgt := 95) C dX7_isOtherAtCorner_48 (by decide) rfl (by omega) (by omega) (fun c48 => ?_) (fun c48 => ?_)
        · have hO : oth T q (cor q 2 3) = false := oth_n (cor_dn c48)
          have hZ : false = (z2 || oth T q (cor q 2 3)) := by rw [c36, hO]; rfl
          refine gx_iconst (q := 96) (v := nI 0) C dX7_isOtherAtCorner_95 (by decide) rfl ?_
          refine gx_istore_n (q := 97) (lv' := [_, _, _, _, _, _, _]) C dX7_isOtherAtCorner_96 rfl (Nat.le_of_ble_eq_true rfl) E.2.2.2.symm rfl rfl rfl ?_
          refine gx_drop 5 ?_
          refine gx_drop 6 ?_
          first | exact K2 true hZ | exact K2 false hZ
        · have hr := c48
          refine gx_iload (q := 53) C dX7_isOtherAtCorner_51 rfl rfl ?_
          refine gx_if_lt (q := 56) (tgt := 95) C dX7_isOtherAtCorner_53 (by decide) rfl (fun c53 => ?_) (fun c53 => ?_)
          · have hO : oth T q (cor q 2 3) = false := oth_n (cor_23n hr (nI_mz (by omega) c53))
            have hZ : false = (z2 || oth T q (cor q 2 3)) := by rw [c36, hO]; rfl
            refine gx_iconst (q := 96) (v := nI 0) C dX7_isOtherAtCorner_95 (by decide) rfl ?_
            refine gx_istore_n (q := 97) (lv' := [_, _, _, _, _, _, _]) C dX7_isOtherAtCorner_96 rfl (Nat.le_of_ble_eq_true rfl) E.2.2.2.symm rfl rfl rfl ?_
            refine gx_drop 5 ?_
            refine gx_drop 6 ?_
            first | exact K2 true hZ | exact K2 false hZ
          · have hc := nI_mp c53
            rw [sb_m1 hc]
            refine gx_iload (q := 58) C dX7_isOtherAtCorner_56 rfl rfl ?_
            refine gx_bipush (q := 60) (v := nI 6) C dX7_isOtherAtCorner_58 (by decide) rfl ?_
            refine gn_icmp_ge (q := 63) (tgt := 95) C dX7_isOtherAtCorner_60 (by decide) rfl (by omega) (by omega) (fun c60 => by exfalso; omega) (fun c60 => ?_)
            refine gx_aload_n (q := 64) C dX7_isOtherAtCorner_63 rfl rfl rfl ?_
            refine fg_X7_13 (q := 67) C hV.o rfl dX7_isOtherAtCorner_64 rfl ?_
            refine gx_bipush (q := 69) (v := nI 12) C dX7_isOtherAtCorner_67 (by decide) rfl ?_
            refine gx_bipush (q := 71) (v := nI 6) C dX7_isOtherAtCorner_69 (by decide) rfl ?_
            refine gx_iload (q := 73) C dX7_isOtherAtCorner_71 rfl rfl ?_
            refine gn_imul (q := 74) C dX7_isOtherAtCorner_73 rfl ?_
            refine gn_iadd (q := 75) C dX7_isOtherAtCorner_74 rfl ?_
            refine gx_iload (q := 77) C dX7_isOtherAtCorner_75 rfl rfl ?_
            refine gn_iadd (q := 78) C dX7_isOtherAtCorner_77 rfl ?_
            refine mv_ld_now (q := 79) C hV (by omega) dX7_isOtherAtCorner_78 rfl ?_
            refine gx_aload_n (q := 80) C dX7_isOtherAtCorner_79 rfl rfl rfl ?_
            refine fg_X7_13 (q := 83) C hV.o rfl dX7_isOtherAtCorner_80 rfl ?_
            refine gx_bipush (q := 85) (v := nI 12) C dX7_isOtherAtCorner_83 (by decide) rfl ?_
            refine gx_iload_n (q := 86) C dX7_isOtherAtCorner_85 rfl rfl rfl ?_
            refine gn_iadd (q := 87) C dX7_isOtherAtCorner_86 rfl ?_
            refine mv_ld_now (q := 88) C hV (by omega) dX7_isOtherAtCorner_87 rfl ?_
            refine gn_icmp_eq (q := 91) (tgt := 95) C dX7_isOtherAtCorner_88 (by decide) rfl (by have := k5 (6 * (q / 6 + 1) + (q % 6 - 1)) (by omega); rw [Nat.add_assoc]; omega) (by have := k5 _ hq; omega) (fun c88 => ?_) (fun c88 => ?_)
            · have hO : oth T q (cor q 2 3) = false := oth_e (cor_23s hr hc) (by rw [← Nat.add_assoc]; exact c88)
              have hZ : false = (z2 || oth T q (cor q 2 3)) := by rw [c36, hO]; rfl
              refine gx_iconst (q := 96) (v := nI 0) C dX7_isOtherAtCorner_95 (by decide) rfl ?_
              refine gx_istore_n (q := 97) (lv' := [_, _, _, _, _, _, _]) C dX7_isOtherAtCorner_96 rfl (Nat.le_of_ble_eq_true rfl) E.2.2.2.symm rfl rfl rfl ?_
              refine gx_drop 5 ?_
              refine gx_drop 6 ?_
              first | exact K2 true hZ | exact K2 false hZ
            · have hO : oth T q (cor q 2 3) = true := oth_d (cor_23s hr hc) (by rw [← Nat.add_assoc]; exact c88)
              have hZ : true = (z2 || oth T q (cor q 2 3)) := by rw [c36, hO]; rfl
              refine gx_iconst (q := 92) (v := nI 1) C dX7_isOtherAtCorner_91 (by decide) rfl ?_
              refine gx_goto (tgt := 96) C dX7_isOtherAtCorner_92 (by decide) ?_
              refine gx_istore_n (q := 97) (lv' := [_, _, _, _, _, _, _]) C dX7_isOtherAtCorner_96 rfl (Nat.le_of_ble_eq_true rfl) E.2.2.2.symm rfl rfl rfl ?_
              refine gx_drop 5 ?_
              refine gx_drop 6 ?_
              first | exact K2 true hZ | exact K2 false hZ
    refine gx_iload_n (q := 19) C dX7_isOtherAtCorner_18 rfl rfl rfl ?_
    refine gx_bipush (q := 21) (v := nI 6) C dX7_isOtherAtCorner_19 (by decide) rfl ?_
    refine gn_idiv (q := 22) C dX7_isOtherAtCorner_21 (by omega) (by omega) (by omega) rfl ?_
    refine gx_iload_n (q := 23) C dX7_isOtherAtCorner_22 rfl rfl rfl ?_
    refine gx_iadd (q := 24) C dX7_isOtherAtCorner_23 rfl rfl ?_
    refine gx_istore (q := 26) (lv' := [_, _, _, _, _, _, _]) C dX7_isOtherAtCorner_24 (Nat.le_of_ble_eq_true rfl) E.2.2.2.symm rfl rfl rfl ?_
    refine gx_iload_n (q := 27) C dX7_isOtherAtCorner_26 rfl rfl rfl ?_
    refine gx_bipush (q := 29) (v := nI 6) C dX7_isOtherAtCorner_27 (by decide) rfl ?_
    refine gn_irem (q := 30) C dX7_isOtherAtCorner_29 (by omega) (by omega) (by omega) rfl ?_
    refine gx_iload (q := 32) C dX7_isOtherAtCorner_30 rfl rfl ?_
    refine gn_iadd (q := 33) C dX7_isOtherAtCorner_32 rfl ?_
    refine gx_istore (q := 35) (lv' := [_, _, _, _, _, _, _]) C dX7_isOtherAtCorner_33 (Nat.le_of_ble_eq_true rfl) E.2.2.2.symm rfl rfl rfl ?_
    refine gx_iload_n (q := 36) C dX7_isOtherAtCorner_35 rfl rfl rfl ?_
    refine gb_if_ne (q := 39) (tgt := 91) C dX7_isOtherAtCorner_36 (by decide) rfl (fun c36 => ?_) (fun c36 => ?_)
    · have hZ : true = (z1 || oth T q (cor q 0 1)) := by rw [c36]; rfl
      refine gx_iconst (q := 92) (v := nI 1) C dX7_isOtherAtCorner_91 (by decide) rfl ?_
      refine gx_goto (tgt := 96) C dX7_isOtherAtCorner_92 (by decide) ?_
      refine gx_istore_n (q := 97) (lv' := [_, _, _, _, _, _, _]) C dX7_isOtherAtCorner_96 rfl (Nat.le_of_ble_eq_true rfl) E.2.2.2.symm rfl rfl rfl ?_
      refine gx_drop 5 ?_
      refine gx_drop 6 ?_
      first | exact K1 true hZ | exact K1 false hZ
    · refine gx_iload (q := 41) C dX7_isOtherAtCorner_39 rfl rfl ?_
      refine gx_if_lt (q := 44) (tgt := 95) C dX7_isOtherAtCorner_41 (by decide) rfl (fun c41 => ?_) (fun c41 => ?_)
      · have hO : oth T q (cor q 0 1) = false := oth_n (cor_up (nI_mz (by omega) c41))
        have hZ : false = (z1 || oth T q (cor q 0 1)) := by rw [c36, hO]; rfl
        refine gx_iconst (q := 96) (v := nI 0) C dX7_isOtherAtCorner_95 (by decide) rfl ?_
        refine gx_istore_n (q := 97) (lv' := [_, _, _, _, _, _, _]) C dX7_isOtherAtCorner_96 rfl (Nat.le_of_ble_eq_true rfl) E.2.2.2.symm rfl rfl rfl ?_
        refine gx_drop 5 ?_
        refine gx_drop 6 ?_
        first | exact K1 true hZ | exact K1 false hZ
      · have hr := nI_mp c41
        rw [sb_m1 hr]
        refine gx_iload (q := 46) C dX7_isOtherAtCorner_44 rfl rfl ?_
        refine gx_bipush (q := 48) (v := nI 6) C dX7_isOtherAtCorner_46 (by decide) rfl ?_
        refine gn_icmp_ge (q := 51) (tgt := 95) C dX7_isOtherAtCorner_48 (by decide) rfl (by omega) (by omega) (fun c48 => by exfalso; omega) (fun c48 => ?_)
        refine gx_iload (q := 53) C dX7_isOtherAtCorner_51 rfl rfl ?_
        refine gx_if_lt (q := 56) (tgt := 95) C dX7_isOtherAtCorner_53 (by decide) rfl (fun c53 => by exfalso; exact nI_pos (by omega) c53) (fun c53 => ?_)
        refine gx_iload (q := 58) C dX7_isOtherAtCorner_56 rfl rfl ?_
        refine gx_bipush (q := 60) (v := nI 6) C dX7_isOtherAtCorner_58 (by decide) rfl ?_
        refine gn_icmp_ge (q := 63) (tgt := 95) C dX7_isOtherAtCorner_60 (by decide) rfl (by omega) (by omega) (fun c60 => ?_) (fun c60 => ?_)
        · have hO : oth T q (cor q 0 1) = false := oth_n (cor_01n hr c60)
          have hZ : false = (z1 || oth T q (cor q 0 1)) := by rw [c36, hO]; rfl
          refine gx_iconst (q := 96) (v := nI 0) C dX7_isOtherAtCorner_95 (by decide) rfl ?_
          refine gx_istore_n (q := 97) (lv' := [_, _, _, _, _, _, _]) C dX7_isOtherAtCorner_96 rfl (Nat.le_of_ble_eq_true rfl) E.2.2.2.symm rfl rfl rfl ?_
          refine gx_drop 5 ?_
          refine gx_drop 6 ?_
          first | exact K1 true hZ | exact K1 false hZ
        · have hc := c60
          refine gx_aload_n (q := 64) C dX7_isOtherAtCorner_63 rfl rfl rfl ?_
          refine fg_X7_13 (q := 67) C hV.o rfl dX7_isOtherAtCorner_64 rfl ?_
          refine gx_bipush (q := 69) (v := nI 12) C dX7_isOtherAtCorner_67 (by decide) rfl ?_
          refine gx_bipush (q := 71) (v := nI 6) C dX7_isOtherAtCorner_69 (by decide) rfl ?_
          refine gx_iload (q := 73) C dX7_isOtherAtCorner_71 rfl rfl ?_
          refine gn_imul (q := 74) C dX7_isOtherAtCorner_73 rfl ?_
          refine gn_iadd (q := 75) C dX7_isOtherAtCorner_74 rfl ?_
          refine gx_iload (q := 77) C dX7_isOtherAtCorner_75 rfl rfl ?_
          refine gn_iadd (q := 78) C dX7_isOtherAtCorner_77 rfl ?_
          refine mv_ld_now (q := 79) C hV (by omega) dX7_isOtherAtCorner_78 rfl ?_
          refine gx_aload_n (q := 80) C dX7_isOtherAtCorner_79 rfl rfl rfl ?_
          refine fg_X7_13 (q := 83) C hV.o rfl dX7_isOtherAtCorner_80 rfl ?_
          refine gx_bipush (q := 85) (v := nI 12) C dX7_isOtherAtCorner_83 (by decide) rfl ?_
          refine gx_iload_n (q := 86) C dX7_isOtherAtCorner_85 rfl rfl rfl ?_
          refine gn_iadd (q := 87) C dX7_isOtherAtCorner_86 rfl ?_
          refine mv_ld_now (q := 88) C hV (by omega) dX7_isOtherAtCorner_87 rfl ?_
          refine gn_icmp_eq (q := 91) (tgt := 95) C dX7_isOtherAtCorner_88 (by decide) rfl (by have := k5 (6 * (q / 6 - 1) + (q % 6 + 1)) (by omega); rw [Nat.add_assoc]; omega) (by have := k5 _ hq; omega) (fun c88 => ?_) (fun c88 => ?_)
          · have hO : oth T q (cor q 0 1) = false := oth_e (cor_01s hr hc) (by rw [← Nat.add_assoc]; exact c88)
            have hZ : false = (z1 || oth T q (cor q 0 1)) := by rw [c36, hO]; rfl
            refine gx_iconst (q := 96) (v := nI 0) C dX7_isOtherAtCorner_95 (by decide) rfl ?_
            refine gx_istore_n (q := 97) (lv' := [_, _, _, _, _, _, _]) C dX7_isOtherAtCorner_96 rfl (Nat.le_of_ble_eq_true rfl) E.2.2.2.symm rfl rfl rfl ?_
            refine gx_drop 5 ?_
            refine gx_drop 6 ?_
            first | exact K1 true hZ | exact K1 false hZ
          · have hO : oth T q (cor q 0 1) = true := oth_d (cor_01s hr hc) (by rw [← Nat.add_assoc]; exact c88)
            have hZ : true = (z1 || oth T q (cor q 0 1)) := by rw [c36, hO]; rfl
            refine gx_iconst (q := 92) (v := nI 1) C dX7_isOtherAtCorner_91 (by decide) rfl ?_
            refine gx_goto (tgt := 96) C dX7_isOtherAtCorner_92 (by decide) ?_
            refine gx_istore_n (q := 97) (lv' := [_, _, _, _, _, _, _]) C dX7_isOtherAtCorner_96 rfl (Nat.le_of_ble_eq_true rfl) E.2.2.2.symm rfl rfl rfl ?_
            refine gx_drop 5 ?_
            refine gx_drop 6 ?_
            first | exact K1 true hZ | exact K1 false hZ
  refine gx_iload_n (q := 19) C dX7_isOtherAtCorner_18 rfl rfl rfl ?_
  refine gx_bipush (q := 21) (v := nI 6) C dX7_isOtherAtCorner_19 (by decide) rfl ?_
  refine gn_idiv (q := 22) C dX7_isOtherAtCorner_21 (by omega) (by omega) (by omega) rfl ?_
  refine gx_iload_n (q := 23) C dX7_isOtherAtCorner_22 rfl rfl rfl ?_
  refine gx_iadd (q := 24) C dX7_isOtherAtCorner_23 rfl rfl ?_
  refine gx_istore (q := 26) (lv' := [_, _, _, _, _, _, _]) C dX7_isOtherAtCorner_24 (Nat.le_of_ble_eq_true rfl) E.2.2.2.symm rfl rfl rfl ?_
  refine gx_iload_n (q := 27) C dX7_isOtherAtCorner_26 rfl rfl rfl ?_
  refine gx_bipush (q := 29) (v := nI 6) C dX7_isOtherAtCorner_27 (by decide) rfl ?_
  refine gn_irem (q := 30) C dX7_isOtherAtCorner_29 (by omega) (by omega) (by omega) rfl ?_
  refine gx_iload (q := 32) C dX7_isOtherAtCorner_30 rfl rfl ?_
  refine gx_iadd (q := 33) C dX7_isOtherAtCorner_32 rfl rfl ?_
  refine gx_istore (q := 35) (lv' := [_, _, _, _, _, _, _]) C dX7_isOtherAtCorner_33 (Nat.le_of_ble_eq_true rfl) E.2.2.2.symm rfl rfl rfl ?_
  refine gx_iload_n (q := 36) C dX7_isOtherAtCorner_35 rfl rfl rfl ?_
  refine gb_if_ne (q := 39) (tgt := 91) C dX7_isOtherAtCorner_36 (by decide) rfl (fun c36 => ?_) (fun c36 => ?_)
  · have hZ : true = (false || oth T q (cor q 0 3)) := by rw [c36]; rfl
    refine gx_iconst (q := 92) (v := nI 1) C dX7_isOtherAtCorner_91 (by decide) rfl ?_
    refine gx_goto (tgt := 96) C dX7_isOtherAtCorner_92 (by decide) ?_
    refine gx_istore_n (q := 97) (lv' := [_, _, _, _, _, _, _]) C dX7_isOtherAtCorner_96 rfl (Nat.le_of_ble_eq_true rfl) E.2.2.2.symm rfl rfl rfl ?_
    refine gx_drop 5 ?_
    refine gx_drop 6 ?_
    first | exact K0 true hZ | exact K0 false hZ
  · refine gx_iload (q := 41) C dX7_isOtherAtCorner_39 rfl rfl ?_
    refine gx_if_lt (q := 44) (tgt := 95) C dX7_isOtherAtCorner_41 (by decide) rfl (fun c41 => ?_) (fun c41 => ?_)
    · have hO : oth T q (cor q 0 3) = false := oth_n (cor_up (nI_mz (by omega) c41))
      have hZ : false = (false || oth T q (cor q 0 3)) := by rw [c36, hO]; rfl
      refine gx_iconst (q := 96) (v := nI 0) C dX7_isOtherAtCorner_95 (by decide) rfl ?_
      refine gx_istore_n (q := 97) (lv' := [_, _, _, _, _, _, _]) C dX7_isOtherAtCorner_96 rfl (Nat.le_of_ble_eq_true rfl) E.2.2.2.symm rfl rfl rfl ?_
      refine gx_drop 5 ?_
      refine gx_drop 6 ?_
      first | exact K0 true hZ | exact K0 false hZ
    · have hr := nI_mp c41
      rw [sb_m1 hr]
      refine gx_iload (q := 46) C dX7_isOtherAtCorner_44 rfl rfl ?_
      refine gx_bipush (q := 48) (v := nI 6) C dX7_isOtherAtCorner_46 (by decide) rfl ?_
      refine gn_icmp_ge (q := 51) (tgt := 95) C dX7_isOtherAtCorner_48 (by decide) rfl (by omega) (by omega) (fun c48 => by exfalso; omega) (fun c48 => ?_)
      refine gx_iload (q := 53) C dX7_isOtherAtCorner_51 rfl rfl ?_
      refine gx_if_lt (q := 56) (tgt := 95) C dX7_isOtherAtCorner_53 (by decide) rfl (fun c53 => ?_) (fun c53 => ?_)
      · have hO : oth T q (cor q 0 3) = false := oth_n (cor_03n hr (nI_mz (by omega) c53))
        have hZ : false = (false || oth T q (cor q 0 3)) := by rw [c36, hO]; rfl
        refine gx_iconst (q := 96) (v := nI 0) C dX7_isOtherAtCorner_95 (by decide) rfl ?_
        refine gx_istore_n (q := 97) (lv' := [_, _, _, _, _, _, _]) C dX7_isOtherAtCorner_96 rfl (Nat.le_of_ble_eq_true rfl) E.2.2.2.symm rfl rfl rfl ?_
        refine gx_drop 5 ?_
        refine gx_drop 6 ?_
        first | exact K0 true hZ | exact K0 false hZ
      · have hc := nI_mp c53
        rw [sb_m1 hc]
        refine gx_iload (q := 58) C dX7_isOtherAtCorner_56 rfl rfl ?_
        refine gx_bipush (q := 60) (v := nI 6) C dX7_isOtherAtCorner_58 (by decide) rfl ?_
        refine gn_icmp_ge (q := 63) (tgt := 95) C dX7_isOtherAtCorner_60 (by decide) rfl (by omega) (by omega) (fun c60 => by exfalso; omega) (fun c60 => ?_)
        refine gx_aload_n (q := 64) C dX7_isOtherAtCorner_63 rfl rfl rfl ?_
        refine fg_X7_13 (q := 67) C hV.o rfl dX7_isOtherAtCorner_64 rfl ?_
        refine gx_bipush (q := 69) (v := nI 12) C dX7_isOtherAtCorner_67 (by decide) rfl ?_
        refine gx_bipush (q := 71) (v := nI 6) C dX7_isOtherAtCorner_69 (by decide) rfl ?_
        refine gx_iload (q := 73) C dX7_isOtherAtCorner_71 rfl rfl ?_
        refine gn_imul (q := 74) C dX7_isOtherAtCorner_73 rfl ?_
        refine gn_iadd (q := 75) C dX7_isOtherAtCorner_74 rfl ?_
        refine gx_iload (q := 77) C dX7_isOtherAtCorner_75 rfl rfl ?_
        refine gn_iadd (q := 78) C dX7_isOtherAtCorner_77 rfl ?_
        refine mv_ld_now (q := 79) C hV (by omega) dX7_isOtherAtCorner_78 rfl ?_
        refine gx_aload_n (q := 80) C dX7_isOtherAtCorner_79 rfl rfl rfl ?_
        refine fg_X7_13 (q := 83) C hV.o rfl dX7_isOtherAtCorner_80 rfl ?_
        refine gx_bipush (q := 85) (v := nI 12) C dX7_isOtherAtCorner_83 (by decide) rfl ?_
        refine gx_iload_n (q := 86) C dX7_isOtherAtCorner_85 rfl rfl rfl ?_
        refine gn_iadd (q := 87) C dX7_isOtherAtCorner_86 rfl ?_
        refine mv_ld_now (q := 88) C hV (by omega) dX7_isOtherAtCorner_87 rfl ?_
        refine gn_icmp_eq (q := 91) (tgt := 95) C dX7_isOtherAtCorner_88 (by decide) rfl (by have := k5 (6 * (q / 6 - 1) + (q % 6 - 1)) (by omega); rw [Nat.add_assoc]; omega) (by have := k5 _ hq; omega) (fun c88 => ?_) (fun c88 => ?_)
        · have hO : oth T q (cor q 0 3) = false := oth_e (cor_03s hr hc) (by rw [← Nat.add_assoc]; exact c88)
          have hZ : false = (false || oth T q (cor q 0 3)) := by rw [c36, hO]; rfl
          refine gx_iconst (q := 96) (v := nI 0) C dX7_isOtherAtCorner_95 (by decide) rfl ?_
          refine gx_istore_n (q := 97) (lv' := [_, _, _, _, _, _, _]) C dX7_isOtherAtCorner_96 rfl (Nat.le_of_ble_eq_true rfl) E.2.2.2.symm rfl rfl rfl ?_
          refine gx_drop 5 ?_
          refine gx_drop 6 ?_
          first | exact K0 true hZ | exact K0 false hZ
        · have hO : oth T q (cor q 0 3) = true := oth_d (cor_03s hr hc) (by rw [← Nat.add_assoc]; exact c88)
          have hZ : true = (false || oth T q (cor q 0 3)) := by rw [c36, hO]; rfl
          refine gx_iconst (q := 92) (v := nI 1) C dX7_isOtherAtCorner_91 (by decide) rfl ?_
          refine gx_goto (tgt := 96) C dX7_isOtherAtCorner_92 (by decide) ?_
          refine gx_istore_n (q := 97) (lv' := [_, _, _, _, _, _, _]) C dX7_isOtherAtCorner_96 rfl (Nat.le_of_ble_eq_true rfl) E.2.2.2.symm rfl rfl rfl ?_
          refine gx_drop 5 ?_
          refine gx_drop 6 ?_
          first | exact K0 true hZ | exact K0 false hZ
def upto (T : Nat → Nat) (q : Nat) : Nat → Bool
  | 0 => false
  | n + 1 => upto T q n || oth T q (bes q n 1)
theorem nob_0 {T : Nat → Nat} {q : Nat} (h : T 2 = 0) : nob T q = false := by simp [nob, lawN, h]
theorem nob_n {T : Nat → Nat} {q : Nat} (h : T (84 + q) = 1) : nob T q = false := by simp [nob, h]
theorem nob_12 {T : Nat → Nat} {q : Nat} {z a : Bool} (h0 : 0 < T 2) (h2 : T 2 ≤ 2) (hn : ¬ T (84 + q) = 1) (hm : T (84 + q) ≤ 1) (hz : z = (decide (T 2 = 2) && corN T q)) (ha : a = (z || upto T q 4)) : a = nob T q := by
  have h3 : T (84 + q) = 0 := by omega
  rcases (by omega : T 2 = 1 ∨ T 2 = 2) with h | h
  · rw [ha, hz]; simp [nob, lawN, h, h3, upto]
  · rw [ha, hz]; simp [nob, lawN, h, h3, upto, corN, Bool.or_comm, Bool.or_left_comm, Bool.or_assoc]
theorem nob_3o {T : Nat → Nat} {q : Nat} (h2 : 2 < T 2) (hx : oth T q (bes q 2 1) = false) : nob T q = false := by
  simp [nob, lawN, hx, show ¬ T 2 = 0 by omega, show ¬ T 2 = 1 by omega, show ¬ T 2 = 2 by omega]
theorem nob_3 {T : Nat → Nat} {q : Nat} (h2 : T 2 = 3) (hn : ¬ T (84 + q) = 1) (hm : T (84 + q) ≤ 1) (hx : oth T q (bes q 2 1) = true) : nob T q = true := by
  simp [nob, lawN, hx, h2, show T (84 + q) = 0 by omega]
theorem nob_4 {T : Nat → Nat} {q : Nat} {z : Nat} (h2 : 2 < T 2) (h3 : ¬ T 2 = 3) (hn : ¬ T (84 + q) = 1) (hm : T (84 + q) ≤ 1) (hx : oth T q (bes q 2 1) = true) (hz : bes q 2 1 = some z) : nob T q = decide (T (48 + z) < T (48 + q)) := by
  unfold nob lawN low
  rw [if_neg (by omega), if_neg (by omega), if_neg (by omega), if_neg h3, hx, hz]
  simp [show T (84 + q) = 0 by omega]
theorem oth_z {T : Nat → Nat} {q : Nat} {r : Option Nat} (h : oth T q r = true) : ∃ z, r = some z := by
  cases r with
  | none => cases h
  | some z => exact ⟨z, rfl⟩
set_option maxHeartbeats 4000000 in
theorem md_isNobodys (l : Launch) (D : va_G) (b : Nat) (M : List va_E) {R T Ti Bf P F L Rw : Nat → Nat} {kp we : Bool} {td aa so lo ro : Nat} (q : Nat) (hq : q < 36) (hV : md_V D b M R T Ti Bf P F L Rw kp td aa we so lo ro) (hk : okT T) : fb_CT l D b yX7_isNobodys cX7_isNobodys 5 (some .boolean) 2 47 0 0 [.ref (b + 43), .int (nI q)] M (.returned (some (.int (bI (nob T q))))) (fun M' => M' = M) := by
  refine fb_start [some (.ref (b + 43)), some (.int (nI q)), none, none, none] (by decide) (Nat.le_of_ble_eq_true rfl) rfl ?_
  intro x hl hD hb C E hx
  subst hl hD hb
  have C : fb_OK x cX7_isNobodys "FallsBetweenModel" "isNobodys" := C
  obtain ⟨k0, k1, k2, k3, k4, k5, k6, k7, k8⟩ := id hk
  refine gx_aload_n (q := 1) C dX7_isNobodys_0 rfl rfl rfl ?_
  refine fg_X7_13 (q := 4) C hV.o rfl dX7_isNobodys_1 rfl ?_
  refine gx_iconst (q := 5) (v := nI 2) C dX7_isNobodys_4 (by decide) rfl ?_
  refine mv_ld_now (q := 6) C hV (by omega) dX7_isNobodys_5 rfl ?_
  refine gx_istore_n (q := 7) (lv' := [_, _, _, _, _]) C dX7_isNobodys_6 rfl (Nat.le_of_ble_eq_true rfl) E.2.2.2.symm rfl rfl rfl ?_
  refine gx_iload_n (q := 8) C dX7_isNobodys_7 rfl rfl rfl ?_
  refine gn_if_eq (q := 11) (tgt := 24) C dX7_isNobodys_8 (by decide) rfl (by omega) (fun c8 => ?_) (fun c8 => ?_)
  · refine gx_iconst (q := 25) (v := nI 0) C dX7_isNobodys_24 (by decide) rfl ?_
    exact gx_zretE C E (by first | exact (congrArg bI (nob_0 c8)).symm | exact (congrArg bI (nob_n c21)).symm) (bI_nar _) dX7_isNobodys_25 (rfl) (by omega) (by omega)
  · refine gx_aload_n (q := 12) C dX7_isNobodys_11 rfl rfl rfl ?_
    refine fg_X7_13 (q := 15) C hV.o rfl dX7_isNobodys_12 rfl ?_
    refine gx_bipush (q := 17) (v := nI 84) C dX7_isNobodys_15 (by decide) rfl ?_
    refine gx_iload_n (q := 18) C dX7_isNobodys_17 rfl rfl rfl ?_
    refine gn_iadd (q := 19) C dX7_isNobodys_18 rfl ?_
    refine mv_ld_now (q := 20) C hV (by omega) dX7_isNobodys_19 rfl ?_
    refine gx_iconst (q := 21) (v := nI 1) C dX7_isNobodys_20 (by decide) rfl ?_
    refine gn_icmp_ne (q := 24) (tgt := 26) C dX7_isNobodys_21 (by decide) rfl (by have := k7 _ hq; omega) (by omega) (fun c21 => ?_) (fun c21 => ?_)
    · refine gx_iload_n (q := 27) C dX7_isNobodys_26 rfl rfl rfl ?_
      refine gx_iconst (q := 28) (v := nI 2) C dX7_isNobodys_27 (by decide) rfl ?_
      refine gn_icmp_le (q := 31) (tgt := 77) C dX7_isNobodys_28 (by decide) rfl (by omega) (by omega) (fun c28 => ?_) (fun c28 => ?_)
      · have K : ∀ z0 : Bool, z0 = (decide (T 2 = 2) && corN T q) → fb_G x M 0 0 95 [some (.ref (cx_b x + 43)), some (.int (nI q)), some (.int (nI (T 2))), none, none] [.int (bI z0)] := by
          intro z0 hz0
          refine gx_istore_n (q := 96) (lv' := [_, _, _, _, _]) C dX7_isNobodys_95 rfl (Nat.le_of_ble_eq_true rfl) E.2.2.2.symm rfl rfl rfl ?_
          refine gx_iconst (q := 97) (v := nI 0) C dX7_isNobodys_96 (by decide) rfl ?_
          refine gx_istore (q := 99) (lv' := [_, _, _, _, _]) C dX7_isNobodys_97 (Nat.le_of_ble_eq_true rfl) E.2.2.2.symm rfl rfl rfl ?_
          have Lp : ∀ i, i ≤ 4 → ∀ a : Bool, a = (z0 || upto T q i) → fb_G x M 0 0 99 [some (.ref (cx_b x + 43)), some (.int (nI q)), some (.int (nI (T 2))), some (.int (bI a)), some (.int (nI i))] [] := by
            refine fb_dn 4 ?_ ?_
            · intro a ha
              refine gx_iload (q := 101) C dX7_isNobodys_99 rfl rfl ?_
              refine gx_iconst (q := 102) (v := nI 4) C dX7_isNobodys_101 (by decide) rfl ?_
              refine gn_icmp_ge (q := 105) (tgt := 131) C dX7_isNobodys_102 (by decide) rfl (by omega) (by omega) (fun c102 => ?_) (fun c102 => by exfalso; omega)
              refine gx_iload_n (q := 132) C dX7_isNobodys_131 rfl rfl rfl ?_
              exact gx_zretE C E (congrArg bI (nob_12 c8 c28 c21 (k7 _ hq) hz0 ha)) (bI_nar _) dX7_isNobodys_132 (rfl) (by omega) (by omega)
            · intro i hi ih a ha
              refine gx_iload (q := 101) C dX7_isNobodys_99 rfl rfl ?_
              refine gx_iconst (q := 102) (v := nI 4) C dX7_isNobodys_101 (by decide) rfl ?_
              refine gn_icmp_ge (q := 105) (tgt := 131) C dX7_isNobodys_102 (by decide) rfl (by omega) (by omega) (fun c102 => by exfalso; omega) (fun c102 => ?_)
              refine gx_iload_n (q := 106) C dX7_isNobodys_105 rfl rfl rfl ?_
              refine gb_if_ne (q := 109) (tgt := 119) C dX7_isNobodys_106 (by decide) rfl (fun c106 => ?_) (fun c106 => ?_)
              · have hZ : true = (z0 || upto T q (i + 1)) := by rw [upto, ← Bool.or_assoc, ← ha, c106]; rfl
                refine gx_iconst (q := 120) (v := nI 1) C dX7_isNobodys_119 (by decide) rfl ?_
                refine gx_goto (tgt := 124) C dX7_isNobodys_120 (by decide) ?_
                refine gx_istore_n (q := 125) (lv' := [_, _, _, _, _]) C dX7_isNobodys_124 rfl (Nat.le_of_ble_eq_true rfl) E.2.2.2.symm rfl rfl rfl ?_
                refine gn_inc (q := 128) (lv' := [_, _, _, _, _]) C dX7_isNobodys_125 rfl E.2.2.2.symm rfl rfl rfl ?_
                refine gx_goto (tgt := 99) C dX7_isNobodys_128 (by decide) ?_
                first | exact ih true hZ | exact ih false hZ
              · refine gx_aload_n (q := 110) C dX7_isNobodys_109 rfl rfl rfl ?_
                refine gx_iload_n (q := 111) C dX7_isNobodys_110 rfl rfl rfl ?_
                refine gx_iload (q := 113) C dX7_isNobodys_111 rfl rfl ?_
                refine gx_cp (q := 116) C E (sx_X7_103 (As := [_, _]) C hV.o rfl rfl dX7_isNobodys_113) (md_isOtherBeside _ _ _ _ q i hq (by omega) hV hk) kw_X7_isOtherBeside (by decide) (Nat.le_of_ble_eq_true rfl) (by omega) (by omega) dX7_isNobodys_113 rfl ?_
                refine gb_if_eq (q := 119) (tgt := 123) C dX7_isNobodys_116 (by decide) rfl (fun c116 => ?_) (fun c116 => ?_)
                · have hZ : false = (z0 || upto T q (i + 1)) := by rw [upto, ← Bool.or_assoc, ← ha, c116, c106]; rfl
                  refine gx_iconst (q := 124) (v := nI 0) C dX7_isNobodys_123 (by decide) rfl ?_
                  refine gx_istore_n (q := 125) (lv' := [_, _, _, _, _]) C dX7_isNobodys_124 rfl (Nat.le_of_ble_eq_true rfl) E.2.2.2.symm rfl rfl rfl ?_
                  refine gn_inc (q := 128) (lv' := [_, _, _, _, _]) C dX7_isNobodys_125 rfl E.2.2.2.symm rfl rfl rfl ?_
                  refine gx_goto (tgt := 99) C dX7_isNobodys_128 (by decide) ?_
                  first | exact ih true hZ | exact ih false hZ
                · have hZ : true = (z0 || upto T q (i + 1)) := by rw [upto, ← Bool.or_assoc, ← ha, c116, c106]; rfl
                  refine gx_iconst (q := 120) (v := nI 1) C dX7_isNobodys_119 (by decide) rfl ?_
                  refine gx_goto (tgt := 124) C dX7_isNobodys_120 (by decide) ?_
                  refine gx_istore_n (q := 125) (lv' := [_, _, _, _, _]) C dX7_isNobodys_124 rfl (Nat.le_of_ble_eq_true rfl) E.2.2.2.symm rfl rfl rfl ?_
                  refine gn_inc (q := 128) (lv' := [_, _, _, _, _]) C dX7_isNobodys_125 rfl E.2.2.2.symm rfl rfl rfl ?_
                  refine gx_goto (tgt := 99) C dX7_isNobodys_128 (by decide) ?_
                  first | exact ih true hZ | exact ih false hZ
          exact Lp 0 (by omega) z0 (by simp [upto])
        refine gx_iload_n (q := 78) C dX7_isNobodys_77 rfl rfl rfl ?_
        refine gx_iconst (q := 79) (v := nI 2) C dX7_isNobodys_78 (by decide) rfl ?_
        refine gn_icmp_ne (q := 82) (tgt := 94) C dX7_isNobodys_79 (by decide) rfl (by omega) (by omega) (fun c79 => ?_) (fun c79 => ?_)
        · have hZ : false = (decide (T 2 = 2) && corN T q) := by simp [c79]
          refine gx_iconst (q := 95) (v := nI 0) C dX7_isNobodys_94 (by decide) rfl ?_
          first | exact K true hZ | exact K false hZ
        · refine gx_aload_n (q := 83) C dX7_isNobodys_82 rfl rfl rfl ?_
          refine gx_iload_n (q := 84) C dX7_isNobodys_83 rfl rfl rfl ?_
          refine gx_cp (q := 87) C E (sx_X7_107 (As := [_]) C hV.o rfl rfl dX7_isNobodys_84) (md_isOtherAtCorner _ _ _ _ q hq hV hk) kw_X7_isOtherAtCorner (by decide) (Nat.le_of_ble_eq_true rfl) (by omega) (by omega) dX7_isNobodys_84 rfl ?_
          refine gb_if_eq (q := 90) (tgt := 94) C dX7_isNobodys_87 (by decide) rfl (fun c87 => ?_) (fun c87 => ?_)
          · have hZ : false = (decide (T 2 = 2) && corN T q) := by simp [c87]
            refine gx_iconst (q := 95) (v := nI 0) C dX7_isNobodys_94 (by decide) rfl ?_
            first | exact K true hZ | exact K false hZ
          · have hZ : true = (decide (T 2 = 2) && corN T q) := by simp [c79, c87]
            refine gx_iconst (q := 91) (v := nI 1) C dX7_isNobodys_90 (by decide) rfl ?_
            refine gx_goto (tgt := 95) C dX7_isNobodys_91 (by decide) ?_
            first | exact K true hZ | exact K false hZ
      · refine gx_aload_n (q := 32) C dX7_isNobodys_31 rfl rfl rfl ?_
        refine gx_iload_n (q := 33) C dX7_isNobodys_32 rfl rfl rfl ?_
        refine gx_iconst (q := 34) (v := nI 2) C dX7_isNobodys_33 (by decide) rfl ?_
        refine gx_cp (q := 37) C E (sx_X7_103 (As := [_, _]) C hV.o rfl rfl dX7_isNobodys_34) (md_isOtherBeside _ _ _ _ q 2 hq (by omega) hV hk) kw_X7_isOtherBeside (by decide) (Nat.le_of_ble_eq_true rfl) (by omega) (by omega) dX7_isNobodys_34 rfl ?_
        refine gb_if_eq (q := 40) (tgt := 75) C dX7_isNobodys_37 (by decide) rfl (fun c37 => ?_) (fun c37 => ?_)
        · refine gx_iconst (q := 76) (v := nI 0) C dX7_isNobodys_75 (by decide) rfl ?_
          exact gx_zretE C E (by first | exact (congrArg bI (nob_3o c28 c37)).symm | exact (congrArg bI (nob_3 c42 c21 (k7 _ hq) c37)).symm | exact (congrArg bI ((nob_4 c28 c42 c21 (k7 _ hq) c37 hz).trans (decide_eq_true c68))).symm | exact (congrArg bI ((nob_4 c28 c42 c21 (k7 _ hq) c37 hz).trans (decide_eq_false (by omega)))).symm) (bI_nar _) dX7_isNobodys_76 (rfl) (by omega) (by omega)
        · obtain ⟨z, hz⟩ := oth_z c37
          have hzl := bes_lt hq hz
          refine gx_iload_n (q := 41) C dX7_isNobodys_40 rfl rfl rfl ?_
          refine gx_iconst (q := 42) (v := nI 3) C dX7_isNobodys_41 (by decide) rfl ?_
          refine gn_icmp_eq (q := 45) (tgt := 71) C dX7_isNobodys_42 (by decide) rfl (by omega) (by omega) (fun c42 => ?_) (fun c42 => ?_)
          · refine gx_iconst (q := 72) (v := nI 1) C dX7_isNobodys_71 (by decide) rfl ?_
            refine gx_goto (tgt := 76) C dX7_isNobodys_72 (by decide) ?_
            exact gx_zretE C E (by first | exact (congrArg bI (nob_3o c28 c37)).symm | exact (congrArg bI (nob_3 c42 c21 (k7 _ hq) c37)).symm | exact (congrArg bI ((nob_4 c28 c42 c21 (k7 _ hq) c37 hz).trans (decide_eq_true c68))).symm | exact (congrArg bI ((nob_4 c28 c42 c21 (k7 _ hq) c37 hz).trans (decide_eq_false (by omega)))).symm) (bI_nar _) dX7_isNobodys_76 (rfl) (by omega) (by omega)
          · refine gx_aload_n (q := 46) C dX7_isNobodys_45 rfl rfl rfl ?_
            refine fg_X7_13 (q := 49) C hV.o rfl dX7_isNobodys_46 rfl ?_
            refine gx_bipush (q := 51) (v := nI 48) C dX7_isNobodys_49 (by decide) rfl ?_
            refine gx_iload_n (q := 52) C dX7_isNobodys_51 rfl rfl rfl ?_
            refine gx_iconst (q := 53) (v := nI 2) C dX7_isNobodys_52 (by decide) rfl ?_
            refine gx_iconst (q := 54) (v := nI 1) C dX7_isNobodys_53 (by decide) rfl ?_
            refine gx_cp (q := 57) C E (sx_X7_99 (As := [_, _, _]) C rfl rfl dX7_isNobodys_54) (md_beside _ _ _ _ q 2 1 (by omega) (by omega) (by omega)) kw_X7_beside (by decide) (Nat.le_of_ble_eq_true rfl) (by omega) (by omega) dX7_isNobodys_54 rfl ?_
            rw [hz, sq_some]
            refine gn_iadd (q := 58) C dX7_isNobodys_57 rfl ?_
            refine mv_ld_now (q := 59) C hV (by omega) dX7_isNobodys_58 rfl ?_
            refine gx_aload_n (q := 60) C dX7_isNobodys_59 rfl rfl rfl ?_
            refine fg_X7_13 (q := 63) C hV.o rfl dX7_isNobodys_60 rfl ?_
            refine gx_bipush (q := 65) (v := nI 48) C dX7_isNobodys_63 (by decide) rfl ?_
            refine gx_iload_n (q := 66) C dX7_isNobodys_65 rfl rfl rfl ?_
            refine gn_iadd (q := 67) C dX7_isNobodys_66 rfl ?_
            refine mv_ld_now (q := 68) C hV (by omega) dX7_isNobodys_67 rfl ?_
            refine gn_icmp_ge (q := 71) (tgt := 75) C dX7_isNobodys_68 (by decide) rfl (by have := k6 _ hzl; omega) (by have := k6 _ hq; omega) (fun c68 => ?_) (fun c68 => ?_)
            · refine gx_iconst (q := 76) (v := nI 0) C dX7_isNobodys_75 (by decide) rfl ?_
              exact gx_zretE C E (by first | exact (congrArg bI (nob_3o c28 c37)).symm | exact (congrArg bI (nob_3 c42 c21 (k7 _ hq) c37)).symm | exact (congrArg bI ((nob_4 c28 c42 c21 (k7 _ hq) c37 hz).trans (decide_eq_true c68))).symm | exact (congrArg bI ((nob_4 c28 c42 c21 (k7 _ hq) c37 hz).trans (decide_eq_false (by omega)))).symm) (bI_nar _) dX7_isNobodys_76 (rfl) (by omega) (by omega)
            · refine gx_iconst (q := 72) (v := nI 1) C dX7_isNobodys_71 (by decide) rfl ?_
              refine gx_goto (tgt := 76) C dX7_isNobodys_72 (by decide) ?_
              exact gx_zretE C E (by first | exact (congrArg bI (nob_3o c28 c37)).symm | exact (congrArg bI (nob_3 c42 c21 (k7 _ hq) c37)).symm | exact (congrArg bI ((nob_4 c28 c42 c21 (k7 _ hq) c37 hz).trans (decide_eq_true c68))).symm | exact (congrArg bI ((nob_4 c28 c42 c21 (k7 _ hq) c37 hz).trans (decide_eq_false (by omega)))).symm) (bI_nar _) dX7_isNobodys_76 (rfl) (by omega) (by omega)
    · refine gx_iconst (q := 25) (v := nI 0) C dX7_isNobodys_24 (by decide) rfl ?_
      exact gx_zretE C E (by first | exact (congrArg bI (nob_0 c8)).symm | exact (congrArg bI (nob_n c21)).symm) (bI_nar _) dX7_isNobodys_25 (rfl) (by omega) (by omega)
def shL (T L : Nat → Nat) (g n : Nat) : Nat := sumN (fun q => if T (12 + q) = g ∧ nob T q = false then L q else 0) n
def bdL (T L : Nat → Nat) (n : Nat) : Nat := sumN (fun q => if nob T q = true then L q else 0) n
theorem shL_s1 {T L : Nat → Nat} {g n : Nat} (h1 : T (12 + n) = g) (h2 : nob T n = false) : shL T L g (n + 1) = shL T L g n + L n := by simp [shL, sumN, h1, h2]
theorem shL_s2 {T L : Nat → Nat} {g n : Nat} (h1 : ¬ T (12 + n) = g) : shL T L g (n + 1) = shL T L g n + 0 := by simp [shL, sumN, h1]
theorem shL_s3 {T L : Nat → Nat} {g n : Nat} (h2 : nob T n = true) : shL T L g (n + 1) = shL T L g n + 0 := by simp [shL, sumN, h2]
theorem bdL_s1 {T L : Nat → Nat} {n : Nat} (h2 : nob T n = true) : bdL T L (n + 1) = bdL T L n + L n := by simp [bdL, sumN, h2]
theorem bdL_s2 {T L : Nat → Nat} {n : Nat} (h2 : nob T n = false) : bdL T L (n + 1) = bdL T L n + 0 := by simp [bdL, sumN, h2]
set_option maxHeartbeats 4000000 in
theorem md_shareOf (l : Launch) (D : va_G) (b : Nat) (M : List va_E) {R T Ti Bf P F L Rw : Nat → Nat} {kp we : Bool} {td aa so lo ro : Nat} (g : Nat) (hg : g < 2 ^ 31) (hV : md_V D b M R T Ti Bf P F L Rw kp td aa we so lo ro) (hk : okT T) : fb_CT l D b yX7_shareOf cX7_shareOf 4 (some .int) 3 71 0 0 [.ref (b + 43), .int (nI g)] M (.returned (some (.int (nI (shL T L g 36))))) (fun M' => M' = M) := by
  refine fb_start [some (.ref (b + 43)), some (.int (nI g)), none, none] (by decide) (Nat.le_of_ble_eq_true rfl) rfl ?_
  intro x hl hD hb C E hx
  subst hl hD hb
  have C : fb_OK x cX7_shareOf "FallsBetweenModel" "shareOf" := C
  obtain ⟨k0, k1, k2, k3, k4, k5, k6, k7, k8⟩ := id hk
  refine gx_iconst (q := 1) (v := nI 0) C dX7_shareOf_0 (by decide) rfl ?_
  refine gx_istore_n (q := 2) (lv' := [_, _, _, _]) C dX7_shareOf_1 rfl (Nat.le_of_ble_eq_true rfl) E.2.2.2.symm rfl rfl rfl ?_
  refine gx_iconst (q := 3) (v := nI 0) C dX7_shareOf_2 (by decide) rfl ?_
  refine gx_istore_n (q := 4) (lv' := [_, _, _, _]) C dX7_shareOf_3 rfl (Nat.le_of_ble_eq_true rfl) E.2.2.2.symm rfl rfl rfl ?_
  have Lp : ∀ i, i ≤ 36 → fb_G x M 0 0 4 [some (.ref (cx_b x + 43)), some (.int (nI g)), some (.int (nI (shL T L g i))), some (.int (nI i))] [] := by
    refine fb_dn 36 ?_ ?_
    · skip
      refine gx_iload_n (q := 5) C dX7_shareOf_4 rfl rfl rfl ?_
      refine gx_bipush (q := 7) (v := nI 36) C dX7_shareOf_5 (by decide) rfl ?_
      refine gn_icmp_ge (q := 10) (tgt := 50) C dX7_shareOf_7 (by decide) rfl (by omega) (by omega) (fun c7 => ?_) (fun c7 => by exfalso; omega)
      refine gx_iload_n (q := 51) C dX7_shareOf_50 rfl rfl rfl ?_
      exact gx_iret C E dX7_shareOf_51 (rfl) (by omega) (by omega)
    · intro i hi ih
      refine gx_iload_n (q := 5) C dX7_shareOf_4 rfl rfl rfl ?_
      refine gx_bipush (q := 7) (v := nI 36) C dX7_shareOf_5 (by decide) rfl ?_
      refine gn_icmp_ge (q := 10) (tgt := 50) C dX7_shareOf_7 (by decide) rfl (by omega) (by omega) (fun c7 => by exfalso; omega) (fun c7 => ?_)
      refine gx_iload_n (q := 11) C dX7_shareOf_10 rfl rfl rfl ?_
      refine gx_aload_n (q := 12) C dX7_shareOf_11 rfl rfl rfl ?_
      refine fg_X7_13 (q := 15) C hV.o rfl dX7_shareOf_12 rfl ?_
      refine gx_bipush (q := 17) (v := nI 12) C dX7_shareOf_15 (by decide) rfl ?_
      refine gx_iload_n (q := 18) C dX7_shareOf_17 rfl rfl rfl ?_
      refine gn_iadd (q := 19) C dX7_shareOf_18 rfl ?_
      refine mv_ld_now (q := 20) C hV (by omega) dX7_shareOf_19 rfl ?_
      refine gx_iload_n (q := 21) C dX7_shareOf_20 rfl rfl rfl ?_
      refine gn_icmp_ne (q := 24) (tgt := 41) C dX7_shareOf_21 (by decide) rfl (by have := k5 _ hi; omega) (by omega) (fun c21 => ?_) (fun c21 => ?_)
      · refine gx_iconst (q := 42) (v := nI 0) C dX7_shareOf_41 (by decide) rfl ?_
        refine gn_iadd (q := 43) C dX7_shareOf_42 rfl ?_
        refine gx_istore_n (q := 44) (lv' := [_, _, _, _]) C dX7_shareOf_43 rfl (Nat.le_of_ble_eq_true rfl) E.2.2.2.symm rfl rfl rfl ?_
        refine gn_inc (q := 47) (lv' := [_, _, _, _]) C dX7_shareOf_44 rfl E.2.2.2.symm rfl rfl rfl ?_
        refine gx_goto (tgt := 4) C dX7_shareOf_47 (by decide) ?_
        first | (rw [shL_s2 c21] at ih; exact ih) | (rw [shL_s3 c29] at ih; exact ih) | (rw [shL_s1 c21 c29] at ih; exact ih)
      · refine gx_aload_n (q := 25) C dX7_shareOf_24 rfl rfl rfl ?_
        refine gx_iload_n (q := 26) C dX7_shareOf_25 rfl rfl rfl ?_
        refine gx_cp (q := 29) C E (sx_X7_121 (As := [_]) C hV.o rfl rfl dX7_shareOf_26) (md_isNobodys _ _ _ _ i hi hV hk) kw_X7_isNobodys (by decide) (Nat.le_of_ble_eq_true rfl) (by omega) (by omega) dX7_shareOf_26 rfl ?_
        refine gb_if_ne (q := 32) (tgt := 41) C dX7_shareOf_29 (by decide) rfl (fun c29 => ?_) (fun c29 => ?_)
        · refine gx_iconst (q := 42) (v := nI 0) C dX7_shareOf_41 (by decide) rfl ?_
          refine gn_iadd (q := 43) C dX7_shareOf_42 rfl ?_
          refine gx_istore_n (q := 44) (lv' := [_, _, _, _]) C dX7_shareOf_43 rfl (Nat.le_of_ble_eq_true rfl) E.2.2.2.symm rfl rfl rfl ?_
          refine gn_inc (q := 47) (lv' := [_, _, _, _]) C dX7_shareOf_44 rfl E.2.2.2.symm rfl rfl rfl ?_
          refine gx_goto (tgt := 4) C dX7_shareOf_47 (by decide) ?_
          first | (rw [shL_s2 c21] at ih; exact ih) | (rw [shL_s3 c29] at ih; exact ih) | (rw [shL_s1 c21 c29] at ih; exact ih)
        · refine gx_aload_n (q := 33) C dX7_shareOf_32 rfl rfl rfl ?_
          refine fg_X7_35 (q := 36) C hV.o rfl dX7_shareOf_33 rfl ?_
          refine gx_iload_n (q := 37) C dX7_shareOf_36 rfl rfl rfl ?_
          refine mv_ld_lies (q := 38) C hV (by omega) dX7_shareOf_37 rfl ?_
          refine gx_goto (tgt := 42) C dX7_shareOf_38 (by decide) ?_
          refine gn_iadd (q := 43) C dX7_shareOf_42 rfl ?_
          refine gx_istore_n (q := 44) (lv' := [_, _, _, _]) C dX7_shareOf_43 rfl (Nat.le_of_ble_eq_true rfl) E.2.2.2.symm rfl rfl rfl ?_
          refine gn_inc (q := 47) (lv' := [_, _, _, _]) C dX7_shareOf_44 rfl E.2.2.2.symm rfl rfl rfl ?_
          refine gx_goto (tgt := 4) C dX7_shareOf_47 (by decide) ?_
          first | (rw [shL_s2 c21] at ih; exact ih) | (rw [shL_s3 c29] at ih; exact ih) | (rw [shL_s1 c21 c29] at ih; exact ih)
  exact Lp 0 (by omega)
set_option maxHeartbeats 4000000 in
theorem md_birdsHave (l : Launch) (D : va_G) (b : Nat) (M : List va_E) {R T Ti Bf P F L Rw : Nat → Nat} {kp we : Bool} {td aa so lo ro : Nat} (hV : md_V D b M R T Ti Bf P F L Rw kp td aa we so lo ro) (hk : okT T) : fb_CT l D b yX7_birdsHave cX7_birdsHave 3 (some .int) 3 71 0 0 [.ref (b + 43)] M (.returned (some (.int (nI (bdL T L 36))))) (fun M' => M' = M) := by
  refine fb_start [some (.ref (b + 43)), none, none] (by decide) (Nat.le_of_ble_eq_true rfl) rfl ?_
  intro x hl hD hb C E hx
  subst hl hD hb
  have C : fb_OK x cX7_birdsHave "FallsBetweenModel" "birdsHave" := C
  obtain ⟨k0, k1, k2, k3, k4, k5, k6, k7, k8⟩ := id hk
  refine gx_iconst (q := 1) (v := nI 0) C dX7_birdsHave_0 (by decide) rfl ?_
  refine gx_istore_n (q := 2) (lv' := [_, _, _]) C dX7_birdsHave_1 rfl (Nat.le_of_ble_eq_true rfl) E.2.2.2.symm rfl rfl rfl ?_
  refine gx_iconst (q := 3) (v := nI 0) C dX7_birdsHave_2 (by decide) rfl ?_
  refine gx_istore_n (q := 4) (lv' := [_, _, _]) C dX7_birdsHave_3 rfl (Nat.le_of_ble_eq_true rfl) E.2.2.2.symm rfl rfl rfl ?_
  have Lp : ∀ i, i ≤ 36 → fb_G x M 0 0 4 [some (.ref (cx_b x + 43)), some (.int (nI (bdL T L i))), some (.int (nI i))] [] := by
    refine fb_dn 36 ?_ ?_
    · skip
      refine gx_iload_n (q := 5) C dX7_birdsHave_4 rfl rfl rfl ?_
      refine gx_bipush (q := 7) (v := nI 36) C dX7_birdsHave_5 (by decide) rfl ?_
      refine gn_icmp_ge (q := 10) (tgt := 37) C dX7_birdsHave_7 (by decide) rfl (by omega) (by omega) (fun c7 => ?_) (fun c7 => by exfalso; omega)
      refine gx_iload_n (q := 38) C dX7_birdsHave_37 rfl rfl rfl ?_
      exact gx_iret C E dX7_birdsHave_38 (rfl) (by omega) (by omega)
    · intro i hi ih
      refine gx_iload_n (q := 5) C dX7_birdsHave_4 rfl rfl rfl ?_
      refine gx_bipush (q := 7) (v := nI 36) C dX7_birdsHave_5 (by decide) rfl ?_
      refine gn_icmp_ge (q := 10) (tgt := 37) C dX7_birdsHave_7 (by decide) rfl (by omega) (by omega) (fun c7 => by exfalso; omega) (fun c7 => ?_)
      refine gx_iload_n (q := 11) C dX7_birdsHave_10 rfl rfl rfl ?_
      refine gx_aload_n (q := 12) C dX7_birdsHave_11 rfl rfl rfl ?_
      refine gx_iload_n (q := 13) C dX7_birdsHave_12 rfl rfl rfl ?_
      refine gx_cp (q := 16) C E (sx_X7_121 (As := [_]) C hV.o rfl rfl dX7_birdsHave_13) (md_isNobodys _ _ _ _ i hi hV hk) kw_X7_isNobodys (by decide) (Nat.le_of_ble_eq_true rfl) (by omega) (by omega) dX7_birdsHave_13 rfl ?_
      refine gb_if_eq (q := 19) (tgt := 28) C dX7_birdsHave_16 (by decide) rfl (fun c16 => ?_) (fun c16 => ?_)
      · refine gx_iconst (q := 29) (v := nI 0) C dX7_birdsHave_28 (by decide) rfl ?_
        refine gn_iadd (q := 30) C dX7_birdsHave_29 rfl ?_
        refine gx_istore_n (q := 31) (lv' := [_, _, _]) C dX7_birdsHave_30 rfl (Nat.le_of_ble_eq_true rfl) E.2.2.2.symm rfl rfl rfl ?_
        refine gn_inc (q := 34) (lv' := [_, _, _]) C dX7_birdsHave_31 rfl E.2.2.2.symm rfl rfl rfl ?_
        refine gx_goto (tgt := 4) C dX7_birdsHave_34 (by decide) ?_
        first | (rw [bdL_s2 c16] at ih; exact ih) | (rw [bdL_s1 c16] at ih; exact ih)
      · refine gx_aload_n (q := 20) C dX7_birdsHave_19 rfl rfl rfl ?_
        refine fg_X7_35 (q := 23) C hV.o rfl dX7_birdsHave_20 rfl ?_
        refine gx_iload_n (q := 24) C dX7_birdsHave_23 rfl rfl rfl ?_
        refine mv_ld_lies (q := 25) C hV (by omega) dX7_birdsHave_24 rfl ?_
        refine gx_goto (tgt := 29) C dX7_birdsHave_25 (by decide) ?_
        refine gn_iadd (q := 30) C dX7_birdsHave_29 rfl ?_
        refine gx_istore_n (q := 31) (lv' := [_, _, _]) C dX7_birdsHave_30 rfl (Nat.le_of_ble_eq_true rfl) E.2.2.2.symm rfl rfl rfl ?_
        refine gn_inc (q := 34) (lv' := [_, _, _]) C dX7_birdsHave_31 rfl E.2.2.2.symm rfl rfl rfl ?_
        refine gx_goto (tgt := 4) C dX7_birdsHave_34 (by decide) ?_
        first | (rw [bdL_s2 c16] at ih; exact ih) | (rw [bdL_s1 c16] at ih; exact ih)
  exact Lp 0 (by omega)
