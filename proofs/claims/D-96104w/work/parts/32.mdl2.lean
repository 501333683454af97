/-! the reference: squares, laws, what falls -/
set_option maxRecDepth 100000
theorem nI_an {a c : Nat} (h : c ≤ a) : nI a + -nI c = nI (a - c) := by rw [← Int32.sub_eq_add_neg]; exact pk_sub h
theorem nI_anl {a c : Nat} (hc : c < 2 ^ 30) (h : a < c) : nI a + -nI c < 0 := by rw [← Int32.sub_eq_add_neg]; exact pk_sneg hc h
set_option maxHeartbeats 4000000 in
theorem md_bes0i (l : Launch) (D : va_G) (b : Nat) (M : List va_E) (q f : Nat) (hq : q < 36) (hf : f < 4) (h : f ≤ q / 6) : fb_CT l D b yX7_beside cX7_beside 5 (some .int) 0 0 0 0 [.int (nI q), .int (nI 0), .int (nI f)] M (.returned (some (.int (sq_ (bes q 0 f))))) (fun M' => M' = M) := by
  refine fb_start [some (.int (nI q)), some (.int (nI 0)), some (.int (nI f)), none, none] (by decide) (Nat.le_of_ble_eq_true rfl) rfl ?_
  intro x hl hD hb C E hx
  subst hl hD hb
  have C : fb_OK x cX7_beside "FallsBetweenModel" "beside" := C
  refine gx_iload_n (q := 1) C dX7_beside_0 rfl rfl rfl ?_
  refine gx_bipush (q := 3) (v := nI 6) C dX7_beside_1 (by decide) rfl ?_
  refine gn_idiv (q := 4) C dX7_beside_3 (by omega) (by omega) (by omega) rfl ?_
  refine gx_iload_n (q := 5) C dX7_beside_4 rfl rfl rfl ?_
  refine gn_if_ne (q := 8) (tgt := 13) C dX7_beside_5 (by decide) rfl (by omega) (fun c5 => by exfalso; omega) (fun c5 => ?_)
  refine gx_iload_n (q := 9) C dX7_beside_8 rfl rfl rfl ?_
  refine gx_ineg (q := 10) C dX7_beside_9 (rfl) rfl ?_
  refine gx_goto (tgt := 23) C dX7_beside_10 (by decide) ?_
  refine gx_iadd (q := 24) C dX7_beside_23 (nI_an h) rfl ?_
  refine gx_istore_n (q := 25) (lv' := [_, _, _, _, _]) C dX7_beside_24 rfl (Nat.le_of_ble_eq_true rfl) E.2.2.2.symm rfl rfl rfl ?_
  refine gx_iload_n (q := 26) C dX7_beside_25 rfl rfl rfl ?_
  refine gx_bipush (q := 28) (v := nI 6) C dX7_beside_26 (by decide) rfl ?_
  refine gn_irem (q := 29) C dX7_beside_28 (by omega) (by omega) (by omega) rfl ?_
  refine gx_iload_n (q := 30) C dX7_beside_29 rfl rfl rfl ?_
  refine gx_iconst (q := 31) (v := nI 1) C dX7_beside_30 (by decide) rfl ?_
  refine gn_icmp_ne (q := 34) (tgt := 38) C dX7_beside_31 (by decide) rfl (by omega) (by omega) (fun c31 => ?_) (fun c31 => by exfalso; omega)
  refine gx_iload_n (q := 39) C dX7_beside_38 rfl rfl rfl ?_
  refine gx_iconst (q := 40) (v := nI 3) C dX7_beside_39 (by decide) rfl ?_
  refine gn_icmp_ne (q := 43) (tgt := 48) C dX7_beside_40 (by decide) rfl (by omega) (by omega) (fun c40 => ?_) (fun c40 => by exfalso; omega)
  refine gx_iconst (q := 49) (v := nI 0) C dX7_beside_48 (by decide) rfl ?_
  refine gn_iadd (q := 50) C dX7_beside_49 rfl ?_
  refine gx_istore (q := 52) (lv' := [_, _, _, _, _]) C dX7_beside_50 (Nat.le_of_ble_eq_true rfl) E.2.2.2.symm rfl rfl rfl ?_
  refine gx_iload_n (q := 53) C dX7_beside_52 rfl rfl rfl ?_
  refine gx_if_lt (q := 56) (tgt := 72) C dX7_beside_53 (by decide) rfl (fun c53 => by exfalso; exact nI_pos (by omega) c53) (fun c53 => ?_)
  refine gx_iload_n (q := 57) C dX7_beside_56 rfl rfl rfl ?_
  refine gx_iconst (q := 58) (v := nI 5) C dX7_beside_57 (by decide) rfl ?_
  refine gn_icmp_gt (q := 61) (tgt := 72) C dX7_beside_58 (by decide) rfl (by omega) (by omega) (fun c58 => by exfalso; omega) (fun c58 => ?_)
  refine gx_iload (q := 63) C dX7_beside_61 rfl rfl ?_
  refine gx_if_lt (q := 66) (tgt := 72) C dX7_beside_63 (by decide) rfl (fun c63 => by exfalso; exact nI_pos (by omega) c63) (fun c63 => ?_)
  refine gx_iload (q := 68) C dX7_beside_66 rfl rfl ?_
  refine gx_iconst (q := 69) (v := nI 5) C dX7_beside_68 (by decide) rfl ?_
  refine gn_icmp_le (q := 72) (tgt := 77) C dX7_beside_69 (by decide) rfl (by omega) (by omega) (fun c69 => ?_) (fun c69 => by exfalso; omega)
  refine gx_bipush (q := 79) (v := nI 6) C dX7_beside_77 (by decide) rfl ?_
  refine gx_iload_n (q := 80) C dX7_beside_79 rfl rfl rfl ?_
  refine gn_imul (q := 81) C dX7_beside_80 rfl ?_
  refine gx_iload (q := 83) C dX7_beside_81 rfl rfl ?_
  refine gn_iadd (q := 84) C dX7_beside_83 rfl ?_
  exact gx_iretE C E (by rw [show bes q 0 f = some (q - 6 * f) by simp [bes, h], sq_some]; congr 1; omega) dX7_beside_84 (rfl) (by omega) (by omega)
set_option maxHeartbeats 4000000 in
theorem md_bes0o (l : Launch) (D : va_G) (b : Nat) (M : List va_E) (q f : Nat) (hq : q < 36) (hf : f < 4) (h : q / 6 < f) : fb_CT l D b yX7_beside cX7_beside 5 (some .int) 0 0 0 0 [.int (nI q), .int (nI 0), .int (nI f)] M (.returned (some (.int (sq_ (bes q 0 f))))) (fun M' => M' = M) := by
  refine fb_start [some (.int (nI q)), some (.int (nI 0)), some (.int (nI f)), none, none] (by decide) (Nat.le_of_ble_eq_true rfl) rfl ?_
  intro x hl hD hb C E hx
  subst hl hD hb
  have C : fb_OK x cX7_beside "FallsBetweenModel" "beside" := C
  refine gx_iload_n (q := 1) C dX7_beside_0 rfl rfl rfl ?_
  refine gx_bipush (q := 3) (v := nI 6) C dX7_beside_1 (by decide) rfl ?_
  refine gn_idiv (q := 4) C dX7_beside_3 (by omega) (by omega) (by omega) rfl ?_
  refine gx_iload_n (q := 5) C dX7_beside_4 rfl rfl rfl ?_
  refine gn_if_ne (q := 8) (tgt := 13) C dX7_beside_5 (by decide) rfl (by omega) (fun c5 => by exfalso; omega) (fun c5 => ?_)
  refine gx_iload_n (q := 9) C dX7_beside_8 rfl rfl rfl ?_
  refine gx_ineg (q := 10) C dX7_beside_9 (rfl) rfl ?_
  refine gx_goto (tgt := 23) C dX7_beside_10 (by decide) ?_
  refine gx_iadd (q := 24) C dX7_beside_23 (rfl) rfl ?_
  refine gx_istore_n (q := 25) (lv' := [_, _, _, _, _]) C dX7_beside_24 rfl (Nat.le_of_ble_eq_true rfl) E.2.2.2.symm rfl rfl rfl ?_
  refine gx_iload_n (q := 26) C dX7_beside_25 rfl rfl rfl ?_
  refine gx_bipush (q := 28) (v := nI 6) C dX7_beside_26 (by decide) rfl ?_
  refine gn_irem (q := 29) C dX7_beside_28 (by omega) (by omega) (by omega) rfl ?_
  refine gx_iload_n (q := 30) C dX7_beside_29 rfl rfl rfl ?_
  refine gx_iconst (q := 31) (v := nI 1) C dX7_beside_30 (by decide) rfl ?_
  refine gn_icmp_ne (q := 34) (tgt := 38) C dX7_beside_31 (by decide) rfl (by omega) (by omega) (fun c31 => ?_) (fun c31 => by exfalso; omega)
  refine gx_iload_n (q := 39) C dX7_beside_38 rfl rfl rfl ?_
  refine gx_iconst (q := 40) (v := nI 3) C dX7_beside_39 (by decide) rfl ?_
  refine gn_icmp_ne (q := 43) (tgt := 48) C dX7_beside_40 (by decide) rfl (by omega) (by omega) (fun c40 => ?_) (fun c40 => by exfalso; omega)
  refine gx_iconst (q := 49) (v := nI 0) C dX7_beside_48 (by decide) rfl ?_
  refine gn_iadd (q := 50) C dX7_beside_49 rfl ?_
  refine gx_istore (q := 52) (lv' := [_, _, _, _, _]) C dX7_beside_50 (Nat.le_of_ble_eq_true rfl) E.2.2.2.symm rfl rfl rfl ?_
  refine gx_iload_n (q := 53) C dX7_beside_52 rfl rfl rfl ?_
  refine gx_if_lt (q := 56) (tgt := 72) C dX7_beside_53 (by decide) rfl (fun c53 => ?_) (fun c53 => by exfalso; exact c53 (nI_anl (by omega) h))
  refine gx_bipush (q := 74) (v := -9) C dX7_beside_72 (by decide) rfl ?_
  refine gx_goto (tgt := 84) C dX7_beside_74 (by decide) ?_
  exact gx_iretE C E (by rw [show bes q 0 f = none by simp [bes]; omega]; rfl) dX7_beside_84 (rfl) (by omega) (by omega)
set_option maxHeartbeats 4000000 in
theorem md_bes1i (l : Launch) (D : va_G) (b : Nat) (M : List va_E) (q f : Nat) (hq : q < 36) (hf : f < 4) (h : q % 6 + f ≤ 5) : fb_CT l D b yX7_beside cX7_beside 5 (some .int) 0 0 0 0 [.int (nI q), .int (nI 1), .int (nI f)] M (.returned (some (.int (sq_ (bes q 1 f))))) (fun M' => M' = M) := by
  refine fb_start [some (.int (nI q)), some (.int (nI 1)), some (.int (nI f)), none, none] (by decide) (Nat.le_of_ble_eq_true rfl) rfl ?_
  intro x hl hD hb C E hx
  subst hl hD hb
  have C : fb_OK x cX7_beside "FallsBetweenModel" "beside" := C
  refine gx_iload_n (q := 1) C dX7_beside_0 rfl rfl rfl ?_
  refine gx_bipush (q := 3) (v := nI 6) C dX7_beside_1 (by decide) rfl ?_
  refine gn_idiv (q := 4) C dX7_beside_3 (by omega) (by omega) (by omega) rfl ?_
  refine gx_iload_n (q := 5) C dX7_beside_4 rfl rfl rfl ?_
  refine gn_if_ne (q := 8) (tgt := 13) C dX7_beside_5 (by decide) rfl (by omega) (fun c5 => ?_) (fun c5 => by exfalso; omega)
  refine gx_iload_n (q := 14) C dX7_beside_13 rfl rfl rfl ?_
  refine gx_iconst (q := 15) (v := nI 2) C dX7_beside_14 (by decide) rfl ?_
  refine gn_icmp_ne (q := 18) (tgt := 22) C dX7_beside_15 (by decide) rfl (by omega) (by omega) (fun c15 => ?_) (fun c15 => by exfalso; omega)
  refine gx_iconst (q := 23) (v := nI 0) C dX7_beside_22 (by decide) rfl ?_
  refine gn_iadd (q := 24) C dX7_beside_23 rfl ?_
  refine gx_istore_n (q := 25) (lv' := [_, _, _, _, _]) C dX7_beside_24 rfl (Nat.le_of_ble_eq_true rfl) E.2.2.2.symm rfl rfl rfl ?_
  refine gx_iload_n (q := 26) C dX7_beside_25 rfl rfl rfl ?_
  refine gx_bipush (q := 28) (v := nI 6) C dX7_beside_26 (by decide) rfl ?_
  refine gn_irem (q := 29) C dX7_beside_28 (by omega) (by omega) (by omega) rfl ?_
  refine gx_iload_n (q := 30) C dX7_beside_29 rfl rfl rfl ?_
  refine gx_iconst (q := 31) (v := nI 1) C dX7_beside_30 (by decide) rfl ?_
  refine gn_icmp_ne (q := 34) (tgt := 38) C dX7_beside_31 (by decide) rfl (by omega) (by omega) (fun c31 => by exfalso; omega) (fun c31 => ?_)
  refine gx_iload_n (q := 35) C dX7_beside_34 rfl rfl rfl ?_
  refine gx_goto (tgt := 49) C dX7_beside_35 (by decide) ?_
  refine gn_iadd (q := 50) C dX7_beside_49 rfl ?_
  refine gx_istore (q := 52) (lv' := [_, _, _, _, _]) C dX7_beside_50 (Nat.le_of_ble_eq_true rfl) E.2.2.2.symm rfl rfl rfl ?_
  refine gx_iload_n (q := 53) C dX7_beside_52 rfl rfl rfl ?_
  refine gx_if_lt (q := 56) (tgt := 72) C dX7_beside_53 (by decide) rfl (fun c53 => by exfalso; exact nI_pos (by omega) c53) (fun c53 => ?_)
  refine gx_iload_n (q := 57) C dX7_beside_56 rfl rfl rfl ?_
  refine gx_iconst (q := 58) (v := nI 5) C dX7_beside_57 (by decide) rfl ?_
  refine gn_icmp_gt (q := 61) (tgt := 72) C dX7_beside_58 (by decide) rfl (by omega) (by omega) (fun c58 => by exfalso; omega) (fun c58 => ?_)
  refine gx_iload (q := 63) C dX7_beside_61 rfl rfl ?_
  refine gx_if_lt (q := 66) (tgt := 72) C dX7_beside_63 (by decide) rfl (fun c63 => by exfalso; exact nI_pos (by omega) c63) (fun c63 => ?_)
  refine gx_iload (q := 68) C dX7_beside_66 rfl rfl ?_
  refine gx_iconst (q := 69) (v := nI 5) C dX7_beside_68 (by decide) rfl ?_
  refine gn_icmp_le (q := 72) (tgt := 77) C dX7_beside_69 (by decide) rfl (by omega) (by omega) (fun c69 => ?_) (fun c69 => by exfalso; omega)
  refine gx_bipush (q := 79) (v := nI 6) C dX7_beside_77 (by decide) rfl ?_
  refine gx_iload_n (q := 80) C dX7_beside_79 rfl rfl rfl ?_
  refine gn_imul (q := 81) C dX7_beside_80 rfl ?_
  refine gx_iload (q := 83) C dX7_beside_81 rfl rfl ?_
  refine gn_iadd (q := 84) C dX7_beside_83 rfl ?_
  exact gx_iretE C E (by rw [show bes q 1 f = some (q + f) by simp [bes, h], sq_some]; congr 1; omega) dX7_beside_84 (rfl) (by omega) (by omega)
set_option maxHeartbeats 4000000 in
theorem md_bes1o (l : Launch) (D : va_G) (b : Nat) (M : List va_E) (q f : Nat) (hq : q < 36) (hf : f < 4) (h : 5 < q % 6 + f) : fb_CT l D b yX7_beside cX7_beside 5 (some .int) 0 0 0 0 [.int (nI q), .int (nI 1), .int (nI f)] M (.returned (some (.int (sq_ (bes q 1 f))))) (fun M' => M' = M) := by
  refine fb_start [some (.int (nI q)), some (.int (nI 1)), some (.int (nI f)), none, none] (by decide) (Nat.le_of_ble_eq_true rfl) rfl ?_
  intro x hl hD hb C E hx
  subst hl hD hb
  have C : fb_OK x cX7_beside "FallsBetweenModel" "beside" := C
  refine gx_iload_n (q := 1) C dX7_beside_0 rfl rfl rfl ?_
  refine gx_bipush (q := 3) (v := nI 6) C dX7_beside_1 (by decide) rfl ?_
  refine gn_idiv (q := 4) C dX7_beside_3 (by omega) (by omega) (by omega) rfl ?_
  refine gx_iload_n (q := 5) C dX7_beside_4 rfl rfl rfl ?_
  refine gn_if_ne (q := 8) (tgt := 13) C dX7_beside_5 (by decide) rfl (by omega) (fun c5 => ?_) (fun c5 => by exfalso; omega)
  refine gx_iload_n (q := 14) C dX7_beside_13 rfl rfl rfl ?_
  refine gx_iconst (q := 15) (v := nI 2) C dX7_beside_14 (by decide) rfl ?_
  refine gn_icmp_ne (q := 18) (tgt := 22) C dX7_beside_15 (by decide) rfl (by omega) (by omega) (fun c15 => ?_) (fun c15 => by exfalso; omega)
  refine gx_iconst (q := 23) (v := nI 0) C dX7_beside_22 (by decide) rfl ?_
  refine gn_iadd (q := 24) C dX7_beside_23 rfl ?_
  refine gx_istore_n (q := 25) (lv' := [_, _, _, _, _]) C dX7_beside_24 rfl (Nat.le_of_ble_eq_true rfl) E.2.2.2.symm rfl rfl rfl ?_
  refine gx_iload_n (q := 26) C dX7_beside_25 rfl rfl rfl ?_
  refine gx_bipush (q := 28) (v := nI 6) C dX7_beside_26 (by decide) rfl ?_
  refine gn_irem (q := 29) C dX7_beside_28 (by omega) (by omega) (by omega) rfl ?_
  refine gx_iload_n (q := 30) C dX7_beside_29 rfl rfl rfl ?_
  refine gx_iconst (q := 31) (v := nI 1) C dX7_beside_30 (by decide) rfl ?_
  refine gn_icmp_ne (q := 34) (tgt := 38) C dX7_beside_31 (by decide) rfl (by omega) (by omega) (fun c31 => by exfalso; omega) (fun c31 => ?_)
  refine gx_iload_n (q := 35) C dX7_beside_34 rfl rfl rfl ?_
  refine gx_goto (tgt := 49) C dX7_beside_35 (by decide) ?_
  refine gn_iadd (q := 50) C dX7_beside_49 rfl ?_
  refine gx_istore (q := 52) (lv' := [_, _, _, _, _]) C dX7_beside_50 (Nat.le_of_ble_eq_true rfl) E.2.2.2.symm rfl rfl rfl ?_
  refine gx_iload_n (q := 53) C dX7_beside_52 rfl rfl rfl ?_
  refine gx_if_lt (q := 56) (tgt := 72) C dX7_beside_53 (by decide) rfl (fun c53 => by exfalso; exact nI_pos (by omega) c53) (fun c53 => ?_)
  refine gx_iload_n (q := 57) C dX7_beside_56 rfl rfl rfl ?_
  refine gx_iconst (q := 58) (v := nI 5) C dX7_beside_57 (by decide) rfl ?_
  refine gn_icmp_gt (q := 61) (tgt := 72) C dX7_beside_58 (by decide) rfl (by omega) (by omega) (fun c58 => by exfalso; omega) (fun c58 => ?_)
  refine gx_iload (q := 63) C dX7_beside_61 rfl rfl ?_
  refine gx_if_lt (q := 66) (tgt := 72) C dX7_beside_63 (by decide) rfl (fun c63 => by exfalso; exact nI_pos (by omega) c63) (fun c63 => ?_)
  refine gx_iload (q := 68) C dX7_beside_66 rfl rfl ?_
  refine gx_iconst (q := 69) (v := nI 5) C dX7_beside_68 (by decide) rfl ?_
  refine gn_icmp_le (q := 72) (tgt := 77) C dX7_beside_69 (by decide) rfl (by omega) (by omega) (fun c69 => by exfalso; omega) (fun c69 => ?_)
  refine gx_bipush (q := 74) (v := -9) C dX7_beside_72 (by decide) rfl ?_
  refine gx_goto (tgt := 84) C dX7_beside_74 (by decide) ?_
  exact gx_iretE C E (by rw [show bes q 1 f = none by simp [bes]; omega]; rfl) dX7_beside_84 (rfl) (by omega) (by omega)
set_option maxHeartbeats 4000000 in
theorem md_bes2i (l : Launch) (D : va_G) (b : Nat) (M : List va_E) (q f : Nat) (hq : q < 36) (hf : f < 4) (h : q / 6 + f ≤ 5) : fb_CT l D b yX7_beside cX7_beside 5 (some .int) 0 0 0 0 [.int (nI q), .int (nI 2), .int (nI f)] M (.returned (some (.int (sq_ (bes q 2 f))))) (fun M' => M' = M) := by
  refine fb_start [some (.int (nI q)), some (.int (nI 2)), some (.int (nI f)), none, none] (by decide) (Nat.le_of_ble_eq_true rfl) rfl ?_
  intro x hl hD hb C E hx
  subst hl hD hb
  have C : fb_OK x cX7_beside "FallsBetweenModel" "beside" := C
  refine gx_iload_n (q := 1) C dX7_beside_0 rfl rfl rfl ?_
  refine gx_bipush (q := 3) (v := nI 6) C dX7_beside_1 (by decide) rfl ?_
  refine gn_idiv (q := 4) C dX7_beside_3 (by omega) (by omega) (by omega) rfl ?_
  refine gx_iload_n (q := 5) C dX7_beside_4 rfl rfl rfl ?_
  refine gn_if_ne (q := 8) (tgt := 13) C dX7_beside_5 (by decide) rfl (by omega) (fun c5 => ?_) (fun c5 => by exfalso; omega)
  refine gx_iload_n (q := 14) C dX7_beside_13 rfl rfl rfl ?_
  refine gx_iconst (q := 15) (v := nI 2) C dX7_beside_14 (by decide) rfl ?_
  refine gn_icmp_ne (q := 18) (tgt := 22) C dX7_beside_15 (by decide) rfl (by omega) (by omega) (fun c15 => by exfalso; omega) (fun c15 => ?_)
  refine gx_iload_n (q := 19) C dX7_beside_18 rfl rfl rfl ?_
  refine gx_goto (tgt := 23) C dX7_beside_19 (by decide) ?_
  refine gn_iadd (q := 24) C dX7_beside_23 rfl ?_
  refine gx_istore_n (q := 25) (lv' := [_, _, _, _, _]) C dX7_beside_24 rfl (Nat.le_of_ble_eq_true rfl) E.2.2.2.symm rfl rfl rfl ?_
  refine gx_iload_n (q := 26) C dX7_beside_25 rfl rfl rfl ?_
  refine gx_bipush (q := 28) (v := nI 6) C dX7_beside_26 (by decide) rfl ?_
  refine gn_irem (q := 29) C dX7_beside_28 (by omega) (by omega) (by omega) rfl ?_
  refine gx_iload_n (q := 30) C dX7_beside_29 rfl rfl rfl ?_
  refine gx_iconst (q := 31) (v := nI 1) C dX7_beside_30 (by decide) rfl ?_
  refine gn_icmp_ne (q := 34) (tgt := 38) C dX7_beside_31 (by decide) rfl (by omega) (by omega) (fun c31 => ?_) (fun c31 => by exfalso; omega)
  refine gx_iload_n (q := 39) C dX7_beside_38 rfl rfl rfl ?_
  refine gx_iconst (q := 40) (v := nI 3) C dX7_beside_39 (by decide) rfl ?_
  refine gn_icmp_ne (q := 43) (tgt := 48) C dX7_beside_40 (by decide) rfl (by omega) (by omega) (fun c40 => ?_) (fun c40 => by exfalso; omega)
  refine gx_iconst (q := 49) (v := nI 0) C dX7_beside_48 (by decide) rfl ?_
  refine gn_iadd (q := 50) C dX7_beside_49 rfl ?_
  refine gx_istore (q := 52) (lv' := [_, _, _, _, _]) C dX7_beside_50 (Nat.le_of_ble_eq_true rfl) E.2.2.2.symm rfl rfl rfl ?_
  refine gx_iload_n (q := 53) C dX7_beside_52 rfl rfl rfl ?_
  refine gx_if_lt (q := 56) (tgt := 72) C dX7_beside_53 (by decide) rfl (fun c53 => by exfalso; exact nI_pos (by omega) c53) (fun c53 => ?_)
  refine gx_iload_n (q := 57) C dX7_beside_56 rfl rfl rfl ?_
  refine gx_iconst (q := 58) (v := nI 5) C dX7_beside_57 (by decide) rfl ?_
  refine gn_icmp_gt (q := 61) (tgt := 72) C dX7_beside_58 (by decide) rfl (by omega) (by omega) (fun c58 => by exfalso; omega) (fun c58 => ?_)
  refine gx_iload (q := 63) C dX7_beside_61 rfl rfl ?_
  refine gx_if_lt (q := 66) (tgt := 72) C dX7_beside_63 (by decide) rfl (fun c63 => by exfalso; exact nI_pos (by omega) c63) (fun c63 => ?_)
  refine gx_iload (q := 68) C dX7_beside_66 rfl rfl ?_
  refine gx_iconst (q := 69) (v := nI 5) C dX7_beside_68 (by decide) rfl ?_
  refine gn_icmp_le (q := 72) (tgt := 77) C dX7_beside_69 (by decide) rfl (by omega) (by omega) (fun c69 => ?_) (fun c69 => by exfalso; omega)
  refine gx_bipush (q := 79) (v := nI 6) C dX7_beside_77 (by decide) rfl ?_
  refine gx_iload_n (q := 80) C dX7_beside_79 rfl rfl rfl ?_
  refine gn_imul (q := 81) C dX7_beside_80 rfl ?_
  refine gx_iload (q := 83) C dX7_beside_81 rfl rfl ?_
  refine gn_iadd (q := 84) C dX7_beside_83 rfl ?_
  exact gx_iretE C E (by rw [show bes q 2 f = some (q + 6 * f) by simp [bes, h], sq_some]; congr 1; omega) dX7_beside_84 (rfl) (by omega) (by omega)
set_option maxHeartbeats 4000000 in
theorem md_bes2o (l : Launch) (D : va_G) (b : Nat) (M : List va_E) (q f : Nat) (hq : q < 36) (hf : f < 4) (h : 5 < q / 6 + f) : fb_CT l D b yX7_beside cX7_beside 5 (some .int) 0 0 0 0 [.int (nI q), .int (nI 2), .int (nI f)] M (.returned (some (.int (sq_ (bes q 2 f))))) (fun M' => M' = M) := by
  refine fb_start [some (.int (nI q)), some (.int (nI 2)), some (.int (nI f)), none, none] (by decide) (Nat.le_of_ble_eq_true rfl) rfl ?_
  intro x hl hD hb C E hx
  subst hl hD hb
  have C : fb_OK x cX7_beside "FallsBetweenModel" "beside" := C
  refine gx_iload_n (q := 1) C dX7_beside_0 rfl rfl rfl ?_
  refine gx_bipush (q := 3) (v := nI 6) C dX7_beside_1 (by decide) rfl ?_
  refine gn_idiv (q := 4) C dX7_beside_3 (by omega) (by omega) (by omega) rfl ?_
  refine gx_iload_n (q := 5) C dX7_beside_4 rfl rfl rfl ?_
  refine gn_if_ne (q := 8) (tgt := 13) C dX7_beside_5 (by decide) rfl (by omega) (fun c5 => ?_) (fun c5 => by exfalso; omega)
  refine gx_iload_n (q := 14) C dX7_beside_13 rfl rfl rfl ?_
  refine gx_iconst (q := 15) (v := nI 2) C dX7_beside_14 (by decide) rfl ?_
  refine gn_icmp_ne (q := 18) (tgt := 22) C dX7_beside_15 (by decide) rfl (by omega) (by omega) (fun c15 => by exfalso; omega) (fun c15 => ?_)
  refine gx_iload_n (q := 19) C dX7_beside_18 rfl rfl rfl ?_
  refine gx_goto (tgt := 23) C dX7_beside_19 (by decide) ?_
  refine gn_iadd (q := 24) C dX7_beside_23 rfl ?_
  refine gx_istore_n (q := 25) (lv' := [_, _, _, _, _]) C dX7_beside_24 rfl (Nat.le_of_ble_eq_true rfl) E.2.2.2.symm rfl rfl rfl ?_
  refine gx_iload_n (q := 26) C dX7_beside_25 rfl rfl rfl ?_
  refine gx_bipush (q := 28) (v := nI 6) C dX7_beside_26 (by decide) rfl ?_
  refine gn_irem (q := 29) C dX7_beside_28 (by omega) (by omega) (by omega) rfl ?_
  refine gx_iload_n (q := 30) C dX7_beside_29 rfl rfl rfl ?_
  refine gx_iconst (q := 31) (v := nI 1) C dX7_beside_30 (by decide) rfl ?_
  refine gn_icmp_ne (q := 34) (tgt := 38) C dX7_beside_31 (by decide) rfl (by omega) (by omega) (fun c31 => ?_) (fun c31 => by exfalso; omega)
  refine gx_iload_n (q := 39) C dX7_beside_38 rfl rfl rfl ?_
  refine gx_iconst (q := 40) (v := nI 3) C dX7_beside_39 (by decide) rfl ?_
  refine gn_icmp_ne (q := 43) (tgt := 48) C dX7_beside_40 (by decide) rfl (by omega) (by omega) (fun c40 => ?_) (fun c40 => by exfalso; omega)
  refine gx_iconst (q := 49) (v := nI 0) C dX7_beside_48 (by decide) rfl ?_
  refine gn_iadd (q := 50) C dX7_beside_49 rfl ?_
  refine gx_istore (q := 52) (lv' := [_, _, _, _, _]) C dX7_beside_50 (Nat.le_of_ble_eq_true rfl) E.2.2.2.symm rfl rfl rfl ?_
  refine gx_iload_n (q := 53) C dX7_beside_52 rfl rfl rfl ?_
  refine gx_if_lt (q := 56) (tgt := 72) C dX7_beside_53 (by decide) rfl (fun c53 => by exfalso; exact nI_pos (by omega) c53) (fun c53 => ?_)
  refine gx_iload_n (q := 57) C dX7_beside_56 rfl rfl rfl ?_
  refine gx_iconst (q := 58) (v := nI 5) C dX7_beside_57 (by decide) rfl ?_
  refine gn_icmp_gt (q := 61) (tgt := 72) C dX7_beside_58 (by decide) rfl (by omega) (by omega) (fun c58 => ?_) (fun c58 => by exfalso; omega)
  refine gx_bipush (q := 74) (v := -9) C dX7_beside_72 (by decide) rfl ?_
  refine gx_goto (tgt := 84) C dX7_beside_74 (by decide) ?_
  exact gx_iretE C E (by rw [show bes q 2 f = none by simp [bes]; omega]; rfl) dX7_beside_84 (rfl) (by omega) (by omega)
set_option maxHeartbeats 4000000 in
theorem md_bes3i (l : Launch) (D : va_G) (b : Nat) (M : List va_E) (q f : Nat) (hq : q < 36) (hf : f < 4) (h : f ≤ q % 6) : fb_CT l D b yX7_beside cX7_beside 5 (some .int) 0 0 0 0 [.int (nI q), .int (nI 3), .int (nI f)] M (.returned (some (.int (sq_ (bes q 3 f))))) (fun M' => M' = M) := by
  refine fb_start [some (.int (nI q)), some (.int (nI 3)), some (.int (nI f)), none, none] (by decide) (Nat.le_of_ble_eq_true rfl) rfl ?_
  intro x hl hD hb C E hx
  subst hl hD hb
  have C : fb_OK x cX7_beside "FallsBetweenModel" "beside" := C
  refine gx_iload_n (q := 1) C dX7_beside_0 rfl rfl rfl ?_
  refine gx_bipush (q := 3) (v := nI 6) C dX7_beside_1 (by decide) rfl ?_
  refine gn_idiv (q := 4) C dX7_beside_3 (by omega) (by omega) (by omega) rfl ?_
  refine gx_iload_n (q := 5) C dX7_beside_4 rfl rfl rfl ?_
  refine gn_if_ne (q := 8) (tgt := 13) C dX7_beside_5 (by decide) rfl (by omega) (fun c5 => ?_) (fun c5 => by exfalso; omega)
  refine gx_iload_n (q := 14) C dX7_beside_13 rfl rfl rfl ?_
  refine gx_iconst (q := 15) (v := nI 2) C dX7_beside_14 (by decide) rfl ?_
  refine gn_icmp_ne (q := 18) (tgt := 22) C dX7_beside_15 (by decide) rfl (by omega) (by omega) (fun c15 => ?_) (fun c15 => by exfalso; omega)
  refine gx_iconst (q := 23) (v := nI 0) C dX7_beside_22 (by decide) rfl ?_
  refine gn_iadd (q := 24) C dX7_beside_23 rfl ?_
  refine gx_istore_n (q := 25) (lv' := [_, _, _, _, _]) C dX7_beside_24 rfl (Nat.le_of_ble_eq_true rfl) E.2.2.2.symm rfl rfl rfl ?_
  refine gx_iload_n (q := 26) C dX7_beside_25 rfl rfl rfl ?_
  refine gx_bipush (q := 28) (v := nI 6) C dX7_beside_26 (by decide) rfl ?_
  refine gn_irem (q := 29) C dX7_beside_28 (by omega) (by omega) (by omega) rfl ?_
  refine gx_iload_n (q := 30) C dX7_beside_29 rfl rfl rfl ?_
  refine gx_iconst (q := 31) (v := nI 1) C dX7_beside_30 (by decide) rfl ?_
  refine gn_icmp_ne (q := 34) (tgt := 38) C dX7_beside_31 (by decide) rfl (by omega) (by omega) (fun c31 => ?_) (fun c31 => by exfalso; omega)
  refine gx_iload_n (q := 39) C dX7_beside_38 rfl rfl rfl ?_
  refine gx_iconst (q := 40) (v := nI 3) C dX7_beside_39 (by decide) rfl ?_
  refine gn_icmp_ne (q := 43) (tgt := 48) C dX7_beside_40 (by decide) rfl (by omega) (by omega) (fun c40 => by exfalso; omega) (fun c40 => ?_)
  refine gx_iload_n (q := 44) C dX7_beside_43 rfl rfl rfl ?_
  refine gx_ineg (q := 45) C dX7_beside_44 (rfl) rfl ?_
  refine gx_goto (tgt := 49) C dX7_beside_45 (by decide) ?_
  refine gx_iadd (q := 50) C dX7_beside_49 (nI_an h) rfl ?_
  refine gx_istore (q := 52) (lv' := [_, _, _, _, _]) C dX7_beside_50 (Nat.le_of_ble_eq_true rfl) E.2.2.2.symm rfl rfl rfl ?_
  refine gx_iload_n (q := 53) C dX7_beside_52 rfl rfl rfl ?_
  refine gx_if_lt (q := 56) (tgt := 72) C dX7_beside_53 (by decide) rfl (fun c53 => by exfalso; exact nI_pos (by omega) c53) (fun c53 => ?_)
  refine gx_iload_n (q := 57) C dX7_beside_56 rfl rfl rfl ?_
  refine gx_iconst (q := 58) (v := nI 5) C dX7_beside_57 (by decide) rfl ?_
  refine gn_icmp_gt (q := 61) (tgt := 72) C dX7_beside_58 (by decide) rfl (by omega) (by omega) (fun c58 => by exfalso; omega) (fun c58 => ?_)
  refine gx_iload (q := 63) C dX7_beside_61 rfl rfl ?_
  refine gx_if_lt (q := 66) (tgt := 72) C dX7_beside_63 (by decide) rfl (fun c63 => by exfalso; exact nI_pos (by omega) c63) (fun c63 => ?_)
  refine gx_iload (q := 68) C dX7_beside_66 rfl rfl ?_
  refine gx_iconst (q := 69) (v := nI 5) C dX7_beside_68 (by decide) rfl ?_
  refine gn_icmp_le (q := 72) (tgt := 77) C dX7_beside_69 (by decide) rfl (by omega) (by omega) (fun c69 => ?_) (fun c69 => by exfalso; omega)
  refine gx_bipush (q := 79) (v := nI 6) C dX7_beside_77 (by decide) rfl ?_
  refine gx_iload_n (q := 80) C dX7_beside_79 rfl rfl rfl ?_
  refine gn_imul (q := 81) C dX7_beside_80 rfl ?_
  refine gx_iload (q := 83) C dX7_beside_81 rfl rfl ?_
  refine gn_iadd (q := 84) C dX7_beside_83 rfl ?_
  exact gx_iretE C E (by rw [show bes q 3 f = some (q - f) by simp [bes, h], sq_some]; congr 1; omega) dX7_beside_84 (rfl) (by omega) (by omega)
set_option maxHeartbeats 4000000 in
theorem md_bes3o (l : Launch) (D : va_G) (b : Nat) (M : List va_E) (q f : Nat) (hq : q < 36) (hf : f < 4) (h : q % 6 < f) : fb_CT l D b yX7_beside cX7_beside 5 (some .int) 0 0 0 0 [.int (nI q), .int (nI 3), .int (nI f)] M (.returned (some (.int (sq_ (bes q 3 f))))) (fun M' => M' = M) := by
  refine fb_start [some (.int (nI q)), some (.int (nI 3)), some (.int (nI f)), none, none] (by decide) (Nat.le_of_ble_eq_true rfl) rfl ?_
  intro x hl hD hb C E hx
  subst hl hD hb
  have C : fb_OK x cX7_beside "FallsBetweenModel" "beside" := C
  refine gx_iload_n (q := 1) C dX7_beside_0 rfl rfl rfl ?_
  refine gx_bipush (q := 3) (v := nI 6) C dX7_beside_1 (by decide) rfl ?_
  refine gn_idiv (q := 4) C dX7_beside_3 (by omega) (by omega) (by omega) rfl ?_
  refine gx_iload_n (q := 5) C dX7_beside_4 rfl rfl rfl ?_
  refine gn_if_ne (q := 8) (tgt := 13) C dX7_beside_5 (by decide) rfl (by omega) (fun c5 => ?_) (fun c5 => by exfalso; omega)
  refine gx_iload_n (q := 14) C dX7_beside_13 rfl rfl rfl ?_
  refine gx_iconst (q := 15) (v := nI 2) C dX7_beside_14 (by decide) rfl ?_
  refine gn_icmp_ne (q := 18) (tgt := 22) C dX7_beside_15 (by decide) rfl (by omega) (by omega) (fun c15 => ?_) (fun c15 => by exfalso; omega)
  refine gx_iconst (q := 23) (v := nI 0) C dX7_beside_22 (by decide) rfl ?_
  refine gn_iadd (q := 24) C dX7_beside_23 rfl ?_
  refine gx_istore_n (q := 25) (lv' := [_, _, _, _, _]) C dX7_beside_24 rfl (Nat.le_of_ble_eq_true rfl) E.2.2.2.symm rfl rfl rfl ?_
  refine gx_iload_n (q := 26) C dX7_beside_25 rfl rfl rfl ?_
  refine gx_bipush (q := 28) (v := nI 6) C dX7_beside_26 (by decide) rfl ?_
  refine gn_irem (q := 29) C dX7_beside_28 (by omega) (by omega) (by omega) rfl ?_
  refine gx_iload_n (q := 30) C dX7_beside_29 rfl rfl rfl ?_
  refine gx_iconst (q := 31) (v := nI 1) C dX7_beside_30 (by decide) rfl ?_
  refine gn_icmp_ne (q := 34) (tgt := 38) C dX7_beside_31 (by decide) rfl (by omega) (by omega) (fun c31 => ?_) (fun c31 => by exfalso; omega)
  refine gx_iload_n (q := 39) C dX7_beside_38 rfl rfl rfl ?_
  refine gx_iconst (q := 40) (v := nI 3) C dX7_beside_39 (by decide) rfl ?_
  refine gn_icmp_ne (q := 43) (tgt := 48) C dX7_beside_40 (by decide) rfl (by omega) (by omega) (fun c40 => by exfalso; omega) (fun c40 => ?_)
  refine gx_iload_n (q := 44) C dX7_beside_43 rfl rfl rfl ?_
  refine gx_ineg (q := 45) C dX7_beside_44 (rfl) rfl ?_
  refine gx_goto (tgt := 49) C dX7_beside_45 (by decide) ?_
  refine gx_iadd (q := 50) C dX7_beside_49 (rfl) rfl ?_
  refine gx_istore (q := 52) (lv' := [_, _, _, _, _]) C dX7_beside_50 (Nat.le_of_ble_eq_true rfl) E.2.2.2.symm rfl rfl rfl ?_
  refine gx_iload_n (q := 53) C dX7_beside_52 rfl rfl rfl ?_
  refine gx_if_lt (q := 56) (tgt := 72) C dX7_beside_53 (by decide) rfl (fun c53 => by exfalso; exact nI_pos (by omega) c53) (fun c53 => ?_)
  refine gx_iload_n (q := 57) C dX7_beside_56 rfl rfl rfl ?_
  refine gx_iconst (q := 58) (v := nI 5) C dX7_beside_57 (by decide) rfl ?_
  refine gn_icmp_gt (q := 61) (tgt := 72) C dX7_beside_58 (by decide) rfl (by omega) (by omega) (fun c58 => by exfalso; omega) (fun c58 => ?_)
  refine gx_iload (q := 63) C dX7_beside_61 rfl rfl ?_
  refine gx_if_lt (q := 66) (tgt := 72) C dX7_beside_63 (by decide) rfl (fun c63 => ?_) (fun c63 => by exfalso; exact c63 (nI_anl (by omega) h))
  refine gx_bipush (q := 74) (v := -9) C dX7_beside_72 (by decide) rfl ?_
  refine gx_goto (tgt := 84) C dX7_beside_74 (by decide) ?_
  exact gx_iretE C E (by rw [show bes q 3 f = none by simp [bes]; omega]; rfl) dX7_beside_84 (rfl) (by omega) (by omega)
theorem md_beside (l : Launch) (D : va_G) (b : Nat) (M : List va_E) (q s f : Nat) (hq : q < 36) (hs : s < 4) (hf : f < 4) : fb_CT l D b yX7_beside cX7_beside 5 (some .int) 0 0 0 0 [.int (nI q), .int (nI s), .int (nI f)] M (.returned (some (.int (sq_ (bes q s f))))) (fun M' => M' = M) := by
  match s, hs with
  | 0, _ =>
    rcases Nat.lt_or_ge (q / 6) f with h | h
    · exact md_bes0o l D b M q f hq hf h
    · exact md_bes0i l D b M q f hq hf h
  | 1, _ =>
    rcases Nat.lt_or_ge 5 (q % 6 + f) with h | h
    · exact md_bes1o l D b M q f hq hf h
    · exact md_bes1i l D b M q f hq hf h
  | 2, _ =>
    rcases Nat.lt_or_ge 5 (q / 6 + f) with h | h
    · exact md_bes2o l D b M q f hq hf h
    · exact md_bes2i l D b M q f hq hf h
  | 3, _ =>
    rcases Nat.lt_or_ge (q % 6) f with h | h
    · exact md_bes3o l D b M q f hq hf h
    · exact md_bes3i l D b M q f hq hf h
theorem oth_n {T : Nat → Nat} {q : Nat} {r : Option Nat} (h : r = none) : oth T q r = false := by rw [h]; rfl
theorem oth_e {T : Nat → Nat} {q z : Nat} {r : Option Nat} (h : r = some z) (e : T (12 + z) = T (12 + q)) : oth T q r = false := by rw [h]; exact decide_eq_false fun g => g e
theorem oth_d {T : Nat → Nat} {q z : Nat} {r : Option Nat} (h : r = some z) (e : ¬ T (12 + z) = T (12 + q)) : oth T q r = true := by rw [h]; exact decide_eq_true e
set_option maxHeartbeats 4000000 in
theorem md_isOtherBeside (l : Launch) (D : va_G) (b : Nat) (M : List va_E) {R T Ti Bf P F L Rw : Nat → Nat} {kp we : Bool} {td aa so lo ro : Nat} (q s : Nat) (hq : q < 36) (hs : s < 4) (hV : md_V D b M R T Ti Bf P F L Rw kp td aa we so lo ro) (hk : okT T) : fb_CT l D b yX7_isOtherBeside cX7_isOtherBeside 4 (some .boolean) 1 24 0 0 [.ref (b + 43), .int (nI q), .int (nI s)] M (.returned (some (.int (bI (oth T q (bes q s 1)))))) (fun M' => M' = M) := by
  refine fb_start [some (.ref (b + 43)), some (.int (nI q)), some (.int (nI s)), none] (by decide) (Nat.le_of_ble_eq_true rfl) rfl ?_
  intro x hl hD hb C E hx
  subst hl hD hb
  have C : fb_OK x cX7_isOtherBeside "FallsBetweenModel" "isOtherBeside" := C
  obtain ⟨k0, k1, k2, k3, k4, k5, k6, k7, k8⟩ := hk
  refine gx_iload_n (q := 1) C dX7_isOtherBeside_0 rfl rfl rfl ?_
  refine gx_iload_n (q := 2) C dX7_isOtherBeside_1 rfl rfl rfl ?_
  refine gx_iconst (q := 3) (v := nI 1) C dX7_isOtherBeside_2 (by decide) rfl ?_
  refine gx_cp (q := 6) C E (sx_X7_99 (As := [_, _, _]) C rfl rfl dX7_isOtherBeside_3) (md_beside _ _ _ _ q s 1 (by omega) (by omega) (by omega)) kw_X7_beside (by decide) (Nat.le_of_ble_eq_true rfl) (by omega) (by omega) dX7_isOtherBeside_3 rfl ?_
  refine gx_istore_n (q := 7) (lv' := [_, _, _, _]) C dX7_isOtherBeside_6 rfl (Nat.le_of_ble_eq_true rfl) E.2.2.2.symm rfl rfl rfl ?_
  refine gx_iload_n (q := 8) C dX7_isOtherBeside_7 rfl rfl rfl ?_
  refine gx_bipush (q := 10) (v := -9) C dX7_isOtherBeside_8 (by decide) rfl ?_
  refine gq_icmp_eq (q := 13) (tgt := 38) C dX7_isOtherBeside_10 (by decide) rfl (bes_lt31 hq) (fun c10 => ?_) (fun z10 c10 => ?_)
  · refine gx_iconst (q := 39) (v := nI 0) C dX7_isOtherBeside_38 (by decide) rfl ?_
    exact gx_zretE C E (by first | exact (congrArg bI (oth_n c10)).symm | exact (congrArg bI (oth_e c10 c31)).symm | exact (congrArg bI (oth_d c10 c31)).symm) (bI_nar _) dX7_isOtherBeside_39 (rfl) (by omega) (by omega)
  · rw [c10, sq_some]
    have hz := bes_lt hq c10
    refine gx_aload_n (q := 14) C dX7_isOtherBeside_13 rfl rfl rfl ?_
    refine fg_X7_13 (q := 17) C hV.o rfl dX7_isOtherBeside_14 rfl ?_
    refine gx_bipush (q := 19) (v := nI 12) C dX7_isOtherBeside_17 (by decide) rfl ?_
    refine gx_iload_n (q := 20) C dX7_isOtherBeside_19 rfl rfl rfl ?_
    refine gn_iadd (q := 21) C dX7_isOtherBeside_20 rfl ?_
    refine mv_ld_now (q := 22) C hV (by omega) dX7_isOtherBeside_21 rfl ?_
    refine gx_aload_n (q := 23) C dX7_isOtherBeside_22 rfl rfl rfl ?_
    refine fg_X7_13 (q := 26) C hV.o rfl dX7_isOtherBeside_23 rfl ?_
    refine gx_bipush (q := 28) (v := nI 12) C dX7_isOtherBeside_26 (by decide) rfl ?_
    refine gx_iload_n (q := 29) C dX7_isOtherBeside_28 rfl rfl rfl ?_
    refine gn_iadd (q := 30) C dX7_isOtherBeside_29 rfl ?_
    refine mv_ld_now (q := 31) C hV (by omega) dX7_isOtherBeside_30 rfl ?_
    refine gn_icmp_eq (q := 34) (tgt := 38) C dX7_isOtherBeside_31 (by decide) rfl (by have := k5 _ hz; omega) (by have := k5 _ hq; omega) (fun c31 => ?_) (fun c31 => ?_)
    · refine gx_iconst (q := 39) (v := nI 0) C dX7_isOtherBeside_38 (by decide) rfl ?_
      exact gx_zretE C E (by first | exact (congrArg bI (oth_n c10)).symm | exact (congrArg bI (oth_e c10 c31)).symm | exact (congrArg bI (oth_d c10 c31)).symm) (bI_nar _) dX7_isOtherBeside_39 (rfl) (by omega) (by omega)
    · refine gx_iconst (q := 35) (v := nI 1) C dX7_isOtherBeside_34 (by decide) rfl ?_
      refine gx_goto (tgt := 39) C dX7_isOtherBeside_35 (by decide) ?_
      exact gx_zretE C E (by first | exact (congrArg bI (oth_n c10)).symm | exact (congrArg bI (oth_e c10 c31)).symm | exact (congrArg bI (oth_d c10 c31)).symm) (bI_nar _) dX7_isOtherBeside_39 (rfl) (by omega) (by omega)
theorem rol_n {T : Nat → Nat} {q n : Nat} (h : bes q n 1 = none) : rol T q (n + 1) = rol T q n := by simp [rol, h]
theorem rol_k {T : Nat → Nat} {q n a : Nat} (h : bes q n 1 = some a) (g : T (48 + rol T q n) ≤ T (48 + a)) : rol T q (n + 1) = rol T q n := by simp only [rol, h]; rw [if_neg (by omega)]
theorem rol_l {T : Nat → Nat} {q n a : Nat} (h : bes q n 1 = some a) (g : T (48 + a) < T (48 + rol T q n)) : rol T q (n + 1) = a := by simp only [rol, h]; rw [if_pos g]
set_option maxHeartbeats 4000000 in
theorem md_rolled (l : Launch) (D : va_G) (b : Nat) (M : List va_E) {R T Ti Bf P F L Rw : Nat → Nat} {kp we : Bool} {td aa so lo ro : Nat} (q : Nat) (hq : q < 36) (hV : md_V D b M R T Ti Bf P F L Rw kp td aa we so lo ro) (hk : okT T) : fb_CT l D b yX7_rolled cX7_rolled 5 (some .int) 1 24 0 0 [.ref (b + 43), .int (nI q)] M (.returned (some (.int (nI (rol T q 4))))) (fun M' => M' = M) := by
  refine fb_start [some (.ref (b + 43)), some (.int (nI q)), none, none, none] (by decide) (Nat.le_of_ble_eq_true rfl) rfl ?_
  intro x hl hD hb C E hx
  subst hl hD hb
  have C : fb_OK x cX7_rolled "FallsBetweenModel" "rolled" := C
  obtain ⟨k0, k1, k2, k3, k4, k5, k6, k7, k8⟩ := hk
  refine gx_iload_n (q := 1) C dX7_rolled_0 rfl rfl rfl ?_
  refine gx_istore_n (q := 2) (lv' := [_, _, _, _, _]) C dX7_rolled_1 rfl (Nat.le_of_ble_eq_true rfl) E.2.2.2.symm rfl rfl rfl ?_
  refine gx_iconst (q := 3) (v := nI 0) C dX7_rolled_2 (by decide) rfl ?_
  refine gx_istore_n (q := 4) (lv' := [_, _, _, _, _]) C dX7_rolled_3 rfl (Nat.le_of_ble_eq_true rfl) E.2.2.2.symm rfl rfl rfl ?_
  have Lp : ∀ i, i ≤ 4 → fb_G x M 0 0 4 [some (.ref (cx_b x + 43)), some (.int (nI q)), some (.int (nI (rol T q i))), some (.int (nI i)), none] [] := by
    refine fb_dn 4 ?_ ?_
    · skip
      refine gx_iload_n (q := 5) C dX7_rolled_4 rfl rfl rfl ?_
      refine gx_iconst (q := 6) (v := nI 4) C dX7_rolled_5 (by decide) rfl ?_
      refine gn_icmp_ge (q := 9) (tgt := 59) C dX7_rolled_6 (by decide) rfl (by omega) (by omega) (fun c6 => ?_) (fun c6 => by exfalso; omega)
      refine gx_iload_n (q := 60) C dX7_rolled_59 rfl rfl rfl ?_
      exact gx_iret C E dX7_rolled_60 (rfl) (by omega) (by omega)
    · intro i hi ih
      have hr := rol_lt (T := T) hq i
      refine gx_iload_n (q := 5) C dX7_rolled_4 rfl rfl rfl ?_
      refine gx_iconst (q := 6) (v := nI 4) C dX7_rolled_5 (by decide) rfl ?_
      refine gn_icmp_ge (q := 9) (tgt := 59) C dX7_rolled_6 (by decide) rfl (by omega) (by omega) (fun c6 => by exfalso; omega) (fun c6 => ?_)
      refine gx_iload_n (q := 10) C dX7_rolled_9 rfl rfl rfl ?_
      refine gx_iload_n (q := 11) C dX7_rolled_10 rfl rfl rfl ?_
      refine gx_iconst (q := 12) (v := nI 1) C dX7_rolled_11 (by decide) rfl ?_
      refine gx_cp (q := 15) C E (sx_X7_99 (As := [_, _, _]) C rfl rfl dX7_rolled_12) (md_beside _ _ _ _ q i 1 (by omega) (by omega) (by omega)) kw_X7_beside (by decide) (Nat.le_of_ble_eq_true rfl) (by omega) (by omega) dX7_rolled_12 rfl ?_
      refine gx_istore (q := 17) (lv' := [_, _, _, _, _]) C dX7_rolled_15 (Nat.le_of_ble_eq_true rfl) E.2.2.2.symm rfl rfl rfl ?_
      refine gx_iload (q := 19) C dX7_rolled_17 rfl rfl ?_
      refine gx_bipush (q := 21) (v := -9) C dX7_rolled_19 (by decide) rfl ?_
      refine gq_icmp_eq (q := 24) (tgt := 51) C dX7_rolled_21 (by decide) rfl (bes_lt31 hq) (fun c21 => ?_) (fun z21 c21 => ?_)
      · rw [rol_n c21] at ih
        refine gx_iload_n (q := 52) C dX7_rolled_51 rfl rfl rfl ?_
        refine gx_istore_n (q := 53) (lv' := [_, _, _, _, _]) C dX7_rolled_52 rfl (Nat.le_of_ble_eq_true rfl) E.2.2.2.symm rfl rfl rfl ?_
        refine gn_inc (q := 56) (lv' := [_, _, _, _, _]) C dX7_rolled_53 rfl E.2.2.2.symm rfl rfl rfl ?_
        refine gx_goto (tgt := 4) C dX7_rolled_56 (by decide) ?_
        refine gx_drop 4 ?_
        exact ih
      · rw [c21, sq_some]
        have hz := bes_lt hq c21
        refine gx_aload_n (q := 25) C dX7_rolled_24 rfl rfl rfl ?_
        refine fg_X7_13 (q := 28) C hV.o rfl dX7_rolled_25 rfl ?_
        refine gx_bipush (q := 30) (v := nI 48) C dX7_rolled_28 (by decide) rfl ?_
        refine gx_iload (q := 32) C dX7_rolled_30 rfl rfl ?_
        refine gn_iadd (q := 33) C dX7_rolled_32 rfl ?_
        refine mv_ld_now (q := 34) C hV (by omega) dX7_rolled_33 rfl ?_
        refine gx_aload_n (q := 35) C dX7_rolled_34 rfl rfl rfl ?_
        refine fg_X7_13 (q := 38) C hV.o rfl dX7_rolled_35 rfl ?_
        refine gx_bipush (q := 40) (v := nI 48) C dX7_rolled_38 (by decide) rfl ?_
        refine gx_iload_n (q := 41) C dX7_rolled_40 rfl rfl rfl ?_
        refine gn_iadd (q := 42) C dX7_rolled_41 rfl ?_
        refine mv_ld_now (q := 43) C hV (by omega) dX7_rolled_42 rfl ?_
        refine gn_icmp_ge (q := 46) (tgt := 51) C dX7_rolled_43 (by decide) rfl (by have := k6 _ hz; omega) (by have := k6 _ hr; omega) (fun c43 => ?_) (fun c43 => ?_)
        · rw [rol_k c21 c43] at ih
          refine gx_iload_n (q := 52) C dX7_rolled_51 rfl rfl rfl ?_
          refine gx_istore_n (q := 53) (lv' := [_, _, _, _, _]) C dX7_rolled_52 rfl (Nat.le_of_ble_eq_true rfl) E.2.2.2.symm rfl rfl rfl ?_
          refine gn_inc (q := 56) (lv' := [_, _, _, _, _]) C dX7_rolled_53 rfl E.2.2.2.symm rfl rfl rfl ?_
          refine gx_goto (tgt := 4) C dX7_rolled_56 (by decide) ?_
          refine gx_drop 4 ?_
          exact ih
        · rw [rol_l c21 c43] at ih
          refine gx_iload (q := 48) C dX7_rolled_46 rfl rfl ?_
          refine gx_goto (tgt := 52) C dX7_rolled_48 (by decide) ?_
          refine gx_istore_n (q := 53) (lv' := [_, _, _, _, _]) C dX7_rolled_52 rfl (Nat.le_of_ble_eq_true rfl) E.2.2.2.symm rfl rfl rfl ?_
          refine gn_inc (q := 56) (lv' := [_, _, _, _, _]) C dX7_rolled_53 rfl E.2.2.2.symm rfl rfl rfl ?_
          refine gx_goto (tgt := 4) C dX7_rolled_56 (by decide) ?_
          refine gx_drop 4 ?_
          exact ih
  exact Lp 0 (by omega)
