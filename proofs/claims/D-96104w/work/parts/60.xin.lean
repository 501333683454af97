/-! the component is built -/
set_option maxRecDepth 100000
set_option maxHeartbeats 4000000 in
theorem li_X2 (l : Launch) (D : va_G) (b : Nat) (M : List va_E) (a : Nat) : fb_CT l D b yX2_init cX2_init 1 none 1 14 0 0 [.ref a] M (.returned none) (fun M' => M' = M) := by
  refine fb_start [some (.ref a)] (by decide) (Nat.le_of_ble_eq_true rfl) rfl ?_
  intro x hl hD hb C E hx
  subst hl hD hb
  have C : fb_OK x cX2_init "FallsBetween$Law" "<init>" := C
  refine gx_aload_n (q := 1) C dX2_init_0 rfl rfl rfl ?_
  refine gx_objInit (q := 4) C E q118 q104 q105 (by decide) (Nat.le_of_ble_eq_true rfl) dX2_init_1 rfl ?_
  exact gx_vret C E dX2_init_4 (rfl) (by omega) (by omega)
set_option maxHeartbeats 4000000 in
theorem li_X3 (l : Launch) (D : va_G) (b : Nat) (M : List va_E) (a : Nat) : fb_CT l D b yX3_init cX3_init 1 none 2 34 0 0 [.ref a] M (.returned none) (fun M' => M' = M) := by
  refine fb_start [some (.ref a)] (by decide) (Nat.le_of_ble_eq_true rfl) rfl ?_
  intro x hl hD hb C E hx
  subst hl hD hb
  have C : fb_OK x cX3_init "FallsBetween$Beside" "<init>" := C
  refine gx_aload_n (q := 1) C dX3_init_0 rfl rfl rfl ?_
  refine gx_cv (q := 4) C E (sx_X3_1 (As := []) C rfl rfl dX3_init_1) (li_X2 _ _ _ _ a) kw_X2_init (by decide) (Nat.le_of_ble_eq_true rfl) rfl rfl (by omega) (by omega) dX3_init_1 rfl (fun Mv rv => ?_)
  rw [rv]
  exact gx_vret C E dX3_init_4 (rfl) (by omega) (by omega)
set_option maxHeartbeats 4000000 in
theorem li_X4 (l : Launch) (D : va_G) (b : Nat) (M : List va_E) (a : Nat) : fb_CT l D b yX4_init cX4_init 1 none 3 54 0 0 [.ref a] M (.returned none) (fun M' => M' = M) := by
  refine fb_start [some (.ref a)] (by decide) (Nat.le_of_ble_eq_true rfl) rfl ?_
  intro x hl hD hb C E hx
  subst hl hD hb
  have C : fb_OK x cX4_init "FallsBetween$Corners" "<init>" := C
  refine gx_aload_n (q := 1) C dX4_init_0 rfl rfl rfl ?_
  refine gx_cv (q := 4) C E (sx_X4_3 (As := []) C rfl rfl dX4_init_1) (li_X3 _ _ _ _ a) kw_X3_init (by decide) (Nat.le_of_ble_eq_true rfl) rfl rfl (by omega) (by omega) dX4_init_1 rfl (fun Mv rv => ?_)
  rw [rv]
  exact gx_vret C E dX4_init_4 (rfl) (by omega) (by omega)
set_option maxHeartbeats 4000000 in
theorem li_X5 (l : Launch) (D : va_G) (b : Nat) (M : List va_E) (a : Nat) : fb_CT l D b yX5_init cX5_init 1 none 2 34 0 0 [.ref a] M (.returned none) (fun M' => M' = M) := by
  refine fb_start [some (.ref a)] (by decide) (Nat.le_of_ble_eq_true rfl) rfl ?_
  intro x hl hD hb C E hx
  subst hl hD hb
  have C : fb_OK x cX5_init "FallsBetween$Down" "<init>" := C
  refine gx_aload_n (q := 1) C dX5_init_0 rfl rfl rfl ?_
  refine gx_cv (q := 4) C E (sx_X5_1 (As := []) C rfl rfl dX5_init_1) (li_X2 _ _ _ _ a) kw_X2_init (by decide) (Nat.le_of_ble_eq_true rfl) rfl rfl (by omega) (by omega) dX5_init_1 rfl (fun Mv rv => ?_)
  rw [rv]
  exact gx_vret C E dX5_init_4 (rfl) (by omega) (by omega)
set_option maxHeartbeats 4000000 in
theorem li_X6 (l : Launch) (D : va_G) (b : Nat) (M : List va_E) (a : Nat) : fb_CT l D b yX6_init cX6_init 1 none 3 54 0 0 [.ref a] M (.returned none) (fun M' => M' = M) := by
  refine fb_start [some (.ref a)] (by decide) (Nat.le_of_ble_eq_true rfl) rfl ?_
  intro x hl hD hb C E hx
  subst hl hD hb
  have C : fb_OK x cX6_init "FallsBetween$Low" "<init>" := C
  refine gx_aload_n (q := 1) C dX6_init_0 rfl rfl rfl ?_
  refine gx_cv (q := 4) C E (sx_X6_1 (As := []) C rfl rfl dX6_init_1) (li_X5 _ _ _ _ a) kw_X5_init (by decide) (Nat.le_of_ble_eq_true rfl) rfl rfl (by omega) (by omega) dX6_init_1 rfl (fun Mv rv => ?_)
  rw [rv]
  exact gx_vret C E dX6_init_4 (rfl) (by omega) (by omega)
theorem asg_law {x : fb_X} {cc : ByteArray} {own nm : String} (C : fb_OK x cc own nm) {kd : Nat} (h : kd ≤ 4) : fb_asg x (2 + kd) RX2 := by
  rcases (by omega : kd = 0 ∨ kd = 1 ∨ kd = 2 ∨ kd = 3 ∨ kd = 4) with rfl | rfl | rfl | rfl | rfl
  · exact fb_asg.self C (ci := 2) rfl
  · exact fb_asg.up C (ci := 3) (r := (RX3, fb_T0, 0)) rfl q1396
  · exact fb_asg.up C (ci := 4) (r := (RX4, fb_T0, 0)) rfl q1397
  · exact fb_asg.up C (ci := 5) (r := (RX5, fb_T0, 0)) rfl q1398
  · exact fb_asg.up C (ci := 6) (r := (RX6, fb_T0, 0)) rfl q1399
set_option maxHeartbeats 4000000 in
theorem tx_init (l : Launch) (D : va_G) (b : Nat) (A : List va_E) (t : Nat) (hA : A.length = t) (ht : t + 13 ≤ 54) : fb_CT l D b yX1_init cX1_init 1 none 4 74 12 380 [.ref (b + t)] (A ++ [ob 1 [.null, .null, .null, .null, .int 0, .null, .int 0, .int 0, .int 0, .null, .null, .int 0]]) (.returned none) (fun M' => tw_V D b M' t (fun _ => 0) (fun _ => 0) 0 ∧ M'.length = t + 13 ∧ ∀ j : Nat, j < t → M'[j]? = A[j]?) := by
  refine fb_start [some (.ref (b + t))] (by decide) (Nat.le_of_ble_eq_true rfl) rfl ?_
  intro x hl hD hb C E hx
  subst hl hD hb
  have C : fb_OK x cX1_init "FallsBetween$Town" "<init>" := C
  refine gx_aload_n (q := 1) C dX1_init_0 rfl rfl rfl ?_
  refine gx_objInit (q := 4) C E q111 q104 q105 (by decide) (Nat.le_of_ble_eq_true rfl) dX1_init_1 rfl ?_
  refine gx_aload_n (q := 5) C dX1_init_4 rfl rfl rfl ?_
  refine gx_iconst (q := 6) (v := nI 5) C dX1_init_5 (by decide) rfl ?_
  refine cn_newq (q := 9) (t := 104) (t0 := 4) (k0 := 1) (m := (t + 1)) C E hA rfl rfl rfl q112 q113 (by decide) (by omega) (by omega) dX1_init_6 rfl ?_
  dsimp only [List.cons_append, List.nil_append]
  refine gx_dup (q := 10) C dX1_init_9 rfl rfl ?_
  refine gx_iconst (q := 11) (v := nI 0) C dX1_init_10 (by decide) rfl ?_
  refine cn_new (q := 14) (ci := 2) (fs := []) (k0 := 2) (m := (t + 2)) C E hA rfl rfl rfl (fun _ h => by cases h) (fun _ => .int) (fun _ h => absurd h (Nat.not_lt_zero _)) q112 q114 q70 (by decide) (by omega) (by omega) dX1_init_11 rfl ?_
  dsimp only [List.cons_append, List.nil_append]
  refine gx_dup (q := 15) C dX1_init_14 rfl rfl ?_
  refine gx_cv (q := 18) C E (sx_X1_11 (As := []) C rfl rfl dX1_init_15) (li_X2 _ _ _ _ _) kw_X2_init (by decide) (Nat.le_of_ble_eq_true rfl) rfl rfl (by omega) (by omega) dX1_init_15 rfl (fun Mv rv => ?_)
  rw [rv]
  refine gx_aast (q := 19) (t0 := 4) C (cn_at (i := 1) hA rfl rfl) rfl (by decide) (by decide) (cn_at (i := 2) hA rfl rfl) (asg_law C (kd := 0) (by decide)) dX1_init_18 rfl ?_
  refine cn_set (i := 1) hA rfl ?_
  dsimp only [List.set]
  refine gx_dup (q := 20) C dX1_init_19 rfl rfl ?_
  refine gx_iconst (q := 21) (v := nI 1) C dX1_init_20 (by decide) rfl ?_
  refine cn_new (q := 24) (ci := 3) (fs := []) (k0 := 3) (m := (t + 3)) C E hA rfl rfl rfl (fun _ h => by cases h) (fun _ => .int) (fun _ h => absurd h (Nat.not_lt_zero _)) q120 q121 q71 (by decide) (by omega) (by omega) dX1_init_21 rfl ?_
  dsimp only [List.cons_append, List.nil_append]
  refine gx_dup (q := 25) C dX1_init_24 rfl rfl ?_
  refine gx_cv (q := 28) C E (sx_X1_14 (As := []) C rfl rfl dX1_init_25) (li_X3 _ _ _ _ _) kw_X3_init (by decide) (Nat.le_of_ble_eq_true rfl) rfl rfl (by omega) (by omega) dX1_init_25 rfl (fun Mv rv => ?_)
  rw [rv]
  refine gx_aast (q := 29) (t0 := 4) C (cn_at (i := 1) hA rfl rfl) rfl (by decide) (by decide) (cn_at (i := 3) hA rfl rfl) (asg_law C (kd := 1) (by decide)) dX1_init_28 rfl ?_
  refine cn_set (i := 1) hA rfl ?_
  dsimp only [List.set]
  refine gx_dup (q := 30) C dX1_init_29 rfl rfl ?_
  refine gx_iconst (q := 31) (v := nI 2) C dX1_init_30 (by decide) rfl ?_
  refine cn_new (q := 34) (ci := 4) (fs := []) (k0 := 4) (m := (t + 4)) C E hA rfl rfl rfl (fun _ h => by cases h) (fun _ => .int) (fun _ h => absurd h (Nat.not_lt_zero _)) q127 q128 q72 (by decide) (by omega) (by omega) dX1_init_31 rfl ?_
  dsimp only [List.cons_append, List.nil_append]
  refine gx_dup (q := 35) C dX1_init_34 rfl rfl ?_
  refine gx_cv (q := 38) C E (sx_X1_17 (As := []) C rfl rfl dX1_init_35) (li_X4 _ _ _ _ _) kw_X4_init (by decide) (Nat.le_of_ble_eq_true rfl) rfl rfl (by omega) (by omega) dX1_init_35 rfl (fun Mv rv => ?_)
  rw [rv]
  refine gx_aast (q := 39) (t0 := 4) C (cn_at (i := 1) hA rfl rfl) rfl (by decide) (by decide) (cn_at (i := 4) hA rfl rfl) (asg_law C (kd := 2) (by decide)) dX1_init_38 rfl ?_
  refine cn_set (i := 1) hA rfl ?_
  dsimp only [List.set]
  refine gx_dup (q := 40) C dX1_init_39 rfl rfl ?_
  refine gx_iconst (q := 41) (v := nI 3) C dX1_init_40 (by decide) rfl ?_
  refine cn_new (q := 44) (ci := 5) (fs := []) (k0 := 5) (m := (t + 5)) C E hA rfl rfl rfl (fun _ h => by cases h) (fun _ => .int) (fun _ h => absurd h (Nat.not_lt_zero _)) q134 q135 q73 (by decide) (by omega) (by omega) dX1_init_41 rfl ?_
  dsimp only [List.cons_append, List.nil_append]
  refine gx_dup (q := 45) C dX1_init_44 rfl rfl ?_
  refine gx_cv (q := 48) C E (sx_X1_20 (As := []) C rfl rfl dX1_init_45) (li_X5 _ _ _ _ _) kw_X5_init (by decide) (Nat.le_of_ble_eq_true rfl) rfl rfl (by omega) (by omega) dX1_init_45 rfl (fun Mv rv => ?_)
  rw [rv]
  refine gx_aast (q := 49) (t0 := 4) C (cn_at (i := 1) hA rfl rfl) rfl (by decide) (by decide) (cn_at (i := 5) hA rfl rfl) (asg_law C (kd := 3) (by decide)) dX1_init_48 rfl ?_
  refine cn_set (i := 1) hA rfl ?_
  dsimp only [List.set]
  refine gx_dup (q := 50) C dX1_init_49 rfl rfl ?_
  refine gx_iconst (q := 51) (v := nI 4) C dX1_init_50 (by decide) rfl ?_
  refine cn_new (q := 54) (ci := 6) (fs := []) (k0 := 6) (m := (t + 6)) C E hA rfl rfl rfl (fun _ h => by cases h) (fun _ => .int) (fun _ h => absurd h (Nat.not_lt_zero _)) q141 q142 q74 (by decide) (by omega) (by omega) dX1_init_51 rfl ?_
  dsimp only [List.cons_append, List.nil_append]
  refine gx_dup (q := 55) C dX1_init_54 rfl rfl ?_
  refine gx_cv (q := 58) C E (sx_X1_23 (As := []) C rfl rfl dX1_init_55) (li_X6 _ _ _ _ _) kw_X6_init (by decide) (Nat.le_of_ble_eq_true rfl) rfl rfl (by omega) (by omega) dX1_init_55 rfl (fun Mv rv => ?_)
  rw [rv]
  refine gx_aast (q := 59) (t0 := 4) C (cn_at (i := 1) hA rfl rfl) rfl (by decide) (by decide) (cn_at (i := 6) hA rfl rfl) (asg_law C (kd := 4) (by decide)) dX1_init_58 rfl ?_
  refine cn_set (i := 1) hA rfl ?_
  dsimp only [List.set]
  refine fp_X1_24 (q := 62) C (cn_at (i := 0) hA rfl rfl) rfl dX1_init_59 rfl ?_
  refine cn_set (i := 0) hA rfl ?_
  dsimp only [List.set]
  refine gx_aload_n (q := 63) C dX1_init_62 rfl rfl rfl ?_
  refine gx_bipush (q := 65) (v := nI 36) C dX1_init_63 (by decide) rfl ?_
  refine cn_newa_i (q := 67) (k0 := 7) (m := (t + 7)) C E hA rfl rfl q209 (by decide) (by omega) (by omega) dX1_init_65 rfl ?_
  dsimp only [List.cons_append, List.nil_append]
  refine fp_X1_30 (q := 70) C (cn_at (i := 0) hA rfl rfl) rfl dX1_init_67 rfl ?_
  refine cn_set (i := 0) hA rfl ?_
  dsimp only [List.set]
  refine gx_aload_n (q := 71) C dX1_init_70 rfl rfl rfl ?_
  refine gx_bipush (q := 73) (v := nI 36) C dX1_init_71 (by decide) rfl ?_
  refine cn_newa_i (q := 75) (k0 := 8) (m := (t + 8)) C E hA rfl rfl q209 (by decide) (by omega) (by omega) dX1_init_73 rfl ?_
  dsimp only [List.cons_append, List.nil_append]
  refine fp_X1_34 (q := 78) C (cn_at (i := 0) hA rfl rfl) rfl dX1_init_75 rfl ?_
  refine cn_set (i := 0) hA rfl ?_
  dsimp only [List.set]
  refine gx_aload_n (q := 79) C dX1_init_78 rfl rfl rfl ?_
  refine gx_bipush (q := 81) (v := nI 36) C dX1_init_79 (by decide) rfl ?_
  refine cn_newa_z (q := 83) (k0 := 9) (m := (t + 9)) C E hA rfl rfl q210 (by decide) (by omega) (by omega) dX1_init_81 rfl ?_
  dsimp only [List.cons_append, List.nil_append]
  refine fp_X1_37 (q := 86) C (cn_at (i := 0) hA rfl rfl) rfl dX1_init_83 rfl ?_
  refine cn_set (i := 0) hA rfl ?_
  dsimp only [List.set]
  refine gx_aload_n (q := 87) C dX1_init_86 rfl rfl rfl ?_
  refine gx_bipush (q := 89) (v := nI 7) C dX1_init_87 (by decide) rfl ?_
  refine cn_newq (q := 92) (t := 105) (t0 := 5) (k0 := 10) (m := (t + 10)) C E hA rfl rfl rfl q148 q149 (by decide) (by omega) (by omega) dX1_init_89 rfl ?_
  dsimp only [List.cons_append, List.nil_append]
  refine fp_X1_43 (q := 95) C (cn_at (i := 0) hA rfl rfl) rfl dX1_init_92 rfl ?_
  refine cn_set (i := 0) hA rfl ?_
  dsimp only [List.set]
  refine gx_aload_n (q := 96) C dX1_init_95 rfl rfl rfl ?_
  refine gx_bipush (q := 98) (v := nI 8) C dX1_init_96 (by decide) rfl ?_
  refine cn_newa_i (q := 100) (k0 := 11) (m := (t + 11)) C E hA rfl rfl q209 (by decide) (by omega) (by omega) dX1_init_98 rfl ?_
  dsimp only [List.cons_append, List.nil_append]
  refine fp_X1_47 (q := 103) C (cn_at (i := 0) hA rfl rfl) rfl dX1_init_100 rfl ?_
  refine cn_set (i := 0) hA rfl ?_
  dsimp only [List.set]
  refine gx_aload_n (q := 104) C dX1_init_103 rfl rfl rfl ?_
  refine gx_sipush (q := 107) (v := nI 252) C dX1_init_104 (by decide) rfl ?_
  refine cn_newa_i (q := 109) (k0 := 12) (m := (t + 12)) C E hA rfl rfl q209 (by decide) (by omega) (by omega) dX1_init_107 rfl ?_
  dsimp only [List.cons_append, List.nil_append]
  refine fp_X1_50 (q := 112) C (cn_at (i := 0) hA rfl rfl) rfl dX1_init_109 rfl ?_
  refine cn_set (i := 0) hA rfl ?_
  dsimp only [List.set]
  exact gx_vret C E dX1_init_112 (by
  refine ⟨⟨ht, (cn_at (i := 0) hA rfl rfl), ⟨_, (cn_at (i := 1) hA rfl rfl), fun i hi => by rcases (by omega : i = 0 ∨ i = 1 ∨ i = 2 ∨ i = 3 ∨ i = 4) with rfl | rfl | rfl | rfl | rfl <;> rfl⟩, fun i hi => by rcases (by omega : i = 0 ∨ i = 1 ∨ i = 2 ∨ i = 3 ∨ i = 4) with rfl | rfl | rfl | rfl | rfl; exact (cn_at (i := 2) hA rfl rfl); exact (cn_at (i := 3) hA rfl rfl); exact (cn_at (i := 4) hA rfl rfl); exact (cn_at (i := 5) hA rfl rfl); exact (cn_at (i := 6) hA rfl rfl), ⟨_, (cn_at (i := 7) hA rfl rfl), fun _ _ => rfl⟩, ⟨_, (cn_at (i := 8) hA rfl rfl), fun _ _ => rfl⟩, ⟨_, (cn_at (i := 9) hA rfl rfl), fun _ _ => rfl⟩, ⟨_, (cn_at (i := 10) hA rfl rfl), fun i hi => absurd hi (Nat.not_lt_zero i), fun i hi => Or.inl rfl⟩, ⟨_, (cn_at (i := 11) hA rfl rfl), fun _ _ => rfl⟩, ⟨_, (cn_at (i := 12) hA rfl rfl), fun _ _ => rfl⟩⟩, ?_, ?_⟩
  · rw [List.length_append, hA]; rfl
  · exact fun j hj => cn_lo (by omega)) (by omega) (by omega)
