/-! what is told comes to a town -/
set_option maxRecDepth 100000
set_option maxHeartbeats 800000 in
theorem tg_20_20 (l : Launch) (D : va_G) (b : Nat) (M : List va_E) (j a q v : Nat) (hq : q < 2 ^ 31) (hv : v < 2 ^ 31) (hM : M[j]? = some (ob 20 [.int (nI a), .int (nI q), .int (nI v)])) : fb_CT l D b yX20_isGood cX20_isGood 1 (some .boolean) 0 0 0 0 [.ref (b + j)] M (.returned (some (.int (bI (decide (q < 36)))))) (fun M' => M' = M) := by
  refine fb_start [some (.ref (b + j))] (by decide) (Nat.le_of_ble_eq_true rfl) rfl ?_
  intro x hl hD hb C E hx
  subst hl hD hb
  have C : fb_OK x cX20_isGood "FallsBetween$SquareTold" "isGood" := C
  refine gx_aload_n (q := 1) C dX20_isGood_0 rfl rfl rfl ?_
  refine fg_X20_9_X20 (q := 4) C hM rfl dX20_isGood_1 rfl ?_
  refine gx_bipush (q := 6) (v := nI 36) C dX20_isGood_4 (by decide) rfl ?_
  refine gn_icmp_ge (q := 9) (tgt := 13) C dX20_isGood_6 (by decide) rfl (by omega) (by omega) (fun c6 => ?_) (fun c6 => ?_)
  · refine gx_iconst (q := 14) (v := bI (decide (q < 36))) C dX20_isGood_13 (by rw [decide_eq_false (by omega)]; rfl) rfl ?_
    exact gx_zret C E (by first | exact bI_nar _ | rfl) dX20_isGood_14 (rfl) (by omega) (by omega)
  · refine gx_iconst (q := 10) (v := bI (decide (q < 36))) C dX20_isGood_9 (by rw [decide_eq_true c6]; rfl) rfl ?_
    refine gx_goto (tgt := 14) C dX20_isGood_10 (by decide) ?_
    exact gx_zret C E (by first | exact bI_nar _ | rfl) dX20_isGood_14 (rfl) (by omega) (by omega)
set_option maxHeartbeats 800000 in
theorem tg_20_21 (l : Launch) (D : va_G) (b : Nat) (M : List va_E) (j a q v : Nat) (hq : q < 2 ^ 31) (hv : v < 2 ^ 31) (hM : M[j]? = some (ob 21 [.int (nI a), .int (nI q), .int (nI v)])) : fb_CT l D b yX20_isGood cX20_isGood 1 (some .boolean) 0 0 0 0 [.ref (b + j)] M (.returned (some (.int (bI (decide (q < 36)))))) (fun M' => M' = M) := by
  refine fb_start [some (.ref (b + j))] (by decide) (Nat.le_of_ble_eq_true rfl) rfl ?_
  intro x hl hD hb C E hx
  subst hl hD hb
  have C : fb_OK x cX20_isGood "FallsBetween$SquareTold" "isGood" := C
  refine gx_aload_n (q := 1) C dX20_isGood_0 rfl rfl rfl ?_
  refine fg_X20_9_X21 (q := 4) C hM rfl dX20_isGood_1 rfl ?_
  refine gx_bipush (q := 6) (v := nI 36) C dX20_isGood_4 (by decide) rfl ?_
  refine gn_icmp_ge (q := 9) (tgt := 13) C dX20_isGood_6 (by decide) rfl (by omega) (by omega) (fun c6 => ?_) (fun c6 => ?_)
  · refine gx_iconst (q := 14) (v := bI (decide (q < 36))) C dX20_isGood_13 (by rw [decide_eq_false (by omega)]; rfl) rfl ?_
    exact gx_zret C E (by first | exact bI_nar _ | rfl) dX20_isGood_14 (rfl) (by omega) (by omega)
  · refine gx_iconst (q := 10) (v := bI (decide (q < 36))) C dX20_isGood_9 (by rw [decide_eq_true c6]; rfl) rfl ?_
    refine gx_goto (tgt := 14) C dX20_isGood_10 (by decide) ?_
    exact gx_zret C E (by first | exact bI_nar _ | rfl) dX20_isGood_14 (rfl) (by omega) (by omega)
set_option maxHeartbeats 800000 in
theorem tg_20_22 (l : Launch) (D : va_G) (b : Nat) (M : List va_E) (j a q v : Nat) (hq : q < 2 ^ 31) (hv : v < 2 ^ 31) (hM : M[j]? = some (ob 22 [.int (nI a), .int (nI q), .int (nI v)])) : fb_CT l D b yX20_isGood cX20_isGood 1 (some .boolean) 0 0 0 0 [.ref (b + j)] M (.returned (some (.int (bI (decide (q < 36)))))) (fun M' => M' = M) := by
  refine fb_start [some (.ref (b + j))] (by decide) (Nat.le_of_ble_eq_true rfl) rfl ?_
  intro x hl hD hb C E hx
  subst hl hD hb
  have C : fb_OK x cX20_isGood "FallsBetween$SquareTold" "isGood" := C
  refine gx_aload_n (q := 1) C dX20_isGood_0 rfl rfl rfl ?_
  refine fg_X20_9_X22 (q := 4) C hM rfl dX20_isGood_1 rfl ?_
  refine gx_bipush (q := 6) (v := nI 36) C dX20_isGood_4 (by decide) rfl ?_
  refine gn_icmp_ge (q := 9) (tgt := 13) C dX20_isGood_6 (by decide) rfl (by omega) (by omega) (fun c6 => ?_) (fun c6 => ?_)
  · refine gx_iconst (q := 14) (v := bI (decide (q < 36))) C dX20_isGood_13 (by rw [decide_eq_false (by omega)]; rfl) rfl ?_
    exact gx_zret C E (by first | exact bI_nar _ | rfl) dX20_isGood_14 (rfl) (by omega) (by omega)
  · refine gx_iconst (q := 10) (v := bI (decide (q < 36))) C dX20_isGood_9 (by rw [decide_eq_true c6]; rfl) rfl ?_
    refine gx_goto (tgt := 14) C dX20_isGood_10 (by decide) ?_
    exact gx_zret C E (by first | exact bI_nar _ | rfl) dX20_isGood_14 (rfl) (by omega) (by omega)
set_option maxHeartbeats 800000 in
theorem tg_20_24 (l : Launch) (D : va_G) (b : Nat) (M : List va_E) (j a q v : Nat) (hq : q < 2 ^ 31) (hv : v < 2 ^ 31) (hM : M[j]? = some (ob 24 [.int (nI a), .int (nI q), .int (nI v)])) : fb_CT l D b yX20_isGood cX20_isGood 1 (some .boolean) 0 0 0 0 [.ref (b + j)] M (.returned (some (.int (bI (decide (q < 36)))))) (fun M' => M' = M) := by
  refine fb_start [some (.ref (b + j))] (by decide) (Nat.le_of_ble_eq_true rfl) rfl ?_
  intro x hl hD hb C E hx
  subst hl hD hb
  have C : fb_OK x cX20_isGood "FallsBetween$SquareTold" "isGood" := C
  refine gx_aload_n (q := 1) C dX20_isGood_0 rfl rfl rfl ?_
  refine fg_X20_9_X24 (q := 4) C hM rfl dX20_isGood_1 rfl ?_
  refine gx_bipush (q := 6) (v := nI 36) C dX20_isGood_4 (by decide) rfl ?_
  refine gn_icmp_ge (q := 9) (tgt := 13) C dX20_isGood_6 (by decide) rfl (by omega) (by omega) (fun c6 => ?_) (fun c6 => ?_)
  · refine gx_iconst (q := 14) (v := bI (decide (q < 36))) C dX20_isGood_13 (by rw [decide_eq_false (by omega)]; rfl) rfl ?_
    exact gx_zret C E (by first | exact bI_nar _ | rfl) dX20_isGood_14 (rfl) (by omega) (by omega)
  · refine gx_iconst (q := 10) (v := bI (decide (q < 36))) C dX20_isGood_9 (by rw [decide_eq_true c6]; rfl) rfl ?_
    refine gx_goto (tgt := 14) C dX20_isGood_10 (by decide) ?_
    exact gx_zret C E (by first | exact bI_nar _ | rfl) dX20_isGood_14 (rfl) (by omega) (by omega)
set_option maxHeartbeats 800000 in
theorem tg_21_21 (l : Launch) (D : va_G) (b : Nat) (M : List va_E) (j a q v : Nat) (hq : q < 2 ^ 31) (hv : v < 2 ^ 31) (hM : M[j]? = some (ob 21 [.int (nI a), .int (nI q), .int (nI v)])) : fb_CT l D b yX21_isGood cX21_isGood 1 (some .boolean) 1 20 0 0 [.ref (b + j)] M (.returned (some (.int (bI (decide (q < 36) && decide (v < 4)))))) (fun M' => M' = M) := by
  refine fb_start [some (.ref (b + j))] (by decide) (Nat.le_of_ble_eq_true rfl) rfl ?_
  intro x hl hD hb C E hx
  subst hl hD hb
  have C : fb_OK x cX21_isGood "FallsBetween$GardenTold" "isGood" := C
  refine gx_aload_n (q := 1) C dX21_isGood_0 rfl rfl rfl ?_
  refine gx_cp (q := 4) C E (sx_X21_9_X21 (As := []) C hM rfl rfl dX21_isGood_1) (tg_20_21 _ _ _ _ j a q v hq hv hM) kw_X20_isGood (by decide) (Nat.le_of_ble_eq_true rfl) (by omega) (by omega) dX21_isGood_1 rfl ?_
  refine gb_if_eq (q := 7) (tgt := 19) C dX21_isGood_4 (by decide) rfl (fun c4 => ?_) (fun c4 => ?_)
  · have hZ : false = (decide (q < 36) && decide (v < 4)) := by rw [c4]; rfl
    refine gx_iconst (q := 20) (v := bI false) C dX21_isGood_19 (by decide) rfl ?_
    exact gx_zretE C E (by rw [← hZ]) (by first | exact bI_nar _ | rfl) dX21_isGood_20 (rfl) (by omega) (by omega)
  · refine gx_aload_n (q := 8) C dX21_isGood_7 rfl rfl rfl ?_
    refine fg_X21_13_X21 (q := 11) C hM rfl dX21_isGood_8 rfl ?_
    refine gx_iconst (q := 12) (v := nI 4) C dX21_isGood_11 (by decide) rfl ?_
    refine gn_icmp_ge (q := 15) (tgt := 19) C dX21_isGood_12 (by decide) rfl (by omega) (by omega) (fun c12 => ?_) (fun c12 => ?_)
    · have hZ : false = (decide (q < 36) && decide (v < 4)) := by rw [decide_eq_false (by omega : ¬ v < 4), Bool.and_false]
      refine gx_iconst (q := 20) (v := bI false) C dX21_isGood_19 (by decide) rfl ?_
      exact gx_zretE C E (by rw [← hZ]) (by first | exact bI_nar _ | rfl) dX21_isGood_20 (rfl) (by omega) (by omega)
    · have hZ : true = (decide (q < 36) && decide (v < 4)) := by rw [c4, decide_eq_true c12]; rfl
      refine gx_iconst (q := 16) (v := bI true) C dX21_isGood_15 (by decide) rfl ?_
      refine gx_goto (tgt := 20) C dX21_isGood_16 (by decide) ?_
      exact gx_zretE C E (by rw [← hZ]) (by first | exact bI_nar _ | rfl) dX21_isGood_20 (rfl) (by omega) (by omega)
set_option maxHeartbeats 800000 in
theorem tg_21_22 (l : Launch) (D : va_G) (b : Nat) (M : List va_E) (j a q v : Nat) (hq : q < 2 ^ 31) (hv : v < 2 ^ 31) (hM : M[j]? = some (ob 22 [.int (nI a), .int (nI q), .int (nI v)])) : fb_CT l D b yX21_isGood cX21_isGood 1 (some .boolean) 1 20 0 0 [.ref (b + j)] M (.returned (some (.int (bI (decide (q < 36) && decide (v < 4)))))) (fun M' => M' = M) := by
  refine fb_start [some (.ref (b + j))] (by decide) (Nat.le_of_ble_eq_true rfl) rfl ?_
  intro x hl hD hb C E hx
  subst hl hD hb
  have C : fb_OK x cX21_isGood "FallsBetween$GardenTold" "isGood" := C
  refine gx_aload_n (q := 1) C dX21_isGood_0 rfl rfl rfl ?_
  refine gx_cp (q := 4) C E (sx_X21_9_X22 (As := []) C hM rfl rfl dX21_isGood_1) (tg_20_22 _ _ _ _ j a q v hq hv hM) kw_X20_isGood (by decide) (Nat.le_of_ble_eq_true rfl) (by omega) (by omega) dX21_isGood_1 rfl ?_
  refine gb_if_eq (q := 7) (tgt := 19) C dX21_isGood_4 (by decide) rfl (fun c4 => ?_) (fun c4 => ?_)
  · have hZ : false = (decide (q < 36) && decide (v < 4)) := by rw [c4]; rfl
    refine gx_iconst (q := 20) (v := bI false) C dX21_isGood_19 (by decide) rfl ?_
    exact gx_zretE C E (by rw [← hZ]) (by first | exact bI_nar _ | rfl) dX21_isGood_20 (rfl) (by omega) (by omega)
  · refine gx_aload_n (q := 8) C dX21_isGood_7 rfl rfl rfl ?_
    refine fg_X21_13_X22 (q := 11) C hM rfl dX21_isGood_8 rfl ?_
    refine gx_iconst (q := 12) (v := nI 4) C dX21_isGood_11 (by decide) rfl ?_
    refine gn_icmp_ge (q := 15) (tgt := 19) C dX21_isGood_12 (by decide) rfl (by omega) (by omega) (fun c12 => ?_) (fun c12 => ?_)
    · have hZ : false = (decide (q < 36) && decide (v < 4)) := by rw [decide_eq_false (by omega : ¬ v < 4), Bool.and_false]
      refine gx_iconst (q := 20) (v := bI false) C dX21_isGood_19 (by decide) rfl ?_
      exact gx_zretE C E (by rw [← hZ]) (by first | exact bI_nar _ | rfl) dX21_isGood_20 (rfl) (by omega) (by omega)
    · have hZ : true = (decide (q < 36) && decide (v < 4)) := by rw [c4, decide_eq_true c12]; rfl
      refine gx_iconst (q := 16) (v := bI true) C dX21_isGood_15 (by decide) rfl ?_
      refine gx_goto (tgt := 20) C dX21_isGood_16 (by decide) ?_
      exact gx_zretE C E (by rw [← hZ]) (by first | exact bI_nar _ | rfl) dX21_isGood_20 (rfl) (by omega) (by omega)
set_option maxHeartbeats 800000 in
theorem tg_22_22 (l : Launch) (D : va_G) (b : Nat) (M : List va_E) (j a q v : Nat) (hq : q < 2 ^ 31) (hv : v < 2 ^ 31) (hM : M[j]? = some (ob 22 [.int (nI a), .int (nI q), .int (nI v)])) : fb_CT l D b yX22_isGood cX22_isGood 1 (some .boolean) 2 40 0 0 [.ref (b + j)] M (.returned (some (.int (bI (decide (q < 36) && decide (v < 4) && decide (q < 6)))))) (fun M' => M' = M) := by
  refine fb_start [some (.ref (b + j))] (by decide) (Nat.le_of_ble_eq_true rfl) rfl ?_
  intro x hl hD hb C E hx
  subst hl hD hb
  have C : fb_OK x cX22_isGood "FallsBetween$ColumnTold" "isGood" := C
  refine gx_aload_n (q := 1) C dX22_isGood_0 rfl rfl rfl ?_
  refine gx_cp (q := 4) C E (sx_X22_9_X22 (As := []) C hM rfl rfl dX22_isGood_1) (tg_21_22 _ _ _ _ j a q v hq hv hM) kw_X21_isGood (by decide) (Nat.le_of_ble_eq_true rfl) (by omega) (by omega) dX22_isGood_1 rfl ?_
  refine gb_if_eq (q := 7) (tgt := 20) C dX22_isGood_4 (by decide) rfl (fun c4 => ?_) (fun c4 => ?_)
  · have hZ : false = (decide (q < 36) && decide (v < 4) && decide (q < 6)) := by rw [c4]; rfl
    refine gx_iconst (q := 21) (v := bI false) C dX22_isGood_20 (by decide) rfl ?_
    exact gx_zretE C E (by rw [← hZ]) (by first | exact bI_nar _ | rfl) dX22_isGood_21 (rfl) (by omega) (by omega)
  · refine gx_aload_n (q := 8) C dX22_isGood_7 rfl rfl rfl ?_
    refine fg_X22_13 (q := 11) C hM rfl dX22_isGood_8 rfl ?_
    refine gx_bipush (q := 13) (v := nI 6) C dX22_isGood_11 (by decide) rfl ?_
    refine gn_icmp_ge (q := 16) (tgt := 20) C dX22_isGood_13 (by decide) rfl (by omega) (by omega) (fun c13 => ?_) (fun c13 => ?_)
    · have hZ : false = (decide (q < 36) && decide (v < 4) && decide (q < 6)) := by rw [decide_eq_false (by omega : ¬ q < 6), Bool.and_false]
      refine gx_iconst (q := 21) (v := bI false) C dX22_isGood_20 (by decide) rfl ?_
      exact gx_zretE C E (by rw [← hZ]) (by first | exact bI_nar _ | rfl) dX22_isGood_21 (rfl) (by omega) (by omega)
    · have hZ : true = (decide (q < 36) && decide (v < 4) && decide (q < 6)) := by rw [c4, decide_eq_true c13]; rfl
      refine gx_iconst (q := 17) (v := bI true) C dX22_isGood_16 (by decide) rfl ?_
      refine gx_goto (tgt := 21) C dX22_isGood_17 (by decide) ?_
      exact gx_zretE C E (by rw [← hZ]) (by first | exact bI_nar _ | rfl) dX22_isGood_21 (rfl) (by omega) (by omega)
set_option maxHeartbeats 800000 in
theorem tb_20 (l : Launch) (D : va_G) (b : Nat) (M0 : List va_E) {t : Nat} {T Y : Nat → Nat} {lo : Nat} (j a q v : Nat) (hq : q < 2 ^ 31) (hv : v < 2 ^ 31) (hq2 : q < 36) (hM : M0[j]? = some (ob 20 [.int (nI a), .int (nI q), .int (nI v)])) (hV : tw_V D b M0 t T Y lo) (hk : okT T) : fb_CT l D b yX20_become cX20_become 2 none 0 0 0 0 [.ref (b + j), .ref (b + t)] M0 (.returned none) (fun M' => tw_V D b M' t (updN T (48 + q) v) Y lo ∧ tw_F t M0 M') := by
  refine fb_start [some (.ref (b + j)), some (.ref (b + t))] (by decide) (Nat.le_of_ble_eq_true rfl) rfl ?_
  intro x hl hD hb C E hx
  subst hl hD hb
  have C : fb_OK x cX20_become "FallsBetween$SquareTold" "become" := C
  have hF := tw_F.rf t M0
  obtain ⟨k0, k1, k2, k3, k4, k5, k6, k7, k8⟩ := id hk
  refine gx_aload_n (q := 1) C dX20_become_0 rfl rfl rfl ?_
  refine fg_X20_18 (q := 4) C hV.o rfl dX20_become_1 rfl ?_
  refine gx_aload_n (q := 5) C dX20_become_4 rfl rfl rfl ?_
  refine fg_X20_9_X20 (q := 8) C hM rfl dX20_become_5 rfl ?_
  refine gx_aload_n (q := 9) C dX20_become_8 rfl rfl rfl ?_
  refine fg_X20_15_X20 (q := 12) C hM rfl dX20_become_9 rfl ?_
  refine tv_st_heights (q := 13) C hV hF (by omega) dX20_become_12 rfl (fun M hV hF => ?_)
  exact gx_vret C E dX20_become_13 (⟨hV, hF⟩) (by omega) (by omega)
set_option maxHeartbeats 800000 in
theorem tb_21 (l : Launch) (D : va_G) (b : Nat) (M0 : List va_E) {t : Nat} {T Y : Nat → Nat} {lo : Nat} (j a q v : Nat) (hq : q < 2 ^ 31) (hv : v < 2 ^ 31) (hq2 : q < 36) (hM : M0[j]? = some (ob 21 [.int (nI a), .int (nI q), .int (nI v)])) (hV : tw_V D b M0 t T Y lo) (hk : okT T) : fb_CT l D b yX21_become cX21_become 2 none 0 0 0 0 [.ref (b + j), .ref (b + t)] M0 (.returned none) (fun M' => tw_V D b M' t (updN T (12 + q) v) Y lo ∧ tw_F t M0 M') := by
  refine fb_start [some (.ref (b + j)), some (.ref (b + t))] (by decide) (Nat.le_of_ble_eq_true rfl) rfl ?_
  intro x hl hD hb C E hx
  subst hl hD hb
  have C : fb_OK x cX21_become "FallsBetween$GardenTold" "become" := C
  have hF := tw_F.rf t M0
  obtain ⟨k0, k1, k2, k3, k4, k5, k6, k7, k8⟩ := id hk
  refine gx_aload_n (q := 1) C dX21_become_0 rfl rfl rfl ?_
  refine fg_X21_19 (q := 4) C hV.o rfl dX21_become_1 rfl ?_
  refine gx_aload_n (q := 5) C dX21_become_4 rfl rfl rfl ?_
  refine fg_X21_25_X21 (q := 8) C hM rfl dX21_become_5 rfl ?_
  refine gx_aload_n (q := 9) C dX21_become_8 rfl rfl rfl ?_
  refine fg_X21_13_X21 (q := 12) C hM rfl dX21_become_9 rfl ?_
  refine tv_st_gardens (q := 13) C hV hF (by omega) dX21_become_12 rfl (fun M hV hF => ?_)
  exact gx_vret C E dX21_become_13 (⟨hV, hF⟩) (by omega) (by omega)
set_option maxHeartbeats 800000 in
theorem tb_24 (l : Launch) (D : va_G) (b : Nat) (M0 : List va_E) {t : Nat} {T Y : Nat → Nat} {lo : Nat} (j a q v : Nat) (hq : q < 2 ^ 31) (hv : v < 2 ^ 31) (hq2 : q < 36) (hM : M0[j]? = some (ob 24 [.int (nI a), .int (nI q), .int (nI v)])) (hV : tw_V D b M0 t T Y lo) (hk : okT T) : fb_CT l D b yX24_become cX24_become 2 none 0 0 0 0 [.ref (b + j), .ref (b + t)] M0 (.returned none) (fun M' => tw_V D b M' t (updN T (84 + q) (1 - T (84 + q))) Y lo ∧ tw_F t M0 M') := by
  refine fb_start [some (.ref (b + j)), some (.ref (b + t))] (by decide) (Nat.le_of_ble_eq_true rfl) rfl ?_
  intro x hl hD hb C E hx
  subst hl hD hb
  have C : fb_OK x cX24_become "FallsBetween$NetTold" "become" := C
  have hF := tw_F.rf t M0
  obtain ⟨k0, k1, k2, k3, k4, k5, k6, k7, k8⟩ := id hk
  have h7 := k7 q hq2
  refine gx_aload_n (q := 1) C dX24_become_0 rfl rfl rfl ?_
  refine fg_X24_7 (q := 4) C hV.o rfl dX24_become_1 rfl ?_
  refine gx_aload_n (q := 5) C dX24_become_4 rfl rfl rfl ?_
  refine fg_X24_13 (q := 8) C hM rfl dX24_become_5 rfl ?_
  refine gx_aload_n (q := 9) C dX24_become_8 rfl rfl rfl ?_
  refine fg_X24_7 (q := 12) C hV.o rfl dX24_become_9 rfl ?_
  refine gx_aload_n (q := 13) C dX24_become_12 rfl rfl rfl ?_
  refine fg_X24_13 (q := 16) C hM rfl dX24_become_13 rfl ?_
  refine tv_ld_nets (q := 17) C hV (by omega) dX24_become_16 rfl ?_
  refine gn_if_ne (q := 20) (tgt := 24) C dX24_become_17 (by decide) rfl (by omega) (fun c17 => ?_) (fun c17 => ?_)
  · refine gx_iconst (q := 25) (v := nI (1 - T (84 + q))) C dX24_become_24 (by rw [show T (84 + q) = 1 by omega]; rfl) rfl ?_
    refine tv_st_nets (q := 26) C hV hF (by omega) (by omega) dX24_become_25 rfl (fun M hV hF => ?_)
    exact gx_vret C E dX24_become_26 (⟨hV, hF⟩) (by omega) (by omega)
  · refine gx_iconst (q := 21) (v := nI (1 - T (84 + q))) C dX24_become_20 (by rw [c17]; rfl) rfl ?_
    refine gx_goto (tgt := 25) C dX24_become_21 (by decide) ?_
    refine tv_st_nets (q := 26) C hV hF (by omega) (by omega) dX24_become_25 rfl (fun M hV hF => ?_)
    exact gx_vret C E dX24_become_26 (⟨hV, hF⟩) (by omega) (by omega)
set_option maxHeartbeats 800000 in
theorem tb_22 (l : Launch) (D : va_G) (b : Nat) (M0 : List va_E) {t : Nat} {T Y : Nat → Nat} {lo : Nat} (j a q v : Nat) (hq : q < 2 ^ 31) (hv : v < 2 ^ 31) (hq2 : q < 6) (hj : 54 ≤ j) (hM : M0[j]? = some (ob 22 [.int (nI a), .int (nI q), .int (nI v)])) (hV : tw_V D b M0 t T Y lo) (hk : okT T) : fb_CT l D b yX22_become cX22_become 3 none 0 0 0 0 [.ref (b + j), .ref (b + t)] M0 (.returned none) (fun M' => tw_V D b M' t (clT T q v) Y lo ∧ tw_F t M0 M') := by
  refine fb_start [some (.ref (b + j)), some (.ref (b + t)), none] (by decide) (Nat.le_of_ble_eq_true rfl) rfl ?_
  intro x hl hD hb C E hx
  subst hl hD hb
  have C : fb_OK x cX22_become "FallsBetween$ColumnTold" "become" := C
  have hF := tw_F.rf t M0
  obtain ⟨k0, k1, k2, k3, k4, k5, k6, k7, k8⟩ := id hk
  have hM0 := hM
  refine gx_aload_n (q := 1) C dX22_become_0 rfl rfl rfl ?_
  refine fg_X22_13 (q := 4) C hM rfl dX22_become_1 rfl ?_
  refine gx_istore_n (q := 5) (lv' := [_, _, _]) C dX22_become_4 rfl (Nat.le_of_ble_eq_true rfl) E.2.2.2.symm rfl rfl rfl ?_
  have Lr : ∀ r, r ≤ 6 → ∀ M : List va_E, tw_V (cx_D x) (cx_b x) M t (clU T q v r) Y lo → tw_F t M0 M → fb_G x M 0 0 5 [some (.ref (cx_b x + j)), some (.ref (cx_b x + t)), some (.int (nI (q + 6 * r)))] [] := by
    refine fb_dn 6 ?_ ?_
    · intro M hV hF
      have hUT : clU T q v 6 = clT T q v := funext fun i => clU_6 T q v i
      rw [hUT] at hV
      refine gx_iload_n (q := 6) C dX22_become_5 rfl rfl rfl ?_
      refine gx_bipush (q := 8) (v := nI 36) C dX22_become_6 (by decide) rfl ?_
      refine gn_icmp_ge (q := 11) (tgt := 27) C dX22_become_8 (by decide) rfl (by omega) (by omega) (fun c8 => ?_) (fun c8 => by exfalso; omega)
      exact gx_vret C E dX22_become_27 (⟨hV, hF⟩) (by omega) (by omega)
    · intro r hr ih M hV hF
      have hM : M[j]? = some (ob 22 [.int (nI a), .int (nI q), .int (nI v)]) := by rw [hF.2 j (by have := hV.le; omega)]; exact hM0
      refine gx_iload_n (q := 6) C dX22_become_5 rfl rfl rfl ?_
      refine gx_bipush (q := 8) (v := nI 36) C dX22_become_6 (by decide) rfl ?_
      refine gn_icmp_ge (q := 11) (tgt := 27) C dX22_become_8 (by decide) rfl (by omega) (by omega) (fun c8 => by exfalso; omega) (fun c8 => ?_)
      refine gx_aload_n (q := 12) C dX22_become_11 rfl rfl rfl ?_
      refine fg_X22_19 (q := 15) C hV.o rfl dX22_become_12 rfl ?_
      refine gx_iload_n (q := 16) C dX22_become_15 rfl rfl rfl ?_
      refine gx_aload_n (q := 17) C dX22_become_16 rfl rfl rfl ?_
      refine fg_X22_25 (q := 20) C hM rfl dX22_become_17 rfl ?_
      refine tv_st_gardens (q := 21) C hV hF (by omega) dX22_become_20 rfl (fun M hV hF => ?_)
      refine gx_iinc (q := 24) (lv' := [_, _, _]) C dX22_become_21 rfl E.2.2.2.symm (nI_add _ 6) rfl rfl rfl ?_
      refine gx_goto (tgt := 5) C dX22_become_24 (by decide) ?_
      have hUT : updN (clU T q v r) (12 + (q + 6 * r)) v = clU T q v (r + 1) := funext fun i => by rw [show 12 + (q + 6 * r) = 12 + 6 * r + q by omega]; exact clU_s hq2 hr i
      rw [hUT] at hV
      rw [show q + 6 * r + 6 = q + 6 * (r + 1) by omega]
      exact ih M hV hF
  have hUT : T = clU T q v 0 := funext fun i => clU_0 T q v i
  exact Lr 0 (by omega) M0 (by rw [← hUT]; exact hV) hF
