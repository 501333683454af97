/-! the reference's face: acts that tell and change -/
set_option maxRecDepth 100000
def md_P (D : va_G) (b : Nat) (M : List va_E) (R T Ti P Rw : Nat → Nat) (kp : Bool) (td ro : Nat) : Prop := ∃ (Bf F L : Nat → Nat) (aa : Nat) (we : Bool) (so lo : Nat), md_V D b M R T Ti Bf P F L Rw kp td aa we so lo ro
theorem mL_63 (T : Nat → Nat) (q n : Nat) (hn : n ≤ 6) : mL T 63 n 0 q = lyi T q n := by
  unfold mL lyi
  rw [show flp T n q 0 = 0 from rfl, Nat.mul_zero, Nat.add_zero]
  refine sumN_congr n fun u hu => ?_
  rw [show bt 63 u = 1 from (by decide +kernel : ∀ u, u < 6 → bt 63 u = 1) u (by omega), Nat.one_mul]
theorem mO_63 (T : Nat → Nat) (n : Nat) (hn : n ≤ 6) : mO T 63 n 0 = lsi T n := by
  unfold mO lsi
  rw [show lop T n 0 = 0 from rfl, Nat.mul_zero, Nat.add_zero]
  refine sumN_congr n fun u hu => ?_
  rw [show bt 63 u = 1 from (by decide +kernel : ∀ u, u < 6 → bt 63 u = 1) u (by omega), Nat.one_mul]
theorem sumN_z {f : Nat → Nat} (n : Nat) (h : ∀ i, i < n → f i = 0) : sumN f n = 0 := by
  induction n with
  | zero => rfl
  | succ n ih => rw [sumN_s, ih fun i hi => h i (by omega), h n (by omega)]
theorem sumN_1 {f : Nat → Nat} {t : Nat} (n : Nat) (ht : t < n) (h : ∀ i, i < n → ¬ i = t → f i = 0) : sumN f n = f t := by
  induction n with
  | zero => omega
  | succ n ih =>
    rw [sumN_s]
    by_cases e : t = n
    · subst e
      rw [sumN_z t fun i hi => h i (by omega) (by omega), Nat.zero_add]
    · rw [ih (by omega) fun i hi hne => h i (by omega) hne, h n (by omega) (fun z => e z.symm), Nat.add_zero]
theorem bt_one : ∀ t, t < 6 → ∀ u, u < 6 → bt (2 ^ t) u = if u = t then 1 else 0 := by decide +kernel
theorem mL_one (T : Nat → Nat) (q t n : Nat) (hn : n ≤ 6) (ht : t < n) : mL T (2 ^ t) n 0 q = flp T t q 5 := by
  unfold mL
  rw [show flp T n q 0 = 0 from rfl, Nat.mul_zero, Nat.add_zero, sumN_1 n ht]
  · rw [bt_one t (by omega) t (by omega), if_pos rfl, Nat.one_mul]
  · intro i hi hne
    rw [bt_one t (by omega) i (by omega), if_neg hne, Nat.zero_mul]
theorem shl_ok : ∀ t, t < 6 → nI 1 <<< (nI t &&& 31) = nI (2 ^ t) := by decide +kernel
theorem pow_lt64 : ∀ t, t < 6 → 2 ^ t < 64 := by decide
theorem sw_out {v : Int32} {n : Nat} (hn : n < 2 ^ 31) (h : v < 0 ∨ nI n ≤ v) : v.toInt < 0 ∨ (n : Int) ≤ v.toInt := by
  rcases h with h | h
  · exact Or.inl (by simpa using Int32.lt_iff_toInt_lt.mp h)
  · right
    have := Int32.le_iff_toInt_le.mp h
    rwa [nI_toInt hn] at this
theorem lt_gt {v : Int32} {n : Nat} (hn : n + 1 < 2 ^ 31) (h : nI (n + 1) ≤ v) : nI n < v := Int32.lt_of_lt_of_le (nI_lt (Nat.lt_succ_self n) hn) h
theorem okT_up {T : Nat → Nat} (hk : okT T) {k v : Nat} (h : (k = 1 ∧ v < 16) ∨ (k = 2 ∧ v ≤ 4) ∨ (12 ≤ k ∧ k < 48 ∧ v < 4) ∨ (48 ≤ k ∧ k < 84 ∧ v ≤ 9) ∨ (84 ≤ k ∧ k < 120 ∧ v ≤ 1)) : okT (updN T k v) := by
  obtain ⟨k0, k1, k2, k3, k4, k5, k6, k7, k8⟩ := hk
  have g : ∀ j, ¬ j = k → updN T k v j = T j := fun j hj => updN_n T hj
  have e : updN T k v k = v := updN_s T k v
  refine ⟨by rw [g 0 (by omega)]; exact k0, ?_, ?_, by rw [g 3 (by omega)]; exact k3, fun i hi => ?_, fun i hi => ?_, fun i hi => ?_, fun i hi => ?_, fun t ht => ?_⟩
  · by_cases h1 : 1 = k
    · rw [h1, e]; omega
    · rw [g 1 h1]; exact k1
  · by_cases h1 : 2 = k
    · rw [h1, e]; omega
    · rw [g 2 h1]; exact k2
  · rw [g 3 (by omega)] at hi
    rw [g _ (by omega)]
    exact k4 i hi
  · by_cases h1 : 12 + i = k
    · rw [h1, e]; omega
    · rw [g _ h1]; exact k5 i hi
  · by_cases h1 : 48 + i = k
    · rw [h1, e]; omega
    · rw [g _ h1]; exact k6 i hi
  · by_cases h1 : 84 + i = k
    · rw [h1, e]; omega
    · rw [g _ h1]; exact k7 i hi
  · rw [g 0 (by omega)] at ht
    rw [g (120 + t) (by omega), g (126 + t) (by omega), g (132 + t) (by omega), g (138 + t) (by omega)]
    exact k8 t ht
set_option maxHeartbeats 4000000 in
theorem mp_letter_b (l : Launch) (D : va_G) (b : Nat) (M0 : List va_E) {R T Ti P Rw : Nat → Nat} {kp : Bool} {td ro : Nat} (v : Int32) (hb : v < 0) (h : md_P D b M0 R T Ti P Rw kp td ro) (hk : okT T) : fb_CT l D b yX7_letter cX7_letter 2 (some .int) 1 21 0 0 [.ref (b + 43), .int v] M0 (.returned (some (.int (-4)))) (fun M' => md_P D b M' (updN R 4 (R 4 + 1)) T Ti P Rw kp td ro ∧ md_F M0 M') := by
  refine fb_start [some (.ref (b + 43)), some (.int v)] (by decide) (Nat.le_of_ble_eq_true rfl) rfl ?_
  intro x hl hD hb C E hx
  subst hl hD hb
  have C : fb_OK x cX7_letter "FallsBetweenModel" "letter" := C
  obtain ⟨Bf, F, L, aa, we, so, lo, hV⟩ := h
  have hF := md_F.rf M0
  obtain ⟨k0, k1, k2, k3, k4, k5, k6, k7, k8⟩ := id hk
  refine gx_iload_n (q := 1) C dX7_letter_0 rfl rfl rfl ?_
  refine gx_if_ge (q := 4) (tgt := 11) C dX7_letter_1 (by decide) rfl (fun c1 => by exfalso; exact Int32.not_lt.mpr c1 hb) (fun c1 => ?_)
  refine gx_aload_n (q := 5) C dX7_letter_4 rfl rfl rfl ?_
  refine gx_bipush (q := 7) (v := -4) C dX7_letter_5 (by decide) rfl ?_
  refine gx_cs (q := 10) C E (sx_X7_49 (As := [_]) C hV.o rfl rfl dX7_letter_7) (md_no _ _ _ _ (-4) 4 (by decide) (by decide) hV) kw_X7_no (by decide) (Nat.le_of_ble_eq_true rfl) rfl rfl (by omega) (by omega) dX7_letter_7 rfl (fun M r7 => ?_)
  obtain ⟨hV, hG⟩ := r7
  have hF := hF.tr hG
  exact gx_iret C E dX7_letter_10 (⟨⟨_, _, _, _, _, _, _, hV⟩, hF⟩) (by omega) (by omega)
set_option maxHeartbeats 4000000 in
theorem mp_letter_a (l : Launch) (D : va_G) (b : Nat) (M0 : List va_E) {R T Ti P Rw : Nat → Nat} {kp : Bool} {td ro : Nat} (v : Int32) (hb : nI 256 ≤ v) (h : md_P D b M0 R T Ti P Rw kp td ro) (hk : okT T) : fb_CT l D b yX7_letter cX7_letter 2 (some .int) 1 21 0 0 [.ref (b + 43), .int v] M0 (.returned (some (.int (-6)))) (fun M' => md_P D b M' (updN R 6 (R 6 + 1)) T Ti P Rw kp td ro ∧ md_F M0 M') := by
  refine fb_start [some (.ref (b + 43)), some (.int v)] (by decide) (Nat.le_of_ble_eq_true rfl) rfl ?_
  intro x hl hD hb C E hx
  subst hl hD hb
  have C : fb_OK x cX7_letter "FallsBetweenModel" "letter" := C
  obtain ⟨Bf, F, L, aa, we, so, lo, hV⟩ := h
  have hF := md_F.rf M0
  obtain ⟨k0, k1, k2, k3, k4, k5, k6, k7, k8⟩ := id hk
  refine gx_iload_n (q := 1) C dX7_letter_0 rfl rfl rfl ?_
  refine gx_if_ge (q := 4) (tgt := 11) C dX7_letter_1 (by decide) rfl (fun c1 => ?_) (fun c1 => by exfalso; exact c1 (Int32.le_trans (nI_pos' (by decide)) hb))
  refine gx_iload_n (q := 12) C dX7_letter_11 rfl rfl rfl ?_
  refine gx_sipush (q := 15) (v := nI 255) C dX7_letter_12 (by decide) rfl ?_
  refine gx_icmp_gt (q := 18) (tgt := 27) C dX7_letter_15 (by decide) rfl (fun c15 => ?_) (fun c15 => by exfalso; exact c15 (lt_gt (by decide) hb))
  refine gx_aload_n (q := 28) C dX7_letter_27 rfl rfl rfl ?_
  refine gx_bipush (q := 30) (v := -6) C dX7_letter_28 (by decide) rfl ?_
  refine gx_cs (q := 33) C E (sx_X7_49 (As := [_]) C hV.o rfl rfl dX7_letter_30) (md_no _ _ _ _ (-6) 6 (by decide) (by decide) hV) kw_X7_no (by decide) (Nat.le_of_ble_eq_true rfl) rfl rfl (by omega) (by omega) dX7_letter_30 rfl (fun M r30 => ?_)
  obtain ⟨hV, hG⟩ := r30
  have hF := hF.tr hG
  exact gx_iret C E dX7_letter_33 (⟨⟨_, _, _, _, _, _, _, hV⟩, hF⟩) (by omega) (by omega)
set_option maxHeartbeats 4000000 in
theorem mp_letter_f (l : Launch) (D : va_G) (b : Nat) (M0 : List va_E) {R T Ti P Rw : Nat → Nat} {kp : Bool} {td ro : Nat} (j : Nat) (hj : j < 256) (hf : td = 64) (h : md_P D b M0 R T Ti P Rw kp td ro) (hk : okT T) : fb_CT l D b yX7_letter cX7_letter 2 (some .int) 1 21 0 0 [.ref (b + 43), .int (nI j)] M0 (.returned (some (.int (-6)))) (fun M' => md_P D b M' (updN R 6 (R 6 + 1)) T Ti P Rw kp td ro ∧ md_F M0 M') := by
  refine fb_start [some (.ref (b + 43)), some (.int (nI j))] (by decide) (Nat.le_of_ble_eq_true rfl) rfl ?_
  intro x hl hD hb C E hx
  subst hl hD hb
  have C : fb_OK x cX7_letter "FallsBetweenModel" "letter" := C
  obtain ⟨Bf, F, L, aa, we, so, lo, hV⟩ := h
  have hF := md_F.rf M0
  obtain ⟨k0, k1, k2, k3, k4, k5, k6, k7, k8⟩ := id hk
  refine gx_iload_n (q := 1) C dX7_letter_0 rfl rfl rfl ?_
  refine gx_if_ge (q := 4) (tgt := 11) C dX7_letter_1 (by decide) rfl (fun c1 => ?_) (fun c1 => by exfalso; exact c1 (nI_pos' (by omega)))
  refine gx_iload_n (q := 12) C dX7_letter_11 rfl rfl rfl ?_
  refine gx_sipush (q := 15) (v := nI 255) C dX7_letter_12 (by decide) rfl ?_
  refine gn_icmp_gt (q := 18) (tgt := 27) C dX7_letter_15 (by decide) rfl (by omega) (by omega) (fun c15 => by exfalso; omega) (fun c15 => ?_)
  refine gx_aload_n (q := 19) C dX7_letter_18 rfl rfl rfl ?_
  refine fg_X7_53 (q := 22) C hV.o rfl dX7_letter_19 rfl ?_
  refine gx_bipush (q := 24) (v := nI 64) C dX7_letter_22 (by decide) rfl ?_
  refine gn_icmp_ne (q := 27) (tgt := 34) C dX7_letter_24 (by decide) rfl (by omega) (by omega) (fun c24 => by exfalso; omega) (fun c24 => ?_)
  refine gx_aload_n (q := 28) C dX7_letter_27 rfl rfl rfl ?_
  refine gx_bipush (q := 30) (v := -6) C dX7_letter_28 (by decide) rfl ?_
  refine gx_cs (q := 33) C E (sx_X7_49 (As := [_]) C hV.o rfl rfl dX7_letter_30) (md_no _ _ _ _ (-6) 6 (by decide) (by decide) hV) kw_X7_no (by decide) (Nat.le_of_ble_eq_true rfl) rfl rfl (by omega) (by omega) dX7_letter_30 rfl (fun M r30 => ?_)
  obtain ⟨hV, hG⟩ := r30
  have hF := hF.tr hG
  exact gx_iret C E dX7_letter_33 (⟨⟨_, _, _, _, _, _, _, hV⟩, hF⟩) (by omega) (by omega)
set_option maxHeartbeats 4000000 in
theorem mp_letter_o (l : Launch) (D : va_G) (b : Nat) (M0 : List va_E) {R T Ti P Rw : Nat → Nat} {kp : Bool} {td ro : Nat} (j : Nat) (hj : j < 256) (hf : td < 64) (h : md_P D b M0 R T Ti P Rw kp td ro) (hk : okT T) : fb_CT l D b yX7_letter cX7_letter 2 (some .int) 1 21 0 0 [.ref (b + 43), .int (nI j)] M0 (.returned (some (.int (nI (td + 1))))) (fun M' => md_P D b M' R T Ti (updN P td j) Rw kp (td + 1) ro ∧ md_F M0 M') := by
  refine fb_start [some (.ref (b + 43)), some (.int (nI j))] (by decide) (Nat.le_of_ble_eq_true rfl) rfl ?_
  intro x hl hD hb C E hx
  subst hl hD hb
  have C : fb_OK x cX7_letter "FallsBetweenModel" "letter" := C
  obtain ⟨Bf, F, L, aa, we, so, lo, hV⟩ := h
  have hF := md_F.rf M0
  obtain ⟨k0, k1, k2, k3, k4, k5, k6, k7, k8⟩ := id hk
  refine gx_iload_n (q := 1) C dX7_letter_0 rfl rfl rfl ?_
  refine gx_if_ge (q := 4) (tgt := 11) C dX7_letter_1 (by decide) rfl (fun c1 => ?_) (fun c1 => by exfalso; exact c1 (nI_pos' (by omega)))
  refine gx_iload_n (q := 12) C dX7_letter_11 rfl rfl rfl ?_
  refine gx_sipush (q := 15) (v := nI 255) C dX7_letter_12 (by decide) rfl ?_
  refine gn_icmp_gt (q := 18) (tgt := 27) C dX7_letter_15 (by decide) rfl (by omega) (by omega) (fun c15 => by exfalso; omega) (fun c15 => ?_)
  refine gx_aload_n (q := 19) C dX7_letter_18 rfl rfl rfl ?_
  refine fg_X7_53 (q := 22) C hV.o rfl dX7_letter_19 rfl ?_
  refine gx_bipush (q := 24) (v := nI 64) C dX7_letter_22 (by decide) rfl ?_
  refine gn_icmp_ne (q := 27) (tgt := 34) C dX7_letter_24 (by decide) rfl (by omega) (by omega) (fun c24 => ?_) (fun c24 => by exfalso; omega)
  refine gx_aload_n (q := 35) C dX7_letter_34 rfl rfl rfl ?_
  refine fg_X7_22 (q := 38) C hV.o rfl dX7_letter_35 rfl ?_
  refine gx_aload_n (q := 39) C dX7_letter_38 rfl rfl rfl ?_
  refine fg_X7_53 (q := 42) C hV.o rfl dX7_letter_39 rfl ?_
  refine gx_iload_n (q := 43) C dX7_letter_42 rfl rfl rfl ?_
  refine mv_st_tape (q := 44) C hV hF (by omega) dX7_letter_43 rfl (fun M hV hF => ?_)
  refine gx_aload_n (q := 45) C dX7_letter_44 rfl rfl rfl ?_
  refine gx_dup (q := 46) C dX7_letter_45 rfl rfl ?_
  refine fg_X7_53 (q := 49) C hV.o rfl dX7_letter_46 rfl ?_
  refine gx_iconst (q := 50) (v := nI 1) C dX7_letter_49 (by decide) rfl ?_
  refine gn_iadd (q := 51) C dX7_letter_50 rfl ?_
  refine mv_pf_taped (q := 54) C hV hF dX7_letter_51 rfl (fun M hV hF => ?_)
  refine gx_aload_n (q := 55) C dX7_letter_54 rfl rfl rfl ?_
  refine fg_X7_53 (q := 58) C hV.o rfl dX7_letter_55 rfl ?_
  exact gx_iret C E dX7_letter_58 (⟨⟨_, _, _, _, _, _, _, hV⟩, hF⟩) (by omega) (by omega)
set_option maxHeartbeats 4000000 in
theorem mp_row_b (l : Launch) (D : va_G) (b : Nat) (M0 : List va_E) {R T Ti P Rw : Nat → Nat} {kp : Bool} {td ro : Nat} (v : Int32) (hb : v < 0) (h : md_P D b M0 R T Ti P Rw kp td ro) (hk : okT T) : fb_CT l D b yX7_row cX7_row 2 (some .int) 1 21 0 0 [.ref (b + 43), .int v] M0 (.returned (some (.int (-4)))) (fun M' => md_P D b M' (updN R 4 (R 4 + 1)) T Ti P Rw kp td ro ∧ md_F M0 M') := by
  refine fb_start [some (.ref (b + 43)), some (.int v)] (by decide) (Nat.le_of_ble_eq_true rfl) rfl ?_
  intro x hl hD hb C E hx
  subst hl hD hb
  have C : fb_OK x cX7_row "FallsBetweenModel" "row" := C
  obtain ⟨Bf, F, L, aa, we, so, lo, hV⟩ := h
  have hF := md_F.rf M0
  obtain ⟨k0, k1, k2, k3, k4, k5, k6, k7, k8⟩ := id hk
  refine gx_iload_n (q := 1) C dX7_row_0 rfl rfl rfl ?_
  refine gx_if_ge (q := 4) (tgt := 11) C dX7_row_1 (by decide) rfl (fun c1 => by exfalso; exact Int32.not_lt.mpr c1 hb) (fun c1 => ?_)
  refine gx_aload_n (q := 5) C dX7_row_4 rfl rfl rfl ?_
  refine gx_bipush (q := 7) (v := -4) C dX7_row_5 (by decide) rfl ?_
  refine gx_cs (q := 10) C E (sx_X7_49 (As := [_]) C hV.o rfl rfl dX7_row_7) (md_no _ _ _ _ (-4) 4 (by decide) (by decide) hV) kw_X7_no (by decide) (Nat.le_of_ble_eq_true rfl) rfl rfl (by omega) (by omega) dX7_row_7 rfl (fun M r7 => ?_)
  obtain ⟨hV, hG⟩ := r7
  have hF := hF.tr hG
  exact gx_iret C E dX7_row_10 (⟨⟨_, _, _, _, _, _, _, hV⟩, hF⟩) (by omega) (by omega)
set_option maxHeartbeats 4000000 in
theorem mp_row_a (l : Launch) (D : va_G) (b : Nat) (M0 : List va_E) {R T Ti P Rw : Nat → Nat} {kp : Bool} {td ro : Nat} (v : Int32) (hb : nI 100 ≤ v) (h : md_P D b M0 R T Ti P Rw kp td ro) (hk : okT T) : fb_CT l D b yX7_row cX7_row 2 (some .int) 1 21 0 0 [.ref (b + 43), .int v] M0 (.returned (some (.int (-6)))) (fun M' => md_P D b M' (updN R 6 (R 6 + 1)) T Ti P Rw kp td ro ∧ md_F M0 M') := by
  refine fb_start [some (.ref (b + 43)), some (.int v)] (by decide) (Nat.le_of_ble_eq_true rfl) rfl ?_
  intro x hl hD hb C E hx
  subst hl hD hb
  have C : fb_OK x cX7_row "FallsBetweenModel" "row" := C
  obtain ⟨Bf, F, L, aa, we, so, lo, hV⟩ := h
  have hF := md_F.rf M0
  obtain ⟨k0, k1, k2, k3, k4, k5, k6, k7, k8⟩ := id hk
  refine gx_iload_n (q := 1) C dX7_row_0 rfl rfl rfl ?_
  refine gx_if_ge (q := 4) (tgt := 11) C dX7_row_1 (by decide) rfl (fun c1 => ?_) (fun c1 => by exfalso; exact c1 (Int32.le_trans (nI_pos' (by decide)) hb))
  refine gx_iload_n (q := 12) C dX7_row_11 rfl rfl rfl ?_
  refine gx_bipush (q := 14) (v := nI 99) C dX7_row_12 (by decide) rfl ?_
  refine gx_icmp_gt (q := 17) (tgt := 26) C dX7_row_14 (by decide) rfl (fun c14 => ?_) (fun c14 => by exfalso; exact c14 (lt_gt (by decide) hb))
  refine gx_aload_n (q := 27) C dX7_row_26 rfl rfl rfl ?_
  refine gx_bipush (q := 29) (v := -6) C dX7_row_27 (by decide) rfl ?_
  refine gx_cs (q := 32) C E (sx_X7_49 (As := [_]) C hV.o rfl rfl dX7_row_29) (md_no _ _ _ _ (-6) 6 (by decide) (by decide) hV) kw_X7_no (by decide) (Nat.le_of_ble_eq_true rfl) rfl rfl (by omega) (by omega) dX7_row_29 rfl (fun M r29 => ?_)
  obtain ⟨hV, hG⟩ := r29
  have hF := hF.tr hG
  exact gx_iret C E dX7_row_32 (⟨⟨_, _, _, _, _, _, _, hV⟩, hF⟩) (by omega) (by omega)
set_option maxHeartbeats 4000000 in
theorem mp_row_f (l : Launch) (D : va_G) (b : Nat) (M0 : List va_E) {R T Ti P Rw : Nat → Nat} {kp : Bool} {td ro : Nat} (j : Nat) (hj : j < 100) (hf : ro = 12) (h : md_P D b M0 R T Ti P Rw kp td ro) (hk : okT T) : fb_CT l D b yX7_row cX7_row 2 (some .int) 1 21 0 0 [.ref (b + 43), .int (nI j)] M0 (.returned (some (.int (-6)))) (fun M' => md_P D b M' (updN R 6 (R 6 + 1)) T Ti P Rw kp td ro ∧ md_F M0 M') := by
  refine fb_start [some (.ref (b + 43)), some (.int (nI j))] (by decide) (Nat.le_of_ble_eq_true rfl) rfl ?_
  intro x hl hD hb C E hx
  subst hl hD hb
  have C : fb_OK x cX7_row "FallsBetweenModel" "row" := C
  obtain ⟨Bf, F, L, aa, we, so, lo, hV⟩ := h
  have hF := md_F.rf M0
  obtain ⟨k0, k1, k2, k3, k4, k5, k6, k7, k8⟩ := id hk
  refine gx_iload_n (q := 1) C dX7_row_0 rfl rfl rfl ?_
  refine gx_if_ge (q := 4) (tgt := 11) C dX7_row_1 (by decide) rfl (fun c1 => ?_) (fun c1 => by exfalso; exact c1 (nI_pos' (by omega)))
  refine gx_iload_n (q := 12) C dX7_row_11 rfl rfl rfl ?_
  refine gx_bipush (q := 14) (v := nI 99) C dX7_row_12 (by decide) rfl ?_
  refine gn_icmp_gt (q := 17) (tgt := 26) C dX7_row_14 (by decide) rfl (by omega) (by omega) (fun c14 => by exfalso; omega) (fun c14 => ?_)
  refine gx_aload_n (q := 18) C dX7_row_17 rfl rfl rfl ?_
  refine fg_X7_151 (q := 21) C hV.o rfl dX7_row_18 rfl ?_
  refine gx_bipush (q := 23) (v := nI 12) C dX7_row_21 (by decide) rfl ?_
  refine gn_icmp_ne (q := 26) (tgt := 33) C dX7_row_23 (by decide) rfl (by omega) (by omega) (fun c23 => by exfalso; omega) (fun c23 => ?_)
  refine gx_aload_n (q := 27) C dX7_row_26 rfl rfl rfl ?_
  refine gx_bipush (q := 29) (v := -6) C dX7_row_27 (by decide) rfl ?_
  refine gx_cs (q := 32) C E (sx_X7_49 (As := [_]) C hV.o rfl rfl dX7_row_29) (md_no _ _ _ _ (-6) 6 (by decide) (by decide) hV) kw_X7_no (by decide) (Nat.le_of_ble_eq_true rfl) rfl rfl (by omega) (by omega) dX7_row_29 rfl (fun M r29 => ?_)
  obtain ⟨hV, hG⟩ := r29
  have hF := hF.tr hG
  exact gx_iret C E dX7_row_32 (⟨⟨_, _, _, _, _, _, _, hV⟩, hF⟩) (by omega) (by omega)
set_option maxHeartbeats 4000000 in
theorem mp_row_o (l : Launch) (D : va_G) (b : Nat) (M0 : List va_E) {R T Ti P Rw : Nat → Nat} {kp : Bool} {td ro : Nat} (j : Nat) (hj : j < 100) (hf : ro < 12) (h : md_P D b M0 R T Ti P Rw kp td ro) (hk : okT T) : fb_CT l D b yX7_row cX7_row 2 (some .int) 1 21 0 0 [.ref (b + 43), .int (nI j)] M0 (.returned (some (.int (nI (ro + 1))))) (fun M' => md_P D b M' R T Ti P (updN Rw ro j) kp td (ro + 1) ∧ md_F M0 M') := by
  refine fb_start [some (.ref (b + 43)), some (.int (nI j))] (by decide) (Nat.le_of_ble_eq_true rfl) rfl ?_
  intro x hl hD hb C E hx
  subst hl hD hb
  have C : fb_OK x cX7_row "FallsBetweenModel" "row" := C
  obtain ⟨Bf, F, L, aa, we, so, lo, hV⟩ := h
  have hF := md_F.rf M0
  obtain ⟨k0, k1, k2, k3, k4, k5, k6, k7, k8⟩ := id hk
  refine gx_iload_n (q := 1) C dX7_row_0 rfl rfl rfl ?_
  refine gx_if_ge (q := 4) (tgt := 11) C dX7_row_1 (by decide) rfl (fun c1 => ?_) (fun c1 => by exfalso; exact c1 (nI_pos' (by omega)))
  refine gx_iload_n (q := 12) C dX7_row_11 rfl rfl rfl ?_
  refine gx_bipush (q := 14) (v := nI 99) C dX7_row_12 (by decide) rfl ?_
  refine gn_icmp_gt (q := 17) (tgt := 26) C dX7_row_14 (by decide) rfl (by omega) (by omega) (fun c14 => by exfalso; omega) (fun c14 => ?_)
  refine gx_aload_n (q := 18) C dX7_row_17 rfl rfl rfl ?_
  refine fg_X7_151 (q := 21) C hV.o rfl dX7_row_18 rfl ?_
  refine gx_bipush (q := 23) (v := nI 12) C dX7_row_21 (by decide) rfl ?_
  refine gn_icmp_ne (q := 26) (tgt := 33) C dX7_row_23 (by decide) rfl (by omega) (by omega) (fun c23 => ?_) (fun c23 => by exfalso; omega)
  refine gx_aload_n (q := 34) C dX7_row_33 rfl rfl rfl ?_
  refine fg_X7_38 (q := 37) C hV.o rfl dX7_row_34 rfl ?_
  refine gx_aload_n (q := 38) C dX7_row_37 rfl rfl rfl ?_
  refine fg_X7_151 (q := 41) C hV.o rfl dX7_row_38 rfl ?_
  refine gx_iload_n (q := 42) C dX7_row_41 rfl rfl rfl ?_
  refine mv_st_row (q := 43) C hV hF (by omega) dX7_row_42 rfl (fun M hV hF => ?_)
  refine gx_aload_n (q := 44) C dX7_row_43 rfl rfl rfl ?_
  refine gx_dup (q := 45) C dX7_row_44 rfl rfl ?_
  refine fg_X7_151 (q := 48) C hV.o rfl dX7_row_45 rfl ?_
  refine gx_iconst (q := 49) (v := nI 1) C dX7_row_48 (by decide) rfl ?_
  refine gn_iadd (q := 50) C dX7_row_49 rfl ?_
  refine mv_pf_rows (q := 53) C hV hF dX7_row_50 rfl (fun M hV hF => ?_)
  refine gx_aload_n (q := 54) C dX7_row_53 rfl rfl rfl ?_
  refine fg_X7_151 (q := 57) C hV.o rfl dX7_row_54 rfl ?_
  exact gx_iret C E dX7_row_57 (⟨⟨_, _, _, _, _, _, _, hV⟩, hF⟩) (by omega) (by omega)
set_option maxHeartbeats 4000000 in
theorem mp_square_b (l : Launch) (D : va_G) (b : Nat) (M0 : List va_E) {R T Ti P Rw : Nat → Nat} {kp : Bool} {td ro : Nat} (v : Int32) (hb : v < 0 ∨ nI 36 ≤ v) (w : Int32) (h : md_P D b M0 R T Ti P Rw kp td ro) (hk : okT T) : fb_CT l D b yX7_square cX7_square 3 (some .int) 3 71 0 0 [.ref (b + 43), .int v, .int w] M0 (.returned (some (.int (-1)))) (fun M' => md_P D b M' (updN R 1 (R 1 + 1)) T Ti P Rw kp td ro ∧ md_F M0 M') := by
  refine fb_start [some (.ref (b + 43)), some (.int v), some (.int w)] (by decide) (Nat.le_of_ble_eq_true rfl) rfl ?_
  intro x hl hD hb C E hx
  subst hl hD hb
  have C : fb_OK x cX7_square "FallsBetweenModel" "square" := C
  obtain ⟨Bf, F, L, aa, we, so, lo, hV⟩ := h
  have hF := md_F.rf M0
  obtain ⟨k0, k1, k2, k3, k4, k5, k6, k7, k8⟩ := id hk
  refine gx_iload_n (q := 1) C dX7_square_0 rfl rfl rfl ?_
  refine gx_bipush (q := 3) (v := nI 36) C dX7_square_1 (by decide) rfl ?_
  refine gx_cp (q := 6) C E (sx_X7_124 (As := [_, _]) C rfl rfl dX7_square_3) (md_isNone_t _ _ _ _ v (nI 36) hb) kw_X7_isNone (by decide) (Nat.le_of_ble_eq_true rfl) (by omega) (by omega) dX7_square_3 rfl ?_
  refine gb_if_eq (q := 9) (tgt := 15) C dX7_square_6 (by decide) rfl (fun c6 => by exfalso; cases c6) (fun c6 => ?_)
  refine gx_aload_n (q := 10) C dX7_square_9 rfl rfl rfl ?_
  refine gx_iconst (q := 11) (v := -1) C dX7_square_10 (by decide) rfl ?_
  refine gx_cs (q := 14) C E (sx_X7_49 (As := [_]) C hV.o rfl rfl dX7_square_11) (md_no _ _ _ _ (-1) 1 (by decide) (by decide) hV) kw_X7_no (by decide) (Nat.le_of_ble_eq_true rfl) rfl rfl (by omega) (by omega) dX7_square_11 rfl (fun M r11 => ?_)
  obtain ⟨hV, hG⟩ := r11
  have hF := hF.tr hG
  exact gx_iret C E dX7_square_14 (⟨⟨_, _, _, _, _, _, _, hV⟩, hF⟩) (by omega) (by omega)
set_option maxHeartbeats 4000000 in
theorem mp_square_0 (l : Launch) (D : va_G) (b : Nat) (M0 : List va_E) {R T Ti P Rw : Nat → Nat} {kp : Bool} {td ro : Nat} (q : Nat) (hq : q < 36) (h : md_P D b M0 R T Ti P Rw kp td ro) (hk : okT T) : fb_CT l D b yX7_square cX7_square 3 (some .int) 3 71 0 0 [.ref (b + 43), .int (nI q), .int (nI 0)] M0 (.returned (some (.int (nI (T (12 + q)))))) (fun M' => md_P D b M' R T Ti P Rw kp td ro ∧ md_F M0 M') := by
  refine fb_start [some (.ref (b + 43)), some (.int (nI q)), some (.int (nI 0))] (by decide) (Nat.le_of_ble_eq_true rfl) rfl ?_
  intro x hl hD hb C E hx
  subst hl hD hb
  have C : fb_OK x cX7_square "FallsBetweenModel" "square" := C
  obtain ⟨Bf, F, L, aa, we, so, lo, hV⟩ := h
  have hF := md_F.rf M0
  obtain ⟨k0, k1, k2, k3, k4, k5, k6, k7, k8⟩ := id hk
  refine gx_iload_n (q := 1) C dX7_square_0 rfl rfl rfl ?_
  refine gx_bipush (q := 3) (v := nI 36) C dX7_square_1 (by decide) rfl ?_
  refine gx_cp (q := 6) C E (sx_X7_124 (As := [_, _]) C rfl rfl dX7_square_3) (md_isNone_n _ _ _ _ q 36 hq (by omega)) kw_X7_isNone (by decide) (Nat.le_of_ble_eq_true rfl) (by omega) (by omega) dX7_square_3 rfl ?_
  refine gb_if_eq (q := 9) (tgt := 15) C dX7_square_6 (by decide) rfl (fun c6 => ?_) (fun c6 => by exfalso; cases c6)
  refine gx_iload_n (q := 16) C dX7_square_15 rfl rfl rfl ?_
  refine gx_tableIn (tgt := 52) C dX7_square_16 (by decide) (by decide) (rfl) (by decide) ?_
  refine gx_aload_n (q := 53) C dX7_square_52 rfl rfl rfl ?_
  refine fg_X7_13 (q := 56) C hV.o rfl dX7_square_53 rfl ?_
  refine gx_bipush (q := 58) (v := nI 12) C dX7_square_56 (by decide) rfl ?_
  refine gx_iload_n (q := 59) C dX7_square_58 rfl rfl rfl ?_
  refine gn_iadd (q := 60) C dX7_square_59 rfl ?_
  refine mv_ld_now (q := 61) C hV (by omega) dX7_square_60 rfl ?_
  exact gx_iret C E dX7_square_61 (⟨⟨_, _, _, _, _, _, _, hV⟩, hF⟩) (by omega) (by omega)
set_option maxHeartbeats 4000000 in
theorem mp_square_1 (l : Launch) (D : va_G) (b : Nat) (M0 : List va_E) {R T Ti P Rw : Nat → Nat} {kp : Bool} {td ro : Nat} (q : Nat) (hq : q < 36) (h : md_P D b M0 R T Ti P Rw kp td ro) (hk : okT T) : fb_CT l D b yX7_square cX7_square 3 (some .int) 3 71 0 0 [.ref (b + 43), .int (nI q), .int (nI 1)] M0 (.returned (some (.int (nI (T (48 + q)))))) (fun M' => md_P D b M' R T Ti P Rw kp td ro ∧ md_F M0 M') := by
  refine fb_start [some (.ref (b + 43)), some (.int (nI q)), some (.int (nI 1))] (by decide) (Nat.le_of_ble_eq_true rfl) rfl ?_
  intro x hl hD hb C E hx
  subst hl hD hb
  have C : fb_OK x cX7_square "FallsBetweenModel" "square" := C
  obtain ⟨Bf, F, L, aa, we, so, lo, hV⟩ := h
  have hF := md_F.rf M0
  obtain ⟨k0, k1, k2, k3, k4, k5, k6, k7, k8⟩ := id hk
  refine gx_iload_n (q := 1) C dX7_square_0 rfl rfl rfl ?_
  refine gx_bipush (q := 3) (v := nI 36) C dX7_square_1 (by decide) rfl ?_
  refine gx_cp (q := 6) C E (sx_X7_124 (As := [_, _]) C rfl rfl dX7_square_3) (md_isNone_n _ _ _ _ q 36 hq (by omega)) kw_X7_isNone (by decide) (Nat.le_of_ble_eq_true rfl) (by omega) (by omega) dX7_square_3 rfl ?_
  refine gb_if_eq (q := 9) (tgt := 15) C dX7_square_6 (by decide) rfl (fun c6 => ?_) (fun c6 => by exfalso; cases c6)
  refine gx_iload_n (q := 16) C dX7_square_15 rfl rfl rfl ?_
  refine gx_tableIn (tgt := 62) C dX7_square_16 (by decide) (by decide) (rfl) (by decide) ?_
  refine gx_aload_n (q := 63) C dX7_square_62 rfl rfl rfl ?_
  refine fg_X7_13 (q := 66) C hV.o rfl dX7_square_63 rfl ?_
  refine gx_bipush (q := 68) (v := nI 48) C dX7_square_66 (by decide) rfl ?_
  refine gx_iload_n (q := 69) C dX7_square_68 rfl rfl rfl ?_
  refine gn_iadd (q := 70) C dX7_square_69 rfl ?_
  refine mv_ld_now (q := 71) C hV (by omega) dX7_square_70 rfl ?_
  exact gx_iret C E dX7_square_71 (⟨⟨_, _, _, _, _, _, _, hV⟩, hF⟩) (by omega) (by omega)
set_option maxHeartbeats 4000000 in
theorem mp_square_2 (l : Launch) (D : va_G) (b : Nat) (M0 : List va_E) {R T Ti P Rw : Nat → Nat} {kp : Bool} {td ro : Nat} (q : Nat) (hq : q < 36) (h : md_P D b M0 R T Ti P Rw kp td ro) (hk : okT T) : fb_CT l D b yX7_square cX7_square 3 (some .int) 3 71 0 0 [.ref (b + 43), .int (nI q), .int (nI 2)] M0 (.returned (some (.int (nI (T (84 + q)))))) (fun M' => md_P D b M' R T Ti P Rw kp td ro ∧ md_F M0 M') := by
  refine fb_start [some (.ref (b + 43)), some (.int (nI q)), some (.int (nI 2))] (by decide) (Nat.le_of_ble_eq_true rfl) rfl ?_
  intro x hl hD hb C E hx
  subst hl hD hb
  have C : fb_OK x cX7_square "FallsBetweenModel" "square" := C
  obtain ⟨Bf, F, L, aa, we, so, lo, hV⟩ := h
  have hF := md_F.rf M0
  obtain ⟨k0, k1, k2, k3, k4, k5, k6, k7, k8⟩ := id hk
  refine gx_iload_n (q := 1) C dX7_square_0 rfl rfl rfl ?_
  refine gx_bipush (q := 3) (v := nI 36) C dX7_square_1 (by decide) rfl ?_
  refine gx_cp (q := 6) C E (sx_X7_124 (As := [_, _]) C rfl rfl dX7_square_3) (md_isNone_n _ _ _ _ q 36 hq (by omega)) kw_X7_isNone (by decide) (Nat.le_of_ble_eq_true rfl) (by omega) (by omega) dX7_square_3 rfl ?_
  refine gb_if_eq (q := 9) (tgt := 15) C dX7_square_6 (by decide) rfl (fun c6 => ?_) (fun c6 => by exfalso; cases c6)
  refine gx_iload_n (q := 16) C dX7_square_15 rfl rfl rfl ?_
  refine gx_tableIn (tgt := 72) C dX7_square_16 (by decide) (by decide) (rfl) (by decide) ?_
  refine gx_aload_n (q := 73) C dX7_square_72 rfl rfl rfl ?_
  refine fg_X7_13 (q := 76) C hV.o rfl dX7_square_73 rfl ?_
  refine gx_bipush (q := 78) (v := nI 84) C dX7_square_76 (by decide) rfl ?_
  refine gx_iload_n (q := 79) C dX7_square_78 rfl rfl rfl ?_
  refine gn_iadd (q := 80) C dX7_square_79 rfl ?_
  refine mv_ld_now (q := 81) C hV (by omega) dX7_square_80 rfl ?_
  exact gx_iret C E dX7_square_81 (⟨⟨_, _, _, _, _, _, _, hV⟩, hF⟩) (by omega) (by omega)
set_option maxHeartbeats 4000000 in
theorem mp_square_3 (l : Launch) (D : va_G) (b : Nat) (M0 : List va_E) {R T Ti P Rw : Nat → Nat} {kp : Bool} {td ro : Nat} (q : Nat) (hq : q < 36) (h : md_P D b M0 R T Ti P Rw kp td ro) (hk : okT T) : fb_CT l D b yX7_square cX7_square 3 (some .int) 3 71 0 0 [.ref (b + 43), .int (nI q), .int (nI 3)] M0 (.returned (some (.int (bI (nob T q))))) (fun M' => md_P D b M' R T Ti P Rw kp td ro ∧ md_F M0 M') := by
  refine fb_start [some (.ref (b + 43)), some (.int (nI q)), some (.int (nI 3))] (by decide) (Nat.le_of_ble_eq_true rfl) rfl ?_
  intro x hl hD hb C E hx
  subst hl hD hb
  have C : fb_OK x cX7_square "FallsBetweenModel" "square" := C
  obtain ⟨Bf, F, L, aa, we, so, lo, hV⟩ := h
  have hF := md_F.rf M0
  obtain ⟨k0, k1, k2, k3, k4, k5, k6, k7, k8⟩ := id hk
  refine gx_iload_n (q := 1) C dX7_square_0 rfl rfl rfl ?_
  refine gx_bipush (q := 3) (v := nI 36) C dX7_square_1 (by decide) rfl ?_
  refine gx_cp (q := 6) C E (sx_X7_124 (As := [_, _]) C rfl rfl dX7_square_3) (md_isNone_n _ _ _ _ q 36 hq (by omega)) kw_X7_isNone (by decide) (Nat.le_of_ble_eq_true rfl) (by omega) (by omega) dX7_square_3 rfl ?_
  refine gb_if_eq (q := 9) (tgt := 15) C dX7_square_6 (by decide) rfl (fun c6 => ?_) (fun c6 => by exfalso; cases c6)
  refine gx_iload_n (q := 16) C dX7_square_15 rfl rfl rfl ?_
  refine gx_tableIn (tgt := 82) C dX7_square_16 (by decide) (by decide) (rfl) (by decide) ?_
  refine gx_aload_n (q := 83) C dX7_square_82 rfl rfl rfl ?_
  refine gx_iload_n (q := 84) C dX7_square_83 rfl rfl rfl ?_
  refine gx_cp (q := 87) C E (sx_X7_121 (As := [_]) C hV.o rfl rfl dX7_square_84) (md_isNobodys _ _ _ _ q hq hV hk) kw_X7_isNobodys (by decide) (Nat.le_of_ble_eq_true rfl) (by omega) (by omega) dX7_square_84 rfl ?_
  refine gb_if_eq (q := 90) (tgt := 94) C dX7_square_87 (by decide) rfl (fun c87 => ?_) (fun c87 => ?_)
  · refine gx_iconst (q := 95) (v := nI 0) C dX7_square_94 (by decide) rfl ?_
    exact gx_iretE C E (by rw [c87]; rfl) dX7_square_95 (⟨⟨_, _, _, _, _, _, _, hV⟩, hF⟩) (by omega) (by omega)
  · refine gx_iconst (q := 91) (v := nI 1) C dX7_square_90 (by decide) rfl ?_
    refine gx_goto (tgt := 95) C dX7_square_91 (by decide) ?_
    exact gx_iretE C E (by rw [c87]; rfl) dX7_square_95 (⟨⟨_, _, _, _, _, _, _, hV⟩, hF⟩) (by omega) (by omega)
set_option maxHeartbeats 4000000 in
theorem mp_square_4 (l : Launch) (D : va_G) (b : Nat) (M0 : List va_E) {R T Ti P Rw : Nat → Nat} {kp : Bool} {td ro : Nat} (q : Nat) (hq : q < 36) (h : md_P D b M0 R T Ti P Rw kp td ro) (hk : okT T) : fb_CT l D b yX7_square cX7_square 3 (some .int) 3 71 0 0 [.ref (b + 43), .int (nI q), .int (nI 4)] M0 (.returned (some (.int (sq_ (trIn T q (T 0)))))) (fun M' => md_P D b M' R T Ti P Rw kp td ro ∧ md_F M0 M') := by
  refine fb_start [some (.ref (b + 43)), some (.int (nI q)), some (.int (nI 4))] (by decide) (Nat.le_of_ble_eq_true rfl) rfl ?_
  intro x hl hD hb C E hx
  subst hl hD hb
  have C : fb_OK x cX7_square "FallsBetweenModel" "square" := C
  obtain ⟨Bf, F, L, aa, we, so, lo, hV⟩ := h
  have hF := md_F.rf M0
  obtain ⟨k0, k1, k2, k3, k4, k5, k6, k7, k8⟩ := id hk
  refine gx_iload_n (q := 1) C dX7_square_0 rfl rfl rfl ?_
  refine gx_bipush (q := 3) (v := nI 36) C dX7_square_1 (by decide) rfl ?_
  refine gx_cp (q := 6) C E (sx_X7_124 (As := [_, _]) C rfl rfl dX7_square_3) (md_isNone_n _ _ _ _ q 36 hq (by omega)) kw_X7_isNone (by decide) (Nat.le_of_ble_eq_true rfl) (by omega) (by omega) dX7_square_3 rfl ?_
  refine gb_if_eq (q := 9) (tgt := 15) C dX7_square_6 (by decide) rfl (fun c6 => ?_) (fun c6 => by exfalso; cases c6)
  refine gx_iload_n (q := 16) C dX7_square_15 rfl rfl rfl ?_
  refine gx_tableIn (tgt := 96) C dX7_square_16 (by decide) (by decide) (rfl) (by decide) ?_
  refine gx_aload_n (q := 97) C dX7_square_96 rfl rfl rfl ?_
  refine gx_iload_n (q := 98) C dX7_square_97 rfl rfl rfl ?_
  refine gx_cp (q := 101) C E (sx_X7_78 (As := [_]) C hV.o rfl rfl dX7_square_98) (md_treeIn _ _ _ _ q (by omega) hV hk) kw_X7_treeIn (by decide) (Nat.le_of_ble_eq_true rfl) (by omega) (by omega) dX7_square_98 rfl ?_
  exact gx_iret C E dX7_square_101 (⟨⟨_, _, _, _, _, _, _, hV⟩, hF⟩) (by omega) (by omega)
set_option maxHeartbeats 4000000 in
theorem mp_square_o (l : Launch) (D : va_G) (b : Nat) (M0 : List va_E) {R T Ti P Rw : Nat → Nat} {kp : Bool} {td ro : Nat} (q : Nat) (hq : q < 36) (w : Int32) (hw : w < 0 ∨ nI 5 ≤ w) (h : md_P D b M0 R T Ti P Rw kp td ro) (hk : okT T) : fb_CT l D b yX7_square cX7_square 3 (some .int) 3 71 0 0 [.ref (b + 43), .int (nI q), .int w] M0 (.returned (some (.int (-2)))) (fun M' => md_P D b M' (updN R 2 (R 2 + 1)) T Ti P Rw kp td ro ∧ md_F M0 M') := by
  refine fb_start [some (.ref (b + 43)), some (.int (nI q)), some (.int w)] (by decide) (Nat.le_of_ble_eq_true rfl) rfl ?_
  intro x hl hD hb C E hx
  subst hl hD hb
  have C : fb_OK x cX7_square "FallsBetweenModel" "square" := C
  obtain ⟨Bf, F, L, aa, we, so, lo, hV⟩ := h
  have hF := md_F.rf M0
  obtain ⟨k0, k1, k2, k3, k4, k5, k6, k7, k8⟩ := id hk
  refine gx_iload_n (q := 1) C dX7_square_0 rfl rfl rfl ?_
  refine gx_bipush (q := 3) (v := nI 36) C dX7_square_1 (by decide) rfl ?_
  refine gx_cp (q := 6) C E (sx_X7_124 (As := [_, _]) C rfl rfl dX7_square_3) (md_isNone_n _ _ _ _ q 36 hq (by omega)) kw_X7_isNone (by decide) (Nat.le_of_ble_eq_true rfl) (by omega) (by omega) dX7_square_3 rfl ?_
  refine gb_if_eq (q := 9) (tgt := 15) C dX7_square_6 (by decide) rfl (fun c6 => ?_) (fun c6 => by exfalso; cases c6)
  refine gx_iload_n (q := 16) C dX7_square_15 rfl rfl rfl ?_
  refine gx_tableOut (tgt := 102) C dX7_square_16 (by have := sw_out (by decide) hw; omega) (by decide) ?_
  refine gx_aload_n (q := 103) C dX7_square_102 rfl rfl rfl ?_
  refine gx_bipush (q := 105) (v := -2) C dX7_square_103 (by decide) rfl ?_
  refine gx_cs (q := 108) C E (sx_X7_49 (As := [_]) C hV.o rfl rfl dX7_square_105) (md_no _ _ _ _ (-2) 2 (by decide) (by decide) hV) kw_X7_no (by decide) (Nat.le_of_ble_eq_true rfl) rfl rfl (by omega) (by omega) dX7_square_105 rfl (fun M r105 => ?_)
  obtain ⟨hV, hG⟩ := r105
  have hF := hF.tr hG
  exact gx_iret C E dX7_square_108 (⟨⟨_, _, _, _, _, _, _, hV⟩, hF⟩) (by omega) (by omega)
set_option maxHeartbeats 4000000 in
theorem mp_tree_b (l : Launch) (D : va_G) (b : Nat) (M0 : List va_E) {R T Ti P Rw : Nat → Nat} {kp : Bool} {td ro : Nat} (v : Int32) (hb : v < 0 ∨ nI (T 0) ≤ v) (w : Int32) (h : md_P D b M0 R T Ti P Rw kp td ro) (hk : okT T) : fb_CT l D b yX7_tree cX7_tree 3 (some .int) 1 21 0 0 [.ref (b + 43), .int v, .int w] M0 (.returned (some (.int (-1)))) (fun M' => md_P D b M' (updN R 1 (R 1 + 1)) T Ti P Rw kp td ro ∧ md_F M0 M') := by
  refine fb_start [some (.ref (b + 43)), some (.int v), some (.int w)] (by decide) (Nat.le_of_ble_eq_true rfl) rfl ?_
  intro x hl hD hb C E hx
  subst hl hD hb
  have C : fb_OK x cX7_tree "FallsBetweenModel" "tree" := C
  obtain ⟨Bf, F, L, aa, we, so, lo, hV⟩ := h
  have hF := md_F.rf M0
  obtain ⟨k0, k1, k2, k3, k4, k5, k6, k7, k8⟩ := id hk
  refine gx_iload_n (q := 1) C dX7_tree_0 rfl rfl rfl ?_
  refine gx_aload_n (q := 2) C dX7_tree_1 rfl rfl rfl ?_
  refine fg_X7_13 (q := 5) C hV.o rfl dX7_tree_2 rfl ?_
  refine gx_iconst (q := 6) (v := nI 0) C dX7_tree_5 (by decide) rfl ?_
  refine mv_ld_now (q := 7) C hV (by omega) dX7_tree_6 rfl ?_
  refine gx_cp (q := 10) C E (sx_X7_124 (As := [_, _]) C rfl rfl dX7_tree_7) (md_isNone_t _ _ _ _ v (nI (T 0)) hb) kw_X7_isNone (by decide) (Nat.le_of_ble_eq_true rfl) (by omega) (by omega) dX7_tree_7 rfl ?_
  refine gb_if_eq (q := 13) (tgt := 19) C dX7_tree_10 (by decide) rfl (fun c10 => by exfalso; cases c10) (fun c10 => ?_)
  refine gx_aload_n (q := 14) C dX7_tree_13 rfl rfl rfl ?_
  refine gx_iconst (q := 15) (v := -1) C dX7_tree_14 (by decide) rfl ?_
  refine gx_cs (q := 18) C E (sx_X7_49 (As := [_]) C hV.o rfl rfl dX7_tree_15) (md_no _ _ _ _ (-1) 1 (by decide) (by decide) hV) kw_X7_no (by decide) (Nat.le_of_ble_eq_true rfl) rfl rfl (by omega) (by omega) dX7_tree_15 rfl (fun M r15 => ?_)
  obtain ⟨hV, hG⟩ := r15
  have hF := hF.tr hG
  exact gx_iret C E dX7_tree_18 (⟨⟨_, _, _, _, _, _, _, hV⟩, hF⟩) (by omega) (by omega)
set_option maxHeartbeats 4000000 in
theorem mp_tree_o (l : Launch) (D : va_G) (b : Nat) (M0 : List va_E) {R T Ti P Rw : Nat → Nat} {kp : Bool} {td ro : Nat} (t : Nat) (ht : t < T 0) (w : Int32) (hw : w < 0 ∨ nI 4 ≤ w) (h : md_P D b M0 R T Ti P Rw kp td ro) (hk : okT T) : fb_CT l D b yX7_tree cX7_tree 3 (some .int) 1 21 0 0 [.ref (b + 43), .int (nI t), .int w] M0 (.returned (some (.int (-2)))) (fun M' => md_P D b M' (updN R 2 (R 2 + 1)) T Ti P Rw kp td ro ∧ md_F M0 M') := by
  refine fb_start [some (.ref (b + 43)), some (.int (nI t)), some (.int w)] (by decide) (Nat.le_of_ble_eq_true rfl) rfl ?_
  intro x hl hD hb C E hx
  subst hl hD hb
  have C : fb_OK x cX7_tree "FallsBetweenModel" "tree" := C
  obtain ⟨Bf, F, L, aa, we, so, lo, hV⟩ := h
  have hF := md_F.rf M0
  obtain ⟨k0, k1, k2, k3, k4, k5, k6, k7, k8⟩ := id hk
  refine gx_iload_n (q := 1) C dX7_tree_0 rfl rfl rfl ?_
  refine gx_aload_n (q := 2) C dX7_tree_1 rfl rfl rfl ?_
  refine fg_X7_13 (q := 5) C hV.o rfl dX7_tree_2 rfl ?_
  refine gx_iconst (q := 6) (v := nI 0) C dX7_tree_5 (by decide) rfl ?_
  refine mv_ld_now (q := 7) C hV (by omega) dX7_tree_6 rfl ?_
  refine gx_cp (q := 10) C E (sx_X7_124 (As := [_, _]) C rfl rfl dX7_tree_7) (md_isNone_n _ _ _ _ t (T 0) ht (by omega)) kw_X7_isNone (by decide) (Nat.le_of_ble_eq_true rfl) (by omega) (by omega) dX7_tree_7 rfl ?_
  refine gb_if_eq (q := 13) (tgt := 19) C dX7_tree_10 (by decide) rfl (fun c10 => ?_) (fun c10 => by exfalso; cases c10)
  refine gx_iload_n (q := 20) C dX7_tree_19 rfl rfl rfl ?_
  refine gx_if_lt (q := 23) (tgt := 28) C dX7_tree_20 (by decide) rfl (fun c20 => ?_) (fun c20 => ?_)
  · refine gx_aload_n (q := 29) C dX7_tree_28 rfl rfl rfl ?_
    refine gx_bipush (q := 31) (v := -2) C dX7_tree_29 (by decide) rfl ?_
    refine gx_cs (q := 34) C E (sx_X7_49 (As := [_]) C hV.o rfl rfl dX7_tree_31) (md_no _ _ _ _ (-2) 2 (by decide) (by decide) hV) kw_X7_no (by decide) (Nat.le_of_ble_eq_true rfl) rfl rfl (by omega) (by omega) dX7_tree_31 rfl (fun M r31 => ?_)
    obtain ⟨hV, hG⟩ := r31
    have hF := hF.tr hG
    refine gx_goto (tgt := 51) C dX7_tree_34 (by decide) ?_
    exact gx_iret C E dX7_tree_51 (⟨⟨_, _, _, _, _, _, _, hV⟩, hF⟩) (by omega) (by omega)
  · refine gx_iload_n (q := 24) C dX7_tree_23 rfl rfl rfl ?_
    refine gx_iconst (q := 25) (v := nI 3) C dX7_tree_24 (by decide) rfl ?_
    refine gx_icmp_le (q := 28) (tgt := 37) C dX7_tree_25 (by decide) rfl (fun c25 => by exfalso; exact Int32.not_le.mpr (lt_gt (by decide) (hw.resolve_left c20)) c25) (fun c25 => ?_)
    refine gx_aload_n (q := 29) C dX7_tree_28 rfl rfl rfl ?_
    refine gx_bipush (q := 31) (v := -2) C dX7_tree_29 (by decide) rfl ?_
    refine gx_cs (q := 34) C E (sx_X7_49 (As := [_]) C hV.o rfl rfl dX7_tree_31) (md_no _ _ _ _ (-2) 2 (by decide) (by decide) hV) kw_X7_no (by decide) (Nat.le_of_ble_eq_true rfl) rfl rfl (by omega) (by omega) dX7_tree_31 rfl (fun M r31 => ?_)
    obtain ⟨hV, hG⟩ := r31
    have hF := hF.tr hG
    refine gx_goto (tgt := 51) C dX7_tree_34 (by decide) ?_
    exact gx_iret C E dX7_tree_51 (⟨⟨_, _, _, _, _, _, _, hV⟩, hF⟩) (by omega) (by omega)
set_option maxHeartbeats 4000000 in
theorem mp_tree_i (l : Launch) (D : va_G) (b : Nat) (M0 : List va_E) {R T Ti P Rw : Nat → Nat} {kp : Bool} {td ro : Nat} (t : Nat) (ht : t < T 0) (w : Nat) (hw : w < 4) (h : md_P D b M0 R T Ti P Rw kp td ro) (hk : okT T) : fb_CT l D b yX7_tree cX7_tree 3 (some .int) 1 21 0 0 [.ref (b + 43), .int (nI t), .int (nI w)] M0 (.returned (some (.int (nI (T (120 + 6 * w + t)))))) (fun M' => md_P D b M' R T Ti P Rw kp td ro ∧ md_F M0 M') := by
  refine fb_start [some (.ref (b + 43)), some (.int (nI t)), some (.int (nI w))] (by decide) (Nat.le_of_ble_eq_true rfl) rfl ?_
  intro x hl hD hb C E hx
  subst hl hD hb
  have C : fb_OK x cX7_tree "FallsBetweenModel" "tree" := C
  obtain ⟨Bf, F, L, aa, we, so, lo, hV⟩ := h
  have hF := md_F.rf M0
  obtain ⟨k0, k1, k2, k3, k4, k5, k6, k7, k8⟩ := id hk
  refine gx_iload_n (q := 1) C dX7_tree_0 rfl rfl rfl ?_
  refine gx_aload_n (q := 2) C dX7_tree_1 rfl rfl rfl ?_
  refine fg_X7_13 (q := 5) C hV.o rfl dX7_tree_2 rfl ?_
  refine gx_iconst (q := 6) (v := nI 0) C dX7_tree_5 (by decide) rfl ?_
  refine mv_ld_now (q := 7) C hV (by omega) dX7_tree_6 rfl ?_
  refine gx_cp (q := 10) C E (sx_X7_124 (As := [_, _]) C rfl rfl dX7_tree_7) (md_isNone_n _ _ _ _ t (T 0) ht (by omega)) kw_X7_isNone (by decide) (Nat.le_of_ble_eq_true rfl) (by omega) (by omega) dX7_tree_7 rfl ?_
  refine gb_if_eq (q := 13) (tgt := 19) C dX7_tree_10 (by decide) rfl (fun c10 => ?_) (fun c10 => by exfalso; cases c10)
  refine gx_iload_n (q := 20) C dX7_tree_19 rfl rfl rfl ?_
  refine gx_if_lt (q := 23) (tgt := 28) C dX7_tree_20 (by decide) rfl (fun c20 => by exfalso; exact nI_pos (by omega) c20) (fun c20 => ?_)
  refine gx_iload_n (q := 24) C dX7_tree_23 rfl rfl rfl ?_
  refine gx_iconst (q := 25) (v := nI 3) C dX7_tree_24 (by decide) rfl ?_
  refine gn_icmp_le (q := 28) (tgt := 37) C dX7_tree_25 (by decide) rfl (by omega) (by omega) (fun c25 => ?_) (fun c25 => by exfalso; omega)
  refine gx_aload_n (q := 38) C dX7_tree_37 rfl rfl rfl ?_
  refine fg_X7_13 (q := 41) C hV.o rfl dX7_tree_38 rfl ?_
  refine gx_bipush (q := 43) (v := nI 120) C dX7_tree_41 (by decide) rfl ?_
  refine gx_bipush (q := 45) (v := nI 6) C dX7_tree_43 (by decide) rfl ?_
  refine gx_iload_n (q := 46) C dX7_tree_45 rfl rfl rfl ?_
  refine gn_imul (q := 47) C dX7_tree_46 rfl ?_
  refine gn_iadd (q := 48) C dX7_tree_47 rfl ?_
  refine gx_iload_n (q := 49) C dX7_tree_48 rfl rfl rfl ?_
  refine gn_iadd (q := 50) C dX7_tree_49 rfl ?_
  refine mv_ld_now (q := 51) C hV (by omega) dX7_tree_50 rfl ?_
  exact gx_iret C E dX7_tree_51 (⟨⟨_, _, _, _, _, _, _, hV⟩, hF⟩) (by omega) (by omega)
set_option maxHeartbeats 4000000 in
theorem mp_garden_b1 (l : Launch) (D : va_G) (b : Nat) (M0 : List va_E) {R T Ti P Rw : Nat → Nat} {kp : Bool} {td ro : Nat} (v : Int32) (hb : v < 0 ∨ nI 36 ≤ v) (w : Int32) (h : md_P D b M0 R T Ti P Rw kp td ro) (hk : okT T) : fb_CT l D b yX7_garden cX7_garden 4 (some .int) 1 21 0 0 [.ref (b + 43), .int v, .int w] M0 (.returned (some (.int (-1)))) (fun M' => md_P D b M' (updN R 1 (R 1 + 1)) T Ti P Rw kp td ro ∧ md_F M0 M') := by
  refine fb_start [some (.ref (b + 43)), some (.int v), some (.int w), none] (by decide) (Nat.le_of_ble_eq_true rfl) rfl ?_
  intro x hl hD hb C E hx
  subst hl hD hb
  have C : fb_OK x cX7_garden "FallsBetweenModel" "garden" := C
  obtain ⟨Bf, F, L, aa, we, so, lo, hV⟩ := h
  have hF := md_F.rf M0
  obtain ⟨k0, k1, k2, k3, k4, k5, k6, k7, k8⟩ := id hk
  refine gx_iload_n (q := 1) C dX7_garden_0 rfl rfl rfl ?_
  refine gx_bipush (q := 3) (v := nI 36) C dX7_garden_1 (by decide) rfl ?_
  refine gx_cp (q := 6) C E (sx_X7_124 (As := [_, _]) C rfl rfl dX7_garden_3) (md_isNone_t _ _ _ _ v (nI 36) hb) kw_X7_isNone (by decide) (Nat.le_of_ble_eq_true rfl) (by omega) (by omega) dX7_garden_3 rfl ?_
  refine gb_if_ne (q := 9) (tgt := 17) C dX7_garden_6 (by decide) rfl (fun c6 => ?_) (fun c6 => by exfalso; cases c6)
  refine gx_aload_n (q := 18) C dX7_garden_17 rfl rfl rfl ?_
  refine gx_iconst (q := 19) (v := -1) C dX7_garden_18 (by decide) rfl ?_
  refine gx_cs (q := 22) C E (sx_X7_49 (As := [_]) C hV.o rfl rfl dX7_garden_19) (md_no _ _ _ _ (-1) 1 (by decide) (by decide) hV) kw_X7_no (by decide) (Nat.le_of_ble_eq_true rfl) rfl rfl (by omega) (by omega) dX7_garden_19 rfl (fun M r19 => ?_)
  obtain ⟨hV, hG⟩ := r19
  have hF := hF.tr hG
  exact gx_iret C E dX7_garden_22 (⟨⟨_, _, _, _, _, _, _, hV⟩, hF⟩) (by omega) (by omega)
set_option maxHeartbeats 4000000 in
theorem mp_garden_b2 (l : Launch) (D : va_G) (b : Nat) (M0 : List va_E) {R T Ti P Rw : Nat → Nat} {kp : Bool} {td ro : Nat} (q : Nat) (hq : q < 36) (v : Int32) (hb : v < 0 ∨ nI 4 ≤ v) (h : md_P D b M0 R T Ti P Rw kp td ro) (hk : okT T) : fb_CT l D b yX7_garden cX7_garden 4 (some .int) 1 21 0 0 [.ref (b + 43), .int (nI q), .int v] M0 (.returned (some (.int (-1)))) (fun M' => md_P D b M' (updN R 1 (R 1 + 1)) T Ti P Rw kp td ro ∧ md_F M0 M') := by
  refine fb_start [some (.ref (b + 43)), some (.int (nI q)), some (.int v), none] (by decide) (Nat.le_of_ble_eq_true rfl) rfl ?_
  intro x hl hD hb C E hx
  subst hl hD hb
  have C : fb_OK x cX7_garden "FallsBetweenModel" "garden" := C
  obtain ⟨Bf, F, L, aa, we, so, lo, hV⟩ := h
  have hF := md_F.rf M0
  obtain ⟨k0, k1, k2, k3, k4, k5, k6, k7, k8⟩ := id hk
  refine gx_iload_n (q := 1) C dX7_garden_0 rfl rfl rfl ?_
  refine gx_bipush (q := 3) (v := nI 36) C dX7_garden_1 (by decide) rfl ?_
  refine gx_cp (q := 6) C E (sx_X7_124 (As := [_, _]) C rfl rfl dX7_garden_3) (md_isNone_n _ _ _ _ q 36 hq (by omega)) kw_X7_isNone (by decide) (Nat.le_of_ble_eq_true rfl) (by omega) (by omega) dX7_garden_3 rfl ?_
  refine gb_if_ne (q := 9) (tgt := 17) C dX7_garden_6 (by decide) rfl (fun c6 => by exfalso; cases c6) (fun c6 => ?_)
  refine gx_iload_n (q := 10) C dX7_garden_9 rfl rfl rfl ?_
  refine gx_iconst (q := 11) (v := nI 4) C dX7_garden_10 (by decide) rfl ?_
  refine gx_cp (q := 14) C E (sx_X7_124 (As := [_, _]) C rfl rfl dX7_garden_11) (md_isNone_t _ _ _ _ v (nI 4) hb) kw_X7_isNone (by decide) (Nat.le_of_ble_eq_true rfl) (by omega) (by omega) dX7_garden_11 rfl ?_
  refine gb_if_eq (q := 17) (tgt := 23) C dX7_garden_14 (by decide) rfl (fun c14 => by exfalso; cases c14) (fun c14 => ?_)
  refine gx_aload_n (q := 18) C dX7_garden_17 rfl rfl rfl ?_
  refine gx_iconst (q := 19) (v := -1) C dX7_garden_18 (by decide) rfl ?_
  refine gx_cs (q := 22) C E (sx_X7_49 (As := [_]) C hV.o rfl rfl dX7_garden_19) (md_no _ _ _ _ (-1) 1 (by decide) (by decide) hV) kw_X7_no (by decide) (Nat.le_of_ble_eq_true rfl) rfl rfl (by omega) (by omega) dX7_garden_19 rfl (fun M r19 => ?_)
  obtain ⟨hV, hG⟩ := r19
  have hF := hF.tr hG
  exact gx_iret C E dX7_garden_22 (⟨⟨_, _, _, _, _, _, _, hV⟩, hF⟩) (by omega) (by omega)
set_option maxHeartbeats 4000000 in
theorem mp_garden_o (l : Launch) (D : va_G) (b : Nat) (M0 : List va_E) {R T Ti P Rw : Nat → Nat} {kp : Bool} {td ro : Nat} (q : Nat) (hq : q < 36) (g : Nat) (hg : g < 4) (h : md_P D b M0 R T Ti P Rw kp td ro) (hk : okT T) : fb_CT l D b yX7_garden cX7_garden 4 (some .int) 1 21 0 0 [.ref (b + 43), .int (nI q), .int (nI g)] M0 (.returned (some (.int (nI (T (12 + q)))))) (fun M' => md_P D b M' R (updN T (12 + q) g) Ti P Rw kp td ro ∧ md_F M0 M') := by
  refine fb_start [some (.ref (b + 43)), some (.int (nI q)), some (.int (nI g)), none] (by decide) (Nat.le_of_ble_eq_true rfl) rfl ?_
  intro x hl hD hb C E hx
  subst hl hD hb
  have C : fb_OK x cX7_garden "FallsBetweenModel" "garden" := C
  obtain ⟨Bf, F, L, aa, we, so, lo, hV⟩ := h
  have hF := md_F.rf M0
  obtain ⟨k0, k1, k2, k3, k4, k5, k6, k7, k8⟩ := id hk
  refine gx_iload_n (q := 1) C dX7_garden_0 rfl rfl rfl ?_
  refine gx_bipush (q := 3) (v := nI 36) C dX7_garden_1 (by decide) rfl ?_
  refine gx_cp (q := 6) C E (sx_X7_124 (As := [_, _]) C rfl rfl dX7_garden_3) (md_isNone_n _ _ _ _ q 36 hq (by omega)) kw_X7_isNone (by decide) (Nat.le_of_ble_eq_true rfl) (by omega) (by omega) dX7_garden_3 rfl ?_
  refine gb_if_ne (q := 9) (tgt := 17) C dX7_garden_6 (by decide) rfl (fun c6 => by exfalso; cases c6) (fun c6 => ?_)
  refine gx_iload_n (q := 10) C dX7_garden_9 rfl rfl rfl ?_
  refine gx_iconst (q := 11) (v := nI 4) C dX7_garden_10 (by decide) rfl ?_
  refine gx_cp (q := 14) C E (sx_X7_124 (As := [_, _]) C rfl rfl dX7_garden_11) (md_isNone_n _ _ _ _ g 4 hg (by omega)) kw_X7_isNone (by decide) (Nat.le_of_ble_eq_true rfl) (by omega) (by omega) dX7_garden_11 rfl ?_
  refine gb_if_eq (q := 17) (tgt := 23) C dX7_garden_14 (by decide) rfl (fun c14 => ?_) (fun c14 => by exfalso; cases c14)
  refine gx_aload_n (q := 24) C dX7_garden_23 rfl rfl rfl ?_
  refine fg_X7_13 (q := 27) C hV.o rfl dX7_garden_24 rfl ?_
  refine gx_bipush (q := 29) (v := nI 12) C dX7_garden_27 (by decide) rfl ?_
  refine gx_iload_n (q := 30) C dX7_garden_29 rfl rfl rfl ?_
  refine gn_iadd (q := 31) C dX7_garden_30 rfl ?_
  refine mv_ld_now (q := 32) C hV (by omega) dX7_garden_31 rfl ?_
  refine gx_istore_n (q := 33) (lv' := [_, _, _, _]) C dX7_garden_32 rfl (Nat.le_of_ble_eq_true rfl) E.2.2.2.symm rfl rfl rfl ?_
  refine gx_aload_n (q := 34) C dX7_garden_33 rfl rfl rfl ?_
  refine fg_X7_13 (q := 37) C hV.o rfl dX7_garden_34 rfl ?_
  refine gx_bipush (q := 39) (v := nI 12) C dX7_garden_37 (by decide) rfl ?_
  refine gx_iload_n (q := 40) C dX7_garden_39 rfl rfl rfl ?_
  refine gn_iadd (q := 41) C dX7_garden_40 rfl ?_
  refine gx_iload_n (q := 42) C dX7_garden_41 rfl rfl rfl ?_
  refine mv_st_now (q := 43) C hV hF (by omega) dX7_garden_42 rfl (fun M hV hF => ?_)
  refine gx_iload_n (q := 44) C dX7_garden_43 rfl rfl rfl ?_
  exact gx_iret C E dX7_garden_44 (⟨⟨_, _, _, _, _, _, _, hV⟩, hF⟩) (by omega) (by omega)
set_option maxHeartbeats 4000000 in
theorem mp_height_b1 (l : Launch) (D : va_G) (b : Nat) (M0 : List va_E) {R T Ti P Rw : Nat → Nat} {kp : Bool} {td ro : Nat} (v : Int32) (hb : v < 0 ∨ nI 36 ≤ v) (w : Int32) (h : md_P D b M0 R T Ti P Rw kp td ro) (hk : okT T) : fb_CT l D b yX7_height cX7_height 4 (some .int) 1 21 0 0 [.ref (b + 43), .int v, .int w] M0 (.returned (some (.int (-1)))) (fun M' => md_P D b M' (updN R 1 (R 1 + 1)) T Ti P Rw kp td ro ∧ md_F M0 M') := by
  refine fb_start [some (.ref (b + 43)), some (.int v), some (.int w), none] (by decide) (Nat.le_of_ble_eq_true rfl) rfl ?_
  intro x hl hD hb C E hx
  subst hl hD hb
  have C : fb_OK x cX7_height "FallsBetweenModel" "height" := C
  obtain ⟨Bf, F, L, aa, we, so, lo, hV⟩ := h
  have hF := md_F.rf M0
  obtain ⟨k0, k1, k2, k3, k4, k5, k6, k7, k8⟩ := id hk
  refine gx_iload_n (q := 1) C dX7_height_0 rfl rfl rfl ?_
  refine gx_bipush (q := 3) (v := nI 36) C dX7_height_1 (by decide) rfl ?_
  refine gx_cp (q := 6) C E (sx_X7_124 (As := [_, _]) C rfl rfl dX7_height_3) (md_isNone_t _ _ _ _ v (nI 36) hb) kw_X7_isNone (by decide) (Nat.le_of_ble_eq_true rfl) (by omega) (by omega) dX7_height_3 rfl ?_
  refine gb_if_eq (q := 9) (tgt := 15) C dX7_height_6 (by decide) rfl (fun c6 => by exfalso; cases c6) (fun c6 => ?_)
  refine gx_aload_n (q := 10) C dX7_height_9 rfl rfl rfl ?_
  refine gx_iconst (q := 11) (v := -1) C dX7_height_10 (by decide) rfl ?_
  refine gx_cs (q := 14) C E (sx_X7_49 (As := [_]) C hV.o rfl rfl dX7_height_11) (md_no _ _ _ _ (-1) 1 (by decide) (by decide) hV) kw_X7_no (by decide) (Nat.le_of_ble_eq_true rfl) rfl rfl (by omega) (by omega) dX7_height_11 rfl (fun M r11 => ?_)
  obtain ⟨hV, hG⟩ := r11
  have hF := hF.tr hG
  exact gx_iret C E dX7_height_14 (⟨⟨_, _, _, _, _, _, _, hV⟩, hF⟩) (by omega) (by omega)
set_option maxHeartbeats 4000000 in
theorem mp_height_b2 (l : Launch) (D : va_G) (b : Nat) (M0 : List va_E) {R T Ti P Rw : Nat → Nat} {kp : Bool} {td ro : Nat} (q : Nat) (hq : q < 36) (v : Int32) (hb : v < 0) (h : md_P D b M0 R T Ti P Rw kp td ro) (hk : okT T) : fb_CT l D b yX7_height cX7_height 4 (some .int) 1 21 0 0 [.ref (b + 43), .int (nI q), .int v] M0 (.returned (some (.int (-4)))) (fun M' => md_P D b M' (updN R 4 (R 4 + 1)) T Ti P Rw kp td ro ∧ md_F M0 M') := by
  refine fb_start [some (.ref (b + 43)), some (.int (nI q)), some (.int v), none] (by decide) (Nat.le_of_ble_eq_true rfl) rfl ?_
  intro x hl hD hb C E hx
  subst hl hD hb
  have C : fb_OK x cX7_height "FallsBetweenModel" "height" := C
  obtain ⟨Bf, F, L, aa, we, so, lo, hV⟩ := h
  have hF := md_F.rf M0
  obtain ⟨k0, k1, k2, k3, k4, k5, k6, k7, k8⟩ := id hk
  refine gx_iload_n (q := 1) C dX7_height_0 rfl rfl rfl ?_
  refine gx_bipush (q := 3) (v := nI 36) C dX7_height_1 (by decide) rfl ?_
  refine gx_cp (q := 6) C E (sx_X7_124 (As := [_, _]) C rfl rfl dX7_height_3) (md_isNone_n _ _ _ _ q 36 hq (by omega)) kw_X7_isNone (by decide) (Nat.le_of_ble_eq_true rfl) (by omega) (by omega) dX7_height_3 rfl ?_
  refine gb_if_eq (q := 9) (tgt := 15) C dX7_height_6 (by decide) rfl (fun c6 => ?_) (fun c6 => by exfalso; cases c6)
  refine gx_iload_n (q := 16) C dX7_height_15 rfl rfl rfl ?_
  refine gx_if_ge (q := 19) (tgt := 26) C dX7_height_16 (by decide) rfl (fun c16 => by exfalso; exact Int32.not_lt.mpr c16 hb) (fun c16 => ?_)
  refine gx_aload_n (q := 20) C dX7_height_19 rfl rfl rfl ?_
  refine gx_bipush (q := 22) (v := -4) C dX7_height_20 (by decide) rfl ?_
  refine gx_cs (q := 25) C E (sx_X7_49 (As := [_]) C hV.o rfl rfl dX7_height_22) (md_no _ _ _ _ (-4) 4 (by decide) (by decide) hV) kw_X7_no (by decide) (Nat.le_of_ble_eq_true rfl) rfl rfl (by omega) (by omega) dX7_height_22 rfl (fun M r22 => ?_)
  obtain ⟨hV, hG⟩ := r22
  have hF := hF.tr hG
  exact gx_iret C E dX7_height_25 (⟨⟨_, _, _, _, _, _, _, hV⟩, hF⟩) (by omega) (by omega)
set_option maxHeartbeats 4000000 in
theorem mp_height_b3 (l : Launch) (D : va_G) (b : Nat) (M0 : List va_E) {R T Ti P Rw : Nat → Nat} {kp : Bool} {td ro : Nat} (q : Nat) (hq : q < 36) (v : Int32) (hb : nI 10 ≤ v) (h : md_P D b M0 R T Ti P Rw kp td ro) (hk : okT T) : fb_CT l D b yX7_height cX7_height 4 (some .int) 1 21 0 0 [.ref (b + 43), .int (nI q), .int v] M0 (.returned (some (.int (-6)))) (fun M' => md_P D b M' (updN R 6 (R 6 + 1)) T Ti P Rw kp td ro ∧ md_F M0 M') := by
  refine fb_start [some (.ref (b + 43)), some (.int (nI q)), some (.int v), none] (by decide) (Nat.le_of_ble_eq_true rfl) rfl ?_
  intro x hl hD hb C E hx
  subst hl hD hb
  have C : fb_OK x cX7_height "FallsBetweenModel" "height" := C
  obtain ⟨Bf, F, L, aa, we, so, lo, hV⟩ := h
  have hF := md_F.rf M0
  obtain ⟨k0, k1, k2, k3, k4, k5, k6, k7, k8⟩ := id hk
  refine gx_iload_n (q := 1) C dX7_height_0 rfl rfl rfl ?_
  refine gx_bipush (q := 3) (v := nI 36) C dX7_height_1 (by decide) rfl ?_
  refine gx_cp (q := 6) C E (sx_X7_124 (As := [_, _]) C rfl rfl dX7_height_3) (md_isNone_n _ _ _ _ q 36 hq (by omega)) kw_X7_isNone (by decide) (Nat.le_of_ble_eq_true rfl) (by omega) (by omega) dX7_height_3 rfl ?_
  refine gb_if_eq (q := 9) (tgt := 15) C dX7_height_6 (by decide) rfl (fun c6 => ?_) (fun c6 => by exfalso; cases c6)
  refine gx_iload_n (q := 16) C dX7_height_15 rfl rfl rfl ?_
  refine gx_if_ge (q := 19) (tgt := 26) C dX7_height_16 (by decide) rfl (fun c16 => ?_) (fun c16 => by exfalso; exact c16 (Int32.le_trans (nI_pos' (by decide)) hb))
  refine gx_iload_n (q := 27) C dX7_height_26 rfl rfl rfl ?_
  refine gx_bipush (q := 29) (v := nI 9) C dX7_height_27 (by decide) rfl ?_
  refine gx_icmp_le (q := 32) (tgt := 39) C dX7_height_29 (by decide) rfl (fun c29 => by exfalso; exact Int32.not_le.mpr (lt_gt (by decide) hb) c29) (fun c29 => ?_)
  refine gx_aload_n (q := 33) C dX7_height_32 rfl rfl rfl ?_
  refine gx_bipush (q := 35) (v := -6) C dX7_height_33 (by decide) rfl ?_
  refine gx_cs (q := 38) C E (sx_X7_49 (As := [_]) C hV.o rfl rfl dX7_height_35) (md_no _ _ _ _ (-6) 6 (by decide) (by decide) hV) kw_X7_no (by decide) (Nat.le_of_ble_eq_true rfl) rfl rfl (by omega) (by omega) dX7_height_35 rfl (fun M r35 => ?_)
  obtain ⟨hV, hG⟩ := r35
  have hF := hF.tr hG
  exact gx_iret C E dX7_height_38 (⟨⟨_, _, _, _, _, _, _, hV⟩, hF⟩) (by omega) (by omega)
set_option maxHeartbeats 4000000 in
theorem mp_height_o (l : Launch) (D : va_G) (b : Nat) (M0 : List va_E) {R T Ti P Rw : Nat → Nat} {kp : Bool} {td ro : Nat} (q : Nat) (hq : q < 36) (v : Nat) (hv : v < 10) (h : md_P D b M0 R T Ti P Rw kp td ro) (hk : okT T) : fb_CT l D b yX7_height cX7_height 4 (some .int) 1 21 0 0 [.ref (b + 43), .int (nI q), .int (nI v)] M0 (.returned (some (.int (nI (T (48 + q)))))) (fun M' => md_P D b M' R (updN T (48 + q) v) Ti P Rw kp td ro ∧ md_F M0 M') := by
  refine fb_start [some (.ref (b + 43)), some (.int (nI q)), some (.int (nI v)), none] (by decide) (Nat.le_of_ble_eq_true rfl) rfl ?_
  intro x hl hD hb C E hx
  subst hl hD hb
  have C : fb_OK x cX7_height "FallsBetweenModel" "height" := C
  obtain ⟨Bf, F, L, aa, we, so, lo, hV⟩ := h
  have hF := md_F.rf M0
  obtain ⟨k0, k1, k2, k3, k4, k5, k6, k7, k8⟩ := id hk
  refine gx_iload_n (q := 1) C dX7_height_0 rfl rfl rfl ?_
  refine gx_bipush (q := 3) (v := nI 36) C dX7_height_1 (by decide) rfl ?_
  refine gx_cp (q := 6) C E (sx_X7_124 (As := [_, _]) C rfl rfl dX7_height_3) (md_isNone_n _ _ _ _ q 36 hq (by omega)) kw_X7_isNone (by decide) (Nat.le_of_ble_eq_true rfl) (by omega) (by omega) dX7_height_3 rfl ?_
  refine gb_if_eq (q := 9) (tgt := 15) C dX7_height_6 (by decide) rfl (fun c6 => ?_) (fun c6 => by exfalso; cases c6)
  refine gx_iload_n (q := 16) C dX7_height_15 rfl rfl rfl ?_
  refine gx_if_ge (q := 19) (tgt := 26) C dX7_height_16 (by decide) rfl (fun c16 => ?_) (fun c16 => by exfalso; exact c16 (nI_pos' (by omega)))
  refine gx_iload_n (q := 27) C dX7_height_26 rfl rfl rfl ?_
  refine gx_bipush (q := 29) (v := nI 9) C dX7_height_27 (by decide) rfl ?_
  refine gn_icmp_le (q := 32) (tgt := 39) C dX7_height_29 (by decide) rfl (by omega) (by omega) (fun c29 => ?_) (fun c29 => by exfalso; omega)
  refine gx_aload_n (q := 40) C dX7_height_39 rfl rfl rfl ?_
  refine fg_X7_13 (q := 43) C hV.o rfl dX7_height_40 rfl ?_
  refine gx_bipush (q := 45) (v := nI 48) C dX7_height_43 (by decide) rfl ?_
  refine gx_iload_n (q := 46) C dX7_height_45 rfl rfl rfl ?_
  refine gn_iadd (q := 47) C dX7_height_46 rfl ?_
  refine mv_ld_now (q := 48) C hV (by omega) dX7_height_47 rfl ?_
  refine gx_istore_n (q := 49) (lv' := [_, _, _, _]) C dX7_height_48 rfl (Nat.le_of_ble_eq_true rfl) E.2.2.2.symm rfl rfl rfl ?_
  refine gx_aload_n (q := 50) C dX7_height_49 rfl rfl rfl ?_
  refine fg_X7_13 (q := 53) C hV.o rfl dX7_height_50 rfl ?_
  refine gx_bipush (q := 55) (v := nI 48) C dX7_height_53 (by decide) rfl ?_
  refine gx_iload_n (q := 56) C dX7_height_55 rfl rfl rfl ?_
  refine gn_iadd (q := 57) C dX7_height_56 rfl ?_
  refine gx_iload_n (q := 58) C dX7_height_57 rfl rfl rfl ?_
  refine mv_st_now (q := 59) C hV hF (by omega) dX7_height_58 rfl (fun M hV hF => ?_)
  refine gx_iload_n (q := 60) C dX7_height_59 rfl rfl rfl ?_
  exact gx_iret C E dX7_height_60 (⟨⟨_, _, _, _, _, _, _, hV⟩, hF⟩) (by omega) (by omega)
set_option maxHeartbeats 4000000 in
theorem mp_net_b (l : Launch) (D : va_G) (b : Nat) (M0 : List va_E) {R T Ti P Rw : Nat → Nat} {kp : Bool} {td ro : Nat} (v : Int32) (hb : v < 0 ∨ nI 36 ≤ v) (h : md_P D b M0 R T Ti P Rw kp td ro) (hk : okT T) : fb_CT l D b yX7_net cX7_net 2 (some .int) 1 21 0 0 [.ref (b + 43), .int v] M0 (.returned (some (.int (-1)))) (fun M' => md_P D b M' (updN R 1 (R 1 + 1)) T Ti P Rw kp td ro ∧ md_F M0 M') := by
  refine fb_start [some (.ref (b + 43)), some (.int v)] (by decide) (Nat.le_of_ble_eq_true rfl) rfl ?_
  intro x hl hD hb C E hx
  subst hl hD hb
  have C : fb_OK x cX7_net "FallsBetweenModel" "net" := C
  obtain ⟨Bf, F, L, aa, we, so, lo, hV⟩ := h
  have hF := md_F.rf M0
  obtain ⟨k0, k1, k2, k3, k4, k5, k6, k7, k8⟩ := id hk
  refine gx_iload_n (q := 1) C dX7_net_0 rfl rfl rfl ?_
  refine gx_bipush (q := 3) (v := nI 36) C dX7_net_1 (by decide) rfl ?_
  refine gx_cp (q := 6) C E (sx_X7_124 (As := [_, _]) C rfl rfl dX7_net_3) (md_isNone_t _ _ _ _ v (nI 36) hb) kw_X7_isNone (by decide) (Nat.le_of_ble_eq_true rfl) (by omega) (by omega) dX7_net_3 rfl ?_
  refine gb_if_eq (q := 9) (tgt := 15) C dX7_net_6 (by decide) rfl (fun c6 => by exfalso; cases c6) (fun c6 => ?_)
  refine gx_aload_n (q := 10) C dX7_net_9 rfl rfl rfl ?_
  refine gx_iconst (q := 11) (v := -1) C dX7_net_10 (by decide) rfl ?_
  refine gx_cs (q := 14) C E (sx_X7_49 (As := [_]) C hV.o rfl rfl dX7_net_11) (md_no _ _ _ _ (-1) 1 (by decide) (by decide) hV) kw_X7_no (by decide) (Nat.le_of_ble_eq_true rfl) rfl rfl (by omega) (by omega) dX7_net_11 rfl (fun M r11 => ?_)
  obtain ⟨hV, hG⟩ := r11
  have hF := hF.tr hG
  exact gx_iret C E dX7_net_14 (⟨⟨_, _, _, _, _, _, _, hV⟩, hF⟩) (by omega) (by omega)
set_option maxHeartbeats 4000000 in
theorem mp_net_o (l : Launch) (D : va_G) (b : Nat) (M0 : List va_E) {R T Ti P Rw : Nat → Nat} {kp : Bool} {td ro : Nat} (q : Nat) (hq : q < 36) (h : md_P D b M0 R T Ti P Rw kp td ro) (hk : okT T) : fb_CT l D b yX7_net cX7_net 2 (some .int) 1 21 0 0 [.ref (b + 43), .int (nI q)] M0 (.returned (some (.int (nI (1 - T (84 + q)))))) (fun M' => md_P D b M' R (updN T (84 + q) (1 - T (84 + q))) Ti P Rw kp td ro ∧ md_F M0 M') := by
  refine fb_start [some (.ref (b + 43)), some (.int (nI q))] (by decide) (Nat.le_of_ble_eq_true rfl) rfl ?_
  intro x hl hD hb C E hx
  subst hl hD hb
  have C : fb_OK x cX7_net "FallsBetweenModel" "net" := C
  obtain ⟨Bf, F, L, aa, we, so, lo, hV⟩ := h
  have hF := md_F.rf M0
  obtain ⟨k0, k1, k2, k3, k4, k5, k6, k7, k8⟩ := id hk
  refine gx_iload_n (q := 1) C dX7_net_0 rfl rfl rfl ?_
  refine gx_bipush (q := 3) (v := nI 36) C dX7_net_1 (by decide) rfl ?_
  refine gx_cp (q := 6) C E (sx_X7_124 (As := [_, _]) C rfl rfl dX7_net_3) (md_isNone_n _ _ _ _ q 36 hq (by omega)) kw_X7_isNone (by decide) (Nat.le_of_ble_eq_true rfl) (by omega) (by omega) dX7_net_3 rfl ?_
  refine gb_if_eq (q := 9) (tgt := 15) C dX7_net_6 (by decide) rfl (fun c6 => ?_) (fun c6 => by exfalso; cases c6)
  refine gx_aload_n (q := 16) C dX7_net_15 rfl rfl rfl ?_
  refine fg_X7_13 (q := 19) C hV.o rfl dX7_net_16 rfl ?_
  refine gx_bipush (q := 21) (v := nI 84) C dX7_net_19 (by decide) rfl ?_
  refine gx_iload_n (q := 22) C dX7_net_21 rfl rfl rfl ?_
  refine gn_iadd (q := 23) C dX7_net_22 rfl ?_
  refine gx_iconst (q := 24) (v := nI 1) C dX7_net_23 (by decide) rfl ?_
  refine gx_aload_n (q := 25) C dX7_net_24 rfl rfl rfl ?_
  refine fg_X7_13 (q := 28) C hV.o rfl dX7_net_25 rfl ?_
  refine gx_bipush (q := 30) (v := nI 84) C dX7_net_28 (by decide) rfl ?_
  refine gx_iload_n (q := 31) C dX7_net_30 rfl rfl rfl ?_
  refine gn_iadd (q := 32) C dX7_net_31 rfl ?_
  refine mv_ld_now (q := 33) C hV (by omega) dX7_net_32 rfl ?_
  refine gn_isub (q := 34) C dX7_net_33 (k7 q hq) rfl ?_
  refine mv_st_now (q := 35) C hV hF (by omega) dX7_net_34 rfl (fun M hV hF => ?_)
  refine gx_aload_n (q := 36) C dX7_net_35 rfl rfl rfl ?_
  refine fg_X7_13 (q := 39) C hV.o rfl dX7_net_36 rfl ?_
  refine gx_bipush (q := 41) (v := nI 84) C dX7_net_39 (by decide) rfl ?_
  refine gx_iload_n (q := 42) C dX7_net_41 rfl rfl rfl ?_
  refine gn_iadd (q := 43) C dX7_net_42 rfl ?_
  refine mv_ld_now (q := 44) C hV (by omega) dX7_net_43 rfl ?_
  exact gx_iretE C E (by rw [updN_s]) dX7_net_44 (⟨⟨_, _, _, _, _, _, _, hV⟩, hF⟩) (by omega) (by omega)
set_option maxHeartbeats 4000000 in
theorem mp_wind_b (l : Launch) (D : va_G) (b : Nat) (M0 : List va_E) {R T Ti P Rw : Nat → Nat} {kp : Bool} {td ro : Nat} (v : Int32) (hb : v < 0) (h : md_P D b M0 R T Ti P Rw kp td ro) (hk : okT T) : fb_CT l D b yX7_wind cX7_wind 3 (some .int) 1 21 0 0 [.ref (b + 43), .int v] M0 (.returned (some (.int (-4)))) (fun M' => md_P D b M' (updN R 4 (R 4 + 1)) T Ti P Rw kp td ro ∧ md_F M0 M') := by
  refine fb_start [some (.ref (b + 43)), some (.int v), none] (by decide) (Nat.le_of_ble_eq_true rfl) rfl ?_
  intro x hl hD hb C E hx
  subst hl hD hb
  have C : fb_OK x cX7_wind "FallsBetweenModel" "wind" := C
  obtain ⟨Bf, F, L, aa, we, so, lo, hV⟩ := h
  have hF := md_F.rf M0
  obtain ⟨k0, k1, k2, k3, k4, k5, k6, k7, k8⟩ := id hk
  refine gx_iload_n (q := 1) C dX7_wind_0 rfl rfl rfl ?_
  refine gx_if_ge (q := 4) (tgt := 11) C dX7_wind_1 (by decide) rfl (fun c1 => by exfalso; exact Int32.not_lt.mpr c1 hb) (fun c1 => ?_)
  refine gx_aload_n (q := 5) C dX7_wind_4 rfl rfl rfl ?_
  refine gx_bipush (q := 7) (v := -4) C dX7_wind_5 (by decide) rfl ?_
  refine gx_cs (q := 10) C E (sx_X7_49 (As := [_]) C hV.o rfl rfl dX7_wind_7) (md_no _ _ _ _ (-4) 4 (by decide) (by decide) hV) kw_X7_no (by decide) (Nat.le_of_ble_eq_true rfl) rfl rfl (by omega) (by omega) dX7_wind_7 rfl (fun M r7 => ?_)
  obtain ⟨hV, hG⟩ := r7
  have hF := hF.tr hG
  exact gx_iret C E dX7_wind_10 (⟨⟨_, _, _, _, _, _, _, hV⟩, hF⟩) (by omega) (by omega)
set_option maxHeartbeats 4000000 in
theorem mp_wind_a (l : Launch) (D : va_G) (b : Nat) (M0 : List va_E) {R T Ti P Rw : Nat → Nat} {kp : Bool} {td ro : Nat} (v : Int32) (hb : nI 16 ≤ v) (h : md_P D b M0 R T Ti P Rw kp td ro) (hk : okT T) : fb_CT l D b yX7_wind cX7_wind 3 (some .int) 1 21 0 0 [.ref (b + 43), .int v] M0 (.returned (some (.int (-6)))) (fun M' => md_P D b M' (updN R 6 (R 6 + 1)) T Ti P Rw kp td ro ∧ md_F M0 M') := by
  refine fb_start [some (.ref (b + 43)), some (.int v), none] (by decide) (Nat.le_of_ble_eq_true rfl) rfl ?_
  intro x hl hD hb C E hx
  subst hl hD hb
  have C : fb_OK x cX7_wind "FallsBetweenModel" "wind" := C
  obtain ⟨Bf, F, L, aa, we, so, lo, hV⟩ := h
  have hF := md_F.rf M0
  obtain ⟨k0, k1, k2, k3, k4, k5, k6, k7, k8⟩ := id hk
  refine gx_iload_n (q := 1) C dX7_wind_0 rfl rfl rfl ?_
  refine gx_if_ge (q := 4) (tgt := 11) C dX7_wind_1 (by decide) rfl (fun c1 => ?_) (fun c1 => by exfalso; exact c1 (Int32.le_trans (nI_pos' (by decide)) hb))
  refine gx_iload_n (q := 12) C dX7_wind_11 rfl rfl rfl ?_
  refine gx_bipush (q := 14) (v := nI 15) C dX7_wind_12 (by decide) rfl ?_
  refine gx_icmp_le (q := 17) (tgt := 24) C dX7_wind_14 (by decide) rfl (fun c14 => by exfalso; exact Int32.not_le.mpr (lt_gt (by decide) hb) c14) (fun c14 => ?_)
  refine gx_aload_n (q := 18) C dX7_wind_17 rfl rfl rfl ?_
  refine gx_bipush (q := 20) (v := -6) C dX7_wind_18 (by decide) rfl ?_
  refine gx_cs (q := 23) C E (sx_X7_49 (As := [_]) C hV.o rfl rfl dX7_wind_20) (md_no _ _ _ _ (-6) 6 (by decide) (by decide) hV) kw_X7_no (by decide) (Nat.le_of_ble_eq_true rfl) rfl rfl (by omega) (by omega) dX7_wind_20 rfl (fun M r20 => ?_)
  obtain ⟨hV, hG⟩ := r20
  have hF := hF.tr hG
  exact gx_iret C E dX7_wind_23 (⟨⟨_, _, _, _, _, _, _, hV⟩, hF⟩) (by omega) (by omega)
set_option maxHeartbeats 4000000 in
theorem mp_wind_o (l : Launch) (D : va_G) (b : Nat) (M0 : List va_E) {R T Ti P Rw : Nat → Nat} {kp : Bool} {td ro : Nat} (v : Nat) (hv : v < 16) (h : md_P D b M0 R T Ti P Rw kp td ro) (hk : okT T) : fb_CT l D b yX7_wind cX7_wind 3 (some .int) 1 21 0 0 [.ref (b + 43), .int (nI v)] M0 (.returned (some (.int (nI (T 1))))) (fun M' => md_P D b M' R (updN T 1 v) Ti P Rw kp td ro ∧ md_F M0 M') := by
  refine fb_start [some (.ref (b + 43)), some (.int (nI v)), none] (by decide) (Nat.le_of_ble_eq_true rfl) rfl ?_
  intro x hl hD hb C E hx
  subst hl hD hb
  have C : fb_OK x cX7_wind "FallsBetweenModel" "wind" := C
  obtain ⟨Bf, F, L, aa, we, so, lo, hV⟩ := h
  have hF := md_F.rf M0
  obtain ⟨k0, k1, k2, k3, k4, k5, k6, k7, k8⟩ := id hk
  refine gx_iload_n (q := 1) C dX7_wind_0 rfl rfl rfl ?_
  refine gx_if_ge (q := 4) (tgt := 11) C dX7_wind_1 (by decide) rfl (fun c1 => ?_) (fun c1 => by exfalso; exact c1 (nI_pos' (by omega)))
  refine gx_iload_n (q := 12) C dX7_wind_11 rfl rfl rfl ?_
  refine gx_bipush (q := 14) (v := nI 15) C dX7_wind_12 (by decide) rfl ?_
  refine gn_icmp_le (q := 17) (tgt := 24) C dX7_wind_14 (by decide) rfl (by omega) (by omega) (fun c14 => ?_) (fun c14 => by exfalso; omega)
  refine gx_aload_n (q := 25) C dX7_wind_24 rfl rfl rfl ?_
  refine fg_X7_13 (q := 28) C hV.o rfl dX7_wind_25 rfl ?_
  refine gx_iconst (q := 29) (v := nI 1) C dX7_wind_28 (by decide) rfl ?_
  refine mv_ld_now (q := 30) C hV (by omega) dX7_wind_29 rfl ?_
  refine gx_istore_n (q := 31) (lv' := [_, _, _]) C dX7_wind_30 rfl (Nat.le_of_ble_eq_true rfl) E.2.2.2.symm rfl rfl rfl ?_
  refine gx_aload_n (q := 32) C dX7_wind_31 rfl rfl rfl ?_
  refine fg_X7_13 (q := 35) C hV.o rfl dX7_wind_32 rfl ?_
  refine gx_iconst (q := 36) (v := nI 1) C dX7_wind_35 (by decide) rfl ?_
  refine gx_iload_n (q := 37) C dX7_wind_36 rfl rfl rfl ?_
  refine mv_st_now (q := 38) C hV hF (by omega) dX7_wind_37 rfl (fun M hV hF => ?_)
  refine gx_iload_n (q := 39) C dX7_wind_38 rfl rfl rfl ?_
  exact gx_iret C E dX7_wind_39 (⟨⟨_, _, _, _, _, _, _, hV⟩, hF⟩) (by omega) (by omega)
set_option maxHeartbeats 4000000 in
theorem mp_law_b (l : Launch) (D : va_G) (b : Nat) (M0 : List va_E) {R T Ti P Rw : Nat → Nat} {kp : Bool} {td ro : Nat} (v : Int32) (hb : v < 0 ∨ nI 5 ≤ v) (h : md_P D b M0 R T Ti P Rw kp td ro) (hk : okT T) : fb_CT l D b yX7_law cX7_law 3 (some .int) 1 21 0 0 [.ref (b + 43), .int v] M0 (.returned (some (.int (-2)))) (fun M' => md_P D b M' (updN R 2 (R 2 + 1)) T Ti P Rw kp td ro ∧ md_F M0 M') := by
  refine fb_start [some (.ref (b + 43)), some (.int v), none] (by decide) (Nat.le_of_ble_eq_true rfl) rfl ?_
  intro x hl hD hb C E hx
  subst hl hD hb
  have C : fb_OK x cX7_law "FallsBetweenModel" "law" := C
  obtain ⟨Bf, F, L, aa, we, so, lo, hV⟩ := h
  have hF := md_F.rf M0
  obtain ⟨k0, k1, k2, k3, k4, k5, k6, k7, k8⟩ := id hk
  refine gx_iload_n (q := 1) C dX7_law_0 rfl rfl rfl ?_
  refine gx_if_lt (q := 4) (tgt := 9) C dX7_law_1 (by decide) rfl (fun c1 => ?_) (fun c1 => ?_)
  · refine gx_aload_n (q := 10) C dX7_law_9 rfl rfl rfl ?_
    refine gx_bipush (q := 12) (v := -2) C dX7_law_10 (by decide) rfl ?_
    refine gx_cs (q := 15) C E (sx_X7_49 (As := [_]) C hV.o rfl rfl dX7_law_12) (md_no _ _ _ _ (-2) 2 (by decide) (by decide) hV) kw_X7_no (by decide) (Nat.le_of_ble_eq_true rfl) rfl rfl (by omega) (by omega) dX7_law_12 rfl (fun M r12 => ?_)
    obtain ⟨hV, hG⟩ := r12
    have hF := hF.tr hG
    exact gx_iret C E dX7_law_15 (⟨⟨_, _, _, _, _, _, _, hV⟩, hF⟩) (by omega) (by omega)
  · refine gx_iload_n (q := 5) C dX7_law_4 rfl rfl rfl ?_
    refine gx_iconst (q := 6) (v := nI 4) C dX7_law_5 (by decide) rfl ?_
    refine gx_icmp_le (q := 9) (tgt := 16) C dX7_law_6 (by decide) rfl (fun c6 => by exfalso; exact Int32.not_le.mpr (lt_gt (by decide) (hb.resolve_left c1)) c6) (fun c6 => ?_)
    refine gx_aload_n (q := 10) C dX7_law_9 rfl rfl rfl ?_
    refine gx_bipush (q := 12) (v := -2) C dX7_law_10 (by decide) rfl ?_
    refine gx_cs (q := 15) C E (sx_X7_49 (As := [_]) C hV.o rfl rfl dX7_law_12) (md_no _ _ _ _ (-2) 2 (by decide) (by decide) hV) kw_X7_no (by decide) (Nat.le_of_ble_eq_true rfl) rfl rfl (by omega) (by omega) dX7_law_12 rfl (fun M r12 => ?_)
    obtain ⟨hV, hG⟩ := r12
    have hF := hF.tr hG
    exact gx_iret C E dX7_law_15 (⟨⟨_, _, _, _, _, _, _, hV⟩, hF⟩) (by omega) (by omega)
set_option maxHeartbeats 4000000 in
theorem mp_law_o (l : Launch) (D : va_G) (b : Nat) (M0 : List va_E) {R T Ti P Rw : Nat → Nat} {kp : Bool} {td ro : Nat} (v : Nat) (hv : v < 5) (h : md_P D b M0 R T Ti P Rw kp td ro) (hk : okT T) : fb_CT l D b yX7_law cX7_law 3 (some .int) 1 21 0 0 [.ref (b + 43), .int (nI v)] M0 (.returned (some (.int (nI (T 2))))) (fun M' => md_P D b M' R (updN T 2 v) Ti P Rw kp td ro ∧ md_F M0 M') := by
  refine fb_start [some (.ref (b + 43)), some (.int (nI v)), none] (by decide) (Nat.le_of_ble_eq_true rfl) rfl ?_
  intro x hl hD hb C E hx
  subst hl hD hb
  have C : fb_OK x cX7_law "FallsBetweenModel" "law" := C
  obtain ⟨Bf, F, L, aa, we, so, lo, hV⟩ := h
  have hF := md_F.rf M0
  obtain ⟨k0, k1, k2, k3, k4, k5, k6, k7, k8⟩ := id hk
  refine gx_iload_n (q := 1) C dX7_law_0 rfl rfl rfl ?_
  refine gx_if_lt (q := 4) (tgt := 9) C dX7_law_1 (by decide) rfl (fun c1 => by exfalso; exact nI_pos (by omega) c1) (fun c1 => ?_)
  refine gx_iload_n (q := 5) C dX7_law_4 rfl rfl rfl ?_
  refine gx_iconst (q := 6) (v := nI 4) C dX7_law_5 (by decide) rfl ?_
  refine gn_icmp_le (q := 9) (tgt := 16) C dX7_law_6 (by decide) rfl (by omega) (by omega) (fun c6 => ?_) (fun c6 => by exfalso; omega)
  refine gx_aload_n (q := 17) C dX7_law_16 rfl rfl rfl ?_
  refine fg_X7_13 (q := 20) C hV.o rfl dX7_law_17 rfl ?_
  refine gx_iconst (q := 21) (v := nI 2) C dX7_law_20 (by decide) rfl ?_
  refine mv_ld_now (q := 22) C hV (by omega) dX7_law_21 rfl ?_
  refine gx_istore_n (q := 23) (lv' := [_, _, _]) C dX7_law_22 rfl (Nat.le_of_ble_eq_true rfl) E.2.2.2.symm rfl rfl rfl ?_
  refine gx_aload_n (q := 24) C dX7_law_23 rfl rfl rfl ?_
  refine fg_X7_13 (q := 27) C hV.o rfl dX7_law_24 rfl ?_
  refine gx_iconst (q := 28) (v := nI 2) C dX7_law_27 (by decide) rfl ?_
  refine gx_iload_n (q := 29) C dX7_law_28 rfl rfl rfl ?_
  refine mv_st_now (q := 30) C hV hF (by omega) dX7_law_29 rfl (fun M hV hF => ?_)
  refine gx_iload_n (q := 31) C dX7_law_30 rfl rfl rfl ?_
  exact gx_iret C E dX7_law_31 (⟨⟨_, _, _, _, _, _, _, hV⟩, hF⟩) (by omega) (by omega)
set_option maxHeartbeats 4000000 in
theorem mp_lies_b (l : Launch) (D : va_G) (b : Nat) (M0 : List va_E) {R T Ti P Rw : Nat → Nat} {kp : Bool} {td ro : Nat} (v : Int32) (hb : v < 0 ∨ nI 36 ≤ v) (h : md_P D b M0 R T Ti P Rw kp td ro) (hk : okT T) : fb_CT l D b yX7_lies cX7_lies 2 (some .int) 4 101 0 0 [.ref (b + 43), .int v] M0 (.returned (some (.int (-1)))) (fun M' => md_P D b M' (updN R 1 (R 1 + 1)) T Ti P Rw kp td ro ∧ md_F M0 M') := by
  refine fb_start [some (.ref (b + 43)), some (.int v)] (by decide) (Nat.le_of_ble_eq_true rfl) rfl ?_
  intro x hl hD hb C E hx
  subst hl hD hb
  have C : fb_OK x cX7_lies "FallsBetweenModel" "lies" := C
  obtain ⟨Bf, F, L, aa, we, so, lo, hV⟩ := h
  have hF := md_F.rf M0
  obtain ⟨k0, k1, k2, k3, k4, k5, k6, k7, k8⟩ := id hk
  refine gx_iload_n (q := 1) C dX7_lies_0 rfl rfl rfl ?_
  refine gx_bipush (q := 3) (v := nI 36) C dX7_lies_1 (by decide) rfl ?_
  refine gx_cp (q := 6) C E (sx_X7_124 (As := [_, _]) C rfl rfl dX7_lies_3) (md_isNone_t _ _ _ _ v (nI 36) hb) kw_X7_isNone (by decide) (Nat.le_of_ble_eq_true rfl) (by omega) (by omega) dX7_lies_3 rfl ?_
  refine gb_if_eq (q := 9) (tgt := 15) C dX7_lies_6 (by decide) rfl (fun c6 => by exfalso; cases c6) (fun c6 => ?_)
  refine gx_aload_n (q := 10) C dX7_lies_9 rfl rfl rfl ?_
  refine gx_iconst (q := 11) (v := -1) C dX7_lies_10 (by decide) rfl ?_
  refine gx_cs (q := 14) C E (sx_X7_49 (As := [_]) C hV.o rfl rfl dX7_lies_11) (md_no _ _ _ _ (-1) 1 (by decide) (by decide) hV) kw_X7_no (by decide) (Nat.le_of_ble_eq_true rfl) rfl rfl (by omega) (by omega) dX7_lies_11 rfl (fun M r11 => ?_)
  obtain ⟨hV, hG⟩ := r11
  have hF := hF.tr hG
  exact gx_iret C E dX7_lies_14 (⟨⟨_, _, _, _, _, _, _, hV⟩, hF⟩) (by omega) (by omega)
set_option maxHeartbeats 4000000 in
theorem mp_lies_o (l : Launch) (D : va_G) (b : Nat) (M0 : List va_E) {R T Ti P Rw : Nat → Nat} {kp : Bool} {td ro : Nat} (q : Nat) (hq : q < 36) (h : md_P D b M0 R T Ti P Rw kp td ro) (hk : okT T) : fb_CT l D b yX7_lies cX7_lies 2 (some .int) 4 101 0 0 [.ref (b + 43), .int (nI q)] M0 (.returned (some (.int (nI (lyi T q (T 0)))))) (fun M' => md_P D b M' R T Ti P Rw kp td ro ∧ md_F M0 M') := by
  refine fb_start [some (.ref (b + 43)), some (.int (nI q))] (by decide) (Nat.le_of_ble_eq_true rfl) rfl ?_
  intro x hl hD hb C E hx
  subst hl hD hb
  have C : fb_OK x cX7_lies "FallsBetweenModel" "lies" := C
  obtain ⟨Bf, F, L, aa, we, so, lo, hV⟩ := h
  have hF := md_F.rf M0
  obtain ⟨k0, k1, k2, k3, k4, k5, k6, k7, k8⟩ := id hk
  refine gx_iload_n (q := 1) C dX7_lies_0 rfl rfl rfl ?_
  refine gx_bipush (q := 3) (v := nI 36) C dX7_lies_1 (by decide) rfl ?_
  refine gx_cp (q := 6) C E (sx_X7_124 (As := [_, _]) C rfl rfl dX7_lies_3) (md_isNone_n _ _ _ _ q 36 hq (by omega)) kw_X7_isNone (by decide) (Nat.le_of_ble_eq_true rfl) (by omega) (by omega) dX7_lies_3 rfl ?_
  refine gb_if_eq (q := 9) (tgt := 15) C dX7_lies_6 (by decide) rfl (fun c6 => ?_) (fun c6 => by exfalso; cases c6)
  refine gx_aload_n (q := 16) C dX7_lies_15 rfl rfl rfl ?_
  refine gx_bipush (q := 18) (v := nI 63) C dX7_lies_16 (by decide) rfl ?_
  refine gx_cv (q := 21) C E (sx_X7_127 (As := [_]) C hV.o rfl rfl dX7_lies_18) (md_fall _ _ _ _ 63 (by decide) hV hk) kw_X7_fall (by decide) (Nat.le_of_ble_eq_true rfl) rfl rfl (by omega) (by omega) dX7_lies_18 rfl (fun M r18 => ?_)
  obtain ⟨hV, hG⟩ := r18
  have hF := hF.tr hG
  refine gx_aload_n (q := 22) C dX7_lies_21 rfl rfl rfl ?_
  refine fg_X7_35 (q := 25) C hV.o rfl dX7_lies_22 rfl ?_
  refine gx_iload_n (q := 26) C dX7_lies_25 rfl rfl rfl ?_
  refine mv_ld_lies (q := 27) C hV (by omega) dX7_lies_26 rfl ?_
  exact gx_iretE C E (by rw [mL_63 T q (T 0) k0]) dX7_lies_27 (⟨⟨_, _, _, _, _, _, _, hV⟩, hF⟩) (by omega) (by omega)
set_option maxHeartbeats 4000000 in
theorem mp_of_b1 (l : Launch) (D : va_G) (b : Nat) (M0 : List va_E) {R T Ti P Rw : Nat → Nat} {kp : Bool} {td ro : Nat} (v : Int32) (hb : v < 0 ∨ nI (T 0) ≤ v) (w : Int32) (h : md_P D b M0 R T Ti P Rw kp td ro) (hk : okT T) : fb_CT l D b yX7_of cX7_of 3 (some .int) 4 101 0 0 [.ref (b + 43), .int v, .int w] M0 (.returned (some (.int (-1)))) (fun M' => md_P D b M' (updN R 1 (R 1 + 1)) T Ti P Rw kp td ro ∧ md_F M0 M') := by
  refine fb_start [some (.ref (b + 43)), some (.int v), some (.int w)] (by decide) (Nat.le_of_ble_eq_true rfl) rfl ?_
  intro x hl hD hb C E hx
  subst hl hD hb
  have C : fb_OK x cX7_of "FallsBetweenModel" "of" := C
  obtain ⟨Bf, F, L, aa, we, so, lo, hV⟩ := h
  have hF := md_F.rf M0
  obtain ⟨k0, k1, k2, k3, k4, k5, k6, k7, k8⟩ := id hk
  refine gx_iload_n (q := 1) C dX7_of_0 rfl rfl rfl ?_
  refine gx_aload_n (q := 2) C dX7_of_1 rfl rfl rfl ?_
  refine fg_X7_13 (q := 5) C hV.o rfl dX7_of_2 rfl ?_
  refine gx_iconst (q := 6) (v := nI 0) C dX7_of_5 (by decide) rfl ?_
  refine mv_ld_now (q := 7) C hV (by omega) dX7_of_6 rfl ?_
  refine gx_cp (q := 10) C E (sx_X7_124 (As := [_, _]) C rfl rfl dX7_of_7) (md_isNone_t _ _ _ _ v (nI (T 0)) hb) kw_X7_isNone (by decide) (Nat.le_of_ble_eq_true rfl) (by omega) (by omega) dX7_of_7 rfl ?_
  refine gb_if_ne (q := 13) (tgt := 22) C dX7_of_10 (by decide) rfl (fun c10 => ?_) (fun c10 => by exfalso; cases c10)
  refine gx_aload_n (q := 23) C dX7_of_22 rfl rfl rfl ?_
  refine gx_iconst (q := 24) (v := -1) C dX7_of_23 (by decide) rfl ?_
  refine gx_cs (q := 27) C E (sx_X7_49 (As := [_]) C hV.o rfl rfl dX7_of_24) (md_no _ _ _ _ (-1) 1 (by decide) (by decide) hV) kw_X7_no (by decide) (Nat.le_of_ble_eq_true rfl) rfl rfl (by omega) (by omega) dX7_of_24 rfl (fun M r24 => ?_)
  obtain ⟨hV, hG⟩ := r24
  have hF := hF.tr hG
  exact gx_iret C E dX7_of_27 (⟨⟨_, _, _, _, _, _, _, hV⟩, hF⟩) (by omega) (by omega)
set_option maxHeartbeats 4000000 in
theorem mp_of_b2 (l : Launch) (D : va_G) (b : Nat) (M0 : List va_E) {R T Ti P Rw : Nat → Nat} {kp : Bool} {td ro : Nat} (t : Nat) (ht : t < T 0) (v : Int32) (hb : v < 0 ∨ nI 36 ≤ v) (h : md_P D b M0 R T Ti P Rw kp td ro) (hk : okT T) : fb_CT l D b yX7_of cX7_of 3 (some .int) 4 101 0 0 [.ref (b + 43), .int (nI t), .int v] M0 (.returned (some (.int (-1)))) (fun M' => md_P D b M' (updN R 1 (R 1 + 1)) T Ti P Rw kp td ro ∧ md_F M0 M') := by
  refine fb_start [some (.ref (b + 43)), some (.int (nI t)), some (.int v)] (by decide) (Nat.le_of_ble_eq_true rfl) rfl ?_
  intro x hl hD hb C E hx
  subst hl hD hb
  have C : fb_OK x cX7_of "FallsBetweenModel" "of" := C
  obtain ⟨Bf, F, L, aa, we, so, lo, hV⟩ := h
  have hF := md_F.rf M0
  obtain ⟨k0, k1, k2, k3, k4, k5, k6, k7, k8⟩ := id hk
  refine gx_iload_n (q := 1) C dX7_of_0 rfl rfl rfl ?_
  refine gx_aload_n (q := 2) C dX7_of_1 rfl rfl rfl ?_
  refine fg_X7_13 (q := 5) C hV.o rfl dX7_of_2 rfl ?_
  refine gx_iconst (q := 6) (v := nI 0) C dX7_of_5 (by decide) rfl ?_
  refine mv_ld_now (q := 7) C hV (by omega) dX7_of_6 rfl ?_
  refine gx_cp (q := 10) C E (sx_X7_124 (As := [_, _]) C rfl rfl dX7_of_7) (md_isNone_n _ _ _ _ t (T 0) ht (by omega)) kw_X7_isNone (by decide) (Nat.le_of_ble_eq_true rfl) (by omega) (by omega) dX7_of_7 rfl ?_
  refine gb_if_ne (q := 13) (tgt := 22) C dX7_of_10 (by decide) rfl (fun c10 => by exfalso; cases c10) (fun c10 => ?_)
  refine gx_iload_n (q := 14) C dX7_of_13 rfl rfl rfl ?_
  refine gx_bipush (q := 16) (v := nI 36) C dX7_of_14 (by decide) rfl ?_
  refine gx_cp (q := 19) C E (sx_X7_124 (As := [_, _]) C rfl rfl dX7_of_16) (md_isNone_t _ _ _ _ v (nI 36) hb) kw_X7_isNone (by decide) (Nat.le_of_ble_eq_true rfl) (by omega) (by omega) dX7_of_16 rfl ?_
  refine gb_if_eq (q := 22) (tgt := 28) C dX7_of_19 (by decide) rfl (fun c19 => by exfalso; cases c19) (fun c19 => ?_)
  refine gx_aload_n (q := 23) C dX7_of_22 rfl rfl rfl ?_
  refine gx_iconst (q := 24) (v := -1) C dX7_of_23 (by decide) rfl ?_
  refine gx_cs (q := 27) C E (sx_X7_49 (As := [_]) C hV.o rfl rfl dX7_of_24) (md_no _ _ _ _ (-1) 1 (by decide) (by decide) hV) kw_X7_no (by decide) (Nat.le_of_ble_eq_true rfl) rfl rfl (by omega) (by omega) dX7_of_24 rfl (fun M r24 => ?_)
  obtain ⟨hV, hG⟩ := r24
  have hF := hF.tr hG
  exact gx_iret C E dX7_of_27 (⟨⟨_, _, _, _, _, _, _, hV⟩, hF⟩) (by omega) (by omega)
set_option maxHeartbeats 4000000 in
theorem mp_of_o (l : Launch) (D : va_G) (b : Nat) (M0 : List va_E) {R T Ti P Rw : Nat → Nat} {kp : Bool} {td ro : Nat} (t : Nat) (ht : t < T 0) (q : Nat) (hq : q < 36) (h : md_P D b M0 R T Ti P Rw kp td ro) (hk : okT T) : fb_CT l D b yX7_of cX7_of 3 (some .int) 4 101 0 0 [.ref (b + 43), .int (nI t), .int (nI q)] M0 (.returned (some (.int (nI (flp T t q 5))))) (fun M' => md_P D b M' R T Ti P Rw kp td ro ∧ md_F M0 M') := by
  refine fb_start [some (.ref (b + 43)), some (.int (nI t)), some (.int (nI q))] (by decide) (Nat.le_of_ble_eq_true rfl) rfl ?_
  intro x hl hD hb C E hx
  subst hl hD hb
  have C : fb_OK x cX7_of "FallsBetweenModel" "of" := C
  obtain ⟨Bf, F, L, aa, we, so, lo, hV⟩ := h
  have hF := md_F.rf M0
  obtain ⟨k0, k1, k2, k3, k4, k5, k6, k7, k8⟩ := id hk
  refine gx_iload_n (q := 1) C dX7_of_0 rfl rfl rfl ?_
  refine gx_aload_n (q := 2) C dX7_of_1 rfl rfl rfl ?_
  refine fg_X7_13 (q := 5) C hV.o rfl dX7_of_2 rfl ?_
  refine gx_iconst (q := 6) (v := nI 0) C dX7_of_5 (by decide) rfl ?_
  refine mv_ld_now (q := 7) C hV (by omega) dX7_of_6 rfl ?_
  refine gx_cp (q := 10) C E (sx_X7_124 (As := [_, _]) C rfl rfl dX7_of_7) (md_isNone_n _ _ _ _ t (T 0) ht (by omega)) kw_X7_isNone (by decide) (Nat.le_of_ble_eq_true rfl) (by omega) (by omega) dX7_of_7 rfl ?_
  refine gb_if_ne (q := 13) (tgt := 22) C dX7_of_10 (by decide) rfl (fun c10 => by exfalso; cases c10) (fun c10 => ?_)
  refine gx_iload_n (q := 14) C dX7_of_13 rfl rfl rfl ?_
  refine gx_bipush (q := 16) (v := nI 36) C dX7_of_14 (by decide) rfl ?_
  refine gx_cp (q := 19) C E (sx_X7_124 (As := [_, _]) C rfl rfl dX7_of_16) (md_isNone_n _ _ _ _ q 36 hq (by omega)) kw_X7_isNone (by decide) (Nat.le_of_ble_eq_true rfl) (by omega) (by omega) dX7_of_16 rfl ?_
  refine gb_if_eq (q := 22) (tgt := 28) C dX7_of_19 (by decide) rfl (fun c19 => ?_) (fun c19 => by exfalso; cases c19)
  refine gx_aload_n (q := 29) C dX7_of_28 rfl rfl rfl ?_
  refine gx_iconst (q := 30) (v := nI 1) C dX7_of_29 (by decide) rfl ?_
  refine gx_iload_n (q := 31) C dX7_of_30 rfl rfl rfl ?_
  refine gx_ishl (q := 32) C dX7_of_31 (shl_ok t (by omega)) rfl ?_
  refine gx_cv (q := 35) C E (sx_X7_127 (As := [_]) C hV.o rfl rfl dX7_of_32) (md_fall _ _ _ _ (2 ^ t) (pow_lt64 t (by omega)) hV hk) kw_X7_fall (by decide) (Nat.le_of_ble_eq_true rfl) rfl rfl (by omega) (by omega) dX7_of_32 rfl (fun M r32 => ?_)
  obtain ⟨hV, hG⟩ := r32
  have hF := hF.tr hG
  refine gx_aload_n (q := 36) C dX7_of_35 rfl rfl rfl ?_
  refine fg_X7_35 (q := 39) C hV.o rfl dX7_of_36 rfl ?_
  refine gx_iload_n (q := 40) C dX7_of_39 rfl rfl rfl ?_
  refine mv_ld_lies (q := 41) C hV (by omega) dX7_of_40 rfl ?_
  exact gx_iretE C E (by rw [mL_one T q t (T 0) k0 ht]) dX7_of_41 (⟨⟨_, _, _, _, _, _, _, hV⟩, hF⟩) (by omega) (by omega)
set_option maxHeartbeats 4000000 in
theorem mp_share_b (l : Launch) (D : va_G) (b : Nat) (M0 : List va_E) {R T Ti P Rw : Nat → Nat} {kp : Bool} {td ro : Nat} (v : Int32) (hb : v < 0 ∨ nI 4 ≤ v) (h : md_P D b M0 R T Ti P Rw kp td ro) (hk : okT T) : fb_CT l D b yX7_share cX7_share 2 (some .int) 4 101 0 0 [.ref (b + 43), .int v] M0 (.returned (some (.int (-1)))) (fun M' => md_P D b M' (updN R 1 (R 1 + 1)) T Ti P Rw kp td ro ∧ md_F M0 M') := by
  refine fb_start [some (.ref (b + 43)), some (.int v)] (by decide) (Nat.le_of_ble_eq_true rfl) rfl ?_
  intro x hl hD hb C E hx
  subst hl hD hb
  have C : fb_OK x cX7_share "FallsBetweenModel" "share" := C
  obtain ⟨Bf, F, L, aa, we, so, lo, hV⟩ := h
  have hF := md_F.rf M0
  obtain ⟨k0, k1, k2, k3, k4, k5, k6, k7, k8⟩ := id hk
  refine gx_iload_n (q := 1) C dX7_share_0 rfl rfl rfl ?_
  refine gx_iconst (q := 2) (v := nI 4) C dX7_share_1 (by decide) rfl ?_
  refine gx_cp (q := 5) C E (sx_X7_124 (As := [_, _]) C rfl rfl dX7_share_2) (md_isNone_t _ _ _ _ v (nI 4) hb) kw_X7_isNone (by decide) (Nat.le_of_ble_eq_true rfl) (by omega) (by omega) dX7_share_2 rfl ?_
  refine gb_if_eq (q := 8) (tgt := 14) C dX7_share_5 (by decide) rfl (fun c5 => by exfalso; cases c5) (fun c5 => ?_)
  refine gx_aload_n (q := 9) C dX7_share_8 rfl rfl rfl ?_
  refine gx_iconst (q := 10) (v := -1) C dX7_share_9 (by decide) rfl ?_
  refine gx_cs (q := 13) C E (sx_X7_49 (As := [_]) C hV.o rfl rfl dX7_share_10) (md_no _ _ _ _ (-1) 1 (by decide) (by decide) hV) kw_X7_no (by decide) (Nat.le_of_ble_eq_true rfl) rfl rfl (by omega) (by omega) dX7_share_10 rfl (fun M r10 => ?_)
  obtain ⟨hV, hG⟩ := r10
  have hF := hF.tr hG
  exact gx_iret C E dX7_share_13 (⟨⟨_, _, _, _, _, _, _, hV⟩, hF⟩) (by omega) (by omega)
theorem mL_63f {T : Nat → Nat} (n : Nat) (hn : n ≤ 6) : mL T 63 n 0 = fun q => lyi T q n := funext fun q => mL_63 T q n hn
set_option maxHeartbeats 4000000 in
theorem mp_share_o (l : Launch) (D : va_G) (b : Nat) (M0 : List va_E) {R T Ti P Rw : Nat → Nat} {kp : Bool} {td ro : Nat} (g : Nat) (hg : g < 4) (h : md_P D b M0 R T Ti P Rw kp td ro) (hk : okT T) : fb_CT l D b yX7_share cX7_share 2 (some .int) 4 101 0 0 [.ref (b + 43), .int (nI g)] M0 (.returned (some (.int (nI (shL T (fun q => lyi T q (T 0)) g 36))))) (fun M' => md_P D b M' R T Ti P Rw kp td ro ∧ md_F M0 M') := by
  refine fb_start [some (.ref (b + 43)), some (.int (nI g))] (by decide) (Nat.le_of_ble_eq_true rfl) rfl ?_
  intro x hl hD hb C E hx
  subst hl hD hb
  have C : fb_OK x cX7_share "FallsBetweenModel" "share" := C
  obtain ⟨Bf, F, L, aa, we, so, lo, hV⟩ := h
  have hF := md_F.rf M0
  obtain ⟨k0, k1, k2, k3, k4, k5, k6, k7, k8⟩ := id hk
  refine gx_iload_n (q := 1) C dX7_share_0 rfl rfl rfl ?_
  refine gx_iconst (q := 2) (v := nI 4) C dX7_share_1 (by decide) rfl ?_
  refine gx_cp (q := 5) C E (sx_X7_124 (As := [_, _]) C rfl rfl dX7_share_2) (md_isNone_n _ _ _ _ g 4 hg (by omega)) kw_X7_isNone (by decide) (Nat.le_of_ble_eq_true rfl) (by omega) (by omega) dX7_share_2 rfl ?_
  refine gb_if_eq (q := 8) (tgt := 14) C dX7_share_5 (by decide) rfl (fun c5 => ?_) (fun c5 => by exfalso; cases c5)
  refine gx_aload_n (q := 15) C dX7_share_14 rfl rfl rfl ?_
  refine gx_bipush (q := 17) (v := nI 63) C dX7_share_15 (by decide) rfl ?_
  refine gx_cv (q := 20) C E (sx_X7_127 (As := [_]) C hV.o rfl rfl dX7_share_17) (md_fall _ _ _ _ 63 (by decide) hV hk) kw_X7_fall (by decide) (Nat.le_of_ble_eq_true rfl) rfl rfl (by omega) (by omega) dX7_share_17 rfl (fun M r17 => ?_)
  obtain ⟨hV, hG⟩ := r17
  have hF := hF.tr hG
  refine gx_aload_n (q := 21) C dX7_share_20 rfl rfl rfl ?_
  refine gx_iload_n (q := 22) C dX7_share_21 rfl rfl rfl ?_
  refine gx_cp (q := 25) C E (sx_X7_131 (As := [_]) C hV.o rfl rfl dX7_share_22) (md_shareOf _ _ _ _ g (by omega) hV hk) kw_X7_shareOf (by decide) (Nat.le_of_ble_eq_true rfl) (by omega) (by omega) dX7_share_22 rfl ?_
  exact gx_iretE C E (by rw [mL_63f (T 0) k0]) dX7_share_25 (⟨⟨_, _, _, _, _, _, _, hV⟩, hF⟩) (by omega) (by omega)
set_option maxHeartbeats 4000000 in
theorem mp_birds (l : Launch) (D : va_G) (b : Nat) (M0 : List va_E) {R T Ti P Rw : Nat → Nat} {kp : Bool} {td ro : Nat}  (h : md_P D b M0 R T Ti P Rw kp td ro) (hk : okT T) : fb_CT l D b yX7_birds cX7_birds 1 (some .int) 4 101 0 0 [.ref (b + 43)] M0 (.returned (some (.int (nI (bdL T (fun q => lyi T q (T 0)) 36))))) (fun M' => md_P D b M' R T Ti P Rw kp td ro ∧ md_F M0 M') := by
  refine fb_start [some (.ref (b + 43))] (by decide) (Nat.le_of_ble_eq_true rfl) rfl ?_
  intro x hl hD hb C E hx
  subst hl hD hb
  have C : fb_OK x cX7_birds "FallsBetweenModel" "birds" := C
  obtain ⟨Bf, F, L, aa, we, so, lo, hV⟩ := h
  have hF := md_F.rf M0
  obtain ⟨k0, k1, k2, k3, k4, k5, k6, k7, k8⟩ := id hk
  refine gx_aload_n (q := 1) C dX7_birds_0 rfl rfl rfl ?_
  refine gx_bipush (q := 3) (v := nI 63) C dX7_birds_1 (by decide) rfl ?_
  refine gx_cv (q := 6) C E (sx_X7_127 (As := [_]) C hV.o rfl rfl dX7_birds_3) (md_fall _ _ _ _ 63 (by decide) hV hk) kw_X7_fall (by decide) (Nat.le_of_ble_eq_true rfl) rfl rfl (by omega) (by omega) dX7_birds_3 rfl (fun M r3 => ?_)
  obtain ⟨hV, hG⟩ := r3
  have hF := hF.tr hG
  refine gx_aload_n (q := 7) C dX7_birds_6 rfl rfl rfl ?_
  refine gx_cp (q := 10) C E (sx_X7_134 (As := []) C hV.o rfl rfl dX7_birds_7) (md_birdsHave _ _ _ _ hV hk) kw_X7_birdsHave (by decide) (Nat.le_of_ble_eq_true rfl) (by omega) (by omega) dX7_birds_7 rfl ?_
  exact gx_iretE C E (by rw [mL_63f (T 0) k0]) dX7_birds_10 (⟨⟨_, _, _, _, _, _, _, hV⟩, hF⟩) (by omega) (by omega)
set_option maxHeartbeats 4000000 in
theorem mp_lost (l : Launch) (D : va_G) (b : Nat) (M0 : List va_E) {R T Ti P Rw : Nat → Nat} {kp : Bool} {td ro : Nat}  (h : md_P D b M0 R T Ti P Rw kp td ro) (hk : okT T) : fb_CT l D b yX7_lost cX7_lost 1 (some .int) 4 101 0 0 [.ref (b + 43)] M0 (.returned (some (.int (nI (lsi T (T 0)))))) (fun M' => md_P D b M' R T Ti P Rw kp td ro ∧ md_F M0 M') := by
  refine fb_start [some (.ref (b + 43))] (by decide) (Nat.le_of_ble_eq_true rfl) rfl ?_
  intro x hl hD hb C E hx
  subst hl hD hb
  have C : fb_OK x cX7_lost "FallsBetweenModel" "lost" := C
  obtain ⟨Bf, F, L, aa, we, so, lo, hV⟩ := h
  have hF := md_F.rf M0
  obtain ⟨k0, k1, k2, k3, k4, k5, k6, k7, k8⟩ := id hk
  refine gx_aload_n (q := 1) C dX7_lost_0 rfl rfl rfl ?_
  refine gx_bipush (q := 3) (v := nI 63) C dX7_lost_1 (by decide) rfl ?_
  refine gx_cv (q := 6) C E (sx_X7_127 (As := [_]) C hV.o rfl rfl dX7_lost_3) (md_fall _ _ _ _ 63 (by decide) hV hk) kw_X7_fall (by decide) (Nat.le_of_ble_eq_true rfl) rfl rfl (by omega) (by omega) dX7_lost_3 rfl (fun M r3 => ?_)
  obtain ⟨hV, hG⟩ := r3
  have hF := hF.tr hG
  refine gx_aload_n (q := 7) C dX7_lost_6 rfl rfl rfl ?_
  refine fg_X7_111 (q := 10) C hV.o rfl dX7_lost_7 rfl ?_
  exact gx_iretE C E (by rw [mO_63 T (T 0) k0]) dX7_lost_10 (⟨⟨_, _, _, _, _, _, _, hV⟩, hF⟩) (by omega) (by omega)
set_option maxHeartbeats 4000000 in
theorem mp_pit_b (l : Launch) (D : va_G) (b : Nat) (M0 : List va_E) {R T Ti P Rw : Nat → Nat} {kp : Bool} {td ro : Nat} (v : Int32) (hb : v < 0 ∨ nI 36 ≤ v) (h : md_P D b M0 R T Ti P Rw kp td ro) (hk : okT T) : fb_CT l D b yX7_pit cX7_pit 2 (some .int) 1 21 0 0 [.ref (b + 43), .int v] M0 (.returned (some (.int (-1)))) (fun M' => md_P D b M' (updN R 1 (R 1 + 1)) T Ti P Rw kp td ro ∧ md_F M0 M') := by
  refine fb_start [some (.ref (b + 43)), some (.int v)] (by decide) (Nat.le_of_ble_eq_true rfl) rfl ?_
  intro x hl hD hb C E hx
  subst hl hD hb
  have C : fb_OK x cX7_pit "FallsBetweenModel" "pit" := C
  obtain ⟨Bf, F, L, aa, we, so, lo, hV⟩ := h
  have hF := md_F.rf M0
  obtain ⟨k0, k1, k2, k3, k4, k5, k6, k7, k8⟩ := id hk
  refine gx_iload_n (q := 1) C dX7_pit_0 rfl rfl rfl ?_
  refine gx_bipush (q := 3) (v := nI 36) C dX7_pit_1 (by decide) rfl ?_
  refine gx_cp (q := 6) C E (sx_X7_124 (As := [_, _]) C rfl rfl dX7_pit_3) (md_isNone_t _ _ _ _ v (nI 36) hb) kw_X7_isNone (by decide) (Nat.le_of_ble_eq_true rfl) (by omega) (by omega) dX7_pit_3 rfl ?_
  refine gb_if_eq (q := 9) (tgt := 15) C dX7_pit_6 (by decide) rfl (fun c6 => by exfalso; cases c6) (fun c6 => ?_)
  refine gx_aload_n (q := 10) C dX7_pit_9 rfl rfl rfl ?_
  refine gx_iconst (q := 11) (v := -1) C dX7_pit_10 (by decide) rfl ?_
  refine gx_cs (q := 14) C E (sx_X7_49 (As := [_]) C hV.o rfl rfl dX7_pit_11) (md_no _ _ _ _ (-1) 1 (by decide) (by decide) hV) kw_X7_no (by decide) (Nat.le_of_ble_eq_true rfl) rfl rfl (by omega) (by omega) dX7_pit_11 rfl (fun M r11 => ?_)
  obtain ⟨hV, hG⟩ := r11
  have hF := hF.tr hG
  exact gx_iret C E dX7_pit_14 (⟨⟨_, _, _, _, _, _, _, hV⟩, hF⟩) (by omega) (by omega)
set_option maxHeartbeats 4000000 in
theorem mp_pit_f (l : Launch) (D : va_G) (b : Nat) (M0 : List va_E) {R T Ti P Rw : Nat → Nat} {kp : Bool} {td ro : Nat} (q : Nat) (hq : q < 36) (hf : T 3 = 8) (h : md_P D b M0 R T Ti P Rw kp td ro) (hk : okT T) : fb_CT l D b yX7_pit cX7_pit 2 (some .int) 1 21 0 0 [.ref (b + 43), .int (nI q)] M0 (.returned (some (.int (-6)))) (fun M' => md_P D b M' (updN R 6 (R 6 + 1)) T Ti P Rw kp td ro ∧ md_F M0 M') := by
  refine fb_start [some (.ref (b + 43)), some (.int (nI q))] (by decide) (Nat.le_of_ble_eq_true rfl) rfl ?_
  intro x hl hD hb C E hx
  subst hl hD hb
  have C : fb_OK x cX7_pit "FallsBetweenModel" "pit" := C
  obtain ⟨Bf, F, L, aa, we, so, lo, hV⟩ := h
  have hF := md_F.rf M0
  obtain ⟨k0, k1, k2, k3, k4, k5, k6, k7, k8⟩ := id hk
  refine gx_iload_n (q := 1) C dX7_pit_0 rfl rfl rfl ?_
  refine gx_bipush (q := 3) (v := nI 36) C dX7_pit_1 (by decide) rfl ?_
  refine gx_cp (q := 6) C E (sx_X7_124 (As := [_, _]) C rfl rfl dX7_pit_3) (md_isNone_n _ _ _ _ q 36 hq (by omega)) kw_X7_isNone (by decide) (Nat.le_of_ble_eq_true rfl) (by omega) (by omega) dX7_pit_3 rfl ?_
  refine gb_if_eq (q := 9) (tgt := 15) C dX7_pit_6 (by decide) rfl (fun c6 => ?_) (fun c6 => by exfalso; cases c6)
  refine gx_aload_n (q := 16) C dX7_pit_15 rfl rfl rfl ?_
  refine fg_X7_13 (q := 19) C hV.o rfl dX7_pit_16 rfl ?_
  refine gx_iconst (q := 20) (v := nI 3) C dX7_pit_19 (by decide) rfl ?_
  refine mv_ld_now (q := 21) C hV (by omega) dX7_pit_20 rfl ?_
  refine gx_bipush (q := 23) (v := nI 8) C dX7_pit_21 (by decide) rfl ?_
  refine gn_icmp_ne (q := 26) (tgt := 33) C dX7_pit_23 (by decide) rfl (by omega) (by omega) (fun c23 => by exfalso; omega) (fun c23 => ?_)
  refine gx_aload_n (q := 27) C dX7_pit_26 rfl rfl rfl ?_
  refine gx_bipush (q := 29) (v := -6) C dX7_pit_27 (by decide) rfl ?_
  refine gx_cs (q := 32) C E (sx_X7_49 (As := [_]) C hV.o rfl rfl dX7_pit_29) (md_no _ _ _ _ (-6) 6 (by decide) (by decide) hV) kw_X7_no (by decide) (Nat.le_of_ble_eq_true rfl) rfl rfl (by omega) (by omega) dX7_pit_29 rfl (fun M r29 => ?_)
  obtain ⟨hV, hG⟩ := r29
  have hF := hF.tr hG
  exact gx_iret C E dX7_pit_32 (⟨⟨_, _, _, _, _, _, _, hV⟩, hF⟩) (by omega) (by omega)
set_option maxHeartbeats 4000000 in
theorem mp_pit_o (l : Launch) (D : va_G) (b : Nat) (M0 : List va_E) {R T Ti P Rw : Nat → Nat} {kp : Bool} {td ro : Nat} (q : Nat) (hq : q < 36) (hf : T 3 < 8) (h : md_P D b M0 R T Ti P Rw kp td ro) (hk : okT T) : fb_CT l D b yX7_pit cX7_pit 2 (some .int) 1 21 0 0 [.ref (b + 43), .int (nI q)] M0 (.returned (some (.int (nI (T 3 + 1))))) (fun M' => md_P D b M' R (updN (updN T (4 + T 3) q) 3 (T 3 + 1)) Ti P Rw kp td ro ∧ md_F M0 M') := by
  refine fb_start [some (.ref (b + 43)), some (.int (nI q))] (by decide) (Nat.le_of_ble_eq_true rfl) rfl ?_
  intro x hl hD hb C E hx
  subst hl hD hb
  have C : fb_OK x cX7_pit "FallsBetweenModel" "pit" := C
  obtain ⟨Bf, F, L, aa, we, so, lo, hV⟩ := h
  have hF := md_F.rf M0
  obtain ⟨k0, k1, k2, k3, k4, k5, k6, k7, k8⟩ := id hk
  refine gx_iload_n (q := 1) C dX7_pit_0 rfl rfl rfl ?_
  refine gx_bipush (q := 3) (v := nI 36) C dX7_pit_1 (by decide) rfl ?_
  refine gx_cp (q := 6) C E (sx_X7_124 (As := [_, _]) C rfl rfl dX7_pit_3) (md_isNone_n _ _ _ _ q 36 hq (by omega)) kw_X7_isNone (by decide) (Nat.le_of_ble_eq_true rfl) (by omega) (by omega) dX7_pit_3 rfl ?_
  refine gb_if_eq (q := 9) (tgt := 15) C dX7_pit_6 (by decide) rfl (fun c6 => ?_) (fun c6 => by exfalso; cases c6)
  refine gx_aload_n (q := 16) C dX7_pit_15 rfl rfl rfl ?_
  refine fg_X7_13 (q := 19) C hV.o rfl dX7_pit_16 rfl ?_
  refine gx_iconst (q := 20) (v := nI 3) C dX7_pit_19 (by decide) rfl ?_
  refine mv_ld_now (q := 21) C hV (by omega) dX7_pit_20 rfl ?_
  refine gx_bipush (q := 23) (v := nI 8) C dX7_pit_21 (by decide) rfl ?_
  refine gn_icmp_ne (q := 26) (tgt := 33) C dX7_pit_23 (by decide) rfl (by omega) (by omega) (fun c23 => ?_) (fun c23 => by exfalso; omega)
  refine gx_aload_n (q := 34) C dX7_pit_33 rfl rfl rfl ?_
  refine fg_X7_13 (q := 37) C hV.o rfl dX7_pit_34 rfl ?_
  refine gx_iconst (q := 38) (v := nI 4) C dX7_pit_37 (by decide) rfl ?_
  refine gx_aload_n (q := 39) C dX7_pit_38 rfl rfl rfl ?_
  refine fg_X7_13 (q := 42) C hV.o rfl dX7_pit_39 rfl ?_
  refine gx_iconst (q := 43) (v := nI 3) C dX7_pit_42 (by decide) rfl ?_
  refine mv_ld_now (q := 44) C hV (by omega) dX7_pit_43 rfl ?_
  refine gn_iadd (q := 45) C dX7_pit_44 rfl ?_
  refine gx_iload_n (q := 46) C dX7_pit_45 rfl rfl rfl ?_
  refine mv_st_now (q := 47) C hV hF (by omega) dX7_pit_46 rfl (fun M hV hF => ?_)
  refine gx_aload_n (q := 48) C dX7_pit_47 rfl rfl rfl ?_
  refine fg_X7_13 (q := 51) C hV.o rfl dX7_pit_48 rfl ?_
  refine gx_iconst (q := 52) (v := nI 3) C dX7_pit_51 (by decide) rfl ?_
  refine gx_dup2 (q := 53) C dX7_pit_52 rfl rfl rfl ?_
  refine mv_ld_now (q := 54) C hV (by omega) dX7_pit_53 rfl ?_
  rw [updN_n T (show ¬ 3 = 4 + T 3 by omega)]
  refine gx_iconst (q := 55) (v := nI 1) C dX7_pit_54 (by decide) rfl ?_
  refine gn_iadd (q := 56) C dX7_pit_55 rfl ?_
  refine mv_st_now (q := 57) C hV hF (by omega) dX7_pit_56 rfl (fun M hV hF => ?_)
  refine gx_aload_n (q := 58) C dX7_pit_57 rfl rfl rfl ?_
  refine fg_X7_13 (q := 61) C hV.o rfl dX7_pit_58 rfl ?_
  refine gx_iconst (q := 62) (v := nI 3) C dX7_pit_61 (by decide) rfl ?_
  refine mv_ld_now (q := 63) C hV (by omega) dX7_pit_62 rfl ?_
  exact gx_iretE C E (by rw [updN_s]) dX7_pit_63 (⟨⟨_, _, _, _, _, _, _, hV⟩, hF⟩) (by omega) (by omega)
set_option maxHeartbeats 4000000 in
theorem mp_image (l : Launch) (D : va_G) (b : Nat) (M0 : List va_E) {R T Ti P Rw : Nat → Nat} {kp : Bool} {td ro : Nat}  (h : md_P D b M0 R T Ti P Rw kp td ro) (hk : okT T) : fb_CT l D b yX7_image cX7_image 1 (some .int) 1 22 0 0 [.ref (b + 43)] M0 (.returned (some (.int (nI (T 0))))) (fun M' => md_P D b M' R T T P Rw true td ro ∧ md_F M0 M') := by
  refine fb_start [some (.ref (b + 43))] (by decide) (Nat.le_of_ble_eq_true rfl) rfl ?_
  intro x hl hD hb C E hx
  subst hl hD hb
  have C : fb_OK x cX7_image "FallsBetweenModel" "image" := C
  obtain ⟨Bf, F, L, aa, we, so, lo, hV⟩ := h
  have hF := md_F.rf M0
  obtain ⟨k0, k1, k2, k3, k4, k5, k6, k7, k8⟩ := id hk
  refine gx_aload_n (q := 1) C dX7_image_0 rfl rfl rfl ?_
  refine gx_iconst (q := 2) (v := bI true) C dX7_image_1 (by decide) rfl ?_
  refine mv_pf_kept (q := 5) C hV hF dX7_image_2 rfl (fun M hV hF => ?_)
  refine gx_aload_n (q := 6) C dX7_image_5 rfl rfl rfl ?_
  refine fg_X7_13 (q := 9) C hV.o rfl dX7_image_6 rfl ?_
  refine gx_aload_n (q := 10) C dX7_image_9 rfl rfl rfl ?_
  refine fg_X7_16 (q := 13) C hV.o rfl dX7_image_10 rfl ?_
  obtain ⟨f, f1, f2⟩ := hV.nw
  obtain ⟨t, t1, t2⟩ := hV.th
  refine gx_cv (q := 16) C E (sx_X7_45 (As := [_, _]) C rfl rfl dX7_image_13) (md_move _ _ _ _ 45 46 (by decide) f1 t1) kw_X7_move (by decide) (Nat.le_of_ble_eq_true rfl) rfl rfl (by omega) (by omega) dX7_image_13 rfl (fun M r13 => ?_)
  have hV := hV.setth (g := cpN f t 144) (U := T) (fun i hi => by rw [cpN, if_pos hi]; exact f2 i hi)
  rw [← r13] at hV
  have hF := hF.st 46 (aI (cx_D x) 144 (cpN f t 144)) (by decide)
  rw [← r13] at hF
  refine gx_aload_n (q := 17) C dX7_image_16 rfl rfl rfl ?_
  refine fg_X7_13 (q := 20) C hV.o rfl dX7_image_17 rfl ?_
  refine gx_iconst (q := 21) (v := nI 0) C dX7_image_20 (by decide) rfl ?_
  refine mv_ld_now (q := 22) C hV (by omega) dX7_image_21 rfl ?_
  exact gx_iret C E dX7_image_22 (⟨⟨_, _, _, _, _, _, _, hV⟩, hF⟩) (by omega) (by omega)
set_option maxHeartbeats 4000000 in
theorem mp_on_n (l : Launch) (D : va_G) (b : Nat) (M0 : List va_E) {R T Ti P Rw : Nat → Nat} {kp : Bool} {td ro : Nat} (hkp : kp = false) (h : md_P D b M0 R T Ti P Rw kp td ro) (hk : okT T) : fb_CT l D b yX7_on cX7_on 1 (some .int) 1 22 0 0 [.ref (b + 43)] M0 (.returned (some (.int (-3)))) (fun M' => md_P D b M' (updN R 3 (R 3 + 1)) T Ti P Rw kp td ro ∧ md_F M0 M') := by
  refine fb_start [some (.ref (b + 43))] (by decide) (Nat.le_of_ble_eq_true rfl) rfl ?_
  intro x hl hD hb C E hx
  subst hl hD hb
  have C : fb_OK x cX7_on "FallsBetweenModel" "on" := C
  obtain ⟨Bf, F, L, aa, we, so, lo, hV⟩ := h
  have hF := md_F.rf M0
  obtain ⟨k0, k1, k2, k3, k4, k5, k6, k7, k8⟩ := id hk
  refine gx_aload_n (q := 1) C dX7_on_0 rfl rfl rfl ?_
  refine fg_X7_41 (q := 4) C hV.o rfl dX7_on_1 rfl ?_
  refine gb_if_ne (q := 7) (tgt := 14) C dX7_on_4 (by decide) rfl (fun c4 => by exfalso; rw [hkp] at c4; cases c4) (fun c4 => ?_)
  refine gx_aload_n (q := 8) C dX7_on_7 rfl rfl rfl ?_
  refine gx_bipush (q := 10) (v := -3) C dX7_on_8 (by decide) rfl ?_
  refine gx_cs (q := 13) C E (sx_X7_49 (As := [_]) C hV.o rfl rfl dX7_on_10) (md_no _ _ _ _ (-3) 3 (by decide) (by decide) hV) kw_X7_no (by decide) (Nat.le_of_ble_eq_true rfl) rfl rfl (by omega) (by omega) dX7_on_10 rfl (fun M r10 => ?_)
  obtain ⟨hV, hG⟩ := r10
  have hF := hF.tr hG
  exact gx_iret C E dX7_on_13 (⟨⟨_, _, _, _, _, _, _, hV⟩, hF⟩) (by omega) (by omega)
set_option maxHeartbeats 4000000 in
theorem mp_on_y (l : Launch) (D : va_G) (b : Nat) (M0 : List va_E) {R T Ti P Rw : Nat → Nat} {kp : Bool} {td ro : Nat} (hkp : kp = true) (h : md_P D b M0 R T Ti P Rw kp td ro) (hk : okT T) : fb_CT l D b yX7_on cX7_on 1 (some .int) 1 22 0 0 [.ref (b + 43)] M0 (.returned (some (.int (nI (Ti 0))))) (fun M' => md_P D b M' R Ti Ti P Rw kp td ro ∧ md_F M0 M') := by
  refine fb_start [some (.ref (b + 43))] (by decide) (Nat.le_of_ble_eq_true rfl) rfl ?_
  intro x hl hD hb C E hx
  subst hl hD hb
  have C : fb_OK x cX7_on "FallsBetweenModel" "on" := C
  obtain ⟨Bf, F, L, aa, we, so, lo, hV⟩ := h
  have hF := md_F.rf M0
  obtain ⟨k0, k1, k2, k3, k4, k5, k6, k7, k8⟩ := id hk
  refine gx_aload_n (q := 1) C dX7_on_0 rfl rfl rfl ?_
  refine fg_X7_41 (q := 4) C hV.o rfl dX7_on_1 rfl ?_
  refine gb_if_ne (q := 7) (tgt := 14) C dX7_on_4 (by decide) rfl (fun c4 => ?_) (fun c4 => by exfalso; rw [hkp] at c4; cases c4)
  refine gx_aload_n (q := 15) C dX7_on_14 rfl rfl rfl ?_
  refine fg_X7_16 (q := 18) C hV.o rfl dX7_on_15 rfl ?_
  refine gx_aload_n (q := 19) C dX7_on_18 rfl rfl rfl ?_
  refine fg_X7_13 (q := 22) C hV.o rfl dX7_on_19 rfl ?_
  obtain ⟨f, f1, f2⟩ := hV.th
  obtain ⟨t, t1, t2⟩ := hV.nw
  refine gx_cv (q := 25) C E (sx_X7_45 (As := [_, _]) C rfl rfl dX7_on_22) (md_move _ _ _ _ 46 45 (by decide) f1 t1) kw_X7_move (by decide) (Nat.le_of_ble_eq_true rfl) rfl rfl (by omega) (by omega) dX7_on_22 rfl (fun M r22 => ?_)
  have hV := hV.setnw (g := cpN f t 144) (U := Ti) (fun i hi => by rw [cpN, if_pos hi]; exact f2 i hi)
  rw [← r22] at hV
  have hF := hF.st 45 (aI (cx_D x) 144 (cpN f t 144)) (by decide)
  rw [← r22] at hF
  refine gx_aload_n (q := 26) C dX7_on_25 rfl rfl rfl ?_
  refine fg_X7_13 (q := 29) C hV.o rfl dX7_on_26 rfl ?_
  refine gx_iconst (q := 30) (v := nI 0) C dX7_on_29 (by decide) rfl ?_
  refine mv_ld_now (q := 31) C hV (by omega) dX7_on_30 rfl ?_
  exact gx_iret C E dX7_on_31 (⟨⟨_, _, _, _, _, _, _, hV⟩, hF⟩) (by omega) (by omega)
