/-! the reference is built -/
set_option maxRecDepth 100000
set_option maxHeartbeats 400000 in
theorem md_init (l : Launch) (D : va_G) (b : Nat) (A : List va_E) (hA : A.length = 43) : fb_CT l D b yX7_init cX7_init 1 none 1 14 10 568 [.ref (b + 43)] (A ++ [ob 7 [.null, .null, .null, .null, .int 0, .null, .int 0, .int 0, .int 0, .null, .null, .int 0, .null, .null, .int 0, .null, .int 0]]) (.returned none) (fun M' => md_V D b M' (fun _ => 0) (fun _ => 0) (fun _ => 0) (fun _ => 0) (fun _ => 0) (fun _ => 0) (fun _ => 0) (fun _ => 0) false 0 0 false 0 0 0 ∧ M'.length = 54 ∧ ∀ j : Nat, j < 43 → M'[j]? = A[j]?) := by
  refine fb_start [some (.ref (b + 43))] (by decide) (Nat.le_of_ble_eq_true rfl) rfl ?_
  intro x hl hD hb C E hx
  subst hl hD hb
  have C : fb_OK x cX7_init "FallsBetweenModel" "<init>" := C
  refine gx_aload_n (q := 1) C dX7_init_0 rfl rfl rfl ?_
  refine gx_objInit (q := 4) C E q1114 q104 q105 (by decide) (Nat.le_of_ble_eq_true rfl) dX7_init_1 rfl ?_
  refine gx_aload_n (q := 5) C dX7_init_4 rfl rfl rfl ?_
  refine gx_bipush (q := 7) (v := nI 7) C dX7_init_5 (by decide) rfl ?_
  refine cn_newa_i (q := 9) (k0 := 1) (m := 44) C E hA rfl rfl q209 (by decide) (by omega) (by omega) dX7_init_7 rfl ?_
  dsimp only [List.cons_append, List.nil_append]
  refine fp_X7_7 (q := 12) C (cn_at (i := 0) hA rfl rfl) rfl dX7_init_9 rfl ?_
  refine cn_set (i := 0) hA rfl ?_
  dsimp only [List.set]
  refine gx_aload_n (q := 13) C dX7_init_12 rfl rfl rfl ?_
  refine gx_sipush (q := 16) (v := nI 144) C dX7_init_13 (by decide) rfl ?_
  refine cn_newa_i (q := 18) (k0 := 2) (m := 45) C E hA rfl rfl q209 (by decide) (by omega) (by omega) dX7_init_16 rfl ?_
  dsimp only [List.cons_append, List.nil_append]
  refine fp_X7_13 (q := 21) C (cn_at (i := 0) hA rfl rfl) rfl dX7_init_18 rfl ?_
  refine cn_set (i := 0) hA rfl ?_
  dsimp only [List.set]
  refine gx_aload_n (q := 22) C dX7_init_21 rfl rfl rfl ?_
  refine gx_sipush (q := 25) (v := nI 144) C dX7_init_22 (by decide) rfl ?_
  refine cn_newa_i (q := 27) (k0 := 3) (m := 46) C E hA rfl rfl q209 (by decide) (by omega) (by omega) dX7_init_25 rfl ?_
  dsimp only [List.cons_append, List.nil_append]
  refine fp_X7_16 (q := 30) C (cn_at (i := 0) hA rfl rfl) rfl dX7_init_27 rfl ?_
  refine cn_set (i := 0) hA rfl ?_
  dsimp only [List.set]
  refine gx_aload_n (q := 31) C dX7_init_30 rfl rfl rfl ?_
  refine gx_sipush (q := 34) (v := nI 144) C dX7_init_31 (by decide) rfl ?_
  refine cn_newa_i (q := 36) (k0 := 4) (m := 47) C E hA rfl rfl q209 (by decide) (by omega) (by omega) dX7_init_34 rfl ?_
  dsimp only [List.cons_append, List.nil_append]
  refine fp_X7_19 (q := 39) C (cn_at (i := 0) hA rfl rfl) rfl dX7_init_36 rfl ?_
  refine cn_set (i := 0) hA rfl ?_
  dsimp only [List.set]
  refine gx_aload_n (q := 40) C dX7_init_39 rfl rfl rfl ?_
  refine gx_bipush (q := 42) (v := nI 64) C dX7_init_40 (by decide) rfl ?_
  refine cn_newa_i (q := 44) (k0 := 5) (m := 48) C E hA rfl rfl q209 (by decide) (by omega) (by omega) dX7_init_42 rfl ?_
  dsimp only [List.cons_append, List.nil_append]
  refine fp_X7_22 (q := 47) C (cn_at (i := 0) hA rfl rfl) rfl dX7_init_44 rfl ?_
  refine cn_set (i := 0) hA rfl ?_
  dsimp only [List.set]
  refine gx_aload_n (q := 48) C dX7_init_47 rfl rfl rfl ?_
  refine gx_bipush (q := 50) (v := nI 7) C dX7_init_48 (by decide) rfl ?_
  refine cn_newa_c (q := 52) (k0 := 6) (m := 49) C E hA rfl rfl q242 (by decide) (by omega) (by omega) dX7_init_50 rfl ?_
  dsimp only [List.cons_append, List.nil_append]
  refine gx_dup (q := 53) C dX7_init_52 rfl rfl ?_
  refine gx_iconst (q := 54) (v := nI 0) C dX7_init_53 (by decide) rfl ?_
  refine gx_bipush (q := 56) (v := nI 116) C dX7_init_54 (by decide) rfl ?_
  refine gx_cast (q := 57) C (cn_at (i := 6) hA rfl rfl) (by decide) (by decide) (rfl) dX7_init_56 rfl ?_
  refine cn_set (i := 6) hA rfl ?_
  dsimp only [List.set]
  refine gx_dup (q := 58) C dX7_init_57 rfl rfl ?_
  refine gx_iconst (q := 59) (v := nI 1) C dX7_init_58 (by decide) rfl ?_
  refine gx_bipush (q := 61) (v := nI 103) C dX7_init_59 (by decide) rfl ?_
  refine gx_cast (q := 62) C (cn_at (i := 6) hA rfl rfl) (by decide) (by decide) (rfl) dX7_init_61 rfl ?_
  refine cn_set (i := 6) hA rfl ?_
  dsimp only [List.set]
  refine gx_dup (q := 63) C dX7_init_62 rfl rfl ?_
  refine gx_iconst (q := 64) (v := nI 2) C dX7_init_63 (by decide) rfl ?_
  refine gx_bipush (q := 66) (v := nI 99) C dX7_init_64 (by decide) rfl ?_
  refine gx_cast (q := 67) C (cn_at (i := 6) hA rfl rfl) (by decide) (by decide) (rfl) dX7_init_66 rfl ?_
  refine cn_set (i := 6) hA rfl ?_
  dsimp only [List.set]
  refine gx_dup (q := 68) C dX7_init_67 rfl rfl ?_
  refine gx_iconst (q := 69) (v := nI 3) C dX7_init_68 (by decide) rfl ?_
  refine gx_bipush (q := 71) (v := nI 104) C dX7_init_69 (by decide) rfl ?_
  refine gx_cast (q := 72) C (cn_at (i := 6) hA rfl rfl) (by decide) (by decide) (rfl) dX7_init_71 rfl ?_
  refine cn_set (i := 6) hA rfl ?_
  dsimp only [List.set]
  refine gx_dup (q := 73) C dX7_init_72 rfl rfl ?_
  refine gx_iconst (q := 74) (v := nI 4) C dX7_init_73 (by decide) rfl ?_
  refine gx_bipush (q := 76) (v := nI 119) C dX7_init_74 (by decide) rfl ?_
  refine gx_cast (q := 77) C (cn_at (i := 6) hA rfl rfl) (by decide) (by decide) (rfl) dX7_init_76 rfl ?_
  refine cn_set (i := 6) hA rfl ?_
  dsimp only [List.set]
  refine gx_dup (q := 78) C dX7_init_77 rfl rfl ?_
  refine gx_iconst (q := 79) (v := nI 5) C dX7_init_78 (by decide) rfl ?_
  refine gx_bipush (q := 81) (v := nI 108) C dX7_init_79 (by decide) rfl ?_
  refine gx_cast (q := 82) C (cn_at (i := 6) hA rfl rfl) (by decide) (by decide) (rfl) dX7_init_81 rfl ?_
  refine cn_set (i := 6) hA rfl ?_
  dsimp only [List.set]
  refine gx_dup (q := 83) C dX7_init_82 rfl rfl ?_
  refine gx_bipush (q := 85) (v := nI 6) C dX7_init_83 (by decide) rfl ?_
  refine gx_bipush (q := 87) (v := nI 110) C dX7_init_85 (by decide) rfl ?_
  refine gx_cast (q := 88) C (cn_at (i := 6) hA rfl rfl) (by decide) (by decide) (rfl) dX7_init_87 rfl ?_
  refine cn_set (i := 6) hA rfl ?_
  dsimp only [List.set]
  refine fp_X7_25 (q := 91) C (cn_at (i := 0) hA rfl rfl) rfl dX7_init_88 rfl ?_
  refine cn_set (i := 0) hA rfl ?_
  dsimp only [List.set]
  refine gx_aload_n (q := 92) C dX7_init_91 rfl rfl rfl ?_
  refine gx_bipush (q := 94) (v := nI 6) C dX7_init_92 (by decide) rfl ?_
  refine cn_newa_c (q := 96) (k0 := 7) (m := 50) C E hA rfl rfl q242 (by decide) (by omega) (by omega) dX7_init_94 rfl ?_
  dsimp only [List.cons_append, List.nil_append]
  refine gx_dup (q := 97) C dX7_init_96 rfl rfl ?_
  refine gx_iconst (q := 98) (v := nI 0) C dX7_init_97 (by decide) rfl ?_
  refine gx_bipush (q := 100) (v := nI 112) C dX7_init_98 (by decide) rfl ?_
  refine gx_cast (q := 101) C (cn_at (i := 7) hA rfl rfl) (by decide) (by decide) (rfl) dX7_init_100 rfl ?_
  refine cn_set (i := 7) hA rfl ?_
  dsimp only [List.set]
  refine gx_dup (q := 102) C dX7_init_101 rfl rfl ?_
  refine gx_iconst (q := 103) (v := nI 1) C dX7_init_102 (by decide) rfl ?_
  refine gx_bipush (q := 105) (v := nI 100) C dX7_init_103 (by decide) rfl ?_
  refine gx_cast (q := 106) C (cn_at (i := 7) hA rfl rfl) (by decide) (by decide) (rfl) dX7_init_105 rfl ?_
  refine cn_set (i := 7) hA rfl ?_
  dsimp only [List.set]
  refine gx_dup (q := 107) C dX7_init_106 rfl rfl ?_
  refine gx_iconst (q := 108) (v := nI 2) C dX7_init_107 (by decide) rfl ?_
  refine gx_bipush (q := 110) (v := nI 108) C dX7_init_108 (by decide) rfl ?_
  refine gx_cast (q := 111) C (cn_at (i := 7) hA rfl rfl) (by decide) (by decide) (rfl) dX7_init_110 rfl ?_
  refine cn_set (i := 7) hA rfl ?_
  dsimp only [List.set]
  refine gx_dup (q := 112) C dX7_init_111 rfl rfl ?_
  refine gx_iconst (q := 113) (v := nI 3) C dX7_init_112 (by decide) rfl ?_
  refine gx_bipush (q := 115) (v := nI 97) C dX7_init_113 (by decide) rfl ?_
  refine gx_cast (q := 116) C (cn_at (i := 7) hA rfl rfl) (by decide) (by decide) (rfl) dX7_init_115 rfl ?_
  refine cn_set (i := 7) hA rfl ?_
  dsimp only [List.set]
  refine gx_dup (q := 117) C dX7_init_116 rfl rfl ?_
  refine gx_iconst (q := 118) (v := nI 4) C dX7_init_117 (by decide) rfl ?_
  refine gx_bipush (q := 120) (v := nI 114) C dX7_init_118 (by decide) rfl ?_
  refine gx_cast (q := 121) C (cn_at (i := 7) hA rfl rfl) (by decide) (by decide) (rfl) dX7_init_120 rfl ?_
  refine cn_set (i := 7) hA rfl ?_
  dsimp only [List.set]
  refine gx_dup (q := 122) C dX7_init_121 rfl rfl ?_
  refine gx_iconst (q := 123) (v := nI 5) C dX7_init_122 (by decide) rfl ?_
  refine gx_bipush (q := 125) (v := nI 115) C dX7_init_123 (by decide) rfl ?_
  refine gx_cast (q := 126) C (cn_at (i := 7) hA rfl rfl) (by decide) (by decide) (rfl) dX7_init_125 rfl ?_
  refine cn_set (i := 7) hA rfl ?_
  dsimp only [List.set]
  refine fp_X7_29 (q := 129) C (cn_at (i := 0) hA rfl rfl) rfl dX7_init_126 rfl ?_
  refine cn_set (i := 0) hA rfl ?_
  dsimp only [List.set]
  refine gx_aload_n (q := 130) C dX7_init_129 rfl rfl rfl ?_
  refine gx_iconst (q := 131) (v := nI 4) C dX7_init_130 (by decide) rfl ?_
  refine cn_newa_i (q := 133) (k0 := 8) (m := 51) C E hA rfl rfl q209 (by decide) (by omega) (by omega) dX7_init_131 rfl ?_
  dsimp only [List.cons_append, List.nil_append]
  refine fp_X7_32 (q := 136) C (cn_at (i := 0) hA rfl rfl) rfl dX7_init_133 rfl ?_
  refine cn_set (i := 0) hA rfl ?_
  dsimp only [List.set]
  refine gx_aload_n (q := 137) C dX7_init_136 rfl rfl rfl ?_
  refine gx_bipush (q := 139) (v := nI 36) C dX7_init_137 (by decide) rfl ?_
  refine cn_newa_i (q := 141) (k0 := 9) (m := 52) C E hA rfl rfl q209 (by decide) (by omega) (by omega) dX7_init_139 rfl ?_
  dsimp only [List.cons_append, List.nil_append]
  refine fp_X7_35 (q := 144) C (cn_at (i := 0) hA rfl rfl) rfl dX7_init_141 rfl ?_
  refine cn_set (i := 0) hA rfl ?_
  dsimp only [List.set]
  refine gx_aload_n (q := 145) C dX7_init_144 rfl rfl rfl ?_
  refine gx_bipush (q := 147) (v := nI 12) C dX7_init_145 (by decide) rfl ?_
  refine cn_newa_i (q := 149) (k0 := 10) (m := 53) C E hA rfl rfl q209 (by decide) (by omega) (by omega) dX7_init_147 rfl ?_
  dsimp only [List.cons_append, List.nil_append]
  refine fp_X7_38 (q := 152) C (cn_at (i := 0) hA rfl rfl) rfl dX7_init_149 rfl ?_
  refine cn_set (i := 0) hA rfl ?_
  dsimp only [List.set]
  exact gx_vret C E dX7_init_152 (by
  refine ⟨⟨fun _ => 0, fun _ => 0, fun _ => 0, fun _ => 0, fun _ => 0, fun _ => 0, fun _ => 0, fun _ => 0, ⟨cn_at (i := 0) hA rfl rfl, cn_at (i := 1) hA rfl rfl, cn_at (i := 2) hA rfl rfl, cn_at (i := 3) hA rfl rfl, cn_at (i := 4) hA rfl rfl, cn_at (i := 5) hA rfl rfl, cn_at (i := 8) hA rfl rfl, cn_at (i := 9) hA rfl rfl, cn_at (i := 10) hA rfl rfl, ⟨_, cn_at (i := 6) hA rfl rfl, by decide⟩, ⟨_, cn_at (i := 7) hA rfl rfl, by decide⟩⟩, fun _ _ => rfl, fun _ _ => rfl, fun _ _ => rfl, fun _ _ => rfl, fun _ _ => rfl, fun _ _ => rfl, fun _ _ => rfl, fun _ _ => rfl⟩, ?_, ?_⟩
  · rw [List.length_append, hA]; rfl
  · exact fun j hj => cn_lo (by omega)) (by omega) (by omega)
