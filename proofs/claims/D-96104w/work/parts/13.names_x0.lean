/-! FallsBetween -/
set_option maxRecDepth 100000
def RX0 : String := "FallsBetween"
def TX0 : u_T := fun k => match k with
  | 0 => ("FallsBetween", "town", "LFallsBetween$Town;", true)
  | 1 => ("FallsBetween", "mind", "LFallsBetween$Town;", true)
  | 2 => ("FallsBetween", "imaged", "LFallsBetween$Town;", true)
  | 3 => ("FallsBetween", "hasImage", "Z", false)
  | 4 => ("FallsBetween", "row", "[B", true)
  | 5 => ("FallsBetween", "rowMany", "I", false)
  | 6 => ("FallsBetween", "letters", "[C", true)
  | 7 => ("FallsBetween", "letterMany", "I", false)
  | _ => ("FallsBetween", "refused", "[I", true)
def tyX0 : Nat → FieldType := fun k => match k with
  | 0 => .object "FallsBetween$Town"
  | 1 => .object "FallsBetween$Town"
  | 2 => .object "FallsBetween$Town"
  | 3 => .boolean
  | 4 => .array .byte
  | 5 => .int
  | 6 => .array .char
  | 7 => .int
  | _ => .array .int
abbrev wsX00 : List Cond := u_ws RX0 TX0 9
theorem nmX0 : ∀ a, a < 9 → ∀ b, b < 9 → a ≠ b → (TX0 a).2.1 ≠ (TX0 b).2.1 := by decide +kernel
theorem tyX0_ok : ∀ k, k < 9 → parseFieldDescriptor (TX0 k).2.2.1 = some (tyX0 k) := by decide +kernel
abbrev cX0_init : ByteArray := prog_1_method_10_code
def yX0_init : MethodName := ⟨RX0, "<init>", "()V"⟩
def dkwX0_init_2 : List UInt8 := [16, 64, 188, 5, 181, 0, 65, 42, 16, 7, 188, 10, 181, 0, 69, 177]
abbrev dktX0_init_2 : List UInt8 := dkwX0_init_2 ++ []
def dkwX0_init_1 : List UInt8 := [181, 0, 55, 42, 187, 0, 48, 89, 183, 0, 50, 181, 0, 58, 42, 16, 12, 188, 8, 181, 0, 61, 42]
abbrev dktX0_init_1 : List UInt8 := dkwX0_init_1 ++ dktX0_init_2
def dkwX0_init_0 : List UInt8 := [42, 183, 0, 43, 42, 187, 0, 48, 89, 183, 0, 50, 181, 0, 51, 42, 187, 0, 48, 89, 183, 0, 50]
abbrev dktX0_init_0 : List UInt8 := dkwX0_init_0 ++ dktX0_init_1
theorem dksX0_init_0 : cX0_init.data.toList.drop 0 = dktX0_init_0 := by decide +kernel
theorem dksX0_init_1 : cX0_init.data.toList.drop 23 = dktX0_init_1 := dk_seg dksX0_init_0 23 rfl rfl
theorem dksX0_init_2 : cX0_init.data.toList.drop 46 = dktX0_init_2 := dk_seg dksX0_init_1 23 rfl rfl
theorem dX0_init_0 : decode cX0_init 0 = .ok (.aload_n 0, 1) := dk_42 (dk_at dksX0_init_0 0 rfl rfl)
theorem dX0_init_1 : decode cX0_init 1 = .ok (.invokespecial 43, 3) := dk_183 0 43 (dk_at dksX0_init_0 1 rfl rfl)
theorem dX0_init_4 : decode cX0_init 4 = .ok (.aload_n 0, 1) := dk_42 (dk_at dksX0_init_0 4 rfl rfl)
theorem dX0_init_5 : decode cX0_init 5 = .ok (.new 48, 3) := dk_187 0 48 (dk_at dksX0_init_0 5 rfl rfl)
theorem dX0_init_8 : decode cX0_init 8 = .ok (.dup, 1) := dk_89 (dk_at dksX0_init_0 8 rfl rfl)
theorem dX0_init_9 : decode cX0_init 9 = .ok (.invokespecial 50, 3) := dk_183 0 50 (dk_at dksX0_init_0 9 rfl rfl)
theorem dX0_init_12 : decode cX0_init 12 = .ok (.putfield 51, 3) := dk_181 0 51 (dk_at dksX0_init_0 12 rfl rfl)
theorem dX0_init_15 : decode cX0_init 15 = .ok (.aload_n 0, 1) := dk_42 (dk_at dksX0_init_0 15 rfl rfl)
theorem dX0_init_16 : decode cX0_init 16 = .ok (.new 48, 3) := dk_187 0 48 (dk_at dksX0_init_0 16 rfl rfl)
theorem dX0_init_19 : decode cX0_init 19 = .ok (.dup, 1) := dk_89 (dk_at dksX0_init_0 19 rfl rfl)
theorem dX0_init_20 : decode cX0_init 20 = .ok (.invokespecial 50, 3) := dk_183 0 50 (dk_at dksX0_init_0 20 rfl rfl)
theorem dX0_init_23 : decode cX0_init 23 = .ok (.putfield 55, 3) := dk_181 0 55 (dk_at dksX0_init_1 0 rfl rfl)
theorem dX0_init_26 : decode cX0_init 26 = .ok (.aload_n 0, 1) := dk_42 (dk_at dksX0_init_1 3 rfl rfl)
theorem dX0_init_27 : decode cX0_init 27 = .ok (.new 48, 3) := dk_187 0 48 (dk_at dksX0_init_1 4 rfl rfl)
theorem dX0_init_30 : decode cX0_init 30 = .ok (.dup, 1) := dk_89 (dk_at dksX0_init_1 7 rfl rfl)
theorem dX0_init_31 : decode cX0_init 31 = .ok (.invokespecial 50, 3) := dk_183 0 50 (dk_at dksX0_init_1 8 rfl rfl)
theorem dX0_init_34 : decode cX0_init 34 = .ok (.putfield 58, 3) := dk_181 0 58 (dk_at dksX0_init_1 11 rfl rfl)
theorem dX0_init_37 : decode cX0_init 37 = .ok (.aload_n 0, 1) := dk_42 (dk_at dksX0_init_1 14 rfl rfl)
theorem dX0_init_38 : decode cX0_init 38 = .ok (.bipush 12, 2) := dk_16 12 (dk_at dksX0_init_1 15 rfl rfl)
theorem dX0_init_40 : decode cX0_init 40 = .ok (.newarray .byte, 2) := dk_188_8 (dk_at dksX0_init_1 17 rfl rfl)
theorem dX0_init_42 : decode cX0_init 42 = .ok (.putfield 61, 3) := dk_181 0 61 (dk_at dksX0_init_1 19 rfl rfl)
theorem dX0_init_45 : decode cX0_init 45 = .ok (.aload_n 0, 1) := dk_42 (dk_at dksX0_init_1 22 rfl rfl)
theorem dX0_init_46 : decode cX0_init 46 = .ok (.bipush 64, 2) := dk_16 64 (dk_at dksX0_init_2 0 rfl rfl)
theorem dX0_init_48 : decode cX0_init 48 = .ok (.newarray .char, 2) := dk_188_5 (dk_at dksX0_init_2 2 rfl rfl)
theorem dX0_init_50 : decode cX0_init 50 = .ok (.putfield 65, 3) := dk_181 0 65 (dk_at dksX0_init_2 4 rfl rfl)
theorem dX0_init_53 : decode cX0_init 53 = .ok (.aload_n 0, 1) := dk_42 (dk_at dksX0_init_2 7 rfl rfl)
theorem dX0_init_54 : decode cX0_init 54 = .ok (.bipush 7, 2) := dk_16 7 (dk_at dksX0_init_2 8 rfl rfl)
theorem dX0_init_56 : decode cX0_init 56 = .ok (.newarray .int, 2) := dk_188_10 (dk_at dksX0_init_2 10 rfl rfl)
theorem dX0_init_58 : decode cX0_init 58 = .ok (.putfield 69, 3) := dk_181 0 69 (dk_at dksX0_init_2 12 rfl rfl)
theorem dX0_init_61 : decode cX0_init 61 = .ok (.return_, 1) := dk_177 (dk_at dksX0_init_2 15 rfl rfl)
abbrev cX0_letter : ByteArray := prog_1_method_51_code
def yX0_letter : MethodName := ⟨RX0, "letter", "(I)I"⟩
def dkwX0_letter_0 : List UInt8 := [42, 3, 27, 3, 3, 182, 1, 101, 172]
abbrev dktX0_letter_0 : List UInt8 := dkwX0_letter_0 ++ []
theorem dksX0_letter_0 : cX0_letter.data.toList.drop 0 = dktX0_letter_0 := by decide +kernel
theorem dX0_letter_0 : decode cX0_letter 0 = .ok (.aload_n 0, 1) := dk_42 (dk_at dksX0_letter_0 0 rfl rfl)
theorem dX0_letter_1 : decode cX0_letter 1 = .ok (.iconst 0, 1) := dk_3 (dk_at dksX0_letter_0 1 rfl rfl)
theorem dX0_letter_2 : decode cX0_letter 2 = .ok (.iload_n 1, 1) := dk_27 (dk_at dksX0_letter_0 2 rfl rfl)
theorem dX0_letter_3 : decode cX0_letter 3 = .ok (.iconst 0, 1) := dk_3 (dk_at dksX0_letter_0 3 rfl rfl)
theorem dX0_letter_4 : decode cX0_letter 4 = .ok (.iconst 0, 1) := dk_3 (dk_at dksX0_letter_0 4 rfl rfl)
theorem dX0_letter_5 : decode cX0_letter 5 = .ok (.invokevirtual 357, 3) := dk_182 1 101 (dk_at dksX0_letter_0 5 rfl rfl)
theorem dX0_letter_8 : decode cX0_letter 8 = .ok (.ireturn, 1) := dk_172 (dk_at dksX0_letter_0 8 rfl rfl)
abbrev cX0_act : ByteArray := prog_1_method_26_code
def yX0_act : MethodName := ⟨RX0, "act", "(IIII)I"⟩
def dkwX0_act_2 : List UInt8 := [25, 5, 182, 0, 208, 182, 0, 211, 172]
abbrev dktX0_act_2 : List UInt8 := dkwX0_act_2 ++ []
def dkwX0_act_1 : List UInt8 := [28, 29, 21, 4, 182, 0, 199, 167, 0, 12, 42, 27, 28, 29, 21, 4, 182, 0, 203, 172, 58, 5, 42]
abbrev dktX0_act_1 : List UInt8 := dkwX0_act_1 ++ dktX0_act_2
def dkwX0_act_0 : List UInt8 := [27, 16, 10, 162, 0, 13, 42, 27, 28, 29, 182, 0, 195, 167, 0, 30, 27, 16, 17, 162, 0, 15, 42, 27]
abbrev dktX0_act_0 : List UInt8 := dkwX0_act_0 ++ dktX0_act_1
theorem dksX0_act_0 : cX0_act.data.toList.drop 0 = dktX0_act_0 := by decide +kernel
theorem dksX0_act_1 : cX0_act.data.toList.drop 24 = dktX0_act_1 := dk_seg dksX0_act_0 24 rfl rfl
theorem dksX0_act_2 : cX0_act.data.toList.drop 47 = dktX0_act_2 := dk_seg dksX0_act_1 23 rfl rfl
theorem dX0_act_0 : decode cX0_act 0 = .ok (.iload_n 1, 1) := dk_27 (dk_at dksX0_act_0 0 rfl rfl)
theorem dX0_act_1 : decode cX0_act 1 = .ok (.bipush 10, 2) := dk_16 10 (dk_at dksX0_act_0 1 rfl rfl)
theorem dX0_act_3 : decode cX0_act 3 = .ok (.if_icmp .ge 13, 3) := dk_162 0 13 (dk_at dksX0_act_0 3 rfl rfl)
theorem dX0_act_6 : decode cX0_act 6 = .ok (.aload_n 0, 1) := dk_42 (dk_at dksX0_act_0 6 rfl rfl)
theorem dX0_act_7 : decode cX0_act 7 = .ok (.iload_n 1, 1) := dk_27 (dk_at dksX0_act_0 7 rfl rfl)
theorem dX0_act_8 : decode cX0_act 8 = .ok (.iload_n 2, 1) := dk_28 (dk_at dksX0_act_0 8 rfl rfl)
theorem dX0_act_9 : decode cX0_act 9 = .ok (.iload_n 3, 1) := dk_29 (dk_at dksX0_act_0 9 rfl rfl)
theorem dX0_act_10 : decode cX0_act 10 = .ok (.invokevirtual 195, 3) := dk_182 0 195 (dk_at dksX0_act_0 10 rfl rfl)
theorem dX0_act_13 : decode cX0_act 13 = .ok (.goto 30, 3) := dk_167 0 30 (dk_at dksX0_act_0 13 rfl rfl)
theorem dX0_act_16 : decode cX0_act 16 = .ok (.iload_n 1, 1) := dk_27 (dk_at dksX0_act_0 16 rfl rfl)
theorem dX0_act_17 : decode cX0_act 17 = .ok (.bipush 17, 2) := dk_16 17 (dk_at dksX0_act_0 17 rfl rfl)
theorem dX0_act_19 : decode cX0_act 19 = .ok (.if_icmp .ge 15, 3) := dk_162 0 15 (dk_at dksX0_act_0 19 rfl rfl)
theorem dX0_act_22 : decode cX0_act 22 = .ok (.aload_n 0, 1) := dk_42 (dk_at dksX0_act_0 22 rfl rfl)
theorem dX0_act_23 : decode cX0_act 23 = .ok (.iload_n 1, 1) := dk_27 (dk_at dksX0_act_0 23 rfl rfl)
theorem dX0_act_24 : decode cX0_act 24 = .ok (.iload_n 2, 1) := dk_28 (dk_at dksX0_act_1 0 rfl rfl)
theorem dX0_act_25 : decode cX0_act 25 = .ok (.iload_n 3, 1) := dk_29 (dk_at dksX0_act_1 1 rfl rfl)
theorem dX0_act_26 : decode cX0_act 26 = .ok (.iload 4, 2) := dk_21 4 (dk_at dksX0_act_1 2 rfl rfl)
theorem dX0_act_28 : decode cX0_act 28 = .ok (.invokevirtual 199, 3) := dk_182 0 199 (dk_at dksX0_act_1 4 rfl rfl)
theorem dX0_act_31 : decode cX0_act 31 = .ok (.goto 12, 3) := dk_167 0 12 (dk_at dksX0_act_1 7 rfl rfl)
theorem dX0_act_34 : decode cX0_act 34 = .ok (.aload_n 0, 1) := dk_42 (dk_at dksX0_act_1 10 rfl rfl)
theorem dX0_act_35 : decode cX0_act 35 = .ok (.iload_n 1, 1) := dk_27 (dk_at dksX0_act_1 11 rfl rfl)
theorem dX0_act_36 : decode cX0_act 36 = .ok (.iload_n 2, 1) := dk_28 (dk_at dksX0_act_1 12 rfl rfl)
theorem dX0_act_37 : decode cX0_act 37 = .ok (.iload_n 3, 1) := dk_29 (dk_at dksX0_act_1 13 rfl rfl)
theorem dX0_act_38 : decode cX0_act 38 = .ok (.iload 4, 2) := dk_21 4 (dk_at dksX0_act_1 14 rfl rfl)
theorem dX0_act_40 : decode cX0_act 40 = .ok (.invokevirtual 203, 3) := dk_182 0 203 (dk_at dksX0_act_1 16 rfl rfl)
theorem dX0_act_43 : decode cX0_act 43 = .ok (.ireturn, 1) := dk_172 (dk_at dksX0_act_1 19 rfl rfl)
theorem dX0_act_44 : decode cX0_act 44 = .ok (.astore 5, 2) := dk_58 5 (dk_at dksX0_act_1 20 rfl rfl)
theorem dX0_act_46 : decode cX0_act 46 = .ok (.aload_n 0, 1) := dk_42 (dk_at dksX0_act_1 22 rfl rfl)
theorem dX0_act_47 : decode cX0_act 47 = .ok (.aload 5, 2) := dk_25 5 (dk_at dksX0_act_2 0 rfl rfl)
theorem dX0_act_49 : decode cX0_act 49 = .ok (.invokevirtual 208, 3) := dk_182 0 208 (dk_at dksX0_act_2 2 rfl rfl)
theorem dX0_act_52 : decode cX0_act 52 = .ok (.invokevirtual 211, 3) := dk_182 0 211 (dk_at dksX0_act_2 5 rfl rfl)
theorem dX0_act_55 : decode cX0_act 55 = .ok (.ireturn, 1) := dk_172 (dk_at dksX0_act_2 8 rfl rfl)
abbrev cX0_ofTown : ByteArray := prog_1_method_39_code
def yX0_ofTown : MethodName := ⟨RX0, "ofTown", "(III)I"⟩
def dkwX0_ofTown_5 : List UInt8 := [180, 0, 51, 180, 0, 120, 172]
abbrev dktX0_ofTown_5 : List UInt8 := dkwX0_ofTown_5 ++ []
def dkwX0_ofTown_4 : List UInt8 := [182, 1, 21, 172, 42, 28, 182, 1, 24, 172, 42, 28, 182, 0, 232, 42, 180, 0, 51, 28, 182, 0, 134, 42]
abbrev dktX0_ofTown_4 : List UInt8 := dkwX0_ofTown_4 ++ dktX0_ofTown_5
def dkwX0_ofTown_3 : List UInt8 := [172, 42, 28, 29, 182, 1, 12, 172, 42, 28, 29, 182, 1, 15, 172, 42, 28, 182, 1, 18, 172, 42, 28]
abbrev dktX0_ofTown_3 : List UInt8 := dkwX0_ofTown_3 ++ dktX0_ofTown_4
def dkwX0_ofTown_2 : List UInt8 := [42, 28, 182, 1, 0, 172, 42, 182, 1, 3, 172, 42, 28, 29, 182, 1, 6, 172, 42, 28, 29, 182, 1, 9]
abbrev dktX0_ofTown_2 : List UInt8 := dkwX0_ofTown_2 ++ dktX0_ofTown_3
def dkwX0_ofTown_1 : List UInt8 := [170, 0, 0, 0, 0, 0, 108, 0, 0, 0, 0, 0, 0, 0, 8, 0, 0, 0, 51, 0, 0, 0, 57, 0, 0, 0, 62, 0, 0, 0, 69, 0, 0, 0, 76, 0, 0, 0, 83, 0, 0, 0, 90, 0, 0, 0, 96, 0, 0, 0, 102]
abbrev dktX0_ofTown_1 : List UInt8 := dkwX0_ofTown_1 ++ dktX0_ofTown_2
def dkwX0_ofTown_0 : List UInt8 := [27]
abbrev dktX0_ofTown_0 : List UInt8 := dkwX0_ofTown_0 ++ dktX0_ofTown_1
theorem dksX0_ofTown_0 : cX0_ofTown.data.toList.drop 0 = dktX0_ofTown_0 := by decide +kernel
theorem dksX0_ofTown_1 : cX0_ofTown.data.toList.drop 1 = dktX0_ofTown_1 := dk_seg dksX0_ofTown_0 1 rfl rfl
theorem dksX0_ofTown_2 : cX0_ofTown.data.toList.drop 52 = dktX0_ofTown_2 := dk_seg dksX0_ofTown_1 51 rfl rfl
theorem dksX0_ofTown_3 : cX0_ofTown.data.toList.drop 76 = dktX0_ofTown_3 := dk_seg dksX0_ofTown_2 24 rfl rfl
theorem dksX0_ofTown_4 : cX0_ofTown.data.toList.drop 99 = dktX0_ofTown_4 := dk_seg dksX0_ofTown_3 23 rfl rfl
theorem dksX0_ofTown_5 : cX0_ofTown.data.toList.drop 123 = dktX0_ofTown_5 := dk_seg dksX0_ofTown_4 24 rfl rfl
theorem dX0_ofTown_0 : decode cX0_ofTown 0 = .ok (.iload_n 1, 1) := dk_27 (dk_at dksX0_ofTown_0 0 rfl rfl)
theorem dX0_ofTown_1 : decode cX0_ofTown 1 = .ok (.tableswitch 108 0 8 #[51, 57, 62, 69, 76, 83, 90, 96, 102], 51) := by decide +kernel
theorem dX0_ofTown_52 : decode cX0_ofTown 52 = .ok (.aload_n 0, 1) := dk_42 (dk_at dksX0_ofTown_2 0 rfl rfl)
theorem dX0_ofTown_53 : decode cX0_ofTown 53 = .ok (.iload_n 2, 1) := dk_28 (dk_at dksX0_ofTown_2 1 rfl rfl)
theorem dX0_ofTown_54 : decode cX0_ofTown 54 = .ok (.invokevirtual 256, 3) := dk_182 1 0 (dk_at dksX0_ofTown_2 2 rfl rfl)
theorem dX0_ofTown_57 : decode cX0_ofTown 57 = .ok (.ireturn, 1) := dk_172 (dk_at dksX0_ofTown_2 5 rfl rfl)
theorem dX0_ofTown_58 : decode cX0_ofTown 58 = .ok (.aload_n 0, 1) := dk_42 (dk_at dksX0_ofTown_2 6 rfl rfl)
theorem dX0_ofTown_59 : decode cX0_ofTown 59 = .ok (.invokevirtual 259, 3) := dk_182 1 3 (dk_at dksX0_ofTown_2 7 rfl rfl)
theorem dX0_ofTown_62 : decode cX0_ofTown 62 = .ok (.ireturn, 1) := dk_172 (dk_at dksX0_ofTown_2 10 rfl rfl)
theorem dX0_ofTown_63 : decode cX0_ofTown 63 = .ok (.aload_n 0, 1) := dk_42 (dk_at dksX0_ofTown_2 11 rfl rfl)
theorem dX0_ofTown_64 : decode cX0_ofTown 64 = .ok (.iload_n 2, 1) := dk_28 (dk_at dksX0_ofTown_2 12 rfl rfl)
theorem dX0_ofTown_65 : decode cX0_ofTown 65 = .ok (.iload_n 3, 1) := dk_29 (dk_at dksX0_ofTown_2 13 rfl rfl)
theorem dX0_ofTown_66 : decode cX0_ofTown 66 = .ok (.invokevirtual 262, 3) := dk_182 1 6 (dk_at dksX0_ofTown_2 14 rfl rfl)
theorem dX0_ofTown_69 : decode cX0_ofTown 69 = .ok (.ireturn, 1) := dk_172 (dk_at dksX0_ofTown_2 17 rfl rfl)
theorem dX0_ofTown_70 : decode cX0_ofTown 70 = .ok (.aload_n 0, 1) := dk_42 (dk_at dksX0_ofTown_2 18 rfl rfl)
theorem dX0_ofTown_71 : decode cX0_ofTown 71 = .ok (.iload_n 2, 1) := dk_28 (dk_at dksX0_ofTown_2 19 rfl rfl)
theorem dX0_ofTown_72 : decode cX0_ofTown 72 = .ok (.iload_n 3, 1) := dk_29 (dk_at dksX0_ofTown_2 20 rfl rfl)
theorem dX0_ofTown_73 : decode cX0_ofTown 73 = .ok (.invokevirtual 265, 3) := dk_182 1 9 (dk_at dksX0_ofTown_2 21 rfl rfl)
theorem dX0_ofTown_76 : decode cX0_ofTown 76 = .ok (.ireturn, 1) := dk_172 (dk_at dksX0_ofTown_3 0 rfl rfl)
theorem dX0_ofTown_77 : decode cX0_ofTown 77 = .ok (.aload_n 0, 1) := dk_42 (dk_at dksX0_ofTown_3 1 rfl rfl)
theorem dX0_ofTown_78 : decode cX0_ofTown 78 = .ok (.iload_n 2, 1) := dk_28 (dk_at dksX0_ofTown_3 2 rfl rfl)
theorem dX0_ofTown_79 : decode cX0_ofTown 79 = .ok (.iload_n 3, 1) := dk_29 (dk_at dksX0_ofTown_3 3 rfl rfl)
theorem dX0_ofTown_80 : decode cX0_ofTown 80 = .ok (.invokevirtual 268, 3) := dk_182 1 12 (dk_at dksX0_ofTown_3 4 rfl rfl)
theorem dX0_ofTown_83 : decode cX0_ofTown 83 = .ok (.ireturn, 1) := dk_172 (dk_at dksX0_ofTown_3 7 rfl rfl)
theorem dX0_ofTown_84 : decode cX0_ofTown 84 = .ok (.aload_n 0, 1) := dk_42 (dk_at dksX0_ofTown_3 8 rfl rfl)
theorem dX0_ofTown_85 : decode cX0_ofTown 85 = .ok (.iload_n 2, 1) := dk_28 (dk_at dksX0_ofTown_3 9 rfl rfl)
theorem dX0_ofTown_86 : decode cX0_ofTown 86 = .ok (.iload_n 3, 1) := dk_29 (dk_at dksX0_ofTown_3 10 rfl rfl)
theorem dX0_ofTown_87 : decode cX0_ofTown 87 = .ok (.invokevirtual 271, 3) := dk_182 1 15 (dk_at dksX0_ofTown_3 11 rfl rfl)
theorem dX0_ofTown_90 : decode cX0_ofTown 90 = .ok (.ireturn, 1) := dk_172 (dk_at dksX0_ofTown_3 14 rfl rfl)
theorem dX0_ofTown_91 : decode cX0_ofTown 91 = .ok (.aload_n 0, 1) := dk_42 (dk_at dksX0_ofTown_3 15 rfl rfl)
theorem dX0_ofTown_92 : decode cX0_ofTown 92 = .ok (.iload_n 2, 1) := dk_28 (dk_at dksX0_ofTown_3 16 rfl rfl)
theorem dX0_ofTown_93 : decode cX0_ofTown 93 = .ok (.invokevirtual 274, 3) := dk_182 1 18 (dk_at dksX0_ofTown_3 17 rfl rfl)
theorem dX0_ofTown_96 : decode cX0_ofTown 96 = .ok (.ireturn, 1) := dk_172 (dk_at dksX0_ofTown_3 20 rfl rfl)
theorem dX0_ofTown_97 : decode cX0_ofTown 97 = .ok (.aload_n 0, 1) := dk_42 (dk_at dksX0_ofTown_3 21 rfl rfl)
theorem dX0_ofTown_98 : decode cX0_ofTown 98 = .ok (.iload_n 2, 1) := dk_28 (dk_at dksX0_ofTown_3 22 rfl rfl)
theorem dX0_ofTown_99 : decode cX0_ofTown 99 = .ok (.invokevirtual 277, 3) := dk_182 1 21 (dk_at dksX0_ofTown_4 0 rfl rfl)
theorem dX0_ofTown_102 : decode cX0_ofTown 102 = .ok (.ireturn, 1) := dk_172 (dk_at dksX0_ofTown_4 3 rfl rfl)
theorem dX0_ofTown_103 : decode cX0_ofTown 103 = .ok (.aload_n 0, 1) := dk_42 (dk_at dksX0_ofTown_4 4 rfl rfl)
theorem dX0_ofTown_104 : decode cX0_ofTown 104 = .ok (.iload_n 2, 1) := dk_28 (dk_at dksX0_ofTown_4 5 rfl rfl)
theorem dX0_ofTown_105 : decode cX0_ofTown 105 = .ok (.invokevirtual 280, 3) := dk_182 1 24 (dk_at dksX0_ofTown_4 6 rfl rfl)
theorem dX0_ofTown_108 : decode cX0_ofTown 108 = .ok (.ireturn, 1) := dk_172 (dk_at dksX0_ofTown_4 9 rfl rfl)
theorem dX0_ofTown_109 : decode cX0_ofTown 109 = .ok (.aload_n 0, 1) := dk_42 (dk_at dksX0_ofTown_4 10 rfl rfl)
theorem dX0_ofTown_110 : decode cX0_ofTown 110 = .ok (.iload_n 2, 1) := dk_28 (dk_at dksX0_ofTown_4 11 rfl rfl)
theorem dX0_ofTown_111 : decode cX0_ofTown 111 = .ok (.invokevirtual 232, 3) := dk_182 0 232 (dk_at dksX0_ofTown_4 12 rfl rfl)
theorem dX0_ofTown_114 : decode cX0_ofTown 114 = .ok (.aload_n 0, 1) := dk_42 (dk_at dksX0_ofTown_4 15 rfl rfl)
theorem dX0_ofTown_115 : decode cX0_ofTown 115 = .ok (.getfield 51, 3) := dk_180 0 51 (dk_at dksX0_ofTown_4 16 rfl rfl)
theorem dX0_ofTown_118 : decode cX0_ofTown 118 = .ok (.iload_n 2, 1) := dk_28 (dk_at dksX0_ofTown_4 19 rfl rfl)
theorem dX0_ofTown_119 : decode cX0_ofTown 119 = .ok (.invokevirtual 134, 3) := dk_182 0 134 (dk_at dksX0_ofTown_4 20 rfl rfl)
theorem dX0_ofTown_122 : decode cX0_ofTown 122 = .ok (.aload_n 0, 1) := dk_42 (dk_at dksX0_ofTown_4 23 rfl rfl)
theorem dX0_ofTown_123 : decode cX0_ofTown 123 = .ok (.getfield 51, 3) := dk_180 0 51 (dk_at dksX0_ofTown_5 0 rfl rfl)
theorem dX0_ofTown_126 : decode cX0_ofTown 126 = .ok (.getfield 120, 3) := dk_180 0 120 (dk_at dksX0_ofTown_5 3 rfl rfl)
theorem dX0_ofTown_129 : decode cX0_ofTown 129 = .ok (.ireturn, 1) := dk_172 (dk_at dksX0_ofTown_5 6 rfl rfl)
abbrev cX0_letterIt : ByteArray := prog_1_method_31_code
def yX0_letterIt : MethodName := ⟨RX0, "letterIt", "(I)I"⟩
def dkwX0_letterIt_2 : List UInt8 := [181, 0, 78, 42, 180, 0, 78, 172]
abbrev dktX0_letterIt_2 : List UInt8 := dkwX0_letterIt_2 ++ []
def dkwX0_letterIt_1 : List UInt8 := [16, 250, 184, 0, 9, 42, 180, 0, 65, 42, 180, 0, 78, 27, 146, 85, 42, 89, 180, 0, 78, 4, 96]
abbrev dktX0_letterIt_1 : List UInt8 := dkwX0_letterIt_1 ++ dktX0_letterIt_2
def dkwX0_letterIt_0 : List UInt8 := [27, 133, 9, 20, 0, 218, 184, 0, 220, 42, 180, 0, 78, 16, 64, 162, 0, 7, 4, 167, 0, 4, 3]
abbrev dktX0_letterIt_0 : List UInt8 := dkwX0_letterIt_0 ++ dktX0_letterIt_1
theorem dksX0_letterIt_0 : cX0_letterIt.data.toList.drop 0 = dktX0_letterIt_0 := by decide +kernel
theorem dksX0_letterIt_1 : cX0_letterIt.data.toList.drop 23 = dktX0_letterIt_1 := dk_seg dksX0_letterIt_0 23 rfl rfl
theorem dksX0_letterIt_2 : cX0_letterIt.data.toList.drop 46 = dktX0_letterIt_2 := dk_seg dksX0_letterIt_1 23 rfl rfl
theorem dX0_letterIt_0 : decode cX0_letterIt 0 = .ok (.iload_n 1, 1) := dk_27 (dk_at dksX0_letterIt_0 0 rfl rfl)
theorem dX0_letterIt_1 : decode cX0_letterIt 1 = .ok (.i2l, 1) := dk_133 (dk_at dksX0_letterIt_0 1 rfl rfl)
theorem dX0_letterIt_2 : decode cX0_letterIt 2 = .ok (.lconst 0, 1) := dk_9 (dk_at dksX0_letterIt_0 2 rfl rfl)
theorem dX0_letterIt_3 : decode cX0_letterIt 3 = .ok (.ldc2_w 218, 3) := dk_20 0 218 (dk_at dksX0_letterIt_0 3 rfl rfl)
theorem dX0_letterIt_6 : decode cX0_letterIt 6 = .ok (.invokestatic 220, 3) := dk_184 0 220 (dk_at dksX0_letterIt_0 6 rfl rfl)
theorem dX0_letterIt_9 : decode cX0_letterIt 9 = .ok (.aload_n 0, 1) := dk_42 (dk_at dksX0_letterIt_0 9 rfl rfl)
theorem dX0_letterIt_10 : decode cX0_letterIt 10 = .ok (.getfield 78, 3) := dk_180 0 78 (dk_at dksX0_letterIt_0 10 rfl rfl)
theorem dX0_letterIt_13 : decode cX0_letterIt 13 = .ok (.bipush 64, 2) := dk_16 64 (dk_at dksX0_letterIt_0 13 rfl rfl)
theorem dX0_letterIt_15 : decode cX0_letterIt 15 = .ok (.if_icmp .ge 7, 3) := dk_162 0 7 (dk_at dksX0_letterIt_0 15 rfl rfl)
theorem dX0_letterIt_18 : decode cX0_letterIt 18 = .ok (.iconst 1, 1) := dk_4 (dk_at dksX0_letterIt_0 18 rfl rfl)
theorem dX0_letterIt_19 : decode cX0_letterIt 19 = .ok (.goto 4, 3) := dk_167 0 4 (dk_at dksX0_letterIt_0 19 rfl rfl)
theorem dX0_letterIt_22 : decode cX0_letterIt 22 = .ok (.iconst 0, 1) := dk_3 (dk_at dksX0_letterIt_0 22 rfl rfl)
theorem dX0_letterIt_23 : decode cX0_letterIt 23 = .ok (.bipush (-6), 2) := dk_16 250 (dk_at dksX0_letterIt_1 0 rfl rfl)
theorem dX0_letterIt_25 : decode cX0_letterIt 25 = .ok (.invokestatic 9, 3) := dk_184 0 9 (dk_at dksX0_letterIt_1 2 rfl rfl)
theorem dX0_letterIt_28 : decode cX0_letterIt 28 = .ok (.aload_n 0, 1) := dk_42 (dk_at dksX0_letterIt_1 5 rfl rfl)
theorem dX0_letterIt_29 : decode cX0_letterIt 29 = .ok (.getfield 65, 3) := dk_180 0 65 (dk_at dksX0_letterIt_1 6 rfl rfl)
theorem dX0_letterIt_32 : decode cX0_letterIt 32 = .ok (.aload_n 0, 1) := dk_42 (dk_at dksX0_letterIt_1 9 rfl rfl)
theorem dX0_letterIt_33 : decode cX0_letterIt 33 = .ok (.getfield 78, 3) := dk_180 0 78 (dk_at dksX0_letterIt_1 10 rfl rfl)
theorem dX0_letterIt_36 : decode cX0_letterIt 36 = .ok (.iload_n 1, 1) := dk_27 (dk_at dksX0_letterIt_1 13 rfl rfl)
theorem dX0_letterIt_37 : decode cX0_letterIt 37 = .ok (.i2c, 1) := dk_146 (dk_at dksX0_letterIt_1 14 rfl rfl)
theorem dX0_letterIt_38 : decode cX0_letterIt 38 = .ok (.castore, 1) := dk_85 (dk_at dksX0_letterIt_1 15 rfl rfl)
theorem dX0_letterIt_39 : decode cX0_letterIt 39 = .ok (.aload_n 0, 1) := dk_42 (dk_at dksX0_letterIt_1 16 rfl rfl)
theorem dX0_letterIt_40 : decode cX0_letterIt 40 = .ok (.dup, 1) := dk_89 (dk_at dksX0_letterIt_1 17 rfl rfl)
theorem dX0_letterIt_41 : decode cX0_letterIt 41 = .ok (.getfield 78, 3) := dk_180 0 78 (dk_at dksX0_letterIt_1 18 rfl rfl)
theorem dX0_letterIt_44 : decode cX0_letterIt 44 = .ok (.iconst 1, 1) := dk_4 (dk_at dksX0_letterIt_1 21 rfl rfl)
theorem dX0_letterIt_45 : decode cX0_letterIt 45 = .ok (.iadd, 1) := dk_96 (dk_at dksX0_letterIt_1 22 rfl rfl)
theorem dX0_letterIt_46 : decode cX0_letterIt 46 = .ok (.putfield 78, 3) := dk_181 0 78 (dk_at dksX0_letterIt_2 0 rfl rfl)
theorem dX0_letterIt_49 : decode cX0_letterIt 49 = .ok (.aload_n 0, 1) := dk_42 (dk_at dksX0_letterIt_2 3 rfl rfl)
theorem dX0_letterIt_50 : decode cX0_letterIt 50 = .ok (.getfield 78, 3) := dk_180 0 78 (dk_at dksX0_letterIt_2 4 rfl rfl)
theorem dX0_letterIt_53 : decode cX0_letterIt 53 = .ok (.ireturn, 1) := dk_172 (dk_at dksX0_letterIt_2 7 rfl rfl)
abbrev cX0_within : ByteArray := prog_1_method_3_code
def yX0_within : MethodName := ⟨RX0, "within", "(JJJ)V"⟩
def dkwX0_within_1 : List UInt8 := [167, 0, 4, 3, 16, 250, 184, 0, 9, 177]
abbrev dktX0_within_1 : List UInt8 := dkwX0_within_1 ++ []
def dkwX0_within_0 : List UInt8 := [30, 32, 148, 155, 0, 7, 4, 167, 0, 4, 3, 16, 252, 184, 0, 9, 30, 22, 4, 148, 157, 0, 7, 4]
abbrev dktX0_within_0 : List UInt8 := dkwX0_within_0 ++ dktX0_within_1
theorem dksX0_within_0 : cX0_within.data.toList.drop 0 = dktX0_within_0 := by decide +kernel
theorem dksX0_within_1 : cX0_within.data.toList.drop 24 = dktX0_within_1 := dk_seg dksX0_within_0 24 rfl rfl
theorem dX0_within_0 : decode cX0_within 0 = .ok (.lload_n 0, 1) := dk_30 (dk_at dksX0_within_0 0 rfl rfl)
theorem dX0_within_1 : decode cX0_within 1 = .ok (.lload_n 2, 1) := dk_32 (dk_at dksX0_within_0 1 rfl rfl)
theorem dX0_within_2 : decode cX0_within 2 = .ok (.lcmp, 1) := dk_148 (dk_at dksX0_within_0 2 rfl rfl)
theorem dX0_within_3 : decode cX0_within 3 = .ok (.ifCond .lt 7, 3) := dk_155 0 7 (dk_at dksX0_within_0 3 rfl rfl)
theorem dX0_within_6 : decode cX0_within 6 = .ok (.iconst 1, 1) := dk_4 (dk_at dksX0_within_0 6 rfl rfl)
theorem dX0_within_7 : decode cX0_within 7 = .ok (.goto 4, 3) := dk_167 0 4 (dk_at dksX0_within_0 7 rfl rfl)
theorem dX0_within_10 : decode cX0_within 10 = .ok (.iconst 0, 1) := dk_3 (dk_at dksX0_within_0 10 rfl rfl)
theorem dX0_within_11 : decode cX0_within 11 = .ok (.bipush (-4), 2) := dk_16 252 (dk_at dksX0_within_0 11 rfl rfl)
theorem dX0_within_13 : decode cX0_within 13 = .ok (.invokestatic 9, 3) := dk_184 0 9 (dk_at dksX0_within_0 13 rfl rfl)
theorem dX0_within_16 : decode cX0_within 16 = .ok (.lload_n 0, 1) := dk_30 (dk_at dksX0_within_0 16 rfl rfl)
theorem dX0_within_17 : decode cX0_within 17 = .ok (.lload 4, 2) := dk_22 4 (dk_at dksX0_within_0 17 rfl rfl)
theorem dX0_within_19 : decode cX0_within 19 = .ok (.lcmp, 1) := dk_148 (dk_at dksX0_within_0 19 rfl rfl)
theorem dX0_within_20 : decode cX0_within 20 = .ok (.ifCond .gt 7, 3) := dk_157 0 7 (dk_at dksX0_within_0 20 rfl rfl)
theorem dX0_within_23 : decode cX0_within 23 = .ok (.iconst 1, 1) := dk_4 (dk_at dksX0_within_0 23 rfl rfl)
theorem dX0_within_24 : decode cX0_within 24 = .ok (.goto 4, 3) := dk_167 0 4 (dk_at dksX0_within_1 0 rfl rfl)
theorem dX0_within_27 : decode cX0_within 27 = .ok (.iconst 0, 1) := dk_3 (dk_at dksX0_within_1 3 rfl rfl)
theorem dX0_within_28 : decode cX0_within 28 = .ok (.bipush (-6), 2) := dk_16 250 (dk_at dksX0_within_1 4 rfl rfl)
theorem dX0_within_30 : decode cX0_within 30 = .ok (.invokestatic 9, 3) := dk_184 0 9 (dk_at dksX0_within_1 6 rfl rfl)
theorem dX0_within_33 : decode cX0_within 33 = .ok (.return_, 1) := dk_177 (dk_at dksX0_within_1 9 rfl rfl)
abbrev cX0_must : ByteArray := prog_1_method_2_code
def yX0_must : MethodName := ⟨RX0, "must", "(ZI)V"⟩
def dkwX0_must_0 : List UInt8 := [26, 154, 0, 12, 187, 0, 1, 89, 27, 183, 0, 3, 191, 177]
abbrev dktX0_must_0 : List UInt8 := dkwX0_must_0 ++ []
theorem dksX0_must_0 : cX0_must.data.toList.drop 0 = dktX0_must_0 := by decide +kernel
theorem dX0_must_0 : decode cX0_must 0 = .ok (.iload_n 0, 1) := dk_26 (dk_at dksX0_must_0 0 rfl rfl)
theorem dX0_must_1 : decode cX0_must 1 = .ok (.ifCond .ne 12, 3) := dk_154 0 12 (dk_at dksX0_must_0 1 rfl rfl)
theorem dX0_must_4 : decode cX0_must 4 = .ok (.new 1, 3) := dk_187 0 1 (dk_at dksX0_must_0 4 rfl rfl)
theorem dX0_must_7 : decode cX0_must 7 = .ok (.dup, 1) := dk_89 (dk_at dksX0_must_0 7 rfl rfl)
theorem dX0_must_8 : decode cX0_must 8 = .ok (.iload_n 1, 1) := dk_27 (dk_at dksX0_must_0 8 rfl rfl)
theorem dX0_must_9 : decode cX0_must 9 = .ok (.invokespecial 3, 3) := dk_183 0 3 (dk_at dksX0_must_0 9 rfl rfl)
theorem dX0_must_12 : decode cX0_must 12 = .ok (.athrow, 1) := dk_191 (dk_at dksX0_must_0 12 rfl rfl)
theorem dX0_must_13 : decode cX0_must 13 = .ok (.return_, 1) := dk_177 (dk_at dksX0_must_0 13 rfl rfl)
abbrev cX0_readTown : ByteArray := prog_1_method_11_code
def yX0_readTown : MethodName := ⟨RX0, "readTown", "()I"⟩
def dkwX0_readTown_4 : List UInt8 := [191, 132, 4, 1, 167, 255, 214, 42, 180, 0, 51, 42, 180, 0, 55, 182, 0, 94, 29, 172]
abbrev dktX0_readTown_4 : List UInt8 := dkwX0_readTown_4 ++ []
def dkwX0_readTown_3 : List UInt8 := [182, 0, 98, 154, 0, 22, 187, 0, 102, 89, 17, 248, 48, 44, 21, 4, 50, 180, 0, 104, 100, 183, 0, 107]
abbrev dktX0_readTown_3 : List UInt8 := dkwX0_readTown_3 ++ dktX0_readTown_4
def dkwX0_readTown_2 : List UInt8 := [180, 0, 51, 182, 0, 94, 3, 54, 4, 21, 4, 29, 162, 0, 42, 44, 21, 4, 50, 42, 180, 0, 55]
abbrev dktX0_readTown_2 : List UInt8 := dkwX0_readTown_2 ++ dktX0_readTown_3
def dkwX0_readTown_1 : List UInt8 := [43, 182, 0, 84, 83, 132, 3, 1, 43, 180, 0, 88, 43, 180, 0, 91, 161, 255, 238, 42, 180, 0, 55, 42]
abbrev dktX0_readTown_1 : List UInt8 := dkwX0_readTown_1 ++ dktX0_readTown_2
def dkwX0_readTown_0 : List UInt8 := [187, 0, 73, 89, 42, 183, 0, 75, 76, 42, 3, 181, 0, 78, 16, 64, 189, 0, 82, 77, 3, 62, 44, 29]
abbrev dktX0_readTown_0 : List UInt8 := dkwX0_readTown_0 ++ dktX0_readTown_1
theorem dksX0_readTown_0 : cX0_readTown.data.toList.drop 0 = dktX0_readTown_0 := by decide +kernel
theorem dksX0_readTown_1 : cX0_readTown.data.toList.drop 24 = dktX0_readTown_1 := dk_seg dksX0_readTown_0 24 rfl rfl
theorem dksX0_readTown_2 : cX0_readTown.data.toList.drop 48 = dktX0_readTown_2 := dk_seg dksX0_readTown_1 24 rfl rfl
theorem dksX0_readTown_3 : cX0_readTown.data.toList.drop 71 = dktX0_readTown_3 := dk_seg dksX0_readTown_2 23 rfl rfl
theorem dksX0_readTown_4 : cX0_readTown.data.toList.drop 95 = dktX0_readTown_4 := dk_seg dksX0_readTown_3 24 rfl rfl
theorem dX0_readTown_0 : decode cX0_readTown 0 = .ok (.new 73, 3) := dk_187 0 73 (dk_at dksX0_readTown_0 0 rfl rfl)
theorem dX0_readTown_3 : decode cX0_readTown 3 = .ok (.dup, 1) := dk_89 (dk_at dksX0_readTown_0 3 rfl rfl)
theorem dX0_readTown_4 : decode cX0_readTown 4 = .ok (.aload_n 0, 1) := dk_42 (dk_at dksX0_readTown_0 4 rfl rfl)
theorem dX0_readTown_5 : decode cX0_readTown 5 = .ok (.invokespecial 75, 3) := dk_183 0 75 (dk_at dksX0_readTown_0 5 rfl rfl)
theorem dX0_readTown_8 : decode cX0_readTown 8 = .ok (.astore_n 1, 1) := dk_76 (dk_at dksX0_readTown_0 8 rfl rfl)
theorem dX0_readTown_9 : decode cX0_readTown 9 = .ok (.aload_n 0, 1) := dk_42 (dk_at dksX0_readTown_0 9 rfl rfl)
theorem dX0_readTown_10 : decode cX0_readTown 10 = .ok (.iconst 0, 1) := dk_3 (dk_at dksX0_readTown_0 10 rfl rfl)
theorem dX0_readTown_11 : decode cX0_readTown 11 = .ok (.putfield 78, 3) := dk_181 0 78 (dk_at dksX0_readTown_0 11 rfl rfl)
theorem dX0_readTown_14 : decode cX0_readTown 14 = .ok (.bipush 64, 2) := dk_16 64 (dk_at dksX0_readTown_0 14 rfl rfl)
theorem dX0_readTown_16 : decode cX0_readTown 16 = .ok (.anewarray 82, 3) := dk_189 0 82 (dk_at dksX0_readTown_0 16 rfl rfl)
theorem dX0_readTown_19 : decode cX0_readTown 19 = .ok (.astore_n 2, 1) := dk_77 (dk_at dksX0_readTown_0 19 rfl rfl)
theorem dX0_readTown_20 : decode cX0_readTown 20 = .ok (.iconst 0, 1) := dk_3 (dk_at dksX0_readTown_0 20 rfl rfl)
theorem dX0_readTown_21 : decode cX0_readTown 21 = .ok (.istore_n 3, 1) := dk_62 (dk_at dksX0_readTown_0 21 rfl rfl)
theorem dX0_readTown_22 : decode cX0_readTown 22 = .ok (.aload_n 2, 1) := dk_44 (dk_at dksX0_readTown_0 22 rfl rfl)
theorem dX0_readTown_23 : decode cX0_readTown 23 = .ok (.iload_n 3, 1) := dk_29 (dk_at dksX0_readTown_0 23 rfl rfl)
theorem dX0_readTown_24 : decode cX0_readTown 24 = .ok (.aload_n 1, 1) := dk_43 (dk_at dksX0_readTown_1 0 rfl rfl)
theorem dX0_readTown_25 : decode cX0_readTown 25 = .ok (.invokevirtual 84, 3) := dk_182 0 84 (dk_at dksX0_readTown_1 1 rfl rfl)
theorem dX0_readTown_28 : decode cX0_readTown 28 = .ok (.aastore, 1) := dk_83 (dk_at dksX0_readTown_1 4 rfl rfl)
theorem dX0_readTown_29 : decode cX0_readTown 29 = .ok (.iinc 3 1, 3) := dk_132 3 1 (dk_at dksX0_readTown_1 5 rfl rfl)
theorem dX0_readTown_32 : decode cX0_readTown 32 = .ok (.aload_n 1, 1) := dk_43 (dk_at dksX0_readTown_1 8 rfl rfl)
theorem dX0_readTown_33 : decode cX0_readTown 33 = .ok (.getfield 88, 3) := dk_180 0 88 (dk_at dksX0_readTown_1 9 rfl rfl)
theorem dX0_readTown_36 : decode cX0_readTown 36 = .ok (.aload_n 1, 1) := dk_43 (dk_at dksX0_readTown_1 12 rfl rfl)
theorem dX0_readTown_37 : decode cX0_readTown 37 = .ok (.getfield 91, 3) := dk_180 0 91 (dk_at dksX0_readTown_1 13 rfl rfl)
theorem dX0_readTown_40 : decode cX0_readTown 40 = .ok (.if_icmp .lt (-18), 3) := dk_161 255 238 (dk_at dksX0_readTown_1 16 rfl rfl)
theorem dX0_readTown_43 : decode cX0_readTown 43 = .ok (.aload_n 0, 1) := dk_42 (dk_at dksX0_readTown_1 19 rfl rfl)
theorem dX0_readTown_44 : decode cX0_readTown 44 = .ok (.getfield 55, 3) := dk_180 0 55 (dk_at dksX0_readTown_1 20 rfl rfl)
theorem dX0_readTown_47 : decode cX0_readTown 47 = .ok (.aload_n 0, 1) := dk_42 (dk_at dksX0_readTown_1 23 rfl rfl)
theorem dX0_readTown_48 : decode cX0_readTown 48 = .ok (.getfield 51, 3) := dk_180 0 51 (dk_at dksX0_readTown_2 0 rfl rfl)
theorem dX0_readTown_51 : decode cX0_readTown 51 = .ok (.invokevirtual 94, 3) := dk_182 0 94 (dk_at dksX0_readTown_2 3 rfl rfl)
theorem dX0_readTown_54 : decode cX0_readTown 54 = .ok (.iconst 0, 1) := dk_3 (dk_at dksX0_readTown_2 6 rfl rfl)
theorem dX0_readTown_55 : decode cX0_readTown 55 = .ok (.istore 4, 2) := dk_54 4 (dk_at dksX0_readTown_2 7 rfl rfl)
theorem dX0_readTown_57 : decode cX0_readTown 57 = .ok (.iload 4, 2) := dk_21 4 (dk_at dksX0_readTown_2 9 rfl rfl)
theorem dX0_readTown_59 : decode cX0_readTown 59 = .ok (.iload_n 3, 1) := dk_29 (dk_at dksX0_readTown_2 11 rfl rfl)
theorem dX0_readTown_60 : decode cX0_readTown 60 = .ok (.if_icmp .ge 42, 3) := dk_162 0 42 (dk_at dksX0_readTown_2 12 rfl rfl)
theorem dX0_readTown_63 : decode cX0_readTown 63 = .ok (.aload_n 2, 1) := dk_44 (dk_at dksX0_readTown_2 15 rfl rfl)
theorem dX0_readTown_64 : decode cX0_readTown 64 = .ok (.iload 4, 2) := dk_21 4 (dk_at dksX0_readTown_2 16 rfl rfl)
theorem dX0_readTown_66 : decode cX0_readTown 66 = .ok (.aaload, 1) := dk_50 (dk_at dksX0_readTown_2 18 rfl rfl)
theorem dX0_readTown_67 : decode cX0_readTown 67 = .ok (.aload_n 0, 1) := dk_42 (dk_at dksX0_readTown_2 19 rfl rfl)
theorem dX0_readTown_68 : decode cX0_readTown 68 = .ok (.getfield 55, 3) := dk_180 0 55 (dk_at dksX0_readTown_2 20 rfl rfl)
theorem dX0_readTown_71 : decode cX0_readTown 71 = .ok (.invokevirtual 98, 3) := dk_182 0 98 (dk_at dksX0_readTown_3 0 rfl rfl)
theorem dX0_readTown_74 : decode cX0_readTown 74 = .ok (.ifCond .ne 22, 3) := dk_154 0 22 (dk_at dksX0_readTown_3 3 rfl rfl)
theorem dX0_readTown_77 : decode cX0_readTown 77 = .ok (.new 102, 3) := dk_187 0 102 (dk_at dksX0_readTown_3 6 rfl rfl)
theorem dX0_readTown_80 : decode cX0_readTown 80 = .ok (.dup, 1) := dk_89 (dk_at dksX0_readTown_3 9 rfl rfl)
theorem dX0_readTown_81 : decode cX0_readTown 81 = .ok (.sipush (-2000), 3) := dk_17 248 48 (dk_at dksX0_readTown_3 10 rfl rfl)
theorem dX0_readTown_84 : decode cX0_readTown 84 = .ok (.aload_n 2, 1) := dk_44 (dk_at dksX0_readTown_3 13 rfl rfl)
theorem dX0_readTown_85 : decode cX0_readTown 85 = .ok (.iload 4, 2) := dk_21 4 (dk_at dksX0_readTown_3 14 rfl rfl)
theorem dX0_readTown_87 : decode cX0_readTown 87 = .ok (.aaload, 1) := dk_50 (dk_at dksX0_readTown_3 16 rfl rfl)
theorem dX0_readTown_88 : decode cX0_readTown 88 = .ok (.getfield 104, 3) := dk_180 0 104 (dk_at dksX0_readTown_3 17 rfl rfl)
theorem dX0_readTown_91 : decode cX0_readTown 91 = .ok (.isub, 1) := dk_100 (dk_at dksX0_readTown_3 20 rfl rfl)
theorem dX0_readTown_92 : decode cX0_readTown 92 = .ok (.invokespecial 107, 3) := dk_183 0 107 (dk_at dksX0_readTown_3 21 rfl rfl)
theorem dX0_readTown_95 : decode cX0_readTown 95 = .ok (.athrow, 1) := dk_191 (dk_at dksX0_readTown_4 0 rfl rfl)
theorem dX0_readTown_96 : decode cX0_readTown 96 = .ok (.iinc 4 1, 3) := dk_132 4 1 (dk_at dksX0_readTown_4 1 rfl rfl)
theorem dX0_readTown_99 : decode cX0_readTown 99 = .ok (.goto (-42), 3) := dk_167 255 214 (dk_at dksX0_readTown_4 4 rfl rfl)
theorem dX0_readTown_102 : decode cX0_readTown 102 = .ok (.aload_n 0, 1) := dk_42 (dk_at dksX0_readTown_4 7 rfl rfl)
theorem dX0_readTown_103 : decode cX0_readTown 103 = .ok (.getfield 51, 3) := dk_180 0 51 (dk_at dksX0_readTown_4 8 rfl rfl)
theorem dX0_readTown_106 : decode cX0_readTown 106 = .ok (.aload_n 0, 1) := dk_42 (dk_at dksX0_readTown_4 11 rfl rfl)
theorem dX0_readTown_107 : decode cX0_readTown 107 = .ok (.getfield 55, 3) := dk_180 0 55 (dk_at dksX0_readTown_4 12 rfl rfl)
theorem dX0_readTown_110 : decode cX0_readTown 110 = .ok (.invokevirtual 94, 3) := dk_182 0 94 (dk_at dksX0_readTown_4 15 rfl rfl)
theorem dX0_readTown_113 : decode cX0_readTown 113 = .ok (.iload_n 3, 1) := dk_29 (dk_at dksX0_readTown_4 18 rfl rfl)
theorem dX0_readTown_114 : decode cX0_readTown 114 = .ok (.ireturn, 1) := dk_172 (dk_at dksX0_readTown_4 19 rfl rfl)
abbrev cX0_in : ByteArray := prog_1_method_1_code
def yX0_in : MethodName := ⟨RX0, "in", "(JJJ)Z"⟩
def dkwX0_in_0 : List UInt8 := [30, 32, 148, 155, 0, 14, 30, 22, 4, 148, 157, 0, 7, 4, 167, 0, 4, 3, 172]
abbrev dktX0_in_0 : List UInt8 := dkwX0_in_0 ++ []
theorem dksX0_in_0 : cX0_in.data.toList.drop 0 = dktX0_in_0 := by decide +kernel
theorem dX0_in_0 : decode cX0_in 0 = .ok (.lload_n 0, 1) := dk_30 (dk_at dksX0_in_0 0 rfl rfl)
theorem dX0_in_1 : decode cX0_in 1 = .ok (.lload_n 2, 1) := dk_32 (dk_at dksX0_in_0 1 rfl rfl)
theorem dX0_in_2 : decode cX0_in 2 = .ok (.lcmp, 1) := dk_148 (dk_at dksX0_in_0 2 rfl rfl)
theorem dX0_in_3 : decode cX0_in 3 = .ok (.ifCond .lt 14, 3) := dk_155 0 14 (dk_at dksX0_in_0 3 rfl rfl)
theorem dX0_in_6 : decode cX0_in 6 = .ok (.lload_n 0, 1) := dk_30 (dk_at dksX0_in_0 6 rfl rfl)
theorem dX0_in_7 : decode cX0_in 7 = .ok (.lload 4, 2) := dk_22 4 (dk_at dksX0_in_0 7 rfl rfl)
theorem dX0_in_9 : decode cX0_in 9 = .ok (.lcmp, 1) := dk_148 (dk_at dksX0_in_0 9 rfl rfl)
theorem dX0_in_10 : decode cX0_in 10 = .ok (.ifCond .gt 7, 3) := dk_157 0 7 (dk_at dksX0_in_0 10 rfl rfl)
theorem dX0_in_13 : decode cX0_in 13 = .ok (.iconst 1, 1) := dk_4 (dk_at dksX0_in_0 13 rfl rfl)
theorem dX0_in_14 : decode cX0_in 14 = .ok (.goto 4, 3) := dk_167 0 4 (dk_at dksX0_in_0 14 rfl rfl)
theorem dX0_in_17 : decode cX0_in 17 = .ok (.iconst 0, 1) := dk_3 (dk_at dksX0_in_0 17 rfl rfl)
theorem dX0_in_18 : decode cX0_in 18 = .ok (.ireturn, 1) := dk_172 (dk_at dksX0_in_0 18 rfl rfl)
abbrev cX0_treeOf : ByteArray := prog_1_method_9_code
def yX0_treeOf : MethodName := ⟨RX0, "treeOf", "(IIII)LFallsBetween$Tree;"⟩
def dkwX0_treeOf_4 : List UInt8 := [187, 0, 37, 89, 27, 28, 29, 183, 0, 39, 176, 187, 0, 40, 89, 27, 28, 29, 183, 0, 42, 176]
abbrev dktX0_treeOf_4 : List UInt8 := dkwX0_treeOf_4 ++ []
def dkwX0_treeOf_3 : List UInt8 := [187, 0, 31, 89, 27, 28, 29, 183, 0, 33, 176, 187, 0, 34, 89, 27, 28, 29, 183, 0, 36, 176]
abbrev dktX0_treeOf_3 : List UInt8 := dkwX0_treeOf_3 ++ dktX0_treeOf_4
def dkwX0_treeOf_2 : List UInt8 := [187, 0, 23, 89, 27, 28, 29, 183, 0, 25, 176, 187, 0, 28, 89, 27, 28, 29, 183, 0, 30, 176]
abbrev dktX0_treeOf_2 : List UInt8 := dkwX0_treeOf_2 ++ dktX0_treeOf_3
def dkwX0_treeOf_1 : List UInt8 := [170, 0, 0, 0, 0, 0, 90, 0, 0, 0, 0, 0, 0, 0, 4, 0, 0, 0, 35, 0, 0, 0, 46, 0, 0, 0, 57, 0, 0, 0, 68, 0, 0, 0, 79]
abbrev dktX0_treeOf_1 : List UInt8 := dkwX0_treeOf_1 ++ dktX0_treeOf_2
def dkwX0_treeOf_0 : List UInt8 := [26]
abbrev dktX0_treeOf_0 : List UInt8 := dkwX0_treeOf_0 ++ dktX0_treeOf_1
theorem dksX0_treeOf_0 : cX0_treeOf.data.toList.drop 0 = dktX0_treeOf_0 := by decide +kernel
theorem dksX0_treeOf_1 : cX0_treeOf.data.toList.drop 1 = dktX0_treeOf_1 := dk_seg dksX0_treeOf_0 1 rfl rfl
theorem dksX0_treeOf_2 : cX0_treeOf.data.toList.drop 36 = dktX0_treeOf_2 := dk_seg dksX0_treeOf_1 35 rfl rfl
theorem dksX0_treeOf_3 : cX0_treeOf.data.toList.drop 58 = dktX0_treeOf_3 := dk_seg dksX0_treeOf_2 22 rfl rfl
theorem dksX0_treeOf_4 : cX0_treeOf.data.toList.drop 80 = dktX0_treeOf_4 := dk_seg dksX0_treeOf_3 22 rfl rfl
theorem dX0_treeOf_0 : decode cX0_treeOf 0 = .ok (.iload_n 0, 1) := dk_26 (dk_at dksX0_treeOf_0 0 rfl rfl)
theorem dX0_treeOf_1 : decode cX0_treeOf 1 = .ok (.tableswitch 90 0 4 #[35, 46, 57, 68, 79], 35) := by decide +kernel
theorem dX0_treeOf_36 : decode cX0_treeOf 36 = .ok (.new 23, 3) := dk_187 0 23 (dk_at dksX0_treeOf_2 0 rfl rfl)
theorem dX0_treeOf_39 : decode cX0_treeOf 39 = .ok (.dup, 1) := dk_89 (dk_at dksX0_treeOf_2 3 rfl rfl)
theorem dX0_treeOf_40 : decode cX0_treeOf 40 = .ok (.iload_n 1, 1) := dk_27 (dk_at dksX0_treeOf_2 4 rfl rfl)
theorem dX0_treeOf_41 : decode cX0_treeOf 41 = .ok (.iload_n 2, 1) := dk_28 (dk_at dksX0_treeOf_2 5 rfl rfl)
theorem dX0_treeOf_42 : decode cX0_treeOf 42 = .ok (.iload_n 3, 1) := dk_29 (dk_at dksX0_treeOf_2 6 rfl rfl)
theorem dX0_treeOf_43 : decode cX0_treeOf 43 = .ok (.invokespecial 25, 3) := dk_183 0 25 (dk_at dksX0_treeOf_2 7 rfl rfl)
theorem dX0_treeOf_46 : decode cX0_treeOf 46 = .ok (.areturn, 1) := dk_176 (dk_at dksX0_treeOf_2 10 rfl rfl)
theorem dX0_treeOf_47 : decode cX0_treeOf 47 = .ok (.new 28, 3) := dk_187 0 28 (dk_at dksX0_treeOf_2 11 rfl rfl)
theorem dX0_treeOf_50 : decode cX0_treeOf 50 = .ok (.dup, 1) := dk_89 (dk_at dksX0_treeOf_2 14 rfl rfl)
theorem dX0_treeOf_51 : decode cX0_treeOf 51 = .ok (.iload_n 1, 1) := dk_27 (dk_at dksX0_treeOf_2 15 rfl rfl)
theorem dX0_treeOf_52 : decode cX0_treeOf 52 = .ok (.iload_n 2, 1) := dk_28 (dk_at dksX0_treeOf_2 16 rfl rfl)
theorem dX0_treeOf_53 : decode cX0_treeOf 53 = .ok (.iload_n 3, 1) := dk_29 (dk_at dksX0_treeOf_2 17 rfl rfl)
theorem dX0_treeOf_54 : decode cX0_treeOf 54 = .ok (.invokespecial 30, 3) := dk_183 0 30 (dk_at dksX0_treeOf_2 18 rfl rfl)
theorem dX0_treeOf_57 : decode cX0_treeOf 57 = .ok (.areturn, 1) := dk_176 (dk_at dksX0_treeOf_2 21 rfl rfl)
theorem dX0_treeOf_58 : decode cX0_treeOf 58 = .ok (.new 31, 3) := dk_187 0 31 (dk_at dksX0_treeOf_3 0 rfl rfl)
theorem dX0_treeOf_61 : decode cX0_treeOf 61 = .ok (.dup, 1) := dk_89 (dk_at dksX0_treeOf_3 3 rfl rfl)
theorem dX0_treeOf_62 : decode cX0_treeOf 62 = .ok (.iload_n 1, 1) := dk_27 (dk_at dksX0_treeOf_3 4 rfl rfl)
theorem dX0_treeOf_63 : decode cX0_treeOf 63 = .ok (.iload_n 2, 1) := dk_28 (dk_at dksX0_treeOf_3 5 rfl rfl)
theorem dX0_treeOf_64 : decode cX0_treeOf 64 = .ok (.iload_n 3, 1) := dk_29 (dk_at dksX0_treeOf_3 6 rfl rfl)
theorem dX0_treeOf_65 : decode cX0_treeOf 65 = .ok (.invokespecial 33, 3) := dk_183 0 33 (dk_at dksX0_treeOf_3 7 rfl rfl)
theorem dX0_treeOf_68 : decode cX0_treeOf 68 = .ok (.areturn, 1) := dk_176 (dk_at dksX0_treeOf_3 10 rfl rfl)
theorem dX0_treeOf_69 : decode cX0_treeOf 69 = .ok (.new 34, 3) := dk_187 0 34 (dk_at dksX0_treeOf_3 11 rfl rfl)
theorem dX0_treeOf_72 : decode cX0_treeOf 72 = .ok (.dup, 1) := dk_89 (dk_at dksX0_treeOf_3 14 rfl rfl)
theorem dX0_treeOf_73 : decode cX0_treeOf 73 = .ok (.iload_n 1, 1) := dk_27 (dk_at dksX0_treeOf_3 15 rfl rfl)
theorem dX0_treeOf_74 : decode cX0_treeOf 74 = .ok (.iload_n 2, 1) := dk_28 (dk_at dksX0_treeOf_3 16 rfl rfl)
theorem dX0_treeOf_75 : decode cX0_treeOf 75 = .ok (.iload_n 3, 1) := dk_29 (dk_at dksX0_treeOf_3 17 rfl rfl)
theorem dX0_treeOf_76 : decode cX0_treeOf 76 = .ok (.invokespecial 36, 3) := dk_183 0 36 (dk_at dksX0_treeOf_3 18 rfl rfl)
theorem dX0_treeOf_79 : decode cX0_treeOf 79 = .ok (.areturn, 1) := dk_176 (dk_at dksX0_treeOf_3 21 rfl rfl)
theorem dX0_treeOf_80 : decode cX0_treeOf 80 = .ok (.new 37, 3) := dk_187 0 37 (dk_at dksX0_treeOf_4 0 rfl rfl)
theorem dX0_treeOf_83 : decode cX0_treeOf 83 = .ok (.dup, 1) := dk_89 (dk_at dksX0_treeOf_4 3 rfl rfl)
theorem dX0_treeOf_84 : decode cX0_treeOf 84 = .ok (.iload_n 1, 1) := dk_27 (dk_at dksX0_treeOf_4 4 rfl rfl)
theorem dX0_treeOf_85 : decode cX0_treeOf 85 = .ok (.iload_n 2, 1) := dk_28 (dk_at dksX0_treeOf_4 5 rfl rfl)
theorem dX0_treeOf_86 : decode cX0_treeOf 86 = .ok (.iload_n 3, 1) := dk_29 (dk_at dksX0_treeOf_4 6 rfl rfl)
theorem dX0_treeOf_87 : decode cX0_treeOf 87 = .ok (.invokespecial 39, 3) := dk_183 0 39 (dk_at dksX0_treeOf_4 7 rfl rfl)
theorem dX0_treeOf_90 : decode cX0_treeOf 90 = .ok (.areturn, 1) := dk_176 (dk_at dksX0_treeOf_4 10 rfl rfl)
theorem dX0_treeOf_91 : decode cX0_treeOf 91 = .ok (.new 40, 3) := dk_187 0 40 (dk_at dksX0_treeOf_4 11 rfl rfl)
theorem dX0_treeOf_94 : decode cX0_treeOf 94 = .ok (.dup, 1) := dk_89 (dk_at dksX0_treeOf_4 14 rfl rfl)
theorem dX0_treeOf_95 : decode cX0_treeOf 95 = .ok (.iload_n 1, 1) := dk_27 (dk_at dksX0_treeOf_4 15 rfl rfl)
theorem dX0_treeOf_96 : decode cX0_treeOf 96 = .ok (.iload_n 2, 1) := dk_28 (dk_at dksX0_treeOf_4 16 rfl rfl)
theorem dX0_treeOf_97 : decode cX0_treeOf 97 = .ok (.iload_n 3, 1) := dk_29 (dk_at dksX0_treeOf_4 17 rfl rfl)
theorem dX0_treeOf_98 : decode cX0_treeOf 98 = .ok (.invokespecial 42, 3) := dk_183 0 42 (dk_at dksX0_treeOf_4 18 rfl rfl)
theorem dX0_treeOf_101 : decode cX0_treeOf 101 = .ok (.areturn, 1) := dk_176 (dk_at dksX0_treeOf_4 21 rfl rfl)
abbrev cX0_squareTold : ByteArray := prog_1_method_32_code
def yX0_squareTold : MethodName := ⟨RX0, "squareTold", "(II)I"⟩
def dkwX0_squareTold_4 : List UInt8 := [153, 0, 7, 4, 167, 0, 4, 3, 172, 42, 180, 0, 51, 27, 182, 0, 108, 172]
abbrev dktX0_squareTold_4 : List UInt8 := dkwX0_squareTold_4 ++ []
def dkwX0_squareTold_3 : List UInt8 := [180, 0, 166, 27, 51, 153, 0, 7, 4, 167, 0, 4, 3, 172, 42, 180, 0, 51, 27, 182, 0, 170]
abbrev dktX0_squareTold_3 : List UInt8 := dkwX0_squareTold_3 ++ dktX0_squareTold_4
def dkwX0_squareTold_2 : List UInt8 := [42, 180, 0, 51, 180, 0, 141, 27, 46, 172, 42, 180, 0, 51, 180, 0, 229, 27, 46, 172, 42, 180, 0, 51]
abbrev dktX0_squareTold_2 : List UInt8 := dkwX0_squareTold_2 ++ dktX0_squareTold_3
def dkwX0_squareTold_1 : List UInt8 := [170, 0, 0, 0, 84, 0, 0, 0, 0, 0, 0, 0, 3, 0, 0, 0, 29, 0, 0, 0, 39, 0, 0, 0, 49, 0, 0, 0, 67]
abbrev dktX0_squareTold_1 : List UInt8 := dkwX0_squareTold_1 ++ dktX0_squareTold_2
def dkwX0_squareTold_0 : List UInt8 := [27, 184, 0, 224, 28, 133, 9, 20, 0, 227, 184, 0, 13, 16, 254, 184, 0, 9, 28]
abbrev dktX0_squareTold_0 : List UInt8 := dkwX0_squareTold_0 ++ dktX0_squareTold_1
theorem dksX0_squareTold_0 : cX0_squareTold.data.toList.drop 0 = dktX0_squareTold_0 := by decide +kernel
theorem dksX0_squareTold_1 : cX0_squareTold.data.toList.drop 19 = dktX0_squareTold_1 := dk_seg dksX0_squareTold_0 19 rfl rfl
theorem dksX0_squareTold_2 : cX0_squareTold.data.toList.drop 48 = dktX0_squareTold_2 := dk_seg dksX0_squareTold_1 29 rfl rfl
theorem dksX0_squareTold_3 : cX0_squareTold.data.toList.drop 72 = dktX0_squareTold_3 := dk_seg dksX0_squareTold_2 24 rfl rfl
theorem dksX0_squareTold_4 : cX0_squareTold.data.toList.drop 94 = dktX0_squareTold_4 := dk_seg dksX0_squareTold_3 22 rfl rfl
theorem dX0_squareTold_0 : decode cX0_squareTold 0 = .ok (.iload_n 1, 1) := dk_27 (dk_at dksX0_squareTold_0 0 rfl rfl)
theorem dX0_squareTold_1 : decode cX0_squareTold 1 = .ok (.invokestatic 224, 3) := dk_184 0 224 (dk_at dksX0_squareTold_0 1 rfl rfl)
theorem dX0_squareTold_4 : decode cX0_squareTold 4 = .ok (.iload_n 2, 1) := dk_28 (dk_at dksX0_squareTold_0 4 rfl rfl)
theorem dX0_squareTold_5 : decode cX0_squareTold 5 = .ok (.i2l, 1) := dk_133 (dk_at dksX0_squareTold_0 5 rfl rfl)
theorem dX0_squareTold_6 : decode cX0_squareTold 6 = .ok (.lconst 0, 1) := dk_9 (dk_at dksX0_squareTold_0 6 rfl rfl)
theorem dX0_squareTold_7 : decode cX0_squareTold 7 = .ok (.ldc2_w 227, 3) := dk_20 0 227 (dk_at dksX0_squareTold_0 7 rfl rfl)
theorem dX0_squareTold_10 : decode cX0_squareTold 10 = .ok (.invokestatic 13, 3) := dk_184 0 13 (dk_at dksX0_squareTold_0 10 rfl rfl)
theorem dX0_squareTold_13 : decode cX0_squareTold 13 = .ok (.bipush (-2), 2) := dk_16 254 (dk_at dksX0_squareTold_0 13 rfl rfl)
theorem dX0_squareTold_15 : decode cX0_squareTold 15 = .ok (.invokestatic 9, 3) := dk_184 0 9 (dk_at dksX0_squareTold_0 15 rfl rfl)
theorem dX0_squareTold_18 : decode cX0_squareTold 18 = .ok (.iload_n 2, 1) := dk_28 (dk_at dksX0_squareTold_0 18 rfl rfl)
theorem dX0_squareTold_19 : decode cX0_squareTold 19 = .ok (.tableswitch 84 0 3 #[29, 39, 49, 67], 29) := by decide +kernel
theorem dX0_squareTold_48 : decode cX0_squareTold 48 = .ok (.aload_n 0, 1) := dk_42 (dk_at dksX0_squareTold_2 0 rfl rfl)
theorem dX0_squareTold_49 : decode cX0_squareTold 49 = .ok (.getfield 51, 3) := dk_180 0 51 (dk_at dksX0_squareTold_2 1 rfl rfl)
theorem dX0_squareTold_52 : decode cX0_squareTold 52 = .ok (.getfield 141, 3) := dk_180 0 141 (dk_at dksX0_squareTold_2 4 rfl rfl)
theorem dX0_squareTold_55 : decode cX0_squareTold 55 = .ok (.iload_n 1, 1) := dk_27 (dk_at dksX0_squareTold_2 7 rfl rfl)
theorem dX0_squareTold_56 : decode cX0_squareTold 56 = .ok (.iaload, 1) := dk_46 (dk_at dksX0_squareTold_2 8 rfl rfl)
theorem dX0_squareTold_57 : decode cX0_squareTold 57 = .ok (.ireturn, 1) := dk_172 (dk_at dksX0_squareTold_2 9 rfl rfl)
theorem dX0_squareTold_58 : decode cX0_squareTold 58 = .ok (.aload_n 0, 1) := dk_42 (dk_at dksX0_squareTold_2 10 rfl rfl)
theorem dX0_squareTold_59 : decode cX0_squareTold 59 = .ok (.getfield 51, 3) := dk_180 0 51 (dk_at dksX0_squareTold_2 11 rfl rfl)
theorem dX0_squareTold_62 : decode cX0_squareTold 62 = .ok (.getfield 229, 3) := dk_180 0 229 (dk_at dksX0_squareTold_2 14 rfl rfl)
theorem dX0_squareTold_65 : decode cX0_squareTold 65 = .ok (.iload_n 1, 1) := dk_27 (dk_at dksX0_squareTold_2 17 rfl rfl)
theorem dX0_squareTold_66 : decode cX0_squareTold 66 = .ok (.iaload, 1) := dk_46 (dk_at dksX0_squareTold_2 18 rfl rfl)
theorem dX0_squareTold_67 : decode cX0_squareTold 67 = .ok (.ireturn, 1) := dk_172 (dk_at dksX0_squareTold_2 19 rfl rfl)
theorem dX0_squareTold_68 : decode cX0_squareTold 68 = .ok (.aload_n 0, 1) := dk_42 (dk_at dksX0_squareTold_2 20 rfl rfl)
theorem dX0_squareTold_69 : decode cX0_squareTold 69 = .ok (.getfield 51, 3) := dk_180 0 51 (dk_at dksX0_squareTold_2 21 rfl rfl)
theorem dX0_squareTold_72 : decode cX0_squareTold 72 = .ok (.getfield 166, 3) := dk_180 0 166 (dk_at dksX0_squareTold_3 0 rfl rfl)
theorem dX0_squareTold_75 : decode cX0_squareTold 75 = .ok (.iload_n 1, 1) := dk_27 (dk_at dksX0_squareTold_3 3 rfl rfl)
theorem dX0_squareTold_76 : decode cX0_squareTold 76 = .ok (.baload, 1) := dk_51 (dk_at dksX0_squareTold_3 4 rfl rfl)
theorem dX0_squareTold_77 : decode cX0_squareTold 77 = .ok (.ifCond .eq 7, 3) := dk_153 0 7 (dk_at dksX0_squareTold_3 5 rfl rfl)
theorem dX0_squareTold_80 : decode cX0_squareTold 80 = .ok (.iconst 1, 1) := dk_4 (dk_at dksX0_squareTold_3 8 rfl rfl)
theorem dX0_squareTold_81 : decode cX0_squareTold 81 = .ok (.goto 4, 3) := dk_167 0 4 (dk_at dksX0_squareTold_3 9 rfl rfl)
theorem dX0_squareTold_84 : decode cX0_squareTold 84 = .ok (.iconst 0, 1) := dk_3 (dk_at dksX0_squareTold_3 12 rfl rfl)
theorem dX0_squareTold_85 : decode cX0_squareTold 85 = .ok (.ireturn, 1) := dk_172 (dk_at dksX0_squareTold_3 13 rfl rfl)
theorem dX0_squareTold_86 : decode cX0_squareTold 86 = .ok (.aload_n 0, 1) := dk_42 (dk_at dksX0_squareTold_3 14 rfl rfl)
theorem dX0_squareTold_87 : decode cX0_squareTold 87 = .ok (.getfield 51, 3) := dk_180 0 51 (dk_at dksX0_squareTold_3 15 rfl rfl)
theorem dX0_squareTold_90 : decode cX0_squareTold 90 = .ok (.iload_n 1, 1) := dk_27 (dk_at dksX0_squareTold_3 18 rfl rfl)
theorem dX0_squareTold_91 : decode cX0_squareTold 91 = .ok (.invokevirtual 170, 3) := dk_182 0 170 (dk_at dksX0_squareTold_3 19 rfl rfl)
theorem dX0_squareTold_94 : decode cX0_squareTold 94 = .ok (.ifCond .eq 7, 3) := dk_153 0 7 (dk_at dksX0_squareTold_4 0 rfl rfl)
theorem dX0_squareTold_97 : decode cX0_squareTold 97 = .ok (.iconst 1, 1) := dk_4 (dk_at dksX0_squareTold_4 3 rfl rfl)
theorem dX0_squareTold_98 : decode cX0_squareTold 98 = .ok (.goto 4, 3) := dk_167 0 4 (dk_at dksX0_squareTold_4 4 rfl rfl)
theorem dX0_squareTold_101 : decode cX0_squareTold 101 = .ok (.iconst 0, 1) := dk_3 (dk_at dksX0_squareTold_4 7 rfl rfl)
theorem dX0_squareTold_102 : decode cX0_squareTold 102 = .ok (.ireturn, 1) := dk_172 (dk_at dksX0_squareTold_4 8 rfl rfl)
theorem dX0_squareTold_103 : decode cX0_squareTold 103 = .ok (.aload_n 0, 1) := dk_42 (dk_at dksX0_squareTold_4 9 rfl rfl)
theorem dX0_squareTold_104 : decode cX0_squareTold 104 = .ok (.getfield 51, 3) := dk_180 0 51 (dk_at dksX0_squareTold_4 10 rfl rfl)
theorem dX0_squareTold_107 : decode cX0_squareTold 107 = .ok (.iload_n 1, 1) := dk_27 (dk_at dksX0_squareTold_4 13 rfl rfl)
theorem dX0_squareTold_108 : decode cX0_squareTold 108 = .ok (.invokevirtual 108, 3) := dk_182 0 108 (dk_at dksX0_squareTold_4 14 rfl rfl)
theorem dX0_squareTold_111 : decode cX0_squareTold 111 = .ok (.ireturn, 1) := dk_172 (dk_at dksX0_squareTold_4 17 rfl rfl)
abbrev cX0_mustBeSquare : ByteArray := prog_1_method_27_code
def yX0_mustBeSquare : MethodName := ⟨RX0, "mustBeSquare", "(I)V"⟩
def dkwX0_mustBeSquare_0 : List UInt8 := [26, 16, 36, 184, 0, 214, 177]
abbrev dktX0_mustBeSquare_0 : List UInt8 := dkwX0_mustBeSquare_0 ++ []
theorem dksX0_mustBeSquare_0 : cX0_mustBeSquare.data.toList.drop 0 = dktX0_mustBeSquare_0 := by decide +kernel
theorem dX0_mustBeSquare_0 : decode cX0_mustBeSquare 0 = .ok (.iload_n 0, 1) := dk_26 (dk_at dksX0_mustBeSquare_0 0 rfl rfl)
theorem dX0_mustBeSquare_1 : decode cX0_mustBeSquare 1 = .ok (.bipush 36, 2) := dk_16 36 (dk_at dksX0_mustBeSquare_0 1 rfl rfl)
theorem dX0_mustBeSquare_3 : decode cX0_mustBeSquare 3 = .ok (.invokestatic 214, 3) := dk_184 0 214 (dk_at dksX0_mustBeSquare_0 3 rfl rfl)
theorem dX0_mustBeSquare_6 : decode cX0_mustBeSquare 6 = .ok (.return_, 1) := dk_177 (dk_at dksX0_mustBeSquare_0 6 rfl rfl)
abbrev cX0_mustBe : ByteArray := prog_1_method_4_code
def yX0_mustBe : MethodName := ⟨RX0, "mustBe", "(II)V"⟩
def dkwX0_mustBe_0 : List UInt8 := [26, 133, 9, 27, 4, 100, 133, 184, 0, 13, 2, 184, 0, 9, 177]
abbrev dktX0_mustBe_0 : List UInt8 := dkwX0_mustBe_0 ++ []
theorem dksX0_mustBe_0 : cX0_mustBe.data.toList.drop 0 = dktX0_mustBe_0 := by decide +kernel
theorem dX0_mustBe_0 : decode cX0_mustBe 0 = .ok (.iload_n 0, 1) := dk_26 (dk_at dksX0_mustBe_0 0 rfl rfl)
theorem dX0_mustBe_1 : decode cX0_mustBe 1 = .ok (.i2l, 1) := dk_133 (dk_at dksX0_mustBe_0 1 rfl rfl)
theorem dX0_mustBe_2 : decode cX0_mustBe 2 = .ok (.lconst 0, 1) := dk_9 (dk_at dksX0_mustBe_0 2 rfl rfl)
theorem dX0_mustBe_3 : decode cX0_mustBe 3 = .ok (.iload_n 1, 1) := dk_27 (dk_at dksX0_mustBe_0 3 rfl rfl)
theorem dX0_mustBe_4 : decode cX0_mustBe 4 = .ok (.iconst 1, 1) := dk_4 (dk_at dksX0_mustBe_0 4 rfl rfl)
theorem dX0_mustBe_5 : decode cX0_mustBe 5 = .ok (.isub, 1) := dk_100 (dk_at dksX0_mustBe_0 5 rfl rfl)
theorem dX0_mustBe_6 : decode cX0_mustBe 6 = .ok (.i2l, 1) := dk_133 (dk_at dksX0_mustBe_0 6 rfl rfl)
theorem dX0_mustBe_7 : decode cX0_mustBe 7 = .ok (.invokestatic 13, 3) := dk_184 0 13 (dk_at dksX0_mustBe_0 7 rfl rfl)
theorem dX0_mustBe_10 : decode cX0_mustBe 10 = .ok (.iconst (-1), 1) := dk_2 (dk_at dksX0_mustBe_0 10 rfl rfl)
theorem dX0_mustBe_11 : decode cX0_mustBe 11 = .ok (.invokestatic 9, 3) := dk_184 0 9 (dk_at dksX0_mustBe_0 11 rfl rfl)
theorem dX0_mustBe_14 : decode cX0_mustBe 14 = .ok (.return_, 1) := dk_177 (dk_at dksX0_mustBe_0 14 rfl rfl)
abbrev cX0_beside : ByteArray := prog_1_method_7_code
def yX0_beside : MethodName := ⟨RX0, "beside", "(II)I"⟩
def dkwX0_beside_3 : List UInt8 := [153, 0, 12, 16, 6, 28, 104, 29, 96, 167, 0, 5, 16, 247, 172]
abbrev dktX0_beside_3 : List UInt8 := dkwX0_beside_3 ++ []
def dkwX0_beside_2 : List UInt8 := [62, 28, 133, 9, 20, 0, 17, 184, 0, 13, 153, 0, 24, 29, 133, 9, 20, 0, 17, 184, 0, 13]
abbrev dktX0_beside_2 : List UInt8 := dkwX0_beside_2 ++ dktX0_beside_3
def dkwX0_beside_1 : List UInt8 := [26, 16, 6, 112, 27, 4, 160, 0, 7, 4, 167, 0, 13, 27, 6, 160, 0, 7, 2, 167, 0, 4, 3, 96]
abbrev dktX0_beside_1 : List UInt8 := dkwX0_beside_1 ++ dktX0_beside_2
def dkwX0_beside_0 : List UInt8 := [26, 16, 6, 108, 27, 5, 160, 0, 7, 4, 167, 0, 12, 27, 154, 0, 7, 2, 167, 0, 4, 3, 96, 61]
abbrev dktX0_beside_0 : List UInt8 := dkwX0_beside_0 ++ dktX0_beside_1
theorem dksX0_beside_0 : cX0_beside.data.toList.drop 0 = dktX0_beside_0 := by decide +kernel
theorem dksX0_beside_1 : cX0_beside.data.toList.drop 24 = dktX0_beside_1 := dk_seg dksX0_beside_0 24 rfl rfl
theorem dksX0_beside_2 : cX0_beside.data.toList.drop 48 = dktX0_beside_2 := dk_seg dksX0_beside_1 24 rfl rfl
theorem dksX0_beside_3 : cX0_beside.data.toList.drop 70 = dktX0_beside_3 := dk_seg dksX0_beside_2 22 rfl rfl
theorem dX0_beside_0 : decode cX0_beside 0 = .ok (.iload_n 0, 1) := dk_26 (dk_at dksX0_beside_0 0 rfl rfl)
theorem dX0_beside_1 : decode cX0_beside 1 = .ok (.bipush 6, 2) := dk_16 6 (dk_at dksX0_beside_0 1 rfl rfl)
theorem dX0_beside_3 : decode cX0_beside 3 = .ok (.idiv, 1) := dk_108 (dk_at dksX0_beside_0 3 rfl rfl)
theorem dX0_beside_4 : decode cX0_beside 4 = .ok (.iload_n 1, 1) := dk_27 (dk_at dksX0_beside_0 4 rfl rfl)
theorem dX0_beside_5 : decode cX0_beside 5 = .ok (.iconst 2, 1) := dk_5 (dk_at dksX0_beside_0 5 rfl rfl)
theorem dX0_beside_6 : decode cX0_beside 6 = .ok (.if_icmp .ne 7, 3) := dk_160 0 7 (dk_at dksX0_beside_0 6 rfl rfl)
theorem dX0_beside_9 : decode cX0_beside 9 = .ok (.iconst 1, 1) := dk_4 (dk_at dksX0_beside_0 9 rfl rfl)
theorem dX0_beside_10 : decode cX0_beside 10 = .ok (.goto 12, 3) := dk_167 0 12 (dk_at dksX0_beside_0 10 rfl rfl)
theorem dX0_beside_13 : decode cX0_beside 13 = .ok (.iload_n 1, 1) := dk_27 (dk_at dksX0_beside_0 13 rfl rfl)
theorem dX0_beside_14 : decode cX0_beside 14 = .ok (.ifCond .ne 7, 3) := dk_154 0 7 (dk_at dksX0_beside_0 14 rfl rfl)
theorem dX0_beside_17 : decode cX0_beside 17 = .ok (.iconst (-1), 1) := dk_2 (dk_at dksX0_beside_0 17 rfl rfl)
theorem dX0_beside_18 : decode cX0_beside 18 = .ok (.goto 4, 3) := dk_167 0 4 (dk_at dksX0_beside_0 18 rfl rfl)
theorem dX0_beside_21 : decode cX0_beside 21 = .ok (.iconst 0, 1) := dk_3 (dk_at dksX0_beside_0 21 rfl rfl)
theorem dX0_beside_22 : decode cX0_beside 22 = .ok (.iadd, 1) := dk_96 (dk_at dksX0_beside_0 22 rfl rfl)
theorem dX0_beside_23 : decode cX0_beside 23 = .ok (.istore_n 2, 1) := dk_61 (dk_at dksX0_beside_0 23 rfl rfl)
theorem dX0_beside_24 : decode cX0_beside 24 = .ok (.iload_n 0, 1) := dk_26 (dk_at dksX0_beside_1 0 rfl rfl)
theorem dX0_beside_25 : decode cX0_beside 25 = .ok (.bipush 6, 2) := dk_16 6 (dk_at dksX0_beside_1 1 rfl rfl)
theorem dX0_beside_27 : decode cX0_beside 27 = .ok (.irem, 1) := dk_112 (dk_at dksX0_beside_1 3 rfl rfl)
theorem dX0_beside_28 : decode cX0_beside 28 = .ok (.iload_n 1, 1) := dk_27 (dk_at dksX0_beside_1 4 rfl rfl)
theorem dX0_beside_29 : decode cX0_beside 29 = .ok (.iconst 1, 1) := dk_4 (dk_at dksX0_beside_1 5 rfl rfl)
theorem dX0_beside_30 : decode cX0_beside 30 = .ok (.if_icmp .ne 7, 3) := dk_160 0 7 (dk_at dksX0_beside_1 6 rfl rfl)
theorem dX0_beside_33 : decode cX0_beside 33 = .ok (.iconst 1, 1) := dk_4 (dk_at dksX0_beside_1 9 rfl rfl)
theorem dX0_beside_34 : decode cX0_beside 34 = .ok (.goto 13, 3) := dk_167 0 13 (dk_at dksX0_beside_1 10 rfl rfl)
theorem dX0_beside_37 : decode cX0_beside 37 = .ok (.iload_n 1, 1) := dk_27 (dk_at dksX0_beside_1 13 rfl rfl)
theorem dX0_beside_38 : decode cX0_beside 38 = .ok (.iconst 3, 1) := dk_6 (dk_at dksX0_beside_1 14 rfl rfl)
theorem dX0_beside_39 : decode cX0_beside 39 = .ok (.if_icmp .ne 7, 3) := dk_160 0 7 (dk_at dksX0_beside_1 15 rfl rfl)
theorem dX0_beside_42 : decode cX0_beside 42 = .ok (.iconst (-1), 1) := dk_2 (dk_at dksX0_beside_1 18 rfl rfl)
theorem dX0_beside_43 : decode cX0_beside 43 = .ok (.goto 4, 3) := dk_167 0 4 (dk_at dksX0_beside_1 19 rfl rfl)
theorem dX0_beside_46 : decode cX0_beside 46 = .ok (.iconst 0, 1) := dk_3 (dk_at dksX0_beside_1 22 rfl rfl)
theorem dX0_beside_47 : decode cX0_beside 47 = .ok (.iadd, 1) := dk_96 (dk_at dksX0_beside_1 23 rfl rfl)
theorem dX0_beside_48 : decode cX0_beside 48 = .ok (.istore_n 3, 1) := dk_62 (dk_at dksX0_beside_2 0 rfl rfl)
theorem dX0_beside_49 : decode cX0_beside 49 = .ok (.iload_n 2, 1) := dk_28 (dk_at dksX0_beside_2 1 rfl rfl)
theorem dX0_beside_50 : decode cX0_beside 50 = .ok (.i2l, 1) := dk_133 (dk_at dksX0_beside_2 2 rfl rfl)
theorem dX0_beside_51 : decode cX0_beside 51 = .ok (.lconst 0, 1) := dk_9 (dk_at dksX0_beside_2 3 rfl rfl)
theorem dX0_beside_52 : decode cX0_beside 52 = .ok (.ldc2_w 17, 3) := dk_20 0 17 (dk_at dksX0_beside_2 4 rfl rfl)
theorem dX0_beside_55 : decode cX0_beside 55 = .ok (.invokestatic 13, 3) := dk_184 0 13 (dk_at dksX0_beside_2 7 rfl rfl)
theorem dX0_beside_58 : decode cX0_beside 58 = .ok (.ifCond .eq 24, 3) := dk_153 0 24 (dk_at dksX0_beside_2 10 rfl rfl)
theorem dX0_beside_61 : decode cX0_beside 61 = .ok (.iload_n 3, 1) := dk_29 (dk_at dksX0_beside_2 13 rfl rfl)
theorem dX0_beside_62 : decode cX0_beside 62 = .ok (.i2l, 1) := dk_133 (dk_at dksX0_beside_2 14 rfl rfl)
theorem dX0_beside_63 : decode cX0_beside 63 = .ok (.lconst 0, 1) := dk_9 (dk_at dksX0_beside_2 15 rfl rfl)
theorem dX0_beside_64 : decode cX0_beside 64 = .ok (.ldc2_w 17, 3) := dk_20 0 17 (dk_at dksX0_beside_2 16 rfl rfl)
theorem dX0_beside_67 : decode cX0_beside 67 = .ok (.invokestatic 13, 3) := dk_184 0 13 (dk_at dksX0_beside_2 19 rfl rfl)
theorem dX0_beside_70 : decode cX0_beside 70 = .ok (.ifCond .eq 12, 3) := dk_153 0 12 (dk_at dksX0_beside_3 0 rfl rfl)
theorem dX0_beside_73 : decode cX0_beside 73 = .ok (.bipush 6, 2) := dk_16 6 (dk_at dksX0_beside_3 3 rfl rfl)
theorem dX0_beside_75 : decode cX0_beside 75 = .ok (.iload_n 2, 1) := dk_28 (dk_at dksX0_beside_3 5 rfl rfl)
theorem dX0_beside_76 : decode cX0_beside 76 = .ok (.imul, 1) := dk_104 (dk_at dksX0_beside_3 6 rfl rfl)
theorem dX0_beside_77 : decode cX0_beside 77 = .ok (.iload_n 3, 1) := dk_29 (dk_at dksX0_beside_3 7 rfl rfl)
theorem dX0_beside_78 : decode cX0_beside 78 = .ok (.iadd, 1) := dk_96 (dk_at dksX0_beside_3 8 rfl rfl)
theorem dX0_beside_79 : decode cX0_beside 79 = .ok (.goto 5, 3) := dk_167 0 5 (dk_at dksX0_beside_3 9 rfl rfl)
theorem dX0_beside_82 : decode cX0_beside 82 = .ok (.bipush (-9), 2) := dk_16 247 (dk_at dksX0_beside_3 12 rfl rfl)
theorem dX0_beside_84 : decode cX0_beside 84 = .ok (.ireturn, 1) := dk_172 (dk_at dksX0_beside_3 14 rfl rfl)
abbrev cX0_treeTold : ByteArray := prog_1_method_33_code
def yX0_treeTold : MethodName := ⟨RX0, "treeTold", "(II)I"⟩
def dkwX0_treeTold_2 : List UInt8 := [180, 0, 240, 167, 0, 19, 28, 5, 160, 0, 10, 45, 180, 0, 243, 167, 0, 7, 45, 180, 0, 246, 172]
abbrev dktX0_treeTold_2 : List UInt8 := dkwX0_treeTold_2 ++ []
def dkwX0_treeTold_1 : List UInt8 := [180, 0, 116, 27, 50, 78, 28, 154, 0, 10, 45, 182, 0, 237, 167, 0, 31, 28, 4, 160, 0, 10, 45]
abbrev dktX0_treeTold_1 : List UInt8 := dkwX0_treeTold_1 ++ dktX0_treeTold_2
def dkwX0_treeTold_0 : List UInt8 := [42, 27, 182, 0, 232, 28, 133, 9, 20, 0, 235, 184, 0, 13, 16, 254, 184, 0, 9, 42, 180, 0, 51]
abbrev dktX0_treeTold_0 : List UInt8 := dkwX0_treeTold_0 ++ dktX0_treeTold_1
theorem dksX0_treeTold_0 : cX0_treeTold.data.toList.drop 0 = dktX0_treeTold_0 := by decide +kernel
theorem dksX0_treeTold_1 : cX0_treeTold.data.toList.drop 23 = dktX0_treeTold_1 := dk_seg dksX0_treeTold_0 23 rfl rfl
theorem dksX0_treeTold_2 : cX0_treeTold.data.toList.drop 46 = dktX0_treeTold_2 := dk_seg dksX0_treeTold_1 23 rfl rfl
theorem dX0_treeTold_0 : decode cX0_treeTold 0 = .ok (.aload_n 0, 1) := dk_42 (dk_at dksX0_treeTold_0 0 rfl rfl)
theorem dX0_treeTold_1 : decode cX0_treeTold 1 = .ok (.iload_n 1, 1) := dk_27 (dk_at dksX0_treeTold_0 1 rfl rfl)
theorem dX0_treeTold_2 : decode cX0_treeTold 2 = .ok (.invokevirtual 232, 3) := dk_182 0 232 (dk_at dksX0_treeTold_0 2 rfl rfl)
theorem dX0_treeTold_5 : decode cX0_treeTold 5 = .ok (.iload_n 2, 1) := dk_28 (dk_at dksX0_treeTold_0 5 rfl rfl)
theorem dX0_treeTold_6 : decode cX0_treeTold 6 = .ok (.i2l, 1) := dk_133 (dk_at dksX0_treeTold_0 6 rfl rfl)
theorem dX0_treeTold_7 : decode cX0_treeTold 7 = .ok (.lconst 0, 1) := dk_9 (dk_at dksX0_treeTold_0 7 rfl rfl)
theorem dX0_treeTold_8 : decode cX0_treeTold 8 = .ok (.ldc2_w 235, 3) := dk_20 0 235 (dk_at dksX0_treeTold_0 8 rfl rfl)
theorem dX0_treeTold_11 : decode cX0_treeTold 11 = .ok (.invokestatic 13, 3) := dk_184 0 13 (dk_at dksX0_treeTold_0 11 rfl rfl)
theorem dX0_treeTold_14 : decode cX0_treeTold 14 = .ok (.bipush (-2), 2) := dk_16 254 (dk_at dksX0_treeTold_0 14 rfl rfl)
theorem dX0_treeTold_16 : decode cX0_treeTold 16 = .ok (.invokestatic 9, 3) := dk_184 0 9 (dk_at dksX0_treeTold_0 16 rfl rfl)
theorem dX0_treeTold_19 : decode cX0_treeTold 19 = .ok (.aload_n 0, 1) := dk_42 (dk_at dksX0_treeTold_0 19 rfl rfl)
theorem dX0_treeTold_20 : decode cX0_treeTold 20 = .ok (.getfield 51, 3) := dk_180 0 51 (dk_at dksX0_treeTold_0 20 rfl rfl)
theorem dX0_treeTold_23 : decode cX0_treeTold 23 = .ok (.getfield 116, 3) := dk_180 0 116 (dk_at dksX0_treeTold_1 0 rfl rfl)
theorem dX0_treeTold_26 : decode cX0_treeTold 26 = .ok (.iload_n 1, 1) := dk_27 (dk_at dksX0_treeTold_1 3 rfl rfl)
theorem dX0_treeTold_27 : decode cX0_treeTold 27 = .ok (.aaload, 1) := dk_50 (dk_at dksX0_treeTold_1 4 rfl rfl)
theorem dX0_treeTold_28 : decode cX0_treeTold 28 = .ok (.astore_n 3, 1) := dk_78 (dk_at dksX0_treeTold_1 5 rfl rfl)
theorem dX0_treeTold_29 : decode cX0_treeTold 29 = .ok (.iload_n 2, 1) := dk_28 (dk_at dksX0_treeTold_1 6 rfl rfl)
theorem dX0_treeTold_30 : decode cX0_treeTold 30 = .ok (.ifCond .ne 10, 3) := dk_154 0 10 (dk_at dksX0_treeTold_1 7 rfl rfl)
theorem dX0_treeTold_33 : decode cX0_treeTold 33 = .ok (.aload_n 3, 1) := dk_45 (dk_at dksX0_treeTold_1 10 rfl rfl)
theorem dX0_treeTold_34 : decode cX0_treeTold 34 = .ok (.invokevirtual 237, 3) := dk_182 0 237 (dk_at dksX0_treeTold_1 11 rfl rfl)
theorem dX0_treeTold_37 : decode cX0_treeTold 37 = .ok (.goto 31, 3) := dk_167 0 31 (dk_at dksX0_treeTold_1 14 rfl rfl)
theorem dX0_treeTold_40 : decode cX0_treeTold 40 = .ok (.iload_n 2, 1) := dk_28 (dk_at dksX0_treeTold_1 17 rfl rfl)
theorem dX0_treeTold_41 : decode cX0_treeTold 41 = .ok (.iconst 1, 1) := dk_4 (dk_at dksX0_treeTold_1 18 rfl rfl)
theorem dX0_treeTold_42 : decode cX0_treeTold 42 = .ok (.if_icmp .ne 10, 3) := dk_160 0 10 (dk_at dksX0_treeTold_1 19 rfl rfl)
theorem dX0_treeTold_45 : decode cX0_treeTold 45 = .ok (.aload_n 3, 1) := dk_45 (dk_at dksX0_treeTold_1 22 rfl rfl)
theorem dX0_treeTold_46 : decode cX0_treeTold 46 = .ok (.getfield 240, 3) := dk_180 0 240 (dk_at dksX0_treeTold_2 0 rfl rfl)
theorem dX0_treeTold_49 : decode cX0_treeTold 49 = .ok (.goto 19, 3) := dk_167 0 19 (dk_at dksX0_treeTold_2 3 rfl rfl)
theorem dX0_treeTold_52 : decode cX0_treeTold 52 = .ok (.iload_n 2, 1) := dk_28 (dk_at dksX0_treeTold_2 6 rfl rfl)
theorem dX0_treeTold_53 : decode cX0_treeTold 53 = .ok (.iconst 2, 1) := dk_5 (dk_at dksX0_treeTold_2 7 rfl rfl)
theorem dX0_treeTold_54 : decode cX0_treeTold 54 = .ok (.if_icmp .ne 10, 3) := dk_160 0 10 (dk_at dksX0_treeTold_2 8 rfl rfl)
theorem dX0_treeTold_57 : decode cX0_treeTold 57 = .ok (.aload_n 3, 1) := dk_45 (dk_at dksX0_treeTold_2 11 rfl rfl)
theorem dX0_treeTold_58 : decode cX0_treeTold 58 = .ok (.getfield 243, 3) := dk_180 0 243 (dk_at dksX0_treeTold_2 12 rfl rfl)
theorem dX0_treeTold_61 : decode cX0_treeTold 61 = .ok (.goto 7, 3) := dk_167 0 7 (dk_at dksX0_treeTold_2 15 rfl rfl)
theorem dX0_treeTold_64 : decode cX0_treeTold 64 = .ok (.aload_n 3, 1) := dk_45 (dk_at dksX0_treeTold_2 18 rfl rfl)
theorem dX0_treeTold_65 : decode cX0_treeTold 65 = .ok (.getfield 246, 3) := dk_180 0 246 (dk_at dksX0_treeTold_2 19 rfl rfl)
theorem dX0_treeTold_68 : decode cX0_treeTold 68 = .ok (.ireturn, 1) := dk_172 (dk_at dksX0_treeTold_2 22 rfl rfl)
abbrev cX0_mustBeTree : ByteArray := prog_1_method_29_code
def yX0_mustBeTree : MethodName := ⟨RX0, "mustBeTree", "(I)V"⟩
def dkwX0_mustBeTree_0 : List UInt8 := [27, 42, 180, 0, 51, 180, 0, 120, 184, 0, 214, 177]
abbrev dktX0_mustBeTree_0 : List UInt8 := dkwX0_mustBeTree_0 ++ []
theorem dksX0_mustBeTree_0 : cX0_mustBeTree.data.toList.drop 0 = dktX0_mustBeTree_0 := by decide +kernel
theorem dX0_mustBeTree_0 : decode cX0_mustBeTree 0 = .ok (.iload_n 1, 1) := dk_27 (dk_at dksX0_mustBeTree_0 0 rfl rfl)
theorem dX0_mustBeTree_1 : decode cX0_mustBeTree 1 = .ok (.aload_n 0, 1) := dk_42 (dk_at dksX0_mustBeTree_0 1 rfl rfl)
theorem dX0_mustBeTree_2 : decode cX0_mustBeTree 2 = .ok (.getfield 51, 3) := dk_180 0 51 (dk_at dksX0_mustBeTree_0 2 rfl rfl)
theorem dX0_mustBeTree_5 : decode cX0_mustBeTree 5 = .ok (.getfield 120, 3) := dk_180 0 120 (dk_at dksX0_mustBeTree_0 5 rfl rfl)
theorem dX0_mustBeTree_8 : decode cX0_mustBeTree 8 = .ok (.invokestatic 214, 3) := dk_184 0 214 (dk_at dksX0_mustBeTree_0 8 rfl rfl)
theorem dX0_mustBeTree_11 : decode cX0_mustBeTree 11 = .ok (.return_, 1) := dk_177 (dk_at dksX0_mustBeTree_0 11 rfl rfl)
abbrev cX0_gardenTold : ByteArray := prog_1_method_34_code
def yX0_gardenTold : MethodName := ⟨RX0, "gardenTold", "(II)I"⟩
def dkwX0_gardenTold_1 : List UInt8 := [180, 0, 141, 27, 28, 79, 29, 172]
abbrev dktX0_gardenTold_1 : List UInt8 := dkwX0_gardenTold_1 ++ []
def dkwX0_gardenTold_0 : List UInt8 := [27, 184, 0, 224, 28, 184, 0, 249, 42, 180, 0, 51, 180, 0, 141, 27, 46, 62, 42, 180, 0, 51]
abbrev dktX0_gardenTold_0 : List UInt8 := dkwX0_gardenTold_0 ++ dktX0_gardenTold_1
theorem dksX0_gardenTold_0 : cX0_gardenTold.data.toList.drop 0 = dktX0_gardenTold_0 := by decide +kernel
theorem dksX0_gardenTold_1 : cX0_gardenTold.data.toList.drop 22 = dktX0_gardenTold_1 := dk_seg dksX0_gardenTold_0 22 rfl rfl
theorem dX0_gardenTold_0 : decode cX0_gardenTold 0 = .ok (.iload_n 1, 1) := dk_27 (dk_at dksX0_gardenTold_0 0 rfl rfl)
theorem dX0_gardenTold_1 : decode cX0_gardenTold 1 = .ok (.invokestatic 224, 3) := dk_184 0 224 (dk_at dksX0_gardenTold_0 1 rfl rfl)
theorem dX0_gardenTold_4 : decode cX0_gardenTold 4 = .ok (.iload_n 2, 1) := dk_28 (dk_at dksX0_gardenTold_0 4 rfl rfl)
theorem dX0_gardenTold_5 : decode cX0_gardenTold 5 = .ok (.invokestatic 249, 3) := dk_184 0 249 (dk_at dksX0_gardenTold_0 5 rfl rfl)
theorem dX0_gardenTold_8 : decode cX0_gardenTold 8 = .ok (.aload_n 0, 1) := dk_42 (dk_at dksX0_gardenTold_0 8 rfl rfl)
theorem dX0_gardenTold_9 : decode cX0_gardenTold 9 = .ok (.getfield 51, 3) := dk_180 0 51 (dk_at dksX0_gardenTold_0 9 rfl rfl)
theorem dX0_gardenTold_12 : decode cX0_gardenTold 12 = .ok (.getfield 141, 3) := dk_180 0 141 (dk_at dksX0_gardenTold_0 12 rfl rfl)
theorem dX0_gardenTold_15 : decode cX0_gardenTold 15 = .ok (.iload_n 1, 1) := dk_27 (dk_at dksX0_gardenTold_0 15 rfl rfl)
theorem dX0_gardenTold_16 : decode cX0_gardenTold 16 = .ok (.iaload, 1) := dk_46 (dk_at dksX0_gardenTold_0 16 rfl rfl)
theorem dX0_gardenTold_17 : decode cX0_gardenTold 17 = .ok (.istore_n 3, 1) := dk_62 (dk_at dksX0_gardenTold_0 17 rfl rfl)
theorem dX0_gardenTold_18 : decode cX0_gardenTold 18 = .ok (.aload_n 0, 1) := dk_42 (dk_at dksX0_gardenTold_0 18 rfl rfl)
theorem dX0_gardenTold_19 : decode cX0_gardenTold 19 = .ok (.getfield 51, 3) := dk_180 0 51 (dk_at dksX0_gardenTold_0 19 rfl rfl)
theorem dX0_gardenTold_22 : decode cX0_gardenTold 22 = .ok (.getfield 141, 3) := dk_180 0 141 (dk_at dksX0_gardenTold_1 0 rfl rfl)
theorem dX0_gardenTold_25 : decode cX0_gardenTold 25 = .ok (.iload_n 1, 1) := dk_27 (dk_at dksX0_gardenTold_1 3 rfl rfl)
theorem dX0_gardenTold_26 : decode cX0_gardenTold 26 = .ok (.iload_n 2, 1) := dk_28 (dk_at dksX0_gardenTold_1 4 rfl rfl)
theorem dX0_gardenTold_27 : decode cX0_gardenTold 27 = .ok (.iastore, 1) := dk_79 (dk_at dksX0_gardenTold_1 5 rfl rfl)
theorem dX0_gardenTold_28 : decode cX0_gardenTold 28 = .ok (.iload_n 3, 1) := dk_29 (dk_at dksX0_gardenTold_1 6 rfl rfl)
theorem dX0_gardenTold_29 : decode cX0_gardenTold 29 = .ok (.ireturn, 1) := dk_172 (dk_at dksX0_gardenTold_1 7 rfl rfl)
abbrev cX0_mustBeGarden : ByteArray := prog_1_method_28_code
def yX0_mustBeGarden : MethodName := ⟨RX0, "mustBeGarden", "(I)V"⟩
def dkwX0_mustBeGarden_0 : List UInt8 := [26, 7, 184, 0, 214, 177]
abbrev dktX0_mustBeGarden_0 : List UInt8 := dkwX0_mustBeGarden_0 ++ []
theorem dksX0_mustBeGarden_0 : cX0_mustBeGarden.data.toList.drop 0 = dktX0_mustBeGarden_0 := by decide +kernel
theorem dX0_mustBeGarden_0 : decode cX0_mustBeGarden 0 = .ok (.iload_n 0, 1) := dk_26 (dk_at dksX0_mustBeGarden_0 0 rfl rfl)
theorem dX0_mustBeGarden_1 : decode cX0_mustBeGarden 1 = .ok (.iconst 4, 1) := dk_7 (dk_at dksX0_mustBeGarden_0 1 rfl rfl)
theorem dX0_mustBeGarden_2 : decode cX0_mustBeGarden 2 = .ok (.invokestatic 214, 3) := dk_184 0 214 (dk_at dksX0_mustBeGarden_0 2 rfl rfl)
theorem dX0_mustBeGarden_5 : decode cX0_mustBeGarden 5 = .ok (.return_, 1) := dk_177 (dk_at dksX0_mustBeGarden_0 5 rfl rfl)
abbrev cX0_heightTold : ByteArray := prog_1_method_35_code
def yX0_heightTold : MethodName := ⟨RX0, "heightTold", "(II)I"⟩
def dkwX0_heightTold_1 : List UInt8 := [180, 0, 51, 180, 0, 229, 27, 28, 79, 29, 172]
abbrev dktX0_heightTold_1 : List UInt8 := dkwX0_heightTold_1 ++ []
def dkwX0_heightTold_0 : List UInt8 := [27, 184, 0, 224, 28, 133, 9, 20, 0, 252, 184, 0, 220, 42, 180, 0, 51, 180, 0, 229, 27, 46, 62, 42]
abbrev dktX0_heightTold_0 : List UInt8 := dkwX0_heightTold_0 ++ dktX0_heightTold_1
theorem dksX0_heightTold_0 : cX0_heightTold.data.toList.drop 0 = dktX0_heightTold_0 := by decide +kernel
theorem dksX0_heightTold_1 : cX0_heightTold.data.toList.drop 24 = dktX0_heightTold_1 := dk_seg dksX0_heightTold_0 24 rfl rfl
theorem dX0_heightTold_0 : decode cX0_heightTold 0 = .ok (.iload_n 1, 1) := dk_27 (dk_at dksX0_heightTold_0 0 rfl rfl)
theorem dX0_heightTold_1 : decode cX0_heightTold 1 = .ok (.invokestatic 224, 3) := dk_184 0 224 (dk_at dksX0_heightTold_0 1 rfl rfl)
theorem dX0_heightTold_4 : decode cX0_heightTold 4 = .ok (.iload_n 2, 1) := dk_28 (dk_at dksX0_heightTold_0 4 rfl rfl)
theorem dX0_heightTold_5 : decode cX0_heightTold 5 = .ok (.i2l, 1) := dk_133 (dk_at dksX0_heightTold_0 5 rfl rfl)
theorem dX0_heightTold_6 : decode cX0_heightTold 6 = .ok (.lconst 0, 1) := dk_9 (dk_at dksX0_heightTold_0 6 rfl rfl)
theorem dX0_heightTold_7 : decode cX0_heightTold 7 = .ok (.ldc2_w 252, 3) := dk_20 0 252 (dk_at dksX0_heightTold_0 7 rfl rfl)
theorem dX0_heightTold_10 : decode cX0_heightTold 10 = .ok (.invokestatic 220, 3) := dk_184 0 220 (dk_at dksX0_heightTold_0 10 rfl rfl)
theorem dX0_heightTold_13 : decode cX0_heightTold 13 = .ok (.aload_n 0, 1) := dk_42 (dk_at dksX0_heightTold_0 13 rfl rfl)
theorem dX0_heightTold_14 : decode cX0_heightTold 14 = .ok (.getfield 51, 3) := dk_180 0 51 (dk_at dksX0_heightTold_0 14 rfl rfl)
theorem dX0_heightTold_17 : decode cX0_heightTold 17 = .ok (.getfield 229, 3) := dk_180 0 229 (dk_at dksX0_heightTold_0 17 rfl rfl)
theorem dX0_heightTold_20 : decode cX0_heightTold 20 = .ok (.iload_n 1, 1) := dk_27 (dk_at dksX0_heightTold_0 20 rfl rfl)
theorem dX0_heightTold_21 : decode cX0_heightTold 21 = .ok (.iaload, 1) := dk_46 (dk_at dksX0_heightTold_0 21 rfl rfl)
theorem dX0_heightTold_22 : decode cX0_heightTold 22 = .ok (.istore_n 3, 1) := dk_62 (dk_at dksX0_heightTold_0 22 rfl rfl)
theorem dX0_heightTold_23 : decode cX0_heightTold 23 = .ok (.aload_n 0, 1) := dk_42 (dk_at dksX0_heightTold_0 23 rfl rfl)
theorem dX0_heightTold_24 : decode cX0_heightTold 24 = .ok (.getfield 51, 3) := dk_180 0 51 (dk_at dksX0_heightTold_1 0 rfl rfl)
theorem dX0_heightTold_27 : decode cX0_heightTold 27 = .ok (.getfield 229, 3) := dk_180 0 229 (dk_at dksX0_heightTold_1 3 rfl rfl)
theorem dX0_heightTold_30 : decode cX0_heightTold 30 = .ok (.iload_n 1, 1) := dk_27 (dk_at dksX0_heightTold_1 6 rfl rfl)
theorem dX0_heightTold_31 : decode cX0_heightTold 31 = .ok (.iload_n 2, 1) := dk_28 (dk_at dksX0_heightTold_1 7 rfl rfl)
theorem dX0_heightTold_32 : decode cX0_heightTold 32 = .ok (.iastore, 1) := dk_79 (dk_at dksX0_heightTold_1 8 rfl rfl)
theorem dX0_heightTold_33 : decode cX0_heightTold 33 = .ok (.iload_n 3, 1) := dk_29 (dk_at dksX0_heightTold_1 9 rfl rfl)
theorem dX0_heightTold_34 : decode cX0_heightTold 34 = .ok (.ireturn, 1) := dk_172 (dk_at dksX0_heightTold_1 10 rfl rfl)
abbrev cX0_netTold : ByteArray := prog_1_method_36_code
def yX0_netTold : MethodName := ⟨RX0, "netTold", "(I)I"⟩
def dkwX0_netTold_1 : List UInt8 := [4, 167, 0, 4, 3, 84, 42, 180, 0, 51, 180, 0, 166, 27, 51, 153, 0, 7, 4, 167, 0, 4, 3, 172]
abbrev dktX0_netTold_1 : List UInt8 := dkwX0_netTold_1 ++ []
def dkwX0_netTold_0 : List UInt8 := [27, 184, 0, 224, 42, 180, 0, 51, 180, 0, 166, 27, 42, 180, 0, 51, 180, 0, 166, 27, 51, 154, 0, 7]
abbrev dktX0_netTold_0 : List UInt8 := dkwX0_netTold_0 ++ dktX0_netTold_1
theorem dksX0_netTold_0 : cX0_netTold.data.toList.drop 0 = dktX0_netTold_0 := by decide +kernel
theorem dksX0_netTold_1 : cX0_netTold.data.toList.drop 24 = dktX0_netTold_1 := dk_seg dksX0_netTold_0 24 rfl rfl
theorem dX0_netTold_0 : decode cX0_netTold 0 = .ok (.iload_n 1, 1) := dk_27 (dk_at dksX0_netTold_0 0 rfl rfl)
theorem dX0_netTold_1 : decode cX0_netTold 1 = .ok (.invokestatic 224, 3) := dk_184 0 224 (dk_at dksX0_netTold_0 1 rfl rfl)
theorem dX0_netTold_4 : decode cX0_netTold 4 = .ok (.aload_n 0, 1) := dk_42 (dk_at dksX0_netTold_0 4 rfl rfl)
theorem dX0_netTold_5 : decode cX0_netTold 5 = .ok (.getfield 51, 3) := dk_180 0 51 (dk_at dksX0_netTold_0 5 rfl rfl)
theorem dX0_netTold_8 : decode cX0_netTold 8 = .ok (.getfield 166, 3) := dk_180 0 166 (dk_at dksX0_netTold_0 8 rfl rfl)
theorem dX0_netTold_11 : decode cX0_netTold 11 = .ok (.iload_n 1, 1) := dk_27 (dk_at dksX0_netTold_0 11 rfl rfl)
theorem dX0_netTold_12 : decode cX0_netTold 12 = .ok (.aload_n 0, 1) := dk_42 (dk_at dksX0_netTold_0 12 rfl rfl)
theorem dX0_netTold_13 : decode cX0_netTold 13 = .ok (.getfield 51, 3) := dk_180 0 51 (dk_at dksX0_netTold_0 13 rfl rfl)
theorem dX0_netTold_16 : decode cX0_netTold 16 = .ok (.getfield 166, 3) := dk_180 0 166 (dk_at dksX0_netTold_0 16 rfl rfl)
theorem dX0_netTold_19 : decode cX0_netTold 19 = .ok (.iload_n 1, 1) := dk_27 (dk_at dksX0_netTold_0 19 rfl rfl)
theorem dX0_netTold_20 : decode cX0_netTold 20 = .ok (.baload, 1) := dk_51 (dk_at dksX0_netTold_0 20 rfl rfl)
theorem dX0_netTold_21 : decode cX0_netTold 21 = .ok (.ifCond .ne 7, 3) := dk_154 0 7 (dk_at dksX0_netTold_0 21 rfl rfl)
theorem dX0_netTold_24 : decode cX0_netTold 24 = .ok (.iconst 1, 1) := dk_4 (dk_at dksX0_netTold_1 0 rfl rfl)
theorem dX0_netTold_25 : decode cX0_netTold 25 = .ok (.goto 4, 3) := dk_167 0 4 (dk_at dksX0_netTold_1 1 rfl rfl)
theorem dX0_netTold_28 : decode cX0_netTold 28 = .ok (.iconst 0, 1) := dk_3 (dk_at dksX0_netTold_1 4 rfl rfl)
theorem dX0_netTold_29 : decode cX0_netTold 29 = .ok (.bastore, 1) := dk_84 (dk_at dksX0_netTold_1 5 rfl rfl)
theorem dX0_netTold_30 : decode cX0_netTold 30 = .ok (.aload_n 0, 1) := dk_42 (dk_at dksX0_netTold_1 6 rfl rfl)
theorem dX0_netTold_31 : decode cX0_netTold 31 = .ok (.getfield 51, 3) := dk_180 0 51 (dk_at dksX0_netTold_1 7 rfl rfl)
theorem dX0_netTold_34 : decode cX0_netTold 34 = .ok (.getfield 166, 3) := dk_180 0 166 (dk_at dksX0_netTold_1 10 rfl rfl)
theorem dX0_netTold_37 : decode cX0_netTold 37 = .ok (.iload_n 1, 1) := dk_27 (dk_at dksX0_netTold_1 13 rfl rfl)
theorem dX0_netTold_38 : decode cX0_netTold 38 = .ok (.baload, 1) := dk_51 (dk_at dksX0_netTold_1 14 rfl rfl)
theorem dX0_netTold_39 : decode cX0_netTold 39 = .ok (.ifCond .eq 7, 3) := dk_153 0 7 (dk_at dksX0_netTold_1 15 rfl rfl)
theorem dX0_netTold_42 : decode cX0_netTold 42 = .ok (.iconst 1, 1) := dk_4 (dk_at dksX0_netTold_1 18 rfl rfl)
theorem dX0_netTold_43 : decode cX0_netTold 43 = .ok (.goto 4, 3) := dk_167 0 4 (dk_at dksX0_netTold_1 19 rfl rfl)
theorem dX0_netTold_46 : decode cX0_netTold 46 = .ok (.iconst 0, 1) := dk_3 (dk_at dksX0_netTold_1 22 rfl rfl)
theorem dX0_netTold_47 : decode cX0_netTold 47 = .ok (.ireturn, 1) := dk_172 (dk_at dksX0_netTold_1 23 rfl rfl)
abbrev cX0_windTold : ByteArray := prog_1_method_37_code
def yX0_windTold : MethodName := ⟨RX0, "windTold", "(I)I"⟩
def dkwX0_windTold_1 : List UInt8 := [181, 0, 163, 28, 172]
abbrev dktX0_windTold_1 : List UInt8 := dkwX0_windTold_1 ++ []
def dkwX0_windTold_0 : List UInt8 := [27, 133, 9, 20, 0, 254, 184, 0, 220, 42, 180, 0, 51, 180, 0, 163, 61, 42, 180, 0, 51, 27]
abbrev dktX0_windTold_0 : List UInt8 := dkwX0_windTold_0 ++ dktX0_windTold_1
theorem dksX0_windTold_0 : cX0_windTold.data.toList.drop 0 = dktX0_windTold_0 := by decide +kernel
theorem dksX0_windTold_1 : cX0_windTold.data.toList.drop 22 = dktX0_windTold_1 := dk_seg dksX0_windTold_0 22 rfl rfl
theorem dX0_windTold_0 : decode cX0_windTold 0 = .ok (.iload_n 1, 1) := dk_27 (dk_at dksX0_windTold_0 0 rfl rfl)
theorem dX0_windTold_1 : decode cX0_windTold 1 = .ok (.i2l, 1) := dk_133 (dk_at dksX0_windTold_0 1 rfl rfl)
theorem dX0_windTold_2 : decode cX0_windTold 2 = .ok (.lconst 0, 1) := dk_9 (dk_at dksX0_windTold_0 2 rfl rfl)
theorem dX0_windTold_3 : decode cX0_windTold 3 = .ok (.ldc2_w 254, 3) := dk_20 0 254 (dk_at dksX0_windTold_0 3 rfl rfl)
theorem dX0_windTold_6 : decode cX0_windTold 6 = .ok (.invokestatic 220, 3) := dk_184 0 220 (dk_at dksX0_windTold_0 6 rfl rfl)
theorem dX0_windTold_9 : decode cX0_windTold 9 = .ok (.aload_n 0, 1) := dk_42 (dk_at dksX0_windTold_0 9 rfl rfl)
theorem dX0_windTold_10 : decode cX0_windTold 10 = .ok (.getfield 51, 3) := dk_180 0 51 (dk_at dksX0_windTold_0 10 rfl rfl)
theorem dX0_windTold_13 : decode cX0_windTold 13 = .ok (.getfield 163, 3) := dk_180 0 163 (dk_at dksX0_windTold_0 13 rfl rfl)
theorem dX0_windTold_16 : decode cX0_windTold 16 = .ok (.istore_n 2, 1) := dk_61 (dk_at dksX0_windTold_0 16 rfl rfl)
theorem dX0_windTold_17 : decode cX0_windTold 17 = .ok (.aload_n 0, 1) := dk_42 (dk_at dksX0_windTold_0 17 rfl rfl)
theorem dX0_windTold_18 : decode cX0_windTold 18 = .ok (.getfield 51, 3) := dk_180 0 51 (dk_at dksX0_windTold_0 18 rfl rfl)
theorem dX0_windTold_21 : decode cX0_windTold 21 = .ok (.iload_n 1, 1) := dk_27 (dk_at dksX0_windTold_0 21 rfl rfl)
theorem dX0_windTold_22 : decode cX0_windTold 22 = .ok (.putfield 163, 3) := dk_181 0 163 (dk_at dksX0_windTold_1 0 rfl rfl)
theorem dX0_windTold_25 : decode cX0_windTold 25 = .ok (.iload_n 2, 1) := dk_28 (dk_at dksX0_windTold_1 3 rfl rfl)
theorem dX0_windTold_26 : decode cX0_windTold 26 = .ok (.ireturn, 1) := dk_172 (dk_at dksX0_windTold_1 4 rfl rfl)
abbrev cX0_lawTold : ByteArray := prog_1_method_38_code
def yX0_lawTold : MethodName := ⟨RX0, "lawTold", "(I)I"⟩
def dkwX0_lawTold_1 : List UInt8 := [180, 0, 51, 180, 0, 151, 61, 42, 180, 0, 51, 27, 181, 0, 151, 28, 172]
abbrev dktX0_lawTold_1 : List UInt8 := dkwX0_lawTold_1 ++ []
def dkwX0_lawTold_0 : List UInt8 := [27, 133, 9, 42, 180, 0, 51, 180, 0, 147, 190, 4, 100, 133, 184, 0, 13, 16, 254, 184, 0, 9, 42]
abbrev dktX0_lawTold_0 : List UInt8 := dkwX0_lawTold_0 ++ dktX0_lawTold_1
theorem dksX0_lawTold_0 : cX0_lawTold.data.toList.drop 0 = dktX0_lawTold_0 := by decide +kernel
theorem dksX0_lawTold_1 : cX0_lawTold.data.toList.drop 23 = dktX0_lawTold_1 := dk_seg dksX0_lawTold_0 23 rfl rfl
theorem dX0_lawTold_0 : decode cX0_lawTold 0 = .ok (.iload_n 1, 1) := dk_27 (dk_at dksX0_lawTold_0 0 rfl rfl)
theorem dX0_lawTold_1 : decode cX0_lawTold 1 = .ok (.i2l, 1) := dk_133 (dk_at dksX0_lawTold_0 1 rfl rfl)
theorem dX0_lawTold_2 : decode cX0_lawTold 2 = .ok (.lconst 0, 1) := dk_9 (dk_at dksX0_lawTold_0 2 rfl rfl)
theorem dX0_lawTold_3 : decode cX0_lawTold 3 = .ok (.aload_n 0, 1) := dk_42 (dk_at dksX0_lawTold_0 3 rfl rfl)
theorem dX0_lawTold_4 : decode cX0_lawTold 4 = .ok (.getfield 51, 3) := dk_180 0 51 (dk_at dksX0_lawTold_0 4 rfl rfl)
theorem dX0_lawTold_7 : decode cX0_lawTold 7 = .ok (.getfield 147, 3) := dk_180 0 147 (dk_at dksX0_lawTold_0 7 rfl rfl)
theorem dX0_lawTold_10 : decode cX0_lawTold 10 = .ok (.arraylength, 1) := dk_190 (dk_at dksX0_lawTold_0 10 rfl rfl)
theorem dX0_lawTold_11 : decode cX0_lawTold 11 = .ok (.iconst 1, 1) := dk_4 (dk_at dksX0_lawTold_0 11 rfl rfl)
theorem dX0_lawTold_12 : decode cX0_lawTold 12 = .ok (.isub, 1) := dk_100 (dk_at dksX0_lawTold_0 12 rfl rfl)
theorem dX0_lawTold_13 : decode cX0_lawTold 13 = .ok (.i2l, 1) := dk_133 (dk_at dksX0_lawTold_0 13 rfl rfl)
theorem dX0_lawTold_14 : decode cX0_lawTold 14 = .ok (.invokestatic 13, 3) := dk_184 0 13 (dk_at dksX0_lawTold_0 14 rfl rfl)
theorem dX0_lawTold_17 : decode cX0_lawTold 17 = .ok (.bipush (-2), 2) := dk_16 254 (dk_at dksX0_lawTold_0 17 rfl rfl)
theorem dX0_lawTold_19 : decode cX0_lawTold 19 = .ok (.invokestatic 9, 3) := dk_184 0 9 (dk_at dksX0_lawTold_0 19 rfl rfl)
theorem dX0_lawTold_22 : decode cX0_lawTold 22 = .ok (.aload_n 0, 1) := dk_42 (dk_at dksX0_lawTold_0 22 rfl rfl)
theorem dX0_lawTold_23 : decode cX0_lawTold 23 = .ok (.getfield 51, 3) := dk_180 0 51 (dk_at dksX0_lawTold_1 0 rfl rfl)
theorem dX0_lawTold_26 : decode cX0_lawTold 26 = .ok (.getfield 151, 3) := dk_180 0 151 (dk_at dksX0_lawTold_1 3 rfl rfl)
theorem dX0_lawTold_29 : decode cX0_lawTold 29 = .ok (.istore_n 2, 1) := dk_61 (dk_at dksX0_lawTold_1 6 rfl rfl)
theorem dX0_lawTold_30 : decode cX0_lawTold 30 = .ok (.aload_n 0, 1) := dk_42 (dk_at dksX0_lawTold_1 7 rfl rfl)
theorem dX0_lawTold_31 : decode cX0_lawTold 31 = .ok (.getfield 51, 3) := dk_180 0 51 (dk_at dksX0_lawTold_1 8 rfl rfl)
theorem dX0_lawTold_34 : decode cX0_lawTold 34 = .ok (.iload_n 1, 1) := dk_27 (dk_at dksX0_lawTold_1 11 rfl rfl)
theorem dX0_lawTold_35 : decode cX0_lawTold 35 = .ok (.putfield 151, 3) := dk_181 0 151 (dk_at dksX0_lawTold_1 12 rfl rfl)
theorem dX0_lawTold_38 : decode cX0_lawTold 38 = .ok (.iload_n 2, 1) := dk_28 (dk_at dksX0_lawTold_1 15 rfl rfl)
theorem dX0_lawTold_39 : decode cX0_lawTold 39 = .ok (.ireturn, 1) := dk_172 (dk_at dksX0_lawTold_1 16 rfl rfl)
abbrev cX0_ofFalls : ByteArray := prog_1_method_42_code
def yX0_ofFalls : MethodName := ⟨RX0, "ofFalls", "(IIII)I"⟩
def dkwX0_ofFalls_5 : List UInt8 := [42, 28, 182, 0, 232, 29, 184, 0, 249, 42, 28, 29, 182, 1, 41, 172]
abbrev dktX0_ofFalls_5 : List UInt8 := dkwX0_ofFalls_5 ++ []
def dkwX0_ofFalls_4 : List UInt8 := [182, 0, 137, 172, 42, 180, 0, 51, 182, 0, 123, 180, 0, 154, 172, 42, 28, 29, 21, 4, 182, 1, 38, 172]
abbrev dktX0_ofFalls_4 : List UInt8 := dkwX0_ofFalls_4 ++ dktX0_ofFalls_5
def dkwX0_ofFalls_3 : List UInt8 := [184, 0, 249, 42, 180, 0, 51, 182, 0, 123, 28, 182, 0, 126, 172, 42, 180, 0, 51, 182, 0, 123]
abbrev dktX0_ofFalls_3 : List UInt8 := dkwX0_ofFalls_3 ++ dktX0_ofFalls_4
def dkwX0_ofFalls_2 : List UInt8 := [28, 184, 0, 224, 42, 180, 0, 51, 182, 0, 123, 28, 182, 0, 174, 172, 42, 28, 29, 182, 1, 35, 172, 28]
abbrev dktX0_ofFalls_2 : List UInt8 := dkwX0_ofFalls_2 ++ dktX0_ofFalls_3
def dkwX0_ofFalls_1 : List UInt8 := [170, 0, 0, 0, 0, 0, 109, 0, 0, 0, 10, 0, 0, 0, 15, 0, 0, 0, 39, 0, 0, 0, 55, 0, 0, 0, 62, 0, 0, 0, 78, 0, 0, 0, 89, 0, 0, 0, 100]
abbrev dktX0_ofFalls_1 : List UInt8 := dkwX0_ofFalls_1 ++ dktX0_ofFalls_2
def dkwX0_ofFalls_0 : List UInt8 := [27]
abbrev dktX0_ofFalls_0 : List UInt8 := dkwX0_ofFalls_0 ++ dktX0_ofFalls_1
theorem dksX0_ofFalls_0 : cX0_ofFalls.data.toList.drop 0 = dktX0_ofFalls_0 := by decide +kernel
theorem dksX0_ofFalls_1 : cX0_ofFalls.data.toList.drop 1 = dktX0_ofFalls_1 := dk_seg dksX0_ofFalls_0 1 rfl rfl
theorem dksX0_ofFalls_2 : cX0_ofFalls.data.toList.drop 40 = dktX0_ofFalls_2 := dk_seg dksX0_ofFalls_1 39 rfl rfl
theorem dksX0_ofFalls_3 : cX0_ofFalls.data.toList.drop 64 = dktX0_ofFalls_3 := dk_seg dksX0_ofFalls_2 24 rfl rfl
theorem dksX0_ofFalls_4 : cX0_ofFalls.data.toList.drop 86 = dktX0_ofFalls_4 := dk_seg dksX0_ofFalls_3 22 rfl rfl
theorem dksX0_ofFalls_5 : cX0_ofFalls.data.toList.drop 110 = dktX0_ofFalls_5 := dk_seg dksX0_ofFalls_4 24 rfl rfl
theorem dX0_ofFalls_0 : decode cX0_ofFalls 0 = .ok (.iload_n 1, 1) := dk_27 (dk_at dksX0_ofFalls_0 0 rfl rfl)
theorem dX0_ofFalls_1 : decode cX0_ofFalls 1 = .ok (.tableswitch 109 10 15 #[39, 55, 62, 78, 89, 100], 39) := by decide +kernel
theorem dX0_ofFalls_40 : decode cX0_ofFalls 40 = .ok (.iload_n 2, 1) := dk_28 (dk_at dksX0_ofFalls_2 0 rfl rfl)
theorem dX0_ofFalls_41 : decode cX0_ofFalls 41 = .ok (.invokestatic 224, 3) := dk_184 0 224 (dk_at dksX0_ofFalls_2 1 rfl rfl)
theorem dX0_ofFalls_44 : decode cX0_ofFalls 44 = .ok (.aload_n 0, 1) := dk_42 (dk_at dksX0_ofFalls_2 4 rfl rfl)
theorem dX0_ofFalls_45 : decode cX0_ofFalls 45 = .ok (.getfield 51, 3) := dk_180 0 51 (dk_at dksX0_ofFalls_2 5 rfl rfl)
theorem dX0_ofFalls_48 : decode cX0_ofFalls 48 = .ok (.invokevirtual 123, 3) := dk_182 0 123 (dk_at dksX0_ofFalls_2 8 rfl rfl)
theorem dX0_ofFalls_51 : decode cX0_ofFalls 51 = .ok (.iload_n 2, 1) := dk_28 (dk_at dksX0_ofFalls_2 11 rfl rfl)
theorem dX0_ofFalls_52 : decode cX0_ofFalls 52 = .ok (.invokevirtual 174, 3) := dk_182 0 174 (dk_at dksX0_ofFalls_2 12 rfl rfl)
theorem dX0_ofFalls_55 : decode cX0_ofFalls 55 = .ok (.ireturn, 1) := dk_172 (dk_at dksX0_ofFalls_2 15 rfl rfl)
theorem dX0_ofFalls_56 : decode cX0_ofFalls 56 = .ok (.aload_n 0, 1) := dk_42 (dk_at dksX0_ofFalls_2 16 rfl rfl)
theorem dX0_ofFalls_57 : decode cX0_ofFalls 57 = .ok (.iload_n 2, 1) := dk_28 (dk_at dksX0_ofFalls_2 17 rfl rfl)
theorem dX0_ofFalls_58 : decode cX0_ofFalls 58 = .ok (.iload_n 3, 1) := dk_29 (dk_at dksX0_ofFalls_2 18 rfl rfl)
theorem dX0_ofFalls_59 : decode cX0_ofFalls 59 = .ok (.invokevirtual 291, 3) := dk_182 1 35 (dk_at dksX0_ofFalls_2 19 rfl rfl)
theorem dX0_ofFalls_62 : decode cX0_ofFalls 62 = .ok (.ireturn, 1) := dk_172 (dk_at dksX0_ofFalls_2 22 rfl rfl)
theorem dX0_ofFalls_63 : decode cX0_ofFalls 63 = .ok (.iload_n 2, 1) := dk_28 (dk_at dksX0_ofFalls_2 23 rfl rfl)
theorem dX0_ofFalls_64 : decode cX0_ofFalls 64 = .ok (.invokestatic 249, 3) := dk_184 0 249 (dk_at dksX0_ofFalls_3 0 rfl rfl)
theorem dX0_ofFalls_67 : decode cX0_ofFalls 67 = .ok (.aload_n 0, 1) := dk_42 (dk_at dksX0_ofFalls_3 3 rfl rfl)
theorem dX0_ofFalls_68 : decode cX0_ofFalls 68 = .ok (.getfield 51, 3) := dk_180 0 51 (dk_at dksX0_ofFalls_3 4 rfl rfl)
theorem dX0_ofFalls_71 : decode cX0_ofFalls 71 = .ok (.invokevirtual 123, 3) := dk_182 0 123 (dk_at dksX0_ofFalls_3 7 rfl rfl)
theorem dX0_ofFalls_74 : decode cX0_ofFalls 74 = .ok (.iload_n 2, 1) := dk_28 (dk_at dksX0_ofFalls_3 10 rfl rfl)
theorem dX0_ofFalls_75 : decode cX0_ofFalls 75 = .ok (.invokevirtual 126, 3) := dk_182 0 126 (dk_at dksX0_ofFalls_3 11 rfl rfl)
theorem dX0_ofFalls_78 : decode cX0_ofFalls 78 = .ok (.ireturn, 1) := dk_172 (dk_at dksX0_ofFalls_3 14 rfl rfl)
theorem dX0_ofFalls_79 : decode cX0_ofFalls 79 = .ok (.aload_n 0, 1) := dk_42 (dk_at dksX0_ofFalls_3 15 rfl rfl)
theorem dX0_ofFalls_80 : decode cX0_ofFalls 80 = .ok (.getfield 51, 3) := dk_180 0 51 (dk_at dksX0_ofFalls_3 16 rfl rfl)
theorem dX0_ofFalls_83 : decode cX0_ofFalls 83 = .ok (.invokevirtual 123, 3) := dk_182 0 123 (dk_at dksX0_ofFalls_3 19 rfl rfl)
theorem dX0_ofFalls_86 : decode cX0_ofFalls 86 = .ok (.invokevirtual 137, 3) := dk_182 0 137 (dk_at dksX0_ofFalls_4 0 rfl rfl)
theorem dX0_ofFalls_89 : decode cX0_ofFalls 89 = .ok (.ireturn, 1) := dk_172 (dk_at dksX0_ofFalls_4 3 rfl rfl)
theorem dX0_ofFalls_90 : decode cX0_ofFalls 90 = .ok (.aload_n 0, 1) := dk_42 (dk_at dksX0_ofFalls_4 4 rfl rfl)
theorem dX0_ofFalls_91 : decode cX0_ofFalls 91 = .ok (.getfield 51, 3) := dk_180 0 51 (dk_at dksX0_ofFalls_4 5 rfl rfl)
theorem dX0_ofFalls_94 : decode cX0_ofFalls 94 = .ok (.invokevirtual 123, 3) := dk_182 0 123 (dk_at dksX0_ofFalls_4 8 rfl rfl)
theorem dX0_ofFalls_97 : decode cX0_ofFalls 97 = .ok (.getfield 154, 3) := dk_180 0 154 (dk_at dksX0_ofFalls_4 11 rfl rfl)
theorem dX0_ofFalls_100 : decode cX0_ofFalls 100 = .ok (.ireturn, 1) := dk_172 (dk_at dksX0_ofFalls_4 14 rfl rfl)
theorem dX0_ofFalls_101 : decode cX0_ofFalls 101 = .ok (.aload_n 0, 1) := dk_42 (dk_at dksX0_ofFalls_4 15 rfl rfl)
theorem dX0_ofFalls_102 : decode cX0_ofFalls 102 = .ok (.iload_n 2, 1) := dk_28 (dk_at dksX0_ofFalls_4 16 rfl rfl)
theorem dX0_ofFalls_103 : decode cX0_ofFalls 103 = .ok (.iload_n 3, 1) := dk_29 (dk_at dksX0_ofFalls_4 17 rfl rfl)
theorem dX0_ofFalls_104 : decode cX0_ofFalls 104 = .ok (.iload 4, 2) := dk_21 4 (dk_at dksX0_ofFalls_4 18 rfl rfl)
theorem dX0_ofFalls_106 : decode cX0_ofFalls 106 = .ok (.invokevirtual 294, 3) := dk_182 1 38 (dk_at dksX0_ofFalls_4 20 rfl rfl)
theorem dX0_ofFalls_109 : decode cX0_ofFalls 109 = .ok (.ireturn, 1) := dk_172 (dk_at dksX0_ofFalls_4 23 rfl rfl)
theorem dX0_ofFalls_110 : decode cX0_ofFalls 110 = .ok (.aload_n 0, 1) := dk_42 (dk_at dksX0_ofFalls_5 0 rfl rfl)
theorem dX0_ofFalls_111 : decode cX0_ofFalls 111 = .ok (.iload_n 2, 1) := dk_28 (dk_at dksX0_ofFalls_5 1 rfl rfl)
theorem dX0_ofFalls_112 : decode cX0_ofFalls 112 = .ok (.invokevirtual 232, 3) := dk_182 0 232 (dk_at dksX0_ofFalls_5 2 rfl rfl)
theorem dX0_ofFalls_115 : decode cX0_ofFalls 115 = .ok (.iload_n 3, 1) := dk_29 (dk_at dksX0_ofFalls_5 5 rfl rfl)
theorem dX0_ofFalls_116 : decode cX0_ofFalls 116 = .ok (.invokestatic 249, 3) := dk_184 0 249 (dk_at dksX0_ofFalls_5 6 rfl rfl)
theorem dX0_ofFalls_119 : decode cX0_ofFalls 119 = .ok (.aload_n 0, 1) := dk_42 (dk_at dksX0_ofFalls_5 9 rfl rfl)
theorem dX0_ofFalls_120 : decode cX0_ofFalls 120 = .ok (.iload_n 2, 1) := dk_28 (dk_at dksX0_ofFalls_5 10 rfl rfl)
theorem dX0_ofFalls_121 : decode cX0_ofFalls 121 = .ok (.iload_n 3, 1) := dk_29 (dk_at dksX0_ofFalls_5 11 rfl rfl)
theorem dX0_ofFalls_122 : decode cX0_ofFalls 122 = .ok (.invokevirtual 297, 3) := dk_182 1 41 (dk_at dksX0_ofFalls_5 12 rfl rfl)
theorem dX0_ofFalls_125 : decode cX0_ofFalls 125 = .ok (.ireturn, 1) := dk_172 (dk_at dksX0_ofFalls_5 15 rfl rfl)
abbrev cX0_far : ByteArray := prog_1_method_8_code
def yX0_far : MethodName := ⟨RX0, "far", "(III)I"⟩
def dkwX0_far_1 : List UInt8 := [132, 4, 1, 167, 255, 235, 29, 172]
abbrev dktX0_far_1 : List UInt8 := dkwX0_far_1 ++ []
def dkwX0_far_0 : List UInt8 := [26, 62, 3, 54, 4, 21, 4, 28, 162, 0, 21, 29, 16, 247, 159, 0, 15, 29, 27, 184, 0, 19, 62]
abbrev dktX0_far_0 : List UInt8 := dkwX0_far_0 ++ dktX0_far_1
theorem dksX0_far_0 : cX0_far.data.toList.drop 0 = dktX0_far_0 := by decide +kernel
theorem dksX0_far_1 : cX0_far.data.toList.drop 23 = dktX0_far_1 := dk_seg dksX0_far_0 23 rfl rfl
theorem dX0_far_0 : decode cX0_far 0 = .ok (.iload_n 0, 1) := dk_26 (dk_at dksX0_far_0 0 rfl rfl)
theorem dX0_far_1 : decode cX0_far 1 = .ok (.istore_n 3, 1) := dk_62 (dk_at dksX0_far_0 1 rfl rfl)
theorem dX0_far_2 : decode cX0_far 2 = .ok (.iconst 0, 1) := dk_3 (dk_at dksX0_far_0 2 rfl rfl)
theorem dX0_far_3 : decode cX0_far 3 = .ok (.istore 4, 2) := dk_54 4 (dk_at dksX0_far_0 3 rfl rfl)
theorem dX0_far_5 : decode cX0_far 5 = .ok (.iload 4, 2) := dk_21 4 (dk_at dksX0_far_0 5 rfl rfl)
theorem dX0_far_7 : decode cX0_far 7 = .ok (.iload_n 2, 1) := dk_28 (dk_at dksX0_far_0 7 rfl rfl)
theorem dX0_far_8 : decode cX0_far 8 = .ok (.if_icmp .ge 21, 3) := dk_162 0 21 (dk_at dksX0_far_0 8 rfl rfl)
theorem dX0_far_11 : decode cX0_far 11 = .ok (.iload_n 3, 1) := dk_29 (dk_at dksX0_far_0 11 rfl rfl)
theorem dX0_far_12 : decode cX0_far 12 = .ok (.bipush (-9), 2) := dk_16 247 (dk_at dksX0_far_0 12 rfl rfl)
theorem dX0_far_14 : decode cX0_far 14 = .ok (.if_icmp .eq 15, 3) := dk_159 0 15 (dk_at dksX0_far_0 14 rfl rfl)
theorem dX0_far_17 : decode cX0_far 17 = .ok (.iload_n 3, 1) := dk_29 (dk_at dksX0_far_0 17 rfl rfl)
theorem dX0_far_18 : decode cX0_far 18 = .ok (.iload_n 1, 1) := dk_27 (dk_at dksX0_far_0 18 rfl rfl)
theorem dX0_far_19 : decode cX0_far 19 = .ok (.invokestatic 19, 3) := dk_184 0 19 (dk_at dksX0_far_0 19 rfl rfl)
theorem dX0_far_22 : decode cX0_far 22 = .ok (.istore_n 3, 1) := dk_62 (dk_at dksX0_far_0 22 rfl rfl)
theorem dX0_far_23 : decode cX0_far 23 = .ok (.iinc 4 1, 3) := dk_132 4 1 (dk_at dksX0_far_1 0 rfl rfl)
theorem dX0_far_26 : decode cX0_far 26 = .ok (.goto (-21), 3) := dk_167 255 235 (dk_at dksX0_far_1 3 rfl rfl)
theorem dX0_far_29 : decode cX0_far 29 = .ok (.iload_n 3, 1) := dk_29 (dk_at dksX0_far_1 6 rfl rfl)
theorem dX0_far_30 : decode cX0_far 30 = .ok (.ireturn, 1) := dk_172 (dk_at dksX0_far_1 7 rfl rfl)
abbrev cX0_ofTree : ByteArray := prog_1_method_40_code
def yX0_ofTree : MethodName := ⟨RX0, "ofTree", "(II)I"⟩
def dkwX0_ofTree_1 : List UInt8 := [96, 46, 172]
abbrev dktX0_ofTree_1 : List UInt8 := dkwX0_ofTree_1 ++ []
def dkwX0_ofTree_0 : List UInt8 := [42, 27, 182, 0, 232, 28, 184, 0, 224, 42, 180, 0, 51, 182, 0, 123, 180, 0, 177, 16, 36, 27, 104, 28]
abbrev dktX0_ofTree_0 : List UInt8 := dkwX0_ofTree_0 ++ dktX0_ofTree_1
theorem dksX0_ofTree_0 : cX0_ofTree.data.toList.drop 0 = dktX0_ofTree_0 := by decide +kernel
theorem dksX0_ofTree_1 : cX0_ofTree.data.toList.drop 24 = dktX0_ofTree_1 := dk_seg dksX0_ofTree_0 24 rfl rfl
theorem dX0_ofTree_0 : decode cX0_ofTree 0 = .ok (.aload_n 0, 1) := dk_42 (dk_at dksX0_ofTree_0 0 rfl rfl)
theorem dX0_ofTree_1 : decode cX0_ofTree 1 = .ok (.iload_n 1, 1) := dk_27 (dk_at dksX0_ofTree_0 1 rfl rfl)
theorem dX0_ofTree_2 : decode cX0_ofTree 2 = .ok (.invokevirtual 232, 3) := dk_182 0 232 (dk_at dksX0_ofTree_0 2 rfl rfl)
theorem dX0_ofTree_5 : decode cX0_ofTree 5 = .ok (.iload_n 2, 1) := dk_28 (dk_at dksX0_ofTree_0 5 rfl rfl)
theorem dX0_ofTree_6 : decode cX0_ofTree 6 = .ok (.invokestatic 224, 3) := dk_184 0 224 (dk_at dksX0_ofTree_0 6 rfl rfl)
theorem dX0_ofTree_9 : decode cX0_ofTree 9 = .ok (.aload_n 0, 1) := dk_42 (dk_at dksX0_ofTree_0 9 rfl rfl)
theorem dX0_ofTree_10 : decode cX0_ofTree 10 = .ok (.getfield 51, 3) := dk_180 0 51 (dk_at dksX0_ofTree_0 10 rfl rfl)
theorem dX0_ofTree_13 : decode cX0_ofTree 13 = .ok (.invokevirtual 123, 3) := dk_182 0 123 (dk_at dksX0_ofTree_0 13 rfl rfl)
theorem dX0_ofTree_16 : decode cX0_ofTree 16 = .ok (.getfield 177, 3) := dk_180 0 177 (dk_at dksX0_ofTree_0 16 rfl rfl)
theorem dX0_ofTree_19 : decode cX0_ofTree 19 = .ok (.bipush 36, 2) := dk_16 36 (dk_at dksX0_ofTree_0 19 rfl rfl)
theorem dX0_ofTree_21 : decode cX0_ofTree 21 = .ok (.iload_n 1, 1) := dk_27 (dk_at dksX0_ofTree_0 21 rfl rfl)
theorem dX0_ofTree_22 : decode cX0_ofTree 22 = .ok (.imul, 1) := dk_104 (dk_at dksX0_ofTree_0 22 rfl rfl)
theorem dX0_ofTree_23 : decode cX0_ofTree 23 = .ok (.iload_n 2, 1) := dk_28 (dk_at dksX0_ofTree_0 23 rfl rfl)
theorem dX0_ofTree_24 : decode cX0_ofTree 24 = .ok (.iadd, 1) := dk_96 (dk_at dksX0_ofTree_1 0 rfl rfl)
theorem dX0_ofTree_25 : decode cX0_ofTree 25 = .ok (.iaload, 1) := dk_46 (dk_at dksX0_ofTree_1 1 rfl rfl)
theorem dX0_ofTree_26 : decode cX0_ofTree 26 = .ok (.ireturn, 1) := dk_172 (dk_at dksX0_ofTree_1 2 rfl rfl)
abbrev cX0_setAsked : ByteArray := prog_1_method_41_code
def yX0_setAsked : MethodName := ⟨RX0, "setAsked", "(III)I"⟩
def dkwX0_setAsked_2 : List UInt8 := [172]
abbrev dktX0_setAsked_2 : List UInt8 := dkwX0_setAsked_2 ++ []
def dkwX0_setAsked_1 : List UInt8 := [162, 0, 7, 4, 167, 0, 4, 3, 16, 250, 184, 0, 9, 29, 184, 1, 29, 42, 27, 28, 29, 182, 1, 32]
abbrev dktX0_setAsked_1 : List UInt8 := dkwX0_setAsked_1 ++ dktX0_setAsked_2
def dkwX0_setAsked_0 : List UInt8 := [27, 184, 0, 249, 28, 133, 10, 20, 1, 27, 184, 0, 220, 42, 180, 0, 51, 180, 0, 120, 16, 6]
abbrev dktX0_setAsked_0 : List UInt8 := dkwX0_setAsked_0 ++ dktX0_setAsked_1
theorem dksX0_setAsked_0 : cX0_setAsked.data.toList.drop 0 = dktX0_setAsked_0 := by decide +kernel
theorem dksX0_setAsked_1 : cX0_setAsked.data.toList.drop 22 = dktX0_setAsked_1 := dk_seg dksX0_setAsked_0 22 rfl rfl
theorem dksX0_setAsked_2 : cX0_setAsked.data.toList.drop 46 = dktX0_setAsked_2 := dk_seg dksX0_setAsked_1 24 rfl rfl
theorem dX0_setAsked_0 : decode cX0_setAsked 0 = .ok (.iload_n 1, 1) := dk_27 (dk_at dksX0_setAsked_0 0 rfl rfl)
theorem dX0_setAsked_1 : decode cX0_setAsked 1 = .ok (.invokestatic 249, 3) := dk_184 0 249 (dk_at dksX0_setAsked_0 1 rfl rfl)
theorem dX0_setAsked_4 : decode cX0_setAsked 4 = .ok (.iload_n 2, 1) := dk_28 (dk_at dksX0_setAsked_0 4 rfl rfl)
theorem dX0_setAsked_5 : decode cX0_setAsked 5 = .ok (.i2l, 1) := dk_133 (dk_at dksX0_setAsked_0 5 rfl rfl)
theorem dX0_setAsked_6 : decode cX0_setAsked 6 = .ok (.lconst 1, 1) := dk_10 (dk_at dksX0_setAsked_0 6 rfl rfl)
theorem dX0_setAsked_7 : decode cX0_setAsked 7 = .ok (.ldc2_w 283, 3) := dk_20 1 27 (dk_at dksX0_setAsked_0 7 rfl rfl)
theorem dX0_setAsked_10 : decode cX0_setAsked 10 = .ok (.invokestatic 220, 3) := dk_184 0 220 (dk_at dksX0_setAsked_0 10 rfl rfl)
theorem dX0_setAsked_13 : decode cX0_setAsked 13 = .ok (.aload_n 0, 1) := dk_42 (dk_at dksX0_setAsked_0 13 rfl rfl)
theorem dX0_setAsked_14 : decode cX0_setAsked 14 = .ok (.getfield 51, 3) := dk_180 0 51 (dk_at dksX0_setAsked_0 14 rfl rfl)
theorem dX0_setAsked_17 : decode cX0_setAsked 17 = .ok (.getfield 120, 3) := dk_180 0 120 (dk_at dksX0_setAsked_0 17 rfl rfl)
theorem dX0_setAsked_20 : decode cX0_setAsked 20 = .ok (.bipush 6, 2) := dk_16 6 (dk_at dksX0_setAsked_0 20 rfl rfl)
theorem dX0_setAsked_22 : decode cX0_setAsked 22 = .ok (.if_icmp .ge 7, 3) := dk_162 0 7 (dk_at dksX0_setAsked_1 0 rfl rfl)
theorem dX0_setAsked_25 : decode cX0_setAsked 25 = .ok (.iconst 1, 1) := dk_4 (dk_at dksX0_setAsked_1 3 rfl rfl)
theorem dX0_setAsked_26 : decode cX0_setAsked 26 = .ok (.goto 4, 3) := dk_167 0 4 (dk_at dksX0_setAsked_1 4 rfl rfl)
theorem dX0_setAsked_29 : decode cX0_setAsked 29 = .ok (.iconst 0, 1) := dk_3 (dk_at dksX0_setAsked_1 7 rfl rfl)
theorem dX0_setAsked_30 : decode cX0_setAsked 30 = .ok (.bipush (-6), 2) := dk_16 250 (dk_at dksX0_setAsked_1 8 rfl rfl)
theorem dX0_setAsked_32 : decode cX0_setAsked 32 = .ok (.invokestatic 9, 3) := dk_184 0 9 (dk_at dksX0_setAsked_1 10 rfl rfl)
theorem dX0_setAsked_35 : decode cX0_setAsked 35 = .ok (.iload_n 3, 1) := dk_29 (dk_at dksX0_setAsked_1 13 rfl rfl)
theorem dX0_setAsked_36 : decode cX0_setAsked 36 = .ok (.invokestatic 285, 3) := dk_184 1 29 (dk_at dksX0_setAsked_1 14 rfl rfl)
theorem dX0_setAsked_39 : decode cX0_setAsked 39 = .ok (.aload_n 0, 1) := dk_42 (dk_at dksX0_setAsked_1 17 rfl rfl)
theorem dX0_setAsked_40 : decode cX0_setAsked 40 = .ok (.iload_n 1, 1) := dk_27 (dk_at dksX0_setAsked_1 18 rfl rfl)
theorem dX0_setAsked_41 : decode cX0_setAsked 41 = .ok (.iload_n 2, 1) := dk_28 (dk_at dksX0_setAsked_1 19 rfl rfl)
theorem dX0_setAsked_42 : decode cX0_setAsked 42 = .ok (.iload_n 3, 1) := dk_29 (dk_at dksX0_setAsked_1 20 rfl rfl)
theorem dX0_setAsked_43 : decode cX0_setAsked 43 = .ok (.invokevirtual 288, 3) := dk_182 1 32 (dk_at dksX0_setAsked_1 21 rfl rfl)
theorem dX0_setAsked_46 : decode cX0_setAsked 46 = .ok (.ireturn, 1) := dk_172 (dk_at dksX0_setAsked_2 0 rfl rfl)
abbrev cX0_mustBeBit : ByteArray := prog_1_method_30_code
def yX0_mustBeBit : MethodName := ⟨RX0, "mustBeBit", "(I)V"⟩
def dkwX0_mustBeBit_0 : List UInt8 := [26, 133, 9, 10, 184, 0, 13, 16, 254, 184, 0, 9, 177]
abbrev dktX0_mustBeBit_0 : List UInt8 := dkwX0_mustBeBit_0 ++ []
theorem dksX0_mustBeBit_0 : cX0_mustBeBit.data.toList.drop 0 = dktX0_mustBeBit_0 := by decide +kernel
theorem dX0_mustBeBit_0 : decode cX0_mustBeBit 0 = .ok (.iload_n 0, 1) := dk_26 (dk_at dksX0_mustBeBit_0 0 rfl rfl)
theorem dX0_mustBeBit_1 : decode cX0_mustBeBit 1 = .ok (.i2l, 1) := dk_133 (dk_at dksX0_mustBeBit_0 1 rfl rfl)
theorem dX0_mustBeBit_2 : decode cX0_mustBeBit 2 = .ok (.lconst 0, 1) := dk_9 (dk_at dksX0_mustBeBit_0 2 rfl rfl)
theorem dX0_mustBeBit_3 : decode cX0_mustBeBit 3 = .ok (.lconst 1, 1) := dk_10 (dk_at dksX0_mustBeBit_0 3 rfl rfl)
theorem dX0_mustBeBit_4 : decode cX0_mustBeBit 4 = .ok (.invokestatic 13, 3) := dk_184 0 13 (dk_at dksX0_mustBeBit_0 4 rfl rfl)
theorem dX0_mustBeBit_7 : decode cX0_mustBeBit 7 = .ok (.bipush (-2), 2) := dk_16 254 (dk_at dksX0_mustBeBit_0 7 rfl rfl)
theorem dX0_mustBeBit_9 : decode cX0_mustBeBit 9 = .ok (.invokestatic 9, 3) := dk_184 0 9 (dk_at dksX0_mustBeBit_0 9 rfl rfl)
theorem dX0_mustBeBit_12 : decode cX0_mustBeBit 12 = .ok (.return_, 1) := dk_177 (dk_at dksX0_mustBeBit_0 12 rfl rfl)
abbrev cX0_setTold : ByteArray := prog_1_method_13_code
def yX0_setTold : MethodName := ⟨RX0, "setTold", "(III)I"⟩
def dkwX0_setTold_5 : List UInt8 := [21, 4, 167, 0, 5, 21, 5, 172]
abbrev dktX0_setTold_5 : List UInt8 := dkwX0_setTold_5 ++ []
def dkwX0_setTold_4 : List UInt8 := [21, 4, 54, 4, 21, 5, 21, 8, 184, 0, 129, 54, 5, 132, 6, 1, 167, 255, 157, 29, 154, 0, 8]
abbrev dktX0_setTold_4 : List UInt8 := dkwX0_setTold_4 ++ dktX0_setTold_5
def dkwX0_setTold_3 : List UInt8 := [25, 7, 182, 0, 123, 27, 182, 0, 126, 54, 8, 21, 8, 21, 5, 164, 0, 8, 21, 6, 167, 0, 5]
abbrev dktX0_setTold_3 : List UInt8 := dkwX0_setTold_3 ++ dktX0_setTold_4
def dkwX0_setTold_2 : List UInt8 := [187, 0, 23, 89, 21, 6, 28, 3, 183, 0, 25, 83, 25, 7, 89, 180, 0, 120, 4, 96, 181, 0, 120]
abbrev dktX0_setTold_2 : List UInt8 := dkwX0_setTold_2 ++ dktX0_setTold_3
def dkwX0_setTold_1 : List UInt8 := [182, 0, 108, 16, 247, 160, 0, 78, 42, 182, 0, 112, 58, 7, 25, 7, 180, 0, 116, 25, 7, 180, 0, 120]
abbrev dktX0_setTold_1 : List UInt8 := dkwX0_setTold_1 ++ dktX0_setTold_2
def dkwX0_setTold_0 : List UInt8 := [16, 247, 54, 4, 16, 247, 54, 5, 3, 54, 6, 21, 6, 16, 36, 162, 0, 98, 42, 180, 0, 51, 21, 6]
abbrev dktX0_setTold_0 : List UInt8 := dkwX0_setTold_0 ++ dktX0_setTold_1
theorem dksX0_setTold_0 : cX0_setTold.data.toList.drop 0 = dktX0_setTold_0 := by decide +kernel
theorem dksX0_setTold_1 : cX0_setTold.data.toList.drop 24 = dktX0_setTold_1 := dk_seg dksX0_setTold_0 24 rfl rfl
theorem dksX0_setTold_2 : cX0_setTold.data.toList.drop 48 = dktX0_setTold_2 := dk_seg dksX0_setTold_1 24 rfl rfl
theorem dksX0_setTold_3 : cX0_setTold.data.toList.drop 71 = dktX0_setTold_3 := dk_seg dksX0_setTold_2 23 rfl rfl
theorem dksX0_setTold_4 : cX0_setTold.data.toList.drop 94 = dktX0_setTold_4 := dk_seg dksX0_setTold_3 23 rfl rfl
theorem dksX0_setTold_5 : cX0_setTold.data.toList.drop 117 = dktX0_setTold_5 := dk_seg dksX0_setTold_4 23 rfl rfl
theorem dX0_setTold_0 : decode cX0_setTold 0 = .ok (.bipush (-9), 2) := dk_16 247 (dk_at dksX0_setTold_0 0 rfl rfl)
theorem dX0_setTold_2 : decode cX0_setTold 2 = .ok (.istore 4, 2) := dk_54 4 (dk_at dksX0_setTold_0 2 rfl rfl)
theorem dX0_setTold_4 : decode cX0_setTold 4 = .ok (.bipush (-9), 2) := dk_16 247 (dk_at dksX0_setTold_0 4 rfl rfl)
theorem dX0_setTold_6 : decode cX0_setTold 6 = .ok (.istore 5, 2) := dk_54 5 (dk_at dksX0_setTold_0 6 rfl rfl)
theorem dX0_setTold_8 : decode cX0_setTold 8 = .ok (.iconst 0, 1) := dk_3 (dk_at dksX0_setTold_0 8 rfl rfl)
theorem dX0_setTold_9 : decode cX0_setTold 9 = .ok (.istore 6, 2) := dk_54 6 (dk_at dksX0_setTold_0 9 rfl rfl)
theorem dX0_setTold_11 : decode cX0_setTold 11 = .ok (.iload 6, 2) := dk_21 6 (dk_at dksX0_setTold_0 11 rfl rfl)
theorem dX0_setTold_13 : decode cX0_setTold 13 = .ok (.bipush 36, 2) := dk_16 36 (dk_at dksX0_setTold_0 13 rfl rfl)
theorem dX0_setTold_15 : decode cX0_setTold 15 = .ok (.if_icmp .ge 98, 3) := dk_162 0 98 (dk_at dksX0_setTold_0 15 rfl rfl)
theorem dX0_setTold_18 : decode cX0_setTold 18 = .ok (.aload_n 0, 1) := dk_42 (dk_at dksX0_setTold_0 18 rfl rfl)
theorem dX0_setTold_19 : decode cX0_setTold 19 = .ok (.getfield 51, 3) := dk_180 0 51 (dk_at dksX0_setTold_0 19 rfl rfl)
theorem dX0_setTold_22 : decode cX0_setTold 22 = .ok (.iload 6, 2) := dk_21 6 (dk_at dksX0_setTold_0 22 rfl rfl)
theorem dX0_setTold_24 : decode cX0_setTold 24 = .ok (.invokevirtual 108, 3) := dk_182 0 108 (dk_at dksX0_setTold_1 0 rfl rfl)
theorem dX0_setTold_27 : decode cX0_setTold 27 = .ok (.bipush (-9), 2) := dk_16 247 (dk_at dksX0_setTold_1 3 rfl rfl)
theorem dX0_setTold_29 : decode cX0_setTold 29 = .ok (.if_icmp .ne 78, 3) := dk_160 0 78 (dk_at dksX0_setTold_1 5 rfl rfl)
theorem dX0_setTold_32 : decode cX0_setTold 32 = .ok (.aload_n 0, 1) := dk_42 (dk_at dksX0_setTold_1 8 rfl rfl)
theorem dX0_setTold_33 : decode cX0_setTold 33 = .ok (.invokevirtual 112, 3) := dk_182 0 112 (dk_at dksX0_setTold_1 9 rfl rfl)
theorem dX0_setTold_36 : decode cX0_setTold 36 = .ok (.astore 7, 2) := dk_58 7 (dk_at dksX0_setTold_1 12 rfl rfl)
theorem dX0_setTold_38 : decode cX0_setTold 38 = .ok (.aload 7, 2) := dk_25 7 (dk_at dksX0_setTold_1 14 rfl rfl)
theorem dX0_setTold_40 : decode cX0_setTold 40 = .ok (.getfield 116, 3) := dk_180 0 116 (dk_at dksX0_setTold_1 16 rfl rfl)
theorem dX0_setTold_43 : decode cX0_setTold 43 = .ok (.aload 7, 2) := dk_25 7 (dk_at dksX0_setTold_1 19 rfl rfl)
theorem dX0_setTold_45 : decode cX0_setTold 45 = .ok (.getfield 120, 3) := dk_180 0 120 (dk_at dksX0_setTold_1 21 rfl rfl)
theorem dX0_setTold_48 : decode cX0_setTold 48 = .ok (.new 23, 3) := dk_187 0 23 (dk_at dksX0_setTold_2 0 rfl rfl)
theorem dX0_setTold_51 : decode cX0_setTold 51 = .ok (.dup, 1) := dk_89 (dk_at dksX0_setTold_2 3 rfl rfl)
theorem dX0_setTold_52 : decode cX0_setTold 52 = .ok (.iload 6, 2) := dk_21 6 (dk_at dksX0_setTold_2 4 rfl rfl)
theorem dX0_setTold_54 : decode cX0_setTold 54 = .ok (.iload_n 2, 1) := dk_28 (dk_at dksX0_setTold_2 6 rfl rfl)
theorem dX0_setTold_55 : decode cX0_setTold 55 = .ok (.iconst 0, 1) := dk_3 (dk_at dksX0_setTold_2 7 rfl rfl)
theorem dX0_setTold_56 : decode cX0_setTold 56 = .ok (.invokespecial 25, 3) := dk_183 0 25 (dk_at dksX0_setTold_2 8 rfl rfl)
theorem dX0_setTold_59 : decode cX0_setTold 59 = .ok (.aastore, 1) := dk_83 (dk_at dksX0_setTold_2 11 rfl rfl)
theorem dX0_setTold_60 : decode cX0_setTold 60 = .ok (.aload 7, 2) := dk_25 7 (dk_at dksX0_setTold_2 12 rfl rfl)
theorem dX0_setTold_62 : decode cX0_setTold 62 = .ok (.dup, 1) := dk_89 (dk_at dksX0_setTold_2 14 rfl rfl)
theorem dX0_setTold_63 : decode cX0_setTold 63 = .ok (.getfield 120, 3) := dk_180 0 120 (dk_at dksX0_setTold_2 15 rfl rfl)
theorem dX0_setTold_66 : decode cX0_setTold 66 = .ok (.iconst 1, 1) := dk_4 (dk_at dksX0_setTold_2 18 rfl rfl)
theorem dX0_setTold_67 : decode cX0_setTold 67 = .ok (.iadd, 1) := dk_96 (dk_at dksX0_setTold_2 19 rfl rfl)
theorem dX0_setTold_68 : decode cX0_setTold 68 = .ok (.putfield 120, 3) := dk_181 0 120 (dk_at dksX0_setTold_2 20 rfl rfl)
theorem dX0_setTold_71 : decode cX0_setTold 71 = .ok (.aload 7, 2) := dk_25 7 (dk_at dksX0_setTold_3 0 rfl rfl)
theorem dX0_setTold_73 : decode cX0_setTold 73 = .ok (.invokevirtual 123, 3) := dk_182 0 123 (dk_at dksX0_setTold_3 2 rfl rfl)
theorem dX0_setTold_76 : decode cX0_setTold 76 = .ok (.iload_n 1, 1) := dk_27 (dk_at dksX0_setTold_3 5 rfl rfl)
theorem dX0_setTold_77 : decode cX0_setTold 77 = .ok (.invokevirtual 126, 3) := dk_182 0 126 (dk_at dksX0_setTold_3 6 rfl rfl)
theorem dX0_setTold_80 : decode cX0_setTold 80 = .ok (.istore 8, 2) := dk_54 8 (dk_at dksX0_setTold_3 9 rfl rfl)
theorem dX0_setTold_82 : decode cX0_setTold 82 = .ok (.iload 8, 2) := dk_21 8 (dk_at dksX0_setTold_3 11 rfl rfl)
theorem dX0_setTold_84 : decode cX0_setTold 84 = .ok (.iload 5, 2) := dk_21 5 (dk_at dksX0_setTold_3 13 rfl rfl)
theorem dX0_setTold_86 : decode cX0_setTold 86 = .ok (.if_icmp .le 8, 3) := dk_164 0 8 (dk_at dksX0_setTold_3 15 rfl rfl)
theorem dX0_setTold_89 : decode cX0_setTold 89 = .ok (.iload 6, 2) := dk_21 6 (dk_at dksX0_setTold_3 18 rfl rfl)
theorem dX0_setTold_91 : decode cX0_setTold 91 = .ok (.goto 5, 3) := dk_167 0 5 (dk_at dksX0_setTold_3 20 rfl rfl)
theorem dX0_setTold_94 : decode cX0_setTold 94 = .ok (.iload 4, 2) := dk_21 4 (dk_at dksX0_setTold_4 0 rfl rfl)
theorem dX0_setTold_96 : decode cX0_setTold 96 = .ok (.istore 4, 2) := dk_54 4 (dk_at dksX0_setTold_4 2 rfl rfl)
theorem dX0_setTold_98 : decode cX0_setTold 98 = .ok (.iload 5, 2) := dk_21 5 (dk_at dksX0_setTold_4 4 rfl rfl)
theorem dX0_setTold_100 : decode cX0_setTold 100 = .ok (.iload 8, 2) := dk_21 8 (dk_at dksX0_setTold_4 6 rfl rfl)
theorem dX0_setTold_102 : decode cX0_setTold 102 = .ok (.invokestatic 129, 3) := dk_184 0 129 (dk_at dksX0_setTold_4 8 rfl rfl)
theorem dX0_setTold_105 : decode cX0_setTold 105 = .ok (.istore 5, 2) := dk_54 5 (dk_at dksX0_setTold_4 11 rfl rfl)
theorem dX0_setTold_107 : decode cX0_setTold 107 = .ok (.iinc 6 1, 3) := dk_132 6 1 (dk_at dksX0_setTold_4 13 rfl rfl)
theorem dX0_setTold_110 : decode cX0_setTold 110 = .ok (.goto (-99), 3) := dk_167 255 157 (dk_at dksX0_setTold_4 16 rfl rfl)
theorem dX0_setTold_113 : decode cX0_setTold 113 = .ok (.iload_n 3, 1) := dk_29 (dk_at dksX0_setTold_4 19 rfl rfl)
theorem dX0_setTold_114 : decode cX0_setTold 114 = .ok (.ifCond .ne 8, 3) := dk_154 0 8 (dk_at dksX0_setTold_4 20 rfl rfl)
theorem dX0_setTold_117 : decode cX0_setTold 117 = .ok (.iload 4, 2) := dk_21 4 (dk_at dksX0_setTold_5 0 rfl rfl)
theorem dX0_setTold_119 : decode cX0_setTold 119 = .ok (.goto 5, 3) := dk_167 0 5 (dk_at dksX0_setTold_5 2 rfl rfl)
theorem dX0_setTold_122 : decode cX0_setTold 122 = .ok (.iload 5, 2) := dk_21 5 (dk_at dksX0_setTold_5 5 rfl rfl)
theorem dX0_setTold_124 : decode cX0_setTold 124 = .ok (.ireturn, 1) := dk_172 (dk_at dksX0_setTold_5 7 rfl rfl)
abbrev cX0_openMind : ByteArray := prog_1_method_12_code
def yX0_openMind : MethodName := ⟨RX0, "openMind", "()LFallsBetween$Town;"⟩
def dkwX0_openMind_0 : List UInt8 := [42, 180, 0, 55, 42, 180, 0, 51, 182, 0, 94, 42, 180, 0, 55, 176]
abbrev dktX0_openMind_0 : List UInt8 := dkwX0_openMind_0 ++ []
theorem dksX0_openMind_0 : cX0_openMind.data.toList.drop 0 = dktX0_openMind_0 := by decide +kernel
theorem dX0_openMind_0 : decode cX0_openMind 0 = .ok (.aload_n 0, 1) := dk_42 (dk_at dksX0_openMind_0 0 rfl rfl)
theorem dX0_openMind_1 : decode cX0_openMind 1 = .ok (.getfield 55, 3) := dk_180 0 55 (dk_at dksX0_openMind_0 1 rfl rfl)
theorem dX0_openMind_4 : decode cX0_openMind 4 = .ok (.aload_n 0, 1) := dk_42 (dk_at dksX0_openMind_0 4 rfl rfl)
theorem dX0_openMind_5 : decode cX0_openMind 5 = .ok (.getfield 51, 3) := dk_180 0 51 (dk_at dksX0_openMind_0 5 rfl rfl)
theorem dX0_openMind_8 : decode cX0_openMind 8 = .ok (.invokevirtual 94, 3) := dk_182 0 94 (dk_at dksX0_openMind_0 8 rfl rfl)
theorem dX0_openMind_11 : decode cX0_openMind 11 = .ok (.aload_n 0, 1) := dk_42 (dk_at dksX0_openMind_0 11 rfl rfl)
theorem dX0_openMind_12 : decode cX0_openMind 12 = .ok (.getfield 55, 3) := dk_180 0 55 (dk_at dksX0_openMind_0 12 rfl rfl)
theorem dX0_openMind_15 : decode cX0_openMind 15 = .ok (.areturn, 1) := dk_176 (dk_at dksX0_openMind_0 15 rfl rfl)
abbrev cX0_worthOf : ByteArray := prog_1_method_14_code
def yX0_worthOf : MethodName := ⟨RX0, "worthOf", "(II)I"⟩
def dkwX0_worthOf_1 : List UInt8 := [29, 25, 4, 182, 0, 123, 28, 182, 0, 126, 100, 172]
abbrev dktX0_worthOf_1 : List UInt8 := dkwX0_worthOf_1 ++ []
def dkwX0_worthOf_0 : List UInt8 := [42, 180, 0, 51, 182, 0, 123, 28, 182, 0, 126, 62, 42, 182, 0, 112, 58, 4, 25, 4, 27, 182, 0, 134]
abbrev dktX0_worthOf_0 : List UInt8 := dkwX0_worthOf_0 ++ dktX0_worthOf_1
theorem dksX0_worthOf_0 : cX0_worthOf.data.toList.drop 0 = dktX0_worthOf_0 := by decide +kernel
theorem dksX0_worthOf_1 : cX0_worthOf.data.toList.drop 24 = dktX0_worthOf_1 := dk_seg dksX0_worthOf_0 24 rfl rfl
theorem dX0_worthOf_0 : decode cX0_worthOf 0 = .ok (.aload_n 0, 1) := dk_42 (dk_at dksX0_worthOf_0 0 rfl rfl)
theorem dX0_worthOf_1 : decode cX0_worthOf 1 = .ok (.getfield 51, 3) := dk_180 0 51 (dk_at dksX0_worthOf_0 1 rfl rfl)
theorem dX0_worthOf_4 : decode cX0_worthOf 4 = .ok (.invokevirtual 123, 3) := dk_182 0 123 (dk_at dksX0_worthOf_0 4 rfl rfl)
theorem dX0_worthOf_7 : decode cX0_worthOf 7 = .ok (.iload_n 2, 1) := dk_28 (dk_at dksX0_worthOf_0 7 rfl rfl)
theorem dX0_worthOf_8 : decode cX0_worthOf 8 = .ok (.invokevirtual 126, 3) := dk_182 0 126 (dk_at dksX0_worthOf_0 8 rfl rfl)
theorem dX0_worthOf_11 : decode cX0_worthOf 11 = .ok (.istore_n 3, 1) := dk_62 (dk_at dksX0_worthOf_0 11 rfl rfl)
theorem dX0_worthOf_12 : decode cX0_worthOf 12 = .ok (.aload_n 0, 1) := dk_42 (dk_at dksX0_worthOf_0 12 rfl rfl)
theorem dX0_worthOf_13 : decode cX0_worthOf 13 = .ok (.invokevirtual 112, 3) := dk_182 0 112 (dk_at dksX0_worthOf_0 13 rfl rfl)
theorem dX0_worthOf_16 : decode cX0_worthOf 16 = .ok (.astore 4, 2) := dk_58 4 (dk_at dksX0_worthOf_0 16 rfl rfl)
theorem dX0_worthOf_18 : decode cX0_worthOf 18 = .ok (.aload 4, 2) := dk_25 4 (dk_at dksX0_worthOf_0 18 rfl rfl)
theorem dX0_worthOf_20 : decode cX0_worthOf 20 = .ok (.iload_n 1, 1) := dk_27 (dk_at dksX0_worthOf_0 20 rfl rfl)
theorem dX0_worthOf_21 : decode cX0_worthOf 21 = .ok (.invokevirtual 134, 3) := dk_182 0 134 (dk_at dksX0_worthOf_0 21 rfl rfl)
theorem dX0_worthOf_24 : decode cX0_worthOf 24 = .ok (.iload_n 3, 1) := dk_29 (dk_at dksX0_worthOf_1 0 rfl rfl)
theorem dX0_worthOf_25 : decode cX0_worthOf 25 = .ok (.aload 4, 2) := dk_25 4 (dk_at dksX0_worthOf_1 1 rfl rfl)
theorem dX0_worthOf_27 : decode cX0_worthOf 27 = .ok (.invokevirtual 123, 3) := dk_182 0 123 (dk_at dksX0_worthOf_1 3 rfl rfl)
theorem dX0_worthOf_30 : decode cX0_worthOf 30 = .ok (.iload_n 2, 1) := dk_28 (dk_at dksX0_worthOf_1 6 rfl rfl)
theorem dX0_worthOf_31 : decode cX0_worthOf 31 = .ok (.invokevirtual 126, 3) := dk_182 0 126 (dk_at dksX0_worthOf_1 7 rfl rfl)
theorem dX0_worthOf_34 : decode cX0_worthOf 34 = .ok (.isub, 1) := dk_100 (dk_at dksX0_worthOf_1 10 rfl rfl)
theorem dX0_worthOf_35 : decode cX0_worthOf 35 = .ok (.ireturn, 1) := dk_172 (dk_at dksX0_worthOf_1 11 rfl rfl)
abbrev cX0_ofRest : ByteArray := prog_1_method_47_code
def yX0_ofRest : MethodName := ⟨RX0, "ofRest", "(IIII)I"⟩
def dkwX0_ofRest_5 : List UInt8 := [42, 28, 182, 1, 81, 172, 42, 27, 28, 29, 21, 4, 182, 1, 84, 172]
abbrev dktX0_ofRest_5 : List UInt8 := dkwX0_ofRest_5 ++ []
def dkwX0_ofRest_4 : List UInt8 := [184, 0, 224, 42, 28, 182, 1, 72, 172, 42, 28, 29, 21, 4, 182, 1, 75, 172, 42, 28, 182, 1, 78, 172]
abbrev dktX0_ofRest_4 : List UInt8 := dkwX0_ofRest_4 ++ dktX0_ofRest_5
def dkwX0_ofRest_3 : List UInt8 := [3, 182, 1, 62, 172, 42, 28, 29, 182, 1, 66, 172, 28, 184, 0, 249, 42, 28, 182, 1, 69, 172, 28]
abbrev dktX0_ofRest_3 : List UInt8 := dkwX0_ofRest_3 ++ dktX0_ofRest_4
def dkwX0_ofRest_2 : List UInt8 := [42, 182, 1, 56, 172, 42, 182, 1, 59, 172, 28, 184, 1, 29, 42, 28, 4, 160, 0, 7, 4, 167, 0, 4]
abbrev dktX0_ofRest_2 : List UInt8 := dkwX0_ofRest_2 ++ dktX0_ofRest_3
def dkwX0_ofRest_1 : List UInt8 := [170, 0, 0, 0, 0, 0, 128, 0, 0, 0, 17, 0, 0, 0, 25, 0, 0, 0, 51, 0, 0, 0, 56, 0, 0, 0, 61, 0, 0, 0, 80, 0, 0, 0, 87, 0, 0, 0, 97, 0, 0, 0, 107, 0, 0, 0, 116, 0, 0, 0, 122]
abbrev dktX0_ofRest_1 : List UInt8 := dkwX0_ofRest_1 ++ dktX0_ofRest_2
def dkwX0_ofRest_0 : List UInt8 := [27]
abbrev dktX0_ofRest_0 : List UInt8 := dkwX0_ofRest_0 ++ dktX0_ofRest_1
theorem dksX0_ofRest_0 : cX0_ofRest.data.toList.drop 0 = dktX0_ofRest_0 := by decide +kernel
theorem dksX0_ofRest_1 : cX0_ofRest.data.toList.drop 1 = dktX0_ofRest_1 := dk_seg dksX0_ofRest_0 1 rfl rfl
theorem dksX0_ofRest_2 : cX0_ofRest.data.toList.drop 52 = dktX0_ofRest_2 := dk_seg dksX0_ofRest_1 51 rfl rfl
theorem dksX0_ofRest_3 : cX0_ofRest.data.toList.drop 76 = dktX0_ofRest_3 := dk_seg dksX0_ofRest_2 24 rfl rfl
theorem dksX0_ofRest_4 : cX0_ofRest.data.toList.drop 99 = dktX0_ofRest_4 := dk_seg dksX0_ofRest_3 23 rfl rfl
theorem dksX0_ofRest_5 : cX0_ofRest.data.toList.drop 123 = dktX0_ofRest_5 := dk_seg dksX0_ofRest_4 24 rfl rfl
theorem dX0_ofRest_0 : decode cX0_ofRest 0 = .ok (.iload_n 1, 1) := dk_27 (dk_at dksX0_ofRest_0 0 rfl rfl)
theorem dX0_ofRest_1 : decode cX0_ofRest 1 = .ok (.tableswitch 128 17 25 #[51, 56, 61, 80, 87, 97, 107, 116, 122], 51) := by decide +kernel
theorem dX0_ofRest_52 : decode cX0_ofRest 52 = .ok (.aload_n 0, 1) := dk_42 (dk_at dksX0_ofRest_2 0 rfl rfl)
theorem dX0_ofRest_53 : decode cX0_ofRest 53 = .ok (.invokevirtual 312, 3) := dk_182 1 56 (dk_at dksX0_ofRest_2 1 rfl rfl)
theorem dX0_ofRest_56 : decode cX0_ofRest 56 = .ok (.ireturn, 1) := dk_172 (dk_at dksX0_ofRest_2 4 rfl rfl)
theorem dX0_ofRest_57 : decode cX0_ofRest 57 = .ok (.aload_n 0, 1) := dk_42 (dk_at dksX0_ofRest_2 5 rfl rfl)
theorem dX0_ofRest_58 : decode cX0_ofRest 58 = .ok (.invokevirtual 315, 3) := dk_182 1 59 (dk_at dksX0_ofRest_2 6 rfl rfl)
theorem dX0_ofRest_61 : decode cX0_ofRest 61 = .ok (.ireturn, 1) := dk_172 (dk_at dksX0_ofRest_2 9 rfl rfl)
theorem dX0_ofRest_62 : decode cX0_ofRest 62 = .ok (.iload_n 2, 1) := dk_28 (dk_at dksX0_ofRest_2 10 rfl rfl)
theorem dX0_ofRest_63 : decode cX0_ofRest 63 = .ok (.invokestatic 285, 3) := dk_184 1 29 (dk_at dksX0_ofRest_2 11 rfl rfl)
theorem dX0_ofRest_66 : decode cX0_ofRest 66 = .ok (.aload_n 0, 1) := dk_42 (dk_at dksX0_ofRest_2 14 rfl rfl)
theorem dX0_ofRest_67 : decode cX0_ofRest 67 = .ok (.iload_n 2, 1) := dk_28 (dk_at dksX0_ofRest_2 15 rfl rfl)
theorem dX0_ofRest_68 : decode cX0_ofRest 68 = .ok (.iconst 1, 1) := dk_4 (dk_at dksX0_ofRest_2 16 rfl rfl)
theorem dX0_ofRest_69 : decode cX0_ofRest 69 = .ok (.if_icmp .ne 7, 3) := dk_160 0 7 (dk_at dksX0_ofRest_2 17 rfl rfl)
theorem dX0_ofRest_72 : decode cX0_ofRest 72 = .ok (.iconst 1, 1) := dk_4 (dk_at dksX0_ofRest_2 20 rfl rfl)
theorem dX0_ofRest_73 : decode cX0_ofRest 73 = .ok (.goto 4, 3) := dk_167 0 4 (dk_at dksX0_ofRest_2 21 rfl rfl)
theorem dX0_ofRest_76 : decode cX0_ofRest 76 = .ok (.iconst 0, 1) := dk_3 (dk_at dksX0_ofRest_3 0 rfl rfl)
theorem dX0_ofRest_77 : decode cX0_ofRest 77 = .ok (.invokevirtual 318, 3) := dk_182 1 62 (dk_at dksX0_ofRest_3 1 rfl rfl)
theorem dX0_ofRest_80 : decode cX0_ofRest 80 = .ok (.ireturn, 1) := dk_172 (dk_at dksX0_ofRest_3 4 rfl rfl)
theorem dX0_ofRest_81 : decode cX0_ofRest 81 = .ok (.aload_n 0, 1) := dk_42 (dk_at dksX0_ofRest_3 5 rfl rfl)
theorem dX0_ofRest_82 : decode cX0_ofRest 82 = .ok (.iload_n 2, 1) := dk_28 (dk_at dksX0_ofRest_3 6 rfl rfl)
theorem dX0_ofRest_83 : decode cX0_ofRest 83 = .ok (.iload_n 3, 1) := dk_29 (dk_at dksX0_ofRest_3 7 rfl rfl)
theorem dX0_ofRest_84 : decode cX0_ofRest 84 = .ok (.invokevirtual 322, 3) := dk_182 1 66 (dk_at dksX0_ofRest_3 8 rfl rfl)
theorem dX0_ofRest_87 : decode cX0_ofRest 87 = .ok (.ireturn, 1) := dk_172 (dk_at dksX0_ofRest_3 11 rfl rfl)
theorem dX0_ofRest_88 : decode cX0_ofRest 88 = .ok (.iload_n 2, 1) := dk_28 (dk_at dksX0_ofRest_3 12 rfl rfl)
theorem dX0_ofRest_89 : decode cX0_ofRest 89 = .ok (.invokestatic 249, 3) := dk_184 0 249 (dk_at dksX0_ofRest_3 13 rfl rfl)
theorem dX0_ofRest_92 : decode cX0_ofRest 92 = .ok (.aload_n 0, 1) := dk_42 (dk_at dksX0_ofRest_3 16 rfl rfl)
theorem dX0_ofRest_93 : decode cX0_ofRest 93 = .ok (.iload_n 2, 1) := dk_28 (dk_at dksX0_ofRest_3 17 rfl rfl)
theorem dX0_ofRest_94 : decode cX0_ofRest 94 = .ok (.invokevirtual 325, 3) := dk_182 1 69 (dk_at dksX0_ofRest_3 18 rfl rfl)
theorem dX0_ofRest_97 : decode cX0_ofRest 97 = .ok (.ireturn, 1) := dk_172 (dk_at dksX0_ofRest_3 21 rfl rfl)
theorem dX0_ofRest_98 : decode cX0_ofRest 98 = .ok (.iload_n 2, 1) := dk_28 (dk_at dksX0_ofRest_3 22 rfl rfl)
theorem dX0_ofRest_99 : decode cX0_ofRest 99 = .ok (.invokestatic 224, 3) := dk_184 0 224 (dk_at dksX0_ofRest_4 0 rfl rfl)
theorem dX0_ofRest_102 : decode cX0_ofRest 102 = .ok (.aload_n 0, 1) := dk_42 (dk_at dksX0_ofRest_4 3 rfl rfl)
theorem dX0_ofRest_103 : decode cX0_ofRest 103 = .ok (.iload_n 2, 1) := dk_28 (dk_at dksX0_ofRest_4 4 rfl rfl)
theorem dX0_ofRest_104 : decode cX0_ofRest 104 = .ok (.invokevirtual 328, 3) := dk_182 1 72 (dk_at dksX0_ofRest_4 5 rfl rfl)
theorem dX0_ofRest_107 : decode cX0_ofRest 107 = .ok (.ireturn, 1) := dk_172 (dk_at dksX0_ofRest_4 8 rfl rfl)
theorem dX0_ofRest_108 : decode cX0_ofRest 108 = .ok (.aload_n 0, 1) := dk_42 (dk_at dksX0_ofRest_4 9 rfl rfl)
theorem dX0_ofRest_109 : decode cX0_ofRest 109 = .ok (.iload_n 2, 1) := dk_28 (dk_at dksX0_ofRest_4 10 rfl rfl)
theorem dX0_ofRest_110 : decode cX0_ofRest 110 = .ok (.iload_n 3, 1) := dk_29 (dk_at dksX0_ofRest_4 11 rfl rfl)
theorem dX0_ofRest_111 : decode cX0_ofRest 111 = .ok (.iload 4, 2) := dk_21 4 (dk_at dksX0_ofRest_4 12 rfl rfl)
theorem dX0_ofRest_113 : decode cX0_ofRest 113 = .ok (.invokevirtual 331, 3) := dk_182 1 75 (dk_at dksX0_ofRest_4 14 rfl rfl)
theorem dX0_ofRest_116 : decode cX0_ofRest 116 = .ok (.ireturn, 1) := dk_172 (dk_at dksX0_ofRest_4 17 rfl rfl)
theorem dX0_ofRest_117 : decode cX0_ofRest 117 = .ok (.aload_n 0, 1) := dk_42 (dk_at dksX0_ofRest_4 18 rfl rfl)
theorem dX0_ofRest_118 : decode cX0_ofRest 118 = .ok (.iload_n 2, 1) := dk_28 (dk_at dksX0_ofRest_4 19 rfl rfl)
theorem dX0_ofRest_119 : decode cX0_ofRest 119 = .ok (.invokevirtual 334, 3) := dk_182 1 78 (dk_at dksX0_ofRest_4 20 rfl rfl)
theorem dX0_ofRest_122 : decode cX0_ofRest 122 = .ok (.ireturn, 1) := dk_172 (dk_at dksX0_ofRest_4 23 rfl rfl)
theorem dX0_ofRest_123 : decode cX0_ofRest 123 = .ok (.aload_n 0, 1) := dk_42 (dk_at dksX0_ofRest_5 0 rfl rfl)
theorem dX0_ofRest_124 : decode cX0_ofRest 124 = .ok (.iload_n 2, 1) := dk_28 (dk_at dksX0_ofRest_5 1 rfl rfl)
theorem dX0_ofRest_125 : decode cX0_ofRest 125 = .ok (.invokevirtual 337, 3) := dk_182 1 81 (dk_at dksX0_ofRest_5 2 rfl rfl)
theorem dX0_ofRest_128 : decode cX0_ofRest 128 = .ok (.ireturn, 1) := dk_172 (dk_at dksX0_ofRest_5 5 rfl rfl)
theorem dX0_ofRest_129 : decode cX0_ofRest 129 = .ok (.aload_n 0, 1) := dk_42 (dk_at dksX0_ofRest_5 6 rfl rfl)
theorem dX0_ofRest_130 : decode cX0_ofRest 130 = .ok (.iload_n 1, 1) := dk_27 (dk_at dksX0_ofRest_5 7 rfl rfl)
theorem dX0_ofRest_131 : decode cX0_ofRest 131 = .ok (.iload_n 2, 1) := dk_28 (dk_at dksX0_ofRest_5 8 rfl rfl)
theorem dX0_ofRest_132 : decode cX0_ofRest 132 = .ok (.iload_n 3, 1) := dk_29 (dk_at dksX0_ofRest_5 9 rfl rfl)
theorem dX0_ofRest_133 : decode cX0_ofRest 133 = .ok (.iload 4, 2) := dk_21 4 (dk_at dksX0_ofRest_5 10 rfl rfl)
theorem dX0_ofRest_135 : decode cX0_ofRest 135 = .ok (.invokevirtual 340, 3) := dk_182 1 84 (dk_at dksX0_ofRest_5 12 rfl rfl)
theorem dX0_ofRest_138 : decode cX0_ofRest 138 = .ok (.ireturn, 1) := dk_172 (dk_at dksX0_ofRest_5 15 rfl rfl)
abbrev cX0_bestGift : ByteArray := prog_1_method_15_code
def yX0_bestGift : MethodName := ⟨RX0, "bestGift", "()I"⟩
def dkwX0_bestGift_4 : List UInt8 := [167, 255, 206, 45, 180, 0, 141, 21, 4, 21, 5, 79, 132, 4, 1, 167, 255, 172, 27, 172]
abbrev dktX0_bestGift_4 : List UInt8 := dkwX0_bestGift_4 ++ []
def dkwX0_bestGift_3 : List UInt8 := [16, 10, 21, 4, 104, 21, 6, 96, 167, 0, 4, 27, 60, 28, 21, 7, 184, 0, 144, 61, 132, 6, 1]
abbrev dktX0_bestGift_3 : List UInt8 := dkwX0_bestGift_3 ++ dktX0_bestGift_4
def dkwX0_bestGift_2 : List UInt8 := [162, 0, 50, 45, 180, 0, 141, 21, 4, 21, 6, 79, 45, 182, 0, 137, 54, 7, 21, 7, 28, 162, 0, 14]
abbrev dktX0_bestGift_2 : List UInt8 := dkwX0_bestGift_2 ++ dktX0_bestGift_3
def dkwX0_bestGift_1 : List UInt8 := [54, 4, 21, 4, 16, 36, 162, 0, 83, 45, 180, 0, 141, 21, 4, 46, 54, 5, 3, 54, 6, 21, 6, 7]
abbrev dktX0_bestGift_1 : List UInt8 := dkwX0_bestGift_1 ++ dktX0_bestGift_2
def dkwX0_bestGift_0 : List UInt8 := [16, 247, 60, 42, 180, 0, 51, 182, 0, 123, 182, 0, 137, 61, 42, 182, 0, 112, 182, 0, 123, 78, 3]
abbrev dktX0_bestGift_0 : List UInt8 := dkwX0_bestGift_0 ++ dktX0_bestGift_1
theorem dksX0_bestGift_0 : cX0_bestGift.data.toList.drop 0 = dktX0_bestGift_0 := by decide +kernel
theorem dksX0_bestGift_1 : cX0_bestGift.data.toList.drop 23 = dktX0_bestGift_1 := dk_seg dksX0_bestGift_0 23 rfl rfl
theorem dksX0_bestGift_2 : cX0_bestGift.data.toList.drop 47 = dktX0_bestGift_2 := dk_seg dksX0_bestGift_1 24 rfl rfl
theorem dksX0_bestGift_3 : cX0_bestGift.data.toList.drop 71 = dktX0_bestGift_3 := dk_seg dksX0_bestGift_2 24 rfl rfl
theorem dksX0_bestGift_4 : cX0_bestGift.data.toList.drop 94 = dktX0_bestGift_4 := dk_seg dksX0_bestGift_3 23 rfl rfl
theorem dX0_bestGift_0 : decode cX0_bestGift 0 = .ok (.bipush (-9), 2) := dk_16 247 (dk_at dksX0_bestGift_0 0 rfl rfl)
theorem dX0_bestGift_2 : decode cX0_bestGift 2 = .ok (.istore_n 1, 1) := dk_60 (dk_at dksX0_bestGift_0 2 rfl rfl)
theorem dX0_bestGift_3 : decode cX0_bestGift 3 = .ok (.aload_n 0, 1) := dk_42 (dk_at dksX0_bestGift_0 3 rfl rfl)
theorem dX0_bestGift_4 : decode cX0_bestGift 4 = .ok (.getfield 51, 3) := dk_180 0 51 (dk_at dksX0_bestGift_0 4 rfl rfl)
theorem dX0_bestGift_7 : decode cX0_bestGift 7 = .ok (.invokevirtual 123, 3) := dk_182 0 123 (dk_at dksX0_bestGift_0 7 rfl rfl)
theorem dX0_bestGift_10 : decode cX0_bestGift 10 = .ok (.invokevirtual 137, 3) := dk_182 0 137 (dk_at dksX0_bestGift_0 10 rfl rfl)
theorem dX0_bestGift_13 : decode cX0_bestGift 13 = .ok (.istore_n 2, 1) := dk_61 (dk_at dksX0_bestGift_0 13 rfl rfl)
theorem dX0_bestGift_14 : decode cX0_bestGift 14 = .ok (.aload_n 0, 1) := dk_42 (dk_at dksX0_bestGift_0 14 rfl rfl)
theorem dX0_bestGift_15 : decode cX0_bestGift 15 = .ok (.invokevirtual 112, 3) := dk_182 0 112 (dk_at dksX0_bestGift_0 15 rfl rfl)
theorem dX0_bestGift_18 : decode cX0_bestGift 18 = .ok (.invokevirtual 123, 3) := dk_182 0 123 (dk_at dksX0_bestGift_0 18 rfl rfl)
theorem dX0_bestGift_21 : decode cX0_bestGift 21 = .ok (.astore_n 3, 1) := dk_78 (dk_at dksX0_bestGift_0 21 rfl rfl)
theorem dX0_bestGift_22 : decode cX0_bestGift 22 = .ok (.iconst 0, 1) := dk_3 (dk_at dksX0_bestGift_0 22 rfl rfl)
theorem dX0_bestGift_23 : decode cX0_bestGift 23 = .ok (.istore 4, 2) := dk_54 4 (dk_at dksX0_bestGift_1 0 rfl rfl)
theorem dX0_bestGift_25 : decode cX0_bestGift 25 = .ok (.iload 4, 2) := dk_21 4 (dk_at dksX0_bestGift_1 2 rfl rfl)
theorem dX0_bestGift_27 : decode cX0_bestGift 27 = .ok (.bipush 36, 2) := dk_16 36 (dk_at dksX0_bestGift_1 4 rfl rfl)
theorem dX0_bestGift_29 : decode cX0_bestGift 29 = .ok (.if_icmp .ge 83, 3) := dk_162 0 83 (dk_at dksX0_bestGift_1 6 rfl rfl)
theorem dX0_bestGift_32 : decode cX0_bestGift 32 = .ok (.aload_n 3, 1) := dk_45 (dk_at dksX0_bestGift_1 9 rfl rfl)
theorem dX0_bestGift_33 : decode cX0_bestGift 33 = .ok (.getfield 141, 3) := dk_180 0 141 (dk_at dksX0_bestGift_1 10 rfl rfl)
theorem dX0_bestGift_36 : decode cX0_bestGift 36 = .ok (.iload 4, 2) := dk_21 4 (dk_at dksX0_bestGift_1 13 rfl rfl)
theorem dX0_bestGift_38 : decode cX0_bestGift 38 = .ok (.iaload, 1) := dk_46 (dk_at dksX0_bestGift_1 15 rfl rfl)
theorem dX0_bestGift_39 : decode cX0_bestGift 39 = .ok (.istore 5, 2) := dk_54 5 (dk_at dksX0_bestGift_1 16 rfl rfl)
theorem dX0_bestGift_41 : decode cX0_bestGift 41 = .ok (.iconst 0, 1) := dk_3 (dk_at dksX0_bestGift_1 18 rfl rfl)
theorem dX0_bestGift_42 : decode cX0_bestGift 42 = .ok (.istore 6, 2) := dk_54 6 (dk_at dksX0_bestGift_1 19 rfl rfl)
theorem dX0_bestGift_44 : decode cX0_bestGift 44 = .ok (.iload 6, 2) := dk_21 6 (dk_at dksX0_bestGift_1 21 rfl rfl)
theorem dX0_bestGift_46 : decode cX0_bestGift 46 = .ok (.iconst 4, 1) := dk_7 (dk_at dksX0_bestGift_1 23 rfl rfl)
theorem dX0_bestGift_47 : decode cX0_bestGift 47 = .ok (.if_icmp .ge 50, 3) := dk_162 0 50 (dk_at dksX0_bestGift_2 0 rfl rfl)
theorem dX0_bestGift_50 : decode cX0_bestGift 50 = .ok (.aload_n 3, 1) := dk_45 (dk_at dksX0_bestGift_2 3 rfl rfl)
theorem dX0_bestGift_51 : decode cX0_bestGift 51 = .ok (.getfield 141, 3) := dk_180 0 141 (dk_at dksX0_bestGift_2 4 rfl rfl)
theorem dX0_bestGift_54 : decode cX0_bestGift 54 = .ok (.iload 4, 2) := dk_21 4 (dk_at dksX0_bestGift_2 7 rfl rfl)
theorem dX0_bestGift_56 : decode cX0_bestGift 56 = .ok (.iload 6, 2) := dk_21 6 (dk_at dksX0_bestGift_2 9 rfl rfl)
theorem dX0_bestGift_58 : decode cX0_bestGift 58 = .ok (.iastore, 1) := dk_79 (dk_at dksX0_bestGift_2 11 rfl rfl)
theorem dX0_bestGift_59 : decode cX0_bestGift 59 = .ok (.aload_n 3, 1) := dk_45 (dk_at dksX0_bestGift_2 12 rfl rfl)
theorem dX0_bestGift_60 : decode cX0_bestGift 60 = .ok (.invokevirtual 137, 3) := dk_182 0 137 (dk_at dksX0_bestGift_2 13 rfl rfl)
theorem dX0_bestGift_63 : decode cX0_bestGift 63 = .ok (.istore 7, 2) := dk_54 7 (dk_at dksX0_bestGift_2 16 rfl rfl)
theorem dX0_bestGift_65 : decode cX0_bestGift 65 = .ok (.iload 7, 2) := dk_21 7 (dk_at dksX0_bestGift_2 18 rfl rfl)
theorem dX0_bestGift_67 : decode cX0_bestGift 67 = .ok (.iload_n 2, 1) := dk_28 (dk_at dksX0_bestGift_2 20 rfl rfl)
theorem dX0_bestGift_68 : decode cX0_bestGift 68 = .ok (.if_icmp .ge 14, 3) := dk_162 0 14 (dk_at dksX0_bestGift_2 21 rfl rfl)
theorem dX0_bestGift_71 : decode cX0_bestGift 71 = .ok (.bipush 10, 2) := dk_16 10 (dk_at dksX0_bestGift_3 0 rfl rfl)
theorem dX0_bestGift_73 : decode cX0_bestGift 73 = .ok (.iload 4, 2) := dk_21 4 (dk_at dksX0_bestGift_3 2 rfl rfl)
theorem dX0_bestGift_75 : decode cX0_bestGift 75 = .ok (.imul, 1) := dk_104 (dk_at dksX0_bestGift_3 4 rfl rfl)
theorem dX0_bestGift_76 : decode cX0_bestGift 76 = .ok (.iload 6, 2) := dk_21 6 (dk_at dksX0_bestGift_3 5 rfl rfl)
theorem dX0_bestGift_78 : decode cX0_bestGift 78 = .ok (.iadd, 1) := dk_96 (dk_at dksX0_bestGift_3 7 rfl rfl)
theorem dX0_bestGift_79 : decode cX0_bestGift 79 = .ok (.goto 4, 3) := dk_167 0 4 (dk_at dksX0_bestGift_3 8 rfl rfl)
theorem dX0_bestGift_82 : decode cX0_bestGift 82 = .ok (.iload_n 1, 1) := dk_27 (dk_at dksX0_bestGift_3 11 rfl rfl)
theorem dX0_bestGift_83 : decode cX0_bestGift 83 = .ok (.istore_n 1, 1) := dk_60 (dk_at dksX0_bestGift_3 12 rfl rfl)
theorem dX0_bestGift_84 : decode cX0_bestGift 84 = .ok (.iload_n 2, 1) := dk_28 (dk_at dksX0_bestGift_3 13 rfl rfl)
theorem dX0_bestGift_85 : decode cX0_bestGift 85 = .ok (.iload 7, 2) := dk_21 7 (dk_at dksX0_bestGift_3 14 rfl rfl)
theorem dX0_bestGift_87 : decode cX0_bestGift 87 = .ok (.invokestatic 144, 3) := dk_184 0 144 (dk_at dksX0_bestGift_3 16 rfl rfl)
theorem dX0_bestGift_90 : decode cX0_bestGift 90 = .ok (.istore_n 2, 1) := dk_61 (dk_at dksX0_bestGift_3 19 rfl rfl)
theorem dX0_bestGift_91 : decode cX0_bestGift 91 = .ok (.iinc 6 1, 3) := dk_132 6 1 (dk_at dksX0_bestGift_3 20 rfl rfl)
theorem dX0_bestGift_94 : decode cX0_bestGift 94 = .ok (.goto (-50), 3) := dk_167 255 206 (dk_at dksX0_bestGift_4 0 rfl rfl)
theorem dX0_bestGift_97 : decode cX0_bestGift 97 = .ok (.aload_n 3, 1) := dk_45 (dk_at dksX0_bestGift_4 3 rfl rfl)
theorem dX0_bestGift_98 : decode cX0_bestGift 98 = .ok (.getfield 141, 3) := dk_180 0 141 (dk_at dksX0_bestGift_4 4 rfl rfl)
theorem dX0_bestGift_101 : decode cX0_bestGift 101 = .ok (.iload 4, 2) := dk_21 4 (dk_at dksX0_bestGift_4 7 rfl rfl)
theorem dX0_bestGift_103 : decode cX0_bestGift 103 = .ok (.iload 5, 2) := dk_21 5 (dk_at dksX0_bestGift_4 9 rfl rfl)
theorem dX0_bestGift_105 : decode cX0_bestGift 105 = .ok (.iastore, 1) := dk_79 (dk_at dksX0_bestGift_4 11 rfl rfl)
theorem dX0_bestGift_106 : decode cX0_bestGift 106 = .ok (.iinc 4 1, 3) := dk_132 4 1 (dk_at dksX0_bestGift_4 12 rfl rfl)
theorem dX0_bestGift_109 : decode cX0_bestGift 109 = .ok (.goto (-84), 3) := dk_167 255 172 (dk_at dksX0_bestGift_4 15 rfl rfl)
theorem dX0_bestGift_112 : decode cX0_bestGift 112 = .ok (.iload_n 1, 1) := dk_27 (dk_at dksX0_bestGift_4 18 rfl rfl)
theorem dX0_bestGift_113 : decode cX0_bestGift 113 = .ok (.ireturn, 1) := dk_172 (dk_at dksX0_bestGift_4 19 rfl rfl)
abbrev cX0_cleanest : ByteArray := prog_1_method_16_code
def yX0_cleanest : MethodName := ⟨RX0, "cleanest", "()I"⟩
def dkwX0_cleanest_3 : List UInt8 := [167, 0, 9, 28, 21, 5, 184, 0, 144, 61, 132, 4, 1, 167, 255, 191, 27, 172]
abbrev dktX0_cleanest_3 : List UInt8 := dkwX0_cleanest_3 ++ []
def dkwX0_cleanest_2 : List UInt8 := [153, 0, 9, 21, 5, 28, 162, 0, 8, 21, 4, 167, 0, 4, 27, 60, 21, 4, 154, 0, 8, 21, 5]
abbrev dktX0_cleanest_2 : List UInt8 := dkwX0_cleanest_2 ++ dktX0_cleanest_3
def dkwX0_cleanest_1 : List UInt8 := [162, 0, 61, 45, 21, 4, 181, 0, 151, 45, 182, 0, 137, 45, 180, 0, 154, 96, 54, 5, 21, 4]
abbrev dktX0_cleanest_1 : List UInt8 := dkwX0_cleanest_1 ++ dktX0_cleanest_2
def dkwX0_cleanest_0 : List UInt8 := [3, 60, 3, 61, 42, 182, 0, 112, 182, 0, 123, 78, 3, 54, 4, 21, 4, 45, 180, 0, 147, 190]
abbrev dktX0_cleanest_0 : List UInt8 := dkwX0_cleanest_0 ++ dktX0_cleanest_1
theorem dksX0_cleanest_0 : cX0_cleanest.data.toList.drop 0 = dktX0_cleanest_0 := by decide +kernel
theorem dksX0_cleanest_1 : cX0_cleanest.data.toList.drop 22 = dktX0_cleanest_1 := dk_seg dksX0_cleanest_0 22 rfl rfl
theorem dksX0_cleanest_2 : cX0_cleanest.data.toList.drop 44 = dktX0_cleanest_2 := dk_seg dksX0_cleanest_1 22 rfl rfl
theorem dksX0_cleanest_3 : cX0_cleanest.data.toList.drop 67 = dktX0_cleanest_3 := dk_seg dksX0_cleanest_2 23 rfl rfl
theorem dX0_cleanest_0 : decode cX0_cleanest 0 = .ok (.iconst 0, 1) := dk_3 (dk_at dksX0_cleanest_0 0 rfl rfl)
theorem dX0_cleanest_1 : decode cX0_cleanest 1 = .ok (.istore_n 1, 1) := dk_60 (dk_at dksX0_cleanest_0 1 rfl rfl)
theorem dX0_cleanest_2 : decode cX0_cleanest 2 = .ok (.iconst 0, 1) := dk_3 (dk_at dksX0_cleanest_0 2 rfl rfl)
theorem dX0_cleanest_3 : decode cX0_cleanest 3 = .ok (.istore_n 2, 1) := dk_61 (dk_at dksX0_cleanest_0 3 rfl rfl)
theorem dX0_cleanest_4 : decode cX0_cleanest 4 = .ok (.aload_n 0, 1) := dk_42 (dk_at dksX0_cleanest_0 4 rfl rfl)
theorem dX0_cleanest_5 : decode cX0_cleanest 5 = .ok (.invokevirtual 112, 3) := dk_182 0 112 (dk_at dksX0_cleanest_0 5 rfl rfl)
theorem dX0_cleanest_8 : decode cX0_cleanest 8 = .ok (.invokevirtual 123, 3) := dk_182 0 123 (dk_at dksX0_cleanest_0 8 rfl rfl)
theorem dX0_cleanest_11 : decode cX0_cleanest 11 = .ok (.astore_n 3, 1) := dk_78 (dk_at dksX0_cleanest_0 11 rfl rfl)
theorem dX0_cleanest_12 : decode cX0_cleanest 12 = .ok (.iconst 0, 1) := dk_3 (dk_at dksX0_cleanest_0 12 rfl rfl)
theorem dX0_cleanest_13 : decode cX0_cleanest 13 = .ok (.istore 4, 2) := dk_54 4 (dk_at dksX0_cleanest_0 13 rfl rfl)
theorem dX0_cleanest_15 : decode cX0_cleanest 15 = .ok (.iload 4, 2) := dk_21 4 (dk_at dksX0_cleanest_0 15 rfl rfl)
theorem dX0_cleanest_17 : decode cX0_cleanest 17 = .ok (.aload_n 3, 1) := dk_45 (dk_at dksX0_cleanest_0 17 rfl rfl)
theorem dX0_cleanest_18 : decode cX0_cleanest 18 = .ok (.getfield 147, 3) := dk_180 0 147 (dk_at dksX0_cleanest_0 18 rfl rfl)
theorem dX0_cleanest_21 : decode cX0_cleanest 21 = .ok (.arraylength, 1) := dk_190 (dk_at dksX0_cleanest_0 21 rfl rfl)
theorem dX0_cleanest_22 : decode cX0_cleanest 22 = .ok (.if_icmp .ge 61, 3) := dk_162 0 61 (dk_at dksX0_cleanest_1 0 rfl rfl)
theorem dX0_cleanest_25 : decode cX0_cleanest 25 = .ok (.aload_n 3, 1) := dk_45 (dk_at dksX0_cleanest_1 3 rfl rfl)
theorem dX0_cleanest_26 : decode cX0_cleanest 26 = .ok (.iload 4, 2) := dk_21 4 (dk_at dksX0_cleanest_1 4 rfl rfl)
theorem dX0_cleanest_28 : decode cX0_cleanest 28 = .ok (.putfield 151, 3) := dk_181 0 151 (dk_at dksX0_cleanest_1 6 rfl rfl)
theorem dX0_cleanest_31 : decode cX0_cleanest 31 = .ok (.aload_n 3, 1) := dk_45 (dk_at dksX0_cleanest_1 9 rfl rfl)
theorem dX0_cleanest_32 : decode cX0_cleanest 32 = .ok (.invokevirtual 137, 3) := dk_182 0 137 (dk_at dksX0_cleanest_1 10 rfl rfl)
theorem dX0_cleanest_35 : decode cX0_cleanest 35 = .ok (.aload_n 3, 1) := dk_45 (dk_at dksX0_cleanest_1 13 rfl rfl)
theorem dX0_cleanest_36 : decode cX0_cleanest 36 = .ok (.getfield 154, 3) := dk_180 0 154 (dk_at dksX0_cleanest_1 14 rfl rfl)
theorem dX0_cleanest_39 : decode cX0_cleanest 39 = .ok (.iadd, 1) := dk_96 (dk_at dksX0_cleanest_1 17 rfl rfl)
theorem dX0_cleanest_40 : decode cX0_cleanest 40 = .ok (.istore 5, 2) := dk_54 5 (dk_at dksX0_cleanest_1 18 rfl rfl)
theorem dX0_cleanest_42 : decode cX0_cleanest 42 = .ok (.iload 4, 2) := dk_21 4 (dk_at dksX0_cleanest_1 20 rfl rfl)
theorem dX0_cleanest_44 : decode cX0_cleanest 44 = .ok (.ifCond .eq 9, 3) := dk_153 0 9 (dk_at dksX0_cleanest_2 0 rfl rfl)
theorem dX0_cleanest_47 : decode cX0_cleanest 47 = .ok (.iload 5, 2) := dk_21 5 (dk_at dksX0_cleanest_2 3 rfl rfl)
theorem dX0_cleanest_49 : decode cX0_cleanest 49 = .ok (.iload_n 2, 1) := dk_28 (dk_at dksX0_cleanest_2 5 rfl rfl)
theorem dX0_cleanest_50 : decode cX0_cleanest 50 = .ok (.if_icmp .ge 8, 3) := dk_162 0 8 (dk_at dksX0_cleanest_2 6 rfl rfl)
theorem dX0_cleanest_53 : decode cX0_cleanest 53 = .ok (.iload 4, 2) := dk_21 4 (dk_at dksX0_cleanest_2 9 rfl rfl)
theorem dX0_cleanest_55 : decode cX0_cleanest 55 = .ok (.goto 4, 3) := dk_167 0 4 (dk_at dksX0_cleanest_2 11 rfl rfl)
theorem dX0_cleanest_58 : decode cX0_cleanest 58 = .ok (.iload_n 1, 1) := dk_27 (dk_at dksX0_cleanest_2 14 rfl rfl)
theorem dX0_cleanest_59 : decode cX0_cleanest 59 = .ok (.istore_n 1, 1) := dk_60 (dk_at dksX0_cleanest_2 15 rfl rfl)
theorem dX0_cleanest_60 : decode cX0_cleanest 60 = .ok (.iload 4, 2) := dk_21 4 (dk_at dksX0_cleanest_2 16 rfl rfl)
theorem dX0_cleanest_62 : decode cX0_cleanest 62 = .ok (.ifCond .ne 8, 3) := dk_154 0 8 (dk_at dksX0_cleanest_2 18 rfl rfl)
theorem dX0_cleanest_65 : decode cX0_cleanest 65 = .ok (.iload 5, 2) := dk_21 5 (dk_at dksX0_cleanest_2 21 rfl rfl)
theorem dX0_cleanest_67 : decode cX0_cleanest 67 = .ok (.goto 9, 3) := dk_167 0 9 (dk_at dksX0_cleanest_3 0 rfl rfl)
theorem dX0_cleanest_70 : decode cX0_cleanest 70 = .ok (.iload_n 2, 1) := dk_28 (dk_at dksX0_cleanest_3 3 rfl rfl)
theorem dX0_cleanest_71 : decode cX0_cleanest 71 = .ok (.iload 5, 2) := dk_21 5 (dk_at dksX0_cleanest_3 4 rfl rfl)
theorem dX0_cleanest_73 : decode cX0_cleanest 73 = .ok (.invokestatic 144, 3) := dk_184 0 144 (dk_at dksX0_cleanest_3 6 rfl rfl)
theorem dX0_cleanest_76 : decode cX0_cleanest 76 = .ok (.istore_n 2, 1) := dk_61 (dk_at dksX0_cleanest_3 9 rfl rfl)
theorem dX0_cleanest_77 : decode cX0_cleanest 77 = .ok (.iinc 4 1, 3) := dk_132 4 1 (dk_at dksX0_cleanest_3 10 rfl rfl)
theorem dX0_cleanest_80 : decode cX0_cleanest 80 = .ok (.goto (-65), 3) := dk_167 255 191 (dk_at dksX0_cleanest_3 13 rfl rfl)
theorem dX0_cleanest_83 : decode cX0_cleanest 83 = .ok (.iload_n 1, 1) := dk_27 (dk_at dksX0_cleanest_3 16 rfl rfl)
theorem dX0_cleanest_84 : decode cX0_cleanest 84 = .ok (.ireturn, 1) := dk_172 (dk_at dksX0_cleanest_3 17 rfl rfl)
abbrev cX0_bestLine : ByteArray := prog_1_method_17_code
def yX0_bestLine : MethodName := ⟨RX0, "bestLine", "(Z)I"⟩
def dkwX0_bestLine_4 : List UInt8 := [184, 0, 144, 62, 132, 5, 1, 167, 255, 172, 28, 172]
abbrev dktX0_bestLine_4 : List UInt8 := dkwX0_bestLine_4 ++ []
def dkwX0_bestLine_3 : List UInt8 := [162, 0, 8, 21, 5, 167, 0, 4, 28, 61, 21, 5, 4, 160, 0, 8, 21, 6, 167, 0, 9, 29, 21, 6]
abbrev dktX0_bestLine_3 : List UInt8 := dkwX0_bestLine_3 ++ dktX0_bestLine_4
def dkwX0_bestLine_2 : List UInt8 := [184, 0, 160, 167, 0, 8, 25, 4, 182, 0, 137, 54, 6, 21, 5, 4, 159, 0, 9, 21, 6, 29]
abbrev dktX0_bestLine_2 : List UInt8 := dkwX0_bestLine_2 ++ dktX0_bestLine_3
def dkwX0_bestLine_1 : List UInt8 := [25, 4, 21, 5, 182, 0, 157, 27, 153, 0, 22, 25, 4, 3, 182, 0, 126, 25, 4, 4, 182, 0, 126, 100]
abbrev dktX0_bestLine_1 : List UInt8 := dkwX0_bestLine_1 ++ dktX0_bestLine_2
def dkwX0_bestLine_0 : List UInt8 := [4, 61, 3, 62, 42, 182, 0, 112, 182, 0, 123, 58, 4, 4, 54, 5, 21, 5, 16, 6, 162, 0, 83]
abbrev dktX0_bestLine_0 : List UInt8 := dkwX0_bestLine_0 ++ dktX0_bestLine_1
theorem dksX0_bestLine_0 : cX0_bestLine.data.toList.drop 0 = dktX0_bestLine_0 := by decide +kernel
theorem dksX0_bestLine_1 : cX0_bestLine.data.toList.drop 23 = dktX0_bestLine_1 := dk_seg dksX0_bestLine_0 23 rfl rfl
theorem dksX0_bestLine_2 : cX0_bestLine.data.toList.drop 47 = dktX0_bestLine_2 := dk_seg dksX0_bestLine_1 24 rfl rfl
theorem dksX0_bestLine_3 : cX0_bestLine.data.toList.drop 69 = dktX0_bestLine_3 := dk_seg dksX0_bestLine_2 22 rfl rfl
theorem dksX0_bestLine_4 : cX0_bestLine.data.toList.drop 93 = dktX0_bestLine_4 := dk_seg dksX0_bestLine_3 24 rfl rfl
theorem dX0_bestLine_0 : decode cX0_bestLine 0 = .ok (.iconst 1, 1) := dk_4 (dk_at dksX0_bestLine_0 0 rfl rfl)
theorem dX0_bestLine_1 : decode cX0_bestLine 1 = .ok (.istore_n 2, 1) := dk_61 (dk_at dksX0_bestLine_0 1 rfl rfl)
theorem dX0_bestLine_2 : decode cX0_bestLine 2 = .ok (.iconst 0, 1) := dk_3 (dk_at dksX0_bestLine_0 2 rfl rfl)
theorem dX0_bestLine_3 : decode cX0_bestLine 3 = .ok (.istore_n 3, 1) := dk_62 (dk_at dksX0_bestLine_0 3 rfl rfl)
theorem dX0_bestLine_4 : decode cX0_bestLine 4 = .ok (.aload_n 0, 1) := dk_42 (dk_at dksX0_bestLine_0 4 rfl rfl)
theorem dX0_bestLine_5 : decode cX0_bestLine 5 = .ok (.invokevirtual 112, 3) := dk_182 0 112 (dk_at dksX0_bestLine_0 5 rfl rfl)
theorem dX0_bestLine_8 : decode cX0_bestLine 8 = .ok (.invokevirtual 123, 3) := dk_182 0 123 (dk_at dksX0_bestLine_0 8 rfl rfl)
theorem dX0_bestLine_11 : decode cX0_bestLine 11 = .ok (.astore 4, 2) := dk_58 4 (dk_at dksX0_bestLine_0 11 rfl rfl)
theorem dX0_bestLine_13 : decode cX0_bestLine 13 = .ok (.iconst 1, 1) := dk_4 (dk_at dksX0_bestLine_0 13 rfl rfl)
theorem dX0_bestLine_14 : decode cX0_bestLine 14 = .ok (.istore 5, 2) := dk_54 5 (dk_at dksX0_bestLine_0 14 rfl rfl)
theorem dX0_bestLine_16 : decode cX0_bestLine 16 = .ok (.iload 5, 2) := dk_21 5 (dk_at dksX0_bestLine_0 16 rfl rfl)
theorem dX0_bestLine_18 : decode cX0_bestLine 18 = .ok (.bipush 6, 2) := dk_16 6 (dk_at dksX0_bestLine_0 18 rfl rfl)
theorem dX0_bestLine_20 : decode cX0_bestLine 20 = .ok (.if_icmp .ge 83, 3) := dk_162 0 83 (dk_at dksX0_bestLine_0 20 rfl rfl)
theorem dX0_bestLine_23 : decode cX0_bestLine 23 = .ok (.aload 4, 2) := dk_25 4 (dk_at dksX0_bestLine_1 0 rfl rfl)
theorem dX0_bestLine_25 : decode cX0_bestLine 25 = .ok (.iload 5, 2) := dk_21 5 (dk_at dksX0_bestLine_1 2 rfl rfl)
theorem dX0_bestLine_27 : decode cX0_bestLine 27 = .ok (.invokevirtual 157, 3) := dk_182 0 157 (dk_at dksX0_bestLine_1 4 rfl rfl)
theorem dX0_bestLine_30 : decode cX0_bestLine 30 = .ok (.iload_n 1, 1) := dk_27 (dk_at dksX0_bestLine_1 7 rfl rfl)
theorem dX0_bestLine_31 : decode cX0_bestLine 31 = .ok (.ifCond .eq 22, 3) := dk_153 0 22 (dk_at dksX0_bestLine_1 8 rfl rfl)
theorem dX0_bestLine_34 : decode cX0_bestLine 34 = .ok (.aload 4, 2) := dk_25 4 (dk_at dksX0_bestLine_1 11 rfl rfl)
theorem dX0_bestLine_36 : decode cX0_bestLine 36 = .ok (.iconst 0, 1) := dk_3 (dk_at dksX0_bestLine_1 13 rfl rfl)
theorem dX0_bestLine_37 : decode cX0_bestLine 37 = .ok (.invokevirtual 126, 3) := dk_182 0 126 (dk_at dksX0_bestLine_1 14 rfl rfl)
theorem dX0_bestLine_40 : decode cX0_bestLine 40 = .ok (.aload 4, 2) := dk_25 4 (dk_at dksX0_bestLine_1 17 rfl rfl)
theorem dX0_bestLine_42 : decode cX0_bestLine 42 = .ok (.iconst 1, 1) := dk_4 (dk_at dksX0_bestLine_1 19 rfl rfl)
theorem dX0_bestLine_43 : decode cX0_bestLine 43 = .ok (.invokevirtual 126, 3) := dk_182 0 126 (dk_at dksX0_bestLine_1 20 rfl rfl)
theorem dX0_bestLine_46 : decode cX0_bestLine 46 = .ok (.isub, 1) := dk_100 (dk_at dksX0_bestLine_1 23 rfl rfl)
theorem dX0_bestLine_47 : decode cX0_bestLine 47 = .ok (.invokestatic 160, 3) := dk_184 0 160 (dk_at dksX0_bestLine_2 0 rfl rfl)
theorem dX0_bestLine_50 : decode cX0_bestLine 50 = .ok (.goto 8, 3) := dk_167 0 8 (dk_at dksX0_bestLine_2 3 rfl rfl)
theorem dX0_bestLine_53 : decode cX0_bestLine 53 = .ok (.aload 4, 2) := dk_25 4 (dk_at dksX0_bestLine_2 6 rfl rfl)
theorem dX0_bestLine_55 : decode cX0_bestLine 55 = .ok (.invokevirtual 137, 3) := dk_182 0 137 (dk_at dksX0_bestLine_2 8 rfl rfl)
theorem dX0_bestLine_58 : decode cX0_bestLine 58 = .ok (.istore 6, 2) := dk_54 6 (dk_at dksX0_bestLine_2 11 rfl rfl)
theorem dX0_bestLine_60 : decode cX0_bestLine 60 = .ok (.iload 5, 2) := dk_21 5 (dk_at dksX0_bestLine_2 13 rfl rfl)
theorem dX0_bestLine_62 : decode cX0_bestLine 62 = .ok (.iconst 1, 1) := dk_4 (dk_at dksX0_bestLine_2 15 rfl rfl)
theorem dX0_bestLine_63 : decode cX0_bestLine 63 = .ok (.if_icmp .eq 9, 3) := dk_159 0 9 (dk_at dksX0_bestLine_2 16 rfl rfl)
theorem dX0_bestLine_66 : decode cX0_bestLine 66 = .ok (.iload 6, 2) := dk_21 6 (dk_at dksX0_bestLine_2 19 rfl rfl)
theorem dX0_bestLine_68 : decode cX0_bestLine 68 = .ok (.iload_n 3, 1) := dk_29 (dk_at dksX0_bestLine_2 21 rfl rfl)
theorem dX0_bestLine_69 : decode cX0_bestLine 69 = .ok (.if_icmp .ge 8, 3) := dk_162 0 8 (dk_at dksX0_bestLine_3 0 rfl rfl)
theorem dX0_bestLine_72 : decode cX0_bestLine 72 = .ok (.iload 5, 2) := dk_21 5 (dk_at dksX0_bestLine_3 3 rfl rfl)
theorem dX0_bestLine_74 : decode cX0_bestLine 74 = .ok (.goto 4, 3) := dk_167 0 4 (dk_at dksX0_bestLine_3 5 rfl rfl)
theorem dX0_bestLine_77 : decode cX0_bestLine 77 = .ok (.iload_n 2, 1) := dk_28 (dk_at dksX0_bestLine_3 8 rfl rfl)
theorem dX0_bestLine_78 : decode cX0_bestLine 78 = .ok (.istore_n 2, 1) := dk_61 (dk_at dksX0_bestLine_3 9 rfl rfl)
theorem dX0_bestLine_79 : decode cX0_bestLine 79 = .ok (.iload 5, 2) := dk_21 5 (dk_at dksX0_bestLine_3 10 rfl rfl)
theorem dX0_bestLine_81 : decode cX0_bestLine 81 = .ok (.iconst 1, 1) := dk_4 (dk_at dksX0_bestLine_3 12 rfl rfl)
theorem dX0_bestLine_82 : decode cX0_bestLine 82 = .ok (.if_icmp .ne 8, 3) := dk_160 0 8 (dk_at dksX0_bestLine_3 13 rfl rfl)
theorem dX0_bestLine_85 : decode cX0_bestLine 85 = .ok (.iload 6, 2) := dk_21 6 (dk_at dksX0_bestLine_3 16 rfl rfl)
theorem dX0_bestLine_87 : decode cX0_bestLine 87 = .ok (.goto 9, 3) := dk_167 0 9 (dk_at dksX0_bestLine_3 18 rfl rfl)
theorem dX0_bestLine_90 : decode cX0_bestLine 90 = .ok (.iload_n 3, 1) := dk_29 (dk_at dksX0_bestLine_3 21 rfl rfl)
theorem dX0_bestLine_91 : decode cX0_bestLine 91 = .ok (.iload 6, 2) := dk_21 6 (dk_at dksX0_bestLine_3 22 rfl rfl)
theorem dX0_bestLine_93 : decode cX0_bestLine 93 = .ok (.invokestatic 144, 3) := dk_184 0 144 (dk_at dksX0_bestLine_4 0 rfl rfl)
theorem dX0_bestLine_96 : decode cX0_bestLine 96 = .ok (.istore_n 3, 1) := dk_62 (dk_at dksX0_bestLine_4 3 rfl rfl)
theorem dX0_bestLine_97 : decode cX0_bestLine 97 = .ok (.iinc 5 1, 3) := dk_132 5 1 (dk_at dksX0_bestLine_4 4 rfl rfl)
theorem dX0_bestLine_100 : decode cX0_bestLine 100 = .ok (.goto (-84), 3) := dk_167 255 172 (dk_at dksX0_bestLine_4 7 rfl rfl)
theorem dX0_bestLine_103 : decode cX0_bestLine 103 = .ok (.iload_n 2, 1) := dk_28 (dk_at dksX0_bestLine_4 10 rfl rfl)
theorem dX0_bestLine_104 : decode cX0_bestLine 104 = .ok (.ireturn, 1) := dk_172 (dk_at dksX0_bestLine_4 11 rfl rfl)
abbrev cX0_windsAsked : ByteArray := prog_1_method_43_code
def yX0_windsAsked : MethodName := ⟨RX0, "windsAsked", "(II)I"⟩
def dkwX0_windsAsked_0 : List UInt8 := [27, 184, 0, 249, 28, 184, 1, 29, 42, 27, 28, 182, 1, 44, 172]
abbrev dktX0_windsAsked_0 : List UInt8 := dkwX0_windsAsked_0 ++ []
theorem dksX0_windsAsked_0 : cX0_windsAsked.data.toList.drop 0 = dktX0_windsAsked_0 := by decide +kernel
theorem dX0_windsAsked_0 : decode cX0_windsAsked 0 = .ok (.iload_n 1, 1) := dk_27 (dk_at dksX0_windsAsked_0 0 rfl rfl)
theorem dX0_windsAsked_1 : decode cX0_windsAsked 1 = .ok (.invokestatic 249, 3) := dk_184 0 249 (dk_at dksX0_windsAsked_0 1 rfl rfl)
theorem dX0_windsAsked_4 : decode cX0_windsAsked 4 = .ok (.iload_n 2, 1) := dk_28 (dk_at dksX0_windsAsked_0 4 rfl rfl)
theorem dX0_windsAsked_5 : decode cX0_windsAsked 5 = .ok (.invokestatic 285, 3) := dk_184 1 29 (dk_at dksX0_windsAsked_0 5 rfl rfl)
theorem dX0_windsAsked_8 : decode cX0_windsAsked 8 = .ok (.aload_n 0, 1) := dk_42 (dk_at dksX0_windsAsked_0 8 rfl rfl)
theorem dX0_windsAsked_9 : decode cX0_windsAsked 9 = .ok (.iload_n 1, 1) := dk_27 (dk_at dksX0_windsAsked_0 9 rfl rfl)
theorem dX0_windsAsked_10 : decode cX0_windsAsked 10 = .ok (.iload_n 2, 1) := dk_28 (dk_at dksX0_windsAsked_0 10 rfl rfl)
theorem dX0_windsAsked_11 : decode cX0_windsAsked 11 = .ok (.invokevirtual 300, 3) := dk_182 1 44 (dk_at dksX0_windsAsked_0 11 rfl rfl)
theorem dX0_windsAsked_14 : decode cX0_windsAsked 14 = .ok (.ireturn, 1) := dk_172 (dk_at dksX0_windsAsked_0 14 rfl rfl)
abbrev cX0_windsTold : ByteArray := prog_1_method_18_code
def yX0_windsTold : MethodName := ⟨RX0, "windsTold", "(II)I"⟩
def dkwX0_windsTold_4 : List UInt8 := [154, 0, 7, 29, 167, 0, 5, 21, 5, 172]
abbrev dktX0_windsTold_4 : List UInt8 := dkwX0_windsTold_4 ++ []
def dkwX0_windsTold_3 : List UInt8 := [154, 0, 8, 21, 8, 167, 0, 10, 21, 5, 21, 8, 184, 0, 144, 54, 5, 132, 7, 1, 167, 255, 186, 28]
abbrev dktX0_windsTold_3 : List UInt8 := dkwX0_windsTold_3 ++ dktX0_windsTold_4
def dkwX0_windsTold_2 : List UInt8 := [21, 4, 164, 0, 8, 21, 7, 167, 0, 4, 29, 62, 21, 4, 21, 8, 184, 0, 129, 54, 4, 21, 7]
abbrev dktX0_windsTold_2 : List UInt8 := dkwX0_windsTold_2 ++ dktX0_windsTold_3
def dkwX0_windsTold_1 : List UInt8 := [162, 0, 69, 25, 6, 21, 7, 181, 0, 163, 25, 6, 182, 0, 123, 27, 182, 0, 126, 54, 8, 21, 8]
abbrev dktX0_windsTold_1 : List UInt8 := dkwX0_windsTold_1 ++ dktX0_windsTold_2
def dkwX0_windsTold_0 : List UInt8 := [3, 62, 16, 247, 54, 4, 3, 54, 5, 42, 182, 0, 112, 58, 6, 3, 54, 7, 21, 7, 16, 16]
abbrev dktX0_windsTold_0 : List UInt8 := dkwX0_windsTold_0 ++ dktX0_windsTold_1
theorem dksX0_windsTold_0 : cX0_windsTold.data.toList.drop 0 = dktX0_windsTold_0 := by decide +kernel
theorem dksX0_windsTold_1 : cX0_windsTold.data.toList.drop 22 = dktX0_windsTold_1 := dk_seg dksX0_windsTold_0 22 rfl rfl
theorem dksX0_windsTold_2 : cX0_windsTold.data.toList.drop 45 = dktX0_windsTold_2 := dk_seg dksX0_windsTold_1 23 rfl rfl
theorem dksX0_windsTold_3 : cX0_windsTold.data.toList.drop 68 = dktX0_windsTold_3 := dk_seg dksX0_windsTold_2 23 rfl rfl
theorem dksX0_windsTold_4 : cX0_windsTold.data.toList.drop 92 = dktX0_windsTold_4 := dk_seg dksX0_windsTold_3 24 rfl rfl
theorem dX0_windsTold_0 : decode cX0_windsTold 0 = .ok (.iconst 0, 1) := dk_3 (dk_at dksX0_windsTold_0 0 rfl rfl)
theorem dX0_windsTold_1 : decode cX0_windsTold 1 = .ok (.istore_n 3, 1) := dk_62 (dk_at dksX0_windsTold_0 1 rfl rfl)
theorem dX0_windsTold_2 : decode cX0_windsTold 2 = .ok (.bipush (-9), 2) := dk_16 247 (dk_at dksX0_windsTold_0 2 rfl rfl)
theorem dX0_windsTold_4 : decode cX0_windsTold 4 = .ok (.istore 4, 2) := dk_54 4 (dk_at dksX0_windsTold_0 4 rfl rfl)
theorem dX0_windsTold_6 : decode cX0_windsTold 6 = .ok (.iconst 0, 1) := dk_3 (dk_at dksX0_windsTold_0 6 rfl rfl)
theorem dX0_windsTold_7 : decode cX0_windsTold 7 = .ok (.istore 5, 2) := dk_54 5 (dk_at dksX0_windsTold_0 7 rfl rfl)
theorem dX0_windsTold_9 : decode cX0_windsTold 9 = .ok (.aload_n 0, 1) := dk_42 (dk_at dksX0_windsTold_0 9 rfl rfl)
theorem dX0_windsTold_10 : decode cX0_windsTold 10 = .ok (.invokevirtual 112, 3) := dk_182 0 112 (dk_at dksX0_windsTold_0 10 rfl rfl)
theorem dX0_windsTold_13 : decode cX0_windsTold 13 = .ok (.astore 6, 2) := dk_58 6 (dk_at dksX0_windsTold_0 13 rfl rfl)
theorem dX0_windsTold_15 : decode cX0_windsTold 15 = .ok (.iconst 0, 1) := dk_3 (dk_at dksX0_windsTold_0 15 rfl rfl)
theorem dX0_windsTold_16 : decode cX0_windsTold 16 = .ok (.istore 7, 2) := dk_54 7 (dk_at dksX0_windsTold_0 16 rfl rfl)
theorem dX0_windsTold_18 : decode cX0_windsTold 18 = .ok (.iload 7, 2) := dk_21 7 (dk_at dksX0_windsTold_0 18 rfl rfl)
theorem dX0_windsTold_20 : decode cX0_windsTold 20 = .ok (.bipush 16, 2) := dk_16 16 (dk_at dksX0_windsTold_0 20 rfl rfl)
theorem dX0_windsTold_22 : decode cX0_windsTold 22 = .ok (.if_icmp .ge 69, 3) := dk_162 0 69 (dk_at dksX0_windsTold_1 0 rfl rfl)
theorem dX0_windsTold_25 : decode cX0_windsTold 25 = .ok (.aload 6, 2) := dk_25 6 (dk_at dksX0_windsTold_1 3 rfl rfl)
theorem dX0_windsTold_27 : decode cX0_windsTold 27 = .ok (.iload 7, 2) := dk_21 7 (dk_at dksX0_windsTold_1 5 rfl rfl)
theorem dX0_windsTold_29 : decode cX0_windsTold 29 = .ok (.putfield 163, 3) := dk_181 0 163 (dk_at dksX0_windsTold_1 7 rfl rfl)
theorem dX0_windsTold_32 : decode cX0_windsTold 32 = .ok (.aload 6, 2) := dk_25 6 (dk_at dksX0_windsTold_1 10 rfl rfl)
theorem dX0_windsTold_34 : decode cX0_windsTold 34 = .ok (.invokevirtual 123, 3) := dk_182 0 123 (dk_at dksX0_windsTold_1 12 rfl rfl)
theorem dX0_windsTold_37 : decode cX0_windsTold 37 = .ok (.iload_n 1, 1) := dk_27 (dk_at dksX0_windsTold_1 15 rfl rfl)
theorem dX0_windsTold_38 : decode cX0_windsTold 38 = .ok (.invokevirtual 126, 3) := dk_182 0 126 (dk_at dksX0_windsTold_1 16 rfl rfl)
theorem dX0_windsTold_41 : decode cX0_windsTold 41 = .ok (.istore 8, 2) := dk_54 8 (dk_at dksX0_windsTold_1 19 rfl rfl)
theorem dX0_windsTold_43 : decode cX0_windsTold 43 = .ok (.iload 8, 2) := dk_21 8 (dk_at dksX0_windsTold_1 21 rfl rfl)
theorem dX0_windsTold_45 : decode cX0_windsTold 45 = .ok (.iload 4, 2) := dk_21 4 (dk_at dksX0_windsTold_2 0 rfl rfl)
theorem dX0_windsTold_47 : decode cX0_windsTold 47 = .ok (.if_icmp .le 8, 3) := dk_164 0 8 (dk_at dksX0_windsTold_2 2 rfl rfl)
theorem dX0_windsTold_50 : decode cX0_windsTold 50 = .ok (.iload 7, 2) := dk_21 7 (dk_at dksX0_windsTold_2 5 rfl rfl)
theorem dX0_windsTold_52 : decode cX0_windsTold 52 = .ok (.goto 4, 3) := dk_167 0 4 (dk_at dksX0_windsTold_2 7 rfl rfl)
theorem dX0_windsTold_55 : decode cX0_windsTold 55 = .ok (.iload_n 3, 1) := dk_29 (dk_at dksX0_windsTold_2 10 rfl rfl)
theorem dX0_windsTold_56 : decode cX0_windsTold 56 = .ok (.istore_n 3, 1) := dk_62 (dk_at dksX0_windsTold_2 11 rfl rfl)
theorem dX0_windsTold_57 : decode cX0_windsTold 57 = .ok (.iload 4, 2) := dk_21 4 (dk_at dksX0_windsTold_2 12 rfl rfl)
theorem dX0_windsTold_59 : decode cX0_windsTold 59 = .ok (.iload 8, 2) := dk_21 8 (dk_at dksX0_windsTold_2 14 rfl rfl)
theorem dX0_windsTold_61 : decode cX0_windsTold 61 = .ok (.invokestatic 129, 3) := dk_184 0 129 (dk_at dksX0_windsTold_2 16 rfl rfl)
theorem dX0_windsTold_64 : decode cX0_windsTold 64 = .ok (.istore 4, 2) := dk_54 4 (dk_at dksX0_windsTold_2 19 rfl rfl)
theorem dX0_windsTold_66 : decode cX0_windsTold 66 = .ok (.iload 7, 2) := dk_21 7 (dk_at dksX0_windsTold_2 21 rfl rfl)
theorem dX0_windsTold_68 : decode cX0_windsTold 68 = .ok (.ifCond .ne 8, 3) := dk_154 0 8 (dk_at dksX0_windsTold_3 0 rfl rfl)
theorem dX0_windsTold_71 : decode cX0_windsTold 71 = .ok (.iload 8, 2) := dk_21 8 (dk_at dksX0_windsTold_3 3 rfl rfl)
theorem dX0_windsTold_73 : decode cX0_windsTold 73 = .ok (.goto 10, 3) := dk_167 0 10 (dk_at dksX0_windsTold_3 5 rfl rfl)
theorem dX0_windsTold_76 : decode cX0_windsTold 76 = .ok (.iload 5, 2) := dk_21 5 (dk_at dksX0_windsTold_3 8 rfl rfl)
theorem dX0_windsTold_78 : decode cX0_windsTold 78 = .ok (.iload 8, 2) := dk_21 8 (dk_at dksX0_windsTold_3 10 rfl rfl)
theorem dX0_windsTold_80 : decode cX0_windsTold 80 = .ok (.invokestatic 144, 3) := dk_184 0 144 (dk_at dksX0_windsTold_3 12 rfl rfl)
theorem dX0_windsTold_83 : decode cX0_windsTold 83 = .ok (.istore 5, 2) := dk_54 5 (dk_at dksX0_windsTold_3 15 rfl rfl)
theorem dX0_windsTold_85 : decode cX0_windsTold 85 = .ok (.iinc 7 1, 3) := dk_132 7 1 (dk_at dksX0_windsTold_3 17 rfl rfl)
theorem dX0_windsTold_88 : decode cX0_windsTold 88 = .ok (.goto (-70), 3) := dk_167 255 186 (dk_at dksX0_windsTold_3 20 rfl rfl)
theorem dX0_windsTold_91 : decode cX0_windsTold 91 = .ok (.iload_n 2, 1) := dk_28 (dk_at dksX0_windsTold_3 23 rfl rfl)
theorem dX0_windsTold_92 : decode cX0_windsTold 92 = .ok (.ifCond .ne 7, 3) := dk_154 0 7 (dk_at dksX0_windsTold_4 0 rfl rfl)
theorem dX0_windsTold_95 : decode cX0_windsTold 95 = .ok (.iload_n 3, 1) := dk_29 (dk_at dksX0_windsTold_4 3 rfl rfl)
theorem dX0_windsTold_96 : decode cX0_windsTold 96 = .ok (.goto 5, 3) := dk_167 0 5 (dk_at dksX0_windsTold_4 4 rfl rfl)
theorem dX0_windsTold_99 : decode cX0_windsTold 99 = .ok (.iload 5, 2) := dk_21 5 (dk_at dksX0_windsTold_4 7 rfl rfl)
theorem dX0_windsTold_101 : decode cX0_windsTold 101 = .ok (.ireturn, 1) := dk_172 (dk_at dksX0_windsTold_4 9 rfl rfl)
abbrev cX0_bestNet : ByteArray := prog_1_method_19_code
def yX0_bestNet : MethodName := ⟨RX0, "bestNet", "(I)I"⟩
def dkwX0_bestNet_4 : List UInt8 := [21, 4, 167, 0, 4, 28, 61, 29, 21, 6, 184, 0, 129, 62, 132, 4, 1, 167, 255, 160, 28, 172]
abbrev dktX0_bestNet_4 : List UInt8 := dkwX0_bestNet_4 ++ []
def dkwX0_bestNet_3 : List UInt8 := [153, 0, 15, 42, 180, 0, 51, 21, 4, 182, 0, 174, 167, 0, 4, 3, 54, 6, 21, 6, 29, 164, 0, 8]
abbrev dktX0_bestNet_3 : List UInt8 := dkwX0_bestNet_3 ++ dktX0_bestNet_4
def dkwX0_bestNet_2 : List UInt8 := [160, 0, 19, 42, 180, 0, 51, 21, 4, 182, 0, 170, 153, 0, 7, 4, 167, 0, 4, 3, 54, 5, 21, 5]
abbrev dktX0_bestNet_2 : List UInt8 := dkwX0_bestNet_2 ++ dktX0_bestNet_3
def dkwX0_bestNet_1 : List UInt8 := [180, 0, 51, 180, 0, 166, 21, 4, 51, 154, 0, 33, 42, 180, 0, 51, 180, 0, 141, 21, 4, 46, 27]
abbrev dktX0_bestNet_1 : List UInt8 := dkwX0_bestNet_1 ++ dktX0_bestNet_2
def dkwX0_bestNet_0 : List UInt8 := [16, 247, 61, 3, 62, 42, 180, 0, 51, 182, 0, 123, 87, 3, 54, 4, 21, 4, 16, 36, 162, 0, 95, 42]
abbrev dktX0_bestNet_0 : List UInt8 := dkwX0_bestNet_0 ++ dktX0_bestNet_1
theorem dksX0_bestNet_0 : cX0_bestNet.data.toList.drop 0 = dktX0_bestNet_0 := by decide +kernel
theorem dksX0_bestNet_1 : cX0_bestNet.data.toList.drop 24 = dktX0_bestNet_1 := dk_seg dksX0_bestNet_0 24 rfl rfl
theorem dksX0_bestNet_2 : cX0_bestNet.data.toList.drop 47 = dktX0_bestNet_2 := dk_seg dksX0_bestNet_1 23 rfl rfl
theorem dksX0_bestNet_3 : cX0_bestNet.data.toList.drop 71 = dktX0_bestNet_3 := dk_seg dksX0_bestNet_2 24 rfl rfl
theorem dksX0_bestNet_4 : cX0_bestNet.data.toList.drop 95 = dktX0_bestNet_4 := dk_seg dksX0_bestNet_3 24 rfl rfl
theorem dX0_bestNet_0 : decode cX0_bestNet 0 = .ok (.bipush (-9), 2) := dk_16 247 (dk_at dksX0_bestNet_0 0 rfl rfl)
theorem dX0_bestNet_2 : decode cX0_bestNet 2 = .ok (.istore_n 2, 1) := dk_61 (dk_at dksX0_bestNet_0 2 rfl rfl)
theorem dX0_bestNet_3 : decode cX0_bestNet 3 = .ok (.iconst 0, 1) := dk_3 (dk_at dksX0_bestNet_0 3 rfl rfl)
theorem dX0_bestNet_4 : decode cX0_bestNet 4 = .ok (.istore_n 3, 1) := dk_62 (dk_at dksX0_bestNet_0 4 rfl rfl)
theorem dX0_bestNet_5 : decode cX0_bestNet 5 = .ok (.aload_n 0, 1) := dk_42 (dk_at dksX0_bestNet_0 5 rfl rfl)
theorem dX0_bestNet_6 : decode cX0_bestNet 6 = .ok (.getfield 51, 3) := dk_180 0 51 (dk_at dksX0_bestNet_0 6 rfl rfl)
theorem dX0_bestNet_9 : decode cX0_bestNet 9 = .ok (.invokevirtual 123, 3) := dk_182 0 123 (dk_at dksX0_bestNet_0 9 rfl rfl)
theorem dX0_bestNet_12 : decode cX0_bestNet 12 = .ok (.pop, 1) := dk_87 (dk_at dksX0_bestNet_0 12 rfl rfl)
theorem dX0_bestNet_13 : decode cX0_bestNet 13 = .ok (.iconst 0, 1) := dk_3 (dk_at dksX0_bestNet_0 13 rfl rfl)
theorem dX0_bestNet_14 : decode cX0_bestNet 14 = .ok (.istore 4, 2) := dk_54 4 (dk_at dksX0_bestNet_0 14 rfl rfl)
theorem dX0_bestNet_16 : decode cX0_bestNet 16 = .ok (.iload 4, 2) := dk_21 4 (dk_at dksX0_bestNet_0 16 rfl rfl)
theorem dX0_bestNet_18 : decode cX0_bestNet 18 = .ok (.bipush 36, 2) := dk_16 36 (dk_at dksX0_bestNet_0 18 rfl rfl)
theorem dX0_bestNet_20 : decode cX0_bestNet 20 = .ok (.if_icmp .ge 95, 3) := dk_162 0 95 (dk_at dksX0_bestNet_0 20 rfl rfl)
theorem dX0_bestNet_23 : decode cX0_bestNet 23 = .ok (.aload_n 0, 1) := dk_42 (dk_at dksX0_bestNet_0 23 rfl rfl)
theorem dX0_bestNet_24 : decode cX0_bestNet 24 = .ok (.getfield 51, 3) := dk_180 0 51 (dk_at dksX0_bestNet_1 0 rfl rfl)
theorem dX0_bestNet_27 : decode cX0_bestNet 27 = .ok (.getfield 166, 3) := dk_180 0 166 (dk_at dksX0_bestNet_1 3 rfl rfl)
theorem dX0_bestNet_30 : decode cX0_bestNet 30 = .ok (.iload 4, 2) := dk_21 4 (dk_at dksX0_bestNet_1 6 rfl rfl)
theorem dX0_bestNet_32 : decode cX0_bestNet 32 = .ok (.baload, 1) := dk_51 (dk_at dksX0_bestNet_1 8 rfl rfl)
theorem dX0_bestNet_33 : decode cX0_bestNet 33 = .ok (.ifCond .ne 33, 3) := dk_154 0 33 (dk_at dksX0_bestNet_1 9 rfl rfl)
theorem dX0_bestNet_36 : decode cX0_bestNet 36 = .ok (.aload_n 0, 1) := dk_42 (dk_at dksX0_bestNet_1 12 rfl rfl)
theorem dX0_bestNet_37 : decode cX0_bestNet 37 = .ok (.getfield 51, 3) := dk_180 0 51 (dk_at dksX0_bestNet_1 13 rfl rfl)
theorem dX0_bestNet_40 : decode cX0_bestNet 40 = .ok (.getfield 141, 3) := dk_180 0 141 (dk_at dksX0_bestNet_1 16 rfl rfl)
theorem dX0_bestNet_43 : decode cX0_bestNet 43 = .ok (.iload 4, 2) := dk_21 4 (dk_at dksX0_bestNet_1 19 rfl rfl)
theorem dX0_bestNet_45 : decode cX0_bestNet 45 = .ok (.iaload, 1) := dk_46 (dk_at dksX0_bestNet_1 21 rfl rfl)
theorem dX0_bestNet_46 : decode cX0_bestNet 46 = .ok (.iload_n 1, 1) := dk_27 (dk_at dksX0_bestNet_1 22 rfl rfl)
theorem dX0_bestNet_47 : decode cX0_bestNet 47 = .ok (.if_icmp .ne 19, 3) := dk_160 0 19 (dk_at dksX0_bestNet_2 0 rfl rfl)
theorem dX0_bestNet_50 : decode cX0_bestNet 50 = .ok (.aload_n 0, 1) := dk_42 (dk_at dksX0_bestNet_2 3 rfl rfl)
theorem dX0_bestNet_51 : decode cX0_bestNet 51 = .ok (.getfield 51, 3) := dk_180 0 51 (dk_at dksX0_bestNet_2 4 rfl rfl)
theorem dX0_bestNet_54 : decode cX0_bestNet 54 = .ok (.iload 4, 2) := dk_21 4 (dk_at dksX0_bestNet_2 7 rfl rfl)
theorem dX0_bestNet_56 : decode cX0_bestNet 56 = .ok (.invokevirtual 170, 3) := dk_182 0 170 (dk_at dksX0_bestNet_2 9 rfl rfl)
theorem dX0_bestNet_59 : decode cX0_bestNet 59 = .ok (.ifCond .eq 7, 3) := dk_153 0 7 (dk_at dksX0_bestNet_2 12 rfl rfl)
theorem dX0_bestNet_62 : decode cX0_bestNet 62 = .ok (.iconst 1, 1) := dk_4 (dk_at dksX0_bestNet_2 15 rfl rfl)
theorem dX0_bestNet_63 : decode cX0_bestNet 63 = .ok (.goto 4, 3) := dk_167 0 4 (dk_at dksX0_bestNet_2 16 rfl rfl)
theorem dX0_bestNet_66 : decode cX0_bestNet 66 = .ok (.iconst 0, 1) := dk_3 (dk_at dksX0_bestNet_2 19 rfl rfl)
theorem dX0_bestNet_67 : decode cX0_bestNet 67 = .ok (.istore 5, 2) := dk_54 5 (dk_at dksX0_bestNet_2 20 rfl rfl)
theorem dX0_bestNet_69 : decode cX0_bestNet 69 = .ok (.iload 5, 2) := dk_21 5 (dk_at dksX0_bestNet_2 22 rfl rfl)
theorem dX0_bestNet_71 : decode cX0_bestNet 71 = .ok (.ifCond .eq 15, 3) := dk_153 0 15 (dk_at dksX0_bestNet_3 0 rfl rfl)
theorem dX0_bestNet_74 : decode cX0_bestNet 74 = .ok (.aload_n 0, 1) := dk_42 (dk_at dksX0_bestNet_3 3 rfl rfl)
theorem dX0_bestNet_75 : decode cX0_bestNet 75 = .ok (.getfield 51, 3) := dk_180 0 51 (dk_at dksX0_bestNet_3 4 rfl rfl)
theorem dX0_bestNet_78 : decode cX0_bestNet 78 = .ok (.iload 4, 2) := dk_21 4 (dk_at dksX0_bestNet_3 7 rfl rfl)
theorem dX0_bestNet_80 : decode cX0_bestNet 80 = .ok (.invokevirtual 174, 3) := dk_182 0 174 (dk_at dksX0_bestNet_3 9 rfl rfl)
theorem dX0_bestNet_83 : decode cX0_bestNet 83 = .ok (.goto 4, 3) := dk_167 0 4 (dk_at dksX0_bestNet_3 12 rfl rfl)
theorem dX0_bestNet_86 : decode cX0_bestNet 86 = .ok (.iconst 0, 1) := dk_3 (dk_at dksX0_bestNet_3 15 rfl rfl)
theorem dX0_bestNet_87 : decode cX0_bestNet 87 = .ok (.istore 6, 2) := dk_54 6 (dk_at dksX0_bestNet_3 16 rfl rfl)
theorem dX0_bestNet_89 : decode cX0_bestNet 89 = .ok (.iload 6, 2) := dk_21 6 (dk_at dksX0_bestNet_3 18 rfl rfl)
theorem dX0_bestNet_91 : decode cX0_bestNet 91 = .ok (.iload_n 3, 1) := dk_29 (dk_at dksX0_bestNet_3 20 rfl rfl)
theorem dX0_bestNet_92 : decode cX0_bestNet 92 = .ok (.if_icmp .le 8, 3) := dk_164 0 8 (dk_at dksX0_bestNet_3 21 rfl rfl)
theorem dX0_bestNet_95 : decode cX0_bestNet 95 = .ok (.iload 4, 2) := dk_21 4 (dk_at dksX0_bestNet_4 0 rfl rfl)
theorem dX0_bestNet_97 : decode cX0_bestNet 97 = .ok (.goto 4, 3) := dk_167 0 4 (dk_at dksX0_bestNet_4 2 rfl rfl)
theorem dX0_bestNet_100 : decode cX0_bestNet 100 = .ok (.iload_n 2, 1) := dk_28 (dk_at dksX0_bestNet_4 5 rfl rfl)
theorem dX0_bestNet_101 : decode cX0_bestNet 101 = .ok (.istore_n 2, 1) := dk_61 (dk_at dksX0_bestNet_4 6 rfl rfl)
theorem dX0_bestNet_102 : decode cX0_bestNet 102 = .ok (.iload_n 3, 1) := dk_29 (dk_at dksX0_bestNet_4 7 rfl rfl)
theorem dX0_bestNet_103 : decode cX0_bestNet 103 = .ok (.iload 6, 2) := dk_21 6 (dk_at dksX0_bestNet_4 8 rfl rfl)
theorem dX0_bestNet_105 : decode cX0_bestNet 105 = .ok (.invokestatic 129, 3) := dk_184 0 129 (dk_at dksX0_bestNet_4 10 rfl rfl)
theorem dX0_bestNet_108 : decode cX0_bestNet 108 = .ok (.istore_n 3, 1) := dk_62 (dk_at dksX0_bestNet_4 13 rfl rfl)
theorem dX0_bestNet_109 : decode cX0_bestNet 109 = .ok (.iinc 4 1, 3) := dk_132 4 1 (dk_at dksX0_bestNet_4 14 rfl rfl)
theorem dX0_bestNet_112 : decode cX0_bestNet 112 = .ok (.goto (-96), 3) := dk_167 255 160 (dk_at dksX0_bestNet_4 17 rfl rfl)
theorem dX0_bestNet_115 : decode cX0_bestNet 115 = .ok (.iload_n 2, 1) := dk_28 (dk_at dksX0_bestNet_4 20 rfl rfl)
theorem dX0_bestNet_116 : decode cX0_bestNet 116 = .ok (.ireturn, 1) := dk_172 (dk_at dksX0_bestNet_4 21 rfl rfl)
abbrev cX0_cameBits : ByteArray := prog_1_method_20_code
def yX0_cameBits : MethodName := ⟨RX0, "cameBits", "(I)I"⟩
def dkwX0_cameBits_2 : List UInt8 := [128, 61, 132, 3, 1, 167, 255, 215, 28, 172]
abbrev dktX0_cameBits_2 : List UInt8 := dkwX0_cameBits_2 ++ []
def dkwX0_cameBits_1 : List UInt8 := [42, 180, 0, 51, 180, 0, 177, 16, 36, 29, 104, 27, 96, 46, 158, 0, 9, 4, 29, 120, 167, 0, 4, 3]
abbrev dktX0_cameBits_1 : List UInt8 := dkwX0_cameBits_1 ++ dktX0_cameBits_2
def dkwX0_cameBits_0 : List UInt8 := [42, 180, 0, 51, 182, 0, 123, 87, 3, 61, 3, 62, 29, 42, 180, 0, 51, 180, 0, 120, 162, 0, 36, 28]
abbrev dktX0_cameBits_0 : List UInt8 := dkwX0_cameBits_0 ++ dktX0_cameBits_1
theorem dksX0_cameBits_0 : cX0_cameBits.data.toList.drop 0 = dktX0_cameBits_0 := by decide +kernel
theorem dksX0_cameBits_1 : cX0_cameBits.data.toList.drop 24 = dktX0_cameBits_1 := dk_seg dksX0_cameBits_0 24 rfl rfl
theorem dksX0_cameBits_2 : cX0_cameBits.data.toList.drop 48 = dktX0_cameBits_2 := dk_seg dksX0_cameBits_1 24 rfl rfl
theorem dX0_cameBits_0 : decode cX0_cameBits 0 = .ok (.aload_n 0, 1) := dk_42 (dk_at dksX0_cameBits_0 0 rfl rfl)
theorem dX0_cameBits_1 : decode cX0_cameBits 1 = .ok (.getfield 51, 3) := dk_180 0 51 (dk_at dksX0_cameBits_0 1 rfl rfl)
theorem dX0_cameBits_4 : decode cX0_cameBits 4 = .ok (.invokevirtual 123, 3) := dk_182 0 123 (dk_at dksX0_cameBits_0 4 rfl rfl)
theorem dX0_cameBits_7 : decode cX0_cameBits 7 = .ok (.pop, 1) := dk_87 (dk_at dksX0_cameBits_0 7 rfl rfl)
theorem dX0_cameBits_8 : decode cX0_cameBits 8 = .ok (.iconst 0, 1) := dk_3 (dk_at dksX0_cameBits_0 8 rfl rfl)
theorem dX0_cameBits_9 : decode cX0_cameBits 9 = .ok (.istore_n 2, 1) := dk_61 (dk_at dksX0_cameBits_0 9 rfl rfl)
theorem dX0_cameBits_10 : decode cX0_cameBits 10 = .ok (.iconst 0, 1) := dk_3 (dk_at dksX0_cameBits_0 10 rfl rfl)
theorem dX0_cameBits_11 : decode cX0_cameBits 11 = .ok (.istore_n 3, 1) := dk_62 (dk_at dksX0_cameBits_0 11 rfl rfl)
theorem dX0_cameBits_12 : decode cX0_cameBits 12 = .ok (.iload_n 3, 1) := dk_29 (dk_at dksX0_cameBits_0 12 rfl rfl)
theorem dX0_cameBits_13 : decode cX0_cameBits 13 = .ok (.aload_n 0, 1) := dk_42 (dk_at dksX0_cameBits_0 13 rfl rfl)
theorem dX0_cameBits_14 : decode cX0_cameBits 14 = .ok (.getfield 51, 3) := dk_180 0 51 (dk_at dksX0_cameBits_0 14 rfl rfl)
theorem dX0_cameBits_17 : decode cX0_cameBits 17 = .ok (.getfield 120, 3) := dk_180 0 120 (dk_at dksX0_cameBits_0 17 rfl rfl)
theorem dX0_cameBits_20 : decode cX0_cameBits 20 = .ok (.if_icmp .ge 36, 3) := dk_162 0 36 (dk_at dksX0_cameBits_0 20 rfl rfl)
theorem dX0_cameBits_23 : decode cX0_cameBits 23 = .ok (.iload_n 2, 1) := dk_28 (dk_at dksX0_cameBits_0 23 rfl rfl)
theorem dX0_cameBits_24 : decode cX0_cameBits 24 = .ok (.aload_n 0, 1) := dk_42 (dk_at dksX0_cameBits_1 0 rfl rfl)
theorem dX0_cameBits_25 : decode cX0_cameBits 25 = .ok (.getfield 51, 3) := dk_180 0 51 (dk_at dksX0_cameBits_1 1 rfl rfl)
theorem dX0_cameBits_28 : decode cX0_cameBits 28 = .ok (.getfield 177, 3) := dk_180 0 177 (dk_at dksX0_cameBits_1 4 rfl rfl)
theorem dX0_cameBits_31 : decode cX0_cameBits 31 = .ok (.bipush 36, 2) := dk_16 36 (dk_at dksX0_cameBits_1 7 rfl rfl)
theorem dX0_cameBits_33 : decode cX0_cameBits 33 = .ok (.iload_n 3, 1) := dk_29 (dk_at dksX0_cameBits_1 9 rfl rfl)
theorem dX0_cameBits_34 : decode cX0_cameBits 34 = .ok (.imul, 1) := dk_104 (dk_at dksX0_cameBits_1 10 rfl rfl)
theorem dX0_cameBits_35 : decode cX0_cameBits 35 = .ok (.iload_n 1, 1) := dk_27 (dk_at dksX0_cameBits_1 11 rfl rfl)
theorem dX0_cameBits_36 : decode cX0_cameBits 36 = .ok (.iadd, 1) := dk_96 (dk_at dksX0_cameBits_1 12 rfl rfl)
theorem dX0_cameBits_37 : decode cX0_cameBits 37 = .ok (.iaload, 1) := dk_46 (dk_at dksX0_cameBits_1 13 rfl rfl)
theorem dX0_cameBits_38 : decode cX0_cameBits 38 = .ok (.ifCond .le 9, 3) := dk_158 0 9 (dk_at dksX0_cameBits_1 14 rfl rfl)
theorem dX0_cameBits_41 : decode cX0_cameBits 41 = .ok (.iconst 1, 1) := dk_4 (dk_at dksX0_cameBits_1 17 rfl rfl)
theorem dX0_cameBits_42 : decode cX0_cameBits 42 = .ok (.iload_n 3, 1) := dk_29 (dk_at dksX0_cameBits_1 18 rfl rfl)
theorem dX0_cameBits_43 : decode cX0_cameBits 43 = .ok (.ishl, 1) := dk_120 (dk_at dksX0_cameBits_1 19 rfl rfl)
theorem dX0_cameBits_44 : decode cX0_cameBits 44 = .ok (.goto 4, 3) := dk_167 0 4 (dk_at dksX0_cameBits_1 20 rfl rfl)
theorem dX0_cameBits_47 : decode cX0_cameBits 47 = .ok (.iconst 0, 1) := dk_3 (dk_at dksX0_cameBits_1 23 rfl rfl)
theorem dX0_cameBits_48 : decode cX0_cameBits 48 = .ok (.ior, 1) := dk_128 (dk_at dksX0_cameBits_2 0 rfl rfl)
theorem dX0_cameBits_49 : decode cX0_cameBits 49 = .ok (.istore_n 2, 1) := dk_61 (dk_at dksX0_cameBits_2 1 rfl rfl)
theorem dX0_cameBits_50 : decode cX0_cameBits 50 = .ok (.iinc 3 1, 3) := dk_132 3 1 (dk_at dksX0_cameBits_2 2 rfl rfl)
theorem dX0_cameBits_53 : decode cX0_cameBits 53 = .ok (.goto (-41), 3) := dk_167 255 215 (dk_at dksX0_cameBits_2 5 rfl rfl)
theorem dX0_cameBits_56 : decode cX0_cameBits 56 = .ok (.iload_n 2, 1) := dk_28 (dk_at dksX0_cameBits_2 8 rfl rfl)
theorem dX0_cameBits_57 : decode cX0_cameBits 57 = .ok (.ireturn, 1) := dk_172 (dk_at dksX0_cameBits_2 9 rfl rfl)
abbrev cX0_likelyAsked : ByteArray := prog_1_method_44_code
def yX0_likelyAsked : MethodName := ⟨RX0, "likelyAsked", "(III)I"⟩
def dkwX0_likelyAsked_0 : List UInt8 := [27, 184, 0, 224, 42, 28, 182, 0, 232, 29, 184, 1, 29, 42, 27, 28, 29, 182, 1, 47, 172]
abbrev dktX0_likelyAsked_0 : List UInt8 := dkwX0_likelyAsked_0 ++ []
theorem dksX0_likelyAsked_0 : cX0_likelyAsked.data.toList.drop 0 = dktX0_likelyAsked_0 := by decide +kernel
theorem dX0_likelyAsked_0 : decode cX0_likelyAsked 0 = .ok (.iload_n 1, 1) := dk_27 (dk_at dksX0_likelyAsked_0 0 rfl rfl)
theorem dX0_likelyAsked_1 : decode cX0_likelyAsked 1 = .ok (.invokestatic 224, 3) := dk_184 0 224 (dk_at dksX0_likelyAsked_0 1 rfl rfl)
theorem dX0_likelyAsked_4 : decode cX0_likelyAsked 4 = .ok (.aload_n 0, 1) := dk_42 (dk_at dksX0_likelyAsked_0 4 rfl rfl)
theorem dX0_likelyAsked_5 : decode cX0_likelyAsked 5 = .ok (.iload_n 2, 1) := dk_28 (dk_at dksX0_likelyAsked_0 5 rfl rfl)
theorem dX0_likelyAsked_6 : decode cX0_likelyAsked 6 = .ok (.invokevirtual 232, 3) := dk_182 0 232 (dk_at dksX0_likelyAsked_0 6 rfl rfl)
theorem dX0_likelyAsked_9 : decode cX0_likelyAsked 9 = .ok (.iload_n 3, 1) := dk_29 (dk_at dksX0_likelyAsked_0 9 rfl rfl)
theorem dX0_likelyAsked_10 : decode cX0_likelyAsked 10 = .ok (.invokestatic 285, 3) := dk_184 1 29 (dk_at dksX0_likelyAsked_0 10 rfl rfl)
theorem dX0_likelyAsked_13 : decode cX0_likelyAsked 13 = .ok (.aload_n 0, 1) := dk_42 (dk_at dksX0_likelyAsked_0 13 rfl rfl)
theorem dX0_likelyAsked_14 : decode cX0_likelyAsked 14 = .ok (.iload_n 1, 1) := dk_27 (dk_at dksX0_likelyAsked_0 14 rfl rfl)
theorem dX0_likelyAsked_15 : decode cX0_likelyAsked 15 = .ok (.iload_n 2, 1) := dk_28 (dk_at dksX0_likelyAsked_0 15 rfl rfl)
theorem dX0_likelyAsked_16 : decode cX0_likelyAsked 16 = .ok (.iload_n 3, 1) := dk_29 (dk_at dksX0_likelyAsked_0 16 rfl rfl)
theorem dX0_likelyAsked_17 : decode cX0_likelyAsked 17 = .ok (.invokevirtual 303, 3) := dk_182 1 47 (dk_at dksX0_likelyAsked_0 17 rfl rfl)
theorem dX0_likelyAsked_20 : decode cX0_likelyAsked 20 = .ok (.ireturn, 1) := dk_172 (dk_at dksX0_likelyAsked_0 20 rfl rfl)
abbrev cX0_likelyTold : ByteArray := prog_1_method_21_code
def yX0_likelyTold : MethodName := ⟨RX0, "likelyTold", "(III)I"⟩
def dkwX0_likelyTold_2 : List UInt8 := [54, 6, 29, 154, 0, 11, 21, 4, 21, 6, 108, 167, 0, 8, 21, 5, 21, 6, 108, 172]
abbrev dktX0_likelyTold_2 : List UInt8 := dkwX0_likelyTold_2 ++ []
def dkwX0_likelyTold_1 : List UInt8 := [21, 4, 154, 0, 5, 29, 172, 42, 180, 0, 51, 27, 182, 0, 174, 54, 5, 21, 4, 21, 5, 184, 0, 180]
abbrev dktX0_likelyTold_1 : List UInt8 := dkwX0_likelyTold_1 ++ dktX0_likelyTold_2
def dkwX0_likelyTold_0 : List UInt8 := [42, 180, 0, 51, 182, 0, 123, 87, 42, 180, 0, 51, 180, 0, 177, 16, 36, 28, 104, 27, 96, 46, 54, 4]
abbrev dktX0_likelyTold_0 : List UInt8 := dkwX0_likelyTold_0 ++ dktX0_likelyTold_1
theorem dksX0_likelyTold_0 : cX0_likelyTold.data.toList.drop 0 = dktX0_likelyTold_0 := by decide +kernel
theorem dksX0_likelyTold_1 : cX0_likelyTold.data.toList.drop 24 = dktX0_likelyTold_1 := dk_seg dksX0_likelyTold_0 24 rfl rfl
theorem dksX0_likelyTold_2 : cX0_likelyTold.data.toList.drop 48 = dktX0_likelyTold_2 := dk_seg dksX0_likelyTold_1 24 rfl rfl
theorem dX0_likelyTold_0 : decode cX0_likelyTold 0 = .ok (.aload_n 0, 1) := dk_42 (dk_at dksX0_likelyTold_0 0 rfl rfl)
theorem dX0_likelyTold_1 : decode cX0_likelyTold 1 = .ok (.getfield 51, 3) := dk_180 0 51 (dk_at dksX0_likelyTold_0 1 rfl rfl)
theorem dX0_likelyTold_4 : decode cX0_likelyTold 4 = .ok (.invokevirtual 123, 3) := dk_182 0 123 (dk_at dksX0_likelyTold_0 4 rfl rfl)
theorem dX0_likelyTold_7 : decode cX0_likelyTold 7 = .ok (.pop, 1) := dk_87 (dk_at dksX0_likelyTold_0 7 rfl rfl)
theorem dX0_likelyTold_8 : decode cX0_likelyTold 8 = .ok (.aload_n 0, 1) := dk_42 (dk_at dksX0_likelyTold_0 8 rfl rfl)
theorem dX0_likelyTold_9 : decode cX0_likelyTold 9 = .ok (.getfield 51, 3) := dk_180 0 51 (dk_at dksX0_likelyTold_0 9 rfl rfl)
theorem dX0_likelyTold_12 : decode cX0_likelyTold 12 = .ok (.getfield 177, 3) := dk_180 0 177 (dk_at dksX0_likelyTold_0 12 rfl rfl)
theorem dX0_likelyTold_15 : decode cX0_likelyTold 15 = .ok (.bipush 36, 2) := dk_16 36 (dk_at dksX0_likelyTold_0 15 rfl rfl)
theorem dX0_likelyTold_17 : decode cX0_likelyTold 17 = .ok (.iload_n 2, 1) := dk_28 (dk_at dksX0_likelyTold_0 17 rfl rfl)
theorem dX0_likelyTold_18 : decode cX0_likelyTold 18 = .ok (.imul, 1) := dk_104 (dk_at dksX0_likelyTold_0 18 rfl rfl)
theorem dX0_likelyTold_19 : decode cX0_likelyTold 19 = .ok (.iload_n 1, 1) := dk_27 (dk_at dksX0_likelyTold_0 19 rfl rfl)
theorem dX0_likelyTold_20 : decode cX0_likelyTold 20 = .ok (.iadd, 1) := dk_96 (dk_at dksX0_likelyTold_0 20 rfl rfl)
theorem dX0_likelyTold_21 : decode cX0_likelyTold 21 = .ok (.iaload, 1) := dk_46 (dk_at dksX0_likelyTold_0 21 rfl rfl)
theorem dX0_likelyTold_22 : decode cX0_likelyTold 22 = .ok (.istore 4, 2) := dk_54 4 (dk_at dksX0_likelyTold_0 22 rfl rfl)
theorem dX0_likelyTold_24 : decode cX0_likelyTold 24 = .ok (.iload 4, 2) := dk_21 4 (dk_at dksX0_likelyTold_1 0 rfl rfl)
theorem dX0_likelyTold_26 : decode cX0_likelyTold 26 = .ok (.ifCond .ne 5, 3) := dk_154 0 5 (dk_at dksX0_likelyTold_1 2 rfl rfl)
theorem dX0_likelyTold_29 : decode cX0_likelyTold 29 = .ok (.iload_n 3, 1) := dk_29 (dk_at dksX0_likelyTold_1 5 rfl rfl)
theorem dX0_likelyTold_30 : decode cX0_likelyTold 30 = .ok (.ireturn, 1) := dk_172 (dk_at dksX0_likelyTold_1 6 rfl rfl)
theorem dX0_likelyTold_31 : decode cX0_likelyTold 31 = .ok (.aload_n 0, 1) := dk_42 (dk_at dksX0_likelyTold_1 7 rfl rfl)
theorem dX0_likelyTold_32 : decode cX0_likelyTold 32 = .ok (.getfield 51, 3) := dk_180 0 51 (dk_at dksX0_likelyTold_1 8 rfl rfl)
theorem dX0_likelyTold_35 : decode cX0_likelyTold 35 = .ok (.iload_n 1, 1) := dk_27 (dk_at dksX0_likelyTold_1 11 rfl rfl)
theorem dX0_likelyTold_36 : decode cX0_likelyTold 36 = .ok (.invokevirtual 174, 3) := dk_182 0 174 (dk_at dksX0_likelyTold_1 12 rfl rfl)
theorem dX0_likelyTold_39 : decode cX0_likelyTold 39 = .ok (.istore 5, 2) := dk_54 5 (dk_at dksX0_likelyTold_1 15 rfl rfl)
theorem dX0_likelyTold_41 : decode cX0_likelyTold 41 = .ok (.iload 4, 2) := dk_21 4 (dk_at dksX0_likelyTold_1 17 rfl rfl)
theorem dX0_likelyTold_43 : decode cX0_likelyTold 43 = .ok (.iload 5, 2) := dk_21 5 (dk_at dksX0_likelyTold_1 19 rfl rfl)
theorem dX0_likelyTold_45 : decode cX0_likelyTold 45 = .ok (.invokestatic 180, 3) := dk_184 0 180 (dk_at dksX0_likelyTold_1 21 rfl rfl)
theorem dX0_likelyTold_48 : decode cX0_likelyTold 48 = .ok (.istore 6, 2) := dk_54 6 (dk_at dksX0_likelyTold_2 0 rfl rfl)
theorem dX0_likelyTold_50 : decode cX0_likelyTold 50 = .ok (.iload_n 3, 1) := dk_29 (dk_at dksX0_likelyTold_2 2 rfl rfl)
theorem dX0_likelyTold_51 : decode cX0_likelyTold 51 = .ok (.ifCond .ne 11, 3) := dk_154 0 11 (dk_at dksX0_likelyTold_2 3 rfl rfl)
theorem dX0_likelyTold_54 : decode cX0_likelyTold 54 = .ok (.iload 4, 2) := dk_21 4 (dk_at dksX0_likelyTold_2 6 rfl rfl)
theorem dX0_likelyTold_56 : decode cX0_likelyTold 56 = .ok (.iload 6, 2) := dk_21 6 (dk_at dksX0_likelyTold_2 8 rfl rfl)
theorem dX0_likelyTold_58 : decode cX0_likelyTold 58 = .ok (.idiv, 1) := dk_108 (dk_at dksX0_likelyTold_2 10 rfl rfl)
theorem dX0_likelyTold_59 : decode cX0_likelyTold 59 = .ok (.goto 8, 3) := dk_167 0 8 (dk_at dksX0_likelyTold_2 11 rfl rfl)
theorem dX0_likelyTold_62 : decode cX0_likelyTold 62 = .ok (.iload 5, 2) := dk_21 5 (dk_at dksX0_likelyTold_2 14 rfl rfl)
theorem dX0_likelyTold_64 : decode cX0_likelyTold 64 = .ok (.iload 6, 2) := dk_21 6 (dk_at dksX0_likelyTold_2 16 rfl rfl)
theorem dX0_likelyTold_66 : decode cX0_likelyTold 66 = .ok (.idiv, 1) := dk_108 (dk_at dksX0_likelyTold_2 18 rfl rfl)
theorem dX0_likelyTold_67 : decode cX0_likelyTold 67 = .ok (.ireturn, 1) := dk_172 (dk_at dksX0_likelyTold_2 19 rfl rfl)
abbrev cX0_divisor : ByteArray := prog_1_method_6_code
def yX0_divisor : MethodName := ⟨RX0, "divisor", "(II)I"⟩
def dkwX0_divisor_0 : List UInt8 := [26, 61, 27, 62, 29, 153, 0, 16, 28, 29, 112, 54, 4, 29, 61, 21, 4, 62, 167, 255, 242, 28, 172]
abbrev dktX0_divisor_0 : List UInt8 := dkwX0_divisor_0 ++ []
theorem dksX0_divisor_0 : cX0_divisor.data.toList.drop 0 = dktX0_divisor_0 := by decide +kernel
theorem dX0_divisor_0 : decode cX0_divisor 0 = .ok (.iload_n 0, 1) := dk_26 (dk_at dksX0_divisor_0 0 rfl rfl)
theorem dX0_divisor_1 : decode cX0_divisor 1 = .ok (.istore_n 2, 1) := dk_61 (dk_at dksX0_divisor_0 1 rfl rfl)
theorem dX0_divisor_2 : decode cX0_divisor 2 = .ok (.iload_n 1, 1) := dk_27 (dk_at dksX0_divisor_0 2 rfl rfl)
theorem dX0_divisor_3 : decode cX0_divisor 3 = .ok (.istore_n 3, 1) := dk_62 (dk_at dksX0_divisor_0 3 rfl rfl)
theorem dX0_divisor_4 : decode cX0_divisor 4 = .ok (.iload_n 3, 1) := dk_29 (dk_at dksX0_divisor_0 4 rfl rfl)
theorem dX0_divisor_5 : decode cX0_divisor 5 = .ok (.ifCond .eq 16, 3) := dk_153 0 16 (dk_at dksX0_divisor_0 5 rfl rfl)
theorem dX0_divisor_8 : decode cX0_divisor 8 = .ok (.iload_n 2, 1) := dk_28 (dk_at dksX0_divisor_0 8 rfl rfl)
theorem dX0_divisor_9 : decode cX0_divisor 9 = .ok (.iload_n 3, 1) := dk_29 (dk_at dksX0_divisor_0 9 rfl rfl)
theorem dX0_divisor_10 : decode cX0_divisor 10 = .ok (.irem, 1) := dk_112 (dk_at dksX0_divisor_0 10 rfl rfl)
theorem dX0_divisor_11 : decode cX0_divisor 11 = .ok (.istore 4, 2) := dk_54 4 (dk_at dksX0_divisor_0 11 rfl rfl)
theorem dX0_divisor_13 : decode cX0_divisor 13 = .ok (.iload_n 3, 1) := dk_29 (dk_at dksX0_divisor_0 13 rfl rfl)
theorem dX0_divisor_14 : decode cX0_divisor 14 = .ok (.istore_n 2, 1) := dk_61 (dk_at dksX0_divisor_0 14 rfl rfl)
theorem dX0_divisor_15 : decode cX0_divisor 15 = .ok (.iload 4, 2) := dk_21 4 (dk_at dksX0_divisor_0 15 rfl rfl)
theorem dX0_divisor_17 : decode cX0_divisor 17 = .ok (.istore_n 3, 1) := dk_62 (dk_at dksX0_divisor_0 17 rfl rfl)
theorem dX0_divisor_18 : decode cX0_divisor 18 = .ok (.goto (-14), 3) := dk_167 255 242 (dk_at dksX0_divisor_0 18 rfl rfl)
theorem dX0_divisor_21 : decode cX0_divisor 21 = .ok (.iload_n 2, 1) := dk_28 (dk_at dksX0_divisor_0 21 rfl rfl)
theorem dX0_divisor_22 : decode cX0_divisor 22 = .ok (.ireturn, 1) := dk_172 (dk_at dksX0_divisor_0 22 rfl rfl)
abbrev cX0_pitIt : ByteArray := prog_1_method_45_code
def yX0_pitIt : MethodName := ⟨RX0, "pitIt", "(I)I"⟩
def dkwX0_pitIt_2 : List UInt8 := [180, 0, 183, 4, 96, 181, 0, 183, 42, 180, 0, 51, 180, 0, 183, 172]
abbrev dktX0_pitIt_2 : List UInt8 := dkwX0_pitIt_2 ++ []
def dkwX0_pitIt_1 : List UInt8 := [184, 0, 9, 42, 180, 0, 51, 180, 0, 186, 42, 180, 0, 51, 180, 0, 183, 27, 79, 42, 180, 0, 51, 89]
abbrev dktX0_pitIt_1 : List UInt8 := dkwX0_pitIt_1 ++ dktX0_pitIt_2
def dkwX0_pitIt_0 : List UInt8 := [27, 184, 0, 224, 42, 180, 0, 51, 180, 0, 183, 16, 8, 162, 0, 7, 4, 167, 0, 4, 3, 16, 250]
abbrev dktX0_pitIt_0 : List UInt8 := dkwX0_pitIt_0 ++ dktX0_pitIt_1
theorem dksX0_pitIt_0 : cX0_pitIt.data.toList.drop 0 = dktX0_pitIt_0 := by decide +kernel
theorem dksX0_pitIt_1 : cX0_pitIt.data.toList.drop 23 = dktX0_pitIt_1 := dk_seg dksX0_pitIt_0 23 rfl rfl
theorem dksX0_pitIt_2 : cX0_pitIt.data.toList.drop 47 = dktX0_pitIt_2 := dk_seg dksX0_pitIt_1 24 rfl rfl
theorem dX0_pitIt_0 : decode cX0_pitIt 0 = .ok (.iload_n 1, 1) := dk_27 (dk_at dksX0_pitIt_0 0 rfl rfl)
theorem dX0_pitIt_1 : decode cX0_pitIt 1 = .ok (.invokestatic 224, 3) := dk_184 0 224 (dk_at dksX0_pitIt_0 1 rfl rfl)
theorem dX0_pitIt_4 : decode cX0_pitIt 4 = .ok (.aload_n 0, 1) := dk_42 (dk_at dksX0_pitIt_0 4 rfl rfl)
theorem dX0_pitIt_5 : decode cX0_pitIt 5 = .ok (.getfield 51, 3) := dk_180 0 51 (dk_at dksX0_pitIt_0 5 rfl rfl)
theorem dX0_pitIt_8 : decode cX0_pitIt 8 = .ok (.getfield 183, 3) := dk_180 0 183 (dk_at dksX0_pitIt_0 8 rfl rfl)
theorem dX0_pitIt_11 : decode cX0_pitIt 11 = .ok (.bipush 8, 2) := dk_16 8 (dk_at dksX0_pitIt_0 11 rfl rfl)
theorem dX0_pitIt_13 : decode cX0_pitIt 13 = .ok (.if_icmp .ge 7, 3) := dk_162 0 7 (dk_at dksX0_pitIt_0 13 rfl rfl)
theorem dX0_pitIt_16 : decode cX0_pitIt 16 = .ok (.iconst 1, 1) := dk_4 (dk_at dksX0_pitIt_0 16 rfl rfl)
theorem dX0_pitIt_17 : decode cX0_pitIt 17 = .ok (.goto 4, 3) := dk_167 0 4 (dk_at dksX0_pitIt_0 17 rfl rfl)
theorem dX0_pitIt_20 : decode cX0_pitIt 20 = .ok (.iconst 0, 1) := dk_3 (dk_at dksX0_pitIt_0 20 rfl rfl)
theorem dX0_pitIt_21 : decode cX0_pitIt 21 = .ok (.bipush (-6), 2) := dk_16 250 (dk_at dksX0_pitIt_0 21 rfl rfl)
theorem dX0_pitIt_23 : decode cX0_pitIt 23 = .ok (.invokestatic 9, 3) := dk_184 0 9 (dk_at dksX0_pitIt_1 0 rfl rfl)
theorem dX0_pitIt_26 : decode cX0_pitIt 26 = .ok (.aload_n 0, 1) := dk_42 (dk_at dksX0_pitIt_1 3 rfl rfl)
theorem dX0_pitIt_27 : decode cX0_pitIt 27 = .ok (.getfield 51, 3) := dk_180 0 51 (dk_at dksX0_pitIt_1 4 rfl rfl)
theorem dX0_pitIt_30 : decode cX0_pitIt 30 = .ok (.getfield 186, 3) := dk_180 0 186 (dk_at dksX0_pitIt_1 7 rfl rfl)
theorem dX0_pitIt_33 : decode cX0_pitIt 33 = .ok (.aload_n 0, 1) := dk_42 (dk_at dksX0_pitIt_1 10 rfl rfl)
theorem dX0_pitIt_34 : decode cX0_pitIt 34 = .ok (.getfield 51, 3) := dk_180 0 51 (dk_at dksX0_pitIt_1 11 rfl rfl)
theorem dX0_pitIt_37 : decode cX0_pitIt 37 = .ok (.getfield 183, 3) := dk_180 0 183 (dk_at dksX0_pitIt_1 14 rfl rfl)
theorem dX0_pitIt_40 : decode cX0_pitIt 40 = .ok (.iload_n 1, 1) := dk_27 (dk_at dksX0_pitIt_1 17 rfl rfl)
theorem dX0_pitIt_41 : decode cX0_pitIt 41 = .ok (.iastore, 1) := dk_79 (dk_at dksX0_pitIt_1 18 rfl rfl)
theorem dX0_pitIt_42 : decode cX0_pitIt 42 = .ok (.aload_n 0, 1) := dk_42 (dk_at dksX0_pitIt_1 19 rfl rfl)
theorem dX0_pitIt_43 : decode cX0_pitIt 43 = .ok (.getfield 51, 3) := dk_180 0 51 (dk_at dksX0_pitIt_1 20 rfl rfl)
theorem dX0_pitIt_46 : decode cX0_pitIt 46 = .ok (.dup, 1) := dk_89 (dk_at dksX0_pitIt_1 23 rfl rfl)
theorem dX0_pitIt_47 : decode cX0_pitIt 47 = .ok (.getfield 183, 3) := dk_180 0 183 (dk_at dksX0_pitIt_2 0 rfl rfl)
theorem dX0_pitIt_50 : decode cX0_pitIt 50 = .ok (.iconst 1, 1) := dk_4 (dk_at dksX0_pitIt_2 3 rfl rfl)
theorem dX0_pitIt_51 : decode cX0_pitIt 51 = .ok (.iadd, 1) := dk_96 (dk_at dksX0_pitIt_2 4 rfl rfl)
theorem dX0_pitIt_52 : decode cX0_pitIt 52 = .ok (.putfield 183, 3) := dk_181 0 183 (dk_at dksX0_pitIt_2 5 rfl rfl)
theorem dX0_pitIt_55 : decode cX0_pitIt 55 = .ok (.aload_n 0, 1) := dk_42 (dk_at dksX0_pitIt_2 8 rfl rfl)
theorem dX0_pitIt_56 : decode cX0_pitIt 56 = .ok (.getfield 51, 3) := dk_180 0 51 (dk_at dksX0_pitIt_2 9 rfl rfl)
theorem dX0_pitIt_59 : decode cX0_pitIt 59 = .ok (.getfield 183, 3) := dk_180 0 183 (dk_at dksX0_pitIt_2 12 rfl rfl)
theorem dX0_pitIt_62 : decode cX0_pitIt 62 = .ok (.ireturn, 1) := dk_172 (dk_at dksX0_pitIt_2 15 rfl rfl)
abbrev cX0_fittingTold : ByteArray := prog_1_method_46_code
def yX0_fittingTold : MethodName := ⟨RX0, "fittingTold", "(I)I"⟩
def dkwX0_fittingTold_0 : List UInt8 := [27, 184, 1, 29, 42, 182, 1, 50, 61, 27, 154, 0, 7, 28, 167, 0, 7, 28, 184, 1, 53, 172]
abbrev dktX0_fittingTold_0 : List UInt8 := dkwX0_fittingTold_0 ++ []
theorem dksX0_fittingTold_0 : cX0_fittingTold.data.toList.drop 0 = dktX0_fittingTold_0 := by decide +kernel
theorem dX0_fittingTold_0 : decode cX0_fittingTold 0 = .ok (.iload_n 1, 1) := dk_27 (dk_at dksX0_fittingTold_0 0 rfl rfl)
theorem dX0_fittingTold_1 : decode cX0_fittingTold 1 = .ok (.invokestatic 285, 3) := dk_184 1 29 (dk_at dksX0_fittingTold_0 1 rfl rfl)
theorem dX0_fittingTold_4 : decode cX0_fittingTold 4 = .ok (.aload_n 0, 1) := dk_42 (dk_at dksX0_fittingTold_0 4 rfl rfl)
theorem dX0_fittingTold_5 : decode cX0_fittingTold 5 = .ok (.invokevirtual 306, 3) := dk_182 1 50 (dk_at dksX0_fittingTold_0 5 rfl rfl)
theorem dX0_fittingTold_8 : decode cX0_fittingTold 8 = .ok (.istore_n 2, 1) := dk_61 (dk_at dksX0_fittingTold_0 8 rfl rfl)
theorem dX0_fittingTold_9 : decode cX0_fittingTold 9 = .ok (.iload_n 1, 1) := dk_27 (dk_at dksX0_fittingTold_0 9 rfl rfl)
theorem dX0_fittingTold_10 : decode cX0_fittingTold 10 = .ok (.ifCond .ne 7, 3) := dk_154 0 7 (dk_at dksX0_fittingTold_0 10 rfl rfl)
theorem dX0_fittingTold_13 : decode cX0_fittingTold 13 = .ok (.iload_n 2, 1) := dk_28 (dk_at dksX0_fittingTold_0 13 rfl rfl)
theorem dX0_fittingTold_14 : decode cX0_fittingTold 14 = .ok (.goto 7, 3) := dk_167 0 7 (dk_at dksX0_fittingTold_0 14 rfl rfl)
theorem dX0_fittingTold_17 : decode cX0_fittingTold 17 = .ok (.iload_n 2, 1) := dk_28 (dk_at dksX0_fittingTold_0 17 rfl rfl)
theorem dX0_fittingTold_18 : decode cX0_fittingTold 18 = .ok (.invokestatic 309, 3) := dk_184 1 53 (dk_at dksX0_fittingTold_0 18 rfl rfl)
theorem dX0_fittingTold_21 : decode cX0_fittingTold 21 = .ok (.ireturn, 1) := dk_172 (dk_at dksX0_fittingTold_0 21 rfl rfl)
abbrev cX0_fittingWinds : ByteArray := prog_1_method_22_code
def yX0_fittingWinds : MethodName := ⟨RX0, "fittingWinds", "()I"⟩
def dkwX0_fittingWinds_3 : List UInt8 := [21, 4, 153, 0, 9, 4, 29, 120, 167, 0, 4, 3, 128, 60, 132, 3, 1, 167, 255, 177, 27, 172]
abbrev dktX0_fittingWinds_3 : List UInt8 := dkwX0_fittingWinds_3 ++ []
def dkwX0_fittingWinds_2 : List UInt8 := [21, 5, 46, 182, 0, 174, 158, 0, 7, 4, 167, 0, 4, 3, 126, 54, 4, 132, 5, 1, 167, 255, 220, 27]
abbrev dktX0_fittingWinds_2 : List UInt8 := dkwX0_fittingWinds_2 ++ dktX0_fittingWinds_3
def dkwX0_fittingWinds_1 : List UInt8 := [87, 4, 54, 4, 3, 54, 5, 21, 5, 44, 180, 0, 183, 162, 0, 33, 21, 4, 44, 44, 180, 0, 186]
abbrev dktX0_fittingWinds_1 : List UInt8 := dkwX0_fittingWinds_1 ++ dktX0_fittingWinds_2
def dkwX0_fittingWinds_0 : List UInt8 := [3, 60, 42, 182, 0, 112, 77, 3, 62, 29, 16, 16, 162, 0, 79, 44, 29, 181, 0, 163, 44, 182, 0, 123]
abbrev dktX0_fittingWinds_0 : List UInt8 := dkwX0_fittingWinds_0 ++ dktX0_fittingWinds_1
theorem dksX0_fittingWinds_0 : cX0_fittingWinds.data.toList.drop 0 = dktX0_fittingWinds_0 := by decide +kernel
theorem dksX0_fittingWinds_1 : cX0_fittingWinds.data.toList.drop 24 = dktX0_fittingWinds_1 := dk_seg dksX0_fittingWinds_0 24 rfl rfl
theorem dksX0_fittingWinds_2 : cX0_fittingWinds.data.toList.drop 47 = dktX0_fittingWinds_2 := dk_seg dksX0_fittingWinds_1 23 rfl rfl
theorem dksX0_fittingWinds_3 : cX0_fittingWinds.data.toList.drop 71 = dktX0_fittingWinds_3 := dk_seg dksX0_fittingWinds_2 24 rfl rfl
theorem dX0_fittingWinds_0 : decode cX0_fittingWinds 0 = .ok (.iconst 0, 1) := dk_3 (dk_at dksX0_fittingWinds_0 0 rfl rfl)
theorem dX0_fittingWinds_1 : decode cX0_fittingWinds 1 = .ok (.istore_n 1, 1) := dk_60 (dk_at dksX0_fittingWinds_0 1 rfl rfl)
theorem dX0_fittingWinds_2 : decode cX0_fittingWinds 2 = .ok (.aload_n 0, 1) := dk_42 (dk_at dksX0_fittingWinds_0 2 rfl rfl)
theorem dX0_fittingWinds_3 : decode cX0_fittingWinds 3 = .ok (.invokevirtual 112, 3) := dk_182 0 112 (dk_at dksX0_fittingWinds_0 3 rfl rfl)
theorem dX0_fittingWinds_6 : decode cX0_fittingWinds 6 = .ok (.astore_n 2, 1) := dk_77 (dk_at dksX0_fittingWinds_0 6 rfl rfl)
theorem dX0_fittingWinds_7 : decode cX0_fittingWinds 7 = .ok (.iconst 0, 1) := dk_3 (dk_at dksX0_fittingWinds_0 7 rfl rfl)
theorem dX0_fittingWinds_8 : decode cX0_fittingWinds 8 = .ok (.istore_n 3, 1) := dk_62 (dk_at dksX0_fittingWinds_0 8 rfl rfl)
theorem dX0_fittingWinds_9 : decode cX0_fittingWinds 9 = .ok (.iload_n 3, 1) := dk_29 (dk_at dksX0_fittingWinds_0 9 rfl rfl)
theorem dX0_fittingWinds_10 : decode cX0_fittingWinds 10 = .ok (.bipush 16, 2) := dk_16 16 (dk_at dksX0_fittingWinds_0 10 rfl rfl)
theorem dX0_fittingWinds_12 : decode cX0_fittingWinds 12 = .ok (.if_icmp .ge 79, 3) := dk_162 0 79 (dk_at dksX0_fittingWinds_0 12 rfl rfl)
theorem dX0_fittingWinds_15 : decode cX0_fittingWinds 15 = .ok (.aload_n 2, 1) := dk_44 (dk_at dksX0_fittingWinds_0 15 rfl rfl)
theorem dX0_fittingWinds_16 : decode cX0_fittingWinds 16 = .ok (.iload_n 3, 1) := dk_29 (dk_at dksX0_fittingWinds_0 16 rfl rfl)
theorem dX0_fittingWinds_17 : decode cX0_fittingWinds 17 = .ok (.putfield 163, 3) := dk_181 0 163 (dk_at dksX0_fittingWinds_0 17 rfl rfl)
theorem dX0_fittingWinds_20 : decode cX0_fittingWinds 20 = .ok (.aload_n 2, 1) := dk_44 (dk_at dksX0_fittingWinds_0 20 rfl rfl)
theorem dX0_fittingWinds_21 : decode cX0_fittingWinds 21 = .ok (.invokevirtual 123, 3) := dk_182 0 123 (dk_at dksX0_fittingWinds_0 21 rfl rfl)
theorem dX0_fittingWinds_24 : decode cX0_fittingWinds 24 = .ok (.pop, 1) := dk_87 (dk_at dksX0_fittingWinds_1 0 rfl rfl)
theorem dX0_fittingWinds_25 : decode cX0_fittingWinds 25 = .ok (.iconst 1, 1) := dk_4 (dk_at dksX0_fittingWinds_1 1 rfl rfl)
theorem dX0_fittingWinds_26 : decode cX0_fittingWinds 26 = .ok (.istore 4, 2) := dk_54 4 (dk_at dksX0_fittingWinds_1 2 rfl rfl)
theorem dX0_fittingWinds_28 : decode cX0_fittingWinds 28 = .ok (.iconst 0, 1) := dk_3 (dk_at dksX0_fittingWinds_1 4 rfl rfl)
theorem dX0_fittingWinds_29 : decode cX0_fittingWinds 29 = .ok (.istore 5, 2) := dk_54 5 (dk_at dksX0_fittingWinds_1 5 rfl rfl)
theorem dX0_fittingWinds_31 : decode cX0_fittingWinds 31 = .ok (.iload 5, 2) := dk_21 5 (dk_at dksX0_fittingWinds_1 7 rfl rfl)
theorem dX0_fittingWinds_33 : decode cX0_fittingWinds 33 = .ok (.aload_n 2, 1) := dk_44 (dk_at dksX0_fittingWinds_1 9 rfl rfl)
theorem dX0_fittingWinds_34 : decode cX0_fittingWinds 34 = .ok (.getfield 183, 3) := dk_180 0 183 (dk_at dksX0_fittingWinds_1 10 rfl rfl)
theorem dX0_fittingWinds_37 : decode cX0_fittingWinds 37 = .ok (.if_icmp .ge 33, 3) := dk_162 0 33 (dk_at dksX0_fittingWinds_1 13 rfl rfl)
theorem dX0_fittingWinds_40 : decode cX0_fittingWinds 40 = .ok (.iload 4, 2) := dk_21 4 (dk_at dksX0_fittingWinds_1 16 rfl rfl)
theorem dX0_fittingWinds_42 : decode cX0_fittingWinds 42 = .ok (.aload_n 2, 1) := dk_44 (dk_at dksX0_fittingWinds_1 18 rfl rfl)
theorem dX0_fittingWinds_43 : decode cX0_fittingWinds 43 = .ok (.aload_n 2, 1) := dk_44 (dk_at dksX0_fittingWinds_1 19 rfl rfl)
theorem dX0_fittingWinds_44 : decode cX0_fittingWinds 44 = .ok (.getfield 186, 3) := dk_180 0 186 (dk_at dksX0_fittingWinds_1 20 rfl rfl)
theorem dX0_fittingWinds_47 : decode cX0_fittingWinds 47 = .ok (.iload 5, 2) := dk_21 5 (dk_at dksX0_fittingWinds_2 0 rfl rfl)
theorem dX0_fittingWinds_49 : decode cX0_fittingWinds 49 = .ok (.iaload, 1) := dk_46 (dk_at dksX0_fittingWinds_2 2 rfl rfl)
theorem dX0_fittingWinds_50 : decode cX0_fittingWinds 50 = .ok (.invokevirtual 174, 3) := dk_182 0 174 (dk_at dksX0_fittingWinds_2 3 rfl rfl)
theorem dX0_fittingWinds_53 : decode cX0_fittingWinds 53 = .ok (.ifCond .le 7, 3) := dk_158 0 7 (dk_at dksX0_fittingWinds_2 6 rfl rfl)
theorem dX0_fittingWinds_56 : decode cX0_fittingWinds 56 = .ok (.iconst 1, 1) := dk_4 (dk_at dksX0_fittingWinds_2 9 rfl rfl)
theorem dX0_fittingWinds_57 : decode cX0_fittingWinds 57 = .ok (.goto 4, 3) := dk_167 0 4 (dk_at dksX0_fittingWinds_2 10 rfl rfl)
theorem dX0_fittingWinds_60 : decode cX0_fittingWinds 60 = .ok (.iconst 0, 1) := dk_3 (dk_at dksX0_fittingWinds_2 13 rfl rfl)
theorem dX0_fittingWinds_61 : decode cX0_fittingWinds 61 = .ok (.iand, 1) := dk_126 (dk_at dksX0_fittingWinds_2 14 rfl rfl)
theorem dX0_fittingWinds_62 : decode cX0_fittingWinds 62 = .ok (.istore 4, 2) := dk_54 4 (dk_at dksX0_fittingWinds_2 15 rfl rfl)
theorem dX0_fittingWinds_64 : decode cX0_fittingWinds 64 = .ok (.iinc 5 1, 3) := dk_132 5 1 (dk_at dksX0_fittingWinds_2 17 rfl rfl)
theorem dX0_fittingWinds_67 : decode cX0_fittingWinds 67 = .ok (.goto (-36), 3) := dk_167 255 220 (dk_at dksX0_fittingWinds_2 20 rfl rfl)
theorem dX0_fittingWinds_70 : decode cX0_fittingWinds 70 = .ok (.iload_n 1, 1) := dk_27 (dk_at dksX0_fittingWinds_2 23 rfl rfl)
theorem dX0_fittingWinds_71 : decode cX0_fittingWinds 71 = .ok (.iload 4, 2) := dk_21 4 (dk_at dksX0_fittingWinds_3 0 rfl rfl)
theorem dX0_fittingWinds_73 : decode cX0_fittingWinds 73 = .ok (.ifCond .eq 9, 3) := dk_153 0 9 (dk_at dksX0_fittingWinds_3 2 rfl rfl)
theorem dX0_fittingWinds_76 : decode cX0_fittingWinds 76 = .ok (.iconst 1, 1) := dk_4 (dk_at dksX0_fittingWinds_3 5 rfl rfl)
theorem dX0_fittingWinds_77 : decode cX0_fittingWinds 77 = .ok (.iload_n 3, 1) := dk_29 (dk_at dksX0_fittingWinds_3 6 rfl rfl)
theorem dX0_fittingWinds_78 : decode cX0_fittingWinds 78 = .ok (.ishl, 1) := dk_120 (dk_at dksX0_fittingWinds_3 7 rfl rfl)
theorem dX0_fittingWinds_79 : decode cX0_fittingWinds 79 = .ok (.goto 4, 3) := dk_167 0 4 (dk_at dksX0_fittingWinds_3 8 rfl rfl)
theorem dX0_fittingWinds_82 : decode cX0_fittingWinds 82 = .ok (.iconst 0, 1) := dk_3 (dk_at dksX0_fittingWinds_3 11 rfl rfl)
theorem dX0_fittingWinds_83 : decode cX0_fittingWinds 83 = .ok (.ior, 1) := dk_128 (dk_at dksX0_fittingWinds_3 12 rfl rfl)
theorem dX0_fittingWinds_84 : decode cX0_fittingWinds 84 = .ok (.istore_n 1, 1) := dk_60 (dk_at dksX0_fittingWinds_3 13 rfl rfl)
theorem dX0_fittingWinds_85 : decode cX0_fittingWinds 85 = .ok (.iinc 3 1, 3) := dk_132 3 1 (dk_at dksX0_fittingWinds_3 14 rfl rfl)
theorem dX0_fittingWinds_88 : decode cX0_fittingWinds 88 = .ok (.goto (-79), 3) := dk_167 255 177 (dk_at dksX0_fittingWinds_3 17 rfl rfl)
theorem dX0_fittingWinds_91 : decode cX0_fittingWinds 91 = .ok (.iload_n 1, 1) := dk_27 (dk_at dksX0_fittingWinds_3 20 rfl rfl)
theorem dX0_fittingWinds_92 : decode cX0_fittingWinds 92 = .ok (.ireturn, 1) := dk_172 (dk_at dksX0_fittingWinds_3 21 rfl rfl)
abbrev cX0_ones : ByteArray := prog_1_method_5_code
def yX0_ones : MethodName := ⟨RX0, "ones", "(I)I"⟩
def dkwX0_ones_0 : List UInt8 := [3, 60, 26, 61, 28, 153, 0, 15, 132, 1, 1, 28, 28, 4, 100, 126, 61, 167, 255, 243, 27, 172]
abbrev dktX0_ones_0 : List UInt8 := dkwX0_ones_0 ++ []
theorem dksX0_ones_0 : cX0_ones.data.toList.drop 0 = dktX0_ones_0 := by decide +kernel
theorem dX0_ones_0 : decode cX0_ones 0 = .ok (.iconst 0, 1) := dk_3 (dk_at dksX0_ones_0 0 rfl rfl)
theorem dX0_ones_1 : decode cX0_ones 1 = .ok (.istore_n 1, 1) := dk_60 (dk_at dksX0_ones_0 1 rfl rfl)
theorem dX0_ones_2 : decode cX0_ones 2 = .ok (.iload_n 0, 1) := dk_26 (dk_at dksX0_ones_0 2 rfl rfl)
theorem dX0_ones_3 : decode cX0_ones 3 = .ok (.istore_n 2, 1) := dk_61 (dk_at dksX0_ones_0 3 rfl rfl)
theorem dX0_ones_4 : decode cX0_ones 4 = .ok (.iload_n 2, 1) := dk_28 (dk_at dksX0_ones_0 4 rfl rfl)
theorem dX0_ones_5 : decode cX0_ones 5 = .ok (.ifCond .eq 15, 3) := dk_153 0 15 (dk_at dksX0_ones_0 5 rfl rfl)
theorem dX0_ones_8 : decode cX0_ones 8 = .ok (.iinc 1 1, 3) := dk_132 1 1 (dk_at dksX0_ones_0 8 rfl rfl)
theorem dX0_ones_11 : decode cX0_ones 11 = .ok (.iload_n 2, 1) := dk_28 (dk_at dksX0_ones_0 11 rfl rfl)
theorem dX0_ones_12 : decode cX0_ones 12 = .ok (.iload_n 2, 1) := dk_28 (dk_at dksX0_ones_0 12 rfl rfl)
theorem dX0_ones_13 : decode cX0_ones 13 = .ok (.iconst 1, 1) := dk_4 (dk_at dksX0_ones_0 13 rfl rfl)
theorem dX0_ones_14 : decode cX0_ones 14 = .ok (.isub, 1) := dk_100 (dk_at dksX0_ones_0 14 rfl rfl)
theorem dX0_ones_15 : decode cX0_ones 15 = .ok (.iand, 1) := dk_126 (dk_at dksX0_ones_0 15 rfl rfl)
theorem dX0_ones_16 : decode cX0_ones 16 = .ok (.istore_n 2, 1) := dk_61 (dk_at dksX0_ones_0 16 rfl rfl)
theorem dX0_ones_17 : decode cX0_ones 17 = .ok (.goto (-13), 3) := dk_167 255 243 (dk_at dksX0_ones_0 17 rfl rfl)
theorem dX0_ones_20 : decode cX0_ones 20 = .ok (.iload_n 1, 1) := dk_27 (dk_at dksX0_ones_0 20 rfl rfl)
theorem dX0_ones_21 : decode cX0_ones 21 = .ok (.ireturn, 1) := dk_172 (dk_at dksX0_ones_0 21 rfl rfl)
abbrev cX0_ofLast : ByteArray := prog_1_method_48_code
def yX0_ofLast : MethodName := ⟨RX0, "ofLast", "(IIII)I"⟩
def dkwX0_ofLast_7 : List UInt8 := [184, 0, 9, 42, 180, 0, 51, 42, 180, 0, 58, 182, 0, 94, 42, 180, 0, 51, 180, 0, 120, 172]
abbrev dktX0_ofLast_7 : List UInt8 := dkwX0_ofLast_7 ++ []
def dkwX0_ofLast_6 : List UInt8 := [180, 0, 58, 42, 180, 0, 51, 182, 0, 94, 42, 180, 0, 51, 180, 0, 120, 172, 42, 180, 1, 97, 16, 253]
abbrev dktX0_ofLast_6 : List UInt8 := dkwX0_ofLast_6 ++ dktX0_ofLast_7
def dkwX0_ofLast_5 : List UInt8 := [133, 10, 20, 1, 92, 184, 0, 220, 42, 28, 29, 21, 4, 182, 1, 94, 172, 42, 4, 181, 1, 97, 42]
abbrev dktX0_ofLast_5 : List UInt8 := dkwX0_ofLast_5 ++ dktX0_ofLast_6
def dkwX0_ofLast_4 : List UInt8 := [181, 0, 192, 42, 180, 0, 192, 172, 28, 184, 0, 249, 42, 28, 182, 1, 89, 172, 21, 4, 184, 0, 249, 28]
abbrev dktX0_ofLast_4 : List UInt8 := dkwX0_ofLast_4 ++ dktX0_ofLast_5
def dkwX0_ofLast_3 : List UInt8 := [16, 250, 184, 0, 9, 42, 180, 0, 61, 42, 180, 0, 192, 28, 145, 84, 42, 89, 180, 0, 192, 4, 96]
abbrev dktX0_ofLast_3 : List UInt8 := dkwX0_ofLast_3 ++ dktX0_ofLast_4
def dkwX0_ofLast_2 : List UInt8 := [28, 133, 9, 20, 1, 87, 184, 0, 220, 42, 180, 0, 192, 16, 12, 162, 0, 7, 4, 167, 0, 4, 3]
abbrev dktX0_ofLast_2 : List UInt8 := dkwX0_ofLast_2 ++ dktX0_ofLast_3
def dkwX0_ofLast_1 : List UInt8 := [170, 0, 0, 0, 0, 0, 142, 0, 0, 0, 26, 0, 0, 0, 29, 0, 0, 0, 31, 0, 0, 0, 85, 0, 0, 0, 95, 0, 0, 0, 118]
abbrev dktX0_ofLast_1 : List UInt8 := dkwX0_ofLast_1 ++ dktX0_ofLast_2
def dkwX0_ofLast_0 : List UInt8 := [27]
abbrev dktX0_ofLast_0 : List UInt8 := dkwX0_ofLast_0 ++ dktX0_ofLast_1
theorem dksX0_ofLast_0 : cX0_ofLast.data.toList.drop 0 = dktX0_ofLast_0 := by decide +kernel
theorem dksX0_ofLast_1 : cX0_ofLast.data.toList.drop 1 = dktX0_ofLast_1 := dk_seg dksX0_ofLast_0 1 rfl rfl
theorem dksX0_ofLast_2 : cX0_ofLast.data.toList.drop 32 = dktX0_ofLast_2 := dk_seg dksX0_ofLast_1 31 rfl rfl
theorem dksX0_ofLast_3 : cX0_ofLast.data.toList.drop 55 = dktX0_ofLast_3 := dk_seg dksX0_ofLast_2 23 rfl rfl
theorem dksX0_ofLast_4 : cX0_ofLast.data.toList.drop 78 = dktX0_ofLast_4 := dk_seg dksX0_ofLast_3 23 rfl rfl
theorem dksX0_ofLast_5 : cX0_ofLast.data.toList.drop 102 = dktX0_ofLast_5 := dk_seg dksX0_ofLast_4 24 rfl rfl
theorem dksX0_ofLast_6 : cX0_ofLast.data.toList.drop 125 = dktX0_ofLast_6 := dk_seg dksX0_ofLast_5 23 rfl rfl
theorem dksX0_ofLast_7 : cX0_ofLast.data.toList.drop 149 = dktX0_ofLast_7 := dk_seg dksX0_ofLast_6 24 rfl rfl
theorem dX0_ofLast_0 : decode cX0_ofLast 0 = .ok (.iload_n 1, 1) := dk_27 (dk_at dksX0_ofLast_0 0 rfl rfl)
theorem dX0_ofLast_1 : decode cX0_ofLast 1 = .ok (.tableswitch 142 26 29 #[31, 85, 95, 118], 31) := by decide +kernel
theorem dX0_ofLast_32 : decode cX0_ofLast 32 = .ok (.iload_n 2, 1) := dk_28 (dk_at dksX0_ofLast_2 0 rfl rfl)
theorem dX0_ofLast_33 : decode cX0_ofLast 33 = .ok (.i2l, 1) := dk_133 (dk_at dksX0_ofLast_2 1 rfl rfl)
theorem dX0_ofLast_34 : decode cX0_ofLast 34 = .ok (.lconst 0, 1) := dk_9 (dk_at dksX0_ofLast_2 2 rfl rfl)
theorem dX0_ofLast_35 : decode cX0_ofLast 35 = .ok (.ldc2_w 343, 3) := dk_20 1 87 (dk_at dksX0_ofLast_2 3 rfl rfl)
theorem dX0_ofLast_38 : decode cX0_ofLast 38 = .ok (.invokestatic 220, 3) := dk_184 0 220 (dk_at dksX0_ofLast_2 6 rfl rfl)
theorem dX0_ofLast_41 : decode cX0_ofLast 41 = .ok (.aload_n 0, 1) := dk_42 (dk_at dksX0_ofLast_2 9 rfl rfl)
theorem dX0_ofLast_42 : decode cX0_ofLast 42 = .ok (.getfield 192, 3) := dk_180 0 192 (dk_at dksX0_ofLast_2 10 rfl rfl)
theorem dX0_ofLast_45 : decode cX0_ofLast 45 = .ok (.bipush 12, 2) := dk_16 12 (dk_at dksX0_ofLast_2 13 rfl rfl)
theorem dX0_ofLast_47 : decode cX0_ofLast 47 = .ok (.if_icmp .ge 7, 3) := dk_162 0 7 (dk_at dksX0_ofLast_2 15 rfl rfl)
theorem dX0_ofLast_50 : decode cX0_ofLast 50 = .ok (.iconst 1, 1) := dk_4 (dk_at dksX0_ofLast_2 18 rfl rfl)
theorem dX0_ofLast_51 : decode cX0_ofLast 51 = .ok (.goto 4, 3) := dk_167 0 4 (dk_at dksX0_ofLast_2 19 rfl rfl)
theorem dX0_ofLast_54 : decode cX0_ofLast 54 = .ok (.iconst 0, 1) := dk_3 (dk_at dksX0_ofLast_2 22 rfl rfl)
theorem dX0_ofLast_55 : decode cX0_ofLast 55 = .ok (.bipush (-6), 2) := dk_16 250 (dk_at dksX0_ofLast_3 0 rfl rfl)
theorem dX0_ofLast_57 : decode cX0_ofLast 57 = .ok (.invokestatic 9, 3) := dk_184 0 9 (dk_at dksX0_ofLast_3 2 rfl rfl)
theorem dX0_ofLast_60 : decode cX0_ofLast 60 = .ok (.aload_n 0, 1) := dk_42 (dk_at dksX0_ofLast_3 5 rfl rfl)
theorem dX0_ofLast_61 : decode cX0_ofLast 61 = .ok (.getfield 61, 3) := dk_180 0 61 (dk_at dksX0_ofLast_3 6 rfl rfl)
theorem dX0_ofLast_64 : decode cX0_ofLast 64 = .ok (.aload_n 0, 1) := dk_42 (dk_at dksX0_ofLast_3 9 rfl rfl)
theorem dX0_ofLast_65 : decode cX0_ofLast 65 = .ok (.getfield 192, 3) := dk_180 0 192 (dk_at dksX0_ofLast_3 10 rfl rfl)
theorem dX0_ofLast_68 : decode cX0_ofLast 68 = .ok (.iload_n 2, 1) := dk_28 (dk_at dksX0_ofLast_3 13 rfl rfl)
theorem dX0_ofLast_69 : decode cX0_ofLast 69 = .ok (.i2b, 1) := dk_145 (dk_at dksX0_ofLast_3 14 rfl rfl)
theorem dX0_ofLast_70 : decode cX0_ofLast 70 = .ok (.bastore, 1) := dk_84 (dk_at dksX0_ofLast_3 15 rfl rfl)
theorem dX0_ofLast_71 : decode cX0_ofLast 71 = .ok (.aload_n 0, 1) := dk_42 (dk_at dksX0_ofLast_3 16 rfl rfl)
theorem dX0_ofLast_72 : decode cX0_ofLast 72 = .ok (.dup, 1) := dk_89 (dk_at dksX0_ofLast_3 17 rfl rfl)
theorem dX0_ofLast_73 : decode cX0_ofLast 73 = .ok (.getfield 192, 3) := dk_180 0 192 (dk_at dksX0_ofLast_3 18 rfl rfl)
theorem dX0_ofLast_76 : decode cX0_ofLast 76 = .ok (.iconst 1, 1) := dk_4 (dk_at dksX0_ofLast_3 21 rfl rfl)
theorem dX0_ofLast_77 : decode cX0_ofLast 77 = .ok (.iadd, 1) := dk_96 (dk_at dksX0_ofLast_3 22 rfl rfl)
theorem dX0_ofLast_78 : decode cX0_ofLast 78 = .ok (.putfield 192, 3) := dk_181 0 192 (dk_at dksX0_ofLast_4 0 rfl rfl)
theorem dX0_ofLast_81 : decode cX0_ofLast 81 = .ok (.aload_n 0, 1) := dk_42 (dk_at dksX0_ofLast_4 3 rfl rfl)
theorem dX0_ofLast_82 : decode cX0_ofLast 82 = .ok (.getfield 192, 3) := dk_180 0 192 (dk_at dksX0_ofLast_4 4 rfl rfl)
theorem dX0_ofLast_85 : decode cX0_ofLast 85 = .ok (.ireturn, 1) := dk_172 (dk_at dksX0_ofLast_4 7 rfl rfl)
theorem dX0_ofLast_86 : decode cX0_ofLast 86 = .ok (.iload_n 2, 1) := dk_28 (dk_at dksX0_ofLast_4 8 rfl rfl)
theorem dX0_ofLast_87 : decode cX0_ofLast 87 = .ok (.invokestatic 249, 3) := dk_184 0 249 (dk_at dksX0_ofLast_4 9 rfl rfl)
theorem dX0_ofLast_90 : decode cX0_ofLast 90 = .ok (.aload_n 0, 1) := dk_42 (dk_at dksX0_ofLast_4 12 rfl rfl)
theorem dX0_ofLast_91 : decode cX0_ofLast 91 = .ok (.iload_n 2, 1) := dk_28 (dk_at dksX0_ofLast_4 13 rfl rfl)
theorem dX0_ofLast_92 : decode cX0_ofLast 92 = .ok (.invokevirtual 345, 3) := dk_182 1 89 (dk_at dksX0_ofLast_4 14 rfl rfl)
theorem dX0_ofLast_95 : decode cX0_ofLast 95 = .ok (.ireturn, 1) := dk_172 (dk_at dksX0_ofLast_4 17 rfl rfl)
theorem dX0_ofLast_96 : decode cX0_ofLast 96 = .ok (.iload 4, 2) := dk_21 4 (dk_at dksX0_ofLast_4 18 rfl rfl)
theorem dX0_ofLast_98 : decode cX0_ofLast 98 = .ok (.invokestatic 249, 3) := dk_184 0 249 (dk_at dksX0_ofLast_4 20 rfl rfl)
theorem dX0_ofLast_101 : decode cX0_ofLast 101 = .ok (.iload_n 2, 1) := dk_28 (dk_at dksX0_ofLast_4 23 rfl rfl)
theorem dX0_ofLast_102 : decode cX0_ofLast 102 = .ok (.i2l, 1) := dk_133 (dk_at dksX0_ofLast_5 0 rfl rfl)
theorem dX0_ofLast_103 : decode cX0_ofLast 103 = .ok (.lconst 1, 1) := dk_10 (dk_at dksX0_ofLast_5 1 rfl rfl)
theorem dX0_ofLast_104 : decode cX0_ofLast 104 = .ok (.ldc2_w 348, 3) := dk_20 1 92 (dk_at dksX0_ofLast_5 2 rfl rfl)
theorem dX0_ofLast_107 : decode cX0_ofLast 107 = .ok (.invokestatic 220, 3) := dk_184 0 220 (dk_at dksX0_ofLast_5 5 rfl rfl)
theorem dX0_ofLast_110 : decode cX0_ofLast 110 = .ok (.aload_n 0, 1) := dk_42 (dk_at dksX0_ofLast_5 8 rfl rfl)
theorem dX0_ofLast_111 : decode cX0_ofLast 111 = .ok (.iload_n 2, 1) := dk_28 (dk_at dksX0_ofLast_5 9 rfl rfl)
theorem dX0_ofLast_112 : decode cX0_ofLast 112 = .ok (.iload_n 3, 1) := dk_29 (dk_at dksX0_ofLast_5 10 rfl rfl)
theorem dX0_ofLast_113 : decode cX0_ofLast 113 = .ok (.iload 4, 2) := dk_21 4 (dk_at dksX0_ofLast_5 11 rfl rfl)
theorem dX0_ofLast_115 : decode cX0_ofLast 115 = .ok (.invokevirtual 350, 3) := dk_182 1 94 (dk_at dksX0_ofLast_5 13 rfl rfl)
theorem dX0_ofLast_118 : decode cX0_ofLast 118 = .ok (.ireturn, 1) := dk_172 (dk_at dksX0_ofLast_5 16 rfl rfl)
theorem dX0_ofLast_119 : decode cX0_ofLast 119 = .ok (.aload_n 0, 1) := dk_42 (dk_at dksX0_ofLast_5 17 rfl rfl)
theorem dX0_ofLast_120 : decode cX0_ofLast 120 = .ok (.iconst 1, 1) := dk_4 (dk_at dksX0_ofLast_5 18 rfl rfl)
theorem dX0_ofLast_121 : decode cX0_ofLast 121 = .ok (.putfield 353, 3) := dk_181 1 97 (dk_at dksX0_ofLast_5 19 rfl rfl)
theorem dX0_ofLast_124 : decode cX0_ofLast 124 = .ok (.aload_n 0, 1) := dk_42 (dk_at dksX0_ofLast_5 22 rfl rfl)
theorem dX0_ofLast_125 : decode cX0_ofLast 125 = .ok (.getfield 58, 3) := dk_180 0 58 (dk_at dksX0_ofLast_6 0 rfl rfl)
theorem dX0_ofLast_128 : decode cX0_ofLast 128 = .ok (.aload_n 0, 1) := dk_42 (dk_at dksX0_ofLast_6 3 rfl rfl)
theorem dX0_ofLast_129 : decode cX0_ofLast 129 = .ok (.getfield 51, 3) := dk_180 0 51 (dk_at dksX0_ofLast_6 4 rfl rfl)
theorem dX0_ofLast_132 : decode cX0_ofLast 132 = .ok (.invokevirtual 94, 3) := dk_182 0 94 (dk_at dksX0_ofLast_6 7 rfl rfl)
theorem dX0_ofLast_135 : decode cX0_ofLast 135 = .ok (.aload_n 0, 1) := dk_42 (dk_at dksX0_ofLast_6 10 rfl rfl)
theorem dX0_ofLast_136 : decode cX0_ofLast 136 = .ok (.getfield 51, 3) := dk_180 0 51 (dk_at dksX0_ofLast_6 11 rfl rfl)
theorem dX0_ofLast_139 : decode cX0_ofLast 139 = .ok (.getfield 120, 3) := dk_180 0 120 (dk_at dksX0_ofLast_6 14 rfl rfl)
theorem dX0_ofLast_142 : decode cX0_ofLast 142 = .ok (.ireturn, 1) := dk_172 (dk_at dksX0_ofLast_6 17 rfl rfl)
theorem dX0_ofLast_143 : decode cX0_ofLast 143 = .ok (.aload_n 0, 1) := dk_42 (dk_at dksX0_ofLast_6 18 rfl rfl)
theorem dX0_ofLast_144 : decode cX0_ofLast 144 = .ok (.getfield 353, 3) := dk_180 1 97 (dk_at dksX0_ofLast_6 19 rfl rfl)
theorem dX0_ofLast_147 : decode cX0_ofLast 147 = .ok (.bipush (-3), 2) := dk_16 253 (dk_at dksX0_ofLast_6 22 rfl rfl)
theorem dX0_ofLast_149 : decode cX0_ofLast 149 = .ok (.invokestatic 9, 3) := dk_184 0 9 (dk_at dksX0_ofLast_7 0 rfl rfl)
theorem dX0_ofLast_152 : decode cX0_ofLast 152 = .ok (.aload_n 0, 1) := dk_42 (dk_at dksX0_ofLast_7 3 rfl rfl)
theorem dX0_ofLast_153 : decode cX0_ofLast 153 = .ok (.getfield 51, 3) := dk_180 0 51 (dk_at dksX0_ofLast_7 4 rfl rfl)
theorem dX0_ofLast_156 : decode cX0_ofLast 156 = .ok (.aload_n 0, 1) := dk_42 (dk_at dksX0_ofLast_7 7 rfl rfl)
theorem dX0_ofLast_157 : decode cX0_ofLast 157 = .ok (.getfield 58, 3) := dk_180 0 58 (dk_at dksX0_ofLast_7 8 rfl rfl)
theorem dX0_ofLast_160 : decode cX0_ofLast 160 = .ok (.invokevirtual 94, 3) := dk_182 0 94 (dk_at dksX0_ofLast_7 11 rfl rfl)
theorem dX0_ofLast_163 : decode cX0_ofLast 163 = .ok (.aload_n 0, 1) := dk_42 (dk_at dksX0_ofLast_7 14 rfl rfl)
theorem dX0_ofLast_164 : decode cX0_ofLast 164 = .ok (.getfield 51, 3) := dk_180 0 51 (dk_at dksX0_ofLast_7 15 rfl rfl)
theorem dX0_ofLast_167 : decode cX0_ofLast 167 = .ok (.getfield 120, 3) := dk_180 0 120 (dk_at dksX0_ofLast_7 18 rfl rfl)
theorem dX0_ofLast_170 : decode cX0_ofLast 170 = .ok (.ireturn, 1) := dk_172 (dk_at dksX0_ofLast_7 21 rfl rfl)
abbrev cX0_judgeRow : ByteArray := prog_1_method_24_code
def yX0_judgeRow : MethodName := ⟨RX0, "judgeRow", "(I)I"⟩
def dkwX0_judgeRow_4 : List UInt8 := [172, 132, 3, 1, 167, 255, 181, 16, 247, 172]
abbrev dktX0_judgeRow_4 : List UInt8 := dkwX0_judgeRow_4 ++ []
def dkwX0_judgeRow_3 : List UInt8 := [180, 0, 51, 21, 4, 182, 0, 174, 158, 0, 7, 4, 167, 0, 4, 3, 54, 5, 21, 5, 154, 0, 5, 29]
abbrev dktX0_judgeRow_3 : List UInt8 := dkwX0_judgeRow_3 ++ dktX0_judgeRow_4
def dkwX0_judgeRow_2 : List UInt8 := [180, 0, 141, 21, 4, 46, 27, 160, 0, 31, 42, 180, 0, 51, 21, 4, 182, 0, 170, 154, 0, 19, 42]
abbrev dktX0_judgeRow_2 : List UInt8 := dkwX0_judgeRow_2 ++ dktX0_judgeRow_3
def dkwX0_judgeRow_1 : List UInt8 := [162, 0, 76, 42, 180, 0, 61, 29, 51, 54, 4, 21, 4, 16, 36, 162, 0, 45, 42, 180, 0, 51]
abbrev dktX0_judgeRow_1 : List UInt8 := dkwX0_judgeRow_1 ++ dktX0_judgeRow_2
def dkwX0_judgeRow_0 : List UInt8 := [42, 180, 0, 192, 61, 42, 3, 181, 0, 192, 42, 180, 0, 51, 182, 0, 123, 87, 3, 62, 29, 28]
abbrev dktX0_judgeRow_0 : List UInt8 := dkwX0_judgeRow_0 ++ dktX0_judgeRow_1
theorem dksX0_judgeRow_0 : cX0_judgeRow.data.toList.drop 0 = dktX0_judgeRow_0 := by decide +kernel
theorem dksX0_judgeRow_1 : cX0_judgeRow.data.toList.drop 22 = dktX0_judgeRow_1 := dk_seg dksX0_judgeRow_0 22 rfl rfl
theorem dksX0_judgeRow_2 : cX0_judgeRow.data.toList.drop 44 = dktX0_judgeRow_2 := dk_seg dksX0_judgeRow_1 22 rfl rfl
theorem dksX0_judgeRow_3 : cX0_judgeRow.data.toList.drop 67 = dktX0_judgeRow_3 := dk_seg dksX0_judgeRow_2 23 rfl rfl
theorem dksX0_judgeRow_4 : cX0_judgeRow.data.toList.drop 91 = dktX0_judgeRow_4 := dk_seg dksX0_judgeRow_3 24 rfl rfl
theorem dX0_judgeRow_0 : decode cX0_judgeRow 0 = .ok (.aload_n 0, 1) := dk_42 (dk_at dksX0_judgeRow_0 0 rfl rfl)
theorem dX0_judgeRow_1 : decode cX0_judgeRow 1 = .ok (.getfield 192, 3) := dk_180 0 192 (dk_at dksX0_judgeRow_0 1 rfl rfl)
theorem dX0_judgeRow_4 : decode cX0_judgeRow 4 = .ok (.istore_n 2, 1) := dk_61 (dk_at dksX0_judgeRow_0 4 rfl rfl)
theorem dX0_judgeRow_5 : decode cX0_judgeRow 5 = .ok (.aload_n 0, 1) := dk_42 (dk_at dksX0_judgeRow_0 5 rfl rfl)
theorem dX0_judgeRow_6 : decode cX0_judgeRow 6 = .ok (.iconst 0, 1) := dk_3 (dk_at dksX0_judgeRow_0 6 rfl rfl)
theorem dX0_judgeRow_7 : decode cX0_judgeRow 7 = .ok (.putfield 192, 3) := dk_181 0 192 (dk_at dksX0_judgeRow_0 7 rfl rfl)
theorem dX0_judgeRow_10 : decode cX0_judgeRow 10 = .ok (.aload_n 0, 1) := dk_42 (dk_at dksX0_judgeRow_0 10 rfl rfl)
theorem dX0_judgeRow_11 : decode cX0_judgeRow 11 = .ok (.getfield 51, 3) := dk_180 0 51 (dk_at dksX0_judgeRow_0 11 rfl rfl)
theorem dX0_judgeRow_14 : decode cX0_judgeRow 14 = .ok (.invokevirtual 123, 3) := dk_182 0 123 (dk_at dksX0_judgeRow_0 14 rfl rfl)
theorem dX0_judgeRow_17 : decode cX0_judgeRow 17 = .ok (.pop, 1) := dk_87 (dk_at dksX0_judgeRow_0 17 rfl rfl)
theorem dX0_judgeRow_18 : decode cX0_judgeRow 18 = .ok (.iconst 0, 1) := dk_3 (dk_at dksX0_judgeRow_0 18 rfl rfl)
theorem dX0_judgeRow_19 : decode cX0_judgeRow 19 = .ok (.istore_n 3, 1) := dk_62 (dk_at dksX0_judgeRow_0 19 rfl rfl)
theorem dX0_judgeRow_20 : decode cX0_judgeRow 20 = .ok (.iload_n 3, 1) := dk_29 (dk_at dksX0_judgeRow_0 20 rfl rfl)
theorem dX0_judgeRow_21 : decode cX0_judgeRow 21 = .ok (.iload_n 2, 1) := dk_28 (dk_at dksX0_judgeRow_0 21 rfl rfl)
theorem dX0_judgeRow_22 : decode cX0_judgeRow 22 = .ok (.if_icmp .ge 76, 3) := dk_162 0 76 (dk_at dksX0_judgeRow_1 0 rfl rfl)
theorem dX0_judgeRow_25 : decode cX0_judgeRow 25 = .ok (.aload_n 0, 1) := dk_42 (dk_at dksX0_judgeRow_1 3 rfl rfl)
theorem dX0_judgeRow_26 : decode cX0_judgeRow 26 = .ok (.getfield 61, 3) := dk_180 0 61 (dk_at dksX0_judgeRow_1 4 rfl rfl)
theorem dX0_judgeRow_29 : decode cX0_judgeRow 29 = .ok (.iload_n 3, 1) := dk_29 (dk_at dksX0_judgeRow_1 7 rfl rfl)
theorem dX0_judgeRow_30 : decode cX0_judgeRow 30 = .ok (.baload, 1) := dk_51 (dk_at dksX0_judgeRow_1 8 rfl rfl)
theorem dX0_judgeRow_31 : decode cX0_judgeRow 31 = .ok (.istore 4, 2) := dk_54 4 (dk_at dksX0_judgeRow_1 9 rfl rfl)
theorem dX0_judgeRow_33 : decode cX0_judgeRow 33 = .ok (.iload 4, 2) := dk_21 4 (dk_at dksX0_judgeRow_1 11 rfl rfl)
theorem dX0_judgeRow_35 : decode cX0_judgeRow 35 = .ok (.bipush 36, 2) := dk_16 36 (dk_at dksX0_judgeRow_1 13 rfl rfl)
theorem dX0_judgeRow_37 : decode cX0_judgeRow 37 = .ok (.if_icmp .ge 45, 3) := dk_162 0 45 (dk_at dksX0_judgeRow_1 15 rfl rfl)
theorem dX0_judgeRow_40 : decode cX0_judgeRow 40 = .ok (.aload_n 0, 1) := dk_42 (dk_at dksX0_judgeRow_1 18 rfl rfl)
theorem dX0_judgeRow_41 : decode cX0_judgeRow 41 = .ok (.getfield 51, 3) := dk_180 0 51 (dk_at dksX0_judgeRow_1 19 rfl rfl)
theorem dX0_judgeRow_44 : decode cX0_judgeRow 44 = .ok (.getfield 141, 3) := dk_180 0 141 (dk_at dksX0_judgeRow_2 0 rfl rfl)
theorem dX0_judgeRow_47 : decode cX0_judgeRow 47 = .ok (.iload 4, 2) := dk_21 4 (dk_at dksX0_judgeRow_2 3 rfl rfl)
theorem dX0_judgeRow_49 : decode cX0_judgeRow 49 = .ok (.iaload, 1) := dk_46 (dk_at dksX0_judgeRow_2 5 rfl rfl)
theorem dX0_judgeRow_50 : decode cX0_judgeRow 50 = .ok (.iload_n 1, 1) := dk_27 (dk_at dksX0_judgeRow_2 6 rfl rfl)
theorem dX0_judgeRow_51 : decode cX0_judgeRow 51 = .ok (.if_icmp .ne 31, 3) := dk_160 0 31 (dk_at dksX0_judgeRow_2 7 rfl rfl)
theorem dX0_judgeRow_54 : decode cX0_judgeRow 54 = .ok (.aload_n 0, 1) := dk_42 (dk_at dksX0_judgeRow_2 10 rfl rfl)
theorem dX0_judgeRow_55 : decode cX0_judgeRow 55 = .ok (.getfield 51, 3) := dk_180 0 51 (dk_at dksX0_judgeRow_2 11 rfl rfl)
theorem dX0_judgeRow_58 : decode cX0_judgeRow 58 = .ok (.iload 4, 2) := dk_21 4 (dk_at dksX0_judgeRow_2 14 rfl rfl)
theorem dX0_judgeRow_60 : decode cX0_judgeRow 60 = .ok (.invokevirtual 170, 3) := dk_182 0 170 (dk_at dksX0_judgeRow_2 16 rfl rfl)
theorem dX0_judgeRow_63 : decode cX0_judgeRow 63 = .ok (.ifCond .ne 19, 3) := dk_154 0 19 (dk_at dksX0_judgeRow_2 19 rfl rfl)
theorem dX0_judgeRow_66 : decode cX0_judgeRow 66 = .ok (.aload_n 0, 1) := dk_42 (dk_at dksX0_judgeRow_2 22 rfl rfl)
theorem dX0_judgeRow_67 : decode cX0_judgeRow 67 = .ok (.getfield 51, 3) := dk_180 0 51 (dk_at dksX0_judgeRow_3 0 rfl rfl)
theorem dX0_judgeRow_70 : decode cX0_judgeRow 70 = .ok (.iload 4, 2) := dk_21 4 (dk_at dksX0_judgeRow_3 3 rfl rfl)
theorem dX0_judgeRow_72 : decode cX0_judgeRow 72 = .ok (.invokevirtual 174, 3) := dk_182 0 174 (dk_at dksX0_judgeRow_3 5 rfl rfl)
theorem dX0_judgeRow_75 : decode cX0_judgeRow 75 = .ok (.ifCond .le 7, 3) := dk_158 0 7 (dk_at dksX0_judgeRow_3 8 rfl rfl)
theorem dX0_judgeRow_78 : decode cX0_judgeRow 78 = .ok (.iconst 1, 1) := dk_4 (dk_at dksX0_judgeRow_3 11 rfl rfl)
theorem dX0_judgeRow_79 : decode cX0_judgeRow 79 = .ok (.goto 4, 3) := dk_167 0 4 (dk_at dksX0_judgeRow_3 12 rfl rfl)
theorem dX0_judgeRow_82 : decode cX0_judgeRow 82 = .ok (.iconst 0, 1) := dk_3 (dk_at dksX0_judgeRow_3 15 rfl rfl)
theorem dX0_judgeRow_83 : decode cX0_judgeRow 83 = .ok (.istore 5, 2) := dk_54 5 (dk_at dksX0_judgeRow_3 16 rfl rfl)
theorem dX0_judgeRow_85 : decode cX0_judgeRow 85 = .ok (.iload 5, 2) := dk_21 5 (dk_at dksX0_judgeRow_3 18 rfl rfl)
theorem dX0_judgeRow_87 : decode cX0_judgeRow 87 = .ok (.ifCond .ne 5, 3) := dk_154 0 5 (dk_at dksX0_judgeRow_3 20 rfl rfl)
theorem dX0_judgeRow_90 : decode cX0_judgeRow 90 = .ok (.iload_n 3, 1) := dk_29 (dk_at dksX0_judgeRow_3 23 rfl rfl)
theorem dX0_judgeRow_91 : decode cX0_judgeRow 91 = .ok (.ireturn, 1) := dk_172 (dk_at dksX0_judgeRow_4 0 rfl rfl)
theorem dX0_judgeRow_92 : decode cX0_judgeRow 92 = .ok (.iinc 3 1, 3) := dk_132 3 1 (dk_at dksX0_judgeRow_4 1 rfl rfl)
theorem dX0_judgeRow_95 : decode cX0_judgeRow 95 = .ok (.goto (-75), 3) := dk_167 255 181 (dk_at dksX0_judgeRow_4 4 rfl rfl)
theorem dX0_judgeRow_98 : decode cX0_judgeRow 98 = .ok (.bipush (-9), 2) := dk_16 247 (dk_at dksX0_judgeRow_4 7 rfl rfl)
theorem dX0_judgeRow_100 : decode cX0_judgeRow 100 = .ok (.ireturn, 1) := dk_172 (dk_at dksX0_judgeRow_4 9 rfl rfl)
abbrev cX0_bySeeds : ByteArray := prog_1_method_23_code
def yX0_bySeeds : MethodName := ⟨RX0, "bySeeds", "(III)I"⟩
def dkwX0_bySeeds_3 : List UInt8 := [21, 5, 172]
abbrev dktX0_bySeeds_3 : List UInt8 := dkwX0_bySeeds_3 ++ []
def dkwX0_bySeeds_2 : List UInt8 := [181, 0, 163, 21, 5, 25, 6, 182, 0, 123, 29, 182, 0, 126, 96, 54, 5, 132, 7, 1, 167, 255, 206]
abbrev dktX0_bySeeds_2 : List UInt8 := dkwX0_bySeeds_2 ++ dktX0_bySeeds_3
def dkwX0_bySeeds_1 : List UInt8 := [18, 189, 104, 18, 190, 96, 54, 4, 25, 6, 21, 4, 18, 191, 126, 17, 1, 0, 108, 16, 16, 112]
abbrev dktX0_bySeeds_1 : List UInt8 := dkwX0_bySeeds_1 ++ dktX0_bySeeds_2
def dkwX0_bySeeds_0 : List UInt8 := [28, 54, 4, 3, 54, 5, 42, 182, 0, 112, 58, 6, 3, 54, 7, 21, 7, 27, 162, 0, 50, 21, 4]
abbrev dktX0_bySeeds_0 : List UInt8 := dkwX0_bySeeds_0 ++ dktX0_bySeeds_1
theorem dksX0_bySeeds_0 : cX0_bySeeds.data.toList.drop 0 = dktX0_bySeeds_0 := by decide +kernel
theorem dksX0_bySeeds_1 : cX0_bySeeds.data.toList.drop 23 = dktX0_bySeeds_1 := dk_seg dksX0_bySeeds_0 23 rfl rfl
theorem dksX0_bySeeds_2 : cX0_bySeeds.data.toList.drop 45 = dktX0_bySeeds_2 := dk_seg dksX0_bySeeds_1 22 rfl rfl
theorem dksX0_bySeeds_3 : cX0_bySeeds.data.toList.drop 68 = dktX0_bySeeds_3 := dk_seg dksX0_bySeeds_2 23 rfl rfl
theorem dX0_bySeeds_0 : decode cX0_bySeeds 0 = .ok (.iload_n 2, 1) := dk_28 (dk_at dksX0_bySeeds_0 0 rfl rfl)
theorem dX0_bySeeds_1 : decode cX0_bySeeds 1 = .ok (.istore 4, 2) := dk_54 4 (dk_at dksX0_bySeeds_0 1 rfl rfl)
theorem dX0_bySeeds_3 : decode cX0_bySeeds 3 = .ok (.iconst 0, 1) := dk_3 (dk_at dksX0_bySeeds_0 3 rfl rfl)
theorem dX0_bySeeds_4 : decode cX0_bySeeds 4 = .ok (.istore 5, 2) := dk_54 5 (dk_at dksX0_bySeeds_0 4 rfl rfl)
theorem dX0_bySeeds_6 : decode cX0_bySeeds 6 = .ok (.aload_n 0, 1) := dk_42 (dk_at dksX0_bySeeds_0 6 rfl rfl)
theorem dX0_bySeeds_7 : decode cX0_bySeeds 7 = .ok (.invokevirtual 112, 3) := dk_182 0 112 (dk_at dksX0_bySeeds_0 7 rfl rfl)
theorem dX0_bySeeds_10 : decode cX0_bySeeds 10 = .ok (.astore 6, 2) := dk_58 6 (dk_at dksX0_bySeeds_0 10 rfl rfl)
theorem dX0_bySeeds_12 : decode cX0_bySeeds 12 = .ok (.iconst 0, 1) := dk_3 (dk_at dksX0_bySeeds_0 12 rfl rfl)
theorem dX0_bySeeds_13 : decode cX0_bySeeds 13 = .ok (.istore 7, 2) := dk_54 7 (dk_at dksX0_bySeeds_0 13 rfl rfl)
theorem dX0_bySeeds_15 : decode cX0_bySeeds 15 = .ok (.iload 7, 2) := dk_21 7 (dk_at dksX0_bySeeds_0 15 rfl rfl)
theorem dX0_bySeeds_17 : decode cX0_bySeeds 17 = .ok (.iload_n 1, 1) := dk_27 (dk_at dksX0_bySeeds_0 17 rfl rfl)
theorem dX0_bySeeds_18 : decode cX0_bySeeds 18 = .ok (.if_icmp .ge 50, 3) := dk_162 0 50 (dk_at dksX0_bySeeds_0 18 rfl rfl)
theorem dX0_bySeeds_21 : decode cX0_bySeeds 21 = .ok (.iload 4, 2) := dk_21 4 (dk_at dksX0_bySeeds_0 21 rfl rfl)
theorem dX0_bySeeds_23 : decode cX0_bySeeds 23 = .ok (.ldc 189, 2) := dk_18 189 (dk_at dksX0_bySeeds_1 0 rfl rfl)
theorem dX0_bySeeds_25 : decode cX0_bySeeds 25 = .ok (.imul, 1) := dk_104 (dk_at dksX0_bySeeds_1 2 rfl rfl)
theorem dX0_bySeeds_26 : decode cX0_bySeeds 26 = .ok (.ldc 190, 2) := dk_18 190 (dk_at dksX0_bySeeds_1 3 rfl rfl)
theorem dX0_bySeeds_28 : decode cX0_bySeeds 28 = .ok (.iadd, 1) := dk_96 (dk_at dksX0_bySeeds_1 5 rfl rfl)
theorem dX0_bySeeds_29 : decode cX0_bySeeds 29 = .ok (.istore 4, 2) := dk_54 4 (dk_at dksX0_bySeeds_1 6 rfl rfl)
theorem dX0_bySeeds_31 : decode cX0_bySeeds 31 = .ok (.aload 6, 2) := dk_25 6 (dk_at dksX0_bySeeds_1 8 rfl rfl)
theorem dX0_bySeeds_33 : decode cX0_bySeeds 33 = .ok (.iload 4, 2) := dk_21 4 (dk_at dksX0_bySeeds_1 10 rfl rfl)
theorem dX0_bySeeds_35 : decode cX0_bySeeds 35 = .ok (.ldc 191, 2) := dk_18 191 (dk_at dksX0_bySeeds_1 12 rfl rfl)
theorem dX0_bySeeds_37 : decode cX0_bySeeds 37 = .ok (.iand, 1) := dk_126 (dk_at dksX0_bySeeds_1 14 rfl rfl)
theorem dX0_bySeeds_38 : decode cX0_bySeeds 38 = .ok (.sipush 256, 3) := dk_17 1 0 (dk_at dksX0_bySeeds_1 15 rfl rfl)
theorem dX0_bySeeds_41 : decode cX0_bySeeds 41 = .ok (.idiv, 1) := dk_108 (dk_at dksX0_bySeeds_1 18 rfl rfl)
theorem dX0_bySeeds_42 : decode cX0_bySeeds 42 = .ok (.bipush 16, 2) := dk_16 16 (dk_at dksX0_bySeeds_1 19 rfl rfl)
theorem dX0_bySeeds_44 : decode cX0_bySeeds 44 = .ok (.irem, 1) := dk_112 (dk_at dksX0_bySeeds_1 21 rfl rfl)
theorem dX0_bySeeds_45 : decode cX0_bySeeds 45 = .ok (.putfield 163, 3) := dk_181 0 163 (dk_at dksX0_bySeeds_2 0 rfl rfl)
theorem dX0_bySeeds_48 : decode cX0_bySeeds 48 = .ok (.iload 5, 2) := dk_21 5 (dk_at dksX0_bySeeds_2 3 rfl rfl)
theorem dX0_bySeeds_50 : decode cX0_bySeeds 50 = .ok (.aload 6, 2) := dk_25 6 (dk_at dksX0_bySeeds_2 5 rfl rfl)
theorem dX0_bySeeds_52 : decode cX0_bySeeds 52 = .ok (.invokevirtual 123, 3) := dk_182 0 123 (dk_at dksX0_bySeeds_2 7 rfl rfl)
theorem dX0_bySeeds_55 : decode cX0_bySeeds 55 = .ok (.iload_n 3, 1) := dk_29 (dk_at dksX0_bySeeds_2 10 rfl rfl)
theorem dX0_bySeeds_56 : decode cX0_bySeeds 56 = .ok (.invokevirtual 126, 3) := dk_182 0 126 (dk_at dksX0_bySeeds_2 11 rfl rfl)
theorem dX0_bySeeds_59 : decode cX0_bySeeds 59 = .ok (.iadd, 1) := dk_96 (dk_at dksX0_bySeeds_2 14 rfl rfl)
theorem dX0_bySeeds_60 : decode cX0_bySeeds 60 = .ok (.istore 5, 2) := dk_54 5 (dk_at dksX0_bySeeds_2 15 rfl rfl)
theorem dX0_bySeeds_62 : decode cX0_bySeeds 62 = .ok (.iinc 7 1, 3) := dk_132 7 1 (dk_at dksX0_bySeeds_2 17 rfl rfl)
theorem dX0_bySeeds_65 : decode cX0_bySeeds 65 = .ok (.goto (-50), 3) := dk_167 255 206 (dk_at dksX0_bySeeds_2 20 rfl rfl)
theorem dX0_bySeeds_68 : decode cX0_bySeeds 68 = .ok (.iload 5, 2) := dk_21 5 (dk_at dksX0_bySeeds_3 0 rfl rfl)
theorem dX0_bySeeds_70 : decode cX0_bySeeds 70 = .ok (.ireturn, 1) := dk_172 (dk_at dksX0_bySeeds_3 2 rfl rfl)
abbrev cX0_refuse : ByteArray := prog_1_method_25_code
def yX0_refuse : MethodName := ⟨RX0, "refuse", "(I)I"⟩
def dkwX0_refuse_0 : List UInt8 := [27, 16, 236, 164, 0, 14, 42, 180, 0, 69, 27, 116, 92, 46, 4, 96, 79, 27, 172]
abbrev dktX0_refuse_0 : List UInt8 := dkwX0_refuse_0 ++ []
theorem dksX0_refuse_0 : cX0_refuse.data.toList.drop 0 = dktX0_refuse_0 := by decide +kernel
theorem dX0_refuse_0 : decode cX0_refuse 0 = .ok (.iload_n 1, 1) := dk_27 (dk_at dksX0_refuse_0 0 rfl rfl)
theorem dX0_refuse_1 : decode cX0_refuse 1 = .ok (.bipush (-20), 2) := dk_16 236 (dk_at dksX0_refuse_0 1 rfl rfl)
theorem dX0_refuse_3 : decode cX0_refuse 3 = .ok (.if_icmp .le 14, 3) := dk_164 0 14 (dk_at dksX0_refuse_0 3 rfl rfl)
theorem dX0_refuse_6 : decode cX0_refuse 6 = .ok (.aload_n 0, 1) := dk_42 (dk_at dksX0_refuse_0 6 rfl rfl)
theorem dX0_refuse_7 : decode cX0_refuse 7 = .ok (.getfield 69, 3) := dk_180 0 69 (dk_at dksX0_refuse_0 7 rfl rfl)
theorem dX0_refuse_10 : decode cX0_refuse 10 = .ok (.iload_n 1, 1) := dk_27 (dk_at dksX0_refuse_0 10 rfl rfl)
theorem dX0_refuse_11 : decode cX0_refuse 11 = .ok (.ineg, 1) := dk_116 (dk_at dksX0_refuse_0 11 rfl rfl)
theorem dX0_refuse_12 : decode cX0_refuse 12 = .ok (.dup2, 1) := dk_92 (dk_at dksX0_refuse_0 12 rfl rfl)
theorem dX0_refuse_13 : decode cX0_refuse 13 = .ok (.iaload, 1) := dk_46 (dk_at dksX0_refuse_0 13 rfl rfl)
theorem dX0_refuse_14 : decode cX0_refuse 14 = .ok (.iconst 1, 1) := dk_4 (dk_at dksX0_refuse_0 14 rfl rfl)
theorem dX0_refuse_15 : decode cX0_refuse 15 = .ok (.iadd, 1) := dk_96 (dk_at dksX0_refuse_0 15 rfl rfl)
theorem dX0_refuse_16 : decode cX0_refuse 16 = .ok (.iastore, 1) := dk_79 (dk_at dksX0_refuse_0 16 rfl rfl)
theorem dX0_refuse_17 : decode cX0_refuse 17 = .ok (.iload_n 1, 1) := dk_27 (dk_at dksX0_refuse_0 17 rfl rfl)
theorem dX0_refuse_18 : decode cX0_refuse 18 = .ok (.ireturn, 1) := dk_172 (dk_at dksX0_refuse_0 18 rfl rfl)
abbrev cX0_town : ByteArray := prog_1_method_52_code
def yX0_town : MethodName := ⟨RX0, "town", "()I"⟩
def dkwX0_town_0 : List UInt8 := [42, 4, 3, 3, 3, 182, 1, 101, 172]
abbrev dktX0_town_0 : List UInt8 := dkwX0_town_0 ++ []
theorem dksX0_town_0 : cX0_town.data.toList.drop 0 = dktX0_town_0 := by decide +kernel
theorem dX0_town_0 : decode cX0_town 0 = .ok (.aload_n 0, 1) := dk_42 (dk_at dksX0_town_0 0 rfl rfl)
theorem dX0_town_1 : decode cX0_town 1 = .ok (.iconst 1, 1) := dk_4 (dk_at dksX0_town_0 1 rfl rfl)
theorem dX0_town_2 : decode cX0_town 2 = .ok (.iconst 0, 1) := dk_3 (dk_at dksX0_town_0 2 rfl rfl)
theorem dX0_town_3 : decode cX0_town 3 = .ok (.iconst 0, 1) := dk_3 (dk_at dksX0_town_0 3 rfl rfl)
theorem dX0_town_4 : decode cX0_town 4 = .ok (.iconst 0, 1) := dk_3 (dk_at dksX0_town_0 4 rfl rfl)
theorem dX0_town_5 : decode cX0_town 5 = .ok (.invokevirtual 357, 3) := dk_182 1 101 (dk_at dksX0_town_0 5 rfl rfl)
theorem dX0_town_8 : decode cX0_town 8 = .ok (.ireturn, 1) := dk_172 (dk_at dksX0_town_0 8 rfl rfl)
abbrev cX0_square : ByteArray := prog_1_method_53_code
def yX0_square : MethodName := ⟨RX0, "square", "(II)I"⟩
def dkwX0_square_0 : List UInt8 := [42, 5, 27, 28, 3, 182, 1, 101, 172]
abbrev dktX0_square_0 : List UInt8 := dkwX0_square_0 ++ []
theorem dksX0_square_0 : cX0_square.data.toList.drop 0 = dktX0_square_0 := by decide +kernel
theorem dX0_square_0 : decode cX0_square 0 = .ok (.aload_n 0, 1) := dk_42 (dk_at dksX0_square_0 0 rfl rfl)
theorem dX0_square_1 : decode cX0_square 1 = .ok (.iconst 2, 1) := dk_5 (dk_at dksX0_square_0 1 rfl rfl)
theorem dX0_square_2 : decode cX0_square 2 = .ok (.iload_n 1, 1) := dk_27 (dk_at dksX0_square_0 2 rfl rfl)
theorem dX0_square_3 : decode cX0_square 3 = .ok (.iload_n 2, 1) := dk_28 (dk_at dksX0_square_0 3 rfl rfl)
theorem dX0_square_4 : decode cX0_square 4 = .ok (.iconst 0, 1) := dk_3 (dk_at dksX0_square_0 4 rfl rfl)
theorem dX0_square_5 : decode cX0_square 5 = .ok (.invokevirtual 357, 3) := dk_182 1 101 (dk_at dksX0_square_0 5 rfl rfl)
theorem dX0_square_8 : decode cX0_square 8 = .ok (.ireturn, 1) := dk_172 (dk_at dksX0_square_0 8 rfl rfl)
abbrev cX0_tree : ByteArray := prog_1_method_54_code
def yX0_tree : MethodName := ⟨RX0, "tree", "(II)I"⟩
def dkwX0_tree_0 : List UInt8 := [42, 6, 27, 28, 3, 182, 1, 101, 172]
abbrev dktX0_tree_0 : List UInt8 := dkwX0_tree_0 ++ []
theorem dksX0_tree_0 : cX0_tree.data.toList.drop 0 = dktX0_tree_0 := by decide +kernel
theorem dX0_tree_0 : decode cX0_tree 0 = .ok (.aload_n 0, 1) := dk_42 (dk_at dksX0_tree_0 0 rfl rfl)
theorem dX0_tree_1 : decode cX0_tree 1 = .ok (.iconst 3, 1) := dk_6 (dk_at dksX0_tree_0 1 rfl rfl)
theorem dX0_tree_2 : decode cX0_tree 2 = .ok (.iload_n 1, 1) := dk_27 (dk_at dksX0_tree_0 2 rfl rfl)
theorem dX0_tree_3 : decode cX0_tree 3 = .ok (.iload_n 2, 1) := dk_28 (dk_at dksX0_tree_0 3 rfl rfl)
theorem dX0_tree_4 : decode cX0_tree 4 = .ok (.iconst 0, 1) := dk_3 (dk_at dksX0_tree_0 4 rfl rfl)
theorem dX0_tree_5 : decode cX0_tree 5 = .ok (.invokevirtual 357, 3) := dk_182 1 101 (dk_at dksX0_tree_0 5 rfl rfl)
theorem dX0_tree_8 : decode cX0_tree 8 = .ok (.ireturn, 1) := dk_172 (dk_at dksX0_tree_0 8 rfl rfl)
abbrev cX0_garden : ByteArray := prog_1_method_55_code
def yX0_garden : MethodName := ⟨RX0, "garden", "(II)I"⟩
def dkwX0_garden_0 : List UInt8 := [42, 7, 27, 28, 3, 182, 1, 101, 172]
abbrev dktX0_garden_0 : List UInt8 := dkwX0_garden_0 ++ []
theorem dksX0_garden_0 : cX0_garden.data.toList.drop 0 = dktX0_garden_0 := by decide +kernel
theorem dX0_garden_0 : decode cX0_garden 0 = .ok (.aload_n 0, 1) := dk_42 (dk_at dksX0_garden_0 0 rfl rfl)
theorem dX0_garden_1 : decode cX0_garden 1 = .ok (.iconst 4, 1) := dk_7 (dk_at dksX0_garden_0 1 rfl rfl)
theorem dX0_garden_2 : decode cX0_garden 2 = .ok (.iload_n 1, 1) := dk_27 (dk_at dksX0_garden_0 2 rfl rfl)
theorem dX0_garden_3 : decode cX0_garden 3 = .ok (.iload_n 2, 1) := dk_28 (dk_at dksX0_garden_0 3 rfl rfl)
theorem dX0_garden_4 : decode cX0_garden 4 = .ok (.iconst 0, 1) := dk_3 (dk_at dksX0_garden_0 4 rfl rfl)
theorem dX0_garden_5 : decode cX0_garden 5 = .ok (.invokevirtual 357, 3) := dk_182 1 101 (dk_at dksX0_garden_0 5 rfl rfl)
theorem dX0_garden_8 : decode cX0_garden 8 = .ok (.ireturn, 1) := dk_172 (dk_at dksX0_garden_0 8 rfl rfl)
abbrev cX0_height : ByteArray := prog_1_method_56_code
def yX0_height : MethodName := ⟨RX0, "height", "(II)I"⟩
def dkwX0_height_0 : List UInt8 := [42, 8, 27, 28, 3, 182, 1, 101, 172]
abbrev dktX0_height_0 : List UInt8 := dkwX0_height_0 ++ []
theorem dksX0_height_0 : cX0_height.data.toList.drop 0 = dktX0_height_0 := by decide +kernel
theorem dX0_height_0 : decode cX0_height 0 = .ok (.aload_n 0, 1) := dk_42 (dk_at dksX0_height_0 0 rfl rfl)
theorem dX0_height_1 : decode cX0_height 1 = .ok (.iconst 5, 1) := dk_8 (dk_at dksX0_height_0 1 rfl rfl)
theorem dX0_height_2 : decode cX0_height 2 = .ok (.iload_n 1, 1) := dk_27 (dk_at dksX0_height_0 2 rfl rfl)
theorem dX0_height_3 : decode cX0_height 3 = .ok (.iload_n 2, 1) := dk_28 (dk_at dksX0_height_0 3 rfl rfl)
theorem dX0_height_4 : decode cX0_height 4 = .ok (.iconst 0, 1) := dk_3 (dk_at dksX0_height_0 4 rfl rfl)
theorem dX0_height_5 : decode cX0_height 5 = .ok (.invokevirtual 357, 3) := dk_182 1 101 (dk_at dksX0_height_0 5 rfl rfl)
theorem dX0_height_8 : decode cX0_height 8 = .ok (.ireturn, 1) := dk_172 (dk_at dksX0_height_0 8 rfl rfl)
abbrev cX0_net : ByteArray := prog_1_method_57_code
def yX0_net : MethodName := ⟨RX0, "net", "(I)I"⟩
def dkwX0_net_0 : List UInt8 := [42, 16, 6, 27, 3, 3, 182, 1, 101, 172]
abbrev dktX0_net_0 : List UInt8 := dkwX0_net_0 ++ []
theorem dksX0_net_0 : cX0_net.data.toList.drop 0 = dktX0_net_0 := by decide +kernel
theorem dX0_net_0 : decode cX0_net 0 = .ok (.aload_n 0, 1) := dk_42 (dk_at dksX0_net_0 0 rfl rfl)
theorem dX0_net_1 : decode cX0_net 1 = .ok (.bipush 6, 2) := dk_16 6 (dk_at dksX0_net_0 1 rfl rfl)
theorem dX0_net_3 : decode cX0_net 3 = .ok (.iload_n 1, 1) := dk_27 (dk_at dksX0_net_0 3 rfl rfl)
theorem dX0_net_4 : decode cX0_net 4 = .ok (.iconst 0, 1) := dk_3 (dk_at dksX0_net_0 4 rfl rfl)
theorem dX0_net_5 : decode cX0_net 5 = .ok (.iconst 0, 1) := dk_3 (dk_at dksX0_net_0 5 rfl rfl)
theorem dX0_net_6 : decode cX0_net 6 = .ok (.invokevirtual 357, 3) := dk_182 1 101 (dk_at dksX0_net_0 6 rfl rfl)
theorem dX0_net_9 : decode cX0_net 9 = .ok (.ireturn, 1) := dk_172 (dk_at dksX0_net_0 9 rfl rfl)
abbrev cX0_wind : ByteArray := prog_1_method_58_code
def yX0_wind : MethodName := ⟨RX0, "wind", "(I)I"⟩
def dkwX0_wind_0 : List UInt8 := [42, 16, 7, 27, 3, 3, 182, 1, 101, 172]
abbrev dktX0_wind_0 : List UInt8 := dkwX0_wind_0 ++ []
theorem dksX0_wind_0 : cX0_wind.data.toList.drop 0 = dktX0_wind_0 := by decide +kernel
theorem dX0_wind_0 : decode cX0_wind 0 = .ok (.aload_n 0, 1) := dk_42 (dk_at dksX0_wind_0 0 rfl rfl)
theorem dX0_wind_1 : decode cX0_wind 1 = .ok (.bipush 7, 2) := dk_16 7 (dk_at dksX0_wind_0 1 rfl rfl)
theorem dX0_wind_3 : decode cX0_wind 3 = .ok (.iload_n 1, 1) := dk_27 (dk_at dksX0_wind_0 3 rfl rfl)
theorem dX0_wind_4 : decode cX0_wind 4 = .ok (.iconst 0, 1) := dk_3 (dk_at dksX0_wind_0 4 rfl rfl)
theorem dX0_wind_5 : decode cX0_wind 5 = .ok (.iconst 0, 1) := dk_3 (dk_at dksX0_wind_0 5 rfl rfl)
theorem dX0_wind_6 : decode cX0_wind 6 = .ok (.invokevirtual 357, 3) := dk_182 1 101 (dk_at dksX0_wind_0 6 rfl rfl)
theorem dX0_wind_9 : decode cX0_wind 9 = .ok (.ireturn, 1) := dk_172 (dk_at dksX0_wind_0 9 rfl rfl)
abbrev cX0_law : ByteArray := prog_1_method_59_code
def yX0_law : MethodName := ⟨RX0, "law", "(I)I"⟩
def dkwX0_law_0 : List UInt8 := [42, 16, 8, 27, 3, 3, 182, 1, 101, 172]
abbrev dktX0_law_0 : List UInt8 := dkwX0_law_0 ++ []
theorem dksX0_law_0 : cX0_law.data.toList.drop 0 = dktX0_law_0 := by decide +kernel
theorem dX0_law_0 : decode cX0_law 0 = .ok (.aload_n 0, 1) := dk_42 (dk_at dksX0_law_0 0 rfl rfl)
theorem dX0_law_1 : decode cX0_law 1 = .ok (.bipush 8, 2) := dk_16 8 (dk_at dksX0_law_0 1 rfl rfl)
theorem dX0_law_3 : decode cX0_law 3 = .ok (.iload_n 1, 1) := dk_27 (dk_at dksX0_law_0 3 rfl rfl)
theorem dX0_law_4 : decode cX0_law 4 = .ok (.iconst 0, 1) := dk_3 (dk_at dksX0_law_0 4 rfl rfl)
theorem dX0_law_5 : decode cX0_law 5 = .ok (.iconst 0, 1) := dk_3 (dk_at dksX0_law_0 5 rfl rfl)
theorem dX0_law_6 : decode cX0_law 6 = .ok (.invokevirtual 357, 3) := dk_182 1 101 (dk_at dksX0_law_0 6 rfl rfl)
theorem dX0_law_9 : decode cX0_law 9 = .ok (.ireturn, 1) := dk_172 (dk_at dksX0_law_0 9 rfl rfl)
abbrev cX0_fell : ByteArray := prog_1_method_60_code
def yX0_fell : MethodName := ⟨RX0, "fell", "(I)I"⟩
def dkwX0_fell_0 : List UInt8 := [42, 16, 9, 27, 3, 3, 182, 1, 101, 172]
abbrev dktX0_fell_0 : List UInt8 := dkwX0_fell_0 ++ []
theorem dksX0_fell_0 : cX0_fell.data.toList.drop 0 = dktX0_fell_0 := by decide +kernel
theorem dX0_fell_0 : decode cX0_fell 0 = .ok (.aload_n 0, 1) := dk_42 (dk_at dksX0_fell_0 0 rfl rfl)
theorem dX0_fell_1 : decode cX0_fell 1 = .ok (.bipush 9, 2) := dk_16 9 (dk_at dksX0_fell_0 1 rfl rfl)
theorem dX0_fell_3 : decode cX0_fell 3 = .ok (.iload_n 1, 1) := dk_27 (dk_at dksX0_fell_0 3 rfl rfl)
theorem dX0_fell_4 : decode cX0_fell 4 = .ok (.iconst 0, 1) := dk_3 (dk_at dksX0_fell_0 4 rfl rfl)
theorem dX0_fell_5 : decode cX0_fell 5 = .ok (.iconst 0, 1) := dk_3 (dk_at dksX0_fell_0 5 rfl rfl)
theorem dX0_fell_6 : decode cX0_fell 6 = .ok (.invokevirtual 357, 3) := dk_182 1 101 (dk_at dksX0_fell_0 6 rfl rfl)
theorem dX0_fell_9 : decode cX0_fell 9 = .ok (.ireturn, 1) := dk_172 (dk_at dksX0_fell_0 9 rfl rfl)
abbrev cX0_lies : ByteArray := prog_1_method_61_code
def yX0_lies : MethodName := ⟨RX0, "lies", "(I)I"⟩
def dkwX0_lies_0 : List UInt8 := [42, 16, 10, 27, 3, 3, 182, 1, 101, 172]
abbrev dktX0_lies_0 : List UInt8 := dkwX0_lies_0 ++ []
theorem dksX0_lies_0 : cX0_lies.data.toList.drop 0 = dktX0_lies_0 := by decide +kernel
theorem dX0_lies_0 : decode cX0_lies 0 = .ok (.aload_n 0, 1) := dk_42 (dk_at dksX0_lies_0 0 rfl rfl)
theorem dX0_lies_1 : decode cX0_lies 1 = .ok (.bipush 10, 2) := dk_16 10 (dk_at dksX0_lies_0 1 rfl rfl)
theorem dX0_lies_3 : decode cX0_lies 3 = .ok (.iload_n 1, 1) := dk_27 (dk_at dksX0_lies_0 3 rfl rfl)
theorem dX0_lies_4 : decode cX0_lies 4 = .ok (.iconst 0, 1) := dk_3 (dk_at dksX0_lies_0 4 rfl rfl)
theorem dX0_lies_5 : decode cX0_lies 5 = .ok (.iconst 0, 1) := dk_3 (dk_at dksX0_lies_0 5 rfl rfl)
theorem dX0_lies_6 : decode cX0_lies 6 = .ok (.invokevirtual 357, 3) := dk_182 1 101 (dk_at dksX0_lies_0 6 rfl rfl)
theorem dX0_lies_9 : decode cX0_lies 9 = .ok (.ireturn, 1) := dk_172 (dk_at dksX0_lies_0 9 rfl rfl)
abbrev cX0_of : ByteArray := prog_1_method_62_code
def yX0_of : MethodName := ⟨RX0, "of", "(II)I"⟩
def dkwX0_of_0 : List UInt8 := [42, 16, 11, 27, 28, 3, 182, 1, 101, 172]
abbrev dktX0_of_0 : List UInt8 := dkwX0_of_0 ++ []
theorem dksX0_of_0 : cX0_of.data.toList.drop 0 = dktX0_of_0 := by decide +kernel
theorem dX0_of_0 : decode cX0_of 0 = .ok (.aload_n 0, 1) := dk_42 (dk_at dksX0_of_0 0 rfl rfl)
theorem dX0_of_1 : decode cX0_of 1 = .ok (.bipush 11, 2) := dk_16 11 (dk_at dksX0_of_0 1 rfl rfl)
theorem dX0_of_3 : decode cX0_of 3 = .ok (.iload_n 1, 1) := dk_27 (dk_at dksX0_of_0 3 rfl rfl)
theorem dX0_of_4 : decode cX0_of 4 = .ok (.iload_n 2, 1) := dk_28 (dk_at dksX0_of_0 4 rfl rfl)
theorem dX0_of_5 : decode cX0_of 5 = .ok (.iconst 0, 1) := dk_3 (dk_at dksX0_of_0 5 rfl rfl)
theorem dX0_of_6 : decode cX0_of 6 = .ok (.invokevirtual 357, 3) := dk_182 1 101 (dk_at dksX0_of_0 6 rfl rfl)
theorem dX0_of_9 : decode cX0_of 9 = .ok (.ireturn, 1) := dk_172 (dk_at dksX0_of_0 9 rfl rfl)
abbrev cX0_share : ByteArray := prog_1_method_63_code
def yX0_share : MethodName := ⟨RX0, "share", "(I)I"⟩
def dkwX0_share_0 : List UInt8 := [42, 16, 12, 27, 3, 3, 182, 1, 101, 172]
abbrev dktX0_share_0 : List UInt8 := dkwX0_share_0 ++ []
theorem dksX0_share_0 : cX0_share.data.toList.drop 0 = dktX0_share_0 := by decide +kernel
theorem dX0_share_0 : decode cX0_share 0 = .ok (.aload_n 0, 1) := dk_42 (dk_at dksX0_share_0 0 rfl rfl)
theorem dX0_share_1 : decode cX0_share 1 = .ok (.bipush 12, 2) := dk_16 12 (dk_at dksX0_share_0 1 rfl rfl)
theorem dX0_share_3 : decode cX0_share 3 = .ok (.iload_n 1, 1) := dk_27 (dk_at dksX0_share_0 3 rfl rfl)
theorem dX0_share_4 : decode cX0_share 4 = .ok (.iconst 0, 1) := dk_3 (dk_at dksX0_share_0 4 rfl rfl)
theorem dX0_share_5 : decode cX0_share 5 = .ok (.iconst 0, 1) := dk_3 (dk_at dksX0_share_0 5 rfl rfl)
theorem dX0_share_6 : decode cX0_share 6 = .ok (.invokevirtual 357, 3) := dk_182 1 101 (dk_at dksX0_share_0 6 rfl rfl)
theorem dX0_share_9 : decode cX0_share 9 = .ok (.ireturn, 1) := dk_172 (dk_at dksX0_share_0 9 rfl rfl)
abbrev cX0_birds : ByteArray := prog_1_method_64_code
def yX0_birds : MethodName := ⟨RX0, "birds", "()I"⟩
def dkwX0_birds_0 : List UInt8 := [42, 16, 13, 3, 3, 3, 182, 1, 101, 172]
abbrev dktX0_birds_0 : List UInt8 := dkwX0_birds_0 ++ []
theorem dksX0_birds_0 : cX0_birds.data.toList.drop 0 = dktX0_birds_0 := by decide +kernel
theorem dX0_birds_0 : decode cX0_birds 0 = .ok (.aload_n 0, 1) := dk_42 (dk_at dksX0_birds_0 0 rfl rfl)
theorem dX0_birds_1 : decode cX0_birds 1 = .ok (.bipush 13, 2) := dk_16 13 (dk_at dksX0_birds_0 1 rfl rfl)
theorem dX0_birds_3 : decode cX0_birds 3 = .ok (.iconst 0, 1) := dk_3 (dk_at dksX0_birds_0 3 rfl rfl)
theorem dX0_birds_4 : decode cX0_birds 4 = .ok (.iconst 0, 1) := dk_3 (dk_at dksX0_birds_0 4 rfl rfl)
theorem dX0_birds_5 : decode cX0_birds 5 = .ok (.iconst 0, 1) := dk_3 (dk_at dksX0_birds_0 5 rfl rfl)
theorem dX0_birds_6 : decode cX0_birds 6 = .ok (.invokevirtual 357, 3) := dk_182 1 101 (dk_at dksX0_birds_0 6 rfl rfl)
theorem dX0_birds_9 : decode cX0_birds 9 = .ok (.ireturn, 1) := dk_172 (dk_at dksX0_birds_0 9 rfl rfl)
abbrev cX0_lost : ByteArray := prog_1_method_65_code
def yX0_lost : MethodName := ⟨RX0, "lost", "()I"⟩
def dkwX0_lost_0 : List UInt8 := [42, 16, 14, 3, 3, 3, 182, 1, 101, 172]
abbrev dktX0_lost_0 : List UInt8 := dkwX0_lost_0 ++ []
theorem dksX0_lost_0 : cX0_lost.data.toList.drop 0 = dktX0_lost_0 := by decide +kernel
theorem dX0_lost_0 : decode cX0_lost 0 = .ok (.aload_n 0, 1) := dk_42 (dk_at dksX0_lost_0 0 rfl rfl)
theorem dX0_lost_1 : decode cX0_lost 1 = .ok (.bipush 14, 2) := dk_16 14 (dk_at dksX0_lost_0 1 rfl rfl)
theorem dX0_lost_3 : decode cX0_lost 3 = .ok (.iconst 0, 1) := dk_3 (dk_at dksX0_lost_0 3 rfl rfl)
theorem dX0_lost_4 : decode cX0_lost 4 = .ok (.iconst 0, 1) := dk_3 (dk_at dksX0_lost_0 4 rfl rfl)
theorem dX0_lost_5 : decode cX0_lost 5 = .ok (.iconst 0, 1) := dk_3 (dk_at dksX0_lost_0 5 rfl rfl)
theorem dX0_lost_6 : decode cX0_lost 6 = .ok (.invokevirtual 357, 3) := dk_182 1 101 (dk_at dksX0_lost_0 6 rfl rfl)
theorem dX0_lost_9 : decode cX0_lost 9 = .ok (.ireturn, 1) := dk_172 (dk_at dksX0_lost_0 9 rfl rfl)
abbrev cX0_set : ByteArray := prog_1_method_66_code
def yX0_set : MethodName := ⟨RX0, "set", "(III)I"⟩
def dkwX0_set_0 : List UInt8 := [42, 16, 15, 27, 28, 29, 182, 1, 101, 172]
abbrev dktX0_set_0 : List UInt8 := dkwX0_set_0 ++ []
theorem dksX0_set_0 : cX0_set.data.toList.drop 0 = dktX0_set_0 := by decide +kernel
theorem dX0_set_0 : decode cX0_set 0 = .ok (.aload_n 0, 1) := dk_42 (dk_at dksX0_set_0 0 rfl rfl)
theorem dX0_set_1 : decode cX0_set 1 = .ok (.bipush 15, 2) := dk_16 15 (dk_at dksX0_set_0 1 rfl rfl)
theorem dX0_set_3 : decode cX0_set 3 = .ok (.iload_n 1, 1) := dk_27 (dk_at dksX0_set_0 3 rfl rfl)
theorem dX0_set_4 : decode cX0_set 4 = .ok (.iload_n 2, 1) := dk_28 (dk_at dksX0_set_0 4 rfl rfl)
theorem dX0_set_5 : decode cX0_set 5 = .ok (.iload_n 3, 1) := dk_29 (dk_at dksX0_set_0 5 rfl rfl)
theorem dX0_set_6 : decode cX0_set 6 = .ok (.invokevirtual 357, 3) := dk_182 1 101 (dk_at dksX0_set_0 6 rfl rfl)
theorem dX0_set_9 : decode cX0_set 9 = .ok (.ireturn, 1) := dk_172 (dk_at dksX0_set_0 9 rfl rfl)
abbrev cX0_worth : ByteArray := prog_1_method_67_code
def yX0_worth : MethodName := ⟨RX0, "worth", "(II)I"⟩
def dkwX0_worth_0 : List UInt8 := [42, 16, 16, 27, 28, 3, 182, 1, 101, 172]
abbrev dktX0_worth_0 : List UInt8 := dkwX0_worth_0 ++ []
theorem dksX0_worth_0 : cX0_worth.data.toList.drop 0 = dktX0_worth_0 := by decide +kernel
theorem dX0_worth_0 : decode cX0_worth 0 = .ok (.aload_n 0, 1) := dk_42 (dk_at dksX0_worth_0 0 rfl rfl)
theorem dX0_worth_1 : decode cX0_worth 1 = .ok (.bipush 16, 2) := dk_16 16 (dk_at dksX0_worth_0 1 rfl rfl)
theorem dX0_worth_3 : decode cX0_worth 3 = .ok (.iload_n 1, 1) := dk_27 (dk_at dksX0_worth_0 3 rfl rfl)
theorem dX0_worth_4 : decode cX0_worth 4 = .ok (.iload_n 2, 1) := dk_28 (dk_at dksX0_worth_0 4 rfl rfl)
theorem dX0_worth_5 : decode cX0_worth 5 = .ok (.iconst 0, 1) := dk_3 (dk_at dksX0_worth_0 5 rfl rfl)
theorem dX0_worth_6 : decode cX0_worth 6 = .ok (.invokevirtual 357, 3) := dk_182 1 101 (dk_at dksX0_worth_0 6 rfl rfl)
theorem dX0_worth_9 : decode cX0_worth 9 = .ok (.ireturn, 1) := dk_172 (dk_at dksX0_worth_0 9 rfl rfl)
abbrev cX0_give : ByteArray := prog_1_method_68_code
def yX0_give : MethodName := ⟨RX0, "give", "()I"⟩
def dkwX0_give_0 : List UInt8 := [42, 16, 17, 3, 3, 3, 182, 1, 101, 172]
abbrev dktX0_give_0 : List UInt8 := dkwX0_give_0 ++ []
theorem dksX0_give_0 : cX0_give.data.toList.drop 0 = dktX0_give_0 := by decide +kernel
theorem dX0_give_0 : decode cX0_give 0 = .ok (.aload_n 0, 1) := dk_42 (dk_at dksX0_give_0 0 rfl rfl)
theorem dX0_give_1 : decode cX0_give 1 = .ok (.bipush 17, 2) := dk_16 17 (dk_at dksX0_give_0 1 rfl rfl)
theorem dX0_give_3 : decode cX0_give 3 = .ok (.iconst 0, 1) := dk_3 (dk_at dksX0_give_0 3 rfl rfl)
theorem dX0_give_4 : decode cX0_give 4 = .ok (.iconst 0, 1) := dk_3 (dk_at dksX0_give_0 4 rfl rfl)
theorem dX0_give_5 : decode cX0_give 5 = .ok (.iconst 0, 1) := dk_3 (dk_at dksX0_give_0 5 rfl rfl)
theorem dX0_give_6 : decode cX0_give 6 = .ok (.invokevirtual 357, 3) := dk_182 1 101 (dk_at dksX0_give_0 6 rfl rfl)
theorem dX0_give_9 : decode cX0_give 9 = .ok (.ireturn, 1) := dk_172 (dk_at dksX0_give_0 9 rfl rfl)
abbrev cX0_clean : ByteArray := prog_1_method_69_code
def yX0_clean : MethodName := ⟨RX0, "clean", "()I"⟩
def dkwX0_clean_0 : List UInt8 := [42, 16, 18, 3, 3, 3, 182, 1, 101, 172]
abbrev dktX0_clean_0 : List UInt8 := dkwX0_clean_0 ++ []
theorem dksX0_clean_0 : cX0_clean.data.toList.drop 0 = dktX0_clean_0 := by decide +kernel
theorem dX0_clean_0 : decode cX0_clean 0 = .ok (.aload_n 0, 1) := dk_42 (dk_at dksX0_clean_0 0 rfl rfl)
theorem dX0_clean_1 : decode cX0_clean 1 = .ok (.bipush 18, 2) := dk_16 18 (dk_at dksX0_clean_0 1 rfl rfl)
theorem dX0_clean_3 : decode cX0_clean 3 = .ok (.iconst 0, 1) := dk_3 (dk_at dksX0_clean_0 3 rfl rfl)
theorem dX0_clean_4 : decode cX0_clean 4 = .ok (.iconst 0, 1) := dk_3 (dk_at dksX0_clean_0 4 rfl rfl)
theorem dX0_clean_5 : decode cX0_clean 5 = .ok (.iconst 0, 1) := dk_3 (dk_at dksX0_clean_0 5 rfl rfl)
theorem dX0_clean_6 : decode cX0_clean 6 = .ok (.invokevirtual 357, 3) := dk_182 1 101 (dk_at dksX0_clean_0 6 rfl rfl)
theorem dX0_clean_9 : decode cX0_clean 9 = .ok (.ireturn, 1) := dk_172 (dk_at dksX0_clean_0 9 rfl rfl)
abbrev cX0_line : ByteArray := prog_1_method_70_code
def yX0_line : MethodName := ⟨RX0, "line", "(I)I"⟩
def dkwX0_line_0 : List UInt8 := [42, 16, 19, 27, 3, 3, 182, 1, 101, 172]
abbrev dktX0_line_0 : List UInt8 := dkwX0_line_0 ++ []
theorem dksX0_line_0 : cX0_line.data.toList.drop 0 = dktX0_line_0 := by decide +kernel
theorem dX0_line_0 : decode cX0_line 0 = .ok (.aload_n 0, 1) := dk_42 (dk_at dksX0_line_0 0 rfl rfl)
theorem dX0_line_1 : decode cX0_line 1 = .ok (.bipush 19, 2) := dk_16 19 (dk_at dksX0_line_0 1 rfl rfl)
theorem dX0_line_3 : decode cX0_line 3 = .ok (.iload_n 1, 1) := dk_27 (dk_at dksX0_line_0 3 rfl rfl)
theorem dX0_line_4 : decode cX0_line 4 = .ok (.iconst 0, 1) := dk_3 (dk_at dksX0_line_0 4 rfl rfl)
theorem dX0_line_5 : decode cX0_line 5 = .ok (.iconst 0, 1) := dk_3 (dk_at dksX0_line_0 5 rfl rfl)
theorem dX0_line_6 : decode cX0_line 6 = .ok (.invokevirtual 357, 3) := dk_182 1 101 (dk_at dksX0_line_0 6 rfl rfl)
theorem dX0_line_9 : decode cX0_line 9 = .ok (.ireturn, 1) := dk_172 (dk_at dksX0_line_0 9 rfl rfl)
abbrev cX0_winds : ByteArray := prog_1_method_71_code
def yX0_winds : MethodName := ⟨RX0, "winds", "(II)I"⟩
def dkwX0_winds_0 : List UInt8 := [42, 16, 20, 27, 28, 3, 182, 1, 101, 172]
abbrev dktX0_winds_0 : List UInt8 := dkwX0_winds_0 ++ []
theorem dksX0_winds_0 : cX0_winds.data.toList.drop 0 = dktX0_winds_0 := by decide +kernel
theorem dX0_winds_0 : decode cX0_winds 0 = .ok (.aload_n 0, 1) := dk_42 (dk_at dksX0_winds_0 0 rfl rfl)
theorem dX0_winds_1 : decode cX0_winds 1 = .ok (.bipush 20, 2) := dk_16 20 (dk_at dksX0_winds_0 1 rfl rfl)
theorem dX0_winds_3 : decode cX0_winds 3 = .ok (.iload_n 1, 1) := dk_27 (dk_at dksX0_winds_0 3 rfl rfl)
theorem dX0_winds_4 : decode cX0_winds 4 = .ok (.iload_n 2, 1) := dk_28 (dk_at dksX0_winds_0 4 rfl rfl)
theorem dX0_winds_5 : decode cX0_winds 5 = .ok (.iconst 0, 1) := dk_3 (dk_at dksX0_winds_0 5 rfl rfl)
theorem dX0_winds_6 : decode cX0_winds 6 = .ok (.invokevirtual 357, 3) := dk_182 1 101 (dk_at dksX0_winds_0 6 rfl rfl)
theorem dX0_winds_9 : decode cX0_winds 9 = .ok (.ireturn, 1) := dk_172 (dk_at dksX0_winds_0 9 rfl rfl)
abbrev cX0_netted : ByteArray := prog_1_method_72_code
def yX0_netted : MethodName := ⟨RX0, "netted", "(I)I"⟩
def dkwX0_netted_0 : List UInt8 := [42, 16, 21, 27, 3, 3, 182, 1, 101, 172]
abbrev dktX0_netted_0 : List UInt8 := dkwX0_netted_0 ++ []
theorem dksX0_netted_0 : cX0_netted.data.toList.drop 0 = dktX0_netted_0 := by decide +kernel
theorem dX0_netted_0 : decode cX0_netted 0 = .ok (.aload_n 0, 1) := dk_42 (dk_at dksX0_netted_0 0 rfl rfl)
theorem dX0_netted_1 : decode cX0_netted 1 = .ok (.bipush 21, 2) := dk_16 21 (dk_at dksX0_netted_0 1 rfl rfl)
theorem dX0_netted_3 : decode cX0_netted 3 = .ok (.iload_n 1, 1) := dk_27 (dk_at dksX0_netted_0 3 rfl rfl)
theorem dX0_netted_4 : decode cX0_netted 4 = .ok (.iconst 0, 1) := dk_3 (dk_at dksX0_netted_0 4 rfl rfl)
theorem dX0_netted_5 : decode cX0_netted 5 = .ok (.iconst 0, 1) := dk_3 (dk_at dksX0_netted_0 5 rfl rfl)
theorem dX0_netted_6 : decode cX0_netted 6 = .ok (.invokevirtual 357, 3) := dk_182 1 101 (dk_at dksX0_netted_0 6 rfl rfl)
theorem dX0_netted_9 : decode cX0_netted 9 = .ok (.ireturn, 1) := dk_172 (dk_at dksX0_netted_0 9 rfl rfl)
abbrev cX0_came : ByteArray := prog_1_method_73_code
def yX0_came : MethodName := ⟨RX0, "came", "(I)I"⟩
def dkwX0_came_0 : List UInt8 := [42, 16, 22, 27, 3, 3, 182, 1, 101, 172]
abbrev dktX0_came_0 : List UInt8 := dkwX0_came_0 ++ []
theorem dksX0_came_0 : cX0_came.data.toList.drop 0 = dktX0_came_0 := by decide +kernel
theorem dX0_came_0 : decode cX0_came 0 = .ok (.aload_n 0, 1) := dk_42 (dk_at dksX0_came_0 0 rfl rfl)
theorem dX0_came_1 : decode cX0_came 1 = .ok (.bipush 22, 2) := dk_16 22 (dk_at dksX0_came_0 1 rfl rfl)
theorem dX0_came_3 : decode cX0_came 3 = .ok (.iload_n 1, 1) := dk_27 (dk_at dksX0_came_0 3 rfl rfl)
theorem dX0_came_4 : decode cX0_came 4 = .ok (.iconst 0, 1) := dk_3 (dk_at dksX0_came_0 4 rfl rfl)
theorem dX0_came_5 : decode cX0_came 5 = .ok (.iconst 0, 1) := dk_3 (dk_at dksX0_came_0 5 rfl rfl)
theorem dX0_came_6 : decode cX0_came 6 = .ok (.invokevirtual 357, 3) := dk_182 1 101 (dk_at dksX0_came_0 6 rfl rfl)
theorem dX0_came_9 : decode cX0_came 9 = .ok (.ireturn, 1) := dk_172 (dk_at dksX0_came_0 9 rfl rfl)
abbrev cX0_likely : ByteArray := prog_1_method_74_code
def yX0_likely : MethodName := ⟨RX0, "likely", "(III)I"⟩
def dkwX0_likely_0 : List UInt8 := [42, 16, 23, 27, 28, 29, 182, 1, 101, 172]
abbrev dktX0_likely_0 : List UInt8 := dkwX0_likely_0 ++ []
theorem dksX0_likely_0 : cX0_likely.data.toList.drop 0 = dktX0_likely_0 := by decide +kernel
theorem dX0_likely_0 : decode cX0_likely 0 = .ok (.aload_n 0, 1) := dk_42 (dk_at dksX0_likely_0 0 rfl rfl)
theorem dX0_likely_1 : decode cX0_likely 1 = .ok (.bipush 23, 2) := dk_16 23 (dk_at dksX0_likely_0 1 rfl rfl)
theorem dX0_likely_3 : decode cX0_likely 3 = .ok (.iload_n 1, 1) := dk_27 (dk_at dksX0_likely_0 3 rfl rfl)
theorem dX0_likely_4 : decode cX0_likely 4 = .ok (.iload_n 2, 1) := dk_28 (dk_at dksX0_likely_0 4 rfl rfl)
theorem dX0_likely_5 : decode cX0_likely 5 = .ok (.iload_n 3, 1) := dk_29 (dk_at dksX0_likely_0 5 rfl rfl)
theorem dX0_likely_6 : decode cX0_likely 6 = .ok (.invokevirtual 357, 3) := dk_182 1 101 (dk_at dksX0_likely_0 6 rfl rfl)
theorem dX0_likely_9 : decode cX0_likely 9 = .ok (.ireturn, 1) := dk_172 (dk_at dksX0_likely_0 9 rfl rfl)
abbrev cX0_pit : ByteArray := prog_1_method_75_code
def yX0_pit : MethodName := ⟨RX0, "pit", "(I)I"⟩
def dkwX0_pit_0 : List UInt8 := [42, 16, 24, 27, 3, 3, 182, 1, 101, 172]
abbrev dktX0_pit_0 : List UInt8 := dkwX0_pit_0 ++ []
theorem dksX0_pit_0 : cX0_pit.data.toList.drop 0 = dktX0_pit_0 := by decide +kernel
theorem dX0_pit_0 : decode cX0_pit 0 = .ok (.aload_n 0, 1) := dk_42 (dk_at dksX0_pit_0 0 rfl rfl)
theorem dX0_pit_1 : decode cX0_pit 1 = .ok (.bipush 24, 2) := dk_16 24 (dk_at dksX0_pit_0 1 rfl rfl)
theorem dX0_pit_3 : decode cX0_pit 3 = .ok (.iload_n 1, 1) := dk_27 (dk_at dksX0_pit_0 3 rfl rfl)
theorem dX0_pit_4 : decode cX0_pit 4 = .ok (.iconst 0, 1) := dk_3 (dk_at dksX0_pit_0 4 rfl rfl)
theorem dX0_pit_5 : decode cX0_pit 5 = .ok (.iconst 0, 1) := dk_3 (dk_at dksX0_pit_0 5 rfl rfl)
theorem dX0_pit_6 : decode cX0_pit 6 = .ok (.invokevirtual 357, 3) := dk_182 1 101 (dk_at dksX0_pit_0 6 rfl rfl)
theorem dX0_pit_9 : decode cX0_pit 9 = .ok (.ireturn, 1) := dk_172 (dk_at dksX0_pit_0 9 rfl rfl)
abbrev cX0_fitting : ByteArray := prog_1_method_76_code
def yX0_fitting : MethodName := ⟨RX0, "fitting", "(I)I"⟩
def dkwX0_fitting_0 : List UInt8 := [42, 16, 25, 27, 3, 3, 182, 1, 101, 172]
abbrev dktX0_fitting_0 : List UInt8 := dkwX0_fitting_0 ++ []
theorem dksX0_fitting_0 : cX0_fitting.data.toList.drop 0 = dktX0_fitting_0 := by decide +kernel
theorem dX0_fitting_0 : decode cX0_fitting 0 = .ok (.aload_n 0, 1) := dk_42 (dk_at dksX0_fitting_0 0 rfl rfl)
theorem dX0_fitting_1 : decode cX0_fitting 1 = .ok (.bipush 25, 2) := dk_16 25 (dk_at dksX0_fitting_0 1 rfl rfl)
theorem dX0_fitting_3 : decode cX0_fitting 3 = .ok (.iload_n 1, 1) := dk_27 (dk_at dksX0_fitting_0 3 rfl rfl)
theorem dX0_fitting_4 : decode cX0_fitting 4 = .ok (.iconst 0, 1) := dk_3 (dk_at dksX0_fitting_0 4 rfl rfl)
theorem dX0_fitting_5 : decode cX0_fitting 5 = .ok (.iconst 0, 1) := dk_3 (dk_at dksX0_fitting_0 5 rfl rfl)
theorem dX0_fitting_6 : decode cX0_fitting 6 = .ok (.invokevirtual 357, 3) := dk_182 1 101 (dk_at dksX0_fitting_0 6 rfl rfl)
theorem dX0_fitting_9 : decode cX0_fitting 9 = .ok (.ireturn, 1) := dk_172 (dk_at dksX0_fitting_0 9 rfl rfl)
abbrev cX0_row : ByteArray := prog_1_method_77_code
def yX0_row : MethodName := ⟨RX0, "row", "(I)I"⟩
def dkwX0_row_0 : List UInt8 := [42, 16, 26, 27, 3, 3, 182, 1, 101, 172]
abbrev dktX0_row_0 : List UInt8 := dkwX0_row_0 ++ []
theorem dksX0_row_0 : cX0_row.data.toList.drop 0 = dktX0_row_0 := by decide +kernel
theorem dX0_row_0 : decode cX0_row 0 = .ok (.aload_n 0, 1) := dk_42 (dk_at dksX0_row_0 0 rfl rfl)
theorem dX0_row_1 : decode cX0_row 1 = .ok (.bipush 26, 2) := dk_16 26 (dk_at dksX0_row_0 1 rfl rfl)
theorem dX0_row_3 : decode cX0_row 3 = .ok (.iload_n 1, 1) := dk_27 (dk_at dksX0_row_0 3 rfl rfl)
theorem dX0_row_4 : decode cX0_row 4 = .ok (.iconst 0, 1) := dk_3 (dk_at dksX0_row_0 4 rfl rfl)
theorem dX0_row_5 : decode cX0_row 5 = .ok (.iconst 0, 1) := dk_3 (dk_at dksX0_row_0 5 rfl rfl)
theorem dX0_row_6 : decode cX0_row 6 = .ok (.invokevirtual 357, 3) := dk_182 1 101 (dk_at dksX0_row_0 6 rfl rfl)
theorem dX0_row_9 : decode cX0_row 9 = .ok (.ireturn, 1) := dk_172 (dk_at dksX0_row_0 9 rfl rfl)
abbrev cX0_judge : ByteArray := prog_1_method_78_code
def yX0_judge : MethodName := ⟨RX0, "judge", "(I)I"⟩
def dkwX0_judge_0 : List UInt8 := [42, 16, 27, 27, 3, 3, 182, 1, 101, 172]
abbrev dktX0_judge_0 : List UInt8 := dkwX0_judge_0 ++ []
theorem dksX0_judge_0 : cX0_judge.data.toList.drop 0 = dktX0_judge_0 := by decide +kernel
theorem dX0_judge_0 : decode cX0_judge 0 = .ok (.aload_n 0, 1) := dk_42 (dk_at dksX0_judge_0 0 rfl rfl)
theorem dX0_judge_1 : decode cX0_judge 1 = .ok (.bipush 27, 2) := dk_16 27 (dk_at dksX0_judge_0 1 rfl rfl)
theorem dX0_judge_3 : decode cX0_judge 3 = .ok (.iload_n 1, 1) := dk_27 (dk_at dksX0_judge_0 3 rfl rfl)
theorem dX0_judge_4 : decode cX0_judge 4 = .ok (.iconst 0, 1) := dk_3 (dk_at dksX0_judge_0 4 rfl rfl)
theorem dX0_judge_5 : decode cX0_judge 5 = .ok (.iconst 0, 1) := dk_3 (dk_at dksX0_judge_0 5 rfl rfl)
theorem dX0_judge_6 : decode cX0_judge 6 = .ok (.invokevirtual 357, 3) := dk_182 1 101 (dk_at dksX0_judge_0 6 rfl rfl)
theorem dX0_judge_9 : decode cX0_judge 9 = .ok (.ireturn, 1) := dk_172 (dk_at dksX0_judge_0 9 rfl rfl)
abbrev cX0_seeds : ByteArray := prog_1_method_79_code
def yX0_seeds : MethodName := ⟨RX0, "seeds", "(III)I"⟩
def dkwX0_seeds_0 : List UInt8 := [42, 16, 28, 27, 28, 29, 182, 1, 101, 172]
abbrev dktX0_seeds_0 : List UInt8 := dkwX0_seeds_0 ++ []
theorem dksX0_seeds_0 : cX0_seeds.data.toList.drop 0 = dktX0_seeds_0 := by decide +kernel
theorem dX0_seeds_0 : decode cX0_seeds 0 = .ok (.aload_n 0, 1) := dk_42 (dk_at dksX0_seeds_0 0 rfl rfl)
theorem dX0_seeds_1 : decode cX0_seeds 1 = .ok (.bipush 28, 2) := dk_16 28 (dk_at dksX0_seeds_0 1 rfl rfl)
theorem dX0_seeds_3 : decode cX0_seeds 3 = .ok (.iload_n 1, 1) := dk_27 (dk_at dksX0_seeds_0 3 rfl rfl)
theorem dX0_seeds_4 : decode cX0_seeds 4 = .ok (.iload_n 2, 1) := dk_28 (dk_at dksX0_seeds_0 4 rfl rfl)
theorem dX0_seeds_5 : decode cX0_seeds 5 = .ok (.iload_n 3, 1) := dk_29 (dk_at dksX0_seeds_0 5 rfl rfl)
theorem dX0_seeds_6 : decode cX0_seeds 6 = .ok (.invokevirtual 357, 3) := dk_182 1 101 (dk_at dksX0_seeds_0 6 rfl rfl)
theorem dX0_seeds_9 : decode cX0_seeds 9 = .ok (.ireturn, 1) := dk_172 (dk_at dksX0_seeds_0 9 rfl rfl)
abbrev cX0_image : ByteArray := prog_1_method_80_code
def yX0_image : MethodName := ⟨RX0, "image", "()I"⟩
def dkwX0_image_0 : List UInt8 := [42, 16, 29, 3, 3, 3, 182, 1, 101, 172]
abbrev dktX0_image_0 : List UInt8 := dkwX0_image_0 ++ []
theorem dksX0_image_0 : cX0_image.data.toList.drop 0 = dktX0_image_0 := by decide +kernel
theorem dX0_image_0 : decode cX0_image 0 = .ok (.aload_n 0, 1) := dk_42 (dk_at dksX0_image_0 0 rfl rfl)
theorem dX0_image_1 : decode cX0_image 1 = .ok (.bipush 29, 2) := dk_16 29 (dk_at dksX0_image_0 1 rfl rfl)
theorem dX0_image_3 : decode cX0_image 3 = .ok (.iconst 0, 1) := dk_3 (dk_at dksX0_image_0 3 rfl rfl)
theorem dX0_image_4 : decode cX0_image 4 = .ok (.iconst 0, 1) := dk_3 (dk_at dksX0_image_0 4 rfl rfl)
theorem dX0_image_5 : decode cX0_image 5 = .ok (.iconst 0, 1) := dk_3 (dk_at dksX0_image_0 5 rfl rfl)
theorem dX0_image_6 : decode cX0_image 6 = .ok (.invokevirtual 357, 3) := dk_182 1 101 (dk_at dksX0_image_0 6 rfl rfl)
theorem dX0_image_9 : decode cX0_image 9 = .ok (.ireturn, 1) := dk_172 (dk_at dksX0_image_0 9 rfl rfl)
abbrev cX0_on : ByteArray := prog_1_method_81_code
def yX0_on : MethodName := ⟨RX0, "on", "()I"⟩
def dkwX0_on_0 : List UInt8 := [42, 16, 30, 3, 3, 3, 182, 1, 101, 172]
abbrev dktX0_on_0 : List UInt8 := dkwX0_on_0 ++ []
theorem dksX0_on_0 : cX0_on.data.toList.drop 0 = dktX0_on_0 := by decide +kernel
theorem dX0_on_0 : decode cX0_on 0 = .ok (.aload_n 0, 1) := dk_42 (dk_at dksX0_on_0 0 rfl rfl)
theorem dX0_on_1 : decode cX0_on 1 = .ok (.bipush 30, 2) := dk_16 30 (dk_at dksX0_on_0 1 rfl rfl)
theorem dX0_on_3 : decode cX0_on 3 = .ok (.iconst 0, 1) := dk_3 (dk_at dksX0_on_0 3 rfl rfl)
theorem dX0_on_4 : decode cX0_on 4 = .ok (.iconst 0, 1) := dk_3 (dk_at dksX0_on_0 4 rfl rfl)
theorem dX0_on_5 : decode cX0_on 5 = .ok (.iconst 0, 1) := dk_3 (dk_at dksX0_on_0 5 rfl rfl)
theorem dX0_on_6 : decode cX0_on 6 = .ok (.invokevirtual 357, 3) := dk_182 1 101 (dk_at dksX0_on_0 6 rfl rfl)
theorem dX0_on_9 : decode cX0_on 9 = .ok (.ireturn, 1) := dk_172 (dk_at dksX0_on_0 9 rfl rfl)
abbrev cX0_count : ByteArray := prog_1_method_82_code
def yX0_count : MethodName := ⟨RX0, "count", "(I)I"⟩
def dkwX0_count_5 : List UInt8 := [184, 0, 13, 153, 0, 15, 42, 180, 0, 69, 27, 16, 10, 100, 46, 167, 0, 5, 16, 247, 172]
abbrev dktX0_count_5 : List UInt8 := dkwX0_count_5 ++ []
def dkwX0_count_4 : List UInt8 := [182, 1, 107, 172, 42, 180, 0, 192, 172, 42, 180, 0, 78, 172, 27, 133, 20, 1, 110, 20, 1, 112]
abbrev dktX0_count_4 : List UInt8 := dkwX0_count_4 ++ dktX0_count_5
def dkwX0_count_3 : List UInt8 := [180, 0, 51, 180, 0, 151, 172, 42, 4, 182, 1, 107, 172, 42, 180, 0, 51, 180, 0, 183, 172, 42, 3]
abbrev dktX0_count_3 : List UInt8 := dkwX0_count_3 ++ dktX0_count_4
def dkwX0_count_2 : List UInt8 := [42, 180, 0, 51, 180, 0, 120, 172, 42, 182, 1, 104, 172, 42, 180, 0, 51, 180, 0, 163, 172, 42]
abbrev dktX0_count_2 : List UInt8 := dkwX0_count_2 ++ dktX0_count_3
def dkwX0_count_1 : List UInt8 := [170, 0, 0, 0, 0, 0, 110, 0, 0, 0, 0, 0, 0, 0, 8, 0, 0, 0, 51, 0, 0, 0, 59, 0, 0, 0, 64, 0, 0, 0, 72, 0, 0, 0, 80, 0, 0, 0, 86, 0, 0, 0, 94, 0, 0, 0, 100, 0, 0, 0, 105]
abbrev dktX0_count_1 : List UInt8 := dkwX0_count_1 ++ dktX0_count_2
def dkwX0_count_0 : List UInt8 := [27]
abbrev dktX0_count_0 : List UInt8 := dkwX0_count_0 ++ dktX0_count_1
theorem dksX0_count_0 : cX0_count.data.toList.drop 0 = dktX0_count_0 := by decide +kernel
theorem dksX0_count_1 : cX0_count.data.toList.drop 1 = dktX0_count_1 := dk_seg dksX0_count_0 1 rfl rfl
theorem dksX0_count_2 : cX0_count.data.toList.drop 52 = dktX0_count_2 := dk_seg dksX0_count_1 51 rfl rfl
theorem dksX0_count_3 : cX0_count.data.toList.drop 74 = dktX0_count_3 := dk_seg dksX0_count_2 22 rfl rfl
theorem dksX0_count_4 : cX0_count.data.toList.drop 97 = dktX0_count_4 := dk_seg dksX0_count_3 23 rfl rfl
theorem dksX0_count_5 : cX0_count.data.toList.drop 119 = dktX0_count_5 := dk_seg dksX0_count_4 22 rfl rfl
theorem dX0_count_0 : decode cX0_count 0 = .ok (.iload_n 1, 1) := dk_27 (dk_at dksX0_count_0 0 rfl rfl)
theorem dX0_count_1 : decode cX0_count 1 = .ok (.tableswitch 110 0 8 #[51, 59, 64, 72, 80, 86, 94, 100, 105], 51) := by decide +kernel
theorem dX0_count_52 : decode cX0_count 52 = .ok (.aload_n 0, 1) := dk_42 (dk_at dksX0_count_2 0 rfl rfl)
theorem dX0_count_53 : decode cX0_count 53 = .ok (.getfield 51, 3) := dk_180 0 51 (dk_at dksX0_count_2 1 rfl rfl)
theorem dX0_count_56 : decode cX0_count 56 = .ok (.getfield 120, 3) := dk_180 0 120 (dk_at dksX0_count_2 4 rfl rfl)
theorem dX0_count_59 : decode cX0_count 59 = .ok (.ireturn, 1) := dk_172 (dk_at dksX0_count_2 7 rfl rfl)
theorem dX0_count_60 : decode cX0_count 60 = .ok (.aload_n 0, 1) := dk_42 (dk_at dksX0_count_2 8 rfl rfl)
theorem dX0_count_61 : decode cX0_count 61 = .ok (.invokevirtual 360, 3) := dk_182 1 104 (dk_at dksX0_count_2 9 rfl rfl)
theorem dX0_count_64 : decode cX0_count 64 = .ok (.ireturn, 1) := dk_172 (dk_at dksX0_count_2 12 rfl rfl)
theorem dX0_count_65 : decode cX0_count 65 = .ok (.aload_n 0, 1) := dk_42 (dk_at dksX0_count_2 13 rfl rfl)
theorem dX0_count_66 : decode cX0_count 66 = .ok (.getfield 51, 3) := dk_180 0 51 (dk_at dksX0_count_2 14 rfl rfl)
theorem dX0_count_69 : decode cX0_count 69 = .ok (.getfield 163, 3) := dk_180 0 163 (dk_at dksX0_count_2 17 rfl rfl)
theorem dX0_count_72 : decode cX0_count 72 = .ok (.ireturn, 1) := dk_172 (dk_at dksX0_count_2 20 rfl rfl)
theorem dX0_count_73 : decode cX0_count 73 = .ok (.aload_n 0, 1) := dk_42 (dk_at dksX0_count_2 21 rfl rfl)
theorem dX0_count_74 : decode cX0_count 74 = .ok (.getfield 51, 3) := dk_180 0 51 (dk_at dksX0_count_3 0 rfl rfl)
theorem dX0_count_77 : decode cX0_count 77 = .ok (.getfield 151, 3) := dk_180 0 151 (dk_at dksX0_count_3 3 rfl rfl)
theorem dX0_count_80 : decode cX0_count 80 = .ok (.ireturn, 1) := dk_172 (dk_at dksX0_count_3 6 rfl rfl)
theorem dX0_count_81 : decode cX0_count 81 = .ok (.aload_n 0, 1) := dk_42 (dk_at dksX0_count_3 7 rfl rfl)
theorem dX0_count_82 : decode cX0_count 82 = .ok (.iconst 1, 1) := dk_4 (dk_at dksX0_count_3 8 rfl rfl)
theorem dX0_count_83 : decode cX0_count 83 = .ok (.invokevirtual 363, 3) := dk_182 1 107 (dk_at dksX0_count_3 9 rfl rfl)
theorem dX0_count_86 : decode cX0_count 86 = .ok (.ireturn, 1) := dk_172 (dk_at dksX0_count_3 12 rfl rfl)
theorem dX0_count_87 : decode cX0_count 87 = .ok (.aload_n 0, 1) := dk_42 (dk_at dksX0_count_3 13 rfl rfl)
theorem dX0_count_88 : decode cX0_count 88 = .ok (.getfield 51, 3) := dk_180 0 51 (dk_at dksX0_count_3 14 rfl rfl)
theorem dX0_count_91 : decode cX0_count 91 = .ok (.getfield 183, 3) := dk_180 0 183 (dk_at dksX0_count_3 17 rfl rfl)
theorem dX0_count_94 : decode cX0_count 94 = .ok (.ireturn, 1) := dk_172 (dk_at dksX0_count_3 20 rfl rfl)
theorem dX0_count_95 : decode cX0_count 95 = .ok (.aload_n 0, 1) := dk_42 (dk_at dksX0_count_3 21 rfl rfl)
theorem dX0_count_96 : decode cX0_count 96 = .ok (.iconst 0, 1) := dk_3 (dk_at dksX0_count_3 22 rfl rfl)
theorem dX0_count_97 : decode cX0_count 97 = .ok (.invokevirtual 363, 3) := dk_182 1 107 (dk_at dksX0_count_4 0 rfl rfl)
theorem dX0_count_100 : decode cX0_count 100 = .ok (.ireturn, 1) := dk_172 (dk_at dksX0_count_4 3 rfl rfl)
theorem dX0_count_101 : decode cX0_count 101 = .ok (.aload_n 0, 1) := dk_42 (dk_at dksX0_count_4 4 rfl rfl)
theorem dX0_count_102 : decode cX0_count 102 = .ok (.getfield 192, 3) := dk_180 0 192 (dk_at dksX0_count_4 5 rfl rfl)
theorem dX0_count_105 : decode cX0_count 105 = .ok (.ireturn, 1) := dk_172 (dk_at dksX0_count_4 8 rfl rfl)
theorem dX0_count_106 : decode cX0_count 106 = .ok (.aload_n 0, 1) := dk_42 (dk_at dksX0_count_4 9 rfl rfl)
theorem dX0_count_107 : decode cX0_count 107 = .ok (.getfield 78, 3) := dk_180 0 78 (dk_at dksX0_count_4 10 rfl rfl)
theorem dX0_count_110 : decode cX0_count 110 = .ok (.ireturn, 1) := dk_172 (dk_at dksX0_count_4 13 rfl rfl)
theorem dX0_count_111 : decode cX0_count 111 = .ok (.iload_n 1, 1) := dk_27 (dk_at dksX0_count_4 14 rfl rfl)
theorem dX0_count_112 : decode cX0_count 112 = .ok (.i2l, 1) := dk_133 (dk_at dksX0_count_4 15 rfl rfl)
theorem dX0_count_113 : decode cX0_count 113 = .ok (.ldc2_w 366, 3) := dk_20 1 110 (dk_at dksX0_count_4 16 rfl rfl)
theorem dX0_count_116 : decode cX0_count 116 = .ok (.ldc2_w 368, 3) := dk_20 1 112 (dk_at dksX0_count_4 19 rfl rfl)
theorem dX0_count_119 : decode cX0_count 119 = .ok (.invokestatic 13, 3) := dk_184 0 13 (dk_at dksX0_count_5 0 rfl rfl)
theorem dX0_count_122 : decode cX0_count 122 = .ok (.ifCond .eq 15, 3) := dk_153 0 15 (dk_at dksX0_count_5 3 rfl rfl)
theorem dX0_count_125 : decode cX0_count 125 = .ok (.aload_n 0, 1) := dk_42 (dk_at dksX0_count_5 6 rfl rfl)
theorem dX0_count_126 : decode cX0_count 126 = .ok (.getfield 69, 3) := dk_180 0 69 (dk_at dksX0_count_5 7 rfl rfl)
theorem dX0_count_129 : decode cX0_count 129 = .ok (.iload_n 1, 1) := dk_27 (dk_at dksX0_count_5 10 rfl rfl)
theorem dX0_count_130 : decode cX0_count 130 = .ok (.bipush 10, 2) := dk_16 10 (dk_at dksX0_count_5 11 rfl rfl)
theorem dX0_count_132 : decode cX0_count 132 = .ok (.isub, 1) := dk_100 (dk_at dksX0_count_5 13 rfl rfl)
theorem dX0_count_133 : decode cX0_count 133 = .ok (.iaload, 1) := dk_46 (dk_at dksX0_count_5 14 rfl rfl)
theorem dX0_count_134 : decode cX0_count 134 = .ok (.goto 5, 3) := dk_167 0 5 (dk_at dksX0_count_5 15 rfl rfl)
theorem dX0_count_137 : decode cX0_count 137 = .ok (.bipush (-9), 2) := dk_16 247 (dk_at dksX0_count_5 18 rfl rfl)
theorem dX0_count_139 : decode cX0_count 139 = .ok (.ireturn, 1) := dk_172 (dk_at dksX0_count_5 20 rfl rfl)
abbrev cX0_fruitOfAll : ByteArray := prog_1_method_49_code
def yX0_fruitOfAll : MethodName := ⟨RX0, "fruitOfAll", "()I"⟩
def dkwX0_fruitOfAll_1 : List UInt8 := [50, 180, 0, 243, 96, 60, 132, 2, 1, 167, 255, 227, 27, 172]
abbrev dktX0_fruitOfAll_1 : List UInt8 := dkwX0_fruitOfAll_1 ++ []
def dkwX0_fruitOfAll_0 : List UInt8 := [3, 60, 3, 61, 28, 42, 180, 0, 51, 180, 0, 120, 162, 0, 24, 27, 42, 180, 0, 51, 180, 0, 116, 28]
abbrev dktX0_fruitOfAll_0 : List UInt8 := dkwX0_fruitOfAll_0 ++ dktX0_fruitOfAll_1
theorem dksX0_fruitOfAll_0 : cX0_fruitOfAll.data.toList.drop 0 = dktX0_fruitOfAll_0 := by decide +kernel
theorem dksX0_fruitOfAll_1 : cX0_fruitOfAll.data.toList.drop 24 = dktX0_fruitOfAll_1 := dk_seg dksX0_fruitOfAll_0 24 rfl rfl
theorem dX0_fruitOfAll_0 : decode cX0_fruitOfAll 0 = .ok (.iconst 0, 1) := dk_3 (dk_at dksX0_fruitOfAll_0 0 rfl rfl)
theorem dX0_fruitOfAll_1 : decode cX0_fruitOfAll 1 = .ok (.istore_n 1, 1) := dk_60 (dk_at dksX0_fruitOfAll_0 1 rfl rfl)
theorem dX0_fruitOfAll_2 : decode cX0_fruitOfAll 2 = .ok (.iconst 0, 1) := dk_3 (dk_at dksX0_fruitOfAll_0 2 rfl rfl)
theorem dX0_fruitOfAll_3 : decode cX0_fruitOfAll 3 = .ok (.istore_n 2, 1) := dk_61 (dk_at dksX0_fruitOfAll_0 3 rfl rfl)
theorem dX0_fruitOfAll_4 : decode cX0_fruitOfAll 4 = .ok (.iload_n 2, 1) := dk_28 (dk_at dksX0_fruitOfAll_0 4 rfl rfl)
theorem dX0_fruitOfAll_5 : decode cX0_fruitOfAll 5 = .ok (.aload_n 0, 1) := dk_42 (dk_at dksX0_fruitOfAll_0 5 rfl rfl)
theorem dX0_fruitOfAll_6 : decode cX0_fruitOfAll 6 = .ok (.getfield 51, 3) := dk_180 0 51 (dk_at dksX0_fruitOfAll_0 6 rfl rfl)
theorem dX0_fruitOfAll_9 : decode cX0_fruitOfAll 9 = .ok (.getfield 120, 3) := dk_180 0 120 (dk_at dksX0_fruitOfAll_0 9 rfl rfl)
theorem dX0_fruitOfAll_12 : decode cX0_fruitOfAll 12 = .ok (.if_icmp .ge 24, 3) := dk_162 0 24 (dk_at dksX0_fruitOfAll_0 12 rfl rfl)
theorem dX0_fruitOfAll_15 : decode cX0_fruitOfAll 15 = .ok (.iload_n 1, 1) := dk_27 (dk_at dksX0_fruitOfAll_0 15 rfl rfl)
theorem dX0_fruitOfAll_16 : decode cX0_fruitOfAll 16 = .ok (.aload_n 0, 1) := dk_42 (dk_at dksX0_fruitOfAll_0 16 rfl rfl)
theorem dX0_fruitOfAll_17 : decode cX0_fruitOfAll 17 = .ok (.getfield 51, 3) := dk_180 0 51 (dk_at dksX0_fruitOfAll_0 17 rfl rfl)
theorem dX0_fruitOfAll_20 : decode cX0_fruitOfAll 20 = .ok (.getfield 116, 3) := dk_180 0 116 (dk_at dksX0_fruitOfAll_0 20 rfl rfl)
theorem dX0_fruitOfAll_23 : decode cX0_fruitOfAll 23 = .ok (.iload_n 2, 1) := dk_28 (dk_at dksX0_fruitOfAll_0 23 rfl rfl)
theorem dX0_fruitOfAll_24 : decode cX0_fruitOfAll 24 = .ok (.aaload, 1) := dk_50 (dk_at dksX0_fruitOfAll_1 0 rfl rfl)
theorem dX0_fruitOfAll_25 : decode cX0_fruitOfAll 25 = .ok (.getfield 243, 3) := dk_180 0 243 (dk_at dksX0_fruitOfAll_1 1 rfl rfl)
theorem dX0_fruitOfAll_28 : decode cX0_fruitOfAll 28 = .ok (.iadd, 1) := dk_96 (dk_at dksX0_fruitOfAll_1 4 rfl rfl)
theorem dX0_fruitOfAll_29 : decode cX0_fruitOfAll 29 = .ok (.istore_n 1, 1) := dk_60 (dk_at dksX0_fruitOfAll_1 5 rfl rfl)
theorem dX0_fruitOfAll_30 : decode cX0_fruitOfAll 30 = .ok (.iinc 2 1, 3) := dk_132 2 1 (dk_at dksX0_fruitOfAll_1 6 rfl rfl)
theorem dX0_fruitOfAll_33 : decode cX0_fruitOfAll 33 = .ok (.goto (-29), 3) := dk_167 255 227 (dk_at dksX0_fruitOfAll_1 9 rfl rfl)
theorem dX0_fruitOfAll_36 : decode cX0_fruitOfAll 36 = .ok (.iload_n 1, 1) := dk_27 (dk_at dksX0_fruitOfAll_1 12 rfl rfl)
theorem dX0_fruitOfAll_37 : decode cX0_fruitOfAll 37 = .ok (.ireturn, 1) := dk_172 (dk_at dksX0_fruitOfAll_1 13 rfl rfl)
abbrev cX0_squaresThat : ByteArray := prog_1_method_50_code
def yX0_squaresThat : MethodName := ⟨RX0, "squaresThat", "(Z)I"⟩
def dkwX0_squaresThat_2 : List UInt8 := [132, 3, 1, 167, 255, 209, 28, 172]
abbrev dktX0_squaresThat_2 : List UInt8 := dkwX0_squaresThat_2 ++ []
def dkwX0_squaresThat_1 : List UInt8 := [153, 0, 21, 167, 0, 14, 42, 180, 0, 51, 29, 182, 0, 170, 153, 0, 7, 4, 167, 0, 4, 3, 96, 61]
abbrev dktX0_squaresThat_1 : List UInt8 := dkwX0_squaresThat_1 ++ dktX0_squaresThat_2
def dkwX0_squaresThat_0 : List UInt8 := [3, 61, 3, 62, 29, 16, 36, 162, 0, 47, 28, 27, 153, 0, 18, 42, 180, 0, 51, 180, 0, 166, 29, 51]
abbrev dktX0_squaresThat_0 : List UInt8 := dkwX0_squaresThat_0 ++ dktX0_squaresThat_1
theorem dksX0_squaresThat_0 : cX0_squaresThat.data.toList.drop 0 = dktX0_squaresThat_0 := by decide +kernel
theorem dksX0_squaresThat_1 : cX0_squaresThat.data.toList.drop 24 = dktX0_squaresThat_1 := dk_seg dksX0_squaresThat_0 24 rfl rfl
theorem dksX0_squaresThat_2 : cX0_squaresThat.data.toList.drop 48 = dktX0_squaresThat_2 := dk_seg dksX0_squaresThat_1 24 rfl rfl
theorem dX0_squaresThat_0 : decode cX0_squaresThat 0 = .ok (.iconst 0, 1) := dk_3 (dk_at dksX0_squaresThat_0 0 rfl rfl)
theorem dX0_squaresThat_1 : decode cX0_squaresThat 1 = .ok (.istore_n 2, 1) := dk_61 (dk_at dksX0_squaresThat_0 1 rfl rfl)
theorem dX0_squaresThat_2 : decode cX0_squaresThat 2 = .ok (.iconst 0, 1) := dk_3 (dk_at dksX0_squaresThat_0 2 rfl rfl)
theorem dX0_squaresThat_3 : decode cX0_squaresThat 3 = .ok (.istore_n 3, 1) := dk_62 (dk_at dksX0_squaresThat_0 3 rfl rfl)
theorem dX0_squaresThat_4 : decode cX0_squaresThat 4 = .ok (.iload_n 3, 1) := dk_29 (dk_at dksX0_squaresThat_0 4 rfl rfl)
theorem dX0_squaresThat_5 : decode cX0_squaresThat 5 = .ok (.bipush 36, 2) := dk_16 36 (dk_at dksX0_squaresThat_0 5 rfl rfl)
theorem dX0_squaresThat_7 : decode cX0_squaresThat 7 = .ok (.if_icmp .ge 47, 3) := dk_162 0 47 (dk_at dksX0_squaresThat_0 7 rfl rfl)
theorem dX0_squaresThat_10 : decode cX0_squaresThat 10 = .ok (.iload_n 2, 1) := dk_28 (dk_at dksX0_squaresThat_0 10 rfl rfl)
theorem dX0_squaresThat_11 : decode cX0_squaresThat 11 = .ok (.iload_n 1, 1) := dk_27 (dk_at dksX0_squaresThat_0 11 rfl rfl)
theorem dX0_squaresThat_12 : decode cX0_squaresThat 12 = .ok (.ifCond .eq 18, 3) := dk_153 0 18 (dk_at dksX0_squaresThat_0 12 rfl rfl)
theorem dX0_squaresThat_15 : decode cX0_squaresThat 15 = .ok (.aload_n 0, 1) := dk_42 (dk_at dksX0_squaresThat_0 15 rfl rfl)
theorem dX0_squaresThat_16 : decode cX0_squaresThat 16 = .ok (.getfield 51, 3) := dk_180 0 51 (dk_at dksX0_squaresThat_0 16 rfl rfl)
theorem dX0_squaresThat_19 : decode cX0_squaresThat 19 = .ok (.getfield 166, 3) := dk_180 0 166 (dk_at dksX0_squaresThat_0 19 rfl rfl)
theorem dX0_squaresThat_22 : decode cX0_squaresThat 22 = .ok (.iload_n 3, 1) := dk_29 (dk_at dksX0_squaresThat_0 22 rfl rfl)
theorem dX0_squaresThat_23 : decode cX0_squaresThat 23 = .ok (.baload, 1) := dk_51 (dk_at dksX0_squaresThat_0 23 rfl rfl)
theorem dX0_squaresThat_24 : decode cX0_squaresThat 24 = .ok (.ifCond .eq 21, 3) := dk_153 0 21 (dk_at dksX0_squaresThat_1 0 rfl rfl)
theorem dX0_squaresThat_27 : decode cX0_squaresThat 27 = .ok (.goto 14, 3) := dk_167 0 14 (dk_at dksX0_squaresThat_1 3 rfl rfl)
theorem dX0_squaresThat_30 : decode cX0_squaresThat 30 = .ok (.aload_n 0, 1) := dk_42 (dk_at dksX0_squaresThat_1 6 rfl rfl)
theorem dX0_squaresThat_31 : decode cX0_squaresThat 31 = .ok (.getfield 51, 3) := dk_180 0 51 (dk_at dksX0_squaresThat_1 7 rfl rfl)
theorem dX0_squaresThat_34 : decode cX0_squaresThat 34 = .ok (.iload_n 3, 1) := dk_29 (dk_at dksX0_squaresThat_1 10 rfl rfl)
theorem dX0_squaresThat_35 : decode cX0_squaresThat 35 = .ok (.invokevirtual 170, 3) := dk_182 0 170 (dk_at dksX0_squaresThat_1 11 rfl rfl)
theorem dX0_squaresThat_38 : decode cX0_squaresThat 38 = .ok (.ifCond .eq 7, 3) := dk_153 0 7 (dk_at dksX0_squaresThat_1 14 rfl rfl)
theorem dX0_squaresThat_41 : decode cX0_squaresThat 41 = .ok (.iconst 1, 1) := dk_4 (dk_at dksX0_squaresThat_1 17 rfl rfl)
theorem dX0_squaresThat_42 : decode cX0_squaresThat 42 = .ok (.goto 4, 3) := dk_167 0 4 (dk_at dksX0_squaresThat_1 18 rfl rfl)
theorem dX0_squaresThat_45 : decode cX0_squaresThat 45 = .ok (.iconst 0, 1) := dk_3 (dk_at dksX0_squaresThat_1 21 rfl rfl)
theorem dX0_squaresThat_46 : decode cX0_squaresThat 46 = .ok (.iadd, 1) := dk_96 (dk_at dksX0_squaresThat_1 22 rfl rfl)
theorem dX0_squaresThat_47 : decode cX0_squaresThat 47 = .ok (.istore_n 2, 1) := dk_61 (dk_at dksX0_squaresThat_1 23 rfl rfl)
theorem dX0_squaresThat_48 : decode cX0_squaresThat 48 = .ok (.iinc 3 1, 3) := dk_132 3 1 (dk_at dksX0_squaresThat_2 0 rfl rfl)
theorem dX0_squaresThat_51 : decode cX0_squaresThat 51 = .ok (.goto (-47), 3) := dk_167 255 209 (dk_at dksX0_squaresThat_2 3 rfl rfl)
theorem dX0_squaresThat_54 : decode cX0_squaresThat 54 = .ok (.iload_n 2, 1) := dk_28 (dk_at dksX0_squaresThat_2 6 rfl rfl)
theorem dX0_squaresThat_55 : decode cX0_squaresThat 55 = .ok (.ireturn, 1) := dk_172 (dk_at dksX0_squaresThat_2 7 rfl rfl)
theorem q68 : (Jvm.Cond.initialized "FallsBetween") ∈ lw_all := lw_g (lw_at lw_m1 1 rfl) rfl
theorem q99 : (Jvm.Cond.instantiable "FallsBetween" (9 : Nat)) ∈ lw_all := lw_g (lw_at lw_m1 32 rfl) rfl
theorem q101 : (Jvm.Cond.instanceMethod ({ cls := "FallsBetween", name := "<init>", desc := "()V" } : Jvm.MethodName)) ∈ lw_all := lw_g (lw_at lw_m1 34 rfl) rfl
theorem q102 : (Jvm.Cond.code ({ cls := "FallsBetween", name := "<init>", desc := "()V" } : Jvm.MethodName) prog_1_method_10_code (1 : Nat) (Option.none : Option Jvm.ClassFile.FieldType)) ∈ lw_all := lw_g (lw_at lw_m1 35 rfl) rfl
theorem q103 : (Jvm.Cond.methodLink "FallsBetween" (43 : Nat) ({ cls := "java/lang/Object", name := "<init>", desc := "()V" } : Jvm.MethodName)) ∈ lw_all := lw_g (lw_at lw_m1 36 rfl) rfl
theorem q106 : (Jvm.Cond.classLink "FallsBetween" (48 : Nat) "FallsBetween$Town") ∈ lw_all := lw_g (lw_at lw_m1 39 rfl) rfl
theorem q108 : (Jvm.Cond.methodLinkNest "FallsBetween" (50 : Nat) ({ cls := "FallsBetween$Town", name := "<init>", desc := "()V" } : Jvm.MethodName) "FallsBetween") ∈ lw_tbl := lw_at lw_m1 41 rfl
theorem q152 : (Jvm.Cond.fieldLinkNest "FallsBetween" (147 : Nat) "FallsBetween$Town" "laws" "[LFallsBetween$Law;" "FallsBetween") ∈ lw_tbl := lw_at lw_m1 85 rfl
theorem q156 : (Jvm.Cond.fieldLinkNest "FallsBetween" (141 : Nat) "FallsBetween$Town" "gardens" "[I" "FallsBetween") ∈ lw_tbl := lw_at lw_m1 89 rfl
theorem q160 : (Jvm.Cond.fieldLinkNest "FallsBetween" (229 : Nat) "FallsBetween$Town" "heights" "[I" "FallsBetween") ∈ lw_tbl := lw_at lw_m1 93 rfl
theorem q163 : (Jvm.Cond.fieldLinkNest "FallsBetween" (166 : Nat) "FallsBetween$Town" "nets" "[Z" "FallsBetween") ∈ lw_tbl := lw_at lw_m1 96 rfl
theorem q166 : (Jvm.Cond.fieldLinkNest "FallsBetween" (120 : Nat) "FallsBetween$Town" "trees" "I" "FallsBetween") ∈ lw_tbl := lw_at lw_m1 99 rfl
theorem q169 : (Jvm.Cond.fieldLinkNest "FallsBetween" (116 : Nat) "FallsBetween$Town" "tree" "[LFallsBetween$Tree;" "FallsBetween") ∈ lw_tbl := lw_at lw_m1 102 rfl
theorem q172 : (Jvm.Cond.fieldLinkNest "FallsBetween" (163 : Nat) "FallsBetween$Town" "wind" "I" "FallsBetween") ∈ lw_tbl := lw_at lw_m1 105 rfl
theorem q175 : (Jvm.Cond.fieldLinkNest "FallsBetween" (151 : Nat) "FallsBetween$Town" "law" "I" "FallsBetween") ∈ lw_tbl := lw_at lw_m1 108 rfl
theorem q177 : (Jvm.Cond.fieldLinkNest "FallsBetween" (183 : Nat) "FallsBetween$Town" "pits" "I" "FallsBetween") ∈ lw_tbl := lw_at lw_m1 110 rfl
theorem q179 : (Jvm.Cond.fieldLinkNest "FallsBetween" (186 : Nat) "FallsBetween$Town" "pit" "[I" "FallsBetween") ∈ lw_tbl := lw_at lw_m1 112 rfl
theorem q181 : (Jvm.Cond.fieldLinkNest "FallsBetween" (177 : Nat) "FallsBetween$Town" "lies" "[I" "FallsBetween") ∈ lw_tbl := lw_at lw_m1 114 rfl
theorem q183 : (Jvm.Cond.fieldLinkNest "FallsBetween" (154 : Nat) "FallsBetween$Town" "lost" "I" "FallsBetween") ∈ lw_tbl := lw_at lw_m1 116 rfl
theorem q211 : (Jvm.Cond.fieldLink "FallsBetween" (51 : Nat) "FallsBetween" "town" "LFallsBetween$Town;") ∈ lw_all := lw_g (lw_at lw_m1 144 rfl) rfl
theorem q212 : (Jvm.Cond.fieldLink "FallsBetween" (55 : Nat) "FallsBetween" "mind" "LFallsBetween$Town;") ∈ lw_all := lw_g (lw_at lw_m1 145 rfl) rfl
theorem q213 : (Jvm.Cond.fieldLink "FallsBetween" (58 : Nat) "FallsBetween" "imaged" "LFallsBetween$Town;") ∈ lw_all := lw_g (lw_at lw_m1 146 rfl) rfl
theorem q214 : (Jvm.Cond.fieldLink "FallsBetween" (353 : Nat) "FallsBetween" "hasImage" "Z") ∈ lw_all := lw_g (lw_at lw_m1 147 rfl) rfl
theorem q215 : (Jvm.Cond.fieldLink "FallsBetween" (61 : Nat) "FallsBetween" "row" "[B") ∈ lw_all := lw_g (lw_at lw_m1 148 rfl) rfl
theorem q216 : (Jvm.Cond.fieldLink "FallsBetween" (192 : Nat) "FallsBetween" "rowMany" "I") ∈ lw_all := lw_g (lw_at lw_m1 149 rfl) rfl
theorem q218 : (Jvm.Cond.fieldLink "FallsBetween" (65 : Nat) "FallsBetween" "letters" "[C") ∈ lw_all := lw_g (lw_at lw_m1 151 rfl) rfl
theorem q220 : (Jvm.Cond.fieldLink "FallsBetween" (78 : Nat) "FallsBetween" "letterMany" "I") ∈ lw_all := lw_g (lw_at lw_m1 153 rfl) rfl
theorem q221 : (Jvm.Cond.fieldLink "FallsBetween" (69 : Nat) "FallsBetween" "refused" "[I") ∈ lw_all := lw_g (lw_at lw_m1 154 rfl) rfl
theorem q222 : (Jvm.Cond.laysFinal "FallsBetween" "FallsBetween" "town" "LFallsBetween$Town;") ∈ lw_all := lw_g (lw_at lw_m1 155 rfl) rfl
theorem q223 : (Jvm.Cond.soleField "FallsBetween" "town") ∈ lw_all := lw_g (lw_at lw_m1 156 rfl) rfl
theorem q224 : (Jvm.Cond.laysFinal "FallsBetween" "FallsBetween" "mind" "LFallsBetween$Town;") ∈ lw_all := lw_g (lw_at lw_m1 157 rfl) rfl
theorem q225 : (Jvm.Cond.soleField "FallsBetween" "mind") ∈ lw_all := lw_g (lw_at lw_m1 158 rfl) rfl
theorem q226 : (Jvm.Cond.laysFinal "FallsBetween" "FallsBetween" "imaged" "LFallsBetween$Town;") ∈ lw_all := lw_g (lw_at lw_m1 159 rfl) rfl
theorem q227 : (Jvm.Cond.soleField "FallsBetween" "imaged") ∈ lw_all := lw_g (lw_at lw_m1 160 rfl) rfl
theorem q228 : (Jvm.Cond.lays "FallsBetween" "FallsBetween" "hasImage" "Z") ∈ lw_all := lw_g (lw_at lw_m1 161 rfl) rfl
theorem q229 : (Jvm.Cond.soleField "FallsBetween" "hasImage") ∈ lw_all := lw_g (lw_at lw_m1 162 rfl) rfl
theorem q230 : (Jvm.Cond.laysFinal "FallsBetween" "FallsBetween" "row" "[B") ∈ lw_all := lw_g (lw_at lw_m1 163 rfl) rfl
theorem q231 : (Jvm.Cond.soleField "FallsBetween" "row") ∈ lw_all := lw_g (lw_at lw_m1 164 rfl) rfl
theorem q232 : (Jvm.Cond.lays "FallsBetween" "FallsBetween" "rowMany" "I") ∈ lw_all := lw_g (lw_at lw_m1 165 rfl) rfl
theorem q233 : (Jvm.Cond.soleField "FallsBetween" "rowMany") ∈ lw_all := lw_g (lw_at lw_m1 166 rfl) rfl
theorem q234 : (Jvm.Cond.laysFinal "FallsBetween" "FallsBetween" "letters" "[C") ∈ lw_all := lw_g (lw_at lw_m1 167 rfl) rfl
theorem q235 : (Jvm.Cond.soleField "FallsBetween" "letters") ∈ lw_all := lw_g (lw_at lw_m1 168 rfl) rfl
theorem q236 : (Jvm.Cond.lays "FallsBetween" "FallsBetween" "letterMany" "I") ∈ lw_all := lw_g (lw_at lw_m1 169 rfl) rfl
theorem q237 : (Jvm.Cond.soleField "FallsBetween" "letterMany") ∈ lw_all := lw_g (lw_at lw_m1 170 rfl) rfl
theorem q238 : (Jvm.Cond.laysFinal "FallsBetween" "FallsBetween" "refused" "[I") ∈ lw_all := lw_g (lw_at lw_m1 171 rfl) rfl
theorem q239 : (Jvm.Cond.soleField "FallsBetween" "refused") ∈ lw_all := lw_g (lw_at lw_m1 172 rfl) rfl
theorem q240 : (Jvm.Cond.superclass "FallsBetween" "java/lang/Object") ∈ lw_all := lw_g (lw_at lw_m1 173 rfl) rfl
theorem q244 : (Jvm.Cond.instanceMethod ({ cls := "FallsBetween", name := "letter", desc := "(I)I" } : Jvm.MethodName)) ∈ lw_all := lw_g (lw_at lw_m1 177 rfl) rfl
theorem q245 : (Jvm.Cond.selects "FallsBetween" ({ cls := "FallsBetween", name := "letter", desc := "(I)I" } : Jvm.MethodName) ({ cls := "FallsBetween", name := "letter", desc := "(I)I" } : Jvm.MethodName)) ∈ lw_all := lw_g (lw_at lw_m1 178 rfl) rfl
theorem q246 : (Jvm.Cond.code ({ cls := "FallsBetween", name := "letter", desc := "(I)I" } : Jvm.MethodName) prog_1_method_51_code (2 : Nat) (Option.some Jvm.ClassFile.FieldType.int)) ∈ lw_all := lw_g (lw_at lw_m1 179 rfl) rfl
theorem q247 : (Jvm.Cond.methodLink "FallsBetween" (357 : Nat) ({ cls := "FallsBetween", name := "act", desc := "(IIII)I" } : Jvm.MethodName)) ∈ lw_all := lw_g (lw_at lw_m1 180 rfl) rfl
theorem q248 : (Jvm.Cond.privateMethod ({ cls := "FallsBetween", name := "act", desc := "(IIII)I" } : Jvm.MethodName)) ∈ lw_tbl := lw_at lw_m1 181 rfl
theorem q249 : (Jvm.Cond.instanceMethod ({ cls := "FallsBetween", name := "act", desc := "(IIII)I" } : Jvm.MethodName)) ∈ lw_all := lw_g (lw_at lw_m1 182 rfl) rfl
theorem q250 : (Jvm.Cond.codeWith ({ cls := "FallsBetween", name := "act", desc := "(IIII)I" } : Jvm.MethodName) prog_1_method_26_code (6 : Nat) (Option.some Jvm.ClassFile.FieldType.int) [((0 : Nat), (43 : Nat), (44 : Nat), (206 : Nat))]) ∈ lw_all := lw_g (lw_at lw_m1 183 rfl) rfl
theorem q251 : (Jvm.Cond.classLink "FallsBetween" (206 : Nat) "FallsBetween$Refusal") ∈ lw_all := lw_g (lw_at lw_m1 184 rfl) rfl
theorem q252 : (Jvm.Cond.methodLink "FallsBetween" (195 : Nat) ({ cls := "FallsBetween", name := "ofTown", desc := "(III)I" } : Jvm.MethodName)) ∈ lw_all := lw_g (lw_at lw_m1 185 rfl) rfl
theorem q253 : (Jvm.Cond.privateMethod ({ cls := "FallsBetween", name := "ofTown", desc := "(III)I" } : Jvm.MethodName)) ∈ lw_tbl := lw_at lw_m1 186 rfl
theorem q254 : (Jvm.Cond.instanceMethod ({ cls := "FallsBetween", name := "ofTown", desc := "(III)I" } : Jvm.MethodName)) ∈ lw_all := lw_g (lw_at lw_m1 187 rfl) rfl
theorem q255 : (Jvm.Cond.code ({ cls := "FallsBetween", name := "ofTown", desc := "(III)I" } : Jvm.MethodName) prog_1_method_39_code (4 : Nat) (Option.some Jvm.ClassFile.FieldType.int)) ∈ lw_all := lw_g (lw_at lw_m1 188 rfl) rfl
theorem q256 : (Jvm.Cond.methodLink "FallsBetween" (256 : Nat) ({ cls := "FallsBetween", name := "letterIt", desc := "(I)I" } : Jvm.MethodName)) ∈ lw_all := lw_g (lw_at lw_m1 189 rfl) rfl
theorem q257 : (Jvm.Cond.privateMethod ({ cls := "FallsBetween", name := "letterIt", desc := "(I)I" } : Jvm.MethodName)) ∈ lw_tbl := lw_at lw_m1 190 rfl
theorem q258 : (Jvm.Cond.instanceMethod ({ cls := "FallsBetween", name := "letterIt", desc := "(I)I" } : Jvm.MethodName)) ∈ lw_all := lw_g (lw_at lw_m1 191 rfl) rfl
theorem q259 : (Jvm.Cond.code ({ cls := "FallsBetween", name := "letterIt", desc := "(I)I" } : Jvm.MethodName) prog_1_method_31_code (2 : Nat) (Option.some Jvm.ClassFile.FieldType.int)) ∈ lw_all := lw_g (lw_at lw_m1 192 rfl) rfl
theorem q260 : (Jvm.Cond.constantLong "FallsBetween" (218 : Nat) (255 : Int64)) ∈ lw_all := lw_g (lw_at lw_m1 193 rfl) rfl
theorem q261 : (Jvm.Cond.methodLink "FallsBetween" (220 : Nat) ({ cls := "FallsBetween", name := "within", desc := "(JJJ)V" } : Jvm.MethodName)) ∈ lw_all := lw_g (lw_at lw_m1 194 rfl) rfl
theorem q262 : (Jvm.Cond.static ({ cls := "FallsBetween", name := "within", desc := "(JJJ)V" } : Jvm.MethodName)) ∈ lw_all := lw_g (lw_at lw_m1 195 rfl) rfl
theorem q263 : (Jvm.Cond.code ({ cls := "FallsBetween", name := "within", desc := "(JJJ)V" } : Jvm.MethodName) prog_1_method_3_code (6 : Nat) (Option.none : Option Jvm.ClassFile.FieldType)) ∈ lw_all := lw_g (lw_at lw_m1 196 rfl) rfl
theorem q264 : (Jvm.Cond.methodLink "FallsBetween" (9 : Nat) ({ cls := "FallsBetween", name := "must", desc := "(ZI)V" } : Jvm.MethodName)) ∈ lw_all := lw_g (lw_at lw_m1 197 rfl) rfl
theorem q265 : (Jvm.Cond.static ({ cls := "FallsBetween", name := "must", desc := "(ZI)V" } : Jvm.MethodName)) ∈ lw_all := lw_g (lw_at lw_m1 198 rfl) rfl
theorem q266 : (Jvm.Cond.code ({ cls := "FallsBetween", name := "must", desc := "(ZI)V" } : Jvm.MethodName) prog_1_method_2_code (2 : Nat) (Option.none : Option Jvm.ClassFile.FieldType)) ∈ lw_all := lw_g (lw_at lw_m1 199 rfl) rfl
theorem q267 : (Jvm.Cond.classLink "FallsBetween" (1 : Nat) "FallsBetween$Refused") ∈ lw_all := lw_g (lw_at lw_m1 200 rfl) rfl
theorem q308 : (Jvm.Cond.methodLink "FallsBetween" (3 : Nat) ({ cls := "FallsBetween$Refused", name := "<init>", desc := "(I)V" } : Jvm.MethodName)) ∈ lw_all := lw_g (lw_at lw_m2 1 rfl) rfl
theorem q336 : (Jvm.Cond.methodLink "FallsBetween" (259 : Nat) ({ cls := "FallsBetween", name := "readTown", desc := "()I" } : Jvm.MethodName)) ∈ lw_all := lw_g (lw_at lw_m2 29 rfl) rfl
theorem q337 : (Jvm.Cond.privateMethod ({ cls := "FallsBetween", name := "readTown", desc := "()I" } : Jvm.MethodName)) ∈ lw_tbl := lw_at lw_m2 30 rfl
theorem q338 : (Jvm.Cond.instanceMethod ({ cls := "FallsBetween", name := "readTown", desc := "()I" } : Jvm.MethodName)) ∈ lw_all := lw_g (lw_at lw_m2 31 rfl) rfl
theorem q339 : (Jvm.Cond.code ({ cls := "FallsBetween", name := "readTown", desc := "()I" } : Jvm.MethodName) prog_1_method_11_code (5 : Nat) (Option.some Jvm.ClassFile.FieldType.int)) ∈ lw_all := lw_g (lw_at lw_m2 32 rfl) rfl
theorem q340 : (Jvm.Cond.classLink "FallsBetween" (73 : Nat) "FallsBetween$Reader") ∈ lw_all := lw_g (lw_at lw_m2 33 rfl) rfl
theorem q342 : (Jvm.Cond.methodLinkNest "FallsBetween" (75 : Nat) ({ cls := "FallsBetween$Reader", name := "<init>", desc := "(LFallsBetween;)V" } : Jvm.MethodName) "FallsBetween") ∈ lw_tbl := lw_at lw_m2 35 rfl
theorem q347 : (Jvm.Cond.fieldLinkNest "FallsBetween" (91 : Nat) "FallsBetween$Reader" "size" "I" "FallsBetween") ∈ lw_tbl := lw_at lw_m2 40 rfl
theorem q349 : (Jvm.Cond.fieldLinkNest "FallsBetween" (88 : Nat) "FallsBetween$Reader" "at" "I" "FallsBetween") ∈ lw_tbl := lw_at lw_m2 42 rfl
theorem q358 : (Jvm.Cond.classLink "FallsBetween" (82 : Nat) "FallsBetween$Told") ∈ lw_all := lw_g (lw_at lw_m2 51 rfl) rfl
theorem q360 : (Jvm.Cond.methodLink "FallsBetween" (84 : Nat) ({ cls := "FallsBetween$Reader", name := "statement", desc := "()LFallsBetween$Told;" } : Jvm.MethodName)) ∈ lw_all := lw_g (lw_at lw_m2 53 rfl) rfl
theorem q413 : (Jvm.Cond.static ({ cls := "FallsBetween", name := "in", desc := "(JJJ)Z" } : Jvm.MethodName)) ∈ lw_all := lw_g (lw_at lw_m2 106 rfl) rfl
theorem q414 : (Jvm.Cond.code ({ cls := "FallsBetween", name := "in", desc := "(JJJ)Z" } : Jvm.MethodName) prog_1_method_1_code (6 : Nat) (Option.some Jvm.ClassFile.FieldType.boolean)) ∈ lw_all := lw_g (lw_at lw_m2 107 rfl) rfl
theorem q422 : (Jvm.Cond.static ({ cls := "FallsBetween", name := "treeOf", desc := "(IIII)LFallsBetween$Tree;" } : Jvm.MethodName)) ∈ lw_all := lw_g (lw_at lw_m2 115 rfl) rfl
theorem q423 : (Jvm.Cond.code ({ cls := "FallsBetween", name := "treeOf", desc := "(IIII)LFallsBetween$Tree;" } : Jvm.MethodName) prog_1_method_9_code (4 : Nat) (Option.some (Jvm.ClassFile.FieldType.object "FallsBetween$Tree"))) ∈ lw_all := lw_g (lw_at lw_m2 116 rfl) rfl
theorem q424 : (Jvm.Cond.classLink "FallsBetween" (23 : Nat) "FallsBetween$Tree") ∈ lw_all := lw_g (lw_at lw_m2 117 rfl) rfl
theorem q426 : (Jvm.Cond.methodLink "FallsBetween" (25 : Nat) ({ cls := "FallsBetween$Tree", name := "<init>", desc := "(III)V" } : Jvm.MethodName)) ∈ lw_all := lw_g (lw_at lw_m2 119 rfl) rfl
theorem q433 : (Jvm.Cond.fieldLink "FallsBetween" (240 : Nat) "FallsBetween$Tree" "square" "I") ∈ lw_all := lw_g (lw_at lw_m2 126 rfl) rfl
theorem q437 : (Jvm.Cond.fieldLink "FallsBetween" (243 : Nat) "FallsBetween$Tree" "fruit" "I") ∈ lw_all := lw_g (lw_at lw_m2 130 rfl) rfl
theorem q442 : (Jvm.Cond.fieldLink "FallsBetween" (246 : Nat) "FallsBetween$Tree" "leans" "I") ∈ lw_all := lw_g (lw_at lw_m2 135 rfl) rfl
theorem q450 : (Jvm.Cond.classLink "FallsBetween" (28 : Nat) "FallsBetween$Damson") ∈ lw_all := lw_g (lw_at lw_m2 143 rfl) rfl
theorem q452 : (Jvm.Cond.methodLink "FallsBetween" (30 : Nat) ({ cls := "FallsBetween$Damson", name := "<init>", desc := "(III)V" } : Jvm.MethodName)) ∈ lw_all := lw_g (lw_at lw_m2 145 rfl) rfl
theorem q460 : (Jvm.Cond.classLink "FallsBetween" (31 : Nat) "FallsBetween$Leaner") ∈ lw_all := lw_g (lw_at lw_m2 153 rfl) rfl
theorem q462 : (Jvm.Cond.methodLink "FallsBetween" (33 : Nat) ({ cls := "FallsBetween$Leaner", name := "<init>", desc := "(III)V" } : Jvm.MethodName)) ∈ lw_all := lw_g (lw_at lw_m2 155 rfl) rfl
theorem q470 : (Jvm.Cond.classLink "FallsBetween" (34 : Nat) "FallsBetween$Apple") ∈ lw_all := lw_g (lw_at lw_m2 163 rfl) rfl
theorem q472 : (Jvm.Cond.methodLink "FallsBetween" (36 : Nat) ({ cls := "FallsBetween$Apple", name := "<init>", desc := "(III)V" } : Jvm.MethodName)) ∈ lw_all := lw_g (lw_at lw_m2 165 rfl) rfl
theorem q480 : (Jvm.Cond.classLink "FallsBetween" (37 : Nat) "FallsBetween$RoundApple") ∈ lw_all := lw_g (lw_at lw_m2 173 rfl) rfl
theorem q482 : (Jvm.Cond.methodLink "FallsBetween" (39 : Nat) ({ cls := "FallsBetween$RoundApple", name := "<init>", desc := "(III)V" } : Jvm.MethodName)) ∈ lw_all := lw_g (lw_at lw_m2 175 rfl) rfl
theorem q490 : (Jvm.Cond.classLink "FallsBetween" (40 : Nat) "FallsBetween$Still") ∈ lw_all := lw_g (lw_at lw_m2 183 rfl) rfl
theorem q492 : (Jvm.Cond.methodLink "FallsBetween" (42 : Nat) ({ cls := "FallsBetween$Still", name := "<init>", desc := "(III)V" } : Jvm.MethodName)) ∈ lw_all := lw_g (lw_at lw_m2 185 rfl) rfl
theorem q509 : (Jvm.Cond.fieldLink "FallsBetween" (104 : Nat) "FallsBetween$Told" "start" "I") ∈ lw_all := lw_g (lw_at lw_m2 202 rfl) rfl
theorem q583 : (Jvm.Cond.methodLink "FallsBetween" (94 : Nat) ({ cls := "FallsBetween$Town", name := "set", desc := "(LFallsBetween$Town;)V" } : Jvm.MethodName)) ∈ lw_all := lw_g (lw_at lw_m3 36 rfl) rfl
theorem q590 : (Jvm.Cond.methodLink "FallsBetween" (98 : Nat) ({ cls := "FallsBetween$Told", name := "comes", desc := "(LFallsBetween$Town;)Z" } : Jvm.MethodName)) ∈ lw_all := lw_g (lw_at lw_m3 43 rfl) rfl
theorem q641 : (Jvm.Cond.classLink "FallsBetween" (102 : Nat) "FallsBetween$Fault") ∈ lw_all := lw_g (lw_at lw_m3 94 rfl) rfl
theorem q642 : (Jvm.Cond.methodLink "FallsBetween" (107 : Nat) ({ cls := "FallsBetween$Fault", name := "<init>", desc := "(I)V" } : Jvm.MethodName)) ∈ lw_all := lw_g (lw_at lw_m3 95 rfl) rfl
theorem q643 : (Jvm.Cond.methodLink "FallsBetween" (262 : Nat) ({ cls := "FallsBetween", name := "squareTold", desc := "(II)I" } : Jvm.MethodName)) ∈ lw_all := lw_g (lw_at lw_m3 96 rfl) rfl
theorem q644 : (Jvm.Cond.privateMethod ({ cls := "FallsBetween", name := "squareTold", desc := "(II)I" } : Jvm.MethodName)) ∈ lw_tbl := lw_at lw_m3 97 rfl
theorem q645 : (Jvm.Cond.instanceMethod ({ cls := "FallsBetween", name := "squareTold", desc := "(II)I" } : Jvm.MethodName)) ∈ lw_all := lw_g (lw_at lw_m3 98 rfl) rfl
theorem q646 : (Jvm.Cond.code ({ cls := "FallsBetween", name := "squareTold", desc := "(II)I" } : Jvm.MethodName) prog_1_method_32_code (3 : Nat) (Option.some Jvm.ClassFile.FieldType.int)) ∈ lw_all := lw_g (lw_at lw_m3 99 rfl) rfl
theorem q647 : (Jvm.Cond.methodLink "FallsBetween" (224 : Nat) ({ cls := "FallsBetween", name := "mustBeSquare", desc := "(I)V" } : Jvm.MethodName)) ∈ lw_all := lw_g (lw_at lw_m3 100 rfl) rfl
theorem q648 : (Jvm.Cond.static ({ cls := "FallsBetween", name := "mustBeSquare", desc := "(I)V" } : Jvm.MethodName)) ∈ lw_all := lw_g (lw_at lw_m3 101 rfl) rfl
theorem q649 : (Jvm.Cond.code ({ cls := "FallsBetween", name := "mustBeSquare", desc := "(I)V" } : Jvm.MethodName) prog_1_method_27_code (1 : Nat) (Option.none : Option Jvm.ClassFile.FieldType)) ∈ lw_all := lw_g (lw_at lw_m3 102 rfl) rfl
theorem q650 : (Jvm.Cond.methodLink "FallsBetween" (214 : Nat) ({ cls := "FallsBetween", name := "mustBe", desc := "(II)V" } : Jvm.MethodName)) ∈ lw_all := lw_g (lw_at lw_m3 103 rfl) rfl
theorem q651 : (Jvm.Cond.static ({ cls := "FallsBetween", name := "mustBe", desc := "(II)V" } : Jvm.MethodName)) ∈ lw_all := lw_g (lw_at lw_m3 104 rfl) rfl
theorem q652 : (Jvm.Cond.code ({ cls := "FallsBetween", name := "mustBe", desc := "(II)V" } : Jvm.MethodName) prog_1_method_4_code (2 : Nat) (Option.none : Option Jvm.ClassFile.FieldType)) ∈ lw_all := lw_g (lw_at lw_m3 105 rfl) rfl
theorem q653 : (Jvm.Cond.methodLink "FallsBetween" (13 : Nat) ({ cls := "FallsBetween", name := "in", desc := "(JJJ)Z" } : Jvm.MethodName)) ∈ lw_all := lw_g (lw_at lw_m3 106 rfl) rfl
theorem q654 : (Jvm.Cond.constantLong "FallsBetween" (227 : Nat) (4 : Int64)) ∈ lw_all := lw_g (lw_at lw_m3 107 rfl) rfl
theorem q655 : (Jvm.Cond.methodLink "FallsBetween" (170 : Nat) ({ cls := "FallsBetween$Town", name := "isNobodys", desc := "(I)Z" } : Jvm.MethodName)) ∈ lw_all := lw_g (lw_at lw_m3 108 rfl) rfl
theorem q668 : (Jvm.Cond.static ({ cls := "FallsBetween", name := "beside", desc := "(II)I" } : Jvm.MethodName)) ∈ lw_all := lw_g (lw_at lw_m3 121 rfl) rfl
theorem q669 : (Jvm.Cond.code ({ cls := "FallsBetween", name := "beside", desc := "(II)I" } : Jvm.MethodName) prog_1_method_7_code (4 : Nat) (Option.some Jvm.ClassFile.FieldType.int)) ∈ lw_all := lw_g (lw_at lw_m3 122 rfl) rfl
theorem q670 : (Jvm.Cond.constantLong "FallsBetween" (17 : Nat) (5 : Int64)) ∈ lw_all := lw_g (lw_at lw_m3 123 rfl) rfl
theorem q693 : (Jvm.Cond.methodLink "FallsBetween" (108 : Nat) ({ cls := "FallsBetween$Town", name := "treeAt", desc := "(I)I" } : Jvm.MethodName)) ∈ lw_all := lw_g (lw_at lw_m3 146 rfl) rfl
theorem q694 : (Jvm.Cond.methodLink "FallsBetween" (265 : Nat) ({ cls := "FallsBetween", name := "treeTold", desc := "(II)I" } : Jvm.MethodName)) ∈ lw_all := lw_g (lw_at lw_m3 147 rfl) rfl
theorem q695 : (Jvm.Cond.privateMethod ({ cls := "FallsBetween", name := "treeTold", desc := "(II)I" } : Jvm.MethodName)) ∈ lw_tbl := lw_at lw_m3 148 rfl
theorem q696 : (Jvm.Cond.instanceMethod ({ cls := "FallsBetween", name := "treeTold", desc := "(II)I" } : Jvm.MethodName)) ∈ lw_all := lw_g (lw_at lw_m3 149 rfl) rfl
theorem q697 : (Jvm.Cond.code ({ cls := "FallsBetween", name := "treeTold", desc := "(II)I" } : Jvm.MethodName) prog_1_method_33_code (4 : Nat) (Option.some Jvm.ClassFile.FieldType.int)) ∈ lw_all := lw_g (lw_at lw_m3 150 rfl) rfl
theorem q698 : (Jvm.Cond.methodLink "FallsBetween" (232 : Nat) ({ cls := "FallsBetween", name := "mustBeTree", desc := "(I)V" } : Jvm.MethodName)) ∈ lw_all := lw_g (lw_at lw_m3 151 rfl) rfl
theorem q699 : (Jvm.Cond.privateMethod ({ cls := "FallsBetween", name := "mustBeTree", desc := "(I)V" } : Jvm.MethodName)) ∈ lw_tbl := lw_at lw_m3 152 rfl
theorem q700 : (Jvm.Cond.instanceMethod ({ cls := "FallsBetween", name := "mustBeTree", desc := "(I)V" } : Jvm.MethodName)) ∈ lw_all := lw_g (lw_at lw_m3 153 rfl) rfl
theorem q701 : (Jvm.Cond.code ({ cls := "FallsBetween", name := "mustBeTree", desc := "(I)V" } : Jvm.MethodName) prog_1_method_29_code (2 : Nat) (Option.none : Option Jvm.ClassFile.FieldType)) ∈ lw_all := lw_g (lw_at lw_m3 154 rfl) rfl
theorem q702 : (Jvm.Cond.constantLong "FallsBetween" (235 : Nat) (3 : Int64)) ∈ lw_all := lw_g (lw_at lw_m3 155 rfl) rfl
theorem q703 : (Jvm.Cond.methodLink "FallsBetween" (237 : Nat) ({ cls := "FallsBetween$Tree", name := "kind", desc := "()I" } : Jvm.MethodName)) ∈ lw_all := lw_g (lw_at lw_m3 156 rfl) rfl
theorem q723 : (Jvm.Cond.methodLink "FallsBetween" (268 : Nat) ({ cls := "FallsBetween", name := "gardenTold", desc := "(II)I" } : Jvm.MethodName)) ∈ lw_all := lw_g (lw_at lw_m3 176 rfl) rfl
theorem q724 : (Jvm.Cond.privateMethod ({ cls := "FallsBetween", name := "gardenTold", desc := "(II)I" } : Jvm.MethodName)) ∈ lw_tbl := lw_at lw_m3 177 rfl
theorem q725 : (Jvm.Cond.instanceMethod ({ cls := "FallsBetween", name := "gardenTold", desc := "(II)I" } : Jvm.MethodName)) ∈ lw_all := lw_g (lw_at lw_m3 178 rfl) rfl
theorem q726 : (Jvm.Cond.code ({ cls := "FallsBetween", name := "gardenTold", desc := "(II)I" } : Jvm.MethodName) prog_1_method_34_code (4 : Nat) (Option.some Jvm.ClassFile.FieldType.int)) ∈ lw_all := lw_g (lw_at lw_m3 179 rfl) rfl
theorem q727 : (Jvm.Cond.methodLink "FallsBetween" (249 : Nat) ({ cls := "FallsBetween", name := "mustBeGarden", desc := "(I)V" } : Jvm.MethodName)) ∈ lw_all := lw_g (lw_at lw_m3 180 rfl) rfl
theorem q728 : (Jvm.Cond.static ({ cls := "FallsBetween", name := "mustBeGarden", desc := "(I)V" } : Jvm.MethodName)) ∈ lw_all := lw_g (lw_at lw_m3 181 rfl) rfl
theorem q729 : (Jvm.Cond.code ({ cls := "FallsBetween", name := "mustBeGarden", desc := "(I)V" } : Jvm.MethodName) prog_1_method_28_code (1 : Nat) (Option.none : Option Jvm.ClassFile.FieldType)) ∈ lw_all := lw_g (lw_at lw_m3 182 rfl) rfl
theorem q730 : (Jvm.Cond.methodLink "FallsBetween" (271 : Nat) ({ cls := "FallsBetween", name := "heightTold", desc := "(II)I" } : Jvm.MethodName)) ∈ lw_all := lw_g (lw_at lw_m3 183 rfl) rfl
theorem q731 : (Jvm.Cond.privateMethod ({ cls := "FallsBetween", name := "heightTold", desc := "(II)I" } : Jvm.MethodName)) ∈ lw_tbl := lw_at lw_m3 184 rfl
theorem q732 : (Jvm.Cond.instanceMethod ({ cls := "FallsBetween", name := "heightTold", desc := "(II)I" } : Jvm.MethodName)) ∈ lw_all := lw_g (lw_at lw_m3 185 rfl) rfl
theorem q733 : (Jvm.Cond.code ({ cls := "FallsBetween", name := "heightTold", desc := "(II)I" } : Jvm.MethodName) prog_1_method_35_code (4 : Nat) (Option.some Jvm.ClassFile.FieldType.int)) ∈ lw_all := lw_g (lw_at lw_m3 186 rfl) rfl
theorem q734 : (Jvm.Cond.constantLong "FallsBetween" (252 : Nat) (9 : Int64)) ∈ lw_all := lw_g (lw_at lw_m3 187 rfl) rfl
theorem q735 : (Jvm.Cond.methodLink "FallsBetween" (274 : Nat) ({ cls := "FallsBetween", name := "netTold", desc := "(I)I" } : Jvm.MethodName)) ∈ lw_all := lw_g (lw_at lw_m3 188 rfl) rfl
theorem q736 : (Jvm.Cond.privateMethod ({ cls := "FallsBetween", name := "netTold", desc := "(I)I" } : Jvm.MethodName)) ∈ lw_tbl := lw_at lw_m3 189 rfl
theorem q737 : (Jvm.Cond.instanceMethod ({ cls := "FallsBetween", name := "netTold", desc := "(I)I" } : Jvm.MethodName)) ∈ lw_all := lw_g (lw_at lw_m3 190 rfl) rfl
theorem q738 : (Jvm.Cond.code ({ cls := "FallsBetween", name := "netTold", desc := "(I)I" } : Jvm.MethodName) prog_1_method_36_code (2 : Nat) (Option.some Jvm.ClassFile.FieldType.int)) ∈ lw_all := lw_g (lw_at lw_m3 191 rfl) rfl
theorem q739 : (Jvm.Cond.methodLink "FallsBetween" (277 : Nat) ({ cls := "FallsBetween", name := "windTold", desc := "(I)I" } : Jvm.MethodName)) ∈ lw_all := lw_g (lw_at lw_m3 192 rfl) rfl
theorem q740 : (Jvm.Cond.privateMethod ({ cls := "FallsBetween", name := "windTold", desc := "(I)I" } : Jvm.MethodName)) ∈ lw_tbl := lw_at lw_m3 193 rfl
theorem q741 : (Jvm.Cond.instanceMethod ({ cls := "FallsBetween", name := "windTold", desc := "(I)I" } : Jvm.MethodName)) ∈ lw_all := lw_g (lw_at lw_m3 194 rfl) rfl
theorem q742 : (Jvm.Cond.code ({ cls := "FallsBetween", name := "windTold", desc := "(I)I" } : Jvm.MethodName) prog_1_method_37_code (3 : Nat) (Option.some Jvm.ClassFile.FieldType.int)) ∈ lw_all := lw_g (lw_at lw_m3 195 rfl) rfl
theorem q743 : (Jvm.Cond.constantLong "FallsBetween" (254 : Nat) (15 : Int64)) ∈ lw_all := lw_g (lw_at lw_m3 196 rfl) rfl
theorem q744 : (Jvm.Cond.methodLink "FallsBetween" (280 : Nat) ({ cls := "FallsBetween", name := "lawTold", desc := "(I)I" } : Jvm.MethodName)) ∈ lw_all := lw_g (lw_at lw_m3 197 rfl) rfl
theorem q745 : (Jvm.Cond.privateMethod ({ cls := "FallsBetween", name := "lawTold", desc := "(I)I" } : Jvm.MethodName)) ∈ lw_tbl := lw_at lw_m3 198 rfl
theorem q746 : (Jvm.Cond.instanceMethod ({ cls := "FallsBetween", name := "lawTold", desc := "(I)I" } : Jvm.MethodName)) ∈ lw_all := lw_g (lw_at lw_m3 199 rfl) rfl
theorem q747 : (Jvm.Cond.code ({ cls := "FallsBetween", name := "lawTold", desc := "(I)I" } : Jvm.MethodName) prog_1_method_38_code (3 : Nat) (Option.some Jvm.ClassFile.FieldType.int)) ∈ lw_all := lw_g (lw_at lw_m3 200 rfl) rfl
theorem q748 : (Jvm.Cond.methodLink "FallsBetween" (134 : Nat) ({ cls := "FallsBetween$Town", name := "removeTree", desc := "(I)V" } : Jvm.MethodName)) ∈ lw_all := lw_g (lw_at lw_m3 201 rfl) rfl
theorem q752 : (Jvm.Cond.methodLink "FallsBetween" (199 : Nat) ({ cls := "FallsBetween", name := "ofFalls", desc := "(IIII)I" } : Jvm.MethodName)) ∈ lw_all := lw_g (lw_at lw_m3 205 rfl) rfl
theorem q753 : (Jvm.Cond.privateMethod ({ cls := "FallsBetween", name := "ofFalls", desc := "(IIII)I" } : Jvm.MethodName)) ∈ lw_tbl := lw_at lw_m3 206 rfl
theorem q754 : (Jvm.Cond.instanceMethod ({ cls := "FallsBetween", name := "ofFalls", desc := "(IIII)I" } : Jvm.MethodName)) ∈ lw_all := lw_g (lw_at lw_m3 207 rfl) rfl
theorem q755 : (Jvm.Cond.code ({ cls := "FallsBetween", name := "ofFalls", desc := "(IIII)I" } : Jvm.MethodName) prog_1_method_42_code (5 : Nat) (Option.some Jvm.ClassFile.FieldType.int)) ∈ lw_all := lw_g (lw_at lw_m3 208 rfl) rfl
theorem q756 : (Jvm.Cond.methodLink "FallsBetween" (123 : Nat) ({ cls := "FallsBetween$Town", name := "find", desc := "()LFallsBetween$Town;" } : Jvm.MethodName)) ∈ lw_all := lw_g (lw_at lw_m3 209 rfl) rfl
theorem q796 : (Jvm.Cond.static ({ cls := "FallsBetween", name := "far", desc := "(III)I" } : Jvm.MethodName)) ∈ lw_all := lw_g (lw_at lw_m4 9 rfl) rfl
theorem q797 : (Jvm.Cond.code ({ cls := "FallsBetween", name := "far", desc := "(III)I" } : Jvm.MethodName) prog_1_method_8_code (5 : Nat) (Option.some Jvm.ClassFile.FieldType.int)) ∈ lw_all := lw_g (lw_at lw_m4 10 rfl) rfl
theorem q798 : (Jvm.Cond.methodLink "FallsBetween" (19 : Nat) ({ cls := "FallsBetween", name := "beside", desc := "(II)I" } : Jvm.MethodName)) ∈ lw_all := lw_g (lw_at lw_m4 11 rfl) rfl
theorem q836 : (Jvm.Cond.methodLink "FallsBetween" (174 : Nat) ({ cls := "FallsBetween$Town", name := "liesIn", desc := "(I)I" } : Jvm.MethodName)) ∈ lw_all := lw_g (lw_at lw_m4 49 rfl) rfl
theorem q840 : (Jvm.Cond.methodLink "FallsBetween" (291 : Nat) ({ cls := "FallsBetween", name := "ofTree", desc := "(II)I" } : Jvm.MethodName)) ∈ lw_all := lw_g (lw_at lw_m4 53 rfl) rfl
theorem q841 : (Jvm.Cond.privateMethod ({ cls := "FallsBetween", name := "ofTree", desc := "(II)I" } : Jvm.MethodName)) ∈ lw_tbl := lw_at lw_m4 54 rfl
theorem q842 : (Jvm.Cond.instanceMethod ({ cls := "FallsBetween", name := "ofTree", desc := "(II)I" } : Jvm.MethodName)) ∈ lw_all := lw_g (lw_at lw_m4 55 rfl) rfl
theorem q843 : (Jvm.Cond.code ({ cls := "FallsBetween", name := "ofTree", desc := "(II)I" } : Jvm.MethodName) prog_1_method_40_code (3 : Nat) (Option.some Jvm.ClassFile.FieldType.int)) ∈ lw_all := lw_g (lw_at lw_m4 56 rfl) rfl
theorem q844 : (Jvm.Cond.methodLink "FallsBetween" (126 : Nat) ({ cls := "FallsBetween$Town", name := "share", desc := "(I)I" } : Jvm.MethodName)) ∈ lw_all := lw_g (lw_at lw_m4 57 rfl) rfl
theorem q850 : (Jvm.Cond.methodLink "FallsBetween" (137 : Nat) ({ cls := "FallsBetween$Town", name := "birds", desc := "()I" } : Jvm.MethodName)) ∈ lw_all := lw_g (lw_at lw_m4 63 rfl) rfl
theorem q854 : (Jvm.Cond.methodLink "FallsBetween" (294 : Nat) ({ cls := "FallsBetween", name := "setAsked", desc := "(III)I" } : Jvm.MethodName)) ∈ lw_all := lw_g (lw_at lw_m4 67 rfl) rfl
theorem q855 : (Jvm.Cond.privateMethod ({ cls := "FallsBetween", name := "setAsked", desc := "(III)I" } : Jvm.MethodName)) ∈ lw_tbl := lw_at lw_m4 68 rfl
theorem q856 : (Jvm.Cond.instanceMethod ({ cls := "FallsBetween", name := "setAsked", desc := "(III)I" } : Jvm.MethodName)) ∈ lw_all := lw_g (lw_at lw_m4 69 rfl) rfl
theorem q857 : (Jvm.Cond.code ({ cls := "FallsBetween", name := "setAsked", desc := "(III)I" } : Jvm.MethodName) prog_1_method_41_code (4 : Nat) (Option.some Jvm.ClassFile.FieldType.int)) ∈ lw_all := lw_g (lw_at lw_m4 70 rfl) rfl
theorem q858 : (Jvm.Cond.constantLong "FallsBetween" (283 : Nat) (20 : Int64)) ∈ lw_all := lw_g (lw_at lw_m4 71 rfl) rfl
theorem q859 : (Jvm.Cond.methodLink "FallsBetween" (285 : Nat) ({ cls := "FallsBetween", name := "mustBeBit", desc := "(I)V" } : Jvm.MethodName)) ∈ lw_all := lw_g (lw_at lw_m4 72 rfl) rfl
theorem q860 : (Jvm.Cond.static ({ cls := "FallsBetween", name := "mustBeBit", desc := "(I)V" } : Jvm.MethodName)) ∈ lw_all := lw_g (lw_at lw_m4 73 rfl) rfl
theorem q861 : (Jvm.Cond.code ({ cls := "FallsBetween", name := "mustBeBit", desc := "(I)V" } : Jvm.MethodName) prog_1_method_30_code (1 : Nat) (Option.none : Option Jvm.ClassFile.FieldType)) ∈ lw_all := lw_g (lw_at lw_m4 74 rfl) rfl
theorem q862 : (Jvm.Cond.methodLink "FallsBetween" (288 : Nat) ({ cls := "FallsBetween", name := "setTold", desc := "(III)I" } : Jvm.MethodName)) ∈ lw_all := lw_g (lw_at lw_m4 75 rfl) rfl
theorem q863 : (Jvm.Cond.privateMethod ({ cls := "FallsBetween", name := "setTold", desc := "(III)I" } : Jvm.MethodName)) ∈ lw_tbl := lw_at lw_m4 76 rfl
theorem q864 : (Jvm.Cond.instanceMethod ({ cls := "FallsBetween", name := "setTold", desc := "(III)I" } : Jvm.MethodName)) ∈ lw_all := lw_g (lw_at lw_m4 77 rfl) rfl
theorem q865 : (Jvm.Cond.code ({ cls := "FallsBetween", name := "setTold", desc := "(III)I" } : Jvm.MethodName) prog_1_method_13_code (9 : Nat) (Option.some Jvm.ClassFile.FieldType.int)) ∈ lw_all := lw_g (lw_at lw_m4 78 rfl) rfl
theorem q866 : (Jvm.Cond.methodLink "FallsBetween" (112 : Nat) ({ cls := "FallsBetween", name := "openMind", desc := "()LFallsBetween$Town;" } : Jvm.MethodName)) ∈ lw_all := lw_g (lw_at lw_m4 79 rfl) rfl
theorem q867 : (Jvm.Cond.privateMethod ({ cls := "FallsBetween", name := "openMind", desc := "()LFallsBetween$Town;" } : Jvm.MethodName)) ∈ lw_tbl := lw_at lw_m4 80 rfl
theorem q868 : (Jvm.Cond.instanceMethod ({ cls := "FallsBetween", name := "openMind", desc := "()LFallsBetween$Town;" } : Jvm.MethodName)) ∈ lw_all := lw_g (lw_at lw_m4 81 rfl) rfl
theorem q869 : (Jvm.Cond.code ({ cls := "FallsBetween", name := "openMind", desc := "()LFallsBetween$Town;" } : Jvm.MethodName) prog_1_method_12_code (1 : Nat) (Option.some (Jvm.ClassFile.FieldType.object "FallsBetween$Town"))) ∈ lw_all := lw_g (lw_at lw_m4 82 rfl) rfl
theorem q870 : (Jvm.Cond.methodLink "FallsBetween" (129 : Nat) ({ cls := "java/lang/Math", name := "max", desc := "(II)I" } : Jvm.MethodName)) ∈ lw_all := lw_g (lw_at lw_m4 83 rfl) rfl
theorem q873 : (Jvm.Cond.methodLink "FallsBetween" (297 : Nat) ({ cls := "FallsBetween", name := "worthOf", desc := "(II)I" } : Jvm.MethodName)) ∈ lw_all := lw_g (lw_at lw_m4 86 rfl) rfl
theorem q874 : (Jvm.Cond.privateMethod ({ cls := "FallsBetween", name := "worthOf", desc := "(II)I" } : Jvm.MethodName)) ∈ lw_tbl := lw_at lw_m4 87 rfl
theorem q875 : (Jvm.Cond.instanceMethod ({ cls := "FallsBetween", name := "worthOf", desc := "(II)I" } : Jvm.MethodName)) ∈ lw_all := lw_g (lw_at lw_m4 88 rfl) rfl
theorem q876 : (Jvm.Cond.code ({ cls := "FallsBetween", name := "worthOf", desc := "(II)I" } : Jvm.MethodName) prog_1_method_14_code (5 : Nat) (Option.some Jvm.ClassFile.FieldType.int)) ∈ lw_all := lw_g (lw_at lw_m4 89 rfl) rfl
theorem q877 : (Jvm.Cond.methodLink "FallsBetween" (203 : Nat) ({ cls := "FallsBetween", name := "ofRest", desc := "(IIII)I" } : Jvm.MethodName)) ∈ lw_all := lw_g (lw_at lw_m4 90 rfl) rfl
theorem q878 : (Jvm.Cond.privateMethod ({ cls := "FallsBetween", name := "ofRest", desc := "(IIII)I" } : Jvm.MethodName)) ∈ lw_tbl := lw_at lw_m4 91 rfl
theorem q879 : (Jvm.Cond.instanceMethod ({ cls := "FallsBetween", name := "ofRest", desc := "(IIII)I" } : Jvm.MethodName)) ∈ lw_all := lw_g (lw_at lw_m4 92 rfl) rfl
theorem q880 : (Jvm.Cond.code ({ cls := "FallsBetween", name := "ofRest", desc := "(IIII)I" } : Jvm.MethodName) prog_1_method_47_code (5 : Nat) (Option.some Jvm.ClassFile.FieldType.int)) ∈ lw_all := lw_g (lw_at lw_m4 93 rfl) rfl
theorem q881 : (Jvm.Cond.methodLink "FallsBetween" (312 : Nat) ({ cls := "FallsBetween", name := "bestGift", desc := "()I" } : Jvm.MethodName)) ∈ lw_all := lw_g (lw_at lw_m4 94 rfl) rfl
theorem q882 : (Jvm.Cond.privateMethod ({ cls := "FallsBetween", name := "bestGift", desc := "()I" } : Jvm.MethodName)) ∈ lw_tbl := lw_at lw_m4 95 rfl
theorem q883 : (Jvm.Cond.instanceMethod ({ cls := "FallsBetween", name := "bestGift", desc := "()I" } : Jvm.MethodName)) ∈ lw_all := lw_g (lw_at lw_m4 96 rfl) rfl
theorem q884 : (Jvm.Cond.code ({ cls := "FallsBetween", name := "bestGift", desc := "()I" } : Jvm.MethodName) prog_1_method_15_code (8 : Nat) (Option.some Jvm.ClassFile.FieldType.int)) ∈ lw_all := lw_g (lw_at lw_m4 97 rfl) rfl
theorem q885 : (Jvm.Cond.methodLink "FallsBetween" (144 : Nat) ({ cls := "java/lang/Math", name := "min", desc := "(II)I" } : Jvm.MethodName)) ∈ lw_all := lw_g (lw_at lw_m4 98 rfl) rfl
theorem q888 : (Jvm.Cond.methodLink "FallsBetween" (315 : Nat) ({ cls := "FallsBetween", name := "cleanest", desc := "()I" } : Jvm.MethodName)) ∈ lw_all := lw_g (lw_at lw_m4 101 rfl) rfl
theorem q889 : (Jvm.Cond.privateMethod ({ cls := "FallsBetween", name := "cleanest", desc := "()I" } : Jvm.MethodName)) ∈ lw_tbl := lw_at lw_m4 102 rfl
theorem q890 : (Jvm.Cond.instanceMethod ({ cls := "FallsBetween", name := "cleanest", desc := "()I" } : Jvm.MethodName)) ∈ lw_all := lw_g (lw_at lw_m4 103 rfl) rfl
theorem q891 : (Jvm.Cond.code ({ cls := "FallsBetween", name := "cleanest", desc := "()I" } : Jvm.MethodName) prog_1_method_16_code (6 : Nat) (Option.some Jvm.ClassFile.FieldType.int)) ∈ lw_all := lw_g (lw_at lw_m4 104 rfl) rfl
theorem q892 : (Jvm.Cond.methodLink "FallsBetween" (318 : Nat) ({ cls := "FallsBetween", name := "bestLine", desc := "(Z)I" } : Jvm.MethodName)) ∈ lw_all := lw_g (lw_at lw_m4 105 rfl) rfl
theorem q893 : (Jvm.Cond.privateMethod ({ cls := "FallsBetween", name := "bestLine", desc := "(Z)I" } : Jvm.MethodName)) ∈ lw_tbl := lw_at lw_m4 106 rfl
theorem q894 : (Jvm.Cond.instanceMethod ({ cls := "FallsBetween", name := "bestLine", desc := "(Z)I" } : Jvm.MethodName)) ∈ lw_all := lw_g (lw_at lw_m4 107 rfl) rfl
theorem q895 : (Jvm.Cond.code ({ cls := "FallsBetween", name := "bestLine", desc := "(Z)I" } : Jvm.MethodName) prog_1_method_17_code (7 : Nat) (Option.some Jvm.ClassFile.FieldType.int)) ∈ lw_all := lw_g (lw_at lw_m4 108 rfl) rfl
theorem q896 : (Jvm.Cond.methodLink "FallsBetween" (157 : Nat) ({ cls := "FallsBetween$Town", name := "draw", desc := "(I)V" } : Jvm.MethodName)) ∈ lw_all := lw_g (lw_at lw_m4 109 rfl) rfl
theorem q900 : (Jvm.Cond.methodLink "FallsBetween" (160 : Nat) ({ cls := "java/lang/Math", name := "abs", desc := "(I)I" } : Jvm.MethodName)) ∈ lw_all := lw_g (lw_at lw_m4 113 rfl) rfl
theorem q903 : (Jvm.Cond.methodLink "FallsBetween" (322 : Nat) ({ cls := "FallsBetween", name := "windsAsked", desc := "(II)I" } : Jvm.MethodName)) ∈ lw_all := lw_g (lw_at lw_m4 116 rfl) rfl
theorem q904 : (Jvm.Cond.privateMethod ({ cls := "FallsBetween", name := "windsAsked", desc := "(II)I" } : Jvm.MethodName)) ∈ lw_tbl := lw_at lw_m4 117 rfl
theorem q905 : (Jvm.Cond.instanceMethod ({ cls := "FallsBetween", name := "windsAsked", desc := "(II)I" } : Jvm.MethodName)) ∈ lw_all := lw_g (lw_at lw_m4 118 rfl) rfl
theorem q906 : (Jvm.Cond.code ({ cls := "FallsBetween", name := "windsAsked", desc := "(II)I" } : Jvm.MethodName) prog_1_method_43_code (3 : Nat) (Option.some Jvm.ClassFile.FieldType.int)) ∈ lw_all := lw_g (lw_at lw_m4 119 rfl) rfl
theorem q907 : (Jvm.Cond.methodLink "FallsBetween" (300 : Nat) ({ cls := "FallsBetween", name := "windsTold", desc := "(II)I" } : Jvm.MethodName)) ∈ lw_all := lw_g (lw_at lw_m4 120 rfl) rfl
theorem q908 : (Jvm.Cond.privateMethod ({ cls := "FallsBetween", name := "windsTold", desc := "(II)I" } : Jvm.MethodName)) ∈ lw_tbl := lw_at lw_m4 121 rfl
theorem q909 : (Jvm.Cond.instanceMethod ({ cls := "FallsBetween", name := "windsTold", desc := "(II)I" } : Jvm.MethodName)) ∈ lw_all := lw_g (lw_at lw_m4 122 rfl) rfl
theorem q910 : (Jvm.Cond.code ({ cls := "FallsBetween", name := "windsTold", desc := "(II)I" } : Jvm.MethodName) prog_1_method_18_code (9 : Nat) (Option.some Jvm.ClassFile.FieldType.int)) ∈ lw_all := lw_g (lw_at lw_m4 123 rfl) rfl
theorem q911 : (Jvm.Cond.methodLink "FallsBetween" (325 : Nat) ({ cls := "FallsBetween", name := "bestNet", desc := "(I)I" } : Jvm.MethodName)) ∈ lw_all := lw_g (lw_at lw_m4 124 rfl) rfl
theorem q912 : (Jvm.Cond.privateMethod ({ cls := "FallsBetween", name := "bestNet", desc := "(I)I" } : Jvm.MethodName)) ∈ lw_tbl := lw_at lw_m4 125 rfl
theorem q913 : (Jvm.Cond.instanceMethod ({ cls := "FallsBetween", name := "bestNet", desc := "(I)I" } : Jvm.MethodName)) ∈ lw_all := lw_g (lw_at lw_m4 126 rfl) rfl
theorem q914 : (Jvm.Cond.code ({ cls := "FallsBetween", name := "bestNet", desc := "(I)I" } : Jvm.MethodName) prog_1_method_19_code (7 : Nat) (Option.some Jvm.ClassFile.FieldType.int)) ∈ lw_all := lw_g (lw_at lw_m4 127 rfl) rfl
theorem q915 : (Jvm.Cond.methodLink "FallsBetween" (328 : Nat) ({ cls := "FallsBetween", name := "cameBits", desc := "(I)I" } : Jvm.MethodName)) ∈ lw_all := lw_g (lw_at lw_m4 128 rfl) rfl
theorem q916 : (Jvm.Cond.privateMethod ({ cls := "FallsBetween", name := "cameBits", desc := "(I)I" } : Jvm.MethodName)) ∈ lw_tbl := lw_at lw_m4 129 rfl
theorem q917 : (Jvm.Cond.instanceMethod ({ cls := "FallsBetween", name := "cameBits", desc := "(I)I" } : Jvm.MethodName)) ∈ lw_all := lw_g (lw_at lw_m4 130 rfl) rfl
theorem q918 : (Jvm.Cond.code ({ cls := "FallsBetween", name := "cameBits", desc := "(I)I" } : Jvm.MethodName) prog_1_method_20_code (4 : Nat) (Option.some Jvm.ClassFile.FieldType.int)) ∈ lw_all := lw_g (lw_at lw_m4 131 rfl) rfl
theorem q919 : (Jvm.Cond.methodLink "FallsBetween" (331 : Nat) ({ cls := "FallsBetween", name := "likelyAsked", desc := "(III)I" } : Jvm.MethodName)) ∈ lw_all := lw_g (lw_at lw_m4 132 rfl) rfl
theorem q920 : (Jvm.Cond.privateMethod ({ cls := "FallsBetween", name := "likelyAsked", desc := "(III)I" } : Jvm.MethodName)) ∈ lw_tbl := lw_at lw_m4 133 rfl
theorem q921 : (Jvm.Cond.instanceMethod ({ cls := "FallsBetween", name := "likelyAsked", desc := "(III)I" } : Jvm.MethodName)) ∈ lw_all := lw_g (lw_at lw_m4 134 rfl) rfl
theorem q922 : (Jvm.Cond.code ({ cls := "FallsBetween", name := "likelyAsked", desc := "(III)I" } : Jvm.MethodName) prog_1_method_44_code (4 : Nat) (Option.some Jvm.ClassFile.FieldType.int)) ∈ lw_all := lw_g (lw_at lw_m4 135 rfl) rfl
theorem q923 : (Jvm.Cond.methodLink "FallsBetween" (303 : Nat) ({ cls := "FallsBetween", name := "likelyTold", desc := "(III)I" } : Jvm.MethodName)) ∈ lw_all := lw_g (lw_at lw_m4 136 rfl) rfl
theorem q924 : (Jvm.Cond.privateMethod ({ cls := "FallsBetween", name := "likelyTold", desc := "(III)I" } : Jvm.MethodName)) ∈ lw_tbl := lw_at lw_m4 137 rfl
theorem q925 : (Jvm.Cond.instanceMethod ({ cls := "FallsBetween", name := "likelyTold", desc := "(III)I" } : Jvm.MethodName)) ∈ lw_all := lw_g (lw_at lw_m4 138 rfl) rfl
theorem q926 : (Jvm.Cond.code ({ cls := "FallsBetween", name := "likelyTold", desc := "(III)I" } : Jvm.MethodName) prog_1_method_21_code (7 : Nat) (Option.some Jvm.ClassFile.FieldType.int)) ∈ lw_all := lw_g (lw_at lw_m4 139 rfl) rfl
theorem q927 : (Jvm.Cond.methodLink "FallsBetween" (180 : Nat) ({ cls := "FallsBetween", name := "divisor", desc := "(II)I" } : Jvm.MethodName)) ∈ lw_all := lw_g (lw_at lw_m4 140 rfl) rfl
theorem q928 : (Jvm.Cond.static ({ cls := "FallsBetween", name := "divisor", desc := "(II)I" } : Jvm.MethodName)) ∈ lw_all := lw_g (lw_at lw_m4 141 rfl) rfl
theorem q929 : (Jvm.Cond.code ({ cls := "FallsBetween", name := "divisor", desc := "(II)I" } : Jvm.MethodName) prog_1_method_6_code (5 : Nat) (Option.some Jvm.ClassFile.FieldType.int)) ∈ lw_all := lw_g (lw_at lw_m4 142 rfl) rfl
theorem q930 : (Jvm.Cond.methodLink "FallsBetween" (334 : Nat) ({ cls := "FallsBetween", name := "pitIt", desc := "(I)I" } : Jvm.MethodName)) ∈ lw_all := lw_g (lw_at lw_m4 143 rfl) rfl
theorem q931 : (Jvm.Cond.privateMethod ({ cls := "FallsBetween", name := "pitIt", desc := "(I)I" } : Jvm.MethodName)) ∈ lw_tbl := lw_at lw_m4 144 rfl
theorem q932 : (Jvm.Cond.instanceMethod ({ cls := "FallsBetween", name := "pitIt", desc := "(I)I" } : Jvm.MethodName)) ∈ lw_all := lw_g (lw_at lw_m4 145 rfl) rfl
theorem q933 : (Jvm.Cond.code ({ cls := "FallsBetween", name := "pitIt", desc := "(I)I" } : Jvm.MethodName) prog_1_method_45_code (2 : Nat) (Option.some Jvm.ClassFile.FieldType.int)) ∈ lw_all := lw_g (lw_at lw_m4 146 rfl) rfl
theorem q934 : (Jvm.Cond.methodLink "FallsBetween" (337 : Nat) ({ cls := "FallsBetween", name := "fittingTold", desc := "(I)I" } : Jvm.MethodName)) ∈ lw_all := lw_g (lw_at lw_m4 147 rfl) rfl
theorem q935 : (Jvm.Cond.privateMethod ({ cls := "FallsBetween", name := "fittingTold", desc := "(I)I" } : Jvm.MethodName)) ∈ lw_tbl := lw_at lw_m4 148 rfl
theorem q936 : (Jvm.Cond.instanceMethod ({ cls := "FallsBetween", name := "fittingTold", desc := "(I)I" } : Jvm.MethodName)) ∈ lw_all := lw_g (lw_at lw_m4 149 rfl) rfl
theorem q937 : (Jvm.Cond.code ({ cls := "FallsBetween", name := "fittingTold", desc := "(I)I" } : Jvm.MethodName) prog_1_method_46_code (3 : Nat) (Option.some Jvm.ClassFile.FieldType.int)) ∈ lw_all := lw_g (lw_at lw_m4 150 rfl) rfl
theorem q938 : (Jvm.Cond.methodLink "FallsBetween" (306 : Nat) ({ cls := "FallsBetween", name := "fittingWinds", desc := "()I" } : Jvm.MethodName)) ∈ lw_all := lw_g (lw_at lw_m4 151 rfl) rfl
theorem q939 : (Jvm.Cond.privateMethod ({ cls := "FallsBetween", name := "fittingWinds", desc := "()I" } : Jvm.MethodName)) ∈ lw_tbl := lw_at lw_m4 152 rfl
theorem q940 : (Jvm.Cond.instanceMethod ({ cls := "FallsBetween", name := "fittingWinds", desc := "()I" } : Jvm.MethodName)) ∈ lw_all := lw_g (lw_at lw_m4 153 rfl) rfl
theorem q941 : (Jvm.Cond.code ({ cls := "FallsBetween", name := "fittingWinds", desc := "()I" } : Jvm.MethodName) prog_1_method_22_code (6 : Nat) (Option.some Jvm.ClassFile.FieldType.int)) ∈ lw_all := lw_g (lw_at lw_m4 154 rfl) rfl
theorem q942 : (Jvm.Cond.methodLink "FallsBetween" (309 : Nat) ({ cls := "FallsBetween", name := "ones", desc := "(I)I" } : Jvm.MethodName)) ∈ lw_all := lw_g (lw_at lw_m4 155 rfl) rfl
theorem q943 : (Jvm.Cond.static ({ cls := "FallsBetween", name := "ones", desc := "(I)I" } : Jvm.MethodName)) ∈ lw_all := lw_g (lw_at lw_m4 156 rfl) rfl
theorem q944 : (Jvm.Cond.code ({ cls := "FallsBetween", name := "ones", desc := "(I)I" } : Jvm.MethodName) prog_1_method_5_code (3 : Nat) (Option.some Jvm.ClassFile.FieldType.int)) ∈ lw_all := lw_g (lw_at lw_m4 157 rfl) rfl
theorem q945 : (Jvm.Cond.methodLink "FallsBetween" (340 : Nat) ({ cls := "FallsBetween", name := "ofLast", desc := "(IIII)I" } : Jvm.MethodName)) ∈ lw_all := lw_g (lw_at lw_m4 158 rfl) rfl
theorem q946 : (Jvm.Cond.privateMethod ({ cls := "FallsBetween", name := "ofLast", desc := "(IIII)I" } : Jvm.MethodName)) ∈ lw_tbl := lw_at lw_m4 159 rfl
theorem q947 : (Jvm.Cond.instanceMethod ({ cls := "FallsBetween", name := "ofLast", desc := "(IIII)I" } : Jvm.MethodName)) ∈ lw_all := lw_g (lw_at lw_m4 160 rfl) rfl
theorem q948 : (Jvm.Cond.code ({ cls := "FallsBetween", name := "ofLast", desc := "(IIII)I" } : Jvm.MethodName) prog_1_method_48_code (5 : Nat) (Option.some Jvm.ClassFile.FieldType.int)) ∈ lw_all := lw_g (lw_at lw_m4 161 rfl) rfl
theorem q949 : (Jvm.Cond.constantLong "FallsBetween" (343 : Nat) (99 : Int64)) ∈ lw_all := lw_g (lw_at lw_m4 162 rfl) rfl
theorem q950 : (Jvm.Cond.methodLink "FallsBetween" (345 : Nat) ({ cls := "FallsBetween", name := "judgeRow", desc := "(I)I" } : Jvm.MethodName)) ∈ lw_all := lw_g (lw_at lw_m4 163 rfl) rfl
theorem q951 : (Jvm.Cond.privateMethod ({ cls := "FallsBetween", name := "judgeRow", desc := "(I)I" } : Jvm.MethodName)) ∈ lw_tbl := lw_at lw_m4 164 rfl
theorem q952 : (Jvm.Cond.instanceMethod ({ cls := "FallsBetween", name := "judgeRow", desc := "(I)I" } : Jvm.MethodName)) ∈ lw_all := lw_g (lw_at lw_m4 165 rfl) rfl
theorem q953 : (Jvm.Cond.code ({ cls := "FallsBetween", name := "judgeRow", desc := "(I)I" } : Jvm.MethodName) prog_1_method_24_code (6 : Nat) (Option.some Jvm.ClassFile.FieldType.int)) ∈ lw_all := lw_g (lw_at lw_m4 166 rfl) rfl
theorem q954 : (Jvm.Cond.constantLong "FallsBetween" (348 : Nat) (30 : Int64)) ∈ lw_all := lw_g (lw_at lw_m4 167 rfl) rfl
theorem q955 : (Jvm.Cond.methodLink "FallsBetween" (350 : Nat) ({ cls := "FallsBetween", name := "bySeeds", desc := "(III)I" } : Jvm.MethodName)) ∈ lw_all := lw_g (lw_at lw_m4 168 rfl) rfl
theorem q956 : (Jvm.Cond.privateMethod ({ cls := "FallsBetween", name := "bySeeds", desc := "(III)I" } : Jvm.MethodName)) ∈ lw_tbl := lw_at lw_m4 169 rfl
theorem q957 : (Jvm.Cond.instanceMethod ({ cls := "FallsBetween", name := "bySeeds", desc := "(III)I" } : Jvm.MethodName)) ∈ lw_all := lw_g (lw_at lw_m4 170 rfl) rfl
theorem q958 : (Jvm.Cond.code ({ cls := "FallsBetween", name := "bySeeds", desc := "(III)I" } : Jvm.MethodName) prog_1_method_23_code (8 : Nat) (Option.some Jvm.ClassFile.FieldType.int)) ∈ lw_all := lw_g (lw_at lw_m4 171 rfl) rfl
theorem q959 : (Jvm.Cond.constant "FallsBetween" (189 : Nat) (1664525 : Int32)) ∈ lw_all := lw_g (lw_at lw_m4 172 rfl) rfl
theorem q960 : (Jvm.Cond.constant "FallsBetween" (190 : Nat) (1013904223 : Int32)) ∈ lw_all := lw_g (lw_at lw_m4 173 rfl) rfl
theorem q961 : (Jvm.Cond.constant "FallsBetween" (191 : Nat) (2147483647 : Int32)) ∈ lw_all := lw_g (lw_at lw_m4 174 rfl) rfl
theorem q962 : (Jvm.Cond.methodLink "FallsBetween" (208 : Nat) ({ cls := "FallsBetween$Refusal", name := "number", desc := "()I" } : Jvm.MethodName)) ∈ lw_all := lw_g (lw_at lw_m4 175 rfl) rfl
theorem q971 : (Jvm.Cond.methodLink "FallsBetween" (211 : Nat) ({ cls := "FallsBetween", name := "refuse", desc := "(I)I" } : Jvm.MethodName)) ∈ lw_all := lw_g (lw_at lw_m4 184 rfl) rfl
theorem q972 : (Jvm.Cond.privateMethod ({ cls := "FallsBetween", name := "refuse", desc := "(I)I" } : Jvm.MethodName)) ∈ lw_tbl := lw_at lw_m4 185 rfl
theorem q973 : (Jvm.Cond.instanceMethod ({ cls := "FallsBetween", name := "refuse", desc := "(I)I" } : Jvm.MethodName)) ∈ lw_all := lw_g (lw_at lw_m4 186 rfl) rfl
theorem q974 : (Jvm.Cond.code ({ cls := "FallsBetween", name := "refuse", desc := "(I)I" } : Jvm.MethodName) prog_1_method_25_code (2 : Nat) (Option.some Jvm.ClassFile.FieldType.int)) ∈ lw_all := lw_g (lw_at lw_m4 187 rfl) rfl
theorem q976 : (Jvm.Cond.instanceMethod ({ cls := "FallsBetween", name := "town", desc := "()I" } : Jvm.MethodName)) ∈ lw_all := lw_g (lw_at lw_m4 189 rfl) rfl
theorem q977 : (Jvm.Cond.selects "FallsBetween" ({ cls := "FallsBetween", name := "town", desc := "()I" } : Jvm.MethodName) ({ cls := "FallsBetween", name := "town", desc := "()I" } : Jvm.MethodName)) ∈ lw_all := lw_g (lw_at lw_m4 190 rfl) rfl
theorem q978 : (Jvm.Cond.code ({ cls := "FallsBetween", name := "town", desc := "()I" } : Jvm.MethodName) prog_1_method_52_code (1 : Nat) (Option.some Jvm.ClassFile.FieldType.int)) ∈ lw_all := lw_g (lw_at lw_m4 191 rfl) rfl
theorem q980 : (Jvm.Cond.instanceMethod ({ cls := "FallsBetween", name := "square", desc := "(II)I" } : Jvm.MethodName)) ∈ lw_all := lw_g (lw_at lw_m4 193 rfl) rfl
theorem q981 : (Jvm.Cond.selects "FallsBetween" ({ cls := "FallsBetween", name := "square", desc := "(II)I" } : Jvm.MethodName) ({ cls := "FallsBetween", name := "square", desc := "(II)I" } : Jvm.MethodName)) ∈ lw_all := lw_g (lw_at lw_m4 194 rfl) rfl
theorem q982 : (Jvm.Cond.code ({ cls := "FallsBetween", name := "square", desc := "(II)I" } : Jvm.MethodName) prog_1_method_53_code (3 : Nat) (Option.some Jvm.ClassFile.FieldType.int)) ∈ lw_all := lw_g (lw_at lw_m4 195 rfl) rfl
theorem q984 : (Jvm.Cond.instanceMethod ({ cls := "FallsBetween", name := "tree", desc := "(II)I" } : Jvm.MethodName)) ∈ lw_all := lw_g (lw_at lw_m4 197 rfl) rfl
theorem q985 : (Jvm.Cond.selects "FallsBetween" ({ cls := "FallsBetween", name := "tree", desc := "(II)I" } : Jvm.MethodName) ({ cls := "FallsBetween", name := "tree", desc := "(II)I" } : Jvm.MethodName)) ∈ lw_all := lw_g (lw_at lw_m4 198 rfl) rfl
theorem q986 : (Jvm.Cond.code ({ cls := "FallsBetween", name := "tree", desc := "(II)I" } : Jvm.MethodName) prog_1_method_54_code (3 : Nat) (Option.some Jvm.ClassFile.FieldType.int)) ∈ lw_all := lw_g (lw_at lw_m4 199 rfl) rfl
theorem q988 : (Jvm.Cond.instanceMethod ({ cls := "FallsBetween", name := "garden", desc := "(II)I" } : Jvm.MethodName)) ∈ lw_all := lw_g (lw_at lw_m4 201 rfl) rfl
theorem q989 : (Jvm.Cond.selects "FallsBetween" ({ cls := "FallsBetween", name := "garden", desc := "(II)I" } : Jvm.MethodName) ({ cls := "FallsBetween", name := "garden", desc := "(II)I" } : Jvm.MethodName)) ∈ lw_all := lw_g (lw_at lw_m4 202 rfl) rfl
theorem q990 : (Jvm.Cond.code ({ cls := "FallsBetween", name := "garden", desc := "(II)I" } : Jvm.MethodName) prog_1_method_55_code (3 : Nat) (Option.some Jvm.ClassFile.FieldType.int)) ∈ lw_all := lw_g (lw_at lw_m4 203 rfl) rfl
theorem q992 : (Jvm.Cond.instanceMethod ({ cls := "FallsBetween", name := "height", desc := "(II)I" } : Jvm.MethodName)) ∈ lw_all := lw_g (lw_at lw_m4 205 rfl) rfl
theorem q993 : (Jvm.Cond.selects "FallsBetween" ({ cls := "FallsBetween", name := "height", desc := "(II)I" } : Jvm.MethodName) ({ cls := "FallsBetween", name := "height", desc := "(II)I" } : Jvm.MethodName)) ∈ lw_all := lw_g (lw_at lw_m4 206 rfl) rfl
theorem q994 : (Jvm.Cond.code ({ cls := "FallsBetween", name := "height", desc := "(II)I" } : Jvm.MethodName) prog_1_method_56_code (3 : Nat) (Option.some Jvm.ClassFile.FieldType.int)) ∈ lw_all := lw_g (lw_at lw_m4 207 rfl) rfl
theorem q996 : (Jvm.Cond.instanceMethod ({ cls := "FallsBetween", name := "net", desc := "(I)I" } : Jvm.MethodName)) ∈ lw_all := lw_g (lw_at lw_m4 209 rfl) rfl
theorem q997 : (Jvm.Cond.selects "FallsBetween" ({ cls := "FallsBetween", name := "net", desc := "(I)I" } : Jvm.MethodName) ({ cls := "FallsBetween", name := "net", desc := "(I)I" } : Jvm.MethodName)) ∈ lw_all := lw_g (lw_at lw_m4 210 rfl) rfl
theorem q998 : (Jvm.Cond.code ({ cls := "FallsBetween", name := "net", desc := "(I)I" } : Jvm.MethodName) prog_1_method_57_code (2 : Nat) (Option.some Jvm.ClassFile.FieldType.int)) ∈ lw_all := lw_g (lw_at lw_m4 211 rfl) rfl
theorem q1000 : (Jvm.Cond.instanceMethod ({ cls := "FallsBetween", name := "wind", desc := "(I)I" } : Jvm.MethodName)) ∈ lw_all := lw_g (lw_at lw_m4 213 rfl) rfl
theorem q1001 : (Jvm.Cond.selects "FallsBetween" ({ cls := "FallsBetween", name := "wind", desc := "(I)I" } : Jvm.MethodName) ({ cls := "FallsBetween", name := "wind", desc := "(I)I" } : Jvm.MethodName)) ∈ lw_all := lw_g (lw_at lw_m4 214 rfl) rfl
theorem q1002 : (Jvm.Cond.code ({ cls := "FallsBetween", name := "wind", desc := "(I)I" } : Jvm.MethodName) prog_1_method_58_code (2 : Nat) (Option.some Jvm.ClassFile.FieldType.int)) ∈ lw_all := lw_g (lw_at lw_m4 215 rfl) rfl
theorem q1004 : (Jvm.Cond.instanceMethod ({ cls := "FallsBetween", name := "law", desc := "(I)I" } : Jvm.MethodName)) ∈ lw_all := lw_g (lw_at lw_m4 217 rfl) rfl
theorem q1005 : (Jvm.Cond.selects "FallsBetween" ({ cls := "FallsBetween", name := "law", desc := "(I)I" } : Jvm.MethodName) ({ cls := "FallsBetween", name := "law", desc := "(I)I" } : Jvm.MethodName)) ∈ lw_all := lw_g (lw_at lw_m4 218 rfl) rfl
theorem q1006 : (Jvm.Cond.code ({ cls := "FallsBetween", name := "law", desc := "(I)I" } : Jvm.MethodName) prog_1_method_59_code (2 : Nat) (Option.some Jvm.ClassFile.FieldType.int)) ∈ lw_all := lw_g (lw_at lw_m4 219 rfl) rfl
theorem q1008 : (Jvm.Cond.instanceMethod ({ cls := "FallsBetween", name := "fell", desc := "(I)I" } : Jvm.MethodName)) ∈ lw_all := lw_g (lw_at lw_m4 221 rfl) rfl
theorem q1009 : (Jvm.Cond.selects "FallsBetween" ({ cls := "FallsBetween", name := "fell", desc := "(I)I" } : Jvm.MethodName) ({ cls := "FallsBetween", name := "fell", desc := "(I)I" } : Jvm.MethodName)) ∈ lw_all := lw_g (lw_at lw_m4 222 rfl) rfl
theorem q1010 : (Jvm.Cond.code ({ cls := "FallsBetween", name := "fell", desc := "(I)I" } : Jvm.MethodName) prog_1_method_60_code (2 : Nat) (Option.some Jvm.ClassFile.FieldType.int)) ∈ lw_all := lw_g (lw_at lw_m4 223 rfl) rfl
theorem q1012 : (Jvm.Cond.instanceMethod ({ cls := "FallsBetween", name := "lies", desc := "(I)I" } : Jvm.MethodName)) ∈ lw_all := lw_g (lw_at lw_m4 225 rfl) rfl
theorem q1013 : (Jvm.Cond.selects "FallsBetween" ({ cls := "FallsBetween", name := "lies", desc := "(I)I" } : Jvm.MethodName) ({ cls := "FallsBetween", name := "lies", desc := "(I)I" } : Jvm.MethodName)) ∈ lw_all := lw_g (lw_at lw_m4 226 rfl) rfl
theorem q1014 : (Jvm.Cond.code ({ cls := "FallsBetween", name := "lies", desc := "(I)I" } : Jvm.MethodName) prog_1_method_61_code (2 : Nat) (Option.some Jvm.ClassFile.FieldType.int)) ∈ lw_all := lw_g (lw_at lw_m4 227 rfl) rfl
theorem q1016 : (Jvm.Cond.instanceMethod ({ cls := "FallsBetween", name := "of", desc := "(II)I" } : Jvm.MethodName)) ∈ lw_all := lw_g (lw_at lw_m4 229 rfl) rfl
theorem q1017 : (Jvm.Cond.selects "FallsBetween" ({ cls := "FallsBetween", name := "of", desc := "(II)I" } : Jvm.MethodName) ({ cls := "FallsBetween", name := "of", desc := "(II)I" } : Jvm.MethodName)) ∈ lw_all := lw_g (lw_at lw_m4 230 rfl) rfl
theorem q1018 : (Jvm.Cond.code ({ cls := "FallsBetween", name := "of", desc := "(II)I" } : Jvm.MethodName) prog_1_method_62_code (3 : Nat) (Option.some Jvm.ClassFile.FieldType.int)) ∈ lw_all := lw_g (lw_at lw_m4 231 rfl) rfl
theorem q1020 : (Jvm.Cond.instanceMethod ({ cls := "FallsBetween", name := "share", desc := "(I)I" } : Jvm.MethodName)) ∈ lw_all := lw_g (lw_at lw_m4 233 rfl) rfl
theorem q1021 : (Jvm.Cond.selects "FallsBetween" ({ cls := "FallsBetween", name := "share", desc := "(I)I" } : Jvm.MethodName) ({ cls := "FallsBetween", name := "share", desc := "(I)I" } : Jvm.MethodName)) ∈ lw_all := lw_g (lw_at lw_m4 234 rfl) rfl
theorem q1022 : (Jvm.Cond.code ({ cls := "FallsBetween", name := "share", desc := "(I)I" } : Jvm.MethodName) prog_1_method_63_code (2 : Nat) (Option.some Jvm.ClassFile.FieldType.int)) ∈ lw_all := lw_g (lw_at lw_m4 235 rfl) rfl
theorem q1024 : (Jvm.Cond.instanceMethod ({ cls := "FallsBetween", name := "birds", desc := "()I" } : Jvm.MethodName)) ∈ lw_all := lw_g (lw_at lw_m4 237 rfl) rfl
theorem q1025 : (Jvm.Cond.selects "FallsBetween" ({ cls := "FallsBetween", name := "birds", desc := "()I" } : Jvm.MethodName) ({ cls := "FallsBetween", name := "birds", desc := "()I" } : Jvm.MethodName)) ∈ lw_all := lw_g (lw_at lw_m4 238 rfl) rfl
theorem q1026 : (Jvm.Cond.code ({ cls := "FallsBetween", name := "birds", desc := "()I" } : Jvm.MethodName) prog_1_method_64_code (1 : Nat) (Option.some Jvm.ClassFile.FieldType.int)) ∈ lw_all := lw_g (lw_at lw_m4 239 rfl) rfl
theorem q1028 : (Jvm.Cond.instanceMethod ({ cls := "FallsBetween", name := "lost", desc := "()I" } : Jvm.MethodName)) ∈ lw_all := lw_g (lw_at lw_m5 1 rfl) rfl
theorem q1029 : (Jvm.Cond.selects "FallsBetween" ({ cls := "FallsBetween", name := "lost", desc := "()I" } : Jvm.MethodName) ({ cls := "FallsBetween", name := "lost", desc := "()I" } : Jvm.MethodName)) ∈ lw_all := lw_g (lw_at lw_m5 2 rfl) rfl
theorem q1030 : (Jvm.Cond.code ({ cls := "FallsBetween", name := "lost", desc := "()I" } : Jvm.MethodName) prog_1_method_65_code (1 : Nat) (Option.some Jvm.ClassFile.FieldType.int)) ∈ lw_all := lw_g (lw_at lw_m5 3 rfl) rfl
theorem q1032 : (Jvm.Cond.instanceMethod ({ cls := "FallsBetween", name := "set", desc := "(III)I" } : Jvm.MethodName)) ∈ lw_all := lw_g (lw_at lw_m5 5 rfl) rfl
theorem q1033 : (Jvm.Cond.selects "FallsBetween" ({ cls := "FallsBetween", name := "set", desc := "(III)I" } : Jvm.MethodName) ({ cls := "FallsBetween", name := "set", desc := "(III)I" } : Jvm.MethodName)) ∈ lw_all := lw_g (lw_at lw_m5 6 rfl) rfl
theorem q1034 : (Jvm.Cond.code ({ cls := "FallsBetween", name := "set", desc := "(III)I" } : Jvm.MethodName) prog_1_method_66_code (4 : Nat) (Option.some Jvm.ClassFile.FieldType.int)) ∈ lw_all := lw_g (lw_at lw_m5 7 rfl) rfl
theorem q1036 : (Jvm.Cond.instanceMethod ({ cls := "FallsBetween", name := "worth", desc := "(II)I" } : Jvm.MethodName)) ∈ lw_all := lw_g (lw_at lw_m5 9 rfl) rfl
theorem q1037 : (Jvm.Cond.selects "FallsBetween" ({ cls := "FallsBetween", name := "worth", desc := "(II)I" } : Jvm.MethodName) ({ cls := "FallsBetween", name := "worth", desc := "(II)I" } : Jvm.MethodName)) ∈ lw_all := lw_g (lw_at lw_m5 10 rfl) rfl
theorem q1038 : (Jvm.Cond.code ({ cls := "FallsBetween", name := "worth", desc := "(II)I" } : Jvm.MethodName) prog_1_method_67_code (3 : Nat) (Option.some Jvm.ClassFile.FieldType.int)) ∈ lw_all := lw_g (lw_at lw_m5 11 rfl) rfl
theorem q1040 : (Jvm.Cond.instanceMethod ({ cls := "FallsBetween", name := "give", desc := "()I" } : Jvm.MethodName)) ∈ lw_all := lw_g (lw_at lw_m5 13 rfl) rfl
theorem q1041 : (Jvm.Cond.selects "FallsBetween" ({ cls := "FallsBetween", name := "give", desc := "()I" } : Jvm.MethodName) ({ cls := "FallsBetween", name := "give", desc := "()I" } : Jvm.MethodName)) ∈ lw_all := lw_g (lw_at lw_m5 14 rfl) rfl
theorem q1042 : (Jvm.Cond.code ({ cls := "FallsBetween", name := "give", desc := "()I" } : Jvm.MethodName) prog_1_method_68_code (1 : Nat) (Option.some Jvm.ClassFile.FieldType.int)) ∈ lw_all := lw_g (lw_at lw_m5 15 rfl) rfl
theorem q1044 : (Jvm.Cond.instanceMethod ({ cls := "FallsBetween", name := "clean", desc := "()I" } : Jvm.MethodName)) ∈ lw_all := lw_g (lw_at lw_m5 17 rfl) rfl
theorem q1045 : (Jvm.Cond.selects "FallsBetween" ({ cls := "FallsBetween", name := "clean", desc := "()I" } : Jvm.MethodName) ({ cls := "FallsBetween", name := "clean", desc := "()I" } : Jvm.MethodName)) ∈ lw_all := lw_g (lw_at lw_m5 18 rfl) rfl
theorem q1046 : (Jvm.Cond.code ({ cls := "FallsBetween", name := "clean", desc := "()I" } : Jvm.MethodName) prog_1_method_69_code (1 : Nat) (Option.some Jvm.ClassFile.FieldType.int)) ∈ lw_all := lw_g (lw_at lw_m5 19 rfl) rfl
theorem q1048 : (Jvm.Cond.instanceMethod ({ cls := "FallsBetween", name := "line", desc := "(I)I" } : Jvm.MethodName)) ∈ lw_all := lw_g (lw_at lw_m5 21 rfl) rfl
theorem q1049 : (Jvm.Cond.selects "FallsBetween" ({ cls := "FallsBetween", name := "line", desc := "(I)I" } : Jvm.MethodName) ({ cls := "FallsBetween", name := "line", desc := "(I)I" } : Jvm.MethodName)) ∈ lw_all := lw_g (lw_at lw_m5 22 rfl) rfl
theorem q1050 : (Jvm.Cond.code ({ cls := "FallsBetween", name := "line", desc := "(I)I" } : Jvm.MethodName) prog_1_method_70_code (2 : Nat) (Option.some Jvm.ClassFile.FieldType.int)) ∈ lw_all := lw_g (lw_at lw_m5 23 rfl) rfl
theorem q1052 : (Jvm.Cond.instanceMethod ({ cls := "FallsBetween", name := "winds", desc := "(II)I" } : Jvm.MethodName)) ∈ lw_all := lw_g (lw_at lw_m5 25 rfl) rfl
theorem q1053 : (Jvm.Cond.selects "FallsBetween" ({ cls := "FallsBetween", name := "winds", desc := "(II)I" } : Jvm.MethodName) ({ cls := "FallsBetween", name := "winds", desc := "(II)I" } : Jvm.MethodName)) ∈ lw_all := lw_g (lw_at lw_m5 26 rfl) rfl
theorem q1054 : (Jvm.Cond.code ({ cls := "FallsBetween", name := "winds", desc := "(II)I" } : Jvm.MethodName) prog_1_method_71_code (3 : Nat) (Option.some Jvm.ClassFile.FieldType.int)) ∈ lw_all := lw_g (lw_at lw_m5 27 rfl) rfl
theorem q1056 : (Jvm.Cond.instanceMethod ({ cls := "FallsBetween", name := "netted", desc := "(I)I" } : Jvm.MethodName)) ∈ lw_all := lw_g (lw_at lw_m5 29 rfl) rfl
theorem q1057 : (Jvm.Cond.selects "FallsBetween" ({ cls := "FallsBetween", name := "netted", desc := "(I)I" } : Jvm.MethodName) ({ cls := "FallsBetween", name := "netted", desc := "(I)I" } : Jvm.MethodName)) ∈ lw_all := lw_g (lw_at lw_m5 30 rfl) rfl
theorem q1058 : (Jvm.Cond.code ({ cls := "FallsBetween", name := "netted", desc := "(I)I" } : Jvm.MethodName) prog_1_method_72_code (2 : Nat) (Option.some Jvm.ClassFile.FieldType.int)) ∈ lw_all := lw_g (lw_at lw_m5 31 rfl) rfl
theorem q1060 : (Jvm.Cond.instanceMethod ({ cls := "FallsBetween", name := "came", desc := "(I)I" } : Jvm.MethodName)) ∈ lw_all := lw_g (lw_at lw_m5 33 rfl) rfl
theorem q1061 : (Jvm.Cond.selects "FallsBetween" ({ cls := "FallsBetween", name := "came", desc := "(I)I" } : Jvm.MethodName) ({ cls := "FallsBetween", name := "came", desc := "(I)I" } : Jvm.MethodName)) ∈ lw_all := lw_g (lw_at lw_m5 34 rfl) rfl
theorem q1062 : (Jvm.Cond.code ({ cls := "FallsBetween", name := "came", desc := "(I)I" } : Jvm.MethodName) prog_1_method_73_code (2 : Nat) (Option.some Jvm.ClassFile.FieldType.int)) ∈ lw_all := lw_g (lw_at lw_m5 35 rfl) rfl
theorem q1064 : (Jvm.Cond.instanceMethod ({ cls := "FallsBetween", name := "likely", desc := "(III)I" } : Jvm.MethodName)) ∈ lw_all := lw_g (lw_at lw_m5 37 rfl) rfl
theorem q1065 : (Jvm.Cond.selects "FallsBetween" ({ cls := "FallsBetween", name := "likely", desc := "(III)I" } : Jvm.MethodName) ({ cls := "FallsBetween", name := "likely", desc := "(III)I" } : Jvm.MethodName)) ∈ lw_all := lw_g (lw_at lw_m5 38 rfl) rfl
theorem q1066 : (Jvm.Cond.code ({ cls := "FallsBetween", name := "likely", desc := "(III)I" } : Jvm.MethodName) prog_1_method_74_code (4 : Nat) (Option.some Jvm.ClassFile.FieldType.int)) ∈ lw_all := lw_g (lw_at lw_m5 39 rfl) rfl
theorem q1068 : (Jvm.Cond.instanceMethod ({ cls := "FallsBetween", name := "pit", desc := "(I)I" } : Jvm.MethodName)) ∈ lw_all := lw_g (lw_at lw_m5 41 rfl) rfl
theorem q1069 : (Jvm.Cond.selects "FallsBetween" ({ cls := "FallsBetween", name := "pit", desc := "(I)I" } : Jvm.MethodName) ({ cls := "FallsBetween", name := "pit", desc := "(I)I" } : Jvm.MethodName)) ∈ lw_all := lw_g (lw_at lw_m5 42 rfl) rfl
theorem q1070 : (Jvm.Cond.code ({ cls := "FallsBetween", name := "pit", desc := "(I)I" } : Jvm.MethodName) prog_1_method_75_code (2 : Nat) (Option.some Jvm.ClassFile.FieldType.int)) ∈ lw_all := lw_g (lw_at lw_m5 43 rfl) rfl
theorem q1072 : (Jvm.Cond.instanceMethod ({ cls := "FallsBetween", name := "fitting", desc := "(I)I" } : Jvm.MethodName)) ∈ lw_all := lw_g (lw_at lw_m5 45 rfl) rfl
theorem q1073 : (Jvm.Cond.selects "FallsBetween" ({ cls := "FallsBetween", name := "fitting", desc := "(I)I" } : Jvm.MethodName) ({ cls := "FallsBetween", name := "fitting", desc := "(I)I" } : Jvm.MethodName)) ∈ lw_all := lw_g (lw_at lw_m5 46 rfl) rfl
theorem q1074 : (Jvm.Cond.code ({ cls := "FallsBetween", name := "fitting", desc := "(I)I" } : Jvm.MethodName) prog_1_method_76_code (2 : Nat) (Option.some Jvm.ClassFile.FieldType.int)) ∈ lw_all := lw_g (lw_at lw_m5 47 rfl) rfl
theorem q1076 : (Jvm.Cond.instanceMethod ({ cls := "FallsBetween", name := "row", desc := "(I)I" } : Jvm.MethodName)) ∈ lw_all := lw_g (lw_at lw_m5 49 rfl) rfl
theorem q1077 : (Jvm.Cond.selects "FallsBetween" ({ cls := "FallsBetween", name := "row", desc := "(I)I" } : Jvm.MethodName) ({ cls := "FallsBetween", name := "row", desc := "(I)I" } : Jvm.MethodName)) ∈ lw_all := lw_g (lw_at lw_m5 50 rfl) rfl
theorem q1078 : (Jvm.Cond.code ({ cls := "FallsBetween", name := "row", desc := "(I)I" } : Jvm.MethodName) prog_1_method_77_code (2 : Nat) (Option.some Jvm.ClassFile.FieldType.int)) ∈ lw_all := lw_g (lw_at lw_m5 51 rfl) rfl
theorem q1080 : (Jvm.Cond.instanceMethod ({ cls := "FallsBetween", name := "judge", desc := "(I)I" } : Jvm.MethodName)) ∈ lw_all := lw_g (lw_at lw_m5 53 rfl) rfl
theorem q1081 : (Jvm.Cond.selects "FallsBetween" ({ cls := "FallsBetween", name := "judge", desc := "(I)I" } : Jvm.MethodName) ({ cls := "FallsBetween", name := "judge", desc := "(I)I" } : Jvm.MethodName)) ∈ lw_all := lw_g (lw_at lw_m5 54 rfl) rfl
theorem q1082 : (Jvm.Cond.code ({ cls := "FallsBetween", name := "judge", desc := "(I)I" } : Jvm.MethodName) prog_1_method_78_code (2 : Nat) (Option.some Jvm.ClassFile.FieldType.int)) ∈ lw_all := lw_g (lw_at lw_m5 55 rfl) rfl
theorem q1084 : (Jvm.Cond.instanceMethod ({ cls := "FallsBetween", name := "seeds", desc := "(III)I" } : Jvm.MethodName)) ∈ lw_all := lw_g (lw_at lw_m5 57 rfl) rfl
theorem q1085 : (Jvm.Cond.selects "FallsBetween" ({ cls := "FallsBetween", name := "seeds", desc := "(III)I" } : Jvm.MethodName) ({ cls := "FallsBetween", name := "seeds", desc := "(III)I" } : Jvm.MethodName)) ∈ lw_all := lw_g (lw_at lw_m5 58 rfl) rfl
theorem q1086 : (Jvm.Cond.code ({ cls := "FallsBetween", name := "seeds", desc := "(III)I" } : Jvm.MethodName) prog_1_method_79_code (4 : Nat) (Option.some Jvm.ClassFile.FieldType.int)) ∈ lw_all := lw_g (lw_at lw_m5 59 rfl) rfl
theorem q1088 : (Jvm.Cond.instanceMethod ({ cls := "FallsBetween", name := "image", desc := "()I" } : Jvm.MethodName)) ∈ lw_all := lw_g (lw_at lw_m5 61 rfl) rfl
theorem q1089 : (Jvm.Cond.selects "FallsBetween" ({ cls := "FallsBetween", name := "image", desc := "()I" } : Jvm.MethodName) ({ cls := "FallsBetween", name := "image", desc := "()I" } : Jvm.MethodName)) ∈ lw_all := lw_g (lw_at lw_m5 62 rfl) rfl
theorem q1090 : (Jvm.Cond.code ({ cls := "FallsBetween", name := "image", desc := "()I" } : Jvm.MethodName) prog_1_method_80_code (1 : Nat) (Option.some Jvm.ClassFile.FieldType.int)) ∈ lw_all := lw_g (lw_at lw_m5 63 rfl) rfl
theorem q1092 : (Jvm.Cond.instanceMethod ({ cls := "FallsBetween", name := "on", desc := "()I" } : Jvm.MethodName)) ∈ lw_all := lw_g (lw_at lw_m5 65 rfl) rfl
theorem q1093 : (Jvm.Cond.selects "FallsBetween" ({ cls := "FallsBetween", name := "on", desc := "()I" } : Jvm.MethodName) ({ cls := "FallsBetween", name := "on", desc := "()I" } : Jvm.MethodName)) ∈ lw_all := lw_g (lw_at lw_m5 66 rfl) rfl
theorem q1094 : (Jvm.Cond.code ({ cls := "FallsBetween", name := "on", desc := "()I" } : Jvm.MethodName) prog_1_method_81_code (1 : Nat) (Option.some Jvm.ClassFile.FieldType.int)) ∈ lw_all := lw_g (lw_at lw_m5 67 rfl) rfl
theorem q1096 : (Jvm.Cond.instanceMethod ({ cls := "FallsBetween", name := "count", desc := "(I)I" } : Jvm.MethodName)) ∈ lw_all := lw_g (lw_at lw_m5 69 rfl) rfl
theorem q1097 : (Jvm.Cond.selects "FallsBetween" ({ cls := "FallsBetween", name := "count", desc := "(I)I" } : Jvm.MethodName) ({ cls := "FallsBetween", name := "count", desc := "(I)I" } : Jvm.MethodName)) ∈ lw_all := lw_g (lw_at lw_m5 70 rfl) rfl
theorem q1098 : (Jvm.Cond.code ({ cls := "FallsBetween", name := "count", desc := "(I)I" } : Jvm.MethodName) prog_1_method_82_code (2 : Nat) (Option.some Jvm.ClassFile.FieldType.int)) ∈ lw_all := lw_g (lw_at lw_m5 71 rfl) rfl
theorem q1099 : (Jvm.Cond.methodLink "FallsBetween" (360 : Nat) ({ cls := "FallsBetween", name := "fruitOfAll", desc := "()I" } : Jvm.MethodName)) ∈ lw_all := lw_g (lw_at lw_m5 72 rfl) rfl
theorem q1100 : (Jvm.Cond.privateMethod ({ cls := "FallsBetween", name := "fruitOfAll", desc := "()I" } : Jvm.MethodName)) ∈ lw_tbl := lw_at lw_m5 73 rfl
theorem q1101 : (Jvm.Cond.instanceMethod ({ cls := "FallsBetween", name := "fruitOfAll", desc := "()I" } : Jvm.MethodName)) ∈ lw_all := lw_g (lw_at lw_m5 74 rfl) rfl
theorem q1102 : (Jvm.Cond.code ({ cls := "FallsBetween", name := "fruitOfAll", desc := "()I" } : Jvm.MethodName) prog_1_method_49_code (3 : Nat) (Option.some Jvm.ClassFile.FieldType.int)) ∈ lw_all := lw_g (lw_at lw_m5 75 rfl) rfl
theorem q1103 : (Jvm.Cond.methodLink "FallsBetween" (363 : Nat) ({ cls := "FallsBetween", name := "squaresThat", desc := "(Z)I" } : Jvm.MethodName)) ∈ lw_all := lw_g (lw_at lw_m5 76 rfl) rfl
theorem q1104 : (Jvm.Cond.privateMethod ({ cls := "FallsBetween", name := "squaresThat", desc := "(Z)I" } : Jvm.MethodName)) ∈ lw_tbl := lw_at lw_m5 77 rfl
theorem q1105 : (Jvm.Cond.instanceMethod ({ cls := "FallsBetween", name := "squaresThat", desc := "(Z)I" } : Jvm.MethodName)) ∈ lw_all := lw_g (lw_at lw_m5 78 rfl) rfl
theorem q1106 : (Jvm.Cond.code ({ cls := "FallsBetween", name := "squaresThat", desc := "(Z)I" } : Jvm.MethodName) prog_1_method_50_code (4 : Nat) (Option.some Jvm.ClassFile.FieldType.int)) ∈ lw_all := lw_g (lw_at lw_m5 79 rfl) rfl
theorem q1107 : (Jvm.Cond.constantLong "FallsBetween" (366 : Nat) (11 : Int64)) ∈ lw_all := lw_g (lw_at lw_m5 80 rfl) rfl
theorem q1108 : (Jvm.Cond.constantLong "FallsBetween" (368 : Nat) (16 : Int64)) ∈ lw_all := lw_g (lw_at lw_m5 81 rfl) rfl
theorem in_X0 : ∀ w ∈ wsX00, w ∈ lw_all := lw_in wsX00 [222, 224, 226, 228, 230, 232, 234, 236, 238] (by decide +kernel) (by decide +kernel)
