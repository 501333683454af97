/-! FallsBetween$Town -/
set_option maxRecDepth 100000
def RX1 : String := "FallsBetween$Town"
def TX1 : u_T := fun k => match k with
  | 0 => ("FallsBetween$Town", "laws", "[LFallsBetween$Law;", true)
  | 1 => ("FallsBetween$Town", "gardens", "[I", true)
  | 2 => ("FallsBetween$Town", "heights", "[I", true)
  | 3 => ("FallsBetween$Town", "nets", "[Z", true)
  | 4 => ("FallsBetween$Town", "trees", "I", false)
  | 5 => ("FallsBetween$Town", "tree", "[LFallsBetween$Tree;", true)
  | 6 => ("FallsBetween$Town", "wind", "I", false)
  | 7 => ("FallsBetween$Town", "law", "I", false)
  | 8 => ("FallsBetween$Town", "pits", "I", false)
  | 9 => ("FallsBetween$Town", "pit", "[I", true)
  | 10 => ("FallsBetween$Town", "lies", "[I", true)
  | _ => ("FallsBetween$Town", "lost", "I", false)
def tyX1 : Nat → FieldType := fun k => match k with
  | 0 => .array (.object "FallsBetween$Law")
  | 1 => .array .int
  | 2 => .array .int
  | 3 => .array .boolean
  | 4 => .int
  | 5 => .array (.object "FallsBetween$Tree")
  | 6 => .int
  | 7 => .int
  | 8 => .int
  | 9 => .array .int
  | 10 => .array .int
  | _ => .int
abbrev wsX10 : List Cond := u_ws RX1 TX1 12
theorem nmX1 : ∀ a, a < 12 → ∀ b, b < 12 → a ≠ b → (TX1 a).2.1 ≠ (TX1 b).2.1 := by decide +kernel
theorem tyX1_ok : ∀ k, k < 12 → parseFieldDescriptor (TX1 k).2.2.1 = some (tyX1 k) := by decide +kernel
abbrev cX1_init : ByteArray := prog_22_method_1_code
def yX1_init : MethodName := ⟨RX1, "<init>", "()V"⟩
def dkwX1_init_4 : List UInt8 := [42, 16, 8, 188, 10, 181, 0, 47, 42, 17, 0, 252, 188, 10, 181, 0, 50, 177]
abbrev dktX1_init_4 : List UInt8 := dkwX1_init_4 ++ []
def dkwX1_init_3 : List UInt8 := [16, 36, 188, 10, 181, 0, 34, 42, 16, 36, 188, 4, 181, 0, 37, 42, 16, 7, 189, 0, 41, 181, 0, 43]
abbrev dktX1_init_3 : List UInt8 := dkwX1_init_3 ++ dktX1_init_4
def dkwX1_init_2 : List UInt8 := [83, 89, 7, 187, 0, 21, 89, 183, 0, 23, 83, 181, 0, 24, 42, 16, 36, 188, 10, 181, 0, 30, 42]
abbrev dktX1_init_2 : List UInt8 := dkwX1_init_2 ++ dktX1_init_3
def dkwX1_init_1 : List UInt8 := [89, 183, 0, 14, 83, 89, 5, 187, 0, 15, 89, 183, 0, 17, 83, 89, 6, 187, 0, 18, 89, 183, 0, 20]
abbrev dktX1_init_1 : List UInt8 := dkwX1_init_1 ++ dktX1_init_2
def dkwX1_init_0 : List UInt8 := [42, 183, 0, 3, 42, 8, 189, 0, 9, 89, 3, 187, 0, 9, 89, 183, 0, 11, 83, 89, 4, 187, 0, 12]
abbrev dktX1_init_0 : List UInt8 := dkwX1_init_0 ++ dktX1_init_1
theorem dksX1_init_0 : cX1_init.data.toList.drop 0 = dktX1_init_0 := by decide +kernel
theorem dksX1_init_1 : cX1_init.data.toList.drop 24 = dktX1_init_1 := dk_seg dksX1_init_0 24 rfl rfl
theorem dksX1_init_2 : cX1_init.data.toList.drop 48 = dktX1_init_2 := dk_seg dksX1_init_1 24 rfl rfl
theorem dksX1_init_3 : cX1_init.data.toList.drop 71 = dktX1_init_3 := dk_seg dksX1_init_2 23 rfl rfl
theorem dksX1_init_4 : cX1_init.data.toList.drop 95 = dktX1_init_4 := dk_seg dksX1_init_3 24 rfl rfl
theorem dX1_init_0 : decode cX1_init 0 = .ok (.aload_n 0, 1) := dk_42 (dk_at dksX1_init_0 0 rfl rfl)
theorem dX1_init_1 : decode cX1_init 1 = .ok (.invokespecial 3, 3) := dk_183 0 3 (dk_at dksX1_init_0 1 rfl rfl)
theorem dX1_init_4 : decode cX1_init 4 = .ok (.aload_n 0, 1) := dk_42 (dk_at dksX1_init_0 4 rfl rfl)
theorem dX1_init_5 : decode cX1_init 5 = .ok (.iconst 5, 1) := dk_8 (dk_at dksX1_init_0 5 rfl rfl)
theorem dX1_init_6 : decode cX1_init 6 = .ok (.anewarray 9, 3) := dk_189 0 9 (dk_at dksX1_init_0 6 rfl rfl)
theorem dX1_init_9 : decode cX1_init 9 = .ok (.dup, 1) := dk_89 (dk_at dksX1_init_0 9 rfl rfl)
theorem dX1_init_10 : decode cX1_init 10 = .ok (.iconst 0, 1) := dk_3 (dk_at dksX1_init_0 10 rfl rfl)
theorem dX1_init_11 : decode cX1_init 11 = .ok (.new 9, 3) := dk_187 0 9 (dk_at dksX1_init_0 11 rfl rfl)
theorem dX1_init_14 : decode cX1_init 14 = .ok (.dup, 1) := dk_89 (dk_at dksX1_init_0 14 rfl rfl)
theorem dX1_init_15 : decode cX1_init 15 = .ok (.invokespecial 11, 3) := dk_183 0 11 (dk_at dksX1_init_0 15 rfl rfl)
theorem dX1_init_18 : decode cX1_init 18 = .ok (.aastore, 1) := dk_83 (dk_at dksX1_init_0 18 rfl rfl)
theorem dX1_init_19 : decode cX1_init 19 = .ok (.dup, 1) := dk_89 (dk_at dksX1_init_0 19 rfl rfl)
theorem dX1_init_20 : decode cX1_init 20 = .ok (.iconst 1, 1) := dk_4 (dk_at dksX1_init_0 20 rfl rfl)
theorem dX1_init_21 : decode cX1_init 21 = .ok (.new 12, 3) := dk_187 0 12 (dk_at dksX1_init_0 21 rfl rfl)
theorem dX1_init_24 : decode cX1_init 24 = .ok (.dup, 1) := dk_89 (dk_at dksX1_init_1 0 rfl rfl)
theorem dX1_init_25 : decode cX1_init 25 = .ok (.invokespecial 14, 3) := dk_183 0 14 (dk_at dksX1_init_1 1 rfl rfl)
theorem dX1_init_28 : decode cX1_init 28 = .ok (.aastore, 1) := dk_83 (dk_at dksX1_init_1 4 rfl rfl)
theorem dX1_init_29 : decode cX1_init 29 = .ok (.dup, 1) := dk_89 (dk_at dksX1_init_1 5 rfl rfl)
theorem dX1_init_30 : decode cX1_init 30 = .ok (.iconst 2, 1) := dk_5 (dk_at dksX1_init_1 6 rfl rfl)
theorem dX1_init_31 : decode cX1_init 31 = .ok (.new 15, 3) := dk_187 0 15 (dk_at dksX1_init_1 7 rfl rfl)
theorem dX1_init_34 : decode cX1_init 34 = .ok (.dup, 1) := dk_89 (dk_at dksX1_init_1 10 rfl rfl)
theorem dX1_init_35 : decode cX1_init 35 = .ok (.invokespecial 17, 3) := dk_183 0 17 (dk_at dksX1_init_1 11 rfl rfl)
theorem dX1_init_38 : decode cX1_init 38 = .ok (.aastore, 1) := dk_83 (dk_at dksX1_init_1 14 rfl rfl)
theorem dX1_init_39 : decode cX1_init 39 = .ok (.dup, 1) := dk_89 (dk_at dksX1_init_1 15 rfl rfl)
theorem dX1_init_40 : decode cX1_init 40 = .ok (.iconst 3, 1) := dk_6 (dk_at dksX1_init_1 16 rfl rfl)
theorem dX1_init_41 : decode cX1_init 41 = .ok (.new 18, 3) := dk_187 0 18 (dk_at dksX1_init_1 17 rfl rfl)
theorem dX1_init_44 : decode cX1_init 44 = .ok (.dup, 1) := dk_89 (dk_at dksX1_init_1 20 rfl rfl)
theorem dX1_init_45 : decode cX1_init 45 = .ok (.invokespecial 20, 3) := dk_183 0 20 (dk_at dksX1_init_1 21 rfl rfl)
theorem dX1_init_48 : decode cX1_init 48 = .ok (.aastore, 1) := dk_83 (dk_at dksX1_init_2 0 rfl rfl)
theorem dX1_init_49 : decode cX1_init 49 = .ok (.dup, 1) := dk_89 (dk_at dksX1_init_2 1 rfl rfl)
theorem dX1_init_50 : decode cX1_init 50 = .ok (.iconst 4, 1) := dk_7 (dk_at dksX1_init_2 2 rfl rfl)
theorem dX1_init_51 : decode cX1_init 51 = .ok (.new 21, 3) := dk_187 0 21 (dk_at dksX1_init_2 3 rfl rfl)
theorem dX1_init_54 : decode cX1_init 54 = .ok (.dup, 1) := dk_89 (dk_at dksX1_init_2 6 rfl rfl)
theorem dX1_init_55 : decode cX1_init 55 = .ok (.invokespecial 23, 3) := dk_183 0 23 (dk_at dksX1_init_2 7 rfl rfl)
theorem dX1_init_58 : decode cX1_init 58 = .ok (.aastore, 1) := dk_83 (dk_at dksX1_init_2 10 rfl rfl)
theorem dX1_init_59 : decode cX1_init 59 = .ok (.putfield 24, 3) := dk_181 0 24 (dk_at dksX1_init_2 11 rfl rfl)
theorem dX1_init_62 : decode cX1_init 62 = .ok (.aload_n 0, 1) := dk_42 (dk_at dksX1_init_2 14 rfl rfl)
theorem dX1_init_63 : decode cX1_init 63 = .ok (.bipush 36, 2) := dk_16 36 (dk_at dksX1_init_2 15 rfl rfl)
theorem dX1_init_65 : decode cX1_init 65 = .ok (.newarray .int, 2) := dk_188_10 (dk_at dksX1_init_2 17 rfl rfl)
theorem dX1_init_67 : decode cX1_init 67 = .ok (.putfield 30, 3) := dk_181 0 30 (dk_at dksX1_init_2 19 rfl rfl)
theorem dX1_init_70 : decode cX1_init 70 = .ok (.aload_n 0, 1) := dk_42 (dk_at dksX1_init_2 22 rfl rfl)
theorem dX1_init_71 : decode cX1_init 71 = .ok (.bipush 36, 2) := dk_16 36 (dk_at dksX1_init_3 0 rfl rfl)
theorem dX1_init_73 : decode cX1_init 73 = .ok (.newarray .int, 2) := dk_188_10 (dk_at dksX1_init_3 2 rfl rfl)
theorem dX1_init_75 : decode cX1_init 75 = .ok (.putfield 34, 3) := dk_181 0 34 (dk_at dksX1_init_3 4 rfl rfl)
theorem dX1_init_78 : decode cX1_init 78 = .ok (.aload_n 0, 1) := dk_42 (dk_at dksX1_init_3 7 rfl rfl)
theorem dX1_init_79 : decode cX1_init 79 = .ok (.bipush 36, 2) := dk_16 36 (dk_at dksX1_init_3 8 rfl rfl)
theorem dX1_init_81 : decode cX1_init 81 = .ok (.newarray .boolean, 2) := dk_188_4 (dk_at dksX1_init_3 10 rfl rfl)
theorem dX1_init_83 : decode cX1_init 83 = .ok (.putfield 37, 3) := dk_181 0 37 (dk_at dksX1_init_3 12 rfl rfl)
theorem dX1_init_86 : decode cX1_init 86 = .ok (.aload_n 0, 1) := dk_42 (dk_at dksX1_init_3 15 rfl rfl)
theorem dX1_init_87 : decode cX1_init 87 = .ok (.bipush 7, 2) := dk_16 7 (dk_at dksX1_init_3 16 rfl rfl)
theorem dX1_init_89 : decode cX1_init 89 = .ok (.anewarray 41, 3) := dk_189 0 41 (dk_at dksX1_init_3 18 rfl rfl)
theorem dX1_init_92 : decode cX1_init 92 = .ok (.putfield 43, 3) := dk_181 0 43 (dk_at dksX1_init_3 21 rfl rfl)
theorem dX1_init_95 : decode cX1_init 95 = .ok (.aload_n 0, 1) := dk_42 (dk_at dksX1_init_4 0 rfl rfl)
theorem dX1_init_96 : decode cX1_init 96 = .ok (.bipush 8, 2) := dk_16 8 (dk_at dksX1_init_4 1 rfl rfl)
theorem dX1_init_98 : decode cX1_init 98 = .ok (.newarray .int, 2) := dk_188_10 (dk_at dksX1_init_4 3 rfl rfl)
theorem dX1_init_100 : decode cX1_init 100 = .ok (.putfield 47, 3) := dk_181 0 47 (dk_at dksX1_init_4 5 rfl rfl)
theorem dX1_init_103 : decode cX1_init 103 = .ok (.aload_n 0, 1) := dk_42 (dk_at dksX1_init_4 8 rfl rfl)
theorem dX1_init_104 : decode cX1_init 104 = .ok (.sipush 252, 3) := dk_17 0 252 (dk_at dksX1_init_4 9 rfl rfl)
theorem dX1_init_107 : decode cX1_init 107 = .ok (.newarray .int, 2) := dk_188_10 (dk_at dksX1_init_4 12 rfl rfl)
theorem dX1_init_109 : decode cX1_init 109 = .ok (.putfield 50, 3) := dk_181 0 50 (dk_at dksX1_init_4 14 rfl rfl)
theorem dX1_init_112 : decode cX1_init 112 = .ok (.return_, 1) := dk_177 (dk_at dksX1_init_4 17 rfl rfl)
abbrev cX1_set : ByteArray := prog_22_method_2_code
def yX1_set : MethodName := ⟨RX1, "set", "(LFallsBetween$Town;)V"⟩
def dkwX1_set_4 : List UInt8 := [180, 0, 47, 3, 42, 180, 0, 47, 3, 16, 8, 184, 0, 66, 177]
abbrev dktX1_set_4 : List UInt8 := dkwX1_set_4 ++ []
def dkwX1_set_3 : List UInt8 := [16, 36, 184, 0, 66, 43, 180, 0, 43, 3, 42, 180, 0, 43, 3, 42, 180, 0, 43, 190, 184, 0, 66, 43]
abbrev dktX1_set_3 : List UInt8 := dkwX1_set_3 ++ dktX1_set_4
def dkwX1_set_2 : List UInt8 := [180, 0, 34, 3, 42, 180, 0, 34, 3, 16, 36, 184, 0, 66, 43, 180, 0, 37, 3, 42, 180, 0, 37, 3]
abbrev dktX1_set_2 : List UInt8 := dkwX1_set_2 ++ dktX1_set_3
def dkwX1_set_1 : List UInt8 := [42, 43, 180, 0, 63, 181, 0, 63, 43, 180, 0, 30, 3, 42, 180, 0, 30, 3, 16, 36, 184, 0, 66, 43]
abbrev dktX1_set_1 : List UInt8 := dkwX1_set_1 ++ dktX1_set_2
def dkwX1_set_0 : List UInt8 := [42, 43, 180, 0, 53, 181, 0, 53, 42, 43, 180, 0, 57, 181, 0, 57, 42, 43, 180, 0, 60, 181, 0, 60]
abbrev dktX1_set_0 : List UInt8 := dkwX1_set_0 ++ dktX1_set_1
theorem dksX1_set_0 : cX1_set.data.toList.drop 0 = dktX1_set_0 := by decide +kernel
theorem dksX1_set_1 : cX1_set.data.toList.drop 24 = dktX1_set_1 := dk_seg dksX1_set_0 24 rfl rfl
theorem dksX1_set_2 : cX1_set.data.toList.drop 48 = dktX1_set_2 := dk_seg dksX1_set_1 24 rfl rfl
theorem dksX1_set_3 : cX1_set.data.toList.drop 72 = dktX1_set_3 := dk_seg dksX1_set_2 24 rfl rfl
theorem dksX1_set_4 : cX1_set.data.toList.drop 96 = dktX1_set_4 := dk_seg dksX1_set_3 24 rfl rfl
theorem dX1_set_0 : decode cX1_set 0 = .ok (.aload_n 0, 1) := dk_42 (dk_at dksX1_set_0 0 rfl rfl)
theorem dX1_set_1 : decode cX1_set 1 = .ok (.aload_n 1, 1) := dk_43 (dk_at dksX1_set_0 1 rfl rfl)
theorem dX1_set_2 : decode cX1_set 2 = .ok (.getfield 53, 3) := dk_180 0 53 (dk_at dksX1_set_0 2 rfl rfl)
theorem dX1_set_5 : decode cX1_set 5 = .ok (.putfield 53, 3) := dk_181 0 53 (dk_at dksX1_set_0 5 rfl rfl)
theorem dX1_set_8 : decode cX1_set 8 = .ok (.aload_n 0, 1) := dk_42 (dk_at dksX1_set_0 8 rfl rfl)
theorem dX1_set_9 : decode cX1_set 9 = .ok (.aload_n 1, 1) := dk_43 (dk_at dksX1_set_0 9 rfl rfl)
theorem dX1_set_10 : decode cX1_set 10 = .ok (.getfield 57, 3) := dk_180 0 57 (dk_at dksX1_set_0 10 rfl rfl)
theorem dX1_set_13 : decode cX1_set 13 = .ok (.putfield 57, 3) := dk_181 0 57 (dk_at dksX1_set_0 13 rfl rfl)
theorem dX1_set_16 : decode cX1_set 16 = .ok (.aload_n 0, 1) := dk_42 (dk_at dksX1_set_0 16 rfl rfl)
theorem dX1_set_17 : decode cX1_set 17 = .ok (.aload_n 1, 1) := dk_43 (dk_at dksX1_set_0 17 rfl rfl)
theorem dX1_set_18 : decode cX1_set 18 = .ok (.getfield 60, 3) := dk_180 0 60 (dk_at dksX1_set_0 18 rfl rfl)
theorem dX1_set_21 : decode cX1_set 21 = .ok (.putfield 60, 3) := dk_181 0 60 (dk_at dksX1_set_0 21 rfl rfl)
theorem dX1_set_24 : decode cX1_set 24 = .ok (.aload_n 0, 1) := dk_42 (dk_at dksX1_set_1 0 rfl rfl)
theorem dX1_set_25 : decode cX1_set 25 = .ok (.aload_n 1, 1) := dk_43 (dk_at dksX1_set_1 1 rfl rfl)
theorem dX1_set_26 : decode cX1_set 26 = .ok (.getfield 63, 3) := dk_180 0 63 (dk_at dksX1_set_1 2 rfl rfl)
theorem dX1_set_29 : decode cX1_set 29 = .ok (.putfield 63, 3) := dk_181 0 63 (dk_at dksX1_set_1 5 rfl rfl)
theorem dX1_set_32 : decode cX1_set 32 = .ok (.aload_n 1, 1) := dk_43 (dk_at dksX1_set_1 8 rfl rfl)
theorem dX1_set_33 : decode cX1_set 33 = .ok (.getfield 30, 3) := dk_180 0 30 (dk_at dksX1_set_1 9 rfl rfl)
theorem dX1_set_36 : decode cX1_set 36 = .ok (.iconst 0, 1) := dk_3 (dk_at dksX1_set_1 12 rfl rfl)
theorem dX1_set_37 : decode cX1_set 37 = .ok (.aload_n 0, 1) := dk_42 (dk_at dksX1_set_1 13 rfl rfl)
theorem dX1_set_38 : decode cX1_set 38 = .ok (.getfield 30, 3) := dk_180 0 30 (dk_at dksX1_set_1 14 rfl rfl)
theorem dX1_set_41 : decode cX1_set 41 = .ok (.iconst 0, 1) := dk_3 (dk_at dksX1_set_1 17 rfl rfl)
theorem dX1_set_42 : decode cX1_set 42 = .ok (.bipush 36, 2) := dk_16 36 (dk_at dksX1_set_1 18 rfl rfl)
theorem dX1_set_44 : decode cX1_set 44 = .ok (.invokestatic 66, 3) := dk_184 0 66 (dk_at dksX1_set_1 20 rfl rfl)
theorem dX1_set_47 : decode cX1_set 47 = .ok (.aload_n 1, 1) := dk_43 (dk_at dksX1_set_1 23 rfl rfl)
theorem dX1_set_48 : decode cX1_set 48 = .ok (.getfield 34, 3) := dk_180 0 34 (dk_at dksX1_set_2 0 rfl rfl)
theorem dX1_set_51 : decode cX1_set 51 = .ok (.iconst 0, 1) := dk_3 (dk_at dksX1_set_2 3 rfl rfl)
theorem dX1_set_52 : decode cX1_set 52 = .ok (.aload_n 0, 1) := dk_42 (dk_at dksX1_set_2 4 rfl rfl)
theorem dX1_set_53 : decode cX1_set 53 = .ok (.getfield 34, 3) := dk_180 0 34 (dk_at dksX1_set_2 5 rfl rfl)
theorem dX1_set_56 : decode cX1_set 56 = .ok (.iconst 0, 1) := dk_3 (dk_at dksX1_set_2 8 rfl rfl)
theorem dX1_set_57 : decode cX1_set 57 = .ok (.bipush 36, 2) := dk_16 36 (dk_at dksX1_set_2 9 rfl rfl)
theorem dX1_set_59 : decode cX1_set 59 = .ok (.invokestatic 66, 3) := dk_184 0 66 (dk_at dksX1_set_2 11 rfl rfl)
theorem dX1_set_62 : decode cX1_set 62 = .ok (.aload_n 1, 1) := dk_43 (dk_at dksX1_set_2 14 rfl rfl)
theorem dX1_set_63 : decode cX1_set 63 = .ok (.getfield 37, 3) := dk_180 0 37 (dk_at dksX1_set_2 15 rfl rfl)
theorem dX1_set_66 : decode cX1_set 66 = .ok (.iconst 0, 1) := dk_3 (dk_at dksX1_set_2 18 rfl rfl)
theorem dX1_set_67 : decode cX1_set 67 = .ok (.aload_n 0, 1) := dk_42 (dk_at dksX1_set_2 19 rfl rfl)
theorem dX1_set_68 : decode cX1_set 68 = .ok (.getfield 37, 3) := dk_180 0 37 (dk_at dksX1_set_2 20 rfl rfl)
theorem dX1_set_71 : decode cX1_set 71 = .ok (.iconst 0, 1) := dk_3 (dk_at dksX1_set_2 23 rfl rfl)
theorem dX1_set_72 : decode cX1_set 72 = .ok (.bipush 36, 2) := dk_16 36 (dk_at dksX1_set_3 0 rfl rfl)
theorem dX1_set_74 : decode cX1_set 74 = .ok (.invokestatic 66, 3) := dk_184 0 66 (dk_at dksX1_set_3 2 rfl rfl)
theorem dX1_set_77 : decode cX1_set 77 = .ok (.aload_n 1, 1) := dk_43 (dk_at dksX1_set_3 5 rfl rfl)
theorem dX1_set_78 : decode cX1_set 78 = .ok (.getfield 43, 3) := dk_180 0 43 (dk_at dksX1_set_3 6 rfl rfl)
theorem dX1_set_81 : decode cX1_set 81 = .ok (.iconst 0, 1) := dk_3 (dk_at dksX1_set_3 9 rfl rfl)
theorem dX1_set_82 : decode cX1_set 82 = .ok (.aload_n 0, 1) := dk_42 (dk_at dksX1_set_3 10 rfl rfl)
theorem dX1_set_83 : decode cX1_set 83 = .ok (.getfield 43, 3) := dk_180 0 43 (dk_at dksX1_set_3 11 rfl rfl)
theorem dX1_set_86 : decode cX1_set 86 = .ok (.iconst 0, 1) := dk_3 (dk_at dksX1_set_3 14 rfl rfl)
theorem dX1_set_87 : decode cX1_set 87 = .ok (.aload_n 0, 1) := dk_42 (dk_at dksX1_set_3 15 rfl rfl)
theorem dX1_set_88 : decode cX1_set 88 = .ok (.getfield 43, 3) := dk_180 0 43 (dk_at dksX1_set_3 16 rfl rfl)
theorem dX1_set_91 : decode cX1_set 91 = .ok (.arraylength, 1) := dk_190 (dk_at dksX1_set_3 19 rfl rfl)
theorem dX1_set_92 : decode cX1_set 92 = .ok (.invokestatic 66, 3) := dk_184 0 66 (dk_at dksX1_set_3 20 rfl rfl)
theorem dX1_set_95 : decode cX1_set 95 = .ok (.aload_n 1, 1) := dk_43 (dk_at dksX1_set_3 23 rfl rfl)
theorem dX1_set_96 : decode cX1_set 96 = .ok (.getfield 47, 3) := dk_180 0 47 (dk_at dksX1_set_4 0 rfl rfl)
theorem dX1_set_99 : decode cX1_set 99 = .ok (.iconst 0, 1) := dk_3 (dk_at dksX1_set_4 3 rfl rfl)
theorem dX1_set_100 : decode cX1_set 100 = .ok (.aload_n 0, 1) := dk_42 (dk_at dksX1_set_4 4 rfl rfl)
theorem dX1_set_101 : decode cX1_set 101 = .ok (.getfield 47, 3) := dk_180 0 47 (dk_at dksX1_set_4 5 rfl rfl)
theorem dX1_set_104 : decode cX1_set 104 = .ok (.iconst 0, 1) := dk_3 (dk_at dksX1_set_4 8 rfl rfl)
theorem dX1_set_105 : decode cX1_set 105 = .ok (.bipush 8, 2) := dk_16 8 (dk_at dksX1_set_4 9 rfl rfl)
theorem dX1_set_107 : decode cX1_set 107 = .ok (.invokestatic 66, 3) := dk_184 0 66 (dk_at dksX1_set_4 11 rfl rfl)
theorem dX1_set_110 : decode cX1_set 110 = .ok (.return_, 1) := dk_177 (dk_at dksX1_set_4 14 rfl rfl)
abbrev cX1_treeAt : ByteArray := prog_22_method_5_code
def yX1_treeAt : MethodName := ⟨RX1, "treeAt", "(I)I"⟩
def dkwX1_treeAt_1 : List UInt8 := [172, 132, 2, 1, 167, 255, 230, 16, 247, 172]
abbrev dktX1_treeAt_1 : List UInt8 := dkwX1_treeAt_1 ++ []
def dkwX1_treeAt_0 : List UInt8 := [3, 61, 28, 42, 180, 0, 53, 162, 0, 24, 42, 180, 0, 43, 28, 50, 180, 0, 76, 27, 160, 0, 5, 28]
abbrev dktX1_treeAt_0 : List UInt8 := dkwX1_treeAt_0 ++ dktX1_treeAt_1
theorem dksX1_treeAt_0 : cX1_treeAt.data.toList.drop 0 = dktX1_treeAt_0 := by decide +kernel
theorem dksX1_treeAt_1 : cX1_treeAt.data.toList.drop 24 = dktX1_treeAt_1 := dk_seg dksX1_treeAt_0 24 rfl rfl
theorem dX1_treeAt_0 : decode cX1_treeAt 0 = .ok (.iconst 0, 1) := dk_3 (dk_at dksX1_treeAt_0 0 rfl rfl)
theorem dX1_treeAt_1 : decode cX1_treeAt 1 = .ok (.istore_n 2, 1) := dk_61 (dk_at dksX1_treeAt_0 1 rfl rfl)
theorem dX1_treeAt_2 : decode cX1_treeAt 2 = .ok (.iload_n 2, 1) := dk_28 (dk_at dksX1_treeAt_0 2 rfl rfl)
theorem dX1_treeAt_3 : decode cX1_treeAt 3 = .ok (.aload_n 0, 1) := dk_42 (dk_at dksX1_treeAt_0 3 rfl rfl)
theorem dX1_treeAt_4 : decode cX1_treeAt 4 = .ok (.getfield 53, 3) := dk_180 0 53 (dk_at dksX1_treeAt_0 4 rfl rfl)
theorem dX1_treeAt_7 : decode cX1_treeAt 7 = .ok (.if_icmp .ge 24, 3) := dk_162 0 24 (dk_at dksX1_treeAt_0 7 rfl rfl)
theorem dX1_treeAt_10 : decode cX1_treeAt 10 = .ok (.aload_n 0, 1) := dk_42 (dk_at dksX1_treeAt_0 10 rfl rfl)
theorem dX1_treeAt_11 : decode cX1_treeAt 11 = .ok (.getfield 43, 3) := dk_180 0 43 (dk_at dksX1_treeAt_0 11 rfl rfl)
theorem dX1_treeAt_14 : decode cX1_treeAt 14 = .ok (.iload_n 2, 1) := dk_28 (dk_at dksX1_treeAt_0 14 rfl rfl)
theorem dX1_treeAt_15 : decode cX1_treeAt 15 = .ok (.aaload, 1) := dk_50 (dk_at dksX1_treeAt_0 15 rfl rfl)
theorem dX1_treeAt_16 : decode cX1_treeAt 16 = .ok (.getfield 76, 3) := dk_180 0 76 (dk_at dksX1_treeAt_0 16 rfl rfl)
theorem dX1_treeAt_19 : decode cX1_treeAt 19 = .ok (.iload_n 1, 1) := dk_27 (dk_at dksX1_treeAt_0 19 rfl rfl)
theorem dX1_treeAt_20 : decode cX1_treeAt 20 = .ok (.if_icmp .ne 5, 3) := dk_160 0 5 (dk_at dksX1_treeAt_0 20 rfl rfl)
theorem dX1_treeAt_23 : decode cX1_treeAt 23 = .ok (.iload_n 2, 1) := dk_28 (dk_at dksX1_treeAt_0 23 rfl rfl)
theorem dX1_treeAt_24 : decode cX1_treeAt 24 = .ok (.ireturn, 1) := dk_172 (dk_at dksX1_treeAt_1 0 rfl rfl)
theorem dX1_treeAt_25 : decode cX1_treeAt 25 = .ok (.iinc 2 1, 3) := dk_132 2 1 (dk_at dksX1_treeAt_1 1 rfl rfl)
theorem dX1_treeAt_28 : decode cX1_treeAt 28 = .ok (.goto (-26), 3) := dk_167 255 230 (dk_at dksX1_treeAt_1 4 rfl rfl)
theorem dX1_treeAt_31 : decode cX1_treeAt 31 = .ok (.bipush (-9), 2) := dk_16 247 (dk_at dksX1_treeAt_1 7 rfl rfl)
theorem dX1_treeAt_33 : decode cX1_treeAt 33 = .ok (.ireturn, 1) := dk_172 (dk_at dksX1_treeAt_1 9 rfl rfl)
abbrev cX1_isNobodys : ByteArray := prog_22_method_4_code
def yX1_isNobodys : MethodName := ⟨RX1, "isNobodys", "(I)Z"⟩
def dkwX1_isNobodys_1 : List UInt8 := [153, 0, 7, 4, 167, 0, 4, 3, 172]
abbrev dktX1_isNobodys_1 : List UInt8 := dkwX1_isNobodys_1 ++ []
def dkwX1_isNobodys_0 : List UInt8 := [42, 180, 0, 37, 27, 51, 154, 0, 24, 42, 180, 0, 24, 42, 180, 0, 60, 50, 42, 27, 182, 0, 72]
abbrev dktX1_isNobodys_0 : List UInt8 := dkwX1_isNobodys_0 ++ dktX1_isNobodys_1
theorem dksX1_isNobodys_0 : cX1_isNobodys.data.toList.drop 0 = dktX1_isNobodys_0 := by decide +kernel
theorem dksX1_isNobodys_1 : cX1_isNobodys.data.toList.drop 23 = dktX1_isNobodys_1 := dk_seg dksX1_isNobodys_0 23 rfl rfl
theorem dX1_isNobodys_0 : decode cX1_isNobodys 0 = .ok (.aload_n 0, 1) := dk_42 (dk_at dksX1_isNobodys_0 0 rfl rfl)
theorem dX1_isNobodys_1 : decode cX1_isNobodys 1 = .ok (.getfield 37, 3) := dk_180 0 37 (dk_at dksX1_isNobodys_0 1 rfl rfl)
theorem dX1_isNobodys_4 : decode cX1_isNobodys 4 = .ok (.iload_n 1, 1) := dk_27 (dk_at dksX1_isNobodys_0 4 rfl rfl)
theorem dX1_isNobodys_5 : decode cX1_isNobodys 5 = .ok (.baload, 1) := dk_51 (dk_at dksX1_isNobodys_0 5 rfl rfl)
theorem dX1_isNobodys_6 : decode cX1_isNobodys 6 = .ok (.ifCond .ne 24, 3) := dk_154 0 24 (dk_at dksX1_isNobodys_0 6 rfl rfl)
theorem dX1_isNobodys_9 : decode cX1_isNobodys 9 = .ok (.aload_n 0, 1) := dk_42 (dk_at dksX1_isNobodys_0 9 rfl rfl)
theorem dX1_isNobodys_10 : decode cX1_isNobodys 10 = .ok (.getfield 24, 3) := dk_180 0 24 (dk_at dksX1_isNobodys_0 10 rfl rfl)
theorem dX1_isNobodys_13 : decode cX1_isNobodys 13 = .ok (.aload_n 0, 1) := dk_42 (dk_at dksX1_isNobodys_0 13 rfl rfl)
theorem dX1_isNobodys_14 : decode cX1_isNobodys 14 = .ok (.getfield 60, 3) := dk_180 0 60 (dk_at dksX1_isNobodys_0 14 rfl rfl)
theorem dX1_isNobodys_17 : decode cX1_isNobodys 17 = .ok (.aaload, 1) := dk_50 (dk_at dksX1_isNobodys_0 17 rfl rfl)
theorem dX1_isNobodys_18 : decode cX1_isNobodys 18 = .ok (.aload_n 0, 1) := dk_42 (dk_at dksX1_isNobodys_0 18 rfl rfl)
theorem dX1_isNobodys_19 : decode cX1_isNobodys 19 = .ok (.iload_n 1, 1) := dk_27 (dk_at dksX1_isNobodys_0 19 rfl rfl)
theorem dX1_isNobodys_20 : decode cX1_isNobodys 20 = .ok (.invokevirtual 72, 3) := dk_182 0 72 (dk_at dksX1_isNobodys_0 20 rfl rfl)
theorem dX1_isNobodys_23 : decode cX1_isNobodys 23 = .ok (.ifCond .eq 7, 3) := dk_153 0 7 (dk_at dksX1_isNobodys_1 0 rfl rfl)
theorem dX1_isNobodys_26 : decode cX1_isNobodys 26 = .ok (.iconst 1, 1) := dk_4 (dk_at dksX1_isNobodys_1 3 rfl rfl)
theorem dX1_isNobodys_27 : decode cX1_isNobodys 27 = .ok (.goto 4, 3) := dk_167 0 4 (dk_at dksX1_isNobodys_1 4 rfl rfl)
theorem dX1_isNobodys_30 : decode cX1_isNobodys 30 = .ok (.iconst 0, 1) := dk_3 (dk_at dksX1_isNobodys_1 7 rfl rfl)
theorem dX1_isNobodys_31 : decode cX1_isNobodys 31 = .ok (.ireturn, 1) := dk_172 (dk_at dksX1_isNobodys_1 8 rfl rfl)
abbrev cX1_isOther : ByteArray := prog_22_method_3_code
def yX1_isOther : MethodName := ⟨RX1, "isOther", "(II)Z"⟩
def dkwX1_isOther_1 : List UInt8 := [167, 0, 4, 3, 172]
abbrev dktX1_isOther_1 : List UInt8 := dkwX1_isOther_1 ++ []
def dkwX1_isOther_0 : List UInt8 := [28, 16, 247, 159, 0, 22, 42, 180, 0, 30, 28, 46, 42, 180, 0, 30, 27, 46, 159, 0, 7, 4]
abbrev dktX1_isOther_0 : List UInt8 := dkwX1_isOther_0 ++ dktX1_isOther_1
theorem dksX1_isOther_0 : cX1_isOther.data.toList.drop 0 = dktX1_isOther_0 := by decide +kernel
theorem dksX1_isOther_1 : cX1_isOther.data.toList.drop 22 = dktX1_isOther_1 := dk_seg dksX1_isOther_0 22 rfl rfl
theorem dX1_isOther_0 : decode cX1_isOther 0 = .ok (.iload_n 2, 1) := dk_28 (dk_at dksX1_isOther_0 0 rfl rfl)
theorem dX1_isOther_1 : decode cX1_isOther 1 = .ok (.bipush (-9), 2) := dk_16 247 (dk_at dksX1_isOther_0 1 rfl rfl)
theorem dX1_isOther_3 : decode cX1_isOther 3 = .ok (.if_icmp .eq 22, 3) := dk_159 0 22 (dk_at dksX1_isOther_0 3 rfl rfl)
theorem dX1_isOther_6 : decode cX1_isOther 6 = .ok (.aload_n 0, 1) := dk_42 (dk_at dksX1_isOther_0 6 rfl rfl)
theorem dX1_isOther_7 : decode cX1_isOther 7 = .ok (.getfield 30, 3) := dk_180 0 30 (dk_at dksX1_isOther_0 7 rfl rfl)
theorem dX1_isOther_10 : decode cX1_isOther 10 = .ok (.iload_n 2, 1) := dk_28 (dk_at dksX1_isOther_0 10 rfl rfl)
theorem dX1_isOther_11 : decode cX1_isOther 11 = .ok (.iaload, 1) := dk_46 (dk_at dksX1_isOther_0 11 rfl rfl)
theorem dX1_isOther_12 : decode cX1_isOther 12 = .ok (.aload_n 0, 1) := dk_42 (dk_at dksX1_isOther_0 12 rfl rfl)
theorem dX1_isOther_13 : decode cX1_isOther 13 = .ok (.getfield 30, 3) := dk_180 0 30 (dk_at dksX1_isOther_0 13 rfl rfl)
theorem dX1_isOther_16 : decode cX1_isOther 16 = .ok (.iload_n 1, 1) := dk_27 (dk_at dksX1_isOther_0 16 rfl rfl)
theorem dX1_isOther_17 : decode cX1_isOther 17 = .ok (.iaload, 1) := dk_46 (dk_at dksX1_isOther_0 17 rfl rfl)
theorem dX1_isOther_18 : decode cX1_isOther 18 = .ok (.if_icmp .eq 7, 3) := dk_159 0 7 (dk_at dksX1_isOther_0 18 rfl rfl)
theorem dX1_isOther_21 : decode cX1_isOther 21 = .ok (.iconst 1, 1) := dk_4 (dk_at dksX1_isOther_0 21 rfl rfl)
theorem dX1_isOther_22 : decode cX1_isOther 22 = .ok (.goto 4, 3) := dk_167 0 4 (dk_at dksX1_isOther_1 0 rfl rfl)
theorem dX1_isOther_25 : decode cX1_isOther 25 = .ok (.iconst 0, 1) := dk_3 (dk_at dksX1_isOther_1 3 rfl rfl)
theorem dX1_isOther_26 : decode cX1_isOther 26 = .ok (.ireturn, 1) := dk_172 (dk_at dksX1_isOther_1 4 rfl rfl)
abbrev cX1_removeTree : ByteArray := prog_22_method_12_code
def yX1_removeTree : MethodName := ⟨RX1, "removeTree", "(I)V"⟩
def dkwX1_removeTree_1 : List UInt8 := [50, 83, 132, 2, 1, 167, 255, 229, 42, 89, 180, 0, 53, 4, 100, 181, 0, 53, 177]
abbrev dktX1_removeTree_1 : List UInt8 := dkwX1_removeTree_1 ++ []
def dkwX1_removeTree_0 : List UInt8 := [27, 61, 28, 4, 96, 42, 180, 0, 53, 162, 0, 23, 42, 180, 0, 43, 28, 42, 180, 0, 43, 28, 4, 96]
abbrev dktX1_removeTree_0 : List UInt8 := dkwX1_removeTree_0 ++ dktX1_removeTree_1
theorem dksX1_removeTree_0 : cX1_removeTree.data.toList.drop 0 = dktX1_removeTree_0 := by decide +kernel
theorem dksX1_removeTree_1 : cX1_removeTree.data.toList.drop 24 = dktX1_removeTree_1 := dk_seg dksX1_removeTree_0 24 rfl rfl
theorem dX1_removeTree_0 : decode cX1_removeTree 0 = .ok (.iload_n 1, 1) := dk_27 (dk_at dksX1_removeTree_0 0 rfl rfl)
theorem dX1_removeTree_1 : decode cX1_removeTree 1 = .ok (.istore_n 2, 1) := dk_61 (dk_at dksX1_removeTree_0 1 rfl rfl)
theorem dX1_removeTree_2 : decode cX1_removeTree 2 = .ok (.iload_n 2, 1) := dk_28 (dk_at dksX1_removeTree_0 2 rfl rfl)
theorem dX1_removeTree_3 : decode cX1_removeTree 3 = .ok (.iconst 1, 1) := dk_4 (dk_at dksX1_removeTree_0 3 rfl rfl)
theorem dX1_removeTree_4 : decode cX1_removeTree 4 = .ok (.iadd, 1) := dk_96 (dk_at dksX1_removeTree_0 4 rfl rfl)
theorem dX1_removeTree_5 : decode cX1_removeTree 5 = .ok (.aload_n 0, 1) := dk_42 (dk_at dksX1_removeTree_0 5 rfl rfl)
theorem dX1_removeTree_6 : decode cX1_removeTree 6 = .ok (.getfield 53, 3) := dk_180 0 53 (dk_at dksX1_removeTree_0 6 rfl rfl)
theorem dX1_removeTree_9 : decode cX1_removeTree 9 = .ok (.if_icmp .ge 23, 3) := dk_162 0 23 (dk_at dksX1_removeTree_0 9 rfl rfl)
theorem dX1_removeTree_12 : decode cX1_removeTree 12 = .ok (.aload_n 0, 1) := dk_42 (dk_at dksX1_removeTree_0 12 rfl rfl)
theorem dX1_removeTree_13 : decode cX1_removeTree 13 = .ok (.getfield 43, 3) := dk_180 0 43 (dk_at dksX1_removeTree_0 13 rfl rfl)
theorem dX1_removeTree_16 : decode cX1_removeTree 16 = .ok (.iload_n 2, 1) := dk_28 (dk_at dksX1_removeTree_0 16 rfl rfl)
theorem dX1_removeTree_17 : decode cX1_removeTree 17 = .ok (.aload_n 0, 1) := dk_42 (dk_at dksX1_removeTree_0 17 rfl rfl)
theorem dX1_removeTree_18 : decode cX1_removeTree 18 = .ok (.getfield 43, 3) := dk_180 0 43 (dk_at dksX1_removeTree_0 18 rfl rfl)
theorem dX1_removeTree_21 : decode cX1_removeTree 21 = .ok (.iload_n 2, 1) := dk_28 (dk_at dksX1_removeTree_0 21 rfl rfl)
theorem dX1_removeTree_22 : decode cX1_removeTree 22 = .ok (.iconst 1, 1) := dk_4 (dk_at dksX1_removeTree_0 22 rfl rfl)
theorem dX1_removeTree_23 : decode cX1_removeTree 23 = .ok (.iadd, 1) := dk_96 (dk_at dksX1_removeTree_0 23 rfl rfl)
theorem dX1_removeTree_24 : decode cX1_removeTree 24 = .ok (.aaload, 1) := dk_50 (dk_at dksX1_removeTree_1 0 rfl rfl)
theorem dX1_removeTree_25 : decode cX1_removeTree 25 = .ok (.aastore, 1) := dk_83 (dk_at dksX1_removeTree_1 1 rfl rfl)
theorem dX1_removeTree_26 : decode cX1_removeTree 26 = .ok (.iinc 2 1, 3) := dk_132 2 1 (dk_at dksX1_removeTree_1 2 rfl rfl)
theorem dX1_removeTree_29 : decode cX1_removeTree 29 = .ok (.goto (-27), 3) := dk_167 255 229 (dk_at dksX1_removeTree_1 5 rfl rfl)
theorem dX1_removeTree_32 : decode cX1_removeTree 32 = .ok (.aload_n 0, 1) := dk_42 (dk_at dksX1_removeTree_1 8 rfl rfl)
theorem dX1_removeTree_33 : decode cX1_removeTree 33 = .ok (.dup, 1) := dk_89 (dk_at dksX1_removeTree_1 9 rfl rfl)
theorem dX1_removeTree_34 : decode cX1_removeTree 34 = .ok (.getfield 53, 3) := dk_180 0 53 (dk_at dksX1_removeTree_1 10 rfl rfl)
theorem dX1_removeTree_37 : decode cX1_removeTree 37 = .ok (.iconst 1, 1) := dk_4 (dk_at dksX1_removeTree_1 13 rfl rfl)
theorem dX1_removeTree_38 : decode cX1_removeTree 38 = .ok (.isub, 1) := dk_100 (dk_at dksX1_removeTree_1 14 rfl rfl)
theorem dX1_removeTree_39 : decode cX1_removeTree 39 = .ok (.putfield 53, 3) := dk_181 0 53 (dk_at dksX1_removeTree_1 15 rfl rfl)
theorem dX1_removeTree_42 : decode cX1_removeTree 42 = .ok (.return_, 1) := dk_177 (dk_at dksX1_removeTree_1 18 rfl rfl)
abbrev cX1_find : ByteArray := prog_22_method_8_code
def yX1_find : MethodName := ⟨RX1, "find", "()LFallsBetween$Town;"⟩
def dkwX1_find_4 : List UInt8 := [167, 255, 194, 42, 176]
abbrev dktX1_find_4 : List UInt8 := dkwX1_find_4 ++ []
def dkwX1_find_3 : List UInt8 := [180, 0, 76, 29, 184, 0, 79, 44, 29, 182, 0, 112, 182, 0, 108, 132, 3, 1, 167, 255, 230, 132, 1, 1]
abbrev dktX1_find_3 : List UInt8 := dkwX1_find_3 ++ dktX1_find_4
def dkwX1_find_2 : List UInt8 := [42, 27, 44, 180, 0, 76, 44, 182, 0, 105, 182, 0, 108, 3, 62, 29, 7, 162, 0, 27, 42, 27, 44]
abbrev dktX1_find_2 : List UInt8 := dkwX1_find_2 ++ dktX1_find_3
def dkwX1_find_1 : List UInt8 := [79, 132, 1, 1, 167, 255, 235, 3, 60, 27, 42, 180, 0, 53, 162, 0, 60, 42, 180, 0, 43, 27, 50, 77]
abbrev dktX1_find_1 : List UInt8 := dkwX1_find_1 ++ dktX1_find_2
def dkwX1_find_0 : List UInt8 := [42, 3, 181, 0, 99, 3, 60, 27, 42, 180, 0, 53, 16, 36, 104, 162, 0, 16, 42, 180, 0, 50, 27, 3]
abbrev dktX1_find_0 : List UInt8 := dkwX1_find_0 ++ dktX1_find_1
theorem dksX1_find_0 : cX1_find.data.toList.drop 0 = dktX1_find_0 := by decide +kernel
theorem dksX1_find_1 : cX1_find.data.toList.drop 24 = dktX1_find_1 := dk_seg dksX1_find_0 24 rfl rfl
theorem dksX1_find_2 : cX1_find.data.toList.drop 48 = dktX1_find_2 := dk_seg dksX1_find_1 24 rfl rfl
theorem dksX1_find_3 : cX1_find.data.toList.drop 71 = dktX1_find_3 := dk_seg dksX1_find_2 23 rfl rfl
theorem dksX1_find_4 : cX1_find.data.toList.drop 95 = dktX1_find_4 := dk_seg dksX1_find_3 24 rfl rfl
theorem dX1_find_0 : decode cX1_find 0 = .ok (.aload_n 0, 1) := dk_42 (dk_at dksX1_find_0 0 rfl rfl)
theorem dX1_find_1 : decode cX1_find 1 = .ok (.iconst 0, 1) := dk_3 (dk_at dksX1_find_0 1 rfl rfl)
theorem dX1_find_2 : decode cX1_find 2 = .ok (.putfield 99, 3) := dk_181 0 99 (dk_at dksX1_find_0 2 rfl rfl)
theorem dX1_find_5 : decode cX1_find 5 = .ok (.iconst 0, 1) := dk_3 (dk_at dksX1_find_0 5 rfl rfl)
theorem dX1_find_6 : decode cX1_find 6 = .ok (.istore_n 1, 1) := dk_60 (dk_at dksX1_find_0 6 rfl rfl)
theorem dX1_find_7 : decode cX1_find 7 = .ok (.iload_n 1, 1) := dk_27 (dk_at dksX1_find_0 7 rfl rfl)
theorem dX1_find_8 : decode cX1_find 8 = .ok (.aload_n 0, 1) := dk_42 (dk_at dksX1_find_0 8 rfl rfl)
theorem dX1_find_9 : decode cX1_find 9 = .ok (.getfield 53, 3) := dk_180 0 53 (dk_at dksX1_find_0 9 rfl rfl)
theorem dX1_find_12 : decode cX1_find 12 = .ok (.bipush 36, 2) := dk_16 36 (dk_at dksX1_find_0 12 rfl rfl)
theorem dX1_find_14 : decode cX1_find 14 = .ok (.imul, 1) := dk_104 (dk_at dksX1_find_0 14 rfl rfl)
theorem dX1_find_15 : decode cX1_find 15 = .ok (.if_icmp .ge 16, 3) := dk_162 0 16 (dk_at dksX1_find_0 15 rfl rfl)
theorem dX1_find_18 : decode cX1_find 18 = .ok (.aload_n 0, 1) := dk_42 (dk_at dksX1_find_0 18 rfl rfl)
theorem dX1_find_19 : decode cX1_find 19 = .ok (.getfield 50, 3) := dk_180 0 50 (dk_at dksX1_find_0 19 rfl rfl)
theorem dX1_find_22 : decode cX1_find 22 = .ok (.iload_n 1, 1) := dk_27 (dk_at dksX1_find_0 22 rfl rfl)
theorem dX1_find_23 : decode cX1_find 23 = .ok (.iconst 0, 1) := dk_3 (dk_at dksX1_find_0 23 rfl rfl)
theorem dX1_find_24 : decode cX1_find 24 = .ok (.iastore, 1) := dk_79 (dk_at dksX1_find_1 0 rfl rfl)
theorem dX1_find_25 : decode cX1_find 25 = .ok (.iinc 1 1, 3) := dk_132 1 1 (dk_at dksX1_find_1 1 rfl rfl)
theorem dX1_find_28 : decode cX1_find 28 = .ok (.goto (-21), 3) := dk_167 255 235 (dk_at dksX1_find_1 4 rfl rfl)
theorem dX1_find_31 : decode cX1_find 31 = .ok (.iconst 0, 1) := dk_3 (dk_at dksX1_find_1 7 rfl rfl)
theorem dX1_find_32 : decode cX1_find 32 = .ok (.istore_n 1, 1) := dk_60 (dk_at dksX1_find_1 8 rfl rfl)
theorem dX1_find_33 : decode cX1_find 33 = .ok (.iload_n 1, 1) := dk_27 (dk_at dksX1_find_1 9 rfl rfl)
theorem dX1_find_34 : decode cX1_find 34 = .ok (.aload_n 0, 1) := dk_42 (dk_at dksX1_find_1 10 rfl rfl)
theorem dX1_find_35 : decode cX1_find 35 = .ok (.getfield 53, 3) := dk_180 0 53 (dk_at dksX1_find_1 11 rfl rfl)
theorem dX1_find_38 : decode cX1_find 38 = .ok (.if_icmp .ge 60, 3) := dk_162 0 60 (dk_at dksX1_find_1 14 rfl rfl)
theorem dX1_find_41 : decode cX1_find 41 = .ok (.aload_n 0, 1) := dk_42 (dk_at dksX1_find_1 17 rfl rfl)
theorem dX1_find_42 : decode cX1_find 42 = .ok (.getfield 43, 3) := dk_180 0 43 (dk_at dksX1_find_1 18 rfl rfl)
theorem dX1_find_45 : decode cX1_find 45 = .ok (.iload_n 1, 1) := dk_27 (dk_at dksX1_find_1 21 rfl rfl)
theorem dX1_find_46 : decode cX1_find 46 = .ok (.aaload, 1) := dk_50 (dk_at dksX1_find_1 22 rfl rfl)
theorem dX1_find_47 : decode cX1_find 47 = .ok (.astore_n 2, 1) := dk_77 (dk_at dksX1_find_1 23 rfl rfl)
theorem dX1_find_48 : decode cX1_find 48 = .ok (.aload_n 0, 1) := dk_42 (dk_at dksX1_find_2 0 rfl rfl)
theorem dX1_find_49 : decode cX1_find 49 = .ok (.iload_n 1, 1) := dk_27 (dk_at dksX1_find_2 1 rfl rfl)
theorem dX1_find_50 : decode cX1_find 50 = .ok (.aload_n 2, 1) := dk_44 (dk_at dksX1_find_2 2 rfl rfl)
theorem dX1_find_51 : decode cX1_find 51 = .ok (.getfield 76, 3) := dk_180 0 76 (dk_at dksX1_find_2 3 rfl rfl)
theorem dX1_find_54 : decode cX1_find 54 = .ok (.aload_n 2, 1) := dk_44 (dk_at dksX1_find_2 6 rfl rfl)
theorem dX1_find_55 : decode cX1_find 55 = .ok (.invokevirtual 105, 3) := dk_182 0 105 (dk_at dksX1_find_2 7 rfl rfl)
theorem dX1_find_58 : decode cX1_find 58 = .ok (.invokevirtual 108, 3) := dk_182 0 108 (dk_at dksX1_find_2 10 rfl rfl)
theorem dX1_find_61 : decode cX1_find 61 = .ok (.iconst 0, 1) := dk_3 (dk_at dksX1_find_2 13 rfl rfl)
theorem dX1_find_62 : decode cX1_find 62 = .ok (.istore_n 3, 1) := dk_62 (dk_at dksX1_find_2 14 rfl rfl)
theorem dX1_find_63 : decode cX1_find 63 = .ok (.iload_n 3, 1) := dk_29 (dk_at dksX1_find_2 15 rfl rfl)
theorem dX1_find_64 : decode cX1_find 64 = .ok (.iconst 4, 1) := dk_7 (dk_at dksX1_find_2 16 rfl rfl)
theorem dX1_find_65 : decode cX1_find 65 = .ok (.if_icmp .ge 27, 3) := dk_162 0 27 (dk_at dksX1_find_2 17 rfl rfl)
theorem dX1_find_68 : decode cX1_find 68 = .ok (.aload_n 0, 1) := dk_42 (dk_at dksX1_find_2 20 rfl rfl)
theorem dX1_find_69 : decode cX1_find 69 = .ok (.iload_n 1, 1) := dk_27 (dk_at dksX1_find_2 21 rfl rfl)
theorem dX1_find_70 : decode cX1_find 70 = .ok (.aload_n 2, 1) := dk_44 (dk_at dksX1_find_2 22 rfl rfl)
theorem dX1_find_71 : decode cX1_find 71 = .ok (.getfield 76, 3) := dk_180 0 76 (dk_at dksX1_find_3 0 rfl rfl)
theorem dX1_find_74 : decode cX1_find 74 = .ok (.iload_n 3, 1) := dk_29 (dk_at dksX1_find_3 3 rfl rfl)
theorem dX1_find_75 : decode cX1_find 75 = .ok (.invokestatic 79, 3) := dk_184 0 79 (dk_at dksX1_find_3 4 rfl rfl)
theorem dX1_find_78 : decode cX1_find 78 = .ok (.aload_n 2, 1) := dk_44 (dk_at dksX1_find_3 7 rfl rfl)
theorem dX1_find_79 : decode cX1_find 79 = .ok (.iload_n 3, 1) := dk_29 (dk_at dksX1_find_3 8 rfl rfl)
theorem dX1_find_80 : decode cX1_find 80 = .ok (.invokevirtual 112, 3) := dk_182 0 112 (dk_at dksX1_find_3 9 rfl rfl)
theorem dX1_find_83 : decode cX1_find 83 = .ok (.invokevirtual 108, 3) := dk_182 0 108 (dk_at dksX1_find_3 12 rfl rfl)
theorem dX1_find_86 : decode cX1_find 86 = .ok (.iinc 3 1, 3) := dk_132 3 1 (dk_at dksX1_find_3 15 rfl rfl)
theorem dX1_find_89 : decode cX1_find 89 = .ok (.goto (-26), 3) := dk_167 255 230 (dk_at dksX1_find_3 18 rfl rfl)
theorem dX1_find_92 : decode cX1_find 92 = .ok (.iinc 1 1, 3) := dk_132 1 1 (dk_at dksX1_find_3 21 rfl rfl)
theorem dX1_find_95 : decode cX1_find 95 = .ok (.goto (-62), 3) := dk_167 255 194 (dk_at dksX1_find_4 0 rfl rfl)
theorem dX1_find_98 : decode cX1_find 98 = .ok (.aload_n 0, 1) := dk_42 (dk_at dksX1_find_4 3 rfl rfl)
theorem dX1_find_99 : decode cX1_find 99 = .ok (.areturn, 1) := dk_176 (dk_at dksX1_find_4 4 rfl rfl)
abbrev cX1_falls : ByteArray := prog_22_method_7_code
def yX1_falls : MethodName := ⟨RX1, "falls", "(III)V"⟩
def dkwX1_falls_5 : List UInt8 := [104, 21, 5, 96, 92, 46, 25, 4, 180, 0, 102, 29, 104, 96, 79, 177]
abbrev dktX1_falls_5 : List UInt8 := dkwX1_falls_5 ++ []
def dkwX1_falls_4 : List UInt8 := [180, 0, 99, 25, 4, 180, 0, 102, 29, 104, 96, 181, 0, 99, 167, 0, 25, 42, 180, 0, 50, 16, 36, 27]
abbrev dktX1_falls_4 : List UInt8 := dkwX1_falls_4 ++ dktX1_falls_5
def dkwX1_falls_3 : List UInt8 := [21, 5, 182, 0, 95, 54, 5, 132, 6, 1, 167, 255, 228, 21, 5, 16, 247, 160, 0, 22, 42, 89]
abbrev dktX1_falls_3 : List UInt8 := dkwX1_falls_3 ++ dktX1_falls_4
def dkwX1_falls_2 : List UInt8 := [54, 5, 3, 54, 6, 21, 6, 25, 4, 182, 0, 91, 162, 0, 24, 21, 5, 16, 247, 159, 0, 17, 42]
abbrev dktX1_falls_2 : List UInt8 := dkwX1_falls_2 ++ dktX1_falls_3
def dkwX1_falls_1 : List UInt8 := [153, 0, 22, 28, 42, 180, 0, 57, 7, 108, 42, 180, 0, 57, 7, 112, 184, 0, 87, 167, 0, 4, 28]
abbrev dktX1_falls_1 : List UInt8 := dkwX1_falls_1 ++ dktX1_falls_2
def dkwX1_falls_0 : List UInt8 := [42, 180, 0, 43, 27, 50, 58, 4, 28, 16, 247, 160, 0, 8, 16, 247, 167, 0, 31, 25, 4, 182, 0, 83]
abbrev dktX1_falls_0 : List UInt8 := dkwX1_falls_0 ++ dktX1_falls_1
theorem dksX1_falls_0 : cX1_falls.data.toList.drop 0 = dktX1_falls_0 := by decide +kernel
theorem dksX1_falls_1 : cX1_falls.data.toList.drop 24 = dktX1_falls_1 := dk_seg dksX1_falls_0 24 rfl rfl
theorem dksX1_falls_2 : cX1_falls.data.toList.drop 47 = dktX1_falls_2 := dk_seg dksX1_falls_1 23 rfl rfl
theorem dksX1_falls_3 : cX1_falls.data.toList.drop 70 = dktX1_falls_3 := dk_seg dksX1_falls_2 23 rfl rfl
theorem dksX1_falls_4 : cX1_falls.data.toList.drop 92 = dktX1_falls_4 := dk_seg dksX1_falls_3 22 rfl rfl
theorem dksX1_falls_5 : cX1_falls.data.toList.drop 116 = dktX1_falls_5 := dk_seg dksX1_falls_4 24 rfl rfl
theorem dX1_falls_0 : decode cX1_falls 0 = .ok (.aload_n 0, 1) := dk_42 (dk_at dksX1_falls_0 0 rfl rfl)
theorem dX1_falls_1 : decode cX1_falls 1 = .ok (.getfield 43, 3) := dk_180 0 43 (dk_at dksX1_falls_0 1 rfl rfl)
theorem dX1_falls_4 : decode cX1_falls 4 = .ok (.iload_n 1, 1) := dk_27 (dk_at dksX1_falls_0 4 rfl rfl)
theorem dX1_falls_5 : decode cX1_falls 5 = .ok (.aaload, 1) := dk_50 (dk_at dksX1_falls_0 5 rfl rfl)
theorem dX1_falls_6 : decode cX1_falls 6 = .ok (.astore 4, 2) := dk_58 4 (dk_at dksX1_falls_0 6 rfl rfl)
theorem dX1_falls_8 : decode cX1_falls 8 = .ok (.iload_n 2, 1) := dk_28 (dk_at dksX1_falls_0 8 rfl rfl)
theorem dX1_falls_9 : decode cX1_falls 9 = .ok (.bipush (-9), 2) := dk_16 247 (dk_at dksX1_falls_0 9 rfl rfl)
theorem dX1_falls_11 : decode cX1_falls 11 = .ok (.if_icmp .ne 8, 3) := dk_160 0 8 (dk_at dksX1_falls_0 11 rfl rfl)
theorem dX1_falls_14 : decode cX1_falls 14 = .ok (.bipush (-9), 2) := dk_16 247 (dk_at dksX1_falls_0 14 rfl rfl)
theorem dX1_falls_16 : decode cX1_falls 16 = .ok (.goto 31, 3) := dk_167 0 31 (dk_at dksX1_falls_0 16 rfl rfl)
theorem dX1_falls_19 : decode cX1_falls 19 = .ok (.aload 4, 2) := dk_25 4 (dk_at dksX1_falls_0 19 rfl rfl)
theorem dX1_falls_21 : decode cX1_falls 21 = .ok (.invokevirtual 83, 3) := dk_182 0 83 (dk_at dksX1_falls_0 21 rfl rfl)
theorem dX1_falls_24 : decode cX1_falls 24 = .ok (.ifCond .eq 22, 3) := dk_153 0 22 (dk_at dksX1_falls_1 0 rfl rfl)
theorem dX1_falls_27 : decode cX1_falls 27 = .ok (.iload_n 2, 1) := dk_28 (dk_at dksX1_falls_1 3 rfl rfl)
theorem dX1_falls_28 : decode cX1_falls 28 = .ok (.aload_n 0, 1) := dk_42 (dk_at dksX1_falls_1 4 rfl rfl)
theorem dX1_falls_29 : decode cX1_falls 29 = .ok (.getfield 57, 3) := dk_180 0 57 (dk_at dksX1_falls_1 5 rfl rfl)
theorem dX1_falls_32 : decode cX1_falls 32 = .ok (.iconst 4, 1) := dk_7 (dk_at dksX1_falls_1 8 rfl rfl)
theorem dX1_falls_33 : decode cX1_falls 33 = .ok (.idiv, 1) := dk_108 (dk_at dksX1_falls_1 9 rfl rfl)
theorem dX1_falls_34 : decode cX1_falls 34 = .ok (.aload_n 0, 1) := dk_42 (dk_at dksX1_falls_1 10 rfl rfl)
theorem dX1_falls_35 : decode cX1_falls 35 = .ok (.getfield 57, 3) := dk_180 0 57 (dk_at dksX1_falls_1 11 rfl rfl)
theorem dX1_falls_38 : decode cX1_falls 38 = .ok (.iconst 4, 1) := dk_7 (dk_at dksX1_falls_1 14 rfl rfl)
theorem dX1_falls_39 : decode cX1_falls 39 = .ok (.irem, 1) := dk_112 (dk_at dksX1_falls_1 15 rfl rfl)
theorem dX1_falls_40 : decode cX1_falls 40 = .ok (.invokestatic 87, 3) := dk_184 0 87 (dk_at dksX1_falls_1 16 rfl rfl)
theorem dX1_falls_43 : decode cX1_falls 43 = .ok (.goto 4, 3) := dk_167 0 4 (dk_at dksX1_falls_1 19 rfl rfl)
theorem dX1_falls_46 : decode cX1_falls 46 = .ok (.iload_n 2, 1) := dk_28 (dk_at dksX1_falls_1 22 rfl rfl)
theorem dX1_falls_47 : decode cX1_falls 47 = .ok (.istore 5, 2) := dk_54 5 (dk_at dksX1_falls_2 0 rfl rfl)
theorem dX1_falls_49 : decode cX1_falls 49 = .ok (.iconst 0, 1) := dk_3 (dk_at dksX1_falls_2 2 rfl rfl)
theorem dX1_falls_50 : decode cX1_falls 50 = .ok (.istore 6, 2) := dk_54 6 (dk_at dksX1_falls_2 3 rfl rfl)
theorem dX1_falls_52 : decode cX1_falls 52 = .ok (.iload 6, 2) := dk_21 6 (dk_at dksX1_falls_2 5 rfl rfl)
theorem dX1_falls_54 : decode cX1_falls 54 = .ok (.aload 4, 2) := dk_25 4 (dk_at dksX1_falls_2 7 rfl rfl)
theorem dX1_falls_56 : decode cX1_falls 56 = .ok (.invokevirtual 91, 3) := dk_182 0 91 (dk_at dksX1_falls_2 9 rfl rfl)
theorem dX1_falls_59 : decode cX1_falls 59 = .ok (.if_icmp .ge 24, 3) := dk_162 0 24 (dk_at dksX1_falls_2 12 rfl rfl)
theorem dX1_falls_62 : decode cX1_falls 62 = .ok (.iload 5, 2) := dk_21 5 (dk_at dksX1_falls_2 15 rfl rfl)
theorem dX1_falls_64 : decode cX1_falls 64 = .ok (.bipush (-9), 2) := dk_16 247 (dk_at dksX1_falls_2 17 rfl rfl)
theorem dX1_falls_66 : decode cX1_falls 66 = .ok (.if_icmp .eq 17, 3) := dk_159 0 17 (dk_at dksX1_falls_2 19 rfl rfl)
theorem dX1_falls_69 : decode cX1_falls 69 = .ok (.aload_n 0, 1) := dk_42 (dk_at dksX1_falls_2 22 rfl rfl)
theorem dX1_falls_70 : decode cX1_falls 70 = .ok (.iload 5, 2) := dk_21 5 (dk_at dksX1_falls_3 0 rfl rfl)
theorem dX1_falls_72 : decode cX1_falls 72 = .ok (.invokevirtual 95, 3) := dk_182 0 95 (dk_at dksX1_falls_3 2 rfl rfl)
theorem dX1_falls_75 : decode cX1_falls 75 = .ok (.istore 5, 2) := dk_54 5 (dk_at dksX1_falls_3 5 rfl rfl)
theorem dX1_falls_77 : decode cX1_falls 77 = .ok (.iinc 6 1, 3) := dk_132 6 1 (dk_at dksX1_falls_3 7 rfl rfl)
theorem dX1_falls_80 : decode cX1_falls 80 = .ok (.goto (-28), 3) := dk_167 255 228 (dk_at dksX1_falls_3 10 rfl rfl)
theorem dX1_falls_83 : decode cX1_falls 83 = .ok (.iload 5, 2) := dk_21 5 (dk_at dksX1_falls_3 13 rfl rfl)
theorem dX1_falls_85 : decode cX1_falls 85 = .ok (.bipush (-9), 2) := dk_16 247 (dk_at dksX1_falls_3 15 rfl rfl)
theorem dX1_falls_87 : decode cX1_falls 87 = .ok (.if_icmp .ne 22, 3) := dk_160 0 22 (dk_at dksX1_falls_3 17 rfl rfl)
theorem dX1_falls_90 : decode cX1_falls 90 = .ok (.aload_n 0, 1) := dk_42 (dk_at dksX1_falls_3 20 rfl rfl)
theorem dX1_falls_91 : decode cX1_falls 91 = .ok (.dup, 1) := dk_89 (dk_at dksX1_falls_3 21 rfl rfl)
theorem dX1_falls_92 : decode cX1_falls 92 = .ok (.getfield 99, 3) := dk_180 0 99 (dk_at dksX1_falls_4 0 rfl rfl)
theorem dX1_falls_95 : decode cX1_falls 95 = .ok (.aload 4, 2) := dk_25 4 (dk_at dksX1_falls_4 3 rfl rfl)
theorem dX1_falls_97 : decode cX1_falls 97 = .ok (.getfield 102, 3) := dk_180 0 102 (dk_at dksX1_falls_4 5 rfl rfl)
theorem dX1_falls_100 : decode cX1_falls 100 = .ok (.iload_n 3, 1) := dk_29 (dk_at dksX1_falls_4 8 rfl rfl)
theorem dX1_falls_101 : decode cX1_falls 101 = .ok (.imul, 1) := dk_104 (dk_at dksX1_falls_4 9 rfl rfl)
theorem dX1_falls_102 : decode cX1_falls 102 = .ok (.iadd, 1) := dk_96 (dk_at dksX1_falls_4 10 rfl rfl)
theorem dX1_falls_103 : decode cX1_falls 103 = .ok (.putfield 99, 3) := dk_181 0 99 (dk_at dksX1_falls_4 11 rfl rfl)
theorem dX1_falls_106 : decode cX1_falls 106 = .ok (.goto 25, 3) := dk_167 0 25 (dk_at dksX1_falls_4 14 rfl rfl)
theorem dX1_falls_109 : decode cX1_falls 109 = .ok (.aload_n 0, 1) := dk_42 (dk_at dksX1_falls_4 17 rfl rfl)
theorem dX1_falls_110 : decode cX1_falls 110 = .ok (.getfield 50, 3) := dk_180 0 50 (dk_at dksX1_falls_4 18 rfl rfl)
theorem dX1_falls_113 : decode cX1_falls 113 = .ok (.bipush 36, 2) := dk_16 36 (dk_at dksX1_falls_4 21 rfl rfl)
theorem dX1_falls_115 : decode cX1_falls 115 = .ok (.iload_n 1, 1) := dk_27 (dk_at dksX1_falls_4 23 rfl rfl)
theorem dX1_falls_116 : decode cX1_falls 116 = .ok (.imul, 1) := dk_104 (dk_at dksX1_falls_5 0 rfl rfl)
theorem dX1_falls_117 : decode cX1_falls 117 = .ok (.iload 5, 2) := dk_21 5 (dk_at dksX1_falls_5 1 rfl rfl)
theorem dX1_falls_119 : decode cX1_falls 119 = .ok (.iadd, 1) := dk_96 (dk_at dksX1_falls_5 3 rfl rfl)
theorem dX1_falls_120 : decode cX1_falls 120 = .ok (.dup2, 1) := dk_92 (dk_at dksX1_falls_5 4 rfl rfl)
theorem dX1_falls_121 : decode cX1_falls 121 = .ok (.iaload, 1) := dk_46 (dk_at dksX1_falls_5 5 rfl rfl)
theorem dX1_falls_122 : decode cX1_falls 122 = .ok (.aload 4, 2) := dk_25 4 (dk_at dksX1_falls_5 6 rfl rfl)
theorem dX1_falls_124 : decode cX1_falls 124 = .ok (.getfield 102, 3) := dk_180 0 102 (dk_at dksX1_falls_5 8 rfl rfl)
theorem dX1_falls_127 : decode cX1_falls 127 = .ok (.iload_n 3, 1) := dk_29 (dk_at dksX1_falls_5 11 rfl rfl)
theorem dX1_falls_128 : decode cX1_falls 128 = .ok (.imul, 1) := dk_104 (dk_at dksX1_falls_5 12 rfl rfl)
theorem dX1_falls_129 : decode cX1_falls 129 = .ok (.iadd, 1) := dk_96 (dk_at dksX1_falls_5 13 rfl rfl)
theorem dX1_falls_130 : decode cX1_falls 130 = .ok (.iastore, 1) := dk_79 (dk_at dksX1_falls_5 14 rfl rfl)
theorem dX1_falls_131 : decode cX1_falls 131 = .ok (.return_, 1) := dk_177 (dk_at dksX1_falls_5 15 rfl rfl)
abbrev cX1_rolled : ByteArray := prog_22_method_6_code
def yX1_rolled : MethodName := ⟨RX1, "rolled", "(I)I"⟩
def dkwX1_rolled_2 : List UInt8 := [132, 3, 1, 167, 255, 211, 28, 172]
abbrev dktX1_rolled_2 : List UInt8 := dkwX1_rolled_2 ++ []
def dkwX1_rolled_1 : List UInt8 := [180, 0, 34, 21, 4, 46, 42, 180, 0, 34, 28, 46, 162, 0, 8, 21, 4, 167, 0, 4, 28, 61]
abbrev dktX1_rolled_1 : List UInt8 := dkwX1_rolled_1 ++ dktX1_rolled_2
def dkwX1_rolled_0 : List UInt8 := [27, 61, 3, 62, 29, 7, 162, 0, 46, 27, 29, 184, 0, 79, 54, 4, 21, 4, 16, 247, 159, 0, 24, 42]
abbrev dktX1_rolled_0 : List UInt8 := dkwX1_rolled_0 ++ dktX1_rolled_1
theorem dksX1_rolled_0 : cX1_rolled.data.toList.drop 0 = dktX1_rolled_0 := by decide +kernel
theorem dksX1_rolled_1 : cX1_rolled.data.toList.drop 24 = dktX1_rolled_1 := dk_seg dksX1_rolled_0 24 rfl rfl
theorem dksX1_rolled_2 : cX1_rolled.data.toList.drop 46 = dktX1_rolled_2 := dk_seg dksX1_rolled_1 22 rfl rfl
theorem dX1_rolled_0 : decode cX1_rolled 0 = .ok (.iload_n 1, 1) := dk_27 (dk_at dksX1_rolled_0 0 rfl rfl)
theorem dX1_rolled_1 : decode cX1_rolled 1 = .ok (.istore_n 2, 1) := dk_61 (dk_at dksX1_rolled_0 1 rfl rfl)
theorem dX1_rolled_2 : decode cX1_rolled 2 = .ok (.iconst 0, 1) := dk_3 (dk_at dksX1_rolled_0 2 rfl rfl)
theorem dX1_rolled_3 : decode cX1_rolled 3 = .ok (.istore_n 3, 1) := dk_62 (dk_at dksX1_rolled_0 3 rfl rfl)
theorem dX1_rolled_4 : decode cX1_rolled 4 = .ok (.iload_n 3, 1) := dk_29 (dk_at dksX1_rolled_0 4 rfl rfl)
theorem dX1_rolled_5 : decode cX1_rolled 5 = .ok (.iconst 4, 1) := dk_7 (dk_at dksX1_rolled_0 5 rfl rfl)
theorem dX1_rolled_6 : decode cX1_rolled 6 = .ok (.if_icmp .ge 46, 3) := dk_162 0 46 (dk_at dksX1_rolled_0 6 rfl rfl)
theorem dX1_rolled_9 : decode cX1_rolled 9 = .ok (.iload_n 1, 1) := dk_27 (dk_at dksX1_rolled_0 9 rfl rfl)
theorem dX1_rolled_10 : decode cX1_rolled 10 = .ok (.iload_n 3, 1) := dk_29 (dk_at dksX1_rolled_0 10 rfl rfl)
theorem dX1_rolled_11 : decode cX1_rolled 11 = .ok (.invokestatic 79, 3) := dk_184 0 79 (dk_at dksX1_rolled_0 11 rfl rfl)
theorem dX1_rolled_14 : decode cX1_rolled 14 = .ok (.istore 4, 2) := dk_54 4 (dk_at dksX1_rolled_0 14 rfl rfl)
theorem dX1_rolled_16 : decode cX1_rolled 16 = .ok (.iload 4, 2) := dk_21 4 (dk_at dksX1_rolled_0 16 rfl rfl)
theorem dX1_rolled_18 : decode cX1_rolled 18 = .ok (.bipush (-9), 2) := dk_16 247 (dk_at dksX1_rolled_0 18 rfl rfl)
theorem dX1_rolled_20 : decode cX1_rolled 20 = .ok (.if_icmp .eq 24, 3) := dk_159 0 24 (dk_at dksX1_rolled_0 20 rfl rfl)
theorem dX1_rolled_23 : decode cX1_rolled 23 = .ok (.aload_n 0, 1) := dk_42 (dk_at dksX1_rolled_0 23 rfl rfl)
theorem dX1_rolled_24 : decode cX1_rolled 24 = .ok (.getfield 34, 3) := dk_180 0 34 (dk_at dksX1_rolled_1 0 rfl rfl)
theorem dX1_rolled_27 : decode cX1_rolled 27 = .ok (.iload 4, 2) := dk_21 4 (dk_at dksX1_rolled_1 3 rfl rfl)
theorem dX1_rolled_29 : decode cX1_rolled 29 = .ok (.iaload, 1) := dk_46 (dk_at dksX1_rolled_1 5 rfl rfl)
theorem dX1_rolled_30 : decode cX1_rolled 30 = .ok (.aload_n 0, 1) := dk_42 (dk_at dksX1_rolled_1 6 rfl rfl)
theorem dX1_rolled_31 : decode cX1_rolled 31 = .ok (.getfield 34, 3) := dk_180 0 34 (dk_at dksX1_rolled_1 7 rfl rfl)
theorem dX1_rolled_34 : decode cX1_rolled 34 = .ok (.iload_n 2, 1) := dk_28 (dk_at dksX1_rolled_1 10 rfl rfl)
theorem dX1_rolled_35 : decode cX1_rolled 35 = .ok (.iaload, 1) := dk_46 (dk_at dksX1_rolled_1 11 rfl rfl)
theorem dX1_rolled_36 : decode cX1_rolled 36 = .ok (.if_icmp .ge 8, 3) := dk_162 0 8 (dk_at dksX1_rolled_1 12 rfl rfl)
theorem dX1_rolled_39 : decode cX1_rolled 39 = .ok (.iload 4, 2) := dk_21 4 (dk_at dksX1_rolled_1 15 rfl rfl)
theorem dX1_rolled_41 : decode cX1_rolled 41 = .ok (.goto 4, 3) := dk_167 0 4 (dk_at dksX1_rolled_1 17 rfl rfl)
theorem dX1_rolled_44 : decode cX1_rolled 44 = .ok (.iload_n 2, 1) := dk_28 (dk_at dksX1_rolled_1 20 rfl rfl)
theorem dX1_rolled_45 : decode cX1_rolled 45 = .ok (.istore_n 2, 1) := dk_61 (dk_at dksX1_rolled_1 21 rfl rfl)
theorem dX1_rolled_46 : decode cX1_rolled 46 = .ok (.iinc 3 1, 3) := dk_132 3 1 (dk_at dksX1_rolled_2 0 rfl rfl)
theorem dX1_rolled_49 : decode cX1_rolled 49 = .ok (.goto (-45), 3) := dk_167 255 211 (dk_at dksX1_rolled_2 3 rfl rfl)
theorem dX1_rolled_52 : decode cX1_rolled 52 = .ok (.iload_n 2, 1) := dk_28 (dk_at dksX1_rolled_2 6 rfl rfl)
theorem dX1_rolled_53 : decode cX1_rolled 53 = .ok (.ireturn, 1) := dk_172 (dk_at dksX1_rolled_2 7 rfl rfl)
abbrev cX1_liesIn : ByteArray := prog_22_method_9_code
def yX1_liesIn : MethodName := ⟨RX1, "liesIn", "(I)I"⟩
def dkwX1_liesIn_1 : List UInt8 := [96, 61, 132, 3, 1, 167, 255, 231, 28, 172]
abbrev dktX1_liesIn_1 : List UInt8 := dkwX1_liesIn_1 ++ []
def dkwX1_liesIn_0 : List UInt8 := [3, 61, 3, 62, 29, 42, 180, 0, 53, 162, 0, 23, 28, 42, 180, 0, 50, 16, 36, 29, 104, 27, 96, 46]
abbrev dktX1_liesIn_0 : List UInt8 := dkwX1_liesIn_0 ++ dktX1_liesIn_1
theorem dksX1_liesIn_0 : cX1_liesIn.data.toList.drop 0 = dktX1_liesIn_0 := by decide +kernel
theorem dksX1_liesIn_1 : cX1_liesIn.data.toList.drop 24 = dktX1_liesIn_1 := dk_seg dksX1_liesIn_0 24 rfl rfl
theorem dX1_liesIn_0 : decode cX1_liesIn 0 = .ok (.iconst 0, 1) := dk_3 (dk_at dksX1_liesIn_0 0 rfl rfl)
theorem dX1_liesIn_1 : decode cX1_liesIn 1 = .ok (.istore_n 2, 1) := dk_61 (dk_at dksX1_liesIn_0 1 rfl rfl)
theorem dX1_liesIn_2 : decode cX1_liesIn 2 = .ok (.iconst 0, 1) := dk_3 (dk_at dksX1_liesIn_0 2 rfl rfl)
theorem dX1_liesIn_3 : decode cX1_liesIn 3 = .ok (.istore_n 3, 1) := dk_62 (dk_at dksX1_liesIn_0 3 rfl rfl)
theorem dX1_liesIn_4 : decode cX1_liesIn 4 = .ok (.iload_n 3, 1) := dk_29 (dk_at dksX1_liesIn_0 4 rfl rfl)
theorem dX1_liesIn_5 : decode cX1_liesIn 5 = .ok (.aload_n 0, 1) := dk_42 (dk_at dksX1_liesIn_0 5 rfl rfl)
theorem dX1_liesIn_6 : decode cX1_liesIn 6 = .ok (.getfield 53, 3) := dk_180 0 53 (dk_at dksX1_liesIn_0 6 rfl rfl)
theorem dX1_liesIn_9 : decode cX1_liesIn 9 = .ok (.if_icmp .ge 23, 3) := dk_162 0 23 (dk_at dksX1_liesIn_0 9 rfl rfl)
theorem dX1_liesIn_12 : decode cX1_liesIn 12 = .ok (.iload_n 2, 1) := dk_28 (dk_at dksX1_liesIn_0 12 rfl rfl)
theorem dX1_liesIn_13 : decode cX1_liesIn 13 = .ok (.aload_n 0, 1) := dk_42 (dk_at dksX1_liesIn_0 13 rfl rfl)
theorem dX1_liesIn_14 : decode cX1_liesIn 14 = .ok (.getfield 50, 3) := dk_180 0 50 (dk_at dksX1_liesIn_0 14 rfl rfl)
theorem dX1_liesIn_17 : decode cX1_liesIn 17 = .ok (.bipush 36, 2) := dk_16 36 (dk_at dksX1_liesIn_0 17 rfl rfl)
theorem dX1_liesIn_19 : decode cX1_liesIn 19 = .ok (.iload_n 3, 1) := dk_29 (dk_at dksX1_liesIn_0 19 rfl rfl)
theorem dX1_liesIn_20 : decode cX1_liesIn 20 = .ok (.imul, 1) := dk_104 (dk_at dksX1_liesIn_0 20 rfl rfl)
theorem dX1_liesIn_21 : decode cX1_liesIn 21 = .ok (.iload_n 1, 1) := dk_27 (dk_at dksX1_liesIn_0 21 rfl rfl)
theorem dX1_liesIn_22 : decode cX1_liesIn 22 = .ok (.iadd, 1) := dk_96 (dk_at dksX1_liesIn_0 22 rfl rfl)
theorem dX1_liesIn_23 : decode cX1_liesIn 23 = .ok (.iaload, 1) := dk_46 (dk_at dksX1_liesIn_0 23 rfl rfl)
theorem dX1_liesIn_24 : decode cX1_liesIn 24 = .ok (.iadd, 1) := dk_96 (dk_at dksX1_liesIn_1 0 rfl rfl)
theorem dX1_liesIn_25 : decode cX1_liesIn 25 = .ok (.istore_n 2, 1) := dk_61 (dk_at dksX1_liesIn_1 1 rfl rfl)
theorem dX1_liesIn_26 : decode cX1_liesIn 26 = .ok (.iinc 3 1, 3) := dk_132 3 1 (dk_at dksX1_liesIn_1 2 rfl rfl)
theorem dX1_liesIn_29 : decode cX1_liesIn 29 = .ok (.goto (-25), 3) := dk_167 255 231 (dk_at dksX1_liesIn_1 5 rfl rfl)
theorem dX1_liesIn_32 : decode cX1_liesIn 32 = .ok (.iload_n 2, 1) := dk_28 (dk_at dksX1_liesIn_1 8 rfl rfl)
theorem dX1_liesIn_33 : decode cX1_liesIn 33 = .ok (.ireturn, 1) := dk_172 (dk_at dksX1_liesIn_1 9 rfl rfl)
abbrev cX1_share : ByteArray := prog_22_method_10_code
def yX1_share : MethodName := ⟨RX1, "share", "(I)I"⟩
def dkwX1_share_2 : List UInt8 := [172]
abbrev dktX1_share_2 : List UInt8 := dkwX1_share_2 ++ []
def dkwX1_share_1 : List UInt8 := [182, 0, 115, 154, 0, 11, 42, 29, 182, 0, 118, 167, 0, 4, 3, 96, 61, 132, 3, 1, 167, 255, 217, 28]
abbrev dktX1_share_1 : List UInt8 := dkwX1_share_1 ++ dktX1_share_2
def dkwX1_share_0 : List UInt8 := [3, 61, 3, 62, 29, 16, 36, 162, 0, 39, 28, 42, 180, 0, 30, 29, 46, 27, 160, 0, 19, 42, 29]
abbrev dktX1_share_0 : List UInt8 := dkwX1_share_0 ++ dktX1_share_1
theorem dksX1_share_0 : cX1_share.data.toList.drop 0 = dktX1_share_0 := by decide +kernel
theorem dksX1_share_1 : cX1_share.data.toList.drop 23 = dktX1_share_1 := dk_seg dksX1_share_0 23 rfl rfl
theorem dksX1_share_2 : cX1_share.data.toList.drop 47 = dktX1_share_2 := dk_seg dksX1_share_1 24 rfl rfl
theorem dX1_share_0 : decode cX1_share 0 = .ok (.iconst 0, 1) := dk_3 (dk_at dksX1_share_0 0 rfl rfl)
theorem dX1_share_1 : decode cX1_share 1 = .ok (.istore_n 2, 1) := dk_61 (dk_at dksX1_share_0 1 rfl rfl)
theorem dX1_share_2 : decode cX1_share 2 = .ok (.iconst 0, 1) := dk_3 (dk_at dksX1_share_0 2 rfl rfl)
theorem dX1_share_3 : decode cX1_share 3 = .ok (.istore_n 3, 1) := dk_62 (dk_at dksX1_share_0 3 rfl rfl)
theorem dX1_share_4 : decode cX1_share 4 = .ok (.iload_n 3, 1) := dk_29 (dk_at dksX1_share_0 4 rfl rfl)
theorem dX1_share_5 : decode cX1_share 5 = .ok (.bipush 36, 2) := dk_16 36 (dk_at dksX1_share_0 5 rfl rfl)
theorem dX1_share_7 : decode cX1_share 7 = .ok (.if_icmp .ge 39, 3) := dk_162 0 39 (dk_at dksX1_share_0 7 rfl rfl)
theorem dX1_share_10 : decode cX1_share 10 = .ok (.iload_n 2, 1) := dk_28 (dk_at dksX1_share_0 10 rfl rfl)
theorem dX1_share_11 : decode cX1_share 11 = .ok (.aload_n 0, 1) := dk_42 (dk_at dksX1_share_0 11 rfl rfl)
theorem dX1_share_12 : decode cX1_share 12 = .ok (.getfield 30, 3) := dk_180 0 30 (dk_at dksX1_share_0 12 rfl rfl)
theorem dX1_share_15 : decode cX1_share 15 = .ok (.iload_n 3, 1) := dk_29 (dk_at dksX1_share_0 15 rfl rfl)
theorem dX1_share_16 : decode cX1_share 16 = .ok (.iaload, 1) := dk_46 (dk_at dksX1_share_0 16 rfl rfl)
theorem dX1_share_17 : decode cX1_share 17 = .ok (.iload_n 1, 1) := dk_27 (dk_at dksX1_share_0 17 rfl rfl)
theorem dX1_share_18 : decode cX1_share 18 = .ok (.if_icmp .ne 19, 3) := dk_160 0 19 (dk_at dksX1_share_0 18 rfl rfl)
theorem dX1_share_21 : decode cX1_share 21 = .ok (.aload_n 0, 1) := dk_42 (dk_at dksX1_share_0 21 rfl rfl)
theorem dX1_share_22 : decode cX1_share 22 = .ok (.iload_n 3, 1) := dk_29 (dk_at dksX1_share_0 22 rfl rfl)
theorem dX1_share_23 : decode cX1_share 23 = .ok (.invokevirtual 115, 3) := dk_182 0 115 (dk_at dksX1_share_1 0 rfl rfl)
theorem dX1_share_26 : decode cX1_share 26 = .ok (.ifCond .ne 11, 3) := dk_154 0 11 (dk_at dksX1_share_1 3 rfl rfl)
theorem dX1_share_29 : decode cX1_share 29 = .ok (.aload_n 0, 1) := dk_42 (dk_at dksX1_share_1 6 rfl rfl)
theorem dX1_share_30 : decode cX1_share 30 = .ok (.iload_n 3, 1) := dk_29 (dk_at dksX1_share_1 7 rfl rfl)
theorem dX1_share_31 : decode cX1_share 31 = .ok (.invokevirtual 118, 3) := dk_182 0 118 (dk_at dksX1_share_1 8 rfl rfl)
theorem dX1_share_34 : decode cX1_share 34 = .ok (.goto 4, 3) := dk_167 0 4 (dk_at dksX1_share_1 11 rfl rfl)
theorem dX1_share_37 : decode cX1_share 37 = .ok (.iconst 0, 1) := dk_3 (dk_at dksX1_share_1 14 rfl rfl)
theorem dX1_share_38 : decode cX1_share 38 = .ok (.iadd, 1) := dk_96 (dk_at dksX1_share_1 15 rfl rfl)
theorem dX1_share_39 : decode cX1_share 39 = .ok (.istore_n 2, 1) := dk_61 (dk_at dksX1_share_1 16 rfl rfl)
theorem dX1_share_40 : decode cX1_share 40 = .ok (.iinc 3 1, 3) := dk_132 3 1 (dk_at dksX1_share_1 17 rfl rfl)
theorem dX1_share_43 : decode cX1_share 43 = .ok (.goto (-39), 3) := dk_167 255 217 (dk_at dksX1_share_1 20 rfl rfl)
theorem dX1_share_46 : decode cX1_share 46 = .ok (.iload_n 2, 1) := dk_28 (dk_at dksX1_share_1 23 rfl rfl)
theorem dX1_share_47 : decode cX1_share 47 = .ok (.ireturn, 1) := dk_172 (dk_at dksX1_share_2 0 rfl rfl)
abbrev cX1_birds : ByteArray := prog_22_method_11_code
def yX1_birds : MethodName := ⟨RX1, "birds", "()I"⟩
def dkwX1_birds_1 : List UInt8 := [167, 0, 4, 3, 96, 60, 132, 2, 1, 167, 255, 227, 27, 172]
abbrev dktX1_birds_1 : List UInt8 := dkwX1_birds_1 ++ []
def dkwX1_birds_0 : List UInt8 := [3, 60, 3, 61, 28, 16, 36, 162, 0, 29, 27, 42, 28, 182, 0, 115, 153, 0, 11, 42, 28, 182, 0, 118]
abbrev dktX1_birds_0 : List UInt8 := dkwX1_birds_0 ++ dktX1_birds_1
theorem dksX1_birds_0 : cX1_birds.data.toList.drop 0 = dktX1_birds_0 := by decide +kernel
theorem dksX1_birds_1 : cX1_birds.data.toList.drop 24 = dktX1_birds_1 := dk_seg dksX1_birds_0 24 rfl rfl
theorem dX1_birds_0 : decode cX1_birds 0 = .ok (.iconst 0, 1) := dk_3 (dk_at dksX1_birds_0 0 rfl rfl)
theorem dX1_birds_1 : decode cX1_birds 1 = .ok (.istore_n 1, 1) := dk_60 (dk_at dksX1_birds_0 1 rfl rfl)
theorem dX1_birds_2 : decode cX1_birds 2 = .ok (.iconst 0, 1) := dk_3 (dk_at dksX1_birds_0 2 rfl rfl)
theorem dX1_birds_3 : decode cX1_birds 3 = .ok (.istore_n 2, 1) := dk_61 (dk_at dksX1_birds_0 3 rfl rfl)
theorem dX1_birds_4 : decode cX1_birds 4 = .ok (.iload_n 2, 1) := dk_28 (dk_at dksX1_birds_0 4 rfl rfl)
theorem dX1_birds_5 : decode cX1_birds 5 = .ok (.bipush 36, 2) := dk_16 36 (dk_at dksX1_birds_0 5 rfl rfl)
theorem dX1_birds_7 : decode cX1_birds 7 = .ok (.if_icmp .ge 29, 3) := dk_162 0 29 (dk_at dksX1_birds_0 7 rfl rfl)
theorem dX1_birds_10 : decode cX1_birds 10 = .ok (.iload_n 1, 1) := dk_27 (dk_at dksX1_birds_0 10 rfl rfl)
theorem dX1_birds_11 : decode cX1_birds 11 = .ok (.aload_n 0, 1) := dk_42 (dk_at dksX1_birds_0 11 rfl rfl)
theorem dX1_birds_12 : decode cX1_birds 12 = .ok (.iload_n 2, 1) := dk_28 (dk_at dksX1_birds_0 12 rfl rfl)
theorem dX1_birds_13 : decode cX1_birds 13 = .ok (.invokevirtual 115, 3) := dk_182 0 115 (dk_at dksX1_birds_0 13 rfl rfl)
theorem dX1_birds_16 : decode cX1_birds 16 = .ok (.ifCond .eq 11, 3) := dk_153 0 11 (dk_at dksX1_birds_0 16 rfl rfl)
theorem dX1_birds_19 : decode cX1_birds 19 = .ok (.aload_n 0, 1) := dk_42 (dk_at dksX1_birds_0 19 rfl rfl)
theorem dX1_birds_20 : decode cX1_birds 20 = .ok (.iload_n 2, 1) := dk_28 (dk_at dksX1_birds_0 20 rfl rfl)
theorem dX1_birds_21 : decode cX1_birds 21 = .ok (.invokevirtual 118, 3) := dk_182 0 118 (dk_at dksX1_birds_0 21 rfl rfl)
theorem dX1_birds_24 : decode cX1_birds 24 = .ok (.goto 4, 3) := dk_167 0 4 (dk_at dksX1_birds_1 0 rfl rfl)
theorem dX1_birds_27 : decode cX1_birds 27 = .ok (.iconst 0, 1) := dk_3 (dk_at dksX1_birds_1 3 rfl rfl)
theorem dX1_birds_28 : decode cX1_birds 28 = .ok (.iadd, 1) := dk_96 (dk_at dksX1_birds_1 4 rfl rfl)
theorem dX1_birds_29 : decode cX1_birds 29 = .ok (.istore_n 1, 1) := dk_60 (dk_at dksX1_birds_1 5 rfl rfl)
theorem dX1_birds_30 : decode cX1_birds 30 = .ok (.iinc 2 1, 3) := dk_132 2 1 (dk_at dksX1_birds_1 6 rfl rfl)
theorem dX1_birds_33 : decode cX1_birds 33 = .ok (.goto (-29), 3) := dk_167 255 227 (dk_at dksX1_birds_1 9 rfl rfl)
theorem dX1_birds_36 : decode cX1_birds 36 = .ok (.iload_n 1, 1) := dk_27 (dk_at dksX1_birds_1 12 rfl rfl)
theorem dX1_birds_37 : decode cX1_birds 37 = .ok (.ireturn, 1) := dk_172 (dk_at dksX1_birds_1 13 rfl rfl)
abbrev cX1_draw : ByteArray := prog_22_method_13_code
def yX1_draw : MethodName := ⟨RX1, "draw", "(I)V"⟩
def dkwX1_draw_1 : List UInt8 := [167, 0, 4, 4, 79, 132, 2, 1, 167, 255, 228, 177]
abbrev dktX1_draw_1 : List UInt8 := dkwX1_draw_1 ++ []
def dkwX1_draw_0 : List UInt8 := [3, 61, 28, 16, 36, 162, 0, 28, 42, 180, 0, 30, 28, 28, 16, 6, 112, 27, 162, 0, 7, 3]
abbrev dktX1_draw_0 : List UInt8 := dkwX1_draw_0 ++ dktX1_draw_1
theorem dksX1_draw_0 : cX1_draw.data.toList.drop 0 = dktX1_draw_0 := by decide +kernel
theorem dksX1_draw_1 : cX1_draw.data.toList.drop 22 = dktX1_draw_1 := dk_seg dksX1_draw_0 22 rfl rfl
theorem dX1_draw_0 : decode cX1_draw 0 = .ok (.iconst 0, 1) := dk_3 (dk_at dksX1_draw_0 0 rfl rfl)
theorem dX1_draw_1 : decode cX1_draw 1 = .ok (.istore_n 2, 1) := dk_61 (dk_at dksX1_draw_0 1 rfl rfl)
theorem dX1_draw_2 : decode cX1_draw 2 = .ok (.iload_n 2, 1) := dk_28 (dk_at dksX1_draw_0 2 rfl rfl)
theorem dX1_draw_3 : decode cX1_draw 3 = .ok (.bipush 36, 2) := dk_16 36 (dk_at dksX1_draw_0 3 rfl rfl)
theorem dX1_draw_5 : decode cX1_draw 5 = .ok (.if_icmp .ge 28, 3) := dk_162 0 28 (dk_at dksX1_draw_0 5 rfl rfl)
theorem dX1_draw_8 : decode cX1_draw 8 = .ok (.aload_n 0, 1) := dk_42 (dk_at dksX1_draw_0 8 rfl rfl)
theorem dX1_draw_9 : decode cX1_draw 9 = .ok (.getfield 30, 3) := dk_180 0 30 (dk_at dksX1_draw_0 9 rfl rfl)
theorem dX1_draw_12 : decode cX1_draw 12 = .ok (.iload_n 2, 1) := dk_28 (dk_at dksX1_draw_0 12 rfl rfl)
theorem dX1_draw_13 : decode cX1_draw 13 = .ok (.iload_n 2, 1) := dk_28 (dk_at dksX1_draw_0 13 rfl rfl)
theorem dX1_draw_14 : decode cX1_draw 14 = .ok (.bipush 6, 2) := dk_16 6 (dk_at dksX1_draw_0 14 rfl rfl)
theorem dX1_draw_16 : decode cX1_draw 16 = .ok (.irem, 1) := dk_112 (dk_at dksX1_draw_0 16 rfl rfl)
theorem dX1_draw_17 : decode cX1_draw 17 = .ok (.iload_n 1, 1) := dk_27 (dk_at dksX1_draw_0 17 rfl rfl)
theorem dX1_draw_18 : decode cX1_draw 18 = .ok (.if_icmp .ge 7, 3) := dk_162 0 7 (dk_at dksX1_draw_0 18 rfl rfl)
theorem dX1_draw_21 : decode cX1_draw 21 = .ok (.iconst 0, 1) := dk_3 (dk_at dksX1_draw_0 21 rfl rfl)
theorem dX1_draw_22 : decode cX1_draw 22 = .ok (.goto 4, 3) := dk_167 0 4 (dk_at dksX1_draw_1 0 rfl rfl)
theorem dX1_draw_25 : decode cX1_draw 25 = .ok (.iconst 1, 1) := dk_4 (dk_at dksX1_draw_1 3 rfl rfl)
theorem dX1_draw_26 : decode cX1_draw 26 = .ok (.iastore, 1) := dk_79 (dk_at dksX1_draw_1 4 rfl rfl)
theorem dX1_draw_27 : decode cX1_draw 27 = .ok (.iinc 2 1, 3) := dk_132 2 1 (dk_at dksX1_draw_1 5 rfl rfl)
theorem dX1_draw_30 : decode cX1_draw 30 = .ok (.goto (-28), 3) := dk_167 255 228 (dk_at dksX1_draw_1 8 rfl rfl)
theorem dX1_draw_33 : decode cX1_draw 33 = .ok (.return_, 1) := dk_177 (dk_at dksX1_draw_1 11 rfl rfl)
theorem q69 : (Jvm.Cond.initialized "FallsBetween$Town") ∈ lw_all := lw_g (lw_at lw_m1 2 rfl) rfl
theorem q107 : (Jvm.Cond.instantiable "FallsBetween$Town" (12 : Nat)) ∈ lw_all := lw_g (lw_at lw_m1 40 rfl) rfl
theorem q109 : (Jvm.Cond.instanceMethod ({ cls := "FallsBetween$Town", name := "<init>", desc := "()V" } : Jvm.MethodName)) ∈ lw_all := lw_g (lw_at lw_m1 42 rfl) rfl
theorem q110 : (Jvm.Cond.code ({ cls := "FallsBetween$Town", name := "<init>", desc := "()V" } : Jvm.MethodName) prog_22_method_1_code (1 : Nat) (Option.none : Option Jvm.ClassFile.FieldType)) ∈ lw_all := lw_g (lw_at lw_m1 43 rfl) rfl
theorem q111 : (Jvm.Cond.methodLink "FallsBetween$Town" (3 : Nat) ({ cls := "java/lang/Object", name := "<init>", desc := "()V" } : Jvm.MethodName)) ∈ lw_all := lw_g (lw_at lw_m1 44 rfl) rfl
theorem q112 : (Jvm.Cond.classLink "FallsBetween$Town" (9 : Nat) "FallsBetween$Law") ∈ lw_all := lw_g (lw_at lw_m1 45 rfl) rfl
theorem q115 : (Jvm.Cond.methodLinkNest "FallsBetween$Town" (11 : Nat) ({ cls := "FallsBetween$Law", name := "<init>", desc := "()V" } : Jvm.MethodName) "FallsBetween") ∈ lw_tbl := lw_at lw_m1 48 rfl
theorem q120 : (Jvm.Cond.classLink "FallsBetween$Town" (12 : Nat) "FallsBetween$Beside") ∈ lw_all := lw_g (lw_at lw_m1 53 rfl) rfl
theorem q122 : (Jvm.Cond.methodLinkNest "FallsBetween$Town" (14 : Nat) ({ cls := "FallsBetween$Beside", name := "<init>", desc := "()V" } : Jvm.MethodName) "FallsBetween") ∈ lw_tbl := lw_at lw_m1 55 rfl
theorem q127 : (Jvm.Cond.classLink "FallsBetween$Town" (15 : Nat) "FallsBetween$Corners") ∈ lw_all := lw_g (lw_at lw_m1 60 rfl) rfl
theorem q129 : (Jvm.Cond.methodLinkNest "FallsBetween$Town" (17 : Nat) ({ cls := "FallsBetween$Corners", name := "<init>", desc := "()V" } : Jvm.MethodName) "FallsBetween") ∈ lw_tbl := lw_at lw_m1 62 rfl
theorem q134 : (Jvm.Cond.classLink "FallsBetween$Town" (18 : Nat) "FallsBetween$Down") ∈ lw_all := lw_g (lw_at lw_m1 67 rfl) rfl
theorem q136 : (Jvm.Cond.methodLinkNest "FallsBetween$Town" (20 : Nat) ({ cls := "FallsBetween$Down", name := "<init>", desc := "()V" } : Jvm.MethodName) "FallsBetween") ∈ lw_tbl := lw_at lw_m1 69 rfl
theorem q141 : (Jvm.Cond.classLink "FallsBetween$Town" (21 : Nat) "FallsBetween$Low") ∈ lw_all := lw_g (lw_at lw_m1 74 rfl) rfl
theorem q143 : (Jvm.Cond.methodLinkNest "FallsBetween$Town" (23 : Nat) ({ cls := "FallsBetween$Low", name := "<init>", desc := "()V" } : Jvm.MethodName) "FallsBetween") ∈ lw_tbl := lw_at lw_m1 76 rfl
theorem q148 : (Jvm.Cond.classLink "FallsBetween$Town" (41 : Nat) "FallsBetween$Tree") ∈ lw_all := lw_g (lw_at lw_m1 81 rfl) rfl
theorem q150 : (Jvm.Cond.fieldLink "FallsBetween$Town" (24 : Nat) "FallsBetween$Town" "laws" "[LFallsBetween$Law;") ∈ lw_all := lw_g (lw_at lw_m1 83 rfl) rfl
theorem q153 : (Jvm.Cond.fieldLink "FallsBetween$Town" (30 : Nat) "FallsBetween$Town" "gardens" "[I") ∈ lw_all := lw_g (lw_at lw_m1 86 rfl) rfl
theorem q157 : (Jvm.Cond.fieldLink "FallsBetween$Town" (34 : Nat) "FallsBetween$Town" "heights" "[I") ∈ lw_all := lw_g (lw_at lw_m1 90 rfl) rfl
theorem q161 : (Jvm.Cond.fieldLink "FallsBetween$Town" (37 : Nat) "FallsBetween$Town" "nets" "[Z") ∈ lw_all := lw_g (lw_at lw_m1 94 rfl) rfl
theorem q164 : (Jvm.Cond.fieldLink "FallsBetween$Town" (53 : Nat) "FallsBetween$Town" "trees" "I") ∈ lw_all := lw_g (lw_at lw_m1 97 rfl) rfl
theorem q167 : (Jvm.Cond.fieldLink "FallsBetween$Town" (43 : Nat) "FallsBetween$Town" "tree" "[LFallsBetween$Tree;") ∈ lw_all := lw_g (lw_at lw_m1 100 rfl) rfl
theorem q170 : (Jvm.Cond.fieldLink "FallsBetween$Town" (57 : Nat) "FallsBetween$Town" "wind" "I") ∈ lw_all := lw_g (lw_at lw_m1 103 rfl) rfl
theorem q173 : (Jvm.Cond.fieldLink "FallsBetween$Town" (60 : Nat) "FallsBetween$Town" "law" "I") ∈ lw_all := lw_g (lw_at lw_m1 106 rfl) rfl
theorem q176 : (Jvm.Cond.fieldLink "FallsBetween$Town" (63 : Nat) "FallsBetween$Town" "pits" "I") ∈ lw_all := lw_g (lw_at lw_m1 109 rfl) rfl
theorem q178 : (Jvm.Cond.fieldLink "FallsBetween$Town" (47 : Nat) "FallsBetween$Town" "pit" "[I") ∈ lw_all := lw_g (lw_at lw_m1 111 rfl) rfl
theorem q180 : (Jvm.Cond.fieldLink "FallsBetween$Town" (50 : Nat) "FallsBetween$Town" "lies" "[I") ∈ lw_all := lw_g (lw_at lw_m1 113 rfl) rfl
theorem q182 : (Jvm.Cond.fieldLink "FallsBetween$Town" (99 : Nat) "FallsBetween$Town" "lost" "I") ∈ lw_all := lw_g (lw_at lw_m1 115 rfl) rfl
theorem q184 : (Jvm.Cond.laysFinal "FallsBetween$Town" "FallsBetween$Town" "laws" "[LFallsBetween$Law;") ∈ lw_all := lw_g (lw_at lw_m1 117 rfl) rfl
theorem q185 : (Jvm.Cond.soleField "FallsBetween$Town" "laws") ∈ lw_all := lw_g (lw_at lw_m1 118 rfl) rfl
theorem q186 : (Jvm.Cond.laysFinal "FallsBetween$Town" "FallsBetween$Town" "gardens" "[I") ∈ lw_all := lw_g (lw_at lw_m1 119 rfl) rfl
theorem q187 : (Jvm.Cond.soleField "FallsBetween$Town" "gardens") ∈ lw_all := lw_g (lw_at lw_m1 120 rfl) rfl
theorem q188 : (Jvm.Cond.laysFinal "FallsBetween$Town" "FallsBetween$Town" "heights" "[I") ∈ lw_all := lw_g (lw_at lw_m1 121 rfl) rfl
theorem q189 : (Jvm.Cond.soleField "FallsBetween$Town" "heights") ∈ lw_all := lw_g (lw_at lw_m1 122 rfl) rfl
theorem q190 : (Jvm.Cond.laysFinal "FallsBetween$Town" "FallsBetween$Town" "nets" "[Z") ∈ lw_all := lw_g (lw_at lw_m1 123 rfl) rfl
theorem q191 : (Jvm.Cond.soleField "FallsBetween$Town" "nets") ∈ lw_all := lw_g (lw_at lw_m1 124 rfl) rfl
theorem q192 : (Jvm.Cond.lays "FallsBetween$Town" "FallsBetween$Town" "trees" "I") ∈ lw_all := lw_g (lw_at lw_m1 125 rfl) rfl
theorem q193 : (Jvm.Cond.soleField "FallsBetween$Town" "trees") ∈ lw_all := lw_g (lw_at lw_m1 126 rfl) rfl
theorem q194 : (Jvm.Cond.laysFinal "FallsBetween$Town" "FallsBetween$Town" "tree" "[LFallsBetween$Tree;") ∈ lw_all := lw_g (lw_at lw_m1 127 rfl) rfl
theorem q195 : (Jvm.Cond.soleField "FallsBetween$Town" "tree") ∈ lw_all := lw_g (lw_at lw_m1 128 rfl) rfl
theorem q196 : (Jvm.Cond.lays "FallsBetween$Town" "FallsBetween$Town" "wind" "I") ∈ lw_all := lw_g (lw_at lw_m1 129 rfl) rfl
theorem q197 : (Jvm.Cond.soleField "FallsBetween$Town" "wind") ∈ lw_all := lw_g (lw_at lw_m1 130 rfl) rfl
theorem q198 : (Jvm.Cond.lays "FallsBetween$Town" "FallsBetween$Town" "law" "I") ∈ lw_all := lw_g (lw_at lw_m1 131 rfl) rfl
theorem q199 : (Jvm.Cond.soleField "FallsBetween$Town" "law") ∈ lw_all := lw_g (lw_at lw_m1 132 rfl) rfl
theorem q200 : (Jvm.Cond.lays "FallsBetween$Town" "FallsBetween$Town" "pits" "I") ∈ lw_all := lw_g (lw_at lw_m1 133 rfl) rfl
theorem q201 : (Jvm.Cond.soleField "FallsBetween$Town" "pits") ∈ lw_all := lw_g (lw_at lw_m1 134 rfl) rfl
theorem q202 : (Jvm.Cond.laysFinal "FallsBetween$Town" "FallsBetween$Town" "pit" "[I") ∈ lw_all := lw_g (lw_at lw_m1 135 rfl) rfl
theorem q203 : (Jvm.Cond.soleField "FallsBetween$Town" "pit") ∈ lw_all := lw_g (lw_at lw_m1 136 rfl) rfl
theorem q204 : (Jvm.Cond.laysFinal "FallsBetween$Town" "FallsBetween$Town" "lies" "[I") ∈ lw_all := lw_g (lw_at lw_m1 137 rfl) rfl
theorem q205 : (Jvm.Cond.soleField "FallsBetween$Town" "lies") ∈ lw_all := lw_g (lw_at lw_m1 138 rfl) rfl
theorem q206 : (Jvm.Cond.lays "FallsBetween$Town" "FallsBetween$Town" "lost" "I") ∈ lw_all := lw_g (lw_at lw_m1 139 rfl) rfl
theorem q207 : (Jvm.Cond.soleField "FallsBetween$Town" "lost") ∈ lw_all := lw_g (lw_at lw_m1 140 rfl) rfl
theorem q208 : (Jvm.Cond.superclass "FallsBetween$Town" "java/lang/Object") ∈ lw_all := lw_g (lw_at lw_m1 141 rfl) rfl
theorem q432 : (Jvm.Cond.fieldLink "FallsBetween$Town" (76 : Nat) "FallsBetween$Tree" "square" "I") ∈ lw_all := lw_g (lw_at lw_m2 125 rfl) rfl
theorem q436 : (Jvm.Cond.fieldLink "FallsBetween$Town" (102 : Nat) "FallsBetween$Tree" "fruit" "I") ∈ lw_all := lw_g (lw_at lw_m2 129 rfl) rfl
theorem q584 : (Jvm.Cond.instanceMethod ({ cls := "FallsBetween$Town", name := "set", desc := "(LFallsBetween$Town;)V" } : Jvm.MethodName)) ∈ lw_all := lw_g (lw_at lw_m3 37 rfl) rfl
theorem q585 : (Jvm.Cond.selects "FallsBetween$Town" ({ cls := "FallsBetween$Town", name := "set", desc := "(LFallsBetween$Town;)V" } : Jvm.MethodName) ({ cls := "FallsBetween$Town", name := "set", desc := "(LFallsBetween$Town;)V" } : Jvm.MethodName)) ∈ lw_all := lw_g (lw_at lw_m3 38 rfl) rfl
theorem q586 : (Jvm.Cond.code ({ cls := "FallsBetween$Town", name := "set", desc := "(LFallsBetween$Town;)V" } : Jvm.MethodName) prog_22_method_2_code (2 : Nat) (Option.none : Option Jvm.ClassFile.FieldType)) ∈ lw_all := lw_g (lw_at lw_m3 39 rfl) rfl
theorem q587 : (Jvm.Cond.methodLink "FallsBetween$Town" (66 : Nat) ({ cls := "java/lang/System", name := "arraycopy", desc := "(Ljava/lang/Object;ILjava/lang/Object;II)V" } : Jvm.MethodName)) ∈ lw_all := lw_g (lw_at lw_m3 40 rfl) rfl
theorem q638 : (Jvm.Cond.instanceMethod ({ cls := "FallsBetween$Town", name := "treeAt", desc := "(I)I" } : Jvm.MethodName)) ∈ lw_all := lw_g (lw_at lw_m3 91 rfl) rfl
theorem q639 : (Jvm.Cond.selects "FallsBetween$Town" ({ cls := "FallsBetween$Town", name := "treeAt", desc := "(I)I" } : Jvm.MethodName) ({ cls := "FallsBetween$Town", name := "treeAt", desc := "(I)I" } : Jvm.MethodName)) ∈ lw_all := lw_g (lw_at lw_m3 92 rfl) rfl
theorem q640 : (Jvm.Cond.code ({ cls := "FallsBetween$Town", name := "treeAt", desc := "(I)I" } : Jvm.MethodName) prog_22_method_5_code (3 : Nat) (Option.some Jvm.ClassFile.FieldType.int)) ∈ lw_all := lw_g (lw_at lw_m3 93 rfl) rfl
theorem q656 : (Jvm.Cond.instanceMethod ({ cls := "FallsBetween$Town", name := "isNobodys", desc := "(I)Z" } : Jvm.MethodName)) ∈ lw_all := lw_g (lw_at lw_m3 109 rfl) rfl
theorem q657 : (Jvm.Cond.selects "FallsBetween$Town" ({ cls := "FallsBetween$Town", name := "isNobodys", desc := "(I)Z" } : Jvm.MethodName) ({ cls := "FallsBetween$Town", name := "isNobodys", desc := "(I)Z" } : Jvm.MethodName)) ∈ lw_all := lw_g (lw_at lw_m3 110 rfl) rfl
theorem q658 : (Jvm.Cond.code ({ cls := "FallsBetween$Town", name := "isNobodys", desc := "(I)Z" } : Jvm.MethodName) prog_22_method_4_code (2 : Nat) (Option.some Jvm.ClassFile.FieldType.boolean)) ∈ lw_all := lw_g (lw_at lw_m3 111 rfl) rfl
theorem q659 : (Jvm.Cond.methodLink "FallsBetween$Town" (72 : Nat) ({ cls := "FallsBetween$Law", name := "isNobodys", desc := "(LFallsBetween$Town;I)Z" } : Jvm.MethodName)) ∈ lw_all := lw_g (lw_at lw_m3 112 rfl) rfl
theorem q672 : (Jvm.Cond.instanceMethod ({ cls := "FallsBetween$Town", name := "isOther", desc := "(II)Z" } : Jvm.MethodName)) ∈ lw_all := lw_g (lw_at lw_m3 125 rfl) rfl
theorem q673 : (Jvm.Cond.selects "FallsBetween$Town" ({ cls := "FallsBetween$Town", name := "isOther", desc := "(II)Z" } : Jvm.MethodName) ({ cls := "FallsBetween$Town", name := "isOther", desc := "(II)Z" } : Jvm.MethodName)) ∈ lw_all := lw_g (lw_at lw_m3 126 rfl) rfl
theorem q674 : (Jvm.Cond.code ({ cls := "FallsBetween$Town", name := "isOther", desc := "(II)Z" } : Jvm.MethodName) prog_22_method_3_code (3 : Nat) (Option.some Jvm.ClassFile.FieldType.boolean)) ∈ lw_all := lw_g (lw_at lw_m3 127 rfl) rfl
theorem q749 : (Jvm.Cond.instanceMethod ({ cls := "FallsBetween$Town", name := "removeTree", desc := "(I)V" } : Jvm.MethodName)) ∈ lw_all := lw_g (lw_at lw_m3 202 rfl) rfl
theorem q750 : (Jvm.Cond.selects "FallsBetween$Town" ({ cls := "FallsBetween$Town", name := "removeTree", desc := "(I)V" } : Jvm.MethodName) ({ cls := "FallsBetween$Town", name := "removeTree", desc := "(I)V" } : Jvm.MethodName)) ∈ lw_all := lw_g (lw_at lw_m3 203 rfl) rfl
theorem q751 : (Jvm.Cond.code ({ cls := "FallsBetween$Town", name := "removeTree", desc := "(I)V" } : Jvm.MethodName) prog_22_method_12_code (3 : Nat) (Option.none : Option Jvm.ClassFile.FieldType)) ∈ lw_all := lw_g (lw_at lw_m3 204 rfl) rfl
theorem q757 : (Jvm.Cond.instanceMethod ({ cls := "FallsBetween$Town", name := "find", desc := "()LFallsBetween$Town;" } : Jvm.MethodName)) ∈ lw_all := lw_g (lw_at lw_m3 210 rfl) rfl
theorem q758 : (Jvm.Cond.selects "FallsBetween$Town" ({ cls := "FallsBetween$Town", name := "find", desc := "()LFallsBetween$Town;" } : Jvm.MethodName) ({ cls := "FallsBetween$Town", name := "find", desc := "()LFallsBetween$Town;" } : Jvm.MethodName)) ∈ lw_all := lw_g (lw_at lw_m3 211 rfl) rfl
theorem q759 : (Jvm.Cond.code ({ cls := "FallsBetween$Town", name := "find", desc := "()LFallsBetween$Town;" } : Jvm.MethodName) prog_22_method_8_code (4 : Nat) (Option.some (Jvm.ClassFile.FieldType.object "FallsBetween$Town"))) ∈ lw_all := lw_g (lw_at lw_m3 212 rfl) rfl
theorem q760 : (Jvm.Cond.methodLink "FallsBetween$Town" (105 : Nat) ({ cls := "FallsBetween$Tree", name := "own", desc := "()I" } : Jvm.MethodName)) ∈ lw_all := lw_g (lw_at lw_m3 213 rfl) rfl
theorem q776 : (Jvm.Cond.methodLink "FallsBetween$Town" (108 : Nat) ({ cls := "FallsBetween$Town", name := "falls", desc := "(III)V" } : Jvm.MethodName)) ∈ lw_all := lw_g (lw_at lw_m3 229 rfl) rfl
theorem q777 : (Jvm.Cond.privateMethod ({ cls := "FallsBetween$Town", name := "falls", desc := "(III)V" } : Jvm.MethodName)) ∈ lw_tbl := lw_at lw_m3 230 rfl
theorem q778 : (Jvm.Cond.instanceMethod ({ cls := "FallsBetween$Town", name := "falls", desc := "(III)V" } : Jvm.MethodName)) ∈ lw_all := lw_g (lw_at lw_m3 231 rfl) rfl
theorem q779 : (Jvm.Cond.code ({ cls := "FallsBetween$Town", name := "falls", desc := "(III)V" } : Jvm.MethodName) prog_22_method_7_code (7 : Nat) (Option.none : Option Jvm.ClassFile.FieldType)) ∈ lw_all := lw_g (lw_at lw_m3 232 rfl) rfl
theorem q780 : (Jvm.Cond.methodLink "FallsBetween$Town" (83 : Nat) ({ cls := "FallsBetween$Tree", name := "isBlown", desc := "()Z" } : Jvm.MethodName)) ∈ lw_all := lw_g (lw_at lw_m3 233 rfl) rfl
theorem q795 : (Jvm.Cond.methodLinkNest "FallsBetween$Town" (87 : Nat) ({ cls := "FallsBetween", name := "far", desc := "(III)I" } : Jvm.MethodName) "FallsBetween") ∈ lw_tbl := lw_at lw_m4 8 rfl
theorem q799 : (Jvm.Cond.methodLink "FallsBetween$Town" (91 : Nat) ({ cls := "FallsBetween$Tree", name := "rolls", desc := "()I" } : Jvm.MethodName)) ∈ lw_all := lw_g (lw_at lw_m4 12 rfl) rfl
theorem q815 : (Jvm.Cond.methodLink "FallsBetween$Town" (95 : Nat) ({ cls := "FallsBetween$Town", name := "rolled", desc := "(I)I" } : Jvm.MethodName)) ∈ lw_all := lw_g (lw_at lw_m4 28 rfl) rfl
theorem q816 : (Jvm.Cond.privateMethod ({ cls := "FallsBetween$Town", name := "rolled", desc := "(I)I" } : Jvm.MethodName)) ∈ lw_tbl := lw_at lw_m4 29 rfl
theorem q817 : (Jvm.Cond.instanceMethod ({ cls := "FallsBetween$Town", name := "rolled", desc := "(I)I" } : Jvm.MethodName)) ∈ lw_all := lw_g (lw_at lw_m4 30 rfl) rfl
theorem q818 : (Jvm.Cond.code ({ cls := "FallsBetween$Town", name := "rolled", desc := "(I)I" } : Jvm.MethodName) prog_22_method_6_code (5 : Nat) (Option.some Jvm.ClassFile.FieldType.int)) ∈ lw_all := lw_g (lw_at lw_m4 31 rfl) rfl
theorem q819 : (Jvm.Cond.methodLinkNest "FallsBetween$Town" (79 : Nat) ({ cls := "FallsBetween", name := "beside", desc := "(II)I" } : Jvm.MethodName) "FallsBetween") ∈ lw_tbl := lw_at lw_m4 32 rfl
theorem q820 : (Jvm.Cond.methodLink "FallsBetween$Town" (112 : Nat) ({ cls := "FallsBetween$Tree", name := "toSide", desc := "(I)I" } : Jvm.MethodName)) ∈ lw_all := lw_g (lw_at lw_m4 33 rfl) rfl
theorem q837 : (Jvm.Cond.instanceMethod ({ cls := "FallsBetween$Town", name := "liesIn", desc := "(I)I" } : Jvm.MethodName)) ∈ lw_all := lw_g (lw_at lw_m4 50 rfl) rfl
theorem q838 : (Jvm.Cond.selects "FallsBetween$Town" ({ cls := "FallsBetween$Town", name := "liesIn", desc := "(I)I" } : Jvm.MethodName) ({ cls := "FallsBetween$Town", name := "liesIn", desc := "(I)I" } : Jvm.MethodName)) ∈ lw_all := lw_g (lw_at lw_m4 51 rfl) rfl
theorem q839 : (Jvm.Cond.code ({ cls := "FallsBetween$Town", name := "liesIn", desc := "(I)I" } : Jvm.MethodName) prog_22_method_9_code (4 : Nat) (Option.some Jvm.ClassFile.FieldType.int)) ∈ lw_all := lw_g (lw_at lw_m4 52 rfl) rfl
theorem q845 : (Jvm.Cond.instanceMethod ({ cls := "FallsBetween$Town", name := "share", desc := "(I)I" } : Jvm.MethodName)) ∈ lw_all := lw_g (lw_at lw_m4 58 rfl) rfl
theorem q846 : (Jvm.Cond.selects "FallsBetween$Town" ({ cls := "FallsBetween$Town", name := "share", desc := "(I)I" } : Jvm.MethodName) ({ cls := "FallsBetween$Town", name := "share", desc := "(I)I" } : Jvm.MethodName)) ∈ lw_all := lw_g (lw_at lw_m4 59 rfl) rfl
theorem q847 : (Jvm.Cond.code ({ cls := "FallsBetween$Town", name := "share", desc := "(I)I" } : Jvm.MethodName) prog_22_method_10_code (4 : Nat) (Option.some Jvm.ClassFile.FieldType.int)) ∈ lw_all := lw_g (lw_at lw_m4 60 rfl) rfl
theorem q848 : (Jvm.Cond.methodLink "FallsBetween$Town" (115 : Nat) ({ cls := "FallsBetween$Town", name := "isNobodys", desc := "(I)Z" } : Jvm.MethodName)) ∈ lw_all := lw_g (lw_at lw_m4 61 rfl) rfl
theorem q849 : (Jvm.Cond.methodLink "FallsBetween$Town" (118 : Nat) ({ cls := "FallsBetween$Town", name := "liesIn", desc := "(I)I" } : Jvm.MethodName)) ∈ lw_all := lw_g (lw_at lw_m4 62 rfl) rfl
theorem q851 : (Jvm.Cond.instanceMethod ({ cls := "FallsBetween$Town", name := "birds", desc := "()I" } : Jvm.MethodName)) ∈ lw_all := lw_g (lw_at lw_m4 64 rfl) rfl
theorem q852 : (Jvm.Cond.selects "FallsBetween$Town" ({ cls := "FallsBetween$Town", name := "birds", desc := "()I" } : Jvm.MethodName) ({ cls := "FallsBetween$Town", name := "birds", desc := "()I" } : Jvm.MethodName)) ∈ lw_all := lw_g (lw_at lw_m4 65 rfl) rfl
theorem q853 : (Jvm.Cond.code ({ cls := "FallsBetween$Town", name := "birds", desc := "()I" } : Jvm.MethodName) prog_22_method_11_code (3 : Nat) (Option.some Jvm.ClassFile.FieldType.int)) ∈ lw_all := lw_g (lw_at lw_m4 66 rfl) rfl
theorem q897 : (Jvm.Cond.instanceMethod ({ cls := "FallsBetween$Town", name := "draw", desc := "(I)V" } : Jvm.MethodName)) ∈ lw_all := lw_g (lw_at lw_m4 110 rfl) rfl
theorem q898 : (Jvm.Cond.selects "FallsBetween$Town" ({ cls := "FallsBetween$Town", name := "draw", desc := "(I)V" } : Jvm.MethodName) ({ cls := "FallsBetween$Town", name := "draw", desc := "(I)V" } : Jvm.MethodName)) ∈ lw_all := lw_g (lw_at lw_m4 111 rfl) rfl
theorem q899 : (Jvm.Cond.code ({ cls := "FallsBetween$Town", name := "draw", desc := "(I)V" } : Jvm.MethodName) prog_22_method_13_code (3 : Nat) (Option.none : Option Jvm.ClassFile.FieldType)) ∈ lw_all := lw_g (lw_at lw_m4 112 rfl) rfl
theorem in_X1 : ∀ w ∈ wsX10, w ∈ lw_all := lw_in wsX10 [184, 186, 188, 190, 192, 194, 196, 198, 200, 202, 204, 206] (by decide +kernel) (by decide +kernel)

/-! FallsBetween$Law -/
set_option maxRecDepth 100000
def RX2 : String := "FallsBetween$Law"
abbrev cX2_init : ByteArray := prog_10_method_1_code
def yX2_init : MethodName := ⟨RX2, "<init>", "()V"⟩
theorem dX2_init_0 : decode cX2_init 0 = .ok (.aload_n 0, 1) := by decide +kernel
theorem dX2_init_1 : decode cX2_init 1 = .ok (.invokespecial 1, 3) := by decide +kernel
theorem dX2_init_4 : decode cX2_init 4 = .ok (.return_, 1) := by decide +kernel
abbrev cX2_isNobodys : ByteArray := prog_10_method_2_code
def yX2_isNobodys : MethodName := ⟨RX2, "isNobodys", "(LFallsBetween$Town;I)Z"⟩
theorem dX2_isNobodys_0 : decode cX2_isNobodys 0 = .ok (.iconst 0, 1) := by decide +kernel
theorem dX2_isNobodys_1 : decode cX2_isNobodys 1 = .ok (.ireturn, 1) := by decide +kernel
theorem q70 : (Jvm.Cond.initialized "FallsBetween$Law") ∈ lw_all := lw_g (lw_at lw_m1 3 rfl) rfl
theorem q114 : (Jvm.Cond.instantiable "FallsBetween$Law" (0 : Nat)) ∈ lw_all := lw_g (lw_at lw_m1 47 rfl) rfl
theorem q116 : (Jvm.Cond.instanceMethod ({ cls := "FallsBetween$Law", name := "<init>", desc := "()V" } : Jvm.MethodName)) ∈ lw_all := lw_g (lw_at lw_m1 49 rfl) rfl
theorem q117 : (Jvm.Cond.code ({ cls := "FallsBetween$Law", name := "<init>", desc := "()V" } : Jvm.MethodName) prog_10_method_1_code (1 : Nat) (Option.none : Option Jvm.ClassFile.FieldType)) ∈ lw_all := lw_g (lw_at lw_m1 50 rfl) rfl
theorem q118 : (Jvm.Cond.methodLink "FallsBetween$Law" (1 : Nat) ({ cls := "java/lang/Object", name := "<init>", desc := "()V" } : Jvm.MethodName)) ∈ lw_all := lw_g (lw_at lw_m1 51 rfl) rfl
theorem q119 : (Jvm.Cond.superclass "FallsBetween$Law" "java/lang/Object") ∈ lw_all := lw_g (lw_at lw_m1 52 rfl) rfl
theorem q660 : (Jvm.Cond.instanceMethod ({ cls := "FallsBetween$Law", name := "isNobodys", desc := "(LFallsBetween$Town;I)Z" } : Jvm.MethodName)) ∈ lw_all := lw_g (lw_at lw_m3 113 rfl) rfl
theorem q661 : (Jvm.Cond.selects "FallsBetween$Law" ({ cls := "FallsBetween$Law", name := "isNobodys", desc := "(LFallsBetween$Town;I)Z" } : Jvm.MethodName) ({ cls := "FallsBetween$Law", name := "isNobodys", desc := "(LFallsBetween$Town;I)Z" } : Jvm.MethodName)) ∈ lw_all := lw_g (lw_at lw_m3 114 rfl) rfl
theorem q662 : (Jvm.Cond.sameMethod "FallsBetween$Law" "FallsBetween$Law" "isNobodys" "(LFallsBetween$Town;I)Z") ∈ lw_all := lw_g (lw_at lw_m3 115 rfl) rfl
theorem q692 : (Jvm.Cond.code ({ cls := "FallsBetween$Law", name := "isNobodys", desc := "(LFallsBetween$Town;I)Z" } : Jvm.MethodName) prog_10_method_2_code (3 : Nat) (Option.some Jvm.ClassFile.FieldType.boolean)) ∈ lw_all := lw_g (lw_at lw_m3 145 rfl) rfl

/-! FallsBetween$Beside -/
set_option maxRecDepth 100000
def RX3 : String := "FallsBetween$Beside"
abbrev cX3_init : ByteArray := prog_3_method_1_code
def yX3_init : MethodName := ⟨RX3, "<init>", "()V"⟩
theorem dX3_init_0 : decode cX3_init 0 = .ok (.aload_n 0, 1) := by decide +kernel
theorem dX3_init_1 : decode cX3_init 1 = .ok (.invokespecial 1, 3) := by decide +kernel
theorem dX3_init_4 : decode cX3_init 4 = .ok (.return_, 1) := by decide +kernel
abbrev cX3_isNobodys : ByteArray := prog_3_method_2_code
def yX3_isNobodys : MethodName := ⟨RX3, "isNobodys", "(LFallsBetween$Town;I)Z"⟩
def dkwX3_isNobodys_1 : List UInt8 := [184, 0, 11, 182, 0, 17, 128, 62, 132, 4, 1, 167, 255, 233, 29, 172]
abbrev dktX3_isNobodys_1 : List UInt8 := dkwX3_isNobodys_1 ++ []
def dkwX3_isNobodys_0 : List UInt8 := [42, 43, 28, 183, 0, 7, 62, 3, 54, 4, 21, 4, 7, 162, 0, 23, 29, 43, 28, 28, 21, 4]
abbrev dktX3_isNobodys_0 : List UInt8 := dkwX3_isNobodys_0 ++ dktX3_isNobodys_1
theorem dksX3_isNobodys_0 : cX3_isNobodys.data.toList.drop 0 = dktX3_isNobodys_0 := by decide +kernel
theorem dksX3_isNobodys_1 : cX3_isNobodys.data.toList.drop 22 = dktX3_isNobodys_1 := dk_seg dksX3_isNobodys_0 22 rfl rfl
theorem dX3_isNobodys_0 : decode cX3_isNobodys 0 = .ok (.aload_n 0, 1) := dk_42 (dk_at dksX3_isNobodys_0 0 rfl rfl)
theorem dX3_isNobodys_1 : decode cX3_isNobodys 1 = .ok (.aload_n 1, 1) := dk_43 (dk_at dksX3_isNobodys_0 1 rfl rfl)
theorem dX3_isNobodys_2 : decode cX3_isNobodys 2 = .ok (.iload_n 2, 1) := dk_28 (dk_at dksX3_isNobodys_0 2 rfl rfl)
theorem dX3_isNobodys_3 : decode cX3_isNobodys 3 = .ok (.invokespecial 7, 3) := dk_183 0 7 (dk_at dksX3_isNobodys_0 3 rfl rfl)
theorem dX3_isNobodys_6 : decode cX3_isNobodys 6 = .ok (.istore_n 3, 1) := dk_62 (dk_at dksX3_isNobodys_0 6 rfl rfl)
theorem dX3_isNobodys_7 : decode cX3_isNobodys 7 = .ok (.iconst 0, 1) := dk_3 (dk_at dksX3_isNobodys_0 7 rfl rfl)
theorem dX3_isNobodys_8 : decode cX3_isNobodys 8 = .ok (.istore 4, 2) := dk_54 4 (dk_at dksX3_isNobodys_0 8 rfl rfl)
theorem dX3_isNobodys_10 : decode cX3_isNobodys 10 = .ok (.iload 4, 2) := dk_21 4 (dk_at dksX3_isNobodys_0 10 rfl rfl)
theorem dX3_isNobodys_12 : decode cX3_isNobodys 12 = .ok (.iconst 4, 1) := dk_7 (dk_at dksX3_isNobodys_0 12 rfl rfl)
theorem dX3_isNobodys_13 : decode cX3_isNobodys 13 = .ok (.if_icmp .ge 23, 3) := dk_162 0 23 (dk_at dksX3_isNobodys_0 13 rfl rfl)
theorem dX3_isNobodys_16 : decode cX3_isNobodys 16 = .ok (.iload_n 3, 1) := dk_29 (dk_at dksX3_isNobodys_0 16 rfl rfl)
theorem dX3_isNobodys_17 : decode cX3_isNobodys 17 = .ok (.aload_n 1, 1) := dk_43 (dk_at dksX3_isNobodys_0 17 rfl rfl)
theorem dX3_isNobodys_18 : decode cX3_isNobodys 18 = .ok (.iload_n 2, 1) := dk_28 (dk_at dksX3_isNobodys_0 18 rfl rfl)
theorem dX3_isNobodys_19 : decode cX3_isNobodys 19 = .ok (.iload_n 2, 1) := dk_28 (dk_at dksX3_isNobodys_0 19 rfl rfl)
theorem dX3_isNobodys_20 : decode cX3_isNobodys 20 = .ok (.iload 4, 2) := dk_21 4 (dk_at dksX3_isNobodys_0 20 rfl rfl)
theorem dX3_isNobodys_22 : decode cX3_isNobodys 22 = .ok (.invokestatic 11, 3) := dk_184 0 11 (dk_at dksX3_isNobodys_1 0 rfl rfl)
theorem dX3_isNobodys_25 : decode cX3_isNobodys 25 = .ok (.invokevirtual 17, 3) := dk_182 0 17 (dk_at dksX3_isNobodys_1 3 rfl rfl)
theorem dX3_isNobodys_28 : decode cX3_isNobodys 28 = .ok (.ior, 1) := dk_128 (dk_at dksX3_isNobodys_1 6 rfl rfl)
theorem dX3_isNobodys_29 : decode cX3_isNobodys 29 = .ok (.istore_n 3, 1) := dk_62 (dk_at dksX3_isNobodys_1 7 rfl rfl)
theorem dX3_isNobodys_30 : decode cX3_isNobodys 30 = .ok (.iinc 4 1, 3) := dk_132 4 1 (dk_at dksX3_isNobodys_1 8 rfl rfl)
theorem dX3_isNobodys_33 : decode cX3_isNobodys 33 = .ok (.goto (-23), 3) := dk_167 255 233 (dk_at dksX3_isNobodys_1 11 rfl rfl)
theorem dX3_isNobodys_36 : decode cX3_isNobodys 36 = .ok (.iload_n 3, 1) := dk_29 (dk_at dksX3_isNobodys_1 14 rfl rfl)
theorem dX3_isNobodys_37 : decode cX3_isNobodys 37 = .ok (.ireturn, 1) := dk_172 (dk_at dksX3_isNobodys_1 15 rfl rfl)
theorem q71 : (Jvm.Cond.initialized "FallsBetween$Beside") ∈ lw_all := lw_g (lw_at lw_m1 4 rfl) rfl
theorem q121 : (Jvm.Cond.instantiable "FallsBetween$Beside" (0 : Nat)) ∈ lw_all := lw_g (lw_at lw_m1 54 rfl) rfl
theorem q123 : (Jvm.Cond.instanceMethod ({ cls := "FallsBetween$Beside", name := "<init>", desc := "()V" } : Jvm.MethodName)) ∈ lw_all := lw_g (lw_at lw_m1 56 rfl) rfl
theorem q124 : (Jvm.Cond.code ({ cls := "FallsBetween$Beside", name := "<init>", desc := "()V" } : Jvm.MethodName) prog_3_method_1_code (1 : Nat) (Option.none : Option Jvm.ClassFile.FieldType)) ∈ lw_all := lw_g (lw_at lw_m1 57 rfl) rfl
theorem q125 : (Jvm.Cond.methodLinkNest "FallsBetween$Beside" (1 : Nat) ({ cls := "FallsBetween$Law", name := "<init>", desc := "()V" } : Jvm.MethodName) "FallsBetween") ∈ lw_tbl := lw_at lw_m1 58 rfl
theorem q126 : (Jvm.Cond.superclass "FallsBetween$Beside" "FallsBetween$Law") ∈ lw_all := lw_g (lw_at lw_m1 59 rfl) rfl
theorem q663 : (Jvm.Cond.selects "FallsBetween$Beside" ({ cls := "FallsBetween$Law", name := "isNobodys", desc := "(LFallsBetween$Town;I)Z" } : Jvm.MethodName) ({ cls := "FallsBetween$Beside", name := "isNobodys", desc := "(LFallsBetween$Town;I)Z" } : Jvm.MethodName)) ∈ lw_all := lw_g (lw_at lw_m3 116 rfl) rfl
theorem q664 : (Jvm.Cond.instanceMethod ({ cls := "FallsBetween$Beside", name := "isNobodys", desc := "(LFallsBetween$Town;I)Z" } : Jvm.MethodName)) ∈ lw_all := lw_g (lw_at lw_m3 117 rfl) rfl
theorem q665 : (Jvm.Cond.code ({ cls := "FallsBetween$Beside", name := "isNobodys", desc := "(LFallsBetween$Town;I)Z" } : Jvm.MethodName) prog_3_method_2_code (5 : Nat) (Option.some Jvm.ClassFile.FieldType.boolean)) ∈ lw_all := lw_g (lw_at lw_m3 118 rfl) rfl
theorem q666 : (Jvm.Cond.methodLink "FallsBetween$Beside" (7 : Nat) ({ cls := "FallsBetween$Law", name := "isNobodys", desc := "(LFallsBetween$Town;I)Z" } : Jvm.MethodName)) ∈ lw_all := lw_g (lw_at lw_m3 119 rfl) rfl
theorem q667 : (Jvm.Cond.methodLinkNest "FallsBetween$Beside" (11 : Nat) ({ cls := "FallsBetween", name := "beside", desc := "(II)I" } : Jvm.MethodName) "FallsBetween") ∈ lw_tbl := lw_at lw_m3 120 rfl
theorem q671 : (Jvm.Cond.methodLink "FallsBetween$Beside" (17 : Nat) ({ cls := "FallsBetween$Town", name := "isOther", desc := "(II)Z" } : Jvm.MethodName)) ∈ lw_all := lw_g (lw_at lw_m3 124 rfl) rfl
theorem q1391 : (Jvm.Cond.sameMethod "FallsBetween$Beside" "FallsBetween$Beside" "isNobodys" "(LFallsBetween$Town;I)Z") ∈ lw_all := lw_g (lw_at lw_m6 124 rfl) rfl
theorem q1396 : (Jvm.Cond.castable "FallsBetween$Beside" "FallsBetween$Law") ∈ lw_tbl := lw_at lw_m6 129 rfl

/-! FallsBetween$Corners -/
set_option maxRecDepth 100000
def RX4 : String := "FallsBetween$Corners"
abbrev cX4_init : ByteArray := prog_5_method_1_code
def yX4_init : MethodName := ⟨RX4, "<init>", "()V"⟩
theorem dX4_init_0 : decode cX4_init 0 = .ok (.aload_n 0, 1) := by decide +kernel
theorem dX4_init_1 : decode cX4_init 1 = .ok (.invokespecial 3, 3) := by decide +kernel
theorem dX4_init_4 : decode cX4_init 4 = .ok (.return_, 1) := by decide +kernel
abbrev cX4_isNobodys : ByteArray := prog_5_method_2_code
def yX4_isNobodys : MethodName := ⟨RX4, "isNobodys", "(LFallsBetween$Town;I)Z"⟩
def dkwX4_isNobodys_3 : List UInt8 := [167, 255, 196, 29, 172]
abbrev dktX4_isNobodys_3 : List UInt8 := dkwX4_isNobodys_3 ++ []
def dkwX4_isNobodys_2 : List UInt8 := [21, 5, 6, 184, 0, 13, 182, 0, 17, 153, 0, 7, 4, 167, 0, 4, 3, 128, 62, 132, 4, 2]
abbrev dktX4_isNobodys_2 : List UInt8 := dkwX4_isNobodys_2 ++ dktX4_isNobodys_3
def dkwX4_isNobodys_1 : List UInt8 := [29, 21, 5, 16, 247, 159, 0, 35, 43, 28, 21, 5, 4, 184, 0, 13, 182, 0, 17, 154, 0, 17, 43, 28]
abbrev dktX4_isNobodys_1 : List UInt8 := dkwX4_isNobodys_1 ++ dktX4_isNobodys_2
def dkwX4_isNobodys_0 : List UInt8 := [42, 43, 28, 183, 0, 9, 62, 3, 54, 4, 21, 4, 7, 162, 0, 60, 28, 21, 4, 184, 0, 13, 54, 5]
abbrev dktX4_isNobodys_0 : List UInt8 := dkwX4_isNobodys_0 ++ dktX4_isNobodys_1
theorem dksX4_isNobodys_0 : cX4_isNobodys.data.toList.drop 0 = dktX4_isNobodys_0 := by decide +kernel
theorem dksX4_isNobodys_1 : cX4_isNobodys.data.toList.drop 24 = dktX4_isNobodys_1 := dk_seg dksX4_isNobodys_0 24 rfl rfl
theorem dksX4_isNobodys_2 : cX4_isNobodys.data.toList.drop 48 = dktX4_isNobodys_2 := dk_seg dksX4_isNobodys_1 24 rfl rfl
theorem dksX4_isNobodys_3 : cX4_isNobodys.data.toList.drop 70 = dktX4_isNobodys_3 := dk_seg dksX4_isNobodys_2 22 rfl rfl
theorem dX4_isNobodys_0 : decode cX4_isNobodys 0 = .ok (.aload_n 0, 1) := dk_42 (dk_at dksX4_isNobodys_0 0 rfl rfl)
theorem dX4_isNobodys_1 : decode cX4_isNobodys 1 = .ok (.aload_n 1, 1) := dk_43 (dk_at dksX4_isNobodys_0 1 rfl rfl)
theorem dX4_isNobodys_2 : decode cX4_isNobodys 2 = .ok (.iload_n 2, 1) := dk_28 (dk_at dksX4_isNobodys_0 2 rfl rfl)
theorem dX4_isNobodys_3 : decode cX4_isNobodys 3 = .ok (.invokespecial 9, 3) := dk_183 0 9 (dk_at dksX4_isNobodys_0 3 rfl rfl)
theorem dX4_isNobodys_6 : decode cX4_isNobodys 6 = .ok (.istore_n 3, 1) := dk_62 (dk_at dksX4_isNobodys_0 6 rfl rfl)
theorem dX4_isNobodys_7 : decode cX4_isNobodys 7 = .ok (.iconst 0, 1) := dk_3 (dk_at dksX4_isNobodys_0 7 rfl rfl)
theorem dX4_isNobodys_8 : decode cX4_isNobodys 8 = .ok (.istore 4, 2) := dk_54 4 (dk_at dksX4_isNobodys_0 8 rfl rfl)
theorem dX4_isNobodys_10 : decode cX4_isNobodys 10 = .ok (.iload 4, 2) := dk_21 4 (dk_at dksX4_isNobodys_0 10 rfl rfl)
theorem dX4_isNobodys_12 : decode cX4_isNobodys 12 = .ok (.iconst 4, 1) := dk_7 (dk_at dksX4_isNobodys_0 12 rfl rfl)
theorem dX4_isNobodys_13 : decode cX4_isNobodys 13 = .ok (.if_icmp .ge 60, 3) := dk_162 0 60 (dk_at dksX4_isNobodys_0 13 rfl rfl)
theorem dX4_isNobodys_16 : decode cX4_isNobodys 16 = .ok (.iload_n 2, 1) := dk_28 (dk_at dksX4_isNobodys_0 16 rfl rfl)
theorem dX4_isNobodys_17 : decode cX4_isNobodys 17 = .ok (.iload 4, 2) := dk_21 4 (dk_at dksX4_isNobodys_0 17 rfl rfl)
theorem dX4_isNobodys_19 : decode cX4_isNobodys 19 = .ok (.invokestatic 13, 3) := dk_184 0 13 (dk_at dksX4_isNobodys_0 19 rfl rfl)
theorem dX4_isNobodys_22 : decode cX4_isNobodys 22 = .ok (.istore 5, 2) := dk_54 5 (dk_at dksX4_isNobodys_0 22 rfl rfl)
theorem dX4_isNobodys_24 : decode cX4_isNobodys 24 = .ok (.iload_n 3, 1) := dk_29 (dk_at dksX4_isNobodys_1 0 rfl rfl)
theorem dX4_isNobodys_25 : decode cX4_isNobodys 25 = .ok (.iload 5, 2) := dk_21 5 (dk_at dksX4_isNobodys_1 1 rfl rfl)
theorem dX4_isNobodys_27 : decode cX4_isNobodys 27 = .ok (.bipush (-9), 2) := dk_16 247 (dk_at dksX4_isNobodys_1 3 rfl rfl)
theorem dX4_isNobodys_29 : decode cX4_isNobodys 29 = .ok (.if_icmp .eq 35, 3) := dk_159 0 35 (dk_at dksX4_isNobodys_1 5 rfl rfl)
theorem dX4_isNobodys_32 : decode cX4_isNobodys 32 = .ok (.aload_n 1, 1) := dk_43 (dk_at dksX4_isNobodys_1 8 rfl rfl)
theorem dX4_isNobodys_33 : decode cX4_isNobodys 33 = .ok (.iload_n 2, 1) := dk_28 (dk_at dksX4_isNobodys_1 9 rfl rfl)
theorem dX4_isNobodys_34 : decode cX4_isNobodys 34 = .ok (.iload 5, 2) := dk_21 5 (dk_at dksX4_isNobodys_1 10 rfl rfl)
theorem dX4_isNobodys_36 : decode cX4_isNobodys 36 = .ok (.iconst 1, 1) := dk_4 (dk_at dksX4_isNobodys_1 12 rfl rfl)
theorem dX4_isNobodys_37 : decode cX4_isNobodys 37 = .ok (.invokestatic 13, 3) := dk_184 0 13 (dk_at dksX4_isNobodys_1 13 rfl rfl)
theorem dX4_isNobodys_40 : decode cX4_isNobodys 40 = .ok (.invokevirtual 17, 3) := dk_182 0 17 (dk_at dksX4_isNobodys_1 16 rfl rfl)
theorem dX4_isNobodys_43 : decode cX4_isNobodys 43 = .ok (.ifCond .ne 17, 3) := dk_154 0 17 (dk_at dksX4_isNobodys_1 19 rfl rfl)
theorem dX4_isNobodys_46 : decode cX4_isNobodys 46 = .ok (.aload_n 1, 1) := dk_43 (dk_at dksX4_isNobodys_1 22 rfl rfl)
theorem dX4_isNobodys_47 : decode cX4_isNobodys 47 = .ok (.iload_n 2, 1) := dk_28 (dk_at dksX4_isNobodys_1 23 rfl rfl)
theorem dX4_isNobodys_48 : decode cX4_isNobodys 48 = .ok (.iload 5, 2) := dk_21 5 (dk_at dksX4_isNobodys_2 0 rfl rfl)
theorem dX4_isNobodys_50 : decode cX4_isNobodys 50 = .ok (.iconst 3, 1) := dk_6 (dk_at dksX4_isNobodys_2 2 rfl rfl)
theorem dX4_isNobodys_51 : decode cX4_isNobodys 51 = .ok (.invokestatic 13, 3) := dk_184 0 13 (dk_at dksX4_isNobodys_2 3 rfl rfl)
theorem dX4_isNobodys_54 : decode cX4_isNobodys 54 = .ok (.invokevirtual 17, 3) := dk_182 0 17 (dk_at dksX4_isNobodys_2 6 rfl rfl)
theorem dX4_isNobodys_57 : decode cX4_isNobodys 57 = .ok (.ifCond .eq 7, 3) := dk_153 0 7 (dk_at dksX4_isNobodys_2 9 rfl rfl)
theorem dX4_isNobodys_60 : decode cX4_isNobodys 60 = .ok (.iconst 1, 1) := dk_4 (dk_at dksX4_isNobodys_2 12 rfl rfl)
theorem dX4_isNobodys_61 : decode cX4_isNobodys 61 = .ok (.goto 4, 3) := dk_167 0 4 (dk_at dksX4_isNobodys_2 13 rfl rfl)
theorem dX4_isNobodys_64 : decode cX4_isNobodys 64 = .ok (.iconst 0, 1) := dk_3 (dk_at dksX4_isNobodys_2 16 rfl rfl)
theorem dX4_isNobodys_65 : decode cX4_isNobodys 65 = .ok (.ior, 1) := dk_128 (dk_at dksX4_isNobodys_2 17 rfl rfl)
theorem dX4_isNobodys_66 : decode cX4_isNobodys 66 = .ok (.istore_n 3, 1) := dk_62 (dk_at dksX4_isNobodys_2 18 rfl rfl)
theorem dX4_isNobodys_67 : decode cX4_isNobodys 67 = .ok (.iinc 4 2, 3) := dk_132 4 2 (dk_at dksX4_isNobodys_2 19 rfl rfl)
theorem dX4_isNobodys_70 : decode cX4_isNobodys 70 = .ok (.goto (-60), 3) := dk_167 255 196 (dk_at dksX4_isNobodys_3 0 rfl rfl)
theorem dX4_isNobodys_73 : decode cX4_isNobodys 73 = .ok (.iload_n 3, 1) := dk_29 (dk_at dksX4_isNobodys_3 3 rfl rfl)
theorem dX4_isNobodys_74 : decode cX4_isNobodys 74 = .ok (.ireturn, 1) := dk_172 (dk_at dksX4_isNobodys_3 4 rfl rfl)
theorem q72 : (Jvm.Cond.initialized "FallsBetween$Corners") ∈ lw_all := lw_g (lw_at lw_m1 5 rfl) rfl
theorem q128 : (Jvm.Cond.instantiable "FallsBetween$Corners" (0 : Nat)) ∈ lw_all := lw_g (lw_at lw_m1 61 rfl) rfl
theorem q130 : (Jvm.Cond.instanceMethod ({ cls := "FallsBetween$Corners", name := "<init>", desc := "()V" } : Jvm.MethodName)) ∈ lw_all := lw_g (lw_at lw_m1 63 rfl) rfl
theorem q131 : (Jvm.Cond.code ({ cls := "FallsBetween$Corners", name := "<init>", desc := "()V" } : Jvm.MethodName) prog_5_method_1_code (1 : Nat) (Option.none : Option Jvm.ClassFile.FieldType)) ∈ lw_all := lw_g (lw_at lw_m1 64 rfl) rfl
theorem q132 : (Jvm.Cond.methodLinkNest "FallsBetween$Corners" (3 : Nat) ({ cls := "FallsBetween$Beside", name := "<init>", desc := "()V" } : Jvm.MethodName) "FallsBetween") ∈ lw_tbl := lw_at lw_m1 65 rfl
theorem q133 : (Jvm.Cond.superclass "FallsBetween$Corners" "FallsBetween$Beside") ∈ lw_all := lw_g (lw_at lw_m1 66 rfl) rfl
theorem q675 : (Jvm.Cond.selects "FallsBetween$Corners" ({ cls := "FallsBetween$Law", name := "isNobodys", desc := "(LFallsBetween$Town;I)Z" } : Jvm.MethodName) ({ cls := "FallsBetween$Corners", name := "isNobodys", desc := "(LFallsBetween$Town;I)Z" } : Jvm.MethodName)) ∈ lw_all := lw_g (lw_at lw_m3 128 rfl) rfl
theorem q676 : (Jvm.Cond.instanceMethod ({ cls := "FallsBetween$Corners", name := "isNobodys", desc := "(LFallsBetween$Town;I)Z" } : Jvm.MethodName)) ∈ lw_all := lw_g (lw_at lw_m3 129 rfl) rfl
theorem q677 : (Jvm.Cond.code ({ cls := "FallsBetween$Corners", name := "isNobodys", desc := "(LFallsBetween$Town;I)Z" } : Jvm.MethodName) prog_5_method_2_code (6 : Nat) (Option.some Jvm.ClassFile.FieldType.boolean)) ∈ lw_all := lw_g (lw_at lw_m3 130 rfl) rfl
theorem q678 : (Jvm.Cond.methodLink "FallsBetween$Corners" (9 : Nat) ({ cls := "FallsBetween$Beside", name := "isNobodys", desc := "(LFallsBetween$Town;I)Z" } : Jvm.MethodName)) ∈ lw_all := lw_g (lw_at lw_m3 131 rfl) rfl
theorem q679 : (Jvm.Cond.methodLinkNest "FallsBetween$Corners" (13 : Nat) ({ cls := "FallsBetween", name := "beside", desc := "(II)I" } : Jvm.MethodName) "FallsBetween") ∈ lw_tbl := lw_at lw_m3 132 rfl
theorem q680 : (Jvm.Cond.methodLink "FallsBetween$Corners" (17 : Nat) ({ cls := "FallsBetween$Town", name := "isOther", desc := "(II)Z" } : Jvm.MethodName)) ∈ lw_all := lw_g (lw_at lw_m3 133 rfl) rfl
theorem q1397 : (Jvm.Cond.castable "FallsBetween$Corners" "FallsBetween$Law") ∈ lw_tbl := lw_at lw_m6 130 rfl

/-! FallsBetween$Down -/
set_option maxRecDepth 100000
def RX5 : String := "FallsBetween$Down"
abbrev cX5_init : ByteArray := prog_7_method_1_code
def yX5_init : MethodName := ⟨RX5, "<init>", "()V"⟩
theorem dX5_init_0 : decode cX5_init 0 = .ok (.aload_n 0, 1) := by decide +kernel
theorem dX5_init_1 : decode cX5_init 1 = .ok (.invokespecial 1, 3) := by decide +kernel
theorem dX5_init_4 : decode cX5_init 4 = .ok (.return_, 1) := by decide +kernel
abbrev cX5_isNobodys : ByteArray := prog_7_method_2_code
def yX5_isNobodys : MethodName := ⟨RX5, "isNobodys", "(LFallsBetween$Town;I)Z"⟩
def dkwX5_isNobodys_1 : List UInt8 := [167, 0, 4, 3, 172]
abbrev dktX5_isNobodys_1 : List UInt8 := dkwX5_isNobodys_1 ++ []
def dkwX5_isNobodys_0 : List UInt8 := [42, 43, 28, 183, 0, 7, 154, 0, 16, 43, 28, 28, 5, 184, 0, 11, 182, 0, 17, 153, 0, 7, 4]
abbrev dktX5_isNobodys_0 : List UInt8 := dkwX5_isNobodys_0 ++ dktX5_isNobodys_1
theorem dksX5_isNobodys_0 : cX5_isNobodys.data.toList.drop 0 = dktX5_isNobodys_0 := by decide +kernel
theorem dksX5_isNobodys_1 : cX5_isNobodys.data.toList.drop 23 = dktX5_isNobodys_1 := dk_seg dksX5_isNobodys_0 23 rfl rfl
theorem dX5_isNobodys_0 : decode cX5_isNobodys 0 = .ok (.aload_n 0, 1) := dk_42 (dk_at dksX5_isNobodys_0 0 rfl rfl)
theorem dX5_isNobodys_1 : decode cX5_isNobodys 1 = .ok (.aload_n 1, 1) := dk_43 (dk_at dksX5_isNobodys_0 1 rfl rfl)
theorem dX5_isNobodys_2 : decode cX5_isNobodys 2 = .ok (.iload_n 2, 1) := dk_28 (dk_at dksX5_isNobodys_0 2 rfl rfl)
theorem dX5_isNobodys_3 : decode cX5_isNobodys 3 = .ok (.invokespecial 7, 3) := dk_183 0 7 (dk_at dksX5_isNobodys_0 3 rfl rfl)
theorem dX5_isNobodys_6 : decode cX5_isNobodys 6 = .ok (.ifCond .ne 16, 3) := dk_154 0 16 (dk_at dksX5_isNobodys_0 6 rfl rfl)
theorem dX5_isNobodys_9 : decode cX5_isNobodys 9 = .ok (.aload_n 1, 1) := dk_43 (dk_at dksX5_isNobodys_0 9 rfl rfl)
theorem dX5_isNobodys_10 : decode cX5_isNobodys 10 = .ok (.iload_n 2, 1) := dk_28 (dk_at dksX5_isNobodys_0 10 rfl rfl)
theorem dX5_isNobodys_11 : decode cX5_isNobodys 11 = .ok (.iload_n 2, 1) := dk_28 (dk_at dksX5_isNobodys_0 11 rfl rfl)
theorem dX5_isNobodys_12 : decode cX5_isNobodys 12 = .ok (.iconst 2, 1) := dk_5 (dk_at dksX5_isNobodys_0 12 rfl rfl)
theorem dX5_isNobodys_13 : decode cX5_isNobodys 13 = .ok (.invokestatic 11, 3) := dk_184 0 11 (dk_at dksX5_isNobodys_0 13 rfl rfl)
theorem dX5_isNobodys_16 : decode cX5_isNobodys 16 = .ok (.invokevirtual 17, 3) := dk_182 0 17 (dk_at dksX5_isNobodys_0 16 rfl rfl)
theorem dX5_isNobodys_19 : decode cX5_isNobodys 19 = .ok (.ifCond .eq 7, 3) := dk_153 0 7 (dk_at dksX5_isNobodys_0 19 rfl rfl)
theorem dX5_isNobodys_22 : decode cX5_isNobodys 22 = .ok (.iconst 1, 1) := dk_4 (dk_at dksX5_isNobodys_0 22 rfl rfl)
theorem dX5_isNobodys_23 : decode cX5_isNobodys 23 = .ok (.goto 4, 3) := dk_167 0 4 (dk_at dksX5_isNobodys_1 0 rfl rfl)
theorem dX5_isNobodys_26 : decode cX5_isNobodys 26 = .ok (.iconst 0, 1) := dk_3 (dk_at dksX5_isNobodys_1 3 rfl rfl)
theorem dX5_isNobodys_27 : decode cX5_isNobodys 27 = .ok (.ireturn, 1) := dk_172 (dk_at dksX5_isNobodys_1 4 rfl rfl)
theorem q73 : (Jvm.Cond.initialized "FallsBetween$Down") ∈ lw_all := lw_g (lw_at lw_m1 6 rfl) rfl
theorem q135 : (Jvm.Cond.instantiable "FallsBetween$Down" (0 : Nat)) ∈ lw_all := lw_g (lw_at lw_m1 68 rfl) rfl
theorem q137 : (Jvm.Cond.instanceMethod ({ cls := "FallsBetween$Down", name := "<init>", desc := "()V" } : Jvm.MethodName)) ∈ lw_all := lw_g (lw_at lw_m1 70 rfl) rfl
theorem q138 : (Jvm.Cond.code ({ cls := "FallsBetween$Down", name := "<init>", desc := "()V" } : Jvm.MethodName) prog_7_method_1_code (1 : Nat) (Option.none : Option Jvm.ClassFile.FieldType)) ∈ lw_all := lw_g (lw_at lw_m1 71 rfl) rfl
theorem q139 : (Jvm.Cond.methodLinkNest "FallsBetween$Down" (1 : Nat) ({ cls := "FallsBetween$Law", name := "<init>", desc := "()V" } : Jvm.MethodName) "FallsBetween") ∈ lw_tbl := lw_at lw_m1 72 rfl
theorem q140 : (Jvm.Cond.superclass "FallsBetween$Down" "FallsBetween$Law") ∈ lw_all := lw_g (lw_at lw_m1 73 rfl) rfl
theorem q681 : (Jvm.Cond.selects "FallsBetween$Down" ({ cls := "FallsBetween$Law", name := "isNobodys", desc := "(LFallsBetween$Town;I)Z" } : Jvm.MethodName) ({ cls := "FallsBetween$Down", name := "isNobodys", desc := "(LFallsBetween$Town;I)Z" } : Jvm.MethodName)) ∈ lw_all := lw_g (lw_at lw_m3 134 rfl) rfl
theorem q682 : (Jvm.Cond.instanceMethod ({ cls := "FallsBetween$Down", name := "isNobodys", desc := "(LFallsBetween$Town;I)Z" } : Jvm.MethodName)) ∈ lw_all := lw_g (lw_at lw_m3 135 rfl) rfl
theorem q683 : (Jvm.Cond.code ({ cls := "FallsBetween$Down", name := "isNobodys", desc := "(LFallsBetween$Town;I)Z" } : Jvm.MethodName) prog_7_method_2_code (3 : Nat) (Option.some Jvm.ClassFile.FieldType.boolean)) ∈ lw_all := lw_g (lw_at lw_m3 136 rfl) rfl
theorem q684 : (Jvm.Cond.methodLink "FallsBetween$Down" (7 : Nat) ({ cls := "FallsBetween$Law", name := "isNobodys", desc := "(LFallsBetween$Town;I)Z" } : Jvm.MethodName)) ∈ lw_all := lw_g (lw_at lw_m3 137 rfl) rfl
theorem q685 : (Jvm.Cond.methodLinkNest "FallsBetween$Down" (11 : Nat) ({ cls := "FallsBetween", name := "beside", desc := "(II)I" } : Jvm.MethodName) "FallsBetween") ∈ lw_tbl := lw_at lw_m3 138 rfl
theorem q686 : (Jvm.Cond.methodLink "FallsBetween$Down" (17 : Nat) ({ cls := "FallsBetween$Town", name := "isOther", desc := "(II)Z" } : Jvm.MethodName)) ∈ lw_all := lw_g (lw_at lw_m3 139 rfl) rfl
theorem q1392 : (Jvm.Cond.sameMethod "FallsBetween$Down" "FallsBetween$Down" "isNobodys" "(LFallsBetween$Town;I)Z") ∈ lw_all := lw_g (lw_at lw_m6 125 rfl) rfl
theorem q1398 : (Jvm.Cond.castable "FallsBetween$Down" "FallsBetween$Law") ∈ lw_tbl := lw_at lw_m6 131 rfl

/-! FallsBetween$Low -/
set_option maxRecDepth 100000
def RX6 : String := "FallsBetween$Low"
abbrev cX6_init : ByteArray := prog_12_method_1_code
def yX6_init : MethodName := ⟨RX6, "<init>", "()V"⟩
theorem dX6_init_0 : decode cX6_init 0 = .ok (.aload_n 0, 1) := by decide +kernel
theorem dX6_init_1 : decode cX6_init 1 = .ok (.invokespecial 1, 3) := by decide +kernel
theorem dX6_init_4 : decode cX6_init 4 = .ok (.return_, 1) := by decide +kernel
abbrev cX6_isNobodys : ByteArray := prog_12_method_2_code
def yX6_isNobodys : MethodName := ⟨RX6, "isNobodys", "(LFallsBetween$Town;I)Z"⟩
def dkwX6_isNobodys_1 : List UInt8 := [46, 162, 0, 7, 4, 167, 0, 4, 3, 172]
abbrev dktX6_isNobodys_1 : List UInt8 := dkwX6_isNobodys_1 ++ []
def dkwX6_isNobodys_0 : List UInt8 := [42, 43, 28, 183, 0, 7, 153, 0, 26, 43, 180, 0, 11, 28, 5, 184, 0, 17, 46, 43, 180, 0, 11, 28]
abbrev dktX6_isNobodys_0 : List UInt8 := dkwX6_isNobodys_0 ++ dktX6_isNobodys_1
theorem dksX6_isNobodys_0 : cX6_isNobodys.data.toList.drop 0 = dktX6_isNobodys_0 := by decide +kernel
theorem dksX6_isNobodys_1 : cX6_isNobodys.data.toList.drop 24 = dktX6_isNobodys_1 := dk_seg dksX6_isNobodys_0 24 rfl rfl
theorem dX6_isNobodys_0 : decode cX6_isNobodys 0 = .ok (.aload_n 0, 1) := dk_42 (dk_at dksX6_isNobodys_0 0 rfl rfl)
theorem dX6_isNobodys_1 : decode cX6_isNobodys 1 = .ok (.aload_n 1, 1) := dk_43 (dk_at dksX6_isNobodys_0 1 rfl rfl)
theorem dX6_isNobodys_2 : decode cX6_isNobodys 2 = .ok (.iload_n 2, 1) := dk_28 (dk_at dksX6_isNobodys_0 2 rfl rfl)
theorem dX6_isNobodys_3 : decode cX6_isNobodys 3 = .ok (.invokespecial 7, 3) := dk_183 0 7 (dk_at dksX6_isNobodys_0 3 rfl rfl)
theorem dX6_isNobodys_6 : decode cX6_isNobodys 6 = .ok (.ifCond .eq 26, 3) := dk_153 0 26 (dk_at dksX6_isNobodys_0 6 rfl rfl)
theorem dX6_isNobodys_9 : decode cX6_isNobodys 9 = .ok (.aload_n 1, 1) := dk_43 (dk_at dksX6_isNobodys_0 9 rfl rfl)
theorem dX6_isNobodys_10 : decode cX6_isNobodys 10 = .ok (.getfield 11, 3) := dk_180 0 11 (dk_at dksX6_isNobodys_0 10 rfl rfl)
theorem dX6_isNobodys_13 : decode cX6_isNobodys 13 = .ok (.iload_n 2, 1) := dk_28 (dk_at dksX6_isNobodys_0 13 rfl rfl)
theorem dX6_isNobodys_14 : decode cX6_isNobodys 14 = .ok (.iconst 2, 1) := dk_5 (dk_at dksX6_isNobodys_0 14 rfl rfl)
theorem dX6_isNobodys_15 : decode cX6_isNobodys 15 = .ok (.invokestatic 17, 3) := dk_184 0 17 (dk_at dksX6_isNobodys_0 15 rfl rfl)
theorem dX6_isNobodys_18 : decode cX6_isNobodys 18 = .ok (.iaload, 1) := dk_46 (dk_at dksX6_isNobodys_0 18 rfl rfl)
theorem dX6_isNobodys_19 : decode cX6_isNobodys 19 = .ok (.aload_n 1, 1) := dk_43 (dk_at dksX6_isNobodys_0 19 rfl rfl)
theorem dX6_isNobodys_20 : decode cX6_isNobodys 20 = .ok (.getfield 11, 3) := dk_180 0 11 (dk_at dksX6_isNobodys_0 20 rfl rfl)
theorem dX6_isNobodys_23 : decode cX6_isNobodys 23 = .ok (.iload_n 2, 1) := dk_28 (dk_at dksX6_isNobodys_0 23 rfl rfl)
theorem dX6_isNobodys_24 : decode cX6_isNobodys 24 = .ok (.iaload, 1) := dk_46 (dk_at dksX6_isNobodys_1 0 rfl rfl)
theorem dX6_isNobodys_25 : decode cX6_isNobodys 25 = .ok (.if_icmp .ge 7, 3) := dk_162 0 7 (dk_at dksX6_isNobodys_1 1 rfl rfl)
theorem dX6_isNobodys_28 : decode cX6_isNobodys 28 = .ok (.iconst 1, 1) := dk_4 (dk_at dksX6_isNobodys_1 4 rfl rfl)
theorem dX6_isNobodys_29 : decode cX6_isNobodys 29 = .ok (.goto 4, 3) := dk_167 0 4 (dk_at dksX6_isNobodys_1 5 rfl rfl)
theorem dX6_isNobodys_32 : decode cX6_isNobodys 32 = .ok (.iconst 0, 1) := dk_3 (dk_at dksX6_isNobodys_1 8 rfl rfl)
theorem dX6_isNobodys_33 : decode cX6_isNobodys 33 = .ok (.ireturn, 1) := dk_172 (dk_at dksX6_isNobodys_1 9 rfl rfl)
theorem q74 : (Jvm.Cond.initialized "FallsBetween$Low") ∈ lw_all := lw_g (lw_at lw_m1 7 rfl) rfl
theorem q142 : (Jvm.Cond.instantiable "FallsBetween$Low" (0 : Nat)) ∈ lw_all := lw_g (lw_at lw_m1 75 rfl) rfl
theorem q144 : (Jvm.Cond.instanceMethod ({ cls := "FallsBetween$Low", name := "<init>", desc := "()V" } : Jvm.MethodName)) ∈ lw_all := lw_g (lw_at lw_m1 77 rfl) rfl
theorem q145 : (Jvm.Cond.code ({ cls := "FallsBetween$Low", name := "<init>", desc := "()V" } : Jvm.MethodName) prog_12_method_1_code (1 : Nat) (Option.none : Option Jvm.ClassFile.FieldType)) ∈ lw_all := lw_g (lw_at lw_m1 78 rfl) rfl
theorem q146 : (Jvm.Cond.methodLinkNest "FallsBetween$Low" (1 : Nat) ({ cls := "FallsBetween$Down", name := "<init>", desc := "()V" } : Jvm.MethodName) "FallsBetween") ∈ lw_tbl := lw_at lw_m1 79 rfl
theorem q147 : (Jvm.Cond.superclass "FallsBetween$Low" "FallsBetween$Down") ∈ lw_all := lw_g (lw_at lw_m1 80 rfl) rfl
theorem q158 : (Jvm.Cond.fieldLinkNest "FallsBetween$Low" (11 : Nat) "FallsBetween$Town" "heights" "[I" "FallsBetween") ∈ lw_tbl := lw_at lw_m1 91 rfl
theorem q687 : (Jvm.Cond.selects "FallsBetween$Low" ({ cls := "FallsBetween$Law", name := "isNobodys", desc := "(LFallsBetween$Town;I)Z" } : Jvm.MethodName) ({ cls := "FallsBetween$Low", name := "isNobodys", desc := "(LFallsBetween$Town;I)Z" } : Jvm.MethodName)) ∈ lw_all := lw_g (lw_at lw_m3 140 rfl) rfl
theorem q688 : (Jvm.Cond.instanceMethod ({ cls := "FallsBetween$Low", name := "isNobodys", desc := "(LFallsBetween$Town;I)Z" } : Jvm.MethodName)) ∈ lw_all := lw_g (lw_at lw_m3 141 rfl) rfl
theorem q689 : (Jvm.Cond.code ({ cls := "FallsBetween$Low", name := "isNobodys", desc := "(LFallsBetween$Town;I)Z" } : Jvm.MethodName) prog_12_method_2_code (3 : Nat) (Option.some Jvm.ClassFile.FieldType.boolean)) ∈ lw_all := lw_g (lw_at lw_m3 142 rfl) rfl
theorem q690 : (Jvm.Cond.methodLink "FallsBetween$Low" (7 : Nat) ({ cls := "FallsBetween$Down", name := "isNobodys", desc := "(LFallsBetween$Town;I)Z" } : Jvm.MethodName)) ∈ lw_all := lw_g (lw_at lw_m3 143 rfl) rfl
theorem q691 : (Jvm.Cond.methodLinkNest "FallsBetween$Low" (17 : Nat) ({ cls := "FallsBetween", name := "beside", desc := "(II)I" } : Jvm.MethodName) "FallsBetween") ∈ lw_tbl := lw_at lw_m3 144 rfl
theorem q1399 : (Jvm.Cond.castable "FallsBetween$Low" "FallsBetween$Law") ∈ lw_tbl := lw_at lw_m6 132 rfl

/-! FallsBetween$Refusal -/
set_option maxRecDepth 100000
def RX8 : String := "FallsBetween$Refusal"
abbrev cX8_init : ByteArray := prog_16_method_1_code
def yX8_init : MethodName := ⟨RX8, "<init>", "()V"⟩
theorem dX8_init_0 : decode cX8_init 0 = .ok (.aload_n 0, 1) := by decide +kernel
theorem dX8_init_1 : decode cX8_init 1 = .ok (.invokespecial 1, 3) := by decide +kernel
theorem dX8_init_4 : decode cX8_init 4 = .ok (.return_, 1) := by decide +kernel
theorem q79 : (Jvm.Cond.initialized "FallsBetween$Refusal") ∈ lw_all := lw_g (lw_at lw_m1 12 rfl) rfl
theorem q270 : (Jvm.Cond.declares ({ cls := "FallsBetween$Refusal", name := "<init>", desc := "()V" } : Jvm.MethodName)) ∈ lw_tbl := lw_at lw_m1 203 rfl
theorem q312 : (Jvm.Cond.instanceMethod ({ cls := "FallsBetween$Refusal", name := "<init>", desc := "()V" } : Jvm.MethodName)) ∈ lw_all := lw_g (lw_at lw_m2 5 rfl) rfl
theorem q313 : (Jvm.Cond.code ({ cls := "FallsBetween$Refusal", name := "<init>", desc := "()V" } : Jvm.MethodName) prog_16_method_1_code (1 : Nat) (Option.none : Option Jvm.ClassFile.FieldType)) ∈ lw_all := lw_g (lw_at lw_m2 6 rfl) rfl
theorem q314 : (Jvm.Cond.methodLink "FallsBetween$Refusal" (1 : Nat) ({ cls := "java/lang/RuntimeException", name := "<init>", desc := "()V" } : Jvm.MethodName)) ∈ lw_all := lw_g (lw_at lw_m2 7 rfl) rfl
theorem q963 : (Jvm.Cond.declares ({ cls := "FallsBetween$Refusal", name := "number", desc := "()I" } : Jvm.MethodName)) ∈ lw_tbl := lw_at lw_m4 176 rfl
theorem q964 : (Jvm.Cond.sameMethod "FallsBetween$Refusal" "FallsBetween$Refusal" "number" "()I") ∈ lw_all := lw_g (lw_at lw_m4 177 rfl) rfl

/-! FallsBetween$Refused -/
set_option maxRecDepth 100000
def RX9 : String := "FallsBetween$Refused"
def TX9 : u_T := fun k => match k with
  | 0 => ("java/lang/Throwable", "cause", "Ljava/lang/Throwable;", false)
  | 1 => ("java/lang/Throwable", "stackTrace", "[Ljava/lang/StackTraceElement;", false)
  | 2 => ("java/lang/Throwable", "suppressedExceptions", "Ljava/util/List;", false)
  | 3 => ("java/lang/Throwable", "detailMessage", "Ljava/lang/String;", false)
  | 4 => ("java/lang/Throwable", "backtrace", "Ljava/lang/Object;", false)
  | 5 => ("java/lang/Throwable", "depth", "I", false)
  | _ => ("FallsBetween$Refused", "number", "I", true)
def tyX9 : Nat → FieldType := fun k => match k with
  | 0 => .object "java/lang/Throwable"
  | 1 => .array (.object "java/lang/StackTraceElement")
  | 2 => .object "java/util/List"
  | 3 => .object "java/lang/String"
  | 4 => .object "java/lang/Object"
  | 5 => .int
  | _ => .int
abbrev wsX90 : List Cond := u_ws RX9 TX9 7
theorem nmX9 : ∀ a, a < 7 → ∀ b, b < 7 → a ≠ b → (TX9 a).2.1 ≠ (TX9 b).2.1 := by decide +kernel
theorem tyX9_ok : ∀ k, k < 7 → parseFieldDescriptor (TX9 k).2.2.1 = some (tyX9 k) := by decide +kernel
abbrev cX9_init : ByteArray := prog_17_method_1_code
def yX9_init : MethodName := ⟨RX9, "<init>", "(I)V"⟩
def dkwX9_init_0 : List UInt8 := [42, 183, 0, 1, 42, 27, 181, 0, 7, 177]
abbrev dktX9_init_0 : List UInt8 := dkwX9_init_0 ++ []
theorem dksX9_init_0 : cX9_init.data.toList.drop 0 = dktX9_init_0 := by decide +kernel
theorem dX9_init_0 : decode cX9_init 0 = .ok (.aload_n 0, 1) := dk_42 (dk_at dksX9_init_0 0 rfl rfl)
theorem dX9_init_1 : decode cX9_init 1 = .ok (.invokespecial 1, 3) := dk_183 0 1 (dk_at dksX9_init_0 1 rfl rfl)
theorem dX9_init_4 : decode cX9_init 4 = .ok (.aload_n 0, 1) := dk_42 (dk_at dksX9_init_0 4 rfl rfl)
theorem dX9_init_5 : decode cX9_init 5 = .ok (.iload_n 1, 1) := dk_27 (dk_at dksX9_init_0 5 rfl rfl)
theorem dX9_init_6 : decode cX9_init 6 = .ok (.putfield 7, 3) := dk_181 0 7 (dk_at dksX9_init_0 6 rfl rfl)
theorem dX9_init_9 : decode cX9_init 9 = .ok (.return_, 1) := dk_177 (dk_at dksX9_init_0 9 rfl rfl)
abbrev cX9_number : ByteArray := prog_17_method_2_code
def yX9_number : MethodName := ⟨RX9, "number", "()I"⟩
theorem dX9_number_0 : decode cX9_number 0 = .ok (.aload_n 0, 1) := by decide +kernel
theorem dX9_number_1 : decode cX9_number 1 = .ok (.getfield 7, 3) := by decide +kernel
theorem dX9_number_4 : decode cX9_number 4 = .ok (.ireturn, 1) := by decide +kernel
theorem q80 : (Jvm.Cond.initialized "FallsBetween$Refused") ∈ lw_all := lw_g (lw_at lw_m1 13 rfl) rfl
theorem q268 : (Jvm.Cond.instantiable "FallsBetween$Refused" (7 : Nat)) ∈ lw_all := lw_g (lw_at lw_m1 201 rfl) rfl
theorem q269 : (Jvm.Cond.castable "FallsBetween$Refused" "FallsBetween$Refused") ∈ lw_tbl := lw_at lw_m1 202 rfl
theorem q277 : (Jvm.Cond.selects "FallsBetween$Refused" ({ cls := "java/lang/Throwable", name := "fillInStackTrace", desc := "(I)Ljava/lang/Throwable;" } : Jvm.MethodName) ({ cls := "java/lang/Throwable", name := "fillInStackTrace", desc := "(I)Ljava/lang/Throwable;" } : Jvm.MethodName)) ∈ lw_all := lw_g (lw_at lw_m1 210 rfl) rfl
theorem q278 : (Jvm.Cond.selects "FallsBetween$Refused" ({ cls := "java/lang/Throwable", name := "fillInStackTrace", desc := "()Ljava/lang/Throwable;" } : Jvm.MethodName) ({ cls := "java/lang/Throwable", name := "fillInStackTrace", desc := "()Ljava/lang/Throwable;" } : Jvm.MethodName)) ∈ lw_all := lw_g (lw_at lw_m1 211 rfl) rfl
theorem q279 : (Jvm.Cond.lays "FallsBetween$Refused" "java/lang/Throwable" "cause" "Ljava/lang/Throwable;") ∈ lw_all := lw_g (lw_at lw_m1 212 rfl) rfl
theorem q281 : (Jvm.Cond.lays "FallsBetween$Refused" "java/lang/Throwable" "stackTrace" "[Ljava/lang/StackTraceElement;") ∈ lw_all := lw_g (lw_at lw_m1 214 rfl) rfl
theorem q283 : (Jvm.Cond.lays "FallsBetween$Refused" "java/lang/Throwable" "suppressedExceptions" "Ljava/util/List;") ∈ lw_all := lw_g (lw_at lw_m1 216 rfl) rfl
theorem q285 : (Jvm.Cond.lays "FallsBetween$Refused" "java/lang/Throwable" "detailMessage" "Ljava/lang/String;") ∈ lw_all := lw_g (lw_at lw_m1 218 rfl) rfl
theorem q287 : (Jvm.Cond.lays "FallsBetween$Refused" "java/lang/Throwable" "backtrace" "Ljava/lang/Object;") ∈ lw_all := lw_g (lw_at lw_m1 220 rfl) rfl
theorem q309 : (Jvm.Cond.instanceMethod ({ cls := "FallsBetween$Refused", name := "<init>", desc := "(I)V" } : Jvm.MethodName)) ∈ lw_all := lw_g (lw_at lw_m2 2 rfl) rfl
theorem q310 : (Jvm.Cond.code ({ cls := "FallsBetween$Refused", name := "<init>", desc := "(I)V" } : Jvm.MethodName) prog_17_method_1_code (2 : Nat) (Option.none : Option Jvm.ClassFile.FieldType)) ∈ lw_all := lw_g (lw_at lw_m2 3 rfl) rfl
theorem q311 : (Jvm.Cond.methodLinkNest "FallsBetween$Refused" (1 : Nat) ({ cls := "FallsBetween$Refusal", name := "<init>", desc := "()V" } : Jvm.MethodName) "FallsBetween") ∈ lw_tbl := lw_at lw_m2 4 rfl
theorem q321 : (Jvm.Cond.fieldLink "FallsBetween$Refused" (7 : Nat) "FallsBetween$Refused" "number" "I") ∈ lw_all := lw_g (lw_at lw_m2 14 rfl) rfl
theorem q326 : (Jvm.Cond.laysFinal "FallsBetween$Refused" "FallsBetween$Refused" "number" "I") ∈ lw_all := lw_g (lw_at lw_m2 19 rfl) rfl
theorem q327 : (Jvm.Cond.soleField "FallsBetween$Refused" "number") ∈ lw_all := lw_g (lw_at lw_m2 20 rfl) rfl
theorem q332 : (Jvm.Cond.lays "FallsBetween$Refused" "java/lang/Throwable" "depth" "I") ∈ lw_all := lw_g (lw_at lw_m2 25 rfl) rfl
theorem q335 : (Jvm.Cond.superclass "FallsBetween$Refused" "FallsBetween$Refusal") ∈ lw_all := lw_g (lw_at lw_m2 28 rfl) rfl
theorem q968 : (Jvm.Cond.selects "FallsBetween$Refused" ({ cls := "FallsBetween$Refusal", name := "number", desc := "()I" } : Jvm.MethodName) ({ cls := "FallsBetween$Refused", name := "number", desc := "()I" } : Jvm.MethodName)) ∈ lw_all := lw_g (lw_at lw_m4 181 rfl) rfl
theorem q969 : (Jvm.Cond.instanceMethod ({ cls := "FallsBetween$Refused", name := "number", desc := "()I" } : Jvm.MethodName)) ∈ lw_all := lw_g (lw_at lw_m4 182 rfl) rfl
theorem q970 : (Jvm.Cond.code ({ cls := "FallsBetween$Refused", name := "number", desc := "()I" } : Jvm.MethodName) prog_17_method_2_code (1 : Nat) (Option.some Jvm.ClassFile.FieldType.int)) ∈ lw_all := lw_g (lw_at lw_m4 183 rfl) rfl
theorem q1395 : (Jvm.Cond.castable "FallsBetween$Refused" "FallsBetween$Refusal") ∈ lw_tbl := lw_at lw_m6 128 rfl
theorem in_X9 : ∀ w ∈ wsX90, w ∈ lw_all := lw_in wsX90 [279, 281, 283, 285, 287, 332, 326] (by decide +kernel) (by decide +kernel)

/-! FallsBetween$Reader -/
set_option maxRecDepth 100000
def RX10 : String := "FallsBetween$Reader"
def TX10 : u_T := fun k => match k with
  | 0 => ("FallsBetween$Reader", "size", "I", true)
  | 1 => ("FallsBetween$Reader", "at", "I", false)
  | _ => ("FallsBetween$Reader", "this$0", "LFallsBetween;", true)
def tyX10 : Nat → FieldType := fun k => match k with
  | 0 => .int
  | 1 => .int
  | _ => .object "FallsBetween"
abbrev wsX100 : List Cond := u_ws RX10 TX10 3
theorem nmX10 : ∀ a, a < 3 → ∀ b, b < 3 → a ≠ b → (TX10 a).2.1 ≠ (TX10 b).2.1 := by decide +kernel
theorem tyX10_ok : ∀ k, k < 3 → parseFieldDescriptor (TX10 k).2.2.1 = some (tyX10 k) := by decide +kernel
abbrev cX10_init : ByteArray := prog_15_method_1_code
def yX10_init : MethodName := ⟨RX10, "<init>", "(LFallsBetween;)V"⟩
def dkwX10_init_0 : List UInt8 := [42, 43, 181, 0, 1, 42, 183, 0, 7, 42, 42, 180, 0, 1, 180, 0, 13, 181, 0, 19, 177]
abbrev dktX10_init_0 : List UInt8 := dkwX10_init_0 ++ []
theorem dksX10_init_0 : cX10_init.data.toList.drop 0 = dktX10_init_0 := by decide +kernel
theorem dX10_init_0 : decode cX10_init 0 = .ok (.aload_n 0, 1) := dk_42 (dk_at dksX10_init_0 0 rfl rfl)
theorem dX10_init_1 : decode cX10_init 1 = .ok (.aload_n 1, 1) := dk_43 (dk_at dksX10_init_0 1 rfl rfl)
theorem dX10_init_2 : decode cX10_init 2 = .ok (.putfield 1, 3) := dk_181 0 1 (dk_at dksX10_init_0 2 rfl rfl)
theorem dX10_init_5 : decode cX10_init 5 = .ok (.aload_n 0, 1) := dk_42 (dk_at dksX10_init_0 5 rfl rfl)
theorem dX10_init_6 : decode cX10_init 6 = .ok (.invokespecial 7, 3) := dk_183 0 7 (dk_at dksX10_init_0 6 rfl rfl)
theorem dX10_init_9 : decode cX10_init 9 = .ok (.aload_n 0, 1) := dk_42 (dk_at dksX10_init_0 9 rfl rfl)
theorem dX10_init_10 : decode cX10_init 10 = .ok (.aload_n 0, 1) := dk_42 (dk_at dksX10_init_0 10 rfl rfl)
theorem dX10_init_11 : decode cX10_init 11 = .ok (.getfield 1, 3) := dk_180 0 1 (dk_at dksX10_init_0 11 rfl rfl)
theorem dX10_init_14 : decode cX10_init 14 = .ok (.getfield 13, 3) := dk_180 0 13 (dk_at dksX10_init_0 14 rfl rfl)
theorem dX10_init_17 : decode cX10_init 17 = .ok (.putfield 19, 3) := dk_181 0 19 (dk_at dksX10_init_0 17 rfl rfl)
theorem dX10_init_20 : decode cX10_init 20 = .ok (.return_, 1) := dk_177 (dk_at dksX10_init_0 20 rfl rfl)
abbrev cX10_statement : ByteArray := prog_15_method_7_code
def yX10_statement : MethodName := ⟨RX10, "statement", "()LFallsBetween$Told;"⟩
def dkwX10_statement_3 : List UInt8 := [28, 27, 182, 0, 53, 78, 42, 16, 59, 182, 0, 57, 45, 176]
abbrev dktX10_statement_3 : List UInt8 := dkwX10_statement_3 ++ []
def dkwX10_statement_2 : List UInt8 := [16, 110, 160, 0, 7, 4, 167, 0, 4, 3, 182, 0, 38, 42, 89, 180, 0, 22, 4, 96, 181, 0, 22, 42]
abbrev dktX10_statement_2 : List UInt8 := dkwX10_statement_2 ++ dktX10_statement_3
def dkwX10_statement_1 : List UInt8 := [16, 99, 159, 0, 27, 28, 16, 104, 159, 0, 21, 28, 16, 119, 159, 0, 15, 28, 16, 108, 159, 0, 9, 28]
abbrev dktX10_statement_1 : List UInt8 := dkwX10_statement_1 ++ dktX10_statement_2
def dkwX10_statement_0 : List UInt8 := [42, 180, 0, 22, 60, 42, 182, 0, 34, 61, 42, 28, 16, 116, 159, 0, 39, 28, 16, 103, 159, 0, 33, 28]
abbrev dktX10_statement_0 : List UInt8 := dkwX10_statement_0 ++ dktX10_statement_1
theorem dksX10_statement_0 : cX10_statement.data.toList.drop 0 = dktX10_statement_0 := by decide +kernel
theorem dksX10_statement_1 : cX10_statement.data.toList.drop 24 = dktX10_statement_1 := dk_seg dksX10_statement_0 24 rfl rfl
theorem dksX10_statement_2 : cX10_statement.data.toList.drop 48 = dktX10_statement_2 := dk_seg dksX10_statement_1 24 rfl rfl
theorem dksX10_statement_3 : cX10_statement.data.toList.drop 72 = dktX10_statement_3 := dk_seg dksX10_statement_2 24 rfl rfl
theorem dX10_statement_0 : decode cX10_statement 0 = .ok (.aload_n 0, 1) := dk_42 (dk_at dksX10_statement_0 0 rfl rfl)
theorem dX10_statement_1 : decode cX10_statement 1 = .ok (.getfield 22, 3) := dk_180 0 22 (dk_at dksX10_statement_0 1 rfl rfl)
theorem dX10_statement_4 : decode cX10_statement 4 = .ok (.istore_n 1, 1) := dk_60 (dk_at dksX10_statement_0 4 rfl rfl)
theorem dX10_statement_5 : decode cX10_statement 5 = .ok (.aload_n 0, 1) := dk_42 (dk_at dksX10_statement_0 5 rfl rfl)
theorem dX10_statement_6 : decode cX10_statement 6 = .ok (.invokevirtual 34, 3) := dk_182 0 34 (dk_at dksX10_statement_0 6 rfl rfl)
theorem dX10_statement_9 : decode cX10_statement 9 = .ok (.istore_n 2, 1) := dk_61 (dk_at dksX10_statement_0 9 rfl rfl)
theorem dX10_statement_10 : decode cX10_statement 10 = .ok (.aload_n 0, 1) := dk_42 (dk_at dksX10_statement_0 10 rfl rfl)
theorem dX10_statement_11 : decode cX10_statement 11 = .ok (.iload_n 2, 1) := dk_28 (dk_at dksX10_statement_0 11 rfl rfl)
theorem dX10_statement_12 : decode cX10_statement 12 = .ok (.bipush 116, 2) := dk_16 116 (dk_at dksX10_statement_0 12 rfl rfl)
theorem dX10_statement_14 : decode cX10_statement 14 = .ok (.if_icmp .eq 39, 3) := dk_159 0 39 (dk_at dksX10_statement_0 14 rfl rfl)
theorem dX10_statement_17 : decode cX10_statement 17 = .ok (.iload_n 2, 1) := dk_28 (dk_at dksX10_statement_0 17 rfl rfl)
theorem dX10_statement_18 : decode cX10_statement 18 = .ok (.bipush 103, 2) := dk_16 103 (dk_at dksX10_statement_0 18 rfl rfl)
theorem dX10_statement_20 : decode cX10_statement 20 = .ok (.if_icmp .eq 33, 3) := dk_159 0 33 (dk_at dksX10_statement_0 20 rfl rfl)
theorem dX10_statement_23 : decode cX10_statement 23 = .ok (.iload_n 2, 1) := dk_28 (dk_at dksX10_statement_0 23 rfl rfl)
theorem dX10_statement_24 : decode cX10_statement 24 = .ok (.bipush 99, 2) := dk_16 99 (dk_at dksX10_statement_1 0 rfl rfl)
theorem dX10_statement_26 : decode cX10_statement 26 = .ok (.if_icmp .eq 27, 3) := dk_159 0 27 (dk_at dksX10_statement_1 2 rfl rfl)
theorem dX10_statement_29 : decode cX10_statement 29 = .ok (.iload_n 2, 1) := dk_28 (dk_at dksX10_statement_1 5 rfl rfl)
theorem dX10_statement_30 : decode cX10_statement 30 = .ok (.bipush 104, 2) := dk_16 104 (dk_at dksX10_statement_1 6 rfl rfl)
theorem dX10_statement_32 : decode cX10_statement 32 = .ok (.if_icmp .eq 21, 3) := dk_159 0 21 (dk_at dksX10_statement_1 8 rfl rfl)
theorem dX10_statement_35 : decode cX10_statement 35 = .ok (.iload_n 2, 1) := dk_28 (dk_at dksX10_statement_1 11 rfl rfl)
theorem dX10_statement_36 : decode cX10_statement 36 = .ok (.bipush 119, 2) := dk_16 119 (dk_at dksX10_statement_1 12 rfl rfl)
theorem dX10_statement_38 : decode cX10_statement 38 = .ok (.if_icmp .eq 15, 3) := dk_159 0 15 (dk_at dksX10_statement_1 14 rfl rfl)
theorem dX10_statement_41 : decode cX10_statement 41 = .ok (.iload_n 2, 1) := dk_28 (dk_at dksX10_statement_1 17 rfl rfl)
theorem dX10_statement_42 : decode cX10_statement 42 = .ok (.bipush 108, 2) := dk_16 108 (dk_at dksX10_statement_1 18 rfl rfl)
theorem dX10_statement_44 : decode cX10_statement 44 = .ok (.if_icmp .eq 9, 3) := dk_159 0 9 (dk_at dksX10_statement_1 20 rfl rfl)
theorem dX10_statement_47 : decode cX10_statement 47 = .ok (.iload_n 2, 1) := dk_28 (dk_at dksX10_statement_1 23 rfl rfl)
theorem dX10_statement_48 : decode cX10_statement 48 = .ok (.bipush 110, 2) := dk_16 110 (dk_at dksX10_statement_2 0 rfl rfl)
theorem dX10_statement_50 : decode cX10_statement 50 = .ok (.if_icmp .ne 7, 3) := dk_160 0 7 (dk_at dksX10_statement_2 2 rfl rfl)
theorem dX10_statement_53 : decode cX10_statement 53 = .ok (.iconst 1, 1) := dk_4 (dk_at dksX10_statement_2 5 rfl rfl)
theorem dX10_statement_54 : decode cX10_statement 54 = .ok (.goto 4, 3) := dk_167 0 4 (dk_at dksX10_statement_2 6 rfl rfl)
theorem dX10_statement_57 : decode cX10_statement 57 = .ok (.iconst 0, 1) := dk_3 (dk_at dksX10_statement_2 9 rfl rfl)
theorem dX10_statement_58 : decode cX10_statement 58 = .ok (.invokevirtual 38, 3) := dk_182 0 38 (dk_at dksX10_statement_2 10 rfl rfl)
theorem dX10_statement_61 : decode cX10_statement 61 = .ok (.aload_n 0, 1) := dk_42 (dk_at dksX10_statement_2 13 rfl rfl)
theorem dX10_statement_62 : decode cX10_statement 62 = .ok (.dup, 1) := dk_89 (dk_at dksX10_statement_2 14 rfl rfl)
theorem dX10_statement_63 : decode cX10_statement 63 = .ok (.getfield 22, 3) := dk_180 0 22 (dk_at dksX10_statement_2 15 rfl rfl)
theorem dX10_statement_66 : decode cX10_statement 66 = .ok (.iconst 1, 1) := dk_4 (dk_at dksX10_statement_2 18 rfl rfl)
theorem dX10_statement_67 : decode cX10_statement 67 = .ok (.iadd, 1) := dk_96 (dk_at dksX10_statement_2 19 rfl rfl)
theorem dX10_statement_68 : decode cX10_statement 68 = .ok (.putfield 22, 3) := dk_181 0 22 (dk_at dksX10_statement_2 20 rfl rfl)
theorem dX10_statement_71 : decode cX10_statement 71 = .ok (.aload_n 0, 1) := dk_42 (dk_at dksX10_statement_2 23 rfl rfl)
theorem dX10_statement_72 : decode cX10_statement 72 = .ok (.iload_n 2, 1) := dk_28 (dk_at dksX10_statement_3 0 rfl rfl)
theorem dX10_statement_73 : decode cX10_statement 73 = .ok (.iload_n 1, 1) := dk_27 (dk_at dksX10_statement_3 1 rfl rfl)
theorem dX10_statement_74 : decode cX10_statement 74 = .ok (.invokevirtual 53, 3) := dk_182 0 53 (dk_at dksX10_statement_3 2 rfl rfl)
theorem dX10_statement_77 : decode cX10_statement 77 = .ok (.astore_n 3, 1) := dk_78 (dk_at dksX10_statement_3 5 rfl rfl)
theorem dX10_statement_78 : decode cX10_statement 78 = .ok (.aload_n 0, 1) := dk_42 (dk_at dksX10_statement_3 6 rfl rfl)
theorem dX10_statement_79 : decode cX10_statement 79 = .ok (.bipush 59, 2) := dk_16 59 (dk_at dksX10_statement_3 7 rfl rfl)
theorem dX10_statement_81 : decode cX10_statement 81 = .ok (.invokevirtual 57, 3) := dk_182 0 57 (dk_at dksX10_statement_3 9 rfl rfl)
theorem dX10_statement_84 : decode cX10_statement 84 = .ok (.aload_n 3, 1) := dk_45 (dk_at dksX10_statement_3 12 rfl rfl)
theorem dX10_statement_85 : decode cX10_statement 85 = .ok (.areturn, 1) := dk_176 (dk_at dksX10_statement_3 13 rfl rfl)
abbrev cX10_here : ByteArray := prog_15_method_2_code
def yX10_here : MethodName := ⟨RX10, "here", "()I"⟩
def dkwX10_here_1 : List UInt8 := [167, 0, 4, 2, 172]
abbrev dktX10_here_1 : List UInt8 := dkwX10_here_1 ++ []
def dkwX10_here_0 : List UInt8 := [42, 180, 0, 22, 42, 180, 0, 19, 162, 0, 18, 42, 180, 0, 1, 180, 0, 25, 42, 180, 0, 22, 52]
abbrev dktX10_here_0 : List UInt8 := dkwX10_here_0 ++ dktX10_here_1
theorem dksX10_here_0 : cX10_here.data.toList.drop 0 = dktX10_here_0 := by decide +kernel
theorem dksX10_here_1 : cX10_here.data.toList.drop 23 = dktX10_here_1 := dk_seg dksX10_here_0 23 rfl rfl
theorem dX10_here_0 : decode cX10_here 0 = .ok (.aload_n 0, 1) := dk_42 (dk_at dksX10_here_0 0 rfl rfl)
theorem dX10_here_1 : decode cX10_here 1 = .ok (.getfield 22, 3) := dk_180 0 22 (dk_at dksX10_here_0 1 rfl rfl)
theorem dX10_here_4 : decode cX10_here 4 = .ok (.aload_n 0, 1) := dk_42 (dk_at dksX10_here_0 4 rfl rfl)
theorem dX10_here_5 : decode cX10_here 5 = .ok (.getfield 19, 3) := dk_180 0 19 (dk_at dksX10_here_0 5 rfl rfl)
theorem dX10_here_8 : decode cX10_here 8 = .ok (.if_icmp .ge 18, 3) := dk_162 0 18 (dk_at dksX10_here_0 8 rfl rfl)
theorem dX10_here_11 : decode cX10_here 11 = .ok (.aload_n 0, 1) := dk_42 (dk_at dksX10_here_0 11 rfl rfl)
theorem dX10_here_12 : decode cX10_here 12 = .ok (.getfield 1, 3) := dk_180 0 1 (dk_at dksX10_here_0 12 rfl rfl)
theorem dX10_here_15 : decode cX10_here 15 = .ok (.getfield 25, 3) := dk_180 0 25 (dk_at dksX10_here_0 15 rfl rfl)
theorem dX10_here_18 : decode cX10_here 18 = .ok (.aload_n 0, 1) := dk_42 (dk_at dksX10_here_0 18 rfl rfl)
theorem dX10_here_19 : decode cX10_here 19 = .ok (.getfield 22, 3) := dk_180 0 22 (dk_at dksX10_here_0 19 rfl rfl)
theorem dX10_here_22 : decode cX10_here 22 = .ok (.caload, 1) := dk_52 (dk_at dksX10_here_0 22 rfl rfl)
theorem dX10_here_23 : decode cX10_here 23 = .ok (.goto 4, 3) := dk_167 0 4 (dk_at dksX10_here_1 0 rfl rfl)
theorem dX10_here_26 : decode cX10_here 26 = .ok (.iconst (-1), 1) := dk_2 (dk_at dksX10_here_1 3 rfl rfl)
theorem dX10_here_27 : decode cX10_here 27 = .ok (.ireturn, 1) := dk_172 (dk_at dksX10_here_1 4 rfl rfl)
abbrev cX10_mustStand : ByteArray := prog_15_method_3_code
def yX10_mustStand : MethodName := ⟨RX10, "mustStand", "(Z)V"⟩
def dkwX10_mustStand_0 : List UInt8 := [27, 154, 0, 19, 187, 0, 29, 89, 17, 252, 24, 42, 180, 0, 22, 100, 183, 0, 31, 191, 177]
abbrev dktX10_mustStand_0 : List UInt8 := dkwX10_mustStand_0 ++ []
theorem dksX10_mustStand_0 : cX10_mustStand.data.toList.drop 0 = dktX10_mustStand_0 := by decide +kernel
theorem dX10_mustStand_0 : decode cX10_mustStand 0 = .ok (.iload_n 1, 1) := dk_27 (dk_at dksX10_mustStand_0 0 rfl rfl)
theorem dX10_mustStand_1 : decode cX10_mustStand 1 = .ok (.ifCond .ne 19, 3) := dk_154 0 19 (dk_at dksX10_mustStand_0 1 rfl rfl)
theorem dX10_mustStand_4 : decode cX10_mustStand 4 = .ok (.new 29, 3) := dk_187 0 29 (dk_at dksX10_mustStand_0 4 rfl rfl)
theorem dX10_mustStand_7 : decode cX10_mustStand 7 = .ok (.dup, 1) := dk_89 (dk_at dksX10_mustStand_0 7 rfl rfl)
theorem dX10_mustStand_8 : decode cX10_mustStand 8 = .ok (.sipush (-1000), 3) := dk_17 252 24 (dk_at dksX10_mustStand_0 8 rfl rfl)
theorem dX10_mustStand_11 : decode cX10_mustStand 11 = .ok (.aload_n 0, 1) := dk_42 (dk_at dksX10_mustStand_0 11 rfl rfl)
theorem dX10_mustStand_12 : decode cX10_mustStand 12 = .ok (.getfield 22, 3) := dk_180 0 22 (dk_at dksX10_mustStand_0 12 rfl rfl)
theorem dX10_mustStand_15 : decode cX10_mustStand 15 = .ok (.isub, 1) := dk_100 (dk_at dksX10_mustStand_0 15 rfl rfl)
theorem dX10_mustStand_16 : decode cX10_mustStand 16 = .ok (.invokespecial 31, 3) := dk_183 0 31 (dk_at dksX10_mustStand_0 16 rfl rfl)
theorem dX10_mustStand_19 : decode cX10_mustStand 19 = .ok (.athrow, 1) := dk_191 (dk_at dksX10_mustStand_0 19 rfl rfl)
theorem dX10_mustStand_20 : decode cX10_mustStand 20 = .ok (.return_, 1) := dk_177 (dk_at dksX10_mustStand_0 20 rfl rfl)
abbrev cX10_told : ByteArray := prog_15_method_8_code
def yX10_told : MethodName := ⟨RX10, "told", "(II)LFallsBetween$Told;"⟩
def dkwX10_told_6 : List UInt8 := [183, 0, 84, 167, 0, 15, 187, 0, 85, 89, 28, 21, 4, 21, 5, 183, 0, 87, 176]
abbrev dktX10_told_6 : List UInt8 := dkwX10_told_6 ++ []
def dkwX10_told_5 : List UInt8 := [54, 4, 42, 182, 0, 50, 54, 5, 27, 16, 103, 160, 0, 18, 187, 0, 82, 89, 28, 21, 4, 21, 5]
abbrev dktX10_told_5 : List UInt8 := dkwX10_told_5 ++ dktX10_told_6
def dkwX10_told_4 : List UInt8 := [182, 0, 50, 183, 0, 74, 176, 187, 0, 77, 89, 28, 42, 182, 0, 71, 183, 0, 79, 176, 42, 182, 0, 71]
abbrev dktX10_told_4 : List UInt8 := dkwX10_told_4 ++ dktX10_told_5
def dkwX10_told_3 : List UInt8 := [176, 187, 0, 69, 89, 28, 3, 42, 182, 0, 71, 183, 0, 74, 176, 187, 0, 69, 89, 28, 4, 42]
abbrev dktX10_told_3 : List UInt8 := dkwX10_told_3 ++ dktX10_told_4
def dkwX10_told_2 : List UInt8 := [42, 28, 182, 0, 60, 176, 42, 182, 0, 50, 62, 187, 0, 64, 89, 28, 29, 42, 182, 0, 50, 183, 0, 66]
abbrev dktX10_told_2 : List UInt8 := dkwX10_told_2 ++ dktX10_told_3
def dkwX10_told_1 : List UInt8 := [171, 0, 0, 0, 0, 0, 117, 0, 0, 0, 5, 0, 0, 0, 99, 0, 0, 0, 57, 0, 0, 0, 108, 0, 0, 0, 90, 0, 0, 0, 110, 0, 0, 0, 104, 0, 0, 0, 116, 0, 0, 0, 51, 0, 0, 0, 119, 0, 0, 0, 76]
abbrev dktX10_told_1 : List UInt8 := dkwX10_told_1 ++ dktX10_told_2
def dkwX10_told_0 : List UInt8 := [27]
abbrev dktX10_told_0 : List UInt8 := dkwX10_told_0 ++ dktX10_told_1
theorem dksX10_told_0 : cX10_told.data.toList.drop 0 = dktX10_told_0 := by decide +kernel
theorem dksX10_told_1 : cX10_told.data.toList.drop 1 = dktX10_told_1 := dk_seg dksX10_told_0 1 rfl rfl
theorem dksX10_told_2 : cX10_told.data.toList.drop 52 = dktX10_told_2 := dk_seg dksX10_told_1 51 rfl rfl
theorem dksX10_told_3 : cX10_told.data.toList.drop 76 = dktX10_told_3 := dk_seg dksX10_told_2 24 rfl rfl
theorem dksX10_told_4 : cX10_told.data.toList.drop 98 = dktX10_told_4 := dk_seg dksX10_told_3 22 rfl rfl
theorem dksX10_told_5 : cX10_told.data.toList.drop 122 = dktX10_told_5 := dk_seg dksX10_told_4 24 rfl rfl
theorem dksX10_told_6 : cX10_told.data.toList.drop 145 = dktX10_told_6 := dk_seg dksX10_told_5 23 rfl rfl
theorem dX10_told_0 : decode cX10_told 0 = .ok (.iload_n 1, 1) := dk_27 (dk_at dksX10_told_0 0 rfl rfl)
theorem dX10_told_1 : decode cX10_told 1 = .ok (.lookupswitch 117 #[(99, 57), (108, 90), (110, 104), (116, 51), (119, 76)], 51) := by decide +kernel
theorem dX10_told_52 : decode cX10_told 52 = .ok (.aload_n 0, 1) := dk_42 (dk_at dksX10_told_2 0 rfl rfl)
theorem dX10_told_53 : decode cX10_told 53 = .ok (.iload_n 2, 1) := dk_28 (dk_at dksX10_told_2 1 rfl rfl)
theorem dX10_told_54 : decode cX10_told 54 = .ok (.invokevirtual 60, 3) := dk_182 0 60 (dk_at dksX10_told_2 2 rfl rfl)
theorem dX10_told_57 : decode cX10_told 57 = .ok (.areturn, 1) := dk_176 (dk_at dksX10_told_2 5 rfl rfl)
theorem dX10_told_58 : decode cX10_told 58 = .ok (.aload_n 0, 1) := dk_42 (dk_at dksX10_told_2 6 rfl rfl)
theorem dX10_told_59 : decode cX10_told 59 = .ok (.invokevirtual 50, 3) := dk_182 0 50 (dk_at dksX10_told_2 7 rfl rfl)
theorem dX10_told_62 : decode cX10_told 62 = .ok (.istore_n 3, 1) := dk_62 (dk_at dksX10_told_2 10 rfl rfl)
theorem dX10_told_63 : decode cX10_told 63 = .ok (.new 64, 3) := dk_187 0 64 (dk_at dksX10_told_2 11 rfl rfl)
theorem dX10_told_66 : decode cX10_told 66 = .ok (.dup, 1) := dk_89 (dk_at dksX10_told_2 14 rfl rfl)
theorem dX10_told_67 : decode cX10_told 67 = .ok (.iload_n 2, 1) := dk_28 (dk_at dksX10_told_2 15 rfl rfl)
theorem dX10_told_68 : decode cX10_told 68 = .ok (.iload_n 3, 1) := dk_29 (dk_at dksX10_told_2 16 rfl rfl)
theorem dX10_told_69 : decode cX10_told 69 = .ok (.aload_n 0, 1) := dk_42 (dk_at dksX10_told_2 17 rfl rfl)
theorem dX10_told_70 : decode cX10_told 70 = .ok (.invokevirtual 50, 3) := dk_182 0 50 (dk_at dksX10_told_2 18 rfl rfl)
theorem dX10_told_73 : decode cX10_told 73 = .ok (.invokespecial 66, 3) := dk_183 0 66 (dk_at dksX10_told_2 21 rfl rfl)
theorem dX10_told_76 : decode cX10_told 76 = .ok (.areturn, 1) := dk_176 (dk_at dksX10_told_3 0 rfl rfl)
theorem dX10_told_77 : decode cX10_told 77 = .ok (.new 69, 3) := dk_187 0 69 (dk_at dksX10_told_3 1 rfl rfl)
theorem dX10_told_80 : decode cX10_told 80 = .ok (.dup, 1) := dk_89 (dk_at dksX10_told_3 4 rfl rfl)
theorem dX10_told_81 : decode cX10_told 81 = .ok (.iload_n 2, 1) := dk_28 (dk_at dksX10_told_3 5 rfl rfl)
theorem dX10_told_82 : decode cX10_told 82 = .ok (.iconst 0, 1) := dk_3 (dk_at dksX10_told_3 6 rfl rfl)
theorem dX10_told_83 : decode cX10_told 83 = .ok (.aload_n 0, 1) := dk_42 (dk_at dksX10_told_3 7 rfl rfl)
theorem dX10_told_84 : decode cX10_told 84 = .ok (.invokevirtual 71, 3) := dk_182 0 71 (dk_at dksX10_told_3 8 rfl rfl)
theorem dX10_told_87 : decode cX10_told 87 = .ok (.invokespecial 74, 3) := dk_183 0 74 (dk_at dksX10_told_3 11 rfl rfl)
theorem dX10_told_90 : decode cX10_told 90 = .ok (.areturn, 1) := dk_176 (dk_at dksX10_told_3 14 rfl rfl)
theorem dX10_told_91 : decode cX10_told 91 = .ok (.new 69, 3) := dk_187 0 69 (dk_at dksX10_told_3 15 rfl rfl)
theorem dX10_told_94 : decode cX10_told 94 = .ok (.dup, 1) := dk_89 (dk_at dksX10_told_3 18 rfl rfl)
theorem dX10_told_95 : decode cX10_told 95 = .ok (.iload_n 2, 1) := dk_28 (dk_at dksX10_told_3 19 rfl rfl)
theorem dX10_told_96 : decode cX10_told 96 = .ok (.iconst 1, 1) := dk_4 (dk_at dksX10_told_3 20 rfl rfl)
theorem dX10_told_97 : decode cX10_told 97 = .ok (.aload_n 0, 1) := dk_42 (dk_at dksX10_told_3 21 rfl rfl)
theorem dX10_told_98 : decode cX10_told 98 = .ok (.invokevirtual 50, 3) := dk_182 0 50 (dk_at dksX10_told_4 0 rfl rfl)
theorem dX10_told_101 : decode cX10_told 101 = .ok (.invokespecial 74, 3) := dk_183 0 74 (dk_at dksX10_told_4 3 rfl rfl)
theorem dX10_told_104 : decode cX10_told 104 = .ok (.areturn, 1) := dk_176 (dk_at dksX10_told_4 6 rfl rfl)
theorem dX10_told_105 : decode cX10_told 105 = .ok (.new 77, 3) := dk_187 0 77 (dk_at dksX10_told_4 7 rfl rfl)
theorem dX10_told_108 : decode cX10_told 108 = .ok (.dup, 1) := dk_89 (dk_at dksX10_told_4 10 rfl rfl)
theorem dX10_told_109 : decode cX10_told 109 = .ok (.iload_n 2, 1) := dk_28 (dk_at dksX10_told_4 11 rfl rfl)
theorem dX10_told_110 : decode cX10_told 110 = .ok (.aload_n 0, 1) := dk_42 (dk_at dksX10_told_4 12 rfl rfl)
theorem dX10_told_111 : decode cX10_told 111 = .ok (.invokevirtual 71, 3) := dk_182 0 71 (dk_at dksX10_told_4 13 rfl rfl)
theorem dX10_told_114 : decode cX10_told 114 = .ok (.invokespecial 79, 3) := dk_183 0 79 (dk_at dksX10_told_4 16 rfl rfl)
theorem dX10_told_117 : decode cX10_told 117 = .ok (.areturn, 1) := dk_176 (dk_at dksX10_told_4 19 rfl rfl)
theorem dX10_told_118 : decode cX10_told 118 = .ok (.aload_n 0, 1) := dk_42 (dk_at dksX10_told_4 20 rfl rfl)
theorem dX10_told_119 : decode cX10_told 119 = .ok (.invokevirtual 71, 3) := dk_182 0 71 (dk_at dksX10_told_4 21 rfl rfl)
theorem dX10_told_122 : decode cX10_told 122 = .ok (.istore 4, 2) := dk_54 4 (dk_at dksX10_told_5 0 rfl rfl)
theorem dX10_told_124 : decode cX10_told 124 = .ok (.aload_n 0, 1) := dk_42 (dk_at dksX10_told_5 2 rfl rfl)
theorem dX10_told_125 : decode cX10_told 125 = .ok (.invokevirtual 50, 3) := dk_182 0 50 (dk_at dksX10_told_5 3 rfl rfl)
theorem dX10_told_128 : decode cX10_told 128 = .ok (.istore 5, 2) := dk_54 5 (dk_at dksX10_told_5 6 rfl rfl)
theorem dX10_told_130 : decode cX10_told 130 = .ok (.iload_n 1, 1) := dk_27 (dk_at dksX10_told_5 8 rfl rfl)
theorem dX10_told_131 : decode cX10_told 131 = .ok (.bipush 103, 2) := dk_16 103 (dk_at dksX10_told_5 9 rfl rfl)
theorem dX10_told_133 : decode cX10_told 133 = .ok (.if_icmp .ne 18, 3) := dk_160 0 18 (dk_at dksX10_told_5 11 rfl rfl)
theorem dX10_told_136 : decode cX10_told 136 = .ok (.new 82, 3) := dk_187 0 82 (dk_at dksX10_told_5 14 rfl rfl)
theorem dX10_told_139 : decode cX10_told 139 = .ok (.dup, 1) := dk_89 (dk_at dksX10_told_5 17 rfl rfl)
theorem dX10_told_140 : decode cX10_told 140 = .ok (.iload_n 2, 1) := dk_28 (dk_at dksX10_told_5 18 rfl rfl)
theorem dX10_told_141 : decode cX10_told 141 = .ok (.iload 4, 2) := dk_21 4 (dk_at dksX10_told_5 19 rfl rfl)
theorem dX10_told_143 : decode cX10_told 143 = .ok (.iload 5, 2) := dk_21 5 (dk_at dksX10_told_5 21 rfl rfl)
theorem dX10_told_145 : decode cX10_told 145 = .ok (.invokespecial 84, 3) := dk_183 0 84 (dk_at dksX10_told_6 0 rfl rfl)
theorem dX10_told_148 : decode cX10_told 148 = .ok (.goto 15, 3) := dk_167 0 15 (dk_at dksX10_told_6 3 rfl rfl)
theorem dX10_told_151 : decode cX10_told 151 = .ok (.new 85, 3) := dk_187 0 85 (dk_at dksX10_told_6 6 rfl rfl)
theorem dX10_told_154 : decode cX10_told 154 = .ok (.dup, 1) := dk_89 (dk_at dksX10_told_6 9 rfl rfl)
theorem dX10_told_155 : decode cX10_told 155 = .ok (.iload_n 2, 1) := dk_28 (dk_at dksX10_told_6 10 rfl rfl)
theorem dX10_told_156 : decode cX10_told 156 = .ok (.iload 4, 2) := dk_21 4 (dk_at dksX10_told_6 11 rfl rfl)
theorem dX10_told_158 : decode cX10_told 158 = .ok (.iload 5, 2) := dk_21 5 (dk_at dksX10_told_6 13 rfl rfl)
theorem dX10_told_160 : decode cX10_told 160 = .ok (.invokespecial 87, 3) := dk_183 0 87 (dk_at dksX10_told_6 15 rfl rfl)
theorem dX10_told_163 : decode cX10_told 163 = .ok (.areturn, 1) := dk_176 (dk_at dksX10_told_6 18 rfl rfl)
abbrev cX10_tree : ByteArray := prog_15_method_9_code
def yX10_tree : MethodName := ⟨RX10, "tree", "(I)LFallsBetween$Told;"⟩
def dkwX10_tree_4 : List UInt8 := [182, 0, 50, 184, 0, 94, 183, 0, 98, 176]
abbrev dktX10_tree_4 : List UInt8 := dkwX10_tree_4 ++ []
def dkwX10_tree_3 : List UInt8 := [167, 0, 5, 21, 4, 54, 4, 42, 16, 44, 182, 0, 57, 187, 0, 92, 89, 27, 28, 29, 21, 4, 42]
abbrev dktX10_tree_3 : List UInt8 := dkwX10_tree_3 ++ dktX10_tree_4
def dkwX10_tree_2 : List UInt8 := [20, 0, 42, 20, 0, 44, 184, 0, 46, 153, 0, 16, 16, 10, 21, 4, 104, 42, 182, 0, 50, 96]
abbrev dktX10_tree_2 : List UInt8 := dkwX10_tree_2 ++ dktX10_tree_3
def dkwX10_tree_1 : List UInt8 := [180, 0, 22, 4, 96, 181, 0, 22, 42, 182, 0, 71, 62, 42, 182, 0, 50, 54, 4, 42, 182, 0, 34, 133]
abbrev dktX10_tree_1 : List UInt8 := dkwX10_tree_1 ++ dktX10_tree_2
def dkwX10_tree_0 : List UInt8 := [42, 42, 182, 0, 34, 182, 0, 88, 61, 42, 28, 155, 0, 7, 4, 167, 0, 4, 3, 182, 0, 38, 42, 89]
abbrev dktX10_tree_0 : List UInt8 := dkwX10_tree_0 ++ dktX10_tree_1
theorem dksX10_tree_0 : cX10_tree.data.toList.drop 0 = dktX10_tree_0 := by decide +kernel
theorem dksX10_tree_1 : cX10_tree.data.toList.drop 24 = dktX10_tree_1 := dk_seg dksX10_tree_0 24 rfl rfl
theorem dksX10_tree_2 : cX10_tree.data.toList.drop 48 = dktX10_tree_2 := dk_seg dksX10_tree_1 24 rfl rfl
theorem dksX10_tree_3 : cX10_tree.data.toList.drop 70 = dktX10_tree_3 := dk_seg dksX10_tree_2 22 rfl rfl
theorem dksX10_tree_4 : cX10_tree.data.toList.drop 93 = dktX10_tree_4 := dk_seg dksX10_tree_3 23 rfl rfl
theorem dX10_tree_0 : decode cX10_tree 0 = .ok (.aload_n 0, 1) := dk_42 (dk_at dksX10_tree_0 0 rfl rfl)
theorem dX10_tree_1 : decode cX10_tree 1 = .ok (.aload_n 0, 1) := dk_42 (dk_at dksX10_tree_0 1 rfl rfl)
theorem dX10_tree_2 : decode cX10_tree 2 = .ok (.invokevirtual 34, 3) := dk_182 0 34 (dk_at dksX10_tree_0 2 rfl rfl)
theorem dX10_tree_5 : decode cX10_tree 5 = .ok (.invokevirtual 88, 3) := dk_182 0 88 (dk_at dksX10_tree_0 5 rfl rfl)
theorem dX10_tree_8 : decode cX10_tree 8 = .ok (.istore_n 2, 1) := dk_61 (dk_at dksX10_tree_0 8 rfl rfl)
theorem dX10_tree_9 : decode cX10_tree 9 = .ok (.aload_n 0, 1) := dk_42 (dk_at dksX10_tree_0 9 rfl rfl)
theorem dX10_tree_10 : decode cX10_tree 10 = .ok (.iload_n 2, 1) := dk_28 (dk_at dksX10_tree_0 10 rfl rfl)
theorem dX10_tree_11 : decode cX10_tree 11 = .ok (.ifCond .lt 7, 3) := dk_155 0 7 (dk_at dksX10_tree_0 11 rfl rfl)
theorem dX10_tree_14 : decode cX10_tree 14 = .ok (.iconst 1, 1) := dk_4 (dk_at dksX10_tree_0 14 rfl rfl)
theorem dX10_tree_15 : decode cX10_tree 15 = .ok (.goto 4, 3) := dk_167 0 4 (dk_at dksX10_tree_0 15 rfl rfl)
theorem dX10_tree_18 : decode cX10_tree 18 = .ok (.iconst 0, 1) := dk_3 (dk_at dksX10_tree_0 18 rfl rfl)
theorem dX10_tree_19 : decode cX10_tree 19 = .ok (.invokevirtual 38, 3) := dk_182 0 38 (dk_at dksX10_tree_0 19 rfl rfl)
theorem dX10_tree_22 : decode cX10_tree 22 = .ok (.aload_n 0, 1) := dk_42 (dk_at dksX10_tree_0 22 rfl rfl)
theorem dX10_tree_23 : decode cX10_tree 23 = .ok (.dup, 1) := dk_89 (dk_at dksX10_tree_0 23 rfl rfl)
theorem dX10_tree_24 : decode cX10_tree 24 = .ok (.getfield 22, 3) := dk_180 0 22 (dk_at dksX10_tree_1 0 rfl rfl)
theorem dX10_tree_27 : decode cX10_tree 27 = .ok (.iconst 1, 1) := dk_4 (dk_at dksX10_tree_1 3 rfl rfl)
theorem dX10_tree_28 : decode cX10_tree 28 = .ok (.iadd, 1) := dk_96 (dk_at dksX10_tree_1 4 rfl rfl)
theorem dX10_tree_29 : decode cX10_tree 29 = .ok (.putfield 22, 3) := dk_181 0 22 (dk_at dksX10_tree_1 5 rfl rfl)
theorem dX10_tree_32 : decode cX10_tree 32 = .ok (.aload_n 0, 1) := dk_42 (dk_at dksX10_tree_1 8 rfl rfl)
theorem dX10_tree_33 : decode cX10_tree 33 = .ok (.invokevirtual 71, 3) := dk_182 0 71 (dk_at dksX10_tree_1 9 rfl rfl)
theorem dX10_tree_36 : decode cX10_tree 36 = .ok (.istore_n 3, 1) := dk_62 (dk_at dksX10_tree_1 12 rfl rfl)
theorem dX10_tree_37 : decode cX10_tree 37 = .ok (.aload_n 0, 1) := dk_42 (dk_at dksX10_tree_1 13 rfl rfl)
theorem dX10_tree_38 : decode cX10_tree 38 = .ok (.invokevirtual 50, 3) := dk_182 0 50 (dk_at dksX10_tree_1 14 rfl rfl)
theorem dX10_tree_41 : decode cX10_tree 41 = .ok (.istore 4, 2) := dk_54 4 (dk_at dksX10_tree_1 17 rfl rfl)
theorem dX10_tree_43 : decode cX10_tree 43 = .ok (.aload_n 0, 1) := dk_42 (dk_at dksX10_tree_1 19 rfl rfl)
theorem dX10_tree_44 : decode cX10_tree 44 = .ok (.invokevirtual 34, 3) := dk_182 0 34 (dk_at dksX10_tree_1 20 rfl rfl)
theorem dX10_tree_47 : decode cX10_tree 47 = .ok (.i2l, 1) := dk_133 (dk_at dksX10_tree_1 23 rfl rfl)
theorem dX10_tree_48 : decode cX10_tree 48 = .ok (.ldc2_w 42, 3) := dk_20 0 42 (dk_at dksX10_tree_2 0 rfl rfl)
theorem dX10_tree_51 : decode cX10_tree 51 = .ok (.ldc2_w 44, 3) := dk_20 0 44 (dk_at dksX10_tree_2 3 rfl rfl)
theorem dX10_tree_54 : decode cX10_tree 54 = .ok (.invokestatic 46, 3) := dk_184 0 46 (dk_at dksX10_tree_2 6 rfl rfl)
theorem dX10_tree_57 : decode cX10_tree 57 = .ok (.ifCond .eq 16, 3) := dk_153 0 16 (dk_at dksX10_tree_2 9 rfl rfl)
theorem dX10_tree_60 : decode cX10_tree 60 = .ok (.bipush 10, 2) := dk_16 10 (dk_at dksX10_tree_2 12 rfl rfl)
theorem dX10_tree_62 : decode cX10_tree 62 = .ok (.iload 4, 2) := dk_21 4 (dk_at dksX10_tree_2 14 rfl rfl)
theorem dX10_tree_64 : decode cX10_tree 64 = .ok (.imul, 1) := dk_104 (dk_at dksX10_tree_2 16 rfl rfl)
theorem dX10_tree_65 : decode cX10_tree 65 = .ok (.aload_n 0, 1) := dk_42 (dk_at dksX10_tree_2 17 rfl rfl)
theorem dX10_tree_66 : decode cX10_tree 66 = .ok (.invokevirtual 50, 3) := dk_182 0 50 (dk_at dksX10_tree_2 18 rfl rfl)
theorem dX10_tree_69 : decode cX10_tree 69 = .ok (.iadd, 1) := dk_96 (dk_at dksX10_tree_2 21 rfl rfl)
theorem dX10_tree_70 : decode cX10_tree 70 = .ok (.goto 5, 3) := dk_167 0 5 (dk_at dksX10_tree_3 0 rfl rfl)
theorem dX10_tree_73 : decode cX10_tree 73 = .ok (.iload 4, 2) := dk_21 4 (dk_at dksX10_tree_3 3 rfl rfl)
theorem dX10_tree_75 : decode cX10_tree 75 = .ok (.istore 4, 2) := dk_54 4 (dk_at dksX10_tree_3 5 rfl rfl)
theorem dX10_tree_77 : decode cX10_tree 77 = .ok (.aload_n 0, 1) := dk_42 (dk_at dksX10_tree_3 7 rfl rfl)
theorem dX10_tree_78 : decode cX10_tree 78 = .ok (.bipush 44, 2) := dk_16 44 (dk_at dksX10_tree_3 8 rfl rfl)
theorem dX10_tree_80 : decode cX10_tree 80 = .ok (.invokevirtual 57, 3) := dk_182 0 57 (dk_at dksX10_tree_3 10 rfl rfl)
theorem dX10_tree_83 : decode cX10_tree 83 = .ok (.new 92, 3) := dk_187 0 92 (dk_at dksX10_tree_3 13 rfl rfl)
theorem dX10_tree_86 : decode cX10_tree 86 = .ok (.dup, 1) := dk_89 (dk_at dksX10_tree_3 16 rfl rfl)
theorem dX10_tree_87 : decode cX10_tree 87 = .ok (.iload_n 1, 1) := dk_27 (dk_at dksX10_tree_3 17 rfl rfl)
theorem dX10_tree_88 : decode cX10_tree 88 = .ok (.iload_n 2, 1) := dk_28 (dk_at dksX10_tree_3 18 rfl rfl)
theorem dX10_tree_89 : decode cX10_tree 89 = .ok (.iload_n 3, 1) := dk_29 (dk_at dksX10_tree_3 19 rfl rfl)
theorem dX10_tree_90 : decode cX10_tree 90 = .ok (.iload 4, 2) := dk_21 4 (dk_at dksX10_tree_3 20 rfl rfl)
theorem dX10_tree_92 : decode cX10_tree 92 = .ok (.aload_n 0, 1) := dk_42 (dk_at dksX10_tree_3 22 rfl rfl)
theorem dX10_tree_93 : decode cX10_tree 93 = .ok (.invokevirtual 50, 3) := dk_182 0 50 (dk_at dksX10_tree_4 0 rfl rfl)
theorem dX10_tree_96 : decode cX10_tree 96 = .ok (.invokestatic 94, 3) := dk_184 0 94 (dk_at dksX10_tree_4 3 rfl rfl)
theorem dX10_tree_99 : decode cX10_tree 99 = .ok (.invokespecial 98, 3) := dk_183 0 98 (dk_at dksX10_tree_4 6 rfl rfl)
theorem dX10_tree_102 : decode cX10_tree 102 = .ok (.areturn, 1) := dk_176 (dk_at dksX10_tree_4 9 rfl rfl)
abbrev cX10_kindOf : ByteArray := prog_15_method_10_code
def yX10_kindOf : MethodName := ⟨RX10, "kindOf", "(I)I"⟩
def dkwX10_kindOf_2 : List UInt8 := [3, 172, 4, 172, 5, 172, 6, 172, 7, 172, 8, 172, 2, 172]
abbrev dktX10_kindOf_2 : List UInt8 := dkwX10_kindOf_2 ++ []
def dkwX10_kindOf_1 : List UInt8 := [170, 0, 0, 0, 0, 0, 103, 0, 0, 0, 97, 0, 0, 0, 115, 0, 0, 0, 97, 0, 0, 0, 103, 0, 0, 0, 103, 0, 0, 0, 93, 0, 0, 0, 103, 0, 0, 0, 103, 0, 0, 0, 103, 0, 0, 0, 103, 0, 0, 0, 103, 0, 0, 0, 103, 0, 0, 0, 103, 0, 0, 0, 95, 0, 0, 0, 103, 0, 0, 0, 103, 0, 0, 0, 103, 0, 0, 0, 91, 0, 0, 0, 103, 0, 0, 0, 99, 0, 0, 0, 101]
abbrev dktX10_kindOf_1 : List UInt8 := dkwX10_kindOf_1 ++ dktX10_kindOf_2
def dkwX10_kindOf_0 : List UInt8 := [27]
abbrev dktX10_kindOf_0 : List UInt8 := dkwX10_kindOf_0 ++ dktX10_kindOf_1
theorem dksX10_kindOf_0 : cX10_kindOf.data.toList.drop 0 = dktX10_kindOf_0 := by decide +kernel
theorem dksX10_kindOf_1 : cX10_kindOf.data.toList.drop 1 = dktX10_kindOf_1 := dk_seg dksX10_kindOf_0 1 rfl rfl
theorem dksX10_kindOf_2 : cX10_kindOf.data.toList.drop 92 = dktX10_kindOf_2 := dk_seg dksX10_kindOf_1 91 rfl rfl
theorem dX10_kindOf_0 : decode cX10_kindOf 0 = .ok (.iload_n 1, 1) := dk_27 (dk_at dksX10_kindOf_0 0 rfl rfl)
theorem dX10_kindOf_1 : decode cX10_kindOf 1 = .ok (.tableswitch 103 97 115 #[97, 103, 103, 93, 103, 103, 103, 103, 103, 103, 103, 95, 103, 103, 103, 91, 103, 99, 101], 91) := by decide +kernel
theorem dX10_kindOf_92 : decode cX10_kindOf 92 = .ok (.iconst 0, 1) := dk_3 (dk_at dksX10_kindOf_2 0 rfl rfl)
theorem dX10_kindOf_93 : decode cX10_kindOf 93 = .ok (.ireturn, 1) := dk_172 (dk_at dksX10_kindOf_2 1 rfl rfl)
theorem dX10_kindOf_94 : decode cX10_kindOf 94 = .ok (.iconst 1, 1) := dk_4 (dk_at dksX10_kindOf_2 2 rfl rfl)
theorem dX10_kindOf_95 : decode cX10_kindOf 95 = .ok (.ireturn, 1) := dk_172 (dk_at dksX10_kindOf_2 3 rfl rfl)
theorem dX10_kindOf_96 : decode cX10_kindOf 96 = .ok (.iconst 2, 1) := dk_5 (dk_at dksX10_kindOf_2 4 rfl rfl)
theorem dX10_kindOf_97 : decode cX10_kindOf 97 = .ok (.ireturn, 1) := dk_172 (dk_at dksX10_kindOf_2 5 rfl rfl)
theorem dX10_kindOf_98 : decode cX10_kindOf 98 = .ok (.iconst 3, 1) := dk_6 (dk_at dksX10_kindOf_2 6 rfl rfl)
theorem dX10_kindOf_99 : decode cX10_kindOf 99 = .ok (.ireturn, 1) := dk_172 (dk_at dksX10_kindOf_2 7 rfl rfl)
theorem dX10_kindOf_100 : decode cX10_kindOf 100 = .ok (.iconst 4, 1) := dk_7 (dk_at dksX10_kindOf_2 8 rfl rfl)
theorem dX10_kindOf_101 : decode cX10_kindOf 101 = .ok (.ireturn, 1) := dk_172 (dk_at dksX10_kindOf_2 9 rfl rfl)
theorem dX10_kindOf_102 : decode cX10_kindOf 102 = .ok (.iconst 5, 1) := dk_8 (dk_at dksX10_kindOf_2 10 rfl rfl)
theorem dX10_kindOf_103 : decode cX10_kindOf 103 = .ok (.ireturn, 1) := dk_172 (dk_at dksX10_kindOf_2 11 rfl rfl)
theorem dX10_kindOf_104 : decode cX10_kindOf 104 = .ok (.iconst (-1), 1) := dk_2 (dk_at dksX10_kindOf_2 12 rfl rfl)
theorem dX10_kindOf_105 : decode cX10_kindOf 105 = .ok (.ireturn, 1) := dk_172 (dk_at dksX10_kindOf_2 13 rfl rfl)
abbrev cX10_two : ByteArray := prog_15_method_6_code
def yX10_two : MethodName := ⟨RX10, "two", "()I"⟩
def dkwX10_two_0 : List UInt8 := [42, 182, 0, 50, 60, 16, 10, 27, 104, 42, 182, 0, 50, 96, 172]
abbrev dktX10_two_0 : List UInt8 := dkwX10_two_0 ++ []
theorem dksX10_two_0 : cX10_two.data.toList.drop 0 = dktX10_two_0 := by decide +kernel
theorem dX10_two_0 : decode cX10_two 0 = .ok (.aload_n 0, 1) := dk_42 (dk_at dksX10_two_0 0 rfl rfl)
theorem dX10_two_1 : decode cX10_two 1 = .ok (.invokevirtual 50, 3) := dk_182 0 50 (dk_at dksX10_two_0 1 rfl rfl)
theorem dX10_two_4 : decode cX10_two 4 = .ok (.istore_n 1, 1) := dk_60 (dk_at dksX10_two_0 4 rfl rfl)
theorem dX10_two_5 : decode cX10_two 5 = .ok (.bipush 10, 2) := dk_16 10 (dk_at dksX10_two_0 5 rfl rfl)
theorem dX10_two_7 : decode cX10_two 7 = .ok (.iload_n 1, 1) := dk_27 (dk_at dksX10_two_0 7 rfl rfl)
theorem dX10_two_8 : decode cX10_two 8 = .ok (.imul, 1) := dk_104 (dk_at dksX10_two_0 8 rfl rfl)
theorem dX10_two_9 : decode cX10_two 9 = .ok (.aload_n 0, 1) := dk_42 (dk_at dksX10_two_0 9 rfl rfl)
theorem dX10_two_10 : decode cX10_two 10 = .ok (.invokevirtual 50, 3) := dk_182 0 50 (dk_at dksX10_two_0 10 rfl rfl)
theorem dX10_two_13 : decode cX10_two 13 = .ok (.iadd, 1) := dk_96 (dk_at dksX10_two_0 13 rfl rfl)
theorem dX10_two_14 : decode cX10_two 14 = .ok (.ireturn, 1) := dk_172 (dk_at dksX10_two_0 14 rfl rfl)
abbrev cX10_digit : ByteArray := prog_15_method_5_code
def yX10_digit : MethodName := ⟨RX10, "digit", "()I"⟩
def dkwX10_digit_1 : List UInt8 := [96, 181, 0, 22, 42, 180, 0, 1, 180, 0, 25, 42, 180, 0, 22, 4, 100, 52, 16, 48, 100, 172]
abbrev dktX10_digit_1 : List UInt8 := dkwX10_digit_1 ++ []
def dkwX10_digit_0 : List UInt8 := [42, 42, 182, 0, 34, 133, 20, 0, 42, 20, 0, 44, 184, 0, 46, 182, 0, 38, 42, 89, 180, 0, 22, 4]
abbrev dktX10_digit_0 : List UInt8 := dkwX10_digit_0 ++ dktX10_digit_1
theorem dksX10_digit_0 : cX10_digit.data.toList.drop 0 = dktX10_digit_0 := by decide +kernel
theorem dksX10_digit_1 : cX10_digit.data.toList.drop 24 = dktX10_digit_1 := dk_seg dksX10_digit_0 24 rfl rfl
theorem dX10_digit_0 : decode cX10_digit 0 = .ok (.aload_n 0, 1) := dk_42 (dk_at dksX10_digit_0 0 rfl rfl)
theorem dX10_digit_1 : decode cX10_digit 1 = .ok (.aload_n 0, 1) := dk_42 (dk_at dksX10_digit_0 1 rfl rfl)
theorem dX10_digit_2 : decode cX10_digit 2 = .ok (.invokevirtual 34, 3) := dk_182 0 34 (dk_at dksX10_digit_0 2 rfl rfl)
theorem dX10_digit_5 : decode cX10_digit 5 = .ok (.i2l, 1) := dk_133 (dk_at dksX10_digit_0 5 rfl rfl)
theorem dX10_digit_6 : decode cX10_digit 6 = .ok (.ldc2_w 42, 3) := dk_20 0 42 (dk_at dksX10_digit_0 6 rfl rfl)
theorem dX10_digit_9 : decode cX10_digit 9 = .ok (.ldc2_w 44, 3) := dk_20 0 44 (dk_at dksX10_digit_0 9 rfl rfl)
theorem dX10_digit_12 : decode cX10_digit 12 = .ok (.invokestatic 46, 3) := dk_184 0 46 (dk_at dksX10_digit_0 12 rfl rfl)
theorem dX10_digit_15 : decode cX10_digit 15 = .ok (.invokevirtual 38, 3) := dk_182 0 38 (dk_at dksX10_digit_0 15 rfl rfl)
theorem dX10_digit_18 : decode cX10_digit 18 = .ok (.aload_n 0, 1) := dk_42 (dk_at dksX10_digit_0 18 rfl rfl)
theorem dX10_digit_19 : decode cX10_digit 19 = .ok (.dup, 1) := dk_89 (dk_at dksX10_digit_0 19 rfl rfl)
theorem dX10_digit_20 : decode cX10_digit 20 = .ok (.getfield 22, 3) := dk_180 0 22 (dk_at dksX10_digit_0 20 rfl rfl)
theorem dX10_digit_23 : decode cX10_digit 23 = .ok (.iconst 1, 1) := dk_4 (dk_at dksX10_digit_0 23 rfl rfl)
theorem dX10_digit_24 : decode cX10_digit 24 = .ok (.iadd, 1) := dk_96 (dk_at dksX10_digit_1 0 rfl rfl)
theorem dX10_digit_25 : decode cX10_digit 25 = .ok (.putfield 22, 3) := dk_181 0 22 (dk_at dksX10_digit_1 1 rfl rfl)
theorem dX10_digit_28 : decode cX10_digit 28 = .ok (.aload_n 0, 1) := dk_42 (dk_at dksX10_digit_1 4 rfl rfl)
theorem dX10_digit_29 : decode cX10_digit 29 = .ok (.getfield 1, 3) := dk_180 0 1 (dk_at dksX10_digit_1 5 rfl rfl)
theorem dX10_digit_32 : decode cX10_digit 32 = .ok (.getfield 25, 3) := dk_180 0 25 (dk_at dksX10_digit_1 8 rfl rfl)
theorem dX10_digit_35 : decode cX10_digit 35 = .ok (.aload_n 0, 1) := dk_42 (dk_at dksX10_digit_1 11 rfl rfl)
theorem dX10_digit_36 : decode cX10_digit 36 = .ok (.getfield 22, 3) := dk_180 0 22 (dk_at dksX10_digit_1 12 rfl rfl)
theorem dX10_digit_39 : decode cX10_digit 39 = .ok (.iconst 1, 1) := dk_4 (dk_at dksX10_digit_1 15 rfl rfl)
theorem dX10_digit_40 : decode cX10_digit 40 = .ok (.isub, 1) := dk_100 (dk_at dksX10_digit_1 16 rfl rfl)
theorem dX10_digit_41 : decode cX10_digit 41 = .ok (.caload, 1) := dk_52 (dk_at dksX10_digit_1 17 rfl rfl)
theorem dX10_digit_42 : decode cX10_digit 42 = .ok (.bipush 48, 2) := dk_16 48 (dk_at dksX10_digit_1 18 rfl rfl)
theorem dX10_digit_44 : decode cX10_digit 44 = .ok (.isub, 1) := dk_100 (dk_at dksX10_digit_1 20 rfl rfl)
theorem dX10_digit_45 : decode cX10_digit 45 = .ok (.ireturn, 1) := dk_172 (dk_at dksX10_digit_1 21 rfl rfl)
abbrev cX10_take : ByteArray := prog_15_method_4_code
def yX10_take : MethodName := ⟨RX10, "take", "(I)V"⟩
def dkwX10_take_1 : List UInt8 := [181, 0, 22, 177]
abbrev dktX10_take_1 : List UInt8 := dkwX10_take_1 ++ []
def dkwX10_take_0 : List UInt8 := [42, 42, 182, 0, 34, 27, 160, 0, 7, 4, 167, 0, 4, 3, 182, 0, 38, 42, 89, 180, 0, 22, 4, 96]
abbrev dktX10_take_0 : List UInt8 := dkwX10_take_0 ++ dktX10_take_1
theorem dksX10_take_0 : cX10_take.data.toList.drop 0 = dktX10_take_0 := by decide +kernel
theorem dksX10_take_1 : cX10_take.data.toList.drop 24 = dktX10_take_1 := dk_seg dksX10_take_0 24 rfl rfl
theorem dX10_take_0 : decode cX10_take 0 = .ok (.aload_n 0, 1) := dk_42 (dk_at dksX10_take_0 0 rfl rfl)
theorem dX10_take_1 : decode cX10_take 1 = .ok (.aload_n 0, 1) := dk_42 (dk_at dksX10_take_0 1 rfl rfl)
theorem dX10_take_2 : decode cX10_take 2 = .ok (.invokevirtual 34, 3) := dk_182 0 34 (dk_at dksX10_take_0 2 rfl rfl)
theorem dX10_take_5 : decode cX10_take 5 = .ok (.iload_n 1, 1) := dk_27 (dk_at dksX10_take_0 5 rfl rfl)
theorem dX10_take_6 : decode cX10_take 6 = .ok (.if_icmp .ne 7, 3) := dk_160 0 7 (dk_at dksX10_take_0 6 rfl rfl)
theorem dX10_take_9 : decode cX10_take 9 = .ok (.iconst 1, 1) := dk_4 (dk_at dksX10_take_0 9 rfl rfl)
theorem dX10_take_10 : decode cX10_take 10 = .ok (.goto 4, 3) := dk_167 0 4 (dk_at dksX10_take_0 10 rfl rfl)
theorem dX10_take_13 : decode cX10_take 13 = .ok (.iconst 0, 1) := dk_3 (dk_at dksX10_take_0 13 rfl rfl)
theorem dX10_take_14 : decode cX10_take 14 = .ok (.invokevirtual 38, 3) := dk_182 0 38 (dk_at dksX10_take_0 14 rfl rfl)
theorem dX10_take_17 : decode cX10_take 17 = .ok (.aload_n 0, 1) := dk_42 (dk_at dksX10_take_0 17 rfl rfl)
theorem dX10_take_18 : decode cX10_take 18 = .ok (.dup, 1) := dk_89 (dk_at dksX10_take_0 18 rfl rfl)
theorem dX10_take_19 : decode cX10_take 19 = .ok (.getfield 22, 3) := dk_180 0 22 (dk_at dksX10_take_0 19 rfl rfl)
theorem dX10_take_22 : decode cX10_take 22 = .ok (.iconst 1, 1) := dk_4 (dk_at dksX10_take_0 22 rfl rfl)
theorem dX10_take_23 : decode cX10_take 23 = .ok (.iadd, 1) := dk_96 (dk_at dksX10_take_0 23 rfl rfl)
theorem dX10_take_24 : decode cX10_take 24 = .ok (.putfield 22, 3) := dk_181 0 22 (dk_at dksX10_take_1 0 rfl rfl)
theorem dX10_take_27 : decode cX10_take 27 = .ok (.return_, 1) := dk_177 (dk_at dksX10_take_1 3 rfl rfl)
theorem q81 : (Jvm.Cond.initialized "FallsBetween$Reader") ∈ lw_all := lw_g (lw_at lw_m1 14 rfl) rfl
theorem q217 : (Jvm.Cond.fieldLinkNest "FallsBetween$Reader" (25 : Nat) "FallsBetween" "letters" "[C" "FallsBetween") ∈ lw_tbl := lw_at lw_m1 150 rfl
theorem q219 : (Jvm.Cond.fieldLinkNest "FallsBetween$Reader" (13 : Nat) "FallsBetween" "letterMany" "I" "FallsBetween") ∈ lw_tbl := lw_at lw_m1 152 rfl
theorem q341 : (Jvm.Cond.instantiable "FallsBetween$Reader" (3 : Nat)) ∈ lw_all := lw_g (lw_at lw_m2 34 rfl) rfl
theorem q343 : (Jvm.Cond.instanceMethod ({ cls := "FallsBetween$Reader", name := "<init>", desc := "(LFallsBetween;)V" } : Jvm.MethodName)) ∈ lw_all := lw_g (lw_at lw_m2 36 rfl) rfl
theorem q344 : (Jvm.Cond.code ({ cls := "FallsBetween$Reader", name := "<init>", desc := "(LFallsBetween;)V" } : Jvm.MethodName) prog_15_method_1_code (2 : Nat) (Option.none : Option Jvm.ClassFile.FieldType)) ∈ lw_all := lw_g (lw_at lw_m2 37 rfl) rfl
theorem q345 : (Jvm.Cond.methodLink "FallsBetween$Reader" (7 : Nat) ({ cls := "java/lang/Object", name := "<init>", desc := "()V" } : Jvm.MethodName)) ∈ lw_all := lw_g (lw_at lw_m2 38 rfl) rfl
theorem q346 : (Jvm.Cond.fieldLink "FallsBetween$Reader" (19 : Nat) "FallsBetween$Reader" "size" "I") ∈ lw_all := lw_g (lw_at lw_m2 39 rfl) rfl
theorem q348 : (Jvm.Cond.fieldLink "FallsBetween$Reader" (22 : Nat) "FallsBetween$Reader" "at" "I") ∈ lw_all := lw_g (lw_at lw_m2 41 rfl) rfl
theorem q350 : (Jvm.Cond.fieldLink "FallsBetween$Reader" (1 : Nat) "FallsBetween$Reader" "this$0" "LFallsBetween;") ∈ lw_all := lw_g (lw_at lw_m2 43 rfl) rfl
theorem q351 : (Jvm.Cond.laysFinal "FallsBetween$Reader" "FallsBetween$Reader" "size" "I") ∈ lw_all := lw_g (lw_at lw_m2 44 rfl) rfl
theorem q352 : (Jvm.Cond.soleField "FallsBetween$Reader" "size") ∈ lw_all := lw_g (lw_at lw_m2 45 rfl) rfl
theorem q353 : (Jvm.Cond.lays "FallsBetween$Reader" "FallsBetween$Reader" "at" "I") ∈ lw_all := lw_g (lw_at lw_m2 46 rfl) rfl
theorem q354 : (Jvm.Cond.soleField "FallsBetween$Reader" "at") ∈ lw_all := lw_g (lw_at lw_m2 47 rfl) rfl
theorem q355 : (Jvm.Cond.laysFinal "FallsBetween$Reader" "FallsBetween$Reader" "this$0" "LFallsBetween;") ∈ lw_all := lw_g (lw_at lw_m2 48 rfl) rfl
theorem q356 : (Jvm.Cond.soleField "FallsBetween$Reader" "this$0") ∈ lw_all := lw_g (lw_at lw_m2 49 rfl) rfl
theorem q357 : (Jvm.Cond.superclass "FallsBetween$Reader" "java/lang/Object") ∈ lw_all := lw_g (lw_at lw_m2 50 rfl) rfl
theorem q361 : (Jvm.Cond.instanceMethod ({ cls := "FallsBetween$Reader", name := "statement", desc := "()LFallsBetween$Told;" } : Jvm.MethodName)) ∈ lw_all := lw_g (lw_at lw_m2 54 rfl) rfl
theorem q362 : (Jvm.Cond.selects "FallsBetween$Reader" ({ cls := "FallsBetween$Reader", name := "statement", desc := "()LFallsBetween$Told;" } : Jvm.MethodName) ({ cls := "FallsBetween$Reader", name := "statement", desc := "()LFallsBetween$Told;" } : Jvm.MethodName)) ∈ lw_all := lw_g (lw_at lw_m2 55 rfl) rfl
theorem q363 : (Jvm.Cond.code ({ cls := "FallsBetween$Reader", name := "statement", desc := "()LFallsBetween$Told;" } : Jvm.MethodName) prog_15_method_7_code (4 : Nat) (Option.some (Jvm.ClassFile.FieldType.object "FallsBetween$Told"))) ∈ lw_all := lw_g (lw_at lw_m2 56 rfl) rfl
theorem q364 : (Jvm.Cond.methodLink "FallsBetween$Reader" (34 : Nat) ({ cls := "FallsBetween$Reader", name := "here", desc := "()I" } : Jvm.MethodName)) ∈ lw_all := lw_g (lw_at lw_m2 57 rfl) rfl
theorem q365 : (Jvm.Cond.privateMethod ({ cls := "FallsBetween$Reader", name := "here", desc := "()I" } : Jvm.MethodName)) ∈ lw_tbl := lw_at lw_m2 58 rfl
theorem q366 : (Jvm.Cond.instanceMethod ({ cls := "FallsBetween$Reader", name := "here", desc := "()I" } : Jvm.MethodName)) ∈ lw_all := lw_g (lw_at lw_m2 59 rfl) rfl
theorem q367 : (Jvm.Cond.code ({ cls := "FallsBetween$Reader", name := "here", desc := "()I" } : Jvm.MethodName) prog_15_method_2_code (1 : Nat) (Option.some Jvm.ClassFile.FieldType.int)) ∈ lw_all := lw_g (lw_at lw_m2 60 rfl) rfl
theorem q368 : (Jvm.Cond.methodLink "FallsBetween$Reader" (38 : Nat) ({ cls := "FallsBetween$Reader", name := "mustStand", desc := "(Z)V" } : Jvm.MethodName)) ∈ lw_all := lw_g (lw_at lw_m2 61 rfl) rfl
theorem q369 : (Jvm.Cond.privateMethod ({ cls := "FallsBetween$Reader", name := "mustStand", desc := "(Z)V" } : Jvm.MethodName)) ∈ lw_tbl := lw_at lw_m2 62 rfl
theorem q370 : (Jvm.Cond.instanceMethod ({ cls := "FallsBetween$Reader", name := "mustStand", desc := "(Z)V" } : Jvm.MethodName)) ∈ lw_all := lw_g (lw_at lw_m2 63 rfl) rfl
theorem q371 : (Jvm.Cond.code ({ cls := "FallsBetween$Reader", name := "mustStand", desc := "(Z)V" } : Jvm.MethodName) prog_15_method_3_code (2 : Nat) (Option.none : Option Jvm.ClassFile.FieldType)) ∈ lw_all := lw_g (lw_at lw_m2 64 rfl) rfl
theorem q372 : (Jvm.Cond.classLink "FallsBetween$Reader" (29 : Nat) "FallsBetween$Fault") ∈ lw_all := lw_g (lw_at lw_m2 65 rfl) rfl
theorem q381 : (Jvm.Cond.methodLink "FallsBetween$Reader" (31 : Nat) ({ cls := "FallsBetween$Fault", name := "<init>", desc := "(I)V" } : Jvm.MethodName)) ∈ lw_all := lw_g (lw_at lw_m2 74 rfl) rfl
theorem q390 : (Jvm.Cond.methodLink "FallsBetween$Reader" (53 : Nat) ({ cls := "FallsBetween$Reader", name := "told", desc := "(II)LFallsBetween$Told;" } : Jvm.MethodName)) ∈ lw_all := lw_g (lw_at lw_m2 83 rfl) rfl
theorem q391 : (Jvm.Cond.privateMethod ({ cls := "FallsBetween$Reader", name := "told", desc := "(II)LFallsBetween$Told;" } : Jvm.MethodName)) ∈ lw_tbl := lw_at lw_m2 84 rfl
theorem q392 : (Jvm.Cond.instanceMethod ({ cls := "FallsBetween$Reader", name := "told", desc := "(II)LFallsBetween$Told;" } : Jvm.MethodName)) ∈ lw_all := lw_g (lw_at lw_m2 85 rfl) rfl
theorem q393 : (Jvm.Cond.code ({ cls := "FallsBetween$Reader", name := "told", desc := "(II)LFallsBetween$Told;" } : Jvm.MethodName) prog_15_method_8_code (6 : Nat) (Option.some (Jvm.ClassFile.FieldType.object "FallsBetween$Told"))) ∈ lw_all := lw_g (lw_at lw_m2 86 rfl) rfl
theorem q394 : (Jvm.Cond.methodLink "FallsBetween$Reader" (60 : Nat) ({ cls := "FallsBetween$Reader", name := "tree", desc := "(I)LFallsBetween$Told;" } : Jvm.MethodName)) ∈ lw_all := lw_g (lw_at lw_m2 87 rfl) rfl
theorem q395 : (Jvm.Cond.privateMethod ({ cls := "FallsBetween$Reader", name := "tree", desc := "(I)LFallsBetween$Told;" } : Jvm.MethodName)) ∈ lw_tbl := lw_at lw_m2 88 rfl
theorem q396 : (Jvm.Cond.instanceMethod ({ cls := "FallsBetween$Reader", name := "tree", desc := "(I)LFallsBetween$Told;" } : Jvm.MethodName)) ∈ lw_all := lw_g (lw_at lw_m2 89 rfl) rfl
theorem q397 : (Jvm.Cond.code ({ cls := "FallsBetween$Reader", name := "tree", desc := "(I)LFallsBetween$Told;" } : Jvm.MethodName) prog_15_method_9_code (5 : Nat) (Option.some (Jvm.ClassFile.FieldType.object "FallsBetween$Told"))) ∈ lw_all := lw_g (lw_at lw_m2 90 rfl) rfl
theorem q398 : (Jvm.Cond.methodLink "FallsBetween$Reader" (88 : Nat) ({ cls := "FallsBetween$Reader", name := "kindOf", desc := "(I)I" } : Jvm.MethodName)) ∈ lw_all := lw_g (lw_at lw_m2 91 rfl) rfl
theorem q399 : (Jvm.Cond.privateMethod ({ cls := "FallsBetween$Reader", name := "kindOf", desc := "(I)I" } : Jvm.MethodName)) ∈ lw_tbl := lw_at lw_m2 92 rfl
theorem q400 : (Jvm.Cond.instanceMethod ({ cls := "FallsBetween$Reader", name := "kindOf", desc := "(I)I" } : Jvm.MethodName)) ∈ lw_all := lw_g (lw_at lw_m2 93 rfl) rfl
theorem q401 : (Jvm.Cond.code ({ cls := "FallsBetween$Reader", name := "kindOf", desc := "(I)I" } : Jvm.MethodName) prog_15_method_10_code (2 : Nat) (Option.some Jvm.ClassFile.FieldType.int)) ∈ lw_all := lw_g (lw_at lw_m2 94 rfl) rfl
theorem q402 : (Jvm.Cond.methodLink "FallsBetween$Reader" (71 : Nat) ({ cls := "FallsBetween$Reader", name := "two", desc := "()I" } : Jvm.MethodName)) ∈ lw_all := lw_g (lw_at lw_m2 95 rfl) rfl
theorem q403 : (Jvm.Cond.privateMethod ({ cls := "FallsBetween$Reader", name := "two", desc := "()I" } : Jvm.MethodName)) ∈ lw_tbl := lw_at lw_m2 96 rfl
theorem q404 : (Jvm.Cond.instanceMethod ({ cls := "FallsBetween$Reader", name := "two", desc := "()I" } : Jvm.MethodName)) ∈ lw_all := lw_g (lw_at lw_m2 97 rfl) rfl
theorem q405 : (Jvm.Cond.code ({ cls := "FallsBetween$Reader", name := "two", desc := "()I" } : Jvm.MethodName) prog_15_method_6_code (2 : Nat) (Option.some Jvm.ClassFile.FieldType.int)) ∈ lw_all := lw_g (lw_at lw_m2 98 rfl) rfl
theorem q406 : (Jvm.Cond.methodLink "FallsBetween$Reader" (50 : Nat) ({ cls := "FallsBetween$Reader", name := "digit", desc := "()I" } : Jvm.MethodName)) ∈ lw_all := lw_g (lw_at lw_m2 99 rfl) rfl
theorem q407 : (Jvm.Cond.privateMethod ({ cls := "FallsBetween$Reader", name := "digit", desc := "()I" } : Jvm.MethodName)) ∈ lw_tbl := lw_at lw_m2 100 rfl
theorem q408 : (Jvm.Cond.instanceMethod ({ cls := "FallsBetween$Reader", name := "digit", desc := "()I" } : Jvm.MethodName)) ∈ lw_all := lw_g (lw_at lw_m2 101 rfl) rfl
theorem q409 : (Jvm.Cond.code ({ cls := "FallsBetween$Reader", name := "digit", desc := "()I" } : Jvm.MethodName) prog_15_method_5_code (1 : Nat) (Option.some Jvm.ClassFile.FieldType.int)) ∈ lw_all := lw_g (lw_at lw_m2 102 rfl) rfl
theorem q410 : (Jvm.Cond.constantLong "FallsBetween$Reader" (42 : Nat) (48 : Int64)) ∈ lw_all := lw_g (lw_at lw_m2 103 rfl) rfl
theorem q411 : (Jvm.Cond.constantLong "FallsBetween$Reader" (44 : Nat) (57 : Int64)) ∈ lw_all := lw_g (lw_at lw_m2 104 rfl) rfl
theorem q412 : (Jvm.Cond.methodLinkNest "FallsBetween$Reader" (46 : Nat) ({ cls := "FallsBetween", name := "in", desc := "(JJJ)Z" } : Jvm.MethodName) "FallsBetween") ∈ lw_tbl := lw_at lw_m2 105 rfl
theorem q415 : (Jvm.Cond.methodLink "FallsBetween$Reader" (57 : Nat) ({ cls := "FallsBetween$Reader", name := "take", desc := "(I)V" } : Jvm.MethodName)) ∈ lw_all := lw_g (lw_at lw_m2 108 rfl) rfl
theorem q416 : (Jvm.Cond.privateMethod ({ cls := "FallsBetween$Reader", name := "take", desc := "(I)V" } : Jvm.MethodName)) ∈ lw_tbl := lw_at lw_m2 109 rfl
theorem q417 : (Jvm.Cond.instanceMethod ({ cls := "FallsBetween$Reader", name := "take", desc := "(I)V" } : Jvm.MethodName)) ∈ lw_all := lw_g (lw_at lw_m2 110 rfl) rfl
theorem q418 : (Jvm.Cond.code ({ cls := "FallsBetween$Reader", name := "take", desc := "(I)V" } : Jvm.MethodName) prog_15_method_4_code (2 : Nat) (Option.none : Option Jvm.ClassFile.FieldType)) ∈ lw_all := lw_g (lw_at lw_m2 111 rfl) rfl
theorem q419 : (Jvm.Cond.classLink "FallsBetween$Reader" (92 : Nat) "FallsBetween$TreeTold") ∈ lw_all := lw_g (lw_at lw_m2 112 rfl) rfl
theorem q421 : (Jvm.Cond.methodLinkNest "FallsBetween$Reader" (94 : Nat) ({ cls := "FallsBetween", name := "treeOf", desc := "(IIII)LFallsBetween$Tree;" } : Jvm.MethodName) "FallsBetween") ∈ lw_tbl := lw_at lw_m2 114 rfl
theorem q500 : (Jvm.Cond.methodLink "FallsBetween$Reader" (98 : Nat) ({ cls := "FallsBetween$TreeTold", name := "<init>", desc := "(ILFallsBetween$Tree;)V" } : Jvm.MethodName)) ∈ lw_all := lw_g (lw_at lw_m2 193 rfl) rfl
theorem q515 : (Jvm.Cond.classLink "FallsBetween$Reader" (64 : Nat) "FallsBetween$ColumnTold") ∈ lw_all := lw_g (lw_at lw_m2 208 rfl) rfl
theorem q517 : (Jvm.Cond.methodLink "FallsBetween$Reader" (66 : Nat) ({ cls := "FallsBetween$ColumnTold", name := "<init>", desc := "(III)V" } : Jvm.MethodName)) ∈ lw_all := lw_g (lw_at lw_m2 210 rfl) rfl
theorem q545 : (Jvm.Cond.classLink "FallsBetween$Reader" (69 : Nat) "FallsBetween$NumberTold") ∈ lw_all := lw_g (lw_at lw_m2 238 rfl) rfl
theorem q547 : (Jvm.Cond.methodLink "FallsBetween$Reader" (74 : Nat) ({ cls := "FallsBetween$NumberTold", name := "<init>", desc := "(IZI)V" } : Jvm.MethodName)) ∈ lw_all := lw_g (lw_at lw_m3 0 rfl) rfl
theorem q559 : (Jvm.Cond.classLink "FallsBetween$Reader" (77 : Nat) "FallsBetween$NetTold") ∈ lw_all := lw_g (lw_at lw_m3 12 rfl) rfl
theorem q561 : (Jvm.Cond.methodLink "FallsBetween$Reader" (79 : Nat) ({ cls := "FallsBetween$NetTold", name := "<init>", desc := "(II)V" } : Jvm.MethodName)) ∈ lw_all := lw_g (lw_at lw_m3 14 rfl) rfl
theorem q569 : (Jvm.Cond.classLink "FallsBetween$Reader" (82 : Nat) "FallsBetween$GardenTold") ∈ lw_all := lw_g (lw_at lw_m3 22 rfl) rfl
theorem q571 : (Jvm.Cond.methodLink "FallsBetween$Reader" (84 : Nat) ({ cls := "FallsBetween$GardenTold", name := "<init>", desc := "(III)V" } : Jvm.MethodName)) ∈ lw_all := lw_g (lw_at lw_m3 24 rfl) rfl
theorem q576 : (Jvm.Cond.classLink "FallsBetween$Reader" (85 : Nat) "FallsBetween$SquareTold") ∈ lw_all := lw_g (lw_at lw_m3 29 rfl) rfl
theorem q578 : (Jvm.Cond.methodLink "FallsBetween$Reader" (87 : Nat) ({ cls := "FallsBetween$SquareTold", name := "<init>", desc := "(III)V" } : Jvm.MethodName)) ∈ lw_all := lw_g (lw_at lw_m3 31 rfl) rfl
theorem in_X10 : ∀ w ∈ wsX100, w ∈ lw_all := lw_in wsX100 [351, 353, 355] (by decide +kernel) (by decide +kernel)

/-! FallsBetween$Fault -/
set_option maxRecDepth 100000
def RX11 : String := "FallsBetween$Fault"
def TX11 : u_T := fun k => match k with
  | 0 => ("java/lang/Throwable", "cause", "Ljava/lang/Throwable;", false)
  | 1 => ("java/lang/Throwable", "stackTrace", "[Ljava/lang/StackTraceElement;", false)
  | 2 => ("java/lang/Throwable", "suppressedExceptions", "Ljava/util/List;", false)
  | 3 => ("java/lang/Throwable", "detailMessage", "Ljava/lang/String;", false)
  | 4 => ("java/lang/Throwable", "backtrace", "Ljava/lang/Object;", false)
  | 5 => ("java/lang/Throwable", "depth", "I", false)
  | _ => ("FallsBetween$Fault", "told", "I", true)
def tyX11 : Nat → FieldType := fun k => match k with
  | 0 => .object "java/lang/Throwable"
  | 1 => .array (.object "java/lang/StackTraceElement")
  | 2 => .object "java/util/List"
  | 3 => .object "java/lang/String"
  | 4 => .object "java/lang/Object"
  | 5 => .int
  | _ => .int
abbrev wsX110 : List Cond := u_ws RX11 TX11 7
theorem nmX11 : ∀ a, a < 7 → ∀ b, b < 7 → a ≠ b → (TX11 a).2.1 ≠ (TX11 b).2.1 := by decide +kernel
theorem tyX11_ok : ∀ k, k < 7 → parseFieldDescriptor (TX11 k).2.2.1 = some (tyX11 k) := by decide +kernel
abbrev cX11_init : ByteArray := prog_8_method_1_code
def yX11_init : MethodName := ⟨RX11, "<init>", "(I)V"⟩
def dkwX11_init_0 : List UInt8 := [42, 183, 0, 1, 42, 27, 181, 0, 7, 177]
abbrev dktX11_init_0 : List UInt8 := dkwX11_init_0 ++ []
theorem dksX11_init_0 : cX11_init.data.toList.drop 0 = dktX11_init_0 := by decide +kernel
theorem dX11_init_0 : decode cX11_init 0 = .ok (.aload_n 0, 1) := dk_42 (dk_at dksX11_init_0 0 rfl rfl)
theorem dX11_init_1 : decode cX11_init 1 = .ok (.invokespecial 1, 3) := dk_183 0 1 (dk_at dksX11_init_0 1 rfl rfl)
theorem dX11_init_4 : decode cX11_init 4 = .ok (.aload_n 0, 1) := dk_42 (dk_at dksX11_init_0 4 rfl rfl)
theorem dX11_init_5 : decode cX11_init 5 = .ok (.iload_n 1, 1) := dk_27 (dk_at dksX11_init_0 5 rfl rfl)
theorem dX11_init_6 : decode cX11_init 6 = .ok (.putfield 7, 3) := dk_181 0 7 (dk_at dksX11_init_0 6 rfl rfl)
theorem dX11_init_9 : decode cX11_init 9 = .ok (.return_, 1) := dk_177 (dk_at dksX11_init_0 9 rfl rfl)
abbrev cX11_number : ByteArray := prog_8_method_2_code
def yX11_number : MethodName := ⟨RX11, "number", "()I"⟩
theorem dX11_number_0 : decode cX11_number 0 = .ok (.aload_n 0, 1) := by decide +kernel
theorem dX11_number_1 : decode cX11_number 1 = .ok (.getfield 7, 3) := by decide +kernel
theorem dX11_number_4 : decode cX11_number 4 = .ok (.ireturn, 1) := by decide +kernel
theorem q82 : (Jvm.Cond.initialized "FallsBetween$Fault") ∈ lw_all := lw_g (lw_at lw_m1 15 rfl) rfl
theorem q301 : (Jvm.Cond.selects "FallsBetween$Fault" ({ cls := "java/lang/Throwable", name := "fillInStackTrace", desc := "()Ljava/lang/Throwable;" } : Jvm.MethodName) ({ cls := "java/lang/Throwable", name := "fillInStackTrace", desc := "()Ljava/lang/Throwable;" } : Jvm.MethodName)) ∈ lw_all := lw_g (lw_at lw_m1 234 rfl) rfl
theorem q373 : (Jvm.Cond.instantiable "FallsBetween$Fault" (7 : Nat)) ∈ lw_all := lw_g (lw_at lw_m2 66 rfl) rfl
theorem q374 : (Jvm.Cond.castable "FallsBetween$Fault" "FallsBetween$Fault") ∈ lw_tbl := lw_at lw_m2 67 rfl
theorem q375 : (Jvm.Cond.selects "FallsBetween$Fault" ({ cls := "java/lang/Throwable", name := "fillInStackTrace", desc := "(I)Ljava/lang/Throwable;" } : Jvm.MethodName) ({ cls := "java/lang/Throwable", name := "fillInStackTrace", desc := "(I)Ljava/lang/Throwable;" } : Jvm.MethodName)) ∈ lw_all := lw_g (lw_at lw_m2 68 rfl) rfl
theorem q376 : (Jvm.Cond.lays "FallsBetween$Fault" "java/lang/Throwable" "cause" "Ljava/lang/Throwable;") ∈ lw_all := lw_g (lw_at lw_m2 69 rfl) rfl
theorem q377 : (Jvm.Cond.lays "FallsBetween$Fault" "java/lang/Throwable" "stackTrace" "[Ljava/lang/StackTraceElement;") ∈ lw_all := lw_g (lw_at lw_m2 70 rfl) rfl
theorem q378 : (Jvm.Cond.lays "FallsBetween$Fault" "java/lang/Throwable" "suppressedExceptions" "Ljava/util/List;") ∈ lw_all := lw_g (lw_at lw_m2 71 rfl) rfl
theorem q379 : (Jvm.Cond.lays "FallsBetween$Fault" "java/lang/Throwable" "detailMessage" "Ljava/lang/String;") ∈ lw_all := lw_g (lw_at lw_m2 72 rfl) rfl
theorem q380 : (Jvm.Cond.lays "FallsBetween$Fault" "java/lang/Throwable" "backtrace" "Ljava/lang/Object;") ∈ lw_all := lw_g (lw_at lw_m2 73 rfl) rfl
theorem q382 : (Jvm.Cond.instanceMethod ({ cls := "FallsBetween$Fault", name := "<init>", desc := "(I)V" } : Jvm.MethodName)) ∈ lw_all := lw_g (lw_at lw_m2 75 rfl) rfl
theorem q383 : (Jvm.Cond.code ({ cls := "FallsBetween$Fault", name := "<init>", desc := "(I)V" } : Jvm.MethodName) prog_8_method_1_code (2 : Nat) (Option.none : Option Jvm.ClassFile.FieldType)) ∈ lw_all := lw_g (lw_at lw_m2 76 rfl) rfl
theorem q384 : (Jvm.Cond.methodLinkNest "FallsBetween$Fault" (1 : Nat) ({ cls := "FallsBetween$Refusal", name := "<init>", desc := "()V" } : Jvm.MethodName) "FallsBetween") ∈ lw_tbl := lw_at lw_m2 77 rfl
theorem q385 : (Jvm.Cond.fieldLink "FallsBetween$Fault" (7 : Nat) "FallsBetween$Fault" "told" "I") ∈ lw_all := lw_g (lw_at lw_m2 78 rfl) rfl
theorem q386 : (Jvm.Cond.laysFinal "FallsBetween$Fault" "FallsBetween$Fault" "told" "I") ∈ lw_all := lw_g (lw_at lw_m2 79 rfl) rfl
theorem q387 : (Jvm.Cond.soleField "FallsBetween$Fault" "told") ∈ lw_all := lw_g (lw_at lw_m2 80 rfl) rfl
theorem q388 : (Jvm.Cond.lays "FallsBetween$Fault" "java/lang/Throwable" "depth" "I") ∈ lw_all := lw_g (lw_at lw_m2 81 rfl) rfl
theorem q389 : (Jvm.Cond.superclass "FallsBetween$Fault" "FallsBetween$Refusal") ∈ lw_all := lw_g (lw_at lw_m2 82 rfl) rfl
theorem q965 : (Jvm.Cond.selects "FallsBetween$Fault" ({ cls := "FallsBetween$Refusal", name := "number", desc := "()I" } : Jvm.MethodName) ({ cls := "FallsBetween$Fault", name := "number", desc := "()I" } : Jvm.MethodName)) ∈ lw_all := lw_g (lw_at lw_m4 178 rfl) rfl
theorem q966 : (Jvm.Cond.instanceMethod ({ cls := "FallsBetween$Fault", name := "number", desc := "()I" } : Jvm.MethodName)) ∈ lw_all := lw_g (lw_at lw_m4 179 rfl) rfl
theorem q967 : (Jvm.Cond.code ({ cls := "FallsBetween$Fault", name := "number", desc := "()I" } : Jvm.MethodName) prog_8_method_2_code (1 : Nat) (Option.some Jvm.ClassFile.FieldType.int)) ∈ lw_all := lw_g (lw_at lw_m4 180 rfl) rfl
theorem q1394 : (Jvm.Cond.castable "FallsBetween$Fault" "FallsBetween$Refusal") ∈ lw_tbl := lw_at lw_m6 127 rfl
theorem in_X11 : ∀ w ∈ wsX110, w ∈ lw_all := lw_in wsX110 [376, 377, 378, 379, 380, 388, 386] (by decide +kernel) (by decide +kernel)

/-! FallsBetween$Told -/
set_option maxRecDepth 100000
def RX12 : String := "FallsBetween$Told"
abbrev cX12_init : ByteArray := prog_21_method_1_code
def yX12_init : MethodName := ⟨RX12, "<init>", "(I)V"⟩
def dkwX12_init_0 : List UInt8 := [42, 183, 0, 1, 42, 27, 181, 0, 7, 177]
abbrev dktX12_init_0 : List UInt8 := dkwX12_init_0 ++ []
theorem dksX12_init_0 : cX12_init.data.toList.drop 0 = dktX12_init_0 := by decide +kernel
theorem dX12_init_0 : decode cX12_init 0 = .ok (.aload_n 0, 1) := dk_42 (dk_at dksX12_init_0 0 rfl rfl)
theorem dX12_init_1 : decode cX12_init 1 = .ok (.invokespecial 1, 3) := dk_183 0 1 (dk_at dksX12_init_0 1 rfl rfl)
theorem dX12_init_4 : decode cX12_init 4 = .ok (.aload_n 0, 1) := dk_42 (dk_at dksX12_init_0 4 rfl rfl)
theorem dX12_init_5 : decode cX12_init 5 = .ok (.iload_n 1, 1) := dk_27 (dk_at dksX12_init_0 5 rfl rfl)
theorem dX12_init_6 : decode cX12_init 6 = .ok (.putfield 7, 3) := dk_181 0 7 (dk_at dksX12_init_0 6 rfl rfl)
theorem dX12_init_9 : decode cX12_init 9 = .ok (.return_, 1) := dk_177 (dk_at dksX12_init_0 9 rfl rfl)
theorem q83 : (Jvm.Cond.initialized "FallsBetween$Told") ∈ lw_all := lw_g (lw_at lw_m1 16 rfl) rfl
theorem q504 : (Jvm.Cond.instanceMethod ({ cls := "FallsBetween$Told", name := "<init>", desc := "(I)V" } : Jvm.MethodName)) ∈ lw_all := lw_g (lw_at lw_m2 197 rfl) rfl
theorem q505 : (Jvm.Cond.code ({ cls := "FallsBetween$Told", name := "<init>", desc := "(I)V" } : Jvm.MethodName) prog_21_method_1_code (2 : Nat) (Option.none : Option Jvm.ClassFile.FieldType)) ∈ lw_all := lw_g (lw_at lw_m2 198 rfl) rfl
theorem q506 : (Jvm.Cond.methodLink "FallsBetween$Told" (1 : Nat) ({ cls := "java/lang/Object", name := "<init>", desc := "()V" } : Jvm.MethodName)) ∈ lw_all := lw_g (lw_at lw_m2 199 rfl) rfl
theorem q508 : (Jvm.Cond.fieldLink "FallsBetween$Told" (7 : Nat) "FallsBetween$Told" "start" "I") ∈ lw_all := lw_g (lw_at lw_m2 201 rfl) rfl
theorem q513 : (Jvm.Cond.soleField "FallsBetween$Told" "start") ∈ lw_all := lw_g (lw_at lw_m2 206 rfl) rfl
theorem q591 : (Jvm.Cond.declares ({ cls := "FallsBetween$Told", name := "comes", desc := "(LFallsBetween$Town;)Z" } : Jvm.MethodName)) ∈ lw_tbl := lw_at lw_m3 44 rfl
theorem q592 : (Jvm.Cond.sameMethod "FallsBetween$Told" "FallsBetween$Told" "comes" "(LFallsBetween$Town;)Z") ∈ lw_all := lw_g (lw_at lw_m3 45 rfl) rfl

/-! FallsBetween$TreeTold -/
set_option maxRecDepth 100000
def RX13 : String := "FallsBetween$TreeTold"
def TX13 : u_T := fun k => match k with
  | 0 => ("FallsBetween$Told", "start", "I", true)
  | _ => ("FallsBetween$TreeTold", "tree", "LFallsBetween$Tree;", true)
def tyX13 : Nat → FieldType := fun k => match k with
  | 0 => .int
  | _ => .object "FallsBetween$Tree"
abbrev wsX130 : List Cond := u_ws RX13 TX13 2
theorem nmX13 : ∀ a, a < 2 → ∀ b, b < 2 → a ≠ b → (TX13 a).2.1 ≠ (TX13 b).2.1 := by decide +kernel
theorem tyX13_ok : ∀ k, k < 2 → parseFieldDescriptor (TX13 k).2.2.1 = some (tyX13 k) := by decide +kernel
abbrev cX13_init : ByteArray := prog_24_method_1_code
def yX13_init : MethodName := ⟨RX13, "<init>", "(ILFallsBetween$Tree;)V"⟩
def dkwX13_init_0 : List UInt8 := [42, 27, 183, 0, 3, 42, 44, 181, 0, 9, 177]
abbrev dktX13_init_0 : List UInt8 := dkwX13_init_0 ++ []
theorem dksX13_init_0 : cX13_init.data.toList.drop 0 = dktX13_init_0 := by decide +kernel
theorem dX13_init_0 : decode cX13_init 0 = .ok (.aload_n 0, 1) := dk_42 (dk_at dksX13_init_0 0 rfl rfl)
theorem dX13_init_1 : decode cX13_init 1 = .ok (.iload_n 1, 1) := dk_27 (dk_at dksX13_init_0 1 rfl rfl)
theorem dX13_init_2 : decode cX13_init 2 = .ok (.invokespecial 3, 3) := dk_183 0 3 (dk_at dksX13_init_0 2 rfl rfl)
theorem dX13_init_5 : decode cX13_init 5 = .ok (.aload_n 0, 1) := dk_42 (dk_at dksX13_init_0 5 rfl rfl)
theorem dX13_init_6 : decode cX13_init 6 = .ok (.aload_n 2, 1) := dk_44 (dk_at dksX13_init_0 6 rfl rfl)
theorem dX13_init_7 : decode cX13_init 7 = .ok (.putfield 9, 3) := dk_181 0 9 (dk_at dksX13_init_0 7 rfl rfl)
theorem dX13_init_10 : decode cX13_init 10 = .ok (.return_, 1) := dk_177 (dk_at dksX13_init_0 10 rfl rfl)
abbrev cX13_comes : ByteArray := prog_24_method_2_code
def yX13_comes : MethodName := ⟨RX13, "comes", "(LFallsBetween$Town;)Z"⟩
def dkwX13_comes_4 : List UInt8 := [180, 0, 39, 4, 96, 181, 0, 39, 4, 172]
abbrev dktX13_comes_4 : List UInt8 := dkwX13_comes_4 ++ []
def dkwX13_comes_3 : List UInt8 := [16, 6, 160, 0, 5, 3, 172, 43, 180, 0, 42, 43, 180, 0, 39, 42, 180, 0, 9, 83, 43, 89]
abbrev dktX13_comes_3 : List UInt8 := dkwX13_comes_3 ++ dktX13_comes_4
def dkwX13_comes_2 : List UInt8 := [153, 0, 28, 43, 42, 180, 0, 9, 180, 0, 15, 182, 0, 33, 16, 247, 160, 0, 12, 43, 180, 0, 39]
abbrev dktX13_comes_2 : List UInt8 := dkwX13_comes_2 ++ dktX13_comes_3
def dkwX13_comes_1 : List UInt8 := [184, 0, 26, 153, 0, 18, 42, 180, 0, 9, 180, 0, 30, 7, 162, 0, 7, 4, 167, 0, 4, 3, 61, 28]
abbrev dktX13_comes_1 : List UInt8 := dkwX13_comes_1 ++ dktX13_comes_2
def dkwX13_comes_0 : List UInt8 := [42, 180, 0, 9, 180, 0, 15, 16, 36, 162, 0, 36, 42, 180, 0, 9, 180, 0, 21, 133, 10, 20, 0, 24]
abbrev dktX13_comes_0 : List UInt8 := dkwX13_comes_0 ++ dktX13_comes_1
theorem dksX13_comes_0 : cX13_comes.data.toList.drop 0 = dktX13_comes_0 := by decide +kernel
theorem dksX13_comes_1 : cX13_comes.data.toList.drop 24 = dktX13_comes_1 := dk_seg dksX13_comes_0 24 rfl rfl
theorem dksX13_comes_2 : cX13_comes.data.toList.drop 48 = dktX13_comes_2 := dk_seg dksX13_comes_1 24 rfl rfl
theorem dksX13_comes_3 : cX13_comes.data.toList.drop 71 = dktX13_comes_3 := dk_seg dksX13_comes_2 23 rfl rfl
theorem dksX13_comes_4 : cX13_comes.data.toList.drop 93 = dktX13_comes_4 := dk_seg dksX13_comes_3 22 rfl rfl
theorem dX13_comes_0 : decode cX13_comes 0 = .ok (.aload_n 0, 1) := dk_42 (dk_at dksX13_comes_0 0 rfl rfl)
theorem dX13_comes_1 : decode cX13_comes 1 = .ok (.getfield 9, 3) := dk_180 0 9 (dk_at dksX13_comes_0 1 rfl rfl)
theorem dX13_comes_4 : decode cX13_comes 4 = .ok (.getfield 15, 3) := dk_180 0 15 (dk_at dksX13_comes_0 4 rfl rfl)
theorem dX13_comes_7 : decode cX13_comes 7 = .ok (.bipush 36, 2) := dk_16 36 (dk_at dksX13_comes_0 7 rfl rfl)
theorem dX13_comes_9 : decode cX13_comes 9 = .ok (.if_icmp .ge 36, 3) := dk_162 0 36 (dk_at dksX13_comes_0 9 rfl rfl)
theorem dX13_comes_12 : decode cX13_comes 12 = .ok (.aload_n 0, 1) := dk_42 (dk_at dksX13_comes_0 12 rfl rfl)
theorem dX13_comes_13 : decode cX13_comes 13 = .ok (.getfield 9, 3) := dk_180 0 9 (dk_at dksX13_comes_0 13 rfl rfl)
theorem dX13_comes_16 : decode cX13_comes 16 = .ok (.getfield 21, 3) := dk_180 0 21 (dk_at dksX13_comes_0 16 rfl rfl)
theorem dX13_comes_19 : decode cX13_comes 19 = .ok (.i2l, 1) := dk_133 (dk_at dksX13_comes_0 19 rfl rfl)
theorem dX13_comes_20 : decode cX13_comes 20 = .ok (.lconst 1, 1) := dk_10 (dk_at dksX13_comes_0 20 rfl rfl)
theorem dX13_comes_21 : decode cX13_comes 21 = .ok (.ldc2_w 24, 3) := dk_20 0 24 (dk_at dksX13_comes_0 21 rfl rfl)
theorem dX13_comes_24 : decode cX13_comes 24 = .ok (.invokestatic 26, 3) := dk_184 0 26 (dk_at dksX13_comes_1 0 rfl rfl)
theorem dX13_comes_27 : decode cX13_comes 27 = .ok (.ifCond .eq 18, 3) := dk_153 0 18 (dk_at dksX13_comes_1 3 rfl rfl)
theorem dX13_comes_30 : decode cX13_comes 30 = .ok (.aload_n 0, 1) := dk_42 (dk_at dksX13_comes_1 6 rfl rfl)
theorem dX13_comes_31 : decode cX13_comes 31 = .ok (.getfield 9, 3) := dk_180 0 9 (dk_at dksX13_comes_1 7 rfl rfl)
theorem dX13_comes_34 : decode cX13_comes 34 = .ok (.getfield 30, 3) := dk_180 0 30 (dk_at dksX13_comes_1 10 rfl rfl)
theorem dX13_comes_37 : decode cX13_comes 37 = .ok (.iconst 4, 1) := dk_7 (dk_at dksX13_comes_1 13 rfl rfl)
theorem dX13_comes_38 : decode cX13_comes 38 = .ok (.if_icmp .ge 7, 3) := dk_162 0 7 (dk_at dksX13_comes_1 14 rfl rfl)
theorem dX13_comes_41 : decode cX13_comes 41 = .ok (.iconst 1, 1) := dk_4 (dk_at dksX13_comes_1 17 rfl rfl)
theorem dX13_comes_42 : decode cX13_comes 42 = .ok (.goto 4, 3) := dk_167 0 4 (dk_at dksX13_comes_1 18 rfl rfl)
theorem dX13_comes_45 : decode cX13_comes 45 = .ok (.iconst 0, 1) := dk_3 (dk_at dksX13_comes_1 21 rfl rfl)
theorem dX13_comes_46 : decode cX13_comes 46 = .ok (.istore_n 2, 1) := dk_61 (dk_at dksX13_comes_1 22 rfl rfl)
theorem dX13_comes_47 : decode cX13_comes 47 = .ok (.iload_n 2, 1) := dk_28 (dk_at dksX13_comes_1 23 rfl rfl)
theorem dX13_comes_48 : decode cX13_comes 48 = .ok (.ifCond .eq 28, 3) := dk_153 0 28 (dk_at dksX13_comes_2 0 rfl rfl)
theorem dX13_comes_51 : decode cX13_comes 51 = .ok (.aload_n 1, 1) := dk_43 (dk_at dksX13_comes_2 3 rfl rfl)
theorem dX13_comes_52 : decode cX13_comes 52 = .ok (.aload_n 0, 1) := dk_42 (dk_at dksX13_comes_2 4 rfl rfl)
theorem dX13_comes_53 : decode cX13_comes 53 = .ok (.getfield 9, 3) := dk_180 0 9 (dk_at dksX13_comes_2 5 rfl rfl)
theorem dX13_comes_56 : decode cX13_comes 56 = .ok (.getfield 15, 3) := dk_180 0 15 (dk_at dksX13_comes_2 8 rfl rfl)
theorem dX13_comes_59 : decode cX13_comes 59 = .ok (.invokevirtual 33, 3) := dk_182 0 33 (dk_at dksX13_comes_2 11 rfl rfl)
theorem dX13_comes_62 : decode cX13_comes 62 = .ok (.bipush (-9), 2) := dk_16 247 (dk_at dksX13_comes_2 14 rfl rfl)
theorem dX13_comes_64 : decode cX13_comes 64 = .ok (.if_icmp .ne 12, 3) := dk_160 0 12 (dk_at dksX13_comes_2 16 rfl rfl)
theorem dX13_comes_67 : decode cX13_comes 67 = .ok (.aload_n 1, 1) := dk_43 (dk_at dksX13_comes_2 19 rfl rfl)
theorem dX13_comes_68 : decode cX13_comes 68 = .ok (.getfield 39, 3) := dk_180 0 39 (dk_at dksX13_comes_2 20 rfl rfl)
theorem dX13_comes_71 : decode cX13_comes 71 = .ok (.bipush 6, 2) := dk_16 6 (dk_at dksX13_comes_3 0 rfl rfl)
theorem dX13_comes_73 : decode cX13_comes 73 = .ok (.if_icmp .ne 5, 3) := dk_160 0 5 (dk_at dksX13_comes_3 2 rfl rfl)
theorem dX13_comes_76 : decode cX13_comes 76 = .ok (.iconst 0, 1) := dk_3 (dk_at dksX13_comes_3 5 rfl rfl)
theorem dX13_comes_77 : decode cX13_comes 77 = .ok (.ireturn, 1) := dk_172 (dk_at dksX13_comes_3 6 rfl rfl)
theorem dX13_comes_78 : decode cX13_comes 78 = .ok (.aload_n 1, 1) := dk_43 (dk_at dksX13_comes_3 7 rfl rfl)
theorem dX13_comes_79 : decode cX13_comes 79 = .ok (.getfield 42, 3) := dk_180 0 42 (dk_at dksX13_comes_3 8 rfl rfl)
theorem dX13_comes_82 : decode cX13_comes 82 = .ok (.aload_n 1, 1) := dk_43 (dk_at dksX13_comes_3 11 rfl rfl)
theorem dX13_comes_83 : decode cX13_comes 83 = .ok (.getfield 39, 3) := dk_180 0 39 (dk_at dksX13_comes_3 12 rfl rfl)
theorem dX13_comes_86 : decode cX13_comes 86 = .ok (.aload_n 0, 1) := dk_42 (dk_at dksX13_comes_3 15 rfl rfl)
theorem dX13_comes_87 : decode cX13_comes 87 = .ok (.getfield 9, 3) := dk_180 0 9 (dk_at dksX13_comes_3 16 rfl rfl)
theorem dX13_comes_90 : decode cX13_comes 90 = .ok (.aastore, 1) := dk_83 (dk_at dksX13_comes_3 19 rfl rfl)
theorem dX13_comes_91 : decode cX13_comes 91 = .ok (.aload_n 1, 1) := dk_43 (dk_at dksX13_comes_3 20 rfl rfl)
theorem dX13_comes_92 : decode cX13_comes 92 = .ok (.dup, 1) := dk_89 (dk_at dksX13_comes_3 21 rfl rfl)
theorem dX13_comes_93 : decode cX13_comes 93 = .ok (.getfield 39, 3) := dk_180 0 39 (dk_at dksX13_comes_4 0 rfl rfl)
theorem dX13_comes_96 : decode cX13_comes 96 = .ok (.iconst 1, 1) := dk_4 (dk_at dksX13_comes_4 3 rfl rfl)
theorem dX13_comes_97 : decode cX13_comes 97 = .ok (.iadd, 1) := dk_96 (dk_at dksX13_comes_4 4 rfl rfl)
theorem dX13_comes_98 : decode cX13_comes 98 = .ok (.putfield 39, 3) := dk_181 0 39 (dk_at dksX13_comes_4 5 rfl rfl)
theorem dX13_comes_101 : decode cX13_comes 101 = .ok (.iconst 1, 1) := dk_4 (dk_at dksX13_comes_4 8 rfl rfl)
theorem dX13_comes_102 : decode cX13_comes 102 = .ok (.ireturn, 1) := dk_172 (dk_at dksX13_comes_4 9 rfl rfl)
theorem q84 : (Jvm.Cond.initialized "FallsBetween$TreeTold") ∈ lw_all := lw_g (lw_at lw_m1 17 rfl) rfl
theorem q165 : (Jvm.Cond.fieldLinkNest "FallsBetween$TreeTold" (39 : Nat) "FallsBetween$Town" "trees" "I" "FallsBetween") ∈ lw_tbl := lw_at lw_m1 98 rfl
theorem q168 : (Jvm.Cond.fieldLinkNest "FallsBetween$TreeTold" (42 : Nat) "FallsBetween$Town" "tree" "[LFallsBetween$Tree;" "FallsBetween") ∈ lw_tbl := lw_at lw_m1 101 rfl
theorem q420 : (Jvm.Cond.instantiable "FallsBetween$TreeTold" (2 : Nat)) ∈ lw_all := lw_g (lw_at lw_m2 113 rfl) rfl
theorem q431 : (Jvm.Cond.fieldLink "FallsBetween$TreeTold" (15 : Nat) "FallsBetween$Tree" "square" "I") ∈ lw_all := lw_g (lw_at lw_m2 124 rfl) rfl
theorem q435 : (Jvm.Cond.fieldLink "FallsBetween$TreeTold" (21 : Nat) "FallsBetween$Tree" "fruit" "I") ∈ lw_all := lw_g (lw_at lw_m2 128 rfl) rfl
theorem q439 : (Jvm.Cond.fieldLink "FallsBetween$TreeTold" (30 : Nat) "FallsBetween$Tree" "leans" "I") ∈ lw_all := lw_g (lw_at lw_m2 132 rfl) rfl
theorem q501 : (Jvm.Cond.instanceMethod ({ cls := "FallsBetween$TreeTold", name := "<init>", desc := "(ILFallsBetween$Tree;)V" } : Jvm.MethodName)) ∈ lw_all := lw_g (lw_at lw_m2 194 rfl) rfl
theorem q502 : (Jvm.Cond.code ({ cls := "FallsBetween$TreeTold", name := "<init>", desc := "(ILFallsBetween$Tree;)V" } : Jvm.MethodName) prog_24_method_1_code (3 : Nat) (Option.none : Option Jvm.ClassFile.FieldType)) ∈ lw_all := lw_g (lw_at lw_m2 195 rfl) rfl
theorem q503 : (Jvm.Cond.methodLink "FallsBetween$TreeTold" (3 : Nat) ({ cls := "FallsBetween$Told", name := "<init>", desc := "(I)V" } : Jvm.MethodName)) ∈ lw_all := lw_g (lw_at lw_m2 196 rfl) rfl
theorem q507 : (Jvm.Cond.fieldLink "FallsBetween$TreeTold" (9 : Nat) "FallsBetween$TreeTold" "tree" "LFallsBetween$Tree;") ∈ lw_all := lw_g (lw_at lw_m2 200 rfl) rfl
theorem q510 : (Jvm.Cond.laysFinal "FallsBetween$TreeTold" "FallsBetween$TreeTold" "tree" "LFallsBetween$Tree;") ∈ lw_all := lw_g (lw_at lw_m2 203 rfl) rfl
theorem q511 : (Jvm.Cond.soleField "FallsBetween$TreeTold" "tree") ∈ lw_all := lw_g (lw_at lw_m2 204 rfl) rfl
theorem q512 : (Jvm.Cond.laysFinal "FallsBetween$TreeTold" "FallsBetween$Told" "start" "I") ∈ lw_all := lw_g (lw_at lw_m2 205 rfl) rfl
theorem q514 : (Jvm.Cond.superclass "FallsBetween$TreeTold" "FallsBetween$Told") ∈ lw_all := lw_g (lw_at lw_m2 207 rfl) rfl
theorem q632 : (Jvm.Cond.selects "FallsBetween$TreeTold" ({ cls := "FallsBetween$Told", name := "comes", desc := "(LFallsBetween$Town;)Z" } : Jvm.MethodName) ({ cls := "FallsBetween$TreeTold", name := "comes", desc := "(LFallsBetween$Town;)Z" } : Jvm.MethodName)) ∈ lw_all := lw_g (lw_at lw_m3 85 rfl) rfl
theorem q633 : (Jvm.Cond.instanceMethod ({ cls := "FallsBetween$TreeTold", name := "comes", desc := "(LFallsBetween$Town;)Z" } : Jvm.MethodName)) ∈ lw_all := lw_g (lw_at lw_m3 86 rfl) rfl
theorem q634 : (Jvm.Cond.code ({ cls := "FallsBetween$TreeTold", name := "comes", desc := "(LFallsBetween$Town;)Z" } : Jvm.MethodName) prog_24_method_2_code (3 : Nat) (Option.some Jvm.ClassFile.FieldType.boolean)) ∈ lw_all := lw_g (lw_at lw_m3 87 rfl) rfl
theorem q635 : (Jvm.Cond.constantLong "FallsBetween$TreeTold" (24 : Nat) (20 : Int64)) ∈ lw_all := lw_g (lw_at lw_m3 88 rfl) rfl
theorem q636 : (Jvm.Cond.methodLinkNest "FallsBetween$TreeTold" (26 : Nat) ({ cls := "FallsBetween", name := "in", desc := "(JJJ)Z" } : Jvm.MethodName) "FallsBetween") ∈ lw_tbl := lw_at lw_m3 89 rfl
theorem q637 : (Jvm.Cond.methodLink "FallsBetween$TreeTold" (33 : Nat) ({ cls := "FallsBetween$Town", name := "treeAt", desc := "(I)I" } : Jvm.MethodName)) ∈ lw_all := lw_g (lw_at lw_m3 90 rfl) rfl
theorem q1405 : (Jvm.Cond.castable "FallsBetween$TreeTold" "FallsBetween$Told") ∈ lw_tbl := lw_at lw_m6 138 rfl
theorem in_X13 : ∀ w ∈ wsX130, w ∈ lw_all := lw_in wsX130 [512, 510] (by decide +kernel) (by decide +kernel)

/-! FallsBetween$Tree -/
set_option maxRecDepth 100000
def RX14 : String := "FallsBetween$Tree"
def TX14 : u_T := fun k => match k with
  | 0 => ("FallsBetween$Tree", "square", "I", true)
  | 1 => ("FallsBetween$Tree", "fruit", "I", true)
  | _ => ("FallsBetween$Tree", "leans", "I", true)
def tyX14 : Nat → FieldType := fun k => match k with
  | 0 => .int
  | 1 => .int
  | _ => .int
abbrev wsX140 : List Cond := u_ws RX14 TX14 3
theorem nmX14 : ∀ a, a < 3 → ∀ b, b < 3 → a ≠ b → (TX14 a).2.1 ≠ (TX14 b).2.1 := by decide +kernel
theorem tyX14_ok : ∀ k, k < 3 → parseFieldDescriptor (TX14 k).2.2.1 = some (tyX14 k) := by decide +kernel
abbrev cX14_init : ByteArray := prog_23_method_1_code
def yX14_init : MethodName := ⟨RX14, "<init>", "(III)V"⟩
def dkwX14_init_0 : List UInt8 := [42, 183, 0, 1, 42, 27, 181, 0, 7, 42, 28, 181, 0, 13, 42, 29, 181, 0, 16, 177]
abbrev dktX14_init_0 : List UInt8 := dkwX14_init_0 ++ []
theorem dksX14_init_0 : cX14_init.data.toList.drop 0 = dktX14_init_0 := by decide +kernel
theorem dX14_init_0 : decode cX14_init 0 = .ok (.aload_n 0, 1) := dk_42 (dk_at dksX14_init_0 0 rfl rfl)
theorem dX14_init_1 : decode cX14_init 1 = .ok (.invokespecial 1, 3) := dk_183 0 1 (dk_at dksX14_init_0 1 rfl rfl)
theorem dX14_init_4 : decode cX14_init 4 = .ok (.aload_n 0, 1) := dk_42 (dk_at dksX14_init_0 4 rfl rfl)
theorem dX14_init_5 : decode cX14_init 5 = .ok (.iload_n 1, 1) := dk_27 (dk_at dksX14_init_0 5 rfl rfl)
theorem dX14_init_6 : decode cX14_init 6 = .ok (.putfield 7, 3) := dk_181 0 7 (dk_at dksX14_init_0 6 rfl rfl)
theorem dX14_init_9 : decode cX14_init 9 = .ok (.aload_n 0, 1) := dk_42 (dk_at dksX14_init_0 9 rfl rfl)
theorem dX14_init_10 : decode cX14_init 10 = .ok (.iload_n 2, 1) := dk_28 (dk_at dksX14_init_0 10 rfl rfl)
theorem dX14_init_11 : decode cX14_init 11 = .ok (.putfield 13, 3) := dk_181 0 13 (dk_at dksX14_init_0 11 rfl rfl)
theorem dX14_init_14 : decode cX14_init 14 = .ok (.aload_n 0, 1) := dk_42 (dk_at dksX14_init_0 14 rfl rfl)
theorem dX14_init_15 : decode cX14_init 15 = .ok (.iload_n 3, 1) := dk_29 (dk_at dksX14_init_0 15 rfl rfl)
theorem dX14_init_16 : decode cX14_init 16 = .ok (.putfield 16, 3) := dk_181 0 16 (dk_at dksX14_init_0 16 rfl rfl)
theorem dX14_init_19 : decode cX14_init 19 = .ok (.return_, 1) := dk_177 (dk_at dksX14_init_0 19 rfl rfl)
abbrev cX14_kind : ByteArray := prog_23_method_2_code
def yX14_kind : MethodName := ⟨RX14, "kind", "()I"⟩
theorem dX14_kind_0 : decode cX14_kind 0 = .ok (.iconst 0, 1) := by decide +kernel
theorem dX14_kind_1 : decode cX14_kind 1 = .ok (.ireturn, 1) := by decide +kernel
abbrev cX14_own : ByteArray := prog_23_method_3_code
def yX14_own : MethodName := ⟨RX14, "own", "()I"⟩
theorem dX14_own_0 : decode cX14_own 0 = .ok (.iconst 2, 1) := by decide +kernel
theorem dX14_own_1 : decode cX14_own 1 = .ok (.ireturn, 1) := by decide +kernel
abbrev cX14_isBlown : ByteArray := prog_23_method_6_code
def yX14_isBlown : MethodName := ⟨RX14, "isBlown", "()Z"⟩
theorem dX14_isBlown_0 : decode cX14_isBlown 0 = .ok (.iconst 1, 1) := by decide +kernel
theorem dX14_isBlown_1 : decode cX14_isBlown 1 = .ok (.ireturn, 1) := by decide +kernel
abbrev cX14_rolls : ByteArray := prog_23_method_5_code
def yX14_rolls : MethodName := ⟨RX14, "rolls", "()I"⟩
theorem dX14_rolls_0 : decode cX14_rolls 0 = .ok (.iconst 0, 1) := by decide +kernel
theorem dX14_rolls_1 : decode cX14_rolls 1 = .ok (.ireturn, 1) := by decide +kernel
abbrev cX14_toSide : ByteArray := prog_23_method_4_code
def yX14_toSide : MethodName := ⟨RX14, "toSide", "(I)I"⟩
theorem dX14_toSide_0 : decode cX14_toSide 0 = .ok (.iconst 2, 1) := by decide +kernel
theorem dX14_toSide_1 : decode cX14_toSide 1 = .ok (.ireturn, 1) := by decide +kernel
theorem q85 : (Jvm.Cond.initialized "FallsBetween$Tree") ∈ lw_all := lw_g (lw_at lw_m1 18 rfl) rfl
theorem q425 : (Jvm.Cond.instantiable "FallsBetween$Tree" (3 : Nat)) ∈ lw_all := lw_g (lw_at lw_m2 118 rfl) rfl
theorem q427 : (Jvm.Cond.instanceMethod ({ cls := "FallsBetween$Tree", name := "<init>", desc := "(III)V" } : Jvm.MethodName)) ∈ lw_all := lw_g (lw_at lw_m2 120 rfl) rfl
theorem q428 : (Jvm.Cond.code ({ cls := "FallsBetween$Tree", name := "<init>", desc := "(III)V" } : Jvm.MethodName) prog_23_method_1_code (4 : Nat) (Option.none : Option Jvm.ClassFile.FieldType)) ∈ lw_all := lw_g (lw_at lw_m2 121 rfl) rfl
theorem q429 : (Jvm.Cond.methodLink "FallsBetween$Tree" (1 : Nat) ({ cls := "java/lang/Object", name := "<init>", desc := "()V" } : Jvm.MethodName)) ∈ lw_all := lw_g (lw_at lw_m2 122 rfl) rfl
theorem q430 : (Jvm.Cond.fieldLink "FallsBetween$Tree" (7 : Nat) "FallsBetween$Tree" "square" "I") ∈ lw_all := lw_g (lw_at lw_m2 123 rfl) rfl
theorem q434 : (Jvm.Cond.fieldLink "FallsBetween$Tree" (13 : Nat) "FallsBetween$Tree" "fruit" "I") ∈ lw_all := lw_g (lw_at lw_m2 127 rfl) rfl
theorem q438 : (Jvm.Cond.fieldLink "FallsBetween$Tree" (16 : Nat) "FallsBetween$Tree" "leans" "I") ∈ lw_all := lw_g (lw_at lw_m2 131 rfl) rfl
theorem q443 : (Jvm.Cond.laysFinal "FallsBetween$Tree" "FallsBetween$Tree" "square" "I") ∈ lw_all := lw_g (lw_at lw_m2 136 rfl) rfl
theorem q444 : (Jvm.Cond.soleField "FallsBetween$Tree" "square") ∈ lw_all := lw_g (lw_at lw_m2 137 rfl) rfl
theorem q445 : (Jvm.Cond.laysFinal "FallsBetween$Tree" "FallsBetween$Tree" "fruit" "I") ∈ lw_all := lw_g (lw_at lw_m2 138 rfl) rfl
theorem q446 : (Jvm.Cond.soleField "FallsBetween$Tree" "fruit") ∈ lw_all := lw_g (lw_at lw_m2 139 rfl) rfl
theorem q447 : (Jvm.Cond.laysFinal "FallsBetween$Tree" "FallsBetween$Tree" "leans" "I") ∈ lw_all := lw_g (lw_at lw_m2 140 rfl) rfl
theorem q448 : (Jvm.Cond.soleField "FallsBetween$Tree" "leans") ∈ lw_all := lw_g (lw_at lw_m2 141 rfl) rfl
theorem q449 : (Jvm.Cond.superclass "FallsBetween$Tree" "java/lang/Object") ∈ lw_all := lw_g (lw_at lw_m2 142 rfl) rfl
theorem q704 : (Jvm.Cond.instanceMethod ({ cls := "FallsBetween$Tree", name := "kind", desc := "()I" } : Jvm.MethodName)) ∈ lw_all := lw_g (lw_at lw_m3 157 rfl) rfl
theorem q705 : (Jvm.Cond.selects "FallsBetween$Tree" ({ cls := "FallsBetween$Tree", name := "kind", desc := "()I" } : Jvm.MethodName) ({ cls := "FallsBetween$Tree", name := "kind", desc := "()I" } : Jvm.MethodName)) ∈ lw_all := lw_g (lw_at lw_m3 158 rfl) rfl
theorem q706 : (Jvm.Cond.sameMethod "FallsBetween$Tree" "FallsBetween$Tree" "kind" "()I") ∈ lw_all := lw_g (lw_at lw_m3 159 rfl) rfl
theorem q722 : (Jvm.Cond.code ({ cls := "FallsBetween$Tree", name := "kind", desc := "()I" } : Jvm.MethodName) prog_23_method_2_code (1 : Nat) (Option.some Jvm.ClassFile.FieldType.int)) ∈ lw_all := lw_g (lw_at lw_m3 175 rfl) rfl
theorem q761 : (Jvm.Cond.instanceMethod ({ cls := "FallsBetween$Tree", name := "own", desc := "()I" } : Jvm.MethodName)) ∈ lw_all := lw_g (lw_at lw_m3 214 rfl) rfl
theorem q762 : (Jvm.Cond.selects "FallsBetween$Tree" ({ cls := "FallsBetween$Tree", name := "own", desc := "()I" } : Jvm.MethodName) ({ cls := "FallsBetween$Tree", name := "own", desc := "()I" } : Jvm.MethodName)) ∈ lw_all := lw_g (lw_at lw_m3 215 rfl) rfl
theorem q763 : (Jvm.Cond.sameMethod "FallsBetween$Tree" "FallsBetween$Tree" "own" "()I") ∈ lw_all := lw_g (lw_at lw_m3 216 rfl) rfl
theorem q775 : (Jvm.Cond.code ({ cls := "FallsBetween$Tree", name := "own", desc := "()I" } : Jvm.MethodName) prog_23_method_3_code (1 : Nat) (Option.some Jvm.ClassFile.FieldType.int)) ∈ lw_all := lw_g (lw_at lw_m3 228 rfl) rfl
theorem q781 : (Jvm.Cond.instanceMethod ({ cls := "FallsBetween$Tree", name := "isBlown", desc := "()Z" } : Jvm.MethodName)) ∈ lw_all := lw_g (lw_at lw_m3 234 rfl) rfl
theorem q782 : (Jvm.Cond.selects "FallsBetween$Tree" ({ cls := "FallsBetween$Tree", name := "isBlown", desc := "()Z" } : Jvm.MethodName) ({ cls := "FallsBetween$Tree", name := "isBlown", desc := "()Z" } : Jvm.MethodName)) ∈ lw_all := lw_g (lw_at lw_m3 235 rfl) rfl
theorem q783 : (Jvm.Cond.sameMethod "FallsBetween$Tree" "FallsBetween$Tree" "isBlown" "()Z") ∈ lw_all := lw_g (lw_at lw_m3 236 rfl) rfl
theorem q793 : (Jvm.Cond.declares ({ cls := "FallsBetween$Tree", name := "isBlown", desc := "()Z" } : Jvm.MethodName)) ∈ lw_tbl := lw_at lw_m4 6 rfl
theorem q794 : (Jvm.Cond.code ({ cls := "FallsBetween$Tree", name := "isBlown", desc := "()Z" } : Jvm.MethodName) prog_23_method_6_code (1 : Nat) (Option.some Jvm.ClassFile.FieldType.boolean)) ∈ lw_all := lw_g (lw_at lw_m4 7 rfl) rfl
theorem q800 : (Jvm.Cond.instanceMethod ({ cls := "FallsBetween$Tree", name := "rolls", desc := "()I" } : Jvm.MethodName)) ∈ lw_all := lw_g (lw_at lw_m4 13 rfl) rfl
theorem q801 : (Jvm.Cond.selects "FallsBetween$Tree" ({ cls := "FallsBetween$Tree", name := "rolls", desc := "()I" } : Jvm.MethodName) ({ cls := "FallsBetween$Tree", name := "rolls", desc := "()I" } : Jvm.MethodName)) ∈ lw_all := lw_g (lw_at lw_m4 14 rfl) rfl
theorem q802 : (Jvm.Cond.sameMethod "FallsBetween$Tree" "FallsBetween$Tree" "rolls" "()I") ∈ lw_all := lw_g (lw_at lw_m4 15 rfl) rfl
theorem q814 : (Jvm.Cond.code ({ cls := "FallsBetween$Tree", name := "rolls", desc := "()I" } : Jvm.MethodName) prog_23_method_5_code (1 : Nat) (Option.some Jvm.ClassFile.FieldType.int)) ∈ lw_all := lw_g (lw_at lw_m4 27 rfl) rfl
theorem q821 : (Jvm.Cond.instanceMethod ({ cls := "FallsBetween$Tree", name := "toSide", desc := "(I)I" } : Jvm.MethodName)) ∈ lw_all := lw_g (lw_at lw_m4 34 rfl) rfl
theorem q822 : (Jvm.Cond.selects "FallsBetween$Tree" ({ cls := "FallsBetween$Tree", name := "toSide", desc := "(I)I" } : Jvm.MethodName) ({ cls := "FallsBetween$Tree", name := "toSide", desc := "(I)I" } : Jvm.MethodName)) ∈ lw_all := lw_g (lw_at lw_m4 35 rfl) rfl
theorem q823 : (Jvm.Cond.sameMethod "FallsBetween$Tree" "FallsBetween$Tree" "toSide" "(I)I") ∈ lw_all := lw_g (lw_at lw_m4 36 rfl) rfl
theorem q835 : (Jvm.Cond.code ({ cls := "FallsBetween$Tree", name := "toSide", desc := "(I)I" } : Jvm.MethodName) prog_23_method_4_code (2 : Nat) (Option.some Jvm.ClassFile.FieldType.int)) ∈ lw_all := lw_g (lw_at lw_m4 48 rfl) rfl
theorem in_X14 : ∀ w ∈ wsX140, w ∈ lw_all := lw_in wsX140 [443, 445, 447] (by decide +kernel) (by decide +kernel)

/-! FallsBetween$Damson -/
set_option maxRecDepth 100000
def RX15 : String := "FallsBetween$Damson"
def TX15 : u_T := fun k => match k with
  | 0 => ("FallsBetween$Tree", "square", "I", true)
  | 1 => ("FallsBetween$Tree", "fruit", "I", true)
  | _ => ("FallsBetween$Tree", "leans", "I", true)
def tyX15 : Nat → FieldType := fun k => match k with
  | 0 => .int
  | 1 => .int
  | _ => .int
abbrev wsX150 : List Cond := u_ws RX15 TX15 3
theorem nmX15 : ∀ a, a < 3 → ∀ b, b < 3 → a ≠ b → (TX15 a).2.1 ≠ (TX15 b).2.1 := by decide +kernel
theorem tyX15_ok : ∀ k, k < 3 → parseFieldDescriptor (TX15 k).2.2.1 = some (tyX15 k) := by decide +kernel
abbrev cX15_init : ByteArray := prog_6_method_1_code
def yX15_init : MethodName := ⟨RX15, "<init>", "(III)V"⟩
def dkwX15_init_0 : List UInt8 := [42, 27, 28, 29, 183, 0, 1, 177]
abbrev dktX15_init_0 : List UInt8 := dkwX15_init_0 ++ []
theorem dksX15_init_0 : cX15_init.data.toList.drop 0 = dktX15_init_0 := by decide +kernel
theorem dX15_init_0 : decode cX15_init 0 = .ok (.aload_n 0, 1) := dk_42 (dk_at dksX15_init_0 0 rfl rfl)
theorem dX15_init_1 : decode cX15_init 1 = .ok (.iload_n 1, 1) := dk_27 (dk_at dksX15_init_0 1 rfl rfl)
theorem dX15_init_2 : decode cX15_init 2 = .ok (.iload_n 2, 1) := dk_28 (dk_at dksX15_init_0 2 rfl rfl)
theorem dX15_init_3 : decode cX15_init 3 = .ok (.iload_n 3, 1) := dk_29 (dk_at dksX15_init_0 3 rfl rfl)
theorem dX15_init_4 : decode cX15_init 4 = .ok (.invokespecial 1, 3) := dk_183 0 1 (dk_at dksX15_init_0 4 rfl rfl)
theorem dX15_init_7 : decode cX15_init 7 = .ok (.return_, 1) := dk_177 (dk_at dksX15_init_0 7 rfl rfl)
abbrev cX15_kind : ByteArray := prog_6_method_2_code
def yX15_kind : MethodName := ⟨RX15, "kind", "()I"⟩
theorem dX15_kind_0 : decode cX15_kind 0 = .ok (.iconst 1, 1) := by decide +kernel
theorem dX15_kind_1 : decode cX15_kind 1 = .ok (.ireturn, 1) := by decide +kernel
abbrev cX15_own : ByteArray := prog_6_method_3_code
def yX15_own : MethodName := ⟨RX15, "own", "()I"⟩
def dkwX15_own_0 : List UInt8 := [6, 42, 183, 0, 7, 104, 172]
abbrev dktX15_own_0 : List UInt8 := dkwX15_own_0 ++ []
theorem dksX15_own_0 : cX15_own.data.toList.drop 0 = dktX15_own_0 := by decide +kernel
theorem dX15_own_0 : decode cX15_own 0 = .ok (.iconst 3, 1) := dk_6 (dk_at dksX15_own_0 0 rfl rfl)
theorem dX15_own_1 : decode cX15_own 1 = .ok (.aload_n 0, 1) := dk_42 (dk_at dksX15_own_0 1 rfl rfl)
theorem dX15_own_2 : decode cX15_own 2 = .ok (.invokespecial 7, 3) := dk_183 0 7 (dk_at dksX15_own_0 2 rfl rfl)
theorem dX15_own_5 : decode cX15_own 5 = .ok (.imul, 1) := dk_104 (dk_at dksX15_own_0 5 rfl rfl)
theorem dX15_own_6 : decode cX15_own 6 = .ok (.ireturn, 1) := dk_172 (dk_at dksX15_own_0 6 rfl rfl)
abbrev cX15_toSide : ByteArray := prog_6_method_4_code
def yX15_toSide : MethodName := ⟨RX15, "toSide", "(I)I"⟩
def dkwX15_toSide_0 : List UInt8 := [42, 27, 183, 0, 11, 5, 108, 172]
abbrev dktX15_toSide_0 : List UInt8 := dkwX15_toSide_0 ++ []
theorem dksX15_toSide_0 : cX15_toSide.data.toList.drop 0 = dktX15_toSide_0 := by decide +kernel
theorem dX15_toSide_0 : decode cX15_toSide 0 = .ok (.aload_n 0, 1) := dk_42 (dk_at dksX15_toSide_0 0 rfl rfl)
theorem dX15_toSide_1 : decode cX15_toSide 1 = .ok (.iload_n 1, 1) := dk_27 (dk_at dksX15_toSide_0 1 rfl rfl)
theorem dX15_toSide_2 : decode cX15_toSide 2 = .ok (.invokespecial 11, 3) := dk_183 0 11 (dk_at dksX15_toSide_0 2 rfl rfl)
theorem dX15_toSide_5 : decode cX15_toSide 5 = .ok (.iconst 2, 1) := dk_5 (dk_at dksX15_toSide_0 5 rfl rfl)
theorem dX15_toSide_6 : decode cX15_toSide 6 = .ok (.idiv, 1) := dk_108 (dk_at dksX15_toSide_0 6 rfl rfl)
theorem dX15_toSide_7 : decode cX15_toSide 7 = .ok (.ireturn, 1) := dk_172 (dk_at dksX15_toSide_0 7 rfl rfl)
theorem q86 : (Jvm.Cond.initialized "FallsBetween$Damson") ∈ lw_all := lw_g (lw_at lw_m1 19 rfl) rfl
theorem q451 : (Jvm.Cond.instantiable "FallsBetween$Damson" (3 : Nat)) ∈ lw_all := lw_g (lw_at lw_m2 144 rfl) rfl
theorem q453 : (Jvm.Cond.instanceMethod ({ cls := "FallsBetween$Damson", name := "<init>", desc := "(III)V" } : Jvm.MethodName)) ∈ lw_all := lw_g (lw_at lw_m2 146 rfl) rfl
theorem q454 : (Jvm.Cond.code ({ cls := "FallsBetween$Damson", name := "<init>", desc := "(III)V" } : Jvm.MethodName) prog_6_method_1_code (4 : Nat) (Option.none : Option Jvm.ClassFile.FieldType)) ∈ lw_all := lw_g (lw_at lw_m2 147 rfl) rfl
theorem q455 : (Jvm.Cond.methodLink "FallsBetween$Damson" (1 : Nat) ({ cls := "FallsBetween$Tree", name := "<init>", desc := "(III)V" } : Jvm.MethodName)) ∈ lw_all := lw_g (lw_at lw_m2 148 rfl) rfl
theorem q456 : (Jvm.Cond.laysFinal "FallsBetween$Damson" "FallsBetween$Tree" "square" "I") ∈ lw_all := lw_g (lw_at lw_m2 149 rfl) rfl
theorem q457 : (Jvm.Cond.laysFinal "FallsBetween$Damson" "FallsBetween$Tree" "fruit" "I") ∈ lw_all := lw_g (lw_at lw_m2 150 rfl) rfl
theorem q458 : (Jvm.Cond.laysFinal "FallsBetween$Damson" "FallsBetween$Tree" "leans" "I") ∈ lw_all := lw_g (lw_at lw_m2 151 rfl) rfl
theorem q459 : (Jvm.Cond.superclass "FallsBetween$Damson" "FallsBetween$Tree") ∈ lw_all := lw_g (lw_at lw_m2 152 rfl) rfl
theorem q710 : (Jvm.Cond.selects "FallsBetween$Damson" ({ cls := "FallsBetween$Tree", name := "kind", desc := "()I" } : Jvm.MethodName) ({ cls := "FallsBetween$Damson", name := "kind", desc := "()I" } : Jvm.MethodName)) ∈ lw_all := lw_g (lw_at lw_m3 163 rfl) rfl
theorem q711 : (Jvm.Cond.instanceMethod ({ cls := "FallsBetween$Damson", name := "kind", desc := "()I" } : Jvm.MethodName)) ∈ lw_all := lw_g (lw_at lw_m3 164 rfl) rfl
theorem q712 : (Jvm.Cond.code ({ cls := "FallsBetween$Damson", name := "kind", desc := "()I" } : Jvm.MethodName) prog_6_method_2_code (1 : Nat) (Option.some Jvm.ClassFile.FieldType.int)) ∈ lw_all := lw_g (lw_at lw_m3 165 rfl) rfl
theorem q765 : (Jvm.Cond.selects "FallsBetween$Damson" ({ cls := "FallsBetween$Tree", name := "own", desc := "()I" } : Jvm.MethodName) ({ cls := "FallsBetween$Damson", name := "own", desc := "()I" } : Jvm.MethodName)) ∈ lw_all := lw_g (lw_at lw_m3 218 rfl) rfl
theorem q766 : (Jvm.Cond.instanceMethod ({ cls := "FallsBetween$Damson", name := "own", desc := "()I" } : Jvm.MethodName)) ∈ lw_all := lw_g (lw_at lw_m3 219 rfl) rfl
theorem q767 : (Jvm.Cond.code ({ cls := "FallsBetween$Damson", name := "own", desc := "()I" } : Jvm.MethodName) prog_6_method_3_code (1 : Nat) (Option.some Jvm.ClassFile.FieldType.int)) ∈ lw_all := lw_g (lw_at lw_m3 220 rfl) rfl
theorem q768 : (Jvm.Cond.methodLink "FallsBetween$Damson" (7 : Nat) ({ cls := "FallsBetween$Tree", name := "own", desc := "()I" } : Jvm.MethodName)) ∈ lw_all := lw_g (lw_at lw_m3 221 rfl) rfl
theorem q785 : (Jvm.Cond.selects "FallsBetween$Damson" ({ cls := "FallsBetween$Tree", name := "isBlown", desc := "()Z" } : Jvm.MethodName) ({ cls := "FallsBetween$Tree", name := "isBlown", desc := "()Z" } : Jvm.MethodName)) ∈ lw_all := lw_g (lw_at lw_m3 238 rfl) rfl
theorem q792 : (Jvm.Cond.sameMethod "FallsBetween$Damson" "FallsBetween$Tree" "isBlown" "()Z") ∈ lw_all := lw_g (lw_at lw_m4 5 rfl) rfl
theorem q807 : (Jvm.Cond.selects "FallsBetween$Damson" ({ cls := "FallsBetween$Tree", name := "rolls", desc := "()I" } : Jvm.MethodName) ({ cls := "FallsBetween$Tree", name := "rolls", desc := "()I" } : Jvm.MethodName)) ∈ lw_all := lw_g (lw_at lw_m4 20 rfl) rfl
theorem q825 : (Jvm.Cond.selects "FallsBetween$Damson" ({ cls := "FallsBetween$Tree", name := "toSide", desc := "(I)I" } : Jvm.MethodName) ({ cls := "FallsBetween$Damson", name := "toSide", desc := "(I)I" } : Jvm.MethodName)) ∈ lw_all := lw_g (lw_at lw_m4 38 rfl) rfl
theorem q826 : (Jvm.Cond.instanceMethod ({ cls := "FallsBetween$Damson", name := "toSide", desc := "(I)I" } : Jvm.MethodName)) ∈ lw_all := lw_g (lw_at lw_m4 39 rfl) rfl
theorem q827 : (Jvm.Cond.code ({ cls := "FallsBetween$Damson", name := "toSide", desc := "(I)I" } : Jvm.MethodName) prog_6_method_4_code (2 : Nat) (Option.some Jvm.ClassFile.FieldType.int)) ∈ lw_all := lw_g (lw_at lw_m4 40 rfl) rfl
theorem q828 : (Jvm.Cond.methodLink "FallsBetween$Damson" (11 : Nat) ({ cls := "FallsBetween$Tree", name := "toSide", desc := "(I)I" } : Jvm.MethodName)) ∈ lw_all := lw_g (lw_at lw_m4 41 rfl) rfl
theorem q1400 : (Jvm.Cond.castable "FallsBetween$Damson" "FallsBetween$Tree") ∈ lw_tbl := lw_at lw_m6 133 rfl
theorem in_X15 : ∀ w ∈ wsX150, w ∈ lw_all := lw_in wsX150 [456, 457, 458] (by decide +kernel) (by decide +kernel)

/-! FallsBetween$Leaner -/
set_option maxRecDepth 100000
def RX16 : String := "FallsBetween$Leaner"
def TX16 : u_T := fun k => match k with
  | 0 => ("FallsBetween$Tree", "square", "I", true)
  | 1 => ("FallsBetween$Tree", "fruit", "I", true)
  | _ => ("FallsBetween$Tree", "leans", "I", true)
def tyX16 : Nat → FieldType := fun k => match k with
  | 0 => .int
  | 1 => .int
  | _ => .int
abbrev wsX160 : List Cond := u_ws RX16 TX16 3
theorem nmX16 : ∀ a, a < 3 → ∀ b, b < 3 → a ≠ b → (TX16 a).2.1 ≠ (TX16 b).2.1 := by decide +kernel
theorem tyX16_ok : ∀ k, k < 3 → parseFieldDescriptor (TX16 k).2.2.1 = some (tyX16 k) := by decide +kernel
abbrev cX16_init : ByteArray := prog_11_method_1_code
def yX16_init : MethodName := ⟨RX16, "<init>", "(III)V"⟩
def dkwX16_init_0 : List UInt8 := [42, 27, 28, 29, 183, 0, 1, 177]
abbrev dktX16_init_0 : List UInt8 := dkwX16_init_0 ++ []
theorem dksX16_init_0 : cX16_init.data.toList.drop 0 = dktX16_init_0 := by decide +kernel
theorem dX16_init_0 : decode cX16_init 0 = .ok (.aload_n 0, 1) := dk_42 (dk_at dksX16_init_0 0 rfl rfl)
theorem dX16_init_1 : decode cX16_init 1 = .ok (.iload_n 1, 1) := dk_27 (dk_at dksX16_init_0 1 rfl rfl)
theorem dX16_init_2 : decode cX16_init 2 = .ok (.iload_n 2, 1) := dk_28 (dk_at dksX16_init_0 2 rfl rfl)
theorem dX16_init_3 : decode cX16_init 3 = .ok (.iload_n 3, 1) := dk_29 (dk_at dksX16_init_0 3 rfl rfl)
theorem dX16_init_4 : decode cX16_init 4 = .ok (.invokespecial 1, 3) := dk_183 0 1 (dk_at dksX16_init_0 4 rfl rfl)
theorem dX16_init_7 : decode cX16_init 7 = .ok (.return_, 1) := dk_177 (dk_at dksX16_init_0 7 rfl rfl)
abbrev cX16_kind : ByteArray := prog_11_method_2_code
def yX16_kind : MethodName := ⟨RX16, "kind", "()I"⟩
theorem dX16_kind_0 : decode cX16_kind 0 = .ok (.iconst 2, 1) := by decide +kernel
theorem dX16_kind_1 : decode cX16_kind 1 = .ok (.ireturn, 1) := by decide +kernel
abbrev cX16_own : ByteArray := prog_11_method_3_code
def yX16_own : MethodName := ⟨RX16, "own", "()I"⟩
def dkwX16_own_0 : List UInt8 := [5, 42, 183, 0, 7, 104, 172]
abbrev dktX16_own_0 : List UInt8 := dkwX16_own_0 ++ []
theorem dksX16_own_0 : cX16_own.data.toList.drop 0 = dktX16_own_0 := by decide +kernel
theorem dX16_own_0 : decode cX16_own 0 = .ok (.iconst 2, 1) := dk_5 (dk_at dksX16_own_0 0 rfl rfl)
theorem dX16_own_1 : decode cX16_own 1 = .ok (.aload_n 0, 1) := dk_42 (dk_at dksX16_own_0 1 rfl rfl)
theorem dX16_own_2 : decode cX16_own 2 = .ok (.invokespecial 7, 3) := dk_183 0 7 (dk_at dksX16_own_0 2 rfl rfl)
theorem dX16_own_5 : decode cX16_own 5 = .ok (.imul, 1) := dk_104 (dk_at dksX16_own_0 5 rfl rfl)
theorem dX16_own_6 : decode cX16_own 6 = .ok (.ireturn, 1) := dk_172 (dk_at dksX16_own_0 6 rfl rfl)
abbrev cX16_toSide : ByteArray := prog_11_method_4_code
def yX16_toSide : MethodName := ⟨RX16, "toSide", "(I)I"⟩
def dkwX16_toSide_0 : List UInt8 := [27, 42, 180, 0, 11, 160, 0, 13, 6, 42, 27, 183, 0, 17, 104, 167, 0, 4, 3, 172]
abbrev dktX16_toSide_0 : List UInt8 := dkwX16_toSide_0 ++ []
theorem dksX16_toSide_0 : cX16_toSide.data.toList.drop 0 = dktX16_toSide_0 := by decide +kernel
theorem dX16_toSide_0 : decode cX16_toSide 0 = .ok (.iload_n 1, 1) := dk_27 (dk_at dksX16_toSide_0 0 rfl rfl)
theorem dX16_toSide_1 : decode cX16_toSide 1 = .ok (.aload_n 0, 1) := dk_42 (dk_at dksX16_toSide_0 1 rfl rfl)
theorem dX16_toSide_2 : decode cX16_toSide 2 = .ok (.getfield 11, 3) := dk_180 0 11 (dk_at dksX16_toSide_0 2 rfl rfl)
theorem dX16_toSide_5 : decode cX16_toSide 5 = .ok (.if_icmp .ne 13, 3) := dk_160 0 13 (dk_at dksX16_toSide_0 5 rfl rfl)
theorem dX16_toSide_8 : decode cX16_toSide 8 = .ok (.iconst 3, 1) := dk_6 (dk_at dksX16_toSide_0 8 rfl rfl)
theorem dX16_toSide_9 : decode cX16_toSide 9 = .ok (.aload_n 0, 1) := dk_42 (dk_at dksX16_toSide_0 9 rfl rfl)
theorem dX16_toSide_10 : decode cX16_toSide 10 = .ok (.iload_n 1, 1) := dk_27 (dk_at dksX16_toSide_0 10 rfl rfl)
theorem dX16_toSide_11 : decode cX16_toSide 11 = .ok (.invokespecial 17, 3) := dk_183 0 17 (dk_at dksX16_toSide_0 11 rfl rfl)
theorem dX16_toSide_14 : decode cX16_toSide 14 = .ok (.imul, 1) := dk_104 (dk_at dksX16_toSide_0 14 rfl rfl)
theorem dX16_toSide_15 : decode cX16_toSide 15 = .ok (.goto 4, 3) := dk_167 0 4 (dk_at dksX16_toSide_0 15 rfl rfl)
theorem dX16_toSide_18 : decode cX16_toSide 18 = .ok (.iconst 0, 1) := dk_3 (dk_at dksX16_toSide_0 18 rfl rfl)
theorem dX16_toSide_19 : decode cX16_toSide 19 = .ok (.ireturn, 1) := dk_172 (dk_at dksX16_toSide_0 19 rfl rfl)
theorem q87 : (Jvm.Cond.initialized "FallsBetween$Leaner") ∈ lw_all := lw_g (lw_at lw_m1 20 rfl) rfl
theorem q440 : (Jvm.Cond.fieldLink "FallsBetween$Leaner" (11 : Nat) "FallsBetween$Leaner" "leans" "I") ∈ lw_all := lw_g (lw_at lw_m2 133 rfl) rfl
theorem q441 : (Jvm.Cond.sameField "FallsBetween$Leaner" "FallsBetween$Tree" "leans" "I") ∈ lw_all := lw_g (lw_at lw_m2 134 rfl) rfl
theorem q461 : (Jvm.Cond.instantiable "FallsBetween$Leaner" (3 : Nat)) ∈ lw_all := lw_g (lw_at lw_m2 154 rfl) rfl
theorem q463 : (Jvm.Cond.instanceMethod ({ cls := "FallsBetween$Leaner", name := "<init>", desc := "(III)V" } : Jvm.MethodName)) ∈ lw_all := lw_g (lw_at lw_m2 156 rfl) rfl
theorem q464 : (Jvm.Cond.code ({ cls := "FallsBetween$Leaner", name := "<init>", desc := "(III)V" } : Jvm.MethodName) prog_11_method_1_code (4 : Nat) (Option.none : Option Jvm.ClassFile.FieldType)) ∈ lw_all := lw_g (lw_at lw_m2 157 rfl) rfl
theorem q465 : (Jvm.Cond.methodLink "FallsBetween$Leaner" (1 : Nat) ({ cls := "FallsBetween$Tree", name := "<init>", desc := "(III)V" } : Jvm.MethodName)) ∈ lw_all := lw_g (lw_at lw_m2 158 rfl) rfl
theorem q466 : (Jvm.Cond.laysFinal "FallsBetween$Leaner" "FallsBetween$Tree" "square" "I") ∈ lw_all := lw_g (lw_at lw_m2 159 rfl) rfl
theorem q467 : (Jvm.Cond.laysFinal "FallsBetween$Leaner" "FallsBetween$Tree" "fruit" "I") ∈ lw_all := lw_g (lw_at lw_m2 160 rfl) rfl
theorem q468 : (Jvm.Cond.laysFinal "FallsBetween$Leaner" "FallsBetween$Tree" "leans" "I") ∈ lw_all := lw_g (lw_at lw_m2 161 rfl) rfl
theorem q469 : (Jvm.Cond.superclass "FallsBetween$Leaner" "FallsBetween$Tree") ∈ lw_all := lw_g (lw_at lw_m2 162 rfl) rfl
theorem q713 : (Jvm.Cond.selects "FallsBetween$Leaner" ({ cls := "FallsBetween$Tree", name := "kind", desc := "()I" } : Jvm.MethodName) ({ cls := "FallsBetween$Leaner", name := "kind", desc := "()I" } : Jvm.MethodName)) ∈ lw_all := lw_g (lw_at lw_m3 166 rfl) rfl
theorem q714 : (Jvm.Cond.instanceMethod ({ cls := "FallsBetween$Leaner", name := "kind", desc := "()I" } : Jvm.MethodName)) ∈ lw_all := lw_g (lw_at lw_m3 167 rfl) rfl
theorem q715 : (Jvm.Cond.code ({ cls := "FallsBetween$Leaner", name := "kind", desc := "()I" } : Jvm.MethodName) prog_11_method_2_code (1 : Nat) (Option.some Jvm.ClassFile.FieldType.int)) ∈ lw_all := lw_g (lw_at lw_m3 168 rfl) rfl
theorem q769 : (Jvm.Cond.selects "FallsBetween$Leaner" ({ cls := "FallsBetween$Tree", name := "own", desc := "()I" } : Jvm.MethodName) ({ cls := "FallsBetween$Leaner", name := "own", desc := "()I" } : Jvm.MethodName)) ∈ lw_all := lw_g (lw_at lw_m3 222 rfl) rfl
theorem q770 : (Jvm.Cond.instanceMethod ({ cls := "FallsBetween$Leaner", name := "own", desc := "()I" } : Jvm.MethodName)) ∈ lw_all := lw_g (lw_at lw_m3 223 rfl) rfl
theorem q771 : (Jvm.Cond.code ({ cls := "FallsBetween$Leaner", name := "own", desc := "()I" } : Jvm.MethodName) prog_11_method_3_code (1 : Nat) (Option.some Jvm.ClassFile.FieldType.int)) ∈ lw_all := lw_g (lw_at lw_m3 224 rfl) rfl
theorem q772 : (Jvm.Cond.methodLink "FallsBetween$Leaner" (7 : Nat) ({ cls := "FallsBetween$Tree", name := "own", desc := "()I" } : Jvm.MethodName)) ∈ lw_all := lw_g (lw_at lw_m3 225 rfl) rfl
theorem q786 : (Jvm.Cond.selects "FallsBetween$Leaner" ({ cls := "FallsBetween$Tree", name := "isBlown", desc := "()Z" } : Jvm.MethodName) ({ cls := "FallsBetween$Tree", name := "isBlown", desc := "()Z" } : Jvm.MethodName)) ∈ lw_all := lw_g (lw_at lw_m3 239 rfl) rfl
theorem q808 : (Jvm.Cond.selects "FallsBetween$Leaner" ({ cls := "FallsBetween$Tree", name := "rolls", desc := "()I" } : Jvm.MethodName) ({ cls := "FallsBetween$Tree", name := "rolls", desc := "()I" } : Jvm.MethodName)) ∈ lw_all := lw_g (lw_at lw_m4 21 rfl) rfl
theorem q829 : (Jvm.Cond.selects "FallsBetween$Leaner" ({ cls := "FallsBetween$Tree", name := "toSide", desc := "(I)I" } : Jvm.MethodName) ({ cls := "FallsBetween$Leaner", name := "toSide", desc := "(I)I" } : Jvm.MethodName)) ∈ lw_all := lw_g (lw_at lw_m4 42 rfl) rfl
theorem q830 : (Jvm.Cond.instanceMethod ({ cls := "FallsBetween$Leaner", name := "toSide", desc := "(I)I" } : Jvm.MethodName)) ∈ lw_all := lw_g (lw_at lw_m4 43 rfl) rfl
theorem q831 : (Jvm.Cond.code ({ cls := "FallsBetween$Leaner", name := "toSide", desc := "(I)I" } : Jvm.MethodName) prog_11_method_4_code (2 : Nat) (Option.some Jvm.ClassFile.FieldType.int)) ∈ lw_all := lw_g (lw_at lw_m4 44 rfl) rfl
theorem q832 : (Jvm.Cond.methodLink "FallsBetween$Leaner" (17 : Nat) ({ cls := "FallsBetween$Tree", name := "toSide", desc := "(I)I" } : Jvm.MethodName)) ∈ lw_all := lw_g (lw_at lw_m4 45 rfl) rfl
theorem q1401 : (Jvm.Cond.castable "FallsBetween$Leaner" "FallsBetween$Tree") ∈ lw_tbl := lw_at lw_m6 134 rfl
theorem in_X16 : ∀ w ∈ wsX160, w ∈ lw_all := lw_in wsX160 [466, 467, 468] (by decide +kernel) (by decide +kernel)

/-! FallsBetween$Apple -/
set_option maxRecDepth 100000
def RX17 : String := "FallsBetween$Apple"
def TX17 : u_T := fun k => match k with
  | 0 => ("FallsBetween$Tree", "square", "I", true)
  | 1 => ("FallsBetween$Tree", "fruit", "I", true)
  | _ => ("FallsBetween$Tree", "leans", "I", true)
def tyX17 : Nat → FieldType := fun k => match k with
  | 0 => .int
  | 1 => .int
  | _ => .int
abbrev wsX170 : List Cond := u_ws RX17 TX17 3
theorem nmX17 : ∀ a, a < 3 → ∀ b, b < 3 → a ≠ b → (TX17 a).2.1 ≠ (TX17 b).2.1 := by decide +kernel
theorem tyX17_ok : ∀ k, k < 3 → parseFieldDescriptor (TX17 k).2.2.1 = some (tyX17 k) := by decide +kernel
abbrev cX17_init : ByteArray := prog_2_method_1_code
def yX17_init : MethodName := ⟨RX17, "<init>", "(III)V"⟩
def dkwX17_init_0 : List UInt8 := [42, 27, 28, 29, 183, 0, 1, 177]
abbrev dktX17_init_0 : List UInt8 := dkwX17_init_0 ++ []
theorem dksX17_init_0 : cX17_init.data.toList.drop 0 = dktX17_init_0 := by decide +kernel
theorem dX17_init_0 : decode cX17_init 0 = .ok (.aload_n 0, 1) := dk_42 (dk_at dksX17_init_0 0 rfl rfl)
theorem dX17_init_1 : decode cX17_init 1 = .ok (.iload_n 1, 1) := dk_27 (dk_at dksX17_init_0 1 rfl rfl)
theorem dX17_init_2 : decode cX17_init 2 = .ok (.iload_n 2, 1) := dk_28 (dk_at dksX17_init_0 2 rfl rfl)
theorem dX17_init_3 : decode cX17_init 3 = .ok (.iload_n 3, 1) := dk_29 (dk_at dksX17_init_0 3 rfl rfl)
theorem dX17_init_4 : decode cX17_init 4 = .ok (.invokespecial 1, 3) := dk_183 0 1 (dk_at dksX17_init_0 4 rfl rfl)
theorem dX17_init_7 : decode cX17_init 7 = .ok (.return_, 1) := dk_177 (dk_at dksX17_init_0 7 rfl rfl)
abbrev cX17_kind : ByteArray := prog_2_method_2_code
def yX17_kind : MethodName := ⟨RX17, "kind", "()I"⟩
theorem dX17_kind_0 : decode cX17_kind 0 = .ok (.iconst 3, 1) := by decide +kernel
theorem dX17_kind_1 : decode cX17_kind 1 = .ok (.ireturn, 1) := by decide +kernel
abbrev cX17_rolls : ByteArray := prog_2_method_3_code
def yX17_rolls : MethodName := ⟨RX17, "rolls", "()I"⟩
def dkwX17_rolls_0 : List UInt8 := [4, 42, 183, 0, 7, 96, 172]
abbrev dktX17_rolls_0 : List UInt8 := dkwX17_rolls_0 ++ []
theorem dksX17_rolls_0 : cX17_rolls.data.toList.drop 0 = dktX17_rolls_0 := by decide +kernel
theorem dX17_rolls_0 : decode cX17_rolls 0 = .ok (.iconst 1, 1) := dk_4 (dk_at dksX17_rolls_0 0 rfl rfl)
theorem dX17_rolls_1 : decode cX17_rolls 1 = .ok (.aload_n 0, 1) := dk_42 (dk_at dksX17_rolls_0 1 rfl rfl)
theorem dX17_rolls_2 : decode cX17_rolls 2 = .ok (.invokespecial 7, 3) := dk_183 0 7 (dk_at dksX17_rolls_0 2 rfl rfl)
theorem dX17_rolls_5 : decode cX17_rolls 5 = .ok (.iadd, 1) := dk_96 (dk_at dksX17_rolls_0 5 rfl rfl)
theorem dX17_rolls_6 : decode cX17_rolls 6 = .ok (.ireturn, 1) := dk_172 (dk_at dksX17_rolls_0 6 rfl rfl)
theorem q88 : (Jvm.Cond.initialized "FallsBetween$Apple") ∈ lw_all := lw_g (lw_at lw_m1 21 rfl) rfl
theorem q471 : (Jvm.Cond.instantiable "FallsBetween$Apple" (3 : Nat)) ∈ lw_all := lw_g (lw_at lw_m2 164 rfl) rfl
theorem q473 : (Jvm.Cond.instanceMethod ({ cls := "FallsBetween$Apple", name := "<init>", desc := "(III)V" } : Jvm.MethodName)) ∈ lw_all := lw_g (lw_at lw_m2 166 rfl) rfl
theorem q474 : (Jvm.Cond.code ({ cls := "FallsBetween$Apple", name := "<init>", desc := "(III)V" } : Jvm.MethodName) prog_2_method_1_code (4 : Nat) (Option.none : Option Jvm.ClassFile.FieldType)) ∈ lw_all := lw_g (lw_at lw_m2 167 rfl) rfl
theorem q475 : (Jvm.Cond.methodLink "FallsBetween$Apple" (1 : Nat) ({ cls := "FallsBetween$Tree", name := "<init>", desc := "(III)V" } : Jvm.MethodName)) ∈ lw_all := lw_g (lw_at lw_m2 168 rfl) rfl
theorem q476 : (Jvm.Cond.laysFinal "FallsBetween$Apple" "FallsBetween$Tree" "square" "I") ∈ lw_all := lw_g (lw_at lw_m2 169 rfl) rfl
theorem q477 : (Jvm.Cond.laysFinal "FallsBetween$Apple" "FallsBetween$Tree" "fruit" "I") ∈ lw_all := lw_g (lw_at lw_m2 170 rfl) rfl
theorem q478 : (Jvm.Cond.laysFinal "FallsBetween$Apple" "FallsBetween$Tree" "leans" "I") ∈ lw_all := lw_g (lw_at lw_m2 171 rfl) rfl
theorem q479 : (Jvm.Cond.superclass "FallsBetween$Apple" "FallsBetween$Tree") ∈ lw_all := lw_g (lw_at lw_m2 172 rfl) rfl
theorem q707 : (Jvm.Cond.selects "FallsBetween$Apple" ({ cls := "FallsBetween$Tree", name := "kind", desc := "()I" } : Jvm.MethodName) ({ cls := "FallsBetween$Apple", name := "kind", desc := "()I" } : Jvm.MethodName)) ∈ lw_all := lw_g (lw_at lw_m3 160 rfl) rfl
theorem q708 : (Jvm.Cond.instanceMethod ({ cls := "FallsBetween$Apple", name := "kind", desc := "()I" } : Jvm.MethodName)) ∈ lw_all := lw_g (lw_at lw_m3 161 rfl) rfl
theorem q709 : (Jvm.Cond.code ({ cls := "FallsBetween$Apple", name := "kind", desc := "()I" } : Jvm.MethodName) prog_2_method_2_code (1 : Nat) (Option.some Jvm.ClassFile.FieldType.int)) ∈ lw_all := lw_g (lw_at lw_m3 162 rfl) rfl
theorem q764 : (Jvm.Cond.selects "FallsBetween$Apple" ({ cls := "FallsBetween$Tree", name := "own", desc := "()I" } : Jvm.MethodName) ({ cls := "FallsBetween$Tree", name := "own", desc := "()I" } : Jvm.MethodName)) ∈ lw_all := lw_g (lw_at lw_m3 217 rfl) rfl
theorem q784 : (Jvm.Cond.selects "FallsBetween$Apple" ({ cls := "FallsBetween$Tree", name := "isBlown", desc := "()Z" } : Jvm.MethodName) ({ cls := "FallsBetween$Tree", name := "isBlown", desc := "()Z" } : Jvm.MethodName)) ∈ lw_all := lw_g (lw_at lw_m3 237 rfl) rfl
theorem q803 : (Jvm.Cond.selects "FallsBetween$Apple" ({ cls := "FallsBetween$Tree", name := "rolls", desc := "()I" } : Jvm.MethodName) ({ cls := "FallsBetween$Apple", name := "rolls", desc := "()I" } : Jvm.MethodName)) ∈ lw_all := lw_g (lw_at lw_m4 16 rfl) rfl
theorem q804 : (Jvm.Cond.instanceMethod ({ cls := "FallsBetween$Apple", name := "rolls", desc := "()I" } : Jvm.MethodName)) ∈ lw_all := lw_g (lw_at lw_m4 17 rfl) rfl
theorem q805 : (Jvm.Cond.code ({ cls := "FallsBetween$Apple", name := "rolls", desc := "()I" } : Jvm.MethodName) prog_2_method_3_code (1 : Nat) (Option.some Jvm.ClassFile.FieldType.int)) ∈ lw_all := lw_g (lw_at lw_m4 18 rfl) rfl
theorem q806 : (Jvm.Cond.methodLink "FallsBetween$Apple" (7 : Nat) ({ cls := "FallsBetween$Tree", name := "rolls", desc := "()I" } : Jvm.MethodName)) ∈ lw_all := lw_g (lw_at lw_m4 19 rfl) rfl
theorem q824 : (Jvm.Cond.selects "FallsBetween$Apple" ({ cls := "FallsBetween$Tree", name := "toSide", desc := "(I)I" } : Jvm.MethodName) ({ cls := "FallsBetween$Tree", name := "toSide", desc := "(I)I" } : Jvm.MethodName)) ∈ lw_all := lw_g (lw_at lw_m4 37 rfl) rfl
theorem q1393 : (Jvm.Cond.sameMethod "FallsBetween$Apple" "FallsBetween$Apple" "rolls" "()I") ∈ lw_all := lw_g (lw_at lw_m6 126 rfl) rfl
theorem q1402 : (Jvm.Cond.castable "FallsBetween$Apple" "FallsBetween$Tree") ∈ lw_tbl := lw_at lw_m6 135 rfl
theorem in_X17 : ∀ w ∈ wsX170, w ∈ lw_all := lw_in wsX170 [476, 477, 478] (by decide +kernel) (by decide +kernel)

/-! FallsBetween$RoundApple -/
set_option maxRecDepth 100000
def RX18 : String := "FallsBetween$RoundApple"
def TX18 : u_T := fun k => match k with
  | 0 => ("FallsBetween$Tree", "square", "I", true)
  | 1 => ("FallsBetween$Tree", "fruit", "I", true)
  | _ => ("FallsBetween$Tree", "leans", "I", true)
def tyX18 : Nat → FieldType := fun k => match k with
  | 0 => .int
  | 1 => .int
  | _ => .int
abbrev wsX180 : List Cond := u_ws RX18 TX18 3
theorem nmX18 : ∀ a, a < 3 → ∀ b, b < 3 → a ≠ b → (TX18 a).2.1 ≠ (TX18 b).2.1 := by decide +kernel
theorem tyX18_ok : ∀ k, k < 3 → parseFieldDescriptor (TX18 k).2.2.1 = some (tyX18 k) := by decide +kernel
abbrev cX18_init : ByteArray := prog_18_method_1_code
def yX18_init : MethodName := ⟨RX18, "<init>", "(III)V"⟩
def dkwX18_init_0 : List UInt8 := [42, 27, 28, 29, 183, 0, 1, 177]
abbrev dktX18_init_0 : List UInt8 := dkwX18_init_0 ++ []
theorem dksX18_init_0 : cX18_init.data.toList.drop 0 = dktX18_init_0 := by decide +kernel
theorem dX18_init_0 : decode cX18_init 0 = .ok (.aload_n 0, 1) := dk_42 (dk_at dksX18_init_0 0 rfl rfl)
theorem dX18_init_1 : decode cX18_init 1 = .ok (.iload_n 1, 1) := dk_27 (dk_at dksX18_init_0 1 rfl rfl)
theorem dX18_init_2 : decode cX18_init 2 = .ok (.iload_n 2, 1) := dk_28 (dk_at dksX18_init_0 2 rfl rfl)
theorem dX18_init_3 : decode cX18_init 3 = .ok (.iload_n 3, 1) := dk_29 (dk_at dksX18_init_0 3 rfl rfl)
theorem dX18_init_4 : decode cX18_init 4 = .ok (.invokespecial 1, 3) := dk_183 0 1 (dk_at dksX18_init_0 4 rfl rfl)
theorem dX18_init_7 : decode cX18_init 7 = .ok (.return_, 1) := dk_177 (dk_at dksX18_init_0 7 rfl rfl)
abbrev cX18_kind : ByteArray := prog_18_method_2_code
def yX18_kind : MethodName := ⟨RX18, "kind", "()I"⟩
theorem dX18_kind_0 : decode cX18_kind 0 = .ok (.iconst 4, 1) := by decide +kernel
theorem dX18_kind_1 : decode cX18_kind 1 = .ok (.ireturn, 1) := by decide +kernel
abbrev cX18_rolls : ByteArray := prog_18_method_3_code
def yX18_rolls : MethodName := ⟨RX18, "rolls", "()I"⟩
def dkwX18_rolls_0 : List UInt8 := [4, 42, 183, 0, 7, 96, 172]
abbrev dktX18_rolls_0 : List UInt8 := dkwX18_rolls_0 ++ []
theorem dksX18_rolls_0 : cX18_rolls.data.toList.drop 0 = dktX18_rolls_0 := by decide +kernel
theorem dX18_rolls_0 : decode cX18_rolls 0 = .ok (.iconst 1, 1) := dk_4 (dk_at dksX18_rolls_0 0 rfl rfl)
theorem dX18_rolls_1 : decode cX18_rolls 1 = .ok (.aload_n 0, 1) := dk_42 (dk_at dksX18_rolls_0 1 rfl rfl)
theorem dX18_rolls_2 : decode cX18_rolls 2 = .ok (.invokespecial 7, 3) := dk_183 0 7 (dk_at dksX18_rolls_0 2 rfl rfl)
theorem dX18_rolls_5 : decode cX18_rolls 5 = .ok (.iadd, 1) := dk_96 (dk_at dksX18_rolls_0 5 rfl rfl)
theorem dX18_rolls_6 : decode cX18_rolls 6 = .ok (.ireturn, 1) := dk_172 (dk_at dksX18_rolls_0 6 rfl rfl)
theorem q89 : (Jvm.Cond.initialized "FallsBetween$RoundApple") ∈ lw_all := lw_g (lw_at lw_m1 22 rfl) rfl
theorem q481 : (Jvm.Cond.instantiable "FallsBetween$RoundApple" (3 : Nat)) ∈ lw_all := lw_g (lw_at lw_m2 174 rfl) rfl
theorem q483 : (Jvm.Cond.instanceMethod ({ cls := "FallsBetween$RoundApple", name := "<init>", desc := "(III)V" } : Jvm.MethodName)) ∈ lw_all := lw_g (lw_at lw_m2 176 rfl) rfl
theorem q484 : (Jvm.Cond.code ({ cls := "FallsBetween$RoundApple", name := "<init>", desc := "(III)V" } : Jvm.MethodName) prog_18_method_1_code (4 : Nat) (Option.none : Option Jvm.ClassFile.FieldType)) ∈ lw_all := lw_g (lw_at lw_m2 177 rfl) rfl
theorem q485 : (Jvm.Cond.methodLink "FallsBetween$RoundApple" (1 : Nat) ({ cls := "FallsBetween$Apple", name := "<init>", desc := "(III)V" } : Jvm.MethodName)) ∈ lw_all := lw_g (lw_at lw_m2 178 rfl) rfl
theorem q486 : (Jvm.Cond.laysFinal "FallsBetween$RoundApple" "FallsBetween$Tree" "square" "I") ∈ lw_all := lw_g (lw_at lw_m2 179 rfl) rfl
theorem q487 : (Jvm.Cond.laysFinal "FallsBetween$RoundApple" "FallsBetween$Tree" "fruit" "I") ∈ lw_all := lw_g (lw_at lw_m2 180 rfl) rfl
theorem q488 : (Jvm.Cond.laysFinal "FallsBetween$RoundApple" "FallsBetween$Tree" "leans" "I") ∈ lw_all := lw_g (lw_at lw_m2 181 rfl) rfl
theorem q489 : (Jvm.Cond.superclass "FallsBetween$RoundApple" "FallsBetween$Apple") ∈ lw_all := lw_g (lw_at lw_m2 182 rfl) rfl
theorem q716 : (Jvm.Cond.selects "FallsBetween$RoundApple" ({ cls := "FallsBetween$Tree", name := "kind", desc := "()I" } : Jvm.MethodName) ({ cls := "FallsBetween$RoundApple", name := "kind", desc := "()I" } : Jvm.MethodName)) ∈ lw_all := lw_g (lw_at lw_m3 169 rfl) rfl
theorem q717 : (Jvm.Cond.instanceMethod ({ cls := "FallsBetween$RoundApple", name := "kind", desc := "()I" } : Jvm.MethodName)) ∈ lw_all := lw_g (lw_at lw_m3 170 rfl) rfl
theorem q718 : (Jvm.Cond.code ({ cls := "FallsBetween$RoundApple", name := "kind", desc := "()I" } : Jvm.MethodName) prog_18_method_2_code (1 : Nat) (Option.some Jvm.ClassFile.FieldType.int)) ∈ lw_all := lw_g (lw_at lw_m3 171 rfl) rfl
theorem q773 : (Jvm.Cond.selects "FallsBetween$RoundApple" ({ cls := "FallsBetween$Tree", name := "own", desc := "()I" } : Jvm.MethodName) ({ cls := "FallsBetween$Tree", name := "own", desc := "()I" } : Jvm.MethodName)) ∈ lw_all := lw_g (lw_at lw_m3 226 rfl) rfl
theorem q787 : (Jvm.Cond.selects "FallsBetween$RoundApple" ({ cls := "FallsBetween$Tree", name := "isBlown", desc := "()Z" } : Jvm.MethodName) ({ cls := "FallsBetween$Tree", name := "isBlown", desc := "()Z" } : Jvm.MethodName)) ∈ lw_all := lw_g (lw_at lw_m4 0 rfl) rfl
theorem q809 : (Jvm.Cond.selects "FallsBetween$RoundApple" ({ cls := "FallsBetween$Tree", name := "rolls", desc := "()I" } : Jvm.MethodName) ({ cls := "FallsBetween$RoundApple", name := "rolls", desc := "()I" } : Jvm.MethodName)) ∈ lw_all := lw_g (lw_at lw_m4 22 rfl) rfl
theorem q810 : (Jvm.Cond.instanceMethod ({ cls := "FallsBetween$RoundApple", name := "rolls", desc := "()I" } : Jvm.MethodName)) ∈ lw_all := lw_g (lw_at lw_m4 23 rfl) rfl
theorem q811 : (Jvm.Cond.code ({ cls := "FallsBetween$RoundApple", name := "rolls", desc := "()I" } : Jvm.MethodName) prog_18_method_3_code (1 : Nat) (Option.some Jvm.ClassFile.FieldType.int)) ∈ lw_all := lw_g (lw_at lw_m4 24 rfl) rfl
theorem q812 : (Jvm.Cond.methodLink "FallsBetween$RoundApple" (7 : Nat) ({ cls := "FallsBetween$Apple", name := "rolls", desc := "()I" } : Jvm.MethodName)) ∈ lw_all := lw_g (lw_at lw_m4 25 rfl) rfl
theorem q833 : (Jvm.Cond.selects "FallsBetween$RoundApple" ({ cls := "FallsBetween$Tree", name := "toSide", desc := "(I)I" } : Jvm.MethodName) ({ cls := "FallsBetween$Tree", name := "toSide", desc := "(I)I" } : Jvm.MethodName)) ∈ lw_all := lw_g (lw_at lw_m4 46 rfl) rfl
theorem q1403 : (Jvm.Cond.castable "FallsBetween$RoundApple" "FallsBetween$Tree") ∈ lw_tbl := lw_at lw_m6 136 rfl
theorem in_X18 : ∀ w ∈ wsX180, w ∈ lw_all := lw_in wsX180 [486, 487, 488] (by decide +kernel) (by decide +kernel)

/-! FallsBetween$Still -/
set_option maxRecDepth 100000
def RX19 : String := "FallsBetween$Still"
def TX19 : u_T := fun k => match k with
  | 0 => ("FallsBetween$Tree", "square", "I", true)
  | 1 => ("FallsBetween$Tree", "fruit", "I", true)
  | _ => ("FallsBetween$Tree", "leans", "I", true)
def tyX19 : Nat → FieldType := fun k => match k with
  | 0 => .int
  | 1 => .int
  | _ => .int
abbrev wsX190 : List Cond := u_ws RX19 TX19 3
theorem nmX19 : ∀ a, a < 3 → ∀ b, b < 3 → a ≠ b → (TX19 a).2.1 ≠ (TX19 b).2.1 := by decide +kernel
theorem tyX19_ok : ∀ k, k < 3 → parseFieldDescriptor (TX19 k).2.2.1 = some (tyX19 k) := by decide +kernel
abbrev cX19_init : ByteArray := prog_20_method_1_code
def yX19_init : MethodName := ⟨RX19, "<init>", "(III)V"⟩
def dkwX19_init_0 : List UInt8 := [42, 27, 28, 29, 183, 0, 1, 177]
abbrev dktX19_init_0 : List UInt8 := dkwX19_init_0 ++ []
theorem dksX19_init_0 : cX19_init.data.toList.drop 0 = dktX19_init_0 := by decide +kernel
theorem dX19_init_0 : decode cX19_init 0 = .ok (.aload_n 0, 1) := dk_42 (dk_at dksX19_init_0 0 rfl rfl)
theorem dX19_init_1 : decode cX19_init 1 = .ok (.iload_n 1, 1) := dk_27 (dk_at dksX19_init_0 1 rfl rfl)
theorem dX19_init_2 : decode cX19_init 2 = .ok (.iload_n 2, 1) := dk_28 (dk_at dksX19_init_0 2 rfl rfl)
theorem dX19_init_3 : decode cX19_init 3 = .ok (.iload_n 3, 1) := dk_29 (dk_at dksX19_init_0 3 rfl rfl)
theorem dX19_init_4 : decode cX19_init 4 = .ok (.invokespecial 1, 3) := dk_183 0 1 (dk_at dksX19_init_0 4 rfl rfl)
theorem dX19_init_7 : decode cX19_init 7 = .ok (.return_, 1) := dk_177 (dk_at dksX19_init_0 7 rfl rfl)
abbrev cX19_kind : ByteArray := prog_20_method_2_code
def yX19_kind : MethodName := ⟨RX19, "kind", "()I"⟩
theorem dX19_kind_0 : decode cX19_kind 0 = .ok (.iconst 5, 1) := by decide +kernel
theorem dX19_kind_1 : decode cX19_kind 1 = .ok (.ireturn, 1) := by decide +kernel
abbrev cX19_isBlown : ByteArray := prog_20_method_3_code
def yX19_isBlown : MethodName := ⟨RX19, "isBlown", "()Z"⟩
def dkwX19_isBlown_0 : List UInt8 := [42, 183, 0, 7, 154, 0, 7, 4, 167, 0, 4, 3, 172]
abbrev dktX19_isBlown_0 : List UInt8 := dkwX19_isBlown_0 ++ []
theorem dksX19_isBlown_0 : cX19_isBlown.data.toList.drop 0 = dktX19_isBlown_0 := by decide +kernel
theorem dX19_isBlown_0 : decode cX19_isBlown 0 = .ok (.aload_n 0, 1) := dk_42 (dk_at dksX19_isBlown_0 0 rfl rfl)
theorem dX19_isBlown_1 : decode cX19_isBlown 1 = .ok (.invokespecial 7, 3) := dk_183 0 7 (dk_at dksX19_isBlown_0 1 rfl rfl)
theorem dX19_isBlown_4 : decode cX19_isBlown 4 = .ok (.ifCond .ne 7, 3) := dk_154 0 7 (dk_at dksX19_isBlown_0 4 rfl rfl)
theorem dX19_isBlown_7 : decode cX19_isBlown 7 = .ok (.iconst 1, 1) := dk_4 (dk_at dksX19_isBlown_0 7 rfl rfl)
theorem dX19_isBlown_8 : decode cX19_isBlown 8 = .ok (.goto 4, 3) := dk_167 0 4 (dk_at dksX19_isBlown_0 8 rfl rfl)
theorem dX19_isBlown_11 : decode cX19_isBlown 11 = .ok (.iconst 0, 1) := dk_3 (dk_at dksX19_isBlown_0 11 rfl rfl)
theorem dX19_isBlown_12 : decode cX19_isBlown 12 = .ok (.ireturn, 1) := dk_172 (dk_at dksX19_isBlown_0 12 rfl rfl)
theorem q90 : (Jvm.Cond.initialized "FallsBetween$Still") ∈ lw_all := lw_g (lw_at lw_m1 23 rfl) rfl
theorem q491 : (Jvm.Cond.instantiable "FallsBetween$Still" (3 : Nat)) ∈ lw_all := lw_g (lw_at lw_m2 184 rfl) rfl
theorem q493 : (Jvm.Cond.instanceMethod ({ cls := "FallsBetween$Still", name := "<init>", desc := "(III)V" } : Jvm.MethodName)) ∈ lw_all := lw_g (lw_at lw_m2 186 rfl) rfl
theorem q494 : (Jvm.Cond.code ({ cls := "FallsBetween$Still", name := "<init>", desc := "(III)V" } : Jvm.MethodName) prog_20_method_1_code (4 : Nat) (Option.none : Option Jvm.ClassFile.FieldType)) ∈ lw_all := lw_g (lw_at lw_m2 187 rfl) rfl
theorem q495 : (Jvm.Cond.methodLink "FallsBetween$Still" (1 : Nat) ({ cls := "FallsBetween$Damson", name := "<init>", desc := "(III)V" } : Jvm.MethodName)) ∈ lw_all := lw_g (lw_at lw_m2 188 rfl) rfl
theorem q496 : (Jvm.Cond.laysFinal "FallsBetween$Still" "FallsBetween$Tree" "square" "I") ∈ lw_all := lw_g (lw_at lw_m2 189 rfl) rfl
theorem q497 : (Jvm.Cond.laysFinal "FallsBetween$Still" "FallsBetween$Tree" "fruit" "I") ∈ lw_all := lw_g (lw_at lw_m2 190 rfl) rfl
theorem q498 : (Jvm.Cond.laysFinal "FallsBetween$Still" "FallsBetween$Tree" "leans" "I") ∈ lw_all := lw_g (lw_at lw_m2 191 rfl) rfl
theorem q499 : (Jvm.Cond.superclass "FallsBetween$Still" "FallsBetween$Damson") ∈ lw_all := lw_g (lw_at lw_m2 192 rfl) rfl
theorem q719 : (Jvm.Cond.selects "FallsBetween$Still" ({ cls := "FallsBetween$Tree", name := "kind", desc := "()I" } : Jvm.MethodName) ({ cls := "FallsBetween$Still", name := "kind", desc := "()I" } : Jvm.MethodName)) ∈ lw_all := lw_g (lw_at lw_m3 172 rfl) rfl
theorem q720 : (Jvm.Cond.instanceMethod ({ cls := "FallsBetween$Still", name := "kind", desc := "()I" } : Jvm.MethodName)) ∈ lw_all := lw_g (lw_at lw_m3 173 rfl) rfl
theorem q721 : (Jvm.Cond.code ({ cls := "FallsBetween$Still", name := "kind", desc := "()I" } : Jvm.MethodName) prog_20_method_2_code (1 : Nat) (Option.some Jvm.ClassFile.FieldType.int)) ∈ lw_all := lw_g (lw_at lw_m3 174 rfl) rfl
theorem q774 : (Jvm.Cond.selects "FallsBetween$Still" ({ cls := "FallsBetween$Tree", name := "own", desc := "()I" } : Jvm.MethodName) ({ cls := "FallsBetween$Damson", name := "own", desc := "()I" } : Jvm.MethodName)) ∈ lw_all := lw_g (lw_at lw_m3 227 rfl) rfl
theorem q788 : (Jvm.Cond.selects "FallsBetween$Still" ({ cls := "FallsBetween$Tree", name := "isBlown", desc := "()Z" } : Jvm.MethodName) ({ cls := "FallsBetween$Still", name := "isBlown", desc := "()Z" } : Jvm.MethodName)) ∈ lw_all := lw_g (lw_at lw_m4 1 rfl) rfl
theorem q789 : (Jvm.Cond.instanceMethod ({ cls := "FallsBetween$Still", name := "isBlown", desc := "()Z" } : Jvm.MethodName)) ∈ lw_all := lw_g (lw_at lw_m4 2 rfl) rfl
theorem q790 : (Jvm.Cond.code ({ cls := "FallsBetween$Still", name := "isBlown", desc := "()Z" } : Jvm.MethodName) prog_20_method_3_code (1 : Nat) (Option.some Jvm.ClassFile.FieldType.boolean)) ∈ lw_all := lw_g (lw_at lw_m4 3 rfl) rfl
theorem q791 : (Jvm.Cond.methodLink "FallsBetween$Still" (7 : Nat) ({ cls := "FallsBetween$Damson", name := "isBlown", desc := "()Z" } : Jvm.MethodName)) ∈ lw_all := lw_g (lw_at lw_m4 4 rfl) rfl
theorem q813 : (Jvm.Cond.selects "FallsBetween$Still" ({ cls := "FallsBetween$Tree", name := "rolls", desc := "()I" } : Jvm.MethodName) ({ cls := "FallsBetween$Tree", name := "rolls", desc := "()I" } : Jvm.MethodName)) ∈ lw_all := lw_g (lw_at lw_m4 26 rfl) rfl
theorem q834 : (Jvm.Cond.selects "FallsBetween$Still" ({ cls := "FallsBetween$Tree", name := "toSide", desc := "(I)I" } : Jvm.MethodName) ({ cls := "FallsBetween$Damson", name := "toSide", desc := "(I)I" } : Jvm.MethodName)) ∈ lw_all := lw_g (lw_at lw_m4 47 rfl) rfl
theorem q1404 : (Jvm.Cond.castable "FallsBetween$Still" "FallsBetween$Tree") ∈ lw_tbl := lw_at lw_m6 137 rfl
theorem in_X19 : ∀ w ∈ wsX190, w ∈ lw_all := lw_in wsX190 [496, 497, 498] (by decide +kernel) (by decide +kernel)

/-! FallsBetween$SquareTold -/
set_option maxRecDepth 100000
def RX20 : String := "FallsBetween$SquareTold"
def TX20 : u_T := fun k => match k with
  | 0 => ("FallsBetween$Told", "start", "I", true)
  | 1 => ("FallsBetween$SquareTold", "square", "I", true)
  | _ => ("FallsBetween$SquareTold", "v", "I", true)
def tyX20 : Nat → FieldType := fun k => match k with
  | 0 => .int
  | 1 => .int
  | _ => .int
abbrev wsX200 : List Cond := u_ws RX20 TX20 3
theorem nmX20 : ∀ a, a < 3 → ∀ b, b < 3 → a ≠ b → (TX20 a).2.1 ≠ (TX20 b).2.1 := by decide +kernel
theorem tyX20_ok : ∀ k, k < 3 → parseFieldDescriptor (TX20 k).2.2.1 = some (tyX20 k) := by decide +kernel
abbrev cX20_init : ByteArray := prog_19_method_1_code
def yX20_init : MethodName := ⟨RX20, "<init>", "(III)V"⟩
def dkwX20_init_0 : List UInt8 := [42, 27, 183, 0, 3, 42, 28, 181, 0, 9, 42, 29, 181, 0, 15, 177]
abbrev dktX20_init_0 : List UInt8 := dkwX20_init_0 ++ []
theorem dksX20_init_0 : cX20_init.data.toList.drop 0 = dktX20_init_0 := by decide +kernel
theorem dX20_init_0 : decode cX20_init 0 = .ok (.aload_n 0, 1) := dk_42 (dk_at dksX20_init_0 0 rfl rfl)
theorem dX20_init_1 : decode cX20_init 1 = .ok (.iload_n 1, 1) := dk_27 (dk_at dksX20_init_0 1 rfl rfl)
theorem dX20_init_2 : decode cX20_init 2 = .ok (.invokespecial 3, 3) := dk_183 0 3 (dk_at dksX20_init_0 2 rfl rfl)
theorem dX20_init_5 : decode cX20_init 5 = .ok (.aload_n 0, 1) := dk_42 (dk_at dksX20_init_0 5 rfl rfl)
theorem dX20_init_6 : decode cX20_init 6 = .ok (.iload_n 2, 1) := dk_28 (dk_at dksX20_init_0 6 rfl rfl)
theorem dX20_init_7 : decode cX20_init 7 = .ok (.putfield 9, 3) := dk_181 0 9 (dk_at dksX20_init_0 7 rfl rfl)
theorem dX20_init_10 : decode cX20_init 10 = .ok (.aload_n 0, 1) := dk_42 (dk_at dksX20_init_0 10 rfl rfl)
theorem dX20_init_11 : decode cX20_init 11 = .ok (.iload_n 3, 1) := dk_29 (dk_at dksX20_init_0 11 rfl rfl)
theorem dX20_init_12 : decode cX20_init 12 = .ok (.putfield 15, 3) := dk_181 0 15 (dk_at dksX20_init_0 12 rfl rfl)
theorem dX20_init_15 : decode cX20_init 15 = .ok (.return_, 1) := dk_177 (dk_at dksX20_init_0 15 rfl rfl)
abbrev cX20_comes : ByteArray := prog_19_method_4_code
def yX20_comes : MethodName := ⟨RX20, "comes", "(LFallsBetween$Town;)Z"⟩
def dkwX20_comes_0 : List UInt8 := [42, 182, 0, 24, 61, 28, 153, 0, 8, 42, 43, 182, 0, 28, 28, 172]
abbrev dktX20_comes_0 : List UInt8 := dkwX20_comes_0 ++ []
theorem dksX20_comes_0 : cX20_comes.data.toList.drop 0 = dktX20_comes_0 := by decide +kernel
theorem dX20_comes_0 : decode cX20_comes 0 = .ok (.aload_n 0, 1) := dk_42 (dk_at dksX20_comes_0 0 rfl rfl)
theorem dX20_comes_1 : decode cX20_comes 1 = .ok (.invokevirtual 24, 3) := dk_182 0 24 (dk_at dksX20_comes_0 1 rfl rfl)
theorem dX20_comes_4 : decode cX20_comes 4 = .ok (.istore_n 2, 1) := dk_61 (dk_at dksX20_comes_0 4 rfl rfl)
theorem dX20_comes_5 : decode cX20_comes 5 = .ok (.iload_n 2, 1) := dk_28 (dk_at dksX20_comes_0 5 rfl rfl)
theorem dX20_comes_6 : decode cX20_comes 6 = .ok (.ifCond .eq 8, 3) := dk_153 0 8 (dk_at dksX20_comes_0 6 rfl rfl)
theorem dX20_comes_9 : decode cX20_comes 9 = .ok (.aload_n 0, 1) := dk_42 (dk_at dksX20_comes_0 9 rfl rfl)
theorem dX20_comes_10 : decode cX20_comes 10 = .ok (.aload_n 1, 1) := dk_43 (dk_at dksX20_comes_0 10 rfl rfl)
theorem dX20_comes_11 : decode cX20_comes 11 = .ok (.invokevirtual 28, 3) := dk_182 0 28 (dk_at dksX20_comes_0 11 rfl rfl)
theorem dX20_comes_14 : decode cX20_comes 14 = .ok (.iload_n 2, 1) := dk_28 (dk_at dksX20_comes_0 14 rfl rfl)
theorem dX20_comes_15 : decode cX20_comes 15 = .ok (.ireturn, 1) := dk_172 (dk_at dksX20_comes_0 15 rfl rfl)
abbrev cX20_isGood : ByteArray := prog_19_method_2_code
def yX20_isGood : MethodName := ⟨RX20, "isGood", "()Z"⟩
def dkwX20_isGood_0 : List UInt8 := [42, 180, 0, 9, 16, 36, 162, 0, 7, 4, 167, 0, 4, 3, 172]
abbrev dktX20_isGood_0 : List UInt8 := dkwX20_isGood_0 ++ []
theorem dksX20_isGood_0 : cX20_isGood.data.toList.drop 0 = dktX20_isGood_0 := by decide +kernel
theorem dX20_isGood_0 : decode cX20_isGood 0 = .ok (.aload_n 0, 1) := dk_42 (dk_at dksX20_isGood_0 0 rfl rfl)
theorem dX20_isGood_1 : decode cX20_isGood 1 = .ok (.getfield 9, 3) := dk_180 0 9 (dk_at dksX20_isGood_0 1 rfl rfl)
theorem dX20_isGood_4 : decode cX20_isGood 4 = .ok (.bipush 36, 2) := dk_16 36 (dk_at dksX20_isGood_0 4 rfl rfl)
theorem dX20_isGood_6 : decode cX20_isGood 6 = .ok (.if_icmp .ge 7, 3) := dk_162 0 7 (dk_at dksX20_isGood_0 6 rfl rfl)
theorem dX20_isGood_9 : decode cX20_isGood 9 = .ok (.iconst 1, 1) := dk_4 (dk_at dksX20_isGood_0 9 rfl rfl)
theorem dX20_isGood_10 : decode cX20_isGood 10 = .ok (.goto 4, 3) := dk_167 0 4 (dk_at dksX20_isGood_0 10 rfl rfl)
theorem dX20_isGood_13 : decode cX20_isGood 13 = .ok (.iconst 0, 1) := dk_3 (dk_at dksX20_isGood_0 13 rfl rfl)
theorem dX20_isGood_14 : decode cX20_isGood 14 = .ok (.ireturn, 1) := dk_172 (dk_at dksX20_isGood_0 14 rfl rfl)
abbrev cX20_become : ByteArray := prog_19_method_3_code
def yX20_become : MethodName := ⟨RX20, "become", "(LFallsBetween$Town;)V"⟩
def dkwX20_become_0 : List UInt8 := [43, 180, 0, 18, 42, 180, 0, 9, 42, 180, 0, 15, 79, 177]
abbrev dktX20_become_0 : List UInt8 := dkwX20_become_0 ++ []
theorem dksX20_become_0 : cX20_become.data.toList.drop 0 = dktX20_become_0 := by decide +kernel
theorem dX20_become_0 : decode cX20_become 0 = .ok (.aload_n 1, 1) := dk_43 (dk_at dksX20_become_0 0 rfl rfl)
theorem dX20_become_1 : decode cX20_become 1 = .ok (.getfield 18, 3) := dk_180 0 18 (dk_at dksX20_become_0 1 rfl rfl)
theorem dX20_become_4 : decode cX20_become 4 = .ok (.aload_n 0, 1) := dk_42 (dk_at dksX20_become_0 4 rfl rfl)
theorem dX20_become_5 : decode cX20_become 5 = .ok (.getfield 9, 3) := dk_180 0 9 (dk_at dksX20_become_0 5 rfl rfl)
theorem dX20_become_8 : decode cX20_become 8 = .ok (.aload_n 0, 1) := dk_42 (dk_at dksX20_become_0 8 rfl rfl)
theorem dX20_become_9 : decode cX20_become 9 = .ok (.getfield 15, 3) := dk_180 0 15 (dk_at dksX20_become_0 9 rfl rfl)
theorem dX20_become_12 : decode cX20_become 12 = .ok (.iastore, 1) := dk_79 (dk_at dksX20_become_0 12 rfl rfl)
theorem dX20_become_13 : decode cX20_become 13 = .ok (.return_, 1) := dk_177 (dk_at dksX20_become_0 13 rfl rfl)
theorem q91 : (Jvm.Cond.initialized "FallsBetween$SquareTold") ∈ lw_all := lw_g (lw_at lw_m1 24 rfl) rfl
theorem q159 : (Jvm.Cond.fieldLinkNest "FallsBetween$SquareTold" (18 : Nat) "FallsBetween$Town" "heights" "[I" "FallsBetween") ∈ lw_tbl := lw_at lw_m1 92 rfl
theorem q524 : (Jvm.Cond.instanceMethod ({ cls := "FallsBetween$SquareTold", name := "<init>", desc := "(III)V" } : Jvm.MethodName)) ∈ lw_all := lw_g (lw_at lw_m2 217 rfl) rfl
theorem q525 : (Jvm.Cond.code ({ cls := "FallsBetween$SquareTold", name := "<init>", desc := "(III)V" } : Jvm.MethodName) prog_19_method_1_code (4 : Nat) (Option.none : Option Jvm.ClassFile.FieldType)) ∈ lw_all := lw_g (lw_at lw_m2 218 rfl) rfl
theorem q526 : (Jvm.Cond.methodLink "FallsBetween$SquareTold" (3 : Nat) ({ cls := "FallsBetween$Told", name := "<init>", desc := "(I)V" } : Jvm.MethodName)) ∈ lw_all := lw_g (lw_at lw_m2 219 rfl) rfl
theorem q527 : (Jvm.Cond.fieldLink "FallsBetween$SquareTold" (9 : Nat) "FallsBetween$SquareTold" "square" "I") ∈ lw_all := lw_g (lw_at lw_m2 220 rfl) rfl
theorem q534 : (Jvm.Cond.fieldLink "FallsBetween$SquareTold" (15 : Nat) "FallsBetween$SquareTold" "v" "I") ∈ lw_all := lw_g (lw_at lw_m2 227 rfl) rfl
theorem q540 : (Jvm.Cond.soleField "FallsBetween$SquareTold" "square") ∈ lw_all := lw_g (lw_at lw_m2 233 rfl) rfl
theorem q542 : (Jvm.Cond.soleField "FallsBetween$SquareTold" "v") ∈ lw_all := lw_g (lw_at lw_m2 235 rfl) rfl
theorem q577 : (Jvm.Cond.instantiable "FallsBetween$SquareTold" (3 : Nat)) ∈ lw_all := lw_g (lw_at lw_m3 30 rfl) rfl
theorem q579 : (Jvm.Cond.laysFinal "FallsBetween$SquareTold" "FallsBetween$SquareTold" "square" "I") ∈ lw_all := lw_g (lw_at lw_m3 32 rfl) rfl
theorem q580 : (Jvm.Cond.laysFinal "FallsBetween$SquareTold" "FallsBetween$SquareTold" "v" "I") ∈ lw_all := lw_g (lw_at lw_m3 33 rfl) rfl
theorem q581 : (Jvm.Cond.laysFinal "FallsBetween$SquareTold" "FallsBetween$Told" "start" "I") ∈ lw_all := lw_g (lw_at lw_m3 34 rfl) rfl
theorem q582 : (Jvm.Cond.superclass "FallsBetween$SquareTold" "FallsBetween$Told") ∈ lw_all := lw_g (lw_at lw_m3 35 rfl) rfl
theorem q594 : (Jvm.Cond.instanceMethod ({ cls := "FallsBetween$SquareTold", name := "comes", desc := "(LFallsBetween$Town;)Z" } : Jvm.MethodName)) ∈ lw_all := lw_g (lw_at lw_m3 47 rfl) rfl
theorem q595 : (Jvm.Cond.code ({ cls := "FallsBetween$SquareTold", name := "comes", desc := "(LFallsBetween$Town;)Z" } : Jvm.MethodName) prog_19_method_4_code (3 : Nat) (Option.some Jvm.ClassFile.FieldType.boolean)) ∈ lw_all := lw_g (lw_at lw_m3 48 rfl) rfl
theorem q596 : (Jvm.Cond.methodLink "FallsBetween$SquareTold" (24 : Nat) ({ cls := "FallsBetween$SquareTold", name := "isGood", desc := "()Z" } : Jvm.MethodName)) ∈ lw_all := lw_g (lw_at lw_m3 49 rfl) rfl
theorem q597 : (Jvm.Cond.instanceMethod ({ cls := "FallsBetween$SquareTold", name := "isGood", desc := "()Z" } : Jvm.MethodName)) ∈ lw_all := lw_g (lw_at lw_m3 50 rfl) rfl
theorem q598 : (Jvm.Cond.selects "FallsBetween$SquareTold" ({ cls := "FallsBetween$SquareTold", name := "isGood", desc := "()Z" } : Jvm.MethodName) ({ cls := "FallsBetween$SquareTold", name := "isGood", desc := "()Z" } : Jvm.MethodName)) ∈ lw_all := lw_g (lw_at lw_m3 51 rfl) rfl
theorem q599 : (Jvm.Cond.sameMethod "FallsBetween$SquareTold" "FallsBetween$SquareTold" "isGood" "()Z") ∈ lw_all := lw_g (lw_at lw_m3 52 rfl) rfl
theorem q609 : (Jvm.Cond.code ({ cls := "FallsBetween$SquareTold", name := "isGood", desc := "()Z" } : Jvm.MethodName) prog_19_method_2_code (1 : Nat) (Option.some Jvm.ClassFile.FieldType.boolean)) ∈ lw_all := lw_g (lw_at lw_m3 62 rfl) rfl
theorem q610 : (Jvm.Cond.methodLink "FallsBetween$SquareTold" (28 : Nat) ({ cls := "FallsBetween$SquareTold", name := "become", desc := "(LFallsBetween$Town;)V" } : Jvm.MethodName)) ∈ lw_all := lw_g (lw_at lw_m3 63 rfl) rfl
theorem q611 : (Jvm.Cond.instanceMethod ({ cls := "FallsBetween$SquareTold", name := "become", desc := "(LFallsBetween$Town;)V" } : Jvm.MethodName)) ∈ lw_all := lw_g (lw_at lw_m3 64 rfl) rfl
theorem q612 : (Jvm.Cond.selects "FallsBetween$SquareTold" ({ cls := "FallsBetween$SquareTold", name := "become", desc := "(LFallsBetween$Town;)V" } : Jvm.MethodName) ({ cls := "FallsBetween$SquareTold", name := "become", desc := "(LFallsBetween$Town;)V" } : Jvm.MethodName)) ∈ lw_all := lw_g (lw_at lw_m3 65 rfl) rfl
theorem q613 : (Jvm.Cond.sameMethod "FallsBetween$SquareTold" "FallsBetween$SquareTold" "become" "(LFallsBetween$Town;)V") ∈ lw_all := lw_g (lw_at lw_m3 66 rfl) rfl
theorem q623 : (Jvm.Cond.code ({ cls := "FallsBetween$SquareTold", name := "become", desc := "(LFallsBetween$Town;)V" } : Jvm.MethodName) prog_19_method_3_code (2 : Nat) (Option.none : Option Jvm.ClassFile.FieldType)) ∈ lw_all := lw_g (lw_at lw_m3 76 rfl) rfl
theorem q631 : (Jvm.Cond.selects "FallsBetween$SquareTold" ({ cls := "FallsBetween$Told", name := "comes", desc := "(LFallsBetween$Town;)Z" } : Jvm.MethodName) ({ cls := "FallsBetween$SquareTold", name := "comes", desc := "(LFallsBetween$Town;)Z" } : Jvm.MethodName)) ∈ lw_all := lw_g (lw_at lw_m3 84 rfl) rfl
theorem q1410 : (Jvm.Cond.castable "FallsBetween$SquareTold" "FallsBetween$Told") ∈ lw_tbl := lw_at lw_m6 143 rfl
theorem in_X20 : ∀ w ∈ wsX200, w ∈ lw_all := lw_in wsX200 [581, 579, 580] (by decide +kernel) (by decide +kernel)

/-! FallsBetween$GardenTold -/
set_option maxRecDepth 100000
def RX21 : String := "FallsBetween$GardenTold"
def TX21 : u_T := fun k => match k with
  | 0 => ("FallsBetween$Told", "start", "I", true)
  | 1 => ("FallsBetween$SquareTold", "square", "I", true)
  | _ => ("FallsBetween$SquareTold", "v", "I", true)
def tyX21 : Nat → FieldType := fun k => match k with
  | 0 => .int
  | 1 => .int
  | _ => .int
abbrev wsX210 : List Cond := u_ws RX21 TX21 3
theorem nmX21 : ∀ a, a < 3 → ∀ b, b < 3 → a ≠ b → (TX21 a).2.1 ≠ (TX21 b).2.1 := by decide +kernel
theorem tyX21_ok : ∀ k, k < 3 → parseFieldDescriptor (TX21 k).2.2.1 = some (tyX21 k) := by decide +kernel
abbrev cX21_init : ByteArray := prog_9_method_1_code
def yX21_init : MethodName := ⟨RX21, "<init>", "(III)V"⟩
def dkwX21_init_0 : List UInt8 := [42, 27, 28, 29, 183, 0, 3, 177]
abbrev dktX21_init_0 : List UInt8 := dkwX21_init_0 ++ []
theorem dksX21_init_0 : cX21_init.data.toList.drop 0 = dktX21_init_0 := by decide +kernel
theorem dX21_init_0 : decode cX21_init 0 = .ok (.aload_n 0, 1) := dk_42 (dk_at dksX21_init_0 0 rfl rfl)
theorem dX21_init_1 : decode cX21_init 1 = .ok (.iload_n 1, 1) := dk_27 (dk_at dksX21_init_0 1 rfl rfl)
theorem dX21_init_2 : decode cX21_init 2 = .ok (.iload_n 2, 1) := dk_28 (dk_at dksX21_init_0 2 rfl rfl)
theorem dX21_init_3 : decode cX21_init 3 = .ok (.iload_n 3, 1) := dk_29 (dk_at dksX21_init_0 3 rfl rfl)
theorem dX21_init_4 : decode cX21_init 4 = .ok (.invokespecial 3, 3) := dk_183 0 3 (dk_at dksX21_init_0 4 rfl rfl)
theorem dX21_init_7 : decode cX21_init 7 = .ok (.return_, 1) := dk_177 (dk_at dksX21_init_0 7 rfl rfl)
abbrev cX21_isGood : ByteArray := prog_9_method_2_code
def yX21_isGood : MethodName := ⟨RX21, "isGood", "()Z"⟩
def dkwX21_isGood_0 : List UInt8 := [42, 183, 0, 9, 153, 0, 15, 42, 180, 0, 13, 7, 162, 0, 7, 4, 167, 0, 4, 3, 172]
abbrev dktX21_isGood_0 : List UInt8 := dkwX21_isGood_0 ++ []
theorem dksX21_isGood_0 : cX21_isGood.data.toList.drop 0 = dktX21_isGood_0 := by decide +kernel
theorem dX21_isGood_0 : decode cX21_isGood 0 = .ok (.aload_n 0, 1) := dk_42 (dk_at dksX21_isGood_0 0 rfl rfl)
theorem dX21_isGood_1 : decode cX21_isGood 1 = .ok (.invokespecial 9, 3) := dk_183 0 9 (dk_at dksX21_isGood_0 1 rfl rfl)
theorem dX21_isGood_4 : decode cX21_isGood 4 = .ok (.ifCond .eq 15, 3) := dk_153 0 15 (dk_at dksX21_isGood_0 4 rfl rfl)
theorem dX21_isGood_7 : decode cX21_isGood 7 = .ok (.aload_n 0, 1) := dk_42 (dk_at dksX21_isGood_0 7 rfl rfl)
theorem dX21_isGood_8 : decode cX21_isGood 8 = .ok (.getfield 13, 3) := dk_180 0 13 (dk_at dksX21_isGood_0 8 rfl rfl)
theorem dX21_isGood_11 : decode cX21_isGood 11 = .ok (.iconst 4, 1) := dk_7 (dk_at dksX21_isGood_0 11 rfl rfl)
theorem dX21_isGood_12 : decode cX21_isGood 12 = .ok (.if_icmp .ge 7, 3) := dk_162 0 7 (dk_at dksX21_isGood_0 12 rfl rfl)
theorem dX21_isGood_15 : decode cX21_isGood 15 = .ok (.iconst 1, 1) := dk_4 (dk_at dksX21_isGood_0 15 rfl rfl)
theorem dX21_isGood_16 : decode cX21_isGood 16 = .ok (.goto 4, 3) := dk_167 0 4 (dk_at dksX21_isGood_0 16 rfl rfl)
theorem dX21_isGood_19 : decode cX21_isGood 19 = .ok (.iconst 0, 1) := dk_3 (dk_at dksX21_isGood_0 19 rfl rfl)
theorem dX21_isGood_20 : decode cX21_isGood 20 = .ok (.ireturn, 1) := dk_172 (dk_at dksX21_isGood_0 20 rfl rfl)
abbrev cX21_become : ByteArray := prog_9_method_3_code
def yX21_become : MethodName := ⟨RX21, "become", "(LFallsBetween$Town;)V"⟩
def dkwX21_become_0 : List UInt8 := [43, 180, 0, 19, 42, 180, 0, 25, 42, 180, 0, 13, 79, 177]
abbrev dktX21_become_0 : List UInt8 := dkwX21_become_0 ++ []
theorem dksX21_become_0 : cX21_become.data.toList.drop 0 = dktX21_become_0 := by decide +kernel
theorem dX21_become_0 : decode cX21_become 0 = .ok (.aload_n 1, 1) := dk_43 (dk_at dksX21_become_0 0 rfl rfl)
theorem dX21_become_1 : decode cX21_become 1 = .ok (.getfield 19, 3) := dk_180 0 19 (dk_at dksX21_become_0 1 rfl rfl)
theorem dX21_become_4 : decode cX21_become 4 = .ok (.aload_n 0, 1) := dk_42 (dk_at dksX21_become_0 4 rfl rfl)
theorem dX21_become_5 : decode cX21_become 5 = .ok (.getfield 25, 3) := dk_180 0 25 (dk_at dksX21_become_0 5 rfl rfl)
theorem dX21_become_8 : decode cX21_become 8 = .ok (.aload_n 0, 1) := dk_42 (dk_at dksX21_become_0 8 rfl rfl)
theorem dX21_become_9 : decode cX21_become 9 = .ok (.getfield 13, 3) := dk_180 0 13 (dk_at dksX21_become_0 9 rfl rfl)
theorem dX21_become_12 : decode cX21_become 12 = .ok (.iastore, 1) := dk_79 (dk_at dksX21_become_0 12 rfl rfl)
theorem dX21_become_13 : decode cX21_become 13 = .ok (.return_, 1) := dk_177 (dk_at dksX21_become_0 13 rfl rfl)
theorem q92 : (Jvm.Cond.initialized "FallsBetween$GardenTold") ∈ lw_all := lw_g (lw_at lw_m1 25 rfl) rfl
theorem q154 : (Jvm.Cond.fieldLinkNest "FallsBetween$GardenTold" (19 : Nat) "FallsBetween$Town" "gardens" "[I" "FallsBetween") ∈ lw_tbl := lw_at lw_m1 87 rfl
theorem q521 : (Jvm.Cond.instanceMethod ({ cls := "FallsBetween$GardenTold", name := "<init>", desc := "(III)V" } : Jvm.MethodName)) ∈ lw_all := lw_g (lw_at lw_m2 214 rfl) rfl
theorem q522 : (Jvm.Cond.code ({ cls := "FallsBetween$GardenTold", name := "<init>", desc := "(III)V" } : Jvm.MethodName) prog_9_method_1_code (4 : Nat) (Option.none : Option Jvm.ClassFile.FieldType)) ∈ lw_all := lw_g (lw_at lw_m2 215 rfl) rfl
theorem q523 : (Jvm.Cond.methodLink "FallsBetween$GardenTold" (3 : Nat) ({ cls := "FallsBetween$SquareTold", name := "<init>", desc := "(III)V" } : Jvm.MethodName)) ∈ lw_all := lw_g (lw_at lw_m2 216 rfl) rfl
theorem q532 : (Jvm.Cond.fieldLink "FallsBetween$GardenTold" (25 : Nat) "FallsBetween$GardenTold" "square" "I") ∈ lw_all := lw_g (lw_at lw_m2 225 rfl) rfl
theorem q533 : (Jvm.Cond.sameField "FallsBetween$GardenTold" "FallsBetween$SquareTold" "square" "I") ∈ lw_all := lw_g (lw_at lw_m2 226 rfl) rfl
theorem q535 : (Jvm.Cond.fieldLink "FallsBetween$GardenTold" (13 : Nat) "FallsBetween$GardenTold" "v" "I") ∈ lw_all := lw_g (lw_at lw_m2 228 rfl) rfl
theorem q536 : (Jvm.Cond.sameField "FallsBetween$GardenTold" "FallsBetween$SquareTold" "v" "I") ∈ lw_all := lw_g (lw_at lw_m2 229 rfl) rfl
theorem q570 : (Jvm.Cond.instantiable "FallsBetween$GardenTold" (3 : Nat)) ∈ lw_all := lw_g (lw_at lw_m3 23 rfl) rfl
theorem q572 : (Jvm.Cond.laysFinal "FallsBetween$GardenTold" "FallsBetween$SquareTold" "square" "I") ∈ lw_all := lw_g (lw_at lw_m3 25 rfl) rfl
theorem q573 : (Jvm.Cond.laysFinal "FallsBetween$GardenTold" "FallsBetween$SquareTold" "v" "I") ∈ lw_all := lw_g (lw_at lw_m3 26 rfl) rfl
theorem q574 : (Jvm.Cond.laysFinal "FallsBetween$GardenTold" "FallsBetween$Told" "start" "I") ∈ lw_all := lw_g (lw_at lw_m3 27 rfl) rfl
theorem q575 : (Jvm.Cond.superclass "FallsBetween$GardenTold" "FallsBetween$SquareTold") ∈ lw_all := lw_g (lw_at lw_m3 28 rfl) rfl
theorem q604 : (Jvm.Cond.instanceMethod ({ cls := "FallsBetween$GardenTold", name := "isGood", desc := "()Z" } : Jvm.MethodName)) ∈ lw_all := lw_g (lw_at lw_m3 57 rfl) rfl
theorem q605 : (Jvm.Cond.code ({ cls := "FallsBetween$GardenTold", name := "isGood", desc := "()Z" } : Jvm.MethodName) prog_9_method_2_code (1 : Nat) (Option.some Jvm.ClassFile.FieldType.boolean)) ∈ lw_all := lw_g (lw_at lw_m3 58 rfl) rfl
theorem q606 : (Jvm.Cond.methodLink "FallsBetween$GardenTold" (9 : Nat) ({ cls := "FallsBetween$SquareTold", name := "isGood", desc := "()Z" } : Jvm.MethodName)) ∈ lw_all := lw_g (lw_at lw_m3 59 rfl) rfl
theorem q607 : (Jvm.Cond.selects "FallsBetween$GardenTold" ({ cls := "FallsBetween$SquareTold", name := "isGood", desc := "()Z" } : Jvm.MethodName) ({ cls := "FallsBetween$GardenTold", name := "isGood", desc := "()Z" } : Jvm.MethodName)) ∈ lw_all := lw_g (lw_at lw_m3 60 rfl) rfl
theorem q617 : (Jvm.Cond.selects "FallsBetween$GardenTold" ({ cls := "FallsBetween$SquareTold", name := "become", desc := "(LFallsBetween$Town;)V" } : Jvm.MethodName) ({ cls := "FallsBetween$GardenTold", name := "become", desc := "(LFallsBetween$Town;)V" } : Jvm.MethodName)) ∈ lw_all := lw_g (lw_at lw_m3 70 rfl) rfl
theorem q618 : (Jvm.Cond.instanceMethod ({ cls := "FallsBetween$GardenTold", name := "become", desc := "(LFallsBetween$Town;)V" } : Jvm.MethodName)) ∈ lw_all := lw_g (lw_at lw_m3 71 rfl) rfl
theorem q619 : (Jvm.Cond.code ({ cls := "FallsBetween$GardenTold", name := "become", desc := "(LFallsBetween$Town;)V" } : Jvm.MethodName) prog_9_method_3_code (2 : Nat) (Option.none : Option Jvm.ClassFile.FieldType)) ∈ lw_all := lw_g (lw_at lw_m3 72 rfl) rfl
theorem q624 : (Jvm.Cond.selects "FallsBetween$GardenTold" ({ cls := "FallsBetween$Told", name := "comes", desc := "(LFallsBetween$Town;)Z" } : Jvm.MethodName) ({ cls := "FallsBetween$SquareTold", name := "comes", desc := "(LFallsBetween$Town;)Z" } : Jvm.MethodName)) ∈ lw_all := lw_g (lw_at lw_m3 77 rfl) rfl
theorem q1390 : (Jvm.Cond.sameMethod "FallsBetween$GardenTold" "FallsBetween$GardenTold" "isGood" "()Z") ∈ lw_all := lw_g (lw_at lw_m6 123 rfl) rfl
theorem q1409 : (Jvm.Cond.castable "FallsBetween$GardenTold" "FallsBetween$Told") ∈ lw_tbl := lw_at lw_m6 142 rfl
theorem in_X21 : ∀ w ∈ wsX210, w ∈ lw_all := lw_in wsX210 [574, 572, 573] (by decide +kernel) (by decide +kernel)

/-! FallsBetween$ColumnTold -/
set_option maxRecDepth 100000
def RX22 : String := "FallsBetween$ColumnTold"
def TX22 : u_T := fun k => match k with
  | 0 => ("FallsBetween$Told", "start", "I", true)
  | 1 => ("FallsBetween$SquareTold", "square", "I", true)
  | _ => ("FallsBetween$SquareTold", "v", "I", true)
def tyX22 : Nat → FieldType := fun k => match k with
  | 0 => .int
  | 1 => .int
  | _ => .int
abbrev wsX220 : List Cond := u_ws RX22 TX22 3
theorem nmX22 : ∀ a, a < 3 → ∀ b, b < 3 → a ≠ b → (TX22 a).2.1 ≠ (TX22 b).2.1 := by decide +kernel
theorem tyX22_ok : ∀ k, k < 3 → parseFieldDescriptor (TX22 k).2.2.1 = some (tyX22 k) := by decide +kernel
abbrev cX22_init : ByteArray := prog_4_method_1_code
def yX22_init : MethodName := ⟨RX22, "<init>", "(III)V"⟩
def dkwX22_init_0 : List UInt8 := [42, 27, 28, 29, 183, 0, 3, 177]
abbrev dktX22_init_0 : List UInt8 := dkwX22_init_0 ++ []
theorem dksX22_init_0 : cX22_init.data.toList.drop 0 = dktX22_init_0 := by decide +kernel
theorem dX22_init_0 : decode cX22_init 0 = .ok (.aload_n 0, 1) := dk_42 (dk_at dksX22_init_0 0 rfl rfl)
theorem dX22_init_1 : decode cX22_init 1 = .ok (.iload_n 1, 1) := dk_27 (dk_at dksX22_init_0 1 rfl rfl)
theorem dX22_init_2 : decode cX22_init 2 = .ok (.iload_n 2, 1) := dk_28 (dk_at dksX22_init_0 2 rfl rfl)
theorem dX22_init_3 : decode cX22_init 3 = .ok (.iload_n 3, 1) := dk_29 (dk_at dksX22_init_0 3 rfl rfl)
theorem dX22_init_4 : decode cX22_init 4 = .ok (.invokespecial 3, 3) := dk_183 0 3 (dk_at dksX22_init_0 4 rfl rfl)
theorem dX22_init_7 : decode cX22_init 7 = .ok (.return_, 1) := dk_177 (dk_at dksX22_init_0 7 rfl rfl)
abbrev cX22_isGood : ByteArray := prog_4_method_2_code
def yX22_isGood : MethodName := ⟨RX22, "isGood", "()Z"⟩
def dkwX22_isGood_0 : List UInt8 := [42, 183, 0, 9, 153, 0, 16, 42, 180, 0, 13, 16, 6, 162, 0, 7, 4, 167, 0, 4, 3, 172]
abbrev dktX22_isGood_0 : List UInt8 := dkwX22_isGood_0 ++ []
theorem dksX22_isGood_0 : cX22_isGood.data.toList.drop 0 = dktX22_isGood_0 := by decide +kernel
theorem dX22_isGood_0 : decode cX22_isGood 0 = .ok (.aload_n 0, 1) := dk_42 (dk_at dksX22_isGood_0 0 rfl rfl)
theorem dX22_isGood_1 : decode cX22_isGood 1 = .ok (.invokespecial 9, 3) := dk_183 0 9 (dk_at dksX22_isGood_0 1 rfl rfl)
theorem dX22_isGood_4 : decode cX22_isGood 4 = .ok (.ifCond .eq 16, 3) := dk_153 0 16 (dk_at dksX22_isGood_0 4 rfl rfl)
theorem dX22_isGood_7 : decode cX22_isGood 7 = .ok (.aload_n 0, 1) := dk_42 (dk_at dksX22_isGood_0 7 rfl rfl)
theorem dX22_isGood_8 : decode cX22_isGood 8 = .ok (.getfield 13, 3) := dk_180 0 13 (dk_at dksX22_isGood_0 8 rfl rfl)
theorem dX22_isGood_11 : decode cX22_isGood 11 = .ok (.bipush 6, 2) := dk_16 6 (dk_at dksX22_isGood_0 11 rfl rfl)
theorem dX22_isGood_13 : decode cX22_isGood 13 = .ok (.if_icmp .ge 7, 3) := dk_162 0 7 (dk_at dksX22_isGood_0 13 rfl rfl)
theorem dX22_isGood_16 : decode cX22_isGood 16 = .ok (.iconst 1, 1) := dk_4 (dk_at dksX22_isGood_0 16 rfl rfl)
theorem dX22_isGood_17 : decode cX22_isGood 17 = .ok (.goto 4, 3) := dk_167 0 4 (dk_at dksX22_isGood_0 17 rfl rfl)
theorem dX22_isGood_20 : decode cX22_isGood 20 = .ok (.iconst 0, 1) := dk_3 (dk_at dksX22_isGood_0 20 rfl rfl)
theorem dX22_isGood_21 : decode cX22_isGood 21 = .ok (.ireturn, 1) := dk_172 (dk_at dksX22_isGood_0 21 rfl rfl)
abbrev cX22_become : ByteArray := prog_4_method_3_code
def yX22_become : MethodName := ⟨RX22, "become", "(LFallsBetween$Town;)V"⟩
def dkwX22_become_1 : List UInt8 := [167, 255, 237, 177]
abbrev dktX22_become_1 : List UInt8 := dkwX22_become_1 ++ []
def dkwX22_become_0 : List UInt8 := [42, 180, 0, 13, 61, 28, 16, 36, 162, 0, 19, 43, 180, 0, 19, 28, 42, 180, 0, 25, 79, 132, 2, 6]
abbrev dktX22_become_0 : List UInt8 := dkwX22_become_0 ++ dktX22_become_1
theorem dksX22_become_0 : cX22_become.data.toList.drop 0 = dktX22_become_0 := by decide +kernel
theorem dksX22_become_1 : cX22_become.data.toList.drop 24 = dktX22_become_1 := dk_seg dksX22_become_0 24 rfl rfl
theorem dX22_become_0 : decode cX22_become 0 = .ok (.aload_n 0, 1) := dk_42 (dk_at dksX22_become_0 0 rfl rfl)
theorem dX22_become_1 : decode cX22_become 1 = .ok (.getfield 13, 3) := dk_180 0 13 (dk_at dksX22_become_0 1 rfl rfl)
theorem dX22_become_4 : decode cX22_become 4 = .ok (.istore_n 2, 1) := dk_61 (dk_at dksX22_become_0 4 rfl rfl)
theorem dX22_become_5 : decode cX22_become 5 = .ok (.iload_n 2, 1) := dk_28 (dk_at dksX22_become_0 5 rfl rfl)
theorem dX22_become_6 : decode cX22_become 6 = .ok (.bipush 36, 2) := dk_16 36 (dk_at dksX22_become_0 6 rfl rfl)
theorem dX22_become_8 : decode cX22_become 8 = .ok (.if_icmp .ge 19, 3) := dk_162 0 19 (dk_at dksX22_become_0 8 rfl rfl)
theorem dX22_become_11 : decode cX22_become 11 = .ok (.aload_n 1, 1) := dk_43 (dk_at dksX22_become_0 11 rfl rfl)
theorem dX22_become_12 : decode cX22_become 12 = .ok (.getfield 19, 3) := dk_180 0 19 (dk_at dksX22_become_0 12 rfl rfl)
theorem dX22_become_15 : decode cX22_become 15 = .ok (.iload_n 2, 1) := dk_28 (dk_at dksX22_become_0 15 rfl rfl)
theorem dX22_become_16 : decode cX22_become 16 = .ok (.aload_n 0, 1) := dk_42 (dk_at dksX22_become_0 16 rfl rfl)
theorem dX22_become_17 : decode cX22_become 17 = .ok (.getfield 25, 3) := dk_180 0 25 (dk_at dksX22_become_0 17 rfl rfl)
theorem dX22_become_20 : decode cX22_become 20 = .ok (.iastore, 1) := dk_79 (dk_at dksX22_become_0 20 rfl rfl)
theorem dX22_become_21 : decode cX22_become 21 = .ok (.iinc 2 6, 3) := dk_132 2 6 (dk_at dksX22_become_0 21 rfl rfl)
theorem dX22_become_24 : decode cX22_become 24 = .ok (.goto (-19), 3) := dk_167 255 237 (dk_at dksX22_become_1 0 rfl rfl)
theorem dX22_become_27 : decode cX22_become 27 = .ok (.return_, 1) := dk_177 (dk_at dksX22_become_1 3 rfl rfl)
theorem q93 : (Jvm.Cond.initialized "FallsBetween$ColumnTold") ∈ lw_all := lw_g (lw_at lw_m1 26 rfl) rfl
theorem q155 : (Jvm.Cond.fieldLinkNest "FallsBetween$ColumnTold" (19 : Nat) "FallsBetween$Town" "gardens" "[I" "FallsBetween") ∈ lw_tbl := lw_at lw_m1 88 rfl
theorem q516 : (Jvm.Cond.instantiable "FallsBetween$ColumnTold" (3 : Nat)) ∈ lw_all := lw_g (lw_at lw_m2 209 rfl) rfl
theorem q518 : (Jvm.Cond.instanceMethod ({ cls := "FallsBetween$ColumnTold", name := "<init>", desc := "(III)V" } : Jvm.MethodName)) ∈ lw_all := lw_g (lw_at lw_m2 211 rfl) rfl
theorem q519 : (Jvm.Cond.code ({ cls := "FallsBetween$ColumnTold", name := "<init>", desc := "(III)V" } : Jvm.MethodName) prog_4_method_1_code (4 : Nat) (Option.none : Option Jvm.ClassFile.FieldType)) ∈ lw_all := lw_g (lw_at lw_m2 212 rfl) rfl
theorem q520 : (Jvm.Cond.methodLink "FallsBetween$ColumnTold" (3 : Nat) ({ cls := "FallsBetween$GardenTold", name := "<init>", desc := "(III)V" } : Jvm.MethodName)) ∈ lw_all := lw_g (lw_at lw_m2 213 rfl) rfl
theorem q530 : (Jvm.Cond.fieldLink "FallsBetween$ColumnTold" (13 : Nat) "FallsBetween$ColumnTold" "square" "I") ∈ lw_all := lw_g (lw_at lw_m2 223 rfl) rfl
theorem q531 : (Jvm.Cond.sameField "FallsBetween$ColumnTold" "FallsBetween$SquareTold" "square" "I") ∈ lw_all := lw_g (lw_at lw_m2 224 rfl) rfl
theorem q537 : (Jvm.Cond.fieldLink "FallsBetween$ColumnTold" (25 : Nat) "FallsBetween$ColumnTold" "v" "I") ∈ lw_all := lw_g (lw_at lw_m2 230 rfl) rfl
theorem q538 : (Jvm.Cond.sameField "FallsBetween$ColumnTold" "FallsBetween$SquareTold" "v" "I") ∈ lw_all := lw_g (lw_at lw_m2 231 rfl) rfl
theorem q539 : (Jvm.Cond.laysFinal "FallsBetween$ColumnTold" "FallsBetween$SquareTold" "square" "I") ∈ lw_all := lw_g (lw_at lw_m2 232 rfl) rfl
theorem q541 : (Jvm.Cond.laysFinal "FallsBetween$ColumnTold" "FallsBetween$SquareTold" "v" "I") ∈ lw_all := lw_g (lw_at lw_m2 234 rfl) rfl
theorem q543 : (Jvm.Cond.laysFinal "FallsBetween$ColumnTold" "FallsBetween$Told" "start" "I") ∈ lw_all := lw_g (lw_at lw_m2 236 rfl) rfl
theorem q544 : (Jvm.Cond.superclass "FallsBetween$ColumnTold" "FallsBetween$GardenTold") ∈ lw_all := lw_g (lw_at lw_m2 237 rfl) rfl
theorem q593 : (Jvm.Cond.selects "FallsBetween$ColumnTold" ({ cls := "FallsBetween$Told", name := "comes", desc := "(LFallsBetween$Town;)Z" } : Jvm.MethodName) ({ cls := "FallsBetween$SquareTold", name := "comes", desc := "(LFallsBetween$Town;)Z" } : Jvm.MethodName)) ∈ lw_all := lw_g (lw_at lw_m3 46 rfl) rfl
theorem q600 : (Jvm.Cond.selects "FallsBetween$ColumnTold" ({ cls := "FallsBetween$SquareTold", name := "isGood", desc := "()Z" } : Jvm.MethodName) ({ cls := "FallsBetween$ColumnTold", name := "isGood", desc := "()Z" } : Jvm.MethodName)) ∈ lw_all := lw_g (lw_at lw_m3 53 rfl) rfl
theorem q601 : (Jvm.Cond.instanceMethod ({ cls := "FallsBetween$ColumnTold", name := "isGood", desc := "()Z" } : Jvm.MethodName)) ∈ lw_all := lw_g (lw_at lw_m3 54 rfl) rfl
theorem q602 : (Jvm.Cond.code ({ cls := "FallsBetween$ColumnTold", name := "isGood", desc := "()Z" } : Jvm.MethodName) prog_4_method_2_code (1 : Nat) (Option.some Jvm.ClassFile.FieldType.boolean)) ∈ lw_all := lw_g (lw_at lw_m3 55 rfl) rfl
theorem q603 : (Jvm.Cond.methodLink "FallsBetween$ColumnTold" (9 : Nat) ({ cls := "FallsBetween$GardenTold", name := "isGood", desc := "()Z" } : Jvm.MethodName)) ∈ lw_all := lw_g (lw_at lw_m3 56 rfl) rfl
theorem q614 : (Jvm.Cond.selects "FallsBetween$ColumnTold" ({ cls := "FallsBetween$SquareTold", name := "become", desc := "(LFallsBetween$Town;)V" } : Jvm.MethodName) ({ cls := "FallsBetween$ColumnTold", name := "become", desc := "(LFallsBetween$Town;)V" } : Jvm.MethodName)) ∈ lw_all := lw_g (lw_at lw_m3 67 rfl) rfl
theorem q615 : (Jvm.Cond.instanceMethod ({ cls := "FallsBetween$ColumnTold", name := "become", desc := "(LFallsBetween$Town;)V" } : Jvm.MethodName)) ∈ lw_all := lw_g (lw_at lw_m3 68 rfl) rfl
theorem q616 : (Jvm.Cond.code ({ cls := "FallsBetween$ColumnTold", name := "become", desc := "(LFallsBetween$Town;)V" } : Jvm.MethodName) prog_4_method_3_code (3 : Nat) (Option.none : Option Jvm.ClassFile.FieldType)) ∈ lw_all := lw_g (lw_at lw_m3 69 rfl) rfl
theorem q1406 : (Jvm.Cond.castable "FallsBetween$ColumnTold" "FallsBetween$Told") ∈ lw_tbl := lw_at lw_m6 139 rfl
theorem in_X22 : ∀ w ∈ wsX220, w ∈ lw_all := lw_in wsX220 [543, 539, 541] (by decide +kernel) (by decide +kernel)

/-! FallsBetween$NumberTold -/
set_option maxRecDepth 100000
def RX23 : String := "FallsBetween$NumberTold"
def TX23 : u_T := fun k => match k with
  | 0 => ("FallsBetween$Told", "start", "I", true)
  | 1 => ("FallsBetween$NumberTold", "isLaw", "Z", true)
  | _ => ("FallsBetween$NumberTold", "v", "I", true)
def tyX23 : Nat → FieldType := fun k => match k with
  | 0 => .int
  | 1 => .boolean
  | _ => .int
abbrev wsX230 : List Cond := u_ws RX23 TX23 3
theorem nmX23 : ∀ a, a < 3 → ∀ b, b < 3 → a ≠ b → (TX23 a).2.1 ≠ (TX23 b).2.1 := by decide +kernel
theorem tyX23_ok : ∀ k, k < 3 → parseFieldDescriptor (TX23 k).2.2.1 = some (tyX23 k) := by decide +kernel
abbrev cX23_init : ByteArray := prog_14_method_1_code
def yX23_init : MethodName := ⟨RX23, "<init>", "(IZI)V"⟩
def dkwX23_init_0 : List UInt8 := [42, 27, 183, 0, 1, 42, 28, 181, 0, 7, 42, 29, 181, 0, 13, 177]
abbrev dktX23_init_0 : List UInt8 := dkwX23_init_0 ++ []
theorem dksX23_init_0 : cX23_init.data.toList.drop 0 = dktX23_init_0 := by decide +kernel
theorem dX23_init_0 : decode cX23_init 0 = .ok (.aload_n 0, 1) := dk_42 (dk_at dksX23_init_0 0 rfl rfl)
theorem dX23_init_1 : decode cX23_init 1 = .ok (.iload_n 1, 1) := dk_27 (dk_at dksX23_init_0 1 rfl rfl)
theorem dX23_init_2 : decode cX23_init 2 = .ok (.invokespecial 1, 3) := dk_183 0 1 (dk_at dksX23_init_0 2 rfl rfl)
theorem dX23_init_5 : decode cX23_init 5 = .ok (.aload_n 0, 1) := dk_42 (dk_at dksX23_init_0 5 rfl rfl)
theorem dX23_init_6 : decode cX23_init 6 = .ok (.iload_n 2, 1) := dk_28 (dk_at dksX23_init_0 6 rfl rfl)
theorem dX23_init_7 : decode cX23_init 7 = .ok (.putfield 7, 3) := dk_181 0 7 (dk_at dksX23_init_0 7 rfl rfl)
theorem dX23_init_10 : decode cX23_init 10 = .ok (.aload_n 0, 1) := dk_42 (dk_at dksX23_init_0 10 rfl rfl)
theorem dX23_init_11 : decode cX23_init 11 = .ok (.iload_n 3, 1) := dk_29 (dk_at dksX23_init_0 11 rfl rfl)
theorem dX23_init_12 : decode cX23_init 12 = .ok (.putfield 13, 3) := dk_181 0 13 (dk_at dksX23_init_0 12 rfl rfl)
theorem dX23_init_15 : decode cX23_init 15 = .ok (.return_, 1) := dk_177 (dk_at dksX23_init_0 15 rfl rfl)
abbrev cX23_comes : ByteArray := prog_14_method_2_code
def yX23_comes : MethodName := ⟨RX23, "comes", "(LFallsBetween$Town;)Z"⟩
def dkwX23_comes_5 : List UInt8 := [167, 0, 7, 43, 180, 0, 34, 181, 0, 34, 28, 172]
abbrev dktX23_comes_5 : List UInt8 := dkwX23_comes_5 ++ []
def dkwX23_comes_4 : List UInt8 := [154, 0, 27, 28, 153, 0, 23, 7, 42, 180, 0, 13, 16, 10, 108, 104, 42, 180, 0, 13, 16, 10, 112, 96]
abbrev dktX23_comes_4 : List UInt8 := dkwX23_comes_4 ++ dktX23_comes_5
def dkwX23_comes_3 : List UInt8 := [28, 153, 0, 10, 42, 180, 0, 13, 167, 0, 7, 43, 180, 0, 31, 181, 0, 31, 43, 42, 180, 0, 7]
abbrev dktX23_comes_3 : List UInt8 := dkwX23_comes_3 ++ dktX23_comes_4
def dkwX23_comes_2 : List UInt8 := [180, 0, 13, 16, 10, 112, 7, 162, 0, 7, 4, 167, 0, 4, 3, 61, 43, 42, 180, 0, 7, 153, 0, 14]
abbrev dktX23_comes_2 : List UInt8 := dkwX23_comes_2 ++ dktX23_comes_3
def dkwX23_comes_1 : List UInt8 := [167, 0, 37, 42, 180, 0, 13, 16, 10, 108, 133, 9, 20, 0, 23, 184, 0, 25, 153, 0, 18, 42]
abbrev dktX23_comes_1 : List UInt8 := dkwX23_comes_1 ++ dktX23_comes_2
def dkwX23_comes_0 : List UInt8 := [42, 180, 0, 7, 153, 0, 23, 42, 180, 0, 13, 43, 180, 0, 17, 190, 162, 0, 7, 4, 167, 0, 41, 3]
abbrev dktX23_comes_0 : List UInt8 := dkwX23_comes_0 ++ dktX23_comes_1
theorem dksX23_comes_0 : cX23_comes.data.toList.drop 0 = dktX23_comes_0 := by decide +kernel
theorem dksX23_comes_1 : cX23_comes.data.toList.drop 24 = dktX23_comes_1 := dk_seg dksX23_comes_0 24 rfl rfl
theorem dksX23_comes_2 : cX23_comes.data.toList.drop 46 = dktX23_comes_2 := dk_seg dksX23_comes_1 22 rfl rfl
theorem dksX23_comes_3 : cX23_comes.data.toList.drop 70 = dktX23_comes_3 := dk_seg dksX23_comes_2 24 rfl rfl
theorem dksX23_comes_4 : cX23_comes.data.toList.drop 93 = dktX23_comes_4 := dk_seg dksX23_comes_3 23 rfl rfl
theorem dksX23_comes_5 : cX23_comes.data.toList.drop 117 = dktX23_comes_5 := dk_seg dksX23_comes_4 24 rfl rfl
theorem dX23_comes_0 : decode cX23_comes 0 = .ok (.aload_n 0, 1) := dk_42 (dk_at dksX23_comes_0 0 rfl rfl)
theorem dX23_comes_1 : decode cX23_comes 1 = .ok (.getfield 7, 3) := dk_180 0 7 (dk_at dksX23_comes_0 1 rfl rfl)
theorem dX23_comes_4 : decode cX23_comes 4 = .ok (.ifCond .eq 23, 3) := dk_153 0 23 (dk_at dksX23_comes_0 4 rfl rfl)
theorem dX23_comes_7 : decode cX23_comes 7 = .ok (.aload_n 0, 1) := dk_42 (dk_at dksX23_comes_0 7 rfl rfl)
theorem dX23_comes_8 : decode cX23_comes 8 = .ok (.getfield 13, 3) := dk_180 0 13 (dk_at dksX23_comes_0 8 rfl rfl)
theorem dX23_comes_11 : decode cX23_comes 11 = .ok (.aload_n 1, 1) := dk_43 (dk_at dksX23_comes_0 11 rfl rfl)
theorem dX23_comes_12 : decode cX23_comes 12 = .ok (.getfield 17, 3) := dk_180 0 17 (dk_at dksX23_comes_0 12 rfl rfl)
theorem dX23_comes_15 : decode cX23_comes 15 = .ok (.arraylength, 1) := dk_190 (dk_at dksX23_comes_0 15 rfl rfl)
theorem dX23_comes_16 : decode cX23_comes 16 = .ok (.if_icmp .ge 7, 3) := dk_162 0 7 (dk_at dksX23_comes_0 16 rfl rfl)
theorem dX23_comes_19 : decode cX23_comes 19 = .ok (.iconst 1, 1) := dk_4 (dk_at dksX23_comes_0 19 rfl rfl)
theorem dX23_comes_20 : decode cX23_comes 20 = .ok (.goto 41, 3) := dk_167 0 41 (dk_at dksX23_comes_0 20 rfl rfl)
theorem dX23_comes_23 : decode cX23_comes 23 = .ok (.iconst 0, 1) := dk_3 (dk_at dksX23_comes_0 23 rfl rfl)
theorem dX23_comes_24 : decode cX23_comes 24 = .ok (.goto 37, 3) := dk_167 0 37 (dk_at dksX23_comes_1 0 rfl rfl)
theorem dX23_comes_27 : decode cX23_comes 27 = .ok (.aload_n 0, 1) := dk_42 (dk_at dksX23_comes_1 3 rfl rfl)
theorem dX23_comes_28 : decode cX23_comes 28 = .ok (.getfield 13, 3) := dk_180 0 13 (dk_at dksX23_comes_1 4 rfl rfl)
theorem dX23_comes_31 : decode cX23_comes 31 = .ok (.bipush 10, 2) := dk_16 10 (dk_at dksX23_comes_1 7 rfl rfl)
theorem dX23_comes_33 : decode cX23_comes 33 = .ok (.idiv, 1) := dk_108 (dk_at dksX23_comes_1 9 rfl rfl)
theorem dX23_comes_34 : decode cX23_comes 34 = .ok (.i2l, 1) := dk_133 (dk_at dksX23_comes_1 10 rfl rfl)
theorem dX23_comes_35 : decode cX23_comes 35 = .ok (.lconst 0, 1) := dk_9 (dk_at dksX23_comes_1 11 rfl rfl)
theorem dX23_comes_36 : decode cX23_comes 36 = .ok (.ldc2_w 23, 3) := dk_20 0 23 (dk_at dksX23_comes_1 12 rfl rfl)
theorem dX23_comes_39 : decode cX23_comes 39 = .ok (.invokestatic 25, 3) := dk_184 0 25 (dk_at dksX23_comes_1 15 rfl rfl)
theorem dX23_comes_42 : decode cX23_comes 42 = .ok (.ifCond .eq 18, 3) := dk_153 0 18 (dk_at dksX23_comes_1 18 rfl rfl)
theorem dX23_comes_45 : decode cX23_comes 45 = .ok (.aload_n 0, 1) := dk_42 (dk_at dksX23_comes_1 21 rfl rfl)
theorem dX23_comes_46 : decode cX23_comes 46 = .ok (.getfield 13, 3) := dk_180 0 13 (dk_at dksX23_comes_2 0 rfl rfl)
theorem dX23_comes_49 : decode cX23_comes 49 = .ok (.bipush 10, 2) := dk_16 10 (dk_at dksX23_comes_2 3 rfl rfl)
theorem dX23_comes_51 : decode cX23_comes 51 = .ok (.irem, 1) := dk_112 (dk_at dksX23_comes_2 5 rfl rfl)
theorem dX23_comes_52 : decode cX23_comes 52 = .ok (.iconst 4, 1) := dk_7 (dk_at dksX23_comes_2 6 rfl rfl)
theorem dX23_comes_53 : decode cX23_comes 53 = .ok (.if_icmp .ge 7, 3) := dk_162 0 7 (dk_at dksX23_comes_2 7 rfl rfl)
theorem dX23_comes_56 : decode cX23_comes 56 = .ok (.iconst 1, 1) := dk_4 (dk_at dksX23_comes_2 10 rfl rfl)
theorem dX23_comes_57 : decode cX23_comes 57 = .ok (.goto 4, 3) := dk_167 0 4 (dk_at dksX23_comes_2 11 rfl rfl)
theorem dX23_comes_60 : decode cX23_comes 60 = .ok (.iconst 0, 1) := dk_3 (dk_at dksX23_comes_2 14 rfl rfl)
theorem dX23_comes_61 : decode cX23_comes 61 = .ok (.istore_n 2, 1) := dk_61 (dk_at dksX23_comes_2 15 rfl rfl)
theorem dX23_comes_62 : decode cX23_comes 62 = .ok (.aload_n 1, 1) := dk_43 (dk_at dksX23_comes_2 16 rfl rfl)
theorem dX23_comes_63 : decode cX23_comes 63 = .ok (.aload_n 0, 1) := dk_42 (dk_at dksX23_comes_2 17 rfl rfl)
theorem dX23_comes_64 : decode cX23_comes 64 = .ok (.getfield 7, 3) := dk_180 0 7 (dk_at dksX23_comes_2 18 rfl rfl)
theorem dX23_comes_67 : decode cX23_comes 67 = .ok (.ifCond .eq 14, 3) := dk_153 0 14 (dk_at dksX23_comes_2 21 rfl rfl)
theorem dX23_comes_70 : decode cX23_comes 70 = .ok (.iload_n 2, 1) := dk_28 (dk_at dksX23_comes_3 0 rfl rfl)
theorem dX23_comes_71 : decode cX23_comes 71 = .ok (.ifCond .eq 10, 3) := dk_153 0 10 (dk_at dksX23_comes_3 1 rfl rfl)
theorem dX23_comes_74 : decode cX23_comes 74 = .ok (.aload_n 0, 1) := dk_42 (dk_at dksX23_comes_3 4 rfl rfl)
theorem dX23_comes_75 : decode cX23_comes 75 = .ok (.getfield 13, 3) := dk_180 0 13 (dk_at dksX23_comes_3 5 rfl rfl)
theorem dX23_comes_78 : decode cX23_comes 78 = .ok (.goto 7, 3) := dk_167 0 7 (dk_at dksX23_comes_3 8 rfl rfl)
theorem dX23_comes_81 : decode cX23_comes 81 = .ok (.aload_n 1, 1) := dk_43 (dk_at dksX23_comes_3 11 rfl rfl)
theorem dX23_comes_82 : decode cX23_comes 82 = .ok (.getfield 31, 3) := dk_180 0 31 (dk_at dksX23_comes_3 12 rfl rfl)
theorem dX23_comes_85 : decode cX23_comes 85 = .ok (.putfield 31, 3) := dk_181 0 31 (dk_at dksX23_comes_3 15 rfl rfl)
theorem dX23_comes_88 : decode cX23_comes 88 = .ok (.aload_n 1, 1) := dk_43 (dk_at dksX23_comes_3 18 rfl rfl)
theorem dX23_comes_89 : decode cX23_comes 89 = .ok (.aload_n 0, 1) := dk_42 (dk_at dksX23_comes_3 19 rfl rfl)
theorem dX23_comes_90 : decode cX23_comes 90 = .ok (.getfield 7, 3) := dk_180 0 7 (dk_at dksX23_comes_3 20 rfl rfl)
theorem dX23_comes_93 : decode cX23_comes 93 = .ok (.ifCond .ne 27, 3) := dk_154 0 27 (dk_at dksX23_comes_4 0 rfl rfl)
theorem dX23_comes_96 : decode cX23_comes 96 = .ok (.iload_n 2, 1) := dk_28 (dk_at dksX23_comes_4 3 rfl rfl)
theorem dX23_comes_97 : decode cX23_comes 97 = .ok (.ifCond .eq 23, 3) := dk_153 0 23 (dk_at dksX23_comes_4 4 rfl rfl)
theorem dX23_comes_100 : decode cX23_comes 100 = .ok (.iconst 4, 1) := dk_7 (dk_at dksX23_comes_4 7 rfl rfl)
theorem dX23_comes_101 : decode cX23_comes 101 = .ok (.aload_n 0, 1) := dk_42 (dk_at dksX23_comes_4 8 rfl rfl)
theorem dX23_comes_102 : decode cX23_comes 102 = .ok (.getfield 13, 3) := dk_180 0 13 (dk_at dksX23_comes_4 9 rfl rfl)
theorem dX23_comes_105 : decode cX23_comes 105 = .ok (.bipush 10, 2) := dk_16 10 (dk_at dksX23_comes_4 12 rfl rfl)
theorem dX23_comes_107 : decode cX23_comes 107 = .ok (.idiv, 1) := dk_108 (dk_at dksX23_comes_4 14 rfl rfl)
theorem dX23_comes_108 : decode cX23_comes 108 = .ok (.imul, 1) := dk_104 (dk_at dksX23_comes_4 15 rfl rfl)
theorem dX23_comes_109 : decode cX23_comes 109 = .ok (.aload_n 0, 1) := dk_42 (dk_at dksX23_comes_4 16 rfl rfl)
theorem dX23_comes_110 : decode cX23_comes 110 = .ok (.getfield 13, 3) := dk_180 0 13 (dk_at dksX23_comes_4 17 rfl rfl)
theorem dX23_comes_113 : decode cX23_comes 113 = .ok (.bipush 10, 2) := dk_16 10 (dk_at dksX23_comes_4 20 rfl rfl)
theorem dX23_comes_115 : decode cX23_comes 115 = .ok (.irem, 1) := dk_112 (dk_at dksX23_comes_4 22 rfl rfl)
theorem dX23_comes_116 : decode cX23_comes 116 = .ok (.iadd, 1) := dk_96 (dk_at dksX23_comes_4 23 rfl rfl)
theorem dX23_comes_117 : decode cX23_comes 117 = .ok (.goto 7, 3) := dk_167 0 7 (dk_at dksX23_comes_5 0 rfl rfl)
theorem dX23_comes_120 : decode cX23_comes 120 = .ok (.aload_n 1, 1) := dk_43 (dk_at dksX23_comes_5 3 rfl rfl)
theorem dX23_comes_121 : decode cX23_comes 121 = .ok (.getfield 34, 3) := dk_180 0 34 (dk_at dksX23_comes_5 4 rfl rfl)
theorem dX23_comes_124 : decode cX23_comes 124 = .ok (.putfield 34, 3) := dk_181 0 34 (dk_at dksX23_comes_5 7 rfl rfl)
theorem dX23_comes_127 : decode cX23_comes 127 = .ok (.iload_n 2, 1) := dk_28 (dk_at dksX23_comes_5 10 rfl rfl)
theorem dX23_comes_128 : decode cX23_comes 128 = .ok (.ireturn, 1) := dk_172 (dk_at dksX23_comes_5 11 rfl rfl)
theorem q94 : (Jvm.Cond.initialized "FallsBetween$NumberTold") ∈ lw_all := lw_g (lw_at lw_m1 27 rfl) rfl
theorem q151 : (Jvm.Cond.fieldLinkNest "FallsBetween$NumberTold" (17 : Nat) "FallsBetween$Town" "laws" "[LFallsBetween$Law;" "FallsBetween") ∈ lw_tbl := lw_at lw_m1 84 rfl
theorem q171 : (Jvm.Cond.fieldLinkNest "FallsBetween$NumberTold" (34 : Nat) "FallsBetween$Town" "wind" "I" "FallsBetween") ∈ lw_tbl := lw_at lw_m1 104 rfl
theorem q174 : (Jvm.Cond.fieldLinkNest "FallsBetween$NumberTold" (31 : Nat) "FallsBetween$Town" "law" "I" "FallsBetween") ∈ lw_tbl := lw_at lw_m1 107 rfl
theorem q546 : (Jvm.Cond.instantiable "FallsBetween$NumberTold" (3 : Nat)) ∈ lw_all := lw_g (lw_at lw_m2 239 rfl) rfl
theorem q548 : (Jvm.Cond.instanceMethod ({ cls := "FallsBetween$NumberTold", name := "<init>", desc := "(IZI)V" } : Jvm.MethodName)) ∈ lw_all := lw_g (lw_at lw_m3 1 rfl) rfl
theorem q549 : (Jvm.Cond.code ({ cls := "FallsBetween$NumberTold", name := "<init>", desc := "(IZI)V" } : Jvm.MethodName) prog_14_method_1_code (4 : Nat) (Option.none : Option Jvm.ClassFile.FieldType)) ∈ lw_all := lw_g (lw_at lw_m3 2 rfl) rfl
theorem q550 : (Jvm.Cond.methodLink "FallsBetween$NumberTold" (1 : Nat) ({ cls := "FallsBetween$Told", name := "<init>", desc := "(I)V" } : Jvm.MethodName)) ∈ lw_all := lw_g (lw_at lw_m3 3 rfl) rfl
theorem q551 : (Jvm.Cond.fieldLink "FallsBetween$NumberTold" (7 : Nat) "FallsBetween$NumberTold" "isLaw" "Z") ∈ lw_all := lw_g (lw_at lw_m3 4 rfl) rfl
theorem q552 : (Jvm.Cond.fieldLink "FallsBetween$NumberTold" (13 : Nat) "FallsBetween$NumberTold" "v" "I") ∈ lw_all := lw_g (lw_at lw_m3 5 rfl) rfl
theorem q553 : (Jvm.Cond.laysFinal "FallsBetween$NumberTold" "FallsBetween$NumberTold" "isLaw" "Z") ∈ lw_all := lw_g (lw_at lw_m3 6 rfl) rfl
theorem q554 : (Jvm.Cond.soleField "FallsBetween$NumberTold" "isLaw") ∈ lw_all := lw_g (lw_at lw_m3 7 rfl) rfl
theorem q555 : (Jvm.Cond.laysFinal "FallsBetween$NumberTold" "FallsBetween$NumberTold" "v" "I") ∈ lw_all := lw_g (lw_at lw_m3 8 rfl) rfl
theorem q556 : (Jvm.Cond.soleField "FallsBetween$NumberTold" "v") ∈ lw_all := lw_g (lw_at lw_m3 9 rfl) rfl
theorem q557 : (Jvm.Cond.laysFinal "FallsBetween$NumberTold" "FallsBetween$Told" "start" "I") ∈ lw_all := lw_g (lw_at lw_m3 10 rfl) rfl
theorem q558 : (Jvm.Cond.superclass "FallsBetween$NumberTold" "FallsBetween$Told") ∈ lw_all := lw_g (lw_at lw_m3 11 rfl) rfl
theorem q626 : (Jvm.Cond.selects "FallsBetween$NumberTold" ({ cls := "FallsBetween$Told", name := "comes", desc := "(LFallsBetween$Town;)Z" } : Jvm.MethodName) ({ cls := "FallsBetween$NumberTold", name := "comes", desc := "(LFallsBetween$Town;)Z" } : Jvm.MethodName)) ∈ lw_all := lw_g (lw_at lw_m3 79 rfl) rfl
theorem q627 : (Jvm.Cond.instanceMethod ({ cls := "FallsBetween$NumberTold", name := "comes", desc := "(LFallsBetween$Town;)Z" } : Jvm.MethodName)) ∈ lw_all := lw_g (lw_at lw_m3 80 rfl) rfl
theorem q628 : (Jvm.Cond.code ({ cls := "FallsBetween$NumberTold", name := "comes", desc := "(LFallsBetween$Town;)Z" } : Jvm.MethodName) prog_14_method_2_code (3 : Nat) (Option.some Jvm.ClassFile.FieldType.boolean)) ∈ lw_all := lw_g (lw_at lw_m3 81 rfl) rfl
theorem q629 : (Jvm.Cond.constantLong "FallsBetween$NumberTold" (23 : Nat) (3 : Int64)) ∈ lw_all := lw_g (lw_at lw_m3 82 rfl) rfl
theorem q630 : (Jvm.Cond.methodLinkNest "FallsBetween$NumberTold" (25 : Nat) ({ cls := "FallsBetween", name := "in", desc := "(JJJ)Z" } : Jvm.MethodName) "FallsBetween") ∈ lw_tbl := lw_at lw_m3 83 rfl
theorem q1407 : (Jvm.Cond.castable "FallsBetween$NumberTold" "FallsBetween$Told") ∈ lw_tbl := lw_at lw_m6 140 rfl
theorem in_X23 : ∀ w ∈ wsX230, w ∈ lw_all := lw_in wsX230 [557, 553, 555] (by decide +kernel) (by decide +kernel)

/-! FallsBetween$NetTold -/
set_option maxRecDepth 100000
def RX24 : String := "FallsBetween$NetTold"
def TX24 : u_T := fun k => match k with
  | 0 => ("FallsBetween$Told", "start", "I", true)
  | 1 => ("FallsBetween$SquareTold", "square", "I", true)
  | _ => ("FallsBetween$SquareTold", "v", "I", true)
def tyX24 : Nat → FieldType := fun k => match k with
  | 0 => .int
  | 1 => .int
  | _ => .int
abbrev wsX240 : List Cond := u_ws RX24 TX24 3
theorem nmX24 : ∀ a, a < 3 → ∀ b, b < 3 → a ≠ b → (TX24 a).2.1 ≠ (TX24 b).2.1 := by decide +kernel
theorem tyX24_ok : ∀ k, k < 3 → parseFieldDescriptor (TX24 k).2.2.1 = some (tyX24 k) := by decide +kernel
abbrev cX24_init : ByteArray := prog_13_method_1_code
def yX24_init : MethodName := ⟨RX24, "<init>", "(II)V"⟩
def dkwX24_init_0 : List UInt8 := [42, 27, 28, 3, 183, 0, 1, 177]
abbrev dktX24_init_0 : List UInt8 := dkwX24_init_0 ++ []
theorem dksX24_init_0 : cX24_init.data.toList.drop 0 = dktX24_init_0 := by decide +kernel
theorem dX24_init_0 : decode cX24_init 0 = .ok (.aload_n 0, 1) := dk_42 (dk_at dksX24_init_0 0 rfl rfl)
theorem dX24_init_1 : decode cX24_init 1 = .ok (.iload_n 1, 1) := dk_27 (dk_at dksX24_init_0 1 rfl rfl)
theorem dX24_init_2 : decode cX24_init 2 = .ok (.iload_n 2, 1) := dk_28 (dk_at dksX24_init_0 2 rfl rfl)
theorem dX24_init_3 : decode cX24_init 3 = .ok (.iconst 0, 1) := dk_3 (dk_at dksX24_init_0 3 rfl rfl)
theorem dX24_init_4 : decode cX24_init 4 = .ok (.invokespecial 1, 3) := dk_183 0 1 (dk_at dksX24_init_0 4 rfl rfl)
theorem dX24_init_7 : decode cX24_init 7 = .ok (.return_, 1) := dk_177 (dk_at dksX24_init_0 7 rfl rfl)
abbrev cX24_become : ByteArray := prog_13_method_2_code
def yX24_become : MethodName := ⟨RX24, "become", "(LFallsBetween$Town;)V"⟩
def dkwX24_become_1 : List UInt8 := [3, 84, 177]
abbrev dktX24_become_1 : List UInt8 := dkwX24_become_1 ++ []
def dkwX24_become_0 : List UInt8 := [43, 180, 0, 7, 42, 180, 0, 13, 43, 180, 0, 7, 42, 180, 0, 13, 51, 154, 0, 7, 4, 167, 0, 4]
abbrev dktX24_become_0 : List UInt8 := dkwX24_become_0 ++ dktX24_become_1
theorem dksX24_become_0 : cX24_become.data.toList.drop 0 = dktX24_become_0 := by decide +kernel
theorem dksX24_become_1 : cX24_become.data.toList.drop 24 = dktX24_become_1 := dk_seg dksX24_become_0 24 rfl rfl
theorem dX24_become_0 : decode cX24_become 0 = .ok (.aload_n 1, 1) := dk_43 (dk_at dksX24_become_0 0 rfl rfl)
theorem dX24_become_1 : decode cX24_become 1 = .ok (.getfield 7, 3) := dk_180 0 7 (dk_at dksX24_become_0 1 rfl rfl)
theorem dX24_become_4 : decode cX24_become 4 = .ok (.aload_n 0, 1) := dk_42 (dk_at dksX24_become_0 4 rfl rfl)
theorem dX24_become_5 : decode cX24_become 5 = .ok (.getfield 13, 3) := dk_180 0 13 (dk_at dksX24_become_0 5 rfl rfl)
theorem dX24_become_8 : decode cX24_become 8 = .ok (.aload_n 1, 1) := dk_43 (dk_at dksX24_become_0 8 rfl rfl)
theorem dX24_become_9 : decode cX24_become 9 = .ok (.getfield 7, 3) := dk_180 0 7 (dk_at dksX24_become_0 9 rfl rfl)
theorem dX24_become_12 : decode cX24_become 12 = .ok (.aload_n 0, 1) := dk_42 (dk_at dksX24_become_0 12 rfl rfl)
theorem dX24_become_13 : decode cX24_become 13 = .ok (.getfield 13, 3) := dk_180 0 13 (dk_at dksX24_become_0 13 rfl rfl)
theorem dX24_become_16 : decode cX24_become 16 = .ok (.baload, 1) := dk_51 (dk_at dksX24_become_0 16 rfl rfl)
theorem dX24_become_17 : decode cX24_become 17 = .ok (.ifCond .ne 7, 3) := dk_154 0 7 (dk_at dksX24_become_0 17 rfl rfl)
theorem dX24_become_20 : decode cX24_become 20 = .ok (.iconst 1, 1) := dk_4 (dk_at dksX24_become_0 20 rfl rfl)
theorem dX24_become_21 : decode cX24_become 21 = .ok (.goto 4, 3) := dk_167 0 4 (dk_at dksX24_become_0 21 rfl rfl)
theorem dX24_become_24 : decode cX24_become 24 = .ok (.iconst 0, 1) := dk_3 (dk_at dksX24_become_1 0 rfl rfl)
theorem dX24_become_25 : decode cX24_become 25 = .ok (.bastore, 1) := dk_84 (dk_at dksX24_become_1 1 rfl rfl)
theorem dX24_become_26 : decode cX24_become 26 = .ok (.return_, 1) := dk_177 (dk_at dksX24_become_1 2 rfl rfl)
theorem q95 : (Jvm.Cond.initialized "FallsBetween$NetTold") ∈ lw_all := lw_g (lw_at lw_m1 28 rfl) rfl
theorem q162 : (Jvm.Cond.fieldLinkNest "FallsBetween$NetTold" (7 : Nat) "FallsBetween$Town" "nets" "[Z" "FallsBetween") ∈ lw_tbl := lw_at lw_m1 95 rfl
theorem q528 : (Jvm.Cond.fieldLink "FallsBetween$NetTold" (13 : Nat) "FallsBetween$NetTold" "square" "I") ∈ lw_all := lw_g (lw_at lw_m2 221 rfl) rfl
theorem q529 : (Jvm.Cond.sameField "FallsBetween$NetTold" "FallsBetween$SquareTold" "square" "I") ∈ lw_all := lw_g (lw_at lw_m2 222 rfl) rfl
theorem q560 : (Jvm.Cond.instantiable "FallsBetween$NetTold" (3 : Nat)) ∈ lw_all := lw_g (lw_at lw_m3 13 rfl) rfl
theorem q562 : (Jvm.Cond.instanceMethod ({ cls := "FallsBetween$NetTold", name := "<init>", desc := "(II)V" } : Jvm.MethodName)) ∈ lw_all := lw_g (lw_at lw_m3 15 rfl) rfl
theorem q563 : (Jvm.Cond.code ({ cls := "FallsBetween$NetTold", name := "<init>", desc := "(II)V" } : Jvm.MethodName) prog_13_method_1_code (3 : Nat) (Option.none : Option Jvm.ClassFile.FieldType)) ∈ lw_all := lw_g (lw_at lw_m3 16 rfl) rfl
theorem q564 : (Jvm.Cond.methodLink "FallsBetween$NetTold" (1 : Nat) ({ cls := "FallsBetween$SquareTold", name := "<init>", desc := "(III)V" } : Jvm.MethodName)) ∈ lw_all := lw_g (lw_at lw_m3 17 rfl) rfl
theorem q565 : (Jvm.Cond.laysFinal "FallsBetween$NetTold" "FallsBetween$SquareTold" "square" "I") ∈ lw_all := lw_g (lw_at lw_m3 18 rfl) rfl
theorem q566 : (Jvm.Cond.laysFinal "FallsBetween$NetTold" "FallsBetween$SquareTold" "v" "I") ∈ lw_all := lw_g (lw_at lw_m3 19 rfl) rfl
theorem q567 : (Jvm.Cond.laysFinal "FallsBetween$NetTold" "FallsBetween$Told" "start" "I") ∈ lw_all := lw_g (lw_at lw_m3 20 rfl) rfl
theorem q568 : (Jvm.Cond.superclass "FallsBetween$NetTold" "FallsBetween$SquareTold") ∈ lw_all := lw_g (lw_at lw_m3 21 rfl) rfl
theorem q608 : (Jvm.Cond.selects "FallsBetween$NetTold" ({ cls := "FallsBetween$SquareTold", name := "isGood", desc := "()Z" } : Jvm.MethodName) ({ cls := "FallsBetween$SquareTold", name := "isGood", desc := "()Z" } : Jvm.MethodName)) ∈ lw_all := lw_g (lw_at lw_m3 61 rfl) rfl
theorem q620 : (Jvm.Cond.selects "FallsBetween$NetTold" ({ cls := "FallsBetween$SquareTold", name := "become", desc := "(LFallsBetween$Town;)V" } : Jvm.MethodName) ({ cls := "FallsBetween$NetTold", name := "become", desc := "(LFallsBetween$Town;)V" } : Jvm.MethodName)) ∈ lw_all := lw_g (lw_at lw_m3 73 rfl) rfl
theorem q621 : (Jvm.Cond.instanceMethod ({ cls := "FallsBetween$NetTold", name := "become", desc := "(LFallsBetween$Town;)V" } : Jvm.MethodName)) ∈ lw_all := lw_g (lw_at lw_m3 74 rfl) rfl
theorem q622 : (Jvm.Cond.code ({ cls := "FallsBetween$NetTold", name := "become", desc := "(LFallsBetween$Town;)V" } : Jvm.MethodName) prog_13_method_2_code (2 : Nat) (Option.none : Option Jvm.ClassFile.FieldType)) ∈ lw_all := lw_g (lw_at lw_m3 75 rfl) rfl
theorem q625 : (Jvm.Cond.selects "FallsBetween$NetTold" ({ cls := "FallsBetween$Told", name := "comes", desc := "(LFallsBetween$Town;)Z" } : Jvm.MethodName) ({ cls := "FallsBetween$SquareTold", name := "comes", desc := "(LFallsBetween$Town;)Z" } : Jvm.MethodName)) ∈ lw_all := lw_g (lw_at lw_m3 78 rfl) rfl
theorem q1408 : (Jvm.Cond.castable "FallsBetween$NetTold" "FallsBetween$Told") ∈ lw_tbl := lw_at lw_m6 141 rfl
theorem in_X24 : ∀ w ∈ wsX240, w ∈ lw_all := lw_in wsX240 [567, 565, 566] (by decide +kernel) (by decide +kernel)

/-! java/lang/Throwable -/
set_option maxRecDepth 100000
def RJ0 : String := "java/lang/Throwable"
def TJ0 : u_T := fun k => match k with
  | 0 => ("java/lang/Throwable", "cause", "Ljava/lang/Throwable;", false)
  | 1 => ("java/lang/Throwable", "stackTrace", "[Ljava/lang/StackTraceElement;", false)
  | 2 => ("java/lang/Throwable", "suppressedExceptions", "Ljava/util/List;", false)
  | 3 => ("java/lang/Throwable", "detailMessage", "Ljava/lang/String;", false)
  | _ => ("java/lang/Throwable", "backtrace", "Ljava/lang/Object;", false)
def tyJ0 : Nat → FieldType := fun k => match k with
  | 0 => .object "java/lang/Throwable"
  | 1 => .array (.object "java/lang/StackTraceElement")
  | 2 => .object "java/util/List"
  | 3 => .object "java/lang/String"
  | _ => .object "java/lang/Object"
abbrev wsJ00 : List Cond := u_ws RJ0 TJ0 5
theorem nmJ0 : ∀ a, a < 5 → ∀ b, b < 5 → a ≠ b → (TJ0 a).2.1 ≠ (TJ0 b).2.1 := by decide +kernel
theorem tyJ0_ok : ∀ k, k < 5 → parseFieldDescriptor (TJ0 k).2.2.1 = some (tyJ0 k) := by decide +kernel
abbrev cJ0_init : ByteArray := prog_31_method_1_code
def yJ0_init : MethodName := ⟨RJ0, "<init>", "()V"⟩
def dkwJ0_init_1 : List UInt8 := [182, 0, 27, 87, 177]
abbrev dktJ0_init_1 : List UInt8 := dkwJ0_init_1 ++ []
def dkwJ0_init_0 : List UInt8 := [42, 183, 0, 1, 42, 42, 181, 0, 7, 42, 178, 0, 13, 181, 0, 17, 42, 178, 0, 20, 181, 0, 24, 42]
abbrev dktJ0_init_0 : List UInt8 := dkwJ0_init_0 ++ dktJ0_init_1
theorem dksJ0_init_0 : cJ0_init.data.toList.drop 0 = dktJ0_init_0 := by decide +kernel
theorem dksJ0_init_1 : cJ0_init.data.toList.drop 24 = dktJ0_init_1 := dk_seg dksJ0_init_0 24 rfl rfl
theorem dJ0_init_0 : decode cJ0_init 0 = .ok (.aload_n 0, 1) := dk_42 (dk_at dksJ0_init_0 0 rfl rfl)
theorem dJ0_init_1 : decode cJ0_init 1 = .ok (.invokespecial 1, 3) := dk_183 0 1 (dk_at dksJ0_init_0 1 rfl rfl)
theorem dJ0_init_4 : decode cJ0_init 4 = .ok (.aload_n 0, 1) := dk_42 (dk_at dksJ0_init_0 4 rfl rfl)
theorem dJ0_init_5 : decode cJ0_init 5 = .ok (.aload_n 0, 1) := dk_42 (dk_at dksJ0_init_0 5 rfl rfl)
theorem dJ0_init_6 : decode cJ0_init 6 = .ok (.putfield 7, 3) := dk_181 0 7 (dk_at dksJ0_init_0 6 rfl rfl)
theorem dJ0_init_9 : decode cJ0_init 9 = .ok (.aload_n 0, 1) := dk_42 (dk_at dksJ0_init_0 9 rfl rfl)
theorem dJ0_init_10 : decode cJ0_init 10 = .ok (.getstatic 13, 3) := dk_178 0 13 (dk_at dksJ0_init_0 10 rfl rfl)
theorem dJ0_init_13 : decode cJ0_init 13 = .ok (.putfield 17, 3) := dk_181 0 17 (dk_at dksJ0_init_0 13 rfl rfl)
theorem dJ0_init_16 : decode cJ0_init 16 = .ok (.aload_n 0, 1) := dk_42 (dk_at dksJ0_init_0 16 rfl rfl)
theorem dJ0_init_17 : decode cJ0_init 17 = .ok (.getstatic 20, 3) := dk_178 0 20 (dk_at dksJ0_init_0 17 rfl rfl)
theorem dJ0_init_20 : decode cJ0_init 20 = .ok (.putfield 24, 3) := dk_181 0 24 (dk_at dksJ0_init_0 20 rfl rfl)
theorem dJ0_init_23 : decode cJ0_init 23 = .ok (.aload_n 0, 1) := dk_42 (dk_at dksJ0_init_0 23 rfl rfl)
theorem dJ0_init_24 : decode cJ0_init 24 = .ok (.invokevirtual 27, 3) := dk_182 0 27 (dk_at dksJ0_init_1 0 rfl rfl)
theorem dJ0_init_27 : decode cJ0_init 27 = .ok (.pop, 1) := dk_87 (dk_at dksJ0_init_1 3 rfl rfl)
theorem dJ0_init_28 : decode cJ0_init 28 = .ok (.return_, 1) := dk_177 (dk_at dksJ0_init_1 4 rfl rfl)
theorem q76 : (Jvm.Cond.initialized "java/lang/Throwable") ∈ lw_all := lw_g (lw_at lw_m1 9 rfl) rfl
theorem q275 : (Jvm.Cond.declares ({ cls := "java/lang/Throwable", name := "<init>", desc := "()V" } : Jvm.MethodName)) ∈ lw_tbl := lw_at lw_m1 208 rfl
theorem q276 : (Jvm.Cond.declares ({ cls := "java/lang/Throwable", name := "<init>", desc := "(Ljava/lang/String;)V" } : Jvm.MethodName)) ∈ lw_tbl := lw_at lw_m1 209 rfl
theorem q280 : (Jvm.Cond.lays "java/lang/Throwable" "java/lang/Throwable" "cause" "Ljava/lang/Throwable;") ∈ lw_all := lw_g (lw_at lw_m1 213 rfl) rfl
theorem q282 : (Jvm.Cond.lays "java/lang/Throwable" "java/lang/Throwable" "stackTrace" "[Ljava/lang/StackTraceElement;") ∈ lw_all := lw_g (lw_at lw_m1 215 rfl) rfl
theorem q284 : (Jvm.Cond.lays "java/lang/Throwable" "java/lang/Throwable" "suppressedExceptions" "Ljava/util/List;") ∈ lw_all := lw_g (lw_at lw_m1 217 rfl) rfl
theorem q286 : (Jvm.Cond.lays "java/lang/Throwable" "java/lang/Throwable" "detailMessage" "Ljava/lang/String;") ∈ lw_all := lw_g (lw_at lw_m1 219 rfl) rfl
theorem q288 : (Jvm.Cond.lays "java/lang/Throwable" "java/lang/Throwable" "backtrace" "Ljava/lang/Object;") ∈ lw_all := lw_g (lw_at lw_m1 221 rfl) rfl
theorem q289 : (Jvm.Cond.fieldLink "java/lang/Throwable" (198 : Nat) "java/lang/Throwable" "backtrace" "Ljava/lang/Object;") ∈ lw_all := lw_g (lw_at lw_m1 222 rfl) rfl
theorem q290 : (Jvm.Cond.superclass "java/lang/Throwable" "java/lang/Object") ∈ lw_all := lw_g (lw_at lw_m1 223 rfl) rfl
theorem q291 : (Jvm.Cond.instanceMethod ({ cls := "java/lang/Throwable", name := "<init>", desc := "()V" } : Jvm.MethodName)) ∈ lw_all := lw_g (lw_at lw_m1 224 rfl) rfl
theorem q292 : (Jvm.Cond.code ({ cls := "java/lang/Throwable", name := "<init>", desc := "()V" } : Jvm.MethodName) prog_31_method_1_code (1 : Nat) (Option.none : Option Jvm.ClassFile.FieldType)) ∈ lw_all := lw_g (lw_at lw_m1 225 rfl) rfl
theorem q293 : (Jvm.Cond.methodLink "java/lang/Throwable" (1 : Nat) ({ cls := "java/lang/Object", name := "<init>", desc := "()V" } : Jvm.MethodName)) ∈ lw_all := lw_g (lw_at lw_m1 226 rfl) rfl
theorem q294 : (Jvm.Cond.fieldLink "java/lang/Throwable" (13 : Nat) "java/lang/Throwable" "UNASSIGNED_STACK" "[Ljava/lang/StackTraceElement;") ∈ lw_all := lw_g (lw_at lw_m1 227 rfl) rfl
theorem q295 : (Jvm.Cond.laysStatic "java/lang/Throwable" "UNASSIGNED_STACK" "[Ljava/lang/StackTraceElement;") ∈ lw_tbl := lw_at lw_m1 228 rfl
theorem q296 : (Jvm.Cond.fieldLink "java/lang/Throwable" (20 : Nat) "java/lang/Throwable" "SUPPRESSED_SENTINEL" "Ljava/util/List;") ∈ lw_all := lw_g (lw_at lw_m1 229 rfl) rfl
theorem q297 : (Jvm.Cond.laysStatic "java/lang/Throwable" "SUPPRESSED_SENTINEL" "Ljava/util/List;") ∈ lw_tbl := lw_at lw_m1 230 rfl
theorem q298 : (Jvm.Cond.methodLink "java/lang/Throwable" (27 : Nat) ({ cls := "java/lang/Throwable", name := "fillInStackTrace", desc := "()Ljava/lang/Throwable;" } : Jvm.MethodName)) ∈ lw_all := lw_g (lw_at lw_m1 231 rfl) rfl
theorem q299 : (Jvm.Cond.instanceMethod ({ cls := "java/lang/Throwable", name := "fillInStackTrace", desc := "()Ljava/lang/Throwable;" } : Jvm.MethodName)) ∈ lw_all := lw_g (lw_at lw_m1 232 rfl) rfl
theorem q300 : (Jvm.Cond.sameMethod "java/lang/Throwable" "java/lang/Throwable" "fillInStackTrace" "()Ljava/lang/Throwable;") ∈ lw_all := lw_g (lw_at lw_m1 233 rfl) rfl
theorem q302 : (Jvm.Cond.codeSync ({ cls := "java/lang/Throwable", name := "fillInStackTrace", desc := "()Ljava/lang/Throwable;" } : Jvm.MethodName) prog_31_method_18_code (1 : Nat) (Option.some (Jvm.ClassFile.FieldType.object "java/lang/Throwable"))) ∈ lw_all := lw_g (lw_at lw_m1 235 rfl) rfl
theorem q303 : (Jvm.Cond.methodLink "java/lang/Throwable" (202 : Nat) ({ cls := "java/lang/Throwable", name := "fillInStackTrace", desc := "(I)Ljava/lang/Throwable;" } : Jvm.MethodName)) ∈ lw_all := lw_g (lw_at lw_m1 236 rfl) rfl
theorem q304 : (Jvm.Cond.privateMethod ({ cls := "java/lang/Throwable", name := "fillInStackTrace", desc := "(I)Ljava/lang/Throwable;" } : Jvm.MethodName)) ∈ lw_tbl := lw_at lw_m1 237 rfl
theorem q305 : (Jvm.Cond.instanceMethod ({ cls := "java/lang/Throwable", name := "fillInStackTrace", desc := "(I)Ljava/lang/Throwable;" } : Jvm.MethodName)) ∈ lw_all := lw_g (lw_at lw_m1 238 rfl) rfl
theorem q306 : (Jvm.Cond.instantiable "java/lang/Throwable" (6 : Nat)) ∈ lw_all := lw_g (lw_at lw_m1 239 rfl) rfl
theorem q307 : (Jvm.Cond.native ({ cls := "java/lang/Throwable", name := "fillInStackTrace", desc := "(I)Ljava/lang/Throwable;" } : Jvm.MethodName)) ∈ lw_all := lw_g (lw_at lw_m2 0 rfl) rfl
theorem q322 : (Jvm.Cond.fieldLink "java/lang/Throwable" (198 : Nat) "java/lang/Throwable" "backtrace" "Ljava/lang/Object;") ∈ lw_all := lw_g (lw_at lw_m2 15 rfl) rfl
theorem q323 : (Jvm.Cond.fieldLink "java/lang/Throwable" (7 : Nat) "java/lang/Throwable" "cause" "Ljava/lang/Throwable;") ∈ lw_all := lw_g (lw_at lw_m2 16 rfl) rfl
theorem q324 : (Jvm.Cond.fieldLink "java/lang/Throwable" (17 : Nat) "java/lang/Throwable" "stackTrace" "[Ljava/lang/StackTraceElement;") ∈ lw_all := lw_g (lw_at lw_m2 17 rfl) rfl
theorem q325 : (Jvm.Cond.fieldLink "java/lang/Throwable" (24 : Nat) "java/lang/Throwable" "suppressedExceptions" "Ljava/util/List;") ∈ lw_all := lw_g (lw_at lw_m2 18 rfl) rfl
theorem q328 : (Jvm.Cond.soleField "java/lang/Throwable" "backtrace") ∈ lw_all := lw_g (lw_at lw_m2 21 rfl) rfl
theorem q329 : (Jvm.Cond.soleField "java/lang/Throwable" "detailMessage") ∈ lw_all := lw_g (lw_at lw_m2 22 rfl) rfl
theorem q330 : (Jvm.Cond.soleField "java/lang/Throwable" "cause") ∈ lw_all := lw_g (lw_at lw_m2 23 rfl) rfl
theorem q331 : (Jvm.Cond.soleField "java/lang/Throwable" "stackTrace") ∈ lw_all := lw_g (lw_at lw_m2 24 rfl) rfl
theorem q333 : (Jvm.Cond.soleField "java/lang/Throwable" "depth") ∈ lw_all := lw_g (lw_at lw_m2 26 rfl) rfl
theorem q334 : (Jvm.Cond.soleField "java/lang/Throwable" "suppressedExceptions") ∈ lw_all := lw_g (lw_at lw_m2 27 rfl) rfl
theorem q1389 : (Jvm.Cond.sameMethod "java/lang/Throwable" "java/lang/Throwable" "fillInStackTrace" "(I)Ljava/lang/Throwable;") ∈ lw_all := lw_g (lw_at lw_m6 122 rfl) rfl
theorem in_J0 : ∀ w ∈ wsJ00, w ∈ lw_all := lw_in wsJ00 [280, 282, 284, 286, 288] (by decide +kernel) (by decide +kernel)

/-! java/lang/Exception -/
set_option maxRecDepth 100000
def RJ1 : String := "java/lang/Exception"
abbrev cJ1_init : ByteArray := prog_27_method_1_code
def yJ1_init : MethodName := ⟨RJ1, "<init>", "()V"⟩
theorem dJ1_init_0 : decode cJ1_init 0 = .ok (.aload_n 0, 1) := by decide +kernel
theorem dJ1_init_1 : decode cJ1_init 1 = .ok (.invokespecial 1, 3) := by decide +kernel
theorem dJ1_init_4 : decode cJ1_init 4 = .ok (.return_, 1) := by decide +kernel
theorem q77 : (Jvm.Cond.initialized "java/lang/Exception") ∈ lw_all := lw_g (lw_at lw_m1 10 rfl) rfl
theorem q273 : (Jvm.Cond.declares ({ cls := "java/lang/Exception", name := "<init>", desc := "()V" } : Jvm.MethodName)) ∈ lw_tbl := lw_at lw_m1 206 rfl
theorem q274 : (Jvm.Cond.declares ({ cls := "java/lang/Exception", name := "<init>", desc := "(Ljava/lang/String;)V" } : Jvm.MethodName)) ∈ lw_tbl := lw_at lw_m1 207 rfl
theorem q318 : (Jvm.Cond.instanceMethod ({ cls := "java/lang/Exception", name := "<init>", desc := "()V" } : Jvm.MethodName)) ∈ lw_all := lw_g (lw_at lw_m2 11 rfl) rfl
theorem q319 : (Jvm.Cond.code ({ cls := "java/lang/Exception", name := "<init>", desc := "()V" } : Jvm.MethodName) prog_27_method_1_code (1 : Nat) (Option.none : Option Jvm.ClassFile.FieldType)) ∈ lw_all := lw_g (lw_at lw_m2 12 rfl) rfl
theorem q320 : (Jvm.Cond.methodLink "java/lang/Exception" (1 : Nat) ({ cls := "java/lang/Throwable", name := "<init>", desc := "()V" } : Jvm.MethodName)) ∈ lw_all := lw_g (lw_at lw_m2 13 rfl) rfl

/-! java/lang/RuntimeException -/
set_option maxRecDepth 100000
def RJ2 : String := "java/lang/RuntimeException"
abbrev cJ2_init : ByteArray := prog_29_method_1_code
def yJ2_init : MethodName := ⟨RJ2, "<init>", "()V"⟩
theorem dJ2_init_0 : decode cJ2_init 0 = .ok (.aload_n 0, 1) := by decide +kernel
theorem dJ2_init_1 : decode cJ2_init 1 = .ok (.invokespecial 1, 3) := by decide +kernel
theorem dJ2_init_4 : decode cJ2_init 4 = .ok (.return_, 1) := by decide +kernel
theorem q78 : (Jvm.Cond.initialized "java/lang/RuntimeException") ∈ lw_all := lw_g (lw_at lw_m1 11 rfl) rfl
theorem q271 : (Jvm.Cond.declares ({ cls := "java/lang/RuntimeException", name := "<init>", desc := "()V" } : Jvm.MethodName)) ∈ lw_tbl := lw_at lw_m1 204 rfl
theorem q272 : (Jvm.Cond.declares ({ cls := "java/lang/RuntimeException", name := "<init>", desc := "(Ljava/lang/String;)V" } : Jvm.MethodName)) ∈ lw_tbl := lw_at lw_m1 205 rfl
theorem q315 : (Jvm.Cond.instanceMethod ({ cls := "java/lang/RuntimeException", name := "<init>", desc := "()V" } : Jvm.MethodName)) ∈ lw_all := lw_g (lw_at lw_m2 8 rfl) rfl
theorem q316 : (Jvm.Cond.code ({ cls := "java/lang/RuntimeException", name := "<init>", desc := "()V" } : Jvm.MethodName) prog_29_method_1_code (1 : Nat) (Option.none : Option Jvm.ClassFile.FieldType)) ∈ lw_all := lw_g (lw_at lw_m2 9 rfl) rfl
theorem q317 : (Jvm.Cond.methodLink "java/lang/RuntimeException" (1 : Nat) ({ cls := "java/lang/Exception", name := "<init>", desc := "()V" } : Jvm.MethodName)) ∈ lw_all := lw_g (lw_at lw_m2 10 rfl) rfl

/-! java/lang/Math -/
set_option maxRecDepth 100000
def RJ3 : String := "java/lang/Math"
abbrev cJ3_max : ByteArray := prog_28_method_65_code
def yJ3_max : MethodName := ⟨RJ3, "max", "(II)I"⟩
def dkwJ3_max_0 : List UInt8 := [26, 27, 161, 0, 7, 26, 167, 0, 4, 27, 172]
abbrev dktJ3_max_0 : List UInt8 := dkwJ3_max_0 ++ []
theorem dksJ3_max_0 : cJ3_max.data.toList.drop 0 = dktJ3_max_0 := by decide +kernel
theorem dJ3_max_0 : decode cJ3_max 0 = .ok (.iload_n 0, 1) := dk_26 (dk_at dksJ3_max_0 0 rfl rfl)
theorem dJ3_max_1 : decode cJ3_max 1 = .ok (.iload_n 1, 1) := dk_27 (dk_at dksJ3_max_0 1 rfl rfl)
theorem dJ3_max_2 : decode cJ3_max 2 = .ok (.if_icmp .lt 7, 3) := dk_161 0 7 (dk_at dksJ3_max_0 2 rfl rfl)
theorem dJ3_max_5 : decode cJ3_max 5 = .ok (.iload_n 0, 1) := dk_26 (dk_at dksJ3_max_0 5 rfl rfl)
theorem dJ3_max_6 : decode cJ3_max 6 = .ok (.goto 4, 3) := dk_167 0 4 (dk_at dksJ3_max_0 6 rfl rfl)
theorem dJ3_max_9 : decode cJ3_max 9 = .ok (.iload_n 1, 1) := dk_27 (dk_at dksJ3_max_0 9 rfl rfl)
theorem dJ3_max_10 : decode cJ3_max 10 = .ok (.ireturn, 1) := dk_172 (dk_at dksJ3_max_0 10 rfl rfl)
abbrev cJ3_min : ByteArray := prog_28_method_69_code
def yJ3_min : MethodName := ⟨RJ3, "min", "(II)I"⟩
def dkwJ3_min_0 : List UInt8 := [26, 27, 163, 0, 7, 26, 167, 0, 4, 27, 172]
abbrev dktJ3_min_0 : List UInt8 := dkwJ3_min_0 ++ []
theorem dksJ3_min_0 : cJ3_min.data.toList.drop 0 = dktJ3_min_0 := by decide +kernel
theorem dJ3_min_0 : decode cJ3_min 0 = .ok (.iload_n 0, 1) := dk_26 (dk_at dksJ3_min_0 0 rfl rfl)
theorem dJ3_min_1 : decode cJ3_min 1 = .ok (.iload_n 1, 1) := dk_27 (dk_at dksJ3_min_0 1 rfl rfl)
theorem dJ3_min_2 : decode cJ3_min 2 = .ok (.if_icmp .gt 7, 3) := dk_163 0 7 (dk_at dksJ3_min_0 2 rfl rfl)
theorem dJ3_min_5 : decode cJ3_min 5 = .ok (.iload_n 0, 1) := dk_26 (dk_at dksJ3_min_0 5 rfl rfl)
theorem dJ3_min_6 : decode cJ3_min 6 = .ok (.goto 4, 3) := dk_167 0 4 (dk_at dksJ3_min_0 6 rfl rfl)
theorem dJ3_min_9 : decode cJ3_min 9 = .ok (.iload_n 1, 1) := dk_27 (dk_at dksJ3_min_0 9 rfl rfl)
theorem dJ3_min_10 : decode cJ3_min 10 = .ok (.ireturn, 1) := dk_172 (dk_at dksJ3_min_0 10 rfl rfl)
abbrev cJ3_abs : ByteArray := prog_28_method_59_code
def yJ3_abs : MethodName := ⟨RJ3, "abs", "(I)I"⟩
def dkwJ3_abs_0 : List UInt8 := [26, 156, 0, 8, 26, 116, 167, 0, 4, 26, 172]
abbrev dktJ3_abs_0 : List UInt8 := dkwJ3_abs_0 ++ []
theorem dksJ3_abs_0 : cJ3_abs.data.toList.drop 0 = dktJ3_abs_0 := by decide +kernel
theorem dJ3_abs_0 : decode cJ3_abs 0 = .ok (.iload_n 0, 1) := dk_26 (dk_at dksJ3_abs_0 0 rfl rfl)
theorem dJ3_abs_1 : decode cJ3_abs 1 = .ok (.ifCond .ge 8, 3) := dk_156 0 8 (dk_at dksJ3_abs_0 1 rfl rfl)
theorem dJ3_abs_4 : decode cJ3_abs 4 = .ok (.iload_n 0, 1) := dk_26 (dk_at dksJ3_abs_0 4 rfl rfl)
theorem dJ3_abs_5 : decode cJ3_abs 5 = .ok (.ineg, 1) := dk_116 (dk_at dksJ3_abs_0 5 rfl rfl)
theorem dJ3_abs_6 : decode cJ3_abs 6 = .ok (.goto 4, 3) := dk_167 0 4 (dk_at dksJ3_abs_0 6 rfl rfl)
theorem dJ3_abs_9 : decode cJ3_abs 9 = .ok (.iload_n 0, 1) := dk_26 (dk_at dksJ3_abs_0 9 rfl rfl)
theorem dJ3_abs_10 : decode cJ3_abs 10 = .ok (.ireturn, 1) := dk_172 (dk_at dksJ3_abs_0 10 rfl rfl)
theorem q97 : (Jvm.Cond.initialized "java/lang/Math") ∈ lw_all := lw_g (lw_at lw_m1 30 rfl) rfl
theorem q871 : (Jvm.Cond.static ({ cls := "java/lang/Math", name := "max", desc := "(II)I" } : Jvm.MethodName)) ∈ lw_all := lw_g (lw_at lw_m4 84 rfl) rfl
theorem q872 : (Jvm.Cond.code ({ cls := "java/lang/Math", name := "max", desc := "(II)I" } : Jvm.MethodName) prog_28_method_65_code (2 : Nat) (Option.some Jvm.ClassFile.FieldType.int)) ∈ lw_all := lw_g (lw_at lw_m4 85 rfl) rfl
theorem q886 : (Jvm.Cond.static ({ cls := "java/lang/Math", name := "min", desc := "(II)I" } : Jvm.MethodName)) ∈ lw_all := lw_g (lw_at lw_m4 99 rfl) rfl
theorem q887 : (Jvm.Cond.code ({ cls := "java/lang/Math", name := "min", desc := "(II)I" } : Jvm.MethodName) prog_28_method_69_code (2 : Nat) (Option.some Jvm.ClassFile.FieldType.int)) ∈ lw_all := lw_g (lw_at lw_m4 100 rfl) rfl
theorem q901 : (Jvm.Cond.static ({ cls := "java/lang/Math", name := "abs", desc := "(I)I" } : Jvm.MethodName)) ∈ lw_all := lw_g (lw_at lw_m4 114 rfl) rfl
theorem q902 : (Jvm.Cond.code ({ cls := "java/lang/Math", name := "abs", desc := "(I)I" } : Jvm.MethodName) prog_28_method_59_code (1 : Nat) (Option.some Jvm.ClassFile.FieldType.int)) ∈ lw_all := lw_g (lw_at lw_m4 115 rfl) rfl

/-! java/lang/Object -/
set_option maxRecDepth 100000
def RJ4 : String := "java/lang/Object"
abbrev cJ4_init : ByteArray := object_method_1_code
def yJ4_init : MethodName := ⟨RJ4, "<init>", "()V"⟩
theorem dJ4_init_0 : decode cJ4_init 0 = .ok (.return_, 1) := by decide +kernel
theorem q104 : (Jvm.Cond.instanceMethod ({ cls := "java/lang/Object", name := "<init>", desc := "()V" } : Jvm.MethodName)) ∈ lw_all := lw_g (lw_at lw_m1 37 rfl) rfl
theorem q105 : (Jvm.Cond.code ({ cls := "java/lang/Object", name := "<init>", desc := "()V" } : Jvm.MethodName) object_method_1_code (1 : Nat) (Option.none : Option Jvm.ClassFile.FieldType)) ∈ lw_all := lw_g (lw_at lw_m1 38 rfl) rfl
