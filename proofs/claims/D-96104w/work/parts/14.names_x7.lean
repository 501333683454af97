/-! FallsBetweenModel -/
set_option maxRecDepth 100000
def RX7 : String := "FallsBetweenModel"
def TX7 : u_T := fun k => match k with
  | 0 => ("FallsBetweenModel", "refused", "[I", true)
  | 1 => ("FallsBetweenModel", "now", "[I", true)
  | 2 => ("FallsBetweenModel", "then", "[I", true)
  | 3 => ("FallsBetweenModel", "before", "[I", true)
  | 4 => ("FallsBetweenModel", "kept", "Z", false)
  | 5 => ("FallsBetweenModel", "tape", "[I", true)
  | 6 => ("FallsBetweenModel", "taped", "I", false)
  | 7 => ("FallsBetweenModel", "at", "I", false)
  | 8 => ("FallsBetweenModel", "well", "Z", false)
  | 9 => ("FallsBetweenModel", "begins", "[C", true)
  | 10 => ("FallsBetweenModel", "kinds", "[C", true)
  | 11 => ("FallsBetweenModel", "sort", "I", false)
  | 12 => ("FallsBetweenModel", "field", "[I", true)
  | 13 => ("FallsBetweenModel", "lies", "[I", true)
  | 14 => ("FallsBetweenModel", "lost", "I", false)
  | 15 => ("FallsBetweenModel", "row", "[I", true)
  | _ => ("FallsBetweenModel", "rows", "I", false)
def tyX7 : Nat → FieldType := fun k => match k with
  | 0 => .array .int
  | 1 => .array .int
  | 2 => .array .int
  | 3 => .array .int
  | 4 => .boolean
  | 5 => .array .int
  | 6 => .int
  | 7 => .int
  | 8 => .boolean
  | 9 => .array .char
  | 10 => .array .char
  | 11 => .int
  | 12 => .array .int
  | 13 => .array .int
  | 14 => .int
  | 15 => .array .int
  | _ => .int
abbrev wsX70 : List Cond := u_ws RX7 TX7 17
set_option maxRecDepth 100000 in
theorem nmX7 : ∀ a, a < 17 → ∀ b, b < 17 → a ≠ b → (TX7 a).2.1 ≠ (TX7 b).2.1 := by decide +kernel
set_option maxRecDepth 100000 in
theorem tyX7_ok : ∀ k, k < 17 → parseFieldDescriptor (TX7 k).2.2.1 = some (tyX7 k) := by decide +kernel
abbrev cX7_init : ByteArray := prog_26_method_1_code
def yX7_init : MethodName := ⟨RX7, "<init>", "()V"⟩
def dkwX7_init_6 : List UInt8 := [188, 10, 181, 0, 35, 42, 16, 12, 188, 10, 181, 0, 38, 177]
abbrev dktX7_init_6 : List UInt8 := dkwX7_init_6 ++ []
def dkwX7_init_5 : List UInt8 := [89, 7, 16, 114, 85, 89, 8, 16, 115, 85, 181, 0, 29, 42, 7, 188, 10, 181, 0, 32, 42, 16, 36]
abbrev dktX7_init_5 : List UInt8 := dkwX7_init_5 ++ dktX7_init_6
def dkwX7_init_4 : List UInt8 := [16, 6, 188, 5, 89, 3, 16, 112, 85, 89, 4, 16, 100, 85, 89, 5, 16, 108, 85, 89, 6, 16, 97, 85]
abbrev dktX7_init_4 : List UInt8 := dkwX7_init_4 ++ dktX7_init_5
def dkwX7_init_3 : List UInt8 := [6, 16, 104, 85, 89, 7, 16, 119, 85, 89, 8, 16, 108, 85, 89, 16, 6, 16, 110, 85, 181, 0, 25, 42]
abbrev dktX7_init_3 : List UInt8 := dkwX7_init_3 ++ dktX7_init_4
def dkwX7_init_2 : List UInt8 := [181, 0, 22, 42, 16, 7, 188, 5, 89, 3, 16, 116, 85, 89, 4, 16, 103, 85, 89, 5, 16, 99, 85, 89]
abbrev dktX7_init_2 : List UInt8 := dkwX7_init_2 ++ dktX7_init_3
def dkwX7_init_1 : List UInt8 := [17, 0, 144, 188, 10, 181, 0, 16, 42, 17, 0, 144, 188, 10, 181, 0, 19, 42, 16, 64, 188, 10]
abbrev dktX7_init_1 : List UInt8 := dkwX7_init_1 ++ dktX7_init_2
def dkwX7_init_0 : List UInt8 := [42, 183, 0, 1, 42, 16, 7, 188, 10, 181, 0, 7, 42, 17, 0, 144, 188, 10, 181, 0, 13, 42]
abbrev dktX7_init_0 : List UInt8 := dkwX7_init_0 ++ dktX7_init_1
theorem dksX7_init_0 : cX7_init.data.toList.drop 0 = dktX7_init_0 := by decide +kernel
theorem dksX7_init_1 : cX7_init.data.toList.drop 22 = dktX7_init_1 := dk_seg dksX7_init_0 22 rfl rfl
theorem dksX7_init_2 : cX7_init.data.toList.drop 44 = dktX7_init_2 := dk_seg dksX7_init_1 22 rfl rfl
theorem dksX7_init_3 : cX7_init.data.toList.drop 68 = dktX7_init_3 := dk_seg dksX7_init_2 24 rfl rfl
theorem dksX7_init_4 : cX7_init.data.toList.drop 92 = dktX7_init_4 := dk_seg dksX7_init_3 24 rfl rfl
theorem dksX7_init_5 : cX7_init.data.toList.drop 116 = dktX7_init_5 := dk_seg dksX7_init_4 24 rfl rfl
theorem dksX7_init_6 : cX7_init.data.toList.drop 139 = dktX7_init_6 := dk_seg dksX7_init_5 23 rfl rfl
theorem dX7_init_0 : decode cX7_init 0 = .ok (.aload_n 0, 1) := dk_42 (dk_at dksX7_init_0 0 rfl rfl)
theorem dX7_init_1 : decode cX7_init 1 = .ok (.invokespecial 1, 3) := dk_183 0 1 (dk_at dksX7_init_0 1 rfl rfl)
theorem dX7_init_4 : decode cX7_init 4 = .ok (.aload_n 0, 1) := dk_42 (dk_at dksX7_init_0 4 rfl rfl)
theorem dX7_init_5 : decode cX7_init 5 = .ok (.bipush 7, 2) := dk_16 7 (dk_at dksX7_init_0 5 rfl rfl)
theorem dX7_init_7 : decode cX7_init 7 = .ok (.newarray .int, 2) := dk_188_10 (dk_at dksX7_init_0 7 rfl rfl)
theorem dX7_init_9 : decode cX7_init 9 = .ok (.putfield 7, 3) := dk_181 0 7 (dk_at dksX7_init_0 9 rfl rfl)
theorem dX7_init_12 : decode cX7_init 12 = .ok (.aload_n 0, 1) := dk_42 (dk_at dksX7_init_0 12 rfl rfl)
theorem dX7_init_13 : decode cX7_init 13 = .ok (.sipush 144, 3) := dk_17 0 144 (dk_at dksX7_init_0 13 rfl rfl)
theorem dX7_init_16 : decode cX7_init 16 = .ok (.newarray .int, 2) := dk_188_10 (dk_at dksX7_init_0 16 rfl rfl)
theorem dX7_init_18 : decode cX7_init 18 = .ok (.putfield 13, 3) := dk_181 0 13 (dk_at dksX7_init_0 18 rfl rfl)
theorem dX7_init_21 : decode cX7_init 21 = .ok (.aload_n 0, 1) := dk_42 (dk_at dksX7_init_0 21 rfl rfl)
theorem dX7_init_22 : decode cX7_init 22 = .ok (.sipush 144, 3) := dk_17 0 144 (dk_at dksX7_init_1 0 rfl rfl)
theorem dX7_init_25 : decode cX7_init 25 = .ok (.newarray .int, 2) := dk_188_10 (dk_at dksX7_init_1 3 rfl rfl)
theorem dX7_init_27 : decode cX7_init 27 = .ok (.putfield 16, 3) := dk_181 0 16 (dk_at dksX7_init_1 5 rfl rfl)
theorem dX7_init_30 : decode cX7_init 30 = .ok (.aload_n 0, 1) := dk_42 (dk_at dksX7_init_1 8 rfl rfl)
theorem dX7_init_31 : decode cX7_init 31 = .ok (.sipush 144, 3) := dk_17 0 144 (dk_at dksX7_init_1 9 rfl rfl)
theorem dX7_init_34 : decode cX7_init 34 = .ok (.newarray .int, 2) := dk_188_10 (dk_at dksX7_init_1 12 rfl rfl)
theorem dX7_init_36 : decode cX7_init 36 = .ok (.putfield 19, 3) := dk_181 0 19 (dk_at dksX7_init_1 14 rfl rfl)
theorem dX7_init_39 : decode cX7_init 39 = .ok (.aload_n 0, 1) := dk_42 (dk_at dksX7_init_1 17 rfl rfl)
theorem dX7_init_40 : decode cX7_init 40 = .ok (.bipush 64, 2) := dk_16 64 (dk_at dksX7_init_1 18 rfl rfl)
theorem dX7_init_42 : decode cX7_init 42 = .ok (.newarray .int, 2) := dk_188_10 (dk_at dksX7_init_1 20 rfl rfl)
theorem dX7_init_44 : decode cX7_init 44 = .ok (.putfield 22, 3) := dk_181 0 22 (dk_at dksX7_init_2 0 rfl rfl)
theorem dX7_init_47 : decode cX7_init 47 = .ok (.aload_n 0, 1) := dk_42 (dk_at dksX7_init_2 3 rfl rfl)
theorem dX7_init_48 : decode cX7_init 48 = .ok (.bipush 7, 2) := dk_16 7 (dk_at dksX7_init_2 4 rfl rfl)
theorem dX7_init_50 : decode cX7_init 50 = .ok (.newarray .char, 2) := dk_188_5 (dk_at dksX7_init_2 6 rfl rfl)
theorem dX7_init_52 : decode cX7_init 52 = .ok (.dup, 1) := dk_89 (dk_at dksX7_init_2 8 rfl rfl)
theorem dX7_init_53 : decode cX7_init 53 = .ok (.iconst 0, 1) := dk_3 (dk_at dksX7_init_2 9 rfl rfl)
theorem dX7_init_54 : decode cX7_init 54 = .ok (.bipush 116, 2) := dk_16 116 (dk_at dksX7_init_2 10 rfl rfl)
theorem dX7_init_56 : decode cX7_init 56 = .ok (.castore, 1) := dk_85 (dk_at dksX7_init_2 12 rfl rfl)
theorem dX7_init_57 : decode cX7_init 57 = .ok (.dup, 1) := dk_89 (dk_at dksX7_init_2 13 rfl rfl)
theorem dX7_init_58 : decode cX7_init 58 = .ok (.iconst 1, 1) := dk_4 (dk_at dksX7_init_2 14 rfl rfl)
theorem dX7_init_59 : decode cX7_init 59 = .ok (.bipush 103, 2) := dk_16 103 (dk_at dksX7_init_2 15 rfl rfl)
theorem dX7_init_61 : decode cX7_init 61 = .ok (.castore, 1) := dk_85 (dk_at dksX7_init_2 17 rfl rfl)
theorem dX7_init_62 : decode cX7_init 62 = .ok (.dup, 1) := dk_89 (dk_at dksX7_init_2 18 rfl rfl)
theorem dX7_init_63 : decode cX7_init 63 = .ok (.iconst 2, 1) := dk_5 (dk_at dksX7_init_2 19 rfl rfl)
theorem dX7_init_64 : decode cX7_init 64 = .ok (.bipush 99, 2) := dk_16 99 (dk_at dksX7_init_2 20 rfl rfl)
theorem dX7_init_66 : decode cX7_init 66 = .ok (.castore, 1) := dk_85 (dk_at dksX7_init_2 22 rfl rfl)
theorem dX7_init_67 : decode cX7_init 67 = .ok (.dup, 1) := dk_89 (dk_at dksX7_init_2 23 rfl rfl)
theorem dX7_init_68 : decode cX7_init 68 = .ok (.iconst 3, 1) := dk_6 (dk_at dksX7_init_3 0 rfl rfl)
theorem dX7_init_69 : decode cX7_init 69 = .ok (.bipush 104, 2) := dk_16 104 (dk_at dksX7_init_3 1 rfl rfl)
theorem dX7_init_71 : decode cX7_init 71 = .ok (.castore, 1) := dk_85 (dk_at dksX7_init_3 3 rfl rfl)
theorem dX7_init_72 : decode cX7_init 72 = .ok (.dup, 1) := dk_89 (dk_at dksX7_init_3 4 rfl rfl)
theorem dX7_init_73 : decode cX7_init 73 = .ok (.iconst 4, 1) := dk_7 (dk_at dksX7_init_3 5 rfl rfl)
theorem dX7_init_74 : decode cX7_init 74 = .ok (.bipush 119, 2) := dk_16 119 (dk_at dksX7_init_3 6 rfl rfl)
theorem dX7_init_76 : decode cX7_init 76 = .ok (.castore, 1) := dk_85 (dk_at dksX7_init_3 8 rfl rfl)
theorem dX7_init_77 : decode cX7_init 77 = .ok (.dup, 1) := dk_89 (dk_at dksX7_init_3 9 rfl rfl)
theorem dX7_init_78 : decode cX7_init 78 = .ok (.iconst 5, 1) := dk_8 (dk_at dksX7_init_3 10 rfl rfl)
theorem dX7_init_79 : decode cX7_init 79 = .ok (.bipush 108, 2) := dk_16 108 (dk_at dksX7_init_3 11 rfl rfl)
theorem dX7_init_81 : decode cX7_init 81 = .ok (.castore, 1) := dk_85 (dk_at dksX7_init_3 13 rfl rfl)
theorem dX7_init_82 : decode cX7_init 82 = .ok (.dup, 1) := dk_89 (dk_at dksX7_init_3 14 rfl rfl)
theorem dX7_init_83 : decode cX7_init 83 = .ok (.bipush 6, 2) := dk_16 6 (dk_at dksX7_init_3 15 rfl rfl)
theorem dX7_init_85 : decode cX7_init 85 = .ok (.bipush 110, 2) := dk_16 110 (dk_at dksX7_init_3 17 rfl rfl)
theorem dX7_init_87 : decode cX7_init 87 = .ok (.castore, 1) := dk_85 (dk_at dksX7_init_3 19 rfl rfl)
theorem dX7_init_88 : decode cX7_init 88 = .ok (.putfield 25, 3) := dk_181 0 25 (dk_at dksX7_init_3 20 rfl rfl)
theorem dX7_init_91 : decode cX7_init 91 = .ok (.aload_n 0, 1) := dk_42 (dk_at dksX7_init_3 23 rfl rfl)
theorem dX7_init_92 : decode cX7_init 92 = .ok (.bipush 6, 2) := dk_16 6 (dk_at dksX7_init_4 0 rfl rfl)
theorem dX7_init_94 : decode cX7_init 94 = .ok (.newarray .char, 2) := dk_188_5 (dk_at dksX7_init_4 2 rfl rfl)
theorem dX7_init_96 : decode cX7_init 96 = .ok (.dup, 1) := dk_89 (dk_at dksX7_init_4 4 rfl rfl)
theorem dX7_init_97 : decode cX7_init 97 = .ok (.iconst 0, 1) := dk_3 (dk_at dksX7_init_4 5 rfl rfl)
theorem dX7_init_98 : decode cX7_init 98 = .ok (.bipush 112, 2) := dk_16 112 (dk_at dksX7_init_4 6 rfl rfl)
theorem dX7_init_100 : decode cX7_init 100 = .ok (.castore, 1) := dk_85 (dk_at dksX7_init_4 8 rfl rfl)
theorem dX7_init_101 : decode cX7_init 101 = .ok (.dup, 1) := dk_89 (dk_at dksX7_init_4 9 rfl rfl)
theorem dX7_init_102 : decode cX7_init 102 = .ok (.iconst 1, 1) := dk_4 (dk_at dksX7_init_4 10 rfl rfl)
theorem dX7_init_103 : decode cX7_init 103 = .ok (.bipush 100, 2) := dk_16 100 (dk_at dksX7_init_4 11 rfl rfl)
theorem dX7_init_105 : decode cX7_init 105 = .ok (.castore, 1) := dk_85 (dk_at dksX7_init_4 13 rfl rfl)
theorem dX7_init_106 : decode cX7_init 106 = .ok (.dup, 1) := dk_89 (dk_at dksX7_init_4 14 rfl rfl)
theorem dX7_init_107 : decode cX7_init 107 = .ok (.iconst 2, 1) := dk_5 (dk_at dksX7_init_4 15 rfl rfl)
theorem dX7_init_108 : decode cX7_init 108 = .ok (.bipush 108, 2) := dk_16 108 (dk_at dksX7_init_4 16 rfl rfl)
theorem dX7_init_110 : decode cX7_init 110 = .ok (.castore, 1) := dk_85 (dk_at dksX7_init_4 18 rfl rfl)
theorem dX7_init_111 : decode cX7_init 111 = .ok (.dup, 1) := dk_89 (dk_at dksX7_init_4 19 rfl rfl)
theorem dX7_init_112 : decode cX7_init 112 = .ok (.iconst 3, 1) := dk_6 (dk_at dksX7_init_4 20 rfl rfl)
theorem dX7_init_113 : decode cX7_init 113 = .ok (.bipush 97, 2) := dk_16 97 (dk_at dksX7_init_4 21 rfl rfl)
theorem dX7_init_115 : decode cX7_init 115 = .ok (.castore, 1) := dk_85 (dk_at dksX7_init_4 23 rfl rfl)
theorem dX7_init_116 : decode cX7_init 116 = .ok (.dup, 1) := dk_89 (dk_at dksX7_init_5 0 rfl rfl)
theorem dX7_init_117 : decode cX7_init 117 = .ok (.iconst 4, 1) := dk_7 (dk_at dksX7_init_5 1 rfl rfl)
theorem dX7_init_118 : decode cX7_init 118 = .ok (.bipush 114, 2) := dk_16 114 (dk_at dksX7_init_5 2 rfl rfl)
theorem dX7_init_120 : decode cX7_init 120 = .ok (.castore, 1) := dk_85 (dk_at dksX7_init_5 4 rfl rfl)
theorem dX7_init_121 : decode cX7_init 121 = .ok (.dup, 1) := dk_89 (dk_at dksX7_init_5 5 rfl rfl)
theorem dX7_init_122 : decode cX7_init 122 = .ok (.iconst 5, 1) := dk_8 (dk_at dksX7_init_5 6 rfl rfl)
theorem dX7_init_123 : decode cX7_init 123 = .ok (.bipush 115, 2) := dk_16 115 (dk_at dksX7_init_5 7 rfl rfl)
theorem dX7_init_125 : decode cX7_init 125 = .ok (.castore, 1) := dk_85 (dk_at dksX7_init_5 9 rfl rfl)
theorem dX7_init_126 : decode cX7_init 126 = .ok (.putfield 29, 3) := dk_181 0 29 (dk_at dksX7_init_5 10 rfl rfl)
theorem dX7_init_129 : decode cX7_init 129 = .ok (.aload_n 0, 1) := dk_42 (dk_at dksX7_init_5 13 rfl rfl)
theorem dX7_init_130 : decode cX7_init 130 = .ok (.iconst 4, 1) := dk_7 (dk_at dksX7_init_5 14 rfl rfl)
theorem dX7_init_131 : decode cX7_init 131 = .ok (.newarray .int, 2) := dk_188_10 (dk_at dksX7_init_5 15 rfl rfl)
theorem dX7_init_133 : decode cX7_init 133 = .ok (.putfield 32, 3) := dk_181 0 32 (dk_at dksX7_init_5 17 rfl rfl)
theorem dX7_init_136 : decode cX7_init 136 = .ok (.aload_n 0, 1) := dk_42 (dk_at dksX7_init_5 20 rfl rfl)
theorem dX7_init_137 : decode cX7_init 137 = .ok (.bipush 36, 2) := dk_16 36 (dk_at dksX7_init_5 21 rfl rfl)
theorem dX7_init_139 : decode cX7_init 139 = .ok (.newarray .int, 2) := dk_188_10 (dk_at dksX7_init_6 0 rfl rfl)
theorem dX7_init_141 : decode cX7_init 141 = .ok (.putfield 35, 3) := dk_181 0 35 (dk_at dksX7_init_6 2 rfl rfl)
theorem dX7_init_144 : decode cX7_init 144 = .ok (.aload_n 0, 1) := dk_42 (dk_at dksX7_init_6 5 rfl rfl)
theorem dX7_init_145 : decode cX7_init 145 = .ok (.bipush 12, 2) := dk_16 12 (dk_at dksX7_init_6 6 rfl rfl)
theorem dX7_init_147 : decode cX7_init 147 = .ok (.newarray .int, 2) := dk_188_10 (dk_at dksX7_init_6 8 rfl rfl)
theorem dX7_init_149 : decode cX7_init 149 = .ok (.putfield 38, 3) := dk_181 0 38 (dk_at dksX7_init_6 10 rfl rfl)
theorem dX7_init_152 : decode cX7_init 152 = .ok (.return_, 1) := dk_177 (dk_at dksX7_init_6 13 rfl rfl)
abbrev cX7_image : ByteArray := prog_26_method_4_code
def yX7_image : MethodName := ⟨RX7, "image", "()I"⟩
def dkwX7_image_0 : List UInt8 := [42, 4, 181, 0, 41, 42, 180, 0, 13, 42, 180, 0, 16, 184, 0, 45, 42, 180, 0, 13, 3, 46, 172]
abbrev dktX7_image_0 : List UInt8 := dkwX7_image_0 ++ []
theorem dksX7_image_0 : cX7_image.data.toList.drop 0 = dktX7_image_0 := by decide +kernel
theorem dX7_image_0 : decode cX7_image 0 = .ok (.aload_n 0, 1) := dk_42 (dk_at dksX7_image_0 0 rfl rfl)
theorem dX7_image_1 : decode cX7_image 1 = .ok (.iconst 1, 1) := dk_4 (dk_at dksX7_image_0 1 rfl rfl)
theorem dX7_image_2 : decode cX7_image 2 = .ok (.putfield 41, 3) := dk_181 0 41 (dk_at dksX7_image_0 2 rfl rfl)
theorem dX7_image_5 : decode cX7_image 5 = .ok (.aload_n 0, 1) := dk_42 (dk_at dksX7_image_0 5 rfl rfl)
theorem dX7_image_6 : decode cX7_image 6 = .ok (.getfield 13, 3) := dk_180 0 13 (dk_at dksX7_image_0 6 rfl rfl)
theorem dX7_image_9 : decode cX7_image 9 = .ok (.aload_n 0, 1) := dk_42 (dk_at dksX7_image_0 9 rfl rfl)
theorem dX7_image_10 : decode cX7_image 10 = .ok (.getfield 16, 3) := dk_180 0 16 (dk_at dksX7_image_0 10 rfl rfl)
theorem dX7_image_13 : decode cX7_image 13 = .ok (.invokestatic 45, 3) := dk_184 0 45 (dk_at dksX7_image_0 13 rfl rfl)
theorem dX7_image_16 : decode cX7_image 16 = .ok (.aload_n 0, 1) := dk_42 (dk_at dksX7_image_0 16 rfl rfl)
theorem dX7_image_17 : decode cX7_image 17 = .ok (.getfield 13, 3) := dk_180 0 13 (dk_at dksX7_image_0 17 rfl rfl)
theorem dX7_image_20 : decode cX7_image 20 = .ok (.iconst 0, 1) := dk_3 (dk_at dksX7_image_0 20 rfl rfl)
theorem dX7_image_21 : decode cX7_image 21 = .ok (.iaload, 1) := dk_46 (dk_at dksX7_image_0 21 rfl rfl)
theorem dX7_image_22 : decode cX7_image 22 = .ok (.ireturn, 1) := dk_172 (dk_at dksX7_image_0 22 rfl rfl)
abbrev cX7_move : ByteArray := prog_26_method_3_code
def yX7_move : MethodName := ⟨RX7, "move", "([I[I)V"⟩
def dkwX7_move_0 : List UInt8 := [3, 61, 28, 17, 0, 144, 162, 0, 15, 43, 28, 42, 28, 46, 79, 132, 2, 1, 167, 255, 240, 177]
abbrev dktX7_move_0 : List UInt8 := dkwX7_move_0 ++ []
theorem dksX7_move_0 : cX7_move.data.toList.drop 0 = dktX7_move_0 := by decide +kernel
theorem dX7_move_0 : decode cX7_move 0 = .ok (.iconst 0, 1) := dk_3 (dk_at dksX7_move_0 0 rfl rfl)
theorem dX7_move_1 : decode cX7_move 1 = .ok (.istore_n 2, 1) := dk_61 (dk_at dksX7_move_0 1 rfl rfl)
theorem dX7_move_2 : decode cX7_move 2 = .ok (.iload_n 2, 1) := dk_28 (dk_at dksX7_move_0 2 rfl rfl)
theorem dX7_move_3 : decode cX7_move 3 = .ok (.sipush 144, 3) := dk_17 0 144 (dk_at dksX7_move_0 3 rfl rfl)
theorem dX7_move_6 : decode cX7_move 6 = .ok (.if_icmp .ge 15, 3) := dk_162 0 15 (dk_at dksX7_move_0 6 rfl rfl)
theorem dX7_move_9 : decode cX7_move 9 = .ok (.aload_n 1, 1) := dk_43 (dk_at dksX7_move_0 9 rfl rfl)
theorem dX7_move_10 : decode cX7_move 10 = .ok (.iload_n 2, 1) := dk_28 (dk_at dksX7_move_0 10 rfl rfl)
theorem dX7_move_11 : decode cX7_move 11 = .ok (.aload_n 0, 1) := dk_42 (dk_at dksX7_move_0 11 rfl rfl)
theorem dX7_move_12 : decode cX7_move 12 = .ok (.iload_n 2, 1) := dk_28 (dk_at dksX7_move_0 12 rfl rfl)
theorem dX7_move_13 : decode cX7_move 13 = .ok (.iaload, 1) := dk_46 (dk_at dksX7_move_0 13 rfl rfl)
theorem dX7_move_14 : decode cX7_move 14 = .ok (.iastore, 1) := dk_79 (dk_at dksX7_move_0 14 rfl rfl)
theorem dX7_move_15 : decode cX7_move 15 = .ok (.iinc 2 1, 3) := dk_132 2 1 (dk_at dksX7_move_0 15 rfl rfl)
theorem dX7_move_18 : decode cX7_move 18 = .ok (.goto (-16), 3) := dk_167 255 240 (dk_at dksX7_move_0 18 rfl rfl)
theorem dX7_move_21 : decode cX7_move 21 = .ok (.return_, 1) := dk_177 (dk_at dksX7_move_0 21 rfl rfl)
abbrev cX7_on : ByteArray := prog_26_method_5_code
def yX7_on : MethodName := ⟨RX7, "on", "()I"⟩
def dkwX7_on_1 : List UInt8 := [184, 0, 45, 42, 180, 0, 13, 3, 46, 172]
abbrev dktX7_on_1 : List UInt8 := dkwX7_on_1 ++ []
def dkwX7_on_0 : List UInt8 := [42, 180, 0, 41, 154, 0, 10, 42, 16, 253, 182, 0, 49, 172, 42, 180, 0, 16, 42, 180, 0, 13]
abbrev dktX7_on_0 : List UInt8 := dkwX7_on_0 ++ dktX7_on_1
theorem dksX7_on_0 : cX7_on.data.toList.drop 0 = dktX7_on_0 := by decide +kernel
theorem dksX7_on_1 : cX7_on.data.toList.drop 22 = dktX7_on_1 := dk_seg dksX7_on_0 22 rfl rfl
theorem dX7_on_0 : decode cX7_on 0 = .ok (.aload_n 0, 1) := dk_42 (dk_at dksX7_on_0 0 rfl rfl)
theorem dX7_on_1 : decode cX7_on 1 = .ok (.getfield 41, 3) := dk_180 0 41 (dk_at dksX7_on_0 1 rfl rfl)
theorem dX7_on_4 : decode cX7_on 4 = .ok (.ifCond .ne 10, 3) := dk_154 0 10 (dk_at dksX7_on_0 4 rfl rfl)
theorem dX7_on_7 : decode cX7_on 7 = .ok (.aload_n 0, 1) := dk_42 (dk_at dksX7_on_0 7 rfl rfl)
theorem dX7_on_8 : decode cX7_on 8 = .ok (.bipush (-3), 2) := dk_16 253 (dk_at dksX7_on_0 8 rfl rfl)
theorem dX7_on_10 : decode cX7_on 10 = .ok (.invokevirtual 49, 3) := dk_182 0 49 (dk_at dksX7_on_0 10 rfl rfl)
theorem dX7_on_13 : decode cX7_on 13 = .ok (.ireturn, 1) := dk_172 (dk_at dksX7_on_0 13 rfl rfl)
theorem dX7_on_14 : decode cX7_on 14 = .ok (.aload_n 0, 1) := dk_42 (dk_at dksX7_on_0 14 rfl rfl)
theorem dX7_on_15 : decode cX7_on 15 = .ok (.getfield 16, 3) := dk_180 0 16 (dk_at dksX7_on_0 15 rfl rfl)
theorem dX7_on_18 : decode cX7_on 18 = .ok (.aload_n 0, 1) := dk_42 (dk_at dksX7_on_0 18 rfl rfl)
theorem dX7_on_19 : decode cX7_on 19 = .ok (.getfield 13, 3) := dk_180 0 13 (dk_at dksX7_on_0 19 rfl rfl)
theorem dX7_on_22 : decode cX7_on 22 = .ok (.invokestatic 45, 3) := dk_184 0 45 (dk_at dksX7_on_1 0 rfl rfl)
theorem dX7_on_25 : decode cX7_on 25 = .ok (.aload_n 0, 1) := dk_42 (dk_at dksX7_on_1 3 rfl rfl)
theorem dX7_on_26 : decode cX7_on 26 = .ok (.getfield 13, 3) := dk_180 0 13 (dk_at dksX7_on_1 4 rfl rfl)
theorem dX7_on_29 : decode cX7_on 29 = .ok (.iconst 0, 1) := dk_3 (dk_at dksX7_on_1 7 rfl rfl)
theorem dX7_on_30 : decode cX7_on 30 = .ok (.iaload, 1) := dk_46 (dk_at dksX7_on_1 8 rfl rfl)
theorem dX7_on_31 : decode cX7_on 31 = .ok (.ireturn, 1) := dk_172 (dk_at dksX7_on_1 9 rfl rfl)
abbrev cX7_no : ByteArray := prog_26_method_2_code
def yX7_no : MethodName := ⟨RX7, "no", "(I)I"⟩
def dkwX7_no_0 : List UInt8 := [42, 180, 0, 7, 27, 116, 92, 46, 4, 96, 79, 27, 172]
abbrev dktX7_no_0 : List UInt8 := dkwX7_no_0 ++ []
theorem dksX7_no_0 : cX7_no.data.toList.drop 0 = dktX7_no_0 := by decide +kernel
theorem dX7_no_0 : decode cX7_no 0 = .ok (.aload_n 0, 1) := dk_42 (dk_at dksX7_no_0 0 rfl rfl)
theorem dX7_no_1 : decode cX7_no 1 = .ok (.getfield 7, 3) := dk_180 0 7 (dk_at dksX7_no_0 1 rfl rfl)
theorem dX7_no_4 : decode cX7_no 4 = .ok (.iload_n 1, 1) := dk_27 (dk_at dksX7_no_0 4 rfl rfl)
theorem dX7_no_5 : decode cX7_no 5 = .ok (.ineg, 1) := dk_116 (dk_at dksX7_no_0 5 rfl rfl)
theorem dX7_no_6 : decode cX7_no 6 = .ok (.dup2, 1) := dk_92 (dk_at dksX7_no_0 6 rfl rfl)
theorem dX7_no_7 : decode cX7_no 7 = .ok (.iaload, 1) := dk_46 (dk_at dksX7_no_0 7 rfl rfl)
theorem dX7_no_8 : decode cX7_no 8 = .ok (.iconst 1, 1) := dk_4 (dk_at dksX7_no_0 8 rfl rfl)
theorem dX7_no_9 : decode cX7_no 9 = .ok (.iadd, 1) := dk_96 (dk_at dksX7_no_0 9 rfl rfl)
theorem dX7_no_10 : decode cX7_no 10 = .ok (.iastore, 1) := dk_79 (dk_at dksX7_no_0 10 rfl rfl)
theorem dX7_no_11 : decode cX7_no 11 = .ok (.iload_n 1, 1) := dk_27 (dk_at dksX7_no_0 11 rfl rfl)
theorem dX7_no_12 : decode cX7_no 12 = .ok (.ireturn, 1) := dk_172 (dk_at dksX7_no_0 12 rfl rfl)
abbrev cX7_letter : ByteArray := prog_26_method_6_code
def yX7_letter : MethodName := ⟨RX7, "letter", "(I)I"⟩
def dkwX7_letter_2 : List UInt8 := [180, 0, 53, 4, 96, 181, 0, 53, 42, 180, 0, 53, 172]
abbrev dktX7_letter_2 : List UInt8 := dkwX7_letter_2 ++ []
def dkwX7_letter_1 : List UInt8 := [160, 0, 10, 42, 16, 250, 182, 0, 49, 172, 42, 180, 0, 22, 42, 180, 0, 53, 27, 79, 42, 89]
abbrev dktX7_letter_1 : List UInt8 := dkwX7_letter_1 ++ dktX7_letter_2
def dkwX7_letter_0 : List UInt8 := [27, 156, 0, 10, 42, 16, 252, 182, 0, 49, 172, 27, 17, 0, 255, 163, 0, 12, 42, 180, 0, 53, 16, 64]
abbrev dktX7_letter_0 : List UInt8 := dkwX7_letter_0 ++ dktX7_letter_1
theorem dksX7_letter_0 : cX7_letter.data.toList.drop 0 = dktX7_letter_0 := by decide +kernel
theorem dksX7_letter_1 : cX7_letter.data.toList.drop 24 = dktX7_letter_1 := dk_seg dksX7_letter_0 24 rfl rfl
theorem dksX7_letter_2 : cX7_letter.data.toList.drop 46 = dktX7_letter_2 := dk_seg dksX7_letter_1 22 rfl rfl
theorem dX7_letter_0 : decode cX7_letter 0 = .ok (.iload_n 1, 1) := dk_27 (dk_at dksX7_letter_0 0 rfl rfl)
theorem dX7_letter_1 : decode cX7_letter 1 = .ok (.ifCond .ge 10, 3) := dk_156 0 10 (dk_at dksX7_letter_0 1 rfl rfl)
theorem dX7_letter_4 : decode cX7_letter 4 = .ok (.aload_n 0, 1) := dk_42 (dk_at dksX7_letter_0 4 rfl rfl)
theorem dX7_letter_5 : decode cX7_letter 5 = .ok (.bipush (-4), 2) := dk_16 252 (dk_at dksX7_letter_0 5 rfl rfl)
theorem dX7_letter_7 : decode cX7_letter 7 = .ok (.invokevirtual 49, 3) := dk_182 0 49 (dk_at dksX7_letter_0 7 rfl rfl)
theorem dX7_letter_10 : decode cX7_letter 10 = .ok (.ireturn, 1) := dk_172 (dk_at dksX7_letter_0 10 rfl rfl)
theorem dX7_letter_11 : decode cX7_letter 11 = .ok (.iload_n 1, 1) := dk_27 (dk_at dksX7_letter_0 11 rfl rfl)
theorem dX7_letter_12 : decode cX7_letter 12 = .ok (.sipush 255, 3) := dk_17 0 255 (dk_at dksX7_letter_0 12 rfl rfl)
theorem dX7_letter_15 : decode cX7_letter 15 = .ok (.if_icmp .gt 12, 3) := dk_163 0 12 (dk_at dksX7_letter_0 15 rfl rfl)
theorem dX7_letter_18 : decode cX7_letter 18 = .ok (.aload_n 0, 1) := dk_42 (dk_at dksX7_letter_0 18 rfl rfl)
theorem dX7_letter_19 : decode cX7_letter 19 = .ok (.getfield 53, 3) := dk_180 0 53 (dk_at dksX7_letter_0 19 rfl rfl)
theorem dX7_letter_22 : decode cX7_letter 22 = .ok (.bipush 64, 2) := dk_16 64 (dk_at dksX7_letter_0 22 rfl rfl)
theorem dX7_letter_24 : decode cX7_letter 24 = .ok (.if_icmp .ne 10, 3) := dk_160 0 10 (dk_at dksX7_letter_1 0 rfl rfl)
theorem dX7_letter_27 : decode cX7_letter 27 = .ok (.aload_n 0, 1) := dk_42 (dk_at dksX7_letter_1 3 rfl rfl)
theorem dX7_letter_28 : decode cX7_letter 28 = .ok (.bipush (-6), 2) := dk_16 250 (dk_at dksX7_letter_1 4 rfl rfl)
theorem dX7_letter_30 : decode cX7_letter 30 = .ok (.invokevirtual 49, 3) := dk_182 0 49 (dk_at dksX7_letter_1 6 rfl rfl)
theorem dX7_letter_33 : decode cX7_letter 33 = .ok (.ireturn, 1) := dk_172 (dk_at dksX7_letter_1 9 rfl rfl)
theorem dX7_letter_34 : decode cX7_letter 34 = .ok (.aload_n 0, 1) := dk_42 (dk_at dksX7_letter_1 10 rfl rfl)
theorem dX7_letter_35 : decode cX7_letter 35 = .ok (.getfield 22, 3) := dk_180 0 22 (dk_at dksX7_letter_1 11 rfl rfl)
theorem dX7_letter_38 : decode cX7_letter 38 = .ok (.aload_n 0, 1) := dk_42 (dk_at dksX7_letter_1 14 rfl rfl)
theorem dX7_letter_39 : decode cX7_letter 39 = .ok (.getfield 53, 3) := dk_180 0 53 (dk_at dksX7_letter_1 15 rfl rfl)
theorem dX7_letter_42 : decode cX7_letter 42 = .ok (.iload_n 1, 1) := dk_27 (dk_at dksX7_letter_1 18 rfl rfl)
theorem dX7_letter_43 : decode cX7_letter 43 = .ok (.iastore, 1) := dk_79 (dk_at dksX7_letter_1 19 rfl rfl)
theorem dX7_letter_44 : decode cX7_letter 44 = .ok (.aload_n 0, 1) := dk_42 (dk_at dksX7_letter_1 20 rfl rfl)
theorem dX7_letter_45 : decode cX7_letter 45 = .ok (.dup, 1) := dk_89 (dk_at dksX7_letter_1 21 rfl rfl)
theorem dX7_letter_46 : decode cX7_letter 46 = .ok (.getfield 53, 3) := dk_180 0 53 (dk_at dksX7_letter_2 0 rfl rfl)
theorem dX7_letter_49 : decode cX7_letter 49 = .ok (.iconst 1, 1) := dk_4 (dk_at dksX7_letter_2 3 rfl rfl)
theorem dX7_letter_50 : decode cX7_letter 50 = .ok (.iadd, 1) := dk_96 (dk_at dksX7_letter_2 4 rfl rfl)
theorem dX7_letter_51 : decode cX7_letter 51 = .ok (.putfield 53, 3) := dk_181 0 53 (dk_at dksX7_letter_2 5 rfl rfl)
theorem dX7_letter_54 : decode cX7_letter 54 = .ok (.aload_n 0, 1) := dk_42 (dk_at dksX7_letter_2 8 rfl rfl)
theorem dX7_letter_55 : decode cX7_letter 55 = .ok (.getfield 53, 3) := dk_180 0 53 (dk_at dksX7_letter_2 9 rfl rfl)
theorem dX7_letter_58 : decode cX7_letter 58 = .ok (.ireturn, 1) := dk_172 (dk_at dksX7_letter_2 12 rfl rfl)
abbrev cX7_town : ByteArray := prog_26_method_16_code
def yX7_town : MethodName := ⟨RX7, "town", "()I"⟩
def dkwX7_town_0 : List UInt8 := [42, 182, 0, 95, 60, 42, 3, 181, 0, 53, 27, 172]
abbrev dktX7_town_0 : List UInt8 := dkwX7_town_0 ++ []
theorem dksX7_town_0 : cX7_town.data.toList.drop 0 = dktX7_town_0 := by decide +kernel
theorem dX7_town_0 : decode cX7_town 0 = .ok (.aload_n 0, 1) := dk_42 (dk_at dksX7_town_0 0 rfl rfl)
theorem dX7_town_1 : decode cX7_town 1 = .ok (.invokevirtual 95, 3) := dk_182 0 95 (dk_at dksX7_town_0 1 rfl rfl)
theorem dX7_town_4 : decode cX7_town 4 = .ok (.istore_n 1, 1) := dk_60 (dk_at dksX7_town_0 4 rfl rfl)
theorem dX7_town_5 : decode cX7_town 5 = .ok (.aload_n 0, 1) := dk_42 (dk_at dksX7_town_0 5 rfl rfl)
theorem dX7_town_6 : decode cX7_town 6 = .ok (.iconst 0, 1) := dk_3 (dk_at dksX7_town_0 6 rfl rfl)
theorem dX7_town_7 : decode cX7_town 7 = .ok (.putfield 53, 3) := dk_181 0 53 (dk_at dksX7_town_0 7 rfl rfl)
theorem dX7_town_10 : decode cX7_town 10 = .ok (.iload_n 1, 1) := dk_27 (dk_at dksX7_town_0 10 rfl rfl)
theorem dX7_town_11 : decode cX7_town 11 = .ok (.ireturn, 1) := dk_172 (dk_at dksX7_town_0 11 rfl rfl)
abbrev cX7_read : ByteArray := prog_26_method_15_code
def yX7_read : MethodName := ⟨RX7, "read", "()I"⟩
def dkwX7_read_5 : List UInt8 := [167, 255, 208, 27, 172]
abbrev dktX7_read_5 : List UInt8 := dkwX7_read_5 ++ []
def dkwX7_read_4 : List UInt8 := [154, 0, 20, 42, 180, 0, 19, 42, 180, 0, 13, 184, 0, 45, 17, 248, 48, 28, 100, 172, 42, 182, 0, 92]
abbrev dktX7_read_4 : List UInt8 := dkwX7_read_4 ++ dktX7_read_5
def dkwX7_read_3 : List UInt8 := [180, 0, 60, 42, 180, 0, 53, 162, 0, 43, 42, 180, 0, 60, 61, 42, 182, 0, 85, 42, 182, 0, 88]
abbrev dktX7_read_3 : List UInt8 := dkwX7_read_3 ++ dktX7_read_4
def dkwX7_read_2 : List UInt8 := [42, 180, 0, 60, 100, 172, 42, 180, 0, 13, 42, 180, 0, 19, 184, 0, 45, 42, 3, 181, 0, 60, 42]
abbrev dktX7_read_2 : List UInt8 := dkwX7_read_2 ++ dktX7_read_3
def dkwX7_read_1 : List UInt8 := [153, 0, 14, 42, 180, 0, 60, 42, 180, 0, 53, 161, 255, 234, 42, 180, 0, 57, 154, 0, 12, 17, 252, 24]
abbrev dktX7_read_1 : List UInt8 := dkwX7_read_1 ++ dktX7_read_2
def dkwX7_read_0 : List UInt8 := [3, 60, 42, 3, 181, 0, 60, 42, 4, 181, 0, 57, 42, 182, 0, 85, 132, 1, 1, 42, 180, 0, 57]
abbrev dktX7_read_0 : List UInt8 := dkwX7_read_0 ++ dktX7_read_1
theorem dksX7_read_0 : cX7_read.data.toList.drop 0 = dktX7_read_0 := by decide +kernel
theorem dksX7_read_1 : cX7_read.data.toList.drop 23 = dktX7_read_1 := dk_seg dksX7_read_0 23 rfl rfl
theorem dksX7_read_2 : cX7_read.data.toList.drop 47 = dktX7_read_2 := dk_seg dksX7_read_1 24 rfl rfl
theorem dksX7_read_3 : cX7_read.data.toList.drop 70 = dktX7_read_3 := dk_seg dksX7_read_2 23 rfl rfl
theorem dksX7_read_4 : cX7_read.data.toList.drop 93 = dktX7_read_4 := dk_seg dksX7_read_3 23 rfl rfl
theorem dksX7_read_5 : cX7_read.data.toList.drop 117 = dktX7_read_5 := dk_seg dksX7_read_4 24 rfl rfl
theorem dX7_read_0 : decode cX7_read 0 = .ok (.iconst 0, 1) := dk_3 (dk_at dksX7_read_0 0 rfl rfl)
theorem dX7_read_1 : decode cX7_read 1 = .ok (.istore_n 1, 1) := dk_60 (dk_at dksX7_read_0 1 rfl rfl)
theorem dX7_read_2 : decode cX7_read 2 = .ok (.aload_n 0, 1) := dk_42 (dk_at dksX7_read_0 2 rfl rfl)
theorem dX7_read_3 : decode cX7_read 3 = .ok (.iconst 0, 1) := dk_3 (dk_at dksX7_read_0 3 rfl rfl)
theorem dX7_read_4 : decode cX7_read 4 = .ok (.putfield 60, 3) := dk_181 0 60 (dk_at dksX7_read_0 4 rfl rfl)
theorem dX7_read_7 : decode cX7_read 7 = .ok (.aload_n 0, 1) := dk_42 (dk_at dksX7_read_0 7 rfl rfl)
theorem dX7_read_8 : decode cX7_read 8 = .ok (.iconst 1, 1) := dk_4 (dk_at dksX7_read_0 8 rfl rfl)
theorem dX7_read_9 : decode cX7_read 9 = .ok (.putfield 57, 3) := dk_181 0 57 (dk_at dksX7_read_0 9 rfl rfl)
theorem dX7_read_12 : decode cX7_read 12 = .ok (.aload_n 0, 1) := dk_42 (dk_at dksX7_read_0 12 rfl rfl)
theorem dX7_read_13 : decode cX7_read 13 = .ok (.invokevirtual 85, 3) := dk_182 0 85 (dk_at dksX7_read_0 13 rfl rfl)
theorem dX7_read_16 : decode cX7_read 16 = .ok (.iinc 1 1, 3) := dk_132 1 1 (dk_at dksX7_read_0 16 rfl rfl)
theorem dX7_read_19 : decode cX7_read 19 = .ok (.aload_n 0, 1) := dk_42 (dk_at dksX7_read_0 19 rfl rfl)
theorem dX7_read_20 : decode cX7_read 20 = .ok (.getfield 57, 3) := dk_180 0 57 (dk_at dksX7_read_0 20 rfl rfl)
theorem dX7_read_23 : decode cX7_read 23 = .ok (.ifCond .eq 14, 3) := dk_153 0 14 (dk_at dksX7_read_1 0 rfl rfl)
theorem dX7_read_26 : decode cX7_read 26 = .ok (.aload_n 0, 1) := dk_42 (dk_at dksX7_read_1 3 rfl rfl)
theorem dX7_read_27 : decode cX7_read 27 = .ok (.getfield 60, 3) := dk_180 0 60 (dk_at dksX7_read_1 4 rfl rfl)
theorem dX7_read_30 : decode cX7_read 30 = .ok (.aload_n 0, 1) := dk_42 (dk_at dksX7_read_1 7 rfl rfl)
theorem dX7_read_31 : decode cX7_read 31 = .ok (.getfield 53, 3) := dk_180 0 53 (dk_at dksX7_read_1 8 rfl rfl)
theorem dX7_read_34 : decode cX7_read 34 = .ok (.if_icmp .lt (-22), 3) := dk_161 255 234 (dk_at dksX7_read_1 11 rfl rfl)
theorem dX7_read_37 : decode cX7_read 37 = .ok (.aload_n 0, 1) := dk_42 (dk_at dksX7_read_1 14 rfl rfl)
theorem dX7_read_38 : decode cX7_read 38 = .ok (.getfield 57, 3) := dk_180 0 57 (dk_at dksX7_read_1 15 rfl rfl)
theorem dX7_read_41 : decode cX7_read 41 = .ok (.ifCond .ne 12, 3) := dk_154 0 12 (dk_at dksX7_read_1 18 rfl rfl)
theorem dX7_read_44 : decode cX7_read 44 = .ok (.sipush (-1000), 3) := dk_17 252 24 (dk_at dksX7_read_1 21 rfl rfl)
theorem dX7_read_47 : decode cX7_read 47 = .ok (.aload_n 0, 1) := dk_42 (dk_at dksX7_read_2 0 rfl rfl)
theorem dX7_read_48 : decode cX7_read 48 = .ok (.getfield 60, 3) := dk_180 0 60 (dk_at dksX7_read_2 1 rfl rfl)
theorem dX7_read_51 : decode cX7_read 51 = .ok (.isub, 1) := dk_100 (dk_at dksX7_read_2 4 rfl rfl)
theorem dX7_read_52 : decode cX7_read 52 = .ok (.ireturn, 1) := dk_172 (dk_at dksX7_read_2 5 rfl rfl)
theorem dX7_read_53 : decode cX7_read 53 = .ok (.aload_n 0, 1) := dk_42 (dk_at dksX7_read_2 6 rfl rfl)
theorem dX7_read_54 : decode cX7_read 54 = .ok (.getfield 13, 3) := dk_180 0 13 (dk_at dksX7_read_2 7 rfl rfl)
theorem dX7_read_57 : decode cX7_read 57 = .ok (.aload_n 0, 1) := dk_42 (dk_at dksX7_read_2 10 rfl rfl)
theorem dX7_read_58 : decode cX7_read 58 = .ok (.getfield 19, 3) := dk_180 0 19 (dk_at dksX7_read_2 11 rfl rfl)
theorem dX7_read_61 : decode cX7_read 61 = .ok (.invokestatic 45, 3) := dk_184 0 45 (dk_at dksX7_read_2 14 rfl rfl)
theorem dX7_read_64 : decode cX7_read 64 = .ok (.aload_n 0, 1) := dk_42 (dk_at dksX7_read_2 17 rfl rfl)
theorem dX7_read_65 : decode cX7_read 65 = .ok (.iconst 0, 1) := dk_3 (dk_at dksX7_read_2 18 rfl rfl)
theorem dX7_read_66 : decode cX7_read 66 = .ok (.putfield 60, 3) := dk_181 0 60 (dk_at dksX7_read_2 19 rfl rfl)
theorem dX7_read_69 : decode cX7_read 69 = .ok (.aload_n 0, 1) := dk_42 (dk_at dksX7_read_2 22 rfl rfl)
theorem dX7_read_70 : decode cX7_read 70 = .ok (.getfield 60, 3) := dk_180 0 60 (dk_at dksX7_read_3 0 rfl rfl)
theorem dX7_read_73 : decode cX7_read 73 = .ok (.aload_n 0, 1) := dk_42 (dk_at dksX7_read_3 3 rfl rfl)
theorem dX7_read_74 : decode cX7_read 74 = .ok (.getfield 53, 3) := dk_180 0 53 (dk_at dksX7_read_3 4 rfl rfl)
theorem dX7_read_77 : decode cX7_read 77 = .ok (.if_icmp .ge 43, 3) := dk_162 0 43 (dk_at dksX7_read_3 7 rfl rfl)
theorem dX7_read_80 : decode cX7_read 80 = .ok (.aload_n 0, 1) := dk_42 (dk_at dksX7_read_3 10 rfl rfl)
theorem dX7_read_81 : decode cX7_read 81 = .ok (.getfield 60, 3) := dk_180 0 60 (dk_at dksX7_read_3 11 rfl rfl)
theorem dX7_read_84 : decode cX7_read 84 = .ok (.istore_n 2, 1) := dk_61 (dk_at dksX7_read_3 14 rfl rfl)
theorem dX7_read_85 : decode cX7_read 85 = .ok (.aload_n 0, 1) := dk_42 (dk_at dksX7_read_3 15 rfl rfl)
theorem dX7_read_86 : decode cX7_read 86 = .ok (.invokevirtual 85, 3) := dk_182 0 85 (dk_at dksX7_read_3 16 rfl rfl)
theorem dX7_read_89 : decode cX7_read 89 = .ok (.aload_n 0, 1) := dk_42 (dk_at dksX7_read_3 19 rfl rfl)
theorem dX7_read_90 : decode cX7_read 90 = .ok (.invokevirtual 88, 3) := dk_182 0 88 (dk_at dksX7_read_3 20 rfl rfl)
theorem dX7_read_93 : decode cX7_read 93 = .ok (.ifCond .ne 20, 3) := dk_154 0 20 (dk_at dksX7_read_4 0 rfl rfl)
theorem dX7_read_96 : decode cX7_read 96 = .ok (.aload_n 0, 1) := dk_42 (dk_at dksX7_read_4 3 rfl rfl)
theorem dX7_read_97 : decode cX7_read 97 = .ok (.getfield 19, 3) := dk_180 0 19 (dk_at dksX7_read_4 4 rfl rfl)
theorem dX7_read_100 : decode cX7_read 100 = .ok (.aload_n 0, 1) := dk_42 (dk_at dksX7_read_4 7 rfl rfl)
theorem dX7_read_101 : decode cX7_read 101 = .ok (.getfield 13, 3) := dk_180 0 13 (dk_at dksX7_read_4 8 rfl rfl)
theorem dX7_read_104 : decode cX7_read 104 = .ok (.invokestatic 45, 3) := dk_184 0 45 (dk_at dksX7_read_4 11 rfl rfl)
theorem dX7_read_107 : decode cX7_read 107 = .ok (.sipush (-2000), 3) := dk_17 248 48 (dk_at dksX7_read_4 14 rfl rfl)
theorem dX7_read_110 : decode cX7_read 110 = .ok (.iload_n 2, 1) := dk_28 (dk_at dksX7_read_4 17 rfl rfl)
theorem dX7_read_111 : decode cX7_read 111 = .ok (.isub, 1) := dk_100 (dk_at dksX7_read_4 18 rfl rfl)
theorem dX7_read_112 : decode cX7_read 112 = .ok (.ireturn, 1) := dk_172 (dk_at dksX7_read_4 19 rfl rfl)
theorem dX7_read_113 : decode cX7_read 113 = .ok (.aload_n 0, 1) := dk_42 (dk_at dksX7_read_4 20 rfl rfl)
theorem dX7_read_114 : decode cX7_read 114 = .ok (.invokevirtual 92, 3) := dk_182 0 92 (dk_at dksX7_read_4 21 rfl rfl)
theorem dX7_read_117 : decode cX7_read 117 = .ok (.goto (-48), 3) := dk_167 255 208 (dk_at dksX7_read_5 0 rfl rfl)
theorem dX7_read_120 : decode cX7_read 120 = .ok (.iload_n 1, 1) := dk_27 (dk_at dksX7_read_5 3 rfl rfl)
theorem dX7_read_121 : decode cX7_read 121 = .ok (.ireturn, 1) := dk_172 (dk_at dksX7_read_5 4 rfl rfl)
abbrev cX7_statement : ByteArray := prog_26_method_10_code
def yX7_statement : MethodName := ⟨RX7, "statement", "()V"⟩
def dkwX7_statement_8 : List UInt8 := [182, 0, 70, 79, 42, 16, 59, 182, 0, 74, 177]
abbrev dktX7_statement_8 : List UInt8 := dkwX7_statement_8 ++ []
def dkwX7_statement_7 : List UInt8 := [180, 0, 32, 3, 42, 4, 4, 182, 0, 70, 79, 167, 0, 15, 42, 180, 0, 32, 3, 42, 5, 5]
abbrev dktX7_statement_7 : List UInt8 := dkwX7_statement_7 ++ dktX7_statement_8
def dkwX7_statement_6 : List UInt8 := [42, 4, 4, 182, 0, 70, 79, 42, 180, 0, 32, 4, 42, 4, 4, 182, 0, 70, 79, 167, 0, 30, 42]
abbrev dktX7_statement_6 : List UInt8 := dkwX7_statement_6 ++ dktX7_statement_7
def dkwX7_statement_5 : List UInt8 := [182, 0, 70, 79, 42, 180, 0, 32, 4, 42, 4, 4, 182, 0, 70, 79, 167, 0, 57, 42, 180, 0, 32, 3]
abbrev dktX7_statement_5 : List UInt8 := dkwX7_statement_5 ++ dktX7_statement_6
def dkwX7_statement_4 : List UInt8 := [180, 0, 32, 6, 42, 4, 4, 182, 0, 70, 79, 167, 0, 84, 42, 180, 0, 32, 3, 42, 5, 5]
abbrev dktX7_statement_4 : List UInt8 := dkwX7_statement_4 ++ dktX7_statement_5
def dkwX7_statement_3 : List UInt8 := [182, 0, 70, 79, 42, 180, 0, 32, 5, 42, 4, 5, 182, 0, 70, 79, 42, 16, 44, 182, 0, 74, 42]
abbrev dktX7_statement_3 : List UInt8 := dkwX7_statement_3 ++ dktX7_statement_4
def dkwX7_statement_2 : List UInt8 := [42, 180, 0, 32, 3, 42, 42, 180, 0, 29, 182, 0, 63, 79, 42, 180, 0, 32, 4, 42, 5, 5]
abbrev dktX7_statement_2 : List UInt8 := dkwX7_statement_2 ++ dktX7_statement_3
def dkwX7_statement_1 : List UInt8 := [170, 0, 0, 0, 0, 0, 0, 168, 0, 0, 0, 0, 0, 0, 0, 5, 0, 0, 0, 40, 0, 0, 0, 99, 0, 0, 0, 126, 0, 0, 0, 99, 0, 0, 0, 126, 0, 0, 0, 153]
abbrev dktX7_statement_1 : List UInt8 := dkwX7_statement_1 ++ dktX7_statement_2
def dkwX7_statement_0 : List UInt8 := [42, 42, 42, 180, 0, 25, 182, 0, 63, 181, 0, 67, 42, 180, 0, 67]
abbrev dktX7_statement_0 : List UInt8 := dkwX7_statement_0 ++ dktX7_statement_1
theorem dksX7_statement_0 : cX7_statement.data.toList.drop 0 = dktX7_statement_0 := by decide +kernel
theorem dksX7_statement_1 : cX7_statement.data.toList.drop 16 = dktX7_statement_1 := dk_seg dksX7_statement_0 16 rfl rfl
theorem dksX7_statement_2 : cX7_statement.data.toList.drop 56 = dktX7_statement_2 := dk_seg dksX7_statement_1 40 rfl rfl
theorem dksX7_statement_3 : cX7_statement.data.toList.drop 78 = dktX7_statement_3 := dk_seg dksX7_statement_2 22 rfl rfl
theorem dksX7_statement_4 : cX7_statement.data.toList.drop 101 = dktX7_statement_4 := dk_seg dksX7_statement_3 23 rfl rfl
theorem dksX7_statement_5 : cX7_statement.data.toList.drop 123 = dktX7_statement_5 := dk_seg dksX7_statement_4 22 rfl rfl
theorem dksX7_statement_6 : cX7_statement.data.toList.drop 147 = dktX7_statement_6 := dk_seg dksX7_statement_5 24 rfl rfl
theorem dksX7_statement_7 : cX7_statement.data.toList.drop 170 = dktX7_statement_7 := dk_seg dksX7_statement_6 23 rfl rfl
theorem dksX7_statement_8 : cX7_statement.data.toList.drop 192 = dktX7_statement_8 := dk_seg dksX7_statement_7 22 rfl rfl
theorem dX7_statement_0 : decode cX7_statement 0 = .ok (.aload_n 0, 1) := dk_42 (dk_at dksX7_statement_0 0 rfl rfl)
theorem dX7_statement_1 : decode cX7_statement 1 = .ok (.aload_n 0, 1) := dk_42 (dk_at dksX7_statement_0 1 rfl rfl)
theorem dX7_statement_2 : decode cX7_statement 2 = .ok (.aload_n 0, 1) := dk_42 (dk_at dksX7_statement_0 2 rfl rfl)
theorem dX7_statement_3 : decode cX7_statement 3 = .ok (.getfield 25, 3) := dk_180 0 25 (dk_at dksX7_statement_0 3 rfl rfl)
theorem dX7_statement_6 : decode cX7_statement 6 = .ok (.invokevirtual 63, 3) := dk_182 0 63 (dk_at dksX7_statement_0 6 rfl rfl)
theorem dX7_statement_9 : decode cX7_statement 9 = .ok (.putfield 67, 3) := dk_181 0 67 (dk_at dksX7_statement_0 9 rfl rfl)
theorem dX7_statement_12 : decode cX7_statement 12 = .ok (.aload_n 0, 1) := dk_42 (dk_at dksX7_statement_0 12 rfl rfl)
theorem dX7_statement_13 : decode cX7_statement 13 = .ok (.getfield 67, 3) := dk_180 0 67 (dk_at dksX7_statement_0 13 rfl rfl)
theorem dX7_statement_16 : decode cX7_statement 16 = .ok (.tableswitch 168 0 5 #[40, 99, 126, 99, 126, 153], 40) := by decide +kernel
theorem dX7_statement_56 : decode cX7_statement 56 = .ok (.aload_n 0, 1) := dk_42 (dk_at dksX7_statement_2 0 rfl rfl)
theorem dX7_statement_57 : decode cX7_statement 57 = .ok (.getfield 32, 3) := dk_180 0 32 (dk_at dksX7_statement_2 1 rfl rfl)
theorem dX7_statement_60 : decode cX7_statement 60 = .ok (.iconst 0, 1) := dk_3 (dk_at dksX7_statement_2 4 rfl rfl)
theorem dX7_statement_61 : decode cX7_statement 61 = .ok (.aload_n 0, 1) := dk_42 (dk_at dksX7_statement_2 5 rfl rfl)
theorem dX7_statement_62 : decode cX7_statement 62 = .ok (.aload_n 0, 1) := dk_42 (dk_at dksX7_statement_2 6 rfl rfl)
theorem dX7_statement_63 : decode cX7_statement 63 = .ok (.getfield 29, 3) := dk_180 0 29 (dk_at dksX7_statement_2 7 rfl rfl)
theorem dX7_statement_66 : decode cX7_statement 66 = .ok (.invokevirtual 63, 3) := dk_182 0 63 (dk_at dksX7_statement_2 10 rfl rfl)
theorem dX7_statement_69 : decode cX7_statement 69 = .ok (.iastore, 1) := dk_79 (dk_at dksX7_statement_2 13 rfl rfl)
theorem dX7_statement_70 : decode cX7_statement 70 = .ok (.aload_n 0, 1) := dk_42 (dk_at dksX7_statement_2 14 rfl rfl)
theorem dX7_statement_71 : decode cX7_statement 71 = .ok (.getfield 32, 3) := dk_180 0 32 (dk_at dksX7_statement_2 15 rfl rfl)
theorem dX7_statement_74 : decode cX7_statement 74 = .ok (.iconst 1, 1) := dk_4 (dk_at dksX7_statement_2 18 rfl rfl)
theorem dX7_statement_75 : decode cX7_statement 75 = .ok (.aload_n 0, 1) := dk_42 (dk_at dksX7_statement_2 19 rfl rfl)
theorem dX7_statement_76 : decode cX7_statement 76 = .ok (.iconst 2, 1) := dk_5 (dk_at dksX7_statement_2 20 rfl rfl)
theorem dX7_statement_77 : decode cX7_statement 77 = .ok (.iconst 2, 1) := dk_5 (dk_at dksX7_statement_2 21 rfl rfl)
theorem dX7_statement_78 : decode cX7_statement 78 = .ok (.invokevirtual 70, 3) := dk_182 0 70 (dk_at dksX7_statement_3 0 rfl rfl)
theorem dX7_statement_81 : decode cX7_statement 81 = .ok (.iastore, 1) := dk_79 (dk_at dksX7_statement_3 3 rfl rfl)
theorem dX7_statement_82 : decode cX7_statement 82 = .ok (.aload_n 0, 1) := dk_42 (dk_at dksX7_statement_3 4 rfl rfl)
theorem dX7_statement_83 : decode cX7_statement 83 = .ok (.getfield 32, 3) := dk_180 0 32 (dk_at dksX7_statement_3 5 rfl rfl)
theorem dX7_statement_86 : decode cX7_statement 86 = .ok (.iconst 2, 1) := dk_5 (dk_at dksX7_statement_3 8 rfl rfl)
theorem dX7_statement_87 : decode cX7_statement 87 = .ok (.aload_n 0, 1) := dk_42 (dk_at dksX7_statement_3 9 rfl rfl)
theorem dX7_statement_88 : decode cX7_statement 88 = .ok (.iconst 1, 1) := dk_4 (dk_at dksX7_statement_3 10 rfl rfl)
theorem dX7_statement_89 : decode cX7_statement 89 = .ok (.iconst 2, 1) := dk_5 (dk_at dksX7_statement_3 11 rfl rfl)
theorem dX7_statement_90 : decode cX7_statement 90 = .ok (.invokevirtual 70, 3) := dk_182 0 70 (dk_at dksX7_statement_3 12 rfl rfl)
theorem dX7_statement_93 : decode cX7_statement 93 = .ok (.iastore, 1) := dk_79 (dk_at dksX7_statement_3 15 rfl rfl)
theorem dX7_statement_94 : decode cX7_statement 94 = .ok (.aload_n 0, 1) := dk_42 (dk_at dksX7_statement_3 16 rfl rfl)
theorem dX7_statement_95 : decode cX7_statement 95 = .ok (.bipush 44, 2) := dk_16 44 (dk_at dksX7_statement_3 17 rfl rfl)
theorem dX7_statement_97 : decode cX7_statement 97 = .ok (.invokevirtual 74, 3) := dk_182 0 74 (dk_at dksX7_statement_3 19 rfl rfl)
theorem dX7_statement_100 : decode cX7_statement 100 = .ok (.aload_n 0, 1) := dk_42 (dk_at dksX7_statement_3 22 rfl rfl)
theorem dX7_statement_101 : decode cX7_statement 101 = .ok (.getfield 32, 3) := dk_180 0 32 (dk_at dksX7_statement_4 0 rfl rfl)
theorem dX7_statement_104 : decode cX7_statement 104 = .ok (.iconst 3, 1) := dk_6 (dk_at dksX7_statement_4 3 rfl rfl)
theorem dX7_statement_105 : decode cX7_statement 105 = .ok (.aload_n 0, 1) := dk_42 (dk_at dksX7_statement_4 4 rfl rfl)
theorem dX7_statement_106 : decode cX7_statement 106 = .ok (.iconst 1, 1) := dk_4 (dk_at dksX7_statement_4 5 rfl rfl)
theorem dX7_statement_107 : decode cX7_statement 107 = .ok (.iconst 1, 1) := dk_4 (dk_at dksX7_statement_4 6 rfl rfl)
theorem dX7_statement_108 : decode cX7_statement 108 = .ok (.invokevirtual 70, 3) := dk_182 0 70 (dk_at dksX7_statement_4 7 rfl rfl)
theorem dX7_statement_111 : decode cX7_statement 111 = .ok (.iastore, 1) := dk_79 (dk_at dksX7_statement_4 10 rfl rfl)
theorem dX7_statement_112 : decode cX7_statement 112 = .ok (.goto 84, 3) := dk_167 0 84 (dk_at dksX7_statement_4 11 rfl rfl)
theorem dX7_statement_115 : decode cX7_statement 115 = .ok (.aload_n 0, 1) := dk_42 (dk_at dksX7_statement_4 14 rfl rfl)
theorem dX7_statement_116 : decode cX7_statement 116 = .ok (.getfield 32, 3) := dk_180 0 32 (dk_at dksX7_statement_4 15 rfl rfl)
theorem dX7_statement_119 : decode cX7_statement 119 = .ok (.iconst 0, 1) := dk_3 (dk_at dksX7_statement_4 18 rfl rfl)
theorem dX7_statement_120 : decode cX7_statement 120 = .ok (.aload_n 0, 1) := dk_42 (dk_at dksX7_statement_4 19 rfl rfl)
theorem dX7_statement_121 : decode cX7_statement 121 = .ok (.iconst 2, 1) := dk_5 (dk_at dksX7_statement_4 20 rfl rfl)
theorem dX7_statement_122 : decode cX7_statement 122 = .ok (.iconst 2, 1) := dk_5 (dk_at dksX7_statement_4 21 rfl rfl)
theorem dX7_statement_123 : decode cX7_statement 123 = .ok (.invokevirtual 70, 3) := dk_182 0 70 (dk_at dksX7_statement_5 0 rfl rfl)
theorem dX7_statement_126 : decode cX7_statement 126 = .ok (.iastore, 1) := dk_79 (dk_at dksX7_statement_5 3 rfl rfl)
theorem dX7_statement_127 : decode cX7_statement 127 = .ok (.aload_n 0, 1) := dk_42 (dk_at dksX7_statement_5 4 rfl rfl)
theorem dX7_statement_128 : decode cX7_statement 128 = .ok (.getfield 32, 3) := dk_180 0 32 (dk_at dksX7_statement_5 5 rfl rfl)
theorem dX7_statement_131 : decode cX7_statement 131 = .ok (.iconst 1, 1) := dk_4 (dk_at dksX7_statement_5 8 rfl rfl)
theorem dX7_statement_132 : decode cX7_statement 132 = .ok (.aload_n 0, 1) := dk_42 (dk_at dksX7_statement_5 9 rfl rfl)
theorem dX7_statement_133 : decode cX7_statement 133 = .ok (.iconst 1, 1) := dk_4 (dk_at dksX7_statement_5 10 rfl rfl)
theorem dX7_statement_134 : decode cX7_statement 134 = .ok (.iconst 1, 1) := dk_4 (dk_at dksX7_statement_5 11 rfl rfl)
theorem dX7_statement_135 : decode cX7_statement 135 = .ok (.invokevirtual 70, 3) := dk_182 0 70 (dk_at dksX7_statement_5 12 rfl rfl)
theorem dX7_statement_138 : decode cX7_statement 138 = .ok (.iastore, 1) := dk_79 (dk_at dksX7_statement_5 15 rfl rfl)
theorem dX7_statement_139 : decode cX7_statement 139 = .ok (.goto 57, 3) := dk_167 0 57 (dk_at dksX7_statement_5 16 rfl rfl)
theorem dX7_statement_142 : decode cX7_statement 142 = .ok (.aload_n 0, 1) := dk_42 (dk_at dksX7_statement_5 19 rfl rfl)
theorem dX7_statement_143 : decode cX7_statement 143 = .ok (.getfield 32, 3) := dk_180 0 32 (dk_at dksX7_statement_5 20 rfl rfl)
theorem dX7_statement_146 : decode cX7_statement 146 = .ok (.iconst 0, 1) := dk_3 (dk_at dksX7_statement_5 23 rfl rfl)
theorem dX7_statement_147 : decode cX7_statement 147 = .ok (.aload_n 0, 1) := dk_42 (dk_at dksX7_statement_6 0 rfl rfl)
theorem dX7_statement_148 : decode cX7_statement 148 = .ok (.iconst 1, 1) := dk_4 (dk_at dksX7_statement_6 1 rfl rfl)
theorem dX7_statement_149 : decode cX7_statement 149 = .ok (.iconst 1, 1) := dk_4 (dk_at dksX7_statement_6 2 rfl rfl)
theorem dX7_statement_150 : decode cX7_statement 150 = .ok (.invokevirtual 70, 3) := dk_182 0 70 (dk_at dksX7_statement_6 3 rfl rfl)
theorem dX7_statement_153 : decode cX7_statement 153 = .ok (.iastore, 1) := dk_79 (dk_at dksX7_statement_6 6 rfl rfl)
theorem dX7_statement_154 : decode cX7_statement 154 = .ok (.aload_n 0, 1) := dk_42 (dk_at dksX7_statement_6 7 rfl rfl)
theorem dX7_statement_155 : decode cX7_statement 155 = .ok (.getfield 32, 3) := dk_180 0 32 (dk_at dksX7_statement_6 8 rfl rfl)
theorem dX7_statement_158 : decode cX7_statement 158 = .ok (.iconst 1, 1) := dk_4 (dk_at dksX7_statement_6 11 rfl rfl)
theorem dX7_statement_159 : decode cX7_statement 159 = .ok (.aload_n 0, 1) := dk_42 (dk_at dksX7_statement_6 12 rfl rfl)
theorem dX7_statement_160 : decode cX7_statement 160 = .ok (.iconst 1, 1) := dk_4 (dk_at dksX7_statement_6 13 rfl rfl)
theorem dX7_statement_161 : decode cX7_statement 161 = .ok (.iconst 1, 1) := dk_4 (dk_at dksX7_statement_6 14 rfl rfl)
theorem dX7_statement_162 : decode cX7_statement 162 = .ok (.invokevirtual 70, 3) := dk_182 0 70 (dk_at dksX7_statement_6 15 rfl rfl)
theorem dX7_statement_165 : decode cX7_statement 165 = .ok (.iastore, 1) := dk_79 (dk_at dksX7_statement_6 18 rfl rfl)
theorem dX7_statement_166 : decode cX7_statement 166 = .ok (.goto 30, 3) := dk_167 0 30 (dk_at dksX7_statement_6 19 rfl rfl)
theorem dX7_statement_169 : decode cX7_statement 169 = .ok (.aload_n 0, 1) := dk_42 (dk_at dksX7_statement_6 22 rfl rfl)
theorem dX7_statement_170 : decode cX7_statement 170 = .ok (.getfield 32, 3) := dk_180 0 32 (dk_at dksX7_statement_7 0 rfl rfl)
theorem dX7_statement_173 : decode cX7_statement 173 = .ok (.iconst 0, 1) := dk_3 (dk_at dksX7_statement_7 3 rfl rfl)
theorem dX7_statement_174 : decode cX7_statement 174 = .ok (.aload_n 0, 1) := dk_42 (dk_at dksX7_statement_7 4 rfl rfl)
theorem dX7_statement_175 : decode cX7_statement 175 = .ok (.iconst 1, 1) := dk_4 (dk_at dksX7_statement_7 5 rfl rfl)
theorem dX7_statement_176 : decode cX7_statement 176 = .ok (.iconst 1, 1) := dk_4 (dk_at dksX7_statement_7 6 rfl rfl)
theorem dX7_statement_177 : decode cX7_statement 177 = .ok (.invokevirtual 70, 3) := dk_182 0 70 (dk_at dksX7_statement_7 7 rfl rfl)
theorem dX7_statement_180 : decode cX7_statement 180 = .ok (.iastore, 1) := dk_79 (dk_at dksX7_statement_7 10 rfl rfl)
theorem dX7_statement_181 : decode cX7_statement 181 = .ok (.goto 15, 3) := dk_167 0 15 (dk_at dksX7_statement_7 11 rfl rfl)
theorem dX7_statement_184 : decode cX7_statement 184 = .ok (.aload_n 0, 1) := dk_42 (dk_at dksX7_statement_7 14 rfl rfl)
theorem dX7_statement_185 : decode cX7_statement 185 = .ok (.getfield 32, 3) := dk_180 0 32 (dk_at dksX7_statement_7 15 rfl rfl)
theorem dX7_statement_188 : decode cX7_statement 188 = .ok (.iconst 0, 1) := dk_3 (dk_at dksX7_statement_7 18 rfl rfl)
theorem dX7_statement_189 : decode cX7_statement 189 = .ok (.aload_n 0, 1) := dk_42 (dk_at dksX7_statement_7 19 rfl rfl)
theorem dX7_statement_190 : decode cX7_statement 190 = .ok (.iconst 2, 1) := dk_5 (dk_at dksX7_statement_7 20 rfl rfl)
theorem dX7_statement_191 : decode cX7_statement 191 = .ok (.iconst 2, 1) := dk_5 (dk_at dksX7_statement_7 21 rfl rfl)
theorem dX7_statement_192 : decode cX7_statement 192 = .ok (.invokevirtual 70, 3) := dk_182 0 70 (dk_at dksX7_statement_8 0 rfl rfl)
theorem dX7_statement_195 : decode cX7_statement 195 = .ok (.iastore, 1) := dk_79 (dk_at dksX7_statement_8 3 rfl rfl)
theorem dX7_statement_196 : decode cX7_statement 196 = .ok (.aload_n 0, 1) := dk_42 (dk_at dksX7_statement_8 4 rfl rfl)
theorem dX7_statement_197 : decode cX7_statement 197 = .ok (.bipush 59, 2) := dk_16 59 (dk_at dksX7_statement_8 5 rfl rfl)
theorem dX7_statement_199 : decode cX7_statement 199 = .ok (.invokevirtual 74, 3) := dk_182 0 74 (dk_at dksX7_statement_8 7 rfl rfl)
theorem dX7_statement_202 : decode cX7_statement 202 = .ok (.return_, 1) := dk_177 (dk_at dksX7_statement_8 10 rfl rfl)
abbrev cX7_oneOf : ByteArray := prog_26_method_8_code
def yX7_oneOf : MethodName := ⟨RX7, "oneOf", "([C)I"⟩
def dkwX7_oneOf_3 : List UInt8 := [180, 0, 60, 4, 96, 181, 0, 60, 28, 172]
abbrev dktX7_oneOf_3 : List UInt8 := dkwX7_oneOf_3 ++ []
def dkwX7_oneOf_2 : List UInt8 := [160, 0, 5, 29, 61, 132, 3, 1, 167, 255, 208, 28, 156, 0, 10, 42, 3, 181, 0, 57, 3, 172, 42, 89]
abbrev dktX7_oneOf_2 : List UInt8 := dkwX7_oneOf_2 ++ dktX7_oneOf_3
def dkwX7_oneOf_1 : List UInt8 := [180, 0, 60, 42, 180, 0, 53, 162, 0, 20, 42, 180, 0, 22, 42, 180, 0, 60, 46, 43, 29, 52]
abbrev dktX7_oneOf_1 : List UInt8 := dkwX7_oneOf_1 ++ dktX7_oneOf_2
def dkwX7_oneOf_0 : List UInt8 := [2, 61, 3, 62, 29, 43, 190, 162, 0, 48, 42, 180, 0, 57, 153, 0, 41, 28, 156, 0, 37, 42]
abbrev dktX7_oneOf_0 : List UInt8 := dkwX7_oneOf_0 ++ dktX7_oneOf_1
theorem dksX7_oneOf_0 : cX7_oneOf.data.toList.drop 0 = dktX7_oneOf_0 := by decide +kernel
theorem dksX7_oneOf_1 : cX7_oneOf.data.toList.drop 22 = dktX7_oneOf_1 := dk_seg dksX7_oneOf_0 22 rfl rfl
theorem dksX7_oneOf_2 : cX7_oneOf.data.toList.drop 44 = dktX7_oneOf_2 := dk_seg dksX7_oneOf_1 22 rfl rfl
theorem dksX7_oneOf_3 : cX7_oneOf.data.toList.drop 68 = dktX7_oneOf_3 := dk_seg dksX7_oneOf_2 24 rfl rfl
theorem dX7_oneOf_0 : decode cX7_oneOf 0 = .ok (.iconst (-1), 1) := dk_2 (dk_at dksX7_oneOf_0 0 rfl rfl)
theorem dX7_oneOf_1 : decode cX7_oneOf 1 = .ok (.istore_n 2, 1) := dk_61 (dk_at dksX7_oneOf_0 1 rfl rfl)
theorem dX7_oneOf_2 : decode cX7_oneOf 2 = .ok (.iconst 0, 1) := dk_3 (dk_at dksX7_oneOf_0 2 rfl rfl)
theorem dX7_oneOf_3 : decode cX7_oneOf 3 = .ok (.istore_n 3, 1) := dk_62 (dk_at dksX7_oneOf_0 3 rfl rfl)
theorem dX7_oneOf_4 : decode cX7_oneOf 4 = .ok (.iload_n 3, 1) := dk_29 (dk_at dksX7_oneOf_0 4 rfl rfl)
theorem dX7_oneOf_5 : decode cX7_oneOf 5 = .ok (.aload_n 1, 1) := dk_43 (dk_at dksX7_oneOf_0 5 rfl rfl)
theorem dX7_oneOf_6 : decode cX7_oneOf 6 = .ok (.arraylength, 1) := dk_190 (dk_at dksX7_oneOf_0 6 rfl rfl)
theorem dX7_oneOf_7 : decode cX7_oneOf 7 = .ok (.if_icmp .ge 48, 3) := dk_162 0 48 (dk_at dksX7_oneOf_0 7 rfl rfl)
theorem dX7_oneOf_10 : decode cX7_oneOf 10 = .ok (.aload_n 0, 1) := dk_42 (dk_at dksX7_oneOf_0 10 rfl rfl)
theorem dX7_oneOf_11 : decode cX7_oneOf 11 = .ok (.getfield 57, 3) := dk_180 0 57 (dk_at dksX7_oneOf_0 11 rfl rfl)
theorem dX7_oneOf_14 : decode cX7_oneOf 14 = .ok (.ifCond .eq 41, 3) := dk_153 0 41 (dk_at dksX7_oneOf_0 14 rfl rfl)
theorem dX7_oneOf_17 : decode cX7_oneOf 17 = .ok (.iload_n 2, 1) := dk_28 (dk_at dksX7_oneOf_0 17 rfl rfl)
theorem dX7_oneOf_18 : decode cX7_oneOf 18 = .ok (.ifCond .ge 37, 3) := dk_156 0 37 (dk_at dksX7_oneOf_0 18 rfl rfl)
theorem dX7_oneOf_21 : decode cX7_oneOf 21 = .ok (.aload_n 0, 1) := dk_42 (dk_at dksX7_oneOf_0 21 rfl rfl)
theorem dX7_oneOf_22 : decode cX7_oneOf 22 = .ok (.getfield 60, 3) := dk_180 0 60 (dk_at dksX7_oneOf_1 0 rfl rfl)
theorem dX7_oneOf_25 : decode cX7_oneOf 25 = .ok (.aload_n 0, 1) := dk_42 (dk_at dksX7_oneOf_1 3 rfl rfl)
theorem dX7_oneOf_26 : decode cX7_oneOf 26 = .ok (.getfield 53, 3) := dk_180 0 53 (dk_at dksX7_oneOf_1 4 rfl rfl)
theorem dX7_oneOf_29 : decode cX7_oneOf 29 = .ok (.if_icmp .ge 20, 3) := dk_162 0 20 (dk_at dksX7_oneOf_1 7 rfl rfl)
theorem dX7_oneOf_32 : decode cX7_oneOf 32 = .ok (.aload_n 0, 1) := dk_42 (dk_at dksX7_oneOf_1 10 rfl rfl)
theorem dX7_oneOf_33 : decode cX7_oneOf 33 = .ok (.getfield 22, 3) := dk_180 0 22 (dk_at dksX7_oneOf_1 11 rfl rfl)
theorem dX7_oneOf_36 : decode cX7_oneOf 36 = .ok (.aload_n 0, 1) := dk_42 (dk_at dksX7_oneOf_1 14 rfl rfl)
theorem dX7_oneOf_37 : decode cX7_oneOf 37 = .ok (.getfield 60, 3) := dk_180 0 60 (dk_at dksX7_oneOf_1 15 rfl rfl)
theorem dX7_oneOf_40 : decode cX7_oneOf 40 = .ok (.iaload, 1) := dk_46 (dk_at dksX7_oneOf_1 18 rfl rfl)
theorem dX7_oneOf_41 : decode cX7_oneOf 41 = .ok (.aload_n 1, 1) := dk_43 (dk_at dksX7_oneOf_1 19 rfl rfl)
theorem dX7_oneOf_42 : decode cX7_oneOf 42 = .ok (.iload_n 3, 1) := dk_29 (dk_at dksX7_oneOf_1 20 rfl rfl)
theorem dX7_oneOf_43 : decode cX7_oneOf 43 = .ok (.caload, 1) := dk_52 (dk_at dksX7_oneOf_1 21 rfl rfl)
theorem dX7_oneOf_44 : decode cX7_oneOf 44 = .ok (.if_icmp .ne 5, 3) := dk_160 0 5 (dk_at dksX7_oneOf_2 0 rfl rfl)
theorem dX7_oneOf_47 : decode cX7_oneOf 47 = .ok (.iload_n 3, 1) := dk_29 (dk_at dksX7_oneOf_2 3 rfl rfl)
theorem dX7_oneOf_48 : decode cX7_oneOf 48 = .ok (.istore_n 2, 1) := dk_61 (dk_at dksX7_oneOf_2 4 rfl rfl)
theorem dX7_oneOf_49 : decode cX7_oneOf 49 = .ok (.iinc 3 1, 3) := dk_132 3 1 (dk_at dksX7_oneOf_2 5 rfl rfl)
theorem dX7_oneOf_52 : decode cX7_oneOf 52 = .ok (.goto (-48), 3) := dk_167 255 208 (dk_at dksX7_oneOf_2 8 rfl rfl)
theorem dX7_oneOf_55 : decode cX7_oneOf 55 = .ok (.iload_n 2, 1) := dk_28 (dk_at dksX7_oneOf_2 11 rfl rfl)
theorem dX7_oneOf_56 : decode cX7_oneOf 56 = .ok (.ifCond .ge 10, 3) := dk_156 0 10 (dk_at dksX7_oneOf_2 12 rfl rfl)
theorem dX7_oneOf_59 : decode cX7_oneOf 59 = .ok (.aload_n 0, 1) := dk_42 (dk_at dksX7_oneOf_2 15 rfl rfl)
theorem dX7_oneOf_60 : decode cX7_oneOf 60 = .ok (.iconst 0, 1) := dk_3 (dk_at dksX7_oneOf_2 16 rfl rfl)
theorem dX7_oneOf_61 : decode cX7_oneOf 61 = .ok (.putfield 57, 3) := dk_181 0 57 (dk_at dksX7_oneOf_2 17 rfl rfl)
theorem dX7_oneOf_64 : decode cX7_oneOf 64 = .ok (.iconst 0, 1) := dk_3 (dk_at dksX7_oneOf_2 20 rfl rfl)
theorem dX7_oneOf_65 : decode cX7_oneOf 65 = .ok (.ireturn, 1) := dk_172 (dk_at dksX7_oneOf_2 21 rfl rfl)
theorem dX7_oneOf_66 : decode cX7_oneOf 66 = .ok (.aload_n 0, 1) := dk_42 (dk_at dksX7_oneOf_2 22 rfl rfl)
theorem dX7_oneOf_67 : decode cX7_oneOf 67 = .ok (.dup, 1) := dk_89 (dk_at dksX7_oneOf_2 23 rfl rfl)
theorem dX7_oneOf_68 : decode cX7_oneOf 68 = .ok (.getfield 60, 3) := dk_180 0 60 (dk_at dksX7_oneOf_3 0 rfl rfl)
theorem dX7_oneOf_71 : decode cX7_oneOf 71 = .ok (.iconst 1, 1) := dk_4 (dk_at dksX7_oneOf_3 3 rfl rfl)
theorem dX7_oneOf_72 : decode cX7_oneOf 72 = .ok (.iadd, 1) := dk_96 (dk_at dksX7_oneOf_3 4 rfl rfl)
theorem dX7_oneOf_73 : decode cX7_oneOf 73 = .ok (.putfield 60, 3) := dk_181 0 60 (dk_at dksX7_oneOf_3 5 rfl rfl)
theorem dX7_oneOf_76 : decode cX7_oneOf 76 = .ok (.iload_n 2, 1) := dk_28 (dk_at dksX7_oneOf_3 8 rfl rfl)
theorem dX7_oneOf_77 : decode cX7_oneOf 77 = .ok (.ireturn, 1) := dk_172 (dk_at dksX7_oneOf_3 9 rfl rfl)
abbrev cX7_figures : ByteArray := prog_26_method_9_code
def yX7_figures : MethodName := ⟨RX7, "figures", "(II)I"⟩
def dkwX7_figures_4 : List UInt8 := [162, 0, 8, 42, 3, 181, 0, 57, 29, 172]
abbrev dktX7_figures_4 : List UInt8 := dkwX7_figures_4 ++ []
def dkwX7_figures_3 : List UInt8 := [16, 48, 100, 62, 42, 89, 180, 0, 60, 4, 96, 181, 0, 60, 132, 4, 1, 167, 255, 173, 21, 4, 27]
abbrev dktX7_figures_3 : List UInt8 := dkwX7_figures_3 ++ dktX7_figures_4
def dkwX7_figures_2 : List UInt8 := [42, 180, 0, 60, 46, 16, 57, 163, 0, 37, 16, 10, 29, 104, 42, 180, 0, 22, 42, 180, 0, 60, 46, 96]
abbrev dktX7_figures_2 : List UInt8 := dkwX7_figures_2 ++ dktX7_figures_3
def dkwX7_figures_1 : List UInt8 := [180, 0, 53, 162, 0, 65, 42, 180, 0, 22, 42, 180, 0, 60, 46, 16, 48, 161, 0, 51, 42, 180, 0, 22]
abbrev dktX7_figures_1 : List UInt8 := dkwX7_figures_1 ++ dktX7_figures_2
def dkwX7_figures_0 : List UInt8 := [3, 62, 3, 54, 4, 42, 180, 0, 57, 153, 0, 82, 21, 4, 28, 162, 0, 76, 42, 180, 0, 60, 42]
abbrev dktX7_figures_0 : List UInt8 := dkwX7_figures_0 ++ dktX7_figures_1
theorem dksX7_figures_0 : cX7_figures.data.toList.drop 0 = dktX7_figures_0 := by decide +kernel
theorem dksX7_figures_1 : cX7_figures.data.toList.drop 23 = dktX7_figures_1 := dk_seg dksX7_figures_0 23 rfl rfl
theorem dksX7_figures_2 : cX7_figures.data.toList.drop 47 = dktX7_figures_2 := dk_seg dksX7_figures_1 24 rfl rfl
theorem dksX7_figures_3 : cX7_figures.data.toList.drop 71 = dktX7_figures_3 := dk_seg dksX7_figures_2 24 rfl rfl
theorem dksX7_figures_4 : cX7_figures.data.toList.drop 94 = dktX7_figures_4 := dk_seg dksX7_figures_3 23 rfl rfl
theorem dX7_figures_0 : decode cX7_figures 0 = .ok (.iconst 0, 1) := dk_3 (dk_at dksX7_figures_0 0 rfl rfl)
theorem dX7_figures_1 : decode cX7_figures 1 = .ok (.istore_n 3, 1) := dk_62 (dk_at dksX7_figures_0 1 rfl rfl)
theorem dX7_figures_2 : decode cX7_figures 2 = .ok (.iconst 0, 1) := dk_3 (dk_at dksX7_figures_0 2 rfl rfl)
theorem dX7_figures_3 : decode cX7_figures 3 = .ok (.istore 4, 2) := dk_54 4 (dk_at dksX7_figures_0 3 rfl rfl)
theorem dX7_figures_5 : decode cX7_figures 5 = .ok (.aload_n 0, 1) := dk_42 (dk_at dksX7_figures_0 5 rfl rfl)
theorem dX7_figures_6 : decode cX7_figures 6 = .ok (.getfield 57, 3) := dk_180 0 57 (dk_at dksX7_figures_0 6 rfl rfl)
theorem dX7_figures_9 : decode cX7_figures 9 = .ok (.ifCond .eq 82, 3) := dk_153 0 82 (dk_at dksX7_figures_0 9 rfl rfl)
theorem dX7_figures_12 : decode cX7_figures 12 = .ok (.iload 4, 2) := dk_21 4 (dk_at dksX7_figures_0 12 rfl rfl)
theorem dX7_figures_14 : decode cX7_figures 14 = .ok (.iload_n 2, 1) := dk_28 (dk_at dksX7_figures_0 14 rfl rfl)
theorem dX7_figures_15 : decode cX7_figures 15 = .ok (.if_icmp .ge 76, 3) := dk_162 0 76 (dk_at dksX7_figures_0 15 rfl rfl)
theorem dX7_figures_18 : decode cX7_figures 18 = .ok (.aload_n 0, 1) := dk_42 (dk_at dksX7_figures_0 18 rfl rfl)
theorem dX7_figures_19 : decode cX7_figures 19 = .ok (.getfield 60, 3) := dk_180 0 60 (dk_at dksX7_figures_0 19 rfl rfl)
theorem dX7_figures_22 : decode cX7_figures 22 = .ok (.aload_n 0, 1) := dk_42 (dk_at dksX7_figures_0 22 rfl rfl)
theorem dX7_figures_23 : decode cX7_figures 23 = .ok (.getfield 53, 3) := dk_180 0 53 (dk_at dksX7_figures_1 0 rfl rfl)
theorem dX7_figures_26 : decode cX7_figures 26 = .ok (.if_icmp .ge 65, 3) := dk_162 0 65 (dk_at dksX7_figures_1 3 rfl rfl)
theorem dX7_figures_29 : decode cX7_figures 29 = .ok (.aload_n 0, 1) := dk_42 (dk_at dksX7_figures_1 6 rfl rfl)
theorem dX7_figures_30 : decode cX7_figures 30 = .ok (.getfield 22, 3) := dk_180 0 22 (dk_at dksX7_figures_1 7 rfl rfl)
theorem dX7_figures_33 : decode cX7_figures 33 = .ok (.aload_n 0, 1) := dk_42 (dk_at dksX7_figures_1 10 rfl rfl)
theorem dX7_figures_34 : decode cX7_figures 34 = .ok (.getfield 60, 3) := dk_180 0 60 (dk_at dksX7_figures_1 11 rfl rfl)
theorem dX7_figures_37 : decode cX7_figures 37 = .ok (.iaload, 1) := dk_46 (dk_at dksX7_figures_1 14 rfl rfl)
theorem dX7_figures_38 : decode cX7_figures 38 = .ok (.bipush 48, 2) := dk_16 48 (dk_at dksX7_figures_1 15 rfl rfl)
theorem dX7_figures_40 : decode cX7_figures 40 = .ok (.if_icmp .lt 51, 3) := dk_161 0 51 (dk_at dksX7_figures_1 17 rfl rfl)
theorem dX7_figures_43 : decode cX7_figures 43 = .ok (.aload_n 0, 1) := dk_42 (dk_at dksX7_figures_1 20 rfl rfl)
theorem dX7_figures_44 : decode cX7_figures 44 = .ok (.getfield 22, 3) := dk_180 0 22 (dk_at dksX7_figures_1 21 rfl rfl)
theorem dX7_figures_47 : decode cX7_figures 47 = .ok (.aload_n 0, 1) := dk_42 (dk_at dksX7_figures_2 0 rfl rfl)
theorem dX7_figures_48 : decode cX7_figures 48 = .ok (.getfield 60, 3) := dk_180 0 60 (dk_at dksX7_figures_2 1 rfl rfl)
theorem dX7_figures_51 : decode cX7_figures 51 = .ok (.iaload, 1) := dk_46 (dk_at dksX7_figures_2 4 rfl rfl)
theorem dX7_figures_52 : decode cX7_figures 52 = .ok (.bipush 57, 2) := dk_16 57 (dk_at dksX7_figures_2 5 rfl rfl)
theorem dX7_figures_54 : decode cX7_figures 54 = .ok (.if_icmp .gt 37, 3) := dk_163 0 37 (dk_at dksX7_figures_2 7 rfl rfl)
theorem dX7_figures_57 : decode cX7_figures 57 = .ok (.bipush 10, 2) := dk_16 10 (dk_at dksX7_figures_2 10 rfl rfl)
theorem dX7_figures_59 : decode cX7_figures 59 = .ok (.iload_n 3, 1) := dk_29 (dk_at dksX7_figures_2 12 rfl rfl)
theorem dX7_figures_60 : decode cX7_figures 60 = .ok (.imul, 1) := dk_104 (dk_at dksX7_figures_2 13 rfl rfl)
theorem dX7_figures_61 : decode cX7_figures 61 = .ok (.aload_n 0, 1) := dk_42 (dk_at dksX7_figures_2 14 rfl rfl)
theorem dX7_figures_62 : decode cX7_figures 62 = .ok (.getfield 22, 3) := dk_180 0 22 (dk_at dksX7_figures_2 15 rfl rfl)
theorem dX7_figures_65 : decode cX7_figures 65 = .ok (.aload_n 0, 1) := dk_42 (dk_at dksX7_figures_2 18 rfl rfl)
theorem dX7_figures_66 : decode cX7_figures 66 = .ok (.getfield 60, 3) := dk_180 0 60 (dk_at dksX7_figures_2 19 rfl rfl)
theorem dX7_figures_69 : decode cX7_figures 69 = .ok (.iaload, 1) := dk_46 (dk_at dksX7_figures_2 22 rfl rfl)
theorem dX7_figures_70 : decode cX7_figures 70 = .ok (.iadd, 1) := dk_96 (dk_at dksX7_figures_2 23 rfl rfl)
theorem dX7_figures_71 : decode cX7_figures 71 = .ok (.bipush 48, 2) := dk_16 48 (dk_at dksX7_figures_3 0 rfl rfl)
theorem dX7_figures_73 : decode cX7_figures 73 = .ok (.isub, 1) := dk_100 (dk_at dksX7_figures_3 2 rfl rfl)
theorem dX7_figures_74 : decode cX7_figures 74 = .ok (.istore_n 3, 1) := dk_62 (dk_at dksX7_figures_3 3 rfl rfl)
theorem dX7_figures_75 : decode cX7_figures 75 = .ok (.aload_n 0, 1) := dk_42 (dk_at dksX7_figures_3 4 rfl rfl)
theorem dX7_figures_76 : decode cX7_figures 76 = .ok (.dup, 1) := dk_89 (dk_at dksX7_figures_3 5 rfl rfl)
theorem dX7_figures_77 : decode cX7_figures 77 = .ok (.getfield 60, 3) := dk_180 0 60 (dk_at dksX7_figures_3 6 rfl rfl)
theorem dX7_figures_80 : decode cX7_figures 80 = .ok (.iconst 1, 1) := dk_4 (dk_at dksX7_figures_3 9 rfl rfl)
theorem dX7_figures_81 : decode cX7_figures 81 = .ok (.iadd, 1) := dk_96 (dk_at dksX7_figures_3 10 rfl rfl)
theorem dX7_figures_82 : decode cX7_figures 82 = .ok (.putfield 60, 3) := dk_181 0 60 (dk_at dksX7_figures_3 11 rfl rfl)
theorem dX7_figures_85 : decode cX7_figures 85 = .ok (.iinc 4 1, 3) := dk_132 4 1 (dk_at dksX7_figures_3 14 rfl rfl)
theorem dX7_figures_88 : decode cX7_figures 88 = .ok (.goto (-83), 3) := dk_167 255 173 (dk_at dksX7_figures_3 17 rfl rfl)
theorem dX7_figures_91 : decode cX7_figures 91 = .ok (.iload 4, 2) := dk_21 4 (dk_at dksX7_figures_3 20 rfl rfl)
theorem dX7_figures_93 : decode cX7_figures 93 = .ok (.iload_n 1, 1) := dk_27 (dk_at dksX7_figures_3 22 rfl rfl)
theorem dX7_figures_94 : decode cX7_figures 94 = .ok (.if_icmp .ge 8, 3) := dk_162 0 8 (dk_at dksX7_figures_4 0 rfl rfl)
theorem dX7_figures_97 : decode cX7_figures 97 = .ok (.aload_n 0, 1) := dk_42 (dk_at dksX7_figures_4 3 rfl rfl)
theorem dX7_figures_98 : decode cX7_figures 98 = .ok (.iconst 0, 1) := dk_3 (dk_at dksX7_figures_4 4 rfl rfl)
theorem dX7_figures_99 : decode cX7_figures 99 = .ok (.putfield 57, 3) := dk_181 0 57 (dk_at dksX7_figures_4 5 rfl rfl)
theorem dX7_figures_102 : decode cX7_figures 102 = .ok (.iload_n 3, 1) := dk_29 (dk_at dksX7_figures_4 8 rfl rfl)
theorem dX7_figures_103 : decode cX7_figures 103 = .ok (.ireturn, 1) := dk_172 (dk_at dksX7_figures_4 9 rfl rfl)
abbrev cX7_expect : ByteArray := prog_26_method_7_code
def yX7_expect : MethodName := ⟨RX7, "expect", "(C)V"⟩
def dkwX7_expect_2 : List UInt8 := [181, 0, 57, 177]
abbrev dktX7_expect_2 : List UInt8 := dkwX7_expect_2 ++ []
def dkwX7_expect_1 : List UInt8 := [180, 0, 60, 46, 27, 160, 0, 16, 42, 89, 180, 0, 60, 4, 96, 181, 0, 60, 167, 0, 8, 42, 3]
abbrev dktX7_expect_1 : List UInt8 := dkwX7_expect_1 ++ dktX7_expect_2
def dkwX7_expect_0 : List UInt8 := [42, 180, 0, 57, 153, 0, 40, 42, 180, 0, 60, 42, 180, 0, 53, 162, 0, 29, 42, 180, 0, 22, 42]
abbrev dktX7_expect_0 : List UInt8 := dkwX7_expect_0 ++ dktX7_expect_1
theorem dksX7_expect_0 : cX7_expect.data.toList.drop 0 = dktX7_expect_0 := by decide +kernel
theorem dksX7_expect_1 : cX7_expect.data.toList.drop 23 = dktX7_expect_1 := dk_seg dksX7_expect_0 23 rfl rfl
theorem dksX7_expect_2 : cX7_expect.data.toList.drop 46 = dktX7_expect_2 := dk_seg dksX7_expect_1 23 rfl rfl
theorem dX7_expect_0 : decode cX7_expect 0 = .ok (.aload_n 0, 1) := dk_42 (dk_at dksX7_expect_0 0 rfl rfl)
theorem dX7_expect_1 : decode cX7_expect 1 = .ok (.getfield 57, 3) := dk_180 0 57 (dk_at dksX7_expect_0 1 rfl rfl)
theorem dX7_expect_4 : decode cX7_expect 4 = .ok (.ifCond .eq 40, 3) := dk_153 0 40 (dk_at dksX7_expect_0 4 rfl rfl)
theorem dX7_expect_7 : decode cX7_expect 7 = .ok (.aload_n 0, 1) := dk_42 (dk_at dksX7_expect_0 7 rfl rfl)
theorem dX7_expect_8 : decode cX7_expect 8 = .ok (.getfield 60, 3) := dk_180 0 60 (dk_at dksX7_expect_0 8 rfl rfl)
theorem dX7_expect_11 : decode cX7_expect 11 = .ok (.aload_n 0, 1) := dk_42 (dk_at dksX7_expect_0 11 rfl rfl)
theorem dX7_expect_12 : decode cX7_expect 12 = .ok (.getfield 53, 3) := dk_180 0 53 (dk_at dksX7_expect_0 12 rfl rfl)
theorem dX7_expect_15 : decode cX7_expect 15 = .ok (.if_icmp .ge 29, 3) := dk_162 0 29 (dk_at dksX7_expect_0 15 rfl rfl)
theorem dX7_expect_18 : decode cX7_expect 18 = .ok (.aload_n 0, 1) := dk_42 (dk_at dksX7_expect_0 18 rfl rfl)
theorem dX7_expect_19 : decode cX7_expect 19 = .ok (.getfield 22, 3) := dk_180 0 22 (dk_at dksX7_expect_0 19 rfl rfl)
theorem dX7_expect_22 : decode cX7_expect 22 = .ok (.aload_n 0, 1) := dk_42 (dk_at dksX7_expect_0 22 rfl rfl)
theorem dX7_expect_23 : decode cX7_expect 23 = .ok (.getfield 60, 3) := dk_180 0 60 (dk_at dksX7_expect_1 0 rfl rfl)
theorem dX7_expect_26 : decode cX7_expect 26 = .ok (.iaload, 1) := dk_46 (dk_at dksX7_expect_1 3 rfl rfl)
theorem dX7_expect_27 : decode cX7_expect 27 = .ok (.iload_n 1, 1) := dk_27 (dk_at dksX7_expect_1 4 rfl rfl)
theorem dX7_expect_28 : decode cX7_expect 28 = .ok (.if_icmp .ne 16, 3) := dk_160 0 16 (dk_at dksX7_expect_1 5 rfl rfl)
theorem dX7_expect_31 : decode cX7_expect 31 = .ok (.aload_n 0, 1) := dk_42 (dk_at dksX7_expect_1 8 rfl rfl)
theorem dX7_expect_32 : decode cX7_expect 32 = .ok (.dup, 1) := dk_89 (dk_at dksX7_expect_1 9 rfl rfl)
theorem dX7_expect_33 : decode cX7_expect 33 = .ok (.getfield 60, 3) := dk_180 0 60 (dk_at dksX7_expect_1 10 rfl rfl)
theorem dX7_expect_36 : decode cX7_expect 36 = .ok (.iconst 1, 1) := dk_4 (dk_at dksX7_expect_1 13 rfl rfl)
theorem dX7_expect_37 : decode cX7_expect 37 = .ok (.iadd, 1) := dk_96 (dk_at dksX7_expect_1 14 rfl rfl)
theorem dX7_expect_38 : decode cX7_expect 38 = .ok (.putfield 60, 3) := dk_181 0 60 (dk_at dksX7_expect_1 15 rfl rfl)
theorem dX7_expect_41 : decode cX7_expect 41 = .ok (.goto 8, 3) := dk_167 0 8 (dk_at dksX7_expect_1 18 rfl rfl)
theorem dX7_expect_44 : decode cX7_expect 44 = .ok (.aload_n 0, 1) := dk_42 (dk_at dksX7_expect_1 21 rfl rfl)
theorem dX7_expect_45 : decode cX7_expect 45 = .ok (.iconst 0, 1) := dk_3 (dk_at dksX7_expect_1 22 rfl rfl)
theorem dX7_expect_46 : decode cX7_expect 46 = .ok (.putfield 57, 3) := dk_181 0 57 (dk_at dksX7_expect_2 0 rfl rfl)
theorem dX7_expect_49 : decode cX7_expect 49 = .ok (.return_, 1) := dk_177 (dk_at dksX7_expect_2 3 rfl rfl)
abbrev cX7_isAsItMustBe : ByteArray := prog_26_method_12_code
def yX7_isAsItMustBe : MethodName := ⟨RX7, "isAsItMustBe", "()Z"⟩
def dkwX7_isAsItMustBe_10 : List UInt8 := [3, 172]
abbrev dktX7_isAsItMustBe_10 : List UInt8 := dkwX7_isAsItMustBe_10 ++ []
def dkwX7_isAsItMustBe_9 : List UInt8 := [163, 0, 7, 4, 167, 0, 4, 3, 172, 42, 180, 0, 32, 3, 46, 16, 36, 162, 0, 7, 4, 167, 0, 4]
abbrev dktX7_isAsItMustBe_9 : List UInt8 := dkwX7_isAsItMustBe_9 ++ dktX7_isAsItMustBe_10
def dkwX7_isAsItMustBe_8 : List UInt8 := [180, 0, 32, 4, 46, 6, 163, 0, 7, 4, 167, 0, 4, 3, 172, 42, 180, 0, 32, 3, 46, 7]
abbrev dktX7_isAsItMustBe_8 : List UInt8 := dkwX7_isAsItMustBe_8 ++ dktX7_isAsItMustBe_9
def dkwX7_isAsItMustBe_7 : List UInt8 := [4, 46, 6, 163, 0, 7, 4, 167, 0, 4, 3, 172, 42, 180, 0, 32, 3, 46, 6, 163, 0, 17, 42]
abbrev dktX7_isAsItMustBe_7 : List UInt8 := dkwX7_isAsItMustBe_7 ++ dktX7_isAsItMustBe_8
def dkwX7_isAsItMustBe_6 : List UInt8 := [163, 0, 7, 4, 167, 0, 4, 3, 172, 42, 180, 0, 32, 3, 46, 16, 6, 162, 0, 17, 42, 180, 0, 32]
abbrev dktX7_isAsItMustBe_6 : List UInt8 := dkwX7_isAsItMustBe_6 ++ dktX7_isAsItMustBe_7
def dkwX7_isAsItMustBe_5 : List UInt8 := [167, 0, 4, 3, 172, 42, 180, 0, 32, 3, 46, 16, 36, 162, 0, 17, 42, 180, 0, 32, 4, 46, 6]
abbrev dktX7_isAsItMustBe_5 : List UInt8 := dkwX7_isAsItMustBe_5 ++ dktX7_isAsItMustBe_6
def dkwX7_isAsItMustBe_4 : List UInt8 := [3, 46, 16, 6, 162, 0, 22, 42, 42, 180, 0, 32, 4, 46, 182, 0, 78, 16, 247, 160, 0, 7, 4]
abbrev dktX7_isAsItMustBe_4 : List UInt8 := dkwX7_isAsItMustBe_4 ++ dktX7_isAsItMustBe_5
def dkwX7_isAsItMustBe_3 : List UInt8 := [180, 0, 32, 5, 46, 16, 20, 163, 0, 43, 42, 180, 0, 32, 6, 46, 6, 163, 0, 33, 42, 180, 0, 13]
abbrev dktX7_isAsItMustBe_3 : List UInt8 := dkwX7_isAsItMustBe_3 ++ dktX7_isAsItMustBe_4
def dkwX7_isAsItMustBe_2 : List UInt8 := [42, 180, 0, 32, 4, 46, 16, 36, 162, 0, 64, 42, 180, 0, 32, 5, 46, 4, 161, 0, 54, 42]
abbrev dktX7_isAsItMustBe_2 : List UInt8 := dkwX7_isAsItMustBe_2 ++ dktX7_isAsItMustBe_3
def dkwX7_isAsItMustBe_1 : List UInt8 := [170, 0, 0, 0, 0, 0, 0, 210, 0, 0, 0, 0, 0, 0, 0, 5, 0, 0, 0, 40, 0, 0, 0, 114, 0, 0, 0, 141, 0, 0, 0, 210, 0, 0, 0, 168, 0, 0, 0, 194]
abbrev dktX7_isAsItMustBe_1 : List UInt8 := dkwX7_isAsItMustBe_1 ++ dktX7_isAsItMustBe_2
def dkwX7_isAsItMustBe_0 : List UInt8 := [42, 180, 0, 67]
abbrev dktX7_isAsItMustBe_0 : List UInt8 := dkwX7_isAsItMustBe_0 ++ dktX7_isAsItMustBe_1
theorem dksX7_isAsItMustBe_0 : cX7_isAsItMustBe.data.toList.drop 0 = dktX7_isAsItMustBe_0 := by decide +kernel
theorem dksX7_isAsItMustBe_1 : cX7_isAsItMustBe.data.toList.drop 4 = dktX7_isAsItMustBe_1 := dk_seg dksX7_isAsItMustBe_0 4 rfl rfl
theorem dksX7_isAsItMustBe_2 : cX7_isAsItMustBe.data.toList.drop 44 = dktX7_isAsItMustBe_2 := dk_seg dksX7_isAsItMustBe_1 40 rfl rfl
theorem dksX7_isAsItMustBe_3 : cX7_isAsItMustBe.data.toList.drop 66 = dktX7_isAsItMustBe_3 := dk_seg dksX7_isAsItMustBe_2 22 rfl rfl
theorem dksX7_isAsItMustBe_4 : cX7_isAsItMustBe.data.toList.drop 90 = dktX7_isAsItMustBe_4 := dk_seg dksX7_isAsItMustBe_3 24 rfl rfl
theorem dksX7_isAsItMustBe_5 : cX7_isAsItMustBe.data.toList.drop 113 = dktX7_isAsItMustBe_5 := dk_seg dksX7_isAsItMustBe_4 23 rfl rfl
theorem dksX7_isAsItMustBe_6 : cX7_isAsItMustBe.data.toList.drop 136 = dktX7_isAsItMustBe_6 := dk_seg dksX7_isAsItMustBe_5 23 rfl rfl
theorem dksX7_isAsItMustBe_7 : cX7_isAsItMustBe.data.toList.drop 160 = dktX7_isAsItMustBe_7 := dk_seg dksX7_isAsItMustBe_6 24 rfl rfl
theorem dksX7_isAsItMustBe_8 : cX7_isAsItMustBe.data.toList.drop 183 = dktX7_isAsItMustBe_8 := dk_seg dksX7_isAsItMustBe_7 23 rfl rfl
theorem dksX7_isAsItMustBe_9 : cX7_isAsItMustBe.data.toList.drop 205 = dktX7_isAsItMustBe_9 := dk_seg dksX7_isAsItMustBe_8 22 rfl rfl
theorem dksX7_isAsItMustBe_10 : cX7_isAsItMustBe.data.toList.drop 229 = dktX7_isAsItMustBe_10 := dk_seg dksX7_isAsItMustBe_9 24 rfl rfl
theorem dX7_isAsItMustBe_0 : decode cX7_isAsItMustBe 0 = .ok (.aload_n 0, 1) := dk_42 (dk_at dksX7_isAsItMustBe_0 0 rfl rfl)
theorem dX7_isAsItMustBe_1 : decode cX7_isAsItMustBe 1 = .ok (.getfield 67, 3) := dk_180 0 67 (dk_at dksX7_isAsItMustBe_0 1 rfl rfl)
theorem dX7_isAsItMustBe_4 : decode cX7_isAsItMustBe 4 = .ok (.tableswitch 210 0 5 #[40, 114, 141, 210, 168, 194], 40) := by decide +kernel
theorem dX7_isAsItMustBe_44 : decode cX7_isAsItMustBe 44 = .ok (.aload_n 0, 1) := dk_42 (dk_at dksX7_isAsItMustBe_2 0 rfl rfl)
theorem dX7_isAsItMustBe_45 : decode cX7_isAsItMustBe 45 = .ok (.getfield 32, 3) := dk_180 0 32 (dk_at dksX7_isAsItMustBe_2 1 rfl rfl)
theorem dX7_isAsItMustBe_48 : decode cX7_isAsItMustBe 48 = .ok (.iconst 1, 1) := dk_4 (dk_at dksX7_isAsItMustBe_2 4 rfl rfl)
theorem dX7_isAsItMustBe_49 : decode cX7_isAsItMustBe 49 = .ok (.iaload, 1) := dk_46 (dk_at dksX7_isAsItMustBe_2 5 rfl rfl)
theorem dX7_isAsItMustBe_50 : decode cX7_isAsItMustBe 50 = .ok (.bipush 36, 2) := dk_16 36 (dk_at dksX7_isAsItMustBe_2 6 rfl rfl)
theorem dX7_isAsItMustBe_52 : decode cX7_isAsItMustBe 52 = .ok (.if_icmp .ge 64, 3) := dk_162 0 64 (dk_at dksX7_isAsItMustBe_2 8 rfl rfl)
theorem dX7_isAsItMustBe_55 : decode cX7_isAsItMustBe 55 = .ok (.aload_n 0, 1) := dk_42 (dk_at dksX7_isAsItMustBe_2 11 rfl rfl)
theorem dX7_isAsItMustBe_56 : decode cX7_isAsItMustBe 56 = .ok (.getfield 32, 3) := dk_180 0 32 (dk_at dksX7_isAsItMustBe_2 12 rfl rfl)
theorem dX7_isAsItMustBe_59 : decode cX7_isAsItMustBe 59 = .ok (.iconst 2, 1) := dk_5 (dk_at dksX7_isAsItMustBe_2 15 rfl rfl)
theorem dX7_isAsItMustBe_60 : decode cX7_isAsItMustBe 60 = .ok (.iaload, 1) := dk_46 (dk_at dksX7_isAsItMustBe_2 16 rfl rfl)
theorem dX7_isAsItMustBe_61 : decode cX7_isAsItMustBe 61 = .ok (.iconst 1, 1) := dk_4 (dk_at dksX7_isAsItMustBe_2 17 rfl rfl)
theorem dX7_isAsItMustBe_62 : decode cX7_isAsItMustBe 62 = .ok (.if_icmp .lt 54, 3) := dk_161 0 54 (dk_at dksX7_isAsItMustBe_2 18 rfl rfl)
theorem dX7_isAsItMustBe_65 : decode cX7_isAsItMustBe 65 = .ok (.aload_n 0, 1) := dk_42 (dk_at dksX7_isAsItMustBe_2 21 rfl rfl)
theorem dX7_isAsItMustBe_66 : decode cX7_isAsItMustBe 66 = .ok (.getfield 32, 3) := dk_180 0 32 (dk_at dksX7_isAsItMustBe_3 0 rfl rfl)
theorem dX7_isAsItMustBe_69 : decode cX7_isAsItMustBe 69 = .ok (.iconst 2, 1) := dk_5 (dk_at dksX7_isAsItMustBe_3 3 rfl rfl)
theorem dX7_isAsItMustBe_70 : decode cX7_isAsItMustBe 70 = .ok (.iaload, 1) := dk_46 (dk_at dksX7_isAsItMustBe_3 4 rfl rfl)
theorem dX7_isAsItMustBe_71 : decode cX7_isAsItMustBe 71 = .ok (.bipush 20, 2) := dk_16 20 (dk_at dksX7_isAsItMustBe_3 5 rfl rfl)
theorem dX7_isAsItMustBe_73 : decode cX7_isAsItMustBe 73 = .ok (.if_icmp .gt 43, 3) := dk_163 0 43 (dk_at dksX7_isAsItMustBe_3 7 rfl rfl)
theorem dX7_isAsItMustBe_76 : decode cX7_isAsItMustBe 76 = .ok (.aload_n 0, 1) := dk_42 (dk_at dksX7_isAsItMustBe_3 10 rfl rfl)
theorem dX7_isAsItMustBe_77 : decode cX7_isAsItMustBe 77 = .ok (.getfield 32, 3) := dk_180 0 32 (dk_at dksX7_isAsItMustBe_3 11 rfl rfl)
theorem dX7_isAsItMustBe_80 : decode cX7_isAsItMustBe 80 = .ok (.iconst 3, 1) := dk_6 (dk_at dksX7_isAsItMustBe_3 14 rfl rfl)
theorem dX7_isAsItMustBe_81 : decode cX7_isAsItMustBe 81 = .ok (.iaload, 1) := dk_46 (dk_at dksX7_isAsItMustBe_3 15 rfl rfl)
theorem dX7_isAsItMustBe_82 : decode cX7_isAsItMustBe 82 = .ok (.iconst 3, 1) := dk_6 (dk_at dksX7_isAsItMustBe_3 16 rfl rfl)
theorem dX7_isAsItMustBe_83 : decode cX7_isAsItMustBe 83 = .ok (.if_icmp .gt 33, 3) := dk_163 0 33 (dk_at dksX7_isAsItMustBe_3 17 rfl rfl)
theorem dX7_isAsItMustBe_86 : decode cX7_isAsItMustBe 86 = .ok (.aload_n 0, 1) := dk_42 (dk_at dksX7_isAsItMustBe_3 20 rfl rfl)
theorem dX7_isAsItMustBe_87 : decode cX7_isAsItMustBe 87 = .ok (.getfield 13, 3) := dk_180 0 13 (dk_at dksX7_isAsItMustBe_3 21 rfl rfl)
theorem dX7_isAsItMustBe_90 : decode cX7_isAsItMustBe 90 = .ok (.iconst 0, 1) := dk_3 (dk_at dksX7_isAsItMustBe_4 0 rfl rfl)
theorem dX7_isAsItMustBe_91 : decode cX7_isAsItMustBe 91 = .ok (.iaload, 1) := dk_46 (dk_at dksX7_isAsItMustBe_4 1 rfl rfl)
theorem dX7_isAsItMustBe_92 : decode cX7_isAsItMustBe 92 = .ok (.bipush 6, 2) := dk_16 6 (dk_at dksX7_isAsItMustBe_4 2 rfl rfl)
theorem dX7_isAsItMustBe_94 : decode cX7_isAsItMustBe 94 = .ok (.if_icmp .ge 22, 3) := dk_162 0 22 (dk_at dksX7_isAsItMustBe_4 4 rfl rfl)
theorem dX7_isAsItMustBe_97 : decode cX7_isAsItMustBe 97 = .ok (.aload_n 0, 1) := dk_42 (dk_at dksX7_isAsItMustBe_4 7 rfl rfl)
theorem dX7_isAsItMustBe_98 : decode cX7_isAsItMustBe 98 = .ok (.aload_n 0, 1) := dk_42 (dk_at dksX7_isAsItMustBe_4 8 rfl rfl)
theorem dX7_isAsItMustBe_99 : decode cX7_isAsItMustBe 99 = .ok (.getfield 32, 3) := dk_180 0 32 (dk_at dksX7_isAsItMustBe_4 9 rfl rfl)
theorem dX7_isAsItMustBe_102 : decode cX7_isAsItMustBe 102 = .ok (.iconst 1, 1) := dk_4 (dk_at dksX7_isAsItMustBe_4 12 rfl rfl)
theorem dX7_isAsItMustBe_103 : decode cX7_isAsItMustBe 103 = .ok (.iaload, 1) := dk_46 (dk_at dksX7_isAsItMustBe_4 13 rfl rfl)
theorem dX7_isAsItMustBe_104 : decode cX7_isAsItMustBe 104 = .ok (.invokevirtual 78, 3) := dk_182 0 78 (dk_at dksX7_isAsItMustBe_4 14 rfl rfl)
theorem dX7_isAsItMustBe_107 : decode cX7_isAsItMustBe 107 = .ok (.bipush (-9), 2) := dk_16 247 (dk_at dksX7_isAsItMustBe_4 17 rfl rfl)
theorem dX7_isAsItMustBe_109 : decode cX7_isAsItMustBe 109 = .ok (.if_icmp .ne 7, 3) := dk_160 0 7 (dk_at dksX7_isAsItMustBe_4 19 rfl rfl)
theorem dX7_isAsItMustBe_112 : decode cX7_isAsItMustBe 112 = .ok (.iconst 1, 1) := dk_4 (dk_at dksX7_isAsItMustBe_4 22 rfl rfl)
theorem dX7_isAsItMustBe_113 : decode cX7_isAsItMustBe 113 = .ok (.goto 4, 3) := dk_167 0 4 (dk_at dksX7_isAsItMustBe_5 0 rfl rfl)
theorem dX7_isAsItMustBe_116 : decode cX7_isAsItMustBe 116 = .ok (.iconst 0, 1) := dk_3 (dk_at dksX7_isAsItMustBe_5 3 rfl rfl)
theorem dX7_isAsItMustBe_117 : decode cX7_isAsItMustBe 117 = .ok (.ireturn, 1) := dk_172 (dk_at dksX7_isAsItMustBe_5 4 rfl rfl)
theorem dX7_isAsItMustBe_118 : decode cX7_isAsItMustBe 118 = .ok (.aload_n 0, 1) := dk_42 (dk_at dksX7_isAsItMustBe_5 5 rfl rfl)
theorem dX7_isAsItMustBe_119 : decode cX7_isAsItMustBe 119 = .ok (.getfield 32, 3) := dk_180 0 32 (dk_at dksX7_isAsItMustBe_5 6 rfl rfl)
theorem dX7_isAsItMustBe_122 : decode cX7_isAsItMustBe 122 = .ok (.iconst 0, 1) := dk_3 (dk_at dksX7_isAsItMustBe_5 9 rfl rfl)
theorem dX7_isAsItMustBe_123 : decode cX7_isAsItMustBe 123 = .ok (.iaload, 1) := dk_46 (dk_at dksX7_isAsItMustBe_5 10 rfl rfl)
theorem dX7_isAsItMustBe_124 : decode cX7_isAsItMustBe 124 = .ok (.bipush 36, 2) := dk_16 36 (dk_at dksX7_isAsItMustBe_5 11 rfl rfl)
theorem dX7_isAsItMustBe_126 : decode cX7_isAsItMustBe 126 = .ok (.if_icmp .ge 17, 3) := dk_162 0 17 (dk_at dksX7_isAsItMustBe_5 13 rfl rfl)
theorem dX7_isAsItMustBe_129 : decode cX7_isAsItMustBe 129 = .ok (.aload_n 0, 1) := dk_42 (dk_at dksX7_isAsItMustBe_5 16 rfl rfl)
theorem dX7_isAsItMustBe_130 : decode cX7_isAsItMustBe 130 = .ok (.getfield 32, 3) := dk_180 0 32 (dk_at dksX7_isAsItMustBe_5 17 rfl rfl)
theorem dX7_isAsItMustBe_133 : decode cX7_isAsItMustBe 133 = .ok (.iconst 1, 1) := dk_4 (dk_at dksX7_isAsItMustBe_5 20 rfl rfl)
theorem dX7_isAsItMustBe_134 : decode cX7_isAsItMustBe 134 = .ok (.iaload, 1) := dk_46 (dk_at dksX7_isAsItMustBe_5 21 rfl rfl)
theorem dX7_isAsItMustBe_135 : decode cX7_isAsItMustBe 135 = .ok (.iconst 3, 1) := dk_6 (dk_at dksX7_isAsItMustBe_5 22 rfl rfl)
theorem dX7_isAsItMustBe_136 : decode cX7_isAsItMustBe 136 = .ok (.if_icmp .gt 7, 3) := dk_163 0 7 (dk_at dksX7_isAsItMustBe_6 0 rfl rfl)
theorem dX7_isAsItMustBe_139 : decode cX7_isAsItMustBe 139 = .ok (.iconst 1, 1) := dk_4 (dk_at dksX7_isAsItMustBe_6 3 rfl rfl)
theorem dX7_isAsItMustBe_140 : decode cX7_isAsItMustBe 140 = .ok (.goto 4, 3) := dk_167 0 4 (dk_at dksX7_isAsItMustBe_6 4 rfl rfl)
theorem dX7_isAsItMustBe_143 : decode cX7_isAsItMustBe 143 = .ok (.iconst 0, 1) := dk_3 (dk_at dksX7_isAsItMustBe_6 7 rfl rfl)
theorem dX7_isAsItMustBe_144 : decode cX7_isAsItMustBe 144 = .ok (.ireturn, 1) := dk_172 (dk_at dksX7_isAsItMustBe_6 8 rfl rfl)
theorem dX7_isAsItMustBe_145 : decode cX7_isAsItMustBe 145 = .ok (.aload_n 0, 1) := dk_42 (dk_at dksX7_isAsItMustBe_6 9 rfl rfl)
theorem dX7_isAsItMustBe_146 : decode cX7_isAsItMustBe 146 = .ok (.getfield 32, 3) := dk_180 0 32 (dk_at dksX7_isAsItMustBe_6 10 rfl rfl)
theorem dX7_isAsItMustBe_149 : decode cX7_isAsItMustBe 149 = .ok (.iconst 0, 1) := dk_3 (dk_at dksX7_isAsItMustBe_6 13 rfl rfl)
theorem dX7_isAsItMustBe_150 : decode cX7_isAsItMustBe 150 = .ok (.iaload, 1) := dk_46 (dk_at dksX7_isAsItMustBe_6 14 rfl rfl)
theorem dX7_isAsItMustBe_151 : decode cX7_isAsItMustBe 151 = .ok (.bipush 6, 2) := dk_16 6 (dk_at dksX7_isAsItMustBe_6 15 rfl rfl)
theorem dX7_isAsItMustBe_153 : decode cX7_isAsItMustBe 153 = .ok (.if_icmp .ge 17, 3) := dk_162 0 17 (dk_at dksX7_isAsItMustBe_6 17 rfl rfl)
theorem dX7_isAsItMustBe_156 : decode cX7_isAsItMustBe 156 = .ok (.aload_n 0, 1) := dk_42 (dk_at dksX7_isAsItMustBe_6 20 rfl rfl)
theorem dX7_isAsItMustBe_157 : decode cX7_isAsItMustBe 157 = .ok (.getfield 32, 3) := dk_180 0 32 (dk_at dksX7_isAsItMustBe_6 21 rfl rfl)
theorem dX7_isAsItMustBe_160 : decode cX7_isAsItMustBe 160 = .ok (.iconst 1, 1) := dk_4 (dk_at dksX7_isAsItMustBe_7 0 rfl rfl)
theorem dX7_isAsItMustBe_161 : decode cX7_isAsItMustBe 161 = .ok (.iaload, 1) := dk_46 (dk_at dksX7_isAsItMustBe_7 1 rfl rfl)
theorem dX7_isAsItMustBe_162 : decode cX7_isAsItMustBe 162 = .ok (.iconst 3, 1) := dk_6 (dk_at dksX7_isAsItMustBe_7 2 rfl rfl)
theorem dX7_isAsItMustBe_163 : decode cX7_isAsItMustBe 163 = .ok (.if_icmp .gt 7, 3) := dk_163 0 7 (dk_at dksX7_isAsItMustBe_7 3 rfl rfl)
theorem dX7_isAsItMustBe_166 : decode cX7_isAsItMustBe 166 = .ok (.iconst 1, 1) := dk_4 (dk_at dksX7_isAsItMustBe_7 6 rfl rfl)
theorem dX7_isAsItMustBe_167 : decode cX7_isAsItMustBe 167 = .ok (.goto 4, 3) := dk_167 0 4 (dk_at dksX7_isAsItMustBe_7 7 rfl rfl)
theorem dX7_isAsItMustBe_170 : decode cX7_isAsItMustBe 170 = .ok (.iconst 0, 1) := dk_3 (dk_at dksX7_isAsItMustBe_7 10 rfl rfl)
theorem dX7_isAsItMustBe_171 : decode cX7_isAsItMustBe 171 = .ok (.ireturn, 1) := dk_172 (dk_at dksX7_isAsItMustBe_7 11 rfl rfl)
theorem dX7_isAsItMustBe_172 : decode cX7_isAsItMustBe 172 = .ok (.aload_n 0, 1) := dk_42 (dk_at dksX7_isAsItMustBe_7 12 rfl rfl)
theorem dX7_isAsItMustBe_173 : decode cX7_isAsItMustBe 173 = .ok (.getfield 32, 3) := dk_180 0 32 (dk_at dksX7_isAsItMustBe_7 13 rfl rfl)
theorem dX7_isAsItMustBe_176 : decode cX7_isAsItMustBe 176 = .ok (.iconst 0, 1) := dk_3 (dk_at dksX7_isAsItMustBe_7 16 rfl rfl)
theorem dX7_isAsItMustBe_177 : decode cX7_isAsItMustBe 177 = .ok (.iaload, 1) := dk_46 (dk_at dksX7_isAsItMustBe_7 17 rfl rfl)
theorem dX7_isAsItMustBe_178 : decode cX7_isAsItMustBe 178 = .ok (.iconst 3, 1) := dk_6 (dk_at dksX7_isAsItMustBe_7 18 rfl rfl)
theorem dX7_isAsItMustBe_179 : decode cX7_isAsItMustBe 179 = .ok (.if_icmp .gt 17, 3) := dk_163 0 17 (dk_at dksX7_isAsItMustBe_7 19 rfl rfl)
theorem dX7_isAsItMustBe_182 : decode cX7_isAsItMustBe 182 = .ok (.aload_n 0, 1) := dk_42 (dk_at dksX7_isAsItMustBe_7 22 rfl rfl)
theorem dX7_isAsItMustBe_183 : decode cX7_isAsItMustBe 183 = .ok (.getfield 32, 3) := dk_180 0 32 (dk_at dksX7_isAsItMustBe_8 0 rfl rfl)
theorem dX7_isAsItMustBe_186 : decode cX7_isAsItMustBe 186 = .ok (.iconst 1, 1) := dk_4 (dk_at dksX7_isAsItMustBe_8 3 rfl rfl)
theorem dX7_isAsItMustBe_187 : decode cX7_isAsItMustBe 187 = .ok (.iaload, 1) := dk_46 (dk_at dksX7_isAsItMustBe_8 4 rfl rfl)
theorem dX7_isAsItMustBe_188 : decode cX7_isAsItMustBe 188 = .ok (.iconst 3, 1) := dk_6 (dk_at dksX7_isAsItMustBe_8 5 rfl rfl)
theorem dX7_isAsItMustBe_189 : decode cX7_isAsItMustBe 189 = .ok (.if_icmp .gt 7, 3) := dk_163 0 7 (dk_at dksX7_isAsItMustBe_8 6 rfl rfl)
theorem dX7_isAsItMustBe_192 : decode cX7_isAsItMustBe 192 = .ok (.iconst 1, 1) := dk_4 (dk_at dksX7_isAsItMustBe_8 9 rfl rfl)
theorem dX7_isAsItMustBe_193 : decode cX7_isAsItMustBe 193 = .ok (.goto 4, 3) := dk_167 0 4 (dk_at dksX7_isAsItMustBe_8 10 rfl rfl)
theorem dX7_isAsItMustBe_196 : decode cX7_isAsItMustBe 196 = .ok (.iconst 0, 1) := dk_3 (dk_at dksX7_isAsItMustBe_8 13 rfl rfl)
theorem dX7_isAsItMustBe_197 : decode cX7_isAsItMustBe 197 = .ok (.ireturn, 1) := dk_172 (dk_at dksX7_isAsItMustBe_8 14 rfl rfl)
theorem dX7_isAsItMustBe_198 : decode cX7_isAsItMustBe 198 = .ok (.aload_n 0, 1) := dk_42 (dk_at dksX7_isAsItMustBe_8 15 rfl rfl)
theorem dX7_isAsItMustBe_199 : decode cX7_isAsItMustBe 199 = .ok (.getfield 32, 3) := dk_180 0 32 (dk_at dksX7_isAsItMustBe_8 16 rfl rfl)
theorem dX7_isAsItMustBe_202 : decode cX7_isAsItMustBe 202 = .ok (.iconst 0, 1) := dk_3 (dk_at dksX7_isAsItMustBe_8 19 rfl rfl)
theorem dX7_isAsItMustBe_203 : decode cX7_isAsItMustBe 203 = .ok (.iaload, 1) := dk_46 (dk_at dksX7_isAsItMustBe_8 20 rfl rfl)
theorem dX7_isAsItMustBe_204 : decode cX7_isAsItMustBe 204 = .ok (.iconst 4, 1) := dk_7 (dk_at dksX7_isAsItMustBe_8 21 rfl rfl)
theorem dX7_isAsItMustBe_205 : decode cX7_isAsItMustBe 205 = .ok (.if_icmp .gt 7, 3) := dk_163 0 7 (dk_at dksX7_isAsItMustBe_9 0 rfl rfl)
theorem dX7_isAsItMustBe_208 : decode cX7_isAsItMustBe 208 = .ok (.iconst 1, 1) := dk_4 (dk_at dksX7_isAsItMustBe_9 3 rfl rfl)
theorem dX7_isAsItMustBe_209 : decode cX7_isAsItMustBe 209 = .ok (.goto 4, 3) := dk_167 0 4 (dk_at dksX7_isAsItMustBe_9 4 rfl rfl)
theorem dX7_isAsItMustBe_212 : decode cX7_isAsItMustBe 212 = .ok (.iconst 0, 1) := dk_3 (dk_at dksX7_isAsItMustBe_9 7 rfl rfl)
theorem dX7_isAsItMustBe_213 : decode cX7_isAsItMustBe 213 = .ok (.ireturn, 1) := dk_172 (dk_at dksX7_isAsItMustBe_9 8 rfl rfl)
theorem dX7_isAsItMustBe_214 : decode cX7_isAsItMustBe 214 = .ok (.aload_n 0, 1) := dk_42 (dk_at dksX7_isAsItMustBe_9 9 rfl rfl)
theorem dX7_isAsItMustBe_215 : decode cX7_isAsItMustBe 215 = .ok (.getfield 32, 3) := dk_180 0 32 (dk_at dksX7_isAsItMustBe_9 10 rfl rfl)
theorem dX7_isAsItMustBe_218 : decode cX7_isAsItMustBe 218 = .ok (.iconst 0, 1) := dk_3 (dk_at dksX7_isAsItMustBe_9 13 rfl rfl)
theorem dX7_isAsItMustBe_219 : decode cX7_isAsItMustBe 219 = .ok (.iaload, 1) := dk_46 (dk_at dksX7_isAsItMustBe_9 14 rfl rfl)
theorem dX7_isAsItMustBe_220 : decode cX7_isAsItMustBe 220 = .ok (.bipush 36, 2) := dk_16 36 (dk_at dksX7_isAsItMustBe_9 15 rfl rfl)
theorem dX7_isAsItMustBe_222 : decode cX7_isAsItMustBe 222 = .ok (.if_icmp .ge 7, 3) := dk_162 0 7 (dk_at dksX7_isAsItMustBe_9 17 rfl rfl)
theorem dX7_isAsItMustBe_225 : decode cX7_isAsItMustBe 225 = .ok (.iconst 1, 1) := dk_4 (dk_at dksX7_isAsItMustBe_9 20 rfl rfl)
theorem dX7_isAsItMustBe_226 : decode cX7_isAsItMustBe 226 = .ok (.goto 4, 3) := dk_167 0 4 (dk_at dksX7_isAsItMustBe_9 21 rfl rfl)
theorem dX7_isAsItMustBe_229 : decode cX7_isAsItMustBe 229 = .ok (.iconst 0, 1) := dk_3 (dk_at dksX7_isAsItMustBe_10 0 rfl rfl)
theorem dX7_isAsItMustBe_230 : decode cX7_isAsItMustBe 230 = .ok (.ireturn, 1) := dk_172 (dk_at dksX7_isAsItMustBe_10 1 rfl rfl)
abbrev cX7_treeIn : ByteArray := prog_26_method_11_code
def yX7_treeIn : MethodName := ⟨RX7, "treeIn", "(I)I"⟩
def dkwX7_treeIn_1 : List UInt8 := [160, 0, 5, 28, 172, 132, 2, 1, 167, 255, 228, 16, 247, 172]
abbrev dktX7_treeIn_1 : List UInt8 := dkwX7_treeIn_1 ++ []
def dkwX7_treeIn_0 : List UInt8 := [3, 61, 28, 42, 180, 0, 13, 3, 46, 162, 0, 24, 42, 180, 0, 13, 16, 126, 28, 96, 46, 27]
abbrev dktX7_treeIn_0 : List UInt8 := dkwX7_treeIn_0 ++ dktX7_treeIn_1
theorem dksX7_treeIn_0 : cX7_treeIn.data.toList.drop 0 = dktX7_treeIn_0 := by decide +kernel
theorem dksX7_treeIn_1 : cX7_treeIn.data.toList.drop 22 = dktX7_treeIn_1 := dk_seg dksX7_treeIn_0 22 rfl rfl
theorem dX7_treeIn_0 : decode cX7_treeIn 0 = .ok (.iconst 0, 1) := dk_3 (dk_at dksX7_treeIn_0 0 rfl rfl)
theorem dX7_treeIn_1 : decode cX7_treeIn 1 = .ok (.istore_n 2, 1) := dk_61 (dk_at dksX7_treeIn_0 1 rfl rfl)
theorem dX7_treeIn_2 : decode cX7_treeIn 2 = .ok (.iload_n 2, 1) := dk_28 (dk_at dksX7_treeIn_0 2 rfl rfl)
theorem dX7_treeIn_3 : decode cX7_treeIn 3 = .ok (.aload_n 0, 1) := dk_42 (dk_at dksX7_treeIn_0 3 rfl rfl)
theorem dX7_treeIn_4 : decode cX7_treeIn 4 = .ok (.getfield 13, 3) := dk_180 0 13 (dk_at dksX7_treeIn_0 4 rfl rfl)
theorem dX7_treeIn_7 : decode cX7_treeIn 7 = .ok (.iconst 0, 1) := dk_3 (dk_at dksX7_treeIn_0 7 rfl rfl)
theorem dX7_treeIn_8 : decode cX7_treeIn 8 = .ok (.iaload, 1) := dk_46 (dk_at dksX7_treeIn_0 8 rfl rfl)
theorem dX7_treeIn_9 : decode cX7_treeIn 9 = .ok (.if_icmp .ge 24, 3) := dk_162 0 24 (dk_at dksX7_treeIn_0 9 rfl rfl)
theorem dX7_treeIn_12 : decode cX7_treeIn 12 = .ok (.aload_n 0, 1) := dk_42 (dk_at dksX7_treeIn_0 12 rfl rfl)
theorem dX7_treeIn_13 : decode cX7_treeIn 13 = .ok (.getfield 13, 3) := dk_180 0 13 (dk_at dksX7_treeIn_0 13 rfl rfl)
theorem dX7_treeIn_16 : decode cX7_treeIn 16 = .ok (.bipush 126, 2) := dk_16 126 (dk_at dksX7_treeIn_0 16 rfl rfl)
theorem dX7_treeIn_18 : decode cX7_treeIn 18 = .ok (.iload_n 2, 1) := dk_28 (dk_at dksX7_treeIn_0 18 rfl rfl)
theorem dX7_treeIn_19 : decode cX7_treeIn 19 = .ok (.iadd, 1) := dk_96 (dk_at dksX7_treeIn_0 19 rfl rfl)
theorem dX7_treeIn_20 : decode cX7_treeIn 20 = .ok (.iaload, 1) := dk_46 (dk_at dksX7_treeIn_0 20 rfl rfl)
theorem dX7_treeIn_21 : decode cX7_treeIn 21 = .ok (.iload_n 1, 1) := dk_27 (dk_at dksX7_treeIn_0 21 rfl rfl)
theorem dX7_treeIn_22 : decode cX7_treeIn 22 = .ok (.if_icmp .ne 5, 3) := dk_160 0 5 (dk_at dksX7_treeIn_1 0 rfl rfl)
theorem dX7_treeIn_25 : decode cX7_treeIn 25 = .ok (.iload_n 2, 1) := dk_28 (dk_at dksX7_treeIn_1 3 rfl rfl)
theorem dX7_treeIn_26 : decode cX7_treeIn 26 = .ok (.ireturn, 1) := dk_172 (dk_at dksX7_treeIn_1 4 rfl rfl)
theorem dX7_treeIn_27 : decode cX7_treeIn 27 = .ok (.iinc 2 1, 3) := dk_132 2 1 (dk_at dksX7_treeIn_1 5 rfl rfl)
theorem dX7_treeIn_30 : decode cX7_treeIn 30 = .ok (.goto (-28), 3) := dk_167 255 228 (dk_at dksX7_treeIn_1 8 rfl rfl)
theorem dX7_treeIn_33 : decode cX7_treeIn 33 = .ok (.bipush (-9), 2) := dk_16 247 (dk_at dksX7_treeIn_1 11 rfl rfl)
theorem dX7_treeIn_35 : decode cX7_treeIn 35 = .ok (.ireturn, 1) := dk_172 (dk_at dksX7_treeIn_1 13 rfl rfl)
abbrev cX7_come : ByteArray := prog_26_method_14_code
def yX7_come : MethodName := ⟨RX7, "come", "()V"⟩
def dkwX7_come_9 : List UInt8 := [3, 46, 96, 4, 42, 180, 0, 13, 16, 84, 42, 180, 0, 32, 3, 46, 96, 46, 100, 79, 177]
abbrev dktX7_come_9 : List UInt8 := dkwX7_come_9 ++ []
def dkwX7_come_8 : List UInt8 := [180, 0, 13, 5, 42, 180, 0, 32, 3, 46, 79, 167, 0, 33, 42, 180, 0, 13, 16, 84, 42, 180, 0, 32]
abbrev dktX7_come_8 : List UInt8 := dkwX7_come_8 ++ dktX7_come_9
def dkwX7_come_7 : List UInt8 := [180, 0, 13, 4, 7, 42, 180, 0, 32, 3, 46, 104, 42, 180, 0, 32, 4, 46, 96, 79, 167, 0, 48, 42]
abbrev dktX7_come_7 : List UInt8 := dkwX7_come_7 ++ dktX7_come_8
def dkwX7_come_6 : List UInt8 := [42, 180, 0, 13, 16, 48, 42, 180, 0, 32, 3, 46, 96, 42, 180, 0, 32, 4, 46, 79, 167, 0, 72, 42]
abbrev dktX7_come_6 : List UInt8 := dkwX7_come_6 ++ dktX7_come_7
def dkwX7_come_5 : List UInt8 := [96, 42, 180, 0, 32, 3, 46, 96, 42, 180, 0, 32, 4, 46, 79, 132, 1, 1, 167, 255, 222, 167, 0, 95]
abbrev dktX7_come_5 : List UInt8 := dkwX7_come_5 ++ dktX7_come_6
def dkwX7_come_4 : List UInt8 := [4, 46, 79, 167, 0, 137, 3, 60, 27, 16, 6, 162, 0, 34, 42, 180, 0, 13, 16, 12, 16, 6, 27, 104]
abbrev dktX7_come_4 : List UInt8 := dkwX7_come_4 ++ dktX7_come_5
def dkwX7_come_3 : List UInt8 := [46, 182, 0, 81, 167, 0, 160, 42, 180, 0, 13, 16, 12, 42, 180, 0, 32, 3, 46, 96, 42, 180, 0, 32]
abbrev dktX7_come_3 : List UInt8 := dkwX7_come_3 ++ dktX7_come_4
def dkwX7_come_2 : List UInt8 := [42, 42, 180, 0, 32, 3, 46, 42, 180, 0, 32, 4, 46, 42, 180, 0, 32, 5, 46, 42, 180, 0, 32, 6]
abbrev dktX7_come_2 : List UInt8 := dkwX7_come_2 ++ dktX7_come_3
def dkwX7_come_1 : List UInt8 := [170, 0, 0, 0, 0, 0, 0, 198, 0, 0, 0, 0, 0, 0, 0, 5, 0, 0, 0, 40, 0, 0, 0, 71, 0, 0, 0, 94, 0, 0, 0, 136, 0, 0, 0, 159, 0, 0, 0, 183]
abbrev dktX7_come_1 : List UInt8 := dkwX7_come_1 ++ dktX7_come_2
def dkwX7_come_0 : List UInt8 := [42, 180, 0, 67]
abbrev dktX7_come_0 : List UInt8 := dkwX7_come_0 ++ dktX7_come_1
theorem dksX7_come_0 : cX7_come.data.toList.drop 0 = dktX7_come_0 := by decide +kernel
theorem dksX7_come_1 : cX7_come.data.toList.drop 4 = dktX7_come_1 := dk_seg dksX7_come_0 4 rfl rfl
theorem dksX7_come_2 : cX7_come.data.toList.drop 44 = dktX7_come_2 := dk_seg dksX7_come_1 40 rfl rfl
theorem dksX7_come_3 : cX7_come.data.toList.drop 68 = dktX7_come_3 := dk_seg dksX7_come_2 24 rfl rfl
theorem dksX7_come_4 : cX7_come.data.toList.drop 92 = dktX7_come_4 := dk_seg dksX7_come_3 24 rfl rfl
theorem dksX7_come_5 : cX7_come.data.toList.drop 116 = dktX7_come_5 := dk_seg dksX7_come_4 24 rfl rfl
theorem dksX7_come_6 : cX7_come.data.toList.drop 140 = dktX7_come_6 := dk_seg dksX7_come_5 24 rfl rfl
theorem dksX7_come_7 : cX7_come.data.toList.drop 164 = dktX7_come_7 := dk_seg dksX7_come_6 24 rfl rfl
theorem dksX7_come_8 : cX7_come.data.toList.drop 188 = dktX7_come_8 := dk_seg dksX7_come_7 24 rfl rfl
theorem dksX7_come_9 : cX7_come.data.toList.drop 212 = dktX7_come_9 := dk_seg dksX7_come_8 24 rfl rfl
theorem dX7_come_0 : decode cX7_come 0 = .ok (.aload_n 0, 1) := dk_42 (dk_at dksX7_come_0 0 rfl rfl)
theorem dX7_come_1 : decode cX7_come 1 = .ok (.getfield 67, 3) := dk_180 0 67 (dk_at dksX7_come_0 1 rfl rfl)
theorem dX7_come_4 : decode cX7_come 4 = .ok (.tableswitch 198 0 5 #[40, 71, 94, 136, 159, 183], 40) := by decide +kernel
theorem dX7_come_44 : decode cX7_come 44 = .ok (.aload_n 0, 1) := dk_42 (dk_at dksX7_come_2 0 rfl rfl)
theorem dX7_come_45 : decode cX7_come 45 = .ok (.aload_n 0, 1) := dk_42 (dk_at dksX7_come_2 1 rfl rfl)
theorem dX7_come_46 : decode cX7_come 46 = .ok (.getfield 32, 3) := dk_180 0 32 (dk_at dksX7_come_2 2 rfl rfl)
theorem dX7_come_49 : decode cX7_come 49 = .ok (.iconst 0, 1) := dk_3 (dk_at dksX7_come_2 5 rfl rfl)
theorem dX7_come_50 : decode cX7_come 50 = .ok (.iaload, 1) := dk_46 (dk_at dksX7_come_2 6 rfl rfl)
theorem dX7_come_51 : decode cX7_come 51 = .ok (.aload_n 0, 1) := dk_42 (dk_at dksX7_come_2 7 rfl rfl)
theorem dX7_come_52 : decode cX7_come 52 = .ok (.getfield 32, 3) := dk_180 0 32 (dk_at dksX7_come_2 8 rfl rfl)
theorem dX7_come_55 : decode cX7_come 55 = .ok (.iconst 1, 1) := dk_4 (dk_at dksX7_come_2 11 rfl rfl)
theorem dX7_come_56 : decode cX7_come 56 = .ok (.iaload, 1) := dk_46 (dk_at dksX7_come_2 12 rfl rfl)
theorem dX7_come_57 : decode cX7_come 57 = .ok (.aload_n 0, 1) := dk_42 (dk_at dksX7_come_2 13 rfl rfl)
theorem dX7_come_58 : decode cX7_come 58 = .ok (.getfield 32, 3) := dk_180 0 32 (dk_at dksX7_come_2 14 rfl rfl)
theorem dX7_come_61 : decode cX7_come 61 = .ok (.iconst 2, 1) := dk_5 (dk_at dksX7_come_2 17 rfl rfl)
theorem dX7_come_62 : decode cX7_come 62 = .ok (.iaload, 1) := dk_46 (dk_at dksX7_come_2 18 rfl rfl)
theorem dX7_come_63 : decode cX7_come 63 = .ok (.aload_n 0, 1) := dk_42 (dk_at dksX7_come_2 19 rfl rfl)
theorem dX7_come_64 : decode cX7_come 64 = .ok (.getfield 32, 3) := dk_180 0 32 (dk_at dksX7_come_2 20 rfl rfl)
theorem dX7_come_67 : decode cX7_come 67 = .ok (.iconst 3, 1) := dk_6 (dk_at dksX7_come_2 23 rfl rfl)
theorem dX7_come_68 : decode cX7_come 68 = .ok (.iaload, 1) := dk_46 (dk_at dksX7_come_3 0 rfl rfl)
theorem dX7_come_69 : decode cX7_come 69 = .ok (.invokevirtual 81, 3) := dk_182 0 81 (dk_at dksX7_come_3 1 rfl rfl)
theorem dX7_come_72 : decode cX7_come 72 = .ok (.goto 160, 3) := dk_167 0 160 (dk_at dksX7_come_3 4 rfl rfl)
theorem dX7_come_75 : decode cX7_come 75 = .ok (.aload_n 0, 1) := dk_42 (dk_at dksX7_come_3 7 rfl rfl)
theorem dX7_come_76 : decode cX7_come 76 = .ok (.getfield 13, 3) := dk_180 0 13 (dk_at dksX7_come_3 8 rfl rfl)
theorem dX7_come_79 : decode cX7_come 79 = .ok (.bipush 12, 2) := dk_16 12 (dk_at dksX7_come_3 11 rfl rfl)
theorem dX7_come_81 : decode cX7_come 81 = .ok (.aload_n 0, 1) := dk_42 (dk_at dksX7_come_3 13 rfl rfl)
theorem dX7_come_82 : decode cX7_come 82 = .ok (.getfield 32, 3) := dk_180 0 32 (dk_at dksX7_come_3 14 rfl rfl)
theorem dX7_come_85 : decode cX7_come 85 = .ok (.iconst 0, 1) := dk_3 (dk_at dksX7_come_3 17 rfl rfl)
theorem dX7_come_86 : decode cX7_come 86 = .ok (.iaload, 1) := dk_46 (dk_at dksX7_come_3 18 rfl rfl)
theorem dX7_come_87 : decode cX7_come 87 = .ok (.iadd, 1) := dk_96 (dk_at dksX7_come_3 19 rfl rfl)
theorem dX7_come_88 : decode cX7_come 88 = .ok (.aload_n 0, 1) := dk_42 (dk_at dksX7_come_3 20 rfl rfl)
theorem dX7_come_89 : decode cX7_come 89 = .ok (.getfield 32, 3) := dk_180 0 32 (dk_at dksX7_come_3 21 rfl rfl)
theorem dX7_come_92 : decode cX7_come 92 = .ok (.iconst 1, 1) := dk_4 (dk_at dksX7_come_4 0 rfl rfl)
theorem dX7_come_93 : decode cX7_come 93 = .ok (.iaload, 1) := dk_46 (dk_at dksX7_come_4 1 rfl rfl)
theorem dX7_come_94 : decode cX7_come 94 = .ok (.iastore, 1) := dk_79 (dk_at dksX7_come_4 2 rfl rfl)
theorem dX7_come_95 : decode cX7_come 95 = .ok (.goto 137, 3) := dk_167 0 137 (dk_at dksX7_come_4 3 rfl rfl)
theorem dX7_come_98 : decode cX7_come 98 = .ok (.iconst 0, 1) := dk_3 (dk_at dksX7_come_4 6 rfl rfl)
theorem dX7_come_99 : decode cX7_come 99 = .ok (.istore_n 1, 1) := dk_60 (dk_at dksX7_come_4 7 rfl rfl)
theorem dX7_come_100 : decode cX7_come 100 = .ok (.iload_n 1, 1) := dk_27 (dk_at dksX7_come_4 8 rfl rfl)
theorem dX7_come_101 : decode cX7_come 101 = .ok (.bipush 6, 2) := dk_16 6 (dk_at dksX7_come_4 9 rfl rfl)
theorem dX7_come_103 : decode cX7_come 103 = .ok (.if_icmp .ge 34, 3) := dk_162 0 34 (dk_at dksX7_come_4 11 rfl rfl)
theorem dX7_come_106 : decode cX7_come 106 = .ok (.aload_n 0, 1) := dk_42 (dk_at dksX7_come_4 14 rfl rfl)
theorem dX7_come_107 : decode cX7_come 107 = .ok (.getfield 13, 3) := dk_180 0 13 (dk_at dksX7_come_4 15 rfl rfl)
theorem dX7_come_110 : decode cX7_come 110 = .ok (.bipush 12, 2) := dk_16 12 (dk_at dksX7_come_4 18 rfl rfl)
theorem dX7_come_112 : decode cX7_come 112 = .ok (.bipush 6, 2) := dk_16 6 (dk_at dksX7_come_4 20 rfl rfl)
theorem dX7_come_114 : decode cX7_come 114 = .ok (.iload_n 1, 1) := dk_27 (dk_at dksX7_come_4 22 rfl rfl)
theorem dX7_come_115 : decode cX7_come 115 = .ok (.imul, 1) := dk_104 (dk_at dksX7_come_4 23 rfl rfl)
theorem dX7_come_116 : decode cX7_come 116 = .ok (.iadd, 1) := dk_96 (dk_at dksX7_come_5 0 rfl rfl)
theorem dX7_come_117 : decode cX7_come 117 = .ok (.aload_n 0, 1) := dk_42 (dk_at dksX7_come_5 1 rfl rfl)
theorem dX7_come_118 : decode cX7_come 118 = .ok (.getfield 32, 3) := dk_180 0 32 (dk_at dksX7_come_5 2 rfl rfl)
theorem dX7_come_121 : decode cX7_come 121 = .ok (.iconst 0, 1) := dk_3 (dk_at dksX7_come_5 5 rfl rfl)
theorem dX7_come_122 : decode cX7_come 122 = .ok (.iaload, 1) := dk_46 (dk_at dksX7_come_5 6 rfl rfl)
theorem dX7_come_123 : decode cX7_come 123 = .ok (.iadd, 1) := dk_96 (dk_at dksX7_come_5 7 rfl rfl)
theorem dX7_come_124 : decode cX7_come 124 = .ok (.aload_n 0, 1) := dk_42 (dk_at dksX7_come_5 8 rfl rfl)
theorem dX7_come_125 : decode cX7_come 125 = .ok (.getfield 32, 3) := dk_180 0 32 (dk_at dksX7_come_5 9 rfl rfl)
theorem dX7_come_128 : decode cX7_come 128 = .ok (.iconst 1, 1) := dk_4 (dk_at dksX7_come_5 12 rfl rfl)
theorem dX7_come_129 : decode cX7_come 129 = .ok (.iaload, 1) := dk_46 (dk_at dksX7_come_5 13 rfl rfl)
theorem dX7_come_130 : decode cX7_come 130 = .ok (.iastore, 1) := dk_79 (dk_at dksX7_come_5 14 rfl rfl)
theorem dX7_come_131 : decode cX7_come 131 = .ok (.iinc 1 1, 3) := dk_132 1 1 (dk_at dksX7_come_5 15 rfl rfl)
theorem dX7_come_134 : decode cX7_come 134 = .ok (.goto (-34), 3) := dk_167 255 222 (dk_at dksX7_come_5 18 rfl rfl)
theorem dX7_come_137 : decode cX7_come 137 = .ok (.goto 95, 3) := dk_167 0 95 (dk_at dksX7_come_5 21 rfl rfl)
theorem dX7_come_140 : decode cX7_come 140 = .ok (.aload_n 0, 1) := dk_42 (dk_at dksX7_come_6 0 rfl rfl)
theorem dX7_come_141 : decode cX7_come 141 = .ok (.getfield 13, 3) := dk_180 0 13 (dk_at dksX7_come_6 1 rfl rfl)
theorem dX7_come_144 : decode cX7_come 144 = .ok (.bipush 48, 2) := dk_16 48 (dk_at dksX7_come_6 4 rfl rfl)
theorem dX7_come_146 : decode cX7_come 146 = .ok (.aload_n 0, 1) := dk_42 (dk_at dksX7_come_6 6 rfl rfl)
theorem dX7_come_147 : decode cX7_come 147 = .ok (.getfield 32, 3) := dk_180 0 32 (dk_at dksX7_come_6 7 rfl rfl)
theorem dX7_come_150 : decode cX7_come 150 = .ok (.iconst 0, 1) := dk_3 (dk_at dksX7_come_6 10 rfl rfl)
theorem dX7_come_151 : decode cX7_come 151 = .ok (.iaload, 1) := dk_46 (dk_at dksX7_come_6 11 rfl rfl)
theorem dX7_come_152 : decode cX7_come 152 = .ok (.iadd, 1) := dk_96 (dk_at dksX7_come_6 12 rfl rfl)
theorem dX7_come_153 : decode cX7_come 153 = .ok (.aload_n 0, 1) := dk_42 (dk_at dksX7_come_6 13 rfl rfl)
theorem dX7_come_154 : decode cX7_come 154 = .ok (.getfield 32, 3) := dk_180 0 32 (dk_at dksX7_come_6 14 rfl rfl)
theorem dX7_come_157 : decode cX7_come 157 = .ok (.iconst 1, 1) := dk_4 (dk_at dksX7_come_6 17 rfl rfl)
theorem dX7_come_158 : decode cX7_come 158 = .ok (.iaload, 1) := dk_46 (dk_at dksX7_come_6 18 rfl rfl)
theorem dX7_come_159 : decode cX7_come 159 = .ok (.iastore, 1) := dk_79 (dk_at dksX7_come_6 19 rfl rfl)
theorem dX7_come_160 : decode cX7_come 160 = .ok (.goto 72, 3) := dk_167 0 72 (dk_at dksX7_come_6 20 rfl rfl)
theorem dX7_come_163 : decode cX7_come 163 = .ok (.aload_n 0, 1) := dk_42 (dk_at dksX7_come_6 23 rfl rfl)
theorem dX7_come_164 : decode cX7_come 164 = .ok (.getfield 13, 3) := dk_180 0 13 (dk_at dksX7_come_7 0 rfl rfl)
theorem dX7_come_167 : decode cX7_come 167 = .ok (.iconst 1, 1) := dk_4 (dk_at dksX7_come_7 3 rfl rfl)
theorem dX7_come_168 : decode cX7_come 168 = .ok (.iconst 4, 1) := dk_7 (dk_at dksX7_come_7 4 rfl rfl)
theorem dX7_come_169 : decode cX7_come 169 = .ok (.aload_n 0, 1) := dk_42 (dk_at dksX7_come_7 5 rfl rfl)
theorem dX7_come_170 : decode cX7_come 170 = .ok (.getfield 32, 3) := dk_180 0 32 (dk_at dksX7_come_7 6 rfl rfl)
theorem dX7_come_173 : decode cX7_come 173 = .ok (.iconst 0, 1) := dk_3 (dk_at dksX7_come_7 9 rfl rfl)
theorem dX7_come_174 : decode cX7_come 174 = .ok (.iaload, 1) := dk_46 (dk_at dksX7_come_7 10 rfl rfl)
theorem dX7_come_175 : decode cX7_come 175 = .ok (.imul, 1) := dk_104 (dk_at dksX7_come_7 11 rfl rfl)
theorem dX7_come_176 : decode cX7_come 176 = .ok (.aload_n 0, 1) := dk_42 (dk_at dksX7_come_7 12 rfl rfl)
theorem dX7_come_177 : decode cX7_come 177 = .ok (.getfield 32, 3) := dk_180 0 32 (dk_at dksX7_come_7 13 rfl rfl)
theorem dX7_come_180 : decode cX7_come 180 = .ok (.iconst 1, 1) := dk_4 (dk_at dksX7_come_7 16 rfl rfl)
theorem dX7_come_181 : decode cX7_come 181 = .ok (.iaload, 1) := dk_46 (dk_at dksX7_come_7 17 rfl rfl)
theorem dX7_come_182 : decode cX7_come 182 = .ok (.iadd, 1) := dk_96 (dk_at dksX7_come_7 18 rfl rfl)
theorem dX7_come_183 : decode cX7_come 183 = .ok (.iastore, 1) := dk_79 (dk_at dksX7_come_7 19 rfl rfl)
theorem dX7_come_184 : decode cX7_come 184 = .ok (.goto 48, 3) := dk_167 0 48 (dk_at dksX7_come_7 20 rfl rfl)
theorem dX7_come_187 : decode cX7_come 187 = .ok (.aload_n 0, 1) := dk_42 (dk_at dksX7_come_7 23 rfl rfl)
theorem dX7_come_188 : decode cX7_come 188 = .ok (.getfield 13, 3) := dk_180 0 13 (dk_at dksX7_come_8 0 rfl rfl)
theorem dX7_come_191 : decode cX7_come 191 = .ok (.iconst 2, 1) := dk_5 (dk_at dksX7_come_8 3 rfl rfl)
theorem dX7_come_192 : decode cX7_come 192 = .ok (.aload_n 0, 1) := dk_42 (dk_at dksX7_come_8 4 rfl rfl)
theorem dX7_come_193 : decode cX7_come 193 = .ok (.getfield 32, 3) := dk_180 0 32 (dk_at dksX7_come_8 5 rfl rfl)
theorem dX7_come_196 : decode cX7_come 196 = .ok (.iconst 0, 1) := dk_3 (dk_at dksX7_come_8 8 rfl rfl)
theorem dX7_come_197 : decode cX7_come 197 = .ok (.iaload, 1) := dk_46 (dk_at dksX7_come_8 9 rfl rfl)
theorem dX7_come_198 : decode cX7_come 198 = .ok (.iastore, 1) := dk_79 (dk_at dksX7_come_8 10 rfl rfl)
theorem dX7_come_199 : decode cX7_come 199 = .ok (.goto 33, 3) := dk_167 0 33 (dk_at dksX7_come_8 11 rfl rfl)
theorem dX7_come_202 : decode cX7_come 202 = .ok (.aload_n 0, 1) := dk_42 (dk_at dksX7_come_8 14 rfl rfl)
theorem dX7_come_203 : decode cX7_come 203 = .ok (.getfield 13, 3) := dk_180 0 13 (dk_at dksX7_come_8 15 rfl rfl)
theorem dX7_come_206 : decode cX7_come 206 = .ok (.bipush 84, 2) := dk_16 84 (dk_at dksX7_come_8 18 rfl rfl)
theorem dX7_come_208 : decode cX7_come 208 = .ok (.aload_n 0, 1) := dk_42 (dk_at dksX7_come_8 20 rfl rfl)
theorem dX7_come_209 : decode cX7_come 209 = .ok (.getfield 32, 3) := dk_180 0 32 (dk_at dksX7_come_8 21 rfl rfl)
theorem dX7_come_212 : decode cX7_come 212 = .ok (.iconst 0, 1) := dk_3 (dk_at dksX7_come_9 0 rfl rfl)
theorem dX7_come_213 : decode cX7_come 213 = .ok (.iaload, 1) := dk_46 (dk_at dksX7_come_9 1 rfl rfl)
theorem dX7_come_214 : decode cX7_come 214 = .ok (.iadd, 1) := dk_96 (dk_at dksX7_come_9 2 rfl rfl)
theorem dX7_come_215 : decode cX7_come 215 = .ok (.iconst 1, 1) := dk_4 (dk_at dksX7_come_9 3 rfl rfl)
theorem dX7_come_216 : decode cX7_come 216 = .ok (.aload_n 0, 1) := dk_42 (dk_at dksX7_come_9 4 rfl rfl)
theorem dX7_come_217 : decode cX7_come 217 = .ok (.getfield 13, 3) := dk_180 0 13 (dk_at dksX7_come_9 5 rfl rfl)
theorem dX7_come_220 : decode cX7_come 220 = .ok (.bipush 84, 2) := dk_16 84 (dk_at dksX7_come_9 8 rfl rfl)
theorem dX7_come_222 : decode cX7_come 222 = .ok (.aload_n 0, 1) := dk_42 (dk_at dksX7_come_9 10 rfl rfl)
theorem dX7_come_223 : decode cX7_come 223 = .ok (.getfield 32, 3) := dk_180 0 32 (dk_at dksX7_come_9 11 rfl rfl)
theorem dX7_come_226 : decode cX7_come 226 = .ok (.iconst 0, 1) := dk_3 (dk_at dksX7_come_9 14 rfl rfl)
theorem dX7_come_227 : decode cX7_come 227 = .ok (.iaload, 1) := dk_46 (dk_at dksX7_come_9 15 rfl rfl)
theorem dX7_come_228 : decode cX7_come 228 = .ok (.iadd, 1) := dk_96 (dk_at dksX7_come_9 16 rfl rfl)
theorem dX7_come_229 : decode cX7_come 229 = .ok (.iaload, 1) := dk_46 (dk_at dksX7_come_9 17 rfl rfl)
theorem dX7_come_230 : decode cX7_come 230 = .ok (.isub, 1) := dk_100 (dk_at dksX7_come_9 18 rfl rfl)
theorem dX7_come_231 : decode cX7_come 231 = .ok (.iastore, 1) := dk_79 (dk_at dksX7_come_9 19 rfl rfl)
theorem dX7_come_232 : decode cX7_come 232 = .ok (.return_, 1) := dk_177 (dk_at dksX7_come_9 20 rfl rfl)
abbrev cX7_more : ByteArray := prog_26_method_13_code
def yX7_more : MethodName := ⟨RX7, "more", "(IIII)V"⟩
def dkwX7_more_2 : List UInt8 := [17, 0, 138, 21, 5, 96, 21, 4, 79, 42, 180, 0, 13, 3, 92, 46, 4, 96, 79, 177]
abbrev dktX7_more_2 : List UInt8 := dkwX7_more_2 ++ []
def dkwX7_more_1 : List UInt8 := [16, 126, 21, 5, 96, 28, 79, 42, 180, 0, 13, 17, 0, 132, 21, 5, 96, 29, 79, 42, 180, 0, 13]
abbrev dktX7_more_1 : List UInt8 := dkwX7_more_1 ++ dktX7_more_2
def dkwX7_more_0 : List UInt8 := [42, 180, 0, 13, 3, 46, 54, 5, 42, 180, 0, 13, 16, 120, 21, 5, 96, 27, 79, 42, 180, 0, 13]
abbrev dktX7_more_0 : List UInt8 := dkwX7_more_0 ++ dktX7_more_1
theorem dksX7_more_0 : cX7_more.data.toList.drop 0 = dktX7_more_0 := by decide +kernel
theorem dksX7_more_1 : cX7_more.data.toList.drop 23 = dktX7_more_1 := dk_seg dksX7_more_0 23 rfl rfl
theorem dksX7_more_2 : cX7_more.data.toList.drop 46 = dktX7_more_2 := dk_seg dksX7_more_1 23 rfl rfl
theorem dX7_more_0 : decode cX7_more 0 = .ok (.aload_n 0, 1) := dk_42 (dk_at dksX7_more_0 0 rfl rfl)
theorem dX7_more_1 : decode cX7_more 1 = .ok (.getfield 13, 3) := dk_180 0 13 (dk_at dksX7_more_0 1 rfl rfl)
theorem dX7_more_4 : decode cX7_more 4 = .ok (.iconst 0, 1) := dk_3 (dk_at dksX7_more_0 4 rfl rfl)
theorem dX7_more_5 : decode cX7_more 5 = .ok (.iaload, 1) := dk_46 (dk_at dksX7_more_0 5 rfl rfl)
theorem dX7_more_6 : decode cX7_more 6 = .ok (.istore 5, 2) := dk_54 5 (dk_at dksX7_more_0 6 rfl rfl)
theorem dX7_more_8 : decode cX7_more 8 = .ok (.aload_n 0, 1) := dk_42 (dk_at dksX7_more_0 8 rfl rfl)
theorem dX7_more_9 : decode cX7_more 9 = .ok (.getfield 13, 3) := dk_180 0 13 (dk_at dksX7_more_0 9 rfl rfl)
theorem dX7_more_12 : decode cX7_more 12 = .ok (.bipush 120, 2) := dk_16 120 (dk_at dksX7_more_0 12 rfl rfl)
theorem dX7_more_14 : decode cX7_more 14 = .ok (.iload 5, 2) := dk_21 5 (dk_at dksX7_more_0 14 rfl rfl)
theorem dX7_more_16 : decode cX7_more 16 = .ok (.iadd, 1) := dk_96 (dk_at dksX7_more_0 16 rfl rfl)
theorem dX7_more_17 : decode cX7_more 17 = .ok (.iload_n 1, 1) := dk_27 (dk_at dksX7_more_0 17 rfl rfl)
theorem dX7_more_18 : decode cX7_more 18 = .ok (.iastore, 1) := dk_79 (dk_at dksX7_more_0 18 rfl rfl)
theorem dX7_more_19 : decode cX7_more 19 = .ok (.aload_n 0, 1) := dk_42 (dk_at dksX7_more_0 19 rfl rfl)
theorem dX7_more_20 : decode cX7_more 20 = .ok (.getfield 13, 3) := dk_180 0 13 (dk_at dksX7_more_0 20 rfl rfl)
theorem dX7_more_23 : decode cX7_more 23 = .ok (.bipush 126, 2) := dk_16 126 (dk_at dksX7_more_1 0 rfl rfl)
theorem dX7_more_25 : decode cX7_more 25 = .ok (.iload 5, 2) := dk_21 5 (dk_at dksX7_more_1 2 rfl rfl)
theorem dX7_more_27 : decode cX7_more 27 = .ok (.iadd, 1) := dk_96 (dk_at dksX7_more_1 4 rfl rfl)
theorem dX7_more_28 : decode cX7_more 28 = .ok (.iload_n 2, 1) := dk_28 (dk_at dksX7_more_1 5 rfl rfl)
theorem dX7_more_29 : decode cX7_more 29 = .ok (.iastore, 1) := dk_79 (dk_at dksX7_more_1 6 rfl rfl)
theorem dX7_more_30 : decode cX7_more 30 = .ok (.aload_n 0, 1) := dk_42 (dk_at dksX7_more_1 7 rfl rfl)
theorem dX7_more_31 : decode cX7_more 31 = .ok (.getfield 13, 3) := dk_180 0 13 (dk_at dksX7_more_1 8 rfl rfl)
theorem dX7_more_34 : decode cX7_more 34 = .ok (.sipush 132, 3) := dk_17 0 132 (dk_at dksX7_more_1 11 rfl rfl)
theorem dX7_more_37 : decode cX7_more 37 = .ok (.iload 5, 2) := dk_21 5 (dk_at dksX7_more_1 14 rfl rfl)
theorem dX7_more_39 : decode cX7_more 39 = .ok (.iadd, 1) := dk_96 (dk_at dksX7_more_1 16 rfl rfl)
theorem dX7_more_40 : decode cX7_more 40 = .ok (.iload_n 3, 1) := dk_29 (dk_at dksX7_more_1 17 rfl rfl)
theorem dX7_more_41 : decode cX7_more 41 = .ok (.iastore, 1) := dk_79 (dk_at dksX7_more_1 18 rfl rfl)
theorem dX7_more_42 : decode cX7_more 42 = .ok (.aload_n 0, 1) := dk_42 (dk_at dksX7_more_1 19 rfl rfl)
theorem dX7_more_43 : decode cX7_more 43 = .ok (.getfield 13, 3) := dk_180 0 13 (dk_at dksX7_more_1 20 rfl rfl)
theorem dX7_more_46 : decode cX7_more 46 = .ok (.sipush 138, 3) := dk_17 0 138 (dk_at dksX7_more_2 0 rfl rfl)
theorem dX7_more_49 : decode cX7_more 49 = .ok (.iload 5, 2) := dk_21 5 (dk_at dksX7_more_2 3 rfl rfl)
theorem dX7_more_51 : decode cX7_more 51 = .ok (.iadd, 1) := dk_96 (dk_at dksX7_more_2 5 rfl rfl)
theorem dX7_more_52 : decode cX7_more 52 = .ok (.iload 4, 2) := dk_21 4 (dk_at dksX7_more_2 6 rfl rfl)
theorem dX7_more_54 : decode cX7_more 54 = .ok (.iastore, 1) := dk_79 (dk_at dksX7_more_2 8 rfl rfl)
theorem dX7_more_55 : decode cX7_more 55 = .ok (.aload_n 0, 1) := dk_42 (dk_at dksX7_more_2 9 rfl rfl)
theorem dX7_more_56 : decode cX7_more 56 = .ok (.getfield 13, 3) := dk_180 0 13 (dk_at dksX7_more_2 10 rfl rfl)
theorem dX7_more_59 : decode cX7_more 59 = .ok (.iconst 0, 1) := dk_3 (dk_at dksX7_more_2 13 rfl rfl)
theorem dX7_more_60 : decode cX7_more 60 = .ok (.dup2, 1) := dk_92 (dk_at dksX7_more_2 14 rfl rfl)
theorem dX7_more_61 : decode cX7_more 61 = .ok (.iaload, 1) := dk_46 (dk_at dksX7_more_2 15 rfl rfl)
theorem dX7_more_62 : decode cX7_more 62 = .ok (.iconst 1, 1) := dk_4 (dk_at dksX7_more_2 16 rfl rfl)
theorem dX7_more_63 : decode cX7_more 63 = .ok (.iadd, 1) := dk_96 (dk_at dksX7_more_2 17 rfl rfl)
theorem dX7_more_64 : decode cX7_more 64 = .ok (.iastore, 1) := dk_79 (dk_at dksX7_more_2 18 rfl rfl)
theorem dX7_more_65 : decode cX7_more 65 = .ok (.return_, 1) := dk_177 (dk_at dksX7_more_2 19 rfl rfl)
abbrev cX7_square : ByteArray := prog_26_method_27_code
def yX7_square : MethodName := ⟨RX7, "square", "(II)I"⟩
def dkwX7_square_4 : List UInt8 := [182, 0, 78, 172, 42, 16, 254, 182, 0, 49, 172]
abbrev dktX7_square_4 : List UInt8 := dkwX7_square_4 ++ []
def dkwX7_square_3 : List UInt8 := [16, 84, 27, 96, 46, 172, 42, 27, 182, 0, 121, 153, 0, 7, 4, 167, 0, 4, 3, 172, 42, 27]
abbrev dktX7_square_3 : List UInt8 := dkwX7_square_3 ++ dktX7_square_4
def dkwX7_square_2 : List UInt8 := [42, 180, 0, 13, 16, 12, 27, 96, 46, 172, 42, 180, 0, 13, 16, 48, 27, 96, 46, 172, 42, 180, 0, 13]
abbrev dktX7_square_2 : List UInt8 := dkwX7_square_2 ++ dktX7_square_3
def dkwX7_square_1 : List UInt8 := [170, 0, 0, 0, 0, 0, 0, 86, 0, 0, 0, 0, 0, 0, 0, 4, 0, 0, 0, 36, 0, 0, 0, 46, 0, 0, 0, 56, 0, 0, 0, 66, 0, 0, 0, 80]
abbrev dktX7_square_1 : List UInt8 := dkwX7_square_1 ++ dktX7_square_2
def dkwX7_square_0 : List UInt8 := [27, 16, 36, 184, 0, 124, 153, 0, 9, 42, 2, 182, 0, 49, 172, 28]
abbrev dktX7_square_0 : List UInt8 := dkwX7_square_0 ++ dktX7_square_1
theorem dksX7_square_0 : cX7_square.data.toList.drop 0 = dktX7_square_0 := by decide +kernel
theorem dksX7_square_1 : cX7_square.data.toList.drop 16 = dktX7_square_1 := dk_seg dksX7_square_0 16 rfl rfl
theorem dksX7_square_2 : cX7_square.data.toList.drop 52 = dktX7_square_2 := dk_seg dksX7_square_1 36 rfl rfl
theorem dksX7_square_3 : cX7_square.data.toList.drop 76 = dktX7_square_3 := dk_seg dksX7_square_2 24 rfl rfl
theorem dksX7_square_4 : cX7_square.data.toList.drop 98 = dktX7_square_4 := dk_seg dksX7_square_3 22 rfl rfl
theorem dX7_square_0 : decode cX7_square 0 = .ok (.iload_n 1, 1) := dk_27 (dk_at dksX7_square_0 0 rfl rfl)
theorem dX7_square_1 : decode cX7_square 1 = .ok (.bipush 36, 2) := dk_16 36 (dk_at dksX7_square_0 1 rfl rfl)
theorem dX7_square_3 : decode cX7_square 3 = .ok (.invokestatic 124, 3) := dk_184 0 124 (dk_at dksX7_square_0 3 rfl rfl)
theorem dX7_square_6 : decode cX7_square 6 = .ok (.ifCond .eq 9, 3) := dk_153 0 9 (dk_at dksX7_square_0 6 rfl rfl)
theorem dX7_square_9 : decode cX7_square 9 = .ok (.aload_n 0, 1) := dk_42 (dk_at dksX7_square_0 9 rfl rfl)
theorem dX7_square_10 : decode cX7_square 10 = .ok (.iconst (-1), 1) := dk_2 (dk_at dksX7_square_0 10 rfl rfl)
theorem dX7_square_11 : decode cX7_square 11 = .ok (.invokevirtual 49, 3) := dk_182 0 49 (dk_at dksX7_square_0 11 rfl rfl)
theorem dX7_square_14 : decode cX7_square 14 = .ok (.ireturn, 1) := dk_172 (dk_at dksX7_square_0 14 rfl rfl)
theorem dX7_square_15 : decode cX7_square 15 = .ok (.iload_n 2, 1) := dk_28 (dk_at dksX7_square_0 15 rfl rfl)
theorem dX7_square_16 : decode cX7_square 16 = .ok (.tableswitch 86 0 4 #[36, 46, 56, 66, 80], 36) := by decide +kernel
theorem dX7_square_52 : decode cX7_square 52 = .ok (.aload_n 0, 1) := dk_42 (dk_at dksX7_square_2 0 rfl rfl)
theorem dX7_square_53 : decode cX7_square 53 = .ok (.getfield 13, 3) := dk_180 0 13 (dk_at dksX7_square_2 1 rfl rfl)
theorem dX7_square_56 : decode cX7_square 56 = .ok (.bipush 12, 2) := dk_16 12 (dk_at dksX7_square_2 4 rfl rfl)
theorem dX7_square_58 : decode cX7_square 58 = .ok (.iload_n 1, 1) := dk_27 (dk_at dksX7_square_2 6 rfl rfl)
theorem dX7_square_59 : decode cX7_square 59 = .ok (.iadd, 1) := dk_96 (dk_at dksX7_square_2 7 rfl rfl)
theorem dX7_square_60 : decode cX7_square 60 = .ok (.iaload, 1) := dk_46 (dk_at dksX7_square_2 8 rfl rfl)
theorem dX7_square_61 : decode cX7_square 61 = .ok (.ireturn, 1) := dk_172 (dk_at dksX7_square_2 9 rfl rfl)
theorem dX7_square_62 : decode cX7_square 62 = .ok (.aload_n 0, 1) := dk_42 (dk_at dksX7_square_2 10 rfl rfl)
theorem dX7_square_63 : decode cX7_square 63 = .ok (.getfield 13, 3) := dk_180 0 13 (dk_at dksX7_square_2 11 rfl rfl)
theorem dX7_square_66 : decode cX7_square 66 = .ok (.bipush 48, 2) := dk_16 48 (dk_at dksX7_square_2 14 rfl rfl)
theorem dX7_square_68 : decode cX7_square 68 = .ok (.iload_n 1, 1) := dk_27 (dk_at dksX7_square_2 16 rfl rfl)
theorem dX7_square_69 : decode cX7_square 69 = .ok (.iadd, 1) := dk_96 (dk_at dksX7_square_2 17 rfl rfl)
theorem dX7_square_70 : decode cX7_square 70 = .ok (.iaload, 1) := dk_46 (dk_at dksX7_square_2 18 rfl rfl)
theorem dX7_square_71 : decode cX7_square 71 = .ok (.ireturn, 1) := dk_172 (dk_at dksX7_square_2 19 rfl rfl)
theorem dX7_square_72 : decode cX7_square 72 = .ok (.aload_n 0, 1) := dk_42 (dk_at dksX7_square_2 20 rfl rfl)
theorem dX7_square_73 : decode cX7_square 73 = .ok (.getfield 13, 3) := dk_180 0 13 (dk_at dksX7_square_2 21 rfl rfl)
theorem dX7_square_76 : decode cX7_square 76 = .ok (.bipush 84, 2) := dk_16 84 (dk_at dksX7_square_3 0 rfl rfl)
theorem dX7_square_78 : decode cX7_square 78 = .ok (.iload_n 1, 1) := dk_27 (dk_at dksX7_square_3 2 rfl rfl)
theorem dX7_square_79 : decode cX7_square 79 = .ok (.iadd, 1) := dk_96 (dk_at dksX7_square_3 3 rfl rfl)
theorem dX7_square_80 : decode cX7_square 80 = .ok (.iaload, 1) := dk_46 (dk_at dksX7_square_3 4 rfl rfl)
theorem dX7_square_81 : decode cX7_square 81 = .ok (.ireturn, 1) := dk_172 (dk_at dksX7_square_3 5 rfl rfl)
theorem dX7_square_82 : decode cX7_square 82 = .ok (.aload_n 0, 1) := dk_42 (dk_at dksX7_square_3 6 rfl rfl)
theorem dX7_square_83 : decode cX7_square 83 = .ok (.iload_n 1, 1) := dk_27 (dk_at dksX7_square_3 7 rfl rfl)
theorem dX7_square_84 : decode cX7_square 84 = .ok (.invokevirtual 121, 3) := dk_182 0 121 (dk_at dksX7_square_3 8 rfl rfl)
theorem dX7_square_87 : decode cX7_square 87 = .ok (.ifCond .eq 7, 3) := dk_153 0 7 (dk_at dksX7_square_3 11 rfl rfl)
theorem dX7_square_90 : decode cX7_square 90 = .ok (.iconst 1, 1) := dk_4 (dk_at dksX7_square_3 14 rfl rfl)
theorem dX7_square_91 : decode cX7_square 91 = .ok (.goto 4, 3) := dk_167 0 4 (dk_at dksX7_square_3 15 rfl rfl)
theorem dX7_square_94 : decode cX7_square 94 = .ok (.iconst 0, 1) := dk_3 (dk_at dksX7_square_3 18 rfl rfl)
theorem dX7_square_95 : decode cX7_square 95 = .ok (.ireturn, 1) := dk_172 (dk_at dksX7_square_3 19 rfl rfl)
theorem dX7_square_96 : decode cX7_square 96 = .ok (.aload_n 0, 1) := dk_42 (dk_at dksX7_square_3 20 rfl rfl)
theorem dX7_square_97 : decode cX7_square 97 = .ok (.iload_n 1, 1) := dk_27 (dk_at dksX7_square_3 21 rfl rfl)
theorem dX7_square_98 : decode cX7_square 98 = .ok (.invokevirtual 78, 3) := dk_182 0 78 (dk_at dksX7_square_4 0 rfl rfl)
theorem dX7_square_101 : decode cX7_square 101 = .ok (.ireturn, 1) := dk_172 (dk_at dksX7_square_4 3 rfl rfl)
theorem dX7_square_102 : decode cX7_square 102 = .ok (.aload_n 0, 1) := dk_42 (dk_at dksX7_square_4 4 rfl rfl)
theorem dX7_square_103 : decode cX7_square 103 = .ok (.bipush (-2), 2) := dk_16 254 (dk_at dksX7_square_4 5 rfl rfl)
theorem dX7_square_105 : decode cX7_square 105 = .ok (.invokevirtual 49, 3) := dk_182 0 49 (dk_at dksX7_square_4 7 rfl rfl)
theorem dX7_square_108 : decode cX7_square 108 = .ok (.ireturn, 1) := dk_172 (dk_at dksX7_square_4 10 rfl rfl)
abbrev cX7_isNone : ByteArray := prog_26_method_26_code
def yX7_isNone : MethodName := ⟨RX7, "isNone", "(II)Z"⟩
def dkwX7_isNone_0 : List UInt8 := [26, 155, 0, 8, 26, 27, 161, 0, 7, 4, 167, 0, 4, 3, 172]
abbrev dktX7_isNone_0 : List UInt8 := dkwX7_isNone_0 ++ []
theorem dksX7_isNone_0 : cX7_isNone.data.toList.drop 0 = dktX7_isNone_0 := by decide +kernel
theorem dX7_isNone_0 : decode cX7_isNone 0 = .ok (.iload_n 0, 1) := dk_26 (dk_at dksX7_isNone_0 0 rfl rfl)
theorem dX7_isNone_1 : decode cX7_isNone 1 = .ok (.ifCond .lt 8, 3) := dk_155 0 8 (dk_at dksX7_isNone_0 1 rfl rfl)
theorem dX7_isNone_4 : decode cX7_isNone 4 = .ok (.iload_n 0, 1) := dk_26 (dk_at dksX7_isNone_0 4 rfl rfl)
theorem dX7_isNone_5 : decode cX7_isNone 5 = .ok (.iload_n 1, 1) := dk_27 (dk_at dksX7_isNone_0 5 rfl rfl)
theorem dX7_isNone_6 : decode cX7_isNone 6 = .ok (.if_icmp .lt 7, 3) := dk_161 0 7 (dk_at dksX7_isNone_0 6 rfl rfl)
theorem dX7_isNone_9 : decode cX7_isNone 9 = .ok (.iconst 1, 1) := dk_4 (dk_at dksX7_isNone_0 9 rfl rfl)
theorem dX7_isNone_10 : decode cX7_isNone 10 = .ok (.goto 4, 3) := dk_167 0 4 (dk_at dksX7_isNone_0 10 rfl rfl)
theorem dX7_isNone_13 : decode cX7_isNone 13 = .ok (.iconst 0, 1) := dk_3 (dk_at dksX7_isNone_0 13 rfl rfl)
theorem dX7_isNone_14 : decode cX7_isNone 14 = .ok (.ireturn, 1) := dk_172 (dk_at dksX7_isNone_0 14 rfl rfl)
abbrev cX7_isNobodys : ByteArray := prog_26_method_20_code
def yX7_isNobodys : MethodName := ⟨RX7, "isNobodys", "(I)Z"⟩
def dkwX7_isNobodys_5 : List UInt8 := [182, 0, 103, 153, 0, 7, 4, 167, 0, 4, 3, 62, 132, 4, 1, 167, 255, 227, 29, 172]
abbrev dktX7_isNobodys_5 : List UInt8 := dkwX7_isNobodys_5 ++ []
def dkwX7_isNobodys_4 : List UInt8 := [167, 0, 4, 3, 62, 3, 54, 4, 21, 4, 7, 162, 0, 29, 29, 154, 0, 13, 42, 27, 21, 4]
abbrev dktX7_isNobodys_4 : List UInt8 := dkwX7_isNobodys_4 ++ dktX7_isNobodys_5
def dkwX7_isNobodys_3 : List UInt8 := [162, 0, 7, 4, 167, 0, 4, 3, 172, 28, 5, 160, 0, 15, 42, 27, 182, 0, 107, 153, 0, 7, 4]
abbrev dktX7_isNobodys_3 : List UInt8 := dkwX7_isNobodys_3 ++ dktX7_isNobodys_4
def dkwX7_isNobodys_2 : List UInt8 := [180, 0, 13, 16, 48, 27, 5, 4, 184, 0, 99, 96, 46, 42, 180, 0, 13, 16, 48, 27, 96, 46]
abbrev dktX7_isNobodys_2 : List UInt8 := dkwX7_isNobodys_2 ++ dktX7_isNobodys_3
def dkwX7_isNobodys_1 : List UInt8 := [3, 172, 28, 5, 164, 0, 49, 42, 27, 5, 182, 0, 103, 153, 0, 38, 28, 6, 159, 0, 29, 42]
abbrev dktX7_isNobodys_1 : List UInt8 := dkwX7_isNobodys_1 ++ dktX7_isNobodys_2
def dkwX7_isNobodys_0 : List UInt8 := [42, 180, 0, 13, 5, 46, 61, 28, 153, 0, 16, 42, 180, 0, 13, 16, 84, 27, 96, 46, 4, 160, 0, 5]
abbrev dktX7_isNobodys_0 : List UInt8 := dkwX7_isNobodys_0 ++ dktX7_isNobodys_1
theorem dksX7_isNobodys_0 : cX7_isNobodys.data.toList.drop 0 = dktX7_isNobodys_0 := by decide +kernel
theorem dksX7_isNobodys_1 : cX7_isNobodys.data.toList.drop 24 = dktX7_isNobodys_1 := dk_seg dksX7_isNobodys_0 24 rfl rfl
theorem dksX7_isNobodys_2 : cX7_isNobodys.data.toList.drop 46 = dktX7_isNobodys_2 := dk_seg dksX7_isNobodys_1 22 rfl rfl
theorem dksX7_isNobodys_3 : cX7_isNobodys.data.toList.drop 68 = dktX7_isNobodys_3 := dk_seg dksX7_isNobodys_2 22 rfl rfl
theorem dksX7_isNobodys_4 : cX7_isNobodys.data.toList.drop 91 = dktX7_isNobodys_4 := dk_seg dksX7_isNobodys_3 23 rfl rfl
theorem dksX7_isNobodys_5 : cX7_isNobodys.data.toList.drop 113 = dktX7_isNobodys_5 := dk_seg dksX7_isNobodys_4 22 rfl rfl
theorem dX7_isNobodys_0 : decode cX7_isNobodys 0 = .ok (.aload_n 0, 1) := dk_42 (dk_at dksX7_isNobodys_0 0 rfl rfl)
theorem dX7_isNobodys_1 : decode cX7_isNobodys 1 = .ok (.getfield 13, 3) := dk_180 0 13 (dk_at dksX7_isNobodys_0 1 rfl rfl)
theorem dX7_isNobodys_4 : decode cX7_isNobodys 4 = .ok (.iconst 2, 1) := dk_5 (dk_at dksX7_isNobodys_0 4 rfl rfl)
theorem dX7_isNobodys_5 : decode cX7_isNobodys 5 = .ok (.iaload, 1) := dk_46 (dk_at dksX7_isNobodys_0 5 rfl rfl)
theorem dX7_isNobodys_6 : decode cX7_isNobodys 6 = .ok (.istore_n 2, 1) := dk_61 (dk_at dksX7_isNobodys_0 6 rfl rfl)
theorem dX7_isNobodys_7 : decode cX7_isNobodys 7 = .ok (.iload_n 2, 1) := dk_28 (dk_at dksX7_isNobodys_0 7 rfl rfl)
theorem dX7_isNobodys_8 : decode cX7_isNobodys 8 = .ok (.ifCond .eq 16, 3) := dk_153 0 16 (dk_at dksX7_isNobodys_0 8 rfl rfl)
theorem dX7_isNobodys_11 : decode cX7_isNobodys 11 = .ok (.aload_n 0, 1) := dk_42 (dk_at dksX7_isNobodys_0 11 rfl rfl)
theorem dX7_isNobodys_12 : decode cX7_isNobodys 12 = .ok (.getfield 13, 3) := dk_180 0 13 (dk_at dksX7_isNobodys_0 12 rfl rfl)
theorem dX7_isNobodys_15 : decode cX7_isNobodys 15 = .ok (.bipush 84, 2) := dk_16 84 (dk_at dksX7_isNobodys_0 15 rfl rfl)
theorem dX7_isNobodys_17 : decode cX7_isNobodys 17 = .ok (.iload_n 1, 1) := dk_27 (dk_at dksX7_isNobodys_0 17 rfl rfl)
theorem dX7_isNobodys_18 : decode cX7_isNobodys 18 = .ok (.iadd, 1) := dk_96 (dk_at dksX7_isNobodys_0 18 rfl rfl)
theorem dX7_isNobodys_19 : decode cX7_isNobodys 19 = .ok (.iaload, 1) := dk_46 (dk_at dksX7_isNobodys_0 19 rfl rfl)
theorem dX7_isNobodys_20 : decode cX7_isNobodys 20 = .ok (.iconst 1, 1) := dk_4 (dk_at dksX7_isNobodys_0 20 rfl rfl)
theorem dX7_isNobodys_21 : decode cX7_isNobodys 21 = .ok (.if_icmp .ne 5, 3) := dk_160 0 5 (dk_at dksX7_isNobodys_0 21 rfl rfl)
theorem dX7_isNobodys_24 : decode cX7_isNobodys 24 = .ok (.iconst 0, 1) := dk_3 (dk_at dksX7_isNobodys_1 0 rfl rfl)
theorem dX7_isNobodys_25 : decode cX7_isNobodys 25 = .ok (.ireturn, 1) := dk_172 (dk_at dksX7_isNobodys_1 1 rfl rfl)
theorem dX7_isNobodys_26 : decode cX7_isNobodys 26 = .ok (.iload_n 2, 1) := dk_28 (dk_at dksX7_isNobodys_1 2 rfl rfl)
theorem dX7_isNobodys_27 : decode cX7_isNobodys 27 = .ok (.iconst 2, 1) := dk_5 (dk_at dksX7_isNobodys_1 3 rfl rfl)
theorem dX7_isNobodys_28 : decode cX7_isNobodys 28 = .ok (.if_icmp .le 49, 3) := dk_164 0 49 (dk_at dksX7_isNobodys_1 4 rfl rfl)
theorem dX7_isNobodys_31 : decode cX7_isNobodys 31 = .ok (.aload_n 0, 1) := dk_42 (dk_at dksX7_isNobodys_1 7 rfl rfl)
theorem dX7_isNobodys_32 : decode cX7_isNobodys 32 = .ok (.iload_n 1, 1) := dk_27 (dk_at dksX7_isNobodys_1 8 rfl rfl)
theorem dX7_isNobodys_33 : decode cX7_isNobodys 33 = .ok (.iconst 2, 1) := dk_5 (dk_at dksX7_isNobodys_1 9 rfl rfl)
theorem dX7_isNobodys_34 : decode cX7_isNobodys 34 = .ok (.invokevirtual 103, 3) := dk_182 0 103 (dk_at dksX7_isNobodys_1 10 rfl rfl)
theorem dX7_isNobodys_37 : decode cX7_isNobodys 37 = .ok (.ifCond .eq 38, 3) := dk_153 0 38 (dk_at dksX7_isNobodys_1 13 rfl rfl)
theorem dX7_isNobodys_40 : decode cX7_isNobodys 40 = .ok (.iload_n 2, 1) := dk_28 (dk_at dksX7_isNobodys_1 16 rfl rfl)
theorem dX7_isNobodys_41 : decode cX7_isNobodys 41 = .ok (.iconst 3, 1) := dk_6 (dk_at dksX7_isNobodys_1 17 rfl rfl)
theorem dX7_isNobodys_42 : decode cX7_isNobodys 42 = .ok (.if_icmp .eq 29, 3) := dk_159 0 29 (dk_at dksX7_isNobodys_1 18 rfl rfl)
theorem dX7_isNobodys_45 : decode cX7_isNobodys 45 = .ok (.aload_n 0, 1) := dk_42 (dk_at dksX7_isNobodys_1 21 rfl rfl)
theorem dX7_isNobodys_46 : decode cX7_isNobodys 46 = .ok (.getfield 13, 3) := dk_180 0 13 (dk_at dksX7_isNobodys_2 0 rfl rfl)
theorem dX7_isNobodys_49 : decode cX7_isNobodys 49 = .ok (.bipush 48, 2) := dk_16 48 (dk_at dksX7_isNobodys_2 3 rfl rfl)
theorem dX7_isNobodys_51 : decode cX7_isNobodys 51 = .ok (.iload_n 1, 1) := dk_27 (dk_at dksX7_isNobodys_2 5 rfl rfl)
theorem dX7_isNobodys_52 : decode cX7_isNobodys 52 = .ok (.iconst 2, 1) := dk_5 (dk_at dksX7_isNobodys_2 6 rfl rfl)
theorem dX7_isNobodys_53 : decode cX7_isNobodys 53 = .ok (.iconst 1, 1) := dk_4 (dk_at dksX7_isNobodys_2 7 rfl rfl)
theorem dX7_isNobodys_54 : decode cX7_isNobodys 54 = .ok (.invokestatic 99, 3) := dk_184 0 99 (dk_at dksX7_isNobodys_2 8 rfl rfl)
theorem dX7_isNobodys_57 : decode cX7_isNobodys 57 = .ok (.iadd, 1) := dk_96 (dk_at dksX7_isNobodys_2 11 rfl rfl)
theorem dX7_isNobodys_58 : decode cX7_isNobodys 58 = .ok (.iaload, 1) := dk_46 (dk_at dksX7_isNobodys_2 12 rfl rfl)
theorem dX7_isNobodys_59 : decode cX7_isNobodys 59 = .ok (.aload_n 0, 1) := dk_42 (dk_at dksX7_isNobodys_2 13 rfl rfl)
theorem dX7_isNobodys_60 : decode cX7_isNobodys 60 = .ok (.getfield 13, 3) := dk_180 0 13 (dk_at dksX7_isNobodys_2 14 rfl rfl)
theorem dX7_isNobodys_63 : decode cX7_isNobodys 63 = .ok (.bipush 48, 2) := dk_16 48 (dk_at dksX7_isNobodys_2 17 rfl rfl)
theorem dX7_isNobodys_65 : decode cX7_isNobodys 65 = .ok (.iload_n 1, 1) := dk_27 (dk_at dksX7_isNobodys_2 19 rfl rfl)
theorem dX7_isNobodys_66 : decode cX7_isNobodys 66 = .ok (.iadd, 1) := dk_96 (dk_at dksX7_isNobodys_2 20 rfl rfl)
theorem dX7_isNobodys_67 : decode cX7_isNobodys 67 = .ok (.iaload, 1) := dk_46 (dk_at dksX7_isNobodys_2 21 rfl rfl)
theorem dX7_isNobodys_68 : decode cX7_isNobodys 68 = .ok (.if_icmp .ge 7, 3) := dk_162 0 7 (dk_at dksX7_isNobodys_3 0 rfl rfl)
theorem dX7_isNobodys_71 : decode cX7_isNobodys 71 = .ok (.iconst 1, 1) := dk_4 (dk_at dksX7_isNobodys_3 3 rfl rfl)
theorem dX7_isNobodys_72 : decode cX7_isNobodys 72 = .ok (.goto 4, 3) := dk_167 0 4 (dk_at dksX7_isNobodys_3 4 rfl rfl)
theorem dX7_isNobodys_75 : decode cX7_isNobodys 75 = .ok (.iconst 0, 1) := dk_3 (dk_at dksX7_isNobodys_3 7 rfl rfl)
theorem dX7_isNobodys_76 : decode cX7_isNobodys 76 = .ok (.ireturn, 1) := dk_172 (dk_at dksX7_isNobodys_3 8 rfl rfl)
theorem dX7_isNobodys_77 : decode cX7_isNobodys 77 = .ok (.iload_n 2, 1) := dk_28 (dk_at dksX7_isNobodys_3 9 rfl rfl)
theorem dX7_isNobodys_78 : decode cX7_isNobodys 78 = .ok (.iconst 2, 1) := dk_5 (dk_at dksX7_isNobodys_3 10 rfl rfl)
theorem dX7_isNobodys_79 : decode cX7_isNobodys 79 = .ok (.if_icmp .ne 15, 3) := dk_160 0 15 (dk_at dksX7_isNobodys_3 11 rfl rfl)
theorem dX7_isNobodys_82 : decode cX7_isNobodys 82 = .ok (.aload_n 0, 1) := dk_42 (dk_at dksX7_isNobodys_3 14 rfl rfl)
theorem dX7_isNobodys_83 : decode cX7_isNobodys 83 = .ok (.iload_n 1, 1) := dk_27 (dk_at dksX7_isNobodys_3 15 rfl rfl)
theorem dX7_isNobodys_84 : decode cX7_isNobodys 84 = .ok (.invokevirtual 107, 3) := dk_182 0 107 (dk_at dksX7_isNobodys_3 16 rfl rfl)
theorem dX7_isNobodys_87 : decode cX7_isNobodys 87 = .ok (.ifCond .eq 7, 3) := dk_153 0 7 (dk_at dksX7_isNobodys_3 19 rfl rfl)
theorem dX7_isNobodys_90 : decode cX7_isNobodys 90 = .ok (.iconst 1, 1) := dk_4 (dk_at dksX7_isNobodys_3 22 rfl rfl)
theorem dX7_isNobodys_91 : decode cX7_isNobodys 91 = .ok (.goto 4, 3) := dk_167 0 4 (dk_at dksX7_isNobodys_4 0 rfl rfl)
theorem dX7_isNobodys_94 : decode cX7_isNobodys 94 = .ok (.iconst 0, 1) := dk_3 (dk_at dksX7_isNobodys_4 3 rfl rfl)
theorem dX7_isNobodys_95 : decode cX7_isNobodys 95 = .ok (.istore_n 3, 1) := dk_62 (dk_at dksX7_isNobodys_4 4 rfl rfl)
theorem dX7_isNobodys_96 : decode cX7_isNobodys 96 = .ok (.iconst 0, 1) := dk_3 (dk_at dksX7_isNobodys_4 5 rfl rfl)
theorem dX7_isNobodys_97 : decode cX7_isNobodys 97 = .ok (.istore 4, 2) := dk_54 4 (dk_at dksX7_isNobodys_4 6 rfl rfl)
theorem dX7_isNobodys_99 : decode cX7_isNobodys 99 = .ok (.iload 4, 2) := dk_21 4 (dk_at dksX7_isNobodys_4 8 rfl rfl)
theorem dX7_isNobodys_101 : decode cX7_isNobodys 101 = .ok (.iconst 4, 1) := dk_7 (dk_at dksX7_isNobodys_4 10 rfl rfl)
theorem dX7_isNobodys_102 : decode cX7_isNobodys 102 = .ok (.if_icmp .ge 29, 3) := dk_162 0 29 (dk_at dksX7_isNobodys_4 11 rfl rfl)
theorem dX7_isNobodys_105 : decode cX7_isNobodys 105 = .ok (.iload_n 3, 1) := dk_29 (dk_at dksX7_isNobodys_4 14 rfl rfl)
theorem dX7_isNobodys_106 : decode cX7_isNobodys 106 = .ok (.ifCond .ne 13, 3) := dk_154 0 13 (dk_at dksX7_isNobodys_4 15 rfl rfl)
theorem dX7_isNobodys_109 : decode cX7_isNobodys 109 = .ok (.aload_n 0, 1) := dk_42 (dk_at dksX7_isNobodys_4 18 rfl rfl)
theorem dX7_isNobodys_110 : decode cX7_isNobodys 110 = .ok (.iload_n 1, 1) := dk_27 (dk_at dksX7_isNobodys_4 19 rfl rfl)
theorem dX7_isNobodys_111 : decode cX7_isNobodys 111 = .ok (.iload 4, 2) := dk_21 4 (dk_at dksX7_isNobodys_4 20 rfl rfl)
theorem dX7_isNobodys_113 : decode cX7_isNobodys 113 = .ok (.invokevirtual 103, 3) := dk_182 0 103 (dk_at dksX7_isNobodys_5 0 rfl rfl)
theorem dX7_isNobodys_116 : decode cX7_isNobodys 116 = .ok (.ifCond .eq 7, 3) := dk_153 0 7 (dk_at dksX7_isNobodys_5 3 rfl rfl)
theorem dX7_isNobodys_119 : decode cX7_isNobodys 119 = .ok (.iconst 1, 1) := dk_4 (dk_at dksX7_isNobodys_5 6 rfl rfl)
theorem dX7_isNobodys_120 : decode cX7_isNobodys 120 = .ok (.goto 4, 3) := dk_167 0 4 (dk_at dksX7_isNobodys_5 7 rfl rfl)
theorem dX7_isNobodys_123 : decode cX7_isNobodys 123 = .ok (.iconst 0, 1) := dk_3 (dk_at dksX7_isNobodys_5 10 rfl rfl)
theorem dX7_isNobodys_124 : decode cX7_isNobodys 124 = .ok (.istore_n 3, 1) := dk_62 (dk_at dksX7_isNobodys_5 11 rfl rfl)
theorem dX7_isNobodys_125 : decode cX7_isNobodys 125 = .ok (.iinc 4 1, 3) := dk_132 4 1 (dk_at dksX7_isNobodys_5 12 rfl rfl)
theorem dX7_isNobodys_128 : decode cX7_isNobodys 128 = .ok (.goto (-29), 3) := dk_167 255 227 (dk_at dksX7_isNobodys_5 15 rfl rfl)
theorem dX7_isNobodys_131 : decode cX7_isNobodys 131 = .ok (.iload_n 3, 1) := dk_29 (dk_at dksX7_isNobodys_5 18 rfl rfl)
theorem dX7_isNobodys_132 : decode cX7_isNobodys 132 = .ok (.ireturn, 1) := dk_172 (dk_at dksX7_isNobodys_5 19 rfl rfl)
abbrev cX7_isOtherBeside : ByteArray := prog_26_method_18_code
def yX7_isOtherBeside : MethodName := ⟨RX7, "isOtherBeside", "(II)Z"⟩
def dkwX7_isOtherBeside_1 : List UInt8 := [180, 0, 13, 16, 12, 27, 96, 46, 159, 0, 7, 4, 167, 0, 4, 3, 172]
abbrev dktX7_isOtherBeside_1 : List UInt8 := dkwX7_isOtherBeside_1 ++ []
def dkwX7_isOtherBeside_0 : List UInt8 := [27, 28, 4, 184, 0, 99, 62, 29, 16, 247, 159, 0, 28, 42, 180, 0, 13, 16, 12, 29, 96, 46, 42]
abbrev dktX7_isOtherBeside_0 : List UInt8 := dkwX7_isOtherBeside_0 ++ dktX7_isOtherBeside_1
theorem dksX7_isOtherBeside_0 : cX7_isOtherBeside.data.toList.drop 0 = dktX7_isOtherBeside_0 := by decide +kernel
theorem dksX7_isOtherBeside_1 : cX7_isOtherBeside.data.toList.drop 23 = dktX7_isOtherBeside_1 := dk_seg dksX7_isOtherBeside_0 23 rfl rfl
theorem dX7_isOtherBeside_0 : decode cX7_isOtherBeside 0 = .ok (.iload_n 1, 1) := dk_27 (dk_at dksX7_isOtherBeside_0 0 rfl rfl)
theorem dX7_isOtherBeside_1 : decode cX7_isOtherBeside 1 = .ok (.iload_n 2, 1) := dk_28 (dk_at dksX7_isOtherBeside_0 1 rfl rfl)
theorem dX7_isOtherBeside_2 : decode cX7_isOtherBeside 2 = .ok (.iconst 1, 1) := dk_4 (dk_at dksX7_isOtherBeside_0 2 rfl rfl)
theorem dX7_isOtherBeside_3 : decode cX7_isOtherBeside 3 = .ok (.invokestatic 99, 3) := dk_184 0 99 (dk_at dksX7_isOtherBeside_0 3 rfl rfl)
theorem dX7_isOtherBeside_6 : decode cX7_isOtherBeside 6 = .ok (.istore_n 3, 1) := dk_62 (dk_at dksX7_isOtherBeside_0 6 rfl rfl)
theorem dX7_isOtherBeside_7 : decode cX7_isOtherBeside 7 = .ok (.iload_n 3, 1) := dk_29 (dk_at dksX7_isOtherBeside_0 7 rfl rfl)
theorem dX7_isOtherBeside_8 : decode cX7_isOtherBeside 8 = .ok (.bipush (-9), 2) := dk_16 247 (dk_at dksX7_isOtherBeside_0 8 rfl rfl)
theorem dX7_isOtherBeside_10 : decode cX7_isOtherBeside 10 = .ok (.if_icmp .eq 28, 3) := dk_159 0 28 (dk_at dksX7_isOtherBeside_0 10 rfl rfl)
theorem dX7_isOtherBeside_13 : decode cX7_isOtherBeside 13 = .ok (.aload_n 0, 1) := dk_42 (dk_at dksX7_isOtherBeside_0 13 rfl rfl)
theorem dX7_isOtherBeside_14 : decode cX7_isOtherBeside 14 = .ok (.getfield 13, 3) := dk_180 0 13 (dk_at dksX7_isOtherBeside_0 14 rfl rfl)
theorem dX7_isOtherBeside_17 : decode cX7_isOtherBeside 17 = .ok (.bipush 12, 2) := dk_16 12 (dk_at dksX7_isOtherBeside_0 17 rfl rfl)
theorem dX7_isOtherBeside_19 : decode cX7_isOtherBeside 19 = .ok (.iload_n 3, 1) := dk_29 (dk_at dksX7_isOtherBeside_0 19 rfl rfl)
theorem dX7_isOtherBeside_20 : decode cX7_isOtherBeside 20 = .ok (.iadd, 1) := dk_96 (dk_at dksX7_isOtherBeside_0 20 rfl rfl)
theorem dX7_isOtherBeside_21 : decode cX7_isOtherBeside 21 = .ok (.iaload, 1) := dk_46 (dk_at dksX7_isOtherBeside_0 21 rfl rfl)
theorem dX7_isOtherBeside_22 : decode cX7_isOtherBeside 22 = .ok (.aload_n 0, 1) := dk_42 (dk_at dksX7_isOtherBeside_0 22 rfl rfl)
theorem dX7_isOtherBeside_23 : decode cX7_isOtherBeside 23 = .ok (.getfield 13, 3) := dk_180 0 13 (dk_at dksX7_isOtherBeside_1 0 rfl rfl)
theorem dX7_isOtherBeside_26 : decode cX7_isOtherBeside 26 = .ok (.bipush 12, 2) := dk_16 12 (dk_at dksX7_isOtherBeside_1 3 rfl rfl)
theorem dX7_isOtherBeside_28 : decode cX7_isOtherBeside 28 = .ok (.iload_n 1, 1) := dk_27 (dk_at dksX7_isOtherBeside_1 5 rfl rfl)
theorem dX7_isOtherBeside_29 : decode cX7_isOtherBeside 29 = .ok (.iadd, 1) := dk_96 (dk_at dksX7_isOtherBeside_1 6 rfl rfl)
theorem dX7_isOtherBeside_30 : decode cX7_isOtherBeside 30 = .ok (.iaload, 1) := dk_46 (dk_at dksX7_isOtherBeside_1 7 rfl rfl)
theorem dX7_isOtherBeside_31 : decode cX7_isOtherBeside 31 = .ok (.if_icmp .eq 7, 3) := dk_159 0 7 (dk_at dksX7_isOtherBeside_1 8 rfl rfl)
theorem dX7_isOtherBeside_34 : decode cX7_isOtherBeside 34 = .ok (.iconst 1, 1) := dk_4 (dk_at dksX7_isOtherBeside_1 11 rfl rfl)
theorem dX7_isOtherBeside_35 : decode cX7_isOtherBeside 35 = .ok (.goto 4, 3) := dk_167 0 4 (dk_at dksX7_isOtherBeside_1 12 rfl rfl)
theorem dX7_isOtherBeside_38 : decode cX7_isOtherBeside 38 = .ok (.iconst 0, 1) := dk_3 (dk_at dksX7_isOtherBeside_1 15 rfl rfl)
theorem dX7_isOtherBeside_39 : decode cX7_isOtherBeside 39 = .ok (.ireturn, 1) := dk_172 (dk_at dksX7_isOtherBeside_1 16 rfl rfl)
abbrev cX7_beside : ByteArray := prog_26_method_17_code
def yX7_beside : MethodName := ⟨RX7, "beside", "(III)I"⟩
def dkwX7_beside_3 : List UInt8 := [16, 247, 167, 0, 10, 16, 6, 29, 104, 21, 4, 96, 172]
abbrev dktX7_beside_3 : List UInt8 := dkwX7_beside_3 ++ []
def dkwX7_beside_2 : List UInt8 := [3, 96, 54, 4, 29, 155, 0, 19, 29, 8, 163, 0, 14, 21, 4, 155, 0, 9, 21, 4, 8, 164, 0, 8]
abbrev dktX7_beside_2 : List UInt8 := dkwX7_beside_2 ++ dktX7_beside_3
def dkwX7_beside_1 : List UInt8 := [62, 26, 16, 6, 112, 27, 4, 160, 0, 7, 28, 167, 0, 14, 27, 6, 160, 0, 8, 28, 116, 167, 0, 4]
abbrev dktX7_beside_1 : List UInt8 := dkwX7_beside_1 ++ dktX7_beside_2
def dkwX7_beside_0 : List UInt8 := [26, 16, 6, 108, 27, 154, 0, 8, 28, 116, 167, 0, 13, 27, 5, 160, 0, 7, 28, 167, 0, 4, 3, 96]
abbrev dktX7_beside_0 : List UInt8 := dkwX7_beside_0 ++ dktX7_beside_1
theorem dksX7_beside_0 : cX7_beside.data.toList.drop 0 = dktX7_beside_0 := by decide +kernel
theorem dksX7_beside_1 : cX7_beside.data.toList.drop 24 = dktX7_beside_1 := dk_seg dksX7_beside_0 24 rfl rfl
theorem dksX7_beside_2 : cX7_beside.data.toList.drop 48 = dktX7_beside_2 := dk_seg dksX7_beside_1 24 rfl rfl
theorem dksX7_beside_3 : cX7_beside.data.toList.drop 72 = dktX7_beside_3 := dk_seg dksX7_beside_2 24 rfl rfl
theorem dX7_beside_0 : decode cX7_beside 0 = .ok (.iload_n 0, 1) := dk_26 (dk_at dksX7_beside_0 0 rfl rfl)
theorem dX7_beside_1 : decode cX7_beside 1 = .ok (.bipush 6, 2) := dk_16 6 (dk_at dksX7_beside_0 1 rfl rfl)
theorem dX7_beside_3 : decode cX7_beside 3 = .ok (.idiv, 1) := dk_108 (dk_at dksX7_beside_0 3 rfl rfl)
theorem dX7_beside_4 : decode cX7_beside 4 = .ok (.iload_n 1, 1) := dk_27 (dk_at dksX7_beside_0 4 rfl rfl)
theorem dX7_beside_5 : decode cX7_beside 5 = .ok (.ifCond .ne 8, 3) := dk_154 0 8 (dk_at dksX7_beside_0 5 rfl rfl)
theorem dX7_beside_8 : decode cX7_beside 8 = .ok (.iload_n 2, 1) := dk_28 (dk_at dksX7_beside_0 8 rfl rfl)
theorem dX7_beside_9 : decode cX7_beside 9 = .ok (.ineg, 1) := dk_116 (dk_at dksX7_beside_0 9 rfl rfl)
theorem dX7_beside_10 : decode cX7_beside 10 = .ok (.goto 13, 3) := dk_167 0 13 (dk_at dksX7_beside_0 10 rfl rfl)
theorem dX7_beside_13 : decode cX7_beside 13 = .ok (.iload_n 1, 1) := dk_27 (dk_at dksX7_beside_0 13 rfl rfl)
theorem dX7_beside_14 : decode cX7_beside 14 = .ok (.iconst 2, 1) := dk_5 (dk_at dksX7_beside_0 14 rfl rfl)
theorem dX7_beside_15 : decode cX7_beside 15 = .ok (.if_icmp .ne 7, 3) := dk_160 0 7 (dk_at dksX7_beside_0 15 rfl rfl)
theorem dX7_beside_18 : decode cX7_beside 18 = .ok (.iload_n 2, 1) := dk_28 (dk_at dksX7_beside_0 18 rfl rfl)
theorem dX7_beside_19 : decode cX7_beside 19 = .ok (.goto 4, 3) := dk_167 0 4 (dk_at dksX7_beside_0 19 rfl rfl)
theorem dX7_beside_22 : decode cX7_beside 22 = .ok (.iconst 0, 1) := dk_3 (dk_at dksX7_beside_0 22 rfl rfl)
theorem dX7_beside_23 : decode cX7_beside 23 = .ok (.iadd, 1) := dk_96 (dk_at dksX7_beside_0 23 rfl rfl)
theorem dX7_beside_24 : decode cX7_beside 24 = .ok (.istore_n 3, 1) := dk_62 (dk_at dksX7_beside_1 0 rfl rfl)
theorem dX7_beside_25 : decode cX7_beside 25 = .ok (.iload_n 0, 1) := dk_26 (dk_at dksX7_beside_1 1 rfl rfl)
theorem dX7_beside_26 : decode cX7_beside 26 = .ok (.bipush 6, 2) := dk_16 6 (dk_at dksX7_beside_1 2 rfl rfl)
theorem dX7_beside_28 : decode cX7_beside 28 = .ok (.irem, 1) := dk_112 (dk_at dksX7_beside_1 4 rfl rfl)
theorem dX7_beside_29 : decode cX7_beside 29 = .ok (.iload_n 1, 1) := dk_27 (dk_at dksX7_beside_1 5 rfl rfl)
theorem dX7_beside_30 : decode cX7_beside 30 = .ok (.iconst 1, 1) := dk_4 (dk_at dksX7_beside_1 6 rfl rfl)
theorem dX7_beside_31 : decode cX7_beside 31 = .ok (.if_icmp .ne 7, 3) := dk_160 0 7 (dk_at dksX7_beside_1 7 rfl rfl)
theorem dX7_beside_34 : decode cX7_beside 34 = .ok (.iload_n 2, 1) := dk_28 (dk_at dksX7_beside_1 10 rfl rfl)
theorem dX7_beside_35 : decode cX7_beside 35 = .ok (.goto 14, 3) := dk_167 0 14 (dk_at dksX7_beside_1 11 rfl rfl)
theorem dX7_beside_38 : decode cX7_beside 38 = .ok (.iload_n 1, 1) := dk_27 (dk_at dksX7_beside_1 14 rfl rfl)
theorem dX7_beside_39 : decode cX7_beside 39 = .ok (.iconst 3, 1) := dk_6 (dk_at dksX7_beside_1 15 rfl rfl)
theorem dX7_beside_40 : decode cX7_beside 40 = .ok (.if_icmp .ne 8, 3) := dk_160 0 8 (dk_at dksX7_beside_1 16 rfl rfl)
theorem dX7_beside_43 : decode cX7_beside 43 = .ok (.iload_n 2, 1) := dk_28 (dk_at dksX7_beside_1 19 rfl rfl)
theorem dX7_beside_44 : decode cX7_beside 44 = .ok (.ineg, 1) := dk_116 (dk_at dksX7_beside_1 20 rfl rfl)
theorem dX7_beside_45 : decode cX7_beside 45 = .ok (.goto 4, 3) := dk_167 0 4 (dk_at dksX7_beside_1 21 rfl rfl)
theorem dX7_beside_48 : decode cX7_beside 48 = .ok (.iconst 0, 1) := dk_3 (dk_at dksX7_beside_2 0 rfl rfl)
theorem dX7_beside_49 : decode cX7_beside 49 = .ok (.iadd, 1) := dk_96 (dk_at dksX7_beside_2 1 rfl rfl)
theorem dX7_beside_50 : decode cX7_beside 50 = .ok (.istore 4, 2) := dk_54 4 (dk_at dksX7_beside_2 2 rfl rfl)
theorem dX7_beside_52 : decode cX7_beside 52 = .ok (.iload_n 3, 1) := dk_29 (dk_at dksX7_beside_2 4 rfl rfl)
theorem dX7_beside_53 : decode cX7_beside 53 = .ok (.ifCond .lt 19, 3) := dk_155 0 19 (dk_at dksX7_beside_2 5 rfl rfl)
theorem dX7_beside_56 : decode cX7_beside 56 = .ok (.iload_n 3, 1) := dk_29 (dk_at dksX7_beside_2 8 rfl rfl)
theorem dX7_beside_57 : decode cX7_beside 57 = .ok (.iconst 5, 1) := dk_8 (dk_at dksX7_beside_2 9 rfl rfl)
theorem dX7_beside_58 : decode cX7_beside 58 = .ok (.if_icmp .gt 14, 3) := dk_163 0 14 (dk_at dksX7_beside_2 10 rfl rfl)
theorem dX7_beside_61 : decode cX7_beside 61 = .ok (.iload 4, 2) := dk_21 4 (dk_at dksX7_beside_2 13 rfl rfl)
theorem dX7_beside_63 : decode cX7_beside 63 = .ok (.ifCond .lt 9, 3) := dk_155 0 9 (dk_at dksX7_beside_2 15 rfl rfl)
theorem dX7_beside_66 : decode cX7_beside 66 = .ok (.iload 4, 2) := dk_21 4 (dk_at dksX7_beside_2 18 rfl rfl)
theorem dX7_beside_68 : decode cX7_beside 68 = .ok (.iconst 5, 1) := dk_8 (dk_at dksX7_beside_2 20 rfl rfl)
theorem dX7_beside_69 : decode cX7_beside 69 = .ok (.if_icmp .le 8, 3) := dk_164 0 8 (dk_at dksX7_beside_2 21 rfl rfl)
theorem dX7_beside_72 : decode cX7_beside 72 = .ok (.bipush (-9), 2) := dk_16 247 (dk_at dksX7_beside_3 0 rfl rfl)
theorem dX7_beside_74 : decode cX7_beside 74 = .ok (.goto 10, 3) := dk_167 0 10 (dk_at dksX7_beside_3 2 rfl rfl)
theorem dX7_beside_77 : decode cX7_beside 77 = .ok (.bipush 6, 2) := dk_16 6 (dk_at dksX7_beside_3 5 rfl rfl)
theorem dX7_beside_79 : decode cX7_beside 79 = .ok (.iload_n 3, 1) := dk_29 (dk_at dksX7_beside_3 7 rfl rfl)
theorem dX7_beside_80 : decode cX7_beside 80 = .ok (.imul, 1) := dk_104 (dk_at dksX7_beside_3 8 rfl rfl)
theorem dX7_beside_81 : decode cX7_beside 81 = .ok (.iload 4, 2) := dk_21 4 (dk_at dksX7_beside_3 9 rfl rfl)
theorem dX7_beside_83 : decode cX7_beside 83 = .ok (.iadd, 1) := dk_96 (dk_at dksX7_beside_3 11 rfl rfl)
theorem dX7_beside_84 : decode cX7_beside 84 = .ok (.ireturn, 1) := dk_172 (dk_at dksX7_beside_3 12 rfl rfl)
abbrev cX7_isOtherAtCorner : ByteArray := prog_26_method_19_code
def yX7_isOtherAtCorner : MethodName := ⟨RX7, "isOtherAtCorner", "(I)Z"⟩
def dkwX7_isOtherAtCorner_4 : List UInt8 := [3, 61, 132, 4, 2, 167, 255, 168, 132, 3, 2, 167, 255, 154, 28, 172]
abbrev dktX7_isOtherAtCorner_4 : List UInt8 := dkwX7_isOtherAtCorner_4 ++ []
def dkwX7_isOtherAtCorner_3 : List UInt8 := [21, 5, 104, 96, 21, 6, 96, 46, 42, 180, 0, 13, 16, 12, 27, 96, 46, 159, 0, 7, 4, 167, 0, 4]
abbrev dktX7_isOtherAtCorner_3 : List UInt8 := dkwX7_isOtherAtCorner_3 ++ dktX7_isOtherAtCorner_4
def dkwX7_isOtherAtCorner_2 : List UInt8 := [162, 0, 47, 21, 6, 155, 0, 42, 21, 6, 16, 6, 162, 0, 35, 42, 180, 0, 13, 16, 12, 16, 6]
abbrev dktX7_isOtherAtCorner_2 : List UInt8 := dkwX7_isOtherAtCorner_2 ++ dktX7_isOtherAtCorner_3
def dkwX7_isOtherAtCorner_1 : List UInt8 := [54, 5, 27, 16, 6, 112, 21, 4, 96, 54, 6, 28, 154, 0, 55, 21, 5, 155, 0, 54, 21, 5, 16, 6]
abbrev dktX7_isOtherAtCorner_1 : List UInt8 := dkwX7_isOtherAtCorner_1 ++ dktX7_isOtherAtCorner_2
def dkwX7_isOtherAtCorner_0 : List UInt8 := [3, 61, 2, 62, 29, 5, 162, 0, 103, 2, 54, 4, 21, 4, 5, 162, 0, 88, 27, 16, 6, 108, 29, 96]
abbrev dktX7_isOtherAtCorner_0 : List UInt8 := dkwX7_isOtherAtCorner_0 ++ dktX7_isOtherAtCorner_1
theorem dksX7_isOtherAtCorner_0 : cX7_isOtherAtCorner.data.toList.drop 0 = dktX7_isOtherAtCorner_0 := by decide +kernel
theorem dksX7_isOtherAtCorner_1 : cX7_isOtherAtCorner.data.toList.drop 24 = dktX7_isOtherAtCorner_1 := dk_seg dksX7_isOtherAtCorner_0 24 rfl rfl
theorem dksX7_isOtherAtCorner_2 : cX7_isOtherAtCorner.data.toList.drop 48 = dktX7_isOtherAtCorner_2 := dk_seg dksX7_isOtherAtCorner_1 24 rfl rfl
theorem dksX7_isOtherAtCorner_3 : cX7_isOtherAtCorner.data.toList.drop 71 = dktX7_isOtherAtCorner_3 := dk_seg dksX7_isOtherAtCorner_2 23 rfl rfl
theorem dksX7_isOtherAtCorner_4 : cX7_isOtherAtCorner.data.toList.drop 95 = dktX7_isOtherAtCorner_4 := dk_seg dksX7_isOtherAtCorner_3 24 rfl rfl
theorem dX7_isOtherAtCorner_0 : decode cX7_isOtherAtCorner 0 = .ok (.iconst 0, 1) := dk_3 (dk_at dksX7_isOtherAtCorner_0 0 rfl rfl)
theorem dX7_isOtherAtCorner_1 : decode cX7_isOtherAtCorner 1 = .ok (.istore_n 2, 1) := dk_61 (dk_at dksX7_isOtherAtCorner_0 1 rfl rfl)
theorem dX7_isOtherAtCorner_2 : decode cX7_isOtherAtCorner 2 = .ok (.iconst (-1), 1) := dk_2 (dk_at dksX7_isOtherAtCorner_0 2 rfl rfl)
theorem dX7_isOtherAtCorner_3 : decode cX7_isOtherAtCorner 3 = .ok (.istore_n 3, 1) := dk_62 (dk_at dksX7_isOtherAtCorner_0 3 rfl rfl)
theorem dX7_isOtherAtCorner_4 : decode cX7_isOtherAtCorner 4 = .ok (.iload_n 3, 1) := dk_29 (dk_at dksX7_isOtherAtCorner_0 4 rfl rfl)
theorem dX7_isOtherAtCorner_5 : decode cX7_isOtherAtCorner 5 = .ok (.iconst 2, 1) := dk_5 (dk_at dksX7_isOtherAtCorner_0 5 rfl rfl)
theorem dX7_isOtherAtCorner_6 : decode cX7_isOtherAtCorner 6 = .ok (.if_icmp .ge 103, 3) := dk_162 0 103 (dk_at dksX7_isOtherAtCorner_0 6 rfl rfl)
theorem dX7_isOtherAtCorner_9 : decode cX7_isOtherAtCorner 9 = .ok (.iconst (-1), 1) := dk_2 (dk_at dksX7_isOtherAtCorner_0 9 rfl rfl)
theorem dX7_isOtherAtCorner_10 : decode cX7_isOtherAtCorner 10 = .ok (.istore 4, 2) := dk_54 4 (dk_at dksX7_isOtherAtCorner_0 10 rfl rfl)
theorem dX7_isOtherAtCorner_12 : decode cX7_isOtherAtCorner 12 = .ok (.iload 4, 2) := dk_21 4 (dk_at dksX7_isOtherAtCorner_0 12 rfl rfl)
theorem dX7_isOtherAtCorner_14 : decode cX7_isOtherAtCorner 14 = .ok (.iconst 2, 1) := dk_5 (dk_at dksX7_isOtherAtCorner_0 14 rfl rfl)
theorem dX7_isOtherAtCorner_15 : decode cX7_isOtherAtCorner 15 = .ok (.if_icmp .ge 88, 3) := dk_162 0 88 (dk_at dksX7_isOtherAtCorner_0 15 rfl rfl)
theorem dX7_isOtherAtCorner_18 : decode cX7_isOtherAtCorner 18 = .ok (.iload_n 1, 1) := dk_27 (dk_at dksX7_isOtherAtCorner_0 18 rfl rfl)
theorem dX7_isOtherAtCorner_19 : decode cX7_isOtherAtCorner 19 = .ok (.bipush 6, 2) := dk_16 6 (dk_at dksX7_isOtherAtCorner_0 19 rfl rfl)
theorem dX7_isOtherAtCorner_21 : decode cX7_isOtherAtCorner 21 = .ok (.idiv, 1) := dk_108 (dk_at dksX7_isOtherAtCorner_0 21 rfl rfl)
theorem dX7_isOtherAtCorner_22 : decode cX7_isOtherAtCorner 22 = .ok (.iload_n 3, 1) := dk_29 (dk_at dksX7_isOtherAtCorner_0 22 rfl rfl)
theorem dX7_isOtherAtCorner_23 : decode cX7_isOtherAtCorner 23 = .ok (.iadd, 1) := dk_96 (dk_at dksX7_isOtherAtCorner_0 23 rfl rfl)
theorem dX7_isOtherAtCorner_24 : decode cX7_isOtherAtCorner 24 = .ok (.istore 5, 2) := dk_54 5 (dk_at dksX7_isOtherAtCorner_1 0 rfl rfl)
theorem dX7_isOtherAtCorner_26 : decode cX7_isOtherAtCorner 26 = .ok (.iload_n 1, 1) := dk_27 (dk_at dksX7_isOtherAtCorner_1 2 rfl rfl)
theorem dX7_isOtherAtCorner_27 : decode cX7_isOtherAtCorner 27 = .ok (.bipush 6, 2) := dk_16 6 (dk_at dksX7_isOtherAtCorner_1 3 rfl rfl)
theorem dX7_isOtherAtCorner_29 : decode cX7_isOtherAtCorner 29 = .ok (.irem, 1) := dk_112 (dk_at dksX7_isOtherAtCorner_1 5 rfl rfl)
theorem dX7_isOtherAtCorner_30 : decode cX7_isOtherAtCorner 30 = .ok (.iload 4, 2) := dk_21 4 (dk_at dksX7_isOtherAtCorner_1 6 rfl rfl)
theorem dX7_isOtherAtCorner_32 : decode cX7_isOtherAtCorner 32 = .ok (.iadd, 1) := dk_96 (dk_at dksX7_isOtherAtCorner_1 8 rfl rfl)
theorem dX7_isOtherAtCorner_33 : decode cX7_isOtherAtCorner 33 = .ok (.istore 6, 2) := dk_54 6 (dk_at dksX7_isOtherAtCorner_1 9 rfl rfl)
theorem dX7_isOtherAtCorner_35 : decode cX7_isOtherAtCorner 35 = .ok (.iload_n 2, 1) := dk_28 (dk_at dksX7_isOtherAtCorner_1 11 rfl rfl)
theorem dX7_isOtherAtCorner_36 : decode cX7_isOtherAtCorner 36 = .ok (.ifCond .ne 55, 3) := dk_154 0 55 (dk_at dksX7_isOtherAtCorner_1 12 rfl rfl)
theorem dX7_isOtherAtCorner_39 : decode cX7_isOtherAtCorner 39 = .ok (.iload 5, 2) := dk_21 5 (dk_at dksX7_isOtherAtCorner_1 15 rfl rfl)
theorem dX7_isOtherAtCorner_41 : decode cX7_isOtherAtCorner 41 = .ok (.ifCond .lt 54, 3) := dk_155 0 54 (dk_at dksX7_isOtherAtCorner_1 17 rfl rfl)
theorem dX7_isOtherAtCorner_44 : decode cX7_isOtherAtCorner 44 = .ok (.iload 5, 2) := dk_21 5 (dk_at dksX7_isOtherAtCorner_1 20 rfl rfl)
theorem dX7_isOtherAtCorner_46 : decode cX7_isOtherAtCorner 46 = .ok (.bipush 6, 2) := dk_16 6 (dk_at dksX7_isOtherAtCorner_1 22 rfl rfl)
theorem dX7_isOtherAtCorner_48 : decode cX7_isOtherAtCorner 48 = .ok (.if_icmp .ge 47, 3) := dk_162 0 47 (dk_at dksX7_isOtherAtCorner_2 0 rfl rfl)
theorem dX7_isOtherAtCorner_51 : decode cX7_isOtherAtCorner 51 = .ok (.iload 6, 2) := dk_21 6 (dk_at dksX7_isOtherAtCorner_2 3 rfl rfl)
theorem dX7_isOtherAtCorner_53 : decode cX7_isOtherAtCorner 53 = .ok (.ifCond .lt 42, 3) := dk_155 0 42 (dk_at dksX7_isOtherAtCorner_2 5 rfl rfl)
theorem dX7_isOtherAtCorner_56 : decode cX7_isOtherAtCorner 56 = .ok (.iload 6, 2) := dk_21 6 (dk_at dksX7_isOtherAtCorner_2 8 rfl rfl)
theorem dX7_isOtherAtCorner_58 : decode cX7_isOtherAtCorner 58 = .ok (.bipush 6, 2) := dk_16 6 (dk_at dksX7_isOtherAtCorner_2 10 rfl rfl)
theorem dX7_isOtherAtCorner_60 : decode cX7_isOtherAtCorner 60 = .ok (.if_icmp .ge 35, 3) := dk_162 0 35 (dk_at dksX7_isOtherAtCorner_2 12 rfl rfl)
theorem dX7_isOtherAtCorner_63 : decode cX7_isOtherAtCorner 63 = .ok (.aload_n 0, 1) := dk_42 (dk_at dksX7_isOtherAtCorner_2 15 rfl rfl)
theorem dX7_isOtherAtCorner_64 : decode cX7_isOtherAtCorner 64 = .ok (.getfield 13, 3) := dk_180 0 13 (dk_at dksX7_isOtherAtCorner_2 16 rfl rfl)
theorem dX7_isOtherAtCorner_67 : decode cX7_isOtherAtCorner 67 = .ok (.bipush 12, 2) := dk_16 12 (dk_at dksX7_isOtherAtCorner_2 19 rfl rfl)
theorem dX7_isOtherAtCorner_69 : decode cX7_isOtherAtCorner 69 = .ok (.bipush 6, 2) := dk_16 6 (dk_at dksX7_isOtherAtCorner_2 21 rfl rfl)
theorem dX7_isOtherAtCorner_71 : decode cX7_isOtherAtCorner 71 = .ok (.iload 5, 2) := dk_21 5 (dk_at dksX7_isOtherAtCorner_3 0 rfl rfl)
theorem dX7_isOtherAtCorner_73 : decode cX7_isOtherAtCorner 73 = .ok (.imul, 1) := dk_104 (dk_at dksX7_isOtherAtCorner_3 2 rfl rfl)
theorem dX7_isOtherAtCorner_74 : decode cX7_isOtherAtCorner 74 = .ok (.iadd, 1) := dk_96 (dk_at dksX7_isOtherAtCorner_3 3 rfl rfl)
theorem dX7_isOtherAtCorner_75 : decode cX7_isOtherAtCorner 75 = .ok (.iload 6, 2) := dk_21 6 (dk_at dksX7_isOtherAtCorner_3 4 rfl rfl)
theorem dX7_isOtherAtCorner_77 : decode cX7_isOtherAtCorner 77 = .ok (.iadd, 1) := dk_96 (dk_at dksX7_isOtherAtCorner_3 6 rfl rfl)
theorem dX7_isOtherAtCorner_78 : decode cX7_isOtherAtCorner 78 = .ok (.iaload, 1) := dk_46 (dk_at dksX7_isOtherAtCorner_3 7 rfl rfl)
theorem dX7_isOtherAtCorner_79 : decode cX7_isOtherAtCorner 79 = .ok (.aload_n 0, 1) := dk_42 (dk_at dksX7_isOtherAtCorner_3 8 rfl rfl)
theorem dX7_isOtherAtCorner_80 : decode cX7_isOtherAtCorner 80 = .ok (.getfield 13, 3) := dk_180 0 13 (dk_at dksX7_isOtherAtCorner_3 9 rfl rfl)
theorem dX7_isOtherAtCorner_83 : decode cX7_isOtherAtCorner 83 = .ok (.bipush 12, 2) := dk_16 12 (dk_at dksX7_isOtherAtCorner_3 12 rfl rfl)
theorem dX7_isOtherAtCorner_85 : decode cX7_isOtherAtCorner 85 = .ok (.iload_n 1, 1) := dk_27 (dk_at dksX7_isOtherAtCorner_3 14 rfl rfl)
theorem dX7_isOtherAtCorner_86 : decode cX7_isOtherAtCorner 86 = .ok (.iadd, 1) := dk_96 (dk_at dksX7_isOtherAtCorner_3 15 rfl rfl)
theorem dX7_isOtherAtCorner_87 : decode cX7_isOtherAtCorner 87 = .ok (.iaload, 1) := dk_46 (dk_at dksX7_isOtherAtCorner_3 16 rfl rfl)
theorem dX7_isOtherAtCorner_88 : decode cX7_isOtherAtCorner 88 = .ok (.if_icmp .eq 7, 3) := dk_159 0 7 (dk_at dksX7_isOtherAtCorner_3 17 rfl rfl)
theorem dX7_isOtherAtCorner_91 : decode cX7_isOtherAtCorner 91 = .ok (.iconst 1, 1) := dk_4 (dk_at dksX7_isOtherAtCorner_3 20 rfl rfl)
theorem dX7_isOtherAtCorner_92 : decode cX7_isOtherAtCorner 92 = .ok (.goto 4, 3) := dk_167 0 4 (dk_at dksX7_isOtherAtCorner_3 21 rfl rfl)
theorem dX7_isOtherAtCorner_95 : decode cX7_isOtherAtCorner 95 = .ok (.iconst 0, 1) := dk_3 (dk_at dksX7_isOtherAtCorner_4 0 rfl rfl)
theorem dX7_isOtherAtCorner_96 : decode cX7_isOtherAtCorner 96 = .ok (.istore_n 2, 1) := dk_61 (dk_at dksX7_isOtherAtCorner_4 1 rfl rfl)
theorem dX7_isOtherAtCorner_97 : decode cX7_isOtherAtCorner 97 = .ok (.iinc 4 2, 3) := dk_132 4 2 (dk_at dksX7_isOtherAtCorner_4 2 rfl rfl)
theorem dX7_isOtherAtCorner_100 : decode cX7_isOtherAtCorner 100 = .ok (.goto (-88), 3) := dk_167 255 168 (dk_at dksX7_isOtherAtCorner_4 5 rfl rfl)
theorem dX7_isOtherAtCorner_103 : decode cX7_isOtherAtCorner 103 = .ok (.iinc 3 2, 3) := dk_132 3 2 (dk_at dksX7_isOtherAtCorner_4 8 rfl rfl)
theorem dX7_isOtherAtCorner_106 : decode cX7_isOtherAtCorner 106 = .ok (.goto (-102), 3) := dk_167 255 154 (dk_at dksX7_isOtherAtCorner_4 11 rfl rfl)
theorem dX7_isOtherAtCorner_109 : decode cX7_isOtherAtCorner 109 = .ok (.iload_n 2, 1) := dk_28 (dk_at dksX7_isOtherAtCorner_4 14 rfl rfl)
theorem dX7_isOtherAtCorner_110 : decode cX7_isOtherAtCorner 110 = .ok (.ireturn, 1) := dk_172 (dk_at dksX7_isOtherAtCorner_4 15 rfl rfl)
abbrev cX7_tree : ByteArray := prog_26_method_28_code
def yX7_tree : MethodName := ⟨RX7, "tree", "(II)I"⟩
def dkwX7_tree_2 : List UInt8 := [27, 96, 46, 172]
abbrev dktX7_tree_2 : List UInt8 := dkwX7_tree_2 ++ []
def dkwX7_tree_1 : List UInt8 := [6, 164, 0, 12, 42, 16, 254, 182, 0, 49, 167, 0, 17, 42, 180, 0, 13, 16, 120, 16, 6, 28, 104, 96]
abbrev dktX7_tree_1 : List UInt8 := dkwX7_tree_1 ++ dktX7_tree_2
def dkwX7_tree_0 : List UInt8 := [27, 42, 180, 0, 13, 3, 46, 184, 0, 124, 153, 0, 9, 42, 2, 182, 0, 49, 172, 28, 155, 0, 8, 28]
abbrev dktX7_tree_0 : List UInt8 := dkwX7_tree_0 ++ dktX7_tree_1
theorem dksX7_tree_0 : cX7_tree.data.toList.drop 0 = dktX7_tree_0 := by decide +kernel
theorem dksX7_tree_1 : cX7_tree.data.toList.drop 24 = dktX7_tree_1 := dk_seg dksX7_tree_0 24 rfl rfl
theorem dksX7_tree_2 : cX7_tree.data.toList.drop 48 = dktX7_tree_2 := dk_seg dksX7_tree_1 24 rfl rfl
theorem dX7_tree_0 : decode cX7_tree 0 = .ok (.iload_n 1, 1) := dk_27 (dk_at dksX7_tree_0 0 rfl rfl)
theorem dX7_tree_1 : decode cX7_tree 1 = .ok (.aload_n 0, 1) := dk_42 (dk_at dksX7_tree_0 1 rfl rfl)
theorem dX7_tree_2 : decode cX7_tree 2 = .ok (.getfield 13, 3) := dk_180 0 13 (dk_at dksX7_tree_0 2 rfl rfl)
theorem dX7_tree_5 : decode cX7_tree 5 = .ok (.iconst 0, 1) := dk_3 (dk_at dksX7_tree_0 5 rfl rfl)
theorem dX7_tree_6 : decode cX7_tree 6 = .ok (.iaload, 1) := dk_46 (dk_at dksX7_tree_0 6 rfl rfl)
theorem dX7_tree_7 : decode cX7_tree 7 = .ok (.invokestatic 124, 3) := dk_184 0 124 (dk_at dksX7_tree_0 7 rfl rfl)
theorem dX7_tree_10 : decode cX7_tree 10 = .ok (.ifCond .eq 9, 3) := dk_153 0 9 (dk_at dksX7_tree_0 10 rfl rfl)
theorem dX7_tree_13 : decode cX7_tree 13 = .ok (.aload_n 0, 1) := dk_42 (dk_at dksX7_tree_0 13 rfl rfl)
theorem dX7_tree_14 : decode cX7_tree 14 = .ok (.iconst (-1), 1) := dk_2 (dk_at dksX7_tree_0 14 rfl rfl)
theorem dX7_tree_15 : decode cX7_tree 15 = .ok (.invokevirtual 49, 3) := dk_182 0 49 (dk_at dksX7_tree_0 15 rfl rfl)
theorem dX7_tree_18 : decode cX7_tree 18 = .ok (.ireturn, 1) := dk_172 (dk_at dksX7_tree_0 18 rfl rfl)
theorem dX7_tree_19 : decode cX7_tree 19 = .ok (.iload_n 2, 1) := dk_28 (dk_at dksX7_tree_0 19 rfl rfl)
theorem dX7_tree_20 : decode cX7_tree 20 = .ok (.ifCond .lt 8, 3) := dk_155 0 8 (dk_at dksX7_tree_0 20 rfl rfl)
theorem dX7_tree_23 : decode cX7_tree 23 = .ok (.iload_n 2, 1) := dk_28 (dk_at dksX7_tree_0 23 rfl rfl)
theorem dX7_tree_24 : decode cX7_tree 24 = .ok (.iconst 3, 1) := dk_6 (dk_at dksX7_tree_1 0 rfl rfl)
theorem dX7_tree_25 : decode cX7_tree 25 = .ok (.if_icmp .le 12, 3) := dk_164 0 12 (dk_at dksX7_tree_1 1 rfl rfl)
theorem dX7_tree_28 : decode cX7_tree 28 = .ok (.aload_n 0, 1) := dk_42 (dk_at dksX7_tree_1 4 rfl rfl)
theorem dX7_tree_29 : decode cX7_tree 29 = .ok (.bipush (-2), 2) := dk_16 254 (dk_at dksX7_tree_1 5 rfl rfl)
theorem dX7_tree_31 : decode cX7_tree 31 = .ok (.invokevirtual 49, 3) := dk_182 0 49 (dk_at dksX7_tree_1 7 rfl rfl)
theorem dX7_tree_34 : decode cX7_tree 34 = .ok (.goto 17, 3) := dk_167 0 17 (dk_at dksX7_tree_1 10 rfl rfl)
theorem dX7_tree_37 : decode cX7_tree 37 = .ok (.aload_n 0, 1) := dk_42 (dk_at dksX7_tree_1 13 rfl rfl)
theorem dX7_tree_38 : decode cX7_tree 38 = .ok (.getfield 13, 3) := dk_180 0 13 (dk_at dksX7_tree_1 14 rfl rfl)
theorem dX7_tree_41 : decode cX7_tree 41 = .ok (.bipush 120, 2) := dk_16 120 (dk_at dksX7_tree_1 17 rfl rfl)
theorem dX7_tree_43 : decode cX7_tree 43 = .ok (.bipush 6, 2) := dk_16 6 (dk_at dksX7_tree_1 19 rfl rfl)
theorem dX7_tree_45 : decode cX7_tree 45 = .ok (.iload_n 2, 1) := dk_28 (dk_at dksX7_tree_1 21 rfl rfl)
theorem dX7_tree_46 : decode cX7_tree 46 = .ok (.imul, 1) := dk_104 (dk_at dksX7_tree_1 22 rfl rfl)
theorem dX7_tree_47 : decode cX7_tree 47 = .ok (.iadd, 1) := dk_96 (dk_at dksX7_tree_1 23 rfl rfl)
theorem dX7_tree_48 : decode cX7_tree 48 = .ok (.iload_n 1, 1) := dk_27 (dk_at dksX7_tree_2 0 rfl rfl)
theorem dX7_tree_49 : decode cX7_tree 49 = .ok (.iadd, 1) := dk_96 (dk_at dksX7_tree_2 1 rfl rfl)
theorem dX7_tree_50 : decode cX7_tree 50 = .ok (.iaload, 1) := dk_46 (dk_at dksX7_tree_2 2 rfl rfl)
theorem dX7_tree_51 : decode cX7_tree 51 = .ok (.ireturn, 1) := dk_172 (dk_at dksX7_tree_2 3 rfl rfl)
abbrev cX7_garden : ByteArray := prog_26_method_29_code
def yX7_garden : MethodName := ⟨RX7, "garden", "(II)I"⟩
def dkwX7_garden_1 : List UInt8 := [180, 0, 13, 16, 12, 27, 96, 46, 62, 42, 180, 0, 13, 16, 12, 27, 96, 28, 79, 29, 172]
abbrev dktX7_garden_1 : List UInt8 := dkwX7_garden_1 ++ []
def dkwX7_garden_0 : List UInt8 := [27, 16, 36, 184, 0, 124, 154, 0, 11, 28, 7, 184, 0, 124, 153, 0, 9, 42, 2, 182, 0, 49, 172, 42]
abbrev dktX7_garden_0 : List UInt8 := dkwX7_garden_0 ++ dktX7_garden_1
theorem dksX7_garden_0 : cX7_garden.data.toList.drop 0 = dktX7_garden_0 := by decide +kernel
theorem dksX7_garden_1 : cX7_garden.data.toList.drop 24 = dktX7_garden_1 := dk_seg dksX7_garden_0 24 rfl rfl
theorem dX7_garden_0 : decode cX7_garden 0 = .ok (.iload_n 1, 1) := dk_27 (dk_at dksX7_garden_0 0 rfl rfl)
theorem dX7_garden_1 : decode cX7_garden 1 = .ok (.bipush 36, 2) := dk_16 36 (dk_at dksX7_garden_0 1 rfl rfl)
theorem dX7_garden_3 : decode cX7_garden 3 = .ok (.invokestatic 124, 3) := dk_184 0 124 (dk_at dksX7_garden_0 3 rfl rfl)
theorem dX7_garden_6 : decode cX7_garden 6 = .ok (.ifCond .ne 11, 3) := dk_154 0 11 (dk_at dksX7_garden_0 6 rfl rfl)
theorem dX7_garden_9 : decode cX7_garden 9 = .ok (.iload_n 2, 1) := dk_28 (dk_at dksX7_garden_0 9 rfl rfl)
theorem dX7_garden_10 : decode cX7_garden 10 = .ok (.iconst 4, 1) := dk_7 (dk_at dksX7_garden_0 10 rfl rfl)
theorem dX7_garden_11 : decode cX7_garden 11 = .ok (.invokestatic 124, 3) := dk_184 0 124 (dk_at dksX7_garden_0 11 rfl rfl)
theorem dX7_garden_14 : decode cX7_garden 14 = .ok (.ifCond .eq 9, 3) := dk_153 0 9 (dk_at dksX7_garden_0 14 rfl rfl)
theorem dX7_garden_17 : decode cX7_garden 17 = .ok (.aload_n 0, 1) := dk_42 (dk_at dksX7_garden_0 17 rfl rfl)
theorem dX7_garden_18 : decode cX7_garden 18 = .ok (.iconst (-1), 1) := dk_2 (dk_at dksX7_garden_0 18 rfl rfl)
theorem dX7_garden_19 : decode cX7_garden 19 = .ok (.invokevirtual 49, 3) := dk_182 0 49 (dk_at dksX7_garden_0 19 rfl rfl)
theorem dX7_garden_22 : decode cX7_garden 22 = .ok (.ireturn, 1) := dk_172 (dk_at dksX7_garden_0 22 rfl rfl)
theorem dX7_garden_23 : decode cX7_garden 23 = .ok (.aload_n 0, 1) := dk_42 (dk_at dksX7_garden_0 23 rfl rfl)
theorem dX7_garden_24 : decode cX7_garden 24 = .ok (.getfield 13, 3) := dk_180 0 13 (dk_at dksX7_garden_1 0 rfl rfl)
theorem dX7_garden_27 : decode cX7_garden 27 = .ok (.bipush 12, 2) := dk_16 12 (dk_at dksX7_garden_1 3 rfl rfl)
theorem dX7_garden_29 : decode cX7_garden 29 = .ok (.iload_n 1, 1) := dk_27 (dk_at dksX7_garden_1 5 rfl rfl)
theorem dX7_garden_30 : decode cX7_garden 30 = .ok (.iadd, 1) := dk_96 (dk_at dksX7_garden_1 6 rfl rfl)
theorem dX7_garden_31 : decode cX7_garden 31 = .ok (.iaload, 1) := dk_46 (dk_at dksX7_garden_1 7 rfl rfl)
theorem dX7_garden_32 : decode cX7_garden 32 = .ok (.istore_n 3, 1) := dk_62 (dk_at dksX7_garden_1 8 rfl rfl)
theorem dX7_garden_33 : decode cX7_garden 33 = .ok (.aload_n 0, 1) := dk_42 (dk_at dksX7_garden_1 9 rfl rfl)
theorem dX7_garden_34 : decode cX7_garden 34 = .ok (.getfield 13, 3) := dk_180 0 13 (dk_at dksX7_garden_1 10 rfl rfl)
theorem dX7_garden_37 : decode cX7_garden 37 = .ok (.bipush 12, 2) := dk_16 12 (dk_at dksX7_garden_1 13 rfl rfl)
theorem dX7_garden_39 : decode cX7_garden 39 = .ok (.iload_n 1, 1) := dk_27 (dk_at dksX7_garden_1 15 rfl rfl)
theorem dX7_garden_40 : decode cX7_garden 40 = .ok (.iadd, 1) := dk_96 (dk_at dksX7_garden_1 16 rfl rfl)
theorem dX7_garden_41 : decode cX7_garden 41 = .ok (.iload_n 2, 1) := dk_28 (dk_at dksX7_garden_1 17 rfl rfl)
theorem dX7_garden_42 : decode cX7_garden 42 = .ok (.iastore, 1) := dk_79 (dk_at dksX7_garden_1 18 rfl rfl)
theorem dX7_garden_43 : decode cX7_garden 43 = .ok (.iload_n 3, 1) := dk_29 (dk_at dksX7_garden_1 19 rfl rfl)
theorem dX7_garden_44 : decode cX7_garden 44 = .ok (.ireturn, 1) := dk_172 (dk_at dksX7_garden_1 20 rfl rfl)
abbrev cX7_height : ByteArray := prog_26_method_30_code
def yX7_height : MethodName := ⟨RX7, "height", "(II)I"⟩
def dkwX7_height_2 : List UInt8 := [96, 46, 62, 42, 180, 0, 13, 16, 48, 27, 96, 28, 79, 29, 172]
abbrev dktX7_height_2 : List UInt8 := dkwX7_height_2 ++ []
def dkwX7_height_1 : List UInt8 := [182, 0, 49, 172, 28, 16, 9, 164, 0, 10, 42, 16, 250, 182, 0, 49, 172, 42, 180, 0, 13, 16, 48, 27]
abbrev dktX7_height_1 : List UInt8 := dkwX7_height_1 ++ dktX7_height_2
def dkwX7_height_0 : List UInt8 := [27, 16, 36, 184, 0, 124, 153, 0, 9, 42, 2, 182, 0, 49, 172, 28, 156, 0, 10, 42, 16, 252]
abbrev dktX7_height_0 : List UInt8 := dkwX7_height_0 ++ dktX7_height_1
theorem dksX7_height_0 : cX7_height.data.toList.drop 0 = dktX7_height_0 := by decide +kernel
theorem dksX7_height_1 : cX7_height.data.toList.drop 22 = dktX7_height_1 := dk_seg dksX7_height_0 22 rfl rfl
theorem dksX7_height_2 : cX7_height.data.toList.drop 46 = dktX7_height_2 := dk_seg dksX7_height_1 24 rfl rfl
theorem dX7_height_0 : decode cX7_height 0 = .ok (.iload_n 1, 1) := dk_27 (dk_at dksX7_height_0 0 rfl rfl)
theorem dX7_height_1 : decode cX7_height 1 = .ok (.bipush 36, 2) := dk_16 36 (dk_at dksX7_height_0 1 rfl rfl)
theorem dX7_height_3 : decode cX7_height 3 = .ok (.invokestatic 124, 3) := dk_184 0 124 (dk_at dksX7_height_0 3 rfl rfl)
theorem dX7_height_6 : decode cX7_height 6 = .ok (.ifCond .eq 9, 3) := dk_153 0 9 (dk_at dksX7_height_0 6 rfl rfl)
theorem dX7_height_9 : decode cX7_height 9 = .ok (.aload_n 0, 1) := dk_42 (dk_at dksX7_height_0 9 rfl rfl)
theorem dX7_height_10 : decode cX7_height 10 = .ok (.iconst (-1), 1) := dk_2 (dk_at dksX7_height_0 10 rfl rfl)
theorem dX7_height_11 : decode cX7_height 11 = .ok (.invokevirtual 49, 3) := dk_182 0 49 (dk_at dksX7_height_0 11 rfl rfl)
theorem dX7_height_14 : decode cX7_height 14 = .ok (.ireturn, 1) := dk_172 (dk_at dksX7_height_0 14 rfl rfl)
theorem dX7_height_15 : decode cX7_height 15 = .ok (.iload_n 2, 1) := dk_28 (dk_at dksX7_height_0 15 rfl rfl)
theorem dX7_height_16 : decode cX7_height 16 = .ok (.ifCond .ge 10, 3) := dk_156 0 10 (dk_at dksX7_height_0 16 rfl rfl)
theorem dX7_height_19 : decode cX7_height 19 = .ok (.aload_n 0, 1) := dk_42 (dk_at dksX7_height_0 19 rfl rfl)
theorem dX7_height_20 : decode cX7_height 20 = .ok (.bipush (-4), 2) := dk_16 252 (dk_at dksX7_height_0 20 rfl rfl)
theorem dX7_height_22 : decode cX7_height 22 = .ok (.invokevirtual 49, 3) := dk_182 0 49 (dk_at dksX7_height_1 0 rfl rfl)
theorem dX7_height_25 : decode cX7_height 25 = .ok (.ireturn, 1) := dk_172 (dk_at dksX7_height_1 3 rfl rfl)
theorem dX7_height_26 : decode cX7_height 26 = .ok (.iload_n 2, 1) := dk_28 (dk_at dksX7_height_1 4 rfl rfl)
theorem dX7_height_27 : decode cX7_height 27 = .ok (.bipush 9, 2) := dk_16 9 (dk_at dksX7_height_1 5 rfl rfl)
theorem dX7_height_29 : decode cX7_height 29 = .ok (.if_icmp .le 10, 3) := dk_164 0 10 (dk_at dksX7_height_1 7 rfl rfl)
theorem dX7_height_32 : decode cX7_height 32 = .ok (.aload_n 0, 1) := dk_42 (dk_at dksX7_height_1 10 rfl rfl)
theorem dX7_height_33 : decode cX7_height 33 = .ok (.bipush (-6), 2) := dk_16 250 (dk_at dksX7_height_1 11 rfl rfl)
theorem dX7_height_35 : decode cX7_height 35 = .ok (.invokevirtual 49, 3) := dk_182 0 49 (dk_at dksX7_height_1 13 rfl rfl)
theorem dX7_height_38 : decode cX7_height 38 = .ok (.ireturn, 1) := dk_172 (dk_at dksX7_height_1 16 rfl rfl)
theorem dX7_height_39 : decode cX7_height 39 = .ok (.aload_n 0, 1) := dk_42 (dk_at dksX7_height_1 17 rfl rfl)
theorem dX7_height_40 : decode cX7_height 40 = .ok (.getfield 13, 3) := dk_180 0 13 (dk_at dksX7_height_1 18 rfl rfl)
theorem dX7_height_43 : decode cX7_height 43 = .ok (.bipush 48, 2) := dk_16 48 (dk_at dksX7_height_1 21 rfl rfl)
theorem dX7_height_45 : decode cX7_height 45 = .ok (.iload_n 1, 1) := dk_27 (dk_at dksX7_height_1 23 rfl rfl)
theorem dX7_height_46 : decode cX7_height 46 = .ok (.iadd, 1) := dk_96 (dk_at dksX7_height_2 0 rfl rfl)
theorem dX7_height_47 : decode cX7_height 47 = .ok (.iaload, 1) := dk_46 (dk_at dksX7_height_2 1 rfl rfl)
theorem dX7_height_48 : decode cX7_height 48 = .ok (.istore_n 3, 1) := dk_62 (dk_at dksX7_height_2 2 rfl rfl)
theorem dX7_height_49 : decode cX7_height 49 = .ok (.aload_n 0, 1) := dk_42 (dk_at dksX7_height_2 3 rfl rfl)
theorem dX7_height_50 : decode cX7_height 50 = .ok (.getfield 13, 3) := dk_180 0 13 (dk_at dksX7_height_2 4 rfl rfl)
theorem dX7_height_53 : decode cX7_height 53 = .ok (.bipush 48, 2) := dk_16 48 (dk_at dksX7_height_2 7 rfl rfl)
theorem dX7_height_55 : decode cX7_height 55 = .ok (.iload_n 1, 1) := dk_27 (dk_at dksX7_height_2 9 rfl rfl)
theorem dX7_height_56 : decode cX7_height 56 = .ok (.iadd, 1) := dk_96 (dk_at dksX7_height_2 10 rfl rfl)
theorem dX7_height_57 : decode cX7_height 57 = .ok (.iload_n 2, 1) := dk_28 (dk_at dksX7_height_2 11 rfl rfl)
theorem dX7_height_58 : decode cX7_height 58 = .ok (.iastore, 1) := dk_79 (dk_at dksX7_height_2 12 rfl rfl)
theorem dX7_height_59 : decode cX7_height 59 = .ok (.iload_n 3, 1) := dk_29 (dk_at dksX7_height_2 13 rfl rfl)
theorem dX7_height_60 : decode cX7_height 60 = .ok (.ireturn, 1) := dk_172 (dk_at dksX7_height_2 14 rfl rfl)
abbrev cX7_net : ByteArray := prog_26_method_31_code
def yX7_net : MethodName := ⟨RX7, "net", "(I)I"⟩
def dkwX7_net_1 : List UInt8 := [42, 180, 0, 13, 16, 84, 27, 96, 46, 100, 79, 42, 180, 0, 13, 16, 84, 27, 96, 46, 172]
abbrev dktX7_net_1 : List UInt8 := dkwX7_net_1 ++ []
def dkwX7_net_0 : List UInt8 := [27, 16, 36, 184, 0, 124, 153, 0, 9, 42, 2, 182, 0, 49, 172, 42, 180, 0, 13, 16, 84, 27, 96, 4]
abbrev dktX7_net_0 : List UInt8 := dkwX7_net_0 ++ dktX7_net_1
theorem dksX7_net_0 : cX7_net.data.toList.drop 0 = dktX7_net_0 := by decide +kernel
theorem dksX7_net_1 : cX7_net.data.toList.drop 24 = dktX7_net_1 := dk_seg dksX7_net_0 24 rfl rfl
theorem dX7_net_0 : decode cX7_net 0 = .ok (.iload_n 1, 1) := dk_27 (dk_at dksX7_net_0 0 rfl rfl)
theorem dX7_net_1 : decode cX7_net 1 = .ok (.bipush 36, 2) := dk_16 36 (dk_at dksX7_net_0 1 rfl rfl)
theorem dX7_net_3 : decode cX7_net 3 = .ok (.invokestatic 124, 3) := dk_184 0 124 (dk_at dksX7_net_0 3 rfl rfl)
theorem dX7_net_6 : decode cX7_net 6 = .ok (.ifCond .eq 9, 3) := dk_153 0 9 (dk_at dksX7_net_0 6 rfl rfl)
theorem dX7_net_9 : decode cX7_net 9 = .ok (.aload_n 0, 1) := dk_42 (dk_at dksX7_net_0 9 rfl rfl)
theorem dX7_net_10 : decode cX7_net 10 = .ok (.iconst (-1), 1) := dk_2 (dk_at dksX7_net_0 10 rfl rfl)
theorem dX7_net_11 : decode cX7_net 11 = .ok (.invokevirtual 49, 3) := dk_182 0 49 (dk_at dksX7_net_0 11 rfl rfl)
theorem dX7_net_14 : decode cX7_net 14 = .ok (.ireturn, 1) := dk_172 (dk_at dksX7_net_0 14 rfl rfl)
theorem dX7_net_15 : decode cX7_net 15 = .ok (.aload_n 0, 1) := dk_42 (dk_at dksX7_net_0 15 rfl rfl)
theorem dX7_net_16 : decode cX7_net 16 = .ok (.getfield 13, 3) := dk_180 0 13 (dk_at dksX7_net_0 16 rfl rfl)
theorem dX7_net_19 : decode cX7_net 19 = .ok (.bipush 84, 2) := dk_16 84 (dk_at dksX7_net_0 19 rfl rfl)
theorem dX7_net_21 : decode cX7_net 21 = .ok (.iload_n 1, 1) := dk_27 (dk_at dksX7_net_0 21 rfl rfl)
theorem dX7_net_22 : decode cX7_net 22 = .ok (.iadd, 1) := dk_96 (dk_at dksX7_net_0 22 rfl rfl)
theorem dX7_net_23 : decode cX7_net 23 = .ok (.iconst 1, 1) := dk_4 (dk_at dksX7_net_0 23 rfl rfl)
theorem dX7_net_24 : decode cX7_net 24 = .ok (.aload_n 0, 1) := dk_42 (dk_at dksX7_net_1 0 rfl rfl)
theorem dX7_net_25 : decode cX7_net 25 = .ok (.getfield 13, 3) := dk_180 0 13 (dk_at dksX7_net_1 1 rfl rfl)
theorem dX7_net_28 : decode cX7_net 28 = .ok (.bipush 84, 2) := dk_16 84 (dk_at dksX7_net_1 4 rfl rfl)
theorem dX7_net_30 : decode cX7_net 30 = .ok (.iload_n 1, 1) := dk_27 (dk_at dksX7_net_1 6 rfl rfl)
theorem dX7_net_31 : decode cX7_net 31 = .ok (.iadd, 1) := dk_96 (dk_at dksX7_net_1 7 rfl rfl)
theorem dX7_net_32 : decode cX7_net 32 = .ok (.iaload, 1) := dk_46 (dk_at dksX7_net_1 8 rfl rfl)
theorem dX7_net_33 : decode cX7_net 33 = .ok (.isub, 1) := dk_100 (dk_at dksX7_net_1 9 rfl rfl)
theorem dX7_net_34 : decode cX7_net 34 = .ok (.iastore, 1) := dk_79 (dk_at dksX7_net_1 10 rfl rfl)
theorem dX7_net_35 : decode cX7_net 35 = .ok (.aload_n 0, 1) := dk_42 (dk_at dksX7_net_1 11 rfl rfl)
theorem dX7_net_36 : decode cX7_net 36 = .ok (.getfield 13, 3) := dk_180 0 13 (dk_at dksX7_net_1 12 rfl rfl)
theorem dX7_net_39 : decode cX7_net 39 = .ok (.bipush 84, 2) := dk_16 84 (dk_at dksX7_net_1 15 rfl rfl)
theorem dX7_net_41 : decode cX7_net 41 = .ok (.iload_n 1, 1) := dk_27 (dk_at dksX7_net_1 17 rfl rfl)
theorem dX7_net_42 : decode cX7_net 42 = .ok (.iadd, 1) := dk_96 (dk_at dksX7_net_1 18 rfl rfl)
theorem dX7_net_43 : decode cX7_net 43 = .ok (.iaload, 1) := dk_46 (dk_at dksX7_net_1 19 rfl rfl)
theorem dX7_net_44 : decode cX7_net 44 = .ok (.ireturn, 1) := dk_172 (dk_at dksX7_net_1 20 rfl rfl)
abbrev cX7_wind : ByteArray := prog_26_method_32_code
def yX7_wind : MethodName := ⟨RX7, "wind", "(I)I"⟩
def dkwX7_wind_1 : List UInt8 := [42, 180, 0, 13, 4, 46, 61, 42, 180, 0, 13, 4, 27, 79, 28, 172]
abbrev dktX7_wind_1 : List UInt8 := dkwX7_wind_1 ++ []
def dkwX7_wind_0 : List UInt8 := [27, 156, 0, 10, 42, 16, 252, 182, 0, 49, 172, 27, 16, 15, 164, 0, 10, 42, 16, 250, 182, 0, 49, 172]
abbrev dktX7_wind_0 : List UInt8 := dkwX7_wind_0 ++ dktX7_wind_1
theorem dksX7_wind_0 : cX7_wind.data.toList.drop 0 = dktX7_wind_0 := by decide +kernel
theorem dksX7_wind_1 : cX7_wind.data.toList.drop 24 = dktX7_wind_1 := dk_seg dksX7_wind_0 24 rfl rfl
theorem dX7_wind_0 : decode cX7_wind 0 = .ok (.iload_n 1, 1) := dk_27 (dk_at dksX7_wind_0 0 rfl rfl)
theorem dX7_wind_1 : decode cX7_wind 1 = .ok (.ifCond .ge 10, 3) := dk_156 0 10 (dk_at dksX7_wind_0 1 rfl rfl)
theorem dX7_wind_4 : decode cX7_wind 4 = .ok (.aload_n 0, 1) := dk_42 (dk_at dksX7_wind_0 4 rfl rfl)
theorem dX7_wind_5 : decode cX7_wind 5 = .ok (.bipush (-4), 2) := dk_16 252 (dk_at dksX7_wind_0 5 rfl rfl)
theorem dX7_wind_7 : decode cX7_wind 7 = .ok (.invokevirtual 49, 3) := dk_182 0 49 (dk_at dksX7_wind_0 7 rfl rfl)
theorem dX7_wind_10 : decode cX7_wind 10 = .ok (.ireturn, 1) := dk_172 (dk_at dksX7_wind_0 10 rfl rfl)
theorem dX7_wind_11 : decode cX7_wind 11 = .ok (.iload_n 1, 1) := dk_27 (dk_at dksX7_wind_0 11 rfl rfl)
theorem dX7_wind_12 : decode cX7_wind 12 = .ok (.bipush 15, 2) := dk_16 15 (dk_at dksX7_wind_0 12 rfl rfl)
theorem dX7_wind_14 : decode cX7_wind 14 = .ok (.if_icmp .le 10, 3) := dk_164 0 10 (dk_at dksX7_wind_0 14 rfl rfl)
theorem dX7_wind_17 : decode cX7_wind 17 = .ok (.aload_n 0, 1) := dk_42 (dk_at dksX7_wind_0 17 rfl rfl)
theorem dX7_wind_18 : decode cX7_wind 18 = .ok (.bipush (-6), 2) := dk_16 250 (dk_at dksX7_wind_0 18 rfl rfl)
theorem dX7_wind_20 : decode cX7_wind 20 = .ok (.invokevirtual 49, 3) := dk_182 0 49 (dk_at dksX7_wind_0 20 rfl rfl)
theorem dX7_wind_23 : decode cX7_wind 23 = .ok (.ireturn, 1) := dk_172 (dk_at dksX7_wind_0 23 rfl rfl)
theorem dX7_wind_24 : decode cX7_wind 24 = .ok (.aload_n 0, 1) := dk_42 (dk_at dksX7_wind_1 0 rfl rfl)
theorem dX7_wind_25 : decode cX7_wind 25 = .ok (.getfield 13, 3) := dk_180 0 13 (dk_at dksX7_wind_1 1 rfl rfl)
theorem dX7_wind_28 : decode cX7_wind 28 = .ok (.iconst 1, 1) := dk_4 (dk_at dksX7_wind_1 4 rfl rfl)
theorem dX7_wind_29 : decode cX7_wind 29 = .ok (.iaload, 1) := dk_46 (dk_at dksX7_wind_1 5 rfl rfl)
theorem dX7_wind_30 : decode cX7_wind 30 = .ok (.istore_n 2, 1) := dk_61 (dk_at dksX7_wind_1 6 rfl rfl)
theorem dX7_wind_31 : decode cX7_wind 31 = .ok (.aload_n 0, 1) := dk_42 (dk_at dksX7_wind_1 7 rfl rfl)
theorem dX7_wind_32 : decode cX7_wind 32 = .ok (.getfield 13, 3) := dk_180 0 13 (dk_at dksX7_wind_1 8 rfl rfl)
theorem dX7_wind_35 : decode cX7_wind 35 = .ok (.iconst 1, 1) := dk_4 (dk_at dksX7_wind_1 11 rfl rfl)
theorem dX7_wind_36 : decode cX7_wind 36 = .ok (.iload_n 1, 1) := dk_27 (dk_at dksX7_wind_1 12 rfl rfl)
theorem dX7_wind_37 : decode cX7_wind 37 = .ok (.iastore, 1) := dk_79 (dk_at dksX7_wind_1 13 rfl rfl)
theorem dX7_wind_38 : decode cX7_wind 38 = .ok (.iload_n 2, 1) := dk_28 (dk_at dksX7_wind_1 14 rfl rfl)
theorem dX7_wind_39 : decode cX7_wind 39 = .ok (.ireturn, 1) := dk_172 (dk_at dksX7_wind_1 15 rfl rfl)
abbrev cX7_law : ByteArray := prog_26_method_33_code
def yX7_law : MethodName := ⟨RX7, "law", "(I)I"⟩
def dkwX7_law_1 : List UInt8 := [180, 0, 13, 5, 27, 79, 28, 172]
abbrev dktX7_law_1 : List UInt8 := dkwX7_law_1 ++ []
def dkwX7_law_0 : List UInt8 := [27, 155, 0, 8, 27, 7, 164, 0, 10, 42, 16, 254, 182, 0, 49, 172, 42, 180, 0, 13, 5, 46, 61, 42]
abbrev dktX7_law_0 : List UInt8 := dkwX7_law_0 ++ dktX7_law_1
theorem dksX7_law_0 : cX7_law.data.toList.drop 0 = dktX7_law_0 := by decide +kernel
theorem dksX7_law_1 : cX7_law.data.toList.drop 24 = dktX7_law_1 := dk_seg dksX7_law_0 24 rfl rfl
theorem dX7_law_0 : decode cX7_law 0 = .ok (.iload_n 1, 1) := dk_27 (dk_at dksX7_law_0 0 rfl rfl)
theorem dX7_law_1 : decode cX7_law 1 = .ok (.ifCond .lt 8, 3) := dk_155 0 8 (dk_at dksX7_law_0 1 rfl rfl)
theorem dX7_law_4 : decode cX7_law 4 = .ok (.iload_n 1, 1) := dk_27 (dk_at dksX7_law_0 4 rfl rfl)
theorem dX7_law_5 : decode cX7_law 5 = .ok (.iconst 4, 1) := dk_7 (dk_at dksX7_law_0 5 rfl rfl)
theorem dX7_law_6 : decode cX7_law 6 = .ok (.if_icmp .le 10, 3) := dk_164 0 10 (dk_at dksX7_law_0 6 rfl rfl)
theorem dX7_law_9 : decode cX7_law 9 = .ok (.aload_n 0, 1) := dk_42 (dk_at dksX7_law_0 9 rfl rfl)
theorem dX7_law_10 : decode cX7_law 10 = .ok (.bipush (-2), 2) := dk_16 254 (dk_at dksX7_law_0 10 rfl rfl)
theorem dX7_law_12 : decode cX7_law 12 = .ok (.invokevirtual 49, 3) := dk_182 0 49 (dk_at dksX7_law_0 12 rfl rfl)
theorem dX7_law_15 : decode cX7_law 15 = .ok (.ireturn, 1) := dk_172 (dk_at dksX7_law_0 15 rfl rfl)
theorem dX7_law_16 : decode cX7_law 16 = .ok (.aload_n 0, 1) := dk_42 (dk_at dksX7_law_0 16 rfl rfl)
theorem dX7_law_17 : decode cX7_law 17 = .ok (.getfield 13, 3) := dk_180 0 13 (dk_at dksX7_law_0 17 rfl rfl)
theorem dX7_law_20 : decode cX7_law 20 = .ok (.iconst 2, 1) := dk_5 (dk_at dksX7_law_0 20 rfl rfl)
theorem dX7_law_21 : decode cX7_law 21 = .ok (.iaload, 1) := dk_46 (dk_at dksX7_law_0 21 rfl rfl)
theorem dX7_law_22 : decode cX7_law 22 = .ok (.istore_n 2, 1) := dk_61 (dk_at dksX7_law_0 22 rfl rfl)
theorem dX7_law_23 : decode cX7_law 23 = .ok (.aload_n 0, 1) := dk_42 (dk_at dksX7_law_0 23 rfl rfl)
theorem dX7_law_24 : decode cX7_law 24 = .ok (.getfield 13, 3) := dk_180 0 13 (dk_at dksX7_law_1 0 rfl rfl)
theorem dX7_law_27 : decode cX7_law 27 = .ok (.iconst 2, 1) := dk_5 (dk_at dksX7_law_1 3 rfl rfl)
theorem dX7_law_28 : decode cX7_law 28 = .ok (.iload_n 1, 1) := dk_27 (dk_at dksX7_law_1 4 rfl rfl)
theorem dX7_law_29 : decode cX7_law 29 = .ok (.iastore, 1) := dk_79 (dk_at dksX7_law_1 5 rfl rfl)
theorem dX7_law_30 : decode cX7_law 30 = .ok (.iload_n 2, 1) := dk_28 (dk_at dksX7_law_1 6 rfl rfl)
theorem dX7_law_31 : decode cX7_law 31 = .ok (.ireturn, 1) := dk_172 (dk_at dksX7_law_1 7 rfl rfl)
abbrev cX7_fell : ByteArray := prog_26_method_34_code
def yX7_fell : MethodName := ⟨RX7, "fell", "(I)I"⟩
def dkwX7_fell_4 : List UInt8 := [172]
abbrev dktX7_fell_4 : List UInt8 := dkwX7_fell_4 ++ []
def dkwX7_fell_3 : List UInt8 := [28, 96, 4, 96, 46, 79, 132, 3, 1, 167, 255, 218, 132, 2, 1, 167, 255, 200, 42, 180, 0, 13, 3, 46]
abbrev dktX7_fell_3 : List UInt8 := dkwX7_fell_3 ++ dktX7_fell_4
def dkwX7_fell_2 : List UInt8 := [42, 180, 0, 13, 16, 120, 16, 6, 29, 104, 96, 28, 96, 42, 180, 0, 13, 16, 120, 16, 6, 29, 104, 96]
abbrev dktX7_fell_2 : List UInt8 := dkwX7_fell_2 ++ dktX7_fell_3
def dkwX7_fell_1 : List UInt8 := [92, 46, 4, 100, 79, 27, 61, 28, 42, 180, 0, 13, 3, 46, 162, 0, 52, 3, 62, 29, 7, 162, 0, 39]
abbrev dktX7_fell_1 : List UInt8 := dkwX7_fell_1 ++ dktX7_fell_2
def dkwX7_fell_0 : List UInt8 := [27, 42, 180, 0, 13, 3, 46, 184, 0, 124, 153, 0, 9, 42, 2, 182, 0, 49, 172, 42, 180, 0, 13, 3]
abbrev dktX7_fell_0 : List UInt8 := dkwX7_fell_0 ++ dktX7_fell_1
theorem dksX7_fell_0 : cX7_fell.data.toList.drop 0 = dktX7_fell_0 := by decide +kernel
theorem dksX7_fell_1 : cX7_fell.data.toList.drop 24 = dktX7_fell_1 := dk_seg dksX7_fell_0 24 rfl rfl
theorem dksX7_fell_2 : cX7_fell.data.toList.drop 48 = dktX7_fell_2 := dk_seg dksX7_fell_1 24 rfl rfl
theorem dksX7_fell_3 : cX7_fell.data.toList.drop 72 = dktX7_fell_3 := dk_seg dksX7_fell_2 24 rfl rfl
theorem dksX7_fell_4 : cX7_fell.data.toList.drop 96 = dktX7_fell_4 := dk_seg dksX7_fell_3 24 rfl rfl
theorem dX7_fell_0 : decode cX7_fell 0 = .ok (.iload_n 1, 1) := dk_27 (dk_at dksX7_fell_0 0 rfl rfl)
theorem dX7_fell_1 : decode cX7_fell 1 = .ok (.aload_n 0, 1) := dk_42 (dk_at dksX7_fell_0 1 rfl rfl)
theorem dX7_fell_2 : decode cX7_fell 2 = .ok (.getfield 13, 3) := dk_180 0 13 (dk_at dksX7_fell_0 2 rfl rfl)
theorem dX7_fell_5 : decode cX7_fell 5 = .ok (.iconst 0, 1) := dk_3 (dk_at dksX7_fell_0 5 rfl rfl)
theorem dX7_fell_6 : decode cX7_fell 6 = .ok (.iaload, 1) := dk_46 (dk_at dksX7_fell_0 6 rfl rfl)
theorem dX7_fell_7 : decode cX7_fell 7 = .ok (.invokestatic 124, 3) := dk_184 0 124 (dk_at dksX7_fell_0 7 rfl rfl)
theorem dX7_fell_10 : decode cX7_fell 10 = .ok (.ifCond .eq 9, 3) := dk_153 0 9 (dk_at dksX7_fell_0 10 rfl rfl)
theorem dX7_fell_13 : decode cX7_fell 13 = .ok (.aload_n 0, 1) := dk_42 (dk_at dksX7_fell_0 13 rfl rfl)
theorem dX7_fell_14 : decode cX7_fell 14 = .ok (.iconst (-1), 1) := dk_2 (dk_at dksX7_fell_0 14 rfl rfl)
theorem dX7_fell_15 : decode cX7_fell 15 = .ok (.invokevirtual 49, 3) := dk_182 0 49 (dk_at dksX7_fell_0 15 rfl rfl)
theorem dX7_fell_18 : decode cX7_fell 18 = .ok (.ireturn, 1) := dk_172 (dk_at dksX7_fell_0 18 rfl rfl)
theorem dX7_fell_19 : decode cX7_fell 19 = .ok (.aload_n 0, 1) := dk_42 (dk_at dksX7_fell_0 19 rfl rfl)
theorem dX7_fell_20 : decode cX7_fell 20 = .ok (.getfield 13, 3) := dk_180 0 13 (dk_at dksX7_fell_0 20 rfl rfl)
theorem dX7_fell_23 : decode cX7_fell 23 = .ok (.iconst 0, 1) := dk_3 (dk_at dksX7_fell_0 23 rfl rfl)
theorem dX7_fell_24 : decode cX7_fell 24 = .ok (.dup2, 1) := dk_92 (dk_at dksX7_fell_1 0 rfl rfl)
theorem dX7_fell_25 : decode cX7_fell 25 = .ok (.iaload, 1) := dk_46 (dk_at dksX7_fell_1 1 rfl rfl)
theorem dX7_fell_26 : decode cX7_fell 26 = .ok (.iconst 1, 1) := dk_4 (dk_at dksX7_fell_1 2 rfl rfl)
theorem dX7_fell_27 : decode cX7_fell 27 = .ok (.isub, 1) := dk_100 (dk_at dksX7_fell_1 3 rfl rfl)
theorem dX7_fell_28 : decode cX7_fell 28 = .ok (.iastore, 1) := dk_79 (dk_at dksX7_fell_1 4 rfl rfl)
theorem dX7_fell_29 : decode cX7_fell 29 = .ok (.iload_n 1, 1) := dk_27 (dk_at dksX7_fell_1 5 rfl rfl)
theorem dX7_fell_30 : decode cX7_fell 30 = .ok (.istore_n 2, 1) := dk_61 (dk_at dksX7_fell_1 6 rfl rfl)
theorem dX7_fell_31 : decode cX7_fell 31 = .ok (.iload_n 2, 1) := dk_28 (dk_at dksX7_fell_1 7 rfl rfl)
theorem dX7_fell_32 : decode cX7_fell 32 = .ok (.aload_n 0, 1) := dk_42 (dk_at dksX7_fell_1 8 rfl rfl)
theorem dX7_fell_33 : decode cX7_fell 33 = .ok (.getfield 13, 3) := dk_180 0 13 (dk_at dksX7_fell_1 9 rfl rfl)
theorem dX7_fell_36 : decode cX7_fell 36 = .ok (.iconst 0, 1) := dk_3 (dk_at dksX7_fell_1 12 rfl rfl)
theorem dX7_fell_37 : decode cX7_fell 37 = .ok (.iaload, 1) := dk_46 (dk_at dksX7_fell_1 13 rfl rfl)
theorem dX7_fell_38 : decode cX7_fell 38 = .ok (.if_icmp .ge 52, 3) := dk_162 0 52 (dk_at dksX7_fell_1 14 rfl rfl)
theorem dX7_fell_41 : decode cX7_fell 41 = .ok (.iconst 0, 1) := dk_3 (dk_at dksX7_fell_1 17 rfl rfl)
theorem dX7_fell_42 : decode cX7_fell 42 = .ok (.istore_n 3, 1) := dk_62 (dk_at dksX7_fell_1 18 rfl rfl)
theorem dX7_fell_43 : decode cX7_fell 43 = .ok (.iload_n 3, 1) := dk_29 (dk_at dksX7_fell_1 19 rfl rfl)
theorem dX7_fell_44 : decode cX7_fell 44 = .ok (.iconst 4, 1) := dk_7 (dk_at dksX7_fell_1 20 rfl rfl)
theorem dX7_fell_45 : decode cX7_fell 45 = .ok (.if_icmp .ge 39, 3) := dk_162 0 39 (dk_at dksX7_fell_1 21 rfl rfl)
theorem dX7_fell_48 : decode cX7_fell 48 = .ok (.aload_n 0, 1) := dk_42 (dk_at dksX7_fell_2 0 rfl rfl)
theorem dX7_fell_49 : decode cX7_fell 49 = .ok (.getfield 13, 3) := dk_180 0 13 (dk_at dksX7_fell_2 1 rfl rfl)
theorem dX7_fell_52 : decode cX7_fell 52 = .ok (.bipush 120, 2) := dk_16 120 (dk_at dksX7_fell_2 4 rfl rfl)
theorem dX7_fell_54 : decode cX7_fell 54 = .ok (.bipush 6, 2) := dk_16 6 (dk_at dksX7_fell_2 6 rfl rfl)
theorem dX7_fell_56 : decode cX7_fell 56 = .ok (.iload_n 3, 1) := dk_29 (dk_at dksX7_fell_2 8 rfl rfl)
theorem dX7_fell_57 : decode cX7_fell 57 = .ok (.imul, 1) := dk_104 (dk_at dksX7_fell_2 9 rfl rfl)
theorem dX7_fell_58 : decode cX7_fell 58 = .ok (.iadd, 1) := dk_96 (dk_at dksX7_fell_2 10 rfl rfl)
theorem dX7_fell_59 : decode cX7_fell 59 = .ok (.iload_n 2, 1) := dk_28 (dk_at dksX7_fell_2 11 rfl rfl)
theorem dX7_fell_60 : decode cX7_fell 60 = .ok (.iadd, 1) := dk_96 (dk_at dksX7_fell_2 12 rfl rfl)
theorem dX7_fell_61 : decode cX7_fell 61 = .ok (.aload_n 0, 1) := dk_42 (dk_at dksX7_fell_2 13 rfl rfl)
theorem dX7_fell_62 : decode cX7_fell 62 = .ok (.getfield 13, 3) := dk_180 0 13 (dk_at dksX7_fell_2 14 rfl rfl)
theorem dX7_fell_65 : decode cX7_fell 65 = .ok (.bipush 120, 2) := dk_16 120 (dk_at dksX7_fell_2 17 rfl rfl)
theorem dX7_fell_67 : decode cX7_fell 67 = .ok (.bipush 6, 2) := dk_16 6 (dk_at dksX7_fell_2 19 rfl rfl)
theorem dX7_fell_69 : decode cX7_fell 69 = .ok (.iload_n 3, 1) := dk_29 (dk_at dksX7_fell_2 21 rfl rfl)
theorem dX7_fell_70 : decode cX7_fell 70 = .ok (.imul, 1) := dk_104 (dk_at dksX7_fell_2 22 rfl rfl)
theorem dX7_fell_71 : decode cX7_fell 71 = .ok (.iadd, 1) := dk_96 (dk_at dksX7_fell_2 23 rfl rfl)
theorem dX7_fell_72 : decode cX7_fell 72 = .ok (.iload_n 2, 1) := dk_28 (dk_at dksX7_fell_3 0 rfl rfl)
theorem dX7_fell_73 : decode cX7_fell 73 = .ok (.iadd, 1) := dk_96 (dk_at dksX7_fell_3 1 rfl rfl)
theorem dX7_fell_74 : decode cX7_fell 74 = .ok (.iconst 1, 1) := dk_4 (dk_at dksX7_fell_3 2 rfl rfl)
theorem dX7_fell_75 : decode cX7_fell 75 = .ok (.iadd, 1) := dk_96 (dk_at dksX7_fell_3 3 rfl rfl)
theorem dX7_fell_76 : decode cX7_fell 76 = .ok (.iaload, 1) := dk_46 (dk_at dksX7_fell_3 4 rfl rfl)
theorem dX7_fell_77 : decode cX7_fell 77 = .ok (.iastore, 1) := dk_79 (dk_at dksX7_fell_3 5 rfl rfl)
theorem dX7_fell_78 : decode cX7_fell 78 = .ok (.iinc 3 1, 3) := dk_132 3 1 (dk_at dksX7_fell_3 6 rfl rfl)
theorem dX7_fell_81 : decode cX7_fell 81 = .ok (.goto (-38), 3) := dk_167 255 218 (dk_at dksX7_fell_3 9 rfl rfl)
theorem dX7_fell_84 : decode cX7_fell 84 = .ok (.iinc 2 1, 3) := dk_132 2 1 (dk_at dksX7_fell_3 12 rfl rfl)
theorem dX7_fell_87 : decode cX7_fell 87 = .ok (.goto (-56), 3) := dk_167 255 200 (dk_at dksX7_fell_3 15 rfl rfl)
theorem dX7_fell_90 : decode cX7_fell 90 = .ok (.aload_n 0, 1) := dk_42 (dk_at dksX7_fell_3 18 rfl rfl)
theorem dX7_fell_91 : decode cX7_fell 91 = .ok (.getfield 13, 3) := dk_180 0 13 (dk_at dksX7_fell_3 19 rfl rfl)
theorem dX7_fell_94 : decode cX7_fell 94 = .ok (.iconst 0, 1) := dk_3 (dk_at dksX7_fell_3 22 rfl rfl)
theorem dX7_fell_95 : decode cX7_fell 95 = .ok (.iaload, 1) := dk_46 (dk_at dksX7_fell_3 23 rfl rfl)
theorem dX7_fell_96 : decode cX7_fell 96 = .ok (.ireturn, 1) := dk_172 (dk_at dksX7_fell_4 0 rfl rfl)
abbrev cX7_lies : ByteArray := prog_26_method_35_code
def yX7_lies : MethodName := ⟨RX7, "lies", "(I)I"⟩
def dkwX7_lies_1 : List UInt8 := [180, 0, 35, 27, 46, 172]
abbrev dktX7_lies_1 : List UInt8 := dkwX7_lies_1 ++ []
def dkwX7_lies_0 : List UInt8 := [27, 16, 36, 184, 0, 124, 153, 0, 9, 42, 2, 182, 0, 49, 172, 42, 16, 63, 182, 0, 127, 42]
abbrev dktX7_lies_0 : List UInt8 := dkwX7_lies_0 ++ dktX7_lies_1
theorem dksX7_lies_0 : cX7_lies.data.toList.drop 0 = dktX7_lies_0 := by decide +kernel
theorem dksX7_lies_1 : cX7_lies.data.toList.drop 22 = dktX7_lies_1 := dk_seg dksX7_lies_0 22 rfl rfl
theorem dX7_lies_0 : decode cX7_lies 0 = .ok (.iload_n 1, 1) := dk_27 (dk_at dksX7_lies_0 0 rfl rfl)
theorem dX7_lies_1 : decode cX7_lies 1 = .ok (.bipush 36, 2) := dk_16 36 (dk_at dksX7_lies_0 1 rfl rfl)
theorem dX7_lies_3 : decode cX7_lies 3 = .ok (.invokestatic 124, 3) := dk_184 0 124 (dk_at dksX7_lies_0 3 rfl rfl)
theorem dX7_lies_6 : decode cX7_lies 6 = .ok (.ifCond .eq 9, 3) := dk_153 0 9 (dk_at dksX7_lies_0 6 rfl rfl)
theorem dX7_lies_9 : decode cX7_lies 9 = .ok (.aload_n 0, 1) := dk_42 (dk_at dksX7_lies_0 9 rfl rfl)
theorem dX7_lies_10 : decode cX7_lies 10 = .ok (.iconst (-1), 1) := dk_2 (dk_at dksX7_lies_0 10 rfl rfl)
theorem dX7_lies_11 : decode cX7_lies 11 = .ok (.invokevirtual 49, 3) := dk_182 0 49 (dk_at dksX7_lies_0 11 rfl rfl)
theorem dX7_lies_14 : decode cX7_lies 14 = .ok (.ireturn, 1) := dk_172 (dk_at dksX7_lies_0 14 rfl rfl)
theorem dX7_lies_15 : decode cX7_lies 15 = .ok (.aload_n 0, 1) := dk_42 (dk_at dksX7_lies_0 15 rfl rfl)
theorem dX7_lies_16 : decode cX7_lies 16 = .ok (.bipush 63, 2) := dk_16 63 (dk_at dksX7_lies_0 16 rfl rfl)
theorem dX7_lies_18 : decode cX7_lies 18 = .ok (.invokevirtual 127, 3) := dk_182 0 127 (dk_at dksX7_lies_0 18 rfl rfl)
theorem dX7_lies_21 : decode cX7_lies 21 = .ok (.aload_n 0, 1) := dk_42 (dk_at dksX7_lies_0 21 rfl rfl)
theorem dX7_lies_22 : decode cX7_lies 22 = .ok (.getfield 35, 3) := dk_180 0 35 (dk_at dksX7_lies_1 0 rfl rfl)
theorem dX7_lies_25 : decode cX7_lies 25 = .ok (.iload_n 1, 1) := dk_27 (dk_at dksX7_lies_1 3 rfl rfl)
theorem dX7_lies_26 : decode cX7_lies 26 = .ok (.iaload, 1) := dk_46 (dk_at dksX7_lies_1 4 rfl rfl)
theorem dX7_lies_27 : decode cX7_lies 27 = .ok (.ireturn, 1) := dk_172 (dk_at dksX7_lies_1 5 rfl rfl)
abbrev cX7_fall : ByteArray := prog_26_method_23_code
def yX7_fall : MethodName := ⟨RX7, "fall", "(I)V"⟩
def dkwX7_fall_8 : List UInt8 := [184, 0, 99, 21, 8, 21, 4, 104, 182, 0, 117, 132, 7, 1, 167, 255, 193, 132, 2, 1, 167, 255, 74, 177]
abbrev dktX7_fall_8 : List UInt8 := dkwX7_fall_8 ++ []
def dkwX7_fall_7 : List UInt8 := [16, 6, 167, 0, 5, 21, 6, 54, 8, 42, 28, 42, 180, 0, 13, 16, 126, 28, 96, 46, 21, 7, 4]
abbrev dktX7_fall_7 : List UInt8 := dkwX7_fall_7 ++ dktX7_fall_8
def dkwX7_fall_6 : List UInt8 := [7, 162, 0, 63, 29, 5, 160, 0, 23, 21, 7, 42, 180, 0, 13, 17, 0, 138, 28, 96, 46, 160, 0, 8]
abbrev dktX7_fall_6 : List UInt8 := dkwX7_fall_6 ++ dktX7_fall_7
def dkwX7_fall_5 : List UInt8 := [42, 28, 42, 180, 0, 13, 16, 126, 28, 96, 46, 21, 5, 21, 4, 104, 182, 0, 117, 3, 54, 7, 21, 7]
abbrev dktX7_fall_5 : List UInt8 := dkwX7_fall_5 ++ dktX7_fall_6
def dkwX7_fall_4 : List UInt8 := [159, 0, 8, 29, 8, 160, 0, 7, 4, 167, 0, 13, 29, 5, 160, 0, 7, 3, 167, 0, 4, 5, 54, 6]
abbrev dktX7_fall_4 : List UInt8 := dkwX7_fall_4 ++ dktX7_fall_5
def dkwX7_fall_3 : List UInt8 := [29, 8, 160, 0, 8, 16, 6, 167, 0, 13, 29, 5, 160, 0, 7, 7, 167, 0, 4, 5, 54, 5, 29, 4]
abbrev dktX7_fall_3 : List UInt8 := dkwX7_fall_3 ++ dktX7_fall_4
def dkwX7_fall_2 : List UInt8 := [62, 27, 28, 122, 4, 126, 42, 180, 0, 13, 17, 0, 132, 28, 96, 46, 104, 54, 4, 29, 4, 159, 0, 8]
abbrev dktX7_fall_2 : List UInt8 := dkwX7_fall_2 ++ dktX7_fall_3
def dkwX7_fall_1 : List UInt8 := [167, 255, 240, 3, 61, 28, 42, 180, 0, 13, 3, 46, 162, 0, 178, 42, 180, 0, 13, 16, 120, 28, 96, 46]
abbrev dktX7_fall_1 : List UInt8 := dkwX7_fall_1 ++ dktX7_fall_2
def dkwX7_fall_0 : List UInt8 := [42, 3, 181, 0, 111, 3, 61, 28, 16, 36, 162, 0, 16, 42, 180, 0, 35, 28, 3, 79, 132, 2, 1]
abbrev dktX7_fall_0 : List UInt8 := dkwX7_fall_0 ++ dktX7_fall_1
theorem dksX7_fall_0 : cX7_fall.data.toList.drop 0 = dktX7_fall_0 := by decide +kernel
theorem dksX7_fall_1 : cX7_fall.data.toList.drop 23 = dktX7_fall_1 := dk_seg dksX7_fall_0 23 rfl rfl
theorem dksX7_fall_2 : cX7_fall.data.toList.drop 47 = dktX7_fall_2 := dk_seg dksX7_fall_1 24 rfl rfl
theorem dksX7_fall_3 : cX7_fall.data.toList.drop 71 = dktX7_fall_3 := dk_seg dksX7_fall_2 24 rfl rfl
theorem dksX7_fall_4 : cX7_fall.data.toList.drop 95 = dktX7_fall_4 := dk_seg dksX7_fall_3 24 rfl rfl
theorem dksX7_fall_5 : cX7_fall.data.toList.drop 119 = dktX7_fall_5 := dk_seg dksX7_fall_4 24 rfl rfl
theorem dksX7_fall_6 : cX7_fall.data.toList.drop 143 = dktX7_fall_6 := dk_seg dksX7_fall_5 24 rfl rfl
theorem dksX7_fall_7 : cX7_fall.data.toList.drop 167 = dktX7_fall_7 := dk_seg dksX7_fall_6 24 rfl rfl
theorem dksX7_fall_8 : cX7_fall.data.toList.drop 190 = dktX7_fall_8 := dk_seg dksX7_fall_7 23 rfl rfl
theorem dX7_fall_0 : decode cX7_fall 0 = .ok (.aload_n 0, 1) := dk_42 (dk_at dksX7_fall_0 0 rfl rfl)
theorem dX7_fall_1 : decode cX7_fall 1 = .ok (.iconst 0, 1) := dk_3 (dk_at dksX7_fall_0 1 rfl rfl)
theorem dX7_fall_2 : decode cX7_fall 2 = .ok (.putfield 111, 3) := dk_181 0 111 (dk_at dksX7_fall_0 2 rfl rfl)
theorem dX7_fall_5 : decode cX7_fall 5 = .ok (.iconst 0, 1) := dk_3 (dk_at dksX7_fall_0 5 rfl rfl)
theorem dX7_fall_6 : decode cX7_fall 6 = .ok (.istore_n 2, 1) := dk_61 (dk_at dksX7_fall_0 6 rfl rfl)
theorem dX7_fall_7 : decode cX7_fall 7 = .ok (.iload_n 2, 1) := dk_28 (dk_at dksX7_fall_0 7 rfl rfl)
theorem dX7_fall_8 : decode cX7_fall 8 = .ok (.bipush 36, 2) := dk_16 36 (dk_at dksX7_fall_0 8 rfl rfl)
theorem dX7_fall_10 : decode cX7_fall 10 = .ok (.if_icmp .ge 16, 3) := dk_162 0 16 (dk_at dksX7_fall_0 10 rfl rfl)
theorem dX7_fall_13 : decode cX7_fall 13 = .ok (.aload_n 0, 1) := dk_42 (dk_at dksX7_fall_0 13 rfl rfl)
theorem dX7_fall_14 : decode cX7_fall 14 = .ok (.getfield 35, 3) := dk_180 0 35 (dk_at dksX7_fall_0 14 rfl rfl)
theorem dX7_fall_17 : decode cX7_fall 17 = .ok (.iload_n 2, 1) := dk_28 (dk_at dksX7_fall_0 17 rfl rfl)
theorem dX7_fall_18 : decode cX7_fall 18 = .ok (.iconst 0, 1) := dk_3 (dk_at dksX7_fall_0 18 rfl rfl)
theorem dX7_fall_19 : decode cX7_fall 19 = .ok (.iastore, 1) := dk_79 (dk_at dksX7_fall_0 19 rfl rfl)
theorem dX7_fall_20 : decode cX7_fall 20 = .ok (.iinc 2 1, 3) := dk_132 2 1 (dk_at dksX7_fall_0 20 rfl rfl)
theorem dX7_fall_23 : decode cX7_fall 23 = .ok (.goto (-16), 3) := dk_167 255 240 (dk_at dksX7_fall_1 0 rfl rfl)
theorem dX7_fall_26 : decode cX7_fall 26 = .ok (.iconst 0, 1) := dk_3 (dk_at dksX7_fall_1 3 rfl rfl)
theorem dX7_fall_27 : decode cX7_fall 27 = .ok (.istore_n 2, 1) := dk_61 (dk_at dksX7_fall_1 4 rfl rfl)
theorem dX7_fall_28 : decode cX7_fall 28 = .ok (.iload_n 2, 1) := dk_28 (dk_at dksX7_fall_1 5 rfl rfl)
theorem dX7_fall_29 : decode cX7_fall 29 = .ok (.aload_n 0, 1) := dk_42 (dk_at dksX7_fall_1 6 rfl rfl)
theorem dX7_fall_30 : decode cX7_fall 30 = .ok (.getfield 13, 3) := dk_180 0 13 (dk_at dksX7_fall_1 7 rfl rfl)
theorem dX7_fall_33 : decode cX7_fall 33 = .ok (.iconst 0, 1) := dk_3 (dk_at dksX7_fall_1 10 rfl rfl)
theorem dX7_fall_34 : decode cX7_fall 34 = .ok (.iaload, 1) := dk_46 (dk_at dksX7_fall_1 11 rfl rfl)
theorem dX7_fall_35 : decode cX7_fall 35 = .ok (.if_icmp .ge 178, 3) := dk_162 0 178 (dk_at dksX7_fall_1 12 rfl rfl)
theorem dX7_fall_38 : decode cX7_fall 38 = .ok (.aload_n 0, 1) := dk_42 (dk_at dksX7_fall_1 15 rfl rfl)
theorem dX7_fall_39 : decode cX7_fall 39 = .ok (.getfield 13, 3) := dk_180 0 13 (dk_at dksX7_fall_1 16 rfl rfl)
theorem dX7_fall_42 : decode cX7_fall 42 = .ok (.bipush 120, 2) := dk_16 120 (dk_at dksX7_fall_1 19 rfl rfl)
theorem dX7_fall_44 : decode cX7_fall 44 = .ok (.iload_n 2, 1) := dk_28 (dk_at dksX7_fall_1 21 rfl rfl)
theorem dX7_fall_45 : decode cX7_fall 45 = .ok (.iadd, 1) := dk_96 (dk_at dksX7_fall_1 22 rfl rfl)
theorem dX7_fall_46 : decode cX7_fall 46 = .ok (.iaload, 1) := dk_46 (dk_at dksX7_fall_1 23 rfl rfl)
theorem dX7_fall_47 : decode cX7_fall 47 = .ok (.istore_n 3, 1) := dk_62 (dk_at dksX7_fall_2 0 rfl rfl)
theorem dX7_fall_48 : decode cX7_fall 48 = .ok (.iload_n 1, 1) := dk_27 (dk_at dksX7_fall_2 1 rfl rfl)
theorem dX7_fall_49 : decode cX7_fall 49 = .ok (.iload_n 2, 1) := dk_28 (dk_at dksX7_fall_2 2 rfl rfl)
theorem dX7_fall_50 : decode cX7_fall 50 = .ok (.ishr, 1) := dk_122 (dk_at dksX7_fall_2 3 rfl rfl)
theorem dX7_fall_51 : decode cX7_fall 51 = .ok (.iconst 1, 1) := dk_4 (dk_at dksX7_fall_2 4 rfl rfl)
theorem dX7_fall_52 : decode cX7_fall 52 = .ok (.iand, 1) := dk_126 (dk_at dksX7_fall_2 5 rfl rfl)
theorem dX7_fall_53 : decode cX7_fall 53 = .ok (.aload_n 0, 1) := dk_42 (dk_at dksX7_fall_2 6 rfl rfl)
theorem dX7_fall_54 : decode cX7_fall 54 = .ok (.getfield 13, 3) := dk_180 0 13 (dk_at dksX7_fall_2 7 rfl rfl)
theorem dX7_fall_57 : decode cX7_fall 57 = .ok (.sipush 132, 3) := dk_17 0 132 (dk_at dksX7_fall_2 10 rfl rfl)
theorem dX7_fall_60 : decode cX7_fall 60 = .ok (.iload_n 2, 1) := dk_28 (dk_at dksX7_fall_2 13 rfl rfl)
theorem dX7_fall_61 : decode cX7_fall 61 = .ok (.iadd, 1) := dk_96 (dk_at dksX7_fall_2 14 rfl rfl)
theorem dX7_fall_62 : decode cX7_fall 62 = .ok (.iaload, 1) := dk_46 (dk_at dksX7_fall_2 15 rfl rfl)
theorem dX7_fall_63 : decode cX7_fall 63 = .ok (.imul, 1) := dk_104 (dk_at dksX7_fall_2 16 rfl rfl)
theorem dX7_fall_64 : decode cX7_fall 64 = .ok (.istore 4, 2) := dk_54 4 (dk_at dksX7_fall_2 17 rfl rfl)
theorem dX7_fall_66 : decode cX7_fall 66 = .ok (.iload_n 3, 1) := dk_29 (dk_at dksX7_fall_2 19 rfl rfl)
theorem dX7_fall_67 : decode cX7_fall 67 = .ok (.iconst 1, 1) := dk_4 (dk_at dksX7_fall_2 20 rfl rfl)
theorem dX7_fall_68 : decode cX7_fall 68 = .ok (.if_icmp .eq 8, 3) := dk_159 0 8 (dk_at dksX7_fall_2 21 rfl rfl)
theorem dX7_fall_71 : decode cX7_fall 71 = .ok (.iload_n 3, 1) := dk_29 (dk_at dksX7_fall_3 0 rfl rfl)
theorem dX7_fall_72 : decode cX7_fall 72 = .ok (.iconst 5, 1) := dk_8 (dk_at dksX7_fall_3 1 rfl rfl)
theorem dX7_fall_73 : decode cX7_fall 73 = .ok (.if_icmp .ne 8, 3) := dk_160 0 8 (dk_at dksX7_fall_3 2 rfl rfl)
theorem dX7_fall_76 : decode cX7_fall 76 = .ok (.bipush 6, 2) := dk_16 6 (dk_at dksX7_fall_3 5 rfl rfl)
theorem dX7_fall_78 : decode cX7_fall 78 = .ok (.goto 13, 3) := dk_167 0 13 (dk_at dksX7_fall_3 7 rfl rfl)
theorem dX7_fall_81 : decode cX7_fall 81 = .ok (.iload_n 3, 1) := dk_29 (dk_at dksX7_fall_3 10 rfl rfl)
theorem dX7_fall_82 : decode cX7_fall 82 = .ok (.iconst 2, 1) := dk_5 (dk_at dksX7_fall_3 11 rfl rfl)
theorem dX7_fall_83 : decode cX7_fall 83 = .ok (.if_icmp .ne 7, 3) := dk_160 0 7 (dk_at dksX7_fall_3 12 rfl rfl)
theorem dX7_fall_86 : decode cX7_fall 86 = .ok (.iconst 4, 1) := dk_7 (dk_at dksX7_fall_3 15 rfl rfl)
theorem dX7_fall_87 : decode cX7_fall 87 = .ok (.goto 4, 3) := dk_167 0 4 (dk_at dksX7_fall_3 16 rfl rfl)
theorem dX7_fall_90 : decode cX7_fall 90 = .ok (.iconst 2, 1) := dk_5 (dk_at dksX7_fall_3 19 rfl rfl)
theorem dX7_fall_91 : decode cX7_fall 91 = .ok (.istore 5, 2) := dk_54 5 (dk_at dksX7_fall_3 20 rfl rfl)
theorem dX7_fall_93 : decode cX7_fall 93 = .ok (.iload_n 3, 1) := dk_29 (dk_at dksX7_fall_3 22 rfl rfl)
theorem dX7_fall_94 : decode cX7_fall 94 = .ok (.iconst 1, 1) := dk_4 (dk_at dksX7_fall_3 23 rfl rfl)
theorem dX7_fall_95 : decode cX7_fall 95 = .ok (.if_icmp .eq 8, 3) := dk_159 0 8 (dk_at dksX7_fall_4 0 rfl rfl)
theorem dX7_fall_98 : decode cX7_fall 98 = .ok (.iload_n 3, 1) := dk_29 (dk_at dksX7_fall_4 3 rfl rfl)
theorem dX7_fall_99 : decode cX7_fall 99 = .ok (.iconst 5, 1) := dk_8 (dk_at dksX7_fall_4 4 rfl rfl)
theorem dX7_fall_100 : decode cX7_fall 100 = .ok (.if_icmp .ne 7, 3) := dk_160 0 7 (dk_at dksX7_fall_4 5 rfl rfl)
theorem dX7_fall_103 : decode cX7_fall 103 = .ok (.iconst 1, 1) := dk_4 (dk_at dksX7_fall_4 8 rfl rfl)
theorem dX7_fall_104 : decode cX7_fall 104 = .ok (.goto 13, 3) := dk_167 0 13 (dk_at dksX7_fall_4 9 rfl rfl)
theorem dX7_fall_107 : decode cX7_fall 107 = .ok (.iload_n 3, 1) := dk_29 (dk_at dksX7_fall_4 12 rfl rfl)
theorem dX7_fall_108 : decode cX7_fall 108 = .ok (.iconst 2, 1) := dk_5 (dk_at dksX7_fall_4 13 rfl rfl)
theorem dX7_fall_109 : decode cX7_fall 109 = .ok (.if_icmp .ne 7, 3) := dk_160 0 7 (dk_at dksX7_fall_4 14 rfl rfl)
theorem dX7_fall_112 : decode cX7_fall 112 = .ok (.iconst 0, 1) := dk_3 (dk_at dksX7_fall_4 17 rfl rfl)
theorem dX7_fall_113 : decode cX7_fall 113 = .ok (.goto 4, 3) := dk_167 0 4 (dk_at dksX7_fall_4 18 rfl rfl)
theorem dX7_fall_116 : decode cX7_fall 116 = .ok (.iconst 2, 1) := dk_5 (dk_at dksX7_fall_4 21 rfl rfl)
theorem dX7_fall_117 : decode cX7_fall 117 = .ok (.istore 6, 2) := dk_54 6 (dk_at dksX7_fall_4 22 rfl rfl)
theorem dX7_fall_119 : decode cX7_fall 119 = .ok (.aload_n 0, 1) := dk_42 (dk_at dksX7_fall_5 0 rfl rfl)
theorem dX7_fall_120 : decode cX7_fall 120 = .ok (.iload_n 2, 1) := dk_28 (dk_at dksX7_fall_5 1 rfl rfl)
theorem dX7_fall_121 : decode cX7_fall 121 = .ok (.aload_n 0, 1) := dk_42 (dk_at dksX7_fall_5 2 rfl rfl)
theorem dX7_fall_122 : decode cX7_fall 122 = .ok (.getfield 13, 3) := dk_180 0 13 (dk_at dksX7_fall_5 3 rfl rfl)
theorem dX7_fall_125 : decode cX7_fall 125 = .ok (.bipush 126, 2) := dk_16 126 (dk_at dksX7_fall_5 6 rfl rfl)
theorem dX7_fall_127 : decode cX7_fall 127 = .ok (.iload_n 2, 1) := dk_28 (dk_at dksX7_fall_5 8 rfl rfl)
theorem dX7_fall_128 : decode cX7_fall 128 = .ok (.iadd, 1) := dk_96 (dk_at dksX7_fall_5 9 rfl rfl)
theorem dX7_fall_129 : decode cX7_fall 129 = .ok (.iaload, 1) := dk_46 (dk_at dksX7_fall_5 10 rfl rfl)
theorem dX7_fall_130 : decode cX7_fall 130 = .ok (.iload 5, 2) := dk_21 5 (dk_at dksX7_fall_5 11 rfl rfl)
theorem dX7_fall_132 : decode cX7_fall 132 = .ok (.iload 4, 2) := dk_21 4 (dk_at dksX7_fall_5 13 rfl rfl)
theorem dX7_fall_134 : decode cX7_fall 134 = .ok (.imul, 1) := dk_104 (dk_at dksX7_fall_5 15 rfl rfl)
theorem dX7_fall_135 : decode cX7_fall 135 = .ok (.invokevirtual 117, 3) := dk_182 0 117 (dk_at dksX7_fall_5 16 rfl rfl)
theorem dX7_fall_138 : decode cX7_fall 138 = .ok (.iconst 0, 1) := dk_3 (dk_at dksX7_fall_5 19 rfl rfl)
theorem dX7_fall_139 : decode cX7_fall 139 = .ok (.istore 7, 2) := dk_54 7 (dk_at dksX7_fall_5 20 rfl rfl)
theorem dX7_fall_141 : decode cX7_fall 141 = .ok (.iload 7, 2) := dk_21 7 (dk_at dksX7_fall_5 22 rfl rfl)
theorem dX7_fall_143 : decode cX7_fall 143 = .ok (.iconst 4, 1) := dk_7 (dk_at dksX7_fall_6 0 rfl rfl)
theorem dX7_fall_144 : decode cX7_fall 144 = .ok (.if_icmp .ge 63, 3) := dk_162 0 63 (dk_at dksX7_fall_6 1 rfl rfl)
theorem dX7_fall_147 : decode cX7_fall 147 = .ok (.iload_n 3, 1) := dk_29 (dk_at dksX7_fall_6 4 rfl rfl)
theorem dX7_fall_148 : decode cX7_fall 148 = .ok (.iconst 2, 1) := dk_5 (dk_at dksX7_fall_6 5 rfl rfl)
theorem dX7_fall_149 : decode cX7_fall 149 = .ok (.if_icmp .ne 23, 3) := dk_160 0 23 (dk_at dksX7_fall_6 6 rfl rfl)
theorem dX7_fall_152 : decode cX7_fall 152 = .ok (.iload 7, 2) := dk_21 7 (dk_at dksX7_fall_6 9 rfl rfl)
theorem dX7_fall_154 : decode cX7_fall 154 = .ok (.aload_n 0, 1) := dk_42 (dk_at dksX7_fall_6 11 rfl rfl)
theorem dX7_fall_155 : decode cX7_fall 155 = .ok (.getfield 13, 3) := dk_180 0 13 (dk_at dksX7_fall_6 12 rfl rfl)
theorem dX7_fall_158 : decode cX7_fall 158 = .ok (.sipush 138, 3) := dk_17 0 138 (dk_at dksX7_fall_6 15 rfl rfl)
theorem dX7_fall_161 : decode cX7_fall 161 = .ok (.iload_n 2, 1) := dk_28 (dk_at dksX7_fall_6 18 rfl rfl)
theorem dX7_fall_162 : decode cX7_fall 162 = .ok (.iadd, 1) := dk_96 (dk_at dksX7_fall_6 19 rfl rfl)
theorem dX7_fall_163 : decode cX7_fall 163 = .ok (.iaload, 1) := dk_46 (dk_at dksX7_fall_6 20 rfl rfl)
theorem dX7_fall_164 : decode cX7_fall 164 = .ok (.if_icmp .ne 8, 3) := dk_160 0 8 (dk_at dksX7_fall_6 21 rfl rfl)
theorem dX7_fall_167 : decode cX7_fall 167 = .ok (.bipush 6, 2) := dk_16 6 (dk_at dksX7_fall_7 0 rfl rfl)
theorem dX7_fall_169 : decode cX7_fall 169 = .ok (.goto 5, 3) := dk_167 0 5 (dk_at dksX7_fall_7 2 rfl rfl)
theorem dX7_fall_172 : decode cX7_fall 172 = .ok (.iload 6, 2) := dk_21 6 (dk_at dksX7_fall_7 5 rfl rfl)
theorem dX7_fall_174 : decode cX7_fall 174 = .ok (.istore 8, 2) := dk_54 8 (dk_at dksX7_fall_7 7 rfl rfl)
theorem dX7_fall_176 : decode cX7_fall 176 = .ok (.aload_n 0, 1) := dk_42 (dk_at dksX7_fall_7 9 rfl rfl)
theorem dX7_fall_177 : decode cX7_fall 177 = .ok (.iload_n 2, 1) := dk_28 (dk_at dksX7_fall_7 10 rfl rfl)
theorem dX7_fall_178 : decode cX7_fall 178 = .ok (.aload_n 0, 1) := dk_42 (dk_at dksX7_fall_7 11 rfl rfl)
theorem dX7_fall_179 : decode cX7_fall 179 = .ok (.getfield 13, 3) := dk_180 0 13 (dk_at dksX7_fall_7 12 rfl rfl)
theorem dX7_fall_182 : decode cX7_fall 182 = .ok (.bipush 126, 2) := dk_16 126 (dk_at dksX7_fall_7 15 rfl rfl)
theorem dX7_fall_184 : decode cX7_fall 184 = .ok (.iload_n 2, 1) := dk_28 (dk_at dksX7_fall_7 17 rfl rfl)
theorem dX7_fall_185 : decode cX7_fall 185 = .ok (.iadd, 1) := dk_96 (dk_at dksX7_fall_7 18 rfl rfl)
theorem dX7_fall_186 : decode cX7_fall 186 = .ok (.iaload, 1) := dk_46 (dk_at dksX7_fall_7 19 rfl rfl)
theorem dX7_fall_187 : decode cX7_fall 187 = .ok (.iload 7, 2) := dk_21 7 (dk_at dksX7_fall_7 20 rfl rfl)
theorem dX7_fall_189 : decode cX7_fall 189 = .ok (.iconst 1, 1) := dk_4 (dk_at dksX7_fall_7 22 rfl rfl)
theorem dX7_fall_190 : decode cX7_fall 190 = .ok (.invokestatic 99, 3) := dk_184 0 99 (dk_at dksX7_fall_8 0 rfl rfl)
theorem dX7_fall_193 : decode cX7_fall 193 = .ok (.iload 8, 2) := dk_21 8 (dk_at dksX7_fall_8 3 rfl rfl)
theorem dX7_fall_195 : decode cX7_fall 195 = .ok (.iload 4, 2) := dk_21 4 (dk_at dksX7_fall_8 5 rfl rfl)
theorem dX7_fall_197 : decode cX7_fall 197 = .ok (.imul, 1) := dk_104 (dk_at dksX7_fall_8 7 rfl rfl)
theorem dX7_fall_198 : decode cX7_fall 198 = .ok (.invokevirtual 117, 3) := dk_182 0 117 (dk_at dksX7_fall_8 8 rfl rfl)
theorem dX7_fall_201 : decode cX7_fall 201 = .ok (.iinc 7 1, 3) := dk_132 7 1 (dk_at dksX7_fall_8 11 rfl rfl)
theorem dX7_fall_204 : decode cX7_fall 204 = .ok (.goto (-63), 3) := dk_167 255 193 (dk_at dksX7_fall_8 14 rfl rfl)
theorem dX7_fall_207 : decode cX7_fall 207 = .ok (.iinc 2 1, 3) := dk_132 2 1 (dk_at dksX7_fall_8 17 rfl rfl)
theorem dX7_fall_210 : decode cX7_fall 210 = .ok (.goto (-182), 3) := dk_167 255 74 (dk_at dksX7_fall_8 20 rfl rfl)
theorem dX7_fall_213 : decode cX7_fall 213 = .ok (.return_, 1) := dk_177 (dk_at dksX7_fall_8 23 rfl rfl)
abbrev cX7_down : ByteArray := prog_26_method_22_code
def yX7_down : MethodName := ⟨RX7, "down", "(III)V"⟩
def dkwX7_down_5 : List UInt8 := [46, 29, 96, 79, 177]
abbrev dktX7_down_5 : List UInt8 := dkwX7_down_5 ++ []
def dkwX7_down_4 : List UInt8 := [7, 160, 0, 12, 42, 21, 5, 182, 0, 114, 167, 0, 5, 21, 5, 54, 5, 42, 180, 0, 35, 21, 5, 92]
abbrev dktX7_down_4 : List UInt8 := dkwX7_down_4 ++ dktX7_down_5
def dkwX7_down_3 : List UInt8 := [159, 0, 9, 21, 4, 7, 160, 0, 12, 42, 21, 5, 182, 0, 114, 167, 0, 5, 21, 5, 54, 5, 21, 4]
abbrev dktX7_down_3 : List UInt8 := dkwX7_down_3 ++ dktX7_down_4
def dkwX7_down_2 : List UInt8 := [54, 5, 21, 5, 16, 247, 160, 0, 14, 42, 89, 180, 0, 111, 29, 96, 181, 0, 111, 177, 21, 4, 6]
abbrev dktX7_down_2 : List UInt8 := dkwX7_down_2 ++ dktX7_down_3
def dkwX7_down_1 : List UInt8 := [167, 0, 23, 28, 42, 180, 0, 13, 4, 46, 7, 108, 42, 180, 0, 13, 4, 46, 7, 112, 184, 0, 99]
abbrev dktX7_down_1 : List UInt8 := dkwX7_down_1 ++ dktX7_down_2
def dkwX7_down_0 : List UInt8 := [42, 180, 0, 13, 16, 120, 27, 96, 46, 54, 4, 28, 16, 247, 159, 0, 9, 21, 4, 8, 160, 0, 7, 28]
abbrev dktX7_down_0 : List UInt8 := dkwX7_down_0 ++ dktX7_down_1
theorem dksX7_down_0 : cX7_down.data.toList.drop 0 = dktX7_down_0 := by decide +kernel
theorem dksX7_down_1 : cX7_down.data.toList.drop 24 = dktX7_down_1 := dk_seg dksX7_down_0 24 rfl rfl
theorem dksX7_down_2 : cX7_down.data.toList.drop 47 = dktX7_down_2 := dk_seg dksX7_down_1 23 rfl rfl
theorem dksX7_down_3 : cX7_down.data.toList.drop 70 = dktX7_down_3 := dk_seg dksX7_down_2 23 rfl rfl
theorem dksX7_down_4 : cX7_down.data.toList.drop 94 = dktX7_down_4 := dk_seg dksX7_down_3 24 rfl rfl
theorem dksX7_down_5 : cX7_down.data.toList.drop 118 = dktX7_down_5 := dk_seg dksX7_down_4 24 rfl rfl
theorem dX7_down_0 : decode cX7_down 0 = .ok (.aload_n 0, 1) := dk_42 (dk_at dksX7_down_0 0 rfl rfl)
theorem dX7_down_1 : decode cX7_down 1 = .ok (.getfield 13, 3) := dk_180 0 13 (dk_at dksX7_down_0 1 rfl rfl)
theorem dX7_down_4 : decode cX7_down 4 = .ok (.bipush 120, 2) := dk_16 120 (dk_at dksX7_down_0 4 rfl rfl)
theorem dX7_down_6 : decode cX7_down 6 = .ok (.iload_n 1, 1) := dk_27 (dk_at dksX7_down_0 6 rfl rfl)
theorem dX7_down_7 : decode cX7_down 7 = .ok (.iadd, 1) := dk_96 (dk_at dksX7_down_0 7 rfl rfl)
theorem dX7_down_8 : decode cX7_down 8 = .ok (.iaload, 1) := dk_46 (dk_at dksX7_down_0 8 rfl rfl)
theorem dX7_down_9 : decode cX7_down 9 = .ok (.istore 4, 2) := dk_54 4 (dk_at dksX7_down_0 9 rfl rfl)
theorem dX7_down_11 : decode cX7_down 11 = .ok (.iload_n 2, 1) := dk_28 (dk_at dksX7_down_0 11 rfl rfl)
theorem dX7_down_12 : decode cX7_down 12 = .ok (.bipush (-9), 2) := dk_16 247 (dk_at dksX7_down_0 12 rfl rfl)
theorem dX7_down_14 : decode cX7_down 14 = .ok (.if_icmp .eq 9, 3) := dk_159 0 9 (dk_at dksX7_down_0 14 rfl rfl)
theorem dX7_down_17 : decode cX7_down 17 = .ok (.iload 4, 2) := dk_21 4 (dk_at dksX7_down_0 17 rfl rfl)
theorem dX7_down_19 : decode cX7_down 19 = .ok (.iconst 5, 1) := dk_8 (dk_at dksX7_down_0 19 rfl rfl)
theorem dX7_down_20 : decode cX7_down 20 = .ok (.if_icmp .ne 7, 3) := dk_160 0 7 (dk_at dksX7_down_0 20 rfl rfl)
theorem dX7_down_23 : decode cX7_down 23 = .ok (.iload_n 2, 1) := dk_28 (dk_at dksX7_down_0 23 rfl rfl)
theorem dX7_down_24 : decode cX7_down 24 = .ok (.goto 23, 3) := dk_167 0 23 (dk_at dksX7_down_1 0 rfl rfl)
theorem dX7_down_27 : decode cX7_down 27 = .ok (.iload_n 2, 1) := dk_28 (dk_at dksX7_down_1 3 rfl rfl)
theorem dX7_down_28 : decode cX7_down 28 = .ok (.aload_n 0, 1) := dk_42 (dk_at dksX7_down_1 4 rfl rfl)
theorem dX7_down_29 : decode cX7_down 29 = .ok (.getfield 13, 3) := dk_180 0 13 (dk_at dksX7_down_1 5 rfl rfl)
theorem dX7_down_32 : decode cX7_down 32 = .ok (.iconst 1, 1) := dk_4 (dk_at dksX7_down_1 8 rfl rfl)
theorem dX7_down_33 : decode cX7_down 33 = .ok (.iaload, 1) := dk_46 (dk_at dksX7_down_1 9 rfl rfl)
theorem dX7_down_34 : decode cX7_down 34 = .ok (.iconst 4, 1) := dk_7 (dk_at dksX7_down_1 10 rfl rfl)
theorem dX7_down_35 : decode cX7_down 35 = .ok (.idiv, 1) := dk_108 (dk_at dksX7_down_1 11 rfl rfl)
theorem dX7_down_36 : decode cX7_down 36 = .ok (.aload_n 0, 1) := dk_42 (dk_at dksX7_down_1 12 rfl rfl)
theorem dX7_down_37 : decode cX7_down 37 = .ok (.getfield 13, 3) := dk_180 0 13 (dk_at dksX7_down_1 13 rfl rfl)
theorem dX7_down_40 : decode cX7_down 40 = .ok (.iconst 1, 1) := dk_4 (dk_at dksX7_down_1 16 rfl rfl)
theorem dX7_down_41 : decode cX7_down 41 = .ok (.iaload, 1) := dk_46 (dk_at dksX7_down_1 17 rfl rfl)
theorem dX7_down_42 : decode cX7_down 42 = .ok (.iconst 4, 1) := dk_7 (dk_at dksX7_down_1 18 rfl rfl)
theorem dX7_down_43 : decode cX7_down 43 = .ok (.irem, 1) := dk_112 (dk_at dksX7_down_1 19 rfl rfl)
theorem dX7_down_44 : decode cX7_down 44 = .ok (.invokestatic 99, 3) := dk_184 0 99 (dk_at dksX7_down_1 20 rfl rfl)
theorem dX7_down_47 : decode cX7_down 47 = .ok (.istore 5, 2) := dk_54 5 (dk_at dksX7_down_2 0 rfl rfl)
theorem dX7_down_49 : decode cX7_down 49 = .ok (.iload 5, 2) := dk_21 5 (dk_at dksX7_down_2 2 rfl rfl)
theorem dX7_down_51 : decode cX7_down 51 = .ok (.bipush (-9), 2) := dk_16 247 (dk_at dksX7_down_2 4 rfl rfl)
theorem dX7_down_53 : decode cX7_down 53 = .ok (.if_icmp .ne 14, 3) := dk_160 0 14 (dk_at dksX7_down_2 6 rfl rfl)
theorem dX7_down_56 : decode cX7_down 56 = .ok (.aload_n 0, 1) := dk_42 (dk_at dksX7_down_2 9 rfl rfl)
theorem dX7_down_57 : decode cX7_down 57 = .ok (.dup, 1) := dk_89 (dk_at dksX7_down_2 10 rfl rfl)
theorem dX7_down_58 : decode cX7_down 58 = .ok (.getfield 111, 3) := dk_180 0 111 (dk_at dksX7_down_2 11 rfl rfl)
theorem dX7_down_61 : decode cX7_down 61 = .ok (.iload_n 3, 1) := dk_29 (dk_at dksX7_down_2 14 rfl rfl)
theorem dX7_down_62 : decode cX7_down 62 = .ok (.iadd, 1) := dk_96 (dk_at dksX7_down_2 15 rfl rfl)
theorem dX7_down_63 : decode cX7_down 63 = .ok (.putfield 111, 3) := dk_181 0 111 (dk_at dksX7_down_2 16 rfl rfl)
theorem dX7_down_66 : decode cX7_down 66 = .ok (.return_, 1) := dk_177 (dk_at dksX7_down_2 19 rfl rfl)
theorem dX7_down_67 : decode cX7_down 67 = .ok (.iload 4, 2) := dk_21 4 (dk_at dksX7_down_2 20 rfl rfl)
theorem dX7_down_69 : decode cX7_down 69 = .ok (.iconst 3, 1) := dk_6 (dk_at dksX7_down_2 22 rfl rfl)
theorem dX7_down_70 : decode cX7_down 70 = .ok (.if_icmp .eq 9, 3) := dk_159 0 9 (dk_at dksX7_down_3 0 rfl rfl)
theorem dX7_down_73 : decode cX7_down 73 = .ok (.iload 4, 2) := dk_21 4 (dk_at dksX7_down_3 3 rfl rfl)
theorem dX7_down_75 : decode cX7_down 75 = .ok (.iconst 4, 1) := dk_7 (dk_at dksX7_down_3 5 rfl rfl)
theorem dX7_down_76 : decode cX7_down 76 = .ok (.if_icmp .ne 12, 3) := dk_160 0 12 (dk_at dksX7_down_3 6 rfl rfl)
theorem dX7_down_79 : decode cX7_down 79 = .ok (.aload_n 0, 1) := dk_42 (dk_at dksX7_down_3 9 rfl rfl)
theorem dX7_down_80 : decode cX7_down 80 = .ok (.iload 5, 2) := dk_21 5 (dk_at dksX7_down_3 10 rfl rfl)
theorem dX7_down_82 : decode cX7_down 82 = .ok (.invokevirtual 114, 3) := dk_182 0 114 (dk_at dksX7_down_3 12 rfl rfl)
theorem dX7_down_85 : decode cX7_down 85 = .ok (.goto 5, 3) := dk_167 0 5 (dk_at dksX7_down_3 15 rfl rfl)
theorem dX7_down_88 : decode cX7_down 88 = .ok (.iload 5, 2) := dk_21 5 (dk_at dksX7_down_3 18 rfl rfl)
theorem dX7_down_90 : decode cX7_down 90 = .ok (.istore 5, 2) := dk_54 5 (dk_at dksX7_down_3 20 rfl rfl)
theorem dX7_down_92 : decode cX7_down 92 = .ok (.iload 4, 2) := dk_21 4 (dk_at dksX7_down_3 22 rfl rfl)
theorem dX7_down_94 : decode cX7_down 94 = .ok (.iconst 4, 1) := dk_7 (dk_at dksX7_down_4 0 rfl rfl)
theorem dX7_down_95 : decode cX7_down 95 = .ok (.if_icmp .ne 12, 3) := dk_160 0 12 (dk_at dksX7_down_4 1 rfl rfl)
theorem dX7_down_98 : decode cX7_down 98 = .ok (.aload_n 0, 1) := dk_42 (dk_at dksX7_down_4 4 rfl rfl)
theorem dX7_down_99 : decode cX7_down 99 = .ok (.iload 5, 2) := dk_21 5 (dk_at dksX7_down_4 5 rfl rfl)
theorem dX7_down_101 : decode cX7_down 101 = .ok (.invokevirtual 114, 3) := dk_182 0 114 (dk_at dksX7_down_4 7 rfl rfl)
theorem dX7_down_104 : decode cX7_down 104 = .ok (.goto 5, 3) := dk_167 0 5 (dk_at dksX7_down_4 10 rfl rfl)
theorem dX7_down_107 : decode cX7_down 107 = .ok (.iload 5, 2) := dk_21 5 (dk_at dksX7_down_4 13 rfl rfl)
theorem dX7_down_109 : decode cX7_down 109 = .ok (.istore 5, 2) := dk_54 5 (dk_at dksX7_down_4 15 rfl rfl)
theorem dX7_down_111 : decode cX7_down 111 = .ok (.aload_n 0, 1) := dk_42 (dk_at dksX7_down_4 17 rfl rfl)
theorem dX7_down_112 : decode cX7_down 112 = .ok (.getfield 35, 3) := dk_180 0 35 (dk_at dksX7_down_4 18 rfl rfl)
theorem dX7_down_115 : decode cX7_down 115 = .ok (.iload 5, 2) := dk_21 5 (dk_at dksX7_down_4 21 rfl rfl)
theorem dX7_down_117 : decode cX7_down 117 = .ok (.dup2, 1) := dk_92 (dk_at dksX7_down_4 23 rfl rfl)
theorem dX7_down_118 : decode cX7_down 118 = .ok (.iaload, 1) := dk_46 (dk_at dksX7_down_5 0 rfl rfl)
theorem dX7_down_119 : decode cX7_down 119 = .ok (.iload_n 3, 1) := dk_29 (dk_at dksX7_down_5 1 rfl rfl)
theorem dX7_down_120 : decode cX7_down 120 = .ok (.iadd, 1) := dk_96 (dk_at dksX7_down_5 2 rfl rfl)
theorem dX7_down_121 : decode cX7_down 121 = .ok (.iastore, 1) := dk_79 (dk_at dksX7_down_5 3 rfl rfl)
theorem dX7_down_122 : decode cX7_down 122 = .ok (.return_, 1) := dk_177 (dk_at dksX7_down_5 4 rfl rfl)
abbrev cX7_rolled : ByteArray := prog_26_method_21_code
def yX7_rolled : MethodName := ⟨RX7, "rolled", "(I)I"⟩
def dkwX7_rolled_2 : List UInt8 := [167, 0, 4, 28, 61, 132, 3, 1, 167, 255, 204, 28, 172]
abbrev dktX7_rolled_2 : List UInt8 := dkwX7_rolled_2 ++ []
def dkwX7_rolled_1 : List UInt8 := [42, 180, 0, 13, 16, 48, 21, 4, 96, 46, 42, 180, 0, 13, 16, 48, 28, 96, 46, 162, 0, 8, 21, 4]
abbrev dktX7_rolled_1 : List UInt8 := dkwX7_rolled_1 ++ dktX7_rolled_2
def dkwX7_rolled_0 : List UInt8 := [27, 61, 3, 62, 29, 7, 162, 0, 53, 27, 29, 4, 184, 0, 99, 54, 4, 21, 4, 16, 247, 159, 0, 30]
abbrev dktX7_rolled_0 : List UInt8 := dkwX7_rolled_0 ++ dktX7_rolled_1
theorem dksX7_rolled_0 : cX7_rolled.data.toList.drop 0 = dktX7_rolled_0 := by decide +kernel
theorem dksX7_rolled_1 : cX7_rolled.data.toList.drop 24 = dktX7_rolled_1 := dk_seg dksX7_rolled_0 24 rfl rfl
theorem dksX7_rolled_2 : cX7_rolled.data.toList.drop 48 = dktX7_rolled_2 := dk_seg dksX7_rolled_1 24 rfl rfl
theorem dX7_rolled_0 : decode cX7_rolled 0 = .ok (.iload_n 1, 1) := dk_27 (dk_at dksX7_rolled_0 0 rfl rfl)
theorem dX7_rolled_1 : decode cX7_rolled 1 = .ok (.istore_n 2, 1) := dk_61 (dk_at dksX7_rolled_0 1 rfl rfl)
theorem dX7_rolled_2 : decode cX7_rolled 2 = .ok (.iconst 0, 1) := dk_3 (dk_at dksX7_rolled_0 2 rfl rfl)
theorem dX7_rolled_3 : decode cX7_rolled 3 = .ok (.istore_n 3, 1) := dk_62 (dk_at dksX7_rolled_0 3 rfl rfl)
theorem dX7_rolled_4 : decode cX7_rolled 4 = .ok (.iload_n 3, 1) := dk_29 (dk_at dksX7_rolled_0 4 rfl rfl)
theorem dX7_rolled_5 : decode cX7_rolled 5 = .ok (.iconst 4, 1) := dk_7 (dk_at dksX7_rolled_0 5 rfl rfl)
theorem dX7_rolled_6 : decode cX7_rolled 6 = .ok (.if_icmp .ge 53, 3) := dk_162 0 53 (dk_at dksX7_rolled_0 6 rfl rfl)
theorem dX7_rolled_9 : decode cX7_rolled 9 = .ok (.iload_n 1, 1) := dk_27 (dk_at dksX7_rolled_0 9 rfl rfl)
theorem dX7_rolled_10 : decode cX7_rolled 10 = .ok (.iload_n 3, 1) := dk_29 (dk_at dksX7_rolled_0 10 rfl rfl)
theorem dX7_rolled_11 : decode cX7_rolled 11 = .ok (.iconst 1, 1) := dk_4 (dk_at dksX7_rolled_0 11 rfl rfl)
theorem dX7_rolled_12 : decode cX7_rolled 12 = .ok (.invokestatic 99, 3) := dk_184 0 99 (dk_at dksX7_rolled_0 12 rfl rfl)
theorem dX7_rolled_15 : decode cX7_rolled 15 = .ok (.istore 4, 2) := dk_54 4 (dk_at dksX7_rolled_0 15 rfl rfl)
theorem dX7_rolled_17 : decode cX7_rolled 17 = .ok (.iload 4, 2) := dk_21 4 (dk_at dksX7_rolled_0 17 rfl rfl)
theorem dX7_rolled_19 : decode cX7_rolled 19 = .ok (.bipush (-9), 2) := dk_16 247 (dk_at dksX7_rolled_0 19 rfl rfl)
theorem dX7_rolled_21 : decode cX7_rolled 21 = .ok (.if_icmp .eq 30, 3) := dk_159 0 30 (dk_at dksX7_rolled_0 21 rfl rfl)
theorem dX7_rolled_24 : decode cX7_rolled 24 = .ok (.aload_n 0, 1) := dk_42 (dk_at dksX7_rolled_1 0 rfl rfl)
theorem dX7_rolled_25 : decode cX7_rolled 25 = .ok (.getfield 13, 3) := dk_180 0 13 (dk_at dksX7_rolled_1 1 rfl rfl)
theorem dX7_rolled_28 : decode cX7_rolled 28 = .ok (.bipush 48, 2) := dk_16 48 (dk_at dksX7_rolled_1 4 rfl rfl)
theorem dX7_rolled_30 : decode cX7_rolled 30 = .ok (.iload 4, 2) := dk_21 4 (dk_at dksX7_rolled_1 6 rfl rfl)
theorem dX7_rolled_32 : decode cX7_rolled 32 = .ok (.iadd, 1) := dk_96 (dk_at dksX7_rolled_1 8 rfl rfl)
theorem dX7_rolled_33 : decode cX7_rolled 33 = .ok (.iaload, 1) := dk_46 (dk_at dksX7_rolled_1 9 rfl rfl)
theorem dX7_rolled_34 : decode cX7_rolled 34 = .ok (.aload_n 0, 1) := dk_42 (dk_at dksX7_rolled_1 10 rfl rfl)
theorem dX7_rolled_35 : decode cX7_rolled 35 = .ok (.getfield 13, 3) := dk_180 0 13 (dk_at dksX7_rolled_1 11 rfl rfl)
theorem dX7_rolled_38 : decode cX7_rolled 38 = .ok (.bipush 48, 2) := dk_16 48 (dk_at dksX7_rolled_1 14 rfl rfl)
theorem dX7_rolled_40 : decode cX7_rolled 40 = .ok (.iload_n 2, 1) := dk_28 (dk_at dksX7_rolled_1 16 rfl rfl)
theorem dX7_rolled_41 : decode cX7_rolled 41 = .ok (.iadd, 1) := dk_96 (dk_at dksX7_rolled_1 17 rfl rfl)
theorem dX7_rolled_42 : decode cX7_rolled 42 = .ok (.iaload, 1) := dk_46 (dk_at dksX7_rolled_1 18 rfl rfl)
theorem dX7_rolled_43 : decode cX7_rolled 43 = .ok (.if_icmp .ge 8, 3) := dk_162 0 8 (dk_at dksX7_rolled_1 19 rfl rfl)
theorem dX7_rolled_46 : decode cX7_rolled 46 = .ok (.iload 4, 2) := dk_21 4 (dk_at dksX7_rolled_1 22 rfl rfl)
theorem dX7_rolled_48 : decode cX7_rolled 48 = .ok (.goto 4, 3) := dk_167 0 4 (dk_at dksX7_rolled_2 0 rfl rfl)
theorem dX7_rolled_51 : decode cX7_rolled 51 = .ok (.iload_n 2, 1) := dk_28 (dk_at dksX7_rolled_2 3 rfl rfl)
theorem dX7_rolled_52 : decode cX7_rolled 52 = .ok (.istore_n 2, 1) := dk_61 (dk_at dksX7_rolled_2 4 rfl rfl)
theorem dX7_rolled_53 : decode cX7_rolled 53 = .ok (.iinc 3 1, 3) := dk_132 3 1 (dk_at dksX7_rolled_2 5 rfl rfl)
theorem dX7_rolled_56 : decode cX7_rolled 56 = .ok (.goto (-52), 3) := dk_167 255 204 (dk_at dksX7_rolled_2 8 rfl rfl)
theorem dX7_rolled_59 : decode cX7_rolled 59 = .ok (.iload_n 2, 1) := dk_28 (dk_at dksX7_rolled_2 11 rfl rfl)
theorem dX7_rolled_60 : decode cX7_rolled 60 = .ok (.ireturn, 1) := dk_172 (dk_at dksX7_rolled_2 12 rfl rfl)
abbrev cX7_of : ByteArray := prog_26_method_36_code
def yX7_of : MethodName := ⟨RX7, "of", "(II)I"⟩
def dkwX7_of_1 : List UInt8 := [182, 0, 49, 172, 42, 4, 27, 120, 182, 0, 127, 42, 180, 0, 35, 28, 46, 172]
abbrev dktX7_of_1 : List UInt8 := dkwX7_of_1 ++ []
def dkwX7_of_0 : List UInt8 := [27, 42, 180, 0, 13, 3, 46, 184, 0, 124, 154, 0, 12, 28, 16, 36, 184, 0, 124, 153, 0, 9, 42, 2]
abbrev dktX7_of_0 : List UInt8 := dkwX7_of_0 ++ dktX7_of_1
theorem dksX7_of_0 : cX7_of.data.toList.drop 0 = dktX7_of_0 := by decide +kernel
theorem dksX7_of_1 : cX7_of.data.toList.drop 24 = dktX7_of_1 := dk_seg dksX7_of_0 24 rfl rfl
theorem dX7_of_0 : decode cX7_of 0 = .ok (.iload_n 1, 1) := dk_27 (dk_at dksX7_of_0 0 rfl rfl)
theorem dX7_of_1 : decode cX7_of 1 = .ok (.aload_n 0, 1) := dk_42 (dk_at dksX7_of_0 1 rfl rfl)
theorem dX7_of_2 : decode cX7_of 2 = .ok (.getfield 13, 3) := dk_180 0 13 (dk_at dksX7_of_0 2 rfl rfl)
theorem dX7_of_5 : decode cX7_of 5 = .ok (.iconst 0, 1) := dk_3 (dk_at dksX7_of_0 5 rfl rfl)
theorem dX7_of_6 : decode cX7_of 6 = .ok (.iaload, 1) := dk_46 (dk_at dksX7_of_0 6 rfl rfl)
theorem dX7_of_7 : decode cX7_of 7 = .ok (.invokestatic 124, 3) := dk_184 0 124 (dk_at dksX7_of_0 7 rfl rfl)
theorem dX7_of_10 : decode cX7_of 10 = .ok (.ifCond .ne 12, 3) := dk_154 0 12 (dk_at dksX7_of_0 10 rfl rfl)
theorem dX7_of_13 : decode cX7_of 13 = .ok (.iload_n 2, 1) := dk_28 (dk_at dksX7_of_0 13 rfl rfl)
theorem dX7_of_14 : decode cX7_of 14 = .ok (.bipush 36, 2) := dk_16 36 (dk_at dksX7_of_0 14 rfl rfl)
theorem dX7_of_16 : decode cX7_of 16 = .ok (.invokestatic 124, 3) := dk_184 0 124 (dk_at dksX7_of_0 16 rfl rfl)
theorem dX7_of_19 : decode cX7_of 19 = .ok (.ifCond .eq 9, 3) := dk_153 0 9 (dk_at dksX7_of_0 19 rfl rfl)
theorem dX7_of_22 : decode cX7_of 22 = .ok (.aload_n 0, 1) := dk_42 (dk_at dksX7_of_0 22 rfl rfl)
theorem dX7_of_23 : decode cX7_of 23 = .ok (.iconst (-1), 1) := dk_2 (dk_at dksX7_of_0 23 rfl rfl)
theorem dX7_of_24 : decode cX7_of 24 = .ok (.invokevirtual 49, 3) := dk_182 0 49 (dk_at dksX7_of_1 0 rfl rfl)
theorem dX7_of_27 : decode cX7_of 27 = .ok (.ireturn, 1) := dk_172 (dk_at dksX7_of_1 3 rfl rfl)
theorem dX7_of_28 : decode cX7_of 28 = .ok (.aload_n 0, 1) := dk_42 (dk_at dksX7_of_1 4 rfl rfl)
theorem dX7_of_29 : decode cX7_of 29 = .ok (.iconst 1, 1) := dk_4 (dk_at dksX7_of_1 5 rfl rfl)
theorem dX7_of_30 : decode cX7_of 30 = .ok (.iload_n 1, 1) := dk_27 (dk_at dksX7_of_1 6 rfl rfl)
theorem dX7_of_31 : decode cX7_of 31 = .ok (.ishl, 1) := dk_120 (dk_at dksX7_of_1 7 rfl rfl)
theorem dX7_of_32 : decode cX7_of 32 = .ok (.invokevirtual 127, 3) := dk_182 0 127 (dk_at dksX7_of_1 8 rfl rfl)
theorem dX7_of_35 : decode cX7_of 35 = .ok (.aload_n 0, 1) := dk_42 (dk_at dksX7_of_1 11 rfl rfl)
theorem dX7_of_36 : decode cX7_of 36 = .ok (.getfield 35, 3) := dk_180 0 35 (dk_at dksX7_of_1 12 rfl rfl)
theorem dX7_of_39 : decode cX7_of 39 = .ok (.iload_n 2, 1) := dk_28 (dk_at dksX7_of_1 15 rfl rfl)
theorem dX7_of_40 : decode cX7_of 40 = .ok (.iaload, 1) := dk_46 (dk_at dksX7_of_1 16 rfl rfl)
theorem dX7_of_41 : decode cX7_of 41 = .ok (.ireturn, 1) := dk_172 (dk_at dksX7_of_1 17 rfl rfl)
abbrev cX7_share : ByteArray := prog_26_method_37_code
def yX7_share : MethodName := ⟨RX7, "share", "(I)I"⟩
def dkwX7_share_1 : List UInt8 := [182, 0, 131, 172]
abbrev dktX7_share_1 : List UInt8 := dkwX7_share_1 ++ []
def dkwX7_share_0 : List UInt8 := [27, 7, 184, 0, 124, 153, 0, 9, 42, 2, 182, 0, 49, 172, 42, 16, 63, 182, 0, 127, 42, 27]
abbrev dktX7_share_0 : List UInt8 := dkwX7_share_0 ++ dktX7_share_1
theorem dksX7_share_0 : cX7_share.data.toList.drop 0 = dktX7_share_0 := by decide +kernel
theorem dksX7_share_1 : cX7_share.data.toList.drop 22 = dktX7_share_1 := dk_seg dksX7_share_0 22 rfl rfl
theorem dX7_share_0 : decode cX7_share 0 = .ok (.iload_n 1, 1) := dk_27 (dk_at dksX7_share_0 0 rfl rfl)
theorem dX7_share_1 : decode cX7_share 1 = .ok (.iconst 4, 1) := dk_7 (dk_at dksX7_share_0 1 rfl rfl)
theorem dX7_share_2 : decode cX7_share 2 = .ok (.invokestatic 124, 3) := dk_184 0 124 (dk_at dksX7_share_0 2 rfl rfl)
theorem dX7_share_5 : decode cX7_share 5 = .ok (.ifCond .eq 9, 3) := dk_153 0 9 (dk_at dksX7_share_0 5 rfl rfl)
theorem dX7_share_8 : decode cX7_share 8 = .ok (.aload_n 0, 1) := dk_42 (dk_at dksX7_share_0 8 rfl rfl)
theorem dX7_share_9 : decode cX7_share 9 = .ok (.iconst (-1), 1) := dk_2 (dk_at dksX7_share_0 9 rfl rfl)
theorem dX7_share_10 : decode cX7_share 10 = .ok (.invokevirtual 49, 3) := dk_182 0 49 (dk_at dksX7_share_0 10 rfl rfl)
theorem dX7_share_13 : decode cX7_share 13 = .ok (.ireturn, 1) := dk_172 (dk_at dksX7_share_0 13 rfl rfl)
theorem dX7_share_14 : decode cX7_share 14 = .ok (.aload_n 0, 1) := dk_42 (dk_at dksX7_share_0 14 rfl rfl)
theorem dX7_share_15 : decode cX7_share 15 = .ok (.bipush 63, 2) := dk_16 63 (dk_at dksX7_share_0 15 rfl rfl)
theorem dX7_share_17 : decode cX7_share 17 = .ok (.invokevirtual 127, 3) := dk_182 0 127 (dk_at dksX7_share_0 17 rfl rfl)
theorem dX7_share_20 : decode cX7_share 20 = .ok (.aload_n 0, 1) := dk_42 (dk_at dksX7_share_0 20 rfl rfl)
theorem dX7_share_21 : decode cX7_share 21 = .ok (.iload_n 1, 1) := dk_27 (dk_at dksX7_share_0 21 rfl rfl)
theorem dX7_share_22 : decode cX7_share 22 = .ok (.invokevirtual 131, 3) := dk_182 0 131 (dk_at dksX7_share_1 0 rfl rfl)
theorem dX7_share_25 : decode cX7_share 25 = .ok (.ireturn, 1) := dk_172 (dk_at dksX7_share_1 3 rfl rfl)
abbrev cX7_shareOf : ByteArray := prog_26_method_24_code
def yX7_shareOf : MethodName := ⟨RX7, "shareOf", "(I)I"⟩
def dkwX7_shareOf_2 : List UInt8 := [167, 255, 213, 28, 172]
abbrev dktX7_shareOf_2 : List UInt8 := dkwX7_shareOf_2 ++ []
def dkwX7_shareOf_1 : List UInt8 := [42, 29, 182, 0, 121, 154, 0, 12, 42, 180, 0, 35, 29, 46, 167, 0, 4, 3, 96, 61, 132, 3, 1]
abbrev dktX7_shareOf_1 : List UInt8 := dkwX7_shareOf_1 ++ dktX7_shareOf_2
def dkwX7_shareOf_0 : List UInt8 := [3, 61, 3, 62, 29, 16, 36, 162, 0, 43, 28, 42, 180, 0, 13, 16, 12, 29, 96, 46, 27, 160, 0, 20]
abbrev dktX7_shareOf_0 : List UInt8 := dkwX7_shareOf_0 ++ dktX7_shareOf_1
theorem dksX7_shareOf_0 : cX7_shareOf.data.toList.drop 0 = dktX7_shareOf_0 := by decide +kernel
theorem dksX7_shareOf_1 : cX7_shareOf.data.toList.drop 24 = dktX7_shareOf_1 := dk_seg dksX7_shareOf_0 24 rfl rfl
theorem dksX7_shareOf_2 : cX7_shareOf.data.toList.drop 47 = dktX7_shareOf_2 := dk_seg dksX7_shareOf_1 23 rfl rfl
theorem dX7_shareOf_0 : decode cX7_shareOf 0 = .ok (.iconst 0, 1) := dk_3 (dk_at dksX7_shareOf_0 0 rfl rfl)
theorem dX7_shareOf_1 : decode cX7_shareOf 1 = .ok (.istore_n 2, 1) := dk_61 (dk_at dksX7_shareOf_0 1 rfl rfl)
theorem dX7_shareOf_2 : decode cX7_shareOf 2 = .ok (.iconst 0, 1) := dk_3 (dk_at dksX7_shareOf_0 2 rfl rfl)
theorem dX7_shareOf_3 : decode cX7_shareOf 3 = .ok (.istore_n 3, 1) := dk_62 (dk_at dksX7_shareOf_0 3 rfl rfl)
theorem dX7_shareOf_4 : decode cX7_shareOf 4 = .ok (.iload_n 3, 1) := dk_29 (dk_at dksX7_shareOf_0 4 rfl rfl)
theorem dX7_shareOf_5 : decode cX7_shareOf 5 = .ok (.bipush 36, 2) := dk_16 36 (dk_at dksX7_shareOf_0 5 rfl rfl)
theorem dX7_shareOf_7 : decode cX7_shareOf 7 = .ok (.if_icmp .ge 43, 3) := dk_162 0 43 (dk_at dksX7_shareOf_0 7 rfl rfl)
theorem dX7_shareOf_10 : decode cX7_shareOf 10 = .ok (.iload_n 2, 1) := dk_28 (dk_at dksX7_shareOf_0 10 rfl rfl)
theorem dX7_shareOf_11 : decode cX7_shareOf 11 = .ok (.aload_n 0, 1) := dk_42 (dk_at dksX7_shareOf_0 11 rfl rfl)
theorem dX7_shareOf_12 : decode cX7_shareOf 12 = .ok (.getfield 13, 3) := dk_180 0 13 (dk_at dksX7_shareOf_0 12 rfl rfl)
theorem dX7_shareOf_15 : decode cX7_shareOf 15 = .ok (.bipush 12, 2) := dk_16 12 (dk_at dksX7_shareOf_0 15 rfl rfl)
theorem dX7_shareOf_17 : decode cX7_shareOf 17 = .ok (.iload_n 3, 1) := dk_29 (dk_at dksX7_shareOf_0 17 rfl rfl)
theorem dX7_shareOf_18 : decode cX7_shareOf 18 = .ok (.iadd, 1) := dk_96 (dk_at dksX7_shareOf_0 18 rfl rfl)
theorem dX7_shareOf_19 : decode cX7_shareOf 19 = .ok (.iaload, 1) := dk_46 (dk_at dksX7_shareOf_0 19 rfl rfl)
theorem dX7_shareOf_20 : decode cX7_shareOf 20 = .ok (.iload_n 1, 1) := dk_27 (dk_at dksX7_shareOf_0 20 rfl rfl)
theorem dX7_shareOf_21 : decode cX7_shareOf 21 = .ok (.if_icmp .ne 20, 3) := dk_160 0 20 (dk_at dksX7_shareOf_0 21 rfl rfl)
theorem dX7_shareOf_24 : decode cX7_shareOf 24 = .ok (.aload_n 0, 1) := dk_42 (dk_at dksX7_shareOf_1 0 rfl rfl)
theorem dX7_shareOf_25 : decode cX7_shareOf 25 = .ok (.iload_n 3, 1) := dk_29 (dk_at dksX7_shareOf_1 1 rfl rfl)
theorem dX7_shareOf_26 : decode cX7_shareOf 26 = .ok (.invokevirtual 121, 3) := dk_182 0 121 (dk_at dksX7_shareOf_1 2 rfl rfl)
theorem dX7_shareOf_29 : decode cX7_shareOf 29 = .ok (.ifCond .ne 12, 3) := dk_154 0 12 (dk_at dksX7_shareOf_1 5 rfl rfl)
theorem dX7_shareOf_32 : decode cX7_shareOf 32 = .ok (.aload_n 0, 1) := dk_42 (dk_at dksX7_shareOf_1 8 rfl rfl)
theorem dX7_shareOf_33 : decode cX7_shareOf 33 = .ok (.getfield 35, 3) := dk_180 0 35 (dk_at dksX7_shareOf_1 9 rfl rfl)
theorem dX7_shareOf_36 : decode cX7_shareOf 36 = .ok (.iload_n 3, 1) := dk_29 (dk_at dksX7_shareOf_1 12 rfl rfl)
theorem dX7_shareOf_37 : decode cX7_shareOf 37 = .ok (.iaload, 1) := dk_46 (dk_at dksX7_shareOf_1 13 rfl rfl)
theorem dX7_shareOf_38 : decode cX7_shareOf 38 = .ok (.goto 4, 3) := dk_167 0 4 (dk_at dksX7_shareOf_1 14 rfl rfl)
theorem dX7_shareOf_41 : decode cX7_shareOf 41 = .ok (.iconst 0, 1) := dk_3 (dk_at dksX7_shareOf_1 17 rfl rfl)
theorem dX7_shareOf_42 : decode cX7_shareOf 42 = .ok (.iadd, 1) := dk_96 (dk_at dksX7_shareOf_1 18 rfl rfl)
theorem dX7_shareOf_43 : decode cX7_shareOf 43 = .ok (.istore_n 2, 1) := dk_61 (dk_at dksX7_shareOf_1 19 rfl rfl)
theorem dX7_shareOf_44 : decode cX7_shareOf 44 = .ok (.iinc 3 1, 3) := dk_132 3 1 (dk_at dksX7_shareOf_1 20 rfl rfl)
theorem dX7_shareOf_47 : decode cX7_shareOf 47 = .ok (.goto (-43), 3) := dk_167 255 213 (dk_at dksX7_shareOf_2 0 rfl rfl)
theorem dX7_shareOf_50 : decode cX7_shareOf 50 = .ok (.iload_n 2, 1) := dk_28 (dk_at dksX7_shareOf_2 3 rfl rfl)
theorem dX7_shareOf_51 : decode cX7_shareOf 51 = .ok (.ireturn, 1) := dk_172 (dk_at dksX7_shareOf_2 4 rfl rfl)
abbrev cX7_birds : ByteArray := prog_26_method_38_code
def yX7_birds : MethodName := ⟨RX7, "birds", "()I"⟩
def dkwX7_birds_0 : List UInt8 := [42, 16, 63, 182, 0, 127, 42, 182, 0, 134, 172]
abbrev dktX7_birds_0 : List UInt8 := dkwX7_birds_0 ++ []
theorem dksX7_birds_0 : cX7_birds.data.toList.drop 0 = dktX7_birds_0 := by decide +kernel
theorem dX7_birds_0 : decode cX7_birds 0 = .ok (.aload_n 0, 1) := dk_42 (dk_at dksX7_birds_0 0 rfl rfl)
theorem dX7_birds_1 : decode cX7_birds 1 = .ok (.bipush 63, 2) := dk_16 63 (dk_at dksX7_birds_0 1 rfl rfl)
theorem dX7_birds_3 : decode cX7_birds 3 = .ok (.invokevirtual 127, 3) := dk_182 0 127 (dk_at dksX7_birds_0 3 rfl rfl)
theorem dX7_birds_6 : decode cX7_birds 6 = .ok (.aload_n 0, 1) := dk_42 (dk_at dksX7_birds_0 6 rfl rfl)
theorem dX7_birds_7 : decode cX7_birds 7 = .ok (.invokevirtual 134, 3) := dk_182 0 134 (dk_at dksX7_birds_0 7 rfl rfl)
theorem dX7_birds_10 : decode cX7_birds 10 = .ok (.ireturn, 1) := dk_172 (dk_at dksX7_birds_0 10 rfl rfl)
abbrev cX7_birdsHave : ByteArray := prog_26_method_25_code
def yX7_birdsHave : MethodName := ⟨RX7, "birdsHave", "()I"⟩
def dkwX7_birdsHave_1 : List UInt8 := [46, 167, 0, 4, 3, 96, 60, 132, 2, 1, 167, 255, 226, 27, 172]
abbrev dktX7_birdsHave_1 : List UInt8 := dkwX7_birdsHave_1 ++ []
def dkwX7_birdsHave_0 : List UInt8 := [3, 60, 3, 61, 28, 16, 36, 162, 0, 30, 27, 42, 28, 182, 0, 121, 153, 0, 12, 42, 180, 0, 35, 28]
abbrev dktX7_birdsHave_0 : List UInt8 := dkwX7_birdsHave_0 ++ dktX7_birdsHave_1
theorem dksX7_birdsHave_0 : cX7_birdsHave.data.toList.drop 0 = dktX7_birdsHave_0 := by decide +kernel
theorem dksX7_birdsHave_1 : cX7_birdsHave.data.toList.drop 24 = dktX7_birdsHave_1 := dk_seg dksX7_birdsHave_0 24 rfl rfl
theorem dX7_birdsHave_0 : decode cX7_birdsHave 0 = .ok (.iconst 0, 1) := dk_3 (dk_at dksX7_birdsHave_0 0 rfl rfl)
theorem dX7_birdsHave_1 : decode cX7_birdsHave 1 = .ok (.istore_n 1, 1) := dk_60 (dk_at dksX7_birdsHave_0 1 rfl rfl)
theorem dX7_birdsHave_2 : decode cX7_birdsHave 2 = .ok (.iconst 0, 1) := dk_3 (dk_at dksX7_birdsHave_0 2 rfl rfl)
theorem dX7_birdsHave_3 : decode cX7_birdsHave 3 = .ok (.istore_n 2, 1) := dk_61 (dk_at dksX7_birdsHave_0 3 rfl rfl)
theorem dX7_birdsHave_4 : decode cX7_birdsHave 4 = .ok (.iload_n 2, 1) := dk_28 (dk_at dksX7_birdsHave_0 4 rfl rfl)
theorem dX7_birdsHave_5 : decode cX7_birdsHave 5 = .ok (.bipush 36, 2) := dk_16 36 (dk_at dksX7_birdsHave_0 5 rfl rfl)
theorem dX7_birdsHave_7 : decode cX7_birdsHave 7 = .ok (.if_icmp .ge 30, 3) := dk_162 0 30 (dk_at dksX7_birdsHave_0 7 rfl rfl)
theorem dX7_birdsHave_10 : decode cX7_birdsHave 10 = .ok (.iload_n 1, 1) := dk_27 (dk_at dksX7_birdsHave_0 10 rfl rfl)
theorem dX7_birdsHave_11 : decode cX7_birdsHave 11 = .ok (.aload_n 0, 1) := dk_42 (dk_at dksX7_birdsHave_0 11 rfl rfl)
theorem dX7_birdsHave_12 : decode cX7_birdsHave 12 = .ok (.iload_n 2, 1) := dk_28 (dk_at dksX7_birdsHave_0 12 rfl rfl)
theorem dX7_birdsHave_13 : decode cX7_birdsHave 13 = .ok (.invokevirtual 121, 3) := dk_182 0 121 (dk_at dksX7_birdsHave_0 13 rfl rfl)
theorem dX7_birdsHave_16 : decode cX7_birdsHave 16 = .ok (.ifCond .eq 12, 3) := dk_153 0 12 (dk_at dksX7_birdsHave_0 16 rfl rfl)
theorem dX7_birdsHave_19 : decode cX7_birdsHave 19 = .ok (.aload_n 0, 1) := dk_42 (dk_at dksX7_birdsHave_0 19 rfl rfl)
theorem dX7_birdsHave_20 : decode cX7_birdsHave 20 = .ok (.getfield 35, 3) := dk_180 0 35 (dk_at dksX7_birdsHave_0 20 rfl rfl)
theorem dX7_birdsHave_23 : decode cX7_birdsHave 23 = .ok (.iload_n 2, 1) := dk_28 (dk_at dksX7_birdsHave_0 23 rfl rfl)
theorem dX7_birdsHave_24 : decode cX7_birdsHave 24 = .ok (.iaload, 1) := dk_46 (dk_at dksX7_birdsHave_1 0 rfl rfl)
theorem dX7_birdsHave_25 : decode cX7_birdsHave 25 = .ok (.goto 4, 3) := dk_167 0 4 (dk_at dksX7_birdsHave_1 1 rfl rfl)
theorem dX7_birdsHave_28 : decode cX7_birdsHave 28 = .ok (.iconst 0, 1) := dk_3 (dk_at dksX7_birdsHave_1 4 rfl rfl)
theorem dX7_birdsHave_29 : decode cX7_birdsHave 29 = .ok (.iadd, 1) := dk_96 (dk_at dksX7_birdsHave_1 5 rfl rfl)
theorem dX7_birdsHave_30 : decode cX7_birdsHave 30 = .ok (.istore_n 1, 1) := dk_60 (dk_at dksX7_birdsHave_1 6 rfl rfl)
theorem dX7_birdsHave_31 : decode cX7_birdsHave 31 = .ok (.iinc 2 1, 3) := dk_132 2 1 (dk_at dksX7_birdsHave_1 7 rfl rfl)
theorem dX7_birdsHave_34 : decode cX7_birdsHave 34 = .ok (.goto (-30), 3) := dk_167 255 226 (dk_at dksX7_birdsHave_1 10 rfl rfl)
theorem dX7_birdsHave_37 : decode cX7_birdsHave 37 = .ok (.iload_n 1, 1) := dk_27 (dk_at dksX7_birdsHave_1 13 rfl rfl)
theorem dX7_birdsHave_38 : decode cX7_birdsHave 38 = .ok (.ireturn, 1) := dk_172 (dk_at dksX7_birdsHave_1 14 rfl rfl)
abbrev cX7_lost : ByteArray := prog_26_method_39_code
def yX7_lost : MethodName := ⟨RX7, "lost", "()I"⟩
def dkwX7_lost_0 : List UInt8 := [42, 16, 63, 182, 0, 127, 42, 180, 0, 111, 172]
abbrev dktX7_lost_0 : List UInt8 := dkwX7_lost_0 ++ []
theorem dksX7_lost_0 : cX7_lost.data.toList.drop 0 = dktX7_lost_0 := by decide +kernel
theorem dX7_lost_0 : decode cX7_lost 0 = .ok (.aload_n 0, 1) := dk_42 (dk_at dksX7_lost_0 0 rfl rfl)
theorem dX7_lost_1 : decode cX7_lost 1 = .ok (.bipush 63, 2) := dk_16 63 (dk_at dksX7_lost_0 1 rfl rfl)
theorem dX7_lost_3 : decode cX7_lost 3 = .ok (.invokevirtual 127, 3) := dk_182 0 127 (dk_at dksX7_lost_0 3 rfl rfl)
theorem dX7_lost_6 : decode cX7_lost 6 = .ok (.aload_n 0, 1) := dk_42 (dk_at dksX7_lost_0 6 rfl rfl)
theorem dX7_lost_7 : decode cX7_lost 7 = .ok (.getfield 111, 3) := dk_180 0 111 (dk_at dksX7_lost_0 7 rfl rfl)
theorem dX7_lost_10 : decode cX7_lost 10 = .ok (.ireturn, 1) := dk_172 (dk_at dksX7_lost_0 10 rfl rfl)
abbrev cX7_set : ByteArray := prog_26_method_40_code
def yX7_set : MethodName := ⟨RX7, "set", "(III)I"⟩
def dkwX7_set_7 : List UInt8 := [21, 5, 54, 5, 132, 6, 1, 167, 255, 164, 29, 154, 0, 8, 21, 4, 167, 0, 5, 21, 5, 172]
abbrev dktX7_set_7 : List UInt8 := dkwX7_set_7 ++ []
def dkwX7_set_6 : List UInt8 := [164, 0, 8, 21, 6, 167, 0, 5, 21, 4, 54, 4, 21, 4, 21, 6, 160, 0, 8, 21, 7, 167, 0, 5]
abbrev dktX7_set_6 : List UInt8 := dkwX7_set_6 ++ dktX7_set_7
def dkwX7_set_5 : List UInt8 := [54, 7, 42, 180, 0, 13, 3, 92, 46, 4, 100, 79, 21, 4, 16, 247, 159, 0, 10, 21, 7, 21, 5]
abbrev dktX7_set_5 : List UInt8 := dkwX7_set_5 ++ dktX7_set_6
def dkwX7_set_4 : List UInt8 := [160, 0, 74, 42, 3, 21, 6, 28, 3, 182, 0, 81, 42, 16, 63, 182, 0, 127, 42, 27, 182, 0, 131]
abbrev dktX7_set_4 : List UInt8 := dkwX7_set_4 ++ dktX7_set_5
def dkwX7_set_3 : List UInt8 := [16, 247, 54, 5, 3, 54, 6, 21, 6, 16, 36, 162, 0, 91, 42, 21, 6, 182, 0, 78, 16, 247]
abbrev dktX7_set_3 : List UInt8 := dkwX7_set_3 ++ dktX7_set_4
def dkwX7_set_2 : List UInt8 := [182, 0, 49, 172, 29, 155, 0, 8, 29, 4, 164, 0, 10, 42, 16, 254, 182, 0, 49, 172, 16, 247, 54, 4]
abbrev dktX7_set_2 : List UInt8 := dkwX7_set_2 ++ dktX7_set_3
def dkwX7_set_1 : List UInt8 := [182, 0, 49, 172, 28, 16, 20, 163, 0, 14, 42, 180, 0, 13, 3, 46, 16, 6, 160, 0, 10, 42, 16, 250]
abbrev dktX7_set_1 : List UInt8 := dkwX7_set_1 ++ dktX7_set_2
def dkwX7_set_0 : List UInt8 := [27, 7, 184, 0, 124, 153, 0, 9, 42, 2, 182, 0, 49, 172, 28, 4, 162, 0, 10, 42, 16, 252]
abbrev dktX7_set_0 : List UInt8 := dkwX7_set_0 ++ dktX7_set_1
theorem dksX7_set_0 : cX7_set.data.toList.drop 0 = dktX7_set_0 := by decide +kernel
theorem dksX7_set_1 : cX7_set.data.toList.drop 22 = dktX7_set_1 := dk_seg dksX7_set_0 22 rfl rfl
theorem dksX7_set_2 : cX7_set.data.toList.drop 46 = dktX7_set_2 := dk_seg dksX7_set_1 24 rfl rfl
theorem dksX7_set_3 : cX7_set.data.toList.drop 70 = dktX7_set_3 := dk_seg dksX7_set_2 24 rfl rfl
theorem dksX7_set_4 : cX7_set.data.toList.drop 92 = dktX7_set_4 := dk_seg dksX7_set_3 22 rfl rfl
theorem dksX7_set_5 : cX7_set.data.toList.drop 115 = dktX7_set_5 := dk_seg dksX7_set_4 23 rfl rfl
theorem dksX7_set_6 : cX7_set.data.toList.drop 138 = dktX7_set_6 := dk_seg dksX7_set_5 23 rfl rfl
theorem dksX7_set_7 : cX7_set.data.toList.drop 162 = dktX7_set_7 := dk_seg dksX7_set_6 24 rfl rfl
theorem dX7_set_0 : decode cX7_set 0 = .ok (.iload_n 1, 1) := dk_27 (dk_at dksX7_set_0 0 rfl rfl)
theorem dX7_set_1 : decode cX7_set 1 = .ok (.iconst 4, 1) := dk_7 (dk_at dksX7_set_0 1 rfl rfl)
theorem dX7_set_2 : decode cX7_set 2 = .ok (.invokestatic 124, 3) := dk_184 0 124 (dk_at dksX7_set_0 2 rfl rfl)
theorem dX7_set_5 : decode cX7_set 5 = .ok (.ifCond .eq 9, 3) := dk_153 0 9 (dk_at dksX7_set_0 5 rfl rfl)
theorem dX7_set_8 : decode cX7_set 8 = .ok (.aload_n 0, 1) := dk_42 (dk_at dksX7_set_0 8 rfl rfl)
theorem dX7_set_9 : decode cX7_set 9 = .ok (.iconst (-1), 1) := dk_2 (dk_at dksX7_set_0 9 rfl rfl)
theorem dX7_set_10 : decode cX7_set 10 = .ok (.invokevirtual 49, 3) := dk_182 0 49 (dk_at dksX7_set_0 10 rfl rfl)
theorem dX7_set_13 : decode cX7_set 13 = .ok (.ireturn, 1) := dk_172 (dk_at dksX7_set_0 13 rfl rfl)
theorem dX7_set_14 : decode cX7_set 14 = .ok (.iload_n 2, 1) := dk_28 (dk_at dksX7_set_0 14 rfl rfl)
theorem dX7_set_15 : decode cX7_set 15 = .ok (.iconst 1, 1) := dk_4 (dk_at dksX7_set_0 15 rfl rfl)
theorem dX7_set_16 : decode cX7_set 16 = .ok (.if_icmp .ge 10, 3) := dk_162 0 10 (dk_at dksX7_set_0 16 rfl rfl)
theorem dX7_set_19 : decode cX7_set 19 = .ok (.aload_n 0, 1) := dk_42 (dk_at dksX7_set_0 19 rfl rfl)
theorem dX7_set_20 : decode cX7_set 20 = .ok (.bipush (-4), 2) := dk_16 252 (dk_at dksX7_set_0 20 rfl rfl)
theorem dX7_set_22 : decode cX7_set 22 = .ok (.invokevirtual 49, 3) := dk_182 0 49 (dk_at dksX7_set_1 0 rfl rfl)
theorem dX7_set_25 : decode cX7_set 25 = .ok (.ireturn, 1) := dk_172 (dk_at dksX7_set_1 3 rfl rfl)
theorem dX7_set_26 : decode cX7_set 26 = .ok (.iload_n 2, 1) := dk_28 (dk_at dksX7_set_1 4 rfl rfl)
theorem dX7_set_27 : decode cX7_set 27 = .ok (.bipush 20, 2) := dk_16 20 (dk_at dksX7_set_1 5 rfl rfl)
theorem dX7_set_29 : decode cX7_set 29 = .ok (.if_icmp .gt 14, 3) := dk_163 0 14 (dk_at dksX7_set_1 7 rfl rfl)
theorem dX7_set_32 : decode cX7_set 32 = .ok (.aload_n 0, 1) := dk_42 (dk_at dksX7_set_1 10 rfl rfl)
theorem dX7_set_33 : decode cX7_set 33 = .ok (.getfield 13, 3) := dk_180 0 13 (dk_at dksX7_set_1 11 rfl rfl)
theorem dX7_set_36 : decode cX7_set 36 = .ok (.iconst 0, 1) := dk_3 (dk_at dksX7_set_1 14 rfl rfl)
theorem dX7_set_37 : decode cX7_set 37 = .ok (.iaload, 1) := dk_46 (dk_at dksX7_set_1 15 rfl rfl)
theorem dX7_set_38 : decode cX7_set 38 = .ok (.bipush 6, 2) := dk_16 6 (dk_at dksX7_set_1 16 rfl rfl)
theorem dX7_set_40 : decode cX7_set 40 = .ok (.if_icmp .ne 10, 3) := dk_160 0 10 (dk_at dksX7_set_1 18 rfl rfl)
theorem dX7_set_43 : decode cX7_set 43 = .ok (.aload_n 0, 1) := dk_42 (dk_at dksX7_set_1 21 rfl rfl)
theorem dX7_set_44 : decode cX7_set 44 = .ok (.bipush (-6), 2) := dk_16 250 (dk_at dksX7_set_1 22 rfl rfl)
theorem dX7_set_46 : decode cX7_set 46 = .ok (.invokevirtual 49, 3) := dk_182 0 49 (dk_at dksX7_set_2 0 rfl rfl)
theorem dX7_set_49 : decode cX7_set 49 = .ok (.ireturn, 1) := dk_172 (dk_at dksX7_set_2 3 rfl rfl)
theorem dX7_set_50 : decode cX7_set 50 = .ok (.iload_n 3, 1) := dk_29 (dk_at dksX7_set_2 4 rfl rfl)
theorem dX7_set_51 : decode cX7_set 51 = .ok (.ifCond .lt 8, 3) := dk_155 0 8 (dk_at dksX7_set_2 5 rfl rfl)
theorem dX7_set_54 : decode cX7_set 54 = .ok (.iload_n 3, 1) := dk_29 (dk_at dksX7_set_2 8 rfl rfl)
theorem dX7_set_55 : decode cX7_set 55 = .ok (.iconst 1, 1) := dk_4 (dk_at dksX7_set_2 9 rfl rfl)
theorem dX7_set_56 : decode cX7_set 56 = .ok (.if_icmp .le 10, 3) := dk_164 0 10 (dk_at dksX7_set_2 10 rfl rfl)
theorem dX7_set_59 : decode cX7_set 59 = .ok (.aload_n 0, 1) := dk_42 (dk_at dksX7_set_2 13 rfl rfl)
theorem dX7_set_60 : decode cX7_set 60 = .ok (.bipush (-2), 2) := dk_16 254 (dk_at dksX7_set_2 14 rfl rfl)
theorem dX7_set_62 : decode cX7_set 62 = .ok (.invokevirtual 49, 3) := dk_182 0 49 (dk_at dksX7_set_2 16 rfl rfl)
theorem dX7_set_65 : decode cX7_set 65 = .ok (.ireturn, 1) := dk_172 (dk_at dksX7_set_2 19 rfl rfl)
theorem dX7_set_66 : decode cX7_set 66 = .ok (.bipush (-9), 2) := dk_16 247 (dk_at dksX7_set_2 20 rfl rfl)
theorem dX7_set_68 : decode cX7_set 68 = .ok (.istore 4, 2) := dk_54 4 (dk_at dksX7_set_2 22 rfl rfl)
theorem dX7_set_70 : decode cX7_set 70 = .ok (.bipush (-9), 2) := dk_16 247 (dk_at dksX7_set_3 0 rfl rfl)
theorem dX7_set_72 : decode cX7_set 72 = .ok (.istore 5, 2) := dk_54 5 (dk_at dksX7_set_3 2 rfl rfl)
theorem dX7_set_74 : decode cX7_set 74 = .ok (.iconst 0, 1) := dk_3 (dk_at dksX7_set_3 4 rfl rfl)
theorem dX7_set_75 : decode cX7_set 75 = .ok (.istore 6, 2) := dk_54 6 (dk_at dksX7_set_3 5 rfl rfl)
theorem dX7_set_77 : decode cX7_set 77 = .ok (.iload 6, 2) := dk_21 6 (dk_at dksX7_set_3 7 rfl rfl)
theorem dX7_set_79 : decode cX7_set 79 = .ok (.bipush 36, 2) := dk_16 36 (dk_at dksX7_set_3 9 rfl rfl)
theorem dX7_set_81 : decode cX7_set 81 = .ok (.if_icmp .ge 91, 3) := dk_162 0 91 (dk_at dksX7_set_3 11 rfl rfl)
theorem dX7_set_84 : decode cX7_set 84 = .ok (.aload_n 0, 1) := dk_42 (dk_at dksX7_set_3 14 rfl rfl)
theorem dX7_set_85 : decode cX7_set 85 = .ok (.iload 6, 2) := dk_21 6 (dk_at dksX7_set_3 15 rfl rfl)
theorem dX7_set_87 : decode cX7_set 87 = .ok (.invokevirtual 78, 3) := dk_182 0 78 (dk_at dksX7_set_3 17 rfl rfl)
theorem dX7_set_90 : decode cX7_set 90 = .ok (.bipush (-9), 2) := dk_16 247 (dk_at dksX7_set_3 20 rfl rfl)
theorem dX7_set_92 : decode cX7_set 92 = .ok (.if_icmp .ne 74, 3) := dk_160 0 74 (dk_at dksX7_set_4 0 rfl rfl)
theorem dX7_set_95 : decode cX7_set 95 = .ok (.aload_n 0, 1) := dk_42 (dk_at dksX7_set_4 3 rfl rfl)
theorem dX7_set_96 : decode cX7_set 96 = .ok (.iconst 0, 1) := dk_3 (dk_at dksX7_set_4 4 rfl rfl)
theorem dX7_set_97 : decode cX7_set 97 = .ok (.iload 6, 2) := dk_21 6 (dk_at dksX7_set_4 5 rfl rfl)
theorem dX7_set_99 : decode cX7_set 99 = .ok (.iload_n 2, 1) := dk_28 (dk_at dksX7_set_4 7 rfl rfl)
theorem dX7_set_100 : decode cX7_set 100 = .ok (.iconst 0, 1) := dk_3 (dk_at dksX7_set_4 8 rfl rfl)
theorem dX7_set_101 : decode cX7_set 101 = .ok (.invokevirtual 81, 3) := dk_182 0 81 (dk_at dksX7_set_4 9 rfl rfl)
theorem dX7_set_104 : decode cX7_set 104 = .ok (.aload_n 0, 1) := dk_42 (dk_at dksX7_set_4 12 rfl rfl)
theorem dX7_set_105 : decode cX7_set 105 = .ok (.bipush 63, 2) := dk_16 63 (dk_at dksX7_set_4 13 rfl rfl)
theorem dX7_set_107 : decode cX7_set 107 = .ok (.invokevirtual 127, 3) := dk_182 0 127 (dk_at dksX7_set_4 15 rfl rfl)
theorem dX7_set_110 : decode cX7_set 110 = .ok (.aload_n 0, 1) := dk_42 (dk_at dksX7_set_4 18 rfl rfl)
theorem dX7_set_111 : decode cX7_set 111 = .ok (.iload_n 1, 1) := dk_27 (dk_at dksX7_set_4 19 rfl rfl)
theorem dX7_set_112 : decode cX7_set 112 = .ok (.invokevirtual 131, 3) := dk_182 0 131 (dk_at dksX7_set_4 20 rfl rfl)
theorem dX7_set_115 : decode cX7_set 115 = .ok (.istore 7, 2) := dk_54 7 (dk_at dksX7_set_5 0 rfl rfl)
theorem dX7_set_117 : decode cX7_set 117 = .ok (.aload_n 0, 1) := dk_42 (dk_at dksX7_set_5 2 rfl rfl)
theorem dX7_set_118 : decode cX7_set 118 = .ok (.getfield 13, 3) := dk_180 0 13 (dk_at dksX7_set_5 3 rfl rfl)
theorem dX7_set_121 : decode cX7_set 121 = .ok (.iconst 0, 1) := dk_3 (dk_at dksX7_set_5 6 rfl rfl)
theorem dX7_set_122 : decode cX7_set 122 = .ok (.dup2, 1) := dk_92 (dk_at dksX7_set_5 7 rfl rfl)
theorem dX7_set_123 : decode cX7_set 123 = .ok (.iaload, 1) := dk_46 (dk_at dksX7_set_5 8 rfl rfl)
theorem dX7_set_124 : decode cX7_set 124 = .ok (.iconst 1, 1) := dk_4 (dk_at dksX7_set_5 9 rfl rfl)
theorem dX7_set_125 : decode cX7_set 125 = .ok (.isub, 1) := dk_100 (dk_at dksX7_set_5 10 rfl rfl)
theorem dX7_set_126 : decode cX7_set 126 = .ok (.iastore, 1) := dk_79 (dk_at dksX7_set_5 11 rfl rfl)
theorem dX7_set_127 : decode cX7_set 127 = .ok (.iload 4, 2) := dk_21 4 (dk_at dksX7_set_5 12 rfl rfl)
theorem dX7_set_129 : decode cX7_set 129 = .ok (.bipush (-9), 2) := dk_16 247 (dk_at dksX7_set_5 14 rfl rfl)
theorem dX7_set_131 : decode cX7_set 131 = .ok (.if_icmp .eq 10, 3) := dk_159 0 10 (dk_at dksX7_set_5 16 rfl rfl)
theorem dX7_set_134 : decode cX7_set 134 = .ok (.iload 7, 2) := dk_21 7 (dk_at dksX7_set_5 19 rfl rfl)
theorem dX7_set_136 : decode cX7_set 136 = .ok (.iload 5, 2) := dk_21 5 (dk_at dksX7_set_5 21 rfl rfl)
theorem dX7_set_138 : decode cX7_set 138 = .ok (.if_icmp .le 8, 3) := dk_164 0 8 (dk_at dksX7_set_6 0 rfl rfl)
theorem dX7_set_141 : decode cX7_set 141 = .ok (.iload 6, 2) := dk_21 6 (dk_at dksX7_set_6 3 rfl rfl)
theorem dX7_set_143 : decode cX7_set 143 = .ok (.goto 5, 3) := dk_167 0 5 (dk_at dksX7_set_6 5 rfl rfl)
theorem dX7_set_146 : decode cX7_set 146 = .ok (.iload 4, 2) := dk_21 4 (dk_at dksX7_set_6 8 rfl rfl)
theorem dX7_set_148 : decode cX7_set 148 = .ok (.istore 4, 2) := dk_54 4 (dk_at dksX7_set_6 10 rfl rfl)
theorem dX7_set_150 : decode cX7_set 150 = .ok (.iload 4, 2) := dk_21 4 (dk_at dksX7_set_6 12 rfl rfl)
theorem dX7_set_152 : decode cX7_set 152 = .ok (.iload 6, 2) := dk_21 6 (dk_at dksX7_set_6 14 rfl rfl)
theorem dX7_set_154 : decode cX7_set 154 = .ok (.if_icmp .ne 8, 3) := dk_160 0 8 (dk_at dksX7_set_6 16 rfl rfl)
theorem dX7_set_157 : decode cX7_set 157 = .ok (.iload 7, 2) := dk_21 7 (dk_at dksX7_set_6 19 rfl rfl)
theorem dX7_set_159 : decode cX7_set 159 = .ok (.goto 5, 3) := dk_167 0 5 (dk_at dksX7_set_6 21 rfl rfl)
theorem dX7_set_162 : decode cX7_set 162 = .ok (.iload 5, 2) := dk_21 5 (dk_at dksX7_set_7 0 rfl rfl)
theorem dX7_set_164 : decode cX7_set 164 = .ok (.istore 5, 2) := dk_54 5 (dk_at dksX7_set_7 2 rfl rfl)
theorem dX7_set_166 : decode cX7_set 166 = .ok (.iinc 6 1, 3) := dk_132 6 1 (dk_at dksX7_set_7 4 rfl rfl)
theorem dX7_set_169 : decode cX7_set 169 = .ok (.goto (-92), 3) := dk_167 255 164 (dk_at dksX7_set_7 7 rfl rfl)
theorem dX7_set_172 : decode cX7_set 172 = .ok (.iload_n 3, 1) := dk_29 (dk_at dksX7_set_7 10 rfl rfl)
theorem dX7_set_173 : decode cX7_set 173 = .ok (.ifCond .ne 8, 3) := dk_154 0 8 (dk_at dksX7_set_7 11 rfl rfl)
theorem dX7_set_176 : decode cX7_set 176 = .ok (.iload 4, 2) := dk_21 4 (dk_at dksX7_set_7 14 rfl rfl)
theorem dX7_set_178 : decode cX7_set 178 = .ok (.goto 5, 3) := dk_167 0 5 (dk_at dksX7_set_7 16 rfl rfl)
theorem dX7_set_181 : decode cX7_set 181 = .ok (.iload 5, 2) := dk_21 5 (dk_at dksX7_set_7 19 rfl rfl)
theorem dX7_set_183 : decode cX7_set 183 = .ok (.ireturn, 1) := dk_172 (dk_at dksX7_set_7 21 rfl rfl)
abbrev cX7_worth : ByteArray := prog_26_method_41_code
def yX7_worth : MethodName := ⟨RX7, "worth", "(II)I"⟩
def dkwX7_worth_2 : List UInt8 := [126, 182, 0, 127, 29, 42, 28, 182, 0, 131, 100, 172]
abbrev dktX7_worth_2 : List UInt8 := dkwX7_worth_2 ++ []
def dkwX7_worth_1 : List UInt8 := [182, 0, 49, 172, 42, 16, 63, 182, 0, 127, 42, 28, 182, 0, 131, 62, 42, 16, 63, 4, 27, 120, 2, 130]
abbrev dktX7_worth_1 : List UInt8 := dkwX7_worth_1 ++ dktX7_worth_2
def dkwX7_worth_0 : List UInt8 := [27, 42, 180, 0, 13, 3, 46, 184, 0, 124, 154, 0, 11, 28, 7, 184, 0, 124, 153, 0, 9, 42, 2]
abbrev dktX7_worth_0 : List UInt8 := dkwX7_worth_0 ++ dktX7_worth_1
theorem dksX7_worth_0 : cX7_worth.data.toList.drop 0 = dktX7_worth_0 := by decide +kernel
theorem dksX7_worth_1 : cX7_worth.data.toList.drop 23 = dktX7_worth_1 := dk_seg dksX7_worth_0 23 rfl rfl
theorem dksX7_worth_2 : cX7_worth.data.toList.drop 47 = dktX7_worth_2 := dk_seg dksX7_worth_1 24 rfl rfl
theorem dX7_worth_0 : decode cX7_worth 0 = .ok (.iload_n 1, 1) := dk_27 (dk_at dksX7_worth_0 0 rfl rfl)
theorem dX7_worth_1 : decode cX7_worth 1 = .ok (.aload_n 0, 1) := dk_42 (dk_at dksX7_worth_0 1 rfl rfl)
theorem dX7_worth_2 : decode cX7_worth 2 = .ok (.getfield 13, 3) := dk_180 0 13 (dk_at dksX7_worth_0 2 rfl rfl)
theorem dX7_worth_5 : decode cX7_worth 5 = .ok (.iconst 0, 1) := dk_3 (dk_at dksX7_worth_0 5 rfl rfl)
theorem dX7_worth_6 : decode cX7_worth 6 = .ok (.iaload, 1) := dk_46 (dk_at dksX7_worth_0 6 rfl rfl)
theorem dX7_worth_7 : decode cX7_worth 7 = .ok (.invokestatic 124, 3) := dk_184 0 124 (dk_at dksX7_worth_0 7 rfl rfl)
theorem dX7_worth_10 : decode cX7_worth 10 = .ok (.ifCond .ne 11, 3) := dk_154 0 11 (dk_at dksX7_worth_0 10 rfl rfl)
theorem dX7_worth_13 : decode cX7_worth 13 = .ok (.iload_n 2, 1) := dk_28 (dk_at dksX7_worth_0 13 rfl rfl)
theorem dX7_worth_14 : decode cX7_worth 14 = .ok (.iconst 4, 1) := dk_7 (dk_at dksX7_worth_0 14 rfl rfl)
theorem dX7_worth_15 : decode cX7_worth 15 = .ok (.invokestatic 124, 3) := dk_184 0 124 (dk_at dksX7_worth_0 15 rfl rfl)
theorem dX7_worth_18 : decode cX7_worth 18 = .ok (.ifCond .eq 9, 3) := dk_153 0 9 (dk_at dksX7_worth_0 18 rfl rfl)
theorem dX7_worth_21 : decode cX7_worth 21 = .ok (.aload_n 0, 1) := dk_42 (dk_at dksX7_worth_0 21 rfl rfl)
theorem dX7_worth_22 : decode cX7_worth 22 = .ok (.iconst (-1), 1) := dk_2 (dk_at dksX7_worth_0 22 rfl rfl)
theorem dX7_worth_23 : decode cX7_worth 23 = .ok (.invokevirtual 49, 3) := dk_182 0 49 (dk_at dksX7_worth_1 0 rfl rfl)
theorem dX7_worth_26 : decode cX7_worth 26 = .ok (.ireturn, 1) := dk_172 (dk_at dksX7_worth_1 3 rfl rfl)
theorem dX7_worth_27 : decode cX7_worth 27 = .ok (.aload_n 0, 1) := dk_42 (dk_at dksX7_worth_1 4 rfl rfl)
theorem dX7_worth_28 : decode cX7_worth 28 = .ok (.bipush 63, 2) := dk_16 63 (dk_at dksX7_worth_1 5 rfl rfl)
theorem dX7_worth_30 : decode cX7_worth 30 = .ok (.invokevirtual 127, 3) := dk_182 0 127 (dk_at dksX7_worth_1 7 rfl rfl)
theorem dX7_worth_33 : decode cX7_worth 33 = .ok (.aload_n 0, 1) := dk_42 (dk_at dksX7_worth_1 10 rfl rfl)
theorem dX7_worth_34 : decode cX7_worth 34 = .ok (.iload_n 2, 1) := dk_28 (dk_at dksX7_worth_1 11 rfl rfl)
theorem dX7_worth_35 : decode cX7_worth 35 = .ok (.invokevirtual 131, 3) := dk_182 0 131 (dk_at dksX7_worth_1 12 rfl rfl)
theorem dX7_worth_38 : decode cX7_worth 38 = .ok (.istore_n 3, 1) := dk_62 (dk_at dksX7_worth_1 15 rfl rfl)
theorem dX7_worth_39 : decode cX7_worth 39 = .ok (.aload_n 0, 1) := dk_42 (dk_at dksX7_worth_1 16 rfl rfl)
theorem dX7_worth_40 : decode cX7_worth 40 = .ok (.bipush 63, 2) := dk_16 63 (dk_at dksX7_worth_1 17 rfl rfl)
theorem dX7_worth_42 : decode cX7_worth 42 = .ok (.iconst 1, 1) := dk_4 (dk_at dksX7_worth_1 19 rfl rfl)
theorem dX7_worth_43 : decode cX7_worth 43 = .ok (.iload_n 1, 1) := dk_27 (dk_at dksX7_worth_1 20 rfl rfl)
theorem dX7_worth_44 : decode cX7_worth 44 = .ok (.ishl, 1) := dk_120 (dk_at dksX7_worth_1 21 rfl rfl)
theorem dX7_worth_45 : decode cX7_worth 45 = .ok (.iconst (-1), 1) := dk_2 (dk_at dksX7_worth_1 22 rfl rfl)
theorem dX7_worth_46 : decode cX7_worth 46 = .ok (.ixor, 1) := dk_130 (dk_at dksX7_worth_1 23 rfl rfl)
theorem dX7_worth_47 : decode cX7_worth 47 = .ok (.iand, 1) := dk_126 (dk_at dksX7_worth_2 0 rfl rfl)
theorem dX7_worth_48 : decode cX7_worth 48 = .ok (.invokevirtual 127, 3) := dk_182 0 127 (dk_at dksX7_worth_2 1 rfl rfl)
theorem dX7_worth_51 : decode cX7_worth 51 = .ok (.iload_n 3, 1) := dk_29 (dk_at dksX7_worth_2 4 rfl rfl)
theorem dX7_worth_52 : decode cX7_worth 52 = .ok (.aload_n 0, 1) := dk_42 (dk_at dksX7_worth_2 5 rfl rfl)
theorem dX7_worth_53 : decode cX7_worth 53 = .ok (.iload_n 2, 1) := dk_28 (dk_at dksX7_worth_2 6 rfl rfl)
theorem dX7_worth_54 : decode cX7_worth 54 = .ok (.invokevirtual 131, 3) := dk_182 0 131 (dk_at dksX7_worth_2 7 rfl rfl)
theorem dX7_worth_57 : decode cX7_worth 57 = .ok (.isub, 1) := dk_100 (dk_at dksX7_worth_2 10 rfl rfl)
theorem dX7_worth_58 : decode cX7_worth 58 = .ok (.ireturn, 1) := dk_172 (dk_at dksX7_worth_2 11 rfl rfl)
abbrev cX7_give : ByteArray := prog_26_method_42_code
def yX7_give : MethodName := ⟨RX7, "give", "()I"⟩
def dkwX7_give_4 : List UInt8 := [180, 0, 13, 16, 12, 29, 96, 21, 4, 79, 132, 3, 1, 167, 255, 168, 27, 172]
abbrev dktX7_give_4 : List UInt8 := dkwX7_give_4 ++ []
def dkwX7_give_3 : List UInt8 := [21, 5, 96, 167, 0, 4, 27, 60, 28, 21, 6, 184, 0, 137, 61, 132, 5, 1, 167, 255, 205, 42]
abbrev dktX7_give_3 : List UInt8 := dkwX7_give_3 ++ dktX7_give_4
def dkwX7_give_2 : List UInt8 := [16, 12, 29, 96, 21, 5, 79, 42, 182, 0, 134, 54, 6, 21, 6, 28, 162, 0, 13, 16, 10, 29, 104]
abbrev dktX7_give_2 : List UInt8 := dkwX7_give_2 ++ dktX7_give_3
def dkwX7_give_1 : List UInt8 := [180, 0, 13, 16, 12, 29, 96, 46, 54, 4, 3, 54, 5, 21, 5, 7, 162, 0, 51, 42, 180, 0, 13]
abbrev dktX7_give_1 : List UInt8 := dkwX7_give_1 ++ dktX7_give_2
def dkwX7_give_0 : List UInt8 := [42, 16, 63, 182, 0, 127, 16, 247, 60, 42, 182, 0, 134, 61, 3, 62, 29, 16, 36, 162, 0, 88, 42]
abbrev dktX7_give_0 : List UInt8 := dkwX7_give_0 ++ dktX7_give_1
theorem dksX7_give_0 : cX7_give.data.toList.drop 0 = dktX7_give_0 := by decide +kernel
theorem dksX7_give_1 : cX7_give.data.toList.drop 23 = dktX7_give_1 := dk_seg dksX7_give_0 23 rfl rfl
theorem dksX7_give_2 : cX7_give.data.toList.drop 46 = dktX7_give_2 := dk_seg dksX7_give_1 23 rfl rfl
theorem dksX7_give_3 : cX7_give.data.toList.drop 69 = dktX7_give_3 := dk_seg dksX7_give_2 23 rfl rfl
theorem dksX7_give_4 : cX7_give.data.toList.drop 91 = dktX7_give_4 := dk_seg dksX7_give_3 22 rfl rfl
theorem dX7_give_0 : decode cX7_give 0 = .ok (.aload_n 0, 1) := dk_42 (dk_at dksX7_give_0 0 rfl rfl)
theorem dX7_give_1 : decode cX7_give 1 = .ok (.bipush 63, 2) := dk_16 63 (dk_at dksX7_give_0 1 rfl rfl)
theorem dX7_give_3 : decode cX7_give 3 = .ok (.invokevirtual 127, 3) := dk_182 0 127 (dk_at dksX7_give_0 3 rfl rfl)
theorem dX7_give_6 : decode cX7_give 6 = .ok (.bipush (-9), 2) := dk_16 247 (dk_at dksX7_give_0 6 rfl rfl)
theorem dX7_give_8 : decode cX7_give 8 = .ok (.istore_n 1, 1) := dk_60 (dk_at dksX7_give_0 8 rfl rfl)
theorem dX7_give_9 : decode cX7_give 9 = .ok (.aload_n 0, 1) := dk_42 (dk_at dksX7_give_0 9 rfl rfl)
theorem dX7_give_10 : decode cX7_give 10 = .ok (.invokevirtual 134, 3) := dk_182 0 134 (dk_at dksX7_give_0 10 rfl rfl)
theorem dX7_give_13 : decode cX7_give 13 = .ok (.istore_n 2, 1) := dk_61 (dk_at dksX7_give_0 13 rfl rfl)
theorem dX7_give_14 : decode cX7_give 14 = .ok (.iconst 0, 1) := dk_3 (dk_at dksX7_give_0 14 rfl rfl)
theorem dX7_give_15 : decode cX7_give 15 = .ok (.istore_n 3, 1) := dk_62 (dk_at dksX7_give_0 15 rfl rfl)
theorem dX7_give_16 : decode cX7_give 16 = .ok (.iload_n 3, 1) := dk_29 (dk_at dksX7_give_0 16 rfl rfl)
theorem dX7_give_17 : decode cX7_give 17 = .ok (.bipush 36, 2) := dk_16 36 (dk_at dksX7_give_0 17 rfl rfl)
theorem dX7_give_19 : decode cX7_give 19 = .ok (.if_icmp .ge 88, 3) := dk_162 0 88 (dk_at dksX7_give_0 19 rfl rfl)
theorem dX7_give_22 : decode cX7_give 22 = .ok (.aload_n 0, 1) := dk_42 (dk_at dksX7_give_0 22 rfl rfl)
theorem dX7_give_23 : decode cX7_give 23 = .ok (.getfield 13, 3) := dk_180 0 13 (dk_at dksX7_give_1 0 rfl rfl)
theorem dX7_give_26 : decode cX7_give 26 = .ok (.bipush 12, 2) := dk_16 12 (dk_at dksX7_give_1 3 rfl rfl)
theorem dX7_give_28 : decode cX7_give 28 = .ok (.iload_n 3, 1) := dk_29 (dk_at dksX7_give_1 5 rfl rfl)
theorem dX7_give_29 : decode cX7_give 29 = .ok (.iadd, 1) := dk_96 (dk_at dksX7_give_1 6 rfl rfl)
theorem dX7_give_30 : decode cX7_give 30 = .ok (.iaload, 1) := dk_46 (dk_at dksX7_give_1 7 rfl rfl)
theorem dX7_give_31 : decode cX7_give 31 = .ok (.istore 4, 2) := dk_54 4 (dk_at dksX7_give_1 8 rfl rfl)
theorem dX7_give_33 : decode cX7_give 33 = .ok (.iconst 0, 1) := dk_3 (dk_at dksX7_give_1 10 rfl rfl)
theorem dX7_give_34 : decode cX7_give 34 = .ok (.istore 5, 2) := dk_54 5 (dk_at dksX7_give_1 11 rfl rfl)
theorem dX7_give_36 : decode cX7_give 36 = .ok (.iload 5, 2) := dk_21 5 (dk_at dksX7_give_1 13 rfl rfl)
theorem dX7_give_38 : decode cX7_give 38 = .ok (.iconst 4, 1) := dk_7 (dk_at dksX7_give_1 15 rfl rfl)
theorem dX7_give_39 : decode cX7_give 39 = .ok (.if_icmp .ge 51, 3) := dk_162 0 51 (dk_at dksX7_give_1 16 rfl rfl)
theorem dX7_give_42 : decode cX7_give 42 = .ok (.aload_n 0, 1) := dk_42 (dk_at dksX7_give_1 19 rfl rfl)
theorem dX7_give_43 : decode cX7_give 43 = .ok (.getfield 13, 3) := dk_180 0 13 (dk_at dksX7_give_1 20 rfl rfl)
theorem dX7_give_46 : decode cX7_give 46 = .ok (.bipush 12, 2) := dk_16 12 (dk_at dksX7_give_2 0 rfl rfl)
theorem dX7_give_48 : decode cX7_give 48 = .ok (.iload_n 3, 1) := dk_29 (dk_at dksX7_give_2 2 rfl rfl)
theorem dX7_give_49 : decode cX7_give 49 = .ok (.iadd, 1) := dk_96 (dk_at dksX7_give_2 3 rfl rfl)
theorem dX7_give_50 : decode cX7_give 50 = .ok (.iload 5, 2) := dk_21 5 (dk_at dksX7_give_2 4 rfl rfl)
theorem dX7_give_52 : decode cX7_give 52 = .ok (.iastore, 1) := dk_79 (dk_at dksX7_give_2 6 rfl rfl)
theorem dX7_give_53 : decode cX7_give 53 = .ok (.aload_n 0, 1) := dk_42 (dk_at dksX7_give_2 7 rfl rfl)
theorem dX7_give_54 : decode cX7_give 54 = .ok (.invokevirtual 134, 3) := dk_182 0 134 (dk_at dksX7_give_2 8 rfl rfl)
theorem dX7_give_57 : decode cX7_give 57 = .ok (.istore 6, 2) := dk_54 6 (dk_at dksX7_give_2 11 rfl rfl)
theorem dX7_give_59 : decode cX7_give 59 = .ok (.iload 6, 2) := dk_21 6 (dk_at dksX7_give_2 13 rfl rfl)
theorem dX7_give_61 : decode cX7_give 61 = .ok (.iload_n 2, 1) := dk_28 (dk_at dksX7_give_2 15 rfl rfl)
theorem dX7_give_62 : decode cX7_give 62 = .ok (.if_icmp .ge 13, 3) := dk_162 0 13 (dk_at dksX7_give_2 16 rfl rfl)
theorem dX7_give_65 : decode cX7_give 65 = .ok (.bipush 10, 2) := dk_16 10 (dk_at dksX7_give_2 19 rfl rfl)
theorem dX7_give_67 : decode cX7_give 67 = .ok (.iload_n 3, 1) := dk_29 (dk_at dksX7_give_2 21 rfl rfl)
theorem dX7_give_68 : decode cX7_give 68 = .ok (.imul, 1) := dk_104 (dk_at dksX7_give_2 22 rfl rfl)
theorem dX7_give_69 : decode cX7_give 69 = .ok (.iload 5, 2) := dk_21 5 (dk_at dksX7_give_3 0 rfl rfl)
theorem dX7_give_71 : decode cX7_give 71 = .ok (.iadd, 1) := dk_96 (dk_at dksX7_give_3 2 rfl rfl)
theorem dX7_give_72 : decode cX7_give 72 = .ok (.goto 4, 3) := dk_167 0 4 (dk_at dksX7_give_3 3 rfl rfl)
theorem dX7_give_75 : decode cX7_give 75 = .ok (.iload_n 1, 1) := dk_27 (dk_at dksX7_give_3 6 rfl rfl)
theorem dX7_give_76 : decode cX7_give 76 = .ok (.istore_n 1, 1) := dk_60 (dk_at dksX7_give_3 7 rfl rfl)
theorem dX7_give_77 : decode cX7_give 77 = .ok (.iload_n 2, 1) := dk_28 (dk_at dksX7_give_3 8 rfl rfl)
theorem dX7_give_78 : decode cX7_give 78 = .ok (.iload 6, 2) := dk_21 6 (dk_at dksX7_give_3 9 rfl rfl)
theorem dX7_give_80 : decode cX7_give 80 = .ok (.invokestatic 137, 3) := dk_184 0 137 (dk_at dksX7_give_3 11 rfl rfl)
theorem dX7_give_83 : decode cX7_give 83 = .ok (.istore_n 2, 1) := dk_61 (dk_at dksX7_give_3 14 rfl rfl)
theorem dX7_give_84 : decode cX7_give 84 = .ok (.iinc 5 1, 3) := dk_132 5 1 (dk_at dksX7_give_3 15 rfl rfl)
theorem dX7_give_87 : decode cX7_give 87 = .ok (.goto (-51), 3) := dk_167 255 205 (dk_at dksX7_give_3 18 rfl rfl)
theorem dX7_give_90 : decode cX7_give 90 = .ok (.aload_n 0, 1) := dk_42 (dk_at dksX7_give_3 21 rfl rfl)
theorem dX7_give_91 : decode cX7_give 91 = .ok (.getfield 13, 3) := dk_180 0 13 (dk_at dksX7_give_4 0 rfl rfl)
theorem dX7_give_94 : decode cX7_give 94 = .ok (.bipush 12, 2) := dk_16 12 (dk_at dksX7_give_4 3 rfl rfl)
theorem dX7_give_96 : decode cX7_give 96 = .ok (.iload_n 3, 1) := dk_29 (dk_at dksX7_give_4 5 rfl rfl)
theorem dX7_give_97 : decode cX7_give 97 = .ok (.iadd, 1) := dk_96 (dk_at dksX7_give_4 6 rfl rfl)
theorem dX7_give_98 : decode cX7_give 98 = .ok (.iload 4, 2) := dk_21 4 (dk_at dksX7_give_4 7 rfl rfl)
theorem dX7_give_100 : decode cX7_give 100 = .ok (.iastore, 1) := dk_79 (dk_at dksX7_give_4 9 rfl rfl)
theorem dX7_give_101 : decode cX7_give 101 = .ok (.iinc 3 1, 3) := dk_132 3 1 (dk_at dksX7_give_4 10 rfl rfl)
theorem dX7_give_104 : decode cX7_give 104 = .ok (.goto (-88), 3) := dk_167 255 168 (dk_at dksX7_give_4 13 rfl rfl)
theorem dX7_give_107 : decode cX7_give 107 = .ok (.iload_n 1, 1) := dk_27 (dk_at dksX7_give_4 16 rfl rfl)
theorem dX7_give_108 : decode cX7_give 108 = .ok (.ireturn, 1) := dk_172 (dk_at dksX7_give_4 17 rfl rfl)
abbrev cX7_clean : ByteArray := prog_26_method_43_code
def yX7_clean : MethodName := ⟨RX7, "clean", "()I"⟩
def dkwX7_clean_3 : List UInt8 := [132, 4, 1, 167, 255, 202, 42, 180, 0, 13, 5, 27, 79, 28, 172]
abbrev dktX7_clean_3 : List UInt8 := dkwX7_clean_3 ++ []
def dkwX7_clean_2 : List UInt8 := [29, 162, 0, 8, 21, 4, 167, 0, 4, 28, 61, 28, 21, 4, 160, 0, 8, 21, 5, 167, 0, 4, 29, 62]
abbrev dktX7_clean_2 : List UInt8 := dkwX7_clean_2 ++ dktX7_clean_3
def dkwX7_clean_1 : List UInt8 := [162, 0, 54, 42, 180, 0, 13, 5, 21, 4, 79, 42, 182, 0, 134, 54, 5, 21, 4, 153, 0, 9, 21, 5]
abbrev dktX7_clean_1 : List UInt8 := dkwX7_clean_1 ++ dktX7_clean_2
def dkwX7_clean_0 : List UInt8 := [42, 16, 63, 182, 0, 127, 42, 180, 0, 13, 5, 46, 60, 3, 61, 3, 62, 3, 54, 4, 21, 4, 8]
abbrev dktX7_clean_0 : List UInt8 := dkwX7_clean_0 ++ dktX7_clean_1
theorem dksX7_clean_0 : cX7_clean.data.toList.drop 0 = dktX7_clean_0 := by decide +kernel
theorem dksX7_clean_1 : cX7_clean.data.toList.drop 23 = dktX7_clean_1 := dk_seg dksX7_clean_0 23 rfl rfl
theorem dksX7_clean_2 : cX7_clean.data.toList.drop 47 = dktX7_clean_2 := dk_seg dksX7_clean_1 24 rfl rfl
theorem dksX7_clean_3 : cX7_clean.data.toList.drop 71 = dktX7_clean_3 := dk_seg dksX7_clean_2 24 rfl rfl
theorem dX7_clean_0 : decode cX7_clean 0 = .ok (.aload_n 0, 1) := dk_42 (dk_at dksX7_clean_0 0 rfl rfl)
theorem dX7_clean_1 : decode cX7_clean 1 = .ok (.bipush 63, 2) := dk_16 63 (dk_at dksX7_clean_0 1 rfl rfl)
theorem dX7_clean_3 : decode cX7_clean 3 = .ok (.invokevirtual 127, 3) := dk_182 0 127 (dk_at dksX7_clean_0 3 rfl rfl)
theorem dX7_clean_6 : decode cX7_clean 6 = .ok (.aload_n 0, 1) := dk_42 (dk_at dksX7_clean_0 6 rfl rfl)
theorem dX7_clean_7 : decode cX7_clean 7 = .ok (.getfield 13, 3) := dk_180 0 13 (dk_at dksX7_clean_0 7 rfl rfl)
theorem dX7_clean_10 : decode cX7_clean 10 = .ok (.iconst 2, 1) := dk_5 (dk_at dksX7_clean_0 10 rfl rfl)
theorem dX7_clean_11 : decode cX7_clean 11 = .ok (.iaload, 1) := dk_46 (dk_at dksX7_clean_0 11 rfl rfl)
theorem dX7_clean_12 : decode cX7_clean 12 = .ok (.istore_n 1, 1) := dk_60 (dk_at dksX7_clean_0 12 rfl rfl)
theorem dX7_clean_13 : decode cX7_clean 13 = .ok (.iconst 0, 1) := dk_3 (dk_at dksX7_clean_0 13 rfl rfl)
theorem dX7_clean_14 : decode cX7_clean 14 = .ok (.istore_n 2, 1) := dk_61 (dk_at dksX7_clean_0 14 rfl rfl)
theorem dX7_clean_15 : decode cX7_clean 15 = .ok (.iconst 0, 1) := dk_3 (dk_at dksX7_clean_0 15 rfl rfl)
theorem dX7_clean_16 : decode cX7_clean 16 = .ok (.istore_n 3, 1) := dk_62 (dk_at dksX7_clean_0 16 rfl rfl)
theorem dX7_clean_17 : decode cX7_clean 17 = .ok (.iconst 0, 1) := dk_3 (dk_at dksX7_clean_0 17 rfl rfl)
theorem dX7_clean_18 : decode cX7_clean 18 = .ok (.istore 4, 2) := dk_54 4 (dk_at dksX7_clean_0 18 rfl rfl)
theorem dX7_clean_20 : decode cX7_clean 20 = .ok (.iload 4, 2) := dk_21 4 (dk_at dksX7_clean_0 20 rfl rfl)
theorem dX7_clean_22 : decode cX7_clean 22 = .ok (.iconst 5, 1) := dk_8 (dk_at dksX7_clean_0 22 rfl rfl)
theorem dX7_clean_23 : decode cX7_clean 23 = .ok (.if_icmp .ge 54, 3) := dk_162 0 54 (dk_at dksX7_clean_1 0 rfl rfl)
theorem dX7_clean_26 : decode cX7_clean 26 = .ok (.aload_n 0, 1) := dk_42 (dk_at dksX7_clean_1 3 rfl rfl)
theorem dX7_clean_27 : decode cX7_clean 27 = .ok (.getfield 13, 3) := dk_180 0 13 (dk_at dksX7_clean_1 4 rfl rfl)
theorem dX7_clean_30 : decode cX7_clean 30 = .ok (.iconst 2, 1) := dk_5 (dk_at dksX7_clean_1 7 rfl rfl)
theorem dX7_clean_31 : decode cX7_clean 31 = .ok (.iload 4, 2) := dk_21 4 (dk_at dksX7_clean_1 8 rfl rfl)
theorem dX7_clean_33 : decode cX7_clean 33 = .ok (.iastore, 1) := dk_79 (dk_at dksX7_clean_1 10 rfl rfl)
theorem dX7_clean_34 : decode cX7_clean 34 = .ok (.aload_n 0, 1) := dk_42 (dk_at dksX7_clean_1 11 rfl rfl)
theorem dX7_clean_35 : decode cX7_clean 35 = .ok (.invokevirtual 134, 3) := dk_182 0 134 (dk_at dksX7_clean_1 12 rfl rfl)
theorem dX7_clean_38 : decode cX7_clean 38 = .ok (.istore 5, 2) := dk_54 5 (dk_at dksX7_clean_1 15 rfl rfl)
theorem dX7_clean_40 : decode cX7_clean 40 = .ok (.iload 4, 2) := dk_21 4 (dk_at dksX7_clean_1 17 rfl rfl)
theorem dX7_clean_42 : decode cX7_clean 42 = .ok (.ifCond .eq 9, 3) := dk_153 0 9 (dk_at dksX7_clean_1 19 rfl rfl)
theorem dX7_clean_45 : decode cX7_clean 45 = .ok (.iload 5, 2) := dk_21 5 (dk_at dksX7_clean_1 22 rfl rfl)
theorem dX7_clean_47 : decode cX7_clean 47 = .ok (.iload_n 3, 1) := dk_29 (dk_at dksX7_clean_2 0 rfl rfl)
theorem dX7_clean_48 : decode cX7_clean 48 = .ok (.if_icmp .ge 8, 3) := dk_162 0 8 (dk_at dksX7_clean_2 1 rfl rfl)
theorem dX7_clean_51 : decode cX7_clean 51 = .ok (.iload 4, 2) := dk_21 4 (dk_at dksX7_clean_2 4 rfl rfl)
theorem dX7_clean_53 : decode cX7_clean 53 = .ok (.goto 4, 3) := dk_167 0 4 (dk_at dksX7_clean_2 6 rfl rfl)
theorem dX7_clean_56 : decode cX7_clean 56 = .ok (.iload_n 2, 1) := dk_28 (dk_at dksX7_clean_2 9 rfl rfl)
theorem dX7_clean_57 : decode cX7_clean 57 = .ok (.istore_n 2, 1) := dk_61 (dk_at dksX7_clean_2 10 rfl rfl)
theorem dX7_clean_58 : decode cX7_clean 58 = .ok (.iload_n 2, 1) := dk_28 (dk_at dksX7_clean_2 11 rfl rfl)
theorem dX7_clean_59 : decode cX7_clean 59 = .ok (.iload 4, 2) := dk_21 4 (dk_at dksX7_clean_2 12 rfl rfl)
theorem dX7_clean_61 : decode cX7_clean 61 = .ok (.if_icmp .ne 8, 3) := dk_160 0 8 (dk_at dksX7_clean_2 14 rfl rfl)
theorem dX7_clean_64 : decode cX7_clean 64 = .ok (.iload 5, 2) := dk_21 5 (dk_at dksX7_clean_2 17 rfl rfl)
theorem dX7_clean_66 : decode cX7_clean 66 = .ok (.goto 4, 3) := dk_167 0 4 (dk_at dksX7_clean_2 19 rfl rfl)
theorem dX7_clean_69 : decode cX7_clean 69 = .ok (.iload_n 3, 1) := dk_29 (dk_at dksX7_clean_2 22 rfl rfl)
theorem dX7_clean_70 : decode cX7_clean 70 = .ok (.istore_n 3, 1) := dk_62 (dk_at dksX7_clean_2 23 rfl rfl)
theorem dX7_clean_71 : decode cX7_clean 71 = .ok (.iinc 4 1, 3) := dk_132 4 1 (dk_at dksX7_clean_3 0 rfl rfl)
theorem dX7_clean_74 : decode cX7_clean 74 = .ok (.goto (-54), 3) := dk_167 255 202 (dk_at dksX7_clean_3 3 rfl rfl)
theorem dX7_clean_77 : decode cX7_clean 77 = .ok (.aload_n 0, 1) := dk_42 (dk_at dksX7_clean_3 6 rfl rfl)
theorem dX7_clean_78 : decode cX7_clean 78 = .ok (.getfield 13, 3) := dk_180 0 13 (dk_at dksX7_clean_3 7 rfl rfl)
theorem dX7_clean_81 : decode cX7_clean 81 = .ok (.iconst 2, 1) := dk_5 (dk_at dksX7_clean_3 10 rfl rfl)
theorem dX7_clean_82 : decode cX7_clean 82 = .ok (.iload_n 1, 1) := dk_27 (dk_at dksX7_clean_3 11 rfl rfl)
theorem dX7_clean_83 : decode cX7_clean 83 = .ok (.iastore, 1) := dk_79 (dk_at dksX7_clean_3 12 rfl rfl)
theorem dX7_clean_84 : decode cX7_clean 84 = .ok (.iload_n 2, 1) := dk_28 (dk_at dksX7_clean_3 13 rfl rfl)
theorem dX7_clean_85 : decode cX7_clean 85 = .ok (.ireturn, 1) := dk_172 (dk_at dksX7_clean_3 14 rfl rfl)
abbrev cX7_line : ByteArray := prog_26_method_44_code
def yX7_line : MethodName := ⟨RX7, "line", "(I)I"⟩
def dkwX7_line_7 : List UInt8 := [28, 172]
abbrev dktX7_line_7 : List UInt8 := dkwX7_line_7 ++ []
def dkwX7_line_6 : List UInt8 := [21, 5, 167, 0, 4, 29, 62, 132, 4, 1, 167, 255, 146, 42, 180, 0, 19, 42, 180, 0, 13, 184, 0, 45]
abbrev dktX7_line_6 : List UInt8 := dkwX7_line_6 ++ dktX7_line_7
def dkwX7_line_5 : List UInt8 := [4, 159, 0, 9, 21, 5, 29, 162, 0, 8, 21, 4, 167, 0, 4, 28, 61, 28, 21, 4, 160, 0, 8]
abbrev dktX7_line_5 : List UInt8 := dkwX7_line_5 ++ dktX7_line_6
def dkwX7_line_4 : List UInt8 := [182, 0, 134, 167, 0, 17, 42, 3, 182, 0, 131, 42, 4, 182, 0, 131, 100, 184, 0, 142, 54, 5, 21, 4]
abbrev dktX7_line_4 : List UInt8 := dkwX7_line_4 ++ dktX7_line_5
def dkwX7_line_3 : List UInt8 := [21, 4, 162, 0, 7, 3, 167, 0, 4, 4, 79, 132, 5, 1, 167, 255, 221, 27, 154, 0, 10, 42]
abbrev dktX7_line_3 : List UInt8 := dkwX7_line_3 ++ dktX7_line_4
def dkwX7_line_2 : List UInt8 := [3, 54, 5, 21, 5, 16, 36, 162, 0, 34, 42, 180, 0, 13, 16, 12, 21, 5, 96, 21, 5, 16, 6, 112]
abbrev dktX7_line_2 : List UInt8 := dkwX7_line_2 ++ dktX7_line_3
def dkwX7_line_1 : List UInt8 := [180, 0, 13, 42, 180, 0, 19, 184, 0, 45, 3, 61, 3, 62, 4, 54, 4, 21, 4, 16, 6, 162, 0, 109]
abbrev dktX7_line_1 : List UInt8 := dkwX7_line_1 ++ dktX7_line_2
def dkwX7_line_0 : List UInt8 := [27, 155, 0, 8, 27, 4, 164, 0, 10, 42, 16, 254, 182, 0, 49, 172, 42, 16, 63, 182, 0, 127, 42]
abbrev dktX7_line_0 : List UInt8 := dkwX7_line_0 ++ dktX7_line_1
theorem dksX7_line_0 : cX7_line.data.toList.drop 0 = dktX7_line_0 := by decide +kernel
theorem dksX7_line_1 : cX7_line.data.toList.drop 23 = dktX7_line_1 := dk_seg dksX7_line_0 23 rfl rfl
theorem dksX7_line_2 : cX7_line.data.toList.drop 47 = dktX7_line_2 := dk_seg dksX7_line_1 24 rfl rfl
theorem dksX7_line_3 : cX7_line.data.toList.drop 71 = dktX7_line_3 := dk_seg dksX7_line_2 24 rfl rfl
theorem dksX7_line_4 : cX7_line.data.toList.drop 93 = dktX7_line_4 := dk_seg dksX7_line_3 22 rfl rfl
theorem dksX7_line_5 : cX7_line.data.toList.drop 117 = dktX7_line_5 := dk_seg dksX7_line_4 24 rfl rfl
theorem dksX7_line_6 : cX7_line.data.toList.drop 140 = dktX7_line_6 := dk_seg dksX7_line_5 23 rfl rfl
theorem dksX7_line_7 : cX7_line.data.toList.drop 164 = dktX7_line_7 := dk_seg dksX7_line_6 24 rfl rfl
theorem dX7_line_0 : decode cX7_line 0 = .ok (.iload_n 1, 1) := dk_27 (dk_at dksX7_line_0 0 rfl rfl)
theorem dX7_line_1 : decode cX7_line 1 = .ok (.ifCond .lt 8, 3) := dk_155 0 8 (dk_at dksX7_line_0 1 rfl rfl)
theorem dX7_line_4 : decode cX7_line 4 = .ok (.iload_n 1, 1) := dk_27 (dk_at dksX7_line_0 4 rfl rfl)
theorem dX7_line_5 : decode cX7_line 5 = .ok (.iconst 1, 1) := dk_4 (dk_at dksX7_line_0 5 rfl rfl)
theorem dX7_line_6 : decode cX7_line 6 = .ok (.if_icmp .le 10, 3) := dk_164 0 10 (dk_at dksX7_line_0 6 rfl rfl)
theorem dX7_line_9 : decode cX7_line 9 = .ok (.aload_n 0, 1) := dk_42 (dk_at dksX7_line_0 9 rfl rfl)
theorem dX7_line_10 : decode cX7_line 10 = .ok (.bipush (-2), 2) := dk_16 254 (dk_at dksX7_line_0 10 rfl rfl)
theorem dX7_line_12 : decode cX7_line 12 = .ok (.invokevirtual 49, 3) := dk_182 0 49 (dk_at dksX7_line_0 12 rfl rfl)
theorem dX7_line_15 : decode cX7_line 15 = .ok (.ireturn, 1) := dk_172 (dk_at dksX7_line_0 15 rfl rfl)
theorem dX7_line_16 : decode cX7_line 16 = .ok (.aload_n 0, 1) := dk_42 (dk_at dksX7_line_0 16 rfl rfl)
theorem dX7_line_17 : decode cX7_line 17 = .ok (.bipush 63, 2) := dk_16 63 (dk_at dksX7_line_0 17 rfl rfl)
theorem dX7_line_19 : decode cX7_line 19 = .ok (.invokevirtual 127, 3) := dk_182 0 127 (dk_at dksX7_line_0 19 rfl rfl)
theorem dX7_line_22 : decode cX7_line 22 = .ok (.aload_n 0, 1) := dk_42 (dk_at dksX7_line_0 22 rfl rfl)
theorem dX7_line_23 : decode cX7_line 23 = .ok (.getfield 13, 3) := dk_180 0 13 (dk_at dksX7_line_1 0 rfl rfl)
theorem dX7_line_26 : decode cX7_line 26 = .ok (.aload_n 0, 1) := dk_42 (dk_at dksX7_line_1 3 rfl rfl)
theorem dX7_line_27 : decode cX7_line 27 = .ok (.getfield 19, 3) := dk_180 0 19 (dk_at dksX7_line_1 4 rfl rfl)
theorem dX7_line_30 : decode cX7_line 30 = .ok (.invokestatic 45, 3) := dk_184 0 45 (dk_at dksX7_line_1 7 rfl rfl)
theorem dX7_line_33 : decode cX7_line 33 = .ok (.iconst 0, 1) := dk_3 (dk_at dksX7_line_1 10 rfl rfl)
theorem dX7_line_34 : decode cX7_line 34 = .ok (.istore_n 2, 1) := dk_61 (dk_at dksX7_line_1 11 rfl rfl)
theorem dX7_line_35 : decode cX7_line 35 = .ok (.iconst 0, 1) := dk_3 (dk_at dksX7_line_1 12 rfl rfl)
theorem dX7_line_36 : decode cX7_line 36 = .ok (.istore_n 3, 1) := dk_62 (dk_at dksX7_line_1 13 rfl rfl)
theorem dX7_line_37 : decode cX7_line 37 = .ok (.iconst 1, 1) := dk_4 (dk_at dksX7_line_1 14 rfl rfl)
theorem dX7_line_38 : decode cX7_line 38 = .ok (.istore 4, 2) := dk_54 4 (dk_at dksX7_line_1 15 rfl rfl)
theorem dX7_line_40 : decode cX7_line 40 = .ok (.iload 4, 2) := dk_21 4 (dk_at dksX7_line_1 17 rfl rfl)
theorem dX7_line_42 : decode cX7_line 42 = .ok (.bipush 6, 2) := dk_16 6 (dk_at dksX7_line_1 19 rfl rfl)
theorem dX7_line_44 : decode cX7_line 44 = .ok (.if_icmp .ge 109, 3) := dk_162 0 109 (dk_at dksX7_line_1 21 rfl rfl)
theorem dX7_line_47 : decode cX7_line 47 = .ok (.iconst 0, 1) := dk_3 (dk_at dksX7_line_2 0 rfl rfl)
theorem dX7_line_48 : decode cX7_line 48 = .ok (.istore 5, 2) := dk_54 5 (dk_at dksX7_line_2 1 rfl rfl)
theorem dX7_line_50 : decode cX7_line 50 = .ok (.iload 5, 2) := dk_21 5 (dk_at dksX7_line_2 3 rfl rfl)
theorem dX7_line_52 : decode cX7_line 52 = .ok (.bipush 36, 2) := dk_16 36 (dk_at dksX7_line_2 5 rfl rfl)
theorem dX7_line_54 : decode cX7_line 54 = .ok (.if_icmp .ge 34, 3) := dk_162 0 34 (dk_at dksX7_line_2 7 rfl rfl)
theorem dX7_line_57 : decode cX7_line 57 = .ok (.aload_n 0, 1) := dk_42 (dk_at dksX7_line_2 10 rfl rfl)
theorem dX7_line_58 : decode cX7_line 58 = .ok (.getfield 13, 3) := dk_180 0 13 (dk_at dksX7_line_2 11 rfl rfl)
theorem dX7_line_61 : decode cX7_line 61 = .ok (.bipush 12, 2) := dk_16 12 (dk_at dksX7_line_2 14 rfl rfl)
theorem dX7_line_63 : decode cX7_line 63 = .ok (.iload 5, 2) := dk_21 5 (dk_at dksX7_line_2 16 rfl rfl)
theorem dX7_line_65 : decode cX7_line 65 = .ok (.iadd, 1) := dk_96 (dk_at dksX7_line_2 18 rfl rfl)
theorem dX7_line_66 : decode cX7_line 66 = .ok (.iload 5, 2) := dk_21 5 (dk_at dksX7_line_2 19 rfl rfl)
theorem dX7_line_68 : decode cX7_line 68 = .ok (.bipush 6, 2) := dk_16 6 (dk_at dksX7_line_2 21 rfl rfl)
theorem dX7_line_70 : decode cX7_line 70 = .ok (.irem, 1) := dk_112 (dk_at dksX7_line_2 23 rfl rfl)
theorem dX7_line_71 : decode cX7_line 71 = .ok (.iload 4, 2) := dk_21 4 (dk_at dksX7_line_3 0 rfl rfl)
theorem dX7_line_73 : decode cX7_line 73 = .ok (.if_icmp .ge 7, 3) := dk_162 0 7 (dk_at dksX7_line_3 2 rfl rfl)
theorem dX7_line_76 : decode cX7_line 76 = .ok (.iconst 0, 1) := dk_3 (dk_at dksX7_line_3 5 rfl rfl)
theorem dX7_line_77 : decode cX7_line 77 = .ok (.goto 4, 3) := dk_167 0 4 (dk_at dksX7_line_3 6 rfl rfl)
theorem dX7_line_80 : decode cX7_line 80 = .ok (.iconst 1, 1) := dk_4 (dk_at dksX7_line_3 9 rfl rfl)
theorem dX7_line_81 : decode cX7_line 81 = .ok (.iastore, 1) := dk_79 (dk_at dksX7_line_3 10 rfl rfl)
theorem dX7_line_82 : decode cX7_line 82 = .ok (.iinc 5 1, 3) := dk_132 5 1 (dk_at dksX7_line_3 11 rfl rfl)
theorem dX7_line_85 : decode cX7_line 85 = .ok (.goto (-35), 3) := dk_167 255 221 (dk_at dksX7_line_3 14 rfl rfl)
theorem dX7_line_88 : decode cX7_line 88 = .ok (.iload_n 1, 1) := dk_27 (dk_at dksX7_line_3 17 rfl rfl)
theorem dX7_line_89 : decode cX7_line 89 = .ok (.ifCond .ne 10, 3) := dk_154 0 10 (dk_at dksX7_line_3 18 rfl rfl)
theorem dX7_line_92 : decode cX7_line 92 = .ok (.aload_n 0, 1) := dk_42 (dk_at dksX7_line_3 21 rfl rfl)
theorem dX7_line_93 : decode cX7_line 93 = .ok (.invokevirtual 134, 3) := dk_182 0 134 (dk_at dksX7_line_4 0 rfl rfl)
theorem dX7_line_96 : decode cX7_line 96 = .ok (.goto 17, 3) := dk_167 0 17 (dk_at dksX7_line_4 3 rfl rfl)
theorem dX7_line_99 : decode cX7_line 99 = .ok (.aload_n 0, 1) := dk_42 (dk_at dksX7_line_4 6 rfl rfl)
theorem dX7_line_100 : decode cX7_line 100 = .ok (.iconst 0, 1) := dk_3 (dk_at dksX7_line_4 7 rfl rfl)
theorem dX7_line_101 : decode cX7_line 101 = .ok (.invokevirtual 131, 3) := dk_182 0 131 (dk_at dksX7_line_4 8 rfl rfl)
theorem dX7_line_104 : decode cX7_line 104 = .ok (.aload_n 0, 1) := dk_42 (dk_at dksX7_line_4 11 rfl rfl)
theorem dX7_line_105 : decode cX7_line 105 = .ok (.iconst 1, 1) := dk_4 (dk_at dksX7_line_4 12 rfl rfl)
theorem dX7_line_106 : decode cX7_line 106 = .ok (.invokevirtual 131, 3) := dk_182 0 131 (dk_at dksX7_line_4 13 rfl rfl)
theorem dX7_line_109 : decode cX7_line 109 = .ok (.isub, 1) := dk_100 (dk_at dksX7_line_4 16 rfl rfl)
theorem dX7_line_110 : decode cX7_line 110 = .ok (.invokestatic 142, 3) := dk_184 0 142 (dk_at dksX7_line_4 17 rfl rfl)
theorem dX7_line_113 : decode cX7_line 113 = .ok (.istore 5, 2) := dk_54 5 (dk_at dksX7_line_4 20 rfl rfl)
theorem dX7_line_115 : decode cX7_line 115 = .ok (.iload 4, 2) := dk_21 4 (dk_at dksX7_line_4 22 rfl rfl)
theorem dX7_line_117 : decode cX7_line 117 = .ok (.iconst 1, 1) := dk_4 (dk_at dksX7_line_5 0 rfl rfl)
theorem dX7_line_118 : decode cX7_line 118 = .ok (.if_icmp .eq 9, 3) := dk_159 0 9 (dk_at dksX7_line_5 1 rfl rfl)
theorem dX7_line_121 : decode cX7_line 121 = .ok (.iload 5, 2) := dk_21 5 (dk_at dksX7_line_5 4 rfl rfl)
theorem dX7_line_123 : decode cX7_line 123 = .ok (.iload_n 3, 1) := dk_29 (dk_at dksX7_line_5 6 rfl rfl)
theorem dX7_line_124 : decode cX7_line 124 = .ok (.if_icmp .ge 8, 3) := dk_162 0 8 (dk_at dksX7_line_5 7 rfl rfl)
theorem dX7_line_127 : decode cX7_line 127 = .ok (.iload 4, 2) := dk_21 4 (dk_at dksX7_line_5 10 rfl rfl)
theorem dX7_line_129 : decode cX7_line 129 = .ok (.goto 4, 3) := dk_167 0 4 (dk_at dksX7_line_5 12 rfl rfl)
theorem dX7_line_132 : decode cX7_line 132 = .ok (.iload_n 2, 1) := dk_28 (dk_at dksX7_line_5 15 rfl rfl)
theorem dX7_line_133 : decode cX7_line 133 = .ok (.istore_n 2, 1) := dk_61 (dk_at dksX7_line_5 16 rfl rfl)
theorem dX7_line_134 : decode cX7_line 134 = .ok (.iload_n 2, 1) := dk_28 (dk_at dksX7_line_5 17 rfl rfl)
theorem dX7_line_135 : decode cX7_line 135 = .ok (.iload 4, 2) := dk_21 4 (dk_at dksX7_line_5 18 rfl rfl)
theorem dX7_line_137 : decode cX7_line 137 = .ok (.if_icmp .ne 8, 3) := dk_160 0 8 (dk_at dksX7_line_5 20 rfl rfl)
theorem dX7_line_140 : decode cX7_line 140 = .ok (.iload 5, 2) := dk_21 5 (dk_at dksX7_line_6 0 rfl rfl)
theorem dX7_line_142 : decode cX7_line 142 = .ok (.goto 4, 3) := dk_167 0 4 (dk_at dksX7_line_6 2 rfl rfl)
theorem dX7_line_145 : decode cX7_line 145 = .ok (.iload_n 3, 1) := dk_29 (dk_at dksX7_line_6 5 rfl rfl)
theorem dX7_line_146 : decode cX7_line 146 = .ok (.istore_n 3, 1) := dk_62 (dk_at dksX7_line_6 6 rfl rfl)
theorem dX7_line_147 : decode cX7_line 147 = .ok (.iinc 4 1, 3) := dk_132 4 1 (dk_at dksX7_line_6 7 rfl rfl)
theorem dX7_line_150 : decode cX7_line 150 = .ok (.goto (-110), 3) := dk_167 255 146 (dk_at dksX7_line_6 10 rfl rfl)
theorem dX7_line_153 : decode cX7_line 153 = .ok (.aload_n 0, 1) := dk_42 (dk_at dksX7_line_6 13 rfl rfl)
theorem dX7_line_154 : decode cX7_line 154 = .ok (.getfield 19, 3) := dk_180 0 19 (dk_at dksX7_line_6 14 rfl rfl)
theorem dX7_line_157 : decode cX7_line 157 = .ok (.aload_n 0, 1) := dk_42 (dk_at dksX7_line_6 17 rfl rfl)
theorem dX7_line_158 : decode cX7_line 158 = .ok (.getfield 13, 3) := dk_180 0 13 (dk_at dksX7_line_6 18 rfl rfl)
theorem dX7_line_161 : decode cX7_line 161 = .ok (.invokestatic 45, 3) := dk_184 0 45 (dk_at dksX7_line_6 21 rfl rfl)
theorem dX7_line_164 : decode cX7_line 164 = .ok (.iload_n 2, 1) := dk_28 (dk_at dksX7_line_7 0 rfl rfl)
theorem dX7_line_165 : decode cX7_line 165 = .ok (.ireturn, 1) := dk_172 (dk_at dksX7_line_7 1 rfl rfl)
abbrev cX7_winds : ByteArray := prog_26_method_45_code
def yX7_winds : MethodName := ⟨RX7, "winds", "(II)I"⟩
def dkwX7_winds_6 : List UInt8 := [180, 0, 13, 4, 29, 79, 28, 154, 0, 8, 21, 4, 167, 0, 5, 21, 6, 172]
abbrev dktX7_winds_6 : List UInt8 := dkwX7_winds_6 ++ []
def dkwX7_winds_5 : List UInt8 := [154, 0, 8, 21, 8, 167, 0, 10, 21, 6, 21, 8, 184, 0, 137, 54, 6, 132, 7, 1, 167, 255, 169, 42]
abbrev dktX7_winds_5 : List UInt8 := dkwX7_winds_5 ++ dktX7_winds_6
def dkwX7_winds_4 : List UInt8 := [21, 4, 54, 4, 21, 4, 21, 7, 160, 0, 8, 21, 8, 167, 0, 5, 21, 5, 54, 5, 21, 7]
abbrev dktX7_winds_4 : List UInt8 := dkwX7_winds_4 ++ dktX7_winds_5
def dkwX7_winds_3 : List UInt8 := [27, 182, 0, 131, 54, 8, 21, 7, 153, 0, 10, 21, 8, 21, 5, 164, 0, 8, 21, 7, 167, 0, 5]
abbrev dktX7_winds_3 : List UInt8 := dkwX7_winds_3 ++ dktX7_winds_4
def dkwX7_winds_2 : List UInt8 := [54, 7, 21, 7, 16, 16, 162, 0, 86, 42, 180, 0, 13, 4, 21, 7, 79, 42, 16, 63, 182, 0, 127, 42]
abbrev dktX7_winds_2 : List UInt8 := dkwX7_winds_2 ++ dktX7_winds_3
def dkwX7_winds_1 : List UInt8 := [16, 254, 182, 0, 49, 172, 42, 180, 0, 13, 4, 46, 62, 3, 54, 4, 3, 54, 5, 3, 54, 6, 3]
abbrev dktX7_winds_1 : List UInt8 := dkwX7_winds_1 ++ dktX7_winds_2
def dkwX7_winds_0 : List UInt8 := [27, 7, 184, 0, 124, 153, 0, 9, 42, 2, 182, 0, 49, 172, 28, 155, 0, 8, 28, 4, 164, 0, 10, 42]
abbrev dktX7_winds_0 : List UInt8 := dkwX7_winds_0 ++ dktX7_winds_1
theorem dksX7_winds_0 : cX7_winds.data.toList.drop 0 = dktX7_winds_0 := by decide +kernel
theorem dksX7_winds_1 : cX7_winds.data.toList.drop 24 = dktX7_winds_1 := dk_seg dksX7_winds_0 24 rfl rfl
theorem dksX7_winds_2 : cX7_winds.data.toList.drop 47 = dktX7_winds_2 := dk_seg dksX7_winds_1 23 rfl rfl
theorem dksX7_winds_3 : cX7_winds.data.toList.drop 71 = dktX7_winds_3 := dk_seg dksX7_winds_2 24 rfl rfl
theorem dksX7_winds_4 : cX7_winds.data.toList.drop 94 = dktX7_winds_4 := dk_seg dksX7_winds_3 23 rfl rfl
theorem dksX7_winds_5 : cX7_winds.data.toList.drop 116 = dktX7_winds_5 := dk_seg dksX7_winds_4 22 rfl rfl
theorem dksX7_winds_6 : cX7_winds.data.toList.drop 140 = dktX7_winds_6 := dk_seg dksX7_winds_5 24 rfl rfl
theorem dX7_winds_0 : decode cX7_winds 0 = .ok (.iload_n 1, 1) := dk_27 (dk_at dksX7_winds_0 0 rfl rfl)
theorem dX7_winds_1 : decode cX7_winds 1 = .ok (.iconst 4, 1) := dk_7 (dk_at dksX7_winds_0 1 rfl rfl)
theorem dX7_winds_2 : decode cX7_winds 2 = .ok (.invokestatic 124, 3) := dk_184 0 124 (dk_at dksX7_winds_0 2 rfl rfl)
theorem dX7_winds_5 : decode cX7_winds 5 = .ok (.ifCond .eq 9, 3) := dk_153 0 9 (dk_at dksX7_winds_0 5 rfl rfl)
theorem dX7_winds_8 : decode cX7_winds 8 = .ok (.aload_n 0, 1) := dk_42 (dk_at dksX7_winds_0 8 rfl rfl)
theorem dX7_winds_9 : decode cX7_winds 9 = .ok (.iconst (-1), 1) := dk_2 (dk_at dksX7_winds_0 9 rfl rfl)
theorem dX7_winds_10 : decode cX7_winds 10 = .ok (.invokevirtual 49, 3) := dk_182 0 49 (dk_at dksX7_winds_0 10 rfl rfl)
theorem dX7_winds_13 : decode cX7_winds 13 = .ok (.ireturn, 1) := dk_172 (dk_at dksX7_winds_0 13 rfl rfl)
theorem dX7_winds_14 : decode cX7_winds 14 = .ok (.iload_n 2, 1) := dk_28 (dk_at dksX7_winds_0 14 rfl rfl)
theorem dX7_winds_15 : decode cX7_winds 15 = .ok (.ifCond .lt 8, 3) := dk_155 0 8 (dk_at dksX7_winds_0 15 rfl rfl)
theorem dX7_winds_18 : decode cX7_winds 18 = .ok (.iload_n 2, 1) := dk_28 (dk_at dksX7_winds_0 18 rfl rfl)
theorem dX7_winds_19 : decode cX7_winds 19 = .ok (.iconst 1, 1) := dk_4 (dk_at dksX7_winds_0 19 rfl rfl)
theorem dX7_winds_20 : decode cX7_winds 20 = .ok (.if_icmp .le 10, 3) := dk_164 0 10 (dk_at dksX7_winds_0 20 rfl rfl)
theorem dX7_winds_23 : decode cX7_winds 23 = .ok (.aload_n 0, 1) := dk_42 (dk_at dksX7_winds_0 23 rfl rfl)
theorem dX7_winds_24 : decode cX7_winds 24 = .ok (.bipush (-2), 2) := dk_16 254 (dk_at dksX7_winds_1 0 rfl rfl)
theorem dX7_winds_26 : decode cX7_winds 26 = .ok (.invokevirtual 49, 3) := dk_182 0 49 (dk_at dksX7_winds_1 2 rfl rfl)
theorem dX7_winds_29 : decode cX7_winds 29 = .ok (.ireturn, 1) := dk_172 (dk_at dksX7_winds_1 5 rfl rfl)
theorem dX7_winds_30 : decode cX7_winds 30 = .ok (.aload_n 0, 1) := dk_42 (dk_at dksX7_winds_1 6 rfl rfl)
theorem dX7_winds_31 : decode cX7_winds 31 = .ok (.getfield 13, 3) := dk_180 0 13 (dk_at dksX7_winds_1 7 rfl rfl)
theorem dX7_winds_34 : decode cX7_winds 34 = .ok (.iconst 1, 1) := dk_4 (dk_at dksX7_winds_1 10 rfl rfl)
theorem dX7_winds_35 : decode cX7_winds 35 = .ok (.iaload, 1) := dk_46 (dk_at dksX7_winds_1 11 rfl rfl)
theorem dX7_winds_36 : decode cX7_winds 36 = .ok (.istore_n 3, 1) := dk_62 (dk_at dksX7_winds_1 12 rfl rfl)
theorem dX7_winds_37 : decode cX7_winds 37 = .ok (.iconst 0, 1) := dk_3 (dk_at dksX7_winds_1 13 rfl rfl)
theorem dX7_winds_38 : decode cX7_winds 38 = .ok (.istore 4, 2) := dk_54 4 (dk_at dksX7_winds_1 14 rfl rfl)
theorem dX7_winds_40 : decode cX7_winds 40 = .ok (.iconst 0, 1) := dk_3 (dk_at dksX7_winds_1 16 rfl rfl)
theorem dX7_winds_41 : decode cX7_winds 41 = .ok (.istore 5, 2) := dk_54 5 (dk_at dksX7_winds_1 17 rfl rfl)
theorem dX7_winds_43 : decode cX7_winds 43 = .ok (.iconst 0, 1) := dk_3 (dk_at dksX7_winds_1 19 rfl rfl)
theorem dX7_winds_44 : decode cX7_winds 44 = .ok (.istore 6, 2) := dk_54 6 (dk_at dksX7_winds_1 20 rfl rfl)
theorem dX7_winds_46 : decode cX7_winds 46 = .ok (.iconst 0, 1) := dk_3 (dk_at dksX7_winds_1 22 rfl rfl)
theorem dX7_winds_47 : decode cX7_winds 47 = .ok (.istore 7, 2) := dk_54 7 (dk_at dksX7_winds_2 0 rfl rfl)
theorem dX7_winds_49 : decode cX7_winds 49 = .ok (.iload 7, 2) := dk_21 7 (dk_at dksX7_winds_2 2 rfl rfl)
theorem dX7_winds_51 : decode cX7_winds 51 = .ok (.bipush 16, 2) := dk_16 16 (dk_at dksX7_winds_2 4 rfl rfl)
theorem dX7_winds_53 : decode cX7_winds 53 = .ok (.if_icmp .ge 86, 3) := dk_162 0 86 (dk_at dksX7_winds_2 6 rfl rfl)
theorem dX7_winds_56 : decode cX7_winds 56 = .ok (.aload_n 0, 1) := dk_42 (dk_at dksX7_winds_2 9 rfl rfl)
theorem dX7_winds_57 : decode cX7_winds 57 = .ok (.getfield 13, 3) := dk_180 0 13 (dk_at dksX7_winds_2 10 rfl rfl)
theorem dX7_winds_60 : decode cX7_winds 60 = .ok (.iconst 1, 1) := dk_4 (dk_at dksX7_winds_2 13 rfl rfl)
theorem dX7_winds_61 : decode cX7_winds 61 = .ok (.iload 7, 2) := dk_21 7 (dk_at dksX7_winds_2 14 rfl rfl)
theorem dX7_winds_63 : decode cX7_winds 63 = .ok (.iastore, 1) := dk_79 (dk_at dksX7_winds_2 16 rfl rfl)
theorem dX7_winds_64 : decode cX7_winds 64 = .ok (.aload_n 0, 1) := dk_42 (dk_at dksX7_winds_2 17 rfl rfl)
theorem dX7_winds_65 : decode cX7_winds 65 = .ok (.bipush 63, 2) := dk_16 63 (dk_at dksX7_winds_2 18 rfl rfl)
theorem dX7_winds_67 : decode cX7_winds 67 = .ok (.invokevirtual 127, 3) := dk_182 0 127 (dk_at dksX7_winds_2 20 rfl rfl)
theorem dX7_winds_70 : decode cX7_winds 70 = .ok (.aload_n 0, 1) := dk_42 (dk_at dksX7_winds_2 23 rfl rfl)
theorem dX7_winds_71 : decode cX7_winds 71 = .ok (.iload_n 1, 1) := dk_27 (dk_at dksX7_winds_3 0 rfl rfl)
theorem dX7_winds_72 : decode cX7_winds 72 = .ok (.invokevirtual 131, 3) := dk_182 0 131 (dk_at dksX7_winds_3 1 rfl rfl)
theorem dX7_winds_75 : decode cX7_winds 75 = .ok (.istore 8, 2) := dk_54 8 (dk_at dksX7_winds_3 4 rfl rfl)
theorem dX7_winds_77 : decode cX7_winds 77 = .ok (.iload 7, 2) := dk_21 7 (dk_at dksX7_winds_3 6 rfl rfl)
theorem dX7_winds_79 : decode cX7_winds 79 = .ok (.ifCond .eq 10, 3) := dk_153 0 10 (dk_at dksX7_winds_3 8 rfl rfl)
theorem dX7_winds_82 : decode cX7_winds 82 = .ok (.iload 8, 2) := dk_21 8 (dk_at dksX7_winds_3 11 rfl rfl)
theorem dX7_winds_84 : decode cX7_winds 84 = .ok (.iload 5, 2) := dk_21 5 (dk_at dksX7_winds_3 13 rfl rfl)
theorem dX7_winds_86 : decode cX7_winds 86 = .ok (.if_icmp .le 8, 3) := dk_164 0 8 (dk_at dksX7_winds_3 15 rfl rfl)
theorem dX7_winds_89 : decode cX7_winds 89 = .ok (.iload 7, 2) := dk_21 7 (dk_at dksX7_winds_3 18 rfl rfl)
theorem dX7_winds_91 : decode cX7_winds 91 = .ok (.goto 5, 3) := dk_167 0 5 (dk_at dksX7_winds_3 20 rfl rfl)
theorem dX7_winds_94 : decode cX7_winds 94 = .ok (.iload 4, 2) := dk_21 4 (dk_at dksX7_winds_4 0 rfl rfl)
theorem dX7_winds_96 : decode cX7_winds 96 = .ok (.istore 4, 2) := dk_54 4 (dk_at dksX7_winds_4 2 rfl rfl)
theorem dX7_winds_98 : decode cX7_winds 98 = .ok (.iload 4, 2) := dk_21 4 (dk_at dksX7_winds_4 4 rfl rfl)
theorem dX7_winds_100 : decode cX7_winds 100 = .ok (.iload 7, 2) := dk_21 7 (dk_at dksX7_winds_4 6 rfl rfl)
theorem dX7_winds_102 : decode cX7_winds 102 = .ok (.if_icmp .ne 8, 3) := dk_160 0 8 (dk_at dksX7_winds_4 8 rfl rfl)
theorem dX7_winds_105 : decode cX7_winds 105 = .ok (.iload 8, 2) := dk_21 8 (dk_at dksX7_winds_4 11 rfl rfl)
theorem dX7_winds_107 : decode cX7_winds 107 = .ok (.goto 5, 3) := dk_167 0 5 (dk_at dksX7_winds_4 13 rfl rfl)
theorem dX7_winds_110 : decode cX7_winds 110 = .ok (.iload 5, 2) := dk_21 5 (dk_at dksX7_winds_4 16 rfl rfl)
theorem dX7_winds_112 : decode cX7_winds 112 = .ok (.istore 5, 2) := dk_54 5 (dk_at dksX7_winds_4 18 rfl rfl)
theorem dX7_winds_114 : decode cX7_winds 114 = .ok (.iload 7, 2) := dk_21 7 (dk_at dksX7_winds_4 20 rfl rfl)
theorem dX7_winds_116 : decode cX7_winds 116 = .ok (.ifCond .ne 8, 3) := dk_154 0 8 (dk_at dksX7_winds_5 0 rfl rfl)
theorem dX7_winds_119 : decode cX7_winds 119 = .ok (.iload 8, 2) := dk_21 8 (dk_at dksX7_winds_5 3 rfl rfl)
theorem dX7_winds_121 : decode cX7_winds 121 = .ok (.goto 10, 3) := dk_167 0 10 (dk_at dksX7_winds_5 5 rfl rfl)
theorem dX7_winds_124 : decode cX7_winds 124 = .ok (.iload 6, 2) := dk_21 6 (dk_at dksX7_winds_5 8 rfl rfl)
theorem dX7_winds_126 : decode cX7_winds 126 = .ok (.iload 8, 2) := dk_21 8 (dk_at dksX7_winds_5 10 rfl rfl)
theorem dX7_winds_128 : decode cX7_winds 128 = .ok (.invokestatic 137, 3) := dk_184 0 137 (dk_at dksX7_winds_5 12 rfl rfl)
theorem dX7_winds_131 : decode cX7_winds 131 = .ok (.istore 6, 2) := dk_54 6 (dk_at dksX7_winds_5 15 rfl rfl)
theorem dX7_winds_133 : decode cX7_winds 133 = .ok (.iinc 7 1, 3) := dk_132 7 1 (dk_at dksX7_winds_5 17 rfl rfl)
theorem dX7_winds_136 : decode cX7_winds 136 = .ok (.goto (-87), 3) := dk_167 255 169 (dk_at dksX7_winds_5 20 rfl rfl)
theorem dX7_winds_139 : decode cX7_winds 139 = .ok (.aload_n 0, 1) := dk_42 (dk_at dksX7_winds_5 23 rfl rfl)
theorem dX7_winds_140 : decode cX7_winds 140 = .ok (.getfield 13, 3) := dk_180 0 13 (dk_at dksX7_winds_6 0 rfl rfl)
theorem dX7_winds_143 : decode cX7_winds 143 = .ok (.iconst 1, 1) := dk_4 (dk_at dksX7_winds_6 3 rfl rfl)
theorem dX7_winds_144 : decode cX7_winds 144 = .ok (.iload_n 3, 1) := dk_29 (dk_at dksX7_winds_6 4 rfl rfl)
theorem dX7_winds_145 : decode cX7_winds 145 = .ok (.iastore, 1) := dk_79 (dk_at dksX7_winds_6 5 rfl rfl)
theorem dX7_winds_146 : decode cX7_winds 146 = .ok (.iload_n 2, 1) := dk_28 (dk_at dksX7_winds_6 6 rfl rfl)
theorem dX7_winds_147 : decode cX7_winds 147 = .ok (.ifCond .ne 8, 3) := dk_154 0 8 (dk_at dksX7_winds_6 7 rfl rfl)
theorem dX7_winds_150 : decode cX7_winds 150 = .ok (.iload 4, 2) := dk_21 4 (dk_at dksX7_winds_6 10 rfl rfl)
theorem dX7_winds_152 : decode cX7_winds 152 = .ok (.goto 5, 3) := dk_167 0 5 (dk_at dksX7_winds_6 12 rfl rfl)
theorem dX7_winds_155 : decode cX7_winds 155 = .ok (.iload 6, 2) := dk_21 6 (dk_at dksX7_winds_6 15 rfl rfl)
theorem dX7_winds_157 : decode cX7_winds 157 = .ok (.ireturn, 1) := dk_172 (dk_at dksX7_winds_6 17 rfl rfl)
abbrev cX7_netted : ByteArray := prog_26_method_46_code
def yX7_netted : MethodName := ⟨RX7, "netted", "(I)I"⟩
def dkwX7_netted_4 : List UInt8 := [21, 5, 184, 0, 145, 62, 132, 4, 1, 167, 255, 184, 28, 172]
abbrev dktX7_netted_4 : List UInt8 := dkwX7_netted_4 ++ []
def dkwX7_netted_3 : List UInt8 := [180, 0, 13, 16, 84, 21, 4, 96, 3, 79, 21, 5, 29, 164, 0, 8, 21, 4, 167, 0, 4, 28, 61, 29]
abbrev dktX7_netted_3 : List UInt8 := dkwX7_netted_3 ++ dktX7_netted_4
def dkwX7_netted_2 : List UInt8 := [46, 154, 0, 52, 42, 180, 0, 13, 16, 84, 21, 4, 96, 4, 79, 42, 27, 182, 0, 131, 54, 5, 42]
abbrev dktX7_netted_2 : List UInt8 := dkwX7_netted_2 ++ dktX7_netted_3
def dkwX7_netted_1 : List UInt8 := [27, 182, 0, 131, 62, 3, 54, 4, 21, 4, 16, 36, 162, 0, 71, 42, 180, 0, 13, 16, 84, 21, 4, 96]
abbrev dktX7_netted_1 : List UInt8 := dkwX7_netted_1 ++ dktX7_netted_2
def dkwX7_netted_0 : List UInt8 := [27, 7, 184, 0, 124, 153, 0, 9, 42, 2, 182, 0, 49, 172, 42, 16, 63, 182, 0, 127, 16, 247, 61, 42]
abbrev dktX7_netted_0 : List UInt8 := dkwX7_netted_0 ++ dktX7_netted_1
theorem dksX7_netted_0 : cX7_netted.data.toList.drop 0 = dktX7_netted_0 := by decide +kernel
theorem dksX7_netted_1 : cX7_netted.data.toList.drop 24 = dktX7_netted_1 := dk_seg dksX7_netted_0 24 rfl rfl
theorem dksX7_netted_2 : cX7_netted.data.toList.drop 48 = dktX7_netted_2 := dk_seg dksX7_netted_1 24 rfl rfl
theorem dksX7_netted_3 : cX7_netted.data.toList.drop 71 = dktX7_netted_3 := dk_seg dksX7_netted_2 23 rfl rfl
theorem dksX7_netted_4 : cX7_netted.data.toList.drop 95 = dktX7_netted_4 := dk_seg dksX7_netted_3 24 rfl rfl
theorem dX7_netted_0 : decode cX7_netted 0 = .ok (.iload_n 1, 1) := dk_27 (dk_at dksX7_netted_0 0 rfl rfl)
theorem dX7_netted_1 : decode cX7_netted 1 = .ok (.iconst 4, 1) := dk_7 (dk_at dksX7_netted_0 1 rfl rfl)
theorem dX7_netted_2 : decode cX7_netted 2 = .ok (.invokestatic 124, 3) := dk_184 0 124 (dk_at dksX7_netted_0 2 rfl rfl)
theorem dX7_netted_5 : decode cX7_netted 5 = .ok (.ifCond .eq 9, 3) := dk_153 0 9 (dk_at dksX7_netted_0 5 rfl rfl)
theorem dX7_netted_8 : decode cX7_netted 8 = .ok (.aload_n 0, 1) := dk_42 (dk_at dksX7_netted_0 8 rfl rfl)
theorem dX7_netted_9 : decode cX7_netted 9 = .ok (.iconst (-1), 1) := dk_2 (dk_at dksX7_netted_0 9 rfl rfl)
theorem dX7_netted_10 : decode cX7_netted 10 = .ok (.invokevirtual 49, 3) := dk_182 0 49 (dk_at dksX7_netted_0 10 rfl rfl)
theorem dX7_netted_13 : decode cX7_netted 13 = .ok (.ireturn, 1) := dk_172 (dk_at dksX7_netted_0 13 rfl rfl)
theorem dX7_netted_14 : decode cX7_netted 14 = .ok (.aload_n 0, 1) := dk_42 (dk_at dksX7_netted_0 14 rfl rfl)
theorem dX7_netted_15 : decode cX7_netted 15 = .ok (.bipush 63, 2) := dk_16 63 (dk_at dksX7_netted_0 15 rfl rfl)
theorem dX7_netted_17 : decode cX7_netted 17 = .ok (.invokevirtual 127, 3) := dk_182 0 127 (dk_at dksX7_netted_0 17 rfl rfl)
theorem dX7_netted_20 : decode cX7_netted 20 = .ok (.bipush (-9), 2) := dk_16 247 (dk_at dksX7_netted_0 20 rfl rfl)
theorem dX7_netted_22 : decode cX7_netted 22 = .ok (.istore_n 2, 1) := dk_61 (dk_at dksX7_netted_0 22 rfl rfl)
theorem dX7_netted_23 : decode cX7_netted 23 = .ok (.aload_n 0, 1) := dk_42 (dk_at dksX7_netted_0 23 rfl rfl)
theorem dX7_netted_24 : decode cX7_netted 24 = .ok (.iload_n 1, 1) := dk_27 (dk_at dksX7_netted_1 0 rfl rfl)
theorem dX7_netted_25 : decode cX7_netted 25 = .ok (.invokevirtual 131, 3) := dk_182 0 131 (dk_at dksX7_netted_1 1 rfl rfl)
theorem dX7_netted_28 : decode cX7_netted 28 = .ok (.istore_n 3, 1) := dk_62 (dk_at dksX7_netted_1 4 rfl rfl)
theorem dX7_netted_29 : decode cX7_netted 29 = .ok (.iconst 0, 1) := dk_3 (dk_at dksX7_netted_1 5 rfl rfl)
theorem dX7_netted_30 : decode cX7_netted 30 = .ok (.istore 4, 2) := dk_54 4 (dk_at dksX7_netted_1 6 rfl rfl)
theorem dX7_netted_32 : decode cX7_netted 32 = .ok (.iload 4, 2) := dk_21 4 (dk_at dksX7_netted_1 8 rfl rfl)
theorem dX7_netted_34 : decode cX7_netted 34 = .ok (.bipush 36, 2) := dk_16 36 (dk_at dksX7_netted_1 10 rfl rfl)
theorem dX7_netted_36 : decode cX7_netted 36 = .ok (.if_icmp .ge 71, 3) := dk_162 0 71 (dk_at dksX7_netted_1 12 rfl rfl)
theorem dX7_netted_39 : decode cX7_netted 39 = .ok (.aload_n 0, 1) := dk_42 (dk_at dksX7_netted_1 15 rfl rfl)
theorem dX7_netted_40 : decode cX7_netted 40 = .ok (.getfield 13, 3) := dk_180 0 13 (dk_at dksX7_netted_1 16 rfl rfl)
theorem dX7_netted_43 : decode cX7_netted 43 = .ok (.bipush 84, 2) := dk_16 84 (dk_at dksX7_netted_1 19 rfl rfl)
theorem dX7_netted_45 : decode cX7_netted 45 = .ok (.iload 4, 2) := dk_21 4 (dk_at dksX7_netted_1 21 rfl rfl)
theorem dX7_netted_47 : decode cX7_netted 47 = .ok (.iadd, 1) := dk_96 (dk_at dksX7_netted_1 23 rfl rfl)
theorem dX7_netted_48 : decode cX7_netted 48 = .ok (.iaload, 1) := dk_46 (dk_at dksX7_netted_2 0 rfl rfl)
theorem dX7_netted_49 : decode cX7_netted 49 = .ok (.ifCond .ne 52, 3) := dk_154 0 52 (dk_at dksX7_netted_2 1 rfl rfl)
theorem dX7_netted_52 : decode cX7_netted 52 = .ok (.aload_n 0, 1) := dk_42 (dk_at dksX7_netted_2 4 rfl rfl)
theorem dX7_netted_53 : decode cX7_netted 53 = .ok (.getfield 13, 3) := dk_180 0 13 (dk_at dksX7_netted_2 5 rfl rfl)
theorem dX7_netted_56 : decode cX7_netted 56 = .ok (.bipush 84, 2) := dk_16 84 (dk_at dksX7_netted_2 8 rfl rfl)
theorem dX7_netted_58 : decode cX7_netted 58 = .ok (.iload 4, 2) := dk_21 4 (dk_at dksX7_netted_2 10 rfl rfl)
theorem dX7_netted_60 : decode cX7_netted 60 = .ok (.iadd, 1) := dk_96 (dk_at dksX7_netted_2 12 rfl rfl)
theorem dX7_netted_61 : decode cX7_netted 61 = .ok (.iconst 1, 1) := dk_4 (dk_at dksX7_netted_2 13 rfl rfl)
theorem dX7_netted_62 : decode cX7_netted 62 = .ok (.iastore, 1) := dk_79 (dk_at dksX7_netted_2 14 rfl rfl)
theorem dX7_netted_63 : decode cX7_netted 63 = .ok (.aload_n 0, 1) := dk_42 (dk_at dksX7_netted_2 15 rfl rfl)
theorem dX7_netted_64 : decode cX7_netted 64 = .ok (.iload_n 1, 1) := dk_27 (dk_at dksX7_netted_2 16 rfl rfl)
theorem dX7_netted_65 : decode cX7_netted 65 = .ok (.invokevirtual 131, 3) := dk_182 0 131 (dk_at dksX7_netted_2 17 rfl rfl)
theorem dX7_netted_68 : decode cX7_netted 68 = .ok (.istore 5, 2) := dk_54 5 (dk_at dksX7_netted_2 20 rfl rfl)
theorem dX7_netted_70 : decode cX7_netted 70 = .ok (.aload_n 0, 1) := dk_42 (dk_at dksX7_netted_2 22 rfl rfl)
theorem dX7_netted_71 : decode cX7_netted 71 = .ok (.getfield 13, 3) := dk_180 0 13 (dk_at dksX7_netted_3 0 rfl rfl)
theorem dX7_netted_74 : decode cX7_netted 74 = .ok (.bipush 84, 2) := dk_16 84 (dk_at dksX7_netted_3 3 rfl rfl)
theorem dX7_netted_76 : decode cX7_netted 76 = .ok (.iload 4, 2) := dk_21 4 (dk_at dksX7_netted_3 5 rfl rfl)
theorem dX7_netted_78 : decode cX7_netted 78 = .ok (.iadd, 1) := dk_96 (dk_at dksX7_netted_3 7 rfl rfl)
theorem dX7_netted_79 : decode cX7_netted 79 = .ok (.iconst 0, 1) := dk_3 (dk_at dksX7_netted_3 8 rfl rfl)
theorem dX7_netted_80 : decode cX7_netted 80 = .ok (.iastore, 1) := dk_79 (dk_at dksX7_netted_3 9 rfl rfl)
theorem dX7_netted_81 : decode cX7_netted 81 = .ok (.iload 5, 2) := dk_21 5 (dk_at dksX7_netted_3 10 rfl rfl)
theorem dX7_netted_83 : decode cX7_netted 83 = .ok (.iload_n 3, 1) := dk_29 (dk_at dksX7_netted_3 12 rfl rfl)
theorem dX7_netted_84 : decode cX7_netted 84 = .ok (.if_icmp .le 8, 3) := dk_164 0 8 (dk_at dksX7_netted_3 13 rfl rfl)
theorem dX7_netted_87 : decode cX7_netted 87 = .ok (.iload 4, 2) := dk_21 4 (dk_at dksX7_netted_3 16 rfl rfl)
theorem dX7_netted_89 : decode cX7_netted 89 = .ok (.goto 4, 3) := dk_167 0 4 (dk_at dksX7_netted_3 18 rfl rfl)
theorem dX7_netted_92 : decode cX7_netted 92 = .ok (.iload_n 2, 1) := dk_28 (dk_at dksX7_netted_3 21 rfl rfl)
theorem dX7_netted_93 : decode cX7_netted 93 = .ok (.istore_n 2, 1) := dk_61 (dk_at dksX7_netted_3 22 rfl rfl)
theorem dX7_netted_94 : decode cX7_netted 94 = .ok (.iload_n 3, 1) := dk_29 (dk_at dksX7_netted_3 23 rfl rfl)
theorem dX7_netted_95 : decode cX7_netted 95 = .ok (.iload 5, 2) := dk_21 5 (dk_at dksX7_netted_4 0 rfl rfl)
theorem dX7_netted_97 : decode cX7_netted 97 = .ok (.invokestatic 145, 3) := dk_184 0 145 (dk_at dksX7_netted_4 2 rfl rfl)
theorem dX7_netted_100 : decode cX7_netted 100 = .ok (.istore_n 3, 1) := dk_62 (dk_at dksX7_netted_4 5 rfl rfl)
theorem dX7_netted_101 : decode cX7_netted 101 = .ok (.iinc 4 1, 3) := dk_132 4 1 (dk_at dksX7_netted_4 6 rfl rfl)
theorem dX7_netted_104 : decode cX7_netted 104 = .ok (.goto (-72), 3) := dk_167 255 184 (dk_at dksX7_netted_4 9 rfl rfl)
theorem dX7_netted_107 : decode cX7_netted 107 = .ok (.iload_n 2, 1) := dk_28 (dk_at dksX7_netted_4 12 rfl rfl)
theorem dX7_netted_108 : decode cX7_netted 108 = .ok (.ireturn, 1) := dk_172 (dk_at dksX7_netted_4 13 rfl rfl)
abbrev cX7_came : ByteArray := prog_26_method_47_code
def yX7_came : MethodName := ⟨RX7, "came", "(I)I"⟩
def dkwX7_came_2 : List UInt8 := [120, 167, 0, 4, 3, 128, 61, 132, 3, 1, 167, 255, 217, 28, 172]
abbrev dktX7_came_2 : List UInt8 := dkwX7_came_2 ++ []
def dkwX7_came_1 : List UInt8 := [3, 46, 162, 0, 35, 42, 4, 29, 120, 182, 0, 127, 28, 42, 180, 0, 35, 27, 46, 158, 0, 9, 4, 29]
abbrev dktX7_came_1 : List UInt8 := dkwX7_came_1 ++ dktX7_came_2
def dkwX7_came_0 : List UInt8 := [27, 16, 36, 184, 0, 124, 153, 0, 9, 42, 2, 182, 0, 49, 172, 3, 61, 3, 62, 29, 42, 180, 0, 13]
abbrev dktX7_came_0 : List UInt8 := dkwX7_came_0 ++ dktX7_came_1
theorem dksX7_came_0 : cX7_came.data.toList.drop 0 = dktX7_came_0 := by decide +kernel
theorem dksX7_came_1 : cX7_came.data.toList.drop 24 = dktX7_came_1 := dk_seg dksX7_came_0 24 rfl rfl
theorem dksX7_came_2 : cX7_came.data.toList.drop 48 = dktX7_came_2 := dk_seg dksX7_came_1 24 rfl rfl
theorem dX7_came_0 : decode cX7_came 0 = .ok (.iload_n 1, 1) := dk_27 (dk_at dksX7_came_0 0 rfl rfl)
theorem dX7_came_1 : decode cX7_came 1 = .ok (.bipush 36, 2) := dk_16 36 (dk_at dksX7_came_0 1 rfl rfl)
theorem dX7_came_3 : decode cX7_came 3 = .ok (.invokestatic 124, 3) := dk_184 0 124 (dk_at dksX7_came_0 3 rfl rfl)
theorem dX7_came_6 : decode cX7_came 6 = .ok (.ifCond .eq 9, 3) := dk_153 0 9 (dk_at dksX7_came_0 6 rfl rfl)
theorem dX7_came_9 : decode cX7_came 9 = .ok (.aload_n 0, 1) := dk_42 (dk_at dksX7_came_0 9 rfl rfl)
theorem dX7_came_10 : decode cX7_came 10 = .ok (.iconst (-1), 1) := dk_2 (dk_at dksX7_came_0 10 rfl rfl)
theorem dX7_came_11 : decode cX7_came 11 = .ok (.invokevirtual 49, 3) := dk_182 0 49 (dk_at dksX7_came_0 11 rfl rfl)
theorem dX7_came_14 : decode cX7_came 14 = .ok (.ireturn, 1) := dk_172 (dk_at dksX7_came_0 14 rfl rfl)
theorem dX7_came_15 : decode cX7_came 15 = .ok (.iconst 0, 1) := dk_3 (dk_at dksX7_came_0 15 rfl rfl)
theorem dX7_came_16 : decode cX7_came 16 = .ok (.istore_n 2, 1) := dk_61 (dk_at dksX7_came_0 16 rfl rfl)
theorem dX7_came_17 : decode cX7_came 17 = .ok (.iconst 0, 1) := dk_3 (dk_at dksX7_came_0 17 rfl rfl)
theorem dX7_came_18 : decode cX7_came 18 = .ok (.istore_n 3, 1) := dk_62 (dk_at dksX7_came_0 18 rfl rfl)
theorem dX7_came_19 : decode cX7_came 19 = .ok (.iload_n 3, 1) := dk_29 (dk_at dksX7_came_0 19 rfl rfl)
theorem dX7_came_20 : decode cX7_came 20 = .ok (.aload_n 0, 1) := dk_42 (dk_at dksX7_came_0 20 rfl rfl)
theorem dX7_came_21 : decode cX7_came 21 = .ok (.getfield 13, 3) := dk_180 0 13 (dk_at dksX7_came_0 21 rfl rfl)
theorem dX7_came_24 : decode cX7_came 24 = .ok (.iconst 0, 1) := dk_3 (dk_at dksX7_came_1 0 rfl rfl)
theorem dX7_came_25 : decode cX7_came 25 = .ok (.iaload, 1) := dk_46 (dk_at dksX7_came_1 1 rfl rfl)
theorem dX7_came_26 : decode cX7_came 26 = .ok (.if_icmp .ge 35, 3) := dk_162 0 35 (dk_at dksX7_came_1 2 rfl rfl)
theorem dX7_came_29 : decode cX7_came 29 = .ok (.aload_n 0, 1) := dk_42 (dk_at dksX7_came_1 5 rfl rfl)
theorem dX7_came_30 : decode cX7_came 30 = .ok (.iconst 1, 1) := dk_4 (dk_at dksX7_came_1 6 rfl rfl)
theorem dX7_came_31 : decode cX7_came 31 = .ok (.iload_n 3, 1) := dk_29 (dk_at dksX7_came_1 7 rfl rfl)
theorem dX7_came_32 : decode cX7_came 32 = .ok (.ishl, 1) := dk_120 (dk_at dksX7_came_1 8 rfl rfl)
theorem dX7_came_33 : decode cX7_came 33 = .ok (.invokevirtual 127, 3) := dk_182 0 127 (dk_at dksX7_came_1 9 rfl rfl)
theorem dX7_came_36 : decode cX7_came 36 = .ok (.iload_n 2, 1) := dk_28 (dk_at dksX7_came_1 12 rfl rfl)
theorem dX7_came_37 : decode cX7_came 37 = .ok (.aload_n 0, 1) := dk_42 (dk_at dksX7_came_1 13 rfl rfl)
theorem dX7_came_38 : decode cX7_came 38 = .ok (.getfield 35, 3) := dk_180 0 35 (dk_at dksX7_came_1 14 rfl rfl)
theorem dX7_came_41 : decode cX7_came 41 = .ok (.iload_n 1, 1) := dk_27 (dk_at dksX7_came_1 17 rfl rfl)
theorem dX7_came_42 : decode cX7_came 42 = .ok (.iaload, 1) := dk_46 (dk_at dksX7_came_1 18 rfl rfl)
theorem dX7_came_43 : decode cX7_came 43 = .ok (.ifCond .le 9, 3) := dk_158 0 9 (dk_at dksX7_came_1 19 rfl rfl)
theorem dX7_came_46 : decode cX7_came 46 = .ok (.iconst 1, 1) := dk_4 (dk_at dksX7_came_1 22 rfl rfl)
theorem dX7_came_47 : decode cX7_came 47 = .ok (.iload_n 3, 1) := dk_29 (dk_at dksX7_came_1 23 rfl rfl)
theorem dX7_came_48 : decode cX7_came 48 = .ok (.ishl, 1) := dk_120 (dk_at dksX7_came_2 0 rfl rfl)
theorem dX7_came_49 : decode cX7_came 49 = .ok (.goto 4, 3) := dk_167 0 4 (dk_at dksX7_came_2 1 rfl rfl)
theorem dX7_came_52 : decode cX7_came 52 = .ok (.iconst 0, 1) := dk_3 (dk_at dksX7_came_2 4 rfl rfl)
theorem dX7_came_53 : decode cX7_came 53 = .ok (.ior, 1) := dk_128 (dk_at dksX7_came_2 5 rfl rfl)
theorem dX7_came_54 : decode cX7_came 54 = .ok (.istore_n 2, 1) := dk_61 (dk_at dksX7_came_2 6 rfl rfl)
theorem dX7_came_55 : decode cX7_came 55 = .ok (.iinc 3 1, 3) := dk_132 3 1 (dk_at dksX7_came_2 7 rfl rfl)
theorem dX7_came_58 : decode cX7_came 58 = .ok (.goto (-39), 3) := dk_167 255 217 (dk_at dksX7_came_2 10 rfl rfl)
theorem dX7_came_61 : decode cX7_came 61 = .ok (.iload_n 2, 1) := dk_28 (dk_at dksX7_came_2 13 rfl rfl)
theorem dX7_came_62 : decode cX7_came 62 = .ok (.ireturn, 1) := dk_172 (dk_at dksX7_came_2 14 rfl rfl)
abbrev cX7_likely : ByteArray := prog_26_method_49_code
def yX7_likely : MethodName := ⟨RX7, "likely", "(III)I"⟩
def dkwX7_likely_4 : List UInt8 := [21, 6, 108, 167, 0, 8, 21, 5, 21, 6, 108, 172]
abbrev dktX7_likely_4 : List UInt8 := dkwX7_likely_4 ++ []
def dkwX7_likely_3 : List UInt8 := [54, 5, 21, 4, 154, 0, 5, 29, 172, 21, 4, 21, 5, 184, 0, 148, 54, 6, 29, 154, 0, 11, 21, 4]
abbrev dktX7_likely_3 : List UInt8 := dkwX7_likely_3 ++ dktX7_likely_4
def dkwX7_likely_2 : List UInt8 := [182, 0, 127, 42, 180, 0, 35, 27, 46, 54, 4, 42, 16, 63, 182, 0, 127, 42, 180, 0, 35, 27, 46]
abbrev dktX7_likely_2 : List UInt8 := dkwX7_likely_2 ++ dktX7_likely_3
def dkwX7_likely_1 : List UInt8 := [182, 0, 49, 172, 29, 155, 0, 8, 29, 4, 164, 0, 10, 42, 16, 254, 182, 0, 49, 172, 42, 4, 28, 120]
abbrev dktX7_likely_1 : List UInt8 := dkwX7_likely_1 ++ dktX7_likely_2
def dkwX7_likely_0 : List UInt8 := [27, 16, 36, 184, 0, 124, 154, 0, 16, 28, 42, 180, 0, 13, 3, 46, 184, 0, 124, 153, 0, 9, 42, 2]
abbrev dktX7_likely_0 : List UInt8 := dkwX7_likely_0 ++ dktX7_likely_1
theorem dksX7_likely_0 : cX7_likely.data.toList.drop 0 = dktX7_likely_0 := by decide +kernel
theorem dksX7_likely_1 : cX7_likely.data.toList.drop 24 = dktX7_likely_1 := dk_seg dksX7_likely_0 24 rfl rfl
theorem dksX7_likely_2 : cX7_likely.data.toList.drop 48 = dktX7_likely_2 := dk_seg dksX7_likely_1 24 rfl rfl
theorem dksX7_likely_3 : cX7_likely.data.toList.drop 71 = dktX7_likely_3 := dk_seg dksX7_likely_2 23 rfl rfl
theorem dksX7_likely_4 : cX7_likely.data.toList.drop 95 = dktX7_likely_4 := dk_seg dksX7_likely_3 24 rfl rfl
theorem dX7_likely_0 : decode cX7_likely 0 = .ok (.iload_n 1, 1) := dk_27 (dk_at dksX7_likely_0 0 rfl rfl)
theorem dX7_likely_1 : decode cX7_likely 1 = .ok (.bipush 36, 2) := dk_16 36 (dk_at dksX7_likely_0 1 rfl rfl)
theorem dX7_likely_3 : decode cX7_likely 3 = .ok (.invokestatic 124, 3) := dk_184 0 124 (dk_at dksX7_likely_0 3 rfl rfl)
theorem dX7_likely_6 : decode cX7_likely 6 = .ok (.ifCond .ne 16, 3) := dk_154 0 16 (dk_at dksX7_likely_0 6 rfl rfl)
theorem dX7_likely_9 : decode cX7_likely 9 = .ok (.iload_n 2, 1) := dk_28 (dk_at dksX7_likely_0 9 rfl rfl)
theorem dX7_likely_10 : decode cX7_likely 10 = .ok (.aload_n 0, 1) := dk_42 (dk_at dksX7_likely_0 10 rfl rfl)
theorem dX7_likely_11 : decode cX7_likely 11 = .ok (.getfield 13, 3) := dk_180 0 13 (dk_at dksX7_likely_0 11 rfl rfl)
theorem dX7_likely_14 : decode cX7_likely 14 = .ok (.iconst 0, 1) := dk_3 (dk_at dksX7_likely_0 14 rfl rfl)
theorem dX7_likely_15 : decode cX7_likely 15 = .ok (.iaload, 1) := dk_46 (dk_at dksX7_likely_0 15 rfl rfl)
theorem dX7_likely_16 : decode cX7_likely 16 = .ok (.invokestatic 124, 3) := dk_184 0 124 (dk_at dksX7_likely_0 16 rfl rfl)
theorem dX7_likely_19 : decode cX7_likely 19 = .ok (.ifCond .eq 9, 3) := dk_153 0 9 (dk_at dksX7_likely_0 19 rfl rfl)
theorem dX7_likely_22 : decode cX7_likely 22 = .ok (.aload_n 0, 1) := dk_42 (dk_at dksX7_likely_0 22 rfl rfl)
theorem dX7_likely_23 : decode cX7_likely 23 = .ok (.iconst (-1), 1) := dk_2 (dk_at dksX7_likely_0 23 rfl rfl)
theorem dX7_likely_24 : decode cX7_likely 24 = .ok (.invokevirtual 49, 3) := dk_182 0 49 (dk_at dksX7_likely_1 0 rfl rfl)
theorem dX7_likely_27 : decode cX7_likely 27 = .ok (.ireturn, 1) := dk_172 (dk_at dksX7_likely_1 3 rfl rfl)
theorem dX7_likely_28 : decode cX7_likely 28 = .ok (.iload_n 3, 1) := dk_29 (dk_at dksX7_likely_1 4 rfl rfl)
theorem dX7_likely_29 : decode cX7_likely 29 = .ok (.ifCond .lt 8, 3) := dk_155 0 8 (dk_at dksX7_likely_1 5 rfl rfl)
theorem dX7_likely_32 : decode cX7_likely 32 = .ok (.iload_n 3, 1) := dk_29 (dk_at dksX7_likely_1 8 rfl rfl)
theorem dX7_likely_33 : decode cX7_likely 33 = .ok (.iconst 1, 1) := dk_4 (dk_at dksX7_likely_1 9 rfl rfl)
theorem dX7_likely_34 : decode cX7_likely 34 = .ok (.if_icmp .le 10, 3) := dk_164 0 10 (dk_at dksX7_likely_1 10 rfl rfl)
theorem dX7_likely_37 : decode cX7_likely 37 = .ok (.aload_n 0, 1) := dk_42 (dk_at dksX7_likely_1 13 rfl rfl)
theorem dX7_likely_38 : decode cX7_likely 38 = .ok (.bipush (-2), 2) := dk_16 254 (dk_at dksX7_likely_1 14 rfl rfl)
theorem dX7_likely_40 : decode cX7_likely 40 = .ok (.invokevirtual 49, 3) := dk_182 0 49 (dk_at dksX7_likely_1 16 rfl rfl)
theorem dX7_likely_43 : decode cX7_likely 43 = .ok (.ireturn, 1) := dk_172 (dk_at dksX7_likely_1 19 rfl rfl)
theorem dX7_likely_44 : decode cX7_likely 44 = .ok (.aload_n 0, 1) := dk_42 (dk_at dksX7_likely_1 20 rfl rfl)
theorem dX7_likely_45 : decode cX7_likely 45 = .ok (.iconst 1, 1) := dk_4 (dk_at dksX7_likely_1 21 rfl rfl)
theorem dX7_likely_46 : decode cX7_likely 46 = .ok (.iload_n 2, 1) := dk_28 (dk_at dksX7_likely_1 22 rfl rfl)
theorem dX7_likely_47 : decode cX7_likely 47 = .ok (.ishl, 1) := dk_120 (dk_at dksX7_likely_1 23 rfl rfl)
theorem dX7_likely_48 : decode cX7_likely 48 = .ok (.invokevirtual 127, 3) := dk_182 0 127 (dk_at dksX7_likely_2 0 rfl rfl)
theorem dX7_likely_51 : decode cX7_likely 51 = .ok (.aload_n 0, 1) := dk_42 (dk_at dksX7_likely_2 3 rfl rfl)
theorem dX7_likely_52 : decode cX7_likely 52 = .ok (.getfield 35, 3) := dk_180 0 35 (dk_at dksX7_likely_2 4 rfl rfl)
theorem dX7_likely_55 : decode cX7_likely 55 = .ok (.iload_n 1, 1) := dk_27 (dk_at dksX7_likely_2 7 rfl rfl)
theorem dX7_likely_56 : decode cX7_likely 56 = .ok (.iaload, 1) := dk_46 (dk_at dksX7_likely_2 8 rfl rfl)
theorem dX7_likely_57 : decode cX7_likely 57 = .ok (.istore 4, 2) := dk_54 4 (dk_at dksX7_likely_2 9 rfl rfl)
theorem dX7_likely_59 : decode cX7_likely 59 = .ok (.aload_n 0, 1) := dk_42 (dk_at dksX7_likely_2 11 rfl rfl)
theorem dX7_likely_60 : decode cX7_likely 60 = .ok (.bipush 63, 2) := dk_16 63 (dk_at dksX7_likely_2 12 rfl rfl)
theorem dX7_likely_62 : decode cX7_likely 62 = .ok (.invokevirtual 127, 3) := dk_182 0 127 (dk_at dksX7_likely_2 14 rfl rfl)
theorem dX7_likely_65 : decode cX7_likely 65 = .ok (.aload_n 0, 1) := dk_42 (dk_at dksX7_likely_2 17 rfl rfl)
theorem dX7_likely_66 : decode cX7_likely 66 = .ok (.getfield 35, 3) := dk_180 0 35 (dk_at dksX7_likely_2 18 rfl rfl)
theorem dX7_likely_69 : decode cX7_likely 69 = .ok (.iload_n 1, 1) := dk_27 (dk_at dksX7_likely_2 21 rfl rfl)
theorem dX7_likely_70 : decode cX7_likely 70 = .ok (.iaload, 1) := dk_46 (dk_at dksX7_likely_2 22 rfl rfl)
theorem dX7_likely_71 : decode cX7_likely 71 = .ok (.istore 5, 2) := dk_54 5 (dk_at dksX7_likely_3 0 rfl rfl)
theorem dX7_likely_73 : decode cX7_likely 73 = .ok (.iload 4, 2) := dk_21 4 (dk_at dksX7_likely_3 2 rfl rfl)
theorem dX7_likely_75 : decode cX7_likely 75 = .ok (.ifCond .ne 5, 3) := dk_154 0 5 (dk_at dksX7_likely_3 4 rfl rfl)
theorem dX7_likely_78 : decode cX7_likely 78 = .ok (.iload_n 3, 1) := dk_29 (dk_at dksX7_likely_3 7 rfl rfl)
theorem dX7_likely_79 : decode cX7_likely 79 = .ok (.ireturn, 1) := dk_172 (dk_at dksX7_likely_3 8 rfl rfl)
theorem dX7_likely_80 : decode cX7_likely 80 = .ok (.iload 4, 2) := dk_21 4 (dk_at dksX7_likely_3 9 rfl rfl)
theorem dX7_likely_82 : decode cX7_likely 82 = .ok (.iload 5, 2) := dk_21 5 (dk_at dksX7_likely_3 11 rfl rfl)
theorem dX7_likely_84 : decode cX7_likely 84 = .ok (.invokestatic 148, 3) := dk_184 0 148 (dk_at dksX7_likely_3 13 rfl rfl)
theorem dX7_likely_87 : decode cX7_likely 87 = .ok (.istore 6, 2) := dk_54 6 (dk_at dksX7_likely_3 16 rfl rfl)
theorem dX7_likely_89 : decode cX7_likely 89 = .ok (.iload_n 3, 1) := dk_29 (dk_at dksX7_likely_3 18 rfl rfl)
theorem dX7_likely_90 : decode cX7_likely 90 = .ok (.ifCond .ne 11, 3) := dk_154 0 11 (dk_at dksX7_likely_3 19 rfl rfl)
theorem dX7_likely_93 : decode cX7_likely 93 = .ok (.iload 4, 2) := dk_21 4 (dk_at dksX7_likely_3 22 rfl rfl)
theorem dX7_likely_95 : decode cX7_likely 95 = .ok (.iload 6, 2) := dk_21 6 (dk_at dksX7_likely_4 0 rfl rfl)
theorem dX7_likely_97 : decode cX7_likely 97 = .ok (.idiv, 1) := dk_108 (dk_at dksX7_likely_4 2 rfl rfl)
theorem dX7_likely_98 : decode cX7_likely 98 = .ok (.goto 8, 3) := dk_167 0 8 (dk_at dksX7_likely_4 3 rfl rfl)
theorem dX7_likely_101 : decode cX7_likely 101 = .ok (.iload 5, 2) := dk_21 5 (dk_at dksX7_likely_4 6 rfl rfl)
theorem dX7_likely_103 : decode cX7_likely 103 = .ok (.iload 6, 2) := dk_21 6 (dk_at dksX7_likely_4 8 rfl rfl)
theorem dX7_likely_105 : decode cX7_likely 105 = .ok (.idiv, 1) := dk_108 (dk_at dksX7_likely_4 10 rfl rfl)
theorem dX7_likely_106 : decode cX7_likely 106 = .ok (.ireturn, 1) := dk_172 (dk_at dksX7_likely_4 11 rfl rfl)
abbrev cX7_divisor : ByteArray := prog_26_method_48_code
def yX7_divisor : MethodName := ⟨RX7, "divisor", "(II)I"⟩
def dkwX7_divisor_0 : List UInt8 := [26, 61, 27, 62, 29, 153, 0, 16, 28, 29, 112, 54, 4, 29, 61, 21, 4, 62, 167, 255, 242, 28, 172]
abbrev dktX7_divisor_0 : List UInt8 := dkwX7_divisor_0 ++ []
theorem dksX7_divisor_0 : cX7_divisor.data.toList.drop 0 = dktX7_divisor_0 := by decide +kernel
theorem dX7_divisor_0 : decode cX7_divisor 0 = .ok (.iload_n 0, 1) := dk_26 (dk_at dksX7_divisor_0 0 rfl rfl)
theorem dX7_divisor_1 : decode cX7_divisor 1 = .ok (.istore_n 2, 1) := dk_61 (dk_at dksX7_divisor_0 1 rfl rfl)
theorem dX7_divisor_2 : decode cX7_divisor 2 = .ok (.iload_n 1, 1) := dk_27 (dk_at dksX7_divisor_0 2 rfl rfl)
theorem dX7_divisor_3 : decode cX7_divisor 3 = .ok (.istore_n 3, 1) := dk_62 (dk_at dksX7_divisor_0 3 rfl rfl)
theorem dX7_divisor_4 : decode cX7_divisor 4 = .ok (.iload_n 3, 1) := dk_29 (dk_at dksX7_divisor_0 4 rfl rfl)
theorem dX7_divisor_5 : decode cX7_divisor 5 = .ok (.ifCond .eq 16, 3) := dk_153 0 16 (dk_at dksX7_divisor_0 5 rfl rfl)
theorem dX7_divisor_8 : decode cX7_divisor 8 = .ok (.iload_n 2, 1) := dk_28 (dk_at dksX7_divisor_0 8 rfl rfl)
theorem dX7_divisor_9 : decode cX7_divisor 9 = .ok (.iload_n 3, 1) := dk_29 (dk_at dksX7_divisor_0 9 rfl rfl)
theorem dX7_divisor_10 : decode cX7_divisor 10 = .ok (.irem, 1) := dk_112 (dk_at dksX7_divisor_0 10 rfl rfl)
theorem dX7_divisor_11 : decode cX7_divisor 11 = .ok (.istore 4, 2) := dk_54 4 (dk_at dksX7_divisor_0 11 rfl rfl)
theorem dX7_divisor_13 : decode cX7_divisor 13 = .ok (.iload_n 3, 1) := dk_29 (dk_at dksX7_divisor_0 13 rfl rfl)
theorem dX7_divisor_14 : decode cX7_divisor 14 = .ok (.istore_n 2, 1) := dk_61 (dk_at dksX7_divisor_0 14 rfl rfl)
theorem dX7_divisor_15 : decode cX7_divisor 15 = .ok (.iload 4, 2) := dk_21 4 (dk_at dksX7_divisor_0 15 rfl rfl)
theorem dX7_divisor_17 : decode cX7_divisor 17 = .ok (.istore_n 3, 1) := dk_62 (dk_at dksX7_divisor_0 17 rfl rfl)
theorem dX7_divisor_18 : decode cX7_divisor 18 = .ok (.goto (-14), 3) := dk_167 255 242 (dk_at dksX7_divisor_0 18 rfl rfl)
theorem dX7_divisor_21 : decode cX7_divisor 21 = .ok (.iload_n 2, 1) := dk_28 (dk_at dksX7_divisor_0 21 rfl rfl)
theorem dX7_divisor_22 : decode cX7_divisor 22 = .ok (.ireturn, 1) := dk_172 (dk_at dksX7_divisor_0 22 rfl rfl)
abbrev cX7_pit : ByteArray := prog_26_method_50_code
def yX7_pit : MethodName := ⟨RX7, "pit", "(I)I"⟩
def dkwX7_pit_2 : List UInt8 := [42, 180, 0, 13, 6, 92, 46, 4, 96, 79, 42, 180, 0, 13, 6, 46, 172]
abbrev dktX7_pit_2 : List UInt8 := dkwX7_pit_2 ++ []
def dkwX7_pit_1 : List UInt8 := [160, 0, 10, 42, 16, 250, 182, 0, 49, 172, 42, 180, 0, 13, 7, 42, 180, 0, 13, 6, 46, 96, 27, 79]
abbrev dktX7_pit_1 : List UInt8 := dkwX7_pit_1 ++ dktX7_pit_2
def dkwX7_pit_0 : List UInt8 := [27, 16, 36, 184, 0, 124, 153, 0, 9, 42, 2, 182, 0, 49, 172, 42, 180, 0, 13, 6, 46, 16, 8]
abbrev dktX7_pit_0 : List UInt8 := dkwX7_pit_0 ++ dktX7_pit_1
theorem dksX7_pit_0 : cX7_pit.data.toList.drop 0 = dktX7_pit_0 := by decide +kernel
theorem dksX7_pit_1 : cX7_pit.data.toList.drop 23 = dktX7_pit_1 := dk_seg dksX7_pit_0 23 rfl rfl
theorem dksX7_pit_2 : cX7_pit.data.toList.drop 47 = dktX7_pit_2 := dk_seg dksX7_pit_1 24 rfl rfl
theorem dX7_pit_0 : decode cX7_pit 0 = .ok (.iload_n 1, 1) := dk_27 (dk_at dksX7_pit_0 0 rfl rfl)
theorem dX7_pit_1 : decode cX7_pit 1 = .ok (.bipush 36, 2) := dk_16 36 (dk_at dksX7_pit_0 1 rfl rfl)
theorem dX7_pit_3 : decode cX7_pit 3 = .ok (.invokestatic 124, 3) := dk_184 0 124 (dk_at dksX7_pit_0 3 rfl rfl)
theorem dX7_pit_6 : decode cX7_pit 6 = .ok (.ifCond .eq 9, 3) := dk_153 0 9 (dk_at dksX7_pit_0 6 rfl rfl)
theorem dX7_pit_9 : decode cX7_pit 9 = .ok (.aload_n 0, 1) := dk_42 (dk_at dksX7_pit_0 9 rfl rfl)
theorem dX7_pit_10 : decode cX7_pit 10 = .ok (.iconst (-1), 1) := dk_2 (dk_at dksX7_pit_0 10 rfl rfl)
theorem dX7_pit_11 : decode cX7_pit 11 = .ok (.invokevirtual 49, 3) := dk_182 0 49 (dk_at dksX7_pit_0 11 rfl rfl)
theorem dX7_pit_14 : decode cX7_pit 14 = .ok (.ireturn, 1) := dk_172 (dk_at dksX7_pit_0 14 rfl rfl)
theorem dX7_pit_15 : decode cX7_pit 15 = .ok (.aload_n 0, 1) := dk_42 (dk_at dksX7_pit_0 15 rfl rfl)
theorem dX7_pit_16 : decode cX7_pit 16 = .ok (.getfield 13, 3) := dk_180 0 13 (dk_at dksX7_pit_0 16 rfl rfl)
theorem dX7_pit_19 : decode cX7_pit 19 = .ok (.iconst 3, 1) := dk_6 (dk_at dksX7_pit_0 19 rfl rfl)
theorem dX7_pit_20 : decode cX7_pit 20 = .ok (.iaload, 1) := dk_46 (dk_at dksX7_pit_0 20 rfl rfl)
theorem dX7_pit_21 : decode cX7_pit 21 = .ok (.bipush 8, 2) := dk_16 8 (dk_at dksX7_pit_0 21 rfl rfl)
theorem dX7_pit_23 : decode cX7_pit 23 = .ok (.if_icmp .ne 10, 3) := dk_160 0 10 (dk_at dksX7_pit_1 0 rfl rfl)
theorem dX7_pit_26 : decode cX7_pit 26 = .ok (.aload_n 0, 1) := dk_42 (dk_at dksX7_pit_1 3 rfl rfl)
theorem dX7_pit_27 : decode cX7_pit 27 = .ok (.bipush (-6), 2) := dk_16 250 (dk_at dksX7_pit_1 4 rfl rfl)
theorem dX7_pit_29 : decode cX7_pit 29 = .ok (.invokevirtual 49, 3) := dk_182 0 49 (dk_at dksX7_pit_1 6 rfl rfl)
theorem dX7_pit_32 : decode cX7_pit 32 = .ok (.ireturn, 1) := dk_172 (dk_at dksX7_pit_1 9 rfl rfl)
theorem dX7_pit_33 : decode cX7_pit 33 = .ok (.aload_n 0, 1) := dk_42 (dk_at dksX7_pit_1 10 rfl rfl)
theorem dX7_pit_34 : decode cX7_pit 34 = .ok (.getfield 13, 3) := dk_180 0 13 (dk_at dksX7_pit_1 11 rfl rfl)
theorem dX7_pit_37 : decode cX7_pit 37 = .ok (.iconst 4, 1) := dk_7 (dk_at dksX7_pit_1 14 rfl rfl)
theorem dX7_pit_38 : decode cX7_pit 38 = .ok (.aload_n 0, 1) := dk_42 (dk_at dksX7_pit_1 15 rfl rfl)
theorem dX7_pit_39 : decode cX7_pit 39 = .ok (.getfield 13, 3) := dk_180 0 13 (dk_at dksX7_pit_1 16 rfl rfl)
theorem dX7_pit_42 : decode cX7_pit 42 = .ok (.iconst 3, 1) := dk_6 (dk_at dksX7_pit_1 19 rfl rfl)
theorem dX7_pit_43 : decode cX7_pit 43 = .ok (.iaload, 1) := dk_46 (dk_at dksX7_pit_1 20 rfl rfl)
theorem dX7_pit_44 : decode cX7_pit 44 = .ok (.iadd, 1) := dk_96 (dk_at dksX7_pit_1 21 rfl rfl)
theorem dX7_pit_45 : decode cX7_pit 45 = .ok (.iload_n 1, 1) := dk_27 (dk_at dksX7_pit_1 22 rfl rfl)
theorem dX7_pit_46 : decode cX7_pit 46 = .ok (.iastore, 1) := dk_79 (dk_at dksX7_pit_1 23 rfl rfl)
theorem dX7_pit_47 : decode cX7_pit 47 = .ok (.aload_n 0, 1) := dk_42 (dk_at dksX7_pit_2 0 rfl rfl)
theorem dX7_pit_48 : decode cX7_pit 48 = .ok (.getfield 13, 3) := dk_180 0 13 (dk_at dksX7_pit_2 1 rfl rfl)
theorem dX7_pit_51 : decode cX7_pit 51 = .ok (.iconst 3, 1) := dk_6 (dk_at dksX7_pit_2 4 rfl rfl)
theorem dX7_pit_52 : decode cX7_pit 52 = .ok (.dup2, 1) := dk_92 (dk_at dksX7_pit_2 5 rfl rfl)
theorem dX7_pit_53 : decode cX7_pit 53 = .ok (.iaload, 1) := dk_46 (dk_at dksX7_pit_2 6 rfl rfl)
theorem dX7_pit_54 : decode cX7_pit 54 = .ok (.iconst 1, 1) := dk_4 (dk_at dksX7_pit_2 7 rfl rfl)
theorem dX7_pit_55 : decode cX7_pit 55 = .ok (.iadd, 1) := dk_96 (dk_at dksX7_pit_2 8 rfl rfl)
theorem dX7_pit_56 : decode cX7_pit 56 = .ok (.iastore, 1) := dk_79 (dk_at dksX7_pit_2 9 rfl rfl)
theorem dX7_pit_57 : decode cX7_pit 57 = .ok (.aload_n 0, 1) := dk_42 (dk_at dksX7_pit_2 10 rfl rfl)
theorem dX7_pit_58 : decode cX7_pit 58 = .ok (.getfield 13, 3) := dk_180 0 13 (dk_at dksX7_pit_2 11 rfl rfl)
theorem dX7_pit_61 : decode cX7_pit 61 = .ok (.iconst 3, 1) := dk_6 (dk_at dksX7_pit_2 14 rfl rfl)
theorem dX7_pit_62 : decode cX7_pit 62 = .ok (.iaload, 1) := dk_46 (dk_at dksX7_pit_2 15 rfl rfl)
theorem dX7_pit_63 : decode cX7_pit 63 = .ok (.ireturn, 1) := dk_172 (dk_at dksX7_pit_2 16 rfl rfl)
abbrev cX7_fitting : ByteArray := prog_26_method_51_code
def yX7_fitting : MethodName := ⟨RX7, "fitting", "(I)I"⟩
def dkwX7_fitting_6 : List UInt8 := [180, 0, 13, 4, 28, 79, 27, 154, 0, 7, 29, 167, 0, 5, 21, 4, 172]
abbrev dktX7_fitting_6 : List UInt8 := dkwX7_fitting_6 ++ []
def dkwX7_fitting_5 : List UInt8 := [62, 21, 4, 21, 6, 153, 0, 7, 4, 167, 0, 4, 3, 96, 54, 4, 132, 5, 1, 167, 255, 149, 42]
abbrev dktX7_fitting_5 : List UInt8 := dkwX7_fitting_5 ++ dktX7_fitting_6
def dkwX7_fitting_4 : List UInt8 := [3, 54, 6, 132, 7, 1, 167, 255, 213, 29, 21, 6, 153, 0, 10, 4, 21, 5, 120, 167, 0, 4, 3, 128]
abbrev dktX7_fitting_4 : List UInt8 := dkwX7_fitting_4 ++ dktX7_fitting_5
def dkwX7_fitting_3 : List UInt8 := [153, 0, 24, 42, 180, 0, 35, 42, 180, 0, 13, 7, 21, 7, 96, 46, 46, 158, 0, 7, 4, 167, 0, 4]
abbrev dktX7_fitting_3 : List UInt8 := dkwX7_fitting_3 ++ dktX7_fitting_4
def dkwX7_fitting_2 : List UInt8 := [16, 63, 182, 0, 127, 4, 54, 6, 3, 54, 7, 21, 7, 42, 180, 0, 13, 6, 46, 162, 0, 38, 21, 6]
abbrev dktX7_fitting_2 : List UInt8 := dkwX7_fitting_2 ++ dktX7_fitting_3
def dkwX7_fitting_1 : List UInt8 := [62, 3, 54, 4, 3, 54, 5, 21, 5, 16, 16, 162, 0, 106, 42, 180, 0, 13, 4, 21, 5, 79, 42]
abbrev dktX7_fitting_1 : List UInt8 := dkwX7_fitting_1 ++ dktX7_fitting_2
def dkwX7_fitting_0 : List UInt8 := [27, 155, 0, 8, 27, 4, 164, 0, 10, 42, 16, 254, 182, 0, 49, 172, 42, 180, 0, 13, 4, 46, 61, 3]
abbrev dktX7_fitting_0 : List UInt8 := dkwX7_fitting_0 ++ dktX7_fitting_1
theorem dksX7_fitting_0 : cX7_fitting.data.toList.drop 0 = dktX7_fitting_0 := by decide +kernel
theorem dksX7_fitting_1 : cX7_fitting.data.toList.drop 24 = dktX7_fitting_1 := dk_seg dksX7_fitting_0 24 rfl rfl
theorem dksX7_fitting_2 : cX7_fitting.data.toList.drop 47 = dktX7_fitting_2 := dk_seg dksX7_fitting_1 23 rfl rfl
theorem dksX7_fitting_3 : cX7_fitting.data.toList.drop 71 = dktX7_fitting_3 := dk_seg dksX7_fitting_2 24 rfl rfl
theorem dksX7_fitting_4 : cX7_fitting.data.toList.drop 95 = dktX7_fitting_4 := dk_seg dksX7_fitting_3 24 rfl rfl
theorem dksX7_fitting_5 : cX7_fitting.data.toList.drop 119 = dktX7_fitting_5 := dk_seg dksX7_fitting_4 24 rfl rfl
theorem dksX7_fitting_6 : cX7_fitting.data.toList.drop 142 = dktX7_fitting_6 := dk_seg dksX7_fitting_5 23 rfl rfl
theorem dX7_fitting_0 : decode cX7_fitting 0 = .ok (.iload_n 1, 1) := dk_27 (dk_at dksX7_fitting_0 0 rfl rfl)
theorem dX7_fitting_1 : decode cX7_fitting 1 = .ok (.ifCond .lt 8, 3) := dk_155 0 8 (dk_at dksX7_fitting_0 1 rfl rfl)
theorem dX7_fitting_4 : decode cX7_fitting 4 = .ok (.iload_n 1, 1) := dk_27 (dk_at dksX7_fitting_0 4 rfl rfl)
theorem dX7_fitting_5 : decode cX7_fitting 5 = .ok (.iconst 1, 1) := dk_4 (dk_at dksX7_fitting_0 5 rfl rfl)
theorem dX7_fitting_6 : decode cX7_fitting 6 = .ok (.if_icmp .le 10, 3) := dk_164 0 10 (dk_at dksX7_fitting_0 6 rfl rfl)
theorem dX7_fitting_9 : decode cX7_fitting 9 = .ok (.aload_n 0, 1) := dk_42 (dk_at dksX7_fitting_0 9 rfl rfl)
theorem dX7_fitting_10 : decode cX7_fitting 10 = .ok (.bipush (-2), 2) := dk_16 254 (dk_at dksX7_fitting_0 10 rfl rfl)
theorem dX7_fitting_12 : decode cX7_fitting 12 = .ok (.invokevirtual 49, 3) := dk_182 0 49 (dk_at dksX7_fitting_0 12 rfl rfl)
theorem dX7_fitting_15 : decode cX7_fitting 15 = .ok (.ireturn, 1) := dk_172 (dk_at dksX7_fitting_0 15 rfl rfl)
theorem dX7_fitting_16 : decode cX7_fitting 16 = .ok (.aload_n 0, 1) := dk_42 (dk_at dksX7_fitting_0 16 rfl rfl)
theorem dX7_fitting_17 : decode cX7_fitting 17 = .ok (.getfield 13, 3) := dk_180 0 13 (dk_at dksX7_fitting_0 17 rfl rfl)
theorem dX7_fitting_20 : decode cX7_fitting 20 = .ok (.iconst 1, 1) := dk_4 (dk_at dksX7_fitting_0 20 rfl rfl)
theorem dX7_fitting_21 : decode cX7_fitting 21 = .ok (.iaload, 1) := dk_46 (dk_at dksX7_fitting_0 21 rfl rfl)
theorem dX7_fitting_22 : decode cX7_fitting 22 = .ok (.istore_n 2, 1) := dk_61 (dk_at dksX7_fitting_0 22 rfl rfl)
theorem dX7_fitting_23 : decode cX7_fitting 23 = .ok (.iconst 0, 1) := dk_3 (dk_at dksX7_fitting_0 23 rfl rfl)
theorem dX7_fitting_24 : decode cX7_fitting 24 = .ok (.istore_n 3, 1) := dk_62 (dk_at dksX7_fitting_1 0 rfl rfl)
theorem dX7_fitting_25 : decode cX7_fitting 25 = .ok (.iconst 0, 1) := dk_3 (dk_at dksX7_fitting_1 1 rfl rfl)
theorem dX7_fitting_26 : decode cX7_fitting 26 = .ok (.istore 4, 2) := dk_54 4 (dk_at dksX7_fitting_1 2 rfl rfl)
theorem dX7_fitting_28 : decode cX7_fitting 28 = .ok (.iconst 0, 1) := dk_3 (dk_at dksX7_fitting_1 4 rfl rfl)
theorem dX7_fitting_29 : decode cX7_fitting 29 = .ok (.istore 5, 2) := dk_54 5 (dk_at dksX7_fitting_1 5 rfl rfl)
theorem dX7_fitting_31 : decode cX7_fitting 31 = .ok (.iload 5, 2) := dk_21 5 (dk_at dksX7_fitting_1 7 rfl rfl)
theorem dX7_fitting_33 : decode cX7_fitting 33 = .ok (.bipush 16, 2) := dk_16 16 (dk_at dksX7_fitting_1 9 rfl rfl)
theorem dX7_fitting_35 : decode cX7_fitting 35 = .ok (.if_icmp .ge 106, 3) := dk_162 0 106 (dk_at dksX7_fitting_1 11 rfl rfl)
theorem dX7_fitting_38 : decode cX7_fitting 38 = .ok (.aload_n 0, 1) := dk_42 (dk_at dksX7_fitting_1 14 rfl rfl)
theorem dX7_fitting_39 : decode cX7_fitting 39 = .ok (.getfield 13, 3) := dk_180 0 13 (dk_at dksX7_fitting_1 15 rfl rfl)
theorem dX7_fitting_42 : decode cX7_fitting 42 = .ok (.iconst 1, 1) := dk_4 (dk_at dksX7_fitting_1 18 rfl rfl)
theorem dX7_fitting_43 : decode cX7_fitting 43 = .ok (.iload 5, 2) := dk_21 5 (dk_at dksX7_fitting_1 19 rfl rfl)
theorem dX7_fitting_45 : decode cX7_fitting 45 = .ok (.iastore, 1) := dk_79 (dk_at dksX7_fitting_1 21 rfl rfl)
theorem dX7_fitting_46 : decode cX7_fitting 46 = .ok (.aload_n 0, 1) := dk_42 (dk_at dksX7_fitting_1 22 rfl rfl)
theorem dX7_fitting_47 : decode cX7_fitting 47 = .ok (.bipush 63, 2) := dk_16 63 (dk_at dksX7_fitting_2 0 rfl rfl)
theorem dX7_fitting_49 : decode cX7_fitting 49 = .ok (.invokevirtual 127, 3) := dk_182 0 127 (dk_at dksX7_fitting_2 2 rfl rfl)
theorem dX7_fitting_52 : decode cX7_fitting 52 = .ok (.iconst 1, 1) := dk_4 (dk_at dksX7_fitting_2 5 rfl rfl)
theorem dX7_fitting_53 : decode cX7_fitting 53 = .ok (.istore 6, 2) := dk_54 6 (dk_at dksX7_fitting_2 6 rfl rfl)
theorem dX7_fitting_55 : decode cX7_fitting 55 = .ok (.iconst 0, 1) := dk_3 (dk_at dksX7_fitting_2 8 rfl rfl)
theorem dX7_fitting_56 : decode cX7_fitting 56 = .ok (.istore 7, 2) := dk_54 7 (dk_at dksX7_fitting_2 9 rfl rfl)
theorem dX7_fitting_58 : decode cX7_fitting 58 = .ok (.iload 7, 2) := dk_21 7 (dk_at dksX7_fitting_2 11 rfl rfl)
theorem dX7_fitting_60 : decode cX7_fitting 60 = .ok (.aload_n 0, 1) := dk_42 (dk_at dksX7_fitting_2 13 rfl rfl)
theorem dX7_fitting_61 : decode cX7_fitting 61 = .ok (.getfield 13, 3) := dk_180 0 13 (dk_at dksX7_fitting_2 14 rfl rfl)
theorem dX7_fitting_64 : decode cX7_fitting 64 = .ok (.iconst 3, 1) := dk_6 (dk_at dksX7_fitting_2 17 rfl rfl)
theorem dX7_fitting_65 : decode cX7_fitting 65 = .ok (.iaload, 1) := dk_46 (dk_at dksX7_fitting_2 18 rfl rfl)
theorem dX7_fitting_66 : decode cX7_fitting 66 = .ok (.if_icmp .ge 38, 3) := dk_162 0 38 (dk_at dksX7_fitting_2 19 rfl rfl)
theorem dX7_fitting_69 : decode cX7_fitting 69 = .ok (.iload 6, 2) := dk_21 6 (dk_at dksX7_fitting_2 22 rfl rfl)
theorem dX7_fitting_71 : decode cX7_fitting 71 = .ok (.ifCond .eq 24, 3) := dk_153 0 24 (dk_at dksX7_fitting_3 0 rfl rfl)
theorem dX7_fitting_74 : decode cX7_fitting 74 = .ok (.aload_n 0, 1) := dk_42 (dk_at dksX7_fitting_3 3 rfl rfl)
theorem dX7_fitting_75 : decode cX7_fitting 75 = .ok (.getfield 35, 3) := dk_180 0 35 (dk_at dksX7_fitting_3 4 rfl rfl)
theorem dX7_fitting_78 : decode cX7_fitting 78 = .ok (.aload_n 0, 1) := dk_42 (dk_at dksX7_fitting_3 7 rfl rfl)
theorem dX7_fitting_79 : decode cX7_fitting 79 = .ok (.getfield 13, 3) := dk_180 0 13 (dk_at dksX7_fitting_3 8 rfl rfl)
theorem dX7_fitting_82 : decode cX7_fitting 82 = .ok (.iconst 4, 1) := dk_7 (dk_at dksX7_fitting_3 11 rfl rfl)
theorem dX7_fitting_83 : decode cX7_fitting 83 = .ok (.iload 7, 2) := dk_21 7 (dk_at dksX7_fitting_3 12 rfl rfl)
theorem dX7_fitting_85 : decode cX7_fitting 85 = .ok (.iadd, 1) := dk_96 (dk_at dksX7_fitting_3 14 rfl rfl)
theorem dX7_fitting_86 : decode cX7_fitting 86 = .ok (.iaload, 1) := dk_46 (dk_at dksX7_fitting_3 15 rfl rfl)
theorem dX7_fitting_87 : decode cX7_fitting 87 = .ok (.iaload, 1) := dk_46 (dk_at dksX7_fitting_3 16 rfl rfl)
theorem dX7_fitting_88 : decode cX7_fitting 88 = .ok (.ifCond .le 7, 3) := dk_158 0 7 (dk_at dksX7_fitting_3 17 rfl rfl)
theorem dX7_fitting_91 : decode cX7_fitting 91 = .ok (.iconst 1, 1) := dk_4 (dk_at dksX7_fitting_3 20 rfl rfl)
theorem dX7_fitting_92 : decode cX7_fitting 92 = .ok (.goto 4, 3) := dk_167 0 4 (dk_at dksX7_fitting_3 21 rfl rfl)
theorem dX7_fitting_95 : decode cX7_fitting 95 = .ok (.iconst 0, 1) := dk_3 (dk_at dksX7_fitting_4 0 rfl rfl)
theorem dX7_fitting_96 : decode cX7_fitting 96 = .ok (.istore 6, 2) := dk_54 6 (dk_at dksX7_fitting_4 1 rfl rfl)
theorem dX7_fitting_98 : decode cX7_fitting 98 = .ok (.iinc 7 1, 3) := dk_132 7 1 (dk_at dksX7_fitting_4 3 rfl rfl)
theorem dX7_fitting_101 : decode cX7_fitting 101 = .ok (.goto (-43), 3) := dk_167 255 213 (dk_at dksX7_fitting_4 6 rfl rfl)
theorem dX7_fitting_104 : decode cX7_fitting 104 = .ok (.iload_n 3, 1) := dk_29 (dk_at dksX7_fitting_4 9 rfl rfl)
theorem dX7_fitting_105 : decode cX7_fitting 105 = .ok (.iload 6, 2) := dk_21 6 (dk_at dksX7_fitting_4 10 rfl rfl)
theorem dX7_fitting_107 : decode cX7_fitting 107 = .ok (.ifCond .eq 10, 3) := dk_153 0 10 (dk_at dksX7_fitting_4 12 rfl rfl)
theorem dX7_fitting_110 : decode cX7_fitting 110 = .ok (.iconst 1, 1) := dk_4 (dk_at dksX7_fitting_4 15 rfl rfl)
theorem dX7_fitting_111 : decode cX7_fitting 111 = .ok (.iload 5, 2) := dk_21 5 (dk_at dksX7_fitting_4 16 rfl rfl)
theorem dX7_fitting_113 : decode cX7_fitting 113 = .ok (.ishl, 1) := dk_120 (dk_at dksX7_fitting_4 18 rfl rfl)
theorem dX7_fitting_114 : decode cX7_fitting 114 = .ok (.goto 4, 3) := dk_167 0 4 (dk_at dksX7_fitting_4 19 rfl rfl)
theorem dX7_fitting_117 : decode cX7_fitting 117 = .ok (.iconst 0, 1) := dk_3 (dk_at dksX7_fitting_4 22 rfl rfl)
theorem dX7_fitting_118 : decode cX7_fitting 118 = .ok (.ior, 1) := dk_128 (dk_at dksX7_fitting_4 23 rfl rfl)
theorem dX7_fitting_119 : decode cX7_fitting 119 = .ok (.istore_n 3, 1) := dk_62 (dk_at dksX7_fitting_5 0 rfl rfl)
theorem dX7_fitting_120 : decode cX7_fitting 120 = .ok (.iload 4, 2) := dk_21 4 (dk_at dksX7_fitting_5 1 rfl rfl)
theorem dX7_fitting_122 : decode cX7_fitting 122 = .ok (.iload 6, 2) := dk_21 6 (dk_at dksX7_fitting_5 3 rfl rfl)
theorem dX7_fitting_124 : decode cX7_fitting 124 = .ok (.ifCond .eq 7, 3) := dk_153 0 7 (dk_at dksX7_fitting_5 5 rfl rfl)
theorem dX7_fitting_127 : decode cX7_fitting 127 = .ok (.iconst 1, 1) := dk_4 (dk_at dksX7_fitting_5 8 rfl rfl)
theorem dX7_fitting_128 : decode cX7_fitting 128 = .ok (.goto 4, 3) := dk_167 0 4 (dk_at dksX7_fitting_5 9 rfl rfl)
theorem dX7_fitting_131 : decode cX7_fitting 131 = .ok (.iconst 0, 1) := dk_3 (dk_at dksX7_fitting_5 12 rfl rfl)
theorem dX7_fitting_132 : decode cX7_fitting 132 = .ok (.iadd, 1) := dk_96 (dk_at dksX7_fitting_5 13 rfl rfl)
theorem dX7_fitting_133 : decode cX7_fitting 133 = .ok (.istore 4, 2) := dk_54 4 (dk_at dksX7_fitting_5 14 rfl rfl)
theorem dX7_fitting_135 : decode cX7_fitting 135 = .ok (.iinc 5 1, 3) := dk_132 5 1 (dk_at dksX7_fitting_5 16 rfl rfl)
theorem dX7_fitting_138 : decode cX7_fitting 138 = .ok (.goto (-107), 3) := dk_167 255 149 (dk_at dksX7_fitting_5 19 rfl rfl)
theorem dX7_fitting_141 : decode cX7_fitting 141 = .ok (.aload_n 0, 1) := dk_42 (dk_at dksX7_fitting_5 22 rfl rfl)
theorem dX7_fitting_142 : decode cX7_fitting 142 = .ok (.getfield 13, 3) := dk_180 0 13 (dk_at dksX7_fitting_6 0 rfl rfl)
theorem dX7_fitting_145 : decode cX7_fitting 145 = .ok (.iconst 1, 1) := dk_4 (dk_at dksX7_fitting_6 3 rfl rfl)
theorem dX7_fitting_146 : decode cX7_fitting 146 = .ok (.iload_n 2, 1) := dk_28 (dk_at dksX7_fitting_6 4 rfl rfl)
theorem dX7_fitting_147 : decode cX7_fitting 147 = .ok (.iastore, 1) := dk_79 (dk_at dksX7_fitting_6 5 rfl rfl)
theorem dX7_fitting_148 : decode cX7_fitting 148 = .ok (.iload_n 1, 1) := dk_27 (dk_at dksX7_fitting_6 6 rfl rfl)
theorem dX7_fitting_149 : decode cX7_fitting 149 = .ok (.ifCond .ne 7, 3) := dk_154 0 7 (dk_at dksX7_fitting_6 7 rfl rfl)
theorem dX7_fitting_152 : decode cX7_fitting 152 = .ok (.iload_n 3, 1) := dk_29 (dk_at dksX7_fitting_6 10 rfl rfl)
theorem dX7_fitting_153 : decode cX7_fitting 153 = .ok (.goto 5, 3) := dk_167 0 5 (dk_at dksX7_fitting_6 11 rfl rfl)
theorem dX7_fitting_156 : decode cX7_fitting 156 = .ok (.iload 4, 2) := dk_21 4 (dk_at dksX7_fitting_6 14 rfl rfl)
theorem dX7_fitting_158 : decode cX7_fitting 158 = .ok (.ireturn, 1) := dk_172 (dk_at dksX7_fitting_6 16 rfl rfl)
abbrev cX7_row : ByteArray := prog_26_method_52_code
def yX7_row : MethodName := ⟨RX7, "row", "(I)I"⟩
def dkwX7_row_2 : List UInt8 := [180, 0, 151, 4, 96, 181, 0, 151, 42, 180, 0, 151, 172]
abbrev dktX7_row_2 : List UInt8 := dkwX7_row_2 ++ []
def dkwX7_row_1 : List UInt8 := [160, 0, 10, 42, 16, 250, 182, 0, 49, 172, 42, 180, 0, 38, 42, 180, 0, 151, 27, 79, 42, 89]
abbrev dktX7_row_1 : List UInt8 := dkwX7_row_1 ++ dktX7_row_2
def dkwX7_row_0 : List UInt8 := [27, 156, 0, 10, 42, 16, 252, 182, 0, 49, 172, 27, 16, 99, 163, 0, 12, 42, 180, 0, 151, 16, 12]
abbrev dktX7_row_0 : List UInt8 := dkwX7_row_0 ++ dktX7_row_1
theorem dksX7_row_0 : cX7_row.data.toList.drop 0 = dktX7_row_0 := by decide +kernel
theorem dksX7_row_1 : cX7_row.data.toList.drop 23 = dktX7_row_1 := dk_seg dksX7_row_0 23 rfl rfl
theorem dksX7_row_2 : cX7_row.data.toList.drop 45 = dktX7_row_2 := dk_seg dksX7_row_1 22 rfl rfl
theorem dX7_row_0 : decode cX7_row 0 = .ok (.iload_n 1, 1) := dk_27 (dk_at dksX7_row_0 0 rfl rfl)
theorem dX7_row_1 : decode cX7_row 1 = .ok (.ifCond .ge 10, 3) := dk_156 0 10 (dk_at dksX7_row_0 1 rfl rfl)
theorem dX7_row_4 : decode cX7_row 4 = .ok (.aload_n 0, 1) := dk_42 (dk_at dksX7_row_0 4 rfl rfl)
theorem dX7_row_5 : decode cX7_row 5 = .ok (.bipush (-4), 2) := dk_16 252 (dk_at dksX7_row_0 5 rfl rfl)
theorem dX7_row_7 : decode cX7_row 7 = .ok (.invokevirtual 49, 3) := dk_182 0 49 (dk_at dksX7_row_0 7 rfl rfl)
theorem dX7_row_10 : decode cX7_row 10 = .ok (.ireturn, 1) := dk_172 (dk_at dksX7_row_0 10 rfl rfl)
theorem dX7_row_11 : decode cX7_row 11 = .ok (.iload_n 1, 1) := dk_27 (dk_at dksX7_row_0 11 rfl rfl)
theorem dX7_row_12 : decode cX7_row 12 = .ok (.bipush 99, 2) := dk_16 99 (dk_at dksX7_row_0 12 rfl rfl)
theorem dX7_row_14 : decode cX7_row 14 = .ok (.if_icmp .gt 12, 3) := dk_163 0 12 (dk_at dksX7_row_0 14 rfl rfl)
theorem dX7_row_17 : decode cX7_row 17 = .ok (.aload_n 0, 1) := dk_42 (dk_at dksX7_row_0 17 rfl rfl)
theorem dX7_row_18 : decode cX7_row 18 = .ok (.getfield 151, 3) := dk_180 0 151 (dk_at dksX7_row_0 18 rfl rfl)
theorem dX7_row_21 : decode cX7_row 21 = .ok (.bipush 12, 2) := dk_16 12 (dk_at dksX7_row_0 21 rfl rfl)
theorem dX7_row_23 : decode cX7_row 23 = .ok (.if_icmp .ne 10, 3) := dk_160 0 10 (dk_at dksX7_row_1 0 rfl rfl)
theorem dX7_row_26 : decode cX7_row 26 = .ok (.aload_n 0, 1) := dk_42 (dk_at dksX7_row_1 3 rfl rfl)
theorem dX7_row_27 : decode cX7_row 27 = .ok (.bipush (-6), 2) := dk_16 250 (dk_at dksX7_row_1 4 rfl rfl)
theorem dX7_row_29 : decode cX7_row 29 = .ok (.invokevirtual 49, 3) := dk_182 0 49 (dk_at dksX7_row_1 6 rfl rfl)
theorem dX7_row_32 : decode cX7_row 32 = .ok (.ireturn, 1) := dk_172 (dk_at dksX7_row_1 9 rfl rfl)
theorem dX7_row_33 : decode cX7_row 33 = .ok (.aload_n 0, 1) := dk_42 (dk_at dksX7_row_1 10 rfl rfl)
theorem dX7_row_34 : decode cX7_row 34 = .ok (.getfield 38, 3) := dk_180 0 38 (dk_at dksX7_row_1 11 rfl rfl)
theorem dX7_row_37 : decode cX7_row 37 = .ok (.aload_n 0, 1) := dk_42 (dk_at dksX7_row_1 14 rfl rfl)
theorem dX7_row_38 : decode cX7_row 38 = .ok (.getfield 151, 3) := dk_180 0 151 (dk_at dksX7_row_1 15 rfl rfl)
theorem dX7_row_41 : decode cX7_row 41 = .ok (.iload_n 1, 1) := dk_27 (dk_at dksX7_row_1 18 rfl rfl)
theorem dX7_row_42 : decode cX7_row 42 = .ok (.iastore, 1) := dk_79 (dk_at dksX7_row_1 19 rfl rfl)
theorem dX7_row_43 : decode cX7_row 43 = .ok (.aload_n 0, 1) := dk_42 (dk_at dksX7_row_1 20 rfl rfl)
theorem dX7_row_44 : decode cX7_row 44 = .ok (.dup, 1) := dk_89 (dk_at dksX7_row_1 21 rfl rfl)
theorem dX7_row_45 : decode cX7_row 45 = .ok (.getfield 151, 3) := dk_180 0 151 (dk_at dksX7_row_2 0 rfl rfl)
theorem dX7_row_48 : decode cX7_row 48 = .ok (.iconst 1, 1) := dk_4 (dk_at dksX7_row_2 3 rfl rfl)
theorem dX7_row_49 : decode cX7_row 49 = .ok (.iadd, 1) := dk_96 (dk_at dksX7_row_2 4 rfl rfl)
theorem dX7_row_50 : decode cX7_row 50 = .ok (.putfield 151, 3) := dk_181 0 151 (dk_at dksX7_row_2 5 rfl rfl)
theorem dX7_row_53 : decode cX7_row 53 = .ok (.aload_n 0, 1) := dk_42 (dk_at dksX7_row_2 8 rfl rfl)
theorem dX7_row_54 : decode cX7_row 54 = .ok (.getfield 151, 3) := dk_180 0 151 (dk_at dksX7_row_2 9 rfl rfl)
theorem dX7_row_57 : decode cX7_row 57 = .ok (.ireturn, 1) := dk_172 (dk_at dksX7_row_2 12 rfl rfl)
abbrev cX7_judge : ByteArray := prog_26_method_53_code
def yX7_judge : MethodName := ⟨RX7, "judge", "(I)I"⟩
def dkwX7_judge_4 : List UInt8 := [16, 247, 172]
abbrev dktX7_judge_4 : List UInt8 := dkwX7_judge_4 ++ []
def dkwX7_judge_3 : List UInt8 := [182, 0, 121, 154, 0, 13, 42, 180, 0, 35, 21, 4, 46, 154, 0, 5, 29, 172, 132, 3, 1, 167, 255, 198]
abbrev dktX7_judge_3 : List UInt8 := dkwX7_judge_3 ++ dktX7_judge_4
def dkwX7_judge_2 : List UInt8 := [16, 36, 162, 0, 36, 42, 180, 0, 13, 16, 12, 21, 4, 96, 46, 27, 160, 0, 22, 42, 21, 4]
abbrev dktX7_judge_2 : List UInt8 := dkwX7_judge_2 ++ dktX7_judge_3
def dkwX7_judge_1 : List UInt8 := [42, 16, 63, 182, 0, 127, 3, 62, 29, 28, 162, 0, 59, 42, 180, 0, 38, 29, 46, 54, 4, 21, 4]
abbrev dktX7_judge_1 : List UInt8 := dkwX7_judge_1 ++ dktX7_judge_2
def dkwX7_judge_0 : List UInt8 := [27, 7, 184, 0, 124, 153, 0, 9, 42, 2, 182, 0, 49, 172, 42, 180, 0, 151, 61, 42, 3, 181, 0, 151]
abbrev dktX7_judge_0 : List UInt8 := dkwX7_judge_0 ++ dktX7_judge_1
theorem dksX7_judge_0 : cX7_judge.data.toList.drop 0 = dktX7_judge_0 := by decide +kernel
theorem dksX7_judge_1 : cX7_judge.data.toList.drop 24 = dktX7_judge_1 := dk_seg dksX7_judge_0 24 rfl rfl
theorem dksX7_judge_2 : cX7_judge.data.toList.drop 47 = dktX7_judge_2 := dk_seg dksX7_judge_1 23 rfl rfl
theorem dksX7_judge_3 : cX7_judge.data.toList.drop 69 = dktX7_judge_3 := dk_seg dksX7_judge_2 22 rfl rfl
theorem dksX7_judge_4 : cX7_judge.data.toList.drop 93 = dktX7_judge_4 := dk_seg dksX7_judge_3 24 rfl rfl
theorem dX7_judge_0 : decode cX7_judge 0 = .ok (.iload_n 1, 1) := dk_27 (dk_at dksX7_judge_0 0 rfl rfl)
theorem dX7_judge_1 : decode cX7_judge 1 = .ok (.iconst 4, 1) := dk_7 (dk_at dksX7_judge_0 1 rfl rfl)
theorem dX7_judge_2 : decode cX7_judge 2 = .ok (.invokestatic 124, 3) := dk_184 0 124 (dk_at dksX7_judge_0 2 rfl rfl)
theorem dX7_judge_5 : decode cX7_judge 5 = .ok (.ifCond .eq 9, 3) := dk_153 0 9 (dk_at dksX7_judge_0 5 rfl rfl)
theorem dX7_judge_8 : decode cX7_judge 8 = .ok (.aload_n 0, 1) := dk_42 (dk_at dksX7_judge_0 8 rfl rfl)
theorem dX7_judge_9 : decode cX7_judge 9 = .ok (.iconst (-1), 1) := dk_2 (dk_at dksX7_judge_0 9 rfl rfl)
theorem dX7_judge_10 : decode cX7_judge 10 = .ok (.invokevirtual 49, 3) := dk_182 0 49 (dk_at dksX7_judge_0 10 rfl rfl)
theorem dX7_judge_13 : decode cX7_judge 13 = .ok (.ireturn, 1) := dk_172 (dk_at dksX7_judge_0 13 rfl rfl)
theorem dX7_judge_14 : decode cX7_judge 14 = .ok (.aload_n 0, 1) := dk_42 (dk_at dksX7_judge_0 14 rfl rfl)
theorem dX7_judge_15 : decode cX7_judge 15 = .ok (.getfield 151, 3) := dk_180 0 151 (dk_at dksX7_judge_0 15 rfl rfl)
theorem dX7_judge_18 : decode cX7_judge 18 = .ok (.istore_n 2, 1) := dk_61 (dk_at dksX7_judge_0 18 rfl rfl)
theorem dX7_judge_19 : decode cX7_judge 19 = .ok (.aload_n 0, 1) := dk_42 (dk_at dksX7_judge_0 19 rfl rfl)
theorem dX7_judge_20 : decode cX7_judge 20 = .ok (.iconst 0, 1) := dk_3 (dk_at dksX7_judge_0 20 rfl rfl)
theorem dX7_judge_21 : decode cX7_judge 21 = .ok (.putfield 151, 3) := dk_181 0 151 (dk_at dksX7_judge_0 21 rfl rfl)
theorem dX7_judge_24 : decode cX7_judge 24 = .ok (.aload_n 0, 1) := dk_42 (dk_at dksX7_judge_1 0 rfl rfl)
theorem dX7_judge_25 : decode cX7_judge 25 = .ok (.bipush 63, 2) := dk_16 63 (dk_at dksX7_judge_1 1 rfl rfl)
theorem dX7_judge_27 : decode cX7_judge 27 = .ok (.invokevirtual 127, 3) := dk_182 0 127 (dk_at dksX7_judge_1 3 rfl rfl)
theorem dX7_judge_30 : decode cX7_judge 30 = .ok (.iconst 0, 1) := dk_3 (dk_at dksX7_judge_1 6 rfl rfl)
theorem dX7_judge_31 : decode cX7_judge 31 = .ok (.istore_n 3, 1) := dk_62 (dk_at dksX7_judge_1 7 rfl rfl)
theorem dX7_judge_32 : decode cX7_judge 32 = .ok (.iload_n 3, 1) := dk_29 (dk_at dksX7_judge_1 8 rfl rfl)
theorem dX7_judge_33 : decode cX7_judge 33 = .ok (.iload_n 2, 1) := dk_28 (dk_at dksX7_judge_1 9 rfl rfl)
theorem dX7_judge_34 : decode cX7_judge 34 = .ok (.if_icmp .ge 59, 3) := dk_162 0 59 (dk_at dksX7_judge_1 10 rfl rfl)
theorem dX7_judge_37 : decode cX7_judge 37 = .ok (.aload_n 0, 1) := dk_42 (dk_at dksX7_judge_1 13 rfl rfl)
theorem dX7_judge_38 : decode cX7_judge 38 = .ok (.getfield 38, 3) := dk_180 0 38 (dk_at dksX7_judge_1 14 rfl rfl)
theorem dX7_judge_41 : decode cX7_judge 41 = .ok (.iload_n 3, 1) := dk_29 (dk_at dksX7_judge_1 17 rfl rfl)
theorem dX7_judge_42 : decode cX7_judge 42 = .ok (.iaload, 1) := dk_46 (dk_at dksX7_judge_1 18 rfl rfl)
theorem dX7_judge_43 : decode cX7_judge 43 = .ok (.istore 4, 2) := dk_54 4 (dk_at dksX7_judge_1 19 rfl rfl)
theorem dX7_judge_45 : decode cX7_judge 45 = .ok (.iload 4, 2) := dk_21 4 (dk_at dksX7_judge_1 21 rfl rfl)
theorem dX7_judge_47 : decode cX7_judge 47 = .ok (.bipush 36, 2) := dk_16 36 (dk_at dksX7_judge_2 0 rfl rfl)
theorem dX7_judge_49 : decode cX7_judge 49 = .ok (.if_icmp .ge 36, 3) := dk_162 0 36 (dk_at dksX7_judge_2 2 rfl rfl)
theorem dX7_judge_52 : decode cX7_judge 52 = .ok (.aload_n 0, 1) := dk_42 (dk_at dksX7_judge_2 5 rfl rfl)
theorem dX7_judge_53 : decode cX7_judge 53 = .ok (.getfield 13, 3) := dk_180 0 13 (dk_at dksX7_judge_2 6 rfl rfl)
theorem dX7_judge_56 : decode cX7_judge 56 = .ok (.bipush 12, 2) := dk_16 12 (dk_at dksX7_judge_2 9 rfl rfl)
theorem dX7_judge_58 : decode cX7_judge 58 = .ok (.iload 4, 2) := dk_21 4 (dk_at dksX7_judge_2 11 rfl rfl)
theorem dX7_judge_60 : decode cX7_judge 60 = .ok (.iadd, 1) := dk_96 (dk_at dksX7_judge_2 13 rfl rfl)
theorem dX7_judge_61 : decode cX7_judge 61 = .ok (.iaload, 1) := dk_46 (dk_at dksX7_judge_2 14 rfl rfl)
theorem dX7_judge_62 : decode cX7_judge 62 = .ok (.iload_n 1, 1) := dk_27 (dk_at dksX7_judge_2 15 rfl rfl)
theorem dX7_judge_63 : decode cX7_judge 63 = .ok (.if_icmp .ne 22, 3) := dk_160 0 22 (dk_at dksX7_judge_2 16 rfl rfl)
theorem dX7_judge_66 : decode cX7_judge 66 = .ok (.aload_n 0, 1) := dk_42 (dk_at dksX7_judge_2 19 rfl rfl)
theorem dX7_judge_67 : decode cX7_judge 67 = .ok (.iload 4, 2) := dk_21 4 (dk_at dksX7_judge_2 20 rfl rfl)
theorem dX7_judge_69 : decode cX7_judge 69 = .ok (.invokevirtual 121, 3) := dk_182 0 121 (dk_at dksX7_judge_3 0 rfl rfl)
theorem dX7_judge_72 : decode cX7_judge 72 = .ok (.ifCond .ne 13, 3) := dk_154 0 13 (dk_at dksX7_judge_3 3 rfl rfl)
theorem dX7_judge_75 : decode cX7_judge 75 = .ok (.aload_n 0, 1) := dk_42 (dk_at dksX7_judge_3 6 rfl rfl)
theorem dX7_judge_76 : decode cX7_judge 76 = .ok (.getfield 35, 3) := dk_180 0 35 (dk_at dksX7_judge_3 7 rfl rfl)
theorem dX7_judge_79 : decode cX7_judge 79 = .ok (.iload 4, 2) := dk_21 4 (dk_at dksX7_judge_3 10 rfl rfl)
theorem dX7_judge_81 : decode cX7_judge 81 = .ok (.iaload, 1) := dk_46 (dk_at dksX7_judge_3 12 rfl rfl)
theorem dX7_judge_82 : decode cX7_judge 82 = .ok (.ifCond .ne 5, 3) := dk_154 0 5 (dk_at dksX7_judge_3 13 rfl rfl)
theorem dX7_judge_85 : decode cX7_judge 85 = .ok (.iload_n 3, 1) := dk_29 (dk_at dksX7_judge_3 16 rfl rfl)
theorem dX7_judge_86 : decode cX7_judge 86 = .ok (.ireturn, 1) := dk_172 (dk_at dksX7_judge_3 17 rfl rfl)
theorem dX7_judge_87 : decode cX7_judge 87 = .ok (.iinc 3 1, 3) := dk_132 3 1 (dk_at dksX7_judge_3 18 rfl rfl)
theorem dX7_judge_90 : decode cX7_judge 90 = .ok (.goto (-58), 3) := dk_167 255 198 (dk_at dksX7_judge_3 21 rfl rfl)
theorem dX7_judge_93 : decode cX7_judge 93 = .ok (.bipush (-9), 2) := dk_16 247 (dk_at dksX7_judge_4 0 rfl rfl)
theorem dX7_judge_95 : decode cX7_judge 95 = .ok (.ireturn, 1) := dk_172 (dk_at dksX7_judge_4 2 rfl rfl)
abbrev cX7_seeds : ByteArray := prog_26_method_54_code
def yX7_seeds : MethodName := ⟨RX7, "seeds", "(III)I"⟩
def dkwX7_seeds_5 : List UInt8 := [21, 4, 79, 21, 6, 172]
abbrev dktX7_seeds_5 : List UInt8 := dkwX7_seeds_5 ++ []
def dkwX7_seeds_4 : List UInt8 := [182, 0, 127, 21, 6, 42, 29, 182, 0, 131, 96, 54, 6, 132, 7, 1, 167, 255, 203, 42, 180, 0, 13, 4]
abbrev dktX7_seeds_4 : List UInt8 := dkwX7_seeds_4 ++ dktX7_seeds_5
def dkwX7_seeds_3 : List UInt8 := [96, 54, 5, 42, 180, 0, 13, 4, 21, 5, 18, 156, 126, 17, 1, 0, 108, 16, 16, 112, 79, 42, 16, 63]
abbrev dktX7_seeds_3 : List UInt8 := dkwX7_seeds_3 ++ dktX7_seeds_4
def dkwX7_seeds_2 : List UInt8 := [54, 4, 28, 54, 5, 3, 54, 6, 3, 54, 7, 21, 7, 27, 162, 0, 53, 21, 5, 18, 154, 104, 18, 155]
abbrev dktX7_seeds_2 : List UInt8 := dkwX7_seeds_2 ++ dktX7_seeds_3
def dkwX7_seeds_1 : List UInt8 := [182, 0, 49, 172, 27, 16, 30, 164, 0, 10, 42, 16, 250, 182, 0, 49, 172, 42, 180, 0, 13, 4, 46]
abbrev dktX7_seeds_1 : List UInt8 := dkwX7_seeds_1 ++ dktX7_seeds_2
def dkwX7_seeds_0 : List UInt8 := [29, 7, 184, 0, 124, 153, 0, 9, 42, 2, 182, 0, 49, 172, 27, 4, 162, 0, 10, 42, 16, 252]
abbrev dktX7_seeds_0 : List UInt8 := dkwX7_seeds_0 ++ dktX7_seeds_1
theorem dksX7_seeds_0 : cX7_seeds.data.toList.drop 0 = dktX7_seeds_0 := by decide +kernel
theorem dksX7_seeds_1 : cX7_seeds.data.toList.drop 22 = dktX7_seeds_1 := dk_seg dksX7_seeds_0 22 rfl rfl
theorem dksX7_seeds_2 : cX7_seeds.data.toList.drop 45 = dktX7_seeds_2 := dk_seg dksX7_seeds_1 23 rfl rfl
theorem dksX7_seeds_3 : cX7_seeds.data.toList.drop 69 = dktX7_seeds_3 := dk_seg dksX7_seeds_2 24 rfl rfl
theorem dksX7_seeds_4 : cX7_seeds.data.toList.drop 93 = dktX7_seeds_4 := dk_seg dksX7_seeds_3 24 rfl rfl
theorem dksX7_seeds_5 : cX7_seeds.data.toList.drop 117 = dktX7_seeds_5 := dk_seg dksX7_seeds_4 24 rfl rfl
theorem dX7_seeds_0 : decode cX7_seeds 0 = .ok (.iload_n 3, 1) := dk_29 (dk_at dksX7_seeds_0 0 rfl rfl)
theorem dX7_seeds_1 : decode cX7_seeds 1 = .ok (.iconst 4, 1) := dk_7 (dk_at dksX7_seeds_0 1 rfl rfl)
theorem dX7_seeds_2 : decode cX7_seeds 2 = .ok (.invokestatic 124, 3) := dk_184 0 124 (dk_at dksX7_seeds_0 2 rfl rfl)
theorem dX7_seeds_5 : decode cX7_seeds 5 = .ok (.ifCond .eq 9, 3) := dk_153 0 9 (dk_at dksX7_seeds_0 5 rfl rfl)
theorem dX7_seeds_8 : decode cX7_seeds 8 = .ok (.aload_n 0, 1) := dk_42 (dk_at dksX7_seeds_0 8 rfl rfl)
theorem dX7_seeds_9 : decode cX7_seeds 9 = .ok (.iconst (-1), 1) := dk_2 (dk_at dksX7_seeds_0 9 rfl rfl)
theorem dX7_seeds_10 : decode cX7_seeds 10 = .ok (.invokevirtual 49, 3) := dk_182 0 49 (dk_at dksX7_seeds_0 10 rfl rfl)
theorem dX7_seeds_13 : decode cX7_seeds 13 = .ok (.ireturn, 1) := dk_172 (dk_at dksX7_seeds_0 13 rfl rfl)
theorem dX7_seeds_14 : decode cX7_seeds 14 = .ok (.iload_n 1, 1) := dk_27 (dk_at dksX7_seeds_0 14 rfl rfl)
theorem dX7_seeds_15 : decode cX7_seeds 15 = .ok (.iconst 1, 1) := dk_4 (dk_at dksX7_seeds_0 15 rfl rfl)
theorem dX7_seeds_16 : decode cX7_seeds 16 = .ok (.if_icmp .ge 10, 3) := dk_162 0 10 (dk_at dksX7_seeds_0 16 rfl rfl)
theorem dX7_seeds_19 : decode cX7_seeds 19 = .ok (.aload_n 0, 1) := dk_42 (dk_at dksX7_seeds_0 19 rfl rfl)
theorem dX7_seeds_20 : decode cX7_seeds 20 = .ok (.bipush (-4), 2) := dk_16 252 (dk_at dksX7_seeds_0 20 rfl rfl)
theorem dX7_seeds_22 : decode cX7_seeds 22 = .ok (.invokevirtual 49, 3) := dk_182 0 49 (dk_at dksX7_seeds_1 0 rfl rfl)
theorem dX7_seeds_25 : decode cX7_seeds 25 = .ok (.ireturn, 1) := dk_172 (dk_at dksX7_seeds_1 3 rfl rfl)
theorem dX7_seeds_26 : decode cX7_seeds 26 = .ok (.iload_n 1, 1) := dk_27 (dk_at dksX7_seeds_1 4 rfl rfl)
theorem dX7_seeds_27 : decode cX7_seeds 27 = .ok (.bipush 30, 2) := dk_16 30 (dk_at dksX7_seeds_1 5 rfl rfl)
theorem dX7_seeds_29 : decode cX7_seeds 29 = .ok (.if_icmp .le 10, 3) := dk_164 0 10 (dk_at dksX7_seeds_1 7 rfl rfl)
theorem dX7_seeds_32 : decode cX7_seeds 32 = .ok (.aload_n 0, 1) := dk_42 (dk_at dksX7_seeds_1 10 rfl rfl)
theorem dX7_seeds_33 : decode cX7_seeds 33 = .ok (.bipush (-6), 2) := dk_16 250 (dk_at dksX7_seeds_1 11 rfl rfl)
theorem dX7_seeds_35 : decode cX7_seeds 35 = .ok (.invokevirtual 49, 3) := dk_182 0 49 (dk_at dksX7_seeds_1 13 rfl rfl)
theorem dX7_seeds_38 : decode cX7_seeds 38 = .ok (.ireturn, 1) := dk_172 (dk_at dksX7_seeds_1 16 rfl rfl)
theorem dX7_seeds_39 : decode cX7_seeds 39 = .ok (.aload_n 0, 1) := dk_42 (dk_at dksX7_seeds_1 17 rfl rfl)
theorem dX7_seeds_40 : decode cX7_seeds 40 = .ok (.getfield 13, 3) := dk_180 0 13 (dk_at dksX7_seeds_1 18 rfl rfl)
theorem dX7_seeds_43 : decode cX7_seeds 43 = .ok (.iconst 1, 1) := dk_4 (dk_at dksX7_seeds_1 21 rfl rfl)
theorem dX7_seeds_44 : decode cX7_seeds 44 = .ok (.iaload, 1) := dk_46 (dk_at dksX7_seeds_1 22 rfl rfl)
theorem dX7_seeds_45 : decode cX7_seeds 45 = .ok (.istore 4, 2) := dk_54 4 (dk_at dksX7_seeds_2 0 rfl rfl)
theorem dX7_seeds_47 : decode cX7_seeds 47 = .ok (.iload_n 2, 1) := dk_28 (dk_at dksX7_seeds_2 2 rfl rfl)
theorem dX7_seeds_48 : decode cX7_seeds 48 = .ok (.istore 5, 2) := dk_54 5 (dk_at dksX7_seeds_2 3 rfl rfl)
theorem dX7_seeds_50 : decode cX7_seeds 50 = .ok (.iconst 0, 1) := dk_3 (dk_at dksX7_seeds_2 5 rfl rfl)
theorem dX7_seeds_51 : decode cX7_seeds 51 = .ok (.istore 6, 2) := dk_54 6 (dk_at dksX7_seeds_2 6 rfl rfl)
theorem dX7_seeds_53 : decode cX7_seeds 53 = .ok (.iconst 0, 1) := dk_3 (dk_at dksX7_seeds_2 8 rfl rfl)
theorem dX7_seeds_54 : decode cX7_seeds 54 = .ok (.istore 7, 2) := dk_54 7 (dk_at dksX7_seeds_2 9 rfl rfl)
theorem dX7_seeds_56 : decode cX7_seeds 56 = .ok (.iload 7, 2) := dk_21 7 (dk_at dksX7_seeds_2 11 rfl rfl)
theorem dX7_seeds_58 : decode cX7_seeds 58 = .ok (.iload_n 1, 1) := dk_27 (dk_at dksX7_seeds_2 13 rfl rfl)
theorem dX7_seeds_59 : decode cX7_seeds 59 = .ok (.if_icmp .ge 53, 3) := dk_162 0 53 (dk_at dksX7_seeds_2 14 rfl rfl)
theorem dX7_seeds_62 : decode cX7_seeds 62 = .ok (.iload 5, 2) := dk_21 5 (dk_at dksX7_seeds_2 17 rfl rfl)
theorem dX7_seeds_64 : decode cX7_seeds 64 = .ok (.ldc 154, 2) := dk_18 154 (dk_at dksX7_seeds_2 19 rfl rfl)
theorem dX7_seeds_66 : decode cX7_seeds 66 = .ok (.imul, 1) := dk_104 (dk_at dksX7_seeds_2 21 rfl rfl)
theorem dX7_seeds_67 : decode cX7_seeds 67 = .ok (.ldc 155, 2) := dk_18 155 (dk_at dksX7_seeds_2 22 rfl rfl)
theorem dX7_seeds_69 : decode cX7_seeds 69 = .ok (.iadd, 1) := dk_96 (dk_at dksX7_seeds_3 0 rfl rfl)
theorem dX7_seeds_70 : decode cX7_seeds 70 = .ok (.istore 5, 2) := dk_54 5 (dk_at dksX7_seeds_3 1 rfl rfl)
theorem dX7_seeds_72 : decode cX7_seeds 72 = .ok (.aload_n 0, 1) := dk_42 (dk_at dksX7_seeds_3 3 rfl rfl)
theorem dX7_seeds_73 : decode cX7_seeds 73 = .ok (.getfield 13, 3) := dk_180 0 13 (dk_at dksX7_seeds_3 4 rfl rfl)
theorem dX7_seeds_76 : decode cX7_seeds 76 = .ok (.iconst 1, 1) := dk_4 (dk_at dksX7_seeds_3 7 rfl rfl)
theorem dX7_seeds_77 : decode cX7_seeds 77 = .ok (.iload 5, 2) := dk_21 5 (dk_at dksX7_seeds_3 8 rfl rfl)
theorem dX7_seeds_79 : decode cX7_seeds 79 = .ok (.ldc 156, 2) := dk_18 156 (dk_at dksX7_seeds_3 10 rfl rfl)
theorem dX7_seeds_81 : decode cX7_seeds 81 = .ok (.iand, 1) := dk_126 (dk_at dksX7_seeds_3 12 rfl rfl)
theorem dX7_seeds_82 : decode cX7_seeds 82 = .ok (.sipush 256, 3) := dk_17 1 0 (dk_at dksX7_seeds_3 13 rfl rfl)
theorem dX7_seeds_85 : decode cX7_seeds 85 = .ok (.idiv, 1) := dk_108 (dk_at dksX7_seeds_3 16 rfl rfl)
theorem dX7_seeds_86 : decode cX7_seeds 86 = .ok (.bipush 16, 2) := dk_16 16 (dk_at dksX7_seeds_3 17 rfl rfl)
theorem dX7_seeds_88 : decode cX7_seeds 88 = .ok (.irem, 1) := dk_112 (dk_at dksX7_seeds_3 19 rfl rfl)
theorem dX7_seeds_89 : decode cX7_seeds 89 = .ok (.iastore, 1) := dk_79 (dk_at dksX7_seeds_3 20 rfl rfl)
theorem dX7_seeds_90 : decode cX7_seeds 90 = .ok (.aload_n 0, 1) := dk_42 (dk_at dksX7_seeds_3 21 rfl rfl)
theorem dX7_seeds_91 : decode cX7_seeds 91 = .ok (.bipush 63, 2) := dk_16 63 (dk_at dksX7_seeds_3 22 rfl rfl)
theorem dX7_seeds_93 : decode cX7_seeds 93 = .ok (.invokevirtual 127, 3) := dk_182 0 127 (dk_at dksX7_seeds_4 0 rfl rfl)
theorem dX7_seeds_96 : decode cX7_seeds 96 = .ok (.iload 6, 2) := dk_21 6 (dk_at dksX7_seeds_4 3 rfl rfl)
theorem dX7_seeds_98 : decode cX7_seeds 98 = .ok (.aload_n 0, 1) := dk_42 (dk_at dksX7_seeds_4 5 rfl rfl)
theorem dX7_seeds_99 : decode cX7_seeds 99 = .ok (.iload_n 3, 1) := dk_29 (dk_at dksX7_seeds_4 6 rfl rfl)
theorem dX7_seeds_100 : decode cX7_seeds 100 = .ok (.invokevirtual 131, 3) := dk_182 0 131 (dk_at dksX7_seeds_4 7 rfl rfl)
theorem dX7_seeds_103 : decode cX7_seeds 103 = .ok (.iadd, 1) := dk_96 (dk_at dksX7_seeds_4 10 rfl rfl)
theorem dX7_seeds_104 : decode cX7_seeds 104 = .ok (.istore 6, 2) := dk_54 6 (dk_at dksX7_seeds_4 11 rfl rfl)
theorem dX7_seeds_106 : decode cX7_seeds 106 = .ok (.iinc 7 1, 3) := dk_132 7 1 (dk_at dksX7_seeds_4 13 rfl rfl)
theorem dX7_seeds_109 : decode cX7_seeds 109 = .ok (.goto (-53), 3) := dk_167 255 203 (dk_at dksX7_seeds_4 16 rfl rfl)
theorem dX7_seeds_112 : decode cX7_seeds 112 = .ok (.aload_n 0, 1) := dk_42 (dk_at dksX7_seeds_4 19 rfl rfl)
theorem dX7_seeds_113 : decode cX7_seeds 113 = .ok (.getfield 13, 3) := dk_180 0 13 (dk_at dksX7_seeds_4 20 rfl rfl)
theorem dX7_seeds_116 : decode cX7_seeds 116 = .ok (.iconst 1, 1) := dk_4 (dk_at dksX7_seeds_4 23 rfl rfl)
theorem dX7_seeds_117 : decode cX7_seeds 117 = .ok (.iload 4, 2) := dk_21 4 (dk_at dksX7_seeds_5 0 rfl rfl)
theorem dX7_seeds_119 : decode cX7_seeds 119 = .ok (.iastore, 1) := dk_79 (dk_at dksX7_seeds_5 2 rfl rfl)
theorem dX7_seeds_120 : decode cX7_seeds 120 = .ok (.iload 6, 2) := dk_21 6 (dk_at dksX7_seeds_5 3 rfl rfl)
theorem dX7_seeds_122 : decode cX7_seeds 122 = .ok (.ireturn, 1) := dk_172 (dk_at dksX7_seeds_5 5 rfl rfl)
abbrev cX7_count : ByteArray := prog_26_method_56_code
def yX7_count : MethodName := ⟨RX7, "count", "(I)I"⟩
def dkwX7_count_7 : List UInt8 := [16, 247, 172]
abbrev dktX7_count_7 : List UInt8 := dkwX7_count_7 ++ []
def dkwX7_count_6 : List UInt8 := [27, 16, 11, 161, 0, 21, 27, 16, 16, 163, 0, 15, 42, 180, 0, 7, 27, 16, 10, 100, 46, 167, 0, 5]
abbrev dktX7_count_6 : List UInt8 := dkwX7_count_6 ++ dktX7_count_7
def dkwX7_count_5 : List UInt8 := [167, 0, 4, 3, 96, 61, 132, 3, 1, 167, 255, 231, 28, 172, 42, 180, 0, 151, 172, 42, 180, 0, 53, 172]
abbrev dktX7_count_5 : List UInt8 := dkwX7_count_5 ++ dktX7_count_6
def dkwX7_count_4 : List UInt8 := [180, 0, 13, 6, 46, 172, 3, 62, 29, 16, 36, 162, 0, 25, 28, 42, 29, 182, 0, 121, 153, 0, 7, 4]
abbrev dktX7_count_4 : List UInt8 := dkwX7_count_4 ++ dktX7_count_5
def dkwX7_count_3 : List UInt8 := [180, 0, 13, 4, 46, 172, 42, 180, 0, 13, 5, 46, 172, 42, 16, 84, 16, 36, 182, 0, 157, 172, 42]
abbrev dktX7_count_3 : List UInt8 := dkwX7_count_3 ++ dktX7_count_4
def dkwX7_count_2 : List UInt8 := [42, 180, 0, 13, 3, 46, 172, 42, 17, 0, 132, 42, 180, 0, 13, 3, 46, 182, 0, 157, 172, 42]
abbrev dktX7_count_2 : List UInt8 := dkwX7_count_2 ++ dktX7_count_3
def dkwX7_count_1 : List UInt8 := [170, 0, 0, 0, 142, 0, 0, 0, 0, 0, 0, 0, 8, 0, 0, 0, 49, 0, 0, 0, 56, 0, 0, 0, 70, 0, 0, 0, 77, 0, 0, 0, 84, 0, 0, 0, 93, 0, 0, 0, 100, 0, 0, 0, 132, 0, 0, 0, 137]
abbrev dktX7_count_1 : List UInt8 := dkwX7_count_1 ++ dktX7_count_2
def dkwX7_count_0 : List UInt8 := [3, 61, 27]
abbrev dktX7_count_0 : List UInt8 := dkwX7_count_0 ++ dktX7_count_1
theorem dksX7_count_0 : cX7_count.data.toList.drop 0 = dktX7_count_0 := by decide +kernel
theorem dksX7_count_1 : cX7_count.data.toList.drop 3 = dktX7_count_1 := dk_seg dksX7_count_0 3 rfl rfl
theorem dksX7_count_2 : cX7_count.data.toList.drop 52 = dktX7_count_2 := dk_seg dksX7_count_1 49 rfl rfl
theorem dksX7_count_3 : cX7_count.data.toList.drop 74 = dktX7_count_3 := dk_seg dksX7_count_2 22 rfl rfl
theorem dksX7_count_4 : cX7_count.data.toList.drop 97 = dktX7_count_4 := dk_seg dksX7_count_3 23 rfl rfl
theorem dksX7_count_5 : cX7_count.data.toList.drop 121 = dktX7_count_5 := dk_seg dksX7_count_4 24 rfl rfl
theorem dksX7_count_6 : cX7_count.data.toList.drop 145 = dktX7_count_6 := dk_seg dksX7_count_5 24 rfl rfl
theorem dksX7_count_7 : cX7_count.data.toList.drop 169 = dktX7_count_7 := dk_seg dksX7_count_6 24 rfl rfl
theorem dX7_count_0 : decode cX7_count 0 = .ok (.iconst 0, 1) := dk_3 (dk_at dksX7_count_0 0 rfl rfl)
theorem dX7_count_1 : decode cX7_count 1 = .ok (.istore_n 2, 1) := dk_61 (dk_at dksX7_count_0 1 rfl rfl)
theorem dX7_count_2 : decode cX7_count 2 = .ok (.iload_n 1, 1) := dk_27 (dk_at dksX7_count_0 2 rfl rfl)
theorem dX7_count_3 : decode cX7_count 3 = .ok (.tableswitch 142 0 8 #[49, 56, 70, 77, 84, 93, 100, 132, 137], 49) := by decide +kernel
theorem dX7_count_52 : decode cX7_count 52 = .ok (.aload_n 0, 1) := dk_42 (dk_at dksX7_count_2 0 rfl rfl)
theorem dX7_count_53 : decode cX7_count 53 = .ok (.getfield 13, 3) := dk_180 0 13 (dk_at dksX7_count_2 1 rfl rfl)
theorem dX7_count_56 : decode cX7_count 56 = .ok (.iconst 0, 1) := dk_3 (dk_at dksX7_count_2 4 rfl rfl)
theorem dX7_count_57 : decode cX7_count 57 = .ok (.iaload, 1) := dk_46 (dk_at dksX7_count_2 5 rfl rfl)
theorem dX7_count_58 : decode cX7_count 58 = .ok (.ireturn, 1) := dk_172 (dk_at dksX7_count_2 6 rfl rfl)
theorem dX7_count_59 : decode cX7_count 59 = .ok (.aload_n 0, 1) := dk_42 (dk_at dksX7_count_2 7 rfl rfl)
theorem dX7_count_60 : decode cX7_count 60 = .ok (.sipush 132, 3) := dk_17 0 132 (dk_at dksX7_count_2 8 rfl rfl)
theorem dX7_count_63 : decode cX7_count 63 = .ok (.aload_n 0, 1) := dk_42 (dk_at dksX7_count_2 11 rfl rfl)
theorem dX7_count_64 : decode cX7_count 64 = .ok (.getfield 13, 3) := dk_180 0 13 (dk_at dksX7_count_2 12 rfl rfl)
theorem dX7_count_67 : decode cX7_count 67 = .ok (.iconst 0, 1) := dk_3 (dk_at dksX7_count_2 15 rfl rfl)
theorem dX7_count_68 : decode cX7_count 68 = .ok (.iaload, 1) := dk_46 (dk_at dksX7_count_2 16 rfl rfl)
theorem dX7_count_69 : decode cX7_count 69 = .ok (.invokevirtual 157, 3) := dk_182 0 157 (dk_at dksX7_count_2 17 rfl rfl)
theorem dX7_count_72 : decode cX7_count 72 = .ok (.ireturn, 1) := dk_172 (dk_at dksX7_count_2 20 rfl rfl)
theorem dX7_count_73 : decode cX7_count 73 = .ok (.aload_n 0, 1) := dk_42 (dk_at dksX7_count_2 21 rfl rfl)
theorem dX7_count_74 : decode cX7_count 74 = .ok (.getfield 13, 3) := dk_180 0 13 (dk_at dksX7_count_3 0 rfl rfl)
theorem dX7_count_77 : decode cX7_count 77 = .ok (.iconst 1, 1) := dk_4 (dk_at dksX7_count_3 3 rfl rfl)
theorem dX7_count_78 : decode cX7_count 78 = .ok (.iaload, 1) := dk_46 (dk_at dksX7_count_3 4 rfl rfl)
theorem dX7_count_79 : decode cX7_count 79 = .ok (.ireturn, 1) := dk_172 (dk_at dksX7_count_3 5 rfl rfl)
theorem dX7_count_80 : decode cX7_count 80 = .ok (.aload_n 0, 1) := dk_42 (dk_at dksX7_count_3 6 rfl rfl)
theorem dX7_count_81 : decode cX7_count 81 = .ok (.getfield 13, 3) := dk_180 0 13 (dk_at dksX7_count_3 7 rfl rfl)
theorem dX7_count_84 : decode cX7_count 84 = .ok (.iconst 2, 1) := dk_5 (dk_at dksX7_count_3 10 rfl rfl)
theorem dX7_count_85 : decode cX7_count 85 = .ok (.iaload, 1) := dk_46 (dk_at dksX7_count_3 11 rfl rfl)
theorem dX7_count_86 : decode cX7_count 86 = .ok (.ireturn, 1) := dk_172 (dk_at dksX7_count_3 12 rfl rfl)
theorem dX7_count_87 : decode cX7_count 87 = .ok (.aload_n 0, 1) := dk_42 (dk_at dksX7_count_3 13 rfl rfl)
theorem dX7_count_88 : decode cX7_count 88 = .ok (.bipush 84, 2) := dk_16 84 (dk_at dksX7_count_3 14 rfl rfl)
theorem dX7_count_90 : decode cX7_count 90 = .ok (.bipush 36, 2) := dk_16 36 (dk_at dksX7_count_3 16 rfl rfl)
theorem dX7_count_92 : decode cX7_count 92 = .ok (.invokevirtual 157, 3) := dk_182 0 157 (dk_at dksX7_count_3 18 rfl rfl)
theorem dX7_count_95 : decode cX7_count 95 = .ok (.ireturn, 1) := dk_172 (dk_at dksX7_count_3 21 rfl rfl)
theorem dX7_count_96 : decode cX7_count 96 = .ok (.aload_n 0, 1) := dk_42 (dk_at dksX7_count_3 22 rfl rfl)
theorem dX7_count_97 : decode cX7_count 97 = .ok (.getfield 13, 3) := dk_180 0 13 (dk_at dksX7_count_4 0 rfl rfl)
theorem dX7_count_100 : decode cX7_count 100 = .ok (.iconst 3, 1) := dk_6 (dk_at dksX7_count_4 3 rfl rfl)
theorem dX7_count_101 : decode cX7_count 101 = .ok (.iaload, 1) := dk_46 (dk_at dksX7_count_4 4 rfl rfl)
theorem dX7_count_102 : decode cX7_count 102 = .ok (.ireturn, 1) := dk_172 (dk_at dksX7_count_4 5 rfl rfl)
theorem dX7_count_103 : decode cX7_count 103 = .ok (.iconst 0, 1) := dk_3 (dk_at dksX7_count_4 6 rfl rfl)
theorem dX7_count_104 : decode cX7_count 104 = .ok (.istore_n 3, 1) := dk_62 (dk_at dksX7_count_4 7 rfl rfl)
theorem dX7_count_105 : decode cX7_count 105 = .ok (.iload_n 3, 1) := dk_29 (dk_at dksX7_count_4 8 rfl rfl)
theorem dX7_count_106 : decode cX7_count 106 = .ok (.bipush 36, 2) := dk_16 36 (dk_at dksX7_count_4 9 rfl rfl)
theorem dX7_count_108 : decode cX7_count 108 = .ok (.if_icmp .ge 25, 3) := dk_162 0 25 (dk_at dksX7_count_4 11 rfl rfl)
theorem dX7_count_111 : decode cX7_count 111 = .ok (.iload_n 2, 1) := dk_28 (dk_at dksX7_count_4 14 rfl rfl)
theorem dX7_count_112 : decode cX7_count 112 = .ok (.aload_n 0, 1) := dk_42 (dk_at dksX7_count_4 15 rfl rfl)
theorem dX7_count_113 : decode cX7_count 113 = .ok (.iload_n 3, 1) := dk_29 (dk_at dksX7_count_4 16 rfl rfl)
theorem dX7_count_114 : decode cX7_count 114 = .ok (.invokevirtual 121, 3) := dk_182 0 121 (dk_at dksX7_count_4 17 rfl rfl)
theorem dX7_count_117 : decode cX7_count 117 = .ok (.ifCond .eq 7, 3) := dk_153 0 7 (dk_at dksX7_count_4 20 rfl rfl)
theorem dX7_count_120 : decode cX7_count 120 = .ok (.iconst 1, 1) := dk_4 (dk_at dksX7_count_4 23 rfl rfl)
theorem dX7_count_121 : decode cX7_count 121 = .ok (.goto 4, 3) := dk_167 0 4 (dk_at dksX7_count_5 0 rfl rfl)
theorem dX7_count_124 : decode cX7_count 124 = .ok (.iconst 0, 1) := dk_3 (dk_at dksX7_count_5 3 rfl rfl)
theorem dX7_count_125 : decode cX7_count 125 = .ok (.iadd, 1) := dk_96 (dk_at dksX7_count_5 4 rfl rfl)
theorem dX7_count_126 : decode cX7_count 126 = .ok (.istore_n 2, 1) := dk_61 (dk_at dksX7_count_5 5 rfl rfl)
theorem dX7_count_127 : decode cX7_count 127 = .ok (.iinc 3 1, 3) := dk_132 3 1 (dk_at dksX7_count_5 6 rfl rfl)
theorem dX7_count_130 : decode cX7_count 130 = .ok (.goto (-25), 3) := dk_167 255 231 (dk_at dksX7_count_5 9 rfl rfl)
theorem dX7_count_133 : decode cX7_count 133 = .ok (.iload_n 2, 1) := dk_28 (dk_at dksX7_count_5 12 rfl rfl)
theorem dX7_count_134 : decode cX7_count 134 = .ok (.ireturn, 1) := dk_172 (dk_at dksX7_count_5 13 rfl rfl)
theorem dX7_count_135 : decode cX7_count 135 = .ok (.aload_n 0, 1) := dk_42 (dk_at dksX7_count_5 14 rfl rfl)
theorem dX7_count_136 : decode cX7_count 136 = .ok (.getfield 151, 3) := dk_180 0 151 (dk_at dksX7_count_5 15 rfl rfl)
theorem dX7_count_139 : decode cX7_count 139 = .ok (.ireturn, 1) := dk_172 (dk_at dksX7_count_5 18 rfl rfl)
theorem dX7_count_140 : decode cX7_count 140 = .ok (.aload_n 0, 1) := dk_42 (dk_at dksX7_count_5 19 rfl rfl)
theorem dX7_count_141 : decode cX7_count 141 = .ok (.getfield 53, 3) := dk_180 0 53 (dk_at dksX7_count_5 20 rfl rfl)
theorem dX7_count_144 : decode cX7_count 144 = .ok (.ireturn, 1) := dk_172 (dk_at dksX7_count_5 23 rfl rfl)
theorem dX7_count_145 : decode cX7_count 145 = .ok (.iload_n 1, 1) := dk_27 (dk_at dksX7_count_6 0 rfl rfl)
theorem dX7_count_146 : decode cX7_count 146 = .ok (.bipush 11, 2) := dk_16 11 (dk_at dksX7_count_6 1 rfl rfl)
theorem dX7_count_148 : decode cX7_count 148 = .ok (.if_icmp .lt 21, 3) := dk_161 0 21 (dk_at dksX7_count_6 3 rfl rfl)
theorem dX7_count_151 : decode cX7_count 151 = .ok (.iload_n 1, 1) := dk_27 (dk_at dksX7_count_6 6 rfl rfl)
theorem dX7_count_152 : decode cX7_count 152 = .ok (.bipush 16, 2) := dk_16 16 (dk_at dksX7_count_6 7 rfl rfl)
theorem dX7_count_154 : decode cX7_count 154 = .ok (.if_icmp .gt 15, 3) := dk_163 0 15 (dk_at dksX7_count_6 9 rfl rfl)
theorem dX7_count_157 : decode cX7_count 157 = .ok (.aload_n 0, 1) := dk_42 (dk_at dksX7_count_6 12 rfl rfl)
theorem dX7_count_158 : decode cX7_count 158 = .ok (.getfield 7, 3) := dk_180 0 7 (dk_at dksX7_count_6 13 rfl rfl)
theorem dX7_count_161 : decode cX7_count 161 = .ok (.iload_n 1, 1) := dk_27 (dk_at dksX7_count_6 16 rfl rfl)
theorem dX7_count_162 : decode cX7_count 162 = .ok (.bipush 10, 2) := dk_16 10 (dk_at dksX7_count_6 17 rfl rfl)
theorem dX7_count_164 : decode cX7_count 164 = .ok (.isub, 1) := dk_100 (dk_at dksX7_count_6 19 rfl rfl)
theorem dX7_count_165 : decode cX7_count 165 = .ok (.iaload, 1) := dk_46 (dk_at dksX7_count_6 20 rfl rfl)
theorem dX7_count_166 : decode cX7_count 166 = .ok (.goto 5, 3) := dk_167 0 5 (dk_at dksX7_count_6 21 rfl rfl)
theorem dX7_count_169 : decode cX7_count 169 = .ok (.bipush (-9), 2) := dk_16 247 (dk_at dksX7_count_7 0 rfl rfl)
theorem dX7_count_171 : decode cX7_count 171 = .ok (.ireturn, 1) := dk_172 (dk_at dksX7_count_7 2 rfl rfl)
abbrev cX7_sumOf : ByteArray := prog_26_method_55_code
def yX7_sumOf : MethodName := ⟨RX7, "sumOf", "(II)I"⟩
def dkwX7_sumOf_1 : List UInt8 := [132, 4, 1, 167, 255, 235, 29, 172]
abbrev dktX7_sumOf_1 : List UInt8 := dkwX7_sumOf_1 ++ []
def dkwX7_sumOf_0 : List UInt8 := [3, 62, 3, 54, 4, 21, 4, 28, 162, 0, 21, 29, 42, 180, 0, 13, 27, 21, 4, 96, 46, 96, 62]
abbrev dktX7_sumOf_0 : List UInt8 := dkwX7_sumOf_0 ++ dktX7_sumOf_1
theorem dksX7_sumOf_0 : cX7_sumOf.data.toList.drop 0 = dktX7_sumOf_0 := by decide +kernel
theorem dksX7_sumOf_1 : cX7_sumOf.data.toList.drop 23 = dktX7_sumOf_1 := dk_seg dksX7_sumOf_0 23 rfl rfl
theorem dX7_sumOf_0 : decode cX7_sumOf 0 = .ok (.iconst 0, 1) := dk_3 (dk_at dksX7_sumOf_0 0 rfl rfl)
theorem dX7_sumOf_1 : decode cX7_sumOf 1 = .ok (.istore_n 3, 1) := dk_62 (dk_at dksX7_sumOf_0 1 rfl rfl)
theorem dX7_sumOf_2 : decode cX7_sumOf 2 = .ok (.iconst 0, 1) := dk_3 (dk_at dksX7_sumOf_0 2 rfl rfl)
theorem dX7_sumOf_3 : decode cX7_sumOf 3 = .ok (.istore 4, 2) := dk_54 4 (dk_at dksX7_sumOf_0 3 rfl rfl)
theorem dX7_sumOf_5 : decode cX7_sumOf 5 = .ok (.iload 4, 2) := dk_21 4 (dk_at dksX7_sumOf_0 5 rfl rfl)
theorem dX7_sumOf_7 : decode cX7_sumOf 7 = .ok (.iload_n 2, 1) := dk_28 (dk_at dksX7_sumOf_0 7 rfl rfl)
theorem dX7_sumOf_8 : decode cX7_sumOf 8 = .ok (.if_icmp .ge 21, 3) := dk_162 0 21 (dk_at dksX7_sumOf_0 8 rfl rfl)
theorem dX7_sumOf_11 : decode cX7_sumOf 11 = .ok (.iload_n 3, 1) := dk_29 (dk_at dksX7_sumOf_0 11 rfl rfl)
theorem dX7_sumOf_12 : decode cX7_sumOf 12 = .ok (.aload_n 0, 1) := dk_42 (dk_at dksX7_sumOf_0 12 rfl rfl)
theorem dX7_sumOf_13 : decode cX7_sumOf 13 = .ok (.getfield 13, 3) := dk_180 0 13 (dk_at dksX7_sumOf_0 13 rfl rfl)
theorem dX7_sumOf_16 : decode cX7_sumOf 16 = .ok (.iload_n 1, 1) := dk_27 (dk_at dksX7_sumOf_0 16 rfl rfl)
theorem dX7_sumOf_17 : decode cX7_sumOf 17 = .ok (.iload 4, 2) := dk_21 4 (dk_at dksX7_sumOf_0 17 rfl rfl)
theorem dX7_sumOf_19 : decode cX7_sumOf 19 = .ok (.iadd, 1) := dk_96 (dk_at dksX7_sumOf_0 19 rfl rfl)
theorem dX7_sumOf_20 : decode cX7_sumOf 20 = .ok (.iaload, 1) := dk_46 (dk_at dksX7_sumOf_0 20 rfl rfl)
theorem dX7_sumOf_21 : decode cX7_sumOf 21 = .ok (.iadd, 1) := dk_96 (dk_at dksX7_sumOf_0 21 rfl rfl)
theorem dX7_sumOf_22 : decode cX7_sumOf 22 = .ok (.istore_n 3, 1) := dk_62 (dk_at dksX7_sumOf_0 22 rfl rfl)
theorem dX7_sumOf_23 : decode cX7_sumOf 23 = .ok (.iinc 4 1, 3) := dk_132 4 1 (dk_at dksX7_sumOf_1 0 rfl rfl)
theorem dX7_sumOf_26 : decode cX7_sumOf 26 = .ok (.goto (-21), 3) := dk_167 255 235 (dk_at dksX7_sumOf_1 3 rfl rfl)
theorem dX7_sumOf_29 : decode cX7_sumOf 29 = .ok (.iload_n 3, 1) := dk_29 (dk_at dksX7_sumOf_1 6 rfl rfl)
theorem dX7_sumOf_30 : decode cX7_sumOf 30 = .ok (.ireturn, 1) := dk_172 (dk_at dksX7_sumOf_1 7 rfl rfl)
theorem q75 : (Jvm.Cond.initialized "FallsBetweenModel") ∈ lw_all := lw_g (lw_at lw_m1 8 rfl) rfl
theorem q1110 : (Jvm.Cond.instantiable "FallsBetweenModel" (17 : Nat)) ∈ lw_all := lw_g (lw_at lw_m5 83 rfl) rfl
theorem q1112 : (Jvm.Cond.instanceMethod ({ cls := "FallsBetweenModel", name := "<init>", desc := "()V" } : Jvm.MethodName)) ∈ lw_all := lw_g (lw_at lw_m5 85 rfl) rfl
theorem q1113 : (Jvm.Cond.code ({ cls := "FallsBetweenModel", name := "<init>", desc := "()V" } : Jvm.MethodName) prog_26_method_1_code (1 : Nat) (Option.none : Option Jvm.ClassFile.FieldType)) ∈ lw_all := lw_g (lw_at lw_m5 86 rfl) rfl
theorem q1114 : (Jvm.Cond.methodLink "FallsBetweenModel" (1 : Nat) ({ cls := "java/lang/Object", name := "<init>", desc := "()V" } : Jvm.MethodName)) ∈ lw_all := lw_g (lw_at lw_m5 87 rfl) rfl
theorem q1115 : (Jvm.Cond.fieldLink "FallsBetweenModel" (7 : Nat) "FallsBetweenModel" "refused" "[I") ∈ lw_all := lw_g (lw_at lw_m5 88 rfl) rfl
theorem q1116 : (Jvm.Cond.fieldLink "FallsBetweenModel" (13 : Nat) "FallsBetweenModel" "now" "[I") ∈ lw_all := lw_g (lw_at lw_m5 89 rfl) rfl
theorem q1117 : (Jvm.Cond.fieldLink "FallsBetweenModel" (16 : Nat) "FallsBetweenModel" "then" "[I") ∈ lw_all := lw_g (lw_at lw_m5 90 rfl) rfl
theorem q1118 : (Jvm.Cond.fieldLink "FallsBetweenModel" (19 : Nat) "FallsBetweenModel" "before" "[I") ∈ lw_all := lw_g (lw_at lw_m5 91 rfl) rfl
theorem q1119 : (Jvm.Cond.fieldLink "FallsBetweenModel" (41 : Nat) "FallsBetweenModel" "kept" "Z") ∈ lw_all := lw_g (lw_at lw_m5 92 rfl) rfl
theorem q1120 : (Jvm.Cond.fieldLink "FallsBetweenModel" (22 : Nat) "FallsBetweenModel" "tape" "[I") ∈ lw_all := lw_g (lw_at lw_m5 93 rfl) rfl
theorem q1121 : (Jvm.Cond.fieldLink "FallsBetweenModel" (53 : Nat) "FallsBetweenModel" "taped" "I") ∈ lw_all := lw_g (lw_at lw_m5 94 rfl) rfl
theorem q1122 : (Jvm.Cond.fieldLink "FallsBetweenModel" (60 : Nat) "FallsBetweenModel" "at" "I") ∈ lw_all := lw_g (lw_at lw_m5 95 rfl) rfl
theorem q1123 : (Jvm.Cond.fieldLink "FallsBetweenModel" (57 : Nat) "FallsBetweenModel" "well" "Z") ∈ lw_all := lw_g (lw_at lw_m5 96 rfl) rfl
theorem q1124 : (Jvm.Cond.fieldLink "FallsBetweenModel" (25 : Nat) "FallsBetweenModel" "begins" "[C") ∈ lw_all := lw_g (lw_at lw_m5 97 rfl) rfl
theorem q1125 : (Jvm.Cond.fieldLink "FallsBetweenModel" (29 : Nat) "FallsBetweenModel" "kinds" "[C") ∈ lw_all := lw_g (lw_at lw_m5 98 rfl) rfl
theorem q1126 : (Jvm.Cond.fieldLink "FallsBetweenModel" (67 : Nat) "FallsBetweenModel" "sort" "I") ∈ lw_all := lw_g (lw_at lw_m5 99 rfl) rfl
theorem q1127 : (Jvm.Cond.fieldLink "FallsBetweenModel" (32 : Nat) "FallsBetweenModel" "field" "[I") ∈ lw_all := lw_g (lw_at lw_m5 100 rfl) rfl
theorem q1128 : (Jvm.Cond.fieldLink "FallsBetweenModel" (35 : Nat) "FallsBetweenModel" "lies" "[I") ∈ lw_all := lw_g (lw_at lw_m5 101 rfl) rfl
theorem q1129 : (Jvm.Cond.fieldLink "FallsBetweenModel" (111 : Nat) "FallsBetweenModel" "lost" "I") ∈ lw_all := lw_g (lw_at lw_m5 102 rfl) rfl
theorem q1130 : (Jvm.Cond.fieldLink "FallsBetweenModel" (38 : Nat) "FallsBetweenModel" "row" "[I") ∈ lw_all := lw_g (lw_at lw_m5 103 rfl) rfl
theorem q1131 : (Jvm.Cond.fieldLink "FallsBetweenModel" (151 : Nat) "FallsBetweenModel" "rows" "I") ∈ lw_all := lw_g (lw_at lw_m5 104 rfl) rfl
theorem q1132 : (Jvm.Cond.laysFinal "FallsBetweenModel" "FallsBetweenModel" "refused" "[I") ∈ lw_all := lw_g (lw_at lw_m5 105 rfl) rfl
theorem q1133 : (Jvm.Cond.soleField "FallsBetweenModel" "refused") ∈ lw_all := lw_g (lw_at lw_m5 106 rfl) rfl
theorem q1134 : (Jvm.Cond.laysFinal "FallsBetweenModel" "FallsBetweenModel" "now" "[I") ∈ lw_all := lw_g (lw_at lw_m5 107 rfl) rfl
theorem q1135 : (Jvm.Cond.soleField "FallsBetweenModel" "now") ∈ lw_all := lw_g (lw_at lw_m5 108 rfl) rfl
theorem q1136 : (Jvm.Cond.laysFinal "FallsBetweenModel" "FallsBetweenModel" "then" "[I") ∈ lw_all := lw_g (lw_at lw_m5 109 rfl) rfl
theorem q1137 : (Jvm.Cond.soleField "FallsBetweenModel" "then") ∈ lw_all := lw_g (lw_at lw_m5 110 rfl) rfl
theorem q1138 : (Jvm.Cond.laysFinal "FallsBetweenModel" "FallsBetweenModel" "before" "[I") ∈ lw_all := lw_g (lw_at lw_m5 111 rfl) rfl
theorem q1139 : (Jvm.Cond.soleField "FallsBetweenModel" "before") ∈ lw_all := lw_g (lw_at lw_m5 112 rfl) rfl
theorem q1140 : (Jvm.Cond.lays "FallsBetweenModel" "FallsBetweenModel" "kept" "Z") ∈ lw_all := lw_g (lw_at lw_m5 113 rfl) rfl
theorem q1141 : (Jvm.Cond.soleField "FallsBetweenModel" "kept") ∈ lw_all := lw_g (lw_at lw_m5 114 rfl) rfl
theorem q1142 : (Jvm.Cond.laysFinal "FallsBetweenModel" "FallsBetweenModel" "tape" "[I") ∈ lw_all := lw_g (lw_at lw_m5 115 rfl) rfl
theorem q1143 : (Jvm.Cond.soleField "FallsBetweenModel" "tape") ∈ lw_all := lw_g (lw_at lw_m5 116 rfl) rfl
theorem q1144 : (Jvm.Cond.lays "FallsBetweenModel" "FallsBetweenModel" "taped" "I") ∈ lw_all := lw_g (lw_at lw_m5 117 rfl) rfl
theorem q1145 : (Jvm.Cond.soleField "FallsBetweenModel" "taped") ∈ lw_all := lw_g (lw_at lw_m5 118 rfl) rfl
theorem q1146 : (Jvm.Cond.lays "FallsBetweenModel" "FallsBetweenModel" "at" "I") ∈ lw_all := lw_g (lw_at lw_m5 119 rfl) rfl
theorem q1147 : (Jvm.Cond.soleField "FallsBetweenModel" "at") ∈ lw_all := lw_g (lw_at lw_m5 120 rfl) rfl
theorem q1148 : (Jvm.Cond.lays "FallsBetweenModel" "FallsBetweenModel" "well" "Z") ∈ lw_all := lw_g (lw_at lw_m5 121 rfl) rfl
theorem q1149 : (Jvm.Cond.soleField "FallsBetweenModel" "well") ∈ lw_all := lw_g (lw_at lw_m5 122 rfl) rfl
theorem q1150 : (Jvm.Cond.laysFinal "FallsBetweenModel" "FallsBetweenModel" "begins" "[C") ∈ lw_all := lw_g (lw_at lw_m5 123 rfl) rfl
theorem q1151 : (Jvm.Cond.soleField "FallsBetweenModel" "begins") ∈ lw_all := lw_g (lw_at lw_m5 124 rfl) rfl
theorem q1152 : (Jvm.Cond.laysFinal "FallsBetweenModel" "FallsBetweenModel" "kinds" "[C") ∈ lw_all := lw_g (lw_at lw_m5 125 rfl) rfl
theorem q1153 : (Jvm.Cond.soleField "FallsBetweenModel" "kinds") ∈ lw_all := lw_g (lw_at lw_m5 126 rfl) rfl
theorem q1154 : (Jvm.Cond.lays "FallsBetweenModel" "FallsBetweenModel" "sort" "I") ∈ lw_all := lw_g (lw_at lw_m5 127 rfl) rfl
theorem q1155 : (Jvm.Cond.soleField "FallsBetweenModel" "sort") ∈ lw_all := lw_g (lw_at lw_m5 128 rfl) rfl
theorem q1156 : (Jvm.Cond.laysFinal "FallsBetweenModel" "FallsBetweenModel" "field" "[I") ∈ lw_all := lw_g (lw_at lw_m5 129 rfl) rfl
theorem q1157 : (Jvm.Cond.soleField "FallsBetweenModel" "field") ∈ lw_all := lw_g (lw_at lw_m5 130 rfl) rfl
theorem q1158 : (Jvm.Cond.laysFinal "FallsBetweenModel" "FallsBetweenModel" "lies" "[I") ∈ lw_all := lw_g (lw_at lw_m5 131 rfl) rfl
theorem q1159 : (Jvm.Cond.soleField "FallsBetweenModel" "lies") ∈ lw_all := lw_g (lw_at lw_m5 132 rfl) rfl
theorem q1160 : (Jvm.Cond.lays "FallsBetweenModel" "FallsBetweenModel" "lost" "I") ∈ lw_all := lw_g (lw_at lw_m5 133 rfl) rfl
theorem q1161 : (Jvm.Cond.soleField "FallsBetweenModel" "lost") ∈ lw_all := lw_g (lw_at lw_m5 134 rfl) rfl
theorem q1162 : (Jvm.Cond.laysFinal "FallsBetweenModel" "FallsBetweenModel" "row" "[I") ∈ lw_all := lw_g (lw_at lw_m5 135 rfl) rfl
theorem q1163 : (Jvm.Cond.soleField "FallsBetweenModel" "row") ∈ lw_all := lw_g (lw_at lw_m5 136 rfl) rfl
theorem q1164 : (Jvm.Cond.lays "FallsBetweenModel" "FallsBetweenModel" "rows" "I") ∈ lw_all := lw_g (lw_at lw_m5 137 rfl) rfl
theorem q1165 : (Jvm.Cond.soleField "FallsBetweenModel" "rows") ∈ lw_all := lw_g (lw_at lw_m5 138 rfl) rfl
theorem q1166 : (Jvm.Cond.superclass "FallsBetweenModel" "java/lang/Object") ∈ lw_all := lw_g (lw_at lw_m5 139 rfl) rfl
theorem q1168 : (Jvm.Cond.instanceMethod ({ cls := "FallsBetweenModel", name := "image", desc := "()I" } : Jvm.MethodName)) ∈ lw_all := lw_g (lw_at lw_m5 141 rfl) rfl
theorem q1169 : (Jvm.Cond.selects "FallsBetweenModel" ({ cls := "FallsBetweenModel", name := "image", desc := "()I" } : Jvm.MethodName) ({ cls := "FallsBetweenModel", name := "image", desc := "()I" } : Jvm.MethodName)) ∈ lw_all := lw_g (lw_at lw_m5 142 rfl) rfl
theorem q1170 : (Jvm.Cond.code ({ cls := "FallsBetweenModel", name := "image", desc := "()I" } : Jvm.MethodName) prog_26_method_4_code (1 : Nat) (Option.some Jvm.ClassFile.FieldType.int)) ∈ lw_all := lw_g (lw_at lw_m5 143 rfl) rfl
theorem q1171 : (Jvm.Cond.methodLink "FallsBetweenModel" (45 : Nat) ({ cls := "FallsBetweenModel", name := "move", desc := "([I[I)V" } : Jvm.MethodName)) ∈ lw_all := lw_g (lw_at lw_m5 144 rfl) rfl
theorem q1172 : (Jvm.Cond.static ({ cls := "FallsBetweenModel", name := "move", desc := "([I[I)V" } : Jvm.MethodName)) ∈ lw_all := lw_g (lw_at lw_m5 145 rfl) rfl
theorem q1173 : (Jvm.Cond.code ({ cls := "FallsBetweenModel", name := "move", desc := "([I[I)V" } : Jvm.MethodName) prog_26_method_3_code (3 : Nat) (Option.none : Option Jvm.ClassFile.FieldType)) ∈ lw_all := lw_g (lw_at lw_m5 146 rfl) rfl
theorem q1175 : (Jvm.Cond.instanceMethod ({ cls := "FallsBetweenModel", name := "on", desc := "()I" } : Jvm.MethodName)) ∈ lw_all := lw_g (lw_at lw_m5 148 rfl) rfl
theorem q1176 : (Jvm.Cond.selects "FallsBetweenModel" ({ cls := "FallsBetweenModel", name := "on", desc := "()I" } : Jvm.MethodName) ({ cls := "FallsBetweenModel", name := "on", desc := "()I" } : Jvm.MethodName)) ∈ lw_all := lw_g (lw_at lw_m5 149 rfl) rfl
theorem q1177 : (Jvm.Cond.code ({ cls := "FallsBetweenModel", name := "on", desc := "()I" } : Jvm.MethodName) prog_26_method_5_code (1 : Nat) (Option.some Jvm.ClassFile.FieldType.int)) ∈ lw_all := lw_g (lw_at lw_m5 150 rfl) rfl
theorem q1178 : (Jvm.Cond.methodLink "FallsBetweenModel" (49 : Nat) ({ cls := "FallsBetweenModel", name := "no", desc := "(I)I" } : Jvm.MethodName)) ∈ lw_all := lw_g (lw_at lw_m5 151 rfl) rfl
theorem q1179 : (Jvm.Cond.privateMethod ({ cls := "FallsBetweenModel", name := "no", desc := "(I)I" } : Jvm.MethodName)) ∈ lw_tbl := lw_at lw_m5 152 rfl
theorem q1180 : (Jvm.Cond.instanceMethod ({ cls := "FallsBetweenModel", name := "no", desc := "(I)I" } : Jvm.MethodName)) ∈ lw_all := lw_g (lw_at lw_m5 153 rfl) rfl
theorem q1181 : (Jvm.Cond.code ({ cls := "FallsBetweenModel", name := "no", desc := "(I)I" } : Jvm.MethodName) prog_26_method_2_code (2 : Nat) (Option.some Jvm.ClassFile.FieldType.int)) ∈ lw_all := lw_g (lw_at lw_m5 154 rfl) rfl
theorem q1183 : (Jvm.Cond.instanceMethod ({ cls := "FallsBetweenModel", name := "letter", desc := "(I)I" } : Jvm.MethodName)) ∈ lw_all := lw_g (lw_at lw_m5 156 rfl) rfl
theorem q1184 : (Jvm.Cond.selects "FallsBetweenModel" ({ cls := "FallsBetweenModel", name := "letter", desc := "(I)I" } : Jvm.MethodName) ({ cls := "FallsBetweenModel", name := "letter", desc := "(I)I" } : Jvm.MethodName)) ∈ lw_all := lw_g (lw_at lw_m5 157 rfl) rfl
theorem q1185 : (Jvm.Cond.code ({ cls := "FallsBetweenModel", name := "letter", desc := "(I)I" } : Jvm.MethodName) prog_26_method_6_code (2 : Nat) (Option.some Jvm.ClassFile.FieldType.int)) ∈ lw_all := lw_g (lw_at lw_m5 158 rfl) rfl
theorem q1187 : (Jvm.Cond.instanceMethod ({ cls := "FallsBetweenModel", name := "town", desc := "()I" } : Jvm.MethodName)) ∈ lw_all := lw_g (lw_at lw_m5 160 rfl) rfl
theorem q1188 : (Jvm.Cond.selects "FallsBetweenModel" ({ cls := "FallsBetweenModel", name := "town", desc := "()I" } : Jvm.MethodName) ({ cls := "FallsBetweenModel", name := "town", desc := "()I" } : Jvm.MethodName)) ∈ lw_all := lw_g (lw_at lw_m5 161 rfl) rfl
theorem q1189 : (Jvm.Cond.code ({ cls := "FallsBetweenModel", name := "town", desc := "()I" } : Jvm.MethodName) prog_26_method_16_code (2 : Nat) (Option.some Jvm.ClassFile.FieldType.int)) ∈ lw_all := lw_g (lw_at lw_m5 162 rfl) rfl
theorem q1190 : (Jvm.Cond.methodLink "FallsBetweenModel" (95 : Nat) ({ cls := "FallsBetweenModel", name := "read", desc := "()I" } : Jvm.MethodName)) ∈ lw_all := lw_g (lw_at lw_m5 163 rfl) rfl
theorem q1191 : (Jvm.Cond.privateMethod ({ cls := "FallsBetweenModel", name := "read", desc := "()I" } : Jvm.MethodName)) ∈ lw_tbl := lw_at lw_m5 164 rfl
theorem q1192 : (Jvm.Cond.instanceMethod ({ cls := "FallsBetweenModel", name := "read", desc := "()I" } : Jvm.MethodName)) ∈ lw_all := lw_g (lw_at lw_m5 165 rfl) rfl
theorem q1193 : (Jvm.Cond.code ({ cls := "FallsBetweenModel", name := "read", desc := "()I" } : Jvm.MethodName) prog_26_method_15_code (3 : Nat) (Option.some Jvm.ClassFile.FieldType.int)) ∈ lw_all := lw_g (lw_at lw_m5 166 rfl) rfl
theorem q1194 : (Jvm.Cond.methodLink "FallsBetweenModel" (85 : Nat) ({ cls := "FallsBetweenModel", name := "statement", desc := "()V" } : Jvm.MethodName)) ∈ lw_all := lw_g (lw_at lw_m5 167 rfl) rfl
theorem q1195 : (Jvm.Cond.privateMethod ({ cls := "FallsBetweenModel", name := "statement", desc := "()V" } : Jvm.MethodName)) ∈ lw_tbl := lw_at lw_m5 168 rfl
theorem q1196 : (Jvm.Cond.instanceMethod ({ cls := "FallsBetweenModel", name := "statement", desc := "()V" } : Jvm.MethodName)) ∈ lw_all := lw_g (lw_at lw_m5 169 rfl) rfl
theorem q1197 : (Jvm.Cond.code ({ cls := "FallsBetweenModel", name := "statement", desc := "()V" } : Jvm.MethodName) prog_26_method_10_code (1 : Nat) (Option.none : Option Jvm.ClassFile.FieldType)) ∈ lw_all := lw_g (lw_at lw_m5 170 rfl) rfl
theorem q1198 : (Jvm.Cond.methodLink "FallsBetweenModel" (63 : Nat) ({ cls := "FallsBetweenModel", name := "oneOf", desc := "([C)I" } : Jvm.MethodName)) ∈ lw_all := lw_g (lw_at lw_m5 171 rfl) rfl
theorem q1199 : (Jvm.Cond.privateMethod ({ cls := "FallsBetweenModel", name := "oneOf", desc := "([C)I" } : Jvm.MethodName)) ∈ lw_tbl := lw_at lw_m5 172 rfl
theorem q1200 : (Jvm.Cond.instanceMethod ({ cls := "FallsBetweenModel", name := "oneOf", desc := "([C)I" } : Jvm.MethodName)) ∈ lw_all := lw_g (lw_at lw_m5 173 rfl) rfl
theorem q1201 : (Jvm.Cond.code ({ cls := "FallsBetweenModel", name := "oneOf", desc := "([C)I" } : Jvm.MethodName) prog_26_method_8_code (4 : Nat) (Option.some Jvm.ClassFile.FieldType.int)) ∈ lw_all := lw_g (lw_at lw_m5 174 rfl) rfl
theorem q1202 : (Jvm.Cond.methodLink "FallsBetweenModel" (70 : Nat) ({ cls := "FallsBetweenModel", name := "figures", desc := "(II)I" } : Jvm.MethodName)) ∈ lw_all := lw_g (lw_at lw_m5 175 rfl) rfl
theorem q1203 : (Jvm.Cond.privateMethod ({ cls := "FallsBetweenModel", name := "figures", desc := "(II)I" } : Jvm.MethodName)) ∈ lw_tbl := lw_at lw_m5 176 rfl
theorem q1204 : (Jvm.Cond.instanceMethod ({ cls := "FallsBetweenModel", name := "figures", desc := "(II)I" } : Jvm.MethodName)) ∈ lw_all := lw_g (lw_at lw_m5 177 rfl) rfl
theorem q1205 : (Jvm.Cond.code ({ cls := "FallsBetweenModel", name := "figures", desc := "(II)I" } : Jvm.MethodName) prog_26_method_9_code (5 : Nat) (Option.some Jvm.ClassFile.FieldType.int)) ∈ lw_all := lw_g (lw_at lw_m5 178 rfl) rfl
theorem q1206 : (Jvm.Cond.methodLink "FallsBetweenModel" (74 : Nat) ({ cls := "FallsBetweenModel", name := "expect", desc := "(C)V" } : Jvm.MethodName)) ∈ lw_all := lw_g (lw_at lw_m5 179 rfl) rfl
theorem q1207 : (Jvm.Cond.privateMethod ({ cls := "FallsBetweenModel", name := "expect", desc := "(C)V" } : Jvm.MethodName)) ∈ lw_tbl := lw_at lw_m5 180 rfl
theorem q1208 : (Jvm.Cond.instanceMethod ({ cls := "FallsBetweenModel", name := "expect", desc := "(C)V" } : Jvm.MethodName)) ∈ lw_all := lw_g (lw_at lw_m5 181 rfl) rfl
theorem q1209 : (Jvm.Cond.code ({ cls := "FallsBetweenModel", name := "expect", desc := "(C)V" } : Jvm.MethodName) prog_26_method_7_code (2 : Nat) (Option.none : Option Jvm.ClassFile.FieldType)) ∈ lw_all := lw_g (lw_at lw_m5 182 rfl) rfl
theorem q1210 : (Jvm.Cond.methodLink "FallsBetweenModel" (88 : Nat) ({ cls := "FallsBetweenModel", name := "isAsItMustBe", desc := "()Z" } : Jvm.MethodName)) ∈ lw_all := lw_g (lw_at lw_m5 183 rfl) rfl
theorem q1211 : (Jvm.Cond.privateMethod ({ cls := "FallsBetweenModel", name := "isAsItMustBe", desc := "()Z" } : Jvm.MethodName)) ∈ lw_tbl := lw_at lw_m5 184 rfl
theorem q1212 : (Jvm.Cond.instanceMethod ({ cls := "FallsBetweenModel", name := "isAsItMustBe", desc := "()Z" } : Jvm.MethodName)) ∈ lw_all := lw_g (lw_at lw_m5 185 rfl) rfl
theorem q1213 : (Jvm.Cond.code ({ cls := "FallsBetweenModel", name := "isAsItMustBe", desc := "()Z" } : Jvm.MethodName) prog_26_method_12_code (1 : Nat) (Option.some Jvm.ClassFile.FieldType.boolean)) ∈ lw_all := lw_g (lw_at lw_m5 186 rfl) rfl
theorem q1214 : (Jvm.Cond.methodLink "FallsBetweenModel" (78 : Nat) ({ cls := "FallsBetweenModel", name := "treeIn", desc := "(I)I" } : Jvm.MethodName)) ∈ lw_all := lw_g (lw_at lw_m5 187 rfl) rfl
theorem q1215 : (Jvm.Cond.privateMethod ({ cls := "FallsBetweenModel", name := "treeIn", desc := "(I)I" } : Jvm.MethodName)) ∈ lw_tbl := lw_at lw_m5 188 rfl
theorem q1216 : (Jvm.Cond.instanceMethod ({ cls := "FallsBetweenModel", name := "treeIn", desc := "(I)I" } : Jvm.MethodName)) ∈ lw_all := lw_g (lw_at lw_m5 189 rfl) rfl
theorem q1217 : (Jvm.Cond.code ({ cls := "FallsBetweenModel", name := "treeIn", desc := "(I)I" } : Jvm.MethodName) prog_26_method_11_code (3 : Nat) (Option.some Jvm.ClassFile.FieldType.int)) ∈ lw_all := lw_g (lw_at lw_m5 190 rfl) rfl
theorem q1218 : (Jvm.Cond.methodLink "FallsBetweenModel" (92 : Nat) ({ cls := "FallsBetweenModel", name := "come", desc := "()V" } : Jvm.MethodName)) ∈ lw_all := lw_g (lw_at lw_m5 191 rfl) rfl
theorem q1219 : (Jvm.Cond.privateMethod ({ cls := "FallsBetweenModel", name := "come", desc := "()V" } : Jvm.MethodName)) ∈ lw_tbl := lw_at lw_m5 192 rfl
theorem q1220 : (Jvm.Cond.instanceMethod ({ cls := "FallsBetweenModel", name := "come", desc := "()V" } : Jvm.MethodName)) ∈ lw_all := lw_g (lw_at lw_m5 193 rfl) rfl
theorem q1221 : (Jvm.Cond.code ({ cls := "FallsBetweenModel", name := "come", desc := "()V" } : Jvm.MethodName) prog_26_method_14_code (2 : Nat) (Option.none : Option Jvm.ClassFile.FieldType)) ∈ lw_all := lw_g (lw_at lw_m5 194 rfl) rfl
theorem q1222 : (Jvm.Cond.methodLink "FallsBetweenModel" (81 : Nat) ({ cls := "FallsBetweenModel", name := "more", desc := "(IIII)V" } : Jvm.MethodName)) ∈ lw_all := lw_g (lw_at lw_m5 195 rfl) rfl
theorem q1223 : (Jvm.Cond.privateMethod ({ cls := "FallsBetweenModel", name := "more", desc := "(IIII)V" } : Jvm.MethodName)) ∈ lw_tbl := lw_at lw_m5 196 rfl
theorem q1224 : (Jvm.Cond.instanceMethod ({ cls := "FallsBetweenModel", name := "more", desc := "(IIII)V" } : Jvm.MethodName)) ∈ lw_all := lw_g (lw_at lw_m5 197 rfl) rfl
theorem q1225 : (Jvm.Cond.code ({ cls := "FallsBetweenModel", name := "more", desc := "(IIII)V" } : Jvm.MethodName) prog_26_method_13_code (6 : Nat) (Option.none : Option Jvm.ClassFile.FieldType)) ∈ lw_all := lw_g (lw_at lw_m5 198 rfl) rfl
theorem q1227 : (Jvm.Cond.instanceMethod ({ cls := "FallsBetweenModel", name := "square", desc := "(II)I" } : Jvm.MethodName)) ∈ lw_all := lw_g (lw_at lw_m5 200 rfl) rfl
theorem q1228 : (Jvm.Cond.selects "FallsBetweenModel" ({ cls := "FallsBetweenModel", name := "square", desc := "(II)I" } : Jvm.MethodName) ({ cls := "FallsBetweenModel", name := "square", desc := "(II)I" } : Jvm.MethodName)) ∈ lw_all := lw_g (lw_at lw_m5 201 rfl) rfl
theorem q1229 : (Jvm.Cond.code ({ cls := "FallsBetweenModel", name := "square", desc := "(II)I" } : Jvm.MethodName) prog_26_method_27_code (3 : Nat) (Option.some Jvm.ClassFile.FieldType.int)) ∈ lw_all := lw_g (lw_at lw_m5 202 rfl) rfl
theorem q1230 : (Jvm.Cond.methodLink "FallsBetweenModel" (124 : Nat) ({ cls := "FallsBetweenModel", name := "isNone", desc := "(II)Z" } : Jvm.MethodName)) ∈ lw_all := lw_g (lw_at lw_m5 203 rfl) rfl
theorem q1231 : (Jvm.Cond.static ({ cls := "FallsBetweenModel", name := "isNone", desc := "(II)Z" } : Jvm.MethodName)) ∈ lw_all := lw_g (lw_at lw_m5 204 rfl) rfl
theorem q1232 : (Jvm.Cond.code ({ cls := "FallsBetweenModel", name := "isNone", desc := "(II)Z" } : Jvm.MethodName) prog_26_method_26_code (2 : Nat) (Option.some Jvm.ClassFile.FieldType.boolean)) ∈ lw_all := lw_g (lw_at lw_m5 205 rfl) rfl
theorem q1233 : (Jvm.Cond.methodLink "FallsBetweenModel" (121 : Nat) ({ cls := "FallsBetweenModel", name := "isNobodys", desc := "(I)Z" } : Jvm.MethodName)) ∈ lw_all := lw_g (lw_at lw_m5 206 rfl) rfl
theorem q1234 : (Jvm.Cond.privateMethod ({ cls := "FallsBetweenModel", name := "isNobodys", desc := "(I)Z" } : Jvm.MethodName)) ∈ lw_tbl := lw_at lw_m5 207 rfl
theorem q1235 : (Jvm.Cond.instanceMethod ({ cls := "FallsBetweenModel", name := "isNobodys", desc := "(I)Z" } : Jvm.MethodName)) ∈ lw_all := lw_g (lw_at lw_m5 208 rfl) rfl
theorem q1236 : (Jvm.Cond.code ({ cls := "FallsBetweenModel", name := "isNobodys", desc := "(I)Z" } : Jvm.MethodName) prog_26_method_20_code (5 : Nat) (Option.some Jvm.ClassFile.FieldType.boolean)) ∈ lw_all := lw_g (lw_at lw_m5 209 rfl) rfl
theorem q1237 : (Jvm.Cond.methodLink "FallsBetweenModel" (103 : Nat) ({ cls := "FallsBetweenModel", name := "isOtherBeside", desc := "(II)Z" } : Jvm.MethodName)) ∈ lw_all := lw_g (lw_at lw_m5 210 rfl) rfl
theorem q1238 : (Jvm.Cond.privateMethod ({ cls := "FallsBetweenModel", name := "isOtherBeside", desc := "(II)Z" } : Jvm.MethodName)) ∈ lw_tbl := lw_at lw_m5 211 rfl
theorem q1239 : (Jvm.Cond.instanceMethod ({ cls := "FallsBetweenModel", name := "isOtherBeside", desc := "(II)Z" } : Jvm.MethodName)) ∈ lw_all := lw_g (lw_at lw_m5 212 rfl) rfl
theorem q1240 : (Jvm.Cond.code ({ cls := "FallsBetweenModel", name := "isOtherBeside", desc := "(II)Z" } : Jvm.MethodName) prog_26_method_18_code (4 : Nat) (Option.some Jvm.ClassFile.FieldType.boolean)) ∈ lw_all := lw_g (lw_at lw_m5 213 rfl) rfl
theorem q1241 : (Jvm.Cond.methodLink "FallsBetweenModel" (99 : Nat) ({ cls := "FallsBetweenModel", name := "beside", desc := "(III)I" } : Jvm.MethodName)) ∈ lw_all := lw_g (lw_at lw_m5 214 rfl) rfl
theorem q1242 : (Jvm.Cond.static ({ cls := "FallsBetweenModel", name := "beside", desc := "(III)I" } : Jvm.MethodName)) ∈ lw_all := lw_g (lw_at lw_m5 215 rfl) rfl
theorem q1243 : (Jvm.Cond.code ({ cls := "FallsBetweenModel", name := "beside", desc := "(III)I" } : Jvm.MethodName) prog_26_method_17_code (5 : Nat) (Option.some Jvm.ClassFile.FieldType.int)) ∈ lw_all := lw_g (lw_at lw_m5 216 rfl) rfl
theorem q1244 : (Jvm.Cond.methodLink "FallsBetweenModel" (107 : Nat) ({ cls := "FallsBetweenModel", name := "isOtherAtCorner", desc := "(I)Z" } : Jvm.MethodName)) ∈ lw_all := lw_g (lw_at lw_m5 217 rfl) rfl
theorem q1245 : (Jvm.Cond.privateMethod ({ cls := "FallsBetweenModel", name := "isOtherAtCorner", desc := "(I)Z" } : Jvm.MethodName)) ∈ lw_tbl := lw_at lw_m5 218 rfl
theorem q1246 : (Jvm.Cond.instanceMethod ({ cls := "FallsBetweenModel", name := "isOtherAtCorner", desc := "(I)Z" } : Jvm.MethodName)) ∈ lw_all := lw_g (lw_at lw_m5 219 rfl) rfl
theorem q1247 : (Jvm.Cond.code ({ cls := "FallsBetweenModel", name := "isOtherAtCorner", desc := "(I)Z" } : Jvm.MethodName) prog_26_method_19_code (7 : Nat) (Option.some Jvm.ClassFile.FieldType.boolean)) ∈ lw_all := lw_g (lw_at lw_m5 220 rfl) rfl
theorem q1249 : (Jvm.Cond.instanceMethod ({ cls := "FallsBetweenModel", name := "tree", desc := "(II)I" } : Jvm.MethodName)) ∈ lw_all := lw_g (lw_at lw_m5 222 rfl) rfl
theorem q1250 : (Jvm.Cond.selects "FallsBetweenModel" ({ cls := "FallsBetweenModel", name := "tree", desc := "(II)I" } : Jvm.MethodName) ({ cls := "FallsBetweenModel", name := "tree", desc := "(II)I" } : Jvm.MethodName)) ∈ lw_all := lw_g (lw_at lw_m5 223 rfl) rfl
theorem q1251 : (Jvm.Cond.code ({ cls := "FallsBetweenModel", name := "tree", desc := "(II)I" } : Jvm.MethodName) prog_26_method_28_code (3 : Nat) (Option.some Jvm.ClassFile.FieldType.int)) ∈ lw_all := lw_g (lw_at lw_m5 224 rfl) rfl
theorem q1253 : (Jvm.Cond.instanceMethod ({ cls := "FallsBetweenModel", name := "garden", desc := "(II)I" } : Jvm.MethodName)) ∈ lw_all := lw_g (lw_at lw_m5 226 rfl) rfl
theorem q1254 : (Jvm.Cond.selects "FallsBetweenModel" ({ cls := "FallsBetweenModel", name := "garden", desc := "(II)I" } : Jvm.MethodName) ({ cls := "FallsBetweenModel", name := "garden", desc := "(II)I" } : Jvm.MethodName)) ∈ lw_all := lw_g (lw_at lw_m5 227 rfl) rfl
theorem q1255 : (Jvm.Cond.code ({ cls := "FallsBetweenModel", name := "garden", desc := "(II)I" } : Jvm.MethodName) prog_26_method_29_code (4 : Nat) (Option.some Jvm.ClassFile.FieldType.int)) ∈ lw_all := lw_g (lw_at lw_m5 228 rfl) rfl
theorem q1257 : (Jvm.Cond.instanceMethod ({ cls := "FallsBetweenModel", name := "height", desc := "(II)I" } : Jvm.MethodName)) ∈ lw_all := lw_g (lw_at lw_m5 230 rfl) rfl
theorem q1258 : (Jvm.Cond.selects "FallsBetweenModel" ({ cls := "FallsBetweenModel", name := "height", desc := "(II)I" } : Jvm.MethodName) ({ cls := "FallsBetweenModel", name := "height", desc := "(II)I" } : Jvm.MethodName)) ∈ lw_all := lw_g (lw_at lw_m5 231 rfl) rfl
theorem q1259 : (Jvm.Cond.code ({ cls := "FallsBetweenModel", name := "height", desc := "(II)I" } : Jvm.MethodName) prog_26_method_30_code (4 : Nat) (Option.some Jvm.ClassFile.FieldType.int)) ∈ lw_all := lw_g (lw_at lw_m5 232 rfl) rfl
theorem q1261 : (Jvm.Cond.instanceMethod ({ cls := "FallsBetweenModel", name := "net", desc := "(I)I" } : Jvm.MethodName)) ∈ lw_all := lw_g (lw_at lw_m5 234 rfl) rfl
theorem q1262 : (Jvm.Cond.selects "FallsBetweenModel" ({ cls := "FallsBetweenModel", name := "net", desc := "(I)I" } : Jvm.MethodName) ({ cls := "FallsBetweenModel", name := "net", desc := "(I)I" } : Jvm.MethodName)) ∈ lw_all := lw_g (lw_at lw_m5 235 rfl) rfl
theorem q1263 : (Jvm.Cond.code ({ cls := "FallsBetweenModel", name := "net", desc := "(I)I" } : Jvm.MethodName) prog_26_method_31_code (2 : Nat) (Option.some Jvm.ClassFile.FieldType.int)) ∈ lw_all := lw_g (lw_at lw_m5 236 rfl) rfl
theorem q1265 : (Jvm.Cond.instanceMethod ({ cls := "FallsBetweenModel", name := "wind", desc := "(I)I" } : Jvm.MethodName)) ∈ lw_all := lw_g (lw_at lw_m5 238 rfl) rfl
theorem q1266 : (Jvm.Cond.selects "FallsBetweenModel" ({ cls := "FallsBetweenModel", name := "wind", desc := "(I)I" } : Jvm.MethodName) ({ cls := "FallsBetweenModel", name := "wind", desc := "(I)I" } : Jvm.MethodName)) ∈ lw_all := lw_g (lw_at lw_m5 239 rfl) rfl
theorem q1267 : (Jvm.Cond.code ({ cls := "FallsBetweenModel", name := "wind", desc := "(I)I" } : Jvm.MethodName) prog_26_method_32_code (3 : Nat) (Option.some Jvm.ClassFile.FieldType.int)) ∈ lw_all := lw_g (lw_at lw_m6 0 rfl) rfl
theorem q1269 : (Jvm.Cond.instanceMethod ({ cls := "FallsBetweenModel", name := "law", desc := "(I)I" } : Jvm.MethodName)) ∈ lw_all := lw_g (lw_at lw_m6 2 rfl) rfl
theorem q1270 : (Jvm.Cond.selects "FallsBetweenModel" ({ cls := "FallsBetweenModel", name := "law", desc := "(I)I" } : Jvm.MethodName) ({ cls := "FallsBetweenModel", name := "law", desc := "(I)I" } : Jvm.MethodName)) ∈ lw_all := lw_g (lw_at lw_m6 3 rfl) rfl
theorem q1271 : (Jvm.Cond.code ({ cls := "FallsBetweenModel", name := "law", desc := "(I)I" } : Jvm.MethodName) prog_26_method_33_code (3 : Nat) (Option.some Jvm.ClassFile.FieldType.int)) ∈ lw_all := lw_g (lw_at lw_m6 4 rfl) rfl
theorem q1273 : (Jvm.Cond.instanceMethod ({ cls := "FallsBetweenModel", name := "fell", desc := "(I)I" } : Jvm.MethodName)) ∈ lw_all := lw_g (lw_at lw_m6 6 rfl) rfl
theorem q1274 : (Jvm.Cond.selects "FallsBetweenModel" ({ cls := "FallsBetweenModel", name := "fell", desc := "(I)I" } : Jvm.MethodName) ({ cls := "FallsBetweenModel", name := "fell", desc := "(I)I" } : Jvm.MethodName)) ∈ lw_all := lw_g (lw_at lw_m6 7 rfl) rfl
theorem q1275 : (Jvm.Cond.code ({ cls := "FallsBetweenModel", name := "fell", desc := "(I)I" } : Jvm.MethodName) prog_26_method_34_code (4 : Nat) (Option.some Jvm.ClassFile.FieldType.int)) ∈ lw_all := lw_g (lw_at lw_m6 8 rfl) rfl
theorem q1277 : (Jvm.Cond.instanceMethod ({ cls := "FallsBetweenModel", name := "lies", desc := "(I)I" } : Jvm.MethodName)) ∈ lw_all := lw_g (lw_at lw_m6 10 rfl) rfl
theorem q1278 : (Jvm.Cond.selects "FallsBetweenModel" ({ cls := "FallsBetweenModel", name := "lies", desc := "(I)I" } : Jvm.MethodName) ({ cls := "FallsBetweenModel", name := "lies", desc := "(I)I" } : Jvm.MethodName)) ∈ lw_all := lw_g (lw_at lw_m6 11 rfl) rfl
theorem q1279 : (Jvm.Cond.code ({ cls := "FallsBetweenModel", name := "lies", desc := "(I)I" } : Jvm.MethodName) prog_26_method_35_code (2 : Nat) (Option.some Jvm.ClassFile.FieldType.int)) ∈ lw_all := lw_g (lw_at lw_m6 12 rfl) rfl
theorem q1280 : (Jvm.Cond.methodLink "FallsBetweenModel" (127 : Nat) ({ cls := "FallsBetweenModel", name := "fall", desc := "(I)V" } : Jvm.MethodName)) ∈ lw_all := lw_g (lw_at lw_m6 13 rfl) rfl
theorem q1281 : (Jvm.Cond.privateMethod ({ cls := "FallsBetweenModel", name := "fall", desc := "(I)V" } : Jvm.MethodName)) ∈ lw_tbl := lw_at lw_m6 14 rfl
theorem q1282 : (Jvm.Cond.instanceMethod ({ cls := "FallsBetweenModel", name := "fall", desc := "(I)V" } : Jvm.MethodName)) ∈ lw_all := lw_g (lw_at lw_m6 15 rfl) rfl
theorem q1283 : (Jvm.Cond.code ({ cls := "FallsBetweenModel", name := "fall", desc := "(I)V" } : Jvm.MethodName) prog_26_method_23_code (9 : Nat) (Option.none : Option Jvm.ClassFile.FieldType)) ∈ lw_all := lw_g (lw_at lw_m6 16 rfl) rfl
theorem q1284 : (Jvm.Cond.methodLink "FallsBetweenModel" (117 : Nat) ({ cls := "FallsBetweenModel", name := "down", desc := "(III)V" } : Jvm.MethodName)) ∈ lw_all := lw_g (lw_at lw_m6 17 rfl) rfl
theorem q1285 : (Jvm.Cond.privateMethod ({ cls := "FallsBetweenModel", name := "down", desc := "(III)V" } : Jvm.MethodName)) ∈ lw_tbl := lw_at lw_m6 18 rfl
theorem q1286 : (Jvm.Cond.instanceMethod ({ cls := "FallsBetweenModel", name := "down", desc := "(III)V" } : Jvm.MethodName)) ∈ lw_all := lw_g (lw_at lw_m6 19 rfl) rfl
theorem q1287 : (Jvm.Cond.code ({ cls := "FallsBetweenModel", name := "down", desc := "(III)V" } : Jvm.MethodName) prog_26_method_22_code (6 : Nat) (Option.none : Option Jvm.ClassFile.FieldType)) ∈ lw_all := lw_g (lw_at lw_m6 20 rfl) rfl
theorem q1288 : (Jvm.Cond.methodLink "FallsBetweenModel" (114 : Nat) ({ cls := "FallsBetweenModel", name := "rolled", desc := "(I)I" } : Jvm.MethodName)) ∈ lw_all := lw_g (lw_at lw_m6 21 rfl) rfl
theorem q1289 : (Jvm.Cond.privateMethod ({ cls := "FallsBetweenModel", name := "rolled", desc := "(I)I" } : Jvm.MethodName)) ∈ lw_tbl := lw_at lw_m6 22 rfl
theorem q1290 : (Jvm.Cond.instanceMethod ({ cls := "FallsBetweenModel", name := "rolled", desc := "(I)I" } : Jvm.MethodName)) ∈ lw_all := lw_g (lw_at lw_m6 23 rfl) rfl
theorem q1291 : (Jvm.Cond.code ({ cls := "FallsBetweenModel", name := "rolled", desc := "(I)I" } : Jvm.MethodName) prog_26_method_21_code (5 : Nat) (Option.some Jvm.ClassFile.FieldType.int)) ∈ lw_all := lw_g (lw_at lw_m6 24 rfl) rfl
theorem q1293 : (Jvm.Cond.instanceMethod ({ cls := "FallsBetweenModel", name := "of", desc := "(II)I" } : Jvm.MethodName)) ∈ lw_all := lw_g (lw_at lw_m6 26 rfl) rfl
theorem q1294 : (Jvm.Cond.selects "FallsBetweenModel" ({ cls := "FallsBetweenModel", name := "of", desc := "(II)I" } : Jvm.MethodName) ({ cls := "FallsBetweenModel", name := "of", desc := "(II)I" } : Jvm.MethodName)) ∈ lw_all := lw_g (lw_at lw_m6 27 rfl) rfl
theorem q1295 : (Jvm.Cond.code ({ cls := "FallsBetweenModel", name := "of", desc := "(II)I" } : Jvm.MethodName) prog_26_method_36_code (3 : Nat) (Option.some Jvm.ClassFile.FieldType.int)) ∈ lw_all := lw_g (lw_at lw_m6 28 rfl) rfl
theorem q1297 : (Jvm.Cond.instanceMethod ({ cls := "FallsBetweenModel", name := "share", desc := "(I)I" } : Jvm.MethodName)) ∈ lw_all := lw_g (lw_at lw_m6 30 rfl) rfl
theorem q1298 : (Jvm.Cond.selects "FallsBetweenModel" ({ cls := "FallsBetweenModel", name := "share", desc := "(I)I" } : Jvm.MethodName) ({ cls := "FallsBetweenModel", name := "share", desc := "(I)I" } : Jvm.MethodName)) ∈ lw_all := lw_g (lw_at lw_m6 31 rfl) rfl
theorem q1299 : (Jvm.Cond.code ({ cls := "FallsBetweenModel", name := "share", desc := "(I)I" } : Jvm.MethodName) prog_26_method_37_code (2 : Nat) (Option.some Jvm.ClassFile.FieldType.int)) ∈ lw_all := lw_g (lw_at lw_m6 32 rfl) rfl
theorem q1300 : (Jvm.Cond.methodLink "FallsBetweenModel" (131 : Nat) ({ cls := "FallsBetweenModel", name := "shareOf", desc := "(I)I" } : Jvm.MethodName)) ∈ lw_all := lw_g (lw_at lw_m6 33 rfl) rfl
theorem q1301 : (Jvm.Cond.privateMethod ({ cls := "FallsBetweenModel", name := "shareOf", desc := "(I)I" } : Jvm.MethodName)) ∈ lw_tbl := lw_at lw_m6 34 rfl
theorem q1302 : (Jvm.Cond.instanceMethod ({ cls := "FallsBetweenModel", name := "shareOf", desc := "(I)I" } : Jvm.MethodName)) ∈ lw_all := lw_g (lw_at lw_m6 35 rfl) rfl
theorem q1303 : (Jvm.Cond.code ({ cls := "FallsBetweenModel", name := "shareOf", desc := "(I)I" } : Jvm.MethodName) prog_26_method_24_code (4 : Nat) (Option.some Jvm.ClassFile.FieldType.int)) ∈ lw_all := lw_g (lw_at lw_m6 36 rfl) rfl
theorem q1305 : (Jvm.Cond.instanceMethod ({ cls := "FallsBetweenModel", name := "birds", desc := "()I" } : Jvm.MethodName)) ∈ lw_all := lw_g (lw_at lw_m6 38 rfl) rfl
theorem q1306 : (Jvm.Cond.selects "FallsBetweenModel" ({ cls := "FallsBetweenModel", name := "birds", desc := "()I" } : Jvm.MethodName) ({ cls := "FallsBetweenModel", name := "birds", desc := "()I" } : Jvm.MethodName)) ∈ lw_all := lw_g (lw_at lw_m6 39 rfl) rfl
theorem q1307 : (Jvm.Cond.code ({ cls := "FallsBetweenModel", name := "birds", desc := "()I" } : Jvm.MethodName) prog_26_method_38_code (1 : Nat) (Option.some Jvm.ClassFile.FieldType.int)) ∈ lw_all := lw_g (lw_at lw_m6 40 rfl) rfl
theorem q1308 : (Jvm.Cond.methodLink "FallsBetweenModel" (134 : Nat) ({ cls := "FallsBetweenModel", name := "birdsHave", desc := "()I" } : Jvm.MethodName)) ∈ lw_all := lw_g (lw_at lw_m6 41 rfl) rfl
theorem q1309 : (Jvm.Cond.privateMethod ({ cls := "FallsBetweenModel", name := "birdsHave", desc := "()I" } : Jvm.MethodName)) ∈ lw_tbl := lw_at lw_m6 42 rfl
theorem q1310 : (Jvm.Cond.instanceMethod ({ cls := "FallsBetweenModel", name := "birdsHave", desc := "()I" } : Jvm.MethodName)) ∈ lw_all := lw_g (lw_at lw_m6 43 rfl) rfl
theorem q1311 : (Jvm.Cond.code ({ cls := "FallsBetweenModel", name := "birdsHave", desc := "()I" } : Jvm.MethodName) prog_26_method_25_code (3 : Nat) (Option.some Jvm.ClassFile.FieldType.int)) ∈ lw_all := lw_g (lw_at lw_m6 44 rfl) rfl
theorem q1313 : (Jvm.Cond.instanceMethod ({ cls := "FallsBetweenModel", name := "lost", desc := "()I" } : Jvm.MethodName)) ∈ lw_all := lw_g (lw_at lw_m6 46 rfl) rfl
theorem q1314 : (Jvm.Cond.selects "FallsBetweenModel" ({ cls := "FallsBetweenModel", name := "lost", desc := "()I" } : Jvm.MethodName) ({ cls := "FallsBetweenModel", name := "lost", desc := "()I" } : Jvm.MethodName)) ∈ lw_all := lw_g (lw_at lw_m6 47 rfl) rfl
theorem q1315 : (Jvm.Cond.code ({ cls := "FallsBetweenModel", name := "lost", desc := "()I" } : Jvm.MethodName) prog_26_method_39_code (1 : Nat) (Option.some Jvm.ClassFile.FieldType.int)) ∈ lw_all := lw_g (lw_at lw_m6 48 rfl) rfl
theorem q1317 : (Jvm.Cond.instanceMethod ({ cls := "FallsBetweenModel", name := "set", desc := "(III)I" } : Jvm.MethodName)) ∈ lw_all := lw_g (lw_at lw_m6 50 rfl) rfl
theorem q1318 : (Jvm.Cond.selects "FallsBetweenModel" ({ cls := "FallsBetweenModel", name := "set", desc := "(III)I" } : Jvm.MethodName) ({ cls := "FallsBetweenModel", name := "set", desc := "(III)I" } : Jvm.MethodName)) ∈ lw_all := lw_g (lw_at lw_m6 51 rfl) rfl
theorem q1319 : (Jvm.Cond.code ({ cls := "FallsBetweenModel", name := "set", desc := "(III)I" } : Jvm.MethodName) prog_26_method_40_code (8 : Nat) (Option.some Jvm.ClassFile.FieldType.int)) ∈ lw_all := lw_g (lw_at lw_m6 52 rfl) rfl
theorem q1321 : (Jvm.Cond.instanceMethod ({ cls := "FallsBetweenModel", name := "worth", desc := "(II)I" } : Jvm.MethodName)) ∈ lw_all := lw_g (lw_at lw_m6 54 rfl) rfl
theorem q1322 : (Jvm.Cond.selects "FallsBetweenModel" ({ cls := "FallsBetweenModel", name := "worth", desc := "(II)I" } : Jvm.MethodName) ({ cls := "FallsBetweenModel", name := "worth", desc := "(II)I" } : Jvm.MethodName)) ∈ lw_all := lw_g (lw_at lw_m6 55 rfl) rfl
theorem q1323 : (Jvm.Cond.code ({ cls := "FallsBetweenModel", name := "worth", desc := "(II)I" } : Jvm.MethodName) prog_26_method_41_code (4 : Nat) (Option.some Jvm.ClassFile.FieldType.int)) ∈ lw_all := lw_g (lw_at lw_m6 56 rfl) rfl
theorem q1325 : (Jvm.Cond.instanceMethod ({ cls := "FallsBetweenModel", name := "give", desc := "()I" } : Jvm.MethodName)) ∈ lw_all := lw_g (lw_at lw_m6 58 rfl) rfl
theorem q1326 : (Jvm.Cond.selects "FallsBetweenModel" ({ cls := "FallsBetweenModel", name := "give", desc := "()I" } : Jvm.MethodName) ({ cls := "FallsBetweenModel", name := "give", desc := "()I" } : Jvm.MethodName)) ∈ lw_all := lw_g (lw_at lw_m6 59 rfl) rfl
theorem q1327 : (Jvm.Cond.code ({ cls := "FallsBetweenModel", name := "give", desc := "()I" } : Jvm.MethodName) prog_26_method_42_code (7 : Nat) (Option.some Jvm.ClassFile.FieldType.int)) ∈ lw_all := lw_g (lw_at lw_m6 60 rfl) rfl
theorem q1328 : (Jvm.Cond.methodLink "FallsBetweenModel" (137 : Nat) ({ cls := "java/lang/Math", name := "min", desc := "(II)I" } : Jvm.MethodName)) ∈ lw_all := lw_g (lw_at lw_m6 61 rfl) rfl
theorem q1330 : (Jvm.Cond.instanceMethod ({ cls := "FallsBetweenModel", name := "clean", desc := "()I" } : Jvm.MethodName)) ∈ lw_all := lw_g (lw_at lw_m6 63 rfl) rfl
theorem q1331 : (Jvm.Cond.selects "FallsBetweenModel" ({ cls := "FallsBetweenModel", name := "clean", desc := "()I" } : Jvm.MethodName) ({ cls := "FallsBetweenModel", name := "clean", desc := "()I" } : Jvm.MethodName)) ∈ lw_all := lw_g (lw_at lw_m6 64 rfl) rfl
theorem q1332 : (Jvm.Cond.code ({ cls := "FallsBetweenModel", name := "clean", desc := "()I" } : Jvm.MethodName) prog_26_method_43_code (6 : Nat) (Option.some Jvm.ClassFile.FieldType.int)) ∈ lw_all := lw_g (lw_at lw_m6 65 rfl) rfl
theorem q1334 : (Jvm.Cond.instanceMethod ({ cls := "FallsBetweenModel", name := "line", desc := "(I)I" } : Jvm.MethodName)) ∈ lw_all := lw_g (lw_at lw_m6 67 rfl) rfl
theorem q1335 : (Jvm.Cond.selects "FallsBetweenModel" ({ cls := "FallsBetweenModel", name := "line", desc := "(I)I" } : Jvm.MethodName) ({ cls := "FallsBetweenModel", name := "line", desc := "(I)I" } : Jvm.MethodName)) ∈ lw_all := lw_g (lw_at lw_m6 68 rfl) rfl
theorem q1336 : (Jvm.Cond.code ({ cls := "FallsBetweenModel", name := "line", desc := "(I)I" } : Jvm.MethodName) prog_26_method_44_code (6 : Nat) (Option.some Jvm.ClassFile.FieldType.int)) ∈ lw_all := lw_g (lw_at lw_m6 69 rfl) rfl
theorem q1337 : (Jvm.Cond.methodLink "FallsBetweenModel" (142 : Nat) ({ cls := "java/lang/Math", name := "abs", desc := "(I)I" } : Jvm.MethodName)) ∈ lw_all := lw_g (lw_at lw_m6 70 rfl) rfl
theorem q1339 : (Jvm.Cond.instanceMethod ({ cls := "FallsBetweenModel", name := "winds", desc := "(II)I" } : Jvm.MethodName)) ∈ lw_all := lw_g (lw_at lw_m6 72 rfl) rfl
theorem q1340 : (Jvm.Cond.selects "FallsBetweenModel" ({ cls := "FallsBetweenModel", name := "winds", desc := "(II)I" } : Jvm.MethodName) ({ cls := "FallsBetweenModel", name := "winds", desc := "(II)I" } : Jvm.MethodName)) ∈ lw_all := lw_g (lw_at lw_m6 73 rfl) rfl
theorem q1341 : (Jvm.Cond.code ({ cls := "FallsBetweenModel", name := "winds", desc := "(II)I" } : Jvm.MethodName) prog_26_method_45_code (9 : Nat) (Option.some Jvm.ClassFile.FieldType.int)) ∈ lw_all := lw_g (lw_at lw_m6 74 rfl) rfl
theorem q1343 : (Jvm.Cond.instanceMethod ({ cls := "FallsBetweenModel", name := "netted", desc := "(I)I" } : Jvm.MethodName)) ∈ lw_all := lw_g (lw_at lw_m6 76 rfl) rfl
theorem q1344 : (Jvm.Cond.selects "FallsBetweenModel" ({ cls := "FallsBetweenModel", name := "netted", desc := "(I)I" } : Jvm.MethodName) ({ cls := "FallsBetweenModel", name := "netted", desc := "(I)I" } : Jvm.MethodName)) ∈ lw_all := lw_g (lw_at lw_m6 77 rfl) rfl
theorem q1345 : (Jvm.Cond.code ({ cls := "FallsBetweenModel", name := "netted", desc := "(I)I" } : Jvm.MethodName) prog_26_method_46_code (6 : Nat) (Option.some Jvm.ClassFile.FieldType.int)) ∈ lw_all := lw_g (lw_at lw_m6 78 rfl) rfl
theorem q1346 : (Jvm.Cond.methodLink "FallsBetweenModel" (145 : Nat) ({ cls := "java/lang/Math", name := "max", desc := "(II)I" } : Jvm.MethodName)) ∈ lw_all := lw_g (lw_at lw_m6 79 rfl) rfl
theorem q1348 : (Jvm.Cond.instanceMethod ({ cls := "FallsBetweenModel", name := "came", desc := "(I)I" } : Jvm.MethodName)) ∈ lw_all := lw_g (lw_at lw_m6 81 rfl) rfl
theorem q1349 : (Jvm.Cond.selects "FallsBetweenModel" ({ cls := "FallsBetweenModel", name := "came", desc := "(I)I" } : Jvm.MethodName) ({ cls := "FallsBetweenModel", name := "came", desc := "(I)I" } : Jvm.MethodName)) ∈ lw_all := lw_g (lw_at lw_m6 82 rfl) rfl
theorem q1350 : (Jvm.Cond.code ({ cls := "FallsBetweenModel", name := "came", desc := "(I)I" } : Jvm.MethodName) prog_26_method_47_code (4 : Nat) (Option.some Jvm.ClassFile.FieldType.int)) ∈ lw_all := lw_g (lw_at lw_m6 83 rfl) rfl
theorem q1352 : (Jvm.Cond.instanceMethod ({ cls := "FallsBetweenModel", name := "likely", desc := "(III)I" } : Jvm.MethodName)) ∈ lw_all := lw_g (lw_at lw_m6 85 rfl) rfl
theorem q1353 : (Jvm.Cond.selects "FallsBetweenModel" ({ cls := "FallsBetweenModel", name := "likely", desc := "(III)I" } : Jvm.MethodName) ({ cls := "FallsBetweenModel", name := "likely", desc := "(III)I" } : Jvm.MethodName)) ∈ lw_all := lw_g (lw_at lw_m6 86 rfl) rfl
theorem q1354 : (Jvm.Cond.code ({ cls := "FallsBetweenModel", name := "likely", desc := "(III)I" } : Jvm.MethodName) prog_26_method_49_code (7 : Nat) (Option.some Jvm.ClassFile.FieldType.int)) ∈ lw_all := lw_g (lw_at lw_m6 87 rfl) rfl
theorem q1355 : (Jvm.Cond.methodLink "FallsBetweenModel" (148 : Nat) ({ cls := "FallsBetweenModel", name := "divisor", desc := "(II)I" } : Jvm.MethodName)) ∈ lw_all := lw_g (lw_at lw_m6 88 rfl) rfl
theorem q1356 : (Jvm.Cond.static ({ cls := "FallsBetweenModel", name := "divisor", desc := "(II)I" } : Jvm.MethodName)) ∈ lw_all := lw_g (lw_at lw_m6 89 rfl) rfl
theorem q1357 : (Jvm.Cond.code ({ cls := "FallsBetweenModel", name := "divisor", desc := "(II)I" } : Jvm.MethodName) prog_26_method_48_code (5 : Nat) (Option.some Jvm.ClassFile.FieldType.int)) ∈ lw_all := lw_g (lw_at lw_m6 90 rfl) rfl
theorem q1359 : (Jvm.Cond.instanceMethod ({ cls := "FallsBetweenModel", name := "pit", desc := "(I)I" } : Jvm.MethodName)) ∈ lw_all := lw_g (lw_at lw_m6 92 rfl) rfl
theorem q1360 : (Jvm.Cond.selects "FallsBetweenModel" ({ cls := "FallsBetweenModel", name := "pit", desc := "(I)I" } : Jvm.MethodName) ({ cls := "FallsBetweenModel", name := "pit", desc := "(I)I" } : Jvm.MethodName)) ∈ lw_all := lw_g (lw_at lw_m6 93 rfl) rfl
theorem q1361 : (Jvm.Cond.code ({ cls := "FallsBetweenModel", name := "pit", desc := "(I)I" } : Jvm.MethodName) prog_26_method_50_code (2 : Nat) (Option.some Jvm.ClassFile.FieldType.int)) ∈ lw_all := lw_g (lw_at lw_m6 94 rfl) rfl
theorem q1363 : (Jvm.Cond.instanceMethod ({ cls := "FallsBetweenModel", name := "fitting", desc := "(I)I" } : Jvm.MethodName)) ∈ lw_all := lw_g (lw_at lw_m6 96 rfl) rfl
theorem q1364 : (Jvm.Cond.selects "FallsBetweenModel" ({ cls := "FallsBetweenModel", name := "fitting", desc := "(I)I" } : Jvm.MethodName) ({ cls := "FallsBetweenModel", name := "fitting", desc := "(I)I" } : Jvm.MethodName)) ∈ lw_all := lw_g (lw_at lw_m6 97 rfl) rfl
theorem q1365 : (Jvm.Cond.code ({ cls := "FallsBetweenModel", name := "fitting", desc := "(I)I" } : Jvm.MethodName) prog_26_method_51_code (8 : Nat) (Option.some Jvm.ClassFile.FieldType.int)) ∈ lw_all := lw_g (lw_at lw_m6 98 rfl) rfl
theorem q1367 : (Jvm.Cond.instanceMethod ({ cls := "FallsBetweenModel", name := "row", desc := "(I)I" } : Jvm.MethodName)) ∈ lw_all := lw_g (lw_at lw_m6 100 rfl) rfl
theorem q1368 : (Jvm.Cond.selects "FallsBetweenModel" ({ cls := "FallsBetweenModel", name := "row", desc := "(I)I" } : Jvm.MethodName) ({ cls := "FallsBetweenModel", name := "row", desc := "(I)I" } : Jvm.MethodName)) ∈ lw_all := lw_g (lw_at lw_m6 101 rfl) rfl
theorem q1369 : (Jvm.Cond.code ({ cls := "FallsBetweenModel", name := "row", desc := "(I)I" } : Jvm.MethodName) prog_26_method_52_code (2 : Nat) (Option.some Jvm.ClassFile.FieldType.int)) ∈ lw_all := lw_g (lw_at lw_m6 102 rfl) rfl
theorem q1371 : (Jvm.Cond.instanceMethod ({ cls := "FallsBetweenModel", name := "judge", desc := "(I)I" } : Jvm.MethodName)) ∈ lw_all := lw_g (lw_at lw_m6 104 rfl) rfl
theorem q1372 : (Jvm.Cond.selects "FallsBetweenModel" ({ cls := "FallsBetweenModel", name := "judge", desc := "(I)I" } : Jvm.MethodName) ({ cls := "FallsBetweenModel", name := "judge", desc := "(I)I" } : Jvm.MethodName)) ∈ lw_all := lw_g (lw_at lw_m6 105 rfl) rfl
theorem q1373 : (Jvm.Cond.code ({ cls := "FallsBetweenModel", name := "judge", desc := "(I)I" } : Jvm.MethodName) prog_26_method_53_code (5 : Nat) (Option.some Jvm.ClassFile.FieldType.int)) ∈ lw_all := lw_g (lw_at lw_m6 106 rfl) rfl
theorem q1375 : (Jvm.Cond.instanceMethod ({ cls := "FallsBetweenModel", name := "seeds", desc := "(III)I" } : Jvm.MethodName)) ∈ lw_all := lw_g (lw_at lw_m6 108 rfl) rfl
theorem q1376 : (Jvm.Cond.selects "FallsBetweenModel" ({ cls := "FallsBetweenModel", name := "seeds", desc := "(III)I" } : Jvm.MethodName) ({ cls := "FallsBetweenModel", name := "seeds", desc := "(III)I" } : Jvm.MethodName)) ∈ lw_all := lw_g (lw_at lw_m6 109 rfl) rfl
theorem q1377 : (Jvm.Cond.code ({ cls := "FallsBetweenModel", name := "seeds", desc := "(III)I" } : Jvm.MethodName) prog_26_method_54_code (8 : Nat) (Option.some Jvm.ClassFile.FieldType.int)) ∈ lw_all := lw_g (lw_at lw_m6 110 rfl) rfl
theorem q1378 : (Jvm.Cond.constant "FallsBetweenModel" (154 : Nat) (1664525 : Int32)) ∈ lw_all := lw_g (lw_at lw_m6 111 rfl) rfl
theorem q1379 : (Jvm.Cond.constant "FallsBetweenModel" (155 : Nat) (1013904223 : Int32)) ∈ lw_all := lw_g (lw_at lw_m6 112 rfl) rfl
theorem q1380 : (Jvm.Cond.constant "FallsBetweenModel" (156 : Nat) (2147483647 : Int32)) ∈ lw_all := lw_g (lw_at lw_m6 113 rfl) rfl
theorem q1382 : (Jvm.Cond.instanceMethod ({ cls := "FallsBetweenModel", name := "count", desc := "(I)I" } : Jvm.MethodName)) ∈ lw_all := lw_g (lw_at lw_m6 115 rfl) rfl
theorem q1383 : (Jvm.Cond.selects "FallsBetweenModel" ({ cls := "FallsBetweenModel", name := "count", desc := "(I)I" } : Jvm.MethodName) ({ cls := "FallsBetweenModel", name := "count", desc := "(I)I" } : Jvm.MethodName)) ∈ lw_all := lw_g (lw_at lw_m6 116 rfl) rfl
theorem q1384 : (Jvm.Cond.code ({ cls := "FallsBetweenModel", name := "count", desc := "(I)I" } : Jvm.MethodName) prog_26_method_56_code (4 : Nat) (Option.some Jvm.ClassFile.FieldType.int)) ∈ lw_all := lw_g (lw_at lw_m6 117 rfl) rfl
theorem q1385 : (Jvm.Cond.methodLink "FallsBetweenModel" (157 : Nat) ({ cls := "FallsBetweenModel", name := "sumOf", desc := "(II)I" } : Jvm.MethodName)) ∈ lw_all := lw_g (lw_at lw_m6 118 rfl) rfl
theorem q1386 : (Jvm.Cond.privateMethod ({ cls := "FallsBetweenModel", name := "sumOf", desc := "(II)I" } : Jvm.MethodName)) ∈ lw_tbl := lw_at lw_m6 119 rfl
theorem q1387 : (Jvm.Cond.instanceMethod ({ cls := "FallsBetweenModel", name := "sumOf", desc := "(II)I" } : Jvm.MethodName)) ∈ lw_all := lw_g (lw_at lw_m6 120 rfl) rfl
theorem q1388 : (Jvm.Cond.code ({ cls := "FallsBetweenModel", name := "sumOf", desc := "(II)I" } : Jvm.MethodName) prog_26_method_55_code (5 : Nat) (Option.some Jvm.ClassFile.FieldType.int)) ∈ lw_all := lw_g (lw_at lw_m6 121 rfl) rfl
theorem in_X7 : ∀ w ∈ wsX70, w ∈ lw_all := lw_in wsX70 [1132, 1134, 1136, 1138, 1140, 1142, 1144, 1146, 1148, 1150, 1152, 1154, 1156, 1158, 1160, 1162, 1164] (by decide +kernel) (by decide +kernel)
