/-! the law's own entry -/
set_option maxRecDepth 100000
abbrev cL_law : ByteArray := code
def dkwL_law_37 : List UInt8 := [172]
abbrev dktL_law_37 : List UInt8 := dkwL_law_37 ++ []
def dkwL_law_36 : List UInt8 := [182, 0, 141, 44, 42, 29, 4, 96, 46, 182, 0, 144, 159, 0, 5, 3, 172, 132, 3, 4, 167, 252, 67, 4]
abbrev dktL_law_36 : List UInt8 := dkwL_law_36 ++ dktL_law_37
def dkwL_law_35 : List UInt8 := [159, 0, 41, 3, 172, 43, 182, 0, 137, 44, 182, 0, 140, 159, 0, 28, 3, 172, 43, 42, 29, 4, 96, 46]
abbrev dktL_law_35 : List UInt8 := dkwL_law_35 ++ dktL_law_36
def dkwL_law_34 : List UInt8 := [96, 46, 42, 29, 6, 96, 46, 182, 0, 132, 159, 0, 54, 3, 172, 43, 182, 0, 133, 44, 182, 0, 136]
abbrev dktL_law_34 : List UInt8 := dkwL_law_34 ++ dktL_law_35
def dkwL_law_33 : List UInt8 := [96, 46, 42, 29, 5, 96, 46, 42, 29, 6, 96, 46, 182, 0, 129, 44, 42, 29, 4, 96, 46, 42, 29, 5]
abbrev dktL_law_33 : List UInt8 := dkwL_law_33 ++ dktL_law_34
def dkwL_law_32 : List UInt8 := [4, 96, 46, 182, 0, 125, 44, 42, 29, 4, 96, 46, 182, 0, 128, 159, 0, 97, 3, 172, 43, 42, 29, 4]
abbrev dktL_law_32 : List UInt8 := dkwL_law_32 ++ dktL_law_33
def dkwL_law_31 : List UInt8 := [29, 4, 96, 46, 182, 0, 121, 44, 42, 29, 4, 96, 46, 182, 0, 124, 159, 0, 120, 3, 172, 43, 42, 29]
abbrev dktL_law_31 : List UInt8 := dkwL_law_31 ++ dktL_law_32
def dkwL_law_30 : List UInt8 := [42, 29, 4, 96, 46, 182, 0, 117, 44, 42, 29, 4, 96, 46, 182, 0, 120, 159, 0, 143, 3, 172, 43, 42]
abbrev dktL_law_30 : List UInt8 := dkwL_law_30 ++ dktL_law_31
def dkwL_law_29 : List UInt8 := [43, 42, 29, 4, 96, 46, 182, 0, 113, 44, 42, 29, 4, 96, 46, 182, 0, 116, 159, 0, 166, 3, 172, 43]
abbrev dktL_law_29 : List UInt8 := dkwL_law_29 ++ dktL_law_30
def dkwL_law_28 : List UInt8 := [44, 42, 29, 4, 96, 46, 42, 29, 5, 96, 46, 42, 29, 6, 96, 46, 182, 0, 112, 159, 0, 189, 3, 172]
abbrev dktL_law_28 : List UInt8 := dkwL_law_28 ++ dktL_law_29
def dkwL_law_27 : List UInt8 := [159, 0, 232, 3, 172, 43, 42, 29, 4, 96, 46, 42, 29, 5, 96, 46, 42, 29, 6, 96, 46, 182, 0, 109]
abbrev dktL_law_27 : List UInt8 := dkwL_law_27 ++ dktL_law_28
def dkwL_law_26 : List UInt8 := [159, 0, 255, 3, 172, 43, 42, 29, 4, 96, 46, 182, 0, 105, 44, 42, 29, 4, 96, 46, 182, 0, 108]
abbrev dktL_law_26 : List UInt8 := dkwL_law_26 ++ dktL_law_27
def dkwL_law_25 : List UInt8 := [159, 1, 22, 3, 172, 43, 42, 29, 4, 96, 46, 182, 0, 101, 44, 42, 29, 4, 96, 46, 182, 0, 104]
abbrev dktL_law_25 : List UInt8 := dkwL_law_25 ++ dktL_law_26
def dkwL_law_24 : List UInt8 := [96, 46, 42, 29, 5, 96, 46, 182, 0, 97, 44, 42, 29, 4, 96, 46, 42, 29, 5, 96, 46, 182, 0, 100]
abbrev dktL_law_24 : List UInt8 := dkwL_law_24 ++ dktL_law_25
def dkwL_law_23 : List UInt8 := [4, 96, 46, 182, 0, 93, 44, 42, 29, 4, 96, 46, 182, 0, 96, 159, 1, 55, 3, 172, 43, 42, 29, 4]
abbrev dktL_law_23 : List UInt8 := dkwL_law_23 ++ dktL_law_24
def dkwL_law_22 : List UInt8 := [182, 0, 88, 159, 1, 91, 3, 172, 43, 182, 0, 89, 44, 182, 0, 92, 159, 1, 78, 3, 172, 43, 42, 29]
abbrev dktL_law_22 : List UInt8 := dkwL_law_22 ++ dktL_law_23
def dkwL_law_21 : List UInt8 := [29, 4, 96, 46, 42, 29, 5, 96, 46, 182, 0, 84, 159, 1, 104, 3, 172, 43, 182, 0, 85, 44]
abbrev dktL_law_21 : List UInt8 := dkwL_law_21 ++ dktL_law_22
def dkwL_law_20 : List UInt8 := [182, 0, 80, 159, 1, 137, 3, 172, 43, 42, 29, 4, 96, 46, 42, 29, 5, 96, 46, 182, 0, 81, 44, 42]
abbrev dktL_law_20 : List UInt8 := dkwL_law_20 ++ dktL_law_21
def dkwL_law_19 : List UInt8 := [29, 6, 96, 46, 182, 0, 76, 44, 42, 29, 4, 96, 46, 42, 29, 5, 96, 46, 42, 29, 6, 96, 46]
abbrev dktL_law_19 : List UInt8 := dkwL_law_19 ++ dktL_law_20
def dkwL_law_18 : List UInt8 := [182, 0, 72, 44, 182, 0, 75, 159, 1, 180, 3, 172, 43, 42, 29, 4, 96, 46, 42, 29, 5, 96, 46, 42]
abbrev dktL_law_18 : List UInt8 := dkwL_law_18 ++ dktL_law_19
def dkwL_law_17 : List UInt8 := [182, 0, 67, 159, 1, 206, 3, 172, 43, 182, 0, 68, 44, 182, 0, 71, 159, 1, 193, 3, 172, 43]
abbrev dktL_law_17 : List UInt8 := dkwL_law_17 ++ dktL_law_18
def dkwL_law_16 : List UInt8 := [182, 0, 63, 159, 1, 229, 3, 172, 43, 42, 29, 4, 96, 46, 182, 0, 64, 44, 42, 29, 4, 96, 46]
abbrev dktL_law_16 : List UInt8 := dkwL_law_16 ++ dktL_law_17
def dkwL_law_15 : List UInt8 := [4, 96, 46, 42, 29, 5, 96, 46, 182, 0, 60, 44, 42, 29, 4, 96, 46, 42, 29, 5, 96, 46]
abbrev dktL_law_15 : List UInt8 := dkwL_law_15 ++ dktL_law_16
def dkwL_law_14 : List UInt8 := [29, 4, 96, 46, 182, 0, 56, 44, 42, 29, 4, 96, 46, 182, 0, 59, 159, 2, 6, 3, 172, 43, 42, 29]
abbrev dktL_law_14 : List UInt8 := dkwL_law_14 ++ dktL_law_15
def dkwL_law_13 : List UInt8 := [42, 29, 4, 96, 46, 182, 0, 52, 44, 42, 29, 4, 96, 46, 182, 0, 55, 159, 2, 29, 3, 172, 43, 42]
abbrev dktL_law_13 : List UInt8 := dkwL_law_13 ++ dktL_law_14
def dkwL_law_12 : List UInt8 := [43, 42, 29, 4, 96, 46, 182, 0, 48, 44, 42, 29, 4, 96, 46, 182, 0, 51, 159, 2, 52, 3, 172, 43]
abbrev dktL_law_12 : List UInt8 := dkwL_law_12 ++ dktL_law_13
def dkwL_law_11 : List UInt8 := [172, 43, 42, 29, 4, 96, 46, 182, 0, 44, 44, 42, 29, 4, 96, 46, 182, 0, 47, 159, 2, 75, 3, 172]
abbrev dktL_law_11 : List UInt8 := dkwL_law_11 ++ dktL_law_12
def dkwL_law_10 : List UInt8 := [3, 172, 43, 42, 29, 4, 96, 46, 182, 0, 40, 44, 42, 29, 4, 96, 46, 182, 0, 43, 159, 2, 98, 3]
abbrev dktL_law_10 : List UInt8 := dkwL_law_10 ++ dktL_law_11
def dkwL_law_9 : List UInt8 := [29, 5, 96, 46, 182, 0, 36, 44, 42, 29, 4, 96, 46, 42, 29, 5, 96, 46, 182, 0, 39, 159, 2, 121]
abbrev dktL_law_9 : List UInt8 := dkwL_law_9 ++ dktL_law_10
def dkwL_law_8 : List UInt8 := [29, 4, 96, 46, 42, 29, 5, 96, 46, 182, 0, 35, 159, 2, 154, 3, 172, 43, 42, 29, 4, 96, 46, 42]
abbrev dktL_law_8 : List UInt8 := dkwL_law_8 ++ dktL_law_9
def dkwL_law_7 : List UInt8 := [182, 0, 31, 159, 2, 187, 3, 172, 43, 42, 29, 4, 96, 46, 42, 29, 5, 96, 46, 182, 0, 32, 44, 42]
abbrev dktL_law_7 : List UInt8 := dkwL_law_7 ++ dktL_law_8
def dkwL_law_6 : List UInt8 := [29, 4, 96, 46, 42, 29, 5, 96, 46, 182, 0, 28, 44, 42, 29, 4, 96, 46, 42, 29, 5, 96, 46]
abbrev dktL_law_6 : List UInt8 := dkwL_law_6 ++ dktL_law_7
def dkwL_law_5 : List UInt8 := [182, 0, 23, 44, 42, 29, 4, 96, 46, 42, 29, 5, 96, 46, 182, 0, 27, 159, 2, 220, 3, 172, 43, 42]
abbrev dktL_law_5 : List UInt8 := dkwL_law_5 ++ dktL_law_6
def dkwL_law_4 : List UInt8 := [182, 0, 18, 44, 182, 0, 22, 159, 2, 253, 3, 172, 43, 42, 29, 4, 96, 46, 42, 29, 5, 96, 46]
abbrev dktL_law_4 : List UInt8 := dkwL_law_4 ++ dktL_law_5
def dkwL_law_3 : List UInt8 := [43, 42, 29, 4, 96, 46, 182, 0, 13, 44, 42, 29, 4, 96, 46, 182, 0, 17, 159, 3, 10, 3, 172, 43]
abbrev dktL_law_3 : List UInt8 := dkwL_law_3 ++ dktL_law_4
def dkwL_law_2 : List UInt8 := [170, 0, 0, 0, 0, 0, 3, 172, 0, 0, 0, 0, 0, 0, 0, 31, 0, 0, 0, 144, 0, 0, 0, 167, 0, 0, 0, 180, 0, 0, 0, 213, 0, 0, 0, 246, 0, 0, 1, 23, 0, 0, 1, 56, 0, 0, 1, 79, 0, 0, 1, 102, 0, 0, 1, 125, 0, 0, 1, 148, 0, 0, 1, 171, 0, 0, 1, 204, 0, 0, 1, 227, 0, 0, 1, 240, 0, 0, 1, 253, 0, 0, 2, 40, 0, 0, 2, 73, 0, 0, 2, 86, 0, 0, 2, 99, 0, 0, 2, 122, 0, 0, 2, 155, 0, 0, 2, 178, 0, 0, 2, 201, 0, 0, 2, 244, 0, 0, 3, 11, 0, 0, 3, 34, 0, 0, 3, 57, 0, 0, 3, 80, 0, 0, 3, 123, 0, 0, 3, 136, 0, 0, 3, 149]
abbrev dktL_law_2 : List UInt8 := dkwL_law_2 ++ dktL_law_3
def dkwL_law_1 : List UInt8 := [163, 3, 187, 42, 29, 46, 16, 31, 126]
abbrev dktL_law_1 : List UInt8 := dkwL_law_1 ++ dktL_law_2
def dkwL_law_0 : List UInt8 := [187, 0, 7, 89, 183, 0, 9, 76, 187, 0, 10, 89, 183, 0, 12, 77, 3, 62, 29, 42, 190, 7, 100]
abbrev dktL_law_0 : List UInt8 := dkwL_law_0 ++ dktL_law_1
theorem dksL_law_0 : cL_law.data.toList.drop 0 = dktL_law_0 := by decide +kernel
theorem dksL_law_1 : cL_law.data.toList.drop 23 = dktL_law_1 := dk_seg dksL_law_0 23 rfl rfl
theorem dksL_law_2 : cL_law.data.toList.drop 32 = dktL_law_2 := dk_seg dksL_law_1 9 rfl rfl
theorem dksL_law_3 : cL_law.data.toList.drop 176 = dktL_law_3 := dk_seg dksL_law_2 144 rfl rfl
theorem dksL_law_4 : cL_law.data.toList.drop 200 = dktL_law_4 := dk_seg dksL_law_3 24 rfl rfl
theorem dksL_law_5 : cL_law.data.toList.drop 223 = dktL_law_5 := dk_seg dksL_law_4 23 rfl rfl
theorem dksL_law_6 : cL_law.data.toList.drop 247 = dktL_law_6 := dk_seg dksL_law_5 24 rfl rfl
theorem dksL_law_7 : cL_law.data.toList.drop 270 = dktL_law_7 := dk_seg dksL_law_6 23 rfl rfl
theorem dksL_law_8 : cL_law.data.toList.drop 294 = dktL_law_8 := dk_seg dksL_law_7 24 rfl rfl
theorem dksL_law_9 : cL_law.data.toList.drop 318 = dktL_law_9 := dk_seg dksL_law_8 24 rfl rfl
theorem dksL_law_10 : cL_law.data.toList.drop 342 = dktL_law_10 := dk_seg dksL_law_9 24 rfl rfl
theorem dksL_law_11 : cL_law.data.toList.drop 366 = dktL_law_11 := dk_seg dksL_law_10 24 rfl rfl
theorem dksL_law_12 : cL_law.data.toList.drop 390 = dktL_law_12 := dk_seg dksL_law_11 24 rfl rfl
theorem dksL_law_13 : cL_law.data.toList.drop 414 = dktL_law_13 := dk_seg dksL_law_12 24 rfl rfl
theorem dksL_law_14 : cL_law.data.toList.drop 438 = dktL_law_14 := dk_seg dksL_law_13 24 rfl rfl
theorem dksL_law_15 : cL_law.data.toList.drop 462 = dktL_law_15 := dk_seg dksL_law_14 24 rfl rfl
theorem dksL_law_16 : cL_law.data.toList.drop 484 = dktL_law_16 := dk_seg dksL_law_15 22 rfl rfl
theorem dksL_law_17 : cL_law.data.toList.drop 507 = dktL_law_17 := dk_seg dksL_law_16 23 rfl rfl
theorem dksL_law_18 : cL_law.data.toList.drop 529 = dktL_law_18 := dk_seg dksL_law_17 22 rfl rfl
theorem dksL_law_19 : cL_law.data.toList.drop 553 = dktL_law_19 := dk_seg dksL_law_18 24 rfl rfl
theorem dksL_law_20 : cL_law.data.toList.drop 576 = dktL_law_20 := dk_seg dksL_law_19 23 rfl rfl
theorem dksL_law_21 : cL_law.data.toList.drop 600 = dktL_law_21 := dk_seg dksL_law_20 24 rfl rfl
theorem dksL_law_22 : cL_law.data.toList.drop 622 = dktL_law_22 := dk_seg dksL_law_21 22 rfl rfl
theorem dksL_law_23 : cL_law.data.toList.drop 646 = dktL_law_23 := dk_seg dksL_law_22 24 rfl rfl
theorem dksL_law_24 : cL_law.data.toList.drop 670 = dktL_law_24 := dk_seg dksL_law_23 24 rfl rfl
theorem dksL_law_25 : cL_law.data.toList.drop 694 = dktL_law_25 := dk_seg dksL_law_24 24 rfl rfl
theorem dksL_law_26 : cL_law.data.toList.drop 717 = dktL_law_26 := dk_seg dksL_law_25 23 rfl rfl
theorem dksL_law_27 : cL_law.data.toList.drop 740 = dktL_law_27 := dk_seg dksL_law_26 23 rfl rfl
theorem dksL_law_28 : cL_law.data.toList.drop 764 = dktL_law_28 := dk_seg dksL_law_27 24 rfl rfl
theorem dksL_law_29 : cL_law.data.toList.drop 788 = dktL_law_29 := dk_seg dksL_law_28 24 rfl rfl
theorem dksL_law_30 : cL_law.data.toList.drop 812 = dktL_law_30 := dk_seg dksL_law_29 24 rfl rfl
theorem dksL_law_31 : cL_law.data.toList.drop 836 = dktL_law_31 := dk_seg dksL_law_30 24 rfl rfl
theorem dksL_law_32 : cL_law.data.toList.drop 860 = dktL_law_32 := dk_seg dksL_law_31 24 rfl rfl
theorem dksL_law_33 : cL_law.data.toList.drop 884 = dktL_law_33 := dk_seg dksL_law_32 24 rfl rfl
theorem dksL_law_34 : cL_law.data.toList.drop 908 = dktL_law_34 := dk_seg dksL_law_33 24 rfl rfl
theorem dksL_law_35 : cL_law.data.toList.drop 931 = dktL_law_35 := dk_seg dksL_law_34 23 rfl rfl
theorem dksL_law_36 : cL_law.data.toList.drop 955 = dktL_law_36 := dk_seg dksL_law_35 24 rfl rfl
theorem dksL_law_37 : cL_law.data.toList.drop 979 = dktL_law_37 := dk_seg dksL_law_36 24 rfl rfl
theorem dL_law_0 : decode cL_law 0 = .ok (.new 7, 3) := dk_187 0 7 (dk_at dksL_law_0 0 rfl rfl)
theorem dL_law_3 : decode cL_law 3 = .ok (.dup, 1) := dk_89 (dk_at dksL_law_0 3 rfl rfl)
theorem dL_law_4 : decode cL_law 4 = .ok (.invokespecial 9, 3) := dk_183 0 9 (dk_at dksL_law_0 4 rfl rfl)
theorem dL_law_7 : decode cL_law 7 = .ok (.astore_n 1, 1) := dk_76 (dk_at dksL_law_0 7 rfl rfl)
theorem dL_law_8 : decode cL_law 8 = .ok (.new 10, 3) := dk_187 0 10 (dk_at dksL_law_0 8 rfl rfl)
theorem dL_law_11 : decode cL_law 11 = .ok (.dup, 1) := dk_89 (dk_at dksL_law_0 11 rfl rfl)
theorem dL_law_12 : decode cL_law 12 = .ok (.invokespecial 12, 3) := dk_183 0 12 (dk_at dksL_law_0 12 rfl rfl)
theorem dL_law_15 : decode cL_law 15 = .ok (.astore_n 2, 1) := dk_77 (dk_at dksL_law_0 15 rfl rfl)
theorem dL_law_16 : decode cL_law 16 = .ok (.iconst 0, 1) := dk_3 (dk_at dksL_law_0 16 rfl rfl)
theorem dL_law_17 : decode cL_law 17 = .ok (.istore_n 3, 1) := dk_62 (dk_at dksL_law_0 17 rfl rfl)
theorem dL_law_18 : decode cL_law 18 = .ok (.iload_n 3, 1) := dk_29 (dk_at dksL_law_0 18 rfl rfl)
theorem dL_law_19 : decode cL_law 19 = .ok (.aload_n 0, 1) := dk_42 (dk_at dksL_law_0 19 rfl rfl)
theorem dL_law_20 : decode cL_law 20 = .ok (.arraylength, 1) := dk_190 (dk_at dksL_law_0 20 rfl rfl)
theorem dL_law_21 : decode cL_law 21 = .ok (.iconst 4, 1) := dk_7 (dk_at dksL_law_0 21 rfl rfl)
theorem dL_law_22 : decode cL_law 22 = .ok (.isub, 1) := dk_100 (dk_at dksL_law_0 22 rfl rfl)
theorem dL_law_23 : decode cL_law 23 = .ok (.if_icmp .gt 955, 3) := dk_163 3 187 (dk_at dksL_law_1 0 rfl rfl)
theorem dL_law_26 : decode cL_law 26 = .ok (.aload_n 0, 1) := dk_42 (dk_at dksL_law_1 3 rfl rfl)
theorem dL_law_27 : decode cL_law 27 = .ok (.iload_n 3, 1) := dk_29 (dk_at dksL_law_1 4 rfl rfl)
theorem dL_law_28 : decode cL_law 28 = .ok (.iaload, 1) := dk_46 (dk_at dksL_law_1 5 rfl rfl)
theorem dL_law_29 : decode cL_law 29 = .ok (.bipush 31, 2) := dk_16 31 (dk_at dksL_law_1 6 rfl rfl)
theorem dL_law_31 : decode cL_law 31 = .ok (.iand, 1) := dk_126 (dk_at dksL_law_1 8 rfl rfl)
theorem dL_law_32 : decode cL_law 32 = .ok (.tableswitch 940 0 31 #[144, 167, 180, 213, 246, 279, 312, 335, 358, 381, 404, 427, 460, 483, 496, 509, 552, 585, 598, 611, 634, 667, 690, 713, 756, 779, 802, 825, 848, 891, 904, 917], 144) := by decide +kernel
theorem dL_law_176 : decode cL_law 176 = .ok (.aload_n 1, 1) := dk_43 (dk_at dksL_law_3 0 rfl rfl)
theorem dL_law_177 : decode cL_law 177 = .ok (.aload_n 0, 1) := dk_42 (dk_at dksL_law_3 1 rfl rfl)
theorem dL_law_178 : decode cL_law 178 = .ok (.iload_n 3, 1) := dk_29 (dk_at dksL_law_3 2 rfl rfl)
theorem dL_law_179 : decode cL_law 179 = .ok (.iconst 1, 1) := dk_4 (dk_at dksL_law_3 3 rfl rfl)
theorem dL_law_180 : decode cL_law 180 = .ok (.iadd, 1) := dk_96 (dk_at dksL_law_3 4 rfl rfl)
theorem dL_law_181 : decode cL_law 181 = .ok (.iaload, 1) := dk_46 (dk_at dksL_law_3 5 rfl rfl)
theorem dL_law_182 : decode cL_law 182 = .ok (.invokevirtual 13, 3) := dk_182 0 13 (dk_at dksL_law_3 6 rfl rfl)
theorem dL_law_185 : decode cL_law 185 = .ok (.aload_n 2, 1) := dk_44 (dk_at dksL_law_3 9 rfl rfl)
theorem dL_law_186 : decode cL_law 186 = .ok (.aload_n 0, 1) := dk_42 (dk_at dksL_law_3 10 rfl rfl)
theorem dL_law_187 : decode cL_law 187 = .ok (.iload_n 3, 1) := dk_29 (dk_at dksL_law_3 11 rfl rfl)
theorem dL_law_188 : decode cL_law 188 = .ok (.iconst 1, 1) := dk_4 (dk_at dksL_law_3 12 rfl rfl)
theorem dL_law_189 : decode cL_law 189 = .ok (.iadd, 1) := dk_96 (dk_at dksL_law_3 13 rfl rfl)
theorem dL_law_190 : decode cL_law 190 = .ok (.iaload, 1) := dk_46 (dk_at dksL_law_3 14 rfl rfl)
theorem dL_law_191 : decode cL_law 191 = .ok (.invokevirtual 17, 3) := dk_182 0 17 (dk_at dksL_law_3 15 rfl rfl)
theorem dL_law_194 : decode cL_law 194 = .ok (.if_icmp .eq 778, 3) := dk_159 3 10 (dk_at dksL_law_3 18 rfl rfl)
theorem dL_law_197 : decode cL_law 197 = .ok (.iconst 0, 1) := dk_3 (dk_at dksL_law_3 21 rfl rfl)
theorem dL_law_198 : decode cL_law 198 = .ok (.ireturn, 1) := dk_172 (dk_at dksL_law_3 22 rfl rfl)
theorem dL_law_199 : decode cL_law 199 = .ok (.aload_n 1, 1) := dk_43 (dk_at dksL_law_3 23 rfl rfl)
theorem dL_law_200 : decode cL_law 200 = .ok (.invokevirtual 18, 3) := dk_182 0 18 (dk_at dksL_law_4 0 rfl rfl)
theorem dL_law_203 : decode cL_law 203 = .ok (.aload_n 2, 1) := dk_44 (dk_at dksL_law_4 3 rfl rfl)
theorem dL_law_204 : decode cL_law 204 = .ok (.invokevirtual 22, 3) := dk_182 0 22 (dk_at dksL_law_4 4 rfl rfl)
theorem dL_law_207 : decode cL_law 207 = .ok (.if_icmp .eq 765, 3) := dk_159 2 253 (dk_at dksL_law_4 7 rfl rfl)
theorem dL_law_210 : decode cL_law 210 = .ok (.iconst 0, 1) := dk_3 (dk_at dksL_law_4 10 rfl rfl)
theorem dL_law_211 : decode cL_law 211 = .ok (.ireturn, 1) := dk_172 (dk_at dksL_law_4 11 rfl rfl)
theorem dL_law_212 : decode cL_law 212 = .ok (.aload_n 1, 1) := dk_43 (dk_at dksL_law_4 12 rfl rfl)
theorem dL_law_213 : decode cL_law 213 = .ok (.aload_n 0, 1) := dk_42 (dk_at dksL_law_4 13 rfl rfl)
theorem dL_law_214 : decode cL_law 214 = .ok (.iload_n 3, 1) := dk_29 (dk_at dksL_law_4 14 rfl rfl)
theorem dL_law_215 : decode cL_law 215 = .ok (.iconst 1, 1) := dk_4 (dk_at dksL_law_4 15 rfl rfl)
theorem dL_law_216 : decode cL_law 216 = .ok (.iadd, 1) := dk_96 (dk_at dksL_law_4 16 rfl rfl)
theorem dL_law_217 : decode cL_law 217 = .ok (.iaload, 1) := dk_46 (dk_at dksL_law_4 17 rfl rfl)
theorem dL_law_218 : decode cL_law 218 = .ok (.aload_n 0, 1) := dk_42 (dk_at dksL_law_4 18 rfl rfl)
theorem dL_law_219 : decode cL_law 219 = .ok (.iload_n 3, 1) := dk_29 (dk_at dksL_law_4 19 rfl rfl)
theorem dL_law_220 : decode cL_law 220 = .ok (.iconst 2, 1) := dk_5 (dk_at dksL_law_4 20 rfl rfl)
theorem dL_law_221 : decode cL_law 221 = .ok (.iadd, 1) := dk_96 (dk_at dksL_law_4 21 rfl rfl)
theorem dL_law_222 : decode cL_law 222 = .ok (.iaload, 1) := dk_46 (dk_at dksL_law_4 22 rfl rfl)
theorem dL_law_223 : decode cL_law 223 = .ok (.invokevirtual 23, 3) := dk_182 0 23 (dk_at dksL_law_5 0 rfl rfl)
theorem dL_law_226 : decode cL_law 226 = .ok (.aload_n 2, 1) := dk_44 (dk_at dksL_law_5 3 rfl rfl)
theorem dL_law_227 : decode cL_law 227 = .ok (.aload_n 0, 1) := dk_42 (dk_at dksL_law_5 4 rfl rfl)
theorem dL_law_228 : decode cL_law 228 = .ok (.iload_n 3, 1) := dk_29 (dk_at dksL_law_5 5 rfl rfl)
theorem dL_law_229 : decode cL_law 229 = .ok (.iconst 1, 1) := dk_4 (dk_at dksL_law_5 6 rfl rfl)
theorem dL_law_230 : decode cL_law 230 = .ok (.iadd, 1) := dk_96 (dk_at dksL_law_5 7 rfl rfl)
theorem dL_law_231 : decode cL_law 231 = .ok (.iaload, 1) := dk_46 (dk_at dksL_law_5 8 rfl rfl)
theorem dL_law_232 : decode cL_law 232 = .ok (.aload_n 0, 1) := dk_42 (dk_at dksL_law_5 9 rfl rfl)
theorem dL_law_233 : decode cL_law 233 = .ok (.iload_n 3, 1) := dk_29 (dk_at dksL_law_5 10 rfl rfl)
theorem dL_law_234 : decode cL_law 234 = .ok (.iconst 2, 1) := dk_5 (dk_at dksL_law_5 11 rfl rfl)
theorem dL_law_235 : decode cL_law 235 = .ok (.iadd, 1) := dk_96 (dk_at dksL_law_5 12 rfl rfl)
theorem dL_law_236 : decode cL_law 236 = .ok (.iaload, 1) := dk_46 (dk_at dksL_law_5 13 rfl rfl)
theorem dL_law_237 : decode cL_law 237 = .ok (.invokevirtual 27, 3) := dk_182 0 27 (dk_at dksL_law_5 14 rfl rfl)
theorem dL_law_240 : decode cL_law 240 = .ok (.if_icmp .eq 732, 3) := dk_159 2 220 (dk_at dksL_law_5 17 rfl rfl)
theorem dL_law_243 : decode cL_law 243 = .ok (.iconst 0, 1) := dk_3 (dk_at dksL_law_5 20 rfl rfl)
theorem dL_law_244 : decode cL_law 244 = .ok (.ireturn, 1) := dk_172 (dk_at dksL_law_5 21 rfl rfl)
theorem dL_law_245 : decode cL_law 245 = .ok (.aload_n 1, 1) := dk_43 (dk_at dksL_law_5 22 rfl rfl)
theorem dL_law_246 : decode cL_law 246 = .ok (.aload_n 0, 1) := dk_42 (dk_at dksL_law_5 23 rfl rfl)
theorem dL_law_247 : decode cL_law 247 = .ok (.iload_n 3, 1) := dk_29 (dk_at dksL_law_6 0 rfl rfl)
theorem dL_law_248 : decode cL_law 248 = .ok (.iconst 1, 1) := dk_4 (dk_at dksL_law_6 1 rfl rfl)
theorem dL_law_249 : decode cL_law 249 = .ok (.iadd, 1) := dk_96 (dk_at dksL_law_6 2 rfl rfl)
theorem dL_law_250 : decode cL_law 250 = .ok (.iaload, 1) := dk_46 (dk_at dksL_law_6 3 rfl rfl)
theorem dL_law_251 : decode cL_law 251 = .ok (.aload_n 0, 1) := dk_42 (dk_at dksL_law_6 4 rfl rfl)
theorem dL_law_252 : decode cL_law 252 = .ok (.iload_n 3, 1) := dk_29 (dk_at dksL_law_6 5 rfl rfl)
theorem dL_law_253 : decode cL_law 253 = .ok (.iconst 2, 1) := dk_5 (dk_at dksL_law_6 6 rfl rfl)
theorem dL_law_254 : decode cL_law 254 = .ok (.iadd, 1) := dk_96 (dk_at dksL_law_6 7 rfl rfl)
theorem dL_law_255 : decode cL_law 255 = .ok (.iaload, 1) := dk_46 (dk_at dksL_law_6 8 rfl rfl)
theorem dL_law_256 : decode cL_law 256 = .ok (.invokevirtual 28, 3) := dk_182 0 28 (dk_at dksL_law_6 9 rfl rfl)
theorem dL_law_259 : decode cL_law 259 = .ok (.aload_n 2, 1) := dk_44 (dk_at dksL_law_6 12 rfl rfl)
theorem dL_law_260 : decode cL_law 260 = .ok (.aload_n 0, 1) := dk_42 (dk_at dksL_law_6 13 rfl rfl)
theorem dL_law_261 : decode cL_law 261 = .ok (.iload_n 3, 1) := dk_29 (dk_at dksL_law_6 14 rfl rfl)
theorem dL_law_262 : decode cL_law 262 = .ok (.iconst 1, 1) := dk_4 (dk_at dksL_law_6 15 rfl rfl)
theorem dL_law_263 : decode cL_law 263 = .ok (.iadd, 1) := dk_96 (dk_at dksL_law_6 16 rfl rfl)
theorem dL_law_264 : decode cL_law 264 = .ok (.iaload, 1) := dk_46 (dk_at dksL_law_6 17 rfl rfl)
theorem dL_law_265 : decode cL_law 265 = .ok (.aload_n 0, 1) := dk_42 (dk_at dksL_law_6 18 rfl rfl)
theorem dL_law_266 : decode cL_law 266 = .ok (.iload_n 3, 1) := dk_29 (dk_at dksL_law_6 19 rfl rfl)
theorem dL_law_267 : decode cL_law 267 = .ok (.iconst 2, 1) := dk_5 (dk_at dksL_law_6 20 rfl rfl)
theorem dL_law_268 : decode cL_law 268 = .ok (.iadd, 1) := dk_96 (dk_at dksL_law_6 21 rfl rfl)
theorem dL_law_269 : decode cL_law 269 = .ok (.iaload, 1) := dk_46 (dk_at dksL_law_6 22 rfl rfl)
theorem dL_law_270 : decode cL_law 270 = .ok (.invokevirtual 31, 3) := dk_182 0 31 (dk_at dksL_law_7 0 rfl rfl)
theorem dL_law_273 : decode cL_law 273 = .ok (.if_icmp .eq 699, 3) := dk_159 2 187 (dk_at dksL_law_7 3 rfl rfl)
theorem dL_law_276 : decode cL_law 276 = .ok (.iconst 0, 1) := dk_3 (dk_at dksL_law_7 6 rfl rfl)
theorem dL_law_277 : decode cL_law 277 = .ok (.ireturn, 1) := dk_172 (dk_at dksL_law_7 7 rfl rfl)
theorem dL_law_278 : decode cL_law 278 = .ok (.aload_n 1, 1) := dk_43 (dk_at dksL_law_7 8 rfl rfl)
theorem dL_law_279 : decode cL_law 279 = .ok (.aload_n 0, 1) := dk_42 (dk_at dksL_law_7 9 rfl rfl)
theorem dL_law_280 : decode cL_law 280 = .ok (.iload_n 3, 1) := dk_29 (dk_at dksL_law_7 10 rfl rfl)
theorem dL_law_281 : decode cL_law 281 = .ok (.iconst 1, 1) := dk_4 (dk_at dksL_law_7 11 rfl rfl)
theorem dL_law_282 : decode cL_law 282 = .ok (.iadd, 1) := dk_96 (dk_at dksL_law_7 12 rfl rfl)
theorem dL_law_283 : decode cL_law 283 = .ok (.iaload, 1) := dk_46 (dk_at dksL_law_7 13 rfl rfl)
theorem dL_law_284 : decode cL_law 284 = .ok (.aload_n 0, 1) := dk_42 (dk_at dksL_law_7 14 rfl rfl)
theorem dL_law_285 : decode cL_law 285 = .ok (.iload_n 3, 1) := dk_29 (dk_at dksL_law_7 15 rfl rfl)
theorem dL_law_286 : decode cL_law 286 = .ok (.iconst 2, 1) := dk_5 (dk_at dksL_law_7 16 rfl rfl)
theorem dL_law_287 : decode cL_law 287 = .ok (.iadd, 1) := dk_96 (dk_at dksL_law_7 17 rfl rfl)
theorem dL_law_288 : decode cL_law 288 = .ok (.iaload, 1) := dk_46 (dk_at dksL_law_7 18 rfl rfl)
theorem dL_law_289 : decode cL_law 289 = .ok (.invokevirtual 32, 3) := dk_182 0 32 (dk_at dksL_law_7 19 rfl rfl)
theorem dL_law_292 : decode cL_law 292 = .ok (.aload_n 2, 1) := dk_44 (dk_at dksL_law_7 22 rfl rfl)
theorem dL_law_293 : decode cL_law 293 = .ok (.aload_n 0, 1) := dk_42 (dk_at dksL_law_7 23 rfl rfl)
theorem dL_law_294 : decode cL_law 294 = .ok (.iload_n 3, 1) := dk_29 (dk_at dksL_law_8 0 rfl rfl)
theorem dL_law_295 : decode cL_law 295 = .ok (.iconst 1, 1) := dk_4 (dk_at dksL_law_8 1 rfl rfl)
theorem dL_law_296 : decode cL_law 296 = .ok (.iadd, 1) := dk_96 (dk_at dksL_law_8 2 rfl rfl)
theorem dL_law_297 : decode cL_law 297 = .ok (.iaload, 1) := dk_46 (dk_at dksL_law_8 3 rfl rfl)
theorem dL_law_298 : decode cL_law 298 = .ok (.aload_n 0, 1) := dk_42 (dk_at dksL_law_8 4 rfl rfl)
theorem dL_law_299 : decode cL_law 299 = .ok (.iload_n 3, 1) := dk_29 (dk_at dksL_law_8 5 rfl rfl)
theorem dL_law_300 : decode cL_law 300 = .ok (.iconst 2, 1) := dk_5 (dk_at dksL_law_8 6 rfl rfl)
theorem dL_law_301 : decode cL_law 301 = .ok (.iadd, 1) := dk_96 (dk_at dksL_law_8 7 rfl rfl)
theorem dL_law_302 : decode cL_law 302 = .ok (.iaload, 1) := dk_46 (dk_at dksL_law_8 8 rfl rfl)
theorem dL_law_303 : decode cL_law 303 = .ok (.invokevirtual 35, 3) := dk_182 0 35 (dk_at dksL_law_8 9 rfl rfl)
theorem dL_law_306 : decode cL_law 306 = .ok (.if_icmp .eq 666, 3) := dk_159 2 154 (dk_at dksL_law_8 12 rfl rfl)
theorem dL_law_309 : decode cL_law 309 = .ok (.iconst 0, 1) := dk_3 (dk_at dksL_law_8 15 rfl rfl)
theorem dL_law_310 : decode cL_law 310 = .ok (.ireturn, 1) := dk_172 (dk_at dksL_law_8 16 rfl rfl)
theorem dL_law_311 : decode cL_law 311 = .ok (.aload_n 1, 1) := dk_43 (dk_at dksL_law_8 17 rfl rfl)
theorem dL_law_312 : decode cL_law 312 = .ok (.aload_n 0, 1) := dk_42 (dk_at dksL_law_8 18 rfl rfl)
theorem dL_law_313 : decode cL_law 313 = .ok (.iload_n 3, 1) := dk_29 (dk_at dksL_law_8 19 rfl rfl)
theorem dL_law_314 : decode cL_law 314 = .ok (.iconst 1, 1) := dk_4 (dk_at dksL_law_8 20 rfl rfl)
theorem dL_law_315 : decode cL_law 315 = .ok (.iadd, 1) := dk_96 (dk_at dksL_law_8 21 rfl rfl)
theorem dL_law_316 : decode cL_law 316 = .ok (.iaload, 1) := dk_46 (dk_at dksL_law_8 22 rfl rfl)
theorem dL_law_317 : decode cL_law 317 = .ok (.aload_n 0, 1) := dk_42 (dk_at dksL_law_8 23 rfl rfl)
theorem dL_law_318 : decode cL_law 318 = .ok (.iload_n 3, 1) := dk_29 (dk_at dksL_law_9 0 rfl rfl)
theorem dL_law_319 : decode cL_law 319 = .ok (.iconst 2, 1) := dk_5 (dk_at dksL_law_9 1 rfl rfl)
theorem dL_law_320 : decode cL_law 320 = .ok (.iadd, 1) := dk_96 (dk_at dksL_law_9 2 rfl rfl)
theorem dL_law_321 : decode cL_law 321 = .ok (.iaload, 1) := dk_46 (dk_at dksL_law_9 3 rfl rfl)
theorem dL_law_322 : decode cL_law 322 = .ok (.invokevirtual 36, 3) := dk_182 0 36 (dk_at dksL_law_9 4 rfl rfl)
theorem dL_law_325 : decode cL_law 325 = .ok (.aload_n 2, 1) := dk_44 (dk_at dksL_law_9 7 rfl rfl)
theorem dL_law_326 : decode cL_law 326 = .ok (.aload_n 0, 1) := dk_42 (dk_at dksL_law_9 8 rfl rfl)
theorem dL_law_327 : decode cL_law 327 = .ok (.iload_n 3, 1) := dk_29 (dk_at dksL_law_9 9 rfl rfl)
theorem dL_law_328 : decode cL_law 328 = .ok (.iconst 1, 1) := dk_4 (dk_at dksL_law_9 10 rfl rfl)
theorem dL_law_329 : decode cL_law 329 = .ok (.iadd, 1) := dk_96 (dk_at dksL_law_9 11 rfl rfl)
theorem dL_law_330 : decode cL_law 330 = .ok (.iaload, 1) := dk_46 (dk_at dksL_law_9 12 rfl rfl)
theorem dL_law_331 : decode cL_law 331 = .ok (.aload_n 0, 1) := dk_42 (dk_at dksL_law_9 13 rfl rfl)
theorem dL_law_332 : decode cL_law 332 = .ok (.iload_n 3, 1) := dk_29 (dk_at dksL_law_9 14 rfl rfl)
theorem dL_law_333 : decode cL_law 333 = .ok (.iconst 2, 1) := dk_5 (dk_at dksL_law_9 15 rfl rfl)
theorem dL_law_334 : decode cL_law 334 = .ok (.iadd, 1) := dk_96 (dk_at dksL_law_9 16 rfl rfl)
theorem dL_law_335 : decode cL_law 335 = .ok (.iaload, 1) := dk_46 (dk_at dksL_law_9 17 rfl rfl)
theorem dL_law_336 : decode cL_law 336 = .ok (.invokevirtual 39, 3) := dk_182 0 39 (dk_at dksL_law_9 18 rfl rfl)
theorem dL_law_339 : decode cL_law 339 = .ok (.if_icmp .eq 633, 3) := dk_159 2 121 (dk_at dksL_law_9 21 rfl rfl)
theorem dL_law_342 : decode cL_law 342 = .ok (.iconst 0, 1) := dk_3 (dk_at dksL_law_10 0 rfl rfl)
theorem dL_law_343 : decode cL_law 343 = .ok (.ireturn, 1) := dk_172 (dk_at dksL_law_10 1 rfl rfl)
theorem dL_law_344 : decode cL_law 344 = .ok (.aload_n 1, 1) := dk_43 (dk_at dksL_law_10 2 rfl rfl)
theorem dL_law_345 : decode cL_law 345 = .ok (.aload_n 0, 1) := dk_42 (dk_at dksL_law_10 3 rfl rfl)
theorem dL_law_346 : decode cL_law 346 = .ok (.iload_n 3, 1) := dk_29 (dk_at dksL_law_10 4 rfl rfl)
theorem dL_law_347 : decode cL_law 347 = .ok (.iconst 1, 1) := dk_4 (dk_at dksL_law_10 5 rfl rfl)
theorem dL_law_348 : decode cL_law 348 = .ok (.iadd, 1) := dk_96 (dk_at dksL_law_10 6 rfl rfl)
theorem dL_law_349 : decode cL_law 349 = .ok (.iaload, 1) := dk_46 (dk_at dksL_law_10 7 rfl rfl)
theorem dL_law_350 : decode cL_law 350 = .ok (.invokevirtual 40, 3) := dk_182 0 40 (dk_at dksL_law_10 8 rfl rfl)
theorem dL_law_353 : decode cL_law 353 = .ok (.aload_n 2, 1) := dk_44 (dk_at dksL_law_10 11 rfl rfl)
theorem dL_law_354 : decode cL_law 354 = .ok (.aload_n 0, 1) := dk_42 (dk_at dksL_law_10 12 rfl rfl)
theorem dL_law_355 : decode cL_law 355 = .ok (.iload_n 3, 1) := dk_29 (dk_at dksL_law_10 13 rfl rfl)
theorem dL_law_356 : decode cL_law 356 = .ok (.iconst 1, 1) := dk_4 (dk_at dksL_law_10 14 rfl rfl)
theorem dL_law_357 : decode cL_law 357 = .ok (.iadd, 1) := dk_96 (dk_at dksL_law_10 15 rfl rfl)
theorem dL_law_358 : decode cL_law 358 = .ok (.iaload, 1) := dk_46 (dk_at dksL_law_10 16 rfl rfl)
theorem dL_law_359 : decode cL_law 359 = .ok (.invokevirtual 43, 3) := dk_182 0 43 (dk_at dksL_law_10 17 rfl rfl)
theorem dL_law_362 : decode cL_law 362 = .ok (.if_icmp .eq 610, 3) := dk_159 2 98 (dk_at dksL_law_10 20 rfl rfl)
theorem dL_law_365 : decode cL_law 365 = .ok (.iconst 0, 1) := dk_3 (dk_at dksL_law_10 23 rfl rfl)
theorem dL_law_366 : decode cL_law 366 = .ok (.ireturn, 1) := dk_172 (dk_at dksL_law_11 0 rfl rfl)
theorem dL_law_367 : decode cL_law 367 = .ok (.aload_n 1, 1) := dk_43 (dk_at dksL_law_11 1 rfl rfl)
theorem dL_law_368 : decode cL_law 368 = .ok (.aload_n 0, 1) := dk_42 (dk_at dksL_law_11 2 rfl rfl)
theorem dL_law_369 : decode cL_law 369 = .ok (.iload_n 3, 1) := dk_29 (dk_at dksL_law_11 3 rfl rfl)
theorem dL_law_370 : decode cL_law 370 = .ok (.iconst 1, 1) := dk_4 (dk_at dksL_law_11 4 rfl rfl)
theorem dL_law_371 : decode cL_law 371 = .ok (.iadd, 1) := dk_96 (dk_at dksL_law_11 5 rfl rfl)
theorem dL_law_372 : decode cL_law 372 = .ok (.iaload, 1) := dk_46 (dk_at dksL_law_11 6 rfl rfl)
theorem dL_law_373 : decode cL_law 373 = .ok (.invokevirtual 44, 3) := dk_182 0 44 (dk_at dksL_law_11 7 rfl rfl)
theorem dL_law_376 : decode cL_law 376 = .ok (.aload_n 2, 1) := dk_44 (dk_at dksL_law_11 10 rfl rfl)
theorem dL_law_377 : decode cL_law 377 = .ok (.aload_n 0, 1) := dk_42 (dk_at dksL_law_11 11 rfl rfl)
theorem dL_law_378 : decode cL_law 378 = .ok (.iload_n 3, 1) := dk_29 (dk_at dksL_law_11 12 rfl rfl)
theorem dL_law_379 : decode cL_law 379 = .ok (.iconst 1, 1) := dk_4 (dk_at dksL_law_11 13 rfl rfl)
theorem dL_law_380 : decode cL_law 380 = .ok (.iadd, 1) := dk_96 (dk_at dksL_law_11 14 rfl rfl)
theorem dL_law_381 : decode cL_law 381 = .ok (.iaload, 1) := dk_46 (dk_at dksL_law_11 15 rfl rfl)
theorem dL_law_382 : decode cL_law 382 = .ok (.invokevirtual 47, 3) := dk_182 0 47 (dk_at dksL_law_11 16 rfl rfl)
theorem dL_law_385 : decode cL_law 385 = .ok (.if_icmp .eq 587, 3) := dk_159 2 75 (dk_at dksL_law_11 19 rfl rfl)
theorem dL_law_388 : decode cL_law 388 = .ok (.iconst 0, 1) := dk_3 (dk_at dksL_law_11 22 rfl rfl)
theorem dL_law_389 : decode cL_law 389 = .ok (.ireturn, 1) := dk_172 (dk_at dksL_law_11 23 rfl rfl)
theorem dL_law_390 : decode cL_law 390 = .ok (.aload_n 1, 1) := dk_43 (dk_at dksL_law_12 0 rfl rfl)
theorem dL_law_391 : decode cL_law 391 = .ok (.aload_n 0, 1) := dk_42 (dk_at dksL_law_12 1 rfl rfl)
theorem dL_law_392 : decode cL_law 392 = .ok (.iload_n 3, 1) := dk_29 (dk_at dksL_law_12 2 rfl rfl)
theorem dL_law_393 : decode cL_law 393 = .ok (.iconst 1, 1) := dk_4 (dk_at dksL_law_12 3 rfl rfl)
theorem dL_law_394 : decode cL_law 394 = .ok (.iadd, 1) := dk_96 (dk_at dksL_law_12 4 rfl rfl)
theorem dL_law_395 : decode cL_law 395 = .ok (.iaload, 1) := dk_46 (dk_at dksL_law_12 5 rfl rfl)
theorem dL_law_396 : decode cL_law 396 = .ok (.invokevirtual 48, 3) := dk_182 0 48 (dk_at dksL_law_12 6 rfl rfl)
theorem dL_law_399 : decode cL_law 399 = .ok (.aload_n 2, 1) := dk_44 (dk_at dksL_law_12 9 rfl rfl)
theorem dL_law_400 : decode cL_law 400 = .ok (.aload_n 0, 1) := dk_42 (dk_at dksL_law_12 10 rfl rfl)
theorem dL_law_401 : decode cL_law 401 = .ok (.iload_n 3, 1) := dk_29 (dk_at dksL_law_12 11 rfl rfl)
theorem dL_law_402 : decode cL_law 402 = .ok (.iconst 1, 1) := dk_4 (dk_at dksL_law_12 12 rfl rfl)
theorem dL_law_403 : decode cL_law 403 = .ok (.iadd, 1) := dk_96 (dk_at dksL_law_12 13 rfl rfl)
theorem dL_law_404 : decode cL_law 404 = .ok (.iaload, 1) := dk_46 (dk_at dksL_law_12 14 rfl rfl)
theorem dL_law_405 : decode cL_law 405 = .ok (.invokevirtual 51, 3) := dk_182 0 51 (dk_at dksL_law_12 15 rfl rfl)
theorem dL_law_408 : decode cL_law 408 = .ok (.if_icmp .eq 564, 3) := dk_159 2 52 (dk_at dksL_law_12 18 rfl rfl)
theorem dL_law_411 : decode cL_law 411 = .ok (.iconst 0, 1) := dk_3 (dk_at dksL_law_12 21 rfl rfl)
theorem dL_law_412 : decode cL_law 412 = .ok (.ireturn, 1) := dk_172 (dk_at dksL_law_12 22 rfl rfl)
theorem dL_law_413 : decode cL_law 413 = .ok (.aload_n 1, 1) := dk_43 (dk_at dksL_law_12 23 rfl rfl)
theorem dL_law_414 : decode cL_law 414 = .ok (.aload_n 0, 1) := dk_42 (dk_at dksL_law_13 0 rfl rfl)
theorem dL_law_415 : decode cL_law 415 = .ok (.iload_n 3, 1) := dk_29 (dk_at dksL_law_13 1 rfl rfl)
theorem dL_law_416 : decode cL_law 416 = .ok (.iconst 1, 1) := dk_4 (dk_at dksL_law_13 2 rfl rfl)
theorem dL_law_417 : decode cL_law 417 = .ok (.iadd, 1) := dk_96 (dk_at dksL_law_13 3 rfl rfl)
theorem dL_law_418 : decode cL_law 418 = .ok (.iaload, 1) := dk_46 (dk_at dksL_law_13 4 rfl rfl)
theorem dL_law_419 : decode cL_law 419 = .ok (.invokevirtual 52, 3) := dk_182 0 52 (dk_at dksL_law_13 5 rfl rfl)
theorem dL_law_422 : decode cL_law 422 = .ok (.aload_n 2, 1) := dk_44 (dk_at dksL_law_13 8 rfl rfl)
theorem dL_law_423 : decode cL_law 423 = .ok (.aload_n 0, 1) := dk_42 (dk_at dksL_law_13 9 rfl rfl)
theorem dL_law_424 : decode cL_law 424 = .ok (.iload_n 3, 1) := dk_29 (dk_at dksL_law_13 10 rfl rfl)
theorem dL_law_425 : decode cL_law 425 = .ok (.iconst 1, 1) := dk_4 (dk_at dksL_law_13 11 rfl rfl)
theorem dL_law_426 : decode cL_law 426 = .ok (.iadd, 1) := dk_96 (dk_at dksL_law_13 12 rfl rfl)
theorem dL_law_427 : decode cL_law 427 = .ok (.iaload, 1) := dk_46 (dk_at dksL_law_13 13 rfl rfl)
theorem dL_law_428 : decode cL_law 428 = .ok (.invokevirtual 55, 3) := dk_182 0 55 (dk_at dksL_law_13 14 rfl rfl)
theorem dL_law_431 : decode cL_law 431 = .ok (.if_icmp .eq 541, 3) := dk_159 2 29 (dk_at dksL_law_13 17 rfl rfl)
theorem dL_law_434 : decode cL_law 434 = .ok (.iconst 0, 1) := dk_3 (dk_at dksL_law_13 20 rfl rfl)
theorem dL_law_435 : decode cL_law 435 = .ok (.ireturn, 1) := dk_172 (dk_at dksL_law_13 21 rfl rfl)
theorem dL_law_436 : decode cL_law 436 = .ok (.aload_n 1, 1) := dk_43 (dk_at dksL_law_13 22 rfl rfl)
theorem dL_law_437 : decode cL_law 437 = .ok (.aload_n 0, 1) := dk_42 (dk_at dksL_law_13 23 rfl rfl)
theorem dL_law_438 : decode cL_law 438 = .ok (.iload_n 3, 1) := dk_29 (dk_at dksL_law_14 0 rfl rfl)
theorem dL_law_439 : decode cL_law 439 = .ok (.iconst 1, 1) := dk_4 (dk_at dksL_law_14 1 rfl rfl)
theorem dL_law_440 : decode cL_law 440 = .ok (.iadd, 1) := dk_96 (dk_at dksL_law_14 2 rfl rfl)
theorem dL_law_441 : decode cL_law 441 = .ok (.iaload, 1) := dk_46 (dk_at dksL_law_14 3 rfl rfl)
theorem dL_law_442 : decode cL_law 442 = .ok (.invokevirtual 56, 3) := dk_182 0 56 (dk_at dksL_law_14 4 rfl rfl)
theorem dL_law_445 : decode cL_law 445 = .ok (.aload_n 2, 1) := dk_44 (dk_at dksL_law_14 7 rfl rfl)
theorem dL_law_446 : decode cL_law 446 = .ok (.aload_n 0, 1) := dk_42 (dk_at dksL_law_14 8 rfl rfl)
theorem dL_law_447 : decode cL_law 447 = .ok (.iload_n 3, 1) := dk_29 (dk_at dksL_law_14 9 rfl rfl)
theorem dL_law_448 : decode cL_law 448 = .ok (.iconst 1, 1) := dk_4 (dk_at dksL_law_14 10 rfl rfl)
theorem dL_law_449 : decode cL_law 449 = .ok (.iadd, 1) := dk_96 (dk_at dksL_law_14 11 rfl rfl)
theorem dL_law_450 : decode cL_law 450 = .ok (.iaload, 1) := dk_46 (dk_at dksL_law_14 12 rfl rfl)
theorem dL_law_451 : decode cL_law 451 = .ok (.invokevirtual 59, 3) := dk_182 0 59 (dk_at dksL_law_14 13 rfl rfl)
theorem dL_law_454 : decode cL_law 454 = .ok (.if_icmp .eq 518, 3) := dk_159 2 6 (dk_at dksL_law_14 16 rfl rfl)
theorem dL_law_457 : decode cL_law 457 = .ok (.iconst 0, 1) := dk_3 (dk_at dksL_law_14 19 rfl rfl)
theorem dL_law_458 : decode cL_law 458 = .ok (.ireturn, 1) := dk_172 (dk_at dksL_law_14 20 rfl rfl)
theorem dL_law_459 : decode cL_law 459 = .ok (.aload_n 1, 1) := dk_43 (dk_at dksL_law_14 21 rfl rfl)
theorem dL_law_460 : decode cL_law 460 = .ok (.aload_n 0, 1) := dk_42 (dk_at dksL_law_14 22 rfl rfl)
theorem dL_law_461 : decode cL_law 461 = .ok (.iload_n 3, 1) := dk_29 (dk_at dksL_law_14 23 rfl rfl)
theorem dL_law_462 : decode cL_law 462 = .ok (.iconst 1, 1) := dk_4 (dk_at dksL_law_15 0 rfl rfl)
theorem dL_law_463 : decode cL_law 463 = .ok (.iadd, 1) := dk_96 (dk_at dksL_law_15 1 rfl rfl)
theorem dL_law_464 : decode cL_law 464 = .ok (.iaload, 1) := dk_46 (dk_at dksL_law_15 2 rfl rfl)
theorem dL_law_465 : decode cL_law 465 = .ok (.aload_n 0, 1) := dk_42 (dk_at dksL_law_15 3 rfl rfl)
theorem dL_law_466 : decode cL_law 466 = .ok (.iload_n 3, 1) := dk_29 (dk_at dksL_law_15 4 rfl rfl)
theorem dL_law_467 : decode cL_law 467 = .ok (.iconst 2, 1) := dk_5 (dk_at dksL_law_15 5 rfl rfl)
theorem dL_law_468 : decode cL_law 468 = .ok (.iadd, 1) := dk_96 (dk_at dksL_law_15 6 rfl rfl)
theorem dL_law_469 : decode cL_law 469 = .ok (.iaload, 1) := dk_46 (dk_at dksL_law_15 7 rfl rfl)
theorem dL_law_470 : decode cL_law 470 = .ok (.invokevirtual 60, 3) := dk_182 0 60 (dk_at dksL_law_15 8 rfl rfl)
theorem dL_law_473 : decode cL_law 473 = .ok (.aload_n 2, 1) := dk_44 (dk_at dksL_law_15 11 rfl rfl)
theorem dL_law_474 : decode cL_law 474 = .ok (.aload_n 0, 1) := dk_42 (dk_at dksL_law_15 12 rfl rfl)
theorem dL_law_475 : decode cL_law 475 = .ok (.iload_n 3, 1) := dk_29 (dk_at dksL_law_15 13 rfl rfl)
theorem dL_law_476 : decode cL_law 476 = .ok (.iconst 1, 1) := dk_4 (dk_at dksL_law_15 14 rfl rfl)
theorem dL_law_477 : decode cL_law 477 = .ok (.iadd, 1) := dk_96 (dk_at dksL_law_15 15 rfl rfl)
theorem dL_law_478 : decode cL_law 478 = .ok (.iaload, 1) := dk_46 (dk_at dksL_law_15 16 rfl rfl)
theorem dL_law_479 : decode cL_law 479 = .ok (.aload_n 0, 1) := dk_42 (dk_at dksL_law_15 17 rfl rfl)
theorem dL_law_480 : decode cL_law 480 = .ok (.iload_n 3, 1) := dk_29 (dk_at dksL_law_15 18 rfl rfl)
theorem dL_law_481 : decode cL_law 481 = .ok (.iconst 2, 1) := dk_5 (dk_at dksL_law_15 19 rfl rfl)
theorem dL_law_482 : decode cL_law 482 = .ok (.iadd, 1) := dk_96 (dk_at dksL_law_15 20 rfl rfl)
theorem dL_law_483 : decode cL_law 483 = .ok (.iaload, 1) := dk_46 (dk_at dksL_law_15 21 rfl rfl)
theorem dL_law_484 : decode cL_law 484 = .ok (.invokevirtual 63, 3) := dk_182 0 63 (dk_at dksL_law_16 0 rfl rfl)
theorem dL_law_487 : decode cL_law 487 = .ok (.if_icmp .eq 485, 3) := dk_159 1 229 (dk_at dksL_law_16 3 rfl rfl)
theorem dL_law_490 : decode cL_law 490 = .ok (.iconst 0, 1) := dk_3 (dk_at dksL_law_16 6 rfl rfl)
theorem dL_law_491 : decode cL_law 491 = .ok (.ireturn, 1) := dk_172 (dk_at dksL_law_16 7 rfl rfl)
theorem dL_law_492 : decode cL_law 492 = .ok (.aload_n 1, 1) := dk_43 (dk_at dksL_law_16 8 rfl rfl)
theorem dL_law_493 : decode cL_law 493 = .ok (.aload_n 0, 1) := dk_42 (dk_at dksL_law_16 9 rfl rfl)
theorem dL_law_494 : decode cL_law 494 = .ok (.iload_n 3, 1) := dk_29 (dk_at dksL_law_16 10 rfl rfl)
theorem dL_law_495 : decode cL_law 495 = .ok (.iconst 1, 1) := dk_4 (dk_at dksL_law_16 11 rfl rfl)
theorem dL_law_496 : decode cL_law 496 = .ok (.iadd, 1) := dk_96 (dk_at dksL_law_16 12 rfl rfl)
theorem dL_law_497 : decode cL_law 497 = .ok (.iaload, 1) := dk_46 (dk_at dksL_law_16 13 rfl rfl)
theorem dL_law_498 : decode cL_law 498 = .ok (.invokevirtual 64, 3) := dk_182 0 64 (dk_at dksL_law_16 14 rfl rfl)
theorem dL_law_501 : decode cL_law 501 = .ok (.aload_n 2, 1) := dk_44 (dk_at dksL_law_16 17 rfl rfl)
theorem dL_law_502 : decode cL_law 502 = .ok (.aload_n 0, 1) := dk_42 (dk_at dksL_law_16 18 rfl rfl)
theorem dL_law_503 : decode cL_law 503 = .ok (.iload_n 3, 1) := dk_29 (dk_at dksL_law_16 19 rfl rfl)
theorem dL_law_504 : decode cL_law 504 = .ok (.iconst 1, 1) := dk_4 (dk_at dksL_law_16 20 rfl rfl)
theorem dL_law_505 : decode cL_law 505 = .ok (.iadd, 1) := dk_96 (dk_at dksL_law_16 21 rfl rfl)
theorem dL_law_506 : decode cL_law 506 = .ok (.iaload, 1) := dk_46 (dk_at dksL_law_16 22 rfl rfl)
theorem dL_law_507 : decode cL_law 507 = .ok (.invokevirtual 67, 3) := dk_182 0 67 (dk_at dksL_law_17 0 rfl rfl)
theorem dL_law_510 : decode cL_law 510 = .ok (.if_icmp .eq 462, 3) := dk_159 1 206 (dk_at dksL_law_17 3 rfl rfl)
theorem dL_law_513 : decode cL_law 513 = .ok (.iconst 0, 1) := dk_3 (dk_at dksL_law_17 6 rfl rfl)
theorem dL_law_514 : decode cL_law 514 = .ok (.ireturn, 1) := dk_172 (dk_at dksL_law_17 7 rfl rfl)
theorem dL_law_515 : decode cL_law 515 = .ok (.aload_n 1, 1) := dk_43 (dk_at dksL_law_17 8 rfl rfl)
theorem dL_law_516 : decode cL_law 516 = .ok (.invokevirtual 68, 3) := dk_182 0 68 (dk_at dksL_law_17 9 rfl rfl)
theorem dL_law_519 : decode cL_law 519 = .ok (.aload_n 2, 1) := dk_44 (dk_at dksL_law_17 12 rfl rfl)
theorem dL_law_520 : decode cL_law 520 = .ok (.invokevirtual 71, 3) := dk_182 0 71 (dk_at dksL_law_17 13 rfl rfl)
theorem dL_law_523 : decode cL_law 523 = .ok (.if_icmp .eq 449, 3) := dk_159 1 193 (dk_at dksL_law_17 16 rfl rfl)
theorem dL_law_526 : decode cL_law 526 = .ok (.iconst 0, 1) := dk_3 (dk_at dksL_law_17 19 rfl rfl)
theorem dL_law_527 : decode cL_law 527 = .ok (.ireturn, 1) := dk_172 (dk_at dksL_law_17 20 rfl rfl)
theorem dL_law_528 : decode cL_law 528 = .ok (.aload_n 1, 1) := dk_43 (dk_at dksL_law_17 21 rfl rfl)
theorem dL_law_529 : decode cL_law 529 = .ok (.invokevirtual 72, 3) := dk_182 0 72 (dk_at dksL_law_18 0 rfl rfl)
theorem dL_law_532 : decode cL_law 532 = .ok (.aload_n 2, 1) := dk_44 (dk_at dksL_law_18 3 rfl rfl)
theorem dL_law_533 : decode cL_law 533 = .ok (.invokevirtual 75, 3) := dk_182 0 75 (dk_at dksL_law_18 4 rfl rfl)
theorem dL_law_536 : decode cL_law 536 = .ok (.if_icmp .eq 436, 3) := dk_159 1 180 (dk_at dksL_law_18 7 rfl rfl)
theorem dL_law_539 : decode cL_law 539 = .ok (.iconst 0, 1) := dk_3 (dk_at dksL_law_18 10 rfl rfl)
theorem dL_law_540 : decode cL_law 540 = .ok (.ireturn, 1) := dk_172 (dk_at dksL_law_18 11 rfl rfl)
theorem dL_law_541 : decode cL_law 541 = .ok (.aload_n 1, 1) := dk_43 (dk_at dksL_law_18 12 rfl rfl)
theorem dL_law_542 : decode cL_law 542 = .ok (.aload_n 0, 1) := dk_42 (dk_at dksL_law_18 13 rfl rfl)
theorem dL_law_543 : decode cL_law 543 = .ok (.iload_n 3, 1) := dk_29 (dk_at dksL_law_18 14 rfl rfl)
theorem dL_law_544 : decode cL_law 544 = .ok (.iconst 1, 1) := dk_4 (dk_at dksL_law_18 15 rfl rfl)
theorem dL_law_545 : decode cL_law 545 = .ok (.iadd, 1) := dk_96 (dk_at dksL_law_18 16 rfl rfl)
theorem dL_law_546 : decode cL_law 546 = .ok (.iaload, 1) := dk_46 (dk_at dksL_law_18 17 rfl rfl)
theorem dL_law_547 : decode cL_law 547 = .ok (.aload_n 0, 1) := dk_42 (dk_at dksL_law_18 18 rfl rfl)
theorem dL_law_548 : decode cL_law 548 = .ok (.iload_n 3, 1) := dk_29 (dk_at dksL_law_18 19 rfl rfl)
theorem dL_law_549 : decode cL_law 549 = .ok (.iconst 2, 1) := dk_5 (dk_at dksL_law_18 20 rfl rfl)
theorem dL_law_550 : decode cL_law 550 = .ok (.iadd, 1) := dk_96 (dk_at dksL_law_18 21 rfl rfl)
theorem dL_law_551 : decode cL_law 551 = .ok (.iaload, 1) := dk_46 (dk_at dksL_law_18 22 rfl rfl)
theorem dL_law_552 : decode cL_law 552 = .ok (.aload_n 0, 1) := dk_42 (dk_at dksL_law_18 23 rfl rfl)
theorem dL_law_553 : decode cL_law 553 = .ok (.iload_n 3, 1) := dk_29 (dk_at dksL_law_19 0 rfl rfl)
theorem dL_law_554 : decode cL_law 554 = .ok (.iconst 3, 1) := dk_6 (dk_at dksL_law_19 1 rfl rfl)
theorem dL_law_555 : decode cL_law 555 = .ok (.iadd, 1) := dk_96 (dk_at dksL_law_19 2 rfl rfl)
theorem dL_law_556 : decode cL_law 556 = .ok (.iaload, 1) := dk_46 (dk_at dksL_law_19 3 rfl rfl)
theorem dL_law_557 : decode cL_law 557 = .ok (.invokevirtual 76, 3) := dk_182 0 76 (dk_at dksL_law_19 4 rfl rfl)
theorem dL_law_560 : decode cL_law 560 = .ok (.aload_n 2, 1) := dk_44 (dk_at dksL_law_19 7 rfl rfl)
theorem dL_law_561 : decode cL_law 561 = .ok (.aload_n 0, 1) := dk_42 (dk_at dksL_law_19 8 rfl rfl)
theorem dL_law_562 : decode cL_law 562 = .ok (.iload_n 3, 1) := dk_29 (dk_at dksL_law_19 9 rfl rfl)
theorem dL_law_563 : decode cL_law 563 = .ok (.iconst 1, 1) := dk_4 (dk_at dksL_law_19 10 rfl rfl)
theorem dL_law_564 : decode cL_law 564 = .ok (.iadd, 1) := dk_96 (dk_at dksL_law_19 11 rfl rfl)
theorem dL_law_565 : decode cL_law 565 = .ok (.iaload, 1) := dk_46 (dk_at dksL_law_19 12 rfl rfl)
theorem dL_law_566 : decode cL_law 566 = .ok (.aload_n 0, 1) := dk_42 (dk_at dksL_law_19 13 rfl rfl)
theorem dL_law_567 : decode cL_law 567 = .ok (.iload_n 3, 1) := dk_29 (dk_at dksL_law_19 14 rfl rfl)
theorem dL_law_568 : decode cL_law 568 = .ok (.iconst 2, 1) := dk_5 (dk_at dksL_law_19 15 rfl rfl)
theorem dL_law_569 : decode cL_law 569 = .ok (.iadd, 1) := dk_96 (dk_at dksL_law_19 16 rfl rfl)
theorem dL_law_570 : decode cL_law 570 = .ok (.iaload, 1) := dk_46 (dk_at dksL_law_19 17 rfl rfl)
theorem dL_law_571 : decode cL_law 571 = .ok (.aload_n 0, 1) := dk_42 (dk_at dksL_law_19 18 rfl rfl)
theorem dL_law_572 : decode cL_law 572 = .ok (.iload_n 3, 1) := dk_29 (dk_at dksL_law_19 19 rfl rfl)
theorem dL_law_573 : decode cL_law 573 = .ok (.iconst 3, 1) := dk_6 (dk_at dksL_law_19 20 rfl rfl)
theorem dL_law_574 : decode cL_law 574 = .ok (.iadd, 1) := dk_96 (dk_at dksL_law_19 21 rfl rfl)
theorem dL_law_575 : decode cL_law 575 = .ok (.iaload, 1) := dk_46 (dk_at dksL_law_19 22 rfl rfl)
theorem dL_law_576 : decode cL_law 576 = .ok (.invokevirtual 80, 3) := dk_182 0 80 (dk_at dksL_law_20 0 rfl rfl)
theorem dL_law_579 : decode cL_law 579 = .ok (.if_icmp .eq 393, 3) := dk_159 1 137 (dk_at dksL_law_20 3 rfl rfl)
theorem dL_law_582 : decode cL_law 582 = .ok (.iconst 0, 1) := dk_3 (dk_at dksL_law_20 6 rfl rfl)
theorem dL_law_583 : decode cL_law 583 = .ok (.ireturn, 1) := dk_172 (dk_at dksL_law_20 7 rfl rfl)
theorem dL_law_584 : decode cL_law 584 = .ok (.aload_n 1, 1) := dk_43 (dk_at dksL_law_20 8 rfl rfl)
theorem dL_law_585 : decode cL_law 585 = .ok (.aload_n 0, 1) := dk_42 (dk_at dksL_law_20 9 rfl rfl)
theorem dL_law_586 : decode cL_law 586 = .ok (.iload_n 3, 1) := dk_29 (dk_at dksL_law_20 10 rfl rfl)
theorem dL_law_587 : decode cL_law 587 = .ok (.iconst 1, 1) := dk_4 (dk_at dksL_law_20 11 rfl rfl)
theorem dL_law_588 : decode cL_law 588 = .ok (.iadd, 1) := dk_96 (dk_at dksL_law_20 12 rfl rfl)
theorem dL_law_589 : decode cL_law 589 = .ok (.iaload, 1) := dk_46 (dk_at dksL_law_20 13 rfl rfl)
theorem dL_law_590 : decode cL_law 590 = .ok (.aload_n 0, 1) := dk_42 (dk_at dksL_law_20 14 rfl rfl)
theorem dL_law_591 : decode cL_law 591 = .ok (.iload_n 3, 1) := dk_29 (dk_at dksL_law_20 15 rfl rfl)
theorem dL_law_592 : decode cL_law 592 = .ok (.iconst 2, 1) := dk_5 (dk_at dksL_law_20 16 rfl rfl)
theorem dL_law_593 : decode cL_law 593 = .ok (.iadd, 1) := dk_96 (dk_at dksL_law_20 17 rfl rfl)
theorem dL_law_594 : decode cL_law 594 = .ok (.iaload, 1) := dk_46 (dk_at dksL_law_20 18 rfl rfl)
theorem dL_law_595 : decode cL_law 595 = .ok (.invokevirtual 81, 3) := dk_182 0 81 (dk_at dksL_law_20 19 rfl rfl)
theorem dL_law_598 : decode cL_law 598 = .ok (.aload_n 2, 1) := dk_44 (dk_at dksL_law_20 22 rfl rfl)
theorem dL_law_599 : decode cL_law 599 = .ok (.aload_n 0, 1) := dk_42 (dk_at dksL_law_20 23 rfl rfl)
theorem dL_law_600 : decode cL_law 600 = .ok (.iload_n 3, 1) := dk_29 (dk_at dksL_law_21 0 rfl rfl)
theorem dL_law_601 : decode cL_law 601 = .ok (.iconst 1, 1) := dk_4 (dk_at dksL_law_21 1 rfl rfl)
theorem dL_law_602 : decode cL_law 602 = .ok (.iadd, 1) := dk_96 (dk_at dksL_law_21 2 rfl rfl)
theorem dL_law_603 : decode cL_law 603 = .ok (.iaload, 1) := dk_46 (dk_at dksL_law_21 3 rfl rfl)
theorem dL_law_604 : decode cL_law 604 = .ok (.aload_n 0, 1) := dk_42 (dk_at dksL_law_21 4 rfl rfl)
theorem dL_law_605 : decode cL_law 605 = .ok (.iload_n 3, 1) := dk_29 (dk_at dksL_law_21 5 rfl rfl)
theorem dL_law_606 : decode cL_law 606 = .ok (.iconst 2, 1) := dk_5 (dk_at dksL_law_21 6 rfl rfl)
theorem dL_law_607 : decode cL_law 607 = .ok (.iadd, 1) := dk_96 (dk_at dksL_law_21 7 rfl rfl)
theorem dL_law_608 : decode cL_law 608 = .ok (.iaload, 1) := dk_46 (dk_at dksL_law_21 8 rfl rfl)
theorem dL_law_609 : decode cL_law 609 = .ok (.invokevirtual 84, 3) := dk_182 0 84 (dk_at dksL_law_21 9 rfl rfl)
theorem dL_law_612 : decode cL_law 612 = .ok (.if_icmp .eq 360, 3) := dk_159 1 104 (dk_at dksL_law_21 12 rfl rfl)
theorem dL_law_615 : decode cL_law 615 = .ok (.iconst 0, 1) := dk_3 (dk_at dksL_law_21 15 rfl rfl)
theorem dL_law_616 : decode cL_law 616 = .ok (.ireturn, 1) := dk_172 (dk_at dksL_law_21 16 rfl rfl)
theorem dL_law_617 : decode cL_law 617 = .ok (.aload_n 1, 1) := dk_43 (dk_at dksL_law_21 17 rfl rfl)
theorem dL_law_618 : decode cL_law 618 = .ok (.invokevirtual 85, 3) := dk_182 0 85 (dk_at dksL_law_21 18 rfl rfl)
theorem dL_law_621 : decode cL_law 621 = .ok (.aload_n 2, 1) := dk_44 (dk_at dksL_law_21 21 rfl rfl)
theorem dL_law_622 : decode cL_law 622 = .ok (.invokevirtual 88, 3) := dk_182 0 88 (dk_at dksL_law_22 0 rfl rfl)
theorem dL_law_625 : decode cL_law 625 = .ok (.if_icmp .eq 347, 3) := dk_159 1 91 (dk_at dksL_law_22 3 rfl rfl)
theorem dL_law_628 : decode cL_law 628 = .ok (.iconst 0, 1) := dk_3 (dk_at dksL_law_22 6 rfl rfl)
theorem dL_law_629 : decode cL_law 629 = .ok (.ireturn, 1) := dk_172 (dk_at dksL_law_22 7 rfl rfl)
theorem dL_law_630 : decode cL_law 630 = .ok (.aload_n 1, 1) := dk_43 (dk_at dksL_law_22 8 rfl rfl)
theorem dL_law_631 : decode cL_law 631 = .ok (.invokevirtual 89, 3) := dk_182 0 89 (dk_at dksL_law_22 9 rfl rfl)
theorem dL_law_634 : decode cL_law 634 = .ok (.aload_n 2, 1) := dk_44 (dk_at dksL_law_22 12 rfl rfl)
theorem dL_law_635 : decode cL_law 635 = .ok (.invokevirtual 92, 3) := dk_182 0 92 (dk_at dksL_law_22 13 rfl rfl)
theorem dL_law_638 : decode cL_law 638 = .ok (.if_icmp .eq 334, 3) := dk_159 1 78 (dk_at dksL_law_22 16 rfl rfl)
theorem dL_law_641 : decode cL_law 641 = .ok (.iconst 0, 1) := dk_3 (dk_at dksL_law_22 19 rfl rfl)
theorem dL_law_642 : decode cL_law 642 = .ok (.ireturn, 1) := dk_172 (dk_at dksL_law_22 20 rfl rfl)
theorem dL_law_643 : decode cL_law 643 = .ok (.aload_n 1, 1) := dk_43 (dk_at dksL_law_22 21 rfl rfl)
theorem dL_law_644 : decode cL_law 644 = .ok (.aload_n 0, 1) := dk_42 (dk_at dksL_law_22 22 rfl rfl)
theorem dL_law_645 : decode cL_law 645 = .ok (.iload_n 3, 1) := dk_29 (dk_at dksL_law_22 23 rfl rfl)
theorem dL_law_646 : decode cL_law 646 = .ok (.iconst 1, 1) := dk_4 (dk_at dksL_law_23 0 rfl rfl)
theorem dL_law_647 : decode cL_law 647 = .ok (.iadd, 1) := dk_96 (dk_at dksL_law_23 1 rfl rfl)
theorem dL_law_648 : decode cL_law 648 = .ok (.iaload, 1) := dk_46 (dk_at dksL_law_23 2 rfl rfl)
theorem dL_law_649 : decode cL_law 649 = .ok (.invokevirtual 93, 3) := dk_182 0 93 (dk_at dksL_law_23 3 rfl rfl)
theorem dL_law_652 : decode cL_law 652 = .ok (.aload_n 2, 1) := dk_44 (dk_at dksL_law_23 6 rfl rfl)
theorem dL_law_653 : decode cL_law 653 = .ok (.aload_n 0, 1) := dk_42 (dk_at dksL_law_23 7 rfl rfl)
theorem dL_law_654 : decode cL_law 654 = .ok (.iload_n 3, 1) := dk_29 (dk_at dksL_law_23 8 rfl rfl)
theorem dL_law_655 : decode cL_law 655 = .ok (.iconst 1, 1) := dk_4 (dk_at dksL_law_23 9 rfl rfl)
theorem dL_law_656 : decode cL_law 656 = .ok (.iadd, 1) := dk_96 (dk_at dksL_law_23 10 rfl rfl)
theorem dL_law_657 : decode cL_law 657 = .ok (.iaload, 1) := dk_46 (dk_at dksL_law_23 11 rfl rfl)
theorem dL_law_658 : decode cL_law 658 = .ok (.invokevirtual 96, 3) := dk_182 0 96 (dk_at dksL_law_23 12 rfl rfl)
theorem dL_law_661 : decode cL_law 661 = .ok (.if_icmp .eq 311, 3) := dk_159 1 55 (dk_at dksL_law_23 15 rfl rfl)
theorem dL_law_664 : decode cL_law 664 = .ok (.iconst 0, 1) := dk_3 (dk_at dksL_law_23 18 rfl rfl)
theorem dL_law_665 : decode cL_law 665 = .ok (.ireturn, 1) := dk_172 (dk_at dksL_law_23 19 rfl rfl)
theorem dL_law_666 : decode cL_law 666 = .ok (.aload_n 1, 1) := dk_43 (dk_at dksL_law_23 20 rfl rfl)
theorem dL_law_667 : decode cL_law 667 = .ok (.aload_n 0, 1) := dk_42 (dk_at dksL_law_23 21 rfl rfl)
theorem dL_law_668 : decode cL_law 668 = .ok (.iload_n 3, 1) := dk_29 (dk_at dksL_law_23 22 rfl rfl)
theorem dL_law_669 : decode cL_law 669 = .ok (.iconst 1, 1) := dk_4 (dk_at dksL_law_23 23 rfl rfl)
theorem dL_law_670 : decode cL_law 670 = .ok (.iadd, 1) := dk_96 (dk_at dksL_law_24 0 rfl rfl)
theorem dL_law_671 : decode cL_law 671 = .ok (.iaload, 1) := dk_46 (dk_at dksL_law_24 1 rfl rfl)
theorem dL_law_672 : decode cL_law 672 = .ok (.aload_n 0, 1) := dk_42 (dk_at dksL_law_24 2 rfl rfl)
theorem dL_law_673 : decode cL_law 673 = .ok (.iload_n 3, 1) := dk_29 (dk_at dksL_law_24 3 rfl rfl)
theorem dL_law_674 : decode cL_law 674 = .ok (.iconst 2, 1) := dk_5 (dk_at dksL_law_24 4 rfl rfl)
theorem dL_law_675 : decode cL_law 675 = .ok (.iadd, 1) := dk_96 (dk_at dksL_law_24 5 rfl rfl)
theorem dL_law_676 : decode cL_law 676 = .ok (.iaload, 1) := dk_46 (dk_at dksL_law_24 6 rfl rfl)
theorem dL_law_677 : decode cL_law 677 = .ok (.invokevirtual 97, 3) := dk_182 0 97 (dk_at dksL_law_24 7 rfl rfl)
theorem dL_law_680 : decode cL_law 680 = .ok (.aload_n 2, 1) := dk_44 (dk_at dksL_law_24 10 rfl rfl)
theorem dL_law_681 : decode cL_law 681 = .ok (.aload_n 0, 1) := dk_42 (dk_at dksL_law_24 11 rfl rfl)
theorem dL_law_682 : decode cL_law 682 = .ok (.iload_n 3, 1) := dk_29 (dk_at dksL_law_24 12 rfl rfl)
theorem dL_law_683 : decode cL_law 683 = .ok (.iconst 1, 1) := dk_4 (dk_at dksL_law_24 13 rfl rfl)
theorem dL_law_684 : decode cL_law 684 = .ok (.iadd, 1) := dk_96 (dk_at dksL_law_24 14 rfl rfl)
theorem dL_law_685 : decode cL_law 685 = .ok (.iaload, 1) := dk_46 (dk_at dksL_law_24 15 rfl rfl)
theorem dL_law_686 : decode cL_law 686 = .ok (.aload_n 0, 1) := dk_42 (dk_at dksL_law_24 16 rfl rfl)
theorem dL_law_687 : decode cL_law 687 = .ok (.iload_n 3, 1) := dk_29 (dk_at dksL_law_24 17 rfl rfl)
theorem dL_law_688 : decode cL_law 688 = .ok (.iconst 2, 1) := dk_5 (dk_at dksL_law_24 18 rfl rfl)
theorem dL_law_689 : decode cL_law 689 = .ok (.iadd, 1) := dk_96 (dk_at dksL_law_24 19 rfl rfl)
theorem dL_law_690 : decode cL_law 690 = .ok (.iaload, 1) := dk_46 (dk_at dksL_law_24 20 rfl rfl)
theorem dL_law_691 : decode cL_law 691 = .ok (.invokevirtual 100, 3) := dk_182 0 100 (dk_at dksL_law_24 21 rfl rfl)
theorem dL_law_694 : decode cL_law 694 = .ok (.if_icmp .eq 278, 3) := dk_159 1 22 (dk_at dksL_law_25 0 rfl rfl)
theorem dL_law_697 : decode cL_law 697 = .ok (.iconst 0, 1) := dk_3 (dk_at dksL_law_25 3 rfl rfl)
theorem dL_law_698 : decode cL_law 698 = .ok (.ireturn, 1) := dk_172 (dk_at dksL_law_25 4 rfl rfl)
theorem dL_law_699 : decode cL_law 699 = .ok (.aload_n 1, 1) := dk_43 (dk_at dksL_law_25 5 rfl rfl)
theorem dL_law_700 : decode cL_law 700 = .ok (.aload_n 0, 1) := dk_42 (dk_at dksL_law_25 6 rfl rfl)
theorem dL_law_701 : decode cL_law 701 = .ok (.iload_n 3, 1) := dk_29 (dk_at dksL_law_25 7 rfl rfl)
theorem dL_law_702 : decode cL_law 702 = .ok (.iconst 1, 1) := dk_4 (dk_at dksL_law_25 8 rfl rfl)
theorem dL_law_703 : decode cL_law 703 = .ok (.iadd, 1) := dk_96 (dk_at dksL_law_25 9 rfl rfl)
theorem dL_law_704 : decode cL_law 704 = .ok (.iaload, 1) := dk_46 (dk_at dksL_law_25 10 rfl rfl)
theorem dL_law_705 : decode cL_law 705 = .ok (.invokevirtual 101, 3) := dk_182 0 101 (dk_at dksL_law_25 11 rfl rfl)
theorem dL_law_708 : decode cL_law 708 = .ok (.aload_n 2, 1) := dk_44 (dk_at dksL_law_25 14 rfl rfl)
theorem dL_law_709 : decode cL_law 709 = .ok (.aload_n 0, 1) := dk_42 (dk_at dksL_law_25 15 rfl rfl)
theorem dL_law_710 : decode cL_law 710 = .ok (.iload_n 3, 1) := dk_29 (dk_at dksL_law_25 16 rfl rfl)
theorem dL_law_711 : decode cL_law 711 = .ok (.iconst 1, 1) := dk_4 (dk_at dksL_law_25 17 rfl rfl)
theorem dL_law_712 : decode cL_law 712 = .ok (.iadd, 1) := dk_96 (dk_at dksL_law_25 18 rfl rfl)
theorem dL_law_713 : decode cL_law 713 = .ok (.iaload, 1) := dk_46 (dk_at dksL_law_25 19 rfl rfl)
theorem dL_law_714 : decode cL_law 714 = .ok (.invokevirtual 104, 3) := dk_182 0 104 (dk_at dksL_law_25 20 rfl rfl)
theorem dL_law_717 : decode cL_law 717 = .ok (.if_icmp .eq 255, 3) := dk_159 0 255 (dk_at dksL_law_26 0 rfl rfl)
theorem dL_law_720 : decode cL_law 720 = .ok (.iconst 0, 1) := dk_3 (dk_at dksL_law_26 3 rfl rfl)
theorem dL_law_721 : decode cL_law 721 = .ok (.ireturn, 1) := dk_172 (dk_at dksL_law_26 4 rfl rfl)
theorem dL_law_722 : decode cL_law 722 = .ok (.aload_n 1, 1) := dk_43 (dk_at dksL_law_26 5 rfl rfl)
theorem dL_law_723 : decode cL_law 723 = .ok (.aload_n 0, 1) := dk_42 (dk_at dksL_law_26 6 rfl rfl)
theorem dL_law_724 : decode cL_law 724 = .ok (.iload_n 3, 1) := dk_29 (dk_at dksL_law_26 7 rfl rfl)
theorem dL_law_725 : decode cL_law 725 = .ok (.iconst 1, 1) := dk_4 (dk_at dksL_law_26 8 rfl rfl)
theorem dL_law_726 : decode cL_law 726 = .ok (.iadd, 1) := dk_96 (dk_at dksL_law_26 9 rfl rfl)
theorem dL_law_727 : decode cL_law 727 = .ok (.iaload, 1) := dk_46 (dk_at dksL_law_26 10 rfl rfl)
theorem dL_law_728 : decode cL_law 728 = .ok (.invokevirtual 105, 3) := dk_182 0 105 (dk_at dksL_law_26 11 rfl rfl)
theorem dL_law_731 : decode cL_law 731 = .ok (.aload_n 2, 1) := dk_44 (dk_at dksL_law_26 14 rfl rfl)
theorem dL_law_732 : decode cL_law 732 = .ok (.aload_n 0, 1) := dk_42 (dk_at dksL_law_26 15 rfl rfl)
theorem dL_law_733 : decode cL_law 733 = .ok (.iload_n 3, 1) := dk_29 (dk_at dksL_law_26 16 rfl rfl)
theorem dL_law_734 : decode cL_law 734 = .ok (.iconst 1, 1) := dk_4 (dk_at dksL_law_26 17 rfl rfl)
theorem dL_law_735 : decode cL_law 735 = .ok (.iadd, 1) := dk_96 (dk_at dksL_law_26 18 rfl rfl)
theorem dL_law_736 : decode cL_law 736 = .ok (.iaload, 1) := dk_46 (dk_at dksL_law_26 19 rfl rfl)
theorem dL_law_737 : decode cL_law 737 = .ok (.invokevirtual 108, 3) := dk_182 0 108 (dk_at dksL_law_26 20 rfl rfl)
theorem dL_law_740 : decode cL_law 740 = .ok (.if_icmp .eq 232, 3) := dk_159 0 232 (dk_at dksL_law_27 0 rfl rfl)
theorem dL_law_743 : decode cL_law 743 = .ok (.iconst 0, 1) := dk_3 (dk_at dksL_law_27 3 rfl rfl)
theorem dL_law_744 : decode cL_law 744 = .ok (.ireturn, 1) := dk_172 (dk_at dksL_law_27 4 rfl rfl)
theorem dL_law_745 : decode cL_law 745 = .ok (.aload_n 1, 1) := dk_43 (dk_at dksL_law_27 5 rfl rfl)
theorem dL_law_746 : decode cL_law 746 = .ok (.aload_n 0, 1) := dk_42 (dk_at dksL_law_27 6 rfl rfl)
theorem dL_law_747 : decode cL_law 747 = .ok (.iload_n 3, 1) := dk_29 (dk_at dksL_law_27 7 rfl rfl)
theorem dL_law_748 : decode cL_law 748 = .ok (.iconst 1, 1) := dk_4 (dk_at dksL_law_27 8 rfl rfl)
theorem dL_law_749 : decode cL_law 749 = .ok (.iadd, 1) := dk_96 (dk_at dksL_law_27 9 rfl rfl)
theorem dL_law_750 : decode cL_law 750 = .ok (.iaload, 1) := dk_46 (dk_at dksL_law_27 10 rfl rfl)
theorem dL_law_751 : decode cL_law 751 = .ok (.aload_n 0, 1) := dk_42 (dk_at dksL_law_27 11 rfl rfl)
theorem dL_law_752 : decode cL_law 752 = .ok (.iload_n 3, 1) := dk_29 (dk_at dksL_law_27 12 rfl rfl)
theorem dL_law_753 : decode cL_law 753 = .ok (.iconst 2, 1) := dk_5 (dk_at dksL_law_27 13 rfl rfl)
theorem dL_law_754 : decode cL_law 754 = .ok (.iadd, 1) := dk_96 (dk_at dksL_law_27 14 rfl rfl)
theorem dL_law_755 : decode cL_law 755 = .ok (.iaload, 1) := dk_46 (dk_at dksL_law_27 15 rfl rfl)
theorem dL_law_756 : decode cL_law 756 = .ok (.aload_n 0, 1) := dk_42 (dk_at dksL_law_27 16 rfl rfl)
theorem dL_law_757 : decode cL_law 757 = .ok (.iload_n 3, 1) := dk_29 (dk_at dksL_law_27 17 rfl rfl)
theorem dL_law_758 : decode cL_law 758 = .ok (.iconst 3, 1) := dk_6 (dk_at dksL_law_27 18 rfl rfl)
theorem dL_law_759 : decode cL_law 759 = .ok (.iadd, 1) := dk_96 (dk_at dksL_law_27 19 rfl rfl)
theorem dL_law_760 : decode cL_law 760 = .ok (.iaload, 1) := dk_46 (dk_at dksL_law_27 20 rfl rfl)
theorem dL_law_761 : decode cL_law 761 = .ok (.invokevirtual 109, 3) := dk_182 0 109 (dk_at dksL_law_27 21 rfl rfl)
theorem dL_law_764 : decode cL_law 764 = .ok (.aload_n 2, 1) := dk_44 (dk_at dksL_law_28 0 rfl rfl)
theorem dL_law_765 : decode cL_law 765 = .ok (.aload_n 0, 1) := dk_42 (dk_at dksL_law_28 1 rfl rfl)
theorem dL_law_766 : decode cL_law 766 = .ok (.iload_n 3, 1) := dk_29 (dk_at dksL_law_28 2 rfl rfl)
theorem dL_law_767 : decode cL_law 767 = .ok (.iconst 1, 1) := dk_4 (dk_at dksL_law_28 3 rfl rfl)
theorem dL_law_768 : decode cL_law 768 = .ok (.iadd, 1) := dk_96 (dk_at dksL_law_28 4 rfl rfl)
theorem dL_law_769 : decode cL_law 769 = .ok (.iaload, 1) := dk_46 (dk_at dksL_law_28 5 rfl rfl)
theorem dL_law_770 : decode cL_law 770 = .ok (.aload_n 0, 1) := dk_42 (dk_at dksL_law_28 6 rfl rfl)
theorem dL_law_771 : decode cL_law 771 = .ok (.iload_n 3, 1) := dk_29 (dk_at dksL_law_28 7 rfl rfl)
theorem dL_law_772 : decode cL_law 772 = .ok (.iconst 2, 1) := dk_5 (dk_at dksL_law_28 8 rfl rfl)
theorem dL_law_773 : decode cL_law 773 = .ok (.iadd, 1) := dk_96 (dk_at dksL_law_28 9 rfl rfl)
theorem dL_law_774 : decode cL_law 774 = .ok (.iaload, 1) := dk_46 (dk_at dksL_law_28 10 rfl rfl)
theorem dL_law_775 : decode cL_law 775 = .ok (.aload_n 0, 1) := dk_42 (dk_at dksL_law_28 11 rfl rfl)
theorem dL_law_776 : decode cL_law 776 = .ok (.iload_n 3, 1) := dk_29 (dk_at dksL_law_28 12 rfl rfl)
theorem dL_law_777 : decode cL_law 777 = .ok (.iconst 3, 1) := dk_6 (dk_at dksL_law_28 13 rfl rfl)
theorem dL_law_778 : decode cL_law 778 = .ok (.iadd, 1) := dk_96 (dk_at dksL_law_28 14 rfl rfl)
theorem dL_law_779 : decode cL_law 779 = .ok (.iaload, 1) := dk_46 (dk_at dksL_law_28 15 rfl rfl)
theorem dL_law_780 : decode cL_law 780 = .ok (.invokevirtual 112, 3) := dk_182 0 112 (dk_at dksL_law_28 16 rfl rfl)
theorem dL_law_783 : decode cL_law 783 = .ok (.if_icmp .eq 189, 3) := dk_159 0 189 (dk_at dksL_law_28 19 rfl rfl)
theorem dL_law_786 : decode cL_law 786 = .ok (.iconst 0, 1) := dk_3 (dk_at dksL_law_28 22 rfl rfl)
theorem dL_law_787 : decode cL_law 787 = .ok (.ireturn, 1) := dk_172 (dk_at dksL_law_28 23 rfl rfl)
theorem dL_law_788 : decode cL_law 788 = .ok (.aload_n 1, 1) := dk_43 (dk_at dksL_law_29 0 rfl rfl)
theorem dL_law_789 : decode cL_law 789 = .ok (.aload_n 0, 1) := dk_42 (dk_at dksL_law_29 1 rfl rfl)
theorem dL_law_790 : decode cL_law 790 = .ok (.iload_n 3, 1) := dk_29 (dk_at dksL_law_29 2 rfl rfl)
theorem dL_law_791 : decode cL_law 791 = .ok (.iconst 1, 1) := dk_4 (dk_at dksL_law_29 3 rfl rfl)
theorem dL_law_792 : decode cL_law 792 = .ok (.iadd, 1) := dk_96 (dk_at dksL_law_29 4 rfl rfl)
theorem dL_law_793 : decode cL_law 793 = .ok (.iaload, 1) := dk_46 (dk_at dksL_law_29 5 rfl rfl)
theorem dL_law_794 : decode cL_law 794 = .ok (.invokevirtual 113, 3) := dk_182 0 113 (dk_at dksL_law_29 6 rfl rfl)
theorem dL_law_797 : decode cL_law 797 = .ok (.aload_n 2, 1) := dk_44 (dk_at dksL_law_29 9 rfl rfl)
theorem dL_law_798 : decode cL_law 798 = .ok (.aload_n 0, 1) := dk_42 (dk_at dksL_law_29 10 rfl rfl)
theorem dL_law_799 : decode cL_law 799 = .ok (.iload_n 3, 1) := dk_29 (dk_at dksL_law_29 11 rfl rfl)
theorem dL_law_800 : decode cL_law 800 = .ok (.iconst 1, 1) := dk_4 (dk_at dksL_law_29 12 rfl rfl)
theorem dL_law_801 : decode cL_law 801 = .ok (.iadd, 1) := dk_96 (dk_at dksL_law_29 13 rfl rfl)
theorem dL_law_802 : decode cL_law 802 = .ok (.iaload, 1) := dk_46 (dk_at dksL_law_29 14 rfl rfl)
theorem dL_law_803 : decode cL_law 803 = .ok (.invokevirtual 116, 3) := dk_182 0 116 (dk_at dksL_law_29 15 rfl rfl)
theorem dL_law_806 : decode cL_law 806 = .ok (.if_icmp .eq 166, 3) := dk_159 0 166 (dk_at dksL_law_29 18 rfl rfl)
theorem dL_law_809 : decode cL_law 809 = .ok (.iconst 0, 1) := dk_3 (dk_at dksL_law_29 21 rfl rfl)
theorem dL_law_810 : decode cL_law 810 = .ok (.ireturn, 1) := dk_172 (dk_at dksL_law_29 22 rfl rfl)
theorem dL_law_811 : decode cL_law 811 = .ok (.aload_n 1, 1) := dk_43 (dk_at dksL_law_29 23 rfl rfl)
theorem dL_law_812 : decode cL_law 812 = .ok (.aload_n 0, 1) := dk_42 (dk_at dksL_law_30 0 rfl rfl)
theorem dL_law_813 : decode cL_law 813 = .ok (.iload_n 3, 1) := dk_29 (dk_at dksL_law_30 1 rfl rfl)
theorem dL_law_814 : decode cL_law 814 = .ok (.iconst 1, 1) := dk_4 (dk_at dksL_law_30 2 rfl rfl)
theorem dL_law_815 : decode cL_law 815 = .ok (.iadd, 1) := dk_96 (dk_at dksL_law_30 3 rfl rfl)
theorem dL_law_816 : decode cL_law 816 = .ok (.iaload, 1) := dk_46 (dk_at dksL_law_30 4 rfl rfl)
theorem dL_law_817 : decode cL_law 817 = .ok (.invokevirtual 117, 3) := dk_182 0 117 (dk_at dksL_law_30 5 rfl rfl)
theorem dL_law_820 : decode cL_law 820 = .ok (.aload_n 2, 1) := dk_44 (dk_at dksL_law_30 8 rfl rfl)
theorem dL_law_821 : decode cL_law 821 = .ok (.aload_n 0, 1) := dk_42 (dk_at dksL_law_30 9 rfl rfl)
theorem dL_law_822 : decode cL_law 822 = .ok (.iload_n 3, 1) := dk_29 (dk_at dksL_law_30 10 rfl rfl)
theorem dL_law_823 : decode cL_law 823 = .ok (.iconst 1, 1) := dk_4 (dk_at dksL_law_30 11 rfl rfl)
theorem dL_law_824 : decode cL_law 824 = .ok (.iadd, 1) := dk_96 (dk_at dksL_law_30 12 rfl rfl)
theorem dL_law_825 : decode cL_law 825 = .ok (.iaload, 1) := dk_46 (dk_at dksL_law_30 13 rfl rfl)
theorem dL_law_826 : decode cL_law 826 = .ok (.invokevirtual 120, 3) := dk_182 0 120 (dk_at dksL_law_30 14 rfl rfl)
theorem dL_law_829 : decode cL_law 829 = .ok (.if_icmp .eq 143, 3) := dk_159 0 143 (dk_at dksL_law_30 17 rfl rfl)
theorem dL_law_832 : decode cL_law 832 = .ok (.iconst 0, 1) := dk_3 (dk_at dksL_law_30 20 rfl rfl)
theorem dL_law_833 : decode cL_law 833 = .ok (.ireturn, 1) := dk_172 (dk_at dksL_law_30 21 rfl rfl)
theorem dL_law_834 : decode cL_law 834 = .ok (.aload_n 1, 1) := dk_43 (dk_at dksL_law_30 22 rfl rfl)
theorem dL_law_835 : decode cL_law 835 = .ok (.aload_n 0, 1) := dk_42 (dk_at dksL_law_30 23 rfl rfl)
theorem dL_law_836 : decode cL_law 836 = .ok (.iload_n 3, 1) := dk_29 (dk_at dksL_law_31 0 rfl rfl)
theorem dL_law_837 : decode cL_law 837 = .ok (.iconst 1, 1) := dk_4 (dk_at dksL_law_31 1 rfl rfl)
theorem dL_law_838 : decode cL_law 838 = .ok (.iadd, 1) := dk_96 (dk_at dksL_law_31 2 rfl rfl)
theorem dL_law_839 : decode cL_law 839 = .ok (.iaload, 1) := dk_46 (dk_at dksL_law_31 3 rfl rfl)
theorem dL_law_840 : decode cL_law 840 = .ok (.invokevirtual 121, 3) := dk_182 0 121 (dk_at dksL_law_31 4 rfl rfl)
theorem dL_law_843 : decode cL_law 843 = .ok (.aload_n 2, 1) := dk_44 (dk_at dksL_law_31 7 rfl rfl)
theorem dL_law_844 : decode cL_law 844 = .ok (.aload_n 0, 1) := dk_42 (dk_at dksL_law_31 8 rfl rfl)
theorem dL_law_845 : decode cL_law 845 = .ok (.iload_n 3, 1) := dk_29 (dk_at dksL_law_31 9 rfl rfl)
theorem dL_law_846 : decode cL_law 846 = .ok (.iconst 1, 1) := dk_4 (dk_at dksL_law_31 10 rfl rfl)
theorem dL_law_847 : decode cL_law 847 = .ok (.iadd, 1) := dk_96 (dk_at dksL_law_31 11 rfl rfl)
theorem dL_law_848 : decode cL_law 848 = .ok (.iaload, 1) := dk_46 (dk_at dksL_law_31 12 rfl rfl)
theorem dL_law_849 : decode cL_law 849 = .ok (.invokevirtual 124, 3) := dk_182 0 124 (dk_at dksL_law_31 13 rfl rfl)
theorem dL_law_852 : decode cL_law 852 = .ok (.if_icmp .eq 120, 3) := dk_159 0 120 (dk_at dksL_law_31 16 rfl rfl)
theorem dL_law_855 : decode cL_law 855 = .ok (.iconst 0, 1) := dk_3 (dk_at dksL_law_31 19 rfl rfl)
theorem dL_law_856 : decode cL_law 856 = .ok (.ireturn, 1) := dk_172 (dk_at dksL_law_31 20 rfl rfl)
theorem dL_law_857 : decode cL_law 857 = .ok (.aload_n 1, 1) := dk_43 (dk_at dksL_law_31 21 rfl rfl)
theorem dL_law_858 : decode cL_law 858 = .ok (.aload_n 0, 1) := dk_42 (dk_at dksL_law_31 22 rfl rfl)
theorem dL_law_859 : decode cL_law 859 = .ok (.iload_n 3, 1) := dk_29 (dk_at dksL_law_31 23 rfl rfl)
theorem dL_law_860 : decode cL_law 860 = .ok (.iconst 1, 1) := dk_4 (dk_at dksL_law_32 0 rfl rfl)
theorem dL_law_861 : decode cL_law 861 = .ok (.iadd, 1) := dk_96 (dk_at dksL_law_32 1 rfl rfl)
theorem dL_law_862 : decode cL_law 862 = .ok (.iaload, 1) := dk_46 (dk_at dksL_law_32 2 rfl rfl)
theorem dL_law_863 : decode cL_law 863 = .ok (.invokevirtual 125, 3) := dk_182 0 125 (dk_at dksL_law_32 3 rfl rfl)
theorem dL_law_866 : decode cL_law 866 = .ok (.aload_n 2, 1) := dk_44 (dk_at dksL_law_32 6 rfl rfl)
theorem dL_law_867 : decode cL_law 867 = .ok (.aload_n 0, 1) := dk_42 (dk_at dksL_law_32 7 rfl rfl)
theorem dL_law_868 : decode cL_law 868 = .ok (.iload_n 3, 1) := dk_29 (dk_at dksL_law_32 8 rfl rfl)
theorem dL_law_869 : decode cL_law 869 = .ok (.iconst 1, 1) := dk_4 (dk_at dksL_law_32 9 rfl rfl)
theorem dL_law_870 : decode cL_law 870 = .ok (.iadd, 1) := dk_96 (dk_at dksL_law_32 10 rfl rfl)
theorem dL_law_871 : decode cL_law 871 = .ok (.iaload, 1) := dk_46 (dk_at dksL_law_32 11 rfl rfl)
theorem dL_law_872 : decode cL_law 872 = .ok (.invokevirtual 128, 3) := dk_182 0 128 (dk_at dksL_law_32 12 rfl rfl)
theorem dL_law_875 : decode cL_law 875 = .ok (.if_icmp .eq 97, 3) := dk_159 0 97 (dk_at dksL_law_32 15 rfl rfl)
theorem dL_law_878 : decode cL_law 878 = .ok (.iconst 0, 1) := dk_3 (dk_at dksL_law_32 18 rfl rfl)
theorem dL_law_879 : decode cL_law 879 = .ok (.ireturn, 1) := dk_172 (dk_at dksL_law_32 19 rfl rfl)
theorem dL_law_880 : decode cL_law 880 = .ok (.aload_n 1, 1) := dk_43 (dk_at dksL_law_32 20 rfl rfl)
theorem dL_law_881 : decode cL_law 881 = .ok (.aload_n 0, 1) := dk_42 (dk_at dksL_law_32 21 rfl rfl)
theorem dL_law_882 : decode cL_law 882 = .ok (.iload_n 3, 1) := dk_29 (dk_at dksL_law_32 22 rfl rfl)
theorem dL_law_883 : decode cL_law 883 = .ok (.iconst 1, 1) := dk_4 (dk_at dksL_law_32 23 rfl rfl)
theorem dL_law_884 : decode cL_law 884 = .ok (.iadd, 1) := dk_96 (dk_at dksL_law_33 0 rfl rfl)
theorem dL_law_885 : decode cL_law 885 = .ok (.iaload, 1) := dk_46 (dk_at dksL_law_33 1 rfl rfl)
theorem dL_law_886 : decode cL_law 886 = .ok (.aload_n 0, 1) := dk_42 (dk_at dksL_law_33 2 rfl rfl)
theorem dL_law_887 : decode cL_law 887 = .ok (.iload_n 3, 1) := dk_29 (dk_at dksL_law_33 3 rfl rfl)
theorem dL_law_888 : decode cL_law 888 = .ok (.iconst 2, 1) := dk_5 (dk_at dksL_law_33 4 rfl rfl)
theorem dL_law_889 : decode cL_law 889 = .ok (.iadd, 1) := dk_96 (dk_at dksL_law_33 5 rfl rfl)
theorem dL_law_890 : decode cL_law 890 = .ok (.iaload, 1) := dk_46 (dk_at dksL_law_33 6 rfl rfl)
theorem dL_law_891 : decode cL_law 891 = .ok (.aload_n 0, 1) := dk_42 (dk_at dksL_law_33 7 rfl rfl)
theorem dL_law_892 : decode cL_law 892 = .ok (.iload_n 3, 1) := dk_29 (dk_at dksL_law_33 8 rfl rfl)
theorem dL_law_893 : decode cL_law 893 = .ok (.iconst 3, 1) := dk_6 (dk_at dksL_law_33 9 rfl rfl)
theorem dL_law_894 : decode cL_law 894 = .ok (.iadd, 1) := dk_96 (dk_at dksL_law_33 10 rfl rfl)
theorem dL_law_895 : decode cL_law 895 = .ok (.iaload, 1) := dk_46 (dk_at dksL_law_33 11 rfl rfl)
theorem dL_law_896 : decode cL_law 896 = .ok (.invokevirtual 129, 3) := dk_182 0 129 (dk_at dksL_law_33 12 rfl rfl)
theorem dL_law_899 : decode cL_law 899 = .ok (.aload_n 2, 1) := dk_44 (dk_at dksL_law_33 15 rfl rfl)
theorem dL_law_900 : decode cL_law 900 = .ok (.aload_n 0, 1) := dk_42 (dk_at dksL_law_33 16 rfl rfl)
theorem dL_law_901 : decode cL_law 901 = .ok (.iload_n 3, 1) := dk_29 (dk_at dksL_law_33 17 rfl rfl)
theorem dL_law_902 : decode cL_law 902 = .ok (.iconst 1, 1) := dk_4 (dk_at dksL_law_33 18 rfl rfl)
theorem dL_law_903 : decode cL_law 903 = .ok (.iadd, 1) := dk_96 (dk_at dksL_law_33 19 rfl rfl)
theorem dL_law_904 : decode cL_law 904 = .ok (.iaload, 1) := dk_46 (dk_at dksL_law_33 20 rfl rfl)
theorem dL_law_905 : decode cL_law 905 = .ok (.aload_n 0, 1) := dk_42 (dk_at dksL_law_33 21 rfl rfl)
theorem dL_law_906 : decode cL_law 906 = .ok (.iload_n 3, 1) := dk_29 (dk_at dksL_law_33 22 rfl rfl)
theorem dL_law_907 : decode cL_law 907 = .ok (.iconst 2, 1) := dk_5 (dk_at dksL_law_33 23 rfl rfl)
theorem dL_law_908 : decode cL_law 908 = .ok (.iadd, 1) := dk_96 (dk_at dksL_law_34 0 rfl rfl)
theorem dL_law_909 : decode cL_law 909 = .ok (.iaload, 1) := dk_46 (dk_at dksL_law_34 1 rfl rfl)
theorem dL_law_910 : decode cL_law 910 = .ok (.aload_n 0, 1) := dk_42 (dk_at dksL_law_34 2 rfl rfl)
theorem dL_law_911 : decode cL_law 911 = .ok (.iload_n 3, 1) := dk_29 (dk_at dksL_law_34 3 rfl rfl)
theorem dL_law_912 : decode cL_law 912 = .ok (.iconst 3, 1) := dk_6 (dk_at dksL_law_34 4 rfl rfl)
theorem dL_law_913 : decode cL_law 913 = .ok (.iadd, 1) := dk_96 (dk_at dksL_law_34 5 rfl rfl)
theorem dL_law_914 : decode cL_law 914 = .ok (.iaload, 1) := dk_46 (dk_at dksL_law_34 6 rfl rfl)
theorem dL_law_915 : decode cL_law 915 = .ok (.invokevirtual 132, 3) := dk_182 0 132 (dk_at dksL_law_34 7 rfl rfl)
theorem dL_law_918 : decode cL_law 918 = .ok (.if_icmp .eq 54, 3) := dk_159 0 54 (dk_at dksL_law_34 10 rfl rfl)
theorem dL_law_921 : decode cL_law 921 = .ok (.iconst 0, 1) := dk_3 (dk_at dksL_law_34 13 rfl rfl)
theorem dL_law_922 : decode cL_law 922 = .ok (.ireturn, 1) := dk_172 (dk_at dksL_law_34 14 rfl rfl)
theorem dL_law_923 : decode cL_law 923 = .ok (.aload_n 1, 1) := dk_43 (dk_at dksL_law_34 15 rfl rfl)
theorem dL_law_924 : decode cL_law 924 = .ok (.invokevirtual 133, 3) := dk_182 0 133 (dk_at dksL_law_34 16 rfl rfl)
theorem dL_law_927 : decode cL_law 927 = .ok (.aload_n 2, 1) := dk_44 (dk_at dksL_law_34 19 rfl rfl)
theorem dL_law_928 : decode cL_law 928 = .ok (.invokevirtual 136, 3) := dk_182 0 136 (dk_at dksL_law_34 20 rfl rfl)
theorem dL_law_931 : decode cL_law 931 = .ok (.if_icmp .eq 41, 3) := dk_159 0 41 (dk_at dksL_law_35 0 rfl rfl)
theorem dL_law_934 : decode cL_law 934 = .ok (.iconst 0, 1) := dk_3 (dk_at dksL_law_35 3 rfl rfl)
theorem dL_law_935 : decode cL_law 935 = .ok (.ireturn, 1) := dk_172 (dk_at dksL_law_35 4 rfl rfl)
theorem dL_law_936 : decode cL_law 936 = .ok (.aload_n 1, 1) := dk_43 (dk_at dksL_law_35 5 rfl rfl)
theorem dL_law_937 : decode cL_law 937 = .ok (.invokevirtual 137, 3) := dk_182 0 137 (dk_at dksL_law_35 6 rfl rfl)
theorem dL_law_940 : decode cL_law 940 = .ok (.aload_n 2, 1) := dk_44 (dk_at dksL_law_35 9 rfl rfl)
theorem dL_law_941 : decode cL_law 941 = .ok (.invokevirtual 140, 3) := dk_182 0 140 (dk_at dksL_law_35 10 rfl rfl)
theorem dL_law_944 : decode cL_law 944 = .ok (.if_icmp .eq 28, 3) := dk_159 0 28 (dk_at dksL_law_35 13 rfl rfl)
theorem dL_law_947 : decode cL_law 947 = .ok (.iconst 0, 1) := dk_3 (dk_at dksL_law_35 16 rfl rfl)
theorem dL_law_948 : decode cL_law 948 = .ok (.ireturn, 1) := dk_172 (dk_at dksL_law_35 17 rfl rfl)
theorem dL_law_949 : decode cL_law 949 = .ok (.aload_n 1, 1) := dk_43 (dk_at dksL_law_35 18 rfl rfl)
theorem dL_law_950 : decode cL_law 950 = .ok (.aload_n 0, 1) := dk_42 (dk_at dksL_law_35 19 rfl rfl)
theorem dL_law_951 : decode cL_law 951 = .ok (.iload_n 3, 1) := dk_29 (dk_at dksL_law_35 20 rfl rfl)
theorem dL_law_952 : decode cL_law 952 = .ok (.iconst 1, 1) := dk_4 (dk_at dksL_law_35 21 rfl rfl)
theorem dL_law_953 : decode cL_law 953 = .ok (.iadd, 1) := dk_96 (dk_at dksL_law_35 22 rfl rfl)
theorem dL_law_954 : decode cL_law 954 = .ok (.iaload, 1) := dk_46 (dk_at dksL_law_35 23 rfl rfl)
theorem dL_law_955 : decode cL_law 955 = .ok (.invokevirtual 141, 3) := dk_182 0 141 (dk_at dksL_law_36 0 rfl rfl)
theorem dL_law_958 : decode cL_law 958 = .ok (.aload_n 2, 1) := dk_44 (dk_at dksL_law_36 3 rfl rfl)
theorem dL_law_959 : decode cL_law 959 = .ok (.aload_n 0, 1) := dk_42 (dk_at dksL_law_36 4 rfl rfl)
theorem dL_law_960 : decode cL_law 960 = .ok (.iload_n 3, 1) := dk_29 (dk_at dksL_law_36 5 rfl rfl)
theorem dL_law_961 : decode cL_law 961 = .ok (.iconst 1, 1) := dk_4 (dk_at dksL_law_36 6 rfl rfl)
theorem dL_law_962 : decode cL_law 962 = .ok (.iadd, 1) := dk_96 (dk_at dksL_law_36 7 rfl rfl)
theorem dL_law_963 : decode cL_law 963 = .ok (.iaload, 1) := dk_46 (dk_at dksL_law_36 8 rfl rfl)
theorem dL_law_964 : decode cL_law 964 = .ok (.invokevirtual 144, 3) := dk_182 0 144 (dk_at dksL_law_36 9 rfl rfl)
theorem dL_law_967 : decode cL_law 967 = .ok (.if_icmp .eq 5, 3) := dk_159 0 5 (dk_at dksL_law_36 12 rfl rfl)
theorem dL_law_970 : decode cL_law 970 = .ok (.iconst 0, 1) := dk_3 (dk_at dksL_law_36 15 rfl rfl)
theorem dL_law_971 : decode cL_law 971 = .ok (.ireturn, 1) := dk_172 (dk_at dksL_law_36 16 rfl rfl)
theorem dL_law_972 : decode cL_law 972 = .ok (.iinc 3 4, 3) := dk_132 3 4 (dk_at dksL_law_36 17 rfl rfl)
theorem dL_law_975 : decode cL_law 975 = .ok (.goto (-957), 3) := dk_167 252 67 (dk_at dksL_law_36 20 rfl rfl)
theorem dL_law_978 : decode cL_law 978 = .ok (.iconst 1, 1) := dk_4 (dk_at dksL_law_36 23 rfl rfl)
theorem dL_law_979 : decode cL_law 979 = .ok (.ireturn, 1) := dk_172 (dk_at dksL_law_37 0 rfl rfl)

theorem q67 : (Jvm.Cond.initialized "FallsBetweenLaw") ∈ lw_all := lw_g (lw_at lw_m1 0 rfl) rfl
set_option maxRecDepth 100000
theorem q98 : (Jvm.Cond.classLink "FallsBetweenLaw" (7 : Nat) "FallsBetween") ∈ lw_all := lw_g (lw_at lw_m1 31 rfl) rfl
theorem q100 : (Jvm.Cond.methodLink "FallsBetweenLaw" (9 : Nat) ({ cls := "FallsBetween", name := "<init>", desc := "()V" } : Jvm.MethodName)) ∈ lw_all := lw_g (lw_at lw_m1 33 rfl) rfl
theorem q243 : (Jvm.Cond.methodLink "FallsBetweenLaw" (13 : Nat) ({ cls := "FallsBetween", name := "letter", desc := "(I)I" } : Jvm.MethodName)) ∈ lw_all := lw_g (lw_at lw_m1 176 rfl) rfl
theorem q975 : (Jvm.Cond.methodLink "FallsBetweenLaw" (18 : Nat) ({ cls := "FallsBetween", name := "town", desc := "()I" } : Jvm.MethodName)) ∈ lw_all := lw_g (lw_at lw_m4 188 rfl) rfl
theorem q979 : (Jvm.Cond.methodLink "FallsBetweenLaw" (23 : Nat) ({ cls := "FallsBetween", name := "square", desc := "(II)I" } : Jvm.MethodName)) ∈ lw_all := lw_g (lw_at lw_m4 192 rfl) rfl
theorem q983 : (Jvm.Cond.methodLink "FallsBetweenLaw" (28 : Nat) ({ cls := "FallsBetween", name := "tree", desc := "(II)I" } : Jvm.MethodName)) ∈ lw_all := lw_g (lw_at lw_m4 196 rfl) rfl
theorem q987 : (Jvm.Cond.methodLink "FallsBetweenLaw" (32 : Nat) ({ cls := "FallsBetween", name := "garden", desc := "(II)I" } : Jvm.MethodName)) ∈ lw_all := lw_g (lw_at lw_m4 200 rfl) rfl
theorem q991 : (Jvm.Cond.methodLink "FallsBetweenLaw" (36 : Nat) ({ cls := "FallsBetween", name := "height", desc := "(II)I" } : Jvm.MethodName)) ∈ lw_all := lw_g (lw_at lw_m4 204 rfl) rfl
theorem q995 : (Jvm.Cond.methodLink "FallsBetweenLaw" (40 : Nat) ({ cls := "FallsBetween", name := "net", desc := "(I)I" } : Jvm.MethodName)) ∈ lw_all := lw_g (lw_at lw_m4 208 rfl) rfl
theorem q999 : (Jvm.Cond.methodLink "FallsBetweenLaw" (44 : Nat) ({ cls := "FallsBetween", name := "wind", desc := "(I)I" } : Jvm.MethodName)) ∈ lw_all := lw_g (lw_at lw_m4 212 rfl) rfl
theorem q1003 : (Jvm.Cond.methodLink "FallsBetweenLaw" (48 : Nat) ({ cls := "FallsBetween", name := "law", desc := "(I)I" } : Jvm.MethodName)) ∈ lw_all := lw_g (lw_at lw_m4 216 rfl) rfl
theorem q1007 : (Jvm.Cond.methodLink "FallsBetweenLaw" (52 : Nat) ({ cls := "FallsBetween", name := "fell", desc := "(I)I" } : Jvm.MethodName)) ∈ lw_all := lw_g (lw_at lw_m4 220 rfl) rfl
theorem q1011 : (Jvm.Cond.methodLink "FallsBetweenLaw" (56 : Nat) ({ cls := "FallsBetween", name := "lies", desc := "(I)I" } : Jvm.MethodName)) ∈ lw_all := lw_g (lw_at lw_m4 224 rfl) rfl
theorem q1015 : (Jvm.Cond.methodLink "FallsBetweenLaw" (60 : Nat) ({ cls := "FallsBetween", name := "of", desc := "(II)I" } : Jvm.MethodName)) ∈ lw_all := lw_g (lw_at lw_m4 228 rfl) rfl
theorem q1019 : (Jvm.Cond.methodLink "FallsBetweenLaw" (64 : Nat) ({ cls := "FallsBetween", name := "share", desc := "(I)I" } : Jvm.MethodName)) ∈ lw_all := lw_g (lw_at lw_m4 232 rfl) rfl
theorem q1023 : (Jvm.Cond.methodLink "FallsBetweenLaw" (68 : Nat) ({ cls := "FallsBetween", name := "birds", desc := "()I" } : Jvm.MethodName)) ∈ lw_all := lw_g (lw_at lw_m4 236 rfl) rfl
theorem q1027 : (Jvm.Cond.methodLink "FallsBetweenLaw" (72 : Nat) ({ cls := "FallsBetween", name := "lost", desc := "()I" } : Jvm.MethodName)) ∈ lw_all := lw_g (lw_at lw_m5 0 rfl) rfl
theorem q1031 : (Jvm.Cond.methodLink "FallsBetweenLaw" (76 : Nat) ({ cls := "FallsBetween", name := "set", desc := "(III)I" } : Jvm.MethodName)) ∈ lw_all := lw_g (lw_at lw_m5 4 rfl) rfl
theorem q1035 : (Jvm.Cond.methodLink "FallsBetweenLaw" (81 : Nat) ({ cls := "FallsBetween", name := "worth", desc := "(II)I" } : Jvm.MethodName)) ∈ lw_all := lw_g (lw_at lw_m5 8 rfl) rfl
theorem q1039 : (Jvm.Cond.methodLink "FallsBetweenLaw" (85 : Nat) ({ cls := "FallsBetween", name := "give", desc := "()I" } : Jvm.MethodName)) ∈ lw_all := lw_g (lw_at lw_m5 12 rfl) rfl
theorem q1043 : (Jvm.Cond.methodLink "FallsBetweenLaw" (89 : Nat) ({ cls := "FallsBetween", name := "clean", desc := "()I" } : Jvm.MethodName)) ∈ lw_all := lw_g (lw_at lw_m5 16 rfl) rfl
theorem q1047 : (Jvm.Cond.methodLink "FallsBetweenLaw" (93 : Nat) ({ cls := "FallsBetween", name := "line", desc := "(I)I" } : Jvm.MethodName)) ∈ lw_all := lw_g (lw_at lw_m5 20 rfl) rfl
theorem q1051 : (Jvm.Cond.methodLink "FallsBetweenLaw" (97 : Nat) ({ cls := "FallsBetween", name := "winds", desc := "(II)I" } : Jvm.MethodName)) ∈ lw_all := lw_g (lw_at lw_m5 24 rfl) rfl
theorem q1055 : (Jvm.Cond.methodLink "FallsBetweenLaw" (101 : Nat) ({ cls := "FallsBetween", name := "netted", desc := "(I)I" } : Jvm.MethodName)) ∈ lw_all := lw_g (lw_at lw_m5 28 rfl) rfl
theorem q1059 : (Jvm.Cond.methodLink "FallsBetweenLaw" (105 : Nat) ({ cls := "FallsBetween", name := "came", desc := "(I)I" } : Jvm.MethodName)) ∈ lw_all := lw_g (lw_at lw_m5 32 rfl) rfl
theorem q1063 : (Jvm.Cond.methodLink "FallsBetweenLaw" (109 : Nat) ({ cls := "FallsBetween", name := "likely", desc := "(III)I" } : Jvm.MethodName)) ∈ lw_all := lw_g (lw_at lw_m5 36 rfl) rfl
theorem q1067 : (Jvm.Cond.methodLink "FallsBetweenLaw" (113 : Nat) ({ cls := "FallsBetween", name := "pit", desc := "(I)I" } : Jvm.MethodName)) ∈ lw_all := lw_g (lw_at lw_m5 40 rfl) rfl
theorem q1071 : (Jvm.Cond.methodLink "FallsBetweenLaw" (117 : Nat) ({ cls := "FallsBetween", name := "fitting", desc := "(I)I" } : Jvm.MethodName)) ∈ lw_all := lw_g (lw_at lw_m5 44 rfl) rfl
theorem q1075 : (Jvm.Cond.methodLink "FallsBetweenLaw" (121 : Nat) ({ cls := "FallsBetween", name := "row", desc := "(I)I" } : Jvm.MethodName)) ∈ lw_all := lw_g (lw_at lw_m5 48 rfl) rfl
theorem q1079 : (Jvm.Cond.methodLink "FallsBetweenLaw" (125 : Nat) ({ cls := "FallsBetween", name := "judge", desc := "(I)I" } : Jvm.MethodName)) ∈ lw_all := lw_g (lw_at lw_m5 52 rfl) rfl
theorem q1083 : (Jvm.Cond.methodLink "FallsBetweenLaw" (129 : Nat) ({ cls := "FallsBetween", name := "seeds", desc := "(III)I" } : Jvm.MethodName)) ∈ lw_all := lw_g (lw_at lw_m5 56 rfl) rfl
theorem q1087 : (Jvm.Cond.methodLink "FallsBetweenLaw" (133 : Nat) ({ cls := "FallsBetween", name := "image", desc := "()I" } : Jvm.MethodName)) ∈ lw_all := lw_g (lw_at lw_m5 60 rfl) rfl
theorem q1091 : (Jvm.Cond.methodLink "FallsBetweenLaw" (137 : Nat) ({ cls := "FallsBetween", name := "on", desc := "()I" } : Jvm.MethodName)) ∈ lw_all := lw_g (lw_at lw_m5 64 rfl) rfl
theorem q1095 : (Jvm.Cond.methodLink "FallsBetweenLaw" (141 : Nat) ({ cls := "FallsBetween", name := "count", desc := "(I)I" } : Jvm.MethodName)) ∈ lw_all := lw_g (lw_at lw_m5 68 rfl) rfl
theorem q1109 : (Jvm.Cond.classLink "FallsBetweenLaw" (10 : Nat) "FallsBetweenModel") ∈ lw_all := lw_g (lw_at lw_m5 82 rfl) rfl
theorem q1111 : (Jvm.Cond.methodLink "FallsBetweenLaw" (12 : Nat) ({ cls := "FallsBetweenModel", name := "<init>", desc := "()V" } : Jvm.MethodName)) ∈ lw_all := lw_g (lw_at lw_m5 84 rfl) rfl
theorem q1167 : (Jvm.Cond.methodLink "FallsBetweenLaw" (136 : Nat) ({ cls := "FallsBetweenModel", name := "image", desc := "()I" } : Jvm.MethodName)) ∈ lw_all := lw_g (lw_at lw_m5 140 rfl) rfl
theorem q1174 : (Jvm.Cond.methodLink "FallsBetweenLaw" (140 : Nat) ({ cls := "FallsBetweenModel", name := "on", desc := "()I" } : Jvm.MethodName)) ∈ lw_all := lw_g (lw_at lw_m5 147 rfl) rfl
theorem q1182 : (Jvm.Cond.methodLink "FallsBetweenLaw" (17 : Nat) ({ cls := "FallsBetweenModel", name := "letter", desc := "(I)I" } : Jvm.MethodName)) ∈ lw_all := lw_g (lw_at lw_m5 155 rfl) rfl
theorem q1186 : (Jvm.Cond.methodLink "FallsBetweenLaw" (22 : Nat) ({ cls := "FallsBetweenModel", name := "town", desc := "()I" } : Jvm.MethodName)) ∈ lw_all := lw_g (lw_at lw_m5 159 rfl) rfl
theorem q1226 : (Jvm.Cond.methodLink "FallsBetweenLaw" (27 : Nat) ({ cls := "FallsBetweenModel", name := "square", desc := "(II)I" } : Jvm.MethodName)) ∈ lw_all := lw_g (lw_at lw_m5 199 rfl) rfl
theorem q1248 : (Jvm.Cond.methodLink "FallsBetweenLaw" (31 : Nat) ({ cls := "FallsBetweenModel", name := "tree", desc := "(II)I" } : Jvm.MethodName)) ∈ lw_all := lw_g (lw_at lw_m5 221 rfl) rfl
theorem q1252 : (Jvm.Cond.methodLink "FallsBetweenLaw" (35 : Nat) ({ cls := "FallsBetweenModel", name := "garden", desc := "(II)I" } : Jvm.MethodName)) ∈ lw_all := lw_g (lw_at lw_m5 225 rfl) rfl
theorem q1256 : (Jvm.Cond.methodLink "FallsBetweenLaw" (39 : Nat) ({ cls := "FallsBetweenModel", name := "height", desc := "(II)I" } : Jvm.MethodName)) ∈ lw_all := lw_g (lw_at lw_m5 229 rfl) rfl
theorem q1260 : (Jvm.Cond.methodLink "FallsBetweenLaw" (43 : Nat) ({ cls := "FallsBetweenModel", name := "net", desc := "(I)I" } : Jvm.MethodName)) ∈ lw_all := lw_g (lw_at lw_m5 233 rfl) rfl
theorem q1264 : (Jvm.Cond.methodLink "FallsBetweenLaw" (47 : Nat) ({ cls := "FallsBetweenModel", name := "wind", desc := "(I)I" } : Jvm.MethodName)) ∈ lw_all := lw_g (lw_at lw_m5 237 rfl) rfl
theorem q1268 : (Jvm.Cond.methodLink "FallsBetweenLaw" (51 : Nat) ({ cls := "FallsBetweenModel", name := "law", desc := "(I)I" } : Jvm.MethodName)) ∈ lw_all := lw_g (lw_at lw_m6 1 rfl) rfl
theorem q1272 : (Jvm.Cond.methodLink "FallsBetweenLaw" (55 : Nat) ({ cls := "FallsBetweenModel", name := "fell", desc := "(I)I" } : Jvm.MethodName)) ∈ lw_all := lw_g (lw_at lw_m6 5 rfl) rfl
theorem q1276 : (Jvm.Cond.methodLink "FallsBetweenLaw" (59 : Nat) ({ cls := "FallsBetweenModel", name := "lies", desc := "(I)I" } : Jvm.MethodName)) ∈ lw_all := lw_g (lw_at lw_m6 9 rfl) rfl
theorem q1292 : (Jvm.Cond.methodLink "FallsBetweenLaw" (63 : Nat) ({ cls := "FallsBetweenModel", name := "of", desc := "(II)I" } : Jvm.MethodName)) ∈ lw_all := lw_g (lw_at lw_m6 25 rfl) rfl
theorem q1296 : (Jvm.Cond.methodLink "FallsBetweenLaw" (67 : Nat) ({ cls := "FallsBetweenModel", name := "share", desc := "(I)I" } : Jvm.MethodName)) ∈ lw_all := lw_g (lw_at lw_m6 29 rfl) rfl
theorem q1304 : (Jvm.Cond.methodLink "FallsBetweenLaw" (71 : Nat) ({ cls := "FallsBetweenModel", name := "birds", desc := "()I" } : Jvm.MethodName)) ∈ lw_all := lw_g (lw_at lw_m6 37 rfl) rfl
theorem q1312 : (Jvm.Cond.methodLink "FallsBetweenLaw" (75 : Nat) ({ cls := "FallsBetweenModel", name := "lost", desc := "()I" } : Jvm.MethodName)) ∈ lw_all := lw_g (lw_at lw_m6 45 rfl) rfl
theorem q1316 : (Jvm.Cond.methodLink "FallsBetweenLaw" (80 : Nat) ({ cls := "FallsBetweenModel", name := "set", desc := "(III)I" } : Jvm.MethodName)) ∈ lw_all := lw_g (lw_at lw_m6 49 rfl) rfl
theorem q1320 : (Jvm.Cond.methodLink "FallsBetweenLaw" (84 : Nat) ({ cls := "FallsBetweenModel", name := "worth", desc := "(II)I" } : Jvm.MethodName)) ∈ lw_all := lw_g (lw_at lw_m6 53 rfl) rfl
theorem q1324 : (Jvm.Cond.methodLink "FallsBetweenLaw" (88 : Nat) ({ cls := "FallsBetweenModel", name := "give", desc := "()I" } : Jvm.MethodName)) ∈ lw_all := lw_g (lw_at lw_m6 57 rfl) rfl
theorem q1329 : (Jvm.Cond.methodLink "FallsBetweenLaw" (92 : Nat) ({ cls := "FallsBetweenModel", name := "clean", desc := "()I" } : Jvm.MethodName)) ∈ lw_all := lw_g (lw_at lw_m6 62 rfl) rfl
theorem q1333 : (Jvm.Cond.methodLink "FallsBetweenLaw" (96 : Nat) ({ cls := "FallsBetweenModel", name := "line", desc := "(I)I" } : Jvm.MethodName)) ∈ lw_all := lw_g (lw_at lw_m6 66 rfl) rfl
theorem q1338 : (Jvm.Cond.methodLink "FallsBetweenLaw" (100 : Nat) ({ cls := "FallsBetweenModel", name := "winds", desc := "(II)I" } : Jvm.MethodName)) ∈ lw_all := lw_g (lw_at lw_m6 71 rfl) rfl
theorem q1342 : (Jvm.Cond.methodLink "FallsBetweenLaw" (104 : Nat) ({ cls := "FallsBetweenModel", name := "netted", desc := "(I)I" } : Jvm.MethodName)) ∈ lw_all := lw_g (lw_at lw_m6 75 rfl) rfl
theorem q1347 : (Jvm.Cond.methodLink "FallsBetweenLaw" (108 : Nat) ({ cls := "FallsBetweenModel", name := "came", desc := "(I)I" } : Jvm.MethodName)) ∈ lw_all := lw_g (lw_at lw_m6 80 rfl) rfl
theorem q1351 : (Jvm.Cond.methodLink "FallsBetweenLaw" (112 : Nat) ({ cls := "FallsBetweenModel", name := "likely", desc := "(III)I" } : Jvm.MethodName)) ∈ lw_all := lw_g (lw_at lw_m6 84 rfl) rfl
theorem q1358 : (Jvm.Cond.methodLink "FallsBetweenLaw" (116 : Nat) ({ cls := "FallsBetweenModel", name := "pit", desc := "(I)I" } : Jvm.MethodName)) ∈ lw_all := lw_g (lw_at lw_m6 91 rfl) rfl
theorem q1362 : (Jvm.Cond.methodLink "FallsBetweenLaw" (120 : Nat) ({ cls := "FallsBetweenModel", name := "fitting", desc := "(I)I" } : Jvm.MethodName)) ∈ lw_all := lw_g (lw_at lw_m6 95 rfl) rfl
theorem q1366 : (Jvm.Cond.methodLink "FallsBetweenLaw" (124 : Nat) ({ cls := "FallsBetweenModel", name := "row", desc := "(I)I" } : Jvm.MethodName)) ∈ lw_all := lw_g (lw_at lw_m6 99 rfl) rfl
theorem q1370 : (Jvm.Cond.methodLink "FallsBetweenLaw" (128 : Nat) ({ cls := "FallsBetweenModel", name := "judge", desc := "(I)I" } : Jvm.MethodName)) ∈ lw_all := lw_g (lw_at lw_m6 103 rfl) rfl
theorem q1374 : (Jvm.Cond.methodLink "FallsBetweenLaw" (132 : Nat) ({ cls := "FallsBetweenModel", name := "seeds", desc := "(III)I" } : Jvm.MethodName)) ∈ lw_all := lw_g (lw_at lw_m6 107 rfl) rfl
theorem q1381 : (Jvm.Cond.methodLink "FallsBetweenLaw" (144 : Nat) ({ cls := "FallsBetweenModel", name := "count", desc := "(I)I" } : Jvm.MethodName)) ∈ lw_all := lw_g (lw_at lw_m6 114 rfl) rfl

theorem q96 : (Jvm.Cond.initialized "java/lang/System") ∈ lw_all := lw_g (lw_at lw_m1 29 rfl) rfl
set_option maxRecDepth 100000
theorem q588 : (Jvm.Cond.static ({ cls := "java/lang/System", name := "arraycopy", desc := "(Ljava/lang/Object;ILjava/lang/Object;II)V" } : Jvm.MethodName)) ∈ lw_all := lw_g (lw_at lw_m3 41 rfl) rfl
theorem q589 : (Jvm.Cond.native ({ cls := "java/lang/System", name := "arraycopy", desc := "(Ljava/lang/Object;ILjava/lang/Object;II)V" } : Jvm.MethodName)) ∈ lw_all := lw_g (lw_at lw_m3 42 rfl) rfl

theorem q113 : (Jvm.Cond.arrayOver (Jvm.ClassFile.FieldType.object "FallsBetween$Law")) ∈ lw_tbl := lw_at lw_m1 46 rfl
set_option maxRecDepth 100000
theorem q149 : (Jvm.Cond.arrayOver (Jvm.ClassFile.FieldType.object "FallsBetween$Tree")) ∈ lw_tbl := lw_at lw_m1 82 rfl
theorem q209 : (Jvm.Cond.arrayClass Jvm.ClassFile.FieldType.int) ∈ lw_all := lw_g (lw_at lw_m1 142 rfl) rfl
theorem q210 : (Jvm.Cond.arrayClass Jvm.ClassFile.FieldType.boolean) ∈ lw_all := lw_g (lw_at lw_m1 143 rfl) rfl
theorem q241 : (Jvm.Cond.arrayClass Jvm.ClassFile.FieldType.byte) ∈ lw_all := lw_g (lw_at lw_m1 174 rfl) rfl
theorem q242 : (Jvm.Cond.arrayClass Jvm.ClassFile.FieldType.char) ∈ lw_all := lw_g (lw_at lw_m1 175 rfl) rfl
theorem q359 : (Jvm.Cond.arrayOver (Jvm.ClassFile.FieldType.object "FallsBetween$Told")) ∈ lw_tbl := lw_at lw_m2 52 rfl
