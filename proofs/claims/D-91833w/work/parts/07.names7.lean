set_option maxRecDepth 100000
abbrev cX7_init : ByteArray := prog_9_method_1_code
def yX7_init : MethodName := ⟨RX7, "<init>", "([BI)V"⟩
def dkwX7_init_5 : List UInt8 := [181, 0, 67, 177]
abbrev dktX7_init_5 : List UInt8 := dkwX7_init_5 ++ []
def dkwX7_init_4 : List UInt8 := [181, 0, 50, 42, 187, 0, 54, 89, 7, 183, 0, 56, 181, 0, 59, 42, 43, 181, 0, 63, 42, 28]
abbrev dktX7_init_4 : List UInt8 := dkwX7_init_4 ++ dktX7_init_5
def dkwX7_init_3 : List UInt8 := [18, 38, 83, 89, 6, 18, 40, 83, 89, 7, 18, 42, 83, 181, 0, 44, 42, 187, 0, 47, 89, 183, 0, 49]
abbrev dktX7_init_3 : List UInt8 := dkwX7_init_3 ++ dktX7_init_4
def dkwX7_init_2 : List UInt8 := [5, 18, 29, 83, 181, 0, 31, 42, 8, 189, 0, 9, 89, 3, 18, 34, 83, 89, 4, 18, 36, 83, 89, 5]
abbrev dktX7_init_2 : List UInt8 := dkwX7_init_2 ++ dktX7_init_3
def dkwX7_init_1 : List UInt8 := [89, 6, 18, 17, 83, 181, 0, 19, 42, 6, 189, 0, 9, 89, 3, 18, 25, 83, 89, 4, 18, 27, 83, 89]
abbrev dktX7_init_1 : List UInt8 := dkwX7_init_1 ++ dktX7_init_2
def dkwX7_init_0 : List UInt8 := [42, 183, 0, 3, 42, 7, 189, 0, 9, 89, 3, 18, 11, 83, 89, 4, 18, 13, 83, 89, 5, 18, 15, 83]
abbrev dktX7_init_0 : List UInt8 := dkwX7_init_0 ++ dktX7_init_1
theorem dksX7_init_0 : cX7_init.data.toList.drop 0 = dktX7_init_0 := by decide +kernel
theorem dksX7_init_1 : cX7_init.data.toList.drop 24 = dktX7_init_1 := dk_seg dksX7_init_0 24 rfl rfl
theorem dksX7_init_2 : cX7_init.data.toList.drop 48 = dktX7_init_2 := dk_seg dksX7_init_1 24 rfl rfl
theorem dksX7_init_3 : cX7_init.data.toList.drop 72 = dktX7_init_3 := dk_seg dksX7_init_2 24 rfl rfl
theorem dksX7_init_4 : cX7_init.data.toList.drop 96 = dktX7_init_4 := dk_seg dksX7_init_3 24 rfl rfl
theorem dksX7_init_5 : cX7_init.data.toList.drop 118 = dktX7_init_5 := dk_seg dksX7_init_4 22 rfl rfl
theorem dX7_init_0 : decode cX7_init 0 = .ok (.aload_n 0, 1) := dk_42 (dk_at dksX7_init_0 0 rfl rfl)
theorem dX7_init_1 : decode cX7_init 1 = .ok (.invokespecial 3, 3) := dk_183 0 3 (dk_at dksX7_init_0 1 rfl rfl)
theorem dX7_init_4 : decode cX7_init 4 = .ok (.aload_n 0, 1) := dk_42 (dk_at dksX7_init_0 4 rfl rfl)
theorem dX7_init_5 : decode cX7_init 5 = .ok (.iconst 4, 1) := dk_7 (dk_at dksX7_init_0 5 rfl rfl)
theorem dX7_init_6 : decode cX7_init 6 = .ok (.anewarray 9, 3) := dk_189 0 9 (dk_at dksX7_init_0 6 rfl rfl)
theorem dX7_init_9 : decode cX7_init 9 = .ok (.dup, 1) := dk_89 (dk_at dksX7_init_0 9 rfl rfl)
theorem dX7_init_10 : decode cX7_init 10 = .ok (.iconst 0, 1) := dk_3 (dk_at dksX7_init_0 10 rfl rfl)
theorem dX7_init_11 : decode cX7_init 11 = .ok (.ldc 11, 2) := dk_18 11 (dk_at dksX7_init_0 11 rfl rfl)
theorem dX7_init_13 : decode cX7_init 13 = .ok (.aastore, 1) := dk_83 (dk_at dksX7_init_0 13 rfl rfl)
theorem dX7_init_14 : decode cX7_init 14 = .ok (.dup, 1) := dk_89 (dk_at dksX7_init_0 14 rfl rfl)
theorem dX7_init_15 : decode cX7_init 15 = .ok (.iconst 1, 1) := dk_4 (dk_at dksX7_init_0 15 rfl rfl)
theorem dX7_init_16 : decode cX7_init 16 = .ok (.ldc 13, 2) := dk_18 13 (dk_at dksX7_init_0 16 rfl rfl)
theorem dX7_init_18 : decode cX7_init 18 = .ok (.aastore, 1) := dk_83 (dk_at dksX7_init_0 18 rfl rfl)
theorem dX7_init_19 : decode cX7_init 19 = .ok (.dup, 1) := dk_89 (dk_at dksX7_init_0 19 rfl rfl)
theorem dX7_init_20 : decode cX7_init 20 = .ok (.iconst 2, 1) := dk_5 (dk_at dksX7_init_0 20 rfl rfl)
theorem dX7_init_21 : decode cX7_init 21 = .ok (.ldc 15, 2) := dk_18 15 (dk_at dksX7_init_0 21 rfl rfl)
theorem dX7_init_23 : decode cX7_init 23 = .ok (.aastore, 1) := dk_83 (dk_at dksX7_init_0 23 rfl rfl)
theorem dX7_init_24 : decode cX7_init 24 = .ok (.dup, 1) := dk_89 (dk_at dksX7_init_1 0 rfl rfl)
theorem dX7_init_25 : decode cX7_init 25 = .ok (.iconst 3, 1) := dk_6 (dk_at dksX7_init_1 1 rfl rfl)
theorem dX7_init_26 : decode cX7_init 26 = .ok (.ldc 17, 2) := dk_18 17 (dk_at dksX7_init_1 2 rfl rfl)
theorem dX7_init_28 : decode cX7_init 28 = .ok (.aastore, 1) := dk_83 (dk_at dksX7_init_1 4 rfl rfl)
theorem dX7_init_29 : decode cX7_init 29 = .ok (.putfield 19, 3) := dk_181 0 19 (dk_at dksX7_init_1 5 rfl rfl)
theorem dX7_init_32 : decode cX7_init 32 = .ok (.aload_n 0, 1) := dk_42 (dk_at dksX7_init_1 8 rfl rfl)
theorem dX7_init_33 : decode cX7_init 33 = .ok (.iconst 3, 1) := dk_6 (dk_at dksX7_init_1 9 rfl rfl)
theorem dX7_init_34 : decode cX7_init 34 = .ok (.anewarray 9, 3) := dk_189 0 9 (dk_at dksX7_init_1 10 rfl rfl)
theorem dX7_init_37 : decode cX7_init 37 = .ok (.dup, 1) := dk_89 (dk_at dksX7_init_1 13 rfl rfl)
theorem dX7_init_38 : decode cX7_init 38 = .ok (.iconst 0, 1) := dk_3 (dk_at dksX7_init_1 14 rfl rfl)
theorem dX7_init_39 : decode cX7_init 39 = .ok (.ldc 25, 2) := dk_18 25 (dk_at dksX7_init_1 15 rfl rfl)
theorem dX7_init_41 : decode cX7_init 41 = .ok (.aastore, 1) := dk_83 (dk_at dksX7_init_1 17 rfl rfl)
theorem dX7_init_42 : decode cX7_init 42 = .ok (.dup, 1) := dk_89 (dk_at dksX7_init_1 18 rfl rfl)
theorem dX7_init_43 : decode cX7_init 43 = .ok (.iconst 1, 1) := dk_4 (dk_at dksX7_init_1 19 rfl rfl)
theorem dX7_init_44 : decode cX7_init 44 = .ok (.ldc 27, 2) := dk_18 27 (dk_at dksX7_init_1 20 rfl rfl)
theorem dX7_init_46 : decode cX7_init 46 = .ok (.aastore, 1) := dk_83 (dk_at dksX7_init_1 22 rfl rfl)
theorem dX7_init_47 : decode cX7_init 47 = .ok (.dup, 1) := dk_89 (dk_at dksX7_init_1 23 rfl rfl)
theorem dX7_init_48 : decode cX7_init 48 = .ok (.iconst 2, 1) := dk_5 (dk_at dksX7_init_2 0 rfl rfl)
theorem dX7_init_49 : decode cX7_init 49 = .ok (.ldc 29, 2) := dk_18 29 (dk_at dksX7_init_2 1 rfl rfl)
theorem dX7_init_51 : decode cX7_init 51 = .ok (.aastore, 1) := dk_83 (dk_at dksX7_init_2 3 rfl rfl)
theorem dX7_init_52 : decode cX7_init 52 = .ok (.putfield 31, 3) := dk_181 0 31 (dk_at dksX7_init_2 4 rfl rfl)
theorem dX7_init_55 : decode cX7_init 55 = .ok (.aload_n 0, 1) := dk_42 (dk_at dksX7_init_2 7 rfl rfl)
theorem dX7_init_56 : decode cX7_init 56 = .ok (.iconst 5, 1) := dk_8 (dk_at dksX7_init_2 8 rfl rfl)
theorem dX7_init_57 : decode cX7_init 57 = .ok (.anewarray 9, 3) := dk_189 0 9 (dk_at dksX7_init_2 9 rfl rfl)
theorem dX7_init_60 : decode cX7_init 60 = .ok (.dup, 1) := dk_89 (dk_at dksX7_init_2 12 rfl rfl)
theorem dX7_init_61 : decode cX7_init 61 = .ok (.iconst 0, 1) := dk_3 (dk_at dksX7_init_2 13 rfl rfl)
theorem dX7_init_62 : decode cX7_init 62 = .ok (.ldc 34, 2) := dk_18 34 (dk_at dksX7_init_2 14 rfl rfl)
theorem dX7_init_64 : decode cX7_init 64 = .ok (.aastore, 1) := dk_83 (dk_at dksX7_init_2 16 rfl rfl)
theorem dX7_init_65 : decode cX7_init 65 = .ok (.dup, 1) := dk_89 (dk_at dksX7_init_2 17 rfl rfl)
theorem dX7_init_66 : decode cX7_init 66 = .ok (.iconst 1, 1) := dk_4 (dk_at dksX7_init_2 18 rfl rfl)
theorem dX7_init_67 : decode cX7_init 67 = .ok (.ldc 36, 2) := dk_18 36 (dk_at dksX7_init_2 19 rfl rfl)
theorem dX7_init_69 : decode cX7_init 69 = .ok (.aastore, 1) := dk_83 (dk_at dksX7_init_2 21 rfl rfl)
theorem dX7_init_70 : decode cX7_init 70 = .ok (.dup, 1) := dk_89 (dk_at dksX7_init_2 22 rfl rfl)
theorem dX7_init_71 : decode cX7_init 71 = .ok (.iconst 2, 1) := dk_5 (dk_at dksX7_init_2 23 rfl rfl)
theorem dX7_init_72 : decode cX7_init 72 = .ok (.ldc 38, 2) := dk_18 38 (dk_at dksX7_init_3 0 rfl rfl)
theorem dX7_init_74 : decode cX7_init 74 = .ok (.aastore, 1) := dk_83 (dk_at dksX7_init_3 2 rfl rfl)
theorem dX7_init_75 : decode cX7_init 75 = .ok (.dup, 1) := dk_89 (dk_at dksX7_init_3 3 rfl rfl)
theorem dX7_init_76 : decode cX7_init 76 = .ok (.iconst 3, 1) := dk_6 (dk_at dksX7_init_3 4 rfl rfl)
theorem dX7_init_77 : decode cX7_init 77 = .ok (.ldc 40, 2) := dk_18 40 (dk_at dksX7_init_3 5 rfl rfl)
theorem dX7_init_79 : decode cX7_init 79 = .ok (.aastore, 1) := dk_83 (dk_at dksX7_init_3 7 rfl rfl)
theorem dX7_init_80 : decode cX7_init 80 = .ok (.dup, 1) := dk_89 (dk_at dksX7_init_3 8 rfl rfl)
theorem dX7_init_81 : decode cX7_init 81 = .ok (.iconst 4, 1) := dk_7 (dk_at dksX7_init_3 9 rfl rfl)
theorem dX7_init_82 : decode cX7_init 82 = .ok (.ldc 42, 2) := dk_18 42 (dk_at dksX7_init_3 10 rfl rfl)
theorem dX7_init_84 : decode cX7_init 84 = .ok (.aastore, 1) := dk_83 (dk_at dksX7_init_3 12 rfl rfl)
theorem dX7_init_85 : decode cX7_init 85 = .ok (.putfield 44, 3) := dk_181 0 44 (dk_at dksX7_init_3 13 rfl rfl)
theorem dX7_init_88 : decode cX7_init 88 = .ok (.aload_n 0, 1) := dk_42 (dk_at dksX7_init_3 16 rfl rfl)
theorem dX7_init_89 : decode cX7_init 89 = .ok (.new 47, 3) := dk_187 0 47 (dk_at dksX7_init_3 17 rfl rfl)
theorem dX7_init_92 : decode cX7_init 92 = .ok (.dup, 1) := dk_89 (dk_at dksX7_init_3 20 rfl rfl)
theorem dX7_init_93 : decode cX7_init 93 = .ok (.invokespecial 49, 3) := dk_183 0 49 (dk_at dksX7_init_3 21 rfl rfl)
theorem dX7_init_96 : decode cX7_init 96 = .ok (.putfield 50, 3) := dk_181 0 50 (dk_at dksX7_init_4 0 rfl rfl)
theorem dX7_init_99 : decode cX7_init 99 = .ok (.aload_n 0, 1) := dk_42 (dk_at dksX7_init_4 3 rfl rfl)
theorem dX7_init_100 : decode cX7_init 100 = .ok (.new 54, 3) := dk_187 0 54 (dk_at dksX7_init_4 4 rfl rfl)
theorem dX7_init_103 : decode cX7_init 103 = .ok (.dup, 1) := dk_89 (dk_at dksX7_init_4 7 rfl rfl)
theorem dX7_init_104 : decode cX7_init 104 = .ok (.iconst 4, 1) := dk_7 (dk_at dksX7_init_4 8 rfl rfl)
theorem dX7_init_105 : decode cX7_init 105 = .ok (.invokespecial 56, 3) := dk_183 0 56 (dk_at dksX7_init_4 9 rfl rfl)
theorem dX7_init_108 : decode cX7_init 108 = .ok (.putfield 59, 3) := dk_181 0 59 (dk_at dksX7_init_4 12 rfl rfl)
theorem dX7_init_111 : decode cX7_init 111 = .ok (.aload_n 0, 1) := dk_42 (dk_at dksX7_init_4 15 rfl rfl)
theorem dX7_init_112 : decode cX7_init 112 = .ok (.aload_n 1, 1) := dk_43 (dk_at dksX7_init_4 16 rfl rfl)
theorem dX7_init_113 : decode cX7_init 113 = .ok (.putfield 63, 3) := dk_181 0 63 (dk_at dksX7_init_4 17 rfl rfl)
theorem dX7_init_116 : decode cX7_init 116 = .ok (.aload_n 0, 1) := dk_42 (dk_at dksX7_init_4 20 rfl rfl)
theorem dX7_init_117 : decode cX7_init 117 = .ok (.iload_n 2, 1) := dk_28 (dk_at dksX7_init_4 21 rfl rfl)
theorem dX7_init_118 : decode cX7_init 118 = .ok (.putfield 67, 3) := dk_181 0 67 (dk_at dksX7_init_5 0 rfl rfl)
theorem dX7_init_121 : decode cX7_init 121 = .ok (.return_, 1) := dk_177 (dk_at dksX7_init_5 3 rfl rfl)
abbrev cX7_whole : ByteArray := prog_9_method_19_code
def yX7_whole : MethodName := ⟨RX7, "whole", "()LNonsenseRows$Text;"⟩
def dkwX7_whole_0 : List UInt8 := [42, 182, 0, 112, 42, 180, 0, 82, 153, 0, 10, 42, 182, 0, 234, 167, 255, 245, 42, 180, 0, 50, 176]
abbrev dktX7_whole_0 : List UInt8 := dkwX7_whole_0 ++ []
theorem dksX7_whole_0 : cX7_whole.data.toList.drop 0 = dktX7_whole_0 := by decide +kernel
theorem dX7_whole_0 : decode cX7_whole 0 = .ok (.aload_n 0, 1) := dk_42 (dk_at dksX7_whole_0 0 rfl rfl)
theorem dX7_whole_1 : decode cX7_whole 1 = .ok (.invokevirtual 112, 3) := dk_182 0 112 (dk_at dksX7_whole_0 1 rfl rfl)
theorem dX7_whole_4 : decode cX7_whole 4 = .ok (.aload_n 0, 1) := dk_42 (dk_at dksX7_whole_0 4 rfl rfl)
theorem dX7_whole_5 : decode cX7_whole 5 = .ok (.getfield 82, 3) := dk_180 0 82 (dk_at dksX7_whole_0 5 rfl rfl)
theorem dX7_whole_8 : decode cX7_whole 8 = .ok (.ifCond .eq 10, 3) := dk_153 0 10 (dk_at dksX7_whole_0 8 rfl rfl)
theorem dX7_whole_11 : decode cX7_whole 11 = .ok (.aload_n 0, 1) := dk_42 (dk_at dksX7_whole_0 11 rfl rfl)
theorem dX7_whole_12 : decode cX7_whole 12 = .ok (.invokevirtual 234, 3) := dk_182 0 234 (dk_at dksX7_whole_0 12 rfl rfl)
theorem dX7_whole_15 : decode cX7_whole 15 = .ok (.goto (-11), 3) := dk_167 255 245 (dk_at dksX7_whole_0 15 rfl rfl)
theorem dX7_whole_18 : decode cX7_whole 18 = .ok (.aload_n 0, 1) := dk_42 (dk_at dksX7_whole_0 18 rfl rfl)
theorem dX7_whole_19 : decode cX7_whole 19 = .ok (.getfield 50, 3) := dk_180 0 50 (dk_at dksX7_whole_0 19 rfl rfl)
theorem dX7_whole_22 : decode cX7_whole 22 = .ok (.areturn, 1) := dk_176 (dk_at dksX7_whole_0 22 rfl rfl)
abbrev cX7_next : ByteArray := prog_9_method_3_code
def yX7_next : MethodName := ⟨RX7, "next", "()V"⟩
def dkwX7_next_10 : List UInt8 := [181, 0, 71, 177]
abbrev dktX7_next_10 : List UInt8 := dkwX7_next_10 ++ []
def dkwX7_next_9 : List UInt8 := [180, 0, 71, 51, 16, 59, 160, 0, 7, 6, 167, 0, 4, 7, 181, 0, 82, 42, 89, 180, 0, 71, 4, 96]
abbrev dktX7_next_9 : List UInt8 := dkwX7_next_9 ++ dktX7_next_10
def dkwX7_next_8 : List UInt8 := [181, 0, 79, 42, 89, 180, 0, 71, 4, 96, 181, 0, 71, 167, 255, 205, 42, 42, 180, 0, 63, 42]
abbrev dktX7_next_8 : List UInt8 := dkwX7_next_8 ++ dktX7_next_9
def dkwX7_next_7 : List UInt8 := [16, 10, 42, 180, 0, 79, 104, 42, 180, 0, 63, 42, 180, 0, 71, 51, 96, 16, 48, 100, 184, 0, 89]
abbrev dktX7_next_7 : List UInt8 := dkwX7_next_7 ++ dktX7_next_8
def dkwX7_next_6 : List UInt8 := [153, 0, 62, 42, 5, 181, 0, 82, 42, 16, 48, 16, 57, 182, 0, 85, 153, 0, 79, 42, 17, 39, 15]
abbrev dktX7_next_6 : List UInt8 := dkwX7_next_6 ++ dktX7_next_7
def dkwX7_next_5 : List UInt8 := [153, 0, 119, 42, 89, 180, 0, 71, 4, 96, 181, 0, 71, 167, 255, 235, 42, 16, 48, 16, 57, 182, 0, 85]
abbrev dktX7_next_5 : List UInt8 := dkwX7_next_5 ++ dktX7_next_6
def dkwX7_next_4 : List UInt8 := [16, 97, 16, 122, 182, 0, 85, 153, 0, 32, 42, 4, 181, 0, 82, 42, 16, 97, 16, 122, 182, 0, 85]
abbrev dktX7_next_4 : List UInt8 := dkwX7_next_4 ++ dktX7_next_5
def dkwX7_next_3 : List UInt8 := [181, 0, 79, 42, 180, 0, 71, 42, 180, 0, 67, 160, 0, 11, 42, 3, 181, 0, 82, 167, 0, 146, 42]
abbrev dktX7_next_3 : List UInt8 := dkwX7_next_3 ++ dktX7_next_4
def dkwX7_next_2 : List UInt8 := [181, 0, 71, 167, 255, 207, 42, 42, 180, 0, 71, 181, 0, 74, 42, 42, 180, 0, 71, 181, 0, 76, 42, 3]
abbrev dktX7_next_2 : List UInt8 := dkwX7_next_2 ++ dktX7_next_3
def dkwX7_next_1 : List UInt8 := [159, 0, 17, 42, 180, 0, 63, 42, 180, 0, 71, 51, 16, 10, 160, 0, 16, 42, 89, 180, 0, 71, 4, 96]
abbrev dktX7_next_1 : List UInt8 := dkwX7_next_1 ++ dktX7_next_2
def dkwX7_next_0 : List UInt8 := [42, 180, 0, 71, 42, 180, 0, 67, 162, 0, 44, 42, 180, 0, 63, 42, 180, 0, 71, 51, 16, 32]
abbrev dktX7_next_0 : List UInt8 := dkwX7_next_0 ++ dktX7_next_1
theorem dksX7_next_0 : cX7_next.data.toList.drop 0 = dktX7_next_0 := by decide +kernel
theorem dksX7_next_1 : cX7_next.data.toList.drop 22 = dktX7_next_1 := dk_seg dksX7_next_0 22 rfl rfl
theorem dksX7_next_2 : cX7_next.data.toList.drop 46 = dktX7_next_2 := dk_seg dksX7_next_1 24 rfl rfl
theorem dksX7_next_3 : cX7_next.data.toList.drop 70 = dktX7_next_3 := dk_seg dksX7_next_2 24 rfl rfl
theorem dksX7_next_4 : cX7_next.data.toList.drop 93 = dktX7_next_4 := dk_seg dksX7_next_3 23 rfl rfl
theorem dksX7_next_5 : cX7_next.data.toList.drop 116 = dktX7_next_5 := dk_seg dksX7_next_4 23 rfl rfl
theorem dksX7_next_6 : cX7_next.data.toList.drop 140 = dktX7_next_6 := dk_seg dksX7_next_5 24 rfl rfl
theorem dksX7_next_7 : cX7_next.data.toList.drop 163 = dktX7_next_7 := dk_seg dksX7_next_6 23 rfl rfl
theorem dksX7_next_8 : cX7_next.data.toList.drop 186 = dktX7_next_8 := dk_seg dksX7_next_7 23 rfl rfl
theorem dksX7_next_9 : cX7_next.data.toList.drop 208 = dktX7_next_9 := dk_seg dksX7_next_8 22 rfl rfl
theorem dksX7_next_10 : cX7_next.data.toList.drop 232 = dktX7_next_10 := dk_seg dksX7_next_9 24 rfl rfl
theorem dX7_next_0 : decode cX7_next 0 = .ok (.aload_n 0, 1) := dk_42 (dk_at dksX7_next_0 0 rfl rfl)
theorem dX7_next_1 : decode cX7_next 1 = .ok (.getfield 71, 3) := dk_180 0 71 (dk_at dksX7_next_0 1 rfl rfl)
theorem dX7_next_4 : decode cX7_next 4 = .ok (.aload_n 0, 1) := dk_42 (dk_at dksX7_next_0 4 rfl rfl)
theorem dX7_next_5 : decode cX7_next 5 = .ok (.getfield 67, 3) := dk_180 0 67 (dk_at dksX7_next_0 5 rfl rfl)
theorem dX7_next_8 : decode cX7_next 8 = .ok (.if_icmp .ge 44, 3) := dk_162 0 44 (dk_at dksX7_next_0 8 rfl rfl)
theorem dX7_next_11 : decode cX7_next 11 = .ok (.aload_n 0, 1) := dk_42 (dk_at dksX7_next_0 11 rfl rfl)
theorem dX7_next_12 : decode cX7_next 12 = .ok (.getfield 63, 3) := dk_180 0 63 (dk_at dksX7_next_0 12 rfl rfl)
theorem dX7_next_15 : decode cX7_next 15 = .ok (.aload_n 0, 1) := dk_42 (dk_at dksX7_next_0 15 rfl rfl)
theorem dX7_next_16 : decode cX7_next 16 = .ok (.getfield 71, 3) := dk_180 0 71 (dk_at dksX7_next_0 16 rfl rfl)
theorem dX7_next_19 : decode cX7_next 19 = .ok (.baload, 1) := dk_51 (dk_at dksX7_next_0 19 rfl rfl)
theorem dX7_next_20 : decode cX7_next 20 = .ok (.bipush 32, 2) := dk_16 32 (dk_at dksX7_next_0 20 rfl rfl)
theorem dX7_next_22 : decode cX7_next 22 = .ok (.if_icmp .eq 17, 3) := dk_159 0 17 (dk_at dksX7_next_1 0 rfl rfl)
theorem dX7_next_25 : decode cX7_next 25 = .ok (.aload_n 0, 1) := dk_42 (dk_at dksX7_next_1 3 rfl rfl)
theorem dX7_next_26 : decode cX7_next 26 = .ok (.getfield 63, 3) := dk_180 0 63 (dk_at dksX7_next_1 4 rfl rfl)
theorem dX7_next_29 : decode cX7_next 29 = .ok (.aload_n 0, 1) := dk_42 (dk_at dksX7_next_1 7 rfl rfl)
theorem dX7_next_30 : decode cX7_next 30 = .ok (.getfield 71, 3) := dk_180 0 71 (dk_at dksX7_next_1 8 rfl rfl)
theorem dX7_next_33 : decode cX7_next 33 = .ok (.baload, 1) := dk_51 (dk_at dksX7_next_1 11 rfl rfl)
theorem dX7_next_34 : decode cX7_next 34 = .ok (.bipush 10, 2) := dk_16 10 (dk_at dksX7_next_1 12 rfl rfl)
theorem dX7_next_36 : decode cX7_next 36 = .ok (.if_icmp .ne 16, 3) := dk_160 0 16 (dk_at dksX7_next_1 14 rfl rfl)
theorem dX7_next_39 : decode cX7_next 39 = .ok (.aload_n 0, 1) := dk_42 (dk_at dksX7_next_1 17 rfl rfl)
theorem dX7_next_40 : decode cX7_next 40 = .ok (.dup, 1) := dk_89 (dk_at dksX7_next_1 18 rfl rfl)
theorem dX7_next_41 : decode cX7_next 41 = .ok (.getfield 71, 3) := dk_180 0 71 (dk_at dksX7_next_1 19 rfl rfl)
theorem dX7_next_44 : decode cX7_next 44 = .ok (.iconst 1, 1) := dk_4 (dk_at dksX7_next_1 22 rfl rfl)
theorem dX7_next_45 : decode cX7_next 45 = .ok (.iadd, 1) := dk_96 (dk_at dksX7_next_1 23 rfl rfl)
theorem dX7_next_46 : decode cX7_next 46 = .ok (.putfield 71, 3) := dk_181 0 71 (dk_at dksX7_next_2 0 rfl rfl)
theorem dX7_next_49 : decode cX7_next 49 = .ok (.goto (-49), 3) := dk_167 255 207 (dk_at dksX7_next_2 3 rfl rfl)
theorem dX7_next_52 : decode cX7_next 52 = .ok (.aload_n 0, 1) := dk_42 (dk_at dksX7_next_2 6 rfl rfl)
theorem dX7_next_53 : decode cX7_next 53 = .ok (.aload_n 0, 1) := dk_42 (dk_at dksX7_next_2 7 rfl rfl)
theorem dX7_next_54 : decode cX7_next 54 = .ok (.getfield 71, 3) := dk_180 0 71 (dk_at dksX7_next_2 8 rfl rfl)
theorem dX7_next_57 : decode cX7_next 57 = .ok (.putfield 74, 3) := dk_181 0 74 (dk_at dksX7_next_2 11 rfl rfl)
theorem dX7_next_60 : decode cX7_next 60 = .ok (.aload_n 0, 1) := dk_42 (dk_at dksX7_next_2 14 rfl rfl)
theorem dX7_next_61 : decode cX7_next 61 = .ok (.aload_n 0, 1) := dk_42 (dk_at dksX7_next_2 15 rfl rfl)
theorem dX7_next_62 : decode cX7_next 62 = .ok (.getfield 71, 3) := dk_180 0 71 (dk_at dksX7_next_2 16 rfl rfl)
theorem dX7_next_65 : decode cX7_next 65 = .ok (.putfield 76, 3) := dk_181 0 76 (dk_at dksX7_next_2 19 rfl rfl)
theorem dX7_next_68 : decode cX7_next 68 = .ok (.aload_n 0, 1) := dk_42 (dk_at dksX7_next_2 22 rfl rfl)
theorem dX7_next_69 : decode cX7_next 69 = .ok (.iconst 0, 1) := dk_3 (dk_at dksX7_next_2 23 rfl rfl)
theorem dX7_next_70 : decode cX7_next 70 = .ok (.putfield 79, 3) := dk_181 0 79 (dk_at dksX7_next_3 0 rfl rfl)
theorem dX7_next_73 : decode cX7_next 73 = .ok (.aload_n 0, 1) := dk_42 (dk_at dksX7_next_3 3 rfl rfl)
theorem dX7_next_74 : decode cX7_next 74 = .ok (.getfield 71, 3) := dk_180 0 71 (dk_at dksX7_next_3 4 rfl rfl)
theorem dX7_next_77 : decode cX7_next 77 = .ok (.aload_n 0, 1) := dk_42 (dk_at dksX7_next_3 7 rfl rfl)
theorem dX7_next_78 : decode cX7_next 78 = .ok (.getfield 67, 3) := dk_180 0 67 (dk_at dksX7_next_3 8 rfl rfl)
theorem dX7_next_81 : decode cX7_next 81 = .ok (.if_icmp .ne 11, 3) := dk_160 0 11 (dk_at dksX7_next_3 11 rfl rfl)
theorem dX7_next_84 : decode cX7_next 84 = .ok (.aload_n 0, 1) := dk_42 (dk_at dksX7_next_3 14 rfl rfl)
theorem dX7_next_85 : decode cX7_next 85 = .ok (.iconst 0, 1) := dk_3 (dk_at dksX7_next_3 15 rfl rfl)
theorem dX7_next_86 : decode cX7_next 86 = .ok (.putfield 82, 3) := dk_181 0 82 (dk_at dksX7_next_3 16 rfl rfl)
theorem dX7_next_89 : decode cX7_next 89 = .ok (.goto 146, 3) := dk_167 0 146 (dk_at dksX7_next_3 19 rfl rfl)
theorem dX7_next_92 : decode cX7_next 92 = .ok (.aload_n 0, 1) := dk_42 (dk_at dksX7_next_3 22 rfl rfl)
theorem dX7_next_93 : decode cX7_next 93 = .ok (.bipush 97, 2) := dk_16 97 (dk_at dksX7_next_4 0 rfl rfl)
theorem dX7_next_95 : decode cX7_next 95 = .ok (.bipush 122, 2) := dk_16 122 (dk_at dksX7_next_4 2 rfl rfl)
theorem dX7_next_97 : decode cX7_next 97 = .ok (.invokevirtual 85, 3) := dk_182 0 85 (dk_at dksX7_next_4 4 rfl rfl)
theorem dX7_next_100 : decode cX7_next 100 = .ok (.ifCond .eq 32, 3) := dk_153 0 32 (dk_at dksX7_next_4 7 rfl rfl)
theorem dX7_next_103 : decode cX7_next 103 = .ok (.aload_n 0, 1) := dk_42 (dk_at dksX7_next_4 10 rfl rfl)
theorem dX7_next_104 : decode cX7_next 104 = .ok (.iconst 1, 1) := dk_4 (dk_at dksX7_next_4 11 rfl rfl)
theorem dX7_next_105 : decode cX7_next 105 = .ok (.putfield 82, 3) := dk_181 0 82 (dk_at dksX7_next_4 12 rfl rfl)
theorem dX7_next_108 : decode cX7_next 108 = .ok (.aload_n 0, 1) := dk_42 (dk_at dksX7_next_4 15 rfl rfl)
theorem dX7_next_109 : decode cX7_next 109 = .ok (.bipush 97, 2) := dk_16 97 (dk_at dksX7_next_4 16 rfl rfl)
theorem dX7_next_111 : decode cX7_next 111 = .ok (.bipush 122, 2) := dk_16 122 (dk_at dksX7_next_4 18 rfl rfl)
theorem dX7_next_113 : decode cX7_next 113 = .ok (.invokevirtual 85, 3) := dk_182 0 85 (dk_at dksX7_next_4 20 rfl rfl)
theorem dX7_next_116 : decode cX7_next 116 = .ok (.ifCond .eq 119, 3) := dk_153 0 119 (dk_at dksX7_next_5 0 rfl rfl)
theorem dX7_next_119 : decode cX7_next 119 = .ok (.aload_n 0, 1) := dk_42 (dk_at dksX7_next_5 3 rfl rfl)
theorem dX7_next_120 : decode cX7_next 120 = .ok (.dup, 1) := dk_89 (dk_at dksX7_next_5 4 rfl rfl)
theorem dX7_next_121 : decode cX7_next 121 = .ok (.getfield 71, 3) := dk_180 0 71 (dk_at dksX7_next_5 5 rfl rfl)
theorem dX7_next_124 : decode cX7_next 124 = .ok (.iconst 1, 1) := dk_4 (dk_at dksX7_next_5 8 rfl rfl)
theorem dX7_next_125 : decode cX7_next 125 = .ok (.iadd, 1) := dk_96 (dk_at dksX7_next_5 9 rfl rfl)
theorem dX7_next_126 : decode cX7_next 126 = .ok (.putfield 71, 3) := dk_181 0 71 (dk_at dksX7_next_5 10 rfl rfl)
theorem dX7_next_129 : decode cX7_next 129 = .ok (.goto (-21), 3) := dk_167 255 235 (dk_at dksX7_next_5 13 rfl rfl)
theorem dX7_next_132 : decode cX7_next 132 = .ok (.aload_n 0, 1) := dk_42 (dk_at dksX7_next_5 16 rfl rfl)
theorem dX7_next_133 : decode cX7_next 133 = .ok (.bipush 48, 2) := dk_16 48 (dk_at dksX7_next_5 17 rfl rfl)
theorem dX7_next_135 : decode cX7_next 135 = .ok (.bipush 57, 2) := dk_16 57 (dk_at dksX7_next_5 19 rfl rfl)
theorem dX7_next_137 : decode cX7_next 137 = .ok (.invokevirtual 85, 3) := dk_182 0 85 (dk_at dksX7_next_5 21 rfl rfl)
theorem dX7_next_140 : decode cX7_next 140 = .ok (.ifCond .eq 62, 3) := dk_153 0 62 (dk_at dksX7_next_6 0 rfl rfl)
theorem dX7_next_143 : decode cX7_next 143 = .ok (.aload_n 0, 1) := dk_42 (dk_at dksX7_next_6 3 rfl rfl)
theorem dX7_next_144 : decode cX7_next 144 = .ok (.iconst 2, 1) := dk_5 (dk_at dksX7_next_6 4 rfl rfl)
theorem dX7_next_145 : decode cX7_next 145 = .ok (.putfield 82, 3) := dk_181 0 82 (dk_at dksX7_next_6 5 rfl rfl)
theorem dX7_next_148 : decode cX7_next 148 = .ok (.aload_n 0, 1) := dk_42 (dk_at dksX7_next_6 8 rfl rfl)
theorem dX7_next_149 : decode cX7_next 149 = .ok (.bipush 48, 2) := dk_16 48 (dk_at dksX7_next_6 9 rfl rfl)
theorem dX7_next_151 : decode cX7_next 151 = .ok (.bipush 57, 2) := dk_16 57 (dk_at dksX7_next_6 11 rfl rfl)
theorem dX7_next_153 : decode cX7_next 153 = .ok (.invokevirtual 85, 3) := dk_182 0 85 (dk_at dksX7_next_6 13 rfl rfl)
theorem dX7_next_156 : decode cX7_next 156 = .ok (.ifCond .eq 79, 3) := dk_153 0 79 (dk_at dksX7_next_6 16 rfl rfl)
theorem dX7_next_159 : decode cX7_next 159 = .ok (.aload_n 0, 1) := dk_42 (dk_at dksX7_next_6 19 rfl rfl)
theorem dX7_next_160 : decode cX7_next 160 = .ok (.sipush 9999, 3) := dk_17 39 15 (dk_at dksX7_next_6 20 rfl rfl)
theorem dX7_next_163 : decode cX7_next 163 = .ok (.bipush 10, 2) := dk_16 10 (dk_at dksX7_next_7 0 rfl rfl)
theorem dX7_next_165 : decode cX7_next 165 = .ok (.aload_n 0, 1) := dk_42 (dk_at dksX7_next_7 2 rfl rfl)
theorem dX7_next_166 : decode cX7_next 166 = .ok (.getfield 79, 3) := dk_180 0 79 (dk_at dksX7_next_7 3 rfl rfl)
theorem dX7_next_169 : decode cX7_next 169 = .ok (.imul, 1) := dk_104 (dk_at dksX7_next_7 6 rfl rfl)
theorem dX7_next_170 : decode cX7_next 170 = .ok (.aload_n 0, 1) := dk_42 (dk_at dksX7_next_7 7 rfl rfl)
theorem dX7_next_171 : decode cX7_next 171 = .ok (.getfield 63, 3) := dk_180 0 63 (dk_at dksX7_next_7 8 rfl rfl)
theorem dX7_next_174 : decode cX7_next 174 = .ok (.aload_n 0, 1) := dk_42 (dk_at dksX7_next_7 11 rfl rfl)
theorem dX7_next_175 : decode cX7_next 175 = .ok (.getfield 71, 3) := dk_180 0 71 (dk_at dksX7_next_7 12 rfl rfl)
theorem dX7_next_178 : decode cX7_next 178 = .ok (.baload, 1) := dk_51 (dk_at dksX7_next_7 15 rfl rfl)
theorem dX7_next_179 : decode cX7_next 179 = .ok (.iadd, 1) := dk_96 (dk_at dksX7_next_7 16 rfl rfl)
theorem dX7_next_180 : decode cX7_next 180 = .ok (.bipush 48, 2) := dk_16 48 (dk_at dksX7_next_7 17 rfl rfl)
theorem dX7_next_182 : decode cX7_next 182 = .ok (.isub, 1) := dk_100 (dk_at dksX7_next_7 19 rfl rfl)
theorem dX7_next_183 : decode cX7_next 183 = .ok (.invokestatic 89, 3) := dk_184 0 89 (dk_at dksX7_next_7 20 rfl rfl)
theorem dX7_next_186 : decode cX7_next 186 = .ok (.putfield 79, 3) := dk_181 0 79 (dk_at dksX7_next_8 0 rfl rfl)
theorem dX7_next_189 : decode cX7_next 189 = .ok (.aload_n 0, 1) := dk_42 (dk_at dksX7_next_8 3 rfl rfl)
theorem dX7_next_190 : decode cX7_next 190 = .ok (.dup, 1) := dk_89 (dk_at dksX7_next_8 4 rfl rfl)
theorem dX7_next_191 : decode cX7_next 191 = .ok (.getfield 71, 3) := dk_180 0 71 (dk_at dksX7_next_8 5 rfl rfl)
theorem dX7_next_194 : decode cX7_next 194 = .ok (.iconst 1, 1) := dk_4 (dk_at dksX7_next_8 8 rfl rfl)
theorem dX7_next_195 : decode cX7_next 195 = .ok (.iadd, 1) := dk_96 (dk_at dksX7_next_8 9 rfl rfl)
theorem dX7_next_196 : decode cX7_next 196 = .ok (.putfield 71, 3) := dk_181 0 71 (dk_at dksX7_next_8 10 rfl rfl)
theorem dX7_next_199 : decode cX7_next 199 = .ok (.goto (-51), 3) := dk_167 255 205 (dk_at dksX7_next_8 13 rfl rfl)
theorem dX7_next_202 : decode cX7_next 202 = .ok (.aload_n 0, 1) := dk_42 (dk_at dksX7_next_8 16 rfl rfl)
theorem dX7_next_203 : decode cX7_next 203 = .ok (.aload_n 0, 1) := dk_42 (dk_at dksX7_next_8 17 rfl rfl)
theorem dX7_next_204 : decode cX7_next 204 = .ok (.getfield 63, 3) := dk_180 0 63 (dk_at dksX7_next_8 18 rfl rfl)
theorem dX7_next_207 : decode cX7_next 207 = .ok (.aload_n 0, 1) := dk_42 (dk_at dksX7_next_8 21 rfl rfl)
theorem dX7_next_208 : decode cX7_next 208 = .ok (.getfield 71, 3) := dk_180 0 71 (dk_at dksX7_next_9 0 rfl rfl)
theorem dX7_next_211 : decode cX7_next 211 = .ok (.baload, 1) := dk_51 (dk_at dksX7_next_9 3 rfl rfl)
theorem dX7_next_212 : decode cX7_next 212 = .ok (.bipush 59, 2) := dk_16 59 (dk_at dksX7_next_9 4 rfl rfl)
theorem dX7_next_214 : decode cX7_next 214 = .ok (.if_icmp .ne 7, 3) := dk_160 0 7 (dk_at dksX7_next_9 6 rfl rfl)
theorem dX7_next_217 : decode cX7_next 217 = .ok (.iconst 3, 1) := dk_6 (dk_at dksX7_next_9 9 rfl rfl)
theorem dX7_next_218 : decode cX7_next 218 = .ok (.goto 4, 3) := dk_167 0 4 (dk_at dksX7_next_9 10 rfl rfl)
theorem dX7_next_221 : decode cX7_next 221 = .ok (.iconst 4, 1) := dk_7 (dk_at dksX7_next_9 13 rfl rfl)
theorem dX7_next_222 : decode cX7_next 222 = .ok (.putfield 82, 3) := dk_181 0 82 (dk_at dksX7_next_9 14 rfl rfl)
theorem dX7_next_225 : decode cX7_next 225 = .ok (.aload_n 0, 1) := dk_42 (dk_at dksX7_next_9 17 rfl rfl)
theorem dX7_next_226 : decode cX7_next 226 = .ok (.dup, 1) := dk_89 (dk_at dksX7_next_9 18 rfl rfl)
theorem dX7_next_227 : decode cX7_next 227 = .ok (.getfield 71, 3) := dk_180 0 71 (dk_at dksX7_next_9 19 rfl rfl)
theorem dX7_next_230 : decode cX7_next 230 = .ok (.iconst 1, 1) := dk_4 (dk_at dksX7_next_9 22 rfl rfl)
theorem dX7_next_231 : decode cX7_next 231 = .ok (.iadd, 1) := dk_96 (dk_at dksX7_next_9 23 rfl rfl)
theorem dX7_next_232 : decode cX7_next 232 = .ok (.putfield 71, 3) := dk_181 0 71 (dk_at dksX7_next_10 0 rfl rfl)
theorem dX7_next_235 : decode cX7_next 235 = .ok (.return_, 1) := dk_177 (dk_at dksX7_next_10 3 rfl rfl)
abbrev cX7_isAt : ByteArray := prog_9_method_2_code
def yX7_isAt : MethodName := ⟨RX7, "isAt", "(II)Z"⟩
def dkwX7_isAt_1 : List UInt8 := [42, 180, 0, 63, 42, 180, 0, 71, 51, 28, 163, 0, 7, 4, 167, 0, 4, 3, 172]
abbrev dktX7_isAt_1 : List UInt8 := dkwX7_isAt_1 ++ []
def dkwX7_isAt_0 : List UInt8 := [42, 180, 0, 71, 42, 180, 0, 67, 162, 0, 33, 42, 180, 0, 63, 42, 180, 0, 71, 51, 27, 161, 0, 20]
abbrev dktX7_isAt_0 : List UInt8 := dkwX7_isAt_0 ++ dktX7_isAt_1
theorem dksX7_isAt_0 : cX7_isAt.data.toList.drop 0 = dktX7_isAt_0 := by decide +kernel
theorem dksX7_isAt_1 : cX7_isAt.data.toList.drop 24 = dktX7_isAt_1 := dk_seg dksX7_isAt_0 24 rfl rfl
theorem dX7_isAt_0 : decode cX7_isAt 0 = .ok (.aload_n 0, 1) := dk_42 (dk_at dksX7_isAt_0 0 rfl rfl)
theorem dX7_isAt_1 : decode cX7_isAt 1 = .ok (.getfield 71, 3) := dk_180 0 71 (dk_at dksX7_isAt_0 1 rfl rfl)
theorem dX7_isAt_4 : decode cX7_isAt 4 = .ok (.aload_n 0, 1) := dk_42 (dk_at dksX7_isAt_0 4 rfl rfl)
theorem dX7_isAt_5 : decode cX7_isAt 5 = .ok (.getfield 67, 3) := dk_180 0 67 (dk_at dksX7_isAt_0 5 rfl rfl)
theorem dX7_isAt_8 : decode cX7_isAt 8 = .ok (.if_icmp .ge 33, 3) := dk_162 0 33 (dk_at dksX7_isAt_0 8 rfl rfl)
theorem dX7_isAt_11 : decode cX7_isAt 11 = .ok (.aload_n 0, 1) := dk_42 (dk_at dksX7_isAt_0 11 rfl rfl)
theorem dX7_isAt_12 : decode cX7_isAt 12 = .ok (.getfield 63, 3) := dk_180 0 63 (dk_at dksX7_isAt_0 12 rfl rfl)
theorem dX7_isAt_15 : decode cX7_isAt 15 = .ok (.aload_n 0, 1) := dk_42 (dk_at dksX7_isAt_0 15 rfl rfl)
theorem dX7_isAt_16 : decode cX7_isAt 16 = .ok (.getfield 71, 3) := dk_180 0 71 (dk_at dksX7_isAt_0 16 rfl rfl)
theorem dX7_isAt_19 : decode cX7_isAt 19 = .ok (.baload, 1) := dk_51 (dk_at dksX7_isAt_0 19 rfl rfl)
theorem dX7_isAt_20 : decode cX7_isAt 20 = .ok (.iload_n 1, 1) := dk_27 (dk_at dksX7_isAt_0 20 rfl rfl)
theorem dX7_isAt_21 : decode cX7_isAt 21 = .ok (.if_icmp .lt 20, 3) := dk_161 0 20 (dk_at dksX7_isAt_0 21 rfl rfl)
theorem dX7_isAt_24 : decode cX7_isAt 24 = .ok (.aload_n 0, 1) := dk_42 (dk_at dksX7_isAt_1 0 rfl rfl)
theorem dX7_isAt_25 : decode cX7_isAt 25 = .ok (.getfield 63, 3) := dk_180 0 63 (dk_at dksX7_isAt_1 1 rfl rfl)
theorem dX7_isAt_28 : decode cX7_isAt 28 = .ok (.aload_n 0, 1) := dk_42 (dk_at dksX7_isAt_1 4 rfl rfl)
theorem dX7_isAt_29 : decode cX7_isAt 29 = .ok (.getfield 71, 3) := dk_180 0 71 (dk_at dksX7_isAt_1 5 rfl rfl)
theorem dX7_isAt_32 : decode cX7_isAt 32 = .ok (.baload, 1) := dk_51 (dk_at dksX7_isAt_1 8 rfl rfl)
theorem dX7_isAt_33 : decode cX7_isAt 33 = .ok (.iload_n 2, 1) := dk_28 (dk_at dksX7_isAt_1 9 rfl rfl)
theorem dX7_isAt_34 : decode cX7_isAt 34 = .ok (.if_icmp .gt 7, 3) := dk_163 0 7 (dk_at dksX7_isAt_1 10 rfl rfl)
theorem dX7_isAt_37 : decode cX7_isAt 37 = .ok (.iconst 1, 1) := dk_4 (dk_at dksX7_isAt_1 13 rfl rfl)
theorem dX7_isAt_38 : decode cX7_isAt 38 = .ok (.goto 4, 3) := dk_167 0 4 (dk_at dksX7_isAt_1 14 rfl rfl)
theorem dX7_isAt_41 : decode cX7_isAt 41 = .ok (.iconst 0, 1) := dk_3 (dk_at dksX7_isAt_1 17 rfl rfl)
theorem dX7_isAt_42 : decode cX7_isAt 42 = .ok (.ireturn, 1) := dk_172 (dk_at dksX7_isAt_1 18 rfl rfl)
abbrev cX7_line : ByteArray := prog_9_method_18_code
def yX7_line : MethodName := ⟨RX7, "line", "()V"⟩
def dkwX7_line_8 : List UInt8 := [182, 0, 112, 42, 180, 0, 50, 89, 180, 0, 231, 4, 96, 181, 0, 231, 177]
abbrev dktX7_line_8 : List UInt8 := dkwX7_line_8 ++ []
def dkwX7_line_7 : List UInt8 := [18, 226, 182, 0, 186, 42, 182, 0, 228, 42, 180, 0, 82, 6, 159, 0, 8, 42, 4, 182, 0, 117, 42]
abbrev dktX7_line_7 : List UInt8 := dkwX7_line_7 ++ dktX7_line_8
def dkwX7_line_6 : List UInt8 := [42, 182, 0, 219, 167, 0, 29, 42, 18, 222, 182, 0, 108, 153, 0, 10, 42, 182, 0, 223, 167, 0, 13, 42]
abbrev dktX7_line_6 : List UInt8 := dkwX7_line_6 ++ dktX7_line_7
def dkwX7_line_5 : List UInt8 := [180, 0, 50, 89, 180, 0, 128, 4, 96, 181, 0, 128, 167, 0, 45, 42, 18, 210, 182, 0, 114, 153, 0, 10]
abbrev dktX7_line_5 : List UInt8 := dkwX7_line_5 ++ dktX7_line_6
def dkwX7_line_4 : List UInt8 := [180, 0, 50, 180, 0, 217, 42, 180, 0, 50, 180, 0, 128, 42, 3, 16, 9, 182, 0, 131, 79, 42]
abbrev dktX7_line_4 : List UInt8 := dkwX7_line_4 ++ dktX7_line_5
def dkwX7_line_3 : List UInt8 := [182, 0, 214, 167, 0, 98, 42, 18, 208, 182, 0, 114, 153, 0, 47, 42, 18, 38, 182, 0, 186, 42]
abbrev dktX7_line_3 : List UInt8 := dkwX7_line_3 ++ dktX7_line_4
def dkwX7_line_2 : List UInt8 := [185, 0, 212, 1, 0, 16, 12, 160, 0, 8, 42, 6, 182, 0, 117, 27, 5, 163, 0, 11, 42, 27]
abbrev dktX7_line_2 : List UInt8 := dkwX7_line_2 ++ dktX7_line_3
def dkwX7_line_1 : List UInt8 := [180, 0, 128, 16, 24, 159, 0, 26, 42, 18, 210, 182, 0, 108, 153, 0, 22, 42, 180, 0, 59]
abbrev dktX7_line_1 : List UInt8 := dkwX7_line_1 ++ dktX7_line_2
def dkwX7_line_0 : List UInt8 := [42, 42, 180, 0, 31, 182, 0, 124, 60, 42, 18, 208, 182, 0, 108, 153, 0, 15, 42, 180, 0, 50]
abbrev dktX7_line_0 : List UInt8 := dkwX7_line_0 ++ dktX7_line_1
theorem dksX7_line_0 : cX7_line.data.toList.drop 0 = dktX7_line_0 := by decide +kernel
theorem dksX7_line_1 : cX7_line.data.toList.drop 22 = dktX7_line_1 := dk_seg dksX7_line_0 22 rfl rfl
theorem dksX7_line_2 : cX7_line.data.toList.drop 43 = dktX7_line_2 := dk_seg dksX7_line_1 21 rfl rfl
theorem dksX7_line_3 : cX7_line.data.toList.drop 65 = dktX7_line_3 := dk_seg dksX7_line_2 22 rfl rfl
theorem dksX7_line_4 : cX7_line.data.toList.drop 87 = dktX7_line_4 := dk_seg dksX7_line_3 22 rfl rfl
theorem dksX7_line_5 : cX7_line.data.toList.drop 109 = dktX7_line_5 := dk_seg dksX7_line_4 22 rfl rfl
theorem dksX7_line_6 : cX7_line.data.toList.drop 133 = dktX7_line_6 := dk_seg dksX7_line_5 24 rfl rfl
theorem dksX7_line_7 : cX7_line.data.toList.drop 157 = dktX7_line_7 := dk_seg dksX7_line_6 24 rfl rfl
theorem dksX7_line_8 : cX7_line.data.toList.drop 180 = dktX7_line_8 := dk_seg dksX7_line_7 23 rfl rfl
theorem dX7_line_0 : decode cX7_line 0 = .ok (.aload_n 0, 1) := dk_42 (dk_at dksX7_line_0 0 rfl rfl)
theorem dX7_line_1 : decode cX7_line 1 = .ok (.aload_n 0, 1) := dk_42 (dk_at dksX7_line_0 1 rfl rfl)
theorem dX7_line_2 : decode cX7_line 2 = .ok (.getfield 31, 3) := dk_180 0 31 (dk_at dksX7_line_0 2 rfl rfl)
theorem dX7_line_5 : decode cX7_line 5 = .ok (.invokevirtual 124, 3) := dk_182 0 124 (dk_at dksX7_line_0 5 rfl rfl)
theorem dX7_line_8 : decode cX7_line 8 = .ok (.istore_n 1, 1) := dk_60 (dk_at dksX7_line_0 8 rfl rfl)
theorem dX7_line_9 : decode cX7_line 9 = .ok (.aload_n 0, 1) := dk_42 (dk_at dksX7_line_0 9 rfl rfl)
theorem dX7_line_10 : decode cX7_line 10 = .ok (.ldc 208, 2) := dk_18 208 (dk_at dksX7_line_0 10 rfl rfl)
theorem dX7_line_12 : decode cX7_line 12 = .ok (.invokevirtual 108, 3) := dk_182 0 108 (dk_at dksX7_line_0 12 rfl rfl)
theorem dX7_line_15 : decode cX7_line 15 = .ok (.ifCond .eq 15, 3) := dk_153 0 15 (dk_at dksX7_line_0 15 rfl rfl)
theorem dX7_line_18 : decode cX7_line 18 = .ok (.aload_n 0, 1) := dk_42 (dk_at dksX7_line_0 18 rfl rfl)
theorem dX7_line_19 : decode cX7_line 19 = .ok (.getfield 50, 3) := dk_180 0 50 (dk_at dksX7_line_0 19 rfl rfl)
theorem dX7_line_22 : decode cX7_line 22 = .ok (.getfield 128, 3) := dk_180 0 128 (dk_at dksX7_line_1 0 rfl rfl)
theorem dX7_line_25 : decode cX7_line 25 = .ok (.bipush 24, 2) := dk_16 24 (dk_at dksX7_line_1 3 rfl rfl)
theorem dX7_line_27 : decode cX7_line 27 = .ok (.if_icmp .eq 26, 3) := dk_159 0 26 (dk_at dksX7_line_1 5 rfl rfl)
theorem dX7_line_30 : decode cX7_line 30 = .ok (.aload_n 0, 1) := dk_42 (dk_at dksX7_line_1 8 rfl rfl)
theorem dX7_line_31 : decode cX7_line 31 = .ok (.ldc 210, 2) := dk_18 210 (dk_at dksX7_line_1 9 rfl rfl)
theorem dX7_line_33 : decode cX7_line 33 = .ok (.invokevirtual 108, 3) := dk_182 0 108 (dk_at dksX7_line_1 11 rfl rfl)
theorem dX7_line_36 : decode cX7_line 36 = .ok (.ifCond .eq 22, 3) := dk_153 0 22 (dk_at dksX7_line_1 14 rfl rfl)
theorem dX7_line_39 : decode cX7_line 39 = .ok (.aload_n 0, 1) := dk_42 (dk_at dksX7_line_1 17 rfl rfl)
theorem dX7_line_40 : decode cX7_line 40 = .ok (.getfield 59, 3) := dk_180 0 59 (dk_at dksX7_line_1 18 rfl rfl)
theorem dX7_line_43 : decode cX7_line 43 = .ok (.invokeinterface 212 1, 5) := by decide +kernel
theorem dX7_line_48 : decode cX7_line 48 = .ok (.bipush 12, 2) := dk_16 12 (dk_at dksX7_line_2 5 rfl rfl)
theorem dX7_line_50 : decode cX7_line 50 = .ok (.if_icmp .ne 8, 3) := dk_160 0 8 (dk_at dksX7_line_2 7 rfl rfl)
theorem dX7_line_53 : decode cX7_line 53 = .ok (.aload_n 0, 1) := dk_42 (dk_at dksX7_line_2 10 rfl rfl)
theorem dX7_line_54 : decode cX7_line 54 = .ok (.iconst 3, 1) := dk_6 (dk_at dksX7_line_2 11 rfl rfl)
theorem dX7_line_55 : decode cX7_line 55 = .ok (.invokevirtual 117, 3) := dk_182 0 117 (dk_at dksX7_line_2 12 rfl rfl)
theorem dX7_line_58 : decode cX7_line 58 = .ok (.iload_n 1, 1) := dk_27 (dk_at dksX7_line_2 15 rfl rfl)
theorem dX7_line_59 : decode cX7_line 59 = .ok (.iconst 2, 1) := dk_5 (dk_at dksX7_line_2 16 rfl rfl)
theorem dX7_line_60 : decode cX7_line 60 = .ok (.if_icmp .gt 11, 3) := dk_163 0 11 (dk_at dksX7_line_2 17 rfl rfl)
theorem dX7_line_63 : decode cX7_line 63 = .ok (.aload_n 0, 1) := dk_42 (dk_at dksX7_line_2 20 rfl rfl)
theorem dX7_line_64 : decode cX7_line 64 = .ok (.iload_n 1, 1) := dk_27 (dk_at dksX7_line_2 21 rfl rfl)
theorem dX7_line_65 : decode cX7_line 65 = .ok (.invokevirtual 214, 3) := dk_182 0 214 (dk_at dksX7_line_3 0 rfl rfl)
theorem dX7_line_68 : decode cX7_line 68 = .ok (.goto 98, 3) := dk_167 0 98 (dk_at dksX7_line_3 3 rfl rfl)
theorem dX7_line_71 : decode cX7_line 71 = .ok (.aload_n 0, 1) := dk_42 (dk_at dksX7_line_3 6 rfl rfl)
theorem dX7_line_72 : decode cX7_line 72 = .ok (.ldc 208, 2) := dk_18 208 (dk_at dksX7_line_3 7 rfl rfl)
theorem dX7_line_74 : decode cX7_line 74 = .ok (.invokevirtual 114, 3) := dk_182 0 114 (dk_at dksX7_line_3 9 rfl rfl)
theorem dX7_line_77 : decode cX7_line 77 = .ok (.ifCond .eq 47, 3) := dk_153 0 47 (dk_at dksX7_line_3 12 rfl rfl)
theorem dX7_line_80 : decode cX7_line 80 = .ok (.aload_n 0, 1) := dk_42 (dk_at dksX7_line_3 15 rfl rfl)
theorem dX7_line_81 : decode cX7_line 81 = .ok (.ldc 38, 2) := dk_18 38 (dk_at dksX7_line_3 16 rfl rfl)
theorem dX7_line_83 : decode cX7_line 83 = .ok (.invokevirtual 186, 3) := dk_182 0 186 (dk_at dksX7_line_3 18 rfl rfl)
theorem dX7_line_86 : decode cX7_line 86 = .ok (.aload_n 0, 1) := dk_42 (dk_at dksX7_line_3 21 rfl rfl)
theorem dX7_line_87 : decode cX7_line 87 = .ok (.getfield 50, 3) := dk_180 0 50 (dk_at dksX7_line_4 0 rfl rfl)
theorem dX7_line_90 : decode cX7_line 90 = .ok (.getfield 217, 3) := dk_180 0 217 (dk_at dksX7_line_4 3 rfl rfl)
theorem dX7_line_93 : decode cX7_line 93 = .ok (.aload_n 0, 1) := dk_42 (dk_at dksX7_line_4 6 rfl rfl)
theorem dX7_line_94 : decode cX7_line 94 = .ok (.getfield 50, 3) := dk_180 0 50 (dk_at dksX7_line_4 7 rfl rfl)
theorem dX7_line_97 : decode cX7_line 97 = .ok (.getfield 128, 3) := dk_180 0 128 (dk_at dksX7_line_4 10 rfl rfl)
theorem dX7_line_100 : decode cX7_line 100 = .ok (.aload_n 0, 1) := dk_42 (dk_at dksX7_line_4 13 rfl rfl)
theorem dX7_line_101 : decode cX7_line 101 = .ok (.iconst 0, 1) := dk_3 (dk_at dksX7_line_4 14 rfl rfl)
theorem dX7_line_102 : decode cX7_line 102 = .ok (.bipush 9, 2) := dk_16 9 (dk_at dksX7_line_4 15 rfl rfl)
theorem dX7_line_104 : decode cX7_line 104 = .ok (.invokevirtual 131, 3) := dk_182 0 131 (dk_at dksX7_line_4 17 rfl rfl)
theorem dX7_line_107 : decode cX7_line 107 = .ok (.iastore, 1) := dk_79 (dk_at dksX7_line_4 20 rfl rfl)
theorem dX7_line_108 : decode cX7_line 108 = .ok (.aload_n 0, 1) := dk_42 (dk_at dksX7_line_4 21 rfl rfl)
theorem dX7_line_109 : decode cX7_line 109 = .ok (.getfield 50, 3) := dk_180 0 50 (dk_at dksX7_line_5 0 rfl rfl)
theorem dX7_line_112 : decode cX7_line 112 = .ok (.dup, 1) := dk_89 (dk_at dksX7_line_5 3 rfl rfl)
theorem dX7_line_113 : decode cX7_line 113 = .ok (.getfield 128, 3) := dk_180 0 128 (dk_at dksX7_line_5 4 rfl rfl)
theorem dX7_line_116 : decode cX7_line 116 = .ok (.iconst 1, 1) := dk_4 (dk_at dksX7_line_5 7 rfl rfl)
theorem dX7_line_117 : decode cX7_line 117 = .ok (.iadd, 1) := dk_96 (dk_at dksX7_line_5 8 rfl rfl)
theorem dX7_line_118 : decode cX7_line 118 = .ok (.putfield 128, 3) := dk_181 0 128 (dk_at dksX7_line_5 9 rfl rfl)
theorem dX7_line_121 : decode cX7_line 121 = .ok (.goto 45, 3) := dk_167 0 45 (dk_at dksX7_line_5 12 rfl rfl)
theorem dX7_line_124 : decode cX7_line 124 = .ok (.aload_n 0, 1) := dk_42 (dk_at dksX7_line_5 15 rfl rfl)
theorem dX7_line_125 : decode cX7_line 125 = .ok (.ldc 210, 2) := dk_18 210 (dk_at dksX7_line_5 16 rfl rfl)
theorem dX7_line_127 : decode cX7_line 127 = .ok (.invokevirtual 114, 3) := dk_182 0 114 (dk_at dksX7_line_5 18 rfl rfl)
theorem dX7_line_130 : decode cX7_line 130 = .ok (.ifCond .eq 10, 3) := dk_153 0 10 (dk_at dksX7_line_5 21 rfl rfl)
theorem dX7_line_133 : decode cX7_line 133 = .ok (.aload_n 0, 1) := dk_42 (dk_at dksX7_line_6 0 rfl rfl)
theorem dX7_line_134 : decode cX7_line 134 = .ok (.invokevirtual 219, 3) := dk_182 0 219 (dk_at dksX7_line_6 1 rfl rfl)
theorem dX7_line_137 : decode cX7_line 137 = .ok (.goto 29, 3) := dk_167 0 29 (dk_at dksX7_line_6 4 rfl rfl)
theorem dX7_line_140 : decode cX7_line 140 = .ok (.aload_n 0, 1) := dk_42 (dk_at dksX7_line_6 7 rfl rfl)
theorem dX7_line_141 : decode cX7_line 141 = .ok (.ldc 222, 2) := dk_18 222 (dk_at dksX7_line_6 8 rfl rfl)
theorem dX7_line_143 : decode cX7_line 143 = .ok (.invokevirtual 108, 3) := dk_182 0 108 (dk_at dksX7_line_6 10 rfl rfl)
theorem dX7_line_146 : decode cX7_line 146 = .ok (.ifCond .eq 10, 3) := dk_153 0 10 (dk_at dksX7_line_6 13 rfl rfl)
theorem dX7_line_149 : decode cX7_line 149 = .ok (.aload_n 0, 1) := dk_42 (dk_at dksX7_line_6 16 rfl rfl)
theorem dX7_line_150 : decode cX7_line 150 = .ok (.invokevirtual 223, 3) := dk_182 0 223 (dk_at dksX7_line_6 17 rfl rfl)
theorem dX7_line_153 : decode cX7_line 153 = .ok (.goto 13, 3) := dk_167 0 13 (dk_at dksX7_line_6 20 rfl rfl)
theorem dX7_line_156 : decode cX7_line 156 = .ok (.aload_n 0, 1) := dk_42 (dk_at dksX7_line_6 23 rfl rfl)
theorem dX7_line_157 : decode cX7_line 157 = .ok (.ldc 226, 2) := dk_18 226 (dk_at dksX7_line_7 0 rfl rfl)
theorem dX7_line_159 : decode cX7_line 159 = .ok (.invokevirtual 186, 3) := dk_182 0 186 (dk_at dksX7_line_7 2 rfl rfl)
theorem dX7_line_162 : decode cX7_line 162 = .ok (.aload_n 0, 1) := dk_42 (dk_at dksX7_line_7 5 rfl rfl)
theorem dX7_line_163 : decode cX7_line 163 = .ok (.invokevirtual 228, 3) := dk_182 0 228 (dk_at dksX7_line_7 6 rfl rfl)
theorem dX7_line_166 : decode cX7_line 166 = .ok (.aload_n 0, 1) := dk_42 (dk_at dksX7_line_7 9 rfl rfl)
theorem dX7_line_167 : decode cX7_line 167 = .ok (.getfield 82, 3) := dk_180 0 82 (dk_at dksX7_line_7 10 rfl rfl)
theorem dX7_line_170 : decode cX7_line 170 = .ok (.iconst 3, 1) := dk_6 (dk_at dksX7_line_7 13 rfl rfl)
theorem dX7_line_171 : decode cX7_line 171 = .ok (.if_icmp .eq 8, 3) := dk_159 0 8 (dk_at dksX7_line_7 14 rfl rfl)
theorem dX7_line_174 : decode cX7_line 174 = .ok (.aload_n 0, 1) := dk_42 (dk_at dksX7_line_7 17 rfl rfl)
theorem dX7_line_175 : decode cX7_line 175 = .ok (.iconst 1, 1) := dk_4 (dk_at dksX7_line_7 18 rfl rfl)
theorem dX7_line_176 : decode cX7_line 176 = .ok (.invokevirtual 117, 3) := dk_182 0 117 (dk_at dksX7_line_7 19 rfl rfl)
theorem dX7_line_179 : decode cX7_line 179 = .ok (.aload_n 0, 1) := dk_42 (dk_at dksX7_line_7 22 rfl rfl)
theorem dX7_line_180 : decode cX7_line 180 = .ok (.invokevirtual 112, 3) := dk_182 0 112 (dk_at dksX7_line_8 0 rfl rfl)
theorem dX7_line_183 : decode cX7_line 183 = .ok (.aload_n 0, 1) := dk_42 (dk_at dksX7_line_8 3 rfl rfl)
theorem dX7_line_184 : decode cX7_line 184 = .ok (.getfield 50, 3) := dk_180 0 50 (dk_at dksX7_line_8 4 rfl rfl)
theorem dX7_line_187 : decode cX7_line 187 = .ok (.dup, 1) := dk_89 (dk_at dksX7_line_8 7 rfl rfl)
theorem dX7_line_188 : decode cX7_line 188 = .ok (.getfield 231, 3) := dk_180 0 231 (dk_at dksX7_line_8 8 rfl rfl)
theorem dX7_line_191 : decode cX7_line 191 = .ok (.iconst 1, 1) := dk_4 (dk_at dksX7_line_8 11 rfl rfl)
theorem dX7_line_192 : decode cX7_line 192 = .ok (.iadd, 1) := dk_96 (dk_at dksX7_line_8 12 rfl rfl)
theorem dX7_line_193 : decode cX7_line 193 = .ok (.putfield 231, 3) := dk_181 0 231 (dk_at dksX7_line_8 13 rfl rfl)
theorem dX7_line_196 : decode cX7_line 196 = .ok (.return_, 1) := dk_177 (dk_at dksX7_line_8 16 rfl rfl)
abbrev cX7_which : ByteArray := prog_9_method_9_code
def yX7_which : MethodName := ⟨RX7, "which", "([Ljava/lang/String;)I"⟩
def dkwX7_which_1 : List UInt8 := [28, 172]
abbrev dktX7_which_1 : List UInt8 := dkwX7_which_1 ++ []
def dkwX7_which_0 : List UInt8 := [3, 61, 28, 43, 190, 162, 0, 19, 42, 43, 28, 50, 182, 0, 108, 154, 0, 9, 132, 2, 1, 167, 255, 237]
abbrev dktX7_which_0 : List UInt8 := dkwX7_which_0 ++ dktX7_which_1
theorem dksX7_which_0 : cX7_which.data.toList.drop 0 = dktX7_which_0 := by decide +kernel
theorem dksX7_which_1 : cX7_which.data.toList.drop 24 = dktX7_which_1 := dk_seg dksX7_which_0 24 rfl rfl
theorem dX7_which_0 : decode cX7_which 0 = .ok (.iconst 0, 1) := dk_3 (dk_at dksX7_which_0 0 rfl rfl)
theorem dX7_which_1 : decode cX7_which 1 = .ok (.istore_n 2, 1) := dk_61 (dk_at dksX7_which_0 1 rfl rfl)
theorem dX7_which_2 : decode cX7_which 2 = .ok (.iload_n 2, 1) := dk_28 (dk_at dksX7_which_0 2 rfl rfl)
theorem dX7_which_3 : decode cX7_which 3 = .ok (.aload_n 1, 1) := dk_43 (dk_at dksX7_which_0 3 rfl rfl)
theorem dX7_which_4 : decode cX7_which 4 = .ok (.arraylength, 1) := dk_190 (dk_at dksX7_which_0 4 rfl rfl)
theorem dX7_which_5 : decode cX7_which 5 = .ok (.if_icmp .ge 19, 3) := dk_162 0 19 (dk_at dksX7_which_0 5 rfl rfl)
theorem dX7_which_8 : decode cX7_which 8 = .ok (.aload_n 0, 1) := dk_42 (dk_at dksX7_which_0 8 rfl rfl)
theorem dX7_which_9 : decode cX7_which 9 = .ok (.aload_n 1, 1) := dk_43 (dk_at dksX7_which_0 9 rfl rfl)
theorem dX7_which_10 : decode cX7_which 10 = .ok (.iload_n 2, 1) := dk_28 (dk_at dksX7_which_0 10 rfl rfl)
theorem dX7_which_11 : decode cX7_which 11 = .ok (.aaload, 1) := dk_50 (dk_at dksX7_which_0 11 rfl rfl)
theorem dX7_which_12 : decode cX7_which 12 = .ok (.invokevirtual 108, 3) := dk_182 0 108 (dk_at dksX7_which_0 12 rfl rfl)
theorem dX7_which_15 : decode cX7_which 15 = .ok (.ifCond .ne 9, 3) := dk_154 0 9 (dk_at dksX7_which_0 15 rfl rfl)
theorem dX7_which_18 : decode cX7_which 18 = .ok (.iinc 2 1, 3) := dk_132 2 1 (dk_at dksX7_which_0 18 rfl rfl)
theorem dX7_which_21 : decode cX7_which 21 = .ok (.goto (-19), 3) := dk_167 255 237 (dk_at dksX7_which_0 21 rfl rfl)
theorem dX7_which_24 : decode cX7_which 24 = .ok (.iload_n 2, 1) := dk_28 (dk_at dksX7_which_1 0 rfl rfl)
theorem dX7_which_25 : decode cX7_which 25 = .ok (.ireturn, 1) := dk_172 (dk_at dksX7_which_1 1 rfl rfl)
abbrev cX7_is : ByteArray := prog_9_method_5_code
def yX7_is : MethodName := ⟨RX7, "is", "(Ljava/lang/String;)Z"⟩
def dkwX7_is_3 : List UInt8 := [167, 255, 216, 28, 172]
abbrev dktX7_is_3 : List UInt8 := dkwX7_is_3 ++ []
def dkwX7_is_2 : List UInt8 := [42, 180, 0, 76, 29, 96, 51, 43, 29, 182, 0, 104, 160, 0, 7, 4, 167, 0, 4, 3, 61, 132, 3, 1]
abbrev dktX7_is_2 : List UInt8 := dkwX7_is_2 ++ dktX7_is_3
def dkwX7_is_1 : List UInt8 := [4, 167, 0, 4, 3, 61, 3, 62, 29, 43, 182, 0, 100, 162, 0, 38, 28, 153, 0, 34, 42, 180, 0, 63]
abbrev dktX7_is_1 : List UInt8 := dkwX7_is_1 ++ dktX7_is_2
def dkwX7_is_0 : List UInt8 := [42, 180, 0, 82, 4, 160, 0, 23, 42, 180, 0, 71, 42, 180, 0, 76, 100, 43, 182, 0, 100, 160, 0, 7]
abbrev dktX7_is_0 : List UInt8 := dkwX7_is_0 ++ dktX7_is_1
theorem dksX7_is_0 : cX7_is.data.toList.drop 0 = dktX7_is_0 := by decide +kernel
theorem dksX7_is_1 : cX7_is.data.toList.drop 24 = dktX7_is_1 := dk_seg dksX7_is_0 24 rfl rfl
theorem dksX7_is_2 : cX7_is.data.toList.drop 48 = dktX7_is_2 := dk_seg dksX7_is_1 24 rfl rfl
theorem dksX7_is_3 : cX7_is.data.toList.drop 72 = dktX7_is_3 := dk_seg dksX7_is_2 24 rfl rfl
theorem dX7_is_0 : decode cX7_is 0 = .ok (.aload_n 0, 1) := dk_42 (dk_at dksX7_is_0 0 rfl rfl)
theorem dX7_is_1 : decode cX7_is 1 = .ok (.getfield 82, 3) := dk_180 0 82 (dk_at dksX7_is_0 1 rfl rfl)
theorem dX7_is_4 : decode cX7_is 4 = .ok (.iconst 1, 1) := dk_4 (dk_at dksX7_is_0 4 rfl rfl)
theorem dX7_is_5 : decode cX7_is 5 = .ok (.if_icmp .ne 23, 3) := dk_160 0 23 (dk_at dksX7_is_0 5 rfl rfl)
theorem dX7_is_8 : decode cX7_is 8 = .ok (.aload_n 0, 1) := dk_42 (dk_at dksX7_is_0 8 rfl rfl)
theorem dX7_is_9 : decode cX7_is 9 = .ok (.getfield 71, 3) := dk_180 0 71 (dk_at dksX7_is_0 9 rfl rfl)
theorem dX7_is_12 : decode cX7_is 12 = .ok (.aload_n 0, 1) := dk_42 (dk_at dksX7_is_0 12 rfl rfl)
theorem dX7_is_13 : decode cX7_is 13 = .ok (.getfield 76, 3) := dk_180 0 76 (dk_at dksX7_is_0 13 rfl rfl)
theorem dX7_is_16 : decode cX7_is 16 = .ok (.isub, 1) := dk_100 (dk_at dksX7_is_0 16 rfl rfl)
theorem dX7_is_17 : decode cX7_is 17 = .ok (.aload_n 1, 1) := dk_43 (dk_at dksX7_is_0 17 rfl rfl)
theorem dX7_is_18 : decode cX7_is 18 = .ok (.invokevirtual 100, 3) := dk_182 0 100 (dk_at dksX7_is_0 18 rfl rfl)
theorem dX7_is_21 : decode cX7_is 21 = .ok (.if_icmp .ne 7, 3) := dk_160 0 7 (dk_at dksX7_is_0 21 rfl rfl)
theorem dX7_is_24 : decode cX7_is 24 = .ok (.iconst 1, 1) := dk_4 (dk_at dksX7_is_1 0 rfl rfl)
theorem dX7_is_25 : decode cX7_is 25 = .ok (.goto 4, 3) := dk_167 0 4 (dk_at dksX7_is_1 1 rfl rfl)
theorem dX7_is_28 : decode cX7_is 28 = .ok (.iconst 0, 1) := dk_3 (dk_at dksX7_is_1 4 rfl rfl)
theorem dX7_is_29 : decode cX7_is 29 = .ok (.istore_n 2, 1) := dk_61 (dk_at dksX7_is_1 5 rfl rfl)
theorem dX7_is_30 : decode cX7_is 30 = .ok (.iconst 0, 1) := dk_3 (dk_at dksX7_is_1 6 rfl rfl)
theorem dX7_is_31 : decode cX7_is 31 = .ok (.istore_n 3, 1) := dk_62 (dk_at dksX7_is_1 7 rfl rfl)
theorem dX7_is_32 : decode cX7_is 32 = .ok (.iload_n 3, 1) := dk_29 (dk_at dksX7_is_1 8 rfl rfl)
theorem dX7_is_33 : decode cX7_is 33 = .ok (.aload_n 1, 1) := dk_43 (dk_at dksX7_is_1 9 rfl rfl)
theorem dX7_is_34 : decode cX7_is 34 = .ok (.invokevirtual 100, 3) := dk_182 0 100 (dk_at dksX7_is_1 10 rfl rfl)
theorem dX7_is_37 : decode cX7_is 37 = .ok (.if_icmp .ge 38, 3) := dk_162 0 38 (dk_at dksX7_is_1 13 rfl rfl)
theorem dX7_is_40 : decode cX7_is 40 = .ok (.iload_n 2, 1) := dk_28 (dk_at dksX7_is_1 16 rfl rfl)
theorem dX7_is_41 : decode cX7_is 41 = .ok (.ifCond .eq 34, 3) := dk_153 0 34 (dk_at dksX7_is_1 17 rfl rfl)
theorem dX7_is_44 : decode cX7_is 44 = .ok (.aload_n 0, 1) := dk_42 (dk_at dksX7_is_1 20 rfl rfl)
theorem dX7_is_45 : decode cX7_is 45 = .ok (.getfield 63, 3) := dk_180 0 63 (dk_at dksX7_is_1 21 rfl rfl)
theorem dX7_is_48 : decode cX7_is 48 = .ok (.aload_n 0, 1) := dk_42 (dk_at dksX7_is_2 0 rfl rfl)
theorem dX7_is_49 : decode cX7_is 49 = .ok (.getfield 76, 3) := dk_180 0 76 (dk_at dksX7_is_2 1 rfl rfl)
theorem dX7_is_52 : decode cX7_is 52 = .ok (.iload_n 3, 1) := dk_29 (dk_at dksX7_is_2 4 rfl rfl)
theorem dX7_is_53 : decode cX7_is 53 = .ok (.iadd, 1) := dk_96 (dk_at dksX7_is_2 5 rfl rfl)
theorem dX7_is_54 : decode cX7_is 54 = .ok (.baload, 1) := dk_51 (dk_at dksX7_is_2 6 rfl rfl)
theorem dX7_is_55 : decode cX7_is 55 = .ok (.aload_n 1, 1) := dk_43 (dk_at dksX7_is_2 7 rfl rfl)
theorem dX7_is_56 : decode cX7_is 56 = .ok (.iload_n 3, 1) := dk_29 (dk_at dksX7_is_2 8 rfl rfl)
theorem dX7_is_57 : decode cX7_is 57 = .ok (.invokevirtual 104, 3) := dk_182 0 104 (dk_at dksX7_is_2 9 rfl rfl)
theorem dX7_is_60 : decode cX7_is 60 = .ok (.if_icmp .ne 7, 3) := dk_160 0 7 (dk_at dksX7_is_2 12 rfl rfl)
theorem dX7_is_63 : decode cX7_is 63 = .ok (.iconst 1, 1) := dk_4 (dk_at dksX7_is_2 15 rfl rfl)
theorem dX7_is_64 : decode cX7_is 64 = .ok (.goto 4, 3) := dk_167 0 4 (dk_at dksX7_is_2 16 rfl rfl)
theorem dX7_is_67 : decode cX7_is 67 = .ok (.iconst 0, 1) := dk_3 (dk_at dksX7_is_2 19 rfl rfl)
theorem dX7_is_68 : decode cX7_is 68 = .ok (.istore_n 2, 1) := dk_61 (dk_at dksX7_is_2 20 rfl rfl)
theorem dX7_is_69 : decode cX7_is 69 = .ok (.iinc 3 1, 3) := dk_132 3 1 (dk_at dksX7_is_2 21 rfl rfl)
theorem dX7_is_72 : decode cX7_is 72 = .ok (.goto (-40), 3) := dk_167 255 216 (dk_at dksX7_is_3 0 rfl rfl)
theorem dX7_is_75 : decode cX7_is 75 = .ok (.iload_n 2, 1) := dk_28 (dk_at dksX7_is_3 3 rfl rfl)
theorem dX7_is_76 : decode cX7_is 76 = .ok (.ireturn, 1) := dk_172 (dk_at dksX7_is_3 4 rfl rfl)
abbrev cX7_fails : ByteArray := prog_9_method_4_code
def yX7_fails : MethodName := ⟨RX7, "fails", "(I)V"⟩
def dkwX7_fails_0 : List UInt8 := [187, 0, 95, 89, 27, 42, 180, 0, 74, 183, 0, 97, 191]
abbrev dktX7_fails_0 : List UInt8 := dkwX7_fails_0 ++ []
theorem dksX7_fails_0 : cX7_fails.data.toList.drop 0 = dktX7_fails_0 := by decide +kernel
theorem dX7_fails_0 : decode cX7_fails 0 = .ok (.new 95, 3) := dk_187 0 95 (dk_at dksX7_fails_0 0 rfl rfl)
theorem dX7_fails_3 : decode cX7_fails 3 = .ok (.dup, 1) := dk_89 (dk_at dksX7_fails_0 3 rfl rfl)
theorem dX7_fails_4 : decode cX7_fails 4 = .ok (.iload_n 1, 1) := dk_27 (dk_at dksX7_fails_0 4 rfl rfl)
theorem dX7_fails_5 : decode cX7_fails 5 = .ok (.aload_n 0, 1) := dk_42 (dk_at dksX7_fails_0 5 rfl rfl)
theorem dX7_fails_6 : decode cX7_fails 6 = .ok (.getfield 74, 3) := dk_180 0 74 (dk_at dksX7_fails_0 6 rfl rfl)
theorem dX7_fails_9 : decode cX7_fails 9 = .ok (.invokespecial 97, 3) := dk_183 0 97 (dk_at dksX7_fails_0 9 rfl rfl)
theorem dX7_fails_12 : decode cX7_fails 12 = .ok (.athrow, 1) := dk_191 (dk_at dksX7_fails_0 12 rfl rfl)
abbrev cX7_lawLine : ByteArray := prog_9_method_15_code
def yX7_lawLine : MethodName := ⟨RX7, "lawLine", "(I)V"⟩
def dkwX7_lawLine_2 : List UInt8 := [18, 184, 182, 0, 186, 42, 180, 0, 50, 180, 0, 181, 27, 50, 28, 42, 182, 0, 190, 83, 177]
abbrev dktX7_lawLine_2 : List UInt8 := dkwX7_lawLine_2 ++ []
def dkwX7_lawLine_1 : List UInt8 := [180, 0, 50, 180, 0, 181, 27, 50, 28, 50, 198, 0, 8, 42, 5, 182, 0, 117, 42, 182, 0, 112, 42]
abbrev dktX7_lawLine_1 : List UInt8 := dkwX7_lawLine_1 ++ dktX7_lawLine_2
def dkwX7_lawLine_0 : List UInt8 := [42, 182, 0, 112, 42, 182, 0, 178, 61, 27, 5, 160, 0, 12, 28, 153, 0, 8, 42, 4, 182, 0, 117, 42]
abbrev dktX7_lawLine_0 : List UInt8 := dkwX7_lawLine_0 ++ dktX7_lawLine_1
theorem dksX7_lawLine_0 : cX7_lawLine.data.toList.drop 0 = dktX7_lawLine_0 := by decide +kernel
theorem dksX7_lawLine_1 : cX7_lawLine.data.toList.drop 24 = dktX7_lawLine_1 := dk_seg dksX7_lawLine_0 24 rfl rfl
theorem dksX7_lawLine_2 : cX7_lawLine.data.toList.drop 47 = dktX7_lawLine_2 := dk_seg dksX7_lawLine_1 23 rfl rfl
theorem dX7_lawLine_0 : decode cX7_lawLine 0 = .ok (.aload_n 0, 1) := dk_42 (dk_at dksX7_lawLine_0 0 rfl rfl)
theorem dX7_lawLine_1 : decode cX7_lawLine 1 = .ok (.invokevirtual 112, 3) := dk_182 0 112 (dk_at dksX7_lawLine_0 1 rfl rfl)
theorem dX7_lawLine_4 : decode cX7_lawLine 4 = .ok (.aload_n 0, 1) := dk_42 (dk_at dksX7_lawLine_0 4 rfl rfl)
theorem dX7_lawLine_5 : decode cX7_lawLine 5 = .ok (.invokevirtual 178, 3) := dk_182 0 178 (dk_at dksX7_lawLine_0 5 rfl rfl)
theorem dX7_lawLine_8 : decode cX7_lawLine 8 = .ok (.istore_n 2, 1) := dk_61 (dk_at dksX7_lawLine_0 8 rfl rfl)
theorem dX7_lawLine_9 : decode cX7_lawLine 9 = .ok (.iload_n 1, 1) := dk_27 (dk_at dksX7_lawLine_0 9 rfl rfl)
theorem dX7_lawLine_10 : decode cX7_lawLine 10 = .ok (.iconst 2, 1) := dk_5 (dk_at dksX7_lawLine_0 10 rfl rfl)
theorem dX7_lawLine_11 : decode cX7_lawLine 11 = .ok (.if_icmp .ne 12, 3) := dk_160 0 12 (dk_at dksX7_lawLine_0 11 rfl rfl)
theorem dX7_lawLine_14 : decode cX7_lawLine 14 = .ok (.iload_n 2, 1) := dk_28 (dk_at dksX7_lawLine_0 14 rfl rfl)
theorem dX7_lawLine_15 : decode cX7_lawLine 15 = .ok (.ifCond .eq 8, 3) := dk_153 0 8 (dk_at dksX7_lawLine_0 15 rfl rfl)
theorem dX7_lawLine_18 : decode cX7_lawLine 18 = .ok (.aload_n 0, 1) := dk_42 (dk_at dksX7_lawLine_0 18 rfl rfl)
theorem dX7_lawLine_19 : decode cX7_lawLine 19 = .ok (.iconst 1, 1) := dk_4 (dk_at dksX7_lawLine_0 19 rfl rfl)
theorem dX7_lawLine_20 : decode cX7_lawLine 20 = .ok (.invokevirtual 117, 3) := dk_182 0 117 (dk_at dksX7_lawLine_0 20 rfl rfl)
theorem dX7_lawLine_23 : decode cX7_lawLine 23 = .ok (.aload_n 0, 1) := dk_42 (dk_at dksX7_lawLine_0 23 rfl rfl)
theorem dX7_lawLine_24 : decode cX7_lawLine 24 = .ok (.getfield 50, 3) := dk_180 0 50 (dk_at dksX7_lawLine_1 0 rfl rfl)
theorem dX7_lawLine_27 : decode cX7_lawLine 27 = .ok (.getfield 181, 3) := dk_180 0 181 (dk_at dksX7_lawLine_1 3 rfl rfl)
theorem dX7_lawLine_30 : decode cX7_lawLine 30 = .ok (.iload_n 1, 1) := dk_27 (dk_at dksX7_lawLine_1 6 rfl rfl)
theorem dX7_lawLine_31 : decode cX7_lawLine 31 = .ok (.aaload, 1) := dk_50 (dk_at dksX7_lawLine_1 7 rfl rfl)
theorem dX7_lawLine_32 : decode cX7_lawLine 32 = .ok (.iload_n 2, 1) := dk_28 (dk_at dksX7_lawLine_1 8 rfl rfl)
theorem dX7_lawLine_33 : decode cX7_lawLine 33 = .ok (.aaload, 1) := dk_50 (dk_at dksX7_lawLine_1 9 rfl rfl)
theorem dX7_lawLine_34 : decode cX7_lawLine 34 = .ok (.ifnull 8, 3) := dk_198 0 8 (dk_at dksX7_lawLine_1 10 rfl rfl)
theorem dX7_lawLine_37 : decode cX7_lawLine 37 = .ok (.aload_n 0, 1) := dk_42 (dk_at dksX7_lawLine_1 13 rfl rfl)
theorem dX7_lawLine_38 : decode cX7_lawLine 38 = .ok (.iconst 2, 1) := dk_5 (dk_at dksX7_lawLine_1 14 rfl rfl)
theorem dX7_lawLine_39 : decode cX7_lawLine 39 = .ok (.invokevirtual 117, 3) := dk_182 0 117 (dk_at dksX7_lawLine_1 15 rfl rfl)
theorem dX7_lawLine_42 : decode cX7_lawLine 42 = .ok (.aload_n 0, 1) := dk_42 (dk_at dksX7_lawLine_1 18 rfl rfl)
theorem dX7_lawLine_43 : decode cX7_lawLine 43 = .ok (.invokevirtual 112, 3) := dk_182 0 112 (dk_at dksX7_lawLine_1 19 rfl rfl)
theorem dX7_lawLine_46 : decode cX7_lawLine 46 = .ok (.aload_n 0, 1) := dk_42 (dk_at dksX7_lawLine_1 22 rfl rfl)
theorem dX7_lawLine_47 : decode cX7_lawLine 47 = .ok (.ldc 184, 2) := dk_18 184 (dk_at dksX7_lawLine_2 0 rfl rfl)
theorem dX7_lawLine_49 : decode cX7_lawLine 49 = .ok (.invokevirtual 186, 3) := dk_182 0 186 (dk_at dksX7_lawLine_2 2 rfl rfl)
theorem dX7_lawLine_52 : decode cX7_lawLine 52 = .ok (.aload_n 0, 1) := dk_42 (dk_at dksX7_lawLine_2 5 rfl rfl)
theorem dX7_lawLine_53 : decode cX7_lawLine 53 = .ok (.getfield 50, 3) := dk_180 0 50 (dk_at dksX7_lawLine_2 6 rfl rfl)
theorem dX7_lawLine_56 : decode cX7_lawLine 56 = .ok (.getfield 181, 3) := dk_180 0 181 (dk_at dksX7_lawLine_2 9 rfl rfl)
theorem dX7_lawLine_59 : decode cX7_lawLine 59 = .ok (.iload_n 1, 1) := dk_27 (dk_at dksX7_lawLine_2 12 rfl rfl)
theorem dX7_lawLine_60 : decode cX7_lawLine 60 = .ok (.aaload, 1) := dk_50 (dk_at dksX7_lawLine_2 13 rfl rfl)
theorem dX7_lawLine_61 : decode cX7_lawLine 61 = .ok (.iload_n 2, 1) := dk_28 (dk_at dksX7_lawLine_2 14 rfl rfl)
theorem dX7_lawLine_62 : decode cX7_lawLine 62 = .ok (.aload_n 0, 1) := dk_42 (dk_at dksX7_lawLine_2 15 rfl rfl)
theorem dX7_lawLine_63 : decode cX7_lawLine 63 = .ok (.invokevirtual 190, 3) := dk_182 0 190 (dk_at dksX7_lawLine_2 16 rfl rfl)
theorem dX7_lawLine_66 : decode cX7_lawLine 66 = .ok (.aastore, 1) := dk_83 (dk_at dksX7_lawLine_2 19 rfl rfl)
theorem dX7_lawLine_67 : decode cX7_lawLine 67 = .ok (.return_, 1) := dk_177 (dk_at dksX7_lawLine_2 20 rfl rfl)
abbrev cX7_sort : ByteArray := prog_9_method_10_code
def yX7_sort : MethodName := ⟨RX7, "sort", "()I"⟩
def dkwX7_sort_0 : List UInt8 := [42, 42, 180, 0, 19, 182, 0, 124, 60, 27, 7, 160, 0, 8, 42, 4, 182, 0, 117, 27, 172]
abbrev dktX7_sort_0 : List UInt8 := dkwX7_sort_0 ++ []
theorem dksX7_sort_0 : cX7_sort.data.toList.drop 0 = dktX7_sort_0 := by decide +kernel
theorem dX7_sort_0 : decode cX7_sort 0 = .ok (.aload_n 0, 1) := dk_42 (dk_at dksX7_sort_0 0 rfl rfl)
theorem dX7_sort_1 : decode cX7_sort 1 = .ok (.aload_n 0, 1) := dk_42 (dk_at dksX7_sort_0 1 rfl rfl)
theorem dX7_sort_2 : decode cX7_sort 2 = .ok (.getfield 19, 3) := dk_180 0 19 (dk_at dksX7_sort_0 2 rfl rfl)
theorem dX7_sort_5 : decode cX7_sort 5 = .ok (.invokevirtual 124, 3) := dk_182 0 124 (dk_at dksX7_sort_0 5 rfl rfl)
theorem dX7_sort_8 : decode cX7_sort 8 = .ok (.istore_n 1, 1) := dk_60 (dk_at dksX7_sort_0 8 rfl rfl)
theorem dX7_sort_9 : decode cX7_sort 9 = .ok (.iload_n 1, 1) := dk_27 (dk_at dksX7_sort_0 9 rfl rfl)
theorem dX7_sort_10 : decode cX7_sort 10 = .ok (.iconst 4, 1) := dk_7 (dk_at dksX7_sort_0 10 rfl rfl)
theorem dX7_sort_11 : decode cX7_sort 11 = .ok (.if_icmp .ne 8, 3) := dk_160 0 8 (dk_at dksX7_sort_0 11 rfl rfl)
theorem dX7_sort_14 : decode cX7_sort 14 = .ok (.aload_n 0, 1) := dk_42 (dk_at dksX7_sort_0 14 rfl rfl)
theorem dX7_sort_15 : decode cX7_sort 15 = .ok (.iconst 1, 1) := dk_4 (dk_at dksX7_sort_0 15 rfl rfl)
theorem dX7_sort_16 : decode cX7_sort 16 = .ok (.invokevirtual 117, 3) := dk_182 0 117 (dk_at dksX7_sort_0 16 rfl rfl)
theorem dX7_sort_19 : decode cX7_sort 19 = .ok (.iload_n 1, 1) := dk_27 (dk_at dksX7_sort_0 19 rfl rfl)
theorem dX7_sort_20 : decode cX7_sort 20 = .ok (.ireturn, 1) := dk_172 (dk_at dksX7_sort_0 20 rfl rfl)
abbrev cX7_word : ByteArray := prog_9_method_7_code
def yX7_word : MethodName := ⟨RX7, "word", "(Ljava/lang/String;)V"⟩
def dkwX7_word_0 : List UInt8 := [42, 43, 182, 0, 114, 154, 0, 8, 42, 4, 182, 0, 117, 177]
abbrev dktX7_word_0 : List UInt8 := dkwX7_word_0 ++ []
theorem dksX7_word_0 : cX7_word.data.toList.drop 0 = dktX7_word_0 := by decide +kernel
theorem dX7_word_0 : decode cX7_word 0 = .ok (.aload_n 0, 1) := dk_42 (dk_at dksX7_word_0 0 rfl rfl)
theorem dX7_word_1 : decode cX7_word 1 = .ok (.aload_n 1, 1) := dk_43 (dk_at dksX7_word_0 1 rfl rfl)
theorem dX7_word_2 : decode cX7_word 2 = .ok (.invokevirtual 114, 3) := dk_182 0 114 (dk_at dksX7_word_0 2 rfl rfl)
theorem dX7_word_5 : decode cX7_word 5 = .ok (.ifCond .ne 8, 3) := dk_154 0 8 (dk_at dksX7_word_0 5 rfl rfl)
theorem dX7_word_8 : decode cX7_word 8 = .ok (.aload_n 0, 1) := dk_42 (dk_at dksX7_word_0 8 rfl rfl)
theorem dX7_word_9 : decode cX7_word 9 = .ok (.iconst 1, 1) := dk_4 (dk_at dksX7_word_0 9 rfl rfl)
theorem dX7_word_10 : decode cX7_word 10 = .ok (.invokevirtual 117, 3) := dk_182 0 117 (dk_at dksX7_word_0 10 rfl rfl)
theorem dX7_word_13 : decode cX7_word 13 = .ok (.return_, 1) := dk_177 (dk_at dksX7_word_0 13 rfl rfl)
abbrev cX7_takes : ByteArray := prog_9_method_6_code
def yX7_takes : MethodName := ⟨RX7, "takes", "(Ljava/lang/String;)Z"⟩
def dkwX7_takes_0 : List UInt8 := [42, 43, 182, 0, 108, 61, 28, 153, 0, 7, 42, 182, 0, 112, 28, 172]
abbrev dktX7_takes_0 : List UInt8 := dkwX7_takes_0 ++ []
theorem dksX7_takes_0 : cX7_takes.data.toList.drop 0 = dktX7_takes_0 := by decide +kernel
theorem dX7_takes_0 : decode cX7_takes 0 = .ok (.aload_n 0, 1) := dk_42 (dk_at dksX7_takes_0 0 rfl rfl)
theorem dX7_takes_1 : decode cX7_takes 1 = .ok (.aload_n 1, 1) := dk_43 (dk_at dksX7_takes_0 1 rfl rfl)
theorem dX7_takes_2 : decode cX7_takes 2 = .ok (.invokevirtual 108, 3) := dk_182 0 108 (dk_at dksX7_takes_0 2 rfl rfl)
theorem dX7_takes_5 : decode cX7_takes 5 = .ok (.istore_n 2, 1) := dk_61 (dk_at dksX7_takes_0 5 rfl rfl)
theorem dX7_takes_6 : decode cX7_takes 6 = .ok (.iload_n 2, 1) := dk_28 (dk_at dksX7_takes_0 6 rfl rfl)
theorem dX7_takes_7 : decode cX7_takes 7 = .ok (.ifCond .eq 7, 3) := dk_153 0 7 (dk_at dksX7_takes_0 7 rfl rfl)
theorem dX7_takes_10 : decode cX7_takes 10 = .ok (.aload_n 0, 1) := dk_42 (dk_at dksX7_takes_0 10 rfl rfl)
theorem dX7_takes_11 : decode cX7_takes 11 = .ok (.invokevirtual 112, 3) := dk_182 0 112 (dk_at dksX7_takes_0 11 rfl rfl)
theorem dX7_takes_14 : decode cX7_takes 14 = .ok (.iload_n 2, 1) := dk_28 (dk_at dksX7_takes_0 14 rfl rfl)
theorem dX7_takes_15 : decode cX7_takes 15 = .ok (.ireturn, 1) := dk_172 (dk_at dksX7_takes_0 15 rfl rfl)
abbrev cX7_sum : ByteArray := prog_9_method_14_code
def yX7_sum : MethodName := ⟨RX7, "sum", "()LNonsenseRows$Sum;"⟩
def dkwX7_sum_2 : List UInt8 := [167, 255, 213, 43, 176]
abbrev dktX7_sum_2 : List UInt8 := dkwX7_sum_2 ++ []
def dkwX7_sum_1 : List UInt8 := [18, 171, 182, 0, 108, 61, 42, 182, 0, 112, 187, 0, 173, 89, 43, 28, 42, 182, 0, 166, 183, 0, 175, 76]
abbrev dktX7_sum_1 : List UInt8 := dkwX7_sum_1 ++ dktX7_sum_2
def dkwX7_sum_0 : List UInt8 := [42, 182, 0, 166, 76, 42, 18, 169, 182, 0, 108, 154, 0, 12, 42, 18, 171, 182, 0, 108, 153, 0, 31, 42]
abbrev dktX7_sum_0 : List UInt8 := dkwX7_sum_0 ++ dktX7_sum_1
theorem dksX7_sum_0 : cX7_sum.data.toList.drop 0 = dktX7_sum_0 := by decide +kernel
theorem dksX7_sum_1 : cX7_sum.data.toList.drop 24 = dktX7_sum_1 := dk_seg dksX7_sum_0 24 rfl rfl
theorem dksX7_sum_2 : cX7_sum.data.toList.drop 48 = dktX7_sum_2 := dk_seg dksX7_sum_1 24 rfl rfl
theorem dX7_sum_0 : decode cX7_sum 0 = .ok (.aload_n 0, 1) := dk_42 (dk_at dksX7_sum_0 0 rfl rfl)
theorem dX7_sum_1 : decode cX7_sum 1 = .ok (.invokevirtual 166, 3) := dk_182 0 166 (dk_at dksX7_sum_0 1 rfl rfl)
theorem dX7_sum_4 : decode cX7_sum 4 = .ok (.astore_n 1, 1) := dk_76 (dk_at dksX7_sum_0 4 rfl rfl)
theorem dX7_sum_5 : decode cX7_sum 5 = .ok (.aload_n 0, 1) := dk_42 (dk_at dksX7_sum_0 5 rfl rfl)
theorem dX7_sum_6 : decode cX7_sum 6 = .ok (.ldc 169, 2) := dk_18 169 (dk_at dksX7_sum_0 6 rfl rfl)
theorem dX7_sum_8 : decode cX7_sum 8 = .ok (.invokevirtual 108, 3) := dk_182 0 108 (dk_at dksX7_sum_0 8 rfl rfl)
theorem dX7_sum_11 : decode cX7_sum 11 = .ok (.ifCond .ne 12, 3) := dk_154 0 12 (dk_at dksX7_sum_0 11 rfl rfl)
theorem dX7_sum_14 : decode cX7_sum 14 = .ok (.aload_n 0, 1) := dk_42 (dk_at dksX7_sum_0 14 rfl rfl)
theorem dX7_sum_15 : decode cX7_sum 15 = .ok (.ldc 171, 2) := dk_18 171 (dk_at dksX7_sum_0 15 rfl rfl)
theorem dX7_sum_17 : decode cX7_sum 17 = .ok (.invokevirtual 108, 3) := dk_182 0 108 (dk_at dksX7_sum_0 17 rfl rfl)
theorem dX7_sum_20 : decode cX7_sum 20 = .ok (.ifCond .eq 31, 3) := dk_153 0 31 (dk_at dksX7_sum_0 20 rfl rfl)
theorem dX7_sum_23 : decode cX7_sum 23 = .ok (.aload_n 0, 1) := dk_42 (dk_at dksX7_sum_0 23 rfl rfl)
theorem dX7_sum_24 : decode cX7_sum 24 = .ok (.ldc 171, 2) := dk_18 171 (dk_at dksX7_sum_1 0 rfl rfl)
theorem dX7_sum_26 : decode cX7_sum 26 = .ok (.invokevirtual 108, 3) := dk_182 0 108 (dk_at dksX7_sum_1 2 rfl rfl)
theorem dX7_sum_29 : decode cX7_sum 29 = .ok (.istore_n 2, 1) := dk_61 (dk_at dksX7_sum_1 5 rfl rfl)
theorem dX7_sum_30 : decode cX7_sum 30 = .ok (.aload_n 0, 1) := dk_42 (dk_at dksX7_sum_1 6 rfl rfl)
theorem dX7_sum_31 : decode cX7_sum 31 = .ok (.invokevirtual 112, 3) := dk_182 0 112 (dk_at dksX7_sum_1 7 rfl rfl)
theorem dX7_sum_34 : decode cX7_sum 34 = .ok (.new 173, 3) := dk_187 0 173 (dk_at dksX7_sum_1 10 rfl rfl)
theorem dX7_sum_37 : decode cX7_sum 37 = .ok (.dup, 1) := dk_89 (dk_at dksX7_sum_1 13 rfl rfl)
theorem dX7_sum_38 : decode cX7_sum 38 = .ok (.aload_n 1, 1) := dk_43 (dk_at dksX7_sum_1 14 rfl rfl)
theorem dX7_sum_39 : decode cX7_sum 39 = .ok (.iload_n 2, 1) := dk_28 (dk_at dksX7_sum_1 15 rfl rfl)
theorem dX7_sum_40 : decode cX7_sum 40 = .ok (.aload_n 0, 1) := dk_42 (dk_at dksX7_sum_1 16 rfl rfl)
theorem dX7_sum_41 : decode cX7_sum 41 = .ok (.invokevirtual 166, 3) := dk_182 0 166 (dk_at dksX7_sum_1 17 rfl rfl)
theorem dX7_sum_44 : decode cX7_sum 44 = .ok (.invokespecial 175, 3) := dk_183 0 175 (dk_at dksX7_sum_1 20 rfl rfl)
theorem dX7_sum_47 : decode cX7_sum 47 = .ok (.astore_n 1, 1) := dk_76 (dk_at dksX7_sum_1 23 rfl rfl)
theorem dX7_sum_48 : decode cX7_sum 48 = .ok (.goto (-43), 3) := dk_167 255 213 (dk_at dksX7_sum_2 0 rfl rfl)
theorem dX7_sum_51 : decode cX7_sum 51 = .ok (.aload_n 1, 1) := dk_43 (dk_at dksX7_sum_2 3 rfl rfl)
theorem dX7_sum_52 : decode cX7_sum 52 = .ok (.areturn, 1) := dk_176 (dk_at dksX7_sum_2 4 rfl rfl)
abbrev cX7_term : ByteArray := prog_9_method_13_code
def yX7_term : MethodName := ⟨RX7, "term", "()LNonsenseRows$Sum;"⟩
def dkwX7_term_2 : List UInt8 := [183, 0, 160, 167, 0, 15, 187, 0, 163, 89, 43, 42, 182, 0, 150, 183, 0, 165, 76, 167, 255, 195, 43, 176]
abbrev dktX7_term_2 : List UInt8 := dkwX7_term_2 ++ []
def dkwX7_term_1 : List UInt8 := [18, 156, 182, 0, 108, 61, 42, 182, 0, 112, 28, 153, 0, 18, 187, 0, 158, 89, 43, 42, 182, 0, 150]
abbrev dktX7_term_1 : List UInt8 := dkwX7_term_1 ++ dktX7_term_2
def dkwX7_term_0 : List UInt8 := [42, 182, 0, 150, 76, 42, 18, 154, 182, 0, 108, 154, 0, 12, 42, 18, 156, 182, 0, 108, 153, 0, 49, 42]
abbrev dktX7_term_0 : List UInt8 := dkwX7_term_0 ++ dktX7_term_1
theorem dksX7_term_0 : cX7_term.data.toList.drop 0 = dktX7_term_0 := by decide +kernel
theorem dksX7_term_1 : cX7_term.data.toList.drop 24 = dktX7_term_1 := dk_seg dksX7_term_0 24 rfl rfl
theorem dksX7_term_2 : cX7_term.data.toList.drop 47 = dktX7_term_2 := dk_seg dksX7_term_1 23 rfl rfl
theorem dX7_term_0 : decode cX7_term 0 = .ok (.aload_n 0, 1) := dk_42 (dk_at dksX7_term_0 0 rfl rfl)
theorem dX7_term_1 : decode cX7_term 1 = .ok (.invokevirtual 150, 3) := dk_182 0 150 (dk_at dksX7_term_0 1 rfl rfl)
theorem dX7_term_4 : decode cX7_term 4 = .ok (.astore_n 1, 1) := dk_76 (dk_at dksX7_term_0 4 rfl rfl)
theorem dX7_term_5 : decode cX7_term 5 = .ok (.aload_n 0, 1) := dk_42 (dk_at dksX7_term_0 5 rfl rfl)
theorem dX7_term_6 : decode cX7_term 6 = .ok (.ldc 154, 2) := dk_18 154 (dk_at dksX7_term_0 6 rfl rfl)
theorem dX7_term_8 : decode cX7_term 8 = .ok (.invokevirtual 108, 3) := dk_182 0 108 (dk_at dksX7_term_0 8 rfl rfl)
theorem dX7_term_11 : decode cX7_term 11 = .ok (.ifCond .ne 12, 3) := dk_154 0 12 (dk_at dksX7_term_0 11 rfl rfl)
theorem dX7_term_14 : decode cX7_term 14 = .ok (.aload_n 0, 1) := dk_42 (dk_at dksX7_term_0 14 rfl rfl)
theorem dX7_term_15 : decode cX7_term 15 = .ok (.ldc 156, 2) := dk_18 156 (dk_at dksX7_term_0 15 rfl rfl)
theorem dX7_term_17 : decode cX7_term 17 = .ok (.invokevirtual 108, 3) := dk_182 0 108 (dk_at dksX7_term_0 17 rfl rfl)
theorem dX7_term_20 : decode cX7_term 20 = .ok (.ifCond .eq 49, 3) := dk_153 0 49 (dk_at dksX7_term_0 20 rfl rfl)
theorem dX7_term_23 : decode cX7_term 23 = .ok (.aload_n 0, 1) := dk_42 (dk_at dksX7_term_0 23 rfl rfl)
theorem dX7_term_24 : decode cX7_term 24 = .ok (.ldc 156, 2) := dk_18 156 (dk_at dksX7_term_1 0 rfl rfl)
theorem dX7_term_26 : decode cX7_term 26 = .ok (.invokevirtual 108, 3) := dk_182 0 108 (dk_at dksX7_term_1 2 rfl rfl)
theorem dX7_term_29 : decode cX7_term 29 = .ok (.istore_n 2, 1) := dk_61 (dk_at dksX7_term_1 5 rfl rfl)
theorem dX7_term_30 : decode cX7_term 30 = .ok (.aload_n 0, 1) := dk_42 (dk_at dksX7_term_1 6 rfl rfl)
theorem dX7_term_31 : decode cX7_term 31 = .ok (.invokevirtual 112, 3) := dk_182 0 112 (dk_at dksX7_term_1 7 rfl rfl)
theorem dX7_term_34 : decode cX7_term 34 = .ok (.iload_n 2, 1) := dk_28 (dk_at dksX7_term_1 10 rfl rfl)
theorem dX7_term_35 : decode cX7_term 35 = .ok (.ifCond .eq 18, 3) := dk_153 0 18 (dk_at dksX7_term_1 11 rfl rfl)
theorem dX7_term_38 : decode cX7_term 38 = .ok (.new 158, 3) := dk_187 0 158 (dk_at dksX7_term_1 14 rfl rfl)
theorem dX7_term_41 : decode cX7_term 41 = .ok (.dup, 1) := dk_89 (dk_at dksX7_term_1 17 rfl rfl)
theorem dX7_term_42 : decode cX7_term 42 = .ok (.aload_n 1, 1) := dk_43 (dk_at dksX7_term_1 18 rfl rfl)
theorem dX7_term_43 : decode cX7_term 43 = .ok (.aload_n 0, 1) := dk_42 (dk_at dksX7_term_1 19 rfl rfl)
theorem dX7_term_44 : decode cX7_term 44 = .ok (.invokevirtual 150, 3) := dk_182 0 150 (dk_at dksX7_term_1 20 rfl rfl)
theorem dX7_term_47 : decode cX7_term 47 = .ok (.invokespecial 160, 3) := dk_183 0 160 (dk_at dksX7_term_2 0 rfl rfl)
theorem dX7_term_50 : decode cX7_term 50 = .ok (.goto 15, 3) := dk_167 0 15 (dk_at dksX7_term_2 3 rfl rfl)
theorem dX7_term_53 : decode cX7_term 53 = .ok (.new 163, 3) := dk_187 0 163 (dk_at dksX7_term_2 6 rfl rfl)
theorem dX7_term_56 : decode cX7_term 56 = .ok (.dup, 1) := dk_89 (dk_at dksX7_term_2 9 rfl rfl)
theorem dX7_term_57 : decode cX7_term 57 = .ok (.aload_n 1, 1) := dk_43 (dk_at dksX7_term_2 10 rfl rfl)
theorem dX7_term_58 : decode cX7_term 58 = .ok (.aload_n 0, 1) := dk_42 (dk_at dksX7_term_2 11 rfl rfl)
theorem dX7_term_59 : decode cX7_term 59 = .ok (.invokevirtual 150, 3) := dk_182 0 150 (dk_at dksX7_term_2 12 rfl rfl)
theorem dX7_term_62 : decode cX7_term 62 = .ok (.invokespecial 165, 3) := dk_183 0 165 (dk_at dksX7_term_2 15 rfl rfl)
theorem dX7_term_65 : decode cX7_term 65 = .ok (.astore_n 1, 1) := dk_76 (dk_at dksX7_term_2 18 rfl rfl)
theorem dX7_term_66 : decode cX7_term 66 = .ok (.goto (-61), 3) := dk_167 255 195 (dk_at dksX7_term_2 19 rfl rfl)
theorem dX7_term_69 : decode cX7_term 69 = .ok (.aload_n 1, 1) := dk_43 (dk_at dksX7_term_2 22 rfl rfl)
theorem dX7_term_70 : decode cX7_term 70 = .ok (.areturn, 1) := dk_176 (dk_at dksX7_term_2 23 rfl rfl)
abbrev cX7_part : ByteArray := prog_9_method_12_code
def yX7_part : MethodName := ⟨RX7, "part", "()LNonsenseRows$Sum;"⟩
def dkwX7_part_2 : List UInt8 := [182, 0, 112, 187, 0, 147, 89, 27, 183, 0, 149, 176]
abbrev dktX7_part_2 : List UInt8 := dkwX7_part_2 ++ []
def dkwX7_part_1 : List UInt8 := [42, 42, 180, 0, 44, 182, 0, 124, 60, 27, 42, 180, 0, 44, 190, 160, 0, 8, 42, 4, 182, 0, 117, 42]
abbrev dktX7_part_1 : List UInt8 := dkwX7_part_1 ++ dktX7_part_2
def dkwX7_part_0 : List UInt8 := [42, 180, 0, 82, 5, 160, 0, 19, 187, 0, 144, 89, 42, 3, 17, 3, 232, 182, 0, 131, 183, 0, 146, 176]
abbrev dktX7_part_0 : List UInt8 := dkwX7_part_0 ++ dktX7_part_1
theorem dksX7_part_0 : cX7_part.data.toList.drop 0 = dktX7_part_0 := by decide +kernel
theorem dksX7_part_1 : cX7_part.data.toList.drop 24 = dktX7_part_1 := dk_seg dksX7_part_0 24 rfl rfl
theorem dksX7_part_2 : cX7_part.data.toList.drop 48 = dktX7_part_2 := dk_seg dksX7_part_1 24 rfl rfl
theorem dX7_part_0 : decode cX7_part 0 = .ok (.aload_n 0, 1) := dk_42 (dk_at dksX7_part_0 0 rfl rfl)
theorem dX7_part_1 : decode cX7_part 1 = .ok (.getfield 82, 3) := dk_180 0 82 (dk_at dksX7_part_0 1 rfl rfl)
theorem dX7_part_4 : decode cX7_part 4 = .ok (.iconst 2, 1) := dk_5 (dk_at dksX7_part_0 4 rfl rfl)
theorem dX7_part_5 : decode cX7_part 5 = .ok (.if_icmp .ne 19, 3) := dk_160 0 19 (dk_at dksX7_part_0 5 rfl rfl)
theorem dX7_part_8 : decode cX7_part 8 = .ok (.new 144, 3) := dk_187 0 144 (dk_at dksX7_part_0 8 rfl rfl)
theorem dX7_part_11 : decode cX7_part 11 = .ok (.dup, 1) := dk_89 (dk_at dksX7_part_0 11 rfl rfl)
theorem dX7_part_12 : decode cX7_part 12 = .ok (.aload_n 0, 1) := dk_42 (dk_at dksX7_part_0 12 rfl rfl)
theorem dX7_part_13 : decode cX7_part 13 = .ok (.iconst 0, 1) := dk_3 (dk_at dksX7_part_0 13 rfl rfl)
theorem dX7_part_14 : decode cX7_part 14 = .ok (.sipush 1000, 3) := dk_17 3 232 (dk_at dksX7_part_0 14 rfl rfl)
theorem dX7_part_17 : decode cX7_part 17 = .ok (.invokevirtual 131, 3) := dk_182 0 131 (dk_at dksX7_part_0 17 rfl rfl)
theorem dX7_part_20 : decode cX7_part 20 = .ok (.invokespecial 146, 3) := dk_183 0 146 (dk_at dksX7_part_0 20 rfl rfl)
theorem dX7_part_23 : decode cX7_part 23 = .ok (.areturn, 1) := dk_176 (dk_at dksX7_part_0 23 rfl rfl)
theorem dX7_part_24 : decode cX7_part 24 = .ok (.aload_n 0, 1) := dk_42 (dk_at dksX7_part_1 0 rfl rfl)
theorem dX7_part_25 : decode cX7_part 25 = .ok (.aload_n 0, 1) := dk_42 (dk_at dksX7_part_1 1 rfl rfl)
theorem dX7_part_26 : decode cX7_part 26 = .ok (.getfield 44, 3) := dk_180 0 44 (dk_at dksX7_part_1 2 rfl rfl)
theorem dX7_part_29 : decode cX7_part 29 = .ok (.invokevirtual 124, 3) := dk_182 0 124 (dk_at dksX7_part_1 5 rfl rfl)
theorem dX7_part_32 : decode cX7_part 32 = .ok (.istore_n 1, 1) := dk_60 (dk_at dksX7_part_1 8 rfl rfl)
theorem dX7_part_33 : decode cX7_part 33 = .ok (.iload_n 1, 1) := dk_27 (dk_at dksX7_part_1 9 rfl rfl)
theorem dX7_part_34 : decode cX7_part 34 = .ok (.aload_n 0, 1) := dk_42 (dk_at dksX7_part_1 10 rfl rfl)
theorem dX7_part_35 : decode cX7_part 35 = .ok (.getfield 44, 3) := dk_180 0 44 (dk_at dksX7_part_1 11 rfl rfl)
theorem dX7_part_38 : decode cX7_part 38 = .ok (.arraylength, 1) := dk_190 (dk_at dksX7_part_1 14 rfl rfl)
theorem dX7_part_39 : decode cX7_part 39 = .ok (.if_icmp .ne 8, 3) := dk_160 0 8 (dk_at dksX7_part_1 15 rfl rfl)
theorem dX7_part_42 : decode cX7_part 42 = .ok (.aload_n 0, 1) := dk_42 (dk_at dksX7_part_1 18 rfl rfl)
theorem dX7_part_43 : decode cX7_part 43 = .ok (.iconst 1, 1) := dk_4 (dk_at dksX7_part_1 19 rfl rfl)
theorem dX7_part_44 : decode cX7_part 44 = .ok (.invokevirtual 117, 3) := dk_182 0 117 (dk_at dksX7_part_1 20 rfl rfl)
theorem dX7_part_47 : decode cX7_part 47 = .ok (.aload_n 0, 1) := dk_42 (dk_at dksX7_part_1 23 rfl rfl)
theorem dX7_part_48 : decode cX7_part 48 = .ok (.invokevirtual 112, 3) := dk_182 0 112 (dk_at dksX7_part_2 0 rfl rfl)
theorem dX7_part_51 : decode cX7_part 51 = .ok (.new 147, 3) := dk_187 0 147 (dk_at dksX7_part_2 3 rfl rfl)
theorem dX7_part_54 : decode cX7_part 54 = .ok (.dup, 1) := dk_89 (dk_at dksX7_part_2 6 rfl rfl)
theorem dX7_part_55 : decode cX7_part 55 = .ok (.iload_n 1, 1) := dk_27 (dk_at dksX7_part_2 7 rfl rfl)
theorem dX7_part_56 : decode cX7_part 56 = .ok (.invokespecial 149, 3) := dk_183 0 149 (dk_at dksX7_part_2 8 rfl rfl)
theorem dX7_part_59 : decode cX7_part 59 = .ok (.areturn, 1) := dk_176 (dk_at dksX7_part_2 11 rfl rfl)
abbrev cX7_number : ByteArray := prog_9_method_8_code
def yX7_number : MethodName := ⟨RX7, "number", "(II)I"⟩
def dkwX7_number_1 : List UInt8 := [184, 0, 120, 154, 0, 8, 42, 5, 182, 0, 117, 42, 180, 0, 79, 62, 42, 182, 0, 112, 29, 172]
abbrev dktX7_number_1 : List UInt8 := dkwX7_number_1 ++ []
def dkwX7_number_0 : List UInt8 := [42, 180, 0, 82, 5, 159, 0, 8, 42, 4, 182, 0, 117, 42, 180, 0, 79, 133, 27, 133, 28, 133]
abbrev dktX7_number_0 : List UInt8 := dkwX7_number_0 ++ dktX7_number_1
theorem dksX7_number_0 : cX7_number.data.toList.drop 0 = dktX7_number_0 := by decide +kernel
theorem dksX7_number_1 : cX7_number.data.toList.drop 22 = dktX7_number_1 := dk_seg dksX7_number_0 22 rfl rfl
theorem dX7_number_0 : decode cX7_number 0 = .ok (.aload_n 0, 1) := dk_42 (dk_at dksX7_number_0 0 rfl rfl)
theorem dX7_number_1 : decode cX7_number 1 = .ok (.getfield 82, 3) := dk_180 0 82 (dk_at dksX7_number_0 1 rfl rfl)
theorem dX7_number_4 : decode cX7_number 4 = .ok (.iconst 2, 1) := dk_5 (dk_at dksX7_number_0 4 rfl rfl)
theorem dX7_number_5 : decode cX7_number 5 = .ok (.if_icmp .eq 8, 3) := dk_159 0 8 (dk_at dksX7_number_0 5 rfl rfl)
theorem dX7_number_8 : decode cX7_number 8 = .ok (.aload_n 0, 1) := dk_42 (dk_at dksX7_number_0 8 rfl rfl)
theorem dX7_number_9 : decode cX7_number 9 = .ok (.iconst 1, 1) := dk_4 (dk_at dksX7_number_0 9 rfl rfl)
theorem dX7_number_10 : decode cX7_number 10 = .ok (.invokevirtual 117, 3) := dk_182 0 117 (dk_at dksX7_number_0 10 rfl rfl)
theorem dX7_number_13 : decode cX7_number 13 = .ok (.aload_n 0, 1) := dk_42 (dk_at dksX7_number_0 13 rfl rfl)
theorem dX7_number_14 : decode cX7_number 14 = .ok (.getfield 79, 3) := dk_180 0 79 (dk_at dksX7_number_0 14 rfl rfl)
theorem dX7_number_17 : decode cX7_number 17 = .ok (.i2l, 1) := dk_133 (dk_at dksX7_number_0 17 rfl rfl)
theorem dX7_number_18 : decode cX7_number 18 = .ok (.iload_n 1, 1) := dk_27 (dk_at dksX7_number_0 18 rfl rfl)
theorem dX7_number_19 : decode cX7_number 19 = .ok (.i2l, 1) := dk_133 (dk_at dksX7_number_0 19 rfl rfl)
theorem dX7_number_20 : decode cX7_number 20 = .ok (.iload_n 2, 1) := dk_28 (dk_at dksX7_number_0 20 rfl rfl)
theorem dX7_number_21 : decode cX7_number 21 = .ok (.i2l, 1) := dk_133 (dk_at dksX7_number_0 21 rfl rfl)
theorem dX7_number_22 : decode cX7_number 22 = .ok (.invokestatic 120, 3) := dk_184 0 120 (dk_at dksX7_number_1 0 rfl rfl)
theorem dX7_number_25 : decode cX7_number 25 = .ok (.ifCond .ne 8, 3) := dk_154 0 8 (dk_at dksX7_number_1 3 rfl rfl)
theorem dX7_number_28 : decode cX7_number 28 = .ok (.aload_n 0, 1) := dk_42 (dk_at dksX7_number_1 6 rfl rfl)
theorem dX7_number_29 : decode cX7_number 29 = .ok (.iconst 2, 1) := dk_5 (dk_at dksX7_number_1 7 rfl rfl)
theorem dX7_number_30 : decode cX7_number 30 = .ok (.invokevirtual 117, 3) := dk_182 0 117 (dk_at dksX7_number_1 8 rfl rfl)
theorem dX7_number_33 : decode cX7_number 33 = .ok (.aload_n 0, 1) := dk_42 (dk_at dksX7_number_1 11 rfl rfl)
theorem dX7_number_34 : decode cX7_number 34 = .ok (.getfield 79, 3) := dk_180 0 79 (dk_at dksX7_number_1 12 rfl rfl)
theorem dX7_number_37 : decode cX7_number 37 = .ok (.istore_n 3, 1) := dk_62 (dk_at dksX7_number_1 15 rfl rfl)
theorem dX7_number_38 : decode cX7_number 38 = .ok (.aload_n 0, 1) := dk_42 (dk_at dksX7_number_1 16 rfl rfl)
theorem dX7_number_39 : decode cX7_number 39 = .ok (.invokevirtual 112, 3) := dk_182 0 112 (dk_at dksX7_number_1 17 rfl rfl)
theorem dX7_number_42 : decode cX7_number 42 = .ok (.iload_n 3, 1) := dk_29 (dk_at dksX7_number_1 20 rfl rfl)
theorem dX7_number_43 : decode cX7_number 43 = .ok (.ireturn, 1) := dk_172 (dk_at dksX7_number_1 21 rfl rfl)
abbrev cX7_rowLine : ByteArray := prog_9_method_11_code
def yX7_rowLine : MethodName := ⟨RX7, "rowLine", "()V"⟩
def dkwX7_rowLine_5 : List UInt8 := [167, 255, 149, 42, 180, 0, 59, 43, 28, 184, 0, 134, 185, 0, 138, 2, 0, 87, 177]
abbrev dktX7_rowLine_5 : List UInt8 := dkwX7_rowLine_5 ++ []
def dkwX7_rowLine_4 : List UInt8 := [182, 0, 117, 43, 28, 42, 3, 42, 180, 0, 50, 180, 0, 128, 4, 100, 182, 0, 131, 79, 132, 2, 1]
abbrev dktX7_rowLine_4 : List UInt8 := dkwX7_rowLine_4 ++ dktX7_rowLine_5
def dkwX7_rowLine_3 : List UInt8 := [180, 0, 50, 180, 0, 128, 161, 0, 8, 42, 5, 182, 0, 117, 28, 16, 12, 160, 0, 8, 42, 6]
abbrev dktX7_rowLine_3 : List UInt8 := dkwX7_rowLine_3 ++ dktX7_rowLine_4
def dkwX7_rowLine_2 : List UInt8 := [182, 0, 117, 132, 3, 1, 167, 255, 225, 42, 180, 0, 82, 5, 160, 0, 22, 42, 180, 0, 79, 42]
abbrev dktX7_rowLine_2 : List UInt8 := dkwX7_rowLine_2 ++ dktX7_rowLine_3
def dkwX7_rowLine_1 : List UInt8 := [162, 0, 32, 42, 180, 0, 82, 5, 160, 0, 18, 43, 29, 46, 42, 180, 0, 79, 160, 0, 8, 42, 5]
abbrev dktX7_rowLine_1 : List UInt8 := dkwX7_rowLine_1 ++ dktX7_rowLine_2
def dkwX7_rowLine_0 : List UInt8 := [16, 12, 188, 10, 76, 3, 61, 28, 5, 161, 0, 11, 42, 180, 0, 82, 5, 160, 0, 100, 3, 62, 29, 28]
abbrev dktX7_rowLine_0 : List UInt8 := dkwX7_rowLine_0 ++ dktX7_rowLine_1
theorem dksX7_rowLine_0 : cX7_rowLine.data.toList.drop 0 = dktX7_rowLine_0 := by decide +kernel
theorem dksX7_rowLine_1 : cX7_rowLine.data.toList.drop 24 = dktX7_rowLine_1 := dk_seg dksX7_rowLine_0 24 rfl rfl
theorem dksX7_rowLine_2 : cX7_rowLine.data.toList.drop 47 = dktX7_rowLine_2 := dk_seg dksX7_rowLine_1 23 rfl rfl
theorem dksX7_rowLine_3 : cX7_rowLine.data.toList.drop 69 = dktX7_rowLine_3 := dk_seg dksX7_rowLine_2 22 rfl rfl
theorem dksX7_rowLine_4 : cX7_rowLine.data.toList.drop 91 = dktX7_rowLine_4 := dk_seg dksX7_rowLine_3 22 rfl rfl
theorem dksX7_rowLine_5 : cX7_rowLine.data.toList.drop 114 = dktX7_rowLine_5 := dk_seg dksX7_rowLine_4 23 rfl rfl
theorem dX7_rowLine_0 : decode cX7_rowLine 0 = .ok (.bipush 12, 2) := dk_16 12 (dk_at dksX7_rowLine_0 0 rfl rfl)
theorem dX7_rowLine_2 : decode cX7_rowLine 2 = .ok (.newarray .int, 2) := dk_188_10 (dk_at dksX7_rowLine_0 2 rfl rfl)
theorem dX7_rowLine_4 : decode cX7_rowLine 4 = .ok (.astore_n 1, 1) := dk_76 (dk_at dksX7_rowLine_0 4 rfl rfl)
theorem dX7_rowLine_5 : decode cX7_rowLine 5 = .ok (.iconst 0, 1) := dk_3 (dk_at dksX7_rowLine_0 5 rfl rfl)
theorem dX7_rowLine_6 : decode cX7_rowLine 6 = .ok (.istore_n 2, 1) := dk_61 (dk_at dksX7_rowLine_0 6 rfl rfl)
theorem dX7_rowLine_7 : decode cX7_rowLine 7 = .ok (.iload_n 2, 1) := dk_28 (dk_at dksX7_rowLine_0 7 rfl rfl)
theorem dX7_rowLine_8 : decode cX7_rowLine 8 = .ok (.iconst 2, 1) := dk_5 (dk_at dksX7_rowLine_0 8 rfl rfl)
theorem dX7_rowLine_9 : decode cX7_rowLine 9 = .ok (.if_icmp .lt 11, 3) := dk_161 0 11 (dk_at dksX7_rowLine_0 9 rfl rfl)
theorem dX7_rowLine_12 : decode cX7_rowLine 12 = .ok (.aload_n 0, 1) := dk_42 (dk_at dksX7_rowLine_0 12 rfl rfl)
theorem dX7_rowLine_13 : decode cX7_rowLine 13 = .ok (.getfield 82, 3) := dk_180 0 82 (dk_at dksX7_rowLine_0 13 rfl rfl)
theorem dX7_rowLine_16 : decode cX7_rowLine 16 = .ok (.iconst 2, 1) := dk_5 (dk_at dksX7_rowLine_0 16 rfl rfl)
theorem dX7_rowLine_17 : decode cX7_rowLine 17 = .ok (.if_icmp .ne 100, 3) := dk_160 0 100 (dk_at dksX7_rowLine_0 17 rfl rfl)
theorem dX7_rowLine_20 : decode cX7_rowLine 20 = .ok (.iconst 0, 1) := dk_3 (dk_at dksX7_rowLine_0 20 rfl rfl)
theorem dX7_rowLine_21 : decode cX7_rowLine 21 = .ok (.istore_n 3, 1) := dk_62 (dk_at dksX7_rowLine_0 21 rfl rfl)
theorem dX7_rowLine_22 : decode cX7_rowLine 22 = .ok (.iload_n 3, 1) := dk_29 (dk_at dksX7_rowLine_0 22 rfl rfl)
theorem dX7_rowLine_23 : decode cX7_rowLine 23 = .ok (.iload_n 2, 1) := dk_28 (dk_at dksX7_rowLine_0 23 rfl rfl)
theorem dX7_rowLine_24 : decode cX7_rowLine 24 = .ok (.if_icmp .ge 32, 3) := dk_162 0 32 (dk_at dksX7_rowLine_1 0 rfl rfl)
theorem dX7_rowLine_27 : decode cX7_rowLine 27 = .ok (.aload_n 0, 1) := dk_42 (dk_at dksX7_rowLine_1 3 rfl rfl)
theorem dX7_rowLine_28 : decode cX7_rowLine 28 = .ok (.getfield 82, 3) := dk_180 0 82 (dk_at dksX7_rowLine_1 4 rfl rfl)
theorem dX7_rowLine_31 : decode cX7_rowLine 31 = .ok (.iconst 2, 1) := dk_5 (dk_at dksX7_rowLine_1 7 rfl rfl)
theorem dX7_rowLine_32 : decode cX7_rowLine 32 = .ok (.if_icmp .ne 18, 3) := dk_160 0 18 (dk_at dksX7_rowLine_1 8 rfl rfl)
theorem dX7_rowLine_35 : decode cX7_rowLine 35 = .ok (.aload_n 1, 1) := dk_43 (dk_at dksX7_rowLine_1 11 rfl rfl)
theorem dX7_rowLine_36 : decode cX7_rowLine 36 = .ok (.iload_n 3, 1) := dk_29 (dk_at dksX7_rowLine_1 12 rfl rfl)
theorem dX7_rowLine_37 : decode cX7_rowLine 37 = .ok (.iaload, 1) := dk_46 (dk_at dksX7_rowLine_1 13 rfl rfl)
theorem dX7_rowLine_38 : decode cX7_rowLine 38 = .ok (.aload_n 0, 1) := dk_42 (dk_at dksX7_rowLine_1 14 rfl rfl)
theorem dX7_rowLine_39 : decode cX7_rowLine 39 = .ok (.getfield 79, 3) := dk_180 0 79 (dk_at dksX7_rowLine_1 15 rfl rfl)
theorem dX7_rowLine_42 : decode cX7_rowLine 42 = .ok (.if_icmp .ne 8, 3) := dk_160 0 8 (dk_at dksX7_rowLine_1 18 rfl rfl)
theorem dX7_rowLine_45 : decode cX7_rowLine 45 = .ok (.aload_n 0, 1) := dk_42 (dk_at dksX7_rowLine_1 21 rfl rfl)
theorem dX7_rowLine_46 : decode cX7_rowLine 46 = .ok (.iconst 2, 1) := dk_5 (dk_at dksX7_rowLine_1 22 rfl rfl)
theorem dX7_rowLine_47 : decode cX7_rowLine 47 = .ok (.invokevirtual 117, 3) := dk_182 0 117 (dk_at dksX7_rowLine_2 0 rfl rfl)
theorem dX7_rowLine_50 : decode cX7_rowLine 50 = .ok (.iinc 3 1, 3) := dk_132 3 1 (dk_at dksX7_rowLine_2 3 rfl rfl)
theorem dX7_rowLine_53 : decode cX7_rowLine 53 = .ok (.goto (-31), 3) := dk_167 255 225 (dk_at dksX7_rowLine_2 6 rfl rfl)
theorem dX7_rowLine_56 : decode cX7_rowLine 56 = .ok (.aload_n 0, 1) := dk_42 (dk_at dksX7_rowLine_2 9 rfl rfl)
theorem dX7_rowLine_57 : decode cX7_rowLine 57 = .ok (.getfield 82, 3) := dk_180 0 82 (dk_at dksX7_rowLine_2 10 rfl rfl)
theorem dX7_rowLine_60 : decode cX7_rowLine 60 = .ok (.iconst 2, 1) := dk_5 (dk_at dksX7_rowLine_2 13 rfl rfl)
theorem dX7_rowLine_61 : decode cX7_rowLine 61 = .ok (.if_icmp .ne 22, 3) := dk_160 0 22 (dk_at dksX7_rowLine_2 14 rfl rfl)
theorem dX7_rowLine_64 : decode cX7_rowLine 64 = .ok (.aload_n 0, 1) := dk_42 (dk_at dksX7_rowLine_2 17 rfl rfl)
theorem dX7_rowLine_65 : decode cX7_rowLine 65 = .ok (.getfield 79, 3) := dk_180 0 79 (dk_at dksX7_rowLine_2 18 rfl rfl)
theorem dX7_rowLine_68 : decode cX7_rowLine 68 = .ok (.aload_n 0, 1) := dk_42 (dk_at dksX7_rowLine_2 21 rfl rfl)
theorem dX7_rowLine_69 : decode cX7_rowLine 69 = .ok (.getfield 50, 3) := dk_180 0 50 (dk_at dksX7_rowLine_3 0 rfl rfl)
theorem dX7_rowLine_72 : decode cX7_rowLine 72 = .ok (.getfield 128, 3) := dk_180 0 128 (dk_at dksX7_rowLine_3 3 rfl rfl)
theorem dX7_rowLine_75 : decode cX7_rowLine 75 = .ok (.if_icmp .lt 8, 3) := dk_161 0 8 (dk_at dksX7_rowLine_3 6 rfl rfl)
theorem dX7_rowLine_78 : decode cX7_rowLine 78 = .ok (.aload_n 0, 1) := dk_42 (dk_at dksX7_rowLine_3 9 rfl rfl)
theorem dX7_rowLine_79 : decode cX7_rowLine 79 = .ok (.iconst 2, 1) := dk_5 (dk_at dksX7_rowLine_3 10 rfl rfl)
theorem dX7_rowLine_80 : decode cX7_rowLine 80 = .ok (.invokevirtual 117, 3) := dk_182 0 117 (dk_at dksX7_rowLine_3 11 rfl rfl)
theorem dX7_rowLine_83 : decode cX7_rowLine 83 = .ok (.iload_n 2, 1) := dk_28 (dk_at dksX7_rowLine_3 14 rfl rfl)
theorem dX7_rowLine_84 : decode cX7_rowLine 84 = .ok (.bipush 12, 2) := dk_16 12 (dk_at dksX7_rowLine_3 15 rfl rfl)
theorem dX7_rowLine_86 : decode cX7_rowLine 86 = .ok (.if_icmp .ne 8, 3) := dk_160 0 8 (dk_at dksX7_rowLine_3 17 rfl rfl)
theorem dX7_rowLine_89 : decode cX7_rowLine 89 = .ok (.aload_n 0, 1) := dk_42 (dk_at dksX7_rowLine_3 20 rfl rfl)
theorem dX7_rowLine_90 : decode cX7_rowLine 90 = .ok (.iconst 3, 1) := dk_6 (dk_at dksX7_rowLine_3 21 rfl rfl)
theorem dX7_rowLine_91 : decode cX7_rowLine 91 = .ok (.invokevirtual 117, 3) := dk_182 0 117 (dk_at dksX7_rowLine_4 0 rfl rfl)
theorem dX7_rowLine_94 : decode cX7_rowLine 94 = .ok (.aload_n 1, 1) := dk_43 (dk_at dksX7_rowLine_4 3 rfl rfl)
theorem dX7_rowLine_95 : decode cX7_rowLine 95 = .ok (.iload_n 2, 1) := dk_28 (dk_at dksX7_rowLine_4 4 rfl rfl)
theorem dX7_rowLine_96 : decode cX7_rowLine 96 = .ok (.aload_n 0, 1) := dk_42 (dk_at dksX7_rowLine_4 5 rfl rfl)
theorem dX7_rowLine_97 : decode cX7_rowLine 97 = .ok (.iconst 0, 1) := dk_3 (dk_at dksX7_rowLine_4 6 rfl rfl)
theorem dX7_rowLine_98 : decode cX7_rowLine 98 = .ok (.aload_n 0, 1) := dk_42 (dk_at dksX7_rowLine_4 7 rfl rfl)
theorem dX7_rowLine_99 : decode cX7_rowLine 99 = .ok (.getfield 50, 3) := dk_180 0 50 (dk_at dksX7_rowLine_4 8 rfl rfl)
theorem dX7_rowLine_102 : decode cX7_rowLine 102 = .ok (.getfield 128, 3) := dk_180 0 128 (dk_at dksX7_rowLine_4 11 rfl rfl)
theorem dX7_rowLine_105 : decode cX7_rowLine 105 = .ok (.iconst 1, 1) := dk_4 (dk_at dksX7_rowLine_4 14 rfl rfl)
theorem dX7_rowLine_106 : decode cX7_rowLine 106 = .ok (.isub, 1) := dk_100 (dk_at dksX7_rowLine_4 15 rfl rfl)
theorem dX7_rowLine_107 : decode cX7_rowLine 107 = .ok (.invokevirtual 131, 3) := dk_182 0 131 (dk_at dksX7_rowLine_4 16 rfl rfl)
theorem dX7_rowLine_110 : decode cX7_rowLine 110 = .ok (.iastore, 1) := dk_79 (dk_at dksX7_rowLine_4 19 rfl rfl)
theorem dX7_rowLine_111 : decode cX7_rowLine 111 = .ok (.iinc 2 1, 3) := dk_132 2 1 (dk_at dksX7_rowLine_4 20 rfl rfl)
theorem dX7_rowLine_114 : decode cX7_rowLine 114 = .ok (.goto (-107), 3) := dk_167 255 149 (dk_at dksX7_rowLine_5 0 rfl rfl)
theorem dX7_rowLine_117 : decode cX7_rowLine 117 = .ok (.aload_n 0, 1) := dk_42 (dk_at dksX7_rowLine_5 3 rfl rfl)
theorem dX7_rowLine_118 : decode cX7_rowLine 118 = .ok (.getfield 59, 3) := dk_180 0 59 (dk_at dksX7_rowLine_5 4 rfl rfl)
theorem dX7_rowLine_121 : decode cX7_rowLine 121 = .ok (.aload_n 1, 1) := dk_43 (dk_at dksX7_rowLine_5 7 rfl rfl)
theorem dX7_rowLine_122 : decode cX7_rowLine 122 = .ok (.iload_n 2, 1) := dk_28 (dk_at dksX7_rowLine_5 8 rfl rfl)
theorem dX7_rowLine_123 : decode cX7_rowLine 123 = .ok (.invokestatic 134, 3) := dk_184 0 134 (dk_at dksX7_rowLine_5 9 rfl rfl)
theorem dX7_rowLine_126 : decode cX7_rowLine 126 = .ok (.invokeinterface 138 2, 5) := by decide +kernel
theorem dX7_rowLine_131 : decode cX7_rowLine 131 = .ok (.pop, 1) := dk_87 (dk_at dksX7_rowLine_5 17 rfl rfl)
theorem dX7_rowLine_132 : decode cX7_rowLine 132 = .ok (.return_, 1) := dk_177 (dk_at dksX7_rowLine_5 18 rfl rfl)
abbrev cX7_holdLine : ByteArray := prog_9_method_17_code
def yX7_holdLine : MethodName := ⟨RX7, "holdLine", "()V"⟩
def dkwX7_holdLine_1 : List UInt8 := [3, 17, 19, 136, 182, 0, 131, 181, 0, 205, 42, 180, 0, 50, 4, 181, 0, 201, 177]
abbrev dktX7_holdLine_1 : List UInt8 := dkwX7_holdLine_1 ++ []
def dkwX7_holdLine_0 : List UInt8 := [42, 180, 0, 50, 180, 0, 201, 153, 0, 8, 42, 5, 182, 0, 117, 42, 182, 0, 112, 42, 180, 0, 50, 42]
abbrev dktX7_holdLine_0 : List UInt8 := dkwX7_holdLine_0 ++ dktX7_holdLine_1
theorem dksX7_holdLine_0 : cX7_holdLine.data.toList.drop 0 = dktX7_holdLine_0 := by decide +kernel
theorem dksX7_holdLine_1 : cX7_holdLine.data.toList.drop 24 = dktX7_holdLine_1 := dk_seg dksX7_holdLine_0 24 rfl rfl
theorem dX7_holdLine_0 : decode cX7_holdLine 0 = .ok (.aload_n 0, 1) := dk_42 (dk_at dksX7_holdLine_0 0 rfl rfl)
theorem dX7_holdLine_1 : decode cX7_holdLine 1 = .ok (.getfield 50, 3) := dk_180 0 50 (dk_at dksX7_holdLine_0 1 rfl rfl)
theorem dX7_holdLine_4 : decode cX7_holdLine 4 = .ok (.getfield 201, 3) := dk_180 0 201 (dk_at dksX7_holdLine_0 4 rfl rfl)
theorem dX7_holdLine_7 : decode cX7_holdLine 7 = .ok (.ifCond .eq 8, 3) := dk_153 0 8 (dk_at dksX7_holdLine_0 7 rfl rfl)
theorem dX7_holdLine_10 : decode cX7_holdLine 10 = .ok (.aload_n 0, 1) := dk_42 (dk_at dksX7_holdLine_0 10 rfl rfl)
theorem dX7_holdLine_11 : decode cX7_holdLine 11 = .ok (.iconst 2, 1) := dk_5 (dk_at dksX7_holdLine_0 11 rfl rfl)
theorem dX7_holdLine_12 : decode cX7_holdLine 12 = .ok (.invokevirtual 117, 3) := dk_182 0 117 (dk_at dksX7_holdLine_0 12 rfl rfl)
theorem dX7_holdLine_15 : decode cX7_holdLine 15 = .ok (.aload_n 0, 1) := dk_42 (dk_at dksX7_holdLine_0 15 rfl rfl)
theorem dX7_holdLine_16 : decode cX7_holdLine 16 = .ok (.invokevirtual 112, 3) := dk_182 0 112 (dk_at dksX7_holdLine_0 16 rfl rfl)
theorem dX7_holdLine_19 : decode cX7_holdLine 19 = .ok (.aload_n 0, 1) := dk_42 (dk_at dksX7_holdLine_0 19 rfl rfl)
theorem dX7_holdLine_20 : decode cX7_holdLine 20 = .ok (.getfield 50, 3) := dk_180 0 50 (dk_at dksX7_holdLine_0 20 rfl rfl)
theorem dX7_holdLine_23 : decode cX7_holdLine 23 = .ok (.aload_n 0, 1) := dk_42 (dk_at dksX7_holdLine_0 23 rfl rfl)
theorem dX7_holdLine_24 : decode cX7_holdLine 24 = .ok (.iconst 0, 1) := dk_3 (dk_at dksX7_holdLine_1 0 rfl rfl)
theorem dX7_holdLine_25 : decode cX7_holdLine 25 = .ok (.sipush 5000, 3) := dk_17 19 136 (dk_at dksX7_holdLine_1 1 rfl rfl)
theorem dX7_holdLine_28 : decode cX7_holdLine 28 = .ok (.invokevirtual 131, 3) := dk_182 0 131 (dk_at dksX7_holdLine_1 4 rfl rfl)
theorem dX7_holdLine_31 : decode cX7_holdLine 31 = .ok (.putfield 205, 3) := dk_181 0 205 (dk_at dksX7_holdLine_1 7 rfl rfl)
theorem dX7_holdLine_34 : decode cX7_holdLine 34 = .ok (.aload_n 0, 1) := dk_42 (dk_at dksX7_holdLine_1 10 rfl rfl)
theorem dX7_holdLine_35 : decode cX7_holdLine 35 = .ok (.getfield 50, 3) := dk_180 0 50 (dk_at dksX7_holdLine_1 11 rfl rfl)
theorem dX7_holdLine_38 : decode cX7_holdLine 38 = .ok (.iconst 1, 1) := dk_4 (dk_at dksX7_holdLine_1 14 rfl rfl)
theorem dX7_holdLine_39 : decode cX7_holdLine 39 = .ok (.putfield 201, 3) := dk_181 0 201 (dk_at dksX7_holdLine_1 15 rfl rfl)
theorem dX7_holdLine_42 : decode cX7_holdLine 42 = .ok (.return_, 1) := dk_177 (dk_at dksX7_holdLine_1 18 rfl rfl)
abbrev cX7_leanLine : ByteArray := prog_9_method_16_code
def yX7_leanLine : MethodName := ⟨RX7, "leanLine", "()V"⟩
def dkwX7_leanLine_2 : List UInt8 := [180, 0, 193, 27, 4, 84, 177]
abbrev dktX7_leanLine_2 : List UInt8 := dkwX7_leanLine_2 ++ []
def dkwX7_leanLine_1 : List UInt8 := [182, 0, 112, 42, 180, 0, 50, 180, 0, 197, 27, 42, 3, 16, 100, 182, 0, 131, 79, 42, 180, 0, 50]
abbrev dktX7_leanLine_1 : List UInt8 := dkwX7_leanLine_1 ++ dktX7_leanLine_2
def dkwX7_leanLine_0 : List UInt8 := [42, 182, 0, 178, 60, 42, 180, 0, 50, 180, 0, 193, 27, 51, 153, 0, 8, 42, 5, 182, 0, 117, 42]
abbrev dktX7_leanLine_0 : List UInt8 := dkwX7_leanLine_0 ++ dktX7_leanLine_1
theorem dksX7_leanLine_0 : cX7_leanLine.data.toList.drop 0 = dktX7_leanLine_0 := by decide +kernel
theorem dksX7_leanLine_1 : cX7_leanLine.data.toList.drop 23 = dktX7_leanLine_1 := dk_seg dksX7_leanLine_0 23 rfl rfl
theorem dksX7_leanLine_2 : cX7_leanLine.data.toList.drop 46 = dktX7_leanLine_2 := dk_seg dksX7_leanLine_1 23 rfl rfl
theorem dX7_leanLine_0 : decode cX7_leanLine 0 = .ok (.aload_n 0, 1) := dk_42 (dk_at dksX7_leanLine_0 0 rfl rfl)
theorem dX7_leanLine_1 : decode cX7_leanLine 1 = .ok (.invokevirtual 178, 3) := dk_182 0 178 (dk_at dksX7_leanLine_0 1 rfl rfl)
theorem dX7_leanLine_4 : decode cX7_leanLine 4 = .ok (.istore_n 1, 1) := dk_60 (dk_at dksX7_leanLine_0 4 rfl rfl)
theorem dX7_leanLine_5 : decode cX7_leanLine 5 = .ok (.aload_n 0, 1) := dk_42 (dk_at dksX7_leanLine_0 5 rfl rfl)
theorem dX7_leanLine_6 : decode cX7_leanLine 6 = .ok (.getfield 50, 3) := dk_180 0 50 (dk_at dksX7_leanLine_0 6 rfl rfl)
theorem dX7_leanLine_9 : decode cX7_leanLine 9 = .ok (.getfield 193, 3) := dk_180 0 193 (dk_at dksX7_leanLine_0 9 rfl rfl)
theorem dX7_leanLine_12 : decode cX7_leanLine 12 = .ok (.iload_n 1, 1) := dk_27 (dk_at dksX7_leanLine_0 12 rfl rfl)
theorem dX7_leanLine_13 : decode cX7_leanLine 13 = .ok (.baload, 1) := dk_51 (dk_at dksX7_leanLine_0 13 rfl rfl)
theorem dX7_leanLine_14 : decode cX7_leanLine 14 = .ok (.ifCond .eq 8, 3) := dk_153 0 8 (dk_at dksX7_leanLine_0 14 rfl rfl)
theorem dX7_leanLine_17 : decode cX7_leanLine 17 = .ok (.aload_n 0, 1) := dk_42 (dk_at dksX7_leanLine_0 17 rfl rfl)
theorem dX7_leanLine_18 : decode cX7_leanLine 18 = .ok (.iconst 2, 1) := dk_5 (dk_at dksX7_leanLine_0 18 rfl rfl)
theorem dX7_leanLine_19 : decode cX7_leanLine 19 = .ok (.invokevirtual 117, 3) := dk_182 0 117 (dk_at dksX7_leanLine_0 19 rfl rfl)
theorem dX7_leanLine_22 : decode cX7_leanLine 22 = .ok (.aload_n 0, 1) := dk_42 (dk_at dksX7_leanLine_0 22 rfl rfl)
theorem dX7_leanLine_23 : decode cX7_leanLine 23 = .ok (.invokevirtual 112, 3) := dk_182 0 112 (dk_at dksX7_leanLine_1 0 rfl rfl)
theorem dX7_leanLine_26 : decode cX7_leanLine 26 = .ok (.aload_n 0, 1) := dk_42 (dk_at dksX7_leanLine_1 3 rfl rfl)
theorem dX7_leanLine_27 : decode cX7_leanLine 27 = .ok (.getfield 50, 3) := dk_180 0 50 (dk_at dksX7_leanLine_1 4 rfl rfl)
theorem dX7_leanLine_30 : decode cX7_leanLine 30 = .ok (.getfield 197, 3) := dk_180 0 197 (dk_at dksX7_leanLine_1 7 rfl rfl)
theorem dX7_leanLine_33 : decode cX7_leanLine 33 = .ok (.iload_n 1, 1) := dk_27 (dk_at dksX7_leanLine_1 10 rfl rfl)
theorem dX7_leanLine_34 : decode cX7_leanLine 34 = .ok (.aload_n 0, 1) := dk_42 (dk_at dksX7_leanLine_1 11 rfl rfl)
theorem dX7_leanLine_35 : decode cX7_leanLine 35 = .ok (.iconst 0, 1) := dk_3 (dk_at dksX7_leanLine_1 12 rfl rfl)
theorem dX7_leanLine_36 : decode cX7_leanLine 36 = .ok (.bipush 100, 2) := dk_16 100 (dk_at dksX7_leanLine_1 13 rfl rfl)
theorem dX7_leanLine_38 : decode cX7_leanLine 38 = .ok (.invokevirtual 131, 3) := dk_182 0 131 (dk_at dksX7_leanLine_1 15 rfl rfl)
theorem dX7_leanLine_41 : decode cX7_leanLine 41 = .ok (.iastore, 1) := dk_79 (dk_at dksX7_leanLine_1 18 rfl rfl)
theorem dX7_leanLine_42 : decode cX7_leanLine 42 = .ok (.aload_n 0, 1) := dk_42 (dk_at dksX7_leanLine_1 19 rfl rfl)
theorem dX7_leanLine_43 : decode cX7_leanLine 43 = .ok (.getfield 50, 3) := dk_180 0 50 (dk_at dksX7_leanLine_1 20 rfl rfl)
theorem dX7_leanLine_46 : decode cX7_leanLine 46 = .ok (.getfield 193, 3) := dk_180 0 193 (dk_at dksX7_leanLine_2 0 rfl rfl)
theorem dX7_leanLine_49 : decode cX7_leanLine 49 = .ok (.iload_n 1, 1) := dk_27 (dk_at dksX7_leanLine_2 3 rfl rfl)
theorem dX7_leanLine_50 : decode cX7_leanLine 50 = .ok (.iconst 1, 1) := dk_4 (dk_at dksX7_leanLine_2 4 rfl rfl)
theorem dX7_leanLine_51 : decode cX7_leanLine 51 = .ok (.bastore, 1) := dk_84 (dk_at dksX7_leanLine_2 5 rfl rfl)
theorem dX7_leanLine_52 : decode cX7_leanLine 52 = .ok (.return_, 1) := dk_177 (dk_at dksX7_leanLine_2 6 rfl rfl)
theorem q94 : (Jvm.Cond.initialized "NonsenseRows$Reader") ∈ lw_all := lw_g (lw_at lw_m1 11 rfl) rfl
theorem q348 : (Jvm.Cond.fieldLinkNest "NonsenseRows$Reader" (217 : Nat) "NonsenseRows$Text" "easy" "[I" "NonsenseRows") ∈ lw_tbl := lw_at lw_m2 25 rfl
theorem q351 : (Jvm.Cond.fieldLinkNest "NonsenseRows$Reader" (197 : Nat) "NonsenseRows$Text" "leans" "[I" "NonsenseRows") ∈ lw_tbl := lw_at lw_m2 28 rfl
theorem q355 : (Jvm.Cond.fieldLinkNest "NonsenseRows$Reader" (181 : Nat) "NonsenseRows$Text" "laws" "[[LNonsenseRows$Sum;" "NonsenseRows") ∈ lw_tbl := lw_at lw_m2 32 rfl
theorem q358 : (Jvm.Cond.fieldLinkNest "NonsenseRows$Reader" (193 : Nat) "NonsenseRows$Text" "isLeaning" "[Z" "NonsenseRows") ∈ lw_tbl := lw_at lw_m2 35 rfl
theorem q359 : (Jvm.Cond.fieldLinkNest "NonsenseRows$Reader" (128 : Nat) "NonsenseRows$Text" "things" "I" "NonsenseRows") ∈ lw_tbl := lw_at lw_m2 36 rfl
theorem q362 : (Jvm.Cond.fieldLinkNest "NonsenseRows$Reader" (205 : Nat) "NonsenseRows$Text" "hold" "I" "NonsenseRows") ∈ lw_tbl := lw_at lw_m2 39 rfl
theorem q364 : (Jvm.Cond.fieldLinkNest "NonsenseRows$Reader" (231 : Nat) "NonsenseRows$Text" "lines" "I" "NonsenseRows") ∈ lw_tbl := lw_at lw_m2 41 rfl
theorem q366 : (Jvm.Cond.fieldLinkNest "NonsenseRows$Reader" (201 : Nat) "NonsenseRows$Text" "isHeld" "Z" "NonsenseRows") ∈ lw_tbl := lw_at lw_m2 43 rfl
theorem q570 : (Jvm.Cond.instantiable "NonsenseRows$Reader" (12 : Nat)) ∈ lw_all := lw_g (lw_at lw_m3 7 rfl) rfl
theorem q572 : (Jvm.Cond.instanceMethod ({ cls := "NonsenseRows$Reader", name := "<init>", desc := "([BI)V" } : Jvm.MethodName)) ∈ lw_all := lw_g (lw_at lw_m3 9 rfl) rfl
theorem q573 : (Jvm.Cond.code ({ cls := "NonsenseRows$Reader", name := "<init>", desc := "([BI)V" } : Jvm.MethodName) prog_9_method_1_code (3 : Nat) (Option.none : Option Jvm.ClassFile.FieldType)) ∈ lw_all := lw_g (lw_at lw_m3 10 rfl) rfl
theorem q574 : (Jvm.Cond.methodLink "NonsenseRows$Reader" (3 : Nat) ({ cls := "java/lang/Object", name := "<init>", desc := "()V" } : Jvm.MethodName)) ∈ lw_all := lw_g (lw_at lw_m3 11 rfl) rfl
theorem q575 : (Jvm.Cond.classLink "NonsenseRows$Reader" (9 : Nat) "java/lang/String") ∈ lw_all := lw_g (lw_at lw_m3 12 rfl) rfl
theorem q577 : (Jvm.Cond.stringRef "NonsenseRows$Reader" (11 : Nat) "next") ∈ lw_tbl := lw_at lw_m3 14 rfl
theorem q578 : (Jvm.Cond.stringRef "NonsenseRows$Reader" (13 : Nat) "back") ∈ lw_tbl := lw_at lw_m3 15 rfl
theorem q579 : (Jvm.Cond.stringRef "NonsenseRows$Reader" (15 : Nat) "off") ∈ lw_tbl := lw_at lw_m3 16 rfl
theorem q580 : (Jvm.Cond.stringRef "NonsenseRows$Reader" (17 : Nat) "place") ∈ lw_tbl := lw_at lw_m3 17 rfl
theorem q581 : (Jvm.Cond.stringRef "NonsenseRows$Reader" (25 : Nat) "grow") ∈ lw_tbl := lw_at lw_m3 18 rfl
theorem q582 : (Jvm.Cond.stringRef "NonsenseRows$Reader" (27 : Nat) "fall") ∈ lw_tbl := lw_at lw_m3 19 rfl
theorem q583 : (Jvm.Cond.stringRef "NonsenseRows$Reader" (29 : Nat) "mix") ∈ lw_tbl := lw_at lw_m3 20 rfl
theorem q584 : (Jvm.Cond.stringRef "NonsenseRows$Reader" (34 : Nat) "has") ∈ lw_tbl := lw_at lw_m3 21 rfl
theorem q585 : (Jvm.Cond.stringRef "NonsenseRows$Reader" (36 : Nat) "left") ∈ lw_tbl := lw_at lw_m3 22 rfl
theorem q586 : (Jvm.Cond.stringRef "NonsenseRows$Reader" (38 : Nat) "easy") ∈ lw_tbl := lw_at lw_m3 23 rfl
theorem q587 : (Jvm.Cond.stringRef "NonsenseRows$Reader" (40 : Nat) "tired") ∈ lw_tbl := lw_at lw_m3 24 rfl
theorem q588 : (Jvm.Cond.stringRef "NonsenseRows$Reader" (42 : Nat) "hour") ∈ lw_tbl := lw_at lw_m3 25 rfl
theorem q589 : (Jvm.Cond.classLink "NonsenseRows$Reader" (47 : Nat) "NonsenseRows$Text") ∈ lw_all := lw_g (lw_at lw_m3 26 rfl) rfl
theorem q590 : (Jvm.Cond.methodLinkNest "NonsenseRows$Reader" (49 : Nat) ({ cls := "NonsenseRows$Text", name := "<init>", desc := "()V" } : Jvm.MethodName) "NonsenseRows") ∈ lw_tbl := lw_at lw_m3 27 rfl
theorem q591 : (Jvm.Cond.classLink "NonsenseRows$Reader" (54 : Nat) "java/util/ArrayList") ∈ lw_all := lw_g (lw_at lw_m3 28 rfl) rfl
theorem q592 : (Jvm.Cond.methodLink "NonsenseRows$Reader" (56 : Nat) ({ cls := "java/util/ArrayList", name := "<init>", desc := "(I)V" } : Jvm.MethodName)) ∈ lw_all := lw_g (lw_at lw_m3 29 rfl) rfl
theorem q593 : (Jvm.Cond.fieldLink "NonsenseRows$Reader" (19 : Nat) "NonsenseRows$Reader" "sorts" "[Ljava/lang/String;") ∈ lw_all := lw_g (lw_at lw_m3 30 rfl) rfl
theorem q594 : (Jvm.Cond.fieldLink "NonsenseRows$Reader" (31 : Nat) "NonsenseRows$Reader" "laws" "[Ljava/lang/String;") ∈ lw_all := lw_g (lw_at lw_m3 31 rfl) rfl
theorem q595 : (Jvm.Cond.fieldLink "NonsenseRows$Reader" (44 : Nat) "NonsenseRows$Reader" "asks" "[Ljava/lang/String;") ∈ lw_all := lw_g (lw_at lw_m3 32 rfl) rfl
theorem q596 : (Jvm.Cond.fieldLink "NonsenseRows$Reader" (63 : Nat) "NonsenseRows$Reader" "tape" "[B") ∈ lw_all := lw_g (lw_at lw_m3 33 rfl) rfl
theorem q597 : (Jvm.Cond.fieldLink "NonsenseRows$Reader" (67 : Nat) "NonsenseRows$Reader" "size" "I") ∈ lw_all := lw_g (lw_at lw_m3 34 rfl) rfl
theorem q598 : (Jvm.Cond.fieldLink "NonsenseRows$Reader" (50 : Nat) "NonsenseRows$Reader" "text" "LNonsenseRows$Text;") ∈ lw_all := lw_g (lw_at lw_m3 35 rfl) rfl
theorem q599 : (Jvm.Cond.fieldLink "NonsenseRows$Reader" (59 : Nat) "NonsenseRows$Reader" "rows" "Ljava/util/List;") ∈ lw_all := lw_g (lw_at lw_m3 36 rfl) rfl
theorem q601 : (Jvm.Cond.fieldLink "NonsenseRows$Reader" (71 : Nat) "NonsenseRows$Reader" "at" "I") ∈ lw_all := lw_g (lw_at lw_m3 38 rfl) rfl
theorem q602 : (Jvm.Cond.fieldLink "NonsenseRows$Reader" (76 : Nat) "NonsenseRows$Reader" "from" "I") ∈ lw_all := lw_g (lw_at lw_m3 39 rfl) rfl
theorem q603 : (Jvm.Cond.fieldLink "NonsenseRows$Reader" (82 : Nat) "NonsenseRows$Reader" "token" "I") ∈ lw_all := lw_g (lw_at lw_m3 40 rfl) rfl
theorem q604 : (Jvm.Cond.fieldLink "NonsenseRows$Reader" (74 : Nat) "NonsenseRows$Reader" "place" "I") ∈ lw_all := lw_g (lw_at lw_m3 41 rfl) rfl
theorem q605 : (Jvm.Cond.fieldLink "NonsenseRows$Reader" (79 : Nat) "NonsenseRows$Reader" "value" "I") ∈ lw_all := lw_g (lw_at lw_m3 42 rfl) rfl
theorem q606 : (Jvm.Cond.laysFinal "NonsenseRows$Reader" "NonsenseRows$Reader" "sorts" "[Ljava/lang/String;") ∈ lw_all := lw_g (lw_at lw_m3 43 rfl) rfl
theorem q607 : (Jvm.Cond.soleField "NonsenseRows$Reader" "sorts") ∈ lw_all := lw_g (lw_at lw_m3 44 rfl) rfl
theorem q608 : (Jvm.Cond.laysFinal "NonsenseRows$Reader" "NonsenseRows$Reader" "laws" "[Ljava/lang/String;") ∈ lw_all := lw_g (lw_at lw_m3 45 rfl) rfl
theorem q609 : (Jvm.Cond.soleField "NonsenseRows$Reader" "laws") ∈ lw_all := lw_g (lw_at lw_m3 46 rfl) rfl
theorem q610 : (Jvm.Cond.laysFinal "NonsenseRows$Reader" "NonsenseRows$Reader" "asks" "[Ljava/lang/String;") ∈ lw_all := lw_g (lw_at lw_m3 47 rfl) rfl
theorem q611 : (Jvm.Cond.soleField "NonsenseRows$Reader" "asks") ∈ lw_all := lw_g (lw_at lw_m3 48 rfl) rfl
theorem q612 : (Jvm.Cond.laysFinal "NonsenseRows$Reader" "NonsenseRows$Reader" "tape" "[B") ∈ lw_all := lw_g (lw_at lw_m3 49 rfl) rfl
theorem q613 : (Jvm.Cond.soleField "NonsenseRows$Reader" "tape") ∈ lw_all := lw_g (lw_at lw_m3 50 rfl) rfl
theorem q614 : (Jvm.Cond.laysFinal "NonsenseRows$Reader" "NonsenseRows$Reader" "size" "I") ∈ lw_all := lw_g (lw_at lw_m3 51 rfl) rfl
theorem q615 : (Jvm.Cond.soleField "NonsenseRows$Reader" "size") ∈ lw_all := lw_g (lw_at lw_m3 52 rfl) rfl
theorem q616 : (Jvm.Cond.laysFinal "NonsenseRows$Reader" "NonsenseRows$Reader" "text" "LNonsenseRows$Text;") ∈ lw_all := lw_g (lw_at lw_m3 53 rfl) rfl
theorem q617 : (Jvm.Cond.soleField "NonsenseRows$Reader" "text") ∈ lw_all := lw_g (lw_at lw_m3 54 rfl) rfl
theorem q618 : (Jvm.Cond.laysFinal "NonsenseRows$Reader" "NonsenseRows$Reader" "rows" "Ljava/util/List;") ∈ lw_all := lw_g (lw_at lw_m3 55 rfl) rfl
theorem q619 : (Jvm.Cond.soleField "NonsenseRows$Reader" "rows") ∈ lw_all := lw_g (lw_at lw_m3 56 rfl) rfl
theorem q620 : (Jvm.Cond.lays "NonsenseRows$Reader" "NonsenseRows$Reader" "at" "I") ∈ lw_all := lw_g (lw_at lw_m3 57 rfl) rfl
theorem q621 : (Jvm.Cond.soleField "NonsenseRows$Reader" "at") ∈ lw_all := lw_g (lw_at lw_m3 58 rfl) rfl
theorem q622 : (Jvm.Cond.lays "NonsenseRows$Reader" "NonsenseRows$Reader" "from" "I") ∈ lw_all := lw_g (lw_at lw_m3 59 rfl) rfl
theorem q623 : (Jvm.Cond.soleField "NonsenseRows$Reader" "from") ∈ lw_all := lw_g (lw_at lw_m3 60 rfl) rfl
theorem q624 : (Jvm.Cond.lays "NonsenseRows$Reader" "NonsenseRows$Reader" "token" "I") ∈ lw_all := lw_g (lw_at lw_m3 61 rfl) rfl
theorem q625 : (Jvm.Cond.soleField "NonsenseRows$Reader" "token") ∈ lw_all := lw_g (lw_at lw_m3 62 rfl) rfl
theorem q626 : (Jvm.Cond.lays "NonsenseRows$Reader" "NonsenseRows$Reader" "place" "I") ∈ lw_all := lw_g (lw_at lw_m3 63 rfl) rfl
theorem q627 : (Jvm.Cond.soleField "NonsenseRows$Reader" "place") ∈ lw_all := lw_g (lw_at lw_m3 64 rfl) rfl
theorem q628 : (Jvm.Cond.lays "NonsenseRows$Reader" "NonsenseRows$Reader" "value" "I") ∈ lw_all := lw_g (lw_at lw_m3 65 rfl) rfl
theorem q629 : (Jvm.Cond.soleField "NonsenseRows$Reader" "value") ∈ lw_all := lw_g (lw_at lw_m3 66 rfl) rfl
theorem q630 : (Jvm.Cond.superclass "NonsenseRows$Reader" "java/lang/Object") ∈ lw_all := lw_g (lw_at lw_m3 67 rfl) rfl
theorem q632 : (Jvm.Cond.instanceMethod ({ cls := "NonsenseRows$Reader", name := "whole", desc := "()LNonsenseRows$Text;" } : Jvm.MethodName)) ∈ lw_all := lw_g (lw_at lw_m3 69 rfl) rfl
theorem q633 : (Jvm.Cond.selects "NonsenseRows$Reader" ({ cls := "NonsenseRows$Reader", name := "whole", desc := "()LNonsenseRows$Text;" } : Jvm.MethodName) ({ cls := "NonsenseRows$Reader", name := "whole", desc := "()LNonsenseRows$Text;" } : Jvm.MethodName)) ∈ lw_all := lw_g (lw_at lw_m3 70 rfl) rfl
theorem q634 : (Jvm.Cond.code ({ cls := "NonsenseRows$Reader", name := "whole", desc := "()LNonsenseRows$Text;" } : Jvm.MethodName) prog_9_method_19_code (1 : Nat) (Option.some (Jvm.ClassFile.FieldType.object "NonsenseRows$Text"))) ∈ lw_all := lw_g (lw_at lw_m3 71 rfl) rfl
theorem q635 : (Jvm.Cond.methodLink "NonsenseRows$Reader" (112 : Nat) ({ cls := "NonsenseRows$Reader", name := "next", desc := "()V" } : Jvm.MethodName)) ∈ lw_all := lw_g (lw_at lw_m3 72 rfl) rfl
theorem q636 : (Jvm.Cond.privateMethod ({ cls := "NonsenseRows$Reader", name := "next", desc := "()V" } : Jvm.MethodName)) ∈ lw_tbl := lw_at lw_m3 73 rfl
theorem q637 : (Jvm.Cond.instanceMethod ({ cls := "NonsenseRows$Reader", name := "next", desc := "()V" } : Jvm.MethodName)) ∈ lw_all := lw_g (lw_at lw_m3 74 rfl) rfl
theorem q638 : (Jvm.Cond.code ({ cls := "NonsenseRows$Reader", name := "next", desc := "()V" } : Jvm.MethodName) prog_9_method_3_code (1 : Nat) (Option.none : Option Jvm.ClassFile.FieldType)) ∈ lw_all := lw_g (lw_at lw_m3 75 rfl) rfl
theorem q639 : (Jvm.Cond.methodLink "NonsenseRows$Reader" (85 : Nat) ({ cls := "NonsenseRows$Reader", name := "isAt", desc := "(II)Z" } : Jvm.MethodName)) ∈ lw_all := lw_g (lw_at lw_m3 76 rfl) rfl
theorem q640 : (Jvm.Cond.privateMethod ({ cls := "NonsenseRows$Reader", name := "isAt", desc := "(II)Z" } : Jvm.MethodName)) ∈ lw_tbl := lw_at lw_m3 77 rfl
theorem q641 : (Jvm.Cond.instanceMethod ({ cls := "NonsenseRows$Reader", name := "isAt", desc := "(II)Z" } : Jvm.MethodName)) ∈ lw_all := lw_g (lw_at lw_m3 78 rfl) rfl
theorem q642 : (Jvm.Cond.code ({ cls := "NonsenseRows$Reader", name := "isAt", desc := "(II)Z" } : Jvm.MethodName) prog_9_method_2_code (3 : Nat) (Option.some Jvm.ClassFile.FieldType.boolean)) ∈ lw_all := lw_g (lw_at lw_m3 79 rfl) rfl
theorem q643 : (Jvm.Cond.methodLink "NonsenseRows$Reader" (89 : Nat) ({ cls := "java/lang/Math", name := "min", desc := "(II)I" } : Jvm.MethodName)) ∈ lw_all := lw_g (lw_at lw_m3 80 rfl) rfl
theorem q646 : (Jvm.Cond.methodLink "NonsenseRows$Reader" (234 : Nat) ({ cls := "NonsenseRows$Reader", name := "line", desc := "()V" } : Jvm.MethodName)) ∈ lw_all := lw_g (lw_at lw_m3 83 rfl) rfl
theorem q647 : (Jvm.Cond.privateMethod ({ cls := "NonsenseRows$Reader", name := "line", desc := "()V" } : Jvm.MethodName)) ∈ lw_tbl := lw_at lw_m3 84 rfl
theorem q648 : (Jvm.Cond.instanceMethod ({ cls := "NonsenseRows$Reader", name := "line", desc := "()V" } : Jvm.MethodName)) ∈ lw_all := lw_g (lw_at lw_m3 85 rfl) rfl
theorem q649 : (Jvm.Cond.code ({ cls := "NonsenseRows$Reader", name := "line", desc := "()V" } : Jvm.MethodName) prog_9_method_18_code (2 : Nat) (Option.none : Option Jvm.ClassFile.FieldType)) ∈ lw_all := lw_g (lw_at lw_m3 86 rfl) rfl
theorem q650 : (Jvm.Cond.methodLink "NonsenseRows$Reader" (124 : Nat) ({ cls := "NonsenseRows$Reader", name := "which", desc := "([Ljava/lang/String;)I" } : Jvm.MethodName)) ∈ lw_all := lw_g (lw_at lw_m3 87 rfl) rfl
theorem q651 : (Jvm.Cond.privateMethod ({ cls := "NonsenseRows$Reader", name := "which", desc := "([Ljava/lang/String;)I" } : Jvm.MethodName)) ∈ lw_tbl := lw_at lw_m3 88 rfl
theorem q652 : (Jvm.Cond.instanceMethod ({ cls := "NonsenseRows$Reader", name := "which", desc := "([Ljava/lang/String;)I" } : Jvm.MethodName)) ∈ lw_all := lw_g (lw_at lw_m3 89 rfl) rfl
theorem q653 : (Jvm.Cond.code ({ cls := "NonsenseRows$Reader", name := "which", desc := "([Ljava/lang/String;)I" } : Jvm.MethodName) prog_9_method_9_code (3 : Nat) (Option.some Jvm.ClassFile.FieldType.int)) ∈ lw_all := lw_g (lw_at lw_m3 90 rfl) rfl
theorem q654 : (Jvm.Cond.methodLink "NonsenseRows$Reader" (108 : Nat) ({ cls := "NonsenseRows$Reader", name := "is", desc := "(Ljava/lang/String;)Z" } : Jvm.MethodName)) ∈ lw_all := lw_g (lw_at lw_m3 91 rfl) rfl
theorem q655 : (Jvm.Cond.privateMethod ({ cls := "NonsenseRows$Reader", name := "is", desc := "(Ljava/lang/String;)Z" } : Jvm.MethodName)) ∈ lw_tbl := lw_at lw_m3 92 rfl
theorem q656 : (Jvm.Cond.instanceMethod ({ cls := "NonsenseRows$Reader", name := "is", desc := "(Ljava/lang/String;)Z" } : Jvm.MethodName)) ∈ lw_all := lw_g (lw_at lw_m3 93 rfl) rfl
theorem q657 : (Jvm.Cond.code ({ cls := "NonsenseRows$Reader", name := "is", desc := "(Ljava/lang/String;)Z" } : Jvm.MethodName) prog_9_method_5_code (4 : Nat) (Option.some Jvm.ClassFile.FieldType.boolean)) ∈ lw_all := lw_g (lw_at lw_m3 94 rfl) rfl
theorem q658 : (Jvm.Cond.methodLink "NonsenseRows$Reader" (100 : Nat) ({ cls := "java/lang/String", name := "length", desc := "()I" } : Jvm.MethodName)) ∈ lw_all := lw_g (lw_at lw_m3 95 rfl) rfl
theorem q668 : (Jvm.Cond.methodLink "NonsenseRows$Reader" (104 : Nat) ({ cls := "java/lang/String", name := "charAt", desc := "(I)C" } : Jvm.MethodName)) ∈ lw_all := lw_g (lw_at lw_m3 105 rfl) rfl
theorem q706 : (Jvm.Cond.stringRef "NonsenseRows$Reader" (208 : Nat) "thing") ∈ lw_tbl := lw_at lw_m3 143 rfl
theorem q707 : (Jvm.Cond.stringRef "NonsenseRows$Reader" (210 : Nat) "row") ∈ lw_tbl := lw_at lw_m3 144 rfl
theorem q708 : (Jvm.Cond.interfaceEntry "NonsenseRows$Reader" (212 : Nat)) ∈ lw_tbl := lw_at lw_m3 145 rfl
theorem q709 : (Jvm.Cond.methodLink "NonsenseRows$Reader" (212 : Nat) ({ cls := "java/util/List", name := "size", desc := "()I" } : Jvm.MethodName)) ∈ lw_all := lw_g (lw_at lw_m3 146 rfl) rfl
theorem q718 : (Jvm.Cond.methodLink "NonsenseRows$Reader" (117 : Nat) ({ cls := "NonsenseRows$Reader", name := "fails", desc := "(I)V" } : Jvm.MethodName)) ∈ lw_all := lw_g (lw_at lw_m3 155 rfl) rfl
theorem q719 : (Jvm.Cond.privateMethod ({ cls := "NonsenseRows$Reader", name := "fails", desc := "(I)V" } : Jvm.MethodName)) ∈ lw_tbl := lw_at lw_m3 156 rfl
theorem q720 : (Jvm.Cond.instanceMethod ({ cls := "NonsenseRows$Reader", name := "fails", desc := "(I)V" } : Jvm.MethodName)) ∈ lw_all := lw_g (lw_at lw_m3 157 rfl) rfl
theorem q721 : (Jvm.Cond.code ({ cls := "NonsenseRows$Reader", name := "fails", desc := "(I)V" } : Jvm.MethodName) prog_9_method_4_code (2 : Nat) (Option.none : Option Jvm.ClassFile.FieldType)) ∈ lw_all := lw_g (lw_at lw_m3 158 rfl) rfl
theorem q722 : (Jvm.Cond.classLink "NonsenseRows$Reader" (95 : Nat) "NonsenseRows$Wrong") ∈ lw_all := lw_g (lw_at lw_m3 159 rfl) rfl
theorem q731 : (Jvm.Cond.methodLink "NonsenseRows$Reader" (97 : Nat) ({ cls := "NonsenseRows$Wrong", name := "<init>", desc := "(II)V" } : Jvm.MethodName)) ∈ lw_all := lw_g (lw_at lw_m3 168 rfl) rfl
theorem q750 : (Jvm.Cond.methodLink "NonsenseRows$Reader" (214 : Nat) ({ cls := "NonsenseRows$Reader", name := "lawLine", desc := "(I)V" } : Jvm.MethodName)) ∈ lw_all := lw_g (lw_at lw_m3 187 rfl) rfl
theorem q751 : (Jvm.Cond.privateMethod ({ cls := "NonsenseRows$Reader", name := "lawLine", desc := "(I)V" } : Jvm.MethodName)) ∈ lw_tbl := lw_at lw_m3 188 rfl
theorem q752 : (Jvm.Cond.instanceMethod ({ cls := "NonsenseRows$Reader", name := "lawLine", desc := "(I)V" } : Jvm.MethodName)) ∈ lw_all := lw_g (lw_at lw_m3 189 rfl) rfl
theorem q753 : (Jvm.Cond.code ({ cls := "NonsenseRows$Reader", name := "lawLine", desc := "(I)V" } : Jvm.MethodName) prog_9_method_15_code (3 : Nat) (Option.none : Option Jvm.ClassFile.FieldType)) ∈ lw_all := lw_g (lw_at lw_m3 190 rfl) rfl
theorem q754 : (Jvm.Cond.methodLink "NonsenseRows$Reader" (178 : Nat) ({ cls := "NonsenseRows$Reader", name := "sort", desc := "()I" } : Jvm.MethodName)) ∈ lw_all := lw_g (lw_at lw_m3 191 rfl) rfl
theorem q755 : (Jvm.Cond.privateMethod ({ cls := "NonsenseRows$Reader", name := "sort", desc := "()I" } : Jvm.MethodName)) ∈ lw_tbl := lw_at lw_m3 192 rfl
theorem q756 : (Jvm.Cond.instanceMethod ({ cls := "NonsenseRows$Reader", name := "sort", desc := "()I" } : Jvm.MethodName)) ∈ lw_all := lw_g (lw_at lw_m3 193 rfl) rfl
theorem q757 : (Jvm.Cond.code ({ cls := "NonsenseRows$Reader", name := "sort", desc := "()I" } : Jvm.MethodName) prog_9_method_10_code (2 : Nat) (Option.some Jvm.ClassFile.FieldType.int)) ∈ lw_all := lw_g (lw_at lw_m3 194 rfl) rfl
theorem q758 : (Jvm.Cond.stringRef "NonsenseRows$Reader" (184 : Nat) "by") ∈ lw_tbl := lw_at lw_m3 195 rfl
theorem q759 : (Jvm.Cond.methodLink "NonsenseRows$Reader" (186 : Nat) ({ cls := "NonsenseRows$Reader", name := "word", desc := "(Ljava/lang/String;)V" } : Jvm.MethodName)) ∈ lw_all := lw_g (lw_at lw_m3 196 rfl) rfl
theorem q760 : (Jvm.Cond.privateMethod ({ cls := "NonsenseRows$Reader", name := "word", desc := "(Ljava/lang/String;)V" } : Jvm.MethodName)) ∈ lw_tbl := lw_at lw_m3 197 rfl
theorem q761 : (Jvm.Cond.instanceMethod ({ cls := "NonsenseRows$Reader", name := "word", desc := "(Ljava/lang/String;)V" } : Jvm.MethodName)) ∈ lw_all := lw_g (lw_at lw_m3 198 rfl) rfl
theorem q762 : (Jvm.Cond.code ({ cls := "NonsenseRows$Reader", name := "word", desc := "(Ljava/lang/String;)V" } : Jvm.MethodName) prog_9_method_7_code (2 : Nat) (Option.none : Option Jvm.ClassFile.FieldType)) ∈ lw_all := lw_g (lw_at lw_m3 199 rfl) rfl
theorem q763 : (Jvm.Cond.methodLink "NonsenseRows$Reader" (114 : Nat) ({ cls := "NonsenseRows$Reader", name := "takes", desc := "(Ljava/lang/String;)Z" } : Jvm.MethodName)) ∈ lw_all := lw_g (lw_at lw_m3 200 rfl) rfl
theorem q764 : (Jvm.Cond.privateMethod ({ cls := "NonsenseRows$Reader", name := "takes", desc := "(Ljava/lang/String;)Z" } : Jvm.MethodName)) ∈ lw_tbl := lw_at lw_m3 201 rfl
theorem q765 : (Jvm.Cond.instanceMethod ({ cls := "NonsenseRows$Reader", name := "takes", desc := "(Ljava/lang/String;)Z" } : Jvm.MethodName)) ∈ lw_all := lw_g (lw_at lw_m3 202 rfl) rfl
theorem q766 : (Jvm.Cond.code ({ cls := "NonsenseRows$Reader", name := "takes", desc := "(Ljava/lang/String;)Z" } : Jvm.MethodName) prog_9_method_6_code (3 : Nat) (Option.some Jvm.ClassFile.FieldType.boolean)) ∈ lw_all := lw_g (lw_at lw_m3 203 rfl) rfl
theorem q767 : (Jvm.Cond.methodLink "NonsenseRows$Reader" (190 : Nat) ({ cls := "NonsenseRows$Reader", name := "sum", desc := "()LNonsenseRows$Sum;" } : Jvm.MethodName)) ∈ lw_all := lw_g (lw_at lw_m3 204 rfl) rfl
theorem q768 : (Jvm.Cond.privateMethod ({ cls := "NonsenseRows$Reader", name := "sum", desc := "()LNonsenseRows$Sum;" } : Jvm.MethodName)) ∈ lw_tbl := lw_at lw_m3 205 rfl
theorem q769 : (Jvm.Cond.instanceMethod ({ cls := "NonsenseRows$Reader", name := "sum", desc := "()LNonsenseRows$Sum;" } : Jvm.MethodName)) ∈ lw_all := lw_g (lw_at lw_m3 206 rfl) rfl
theorem q770 : (Jvm.Cond.code ({ cls := "NonsenseRows$Reader", name := "sum", desc := "()LNonsenseRows$Sum;" } : Jvm.MethodName) prog_9_method_14_code (3 : Nat) (Option.some (Jvm.ClassFile.FieldType.object "NonsenseRows$Sum"))) ∈ lw_all := lw_g (lw_at lw_m3 207 rfl) rfl
theorem q771 : (Jvm.Cond.methodLink "NonsenseRows$Reader" (166 : Nat) ({ cls := "NonsenseRows$Reader", name := "term", desc := "()LNonsenseRows$Sum;" } : Jvm.MethodName)) ∈ lw_all := lw_g (lw_at lw_m3 208 rfl) rfl
theorem q772 : (Jvm.Cond.privateMethod ({ cls := "NonsenseRows$Reader", name := "term", desc := "()LNonsenseRows$Sum;" } : Jvm.MethodName)) ∈ lw_tbl := lw_at lw_m3 209 rfl
theorem q773 : (Jvm.Cond.instanceMethod ({ cls := "NonsenseRows$Reader", name := "term", desc := "()LNonsenseRows$Sum;" } : Jvm.MethodName)) ∈ lw_all := lw_g (lw_at lw_m3 210 rfl) rfl
theorem q774 : (Jvm.Cond.code ({ cls := "NonsenseRows$Reader", name := "term", desc := "()LNonsenseRows$Sum;" } : Jvm.MethodName) prog_9_method_13_code (3 : Nat) (Option.some (Jvm.ClassFile.FieldType.object "NonsenseRows$Sum"))) ∈ lw_all := lw_g (lw_at lw_m3 211 rfl) rfl
theorem q775 : (Jvm.Cond.methodLink "NonsenseRows$Reader" (150 : Nat) ({ cls := "NonsenseRows$Reader", name := "part", desc := "()LNonsenseRows$Sum;" } : Jvm.MethodName)) ∈ lw_all := lw_g (lw_at lw_m3 212 rfl) rfl
theorem q776 : (Jvm.Cond.privateMethod ({ cls := "NonsenseRows$Reader", name := "part", desc := "()LNonsenseRows$Sum;" } : Jvm.MethodName)) ∈ lw_tbl := lw_at lw_m3 213 rfl
theorem q777 : (Jvm.Cond.instanceMethod ({ cls := "NonsenseRows$Reader", name := "part", desc := "()LNonsenseRows$Sum;" } : Jvm.MethodName)) ∈ lw_all := lw_g (lw_at lw_m3 214 rfl) rfl
theorem q778 : (Jvm.Cond.code ({ cls := "NonsenseRows$Reader", name := "part", desc := "()LNonsenseRows$Sum;" } : Jvm.MethodName) prog_9_method_12_code (2 : Nat) (Option.some (Jvm.ClassFile.FieldType.object "NonsenseRows$Sum"))) ∈ lw_all := lw_g (lw_at lw_m3 215 rfl) rfl
theorem q779 : (Jvm.Cond.classLink "NonsenseRows$Reader" (144 : Nat) "NonsenseRows$Amount") ∈ lw_all := lw_g (lw_at lw_m3 216 rfl) rfl
theorem q781 : (Jvm.Cond.methodLink "NonsenseRows$Reader" (131 : Nat) ({ cls := "NonsenseRows$Reader", name := "number", desc := "(II)I" } : Jvm.MethodName)) ∈ lw_all := lw_g (lw_at lw_m3 218 rfl) rfl
theorem q782 : (Jvm.Cond.privateMethod ({ cls := "NonsenseRows$Reader", name := "number", desc := "(II)I" } : Jvm.MethodName)) ∈ lw_tbl := lw_at lw_m3 219 rfl
theorem q783 : (Jvm.Cond.instanceMethod ({ cls := "NonsenseRows$Reader", name := "number", desc := "(II)I" } : Jvm.MethodName)) ∈ lw_all := lw_g (lw_at lw_m3 220 rfl) rfl
theorem q784 : (Jvm.Cond.code ({ cls := "NonsenseRows$Reader", name := "number", desc := "(II)I" } : Jvm.MethodName) prog_9_method_8_code (4 : Nat) (Option.some Jvm.ClassFile.FieldType.int)) ∈ lw_all := lw_g (lw_at lw_m3 221 rfl) rfl
theorem q785 : (Jvm.Cond.methodLinkNest "NonsenseRows$Reader" (120 : Nat) ({ cls := "NonsenseRows", name := "in", desc := "(JJJ)Z" } : Jvm.MethodName) "NonsenseRows") ∈ lw_tbl := lw_at lw_m3 222 rfl
theorem q786 : (Jvm.Cond.methodLink "NonsenseRows$Reader" (146 : Nat) ({ cls := "NonsenseRows$Amount", name := "<init>", desc := "(I)V" } : Jvm.MethodName)) ∈ lw_all := lw_g (lw_at lw_m3 223 rfl) rfl
theorem q797 : (Jvm.Cond.classLink "NonsenseRows$Reader" (147 : Nat) "NonsenseRows$Part") ∈ lw_all := lw_g (lw_at lw_m3 234 rfl) rfl
theorem q799 : (Jvm.Cond.methodLink "NonsenseRows$Reader" (149 : Nat) ({ cls := "NonsenseRows$Part", name := "<init>", desc := "(I)V" } : Jvm.MethodName)) ∈ lw_all := lw_g (lw_at lw_m3 236 rfl) rfl
theorem q807 : (Jvm.Cond.stringRef "NonsenseRows$Reader" (154 : Nat) "times") ∈ lw_tbl := lw_at lw_m4 4 rfl
theorem q808 : (Jvm.Cond.stringRef "NonsenseRows$Reader" (156 : Nat) "over") ∈ lw_tbl := lw_at lw_m4 5 rfl
theorem q809 : (Jvm.Cond.classLink "NonsenseRows$Reader" (158 : Nat) "NonsenseRows$Over") ∈ lw_all := lw_g (lw_at lw_m4 6 rfl) rfl
theorem q811 : (Jvm.Cond.methodLink "NonsenseRows$Reader" (160 : Nat) ({ cls := "NonsenseRows$Over", name := "<init>", desc := "(LNonsenseRows$Sum;LNonsenseRows$Sum;)V" } : Jvm.MethodName)) ∈ lw_all := lw_g (lw_at lw_m4 8 rfl) rfl
theorem q828 : (Jvm.Cond.classLink "NonsenseRows$Reader" (163 : Nat) "NonsenseRows$Times") ∈ lw_all := lw_g (lw_at lw_m4 25 rfl) rfl
theorem q830 : (Jvm.Cond.methodLink "NonsenseRows$Reader" (165 : Nat) ({ cls := "NonsenseRows$Times", name := "<init>", desc := "(LNonsenseRows$Sum;LNonsenseRows$Sum;)V" } : Jvm.MethodName)) ∈ lw_all := lw_g (lw_at lw_m4 27 rfl) rfl
theorem q834 : (Jvm.Cond.stringRef "NonsenseRows$Reader" (169 : Nat) "plus") ∈ lw_tbl := lw_at lw_m4 31 rfl
theorem q835 : (Jvm.Cond.stringRef "NonsenseRows$Reader" (171 : Nat) "minus") ∈ lw_tbl := lw_at lw_m4 32 rfl
theorem q836 : (Jvm.Cond.classLink "NonsenseRows$Reader" (173 : Nat) "NonsenseRows$Added") ∈ lw_all := lw_g (lw_at lw_m4 33 rfl) rfl
theorem q838 : (Jvm.Cond.methodLink "NonsenseRows$Reader" (175 : Nat) ({ cls := "NonsenseRows$Added", name := "<init>", desc := "(LNonsenseRows$Sum;ZLNonsenseRows$Sum;)V" } : Jvm.MethodName)) ∈ lw_all := lw_g (lw_at lw_m4 35 rfl) rfl
theorem q848 : (Jvm.Cond.methodLink "NonsenseRows$Reader" (219 : Nat) ({ cls := "NonsenseRows$Reader", name := "rowLine", desc := "()V" } : Jvm.MethodName)) ∈ lw_all := lw_g (lw_at lw_m4 45 rfl) rfl
theorem q849 : (Jvm.Cond.privateMethod ({ cls := "NonsenseRows$Reader", name := "rowLine", desc := "()V" } : Jvm.MethodName)) ∈ lw_tbl := lw_at lw_m4 46 rfl
theorem q850 : (Jvm.Cond.instanceMethod ({ cls := "NonsenseRows$Reader", name := "rowLine", desc := "()V" } : Jvm.MethodName)) ∈ lw_all := lw_g (lw_at lw_m4 47 rfl) rfl
theorem q851 : (Jvm.Cond.code ({ cls := "NonsenseRows$Reader", name := "rowLine", desc := "()V" } : Jvm.MethodName) prog_9_method_11_code (4 : Nat) (Option.none : Option Jvm.ClassFile.FieldType)) ∈ lw_all := lw_g (lw_at lw_m4 48 rfl) rfl
theorem q852 : (Jvm.Cond.methodLinkNest "NonsenseRows$Reader" (134 : Nat) ({ cls := "NonsenseRows", name := "shortened", desc := "([II)[I" } : Jvm.MethodName) "NonsenseRows") ∈ lw_tbl := lw_at lw_m4 49 rfl
theorem q856 : (Jvm.Cond.interfaceEntry "NonsenseRows$Reader" (138 : Nat)) ∈ lw_tbl := lw_at lw_m4 53 rfl
theorem q857 : (Jvm.Cond.methodLink "NonsenseRows$Reader" (138 : Nat) ({ cls := "java/util/List", name := "add", desc := "(Ljava/lang/Object;)Z" } : Jvm.MethodName)) ∈ lw_all := lw_g (lw_at lw_m4 54 rfl) rfl
theorem q902 : (Jvm.Cond.selects "NonsenseRows$Reader" ({ cls := "java/lang/Object", name := "getClass", desc := "()Ljava/lang/Class;" } : Jvm.MethodName) ({ cls := "java/lang/Object", name := "getClass", desc := "()Ljava/lang/Class;" } : Jvm.MethodName)) ∈ lw_all := lw_g (lw_at lw_m4 99 rfl) rfl
theorem q924 : (Jvm.Cond.stringRef "NonsenseRows$Reader" (222 : Nat) "hold") ∈ lw_tbl := lw_at lw_m4 121 rfl
theorem q925 : (Jvm.Cond.methodLink "NonsenseRows$Reader" (223 : Nat) ({ cls := "NonsenseRows$Reader", name := "holdLine", desc := "()V" } : Jvm.MethodName)) ∈ lw_all := lw_g (lw_at lw_m4 122 rfl) rfl
theorem q926 : (Jvm.Cond.privateMethod ({ cls := "NonsenseRows$Reader", name := "holdLine", desc := "()V" } : Jvm.MethodName)) ∈ lw_tbl := lw_at lw_m4 123 rfl
theorem q927 : (Jvm.Cond.instanceMethod ({ cls := "NonsenseRows$Reader", name := "holdLine", desc := "()V" } : Jvm.MethodName)) ∈ lw_all := lw_g (lw_at lw_m4 124 rfl) rfl
theorem q928 : (Jvm.Cond.code ({ cls := "NonsenseRows$Reader", name := "holdLine", desc := "()V" } : Jvm.MethodName) prog_9_method_17_code (1 : Nat) (Option.none : Option Jvm.ClassFile.FieldType)) ∈ lw_all := lw_g (lw_at lw_m4 125 rfl) rfl
theorem q929 : (Jvm.Cond.stringRef "NonsenseRows$Reader" (226 : Nat) "lean") ∈ lw_tbl := lw_at lw_m4 126 rfl
theorem q930 : (Jvm.Cond.methodLink "NonsenseRows$Reader" (228 : Nat) ({ cls := "NonsenseRows$Reader", name := "leanLine", desc := "()V" } : Jvm.MethodName)) ∈ lw_all := lw_g (lw_at lw_m4 127 rfl) rfl
theorem q931 : (Jvm.Cond.privateMethod ({ cls := "NonsenseRows$Reader", name := "leanLine", desc := "()V" } : Jvm.MethodName)) ∈ lw_tbl := lw_at lw_m4 128 rfl
theorem q932 : (Jvm.Cond.instanceMethod ({ cls := "NonsenseRows$Reader", name := "leanLine", desc := "()V" } : Jvm.MethodName)) ∈ lw_all := lw_g (lw_at lw_m4 129 rfl) rfl
theorem q933 : (Jvm.Cond.code ({ cls := "NonsenseRows$Reader", name := "leanLine", desc := "()V" } : Jvm.MethodName) prog_9_method_16_code (2 : Nat) (Option.none : Option Jvm.ClassFile.FieldType)) ∈ lw_all := lw_g (lw_at lw_m4 130 rfl) rfl
theorem q1929 : (Jvm.Cond.castable "NonsenseRows$Reader" "java/lang/Object") ∈ lw_tbl := lw_at lw_m8 166 rfl

