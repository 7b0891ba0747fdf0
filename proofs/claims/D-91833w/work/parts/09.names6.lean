set_option maxRecDepth 100000
abbrev cX6_init : ByteArray := prog_18_method_4_code
def yX6_init : MethodName := ⟨RX6, "<init>", "()V"⟩
def dkwX6_init_9 : List UInt8 := [188, 11, 181, 0, 83, 177]
abbrev dktX6_init_9 : List UInt8 := dkwX6_init_9 ++ []
def dkwX6_init_8 : List UInt8 := [79, 181, 0, 73, 42, 7, 188, 10, 181, 0, 76, 42, 17, 0, 240, 188, 11, 181, 0, 79, 42, 16, 60]
abbrev dktX6_init_8 : List UInt8 := dkwX6_init_8 ++ dktX6_init_9
def dkwX6_init_7 : List UInt8 := [188, 10, 181, 0, 70, 42, 7, 188, 10, 89, 3, 2, 79, 89, 4, 2, 79, 89, 5, 2, 79, 89, 6, 2]
abbrev dktX6_init_7 : List UInt8 := dkwX6_init_7 ++ dktX6_init_8
def dkwX6_init_6 : List UInt8 := [181, 0, 61, 42, 17, 4, 96, 188, 10, 181, 0, 64, 42, 16, 12, 188, 10, 181, 0, 67, 42, 16, 12]
abbrev dktX6_init_6 : List UInt8 := dkwX6_init_6 ++ dktX6_init_7
def dkwX6_init_5 : List UInt8 := [181, 0, 51, 42, 2, 181, 0, 55, 42, 17, 63, 16, 188, 10, 181, 0, 58, 42, 16, 12, 188, 10]
abbrev dktX6_init_5 : List UInt8 := dkwX6_init_5 ++ dktX6_init_6
def dkwX6_init_4 : List UInt8 := [8, 188, 10, 181, 0, 42, 42, 2, 181, 0, 45, 42, 17, 4, 96, 188, 10, 181, 0, 48, 42, 7, 188, 4]
abbrev dktX6_init_4 : List UInt8 := dkwX6_init_4 ++ dktX6_init_5
def dkwX6_init_3 : List UInt8 := [3, 2, 79, 89, 4, 2, 79, 89, 5, 2, 79, 181, 0, 35, 42, 17, 3, 132, 188, 8, 181, 0, 38, 42]
abbrev dktX6_init_3 : List UInt8 := dkwX6_init_3 ++ dktX6_init_4
def dkwX6_init_2 : List UInt8 := [181, 0, 26, 42, 17, 4, 56, 188, 10, 181, 0, 29, 42, 6, 188, 10, 181, 0, 32, 42, 6, 188, 10, 89]
abbrev dktX6_init_2 : List UInt8 := dkwX6_init_2 ++ dktX6_init_3
def dkwX6_init_1 : List UInt8 := [17, 1, 104, 188, 10, 181, 0, 20, 42, 17, 13, 32, 188, 10, 181, 0, 23, 42, 17, 23, 166, 188, 10]
abbrev dktX6_init_1 : List UInt8 := dkwX6_init_1 ++ dktX6_init_2
def dkwX6_init_0 : List UInt8 := [42, 183, 0, 7, 42, 17, 4, 96, 188, 10, 181, 0, 13, 42, 17, 7, 226, 188, 10, 181, 0, 17, 42]
abbrev dktX6_init_0 : List UInt8 := dkwX6_init_0 ++ dktX6_init_1
theorem dksX6_init_0 : cX6_init.data.toList.drop 0 = dktX6_init_0 := by decide +kernel
theorem dksX6_init_1 : cX6_init.data.toList.drop 23 = dktX6_init_1 := dk_seg dksX6_init_0 23 rfl rfl
theorem dksX6_init_2 : cX6_init.data.toList.drop 46 = dktX6_init_2 := dk_seg dksX6_init_1 23 rfl rfl
theorem dksX6_init_3 : cX6_init.data.toList.drop 70 = dktX6_init_3 := dk_seg dksX6_init_2 24 rfl rfl
theorem dksX6_init_4 : cX6_init.data.toList.drop 94 = dktX6_init_4 := dk_seg dksX6_init_3 24 rfl rfl
theorem dksX6_init_5 : cX6_init.data.toList.drop 118 = dktX6_init_5 := dk_seg dksX6_init_4 24 rfl rfl
theorem dksX6_init_6 : cX6_init.data.toList.drop 140 = dktX6_init_6 := dk_seg dksX6_init_5 22 rfl rfl
theorem dksX6_init_7 : cX6_init.data.toList.drop 163 = dktX6_init_7 := dk_seg dksX6_init_6 23 rfl rfl
theorem dksX6_init_8 : cX6_init.data.toList.drop 187 = dktX6_init_8 := dk_seg dksX6_init_7 24 rfl rfl
theorem dksX6_init_9 : cX6_init.data.toList.drop 210 = dktX6_init_9 := dk_seg dksX6_init_8 23 rfl rfl
theorem dX6_init_0 : decode cX6_init 0 = .ok (.aload_n 0, 1) := dk_42 (dk_at dksX6_init_0 0 rfl rfl)
theorem dX6_init_1 : decode cX6_init 1 = .ok (.invokespecial 7, 3) := dk_183 0 7 (dk_at dksX6_init_0 1 rfl rfl)
theorem dX6_init_4 : decode cX6_init 4 = .ok (.aload_n 0, 1) := dk_42 (dk_at dksX6_init_0 4 rfl rfl)
theorem dX6_init_5 : decode cX6_init 5 = .ok (.sipush 1120, 3) := dk_17 4 96 (dk_at dksX6_init_0 5 rfl rfl)
theorem dX6_init_8 : decode cX6_init 8 = .ok (.newarray .int, 2) := dk_188_10 (dk_at dksX6_init_0 8 rfl rfl)
theorem dX6_init_10 : decode cX6_init 10 = .ok (.putfield 13, 3) := dk_181 0 13 (dk_at dksX6_init_0 10 rfl rfl)
theorem dX6_init_13 : decode cX6_init 13 = .ok (.aload_n 0, 1) := dk_42 (dk_at dksX6_init_0 13 rfl rfl)
theorem dX6_init_14 : decode cX6_init 14 = .ok (.sipush 2018, 3) := dk_17 7 226 (dk_at dksX6_init_0 14 rfl rfl)
theorem dX6_init_17 : decode cX6_init 17 = .ok (.newarray .int, 2) := dk_188_10 (dk_at dksX6_init_0 17 rfl rfl)
theorem dX6_init_19 : decode cX6_init 19 = .ok (.putfield 17, 3) := dk_181 0 17 (dk_at dksX6_init_0 19 rfl rfl)
theorem dX6_init_22 : decode cX6_init 22 = .ok (.aload_n 0, 1) := dk_42 (dk_at dksX6_init_0 22 rfl rfl)
theorem dX6_init_23 : decode cX6_init 23 = .ok (.sipush 360, 3) := dk_17 1 104 (dk_at dksX6_init_1 0 rfl rfl)
theorem dX6_init_26 : decode cX6_init 26 = .ok (.newarray .int, 2) := dk_188_10 (dk_at dksX6_init_1 3 rfl rfl)
theorem dX6_init_28 : decode cX6_init 28 = .ok (.putfield 20, 3) := dk_181 0 20 (dk_at dksX6_init_1 5 rfl rfl)
theorem dX6_init_31 : decode cX6_init 31 = .ok (.aload_n 0, 1) := dk_42 (dk_at dksX6_init_1 8 rfl rfl)
theorem dX6_init_32 : decode cX6_init 32 = .ok (.sipush 3360, 3) := dk_17 13 32 (dk_at dksX6_init_1 9 rfl rfl)
theorem dX6_init_35 : decode cX6_init 35 = .ok (.newarray .int, 2) := dk_188_10 (dk_at dksX6_init_1 12 rfl rfl)
theorem dX6_init_37 : decode cX6_init 37 = .ok (.putfield 23, 3) := dk_181 0 23 (dk_at dksX6_init_1 14 rfl rfl)
theorem dX6_init_40 : decode cX6_init 40 = .ok (.aload_n 0, 1) := dk_42 (dk_at dksX6_init_1 17 rfl rfl)
theorem dX6_init_41 : decode cX6_init 41 = .ok (.sipush 6054, 3) := dk_17 23 166 (dk_at dksX6_init_1 18 rfl rfl)
theorem dX6_init_44 : decode cX6_init 44 = .ok (.newarray .int, 2) := dk_188_10 (dk_at dksX6_init_1 21 rfl rfl)
theorem dX6_init_46 : decode cX6_init 46 = .ok (.putfield 26, 3) := dk_181 0 26 (dk_at dksX6_init_2 0 rfl rfl)
theorem dX6_init_49 : decode cX6_init 49 = .ok (.aload_n 0, 1) := dk_42 (dk_at dksX6_init_2 3 rfl rfl)
theorem dX6_init_50 : decode cX6_init 50 = .ok (.sipush 1080, 3) := dk_17 4 56 (dk_at dksX6_init_2 4 rfl rfl)
theorem dX6_init_53 : decode cX6_init 53 = .ok (.newarray .int, 2) := dk_188_10 (dk_at dksX6_init_2 7 rfl rfl)
theorem dX6_init_55 : decode cX6_init 55 = .ok (.putfield 29, 3) := dk_181 0 29 (dk_at dksX6_init_2 9 rfl rfl)
theorem dX6_init_58 : decode cX6_init 58 = .ok (.aload_n 0, 1) := dk_42 (dk_at dksX6_init_2 12 rfl rfl)
theorem dX6_init_59 : decode cX6_init 59 = .ok (.iconst 3, 1) := dk_6 (dk_at dksX6_init_2 13 rfl rfl)
theorem dX6_init_60 : decode cX6_init 60 = .ok (.newarray .int, 2) := dk_188_10 (dk_at dksX6_init_2 14 rfl rfl)
theorem dX6_init_62 : decode cX6_init 62 = .ok (.putfield 32, 3) := dk_181 0 32 (dk_at dksX6_init_2 16 rfl rfl)
theorem dX6_init_65 : decode cX6_init 65 = .ok (.aload_n 0, 1) := dk_42 (dk_at dksX6_init_2 19 rfl rfl)
theorem dX6_init_66 : decode cX6_init 66 = .ok (.iconst 3, 1) := dk_6 (dk_at dksX6_init_2 20 rfl rfl)
theorem dX6_init_67 : decode cX6_init 67 = .ok (.newarray .int, 2) := dk_188_10 (dk_at dksX6_init_2 21 rfl rfl)
theorem dX6_init_69 : decode cX6_init 69 = .ok (.dup, 1) := dk_89 (dk_at dksX6_init_2 23 rfl rfl)
theorem dX6_init_70 : decode cX6_init 70 = .ok (.iconst 0, 1) := dk_3 (dk_at dksX6_init_3 0 rfl rfl)
theorem dX6_init_71 : decode cX6_init 71 = .ok (.iconst (-1), 1) := dk_2 (dk_at dksX6_init_3 1 rfl rfl)
theorem dX6_init_72 : decode cX6_init 72 = .ok (.iastore, 1) := dk_79 (dk_at dksX6_init_3 2 rfl rfl)
theorem dX6_init_73 : decode cX6_init 73 = .ok (.dup, 1) := dk_89 (dk_at dksX6_init_3 3 rfl rfl)
theorem dX6_init_74 : decode cX6_init 74 = .ok (.iconst 1, 1) := dk_4 (dk_at dksX6_init_3 4 rfl rfl)
theorem dX6_init_75 : decode cX6_init 75 = .ok (.iconst (-1), 1) := dk_2 (dk_at dksX6_init_3 5 rfl rfl)
theorem dX6_init_76 : decode cX6_init 76 = .ok (.iastore, 1) := dk_79 (dk_at dksX6_init_3 6 rfl rfl)
theorem dX6_init_77 : decode cX6_init 77 = .ok (.dup, 1) := dk_89 (dk_at dksX6_init_3 7 rfl rfl)
theorem dX6_init_78 : decode cX6_init 78 = .ok (.iconst 2, 1) := dk_5 (dk_at dksX6_init_3 8 rfl rfl)
theorem dX6_init_79 : decode cX6_init 79 = .ok (.iconst (-1), 1) := dk_2 (dk_at dksX6_init_3 9 rfl rfl)
theorem dX6_init_80 : decode cX6_init 80 = .ok (.iastore, 1) := dk_79 (dk_at dksX6_init_3 10 rfl rfl)
theorem dX6_init_81 : decode cX6_init 81 = .ok (.putfield 35, 3) := dk_181 0 35 (dk_at dksX6_init_3 11 rfl rfl)
theorem dX6_init_84 : decode cX6_init 84 = .ok (.aload_n 0, 1) := dk_42 (dk_at dksX6_init_3 14 rfl rfl)
theorem dX6_init_85 : decode cX6_init 85 = .ok (.sipush 900, 3) := dk_17 3 132 (dk_at dksX6_init_3 15 rfl rfl)
theorem dX6_init_88 : decode cX6_init 88 = .ok (.newarray .byte, 2) := dk_188_8 (dk_at dksX6_init_3 18 rfl rfl)
theorem dX6_init_90 : decode cX6_init 90 = .ok (.putfield 38, 3) := dk_181 0 38 (dk_at dksX6_init_3 20 rfl rfl)
theorem dX6_init_93 : decode cX6_init 93 = .ok (.aload_n 0, 1) := dk_42 (dk_at dksX6_init_3 23 rfl rfl)
theorem dX6_init_94 : decode cX6_init 94 = .ok (.iconst 5, 1) := dk_8 (dk_at dksX6_init_4 0 rfl rfl)
theorem dX6_init_95 : decode cX6_init 95 = .ok (.newarray .int, 2) := dk_188_10 (dk_at dksX6_init_4 1 rfl rfl)
theorem dX6_init_97 : decode cX6_init 97 = .ok (.putfield 42, 3) := dk_181 0 42 (dk_at dksX6_init_4 3 rfl rfl)
theorem dX6_init_100 : decode cX6_init 100 = .ok (.aload_n 0, 1) := dk_42 (dk_at dksX6_init_4 6 rfl rfl)
theorem dX6_init_101 : decode cX6_init 101 = .ok (.iconst (-1), 1) := dk_2 (dk_at dksX6_init_4 7 rfl rfl)
theorem dX6_init_102 : decode cX6_init 102 = .ok (.putfield 45, 3) := dk_181 0 45 (dk_at dksX6_init_4 8 rfl rfl)
theorem dX6_init_105 : decode cX6_init 105 = .ok (.aload_n 0, 1) := dk_42 (dk_at dksX6_init_4 11 rfl rfl)
theorem dX6_init_106 : decode cX6_init 106 = .ok (.sipush 1120, 3) := dk_17 4 96 (dk_at dksX6_init_4 12 rfl rfl)
theorem dX6_init_109 : decode cX6_init 109 = .ok (.newarray .int, 2) := dk_188_10 (dk_at dksX6_init_4 15 rfl rfl)
theorem dX6_init_111 : decode cX6_init 111 = .ok (.putfield 48, 3) := dk_181 0 48 (dk_at dksX6_init_4 17 rfl rfl)
theorem dX6_init_114 : decode cX6_init 114 = .ok (.aload_n 0, 1) := dk_42 (dk_at dksX6_init_4 20 rfl rfl)
theorem dX6_init_115 : decode cX6_init 115 = .ok (.iconst 4, 1) := dk_7 (dk_at dksX6_init_4 21 rfl rfl)
theorem dX6_init_116 : decode cX6_init 116 = .ok (.newarray .boolean, 2) := dk_188_4 (dk_at dksX6_init_4 22 rfl rfl)
theorem dX6_init_118 : decode cX6_init 118 = .ok (.putfield 51, 3) := dk_181 0 51 (dk_at dksX6_init_5 0 rfl rfl)
theorem dX6_init_121 : decode cX6_init 121 = .ok (.aload_n 0, 1) := dk_42 (dk_at dksX6_init_5 3 rfl rfl)
theorem dX6_init_122 : decode cX6_init 122 = .ok (.iconst (-1), 1) := dk_2 (dk_at dksX6_init_5 4 rfl rfl)
theorem dX6_init_123 : decode cX6_init 123 = .ok (.putfield 55, 3) := dk_181 0 55 (dk_at dksX6_init_5 5 rfl rfl)
theorem dX6_init_126 : decode cX6_init 126 = .ok (.aload_n 0, 1) := dk_42 (dk_at dksX6_init_5 8 rfl rfl)
theorem dX6_init_127 : decode cX6_init 127 = .ok (.sipush 16144, 3) := dk_17 63 16 (dk_at dksX6_init_5 9 rfl rfl)
theorem dX6_init_130 : decode cX6_init 130 = .ok (.newarray .int, 2) := dk_188_10 (dk_at dksX6_init_5 12 rfl rfl)
theorem dX6_init_132 : decode cX6_init 132 = .ok (.putfield 58, 3) := dk_181 0 58 (dk_at dksX6_init_5 14 rfl rfl)
theorem dX6_init_135 : decode cX6_init 135 = .ok (.aload_n 0, 1) := dk_42 (dk_at dksX6_init_5 17 rfl rfl)
theorem dX6_init_136 : decode cX6_init 136 = .ok (.bipush 12, 2) := dk_16 12 (dk_at dksX6_init_5 18 rfl rfl)
theorem dX6_init_138 : decode cX6_init 138 = .ok (.newarray .int, 2) := dk_188_10 (dk_at dksX6_init_5 20 rfl rfl)
theorem dX6_init_140 : decode cX6_init 140 = .ok (.putfield 61, 3) := dk_181 0 61 (dk_at dksX6_init_6 0 rfl rfl)
theorem dX6_init_143 : decode cX6_init 143 = .ok (.aload_n 0, 1) := dk_42 (dk_at dksX6_init_6 3 rfl rfl)
theorem dX6_init_144 : decode cX6_init 144 = .ok (.sipush 1120, 3) := dk_17 4 96 (dk_at dksX6_init_6 4 rfl rfl)
theorem dX6_init_147 : decode cX6_init 147 = .ok (.newarray .int, 2) := dk_188_10 (dk_at dksX6_init_6 7 rfl rfl)
theorem dX6_init_149 : decode cX6_init 149 = .ok (.putfield 64, 3) := dk_181 0 64 (dk_at dksX6_init_6 9 rfl rfl)
theorem dX6_init_152 : decode cX6_init 152 = .ok (.aload_n 0, 1) := dk_42 (dk_at dksX6_init_6 12 rfl rfl)
theorem dX6_init_153 : decode cX6_init 153 = .ok (.bipush 12, 2) := dk_16 12 (dk_at dksX6_init_6 13 rfl rfl)
theorem dX6_init_155 : decode cX6_init 155 = .ok (.newarray .int, 2) := dk_188_10 (dk_at dksX6_init_6 15 rfl rfl)
theorem dX6_init_157 : decode cX6_init 157 = .ok (.putfield 67, 3) := dk_181 0 67 (dk_at dksX6_init_6 17 rfl rfl)
theorem dX6_init_160 : decode cX6_init 160 = .ok (.aload_n 0, 1) := dk_42 (dk_at dksX6_init_6 20 rfl rfl)
theorem dX6_init_161 : decode cX6_init 161 = .ok (.bipush 12, 2) := dk_16 12 (dk_at dksX6_init_6 21 rfl rfl)
theorem dX6_init_163 : decode cX6_init 163 = .ok (.newarray .int, 2) := dk_188_10 (dk_at dksX6_init_7 0 rfl rfl)
theorem dX6_init_165 : decode cX6_init 165 = .ok (.putfield 70, 3) := dk_181 0 70 (dk_at dksX6_init_7 2 rfl rfl)
theorem dX6_init_168 : decode cX6_init 168 = .ok (.aload_n 0, 1) := dk_42 (dk_at dksX6_init_7 5 rfl rfl)
theorem dX6_init_169 : decode cX6_init 169 = .ok (.iconst 4, 1) := dk_7 (dk_at dksX6_init_7 6 rfl rfl)
theorem dX6_init_170 : decode cX6_init 170 = .ok (.newarray .int, 2) := dk_188_10 (dk_at dksX6_init_7 7 rfl rfl)
theorem dX6_init_172 : decode cX6_init 172 = .ok (.dup, 1) := dk_89 (dk_at dksX6_init_7 9 rfl rfl)
theorem dX6_init_173 : decode cX6_init 173 = .ok (.iconst 0, 1) := dk_3 (dk_at dksX6_init_7 10 rfl rfl)
theorem dX6_init_174 : decode cX6_init 174 = .ok (.iconst (-1), 1) := dk_2 (dk_at dksX6_init_7 11 rfl rfl)
theorem dX6_init_175 : decode cX6_init 175 = .ok (.iastore, 1) := dk_79 (dk_at dksX6_init_7 12 rfl rfl)
theorem dX6_init_176 : decode cX6_init 176 = .ok (.dup, 1) := dk_89 (dk_at dksX6_init_7 13 rfl rfl)
theorem dX6_init_177 : decode cX6_init 177 = .ok (.iconst 1, 1) := dk_4 (dk_at dksX6_init_7 14 rfl rfl)
theorem dX6_init_178 : decode cX6_init 178 = .ok (.iconst (-1), 1) := dk_2 (dk_at dksX6_init_7 15 rfl rfl)
theorem dX6_init_179 : decode cX6_init 179 = .ok (.iastore, 1) := dk_79 (dk_at dksX6_init_7 16 rfl rfl)
theorem dX6_init_180 : decode cX6_init 180 = .ok (.dup, 1) := dk_89 (dk_at dksX6_init_7 17 rfl rfl)
theorem dX6_init_181 : decode cX6_init 181 = .ok (.iconst 2, 1) := dk_5 (dk_at dksX6_init_7 18 rfl rfl)
theorem dX6_init_182 : decode cX6_init 182 = .ok (.iconst (-1), 1) := dk_2 (dk_at dksX6_init_7 19 rfl rfl)
theorem dX6_init_183 : decode cX6_init 183 = .ok (.iastore, 1) := dk_79 (dk_at dksX6_init_7 20 rfl rfl)
theorem dX6_init_184 : decode cX6_init 184 = .ok (.dup, 1) := dk_89 (dk_at dksX6_init_7 21 rfl rfl)
theorem dX6_init_185 : decode cX6_init 185 = .ok (.iconst 3, 1) := dk_6 (dk_at dksX6_init_7 22 rfl rfl)
theorem dX6_init_186 : decode cX6_init 186 = .ok (.iconst (-1), 1) := dk_2 (dk_at dksX6_init_7 23 rfl rfl)
theorem dX6_init_187 : decode cX6_init 187 = .ok (.iastore, 1) := dk_79 (dk_at dksX6_init_8 0 rfl rfl)
theorem dX6_init_188 : decode cX6_init 188 = .ok (.putfield 73, 3) := dk_181 0 73 (dk_at dksX6_init_8 1 rfl rfl)
theorem dX6_init_191 : decode cX6_init 191 = .ok (.aload_n 0, 1) := dk_42 (dk_at dksX6_init_8 4 rfl rfl)
theorem dX6_init_192 : decode cX6_init 192 = .ok (.iconst 4, 1) := dk_7 (dk_at dksX6_init_8 5 rfl rfl)
theorem dX6_init_193 : decode cX6_init 193 = .ok (.newarray .int, 2) := dk_188_10 (dk_at dksX6_init_8 6 rfl rfl)
theorem dX6_init_195 : decode cX6_init 195 = .ok (.putfield 76, 3) := dk_181 0 76 (dk_at dksX6_init_8 8 rfl rfl)
theorem dX6_init_198 : decode cX6_init 198 = .ok (.aload_n 0, 1) := dk_42 (dk_at dksX6_init_8 11 rfl rfl)
theorem dX6_init_199 : decode cX6_init 199 = .ok (.sipush 240, 3) := dk_17 0 240 (dk_at dksX6_init_8 12 rfl rfl)
theorem dX6_init_202 : decode cX6_init 202 = .ok (.newarray .long, 2) := dk_188_11 (dk_at dksX6_init_8 15 rfl rfl)
theorem dX6_init_204 : decode cX6_init 204 = .ok (.putfield 79, 3) := dk_181 0 79 (dk_at dksX6_init_8 17 rfl rfl)
theorem dX6_init_207 : decode cX6_init 207 = .ok (.aload_n 0, 1) := dk_42 (dk_at dksX6_init_8 20 rfl rfl)
theorem dX6_init_208 : decode cX6_init 208 = .ok (.bipush 60, 2) := dk_16 60 (dk_at dksX6_init_8 21 rfl rfl)
theorem dX6_init_210 : decode cX6_init 210 = .ok (.newarray .long, 2) := dk_188_11 (dk_at dksX6_init_9 0 rfl rfl)
theorem dX6_init_212 : decode cX6_init 212 = .ok (.putfield 83, 3) := dk_181 0 83 (dk_at dksX6_init_9 2 rfl rfl)
theorem dX6_init_215 : decode cX6_init 215 = .ok (.return_, 1) := dk_177 (dk_at dksX6_init_9 5 rfl rfl)
abbrev cX6_keep : ByteArray := prog_18_method_5_code
def yX6_keep : MethodName := ⟨RX6, "keep", "(I)I"⟩
def dkwX6_keep_5 : List UInt8 := [27, 42, 180, 0, 92, 79, 42, 180, 0, 32, 27, 42, 180, 0, 95, 79, 3, 172]
abbrev dktX6_keep_5 : List UInt8 := dkwX6_keep_5 ++ []
def dkwX6_keep_4 : List UInt8 := [17, 1, 104, 27, 104, 28, 96, 42, 180, 0, 20, 28, 46, 79, 132, 2, 1, 167, 255, 228, 42, 180, 0, 35]
abbrev dktX6_keep_4 : List UInt8 := dkwX6_keep_4 ++ dktX6_keep_5
def dkwX6_keep_3 : List UInt8 := [28, 46, 79, 132, 2, 1, 167, 255, 228, 3, 61, 28, 17, 1, 104, 162, 0, 27, 42, 180, 0, 29]
abbrev dktX6_keep_3 : List UInt8 := dkwX6_keep_3 ++ dktX6_keep_4
def dkwX6_keep_2 : List UInt8 := [3, 61, 28, 17, 7, 226, 162, 0, 27, 42, 180, 0, 26, 17, 7, 226, 27, 104, 28, 96, 42, 180, 0, 17]
abbrev dktX6_keep_2 : List UInt8 := dkwX6_keep_2 ++ dktX6_keep_3
def dkwX6_keep_1 : List UInt8 := [42, 180, 0, 23, 17, 4, 96, 27, 104, 28, 96, 42, 180, 0, 13, 28, 46, 79, 132, 2, 1, 167, 255, 228]
abbrev dktX6_keep_1 : List UInt8 := dkwX6_keep_1 ++ dktX6_keep_2
def dkwX6_keep_0 : List UInt8 := [27, 133, 9, 20, 0, 86, 184, 0, 88, 154, 0, 6, 16, 254, 172, 3, 61, 28, 17, 4, 96, 162, 0, 27]
abbrev dktX6_keep_0 : List UInt8 := dkwX6_keep_0 ++ dktX6_keep_1
theorem dksX6_keep_0 : cX6_keep.data.toList.drop 0 = dktX6_keep_0 := by decide +kernel
theorem dksX6_keep_1 : cX6_keep.data.toList.drop 24 = dktX6_keep_1 := dk_seg dksX6_keep_0 24 rfl rfl
theorem dksX6_keep_2 : cX6_keep.data.toList.drop 48 = dktX6_keep_2 := dk_seg dksX6_keep_1 24 rfl rfl
theorem dksX6_keep_3 : cX6_keep.data.toList.drop 72 = dktX6_keep_3 := dk_seg dksX6_keep_2 24 rfl rfl
theorem dksX6_keep_4 : cX6_keep.data.toList.drop 94 = dktX6_keep_4 := dk_seg dksX6_keep_3 22 rfl rfl
theorem dksX6_keep_5 : cX6_keep.data.toList.drop 118 = dktX6_keep_5 := dk_seg dksX6_keep_4 24 rfl rfl
theorem dX6_keep_0 : decode cX6_keep 0 = .ok (.iload_n 1, 1) := dk_27 (dk_at dksX6_keep_0 0 rfl rfl)
theorem dX6_keep_1 : decode cX6_keep 1 = .ok (.i2l, 1) := dk_133 (dk_at dksX6_keep_0 1 rfl rfl)
theorem dX6_keep_2 : decode cX6_keep 2 = .ok (.lconst 0, 1) := dk_9 (dk_at dksX6_keep_0 2 rfl rfl)
theorem dX6_keep_3 : decode cX6_keep 3 = .ok (.ldc2_w 86, 3) := dk_20 0 86 (dk_at dksX6_keep_0 3 rfl rfl)
theorem dX6_keep_6 : decode cX6_keep 6 = .ok (.invokestatic 88, 3) := dk_184 0 88 (dk_at dksX6_keep_0 6 rfl rfl)
theorem dX6_keep_9 : decode cX6_keep 9 = .ok (.ifCond .ne 6, 3) := dk_154 0 6 (dk_at dksX6_keep_0 9 rfl rfl)
theorem dX6_keep_12 : decode cX6_keep 12 = .ok (.bipush (-2), 2) := dk_16 254 (dk_at dksX6_keep_0 12 rfl rfl)
theorem dX6_keep_14 : decode cX6_keep 14 = .ok (.ireturn, 1) := dk_172 (dk_at dksX6_keep_0 14 rfl rfl)
theorem dX6_keep_15 : decode cX6_keep 15 = .ok (.iconst 0, 1) := dk_3 (dk_at dksX6_keep_0 15 rfl rfl)
theorem dX6_keep_16 : decode cX6_keep 16 = .ok (.istore_n 2, 1) := dk_61 (dk_at dksX6_keep_0 16 rfl rfl)
theorem dX6_keep_17 : decode cX6_keep 17 = .ok (.iload_n 2, 1) := dk_28 (dk_at dksX6_keep_0 17 rfl rfl)
theorem dX6_keep_18 : decode cX6_keep 18 = .ok (.sipush 1120, 3) := dk_17 4 96 (dk_at dksX6_keep_0 18 rfl rfl)
theorem dX6_keep_21 : decode cX6_keep 21 = .ok (.if_icmp .ge 27, 3) := dk_162 0 27 (dk_at dksX6_keep_0 21 rfl rfl)
theorem dX6_keep_24 : decode cX6_keep 24 = .ok (.aload_n 0, 1) := dk_42 (dk_at dksX6_keep_1 0 rfl rfl)
theorem dX6_keep_25 : decode cX6_keep 25 = .ok (.getfield 23, 3) := dk_180 0 23 (dk_at dksX6_keep_1 1 rfl rfl)
theorem dX6_keep_28 : decode cX6_keep 28 = .ok (.sipush 1120, 3) := dk_17 4 96 (dk_at dksX6_keep_1 4 rfl rfl)
theorem dX6_keep_31 : decode cX6_keep 31 = .ok (.iload_n 1, 1) := dk_27 (dk_at dksX6_keep_1 7 rfl rfl)
theorem dX6_keep_32 : decode cX6_keep 32 = .ok (.imul, 1) := dk_104 (dk_at dksX6_keep_1 8 rfl rfl)
theorem dX6_keep_33 : decode cX6_keep 33 = .ok (.iload_n 2, 1) := dk_28 (dk_at dksX6_keep_1 9 rfl rfl)
theorem dX6_keep_34 : decode cX6_keep 34 = .ok (.iadd, 1) := dk_96 (dk_at dksX6_keep_1 10 rfl rfl)
theorem dX6_keep_35 : decode cX6_keep 35 = .ok (.aload_n 0, 1) := dk_42 (dk_at dksX6_keep_1 11 rfl rfl)
theorem dX6_keep_36 : decode cX6_keep 36 = .ok (.getfield 13, 3) := dk_180 0 13 (dk_at dksX6_keep_1 12 rfl rfl)
theorem dX6_keep_39 : decode cX6_keep 39 = .ok (.iload_n 2, 1) := dk_28 (dk_at dksX6_keep_1 15 rfl rfl)
theorem dX6_keep_40 : decode cX6_keep 40 = .ok (.iaload, 1) := dk_46 (dk_at dksX6_keep_1 16 rfl rfl)
theorem dX6_keep_41 : decode cX6_keep 41 = .ok (.iastore, 1) := dk_79 (dk_at dksX6_keep_1 17 rfl rfl)
theorem dX6_keep_42 : decode cX6_keep 42 = .ok (.iinc 2 1, 3) := dk_132 2 1 (dk_at dksX6_keep_1 18 rfl rfl)
theorem dX6_keep_45 : decode cX6_keep 45 = .ok (.goto (-28), 3) := dk_167 255 228 (dk_at dksX6_keep_1 21 rfl rfl)
theorem dX6_keep_48 : decode cX6_keep 48 = .ok (.iconst 0, 1) := dk_3 (dk_at dksX6_keep_2 0 rfl rfl)
theorem dX6_keep_49 : decode cX6_keep 49 = .ok (.istore_n 2, 1) := dk_61 (dk_at dksX6_keep_2 1 rfl rfl)
theorem dX6_keep_50 : decode cX6_keep 50 = .ok (.iload_n 2, 1) := dk_28 (dk_at dksX6_keep_2 2 rfl rfl)
theorem dX6_keep_51 : decode cX6_keep 51 = .ok (.sipush 2018, 3) := dk_17 7 226 (dk_at dksX6_keep_2 3 rfl rfl)
theorem dX6_keep_54 : decode cX6_keep 54 = .ok (.if_icmp .ge 27, 3) := dk_162 0 27 (dk_at dksX6_keep_2 6 rfl rfl)
theorem dX6_keep_57 : decode cX6_keep 57 = .ok (.aload_n 0, 1) := dk_42 (dk_at dksX6_keep_2 9 rfl rfl)
theorem dX6_keep_58 : decode cX6_keep 58 = .ok (.getfield 26, 3) := dk_180 0 26 (dk_at dksX6_keep_2 10 rfl rfl)
theorem dX6_keep_61 : decode cX6_keep 61 = .ok (.sipush 2018, 3) := dk_17 7 226 (dk_at dksX6_keep_2 13 rfl rfl)
theorem dX6_keep_64 : decode cX6_keep 64 = .ok (.iload_n 1, 1) := dk_27 (dk_at dksX6_keep_2 16 rfl rfl)
theorem dX6_keep_65 : decode cX6_keep 65 = .ok (.imul, 1) := dk_104 (dk_at dksX6_keep_2 17 rfl rfl)
theorem dX6_keep_66 : decode cX6_keep 66 = .ok (.iload_n 2, 1) := dk_28 (dk_at dksX6_keep_2 18 rfl rfl)
theorem dX6_keep_67 : decode cX6_keep 67 = .ok (.iadd, 1) := dk_96 (dk_at dksX6_keep_2 19 rfl rfl)
theorem dX6_keep_68 : decode cX6_keep 68 = .ok (.aload_n 0, 1) := dk_42 (dk_at dksX6_keep_2 20 rfl rfl)
theorem dX6_keep_69 : decode cX6_keep 69 = .ok (.getfield 17, 3) := dk_180 0 17 (dk_at dksX6_keep_2 21 rfl rfl)
theorem dX6_keep_72 : decode cX6_keep 72 = .ok (.iload_n 2, 1) := dk_28 (dk_at dksX6_keep_3 0 rfl rfl)
theorem dX6_keep_73 : decode cX6_keep 73 = .ok (.iaload, 1) := dk_46 (dk_at dksX6_keep_3 1 rfl rfl)
theorem dX6_keep_74 : decode cX6_keep 74 = .ok (.iastore, 1) := dk_79 (dk_at dksX6_keep_3 2 rfl rfl)
theorem dX6_keep_75 : decode cX6_keep 75 = .ok (.iinc 2 1, 3) := dk_132 2 1 (dk_at dksX6_keep_3 3 rfl rfl)
theorem dX6_keep_78 : decode cX6_keep 78 = .ok (.goto (-28), 3) := dk_167 255 228 (dk_at dksX6_keep_3 6 rfl rfl)
theorem dX6_keep_81 : decode cX6_keep 81 = .ok (.iconst 0, 1) := dk_3 (dk_at dksX6_keep_3 9 rfl rfl)
theorem dX6_keep_82 : decode cX6_keep 82 = .ok (.istore_n 2, 1) := dk_61 (dk_at dksX6_keep_3 10 rfl rfl)
theorem dX6_keep_83 : decode cX6_keep 83 = .ok (.iload_n 2, 1) := dk_28 (dk_at dksX6_keep_3 11 rfl rfl)
theorem dX6_keep_84 : decode cX6_keep 84 = .ok (.sipush 360, 3) := dk_17 1 104 (dk_at dksX6_keep_3 12 rfl rfl)
theorem dX6_keep_87 : decode cX6_keep 87 = .ok (.if_icmp .ge 27, 3) := dk_162 0 27 (dk_at dksX6_keep_3 15 rfl rfl)
theorem dX6_keep_90 : decode cX6_keep 90 = .ok (.aload_n 0, 1) := dk_42 (dk_at dksX6_keep_3 18 rfl rfl)
theorem dX6_keep_91 : decode cX6_keep 91 = .ok (.getfield 29, 3) := dk_180 0 29 (dk_at dksX6_keep_3 19 rfl rfl)
theorem dX6_keep_94 : decode cX6_keep 94 = .ok (.sipush 360, 3) := dk_17 1 104 (dk_at dksX6_keep_4 0 rfl rfl)
theorem dX6_keep_97 : decode cX6_keep 97 = .ok (.iload_n 1, 1) := dk_27 (dk_at dksX6_keep_4 3 rfl rfl)
theorem dX6_keep_98 : decode cX6_keep 98 = .ok (.imul, 1) := dk_104 (dk_at dksX6_keep_4 4 rfl rfl)
theorem dX6_keep_99 : decode cX6_keep 99 = .ok (.iload_n 2, 1) := dk_28 (dk_at dksX6_keep_4 5 rfl rfl)
theorem dX6_keep_100 : decode cX6_keep 100 = .ok (.iadd, 1) := dk_96 (dk_at dksX6_keep_4 6 rfl rfl)
theorem dX6_keep_101 : decode cX6_keep 101 = .ok (.aload_n 0, 1) := dk_42 (dk_at dksX6_keep_4 7 rfl rfl)
theorem dX6_keep_102 : decode cX6_keep 102 = .ok (.getfield 20, 3) := dk_180 0 20 (dk_at dksX6_keep_4 8 rfl rfl)
theorem dX6_keep_105 : decode cX6_keep 105 = .ok (.iload_n 2, 1) := dk_28 (dk_at dksX6_keep_4 11 rfl rfl)
theorem dX6_keep_106 : decode cX6_keep 106 = .ok (.iaload, 1) := dk_46 (dk_at dksX6_keep_4 12 rfl rfl)
theorem dX6_keep_107 : decode cX6_keep 107 = .ok (.iastore, 1) := dk_79 (dk_at dksX6_keep_4 13 rfl rfl)
theorem dX6_keep_108 : decode cX6_keep 108 = .ok (.iinc 2 1, 3) := dk_132 2 1 (dk_at dksX6_keep_4 14 rfl rfl)
theorem dX6_keep_111 : decode cX6_keep 111 = .ok (.goto (-28), 3) := dk_167 255 228 (dk_at dksX6_keep_4 17 rfl rfl)
theorem dX6_keep_114 : decode cX6_keep 114 = .ok (.aload_n 0, 1) := dk_42 (dk_at dksX6_keep_4 20 rfl rfl)
theorem dX6_keep_115 : decode cX6_keep 115 = .ok (.getfield 35, 3) := dk_180 0 35 (dk_at dksX6_keep_4 21 rfl rfl)
theorem dX6_keep_118 : decode cX6_keep 118 = .ok (.iload_n 1, 1) := dk_27 (dk_at dksX6_keep_5 0 rfl rfl)
theorem dX6_keep_119 : decode cX6_keep 119 = .ok (.aload_n 0, 1) := dk_42 (dk_at dksX6_keep_5 1 rfl rfl)
theorem dX6_keep_120 : decode cX6_keep 120 = .ok (.getfield 92, 3) := dk_180 0 92 (dk_at dksX6_keep_5 2 rfl rfl)
theorem dX6_keep_123 : decode cX6_keep 123 = .ok (.iastore, 1) := dk_79 (dk_at dksX6_keep_5 5 rfl rfl)
theorem dX6_keep_124 : decode cX6_keep 124 = .ok (.aload_n 0, 1) := dk_42 (dk_at dksX6_keep_5 6 rfl rfl)
theorem dX6_keep_125 : decode cX6_keep 125 = .ok (.getfield 32, 3) := dk_180 0 32 (dk_at dksX6_keep_5 7 rfl rfl)
theorem dX6_keep_128 : decode cX6_keep 128 = .ok (.iload_n 1, 1) := dk_27 (dk_at dksX6_keep_5 10 rfl rfl)
theorem dX6_keep_129 : decode cX6_keep 129 = .ok (.aload_n 0, 1) := dk_42 (dk_at dksX6_keep_5 11 rfl rfl)
theorem dX6_keep_130 : decode cX6_keep 130 = .ok (.getfield 95, 3) := dk_180 0 95 (dk_at dksX6_keep_5 12 rfl rfl)
theorem dX6_keep_133 : decode cX6_keep 133 = .ok (.iastore, 1) := dk_79 (dk_at dksX6_keep_5 15 rfl rfl)
theorem dX6_keep_134 : decode cX6_keep 134 = .ok (.iconst 0, 1) := dk_3 (dk_at dksX6_keep_5 16 rfl rfl)
theorem dX6_keep_135 : decode cX6_keep 135 = .ok (.ireturn, 1) := dk_172 (dk_at dksX6_keep_5 17 rfl rfl)
abbrev cX6_in : ByteArray := prog_18_method_2_code
def yX6_in : MethodName := ⟨RX6, "in", "(JJJ)Z"⟩
def dkwX6_in_0 : List UInt8 := [30, 32, 148, 155, 0, 14, 30, 22, 4, 148, 157, 0, 7, 4, 167, 0, 4, 3, 172]
abbrev dktX6_in_0 : List UInt8 := dkwX6_in_0 ++ []
theorem dksX6_in_0 : cX6_in.data.toList.drop 0 = dktX6_in_0 := by decide +kernel
theorem dX6_in_0 : decode cX6_in 0 = .ok (.lload_n 0, 1) := dk_30 (dk_at dksX6_in_0 0 rfl rfl)
theorem dX6_in_1 : decode cX6_in 1 = .ok (.lload_n 2, 1) := dk_32 (dk_at dksX6_in_0 1 rfl rfl)
theorem dX6_in_2 : decode cX6_in 2 = .ok (.lcmp, 1) := dk_148 (dk_at dksX6_in_0 2 rfl rfl)
theorem dX6_in_3 : decode cX6_in 3 = .ok (.ifCond .lt 14, 3) := dk_155 0 14 (dk_at dksX6_in_0 3 rfl rfl)
theorem dX6_in_6 : decode cX6_in 6 = .ok (.lload_n 0, 1) := dk_30 (dk_at dksX6_in_0 6 rfl rfl)
theorem dX6_in_7 : decode cX6_in 7 = .ok (.lload 4, 2) := dk_22 4 (dk_at dksX6_in_0 7 rfl rfl)
theorem dX6_in_9 : decode cX6_in 9 = .ok (.lcmp, 1) := dk_148 (dk_at dksX6_in_0 9 rfl rfl)
theorem dX6_in_10 : decode cX6_in 10 = .ok (.ifCond .gt 7, 3) := dk_157 0 7 (dk_at dksX6_in_0 10 rfl rfl)
theorem dX6_in_13 : decode cX6_in 13 = .ok (.iconst 1, 1) := dk_4 (dk_at dksX6_in_0 13 rfl rfl)
theorem dX6_in_14 : decode cX6_in 14 = .ok (.goto 4, 3) := dk_167 0 4 (dk_at dksX6_in_0 14 rfl rfl)
theorem dX6_in_17 : decode cX6_in 17 = .ok (.iconst 0, 1) := dk_3 (dk_at dksX6_in_0 17 rfl rfl)
theorem dX6_in_18 : decode cX6_in 18 = .ok (.ireturn, 1) := dk_172 (dk_at dksX6_in_0 18 rfl rfl)
abbrev cX6_back : ByteArray := prog_18_method_7_code
def yX6_back : MethodName := ⟨RX6, "back", "(I)I"⟩
def dkwX6_back_3 : List UInt8 := [180, 0, 35, 27, 46, 181, 0, 92, 42, 42, 180, 0, 32, 27, 46, 181, 0, 95, 3, 172]
abbrev dktX6_back_3 : List UInt8 := dkwX6_back_3 ++ []
def dkwX6_back_2 : List UInt8 := [28, 42, 180, 0, 29, 17, 1, 104, 27, 104, 28, 96, 46, 79, 132, 2, 1, 167, 255, 228, 42, 42]
abbrev dktX6_back_2 : List UInt8 := dkwX6_back_2 ++ dktX6_back_3
def dkwX6_back_1 : List UInt8 := [160, 0, 6, 16, 250, 172, 42, 27, 182, 0, 98, 3, 61, 28, 17, 1, 104, 162, 0, 27, 42, 180, 0, 20]
abbrev dktX6_back_1 : List UInt8 := dkwX6_back_1 ++ dktX6_back_2
def dkwX6_back_0 : List UInt8 := [27, 133, 9, 20, 0, 86, 184, 0, 88, 154, 0, 6, 16, 254, 172, 42, 180, 0, 35, 27, 46, 2]
abbrev dktX6_back_0 : List UInt8 := dkwX6_back_0 ++ dktX6_back_1
theorem dksX6_back_0 : cX6_back.data.toList.drop 0 = dktX6_back_0 := by decide +kernel
theorem dksX6_back_1 : cX6_back.data.toList.drop 22 = dktX6_back_1 := dk_seg dksX6_back_0 22 rfl rfl
theorem dksX6_back_2 : cX6_back.data.toList.drop 46 = dktX6_back_2 := dk_seg dksX6_back_1 24 rfl rfl
theorem dksX6_back_3 : cX6_back.data.toList.drop 68 = dktX6_back_3 := dk_seg dksX6_back_2 22 rfl rfl
theorem dX6_back_0 : decode cX6_back 0 = .ok (.iload_n 1, 1) := dk_27 (dk_at dksX6_back_0 0 rfl rfl)
theorem dX6_back_1 : decode cX6_back 1 = .ok (.i2l, 1) := dk_133 (dk_at dksX6_back_0 1 rfl rfl)
theorem dX6_back_2 : decode cX6_back 2 = .ok (.lconst 0, 1) := dk_9 (dk_at dksX6_back_0 2 rfl rfl)
theorem dX6_back_3 : decode cX6_back 3 = .ok (.ldc2_w 86, 3) := dk_20 0 86 (dk_at dksX6_back_0 3 rfl rfl)
theorem dX6_back_6 : decode cX6_back 6 = .ok (.invokestatic 88, 3) := dk_184 0 88 (dk_at dksX6_back_0 6 rfl rfl)
theorem dX6_back_9 : decode cX6_back 9 = .ok (.ifCond .ne 6, 3) := dk_154 0 6 (dk_at dksX6_back_0 9 rfl rfl)
theorem dX6_back_12 : decode cX6_back 12 = .ok (.bipush (-2), 2) := dk_16 254 (dk_at dksX6_back_0 12 rfl rfl)
theorem dX6_back_14 : decode cX6_back 14 = .ok (.ireturn, 1) := dk_172 (dk_at dksX6_back_0 14 rfl rfl)
theorem dX6_back_15 : decode cX6_back 15 = .ok (.aload_n 0, 1) := dk_42 (dk_at dksX6_back_0 15 rfl rfl)
theorem dX6_back_16 : decode cX6_back 16 = .ok (.getfield 35, 3) := dk_180 0 35 (dk_at dksX6_back_0 16 rfl rfl)
theorem dX6_back_19 : decode cX6_back 19 = .ok (.iload_n 1, 1) := dk_27 (dk_at dksX6_back_0 19 rfl rfl)
theorem dX6_back_20 : decode cX6_back 20 = .ok (.iaload, 1) := dk_46 (dk_at dksX6_back_0 20 rfl rfl)
theorem dX6_back_21 : decode cX6_back 21 = .ok (.iconst (-1), 1) := dk_2 (dk_at dksX6_back_0 21 rfl rfl)
theorem dX6_back_22 : decode cX6_back 22 = .ok (.if_icmp .ne 6, 3) := dk_160 0 6 (dk_at dksX6_back_1 0 rfl rfl)
theorem dX6_back_25 : decode cX6_back 25 = .ok (.bipush (-6), 2) := dk_16 250 (dk_at dksX6_back_1 3 rfl rfl)
theorem dX6_back_27 : decode cX6_back 27 = .ok (.ireturn, 1) := dk_172 (dk_at dksX6_back_1 5 rfl rfl)
theorem dX6_back_28 : decode cX6_back 28 = .ok (.aload_n 0, 1) := dk_42 (dk_at dksX6_back_1 6 rfl rfl)
theorem dX6_back_29 : decode cX6_back 29 = .ok (.iload_n 1, 1) := dk_27 (dk_at dksX6_back_1 7 rfl rfl)
theorem dX6_back_30 : decode cX6_back 30 = .ok (.invokevirtual 98, 3) := dk_182 0 98 (dk_at dksX6_back_1 8 rfl rfl)
theorem dX6_back_33 : decode cX6_back 33 = .ok (.iconst 0, 1) := dk_3 (dk_at dksX6_back_1 11 rfl rfl)
theorem dX6_back_34 : decode cX6_back 34 = .ok (.istore_n 2, 1) := dk_61 (dk_at dksX6_back_1 12 rfl rfl)
theorem dX6_back_35 : decode cX6_back 35 = .ok (.iload_n 2, 1) := dk_28 (dk_at dksX6_back_1 13 rfl rfl)
theorem dX6_back_36 : decode cX6_back 36 = .ok (.sipush 360, 3) := dk_17 1 104 (dk_at dksX6_back_1 14 rfl rfl)
theorem dX6_back_39 : decode cX6_back 39 = .ok (.if_icmp .ge 27, 3) := dk_162 0 27 (dk_at dksX6_back_1 17 rfl rfl)
theorem dX6_back_42 : decode cX6_back 42 = .ok (.aload_n 0, 1) := dk_42 (dk_at dksX6_back_1 20 rfl rfl)
theorem dX6_back_43 : decode cX6_back 43 = .ok (.getfield 20, 3) := dk_180 0 20 (dk_at dksX6_back_1 21 rfl rfl)
theorem dX6_back_46 : decode cX6_back 46 = .ok (.iload_n 2, 1) := dk_28 (dk_at dksX6_back_2 0 rfl rfl)
theorem dX6_back_47 : decode cX6_back 47 = .ok (.aload_n 0, 1) := dk_42 (dk_at dksX6_back_2 1 rfl rfl)
theorem dX6_back_48 : decode cX6_back 48 = .ok (.getfield 29, 3) := dk_180 0 29 (dk_at dksX6_back_2 2 rfl rfl)
theorem dX6_back_51 : decode cX6_back 51 = .ok (.sipush 360, 3) := dk_17 1 104 (dk_at dksX6_back_2 5 rfl rfl)
theorem dX6_back_54 : decode cX6_back 54 = .ok (.iload_n 1, 1) := dk_27 (dk_at dksX6_back_2 8 rfl rfl)
theorem dX6_back_55 : decode cX6_back 55 = .ok (.imul, 1) := dk_104 (dk_at dksX6_back_2 9 rfl rfl)
theorem dX6_back_56 : decode cX6_back 56 = .ok (.iload_n 2, 1) := dk_28 (dk_at dksX6_back_2 10 rfl rfl)
theorem dX6_back_57 : decode cX6_back 57 = .ok (.iadd, 1) := dk_96 (dk_at dksX6_back_2 11 rfl rfl)
theorem dX6_back_58 : decode cX6_back 58 = .ok (.iaload, 1) := dk_46 (dk_at dksX6_back_2 12 rfl rfl)
theorem dX6_back_59 : decode cX6_back 59 = .ok (.iastore, 1) := dk_79 (dk_at dksX6_back_2 13 rfl rfl)
theorem dX6_back_60 : decode cX6_back 60 = .ok (.iinc 2 1, 3) := dk_132 2 1 (dk_at dksX6_back_2 14 rfl rfl)
theorem dX6_back_63 : decode cX6_back 63 = .ok (.goto (-28), 3) := dk_167 255 228 (dk_at dksX6_back_2 17 rfl rfl)
theorem dX6_back_66 : decode cX6_back 66 = .ok (.aload_n 0, 1) := dk_42 (dk_at dksX6_back_2 20 rfl rfl)
theorem dX6_back_67 : decode cX6_back 67 = .ok (.aload_n 0, 1) := dk_42 (dk_at dksX6_back_2 21 rfl rfl)
theorem dX6_back_68 : decode cX6_back 68 = .ok (.getfield 35, 3) := dk_180 0 35 (dk_at dksX6_back_3 0 rfl rfl)
theorem dX6_back_71 : decode cX6_back 71 = .ok (.iload_n 1, 1) := dk_27 (dk_at dksX6_back_3 3 rfl rfl)
theorem dX6_back_72 : decode cX6_back 72 = .ok (.iaload, 1) := dk_46 (dk_at dksX6_back_3 4 rfl rfl)
theorem dX6_back_73 : decode cX6_back 73 = .ok (.putfield 92, 3) := dk_181 0 92 (dk_at dksX6_back_3 5 rfl rfl)
theorem dX6_back_76 : decode cX6_back 76 = .ok (.aload_n 0, 1) := dk_42 (dk_at dksX6_back_3 8 rfl rfl)
theorem dX6_back_77 : decode cX6_back 77 = .ok (.aload_n 0, 1) := dk_42 (dk_at dksX6_back_3 9 rfl rfl)
theorem dX6_back_78 : decode cX6_back 78 = .ok (.getfield 32, 3) := dk_180 0 32 (dk_at dksX6_back_3 10 rfl rfl)
theorem dX6_back_81 : decode cX6_back 81 = .ok (.iload_n 1, 1) := dk_27 (dk_at dksX6_back_3 13 rfl rfl)
theorem dX6_back_82 : decode cX6_back 82 = .ok (.iaload, 1) := dk_46 (dk_at dksX6_back_3 14 rfl rfl)
theorem dX6_back_83 : decode cX6_back 83 = .ok (.putfield 95, 3) := dk_181 0 95 (dk_at dksX6_back_3 15 rfl rfl)
theorem dX6_back_86 : decode cX6_back 86 = .ok (.iconst 0, 1) := dk_3 (dk_at dksX6_back_3 18 rfl rfl)
theorem dX6_back_87 : decode cX6_back 87 = .ok (.ireturn, 1) := dk_172 (dk_at dksX6_back_3 19 rfl rfl)
abbrev cX6_takeImage : ByteArray := prog_18_method_6_code
def yX6_takeImage : MethodName := ⟨RX6, "takeImage", "(I)V"⟩
def dkwX6_takeImage_2 : List UInt8 := [180, 0, 26, 17, 7, 226, 27, 104, 28, 96, 46, 79, 132, 2, 1, 167, 255, 228, 177]
abbrev dktX6_takeImage_2 : List UInt8 := dkwX6_takeImage_2 ++ []
def dkwX6_takeImage_1 : List UInt8 := [96, 46, 79, 132, 2, 1, 167, 255, 228, 3, 61, 28, 17, 7, 226, 162, 0, 27, 42, 180, 0, 17, 28, 42]
abbrev dktX6_takeImage_1 : List UInt8 := dkwX6_takeImage_1 ++ dktX6_takeImage_2
def dkwX6_takeImage_0 : List UInt8 := [3, 61, 28, 17, 4, 96, 162, 0, 27, 42, 180, 0, 13, 28, 42, 180, 0, 23, 17, 4, 96, 27, 104, 28]
abbrev dktX6_takeImage_0 : List UInt8 := dkwX6_takeImage_0 ++ dktX6_takeImage_1
theorem dksX6_takeImage_0 : cX6_takeImage.data.toList.drop 0 = dktX6_takeImage_0 := by decide +kernel
theorem dksX6_takeImage_1 : cX6_takeImage.data.toList.drop 24 = dktX6_takeImage_1 := dk_seg dksX6_takeImage_0 24 rfl rfl
theorem dksX6_takeImage_2 : cX6_takeImage.data.toList.drop 48 = dktX6_takeImage_2 := dk_seg dksX6_takeImage_1 24 rfl rfl
theorem dX6_takeImage_0 : decode cX6_takeImage 0 = .ok (.iconst 0, 1) := dk_3 (dk_at dksX6_takeImage_0 0 rfl rfl)
theorem dX6_takeImage_1 : decode cX6_takeImage 1 = .ok (.istore_n 2, 1) := dk_61 (dk_at dksX6_takeImage_0 1 rfl rfl)
theorem dX6_takeImage_2 : decode cX6_takeImage 2 = .ok (.iload_n 2, 1) := dk_28 (dk_at dksX6_takeImage_0 2 rfl rfl)
theorem dX6_takeImage_3 : decode cX6_takeImage 3 = .ok (.sipush 1120, 3) := dk_17 4 96 (dk_at dksX6_takeImage_0 3 rfl rfl)
theorem dX6_takeImage_6 : decode cX6_takeImage 6 = .ok (.if_icmp .ge 27, 3) := dk_162 0 27 (dk_at dksX6_takeImage_0 6 rfl rfl)
theorem dX6_takeImage_9 : decode cX6_takeImage 9 = .ok (.aload_n 0, 1) := dk_42 (dk_at dksX6_takeImage_0 9 rfl rfl)
theorem dX6_takeImage_10 : decode cX6_takeImage 10 = .ok (.getfield 13, 3) := dk_180 0 13 (dk_at dksX6_takeImage_0 10 rfl rfl)
theorem dX6_takeImage_13 : decode cX6_takeImage 13 = .ok (.iload_n 2, 1) := dk_28 (dk_at dksX6_takeImage_0 13 rfl rfl)
theorem dX6_takeImage_14 : decode cX6_takeImage 14 = .ok (.aload_n 0, 1) := dk_42 (dk_at dksX6_takeImage_0 14 rfl rfl)
theorem dX6_takeImage_15 : decode cX6_takeImage 15 = .ok (.getfield 23, 3) := dk_180 0 23 (dk_at dksX6_takeImage_0 15 rfl rfl)
theorem dX6_takeImage_18 : decode cX6_takeImage 18 = .ok (.sipush 1120, 3) := dk_17 4 96 (dk_at dksX6_takeImage_0 18 rfl rfl)
theorem dX6_takeImage_21 : decode cX6_takeImage 21 = .ok (.iload_n 1, 1) := dk_27 (dk_at dksX6_takeImage_0 21 rfl rfl)
theorem dX6_takeImage_22 : decode cX6_takeImage 22 = .ok (.imul, 1) := dk_104 (dk_at dksX6_takeImage_0 22 rfl rfl)
theorem dX6_takeImage_23 : decode cX6_takeImage 23 = .ok (.iload_n 2, 1) := dk_28 (dk_at dksX6_takeImage_0 23 rfl rfl)
theorem dX6_takeImage_24 : decode cX6_takeImage 24 = .ok (.iadd, 1) := dk_96 (dk_at dksX6_takeImage_1 0 rfl rfl)
theorem dX6_takeImage_25 : decode cX6_takeImage 25 = .ok (.iaload, 1) := dk_46 (dk_at dksX6_takeImage_1 1 rfl rfl)
theorem dX6_takeImage_26 : decode cX6_takeImage 26 = .ok (.iastore, 1) := dk_79 (dk_at dksX6_takeImage_1 2 rfl rfl)
theorem dX6_takeImage_27 : decode cX6_takeImage 27 = .ok (.iinc 2 1, 3) := dk_132 2 1 (dk_at dksX6_takeImage_1 3 rfl rfl)
theorem dX6_takeImage_30 : decode cX6_takeImage 30 = .ok (.goto (-28), 3) := dk_167 255 228 (dk_at dksX6_takeImage_1 6 rfl rfl)
theorem dX6_takeImage_33 : decode cX6_takeImage 33 = .ok (.iconst 0, 1) := dk_3 (dk_at dksX6_takeImage_1 9 rfl rfl)
theorem dX6_takeImage_34 : decode cX6_takeImage 34 = .ok (.istore_n 2, 1) := dk_61 (dk_at dksX6_takeImage_1 10 rfl rfl)
theorem dX6_takeImage_35 : decode cX6_takeImage 35 = .ok (.iload_n 2, 1) := dk_28 (dk_at dksX6_takeImage_1 11 rfl rfl)
theorem dX6_takeImage_36 : decode cX6_takeImage 36 = .ok (.sipush 2018, 3) := dk_17 7 226 (dk_at dksX6_takeImage_1 12 rfl rfl)
theorem dX6_takeImage_39 : decode cX6_takeImage 39 = .ok (.if_icmp .ge 27, 3) := dk_162 0 27 (dk_at dksX6_takeImage_1 15 rfl rfl)
theorem dX6_takeImage_42 : decode cX6_takeImage 42 = .ok (.aload_n 0, 1) := dk_42 (dk_at dksX6_takeImage_1 18 rfl rfl)
theorem dX6_takeImage_43 : decode cX6_takeImage 43 = .ok (.getfield 17, 3) := dk_180 0 17 (dk_at dksX6_takeImage_1 19 rfl rfl)
theorem dX6_takeImage_46 : decode cX6_takeImage 46 = .ok (.iload_n 2, 1) := dk_28 (dk_at dksX6_takeImage_1 22 rfl rfl)
theorem dX6_takeImage_47 : decode cX6_takeImage 47 = .ok (.aload_n 0, 1) := dk_42 (dk_at dksX6_takeImage_1 23 rfl rfl)
theorem dX6_takeImage_48 : decode cX6_takeImage 48 = .ok (.getfield 26, 3) := dk_180 0 26 (dk_at dksX6_takeImage_2 0 rfl rfl)
theorem dX6_takeImage_51 : decode cX6_takeImage 51 = .ok (.sipush 2018, 3) := dk_17 7 226 (dk_at dksX6_takeImage_2 3 rfl rfl)
theorem dX6_takeImage_54 : decode cX6_takeImage 54 = .ok (.iload_n 1, 1) := dk_27 (dk_at dksX6_takeImage_2 6 rfl rfl)
theorem dX6_takeImage_55 : decode cX6_takeImage 55 = .ok (.imul, 1) := dk_104 (dk_at dksX6_takeImage_2 7 rfl rfl)
theorem dX6_takeImage_56 : decode cX6_takeImage 56 = .ok (.iload_n 2, 1) := dk_28 (dk_at dksX6_takeImage_2 8 rfl rfl)
theorem dX6_takeImage_57 : decode cX6_takeImage 57 = .ok (.iadd, 1) := dk_96 (dk_at dksX6_takeImage_2 9 rfl rfl)
theorem dX6_takeImage_58 : decode cX6_takeImage 58 = .ok (.iaload, 1) := dk_46 (dk_at dksX6_takeImage_2 10 rfl rfl)
theorem dX6_takeImage_59 : decode cX6_takeImage 59 = .ok (.iastore, 1) := dk_79 (dk_at dksX6_takeImage_2 11 rfl rfl)
theorem dX6_takeImage_60 : decode cX6_takeImage 60 = .ok (.iinc 2 1, 3) := dk_132 2 1 (dk_at dksX6_takeImage_2 12 rfl rfl)
theorem dX6_takeImage_63 : decode cX6_takeImage 63 = .ok (.goto (-28), 3) := dk_167 255 228 (dk_at dksX6_takeImage_2 15 rfl rfl)
theorem dX6_takeImage_66 : decode cX6_takeImage 66 = .ok (.return_, 1) := dk_177 (dk_at dksX6_takeImage_2 18 rfl rfl)
abbrev cX6_feed : ByteArray := prog_18_method_12_code
def yX6_feed : MethodName := ⟨RX6, "feed", "(IIIII)I"⟩
def dkwX6_feed_5 : List UInt8 := [180, 0, 102, 172]
abbrev dktX6_feed_5 : List UInt8 := dkwX6_feed_5 ++ []
def dkwX6_feed_4 : List UInt8 := [100, 122, 145, 84, 132, 6, 1, 167, 255, 213, 42, 89, 180, 0, 102, 16, 20, 96, 181, 0, 102, 42]
abbrev dktX6_feed_4 : List UInt8 := dkwX6_feed_4 ++ dktX6_feed_5
def dkwX6_feed_3 : List UInt8 := [180, 0, 102, 21, 6, 96, 42, 180, 0, 42, 21, 6, 7, 108, 46, 16, 24, 16, 8, 21, 6, 7, 112, 104]
abbrev dktX6_feed_3 : List UInt8 := dkwX6_feed_3 ++ dktX6_feed_4
def dkwX6_feed_2 : List UInt8 := [180, 0, 42, 7, 21, 5, 79, 3, 54, 6, 21, 6, 16, 20, 162, 0, 42, 42, 180, 0, 38, 42]
abbrev dktX6_feed_2 : List UInt8 := dkwX6_feed_2 ++ dktX6_feed_3
def dkwX6_feed_1 : List UInt8 := [180, 0, 42, 4, 28, 79, 42, 180, 0, 42, 5, 29, 79, 42, 180, 0, 42, 6, 21, 4, 79, 42]
abbrev dktX6_feed_1 : List UInt8 := dkwX6_feed_1 ++ dktX6_feed_2
def dkwX6_feed_0 : List UInt8 := [42, 180, 0, 102, 16, 20, 96, 17, 3, 132, 164, 0, 5, 2, 172, 42, 180, 0, 42, 3, 27, 79, 42]
abbrev dktX6_feed_0 : List UInt8 := dkwX6_feed_0 ++ dktX6_feed_1
theorem dksX6_feed_0 : cX6_feed.data.toList.drop 0 = dktX6_feed_0 := by decide +kernel
theorem dksX6_feed_1 : cX6_feed.data.toList.drop 23 = dktX6_feed_1 := dk_seg dksX6_feed_0 23 rfl rfl
theorem dksX6_feed_2 : cX6_feed.data.toList.drop 45 = dktX6_feed_2 := dk_seg dksX6_feed_1 22 rfl rfl
theorem dksX6_feed_3 : cX6_feed.data.toList.drop 67 = dktX6_feed_3 := dk_seg dksX6_feed_2 22 rfl rfl
theorem dksX6_feed_4 : cX6_feed.data.toList.drop 91 = dktX6_feed_4 := dk_seg dksX6_feed_3 24 rfl rfl
theorem dksX6_feed_5 : cX6_feed.data.toList.drop 113 = dktX6_feed_5 := dk_seg dksX6_feed_4 22 rfl rfl
theorem dX6_feed_0 : decode cX6_feed 0 = .ok (.aload_n 0, 1) := dk_42 (dk_at dksX6_feed_0 0 rfl rfl)
theorem dX6_feed_1 : decode cX6_feed 1 = .ok (.getfield 102, 3) := dk_180 0 102 (dk_at dksX6_feed_0 1 rfl rfl)
theorem dX6_feed_4 : decode cX6_feed 4 = .ok (.bipush 20, 2) := dk_16 20 (dk_at dksX6_feed_0 4 rfl rfl)
theorem dX6_feed_6 : decode cX6_feed 6 = .ok (.iadd, 1) := dk_96 (dk_at dksX6_feed_0 6 rfl rfl)
theorem dX6_feed_7 : decode cX6_feed 7 = .ok (.sipush 900, 3) := dk_17 3 132 (dk_at dksX6_feed_0 7 rfl rfl)
theorem dX6_feed_10 : decode cX6_feed 10 = .ok (.if_icmp .le 5, 3) := dk_164 0 5 (dk_at dksX6_feed_0 10 rfl rfl)
theorem dX6_feed_13 : decode cX6_feed 13 = .ok (.iconst (-1), 1) := dk_2 (dk_at dksX6_feed_0 13 rfl rfl)
theorem dX6_feed_14 : decode cX6_feed 14 = .ok (.ireturn, 1) := dk_172 (dk_at dksX6_feed_0 14 rfl rfl)
theorem dX6_feed_15 : decode cX6_feed 15 = .ok (.aload_n 0, 1) := dk_42 (dk_at dksX6_feed_0 15 rfl rfl)
theorem dX6_feed_16 : decode cX6_feed 16 = .ok (.getfield 42, 3) := dk_180 0 42 (dk_at dksX6_feed_0 16 rfl rfl)
theorem dX6_feed_19 : decode cX6_feed 19 = .ok (.iconst 0, 1) := dk_3 (dk_at dksX6_feed_0 19 rfl rfl)
theorem dX6_feed_20 : decode cX6_feed 20 = .ok (.iload_n 1, 1) := dk_27 (dk_at dksX6_feed_0 20 rfl rfl)
theorem dX6_feed_21 : decode cX6_feed 21 = .ok (.iastore, 1) := dk_79 (dk_at dksX6_feed_0 21 rfl rfl)
theorem dX6_feed_22 : decode cX6_feed 22 = .ok (.aload_n 0, 1) := dk_42 (dk_at dksX6_feed_0 22 rfl rfl)
theorem dX6_feed_23 : decode cX6_feed 23 = .ok (.getfield 42, 3) := dk_180 0 42 (dk_at dksX6_feed_1 0 rfl rfl)
theorem dX6_feed_26 : decode cX6_feed 26 = .ok (.iconst 1, 1) := dk_4 (dk_at dksX6_feed_1 3 rfl rfl)
theorem dX6_feed_27 : decode cX6_feed 27 = .ok (.iload_n 2, 1) := dk_28 (dk_at dksX6_feed_1 4 rfl rfl)
theorem dX6_feed_28 : decode cX6_feed 28 = .ok (.iastore, 1) := dk_79 (dk_at dksX6_feed_1 5 rfl rfl)
theorem dX6_feed_29 : decode cX6_feed 29 = .ok (.aload_n 0, 1) := dk_42 (dk_at dksX6_feed_1 6 rfl rfl)
theorem dX6_feed_30 : decode cX6_feed 30 = .ok (.getfield 42, 3) := dk_180 0 42 (dk_at dksX6_feed_1 7 rfl rfl)
theorem dX6_feed_33 : decode cX6_feed 33 = .ok (.iconst 2, 1) := dk_5 (dk_at dksX6_feed_1 10 rfl rfl)
theorem dX6_feed_34 : decode cX6_feed 34 = .ok (.iload_n 3, 1) := dk_29 (dk_at dksX6_feed_1 11 rfl rfl)
theorem dX6_feed_35 : decode cX6_feed 35 = .ok (.iastore, 1) := dk_79 (dk_at dksX6_feed_1 12 rfl rfl)
theorem dX6_feed_36 : decode cX6_feed 36 = .ok (.aload_n 0, 1) := dk_42 (dk_at dksX6_feed_1 13 rfl rfl)
theorem dX6_feed_37 : decode cX6_feed 37 = .ok (.getfield 42, 3) := dk_180 0 42 (dk_at dksX6_feed_1 14 rfl rfl)
theorem dX6_feed_40 : decode cX6_feed 40 = .ok (.iconst 3, 1) := dk_6 (dk_at dksX6_feed_1 17 rfl rfl)
theorem dX6_feed_41 : decode cX6_feed 41 = .ok (.iload 4, 2) := dk_21 4 (dk_at dksX6_feed_1 18 rfl rfl)
theorem dX6_feed_43 : decode cX6_feed 43 = .ok (.iastore, 1) := dk_79 (dk_at dksX6_feed_1 20 rfl rfl)
theorem dX6_feed_44 : decode cX6_feed 44 = .ok (.aload_n 0, 1) := dk_42 (dk_at dksX6_feed_1 21 rfl rfl)
theorem dX6_feed_45 : decode cX6_feed 45 = .ok (.getfield 42, 3) := dk_180 0 42 (dk_at dksX6_feed_2 0 rfl rfl)
theorem dX6_feed_48 : decode cX6_feed 48 = .ok (.iconst 4, 1) := dk_7 (dk_at dksX6_feed_2 3 rfl rfl)
theorem dX6_feed_49 : decode cX6_feed 49 = .ok (.iload 5, 2) := dk_21 5 (dk_at dksX6_feed_2 4 rfl rfl)
theorem dX6_feed_51 : decode cX6_feed 51 = .ok (.iastore, 1) := dk_79 (dk_at dksX6_feed_2 6 rfl rfl)
theorem dX6_feed_52 : decode cX6_feed 52 = .ok (.iconst 0, 1) := dk_3 (dk_at dksX6_feed_2 7 rfl rfl)
theorem dX6_feed_53 : decode cX6_feed 53 = .ok (.istore 6, 2) := dk_54 6 (dk_at dksX6_feed_2 8 rfl rfl)
theorem dX6_feed_55 : decode cX6_feed 55 = .ok (.iload 6, 2) := dk_21 6 (dk_at dksX6_feed_2 10 rfl rfl)
theorem dX6_feed_57 : decode cX6_feed 57 = .ok (.bipush 20, 2) := dk_16 20 (dk_at dksX6_feed_2 12 rfl rfl)
theorem dX6_feed_59 : decode cX6_feed 59 = .ok (.if_icmp .ge 42, 3) := dk_162 0 42 (dk_at dksX6_feed_2 14 rfl rfl)
theorem dX6_feed_62 : decode cX6_feed 62 = .ok (.aload_n 0, 1) := dk_42 (dk_at dksX6_feed_2 17 rfl rfl)
theorem dX6_feed_63 : decode cX6_feed 63 = .ok (.getfield 38, 3) := dk_180 0 38 (dk_at dksX6_feed_2 18 rfl rfl)
theorem dX6_feed_66 : decode cX6_feed 66 = .ok (.aload_n 0, 1) := dk_42 (dk_at dksX6_feed_2 21 rfl rfl)
theorem dX6_feed_67 : decode cX6_feed 67 = .ok (.getfield 102, 3) := dk_180 0 102 (dk_at dksX6_feed_3 0 rfl rfl)
theorem dX6_feed_70 : decode cX6_feed 70 = .ok (.iload 6, 2) := dk_21 6 (dk_at dksX6_feed_3 3 rfl rfl)
theorem dX6_feed_72 : decode cX6_feed 72 = .ok (.iadd, 1) := dk_96 (dk_at dksX6_feed_3 5 rfl rfl)
theorem dX6_feed_73 : decode cX6_feed 73 = .ok (.aload_n 0, 1) := dk_42 (dk_at dksX6_feed_3 6 rfl rfl)
theorem dX6_feed_74 : decode cX6_feed 74 = .ok (.getfield 42, 3) := dk_180 0 42 (dk_at dksX6_feed_3 7 rfl rfl)
theorem dX6_feed_77 : decode cX6_feed 77 = .ok (.iload 6, 2) := dk_21 6 (dk_at dksX6_feed_3 10 rfl rfl)
theorem dX6_feed_79 : decode cX6_feed 79 = .ok (.iconst 4, 1) := dk_7 (dk_at dksX6_feed_3 12 rfl rfl)
theorem dX6_feed_80 : decode cX6_feed 80 = .ok (.idiv, 1) := dk_108 (dk_at dksX6_feed_3 13 rfl rfl)
theorem dX6_feed_81 : decode cX6_feed 81 = .ok (.iaload, 1) := dk_46 (dk_at dksX6_feed_3 14 rfl rfl)
theorem dX6_feed_82 : decode cX6_feed 82 = .ok (.bipush 24, 2) := dk_16 24 (dk_at dksX6_feed_3 15 rfl rfl)
theorem dX6_feed_84 : decode cX6_feed 84 = .ok (.bipush 8, 2) := dk_16 8 (dk_at dksX6_feed_3 17 rfl rfl)
theorem dX6_feed_86 : decode cX6_feed 86 = .ok (.iload 6, 2) := dk_21 6 (dk_at dksX6_feed_3 19 rfl rfl)
theorem dX6_feed_88 : decode cX6_feed 88 = .ok (.iconst 4, 1) := dk_7 (dk_at dksX6_feed_3 21 rfl rfl)
theorem dX6_feed_89 : decode cX6_feed 89 = .ok (.irem, 1) := dk_112 (dk_at dksX6_feed_3 22 rfl rfl)
theorem dX6_feed_90 : decode cX6_feed 90 = .ok (.imul, 1) := dk_104 (dk_at dksX6_feed_3 23 rfl rfl)
theorem dX6_feed_91 : decode cX6_feed 91 = .ok (.isub, 1) := dk_100 (dk_at dksX6_feed_4 0 rfl rfl)
theorem dX6_feed_92 : decode cX6_feed 92 = .ok (.ishr, 1) := dk_122 (dk_at dksX6_feed_4 1 rfl rfl)
theorem dX6_feed_93 : decode cX6_feed 93 = .ok (.i2b, 1) := dk_145 (dk_at dksX6_feed_4 2 rfl rfl)
theorem dX6_feed_94 : decode cX6_feed 94 = .ok (.bastore, 1) := dk_84 (dk_at dksX6_feed_4 3 rfl rfl)
theorem dX6_feed_95 : decode cX6_feed 95 = .ok (.iinc 6 1, 3) := dk_132 6 1 (dk_at dksX6_feed_4 4 rfl rfl)
theorem dX6_feed_98 : decode cX6_feed 98 = .ok (.goto (-43), 3) := dk_167 255 213 (dk_at dksX6_feed_4 7 rfl rfl)
theorem dX6_feed_101 : decode cX6_feed 101 = .ok (.aload_n 0, 1) := dk_42 (dk_at dksX6_feed_4 10 rfl rfl)
theorem dX6_feed_102 : decode cX6_feed 102 = .ok (.dup, 1) := dk_89 (dk_at dksX6_feed_4 11 rfl rfl)
theorem dX6_feed_103 : decode cX6_feed 103 = .ok (.getfield 102, 3) := dk_180 0 102 (dk_at dksX6_feed_4 12 rfl rfl)
theorem dX6_feed_106 : decode cX6_feed 106 = .ok (.bipush 20, 2) := dk_16 20 (dk_at dksX6_feed_4 15 rfl rfl)
theorem dX6_feed_108 : decode cX6_feed 108 = .ok (.iadd, 1) := dk_96 (dk_at dksX6_feed_4 17 rfl rfl)
theorem dX6_feed_109 : decode cX6_feed 109 = .ok (.putfield 102, 3) := dk_181 0 102 (dk_at dksX6_feed_4 18 rfl rfl)
theorem dX6_feed_112 : decode cX6_feed 112 = .ok (.aload_n 0, 1) := dk_42 (dk_at dksX6_feed_4 21 rfl rfl)
theorem dX6_feed_113 : decode cX6_feed 113 = .ok (.getfield 102, 3) := dk_180 0 102 (dk_at dksX6_feed_5 0 rfl rfl)
theorem dX6_feed_116 : decode cX6_feed 116 = .ok (.ireturn, 1) := dk_172 (dk_at dksX6_feed_5 3 rfl rfl)
abbrev cX6_end : ByteArray := prog_18_method_13_code
def yX6_end : MethodName := ⟨RX6, "end", "(I)I"⟩
def dkwX6_end_0 : List UInt8 := [27, 133, 9, 42, 180, 0, 102, 133, 184, 0, 88, 154, 0, 5, 2, 172, 42, 27, 181, 0, 102, 27, 172]
abbrev dktX6_end_0 : List UInt8 := dkwX6_end_0 ++ []
theorem dksX6_end_0 : cX6_end.data.toList.drop 0 = dktX6_end_0 := by decide +kernel
theorem dX6_end_0 : decode cX6_end 0 = .ok (.iload_n 1, 1) := dk_27 (dk_at dksX6_end_0 0 rfl rfl)
theorem dX6_end_1 : decode cX6_end 1 = .ok (.i2l, 1) := dk_133 (dk_at dksX6_end_0 1 rfl rfl)
theorem dX6_end_2 : decode cX6_end 2 = .ok (.lconst 0, 1) := dk_9 (dk_at dksX6_end_0 2 rfl rfl)
theorem dX6_end_3 : decode cX6_end 3 = .ok (.aload_n 0, 1) := dk_42 (dk_at dksX6_end_0 3 rfl rfl)
theorem dX6_end_4 : decode cX6_end 4 = .ok (.getfield 102, 3) := dk_180 0 102 (dk_at dksX6_end_0 4 rfl rfl)
theorem dX6_end_7 : decode cX6_end 7 = .ok (.i2l, 1) := dk_133 (dk_at dksX6_end_0 7 rfl rfl)
theorem dX6_end_8 : decode cX6_end 8 = .ok (.invokestatic 88, 3) := dk_184 0 88 (dk_at dksX6_end_0 8 rfl rfl)
theorem dX6_end_11 : decode cX6_end 11 = .ok (.ifCond .ne 5, 3) := dk_154 0 5 (dk_at dksX6_end_0 11 rfl rfl)
theorem dX6_end_14 : decode cX6_end 14 = .ok (.iconst (-1), 1) := dk_2 (dk_at dksX6_end_0 14 rfl rfl)
theorem dX6_end_15 : decode cX6_end 15 = .ok (.ireturn, 1) := dk_172 (dk_at dksX6_end_0 15 rfl rfl)
theorem dX6_end_16 : decode cX6_end 16 = .ok (.aload_n 0, 1) := dk_42 (dk_at dksX6_end_0 16 rfl rfl)
theorem dX6_end_17 : decode cX6_end 17 = .ok (.iload_n 1, 1) := dk_27 (dk_at dksX6_end_0 17 rfl rfl)
theorem dX6_end_18 : decode cX6_end 18 = .ok (.putfield 102, 3) := dk_181 0 102 (dk_at dksX6_end_0 18 rfl rfl)
theorem dX6_end_21 : decode cX6_end 21 = .ok (.iload_n 1, 1) := dk_27 (dk_at dksX6_end_0 21 rfl rfl)
theorem dX6_end_22 : decode cX6_end 22 = .ok (.ireturn, 1) := dk_172 (dk_at dksX6_end_0 22 rfl rfl)
abbrev cX6_fault : ByteArray := prog_18_method_22_code
def yX6_fault : MethodName := ⟨RX6, "fault", "(I)I"⟩
def dkwX6_fault_1 : List UInt8 := [172]
abbrev dktX6_fault_1 : List UInt8 := dkwX6_fault_1 ++ []
def dkwX6_fault_0 : List UInt8 := [27, 154, 0, 10, 42, 180, 0, 139, 167, 0, 16, 27, 4, 160, 0, 10, 42, 180, 0, 45, 167, 0, 4, 2]
abbrev dktX6_fault_0 : List UInt8 := dkwX6_fault_0 ++ dktX6_fault_1
theorem dksX6_fault_0 : cX6_fault.data.toList.drop 0 = dktX6_fault_0 := by decide +kernel
theorem dksX6_fault_1 : cX6_fault.data.toList.drop 24 = dktX6_fault_1 := dk_seg dksX6_fault_0 24 rfl rfl
theorem dX6_fault_0 : decode cX6_fault 0 = .ok (.iload_n 1, 1) := dk_27 (dk_at dksX6_fault_0 0 rfl rfl)
theorem dX6_fault_1 : decode cX6_fault 1 = .ok (.ifCond .ne 10, 3) := dk_154 0 10 (dk_at dksX6_fault_0 1 rfl rfl)
theorem dX6_fault_4 : decode cX6_fault 4 = .ok (.aload_n 0, 1) := dk_42 (dk_at dksX6_fault_0 4 rfl rfl)
theorem dX6_fault_5 : decode cX6_fault 5 = .ok (.getfield 139, 3) := dk_180 0 139 (dk_at dksX6_fault_0 5 rfl rfl)
theorem dX6_fault_8 : decode cX6_fault 8 = .ok (.goto 16, 3) := dk_167 0 16 (dk_at dksX6_fault_0 8 rfl rfl)
theorem dX6_fault_11 : decode cX6_fault 11 = .ok (.iload_n 1, 1) := dk_27 (dk_at dksX6_fault_0 11 rfl rfl)
theorem dX6_fault_12 : decode cX6_fault 12 = .ok (.iconst 1, 1) := dk_4 (dk_at dksX6_fault_0 12 rfl rfl)
theorem dX6_fault_13 : decode cX6_fault 13 = .ok (.if_icmp .ne 10, 3) := dk_160 0 10 (dk_at dksX6_fault_0 13 rfl rfl)
theorem dX6_fault_16 : decode cX6_fault 16 = .ok (.aload_n 0, 1) := dk_42 (dk_at dksX6_fault_0 16 rfl rfl)
theorem dX6_fault_17 : decode cX6_fault 17 = .ok (.getfield 45, 3) := dk_180 0 45 (dk_at dksX6_fault_0 17 rfl rfl)
theorem dX6_fault_20 : decode cX6_fault 20 = .ok (.goto 4, 3) := dk_167 0 4 (dk_at dksX6_fault_0 20 rfl rfl)
theorem dX6_fault_23 : decode cX6_fault 23 = .ok (.iconst (-1), 1) := dk_2 (dk_at dksX6_fault_0 23 rfl rfl)
theorem dX6_fault_24 : decode cX6_fault 24 = .ok (.ireturn, 1) := dk_172 (dk_at dksX6_fault_1 0 rfl rfl)
abbrev cX6_text : ByteArray := prog_18_method_28_code
def yX6_text : MethodName := ⟨RX6, "text", "()I"⟩
def dkwX6_text_7 : List UInt8 := [181, 0, 95, 42, 180, 0, 13, 5, 46, 172]
abbrev dktX6_text_7 : List UInt8 := dkwX6_text_7 ++ []
def dkwX6_text_6 : List UInt8 := [180, 0, 13, 16, 9, 42, 180, 0, 13, 5, 46, 79, 42, 182, 0, 237, 42, 3, 181, 0, 92, 42, 3]
abbrev dktX6_text_6 : List UInt8 := dkwX6_text_6 ++ dktX6_text_7
def dkwX6_text_5 : List UInt8 := [162, 0, 21, 42, 180, 0, 13, 27, 42, 180, 0, 48, 27, 46, 79, 132, 1, 1, 167, 255, 234, 42]
abbrev dktX6_text_5 : List UInt8 := dkwX6_text_5 ++ dktX6_text_6
def dkwX6_text_4 : List UInt8 := [42, 182, 0, 234, 167, 255, 238, 42, 182, 0, 142, 154, 0, 6, 16, 252, 172, 3, 60, 27, 17, 4, 96]
abbrev dktX6_text_4 : List UInt8 := dkwX6_text_4 ++ dktX6_text_5
def dkwX6_text_3 : List UInt8 := [132, 1, 1, 167, 255, 241, 42, 182, 0, 160, 42, 182, 0, 142, 153, 0, 17, 42, 180, 0, 118, 153, 0, 10]
abbrev dktX6_text_3 : List UInt8 := dkwX6_text_3 ++ dktX6_text_4
def dkwX6_text_2 : List UInt8 := [167, 255, 239, 42, 3, 181, 0, 224, 3, 60, 27, 7, 162, 0, 16, 42, 180, 0, 51, 27, 3, 84]
abbrev dktX6_text_2 : List UInt8 := dkwX6_text_2 ++ dktX6_text_3
def dkwX6_text_1 : List UInt8 := [2, 181, 0, 45, 3, 60, 27, 17, 4, 96, 162, 0, 16, 42, 180, 0, 48, 27, 3, 79, 132, 1, 1]
abbrev dktX6_text_1 : List UInt8 := dkwX6_text_1 ++ dktX6_text_2
def dkwX6_text_0 : List UInt8 := [42, 42, 180, 0, 102, 181, 0, 105, 42, 3, 181, 0, 102, 42, 3, 181, 0, 108, 42, 3, 181, 0, 139, 42]
abbrev dktX6_text_0 : List UInt8 := dkwX6_text_0 ++ dktX6_text_1
theorem dksX6_text_0 : cX6_text.data.toList.drop 0 = dktX6_text_0 := by decide +kernel
theorem dksX6_text_1 : cX6_text.data.toList.drop 24 = dktX6_text_1 := dk_seg dksX6_text_0 24 rfl rfl
theorem dksX6_text_2 : cX6_text.data.toList.drop 47 = dktX6_text_2 := dk_seg dksX6_text_1 23 rfl rfl
theorem dksX6_text_3 : cX6_text.data.toList.drop 69 = dktX6_text_3 := dk_seg dksX6_text_2 22 rfl rfl
theorem dksX6_text_4 : cX6_text.data.toList.drop 93 = dktX6_text_4 := dk_seg dksX6_text_3 24 rfl rfl
theorem dksX6_text_5 : cX6_text.data.toList.drop 116 = dktX6_text_5 := dk_seg dksX6_text_4 23 rfl rfl
theorem dksX6_text_6 : cX6_text.data.toList.drop 138 = dktX6_text_6 := dk_seg dksX6_text_5 22 rfl rfl
theorem dksX6_text_7 : cX6_text.data.toList.drop 161 = dktX6_text_7 := dk_seg dksX6_text_6 23 rfl rfl
theorem dX6_text_0 : decode cX6_text 0 = .ok (.aload_n 0, 1) := dk_42 (dk_at dksX6_text_0 0 rfl rfl)
theorem dX6_text_1 : decode cX6_text 1 = .ok (.aload_n 0, 1) := dk_42 (dk_at dksX6_text_0 1 rfl rfl)
theorem dX6_text_2 : decode cX6_text 2 = .ok (.getfield 102, 3) := dk_180 0 102 (dk_at dksX6_text_0 2 rfl rfl)
theorem dX6_text_5 : decode cX6_text 5 = .ok (.putfield 105, 3) := dk_181 0 105 (dk_at dksX6_text_0 5 rfl rfl)
theorem dX6_text_8 : decode cX6_text 8 = .ok (.aload_n 0, 1) := dk_42 (dk_at dksX6_text_0 8 rfl rfl)
theorem dX6_text_9 : decode cX6_text 9 = .ok (.iconst 0, 1) := dk_3 (dk_at dksX6_text_0 9 rfl rfl)
theorem dX6_text_10 : decode cX6_text 10 = .ok (.putfield 102, 3) := dk_181 0 102 (dk_at dksX6_text_0 10 rfl rfl)
theorem dX6_text_13 : decode cX6_text 13 = .ok (.aload_n 0, 1) := dk_42 (dk_at dksX6_text_0 13 rfl rfl)
theorem dX6_text_14 : decode cX6_text 14 = .ok (.iconst 0, 1) := dk_3 (dk_at dksX6_text_0 14 rfl rfl)
theorem dX6_text_15 : decode cX6_text 15 = .ok (.putfield 108, 3) := dk_181 0 108 (dk_at dksX6_text_0 15 rfl rfl)
theorem dX6_text_18 : decode cX6_text 18 = .ok (.aload_n 0, 1) := dk_42 (dk_at dksX6_text_0 18 rfl rfl)
theorem dX6_text_19 : decode cX6_text 19 = .ok (.iconst 0, 1) := dk_3 (dk_at dksX6_text_0 19 rfl rfl)
theorem dX6_text_20 : decode cX6_text 20 = .ok (.putfield 139, 3) := dk_181 0 139 (dk_at dksX6_text_0 20 rfl rfl)
theorem dX6_text_23 : decode cX6_text 23 = .ok (.aload_n 0, 1) := dk_42 (dk_at dksX6_text_0 23 rfl rfl)
theorem dX6_text_24 : decode cX6_text 24 = .ok (.iconst (-1), 1) := dk_2 (dk_at dksX6_text_1 0 rfl rfl)
theorem dX6_text_25 : decode cX6_text 25 = .ok (.putfield 45, 3) := dk_181 0 45 (dk_at dksX6_text_1 1 rfl rfl)
theorem dX6_text_28 : decode cX6_text 28 = .ok (.iconst 0, 1) := dk_3 (dk_at dksX6_text_1 4 rfl rfl)
theorem dX6_text_29 : decode cX6_text 29 = .ok (.istore_n 1, 1) := dk_60 (dk_at dksX6_text_1 5 rfl rfl)
theorem dX6_text_30 : decode cX6_text 30 = .ok (.iload_n 1, 1) := dk_27 (dk_at dksX6_text_1 6 rfl rfl)
theorem dX6_text_31 : decode cX6_text 31 = .ok (.sipush 1120, 3) := dk_17 4 96 (dk_at dksX6_text_1 7 rfl rfl)
theorem dX6_text_34 : decode cX6_text 34 = .ok (.if_icmp .ge 16, 3) := dk_162 0 16 (dk_at dksX6_text_1 10 rfl rfl)
theorem dX6_text_37 : decode cX6_text 37 = .ok (.aload_n 0, 1) := dk_42 (dk_at dksX6_text_1 13 rfl rfl)
theorem dX6_text_38 : decode cX6_text 38 = .ok (.getfield 48, 3) := dk_180 0 48 (dk_at dksX6_text_1 14 rfl rfl)
theorem dX6_text_41 : decode cX6_text 41 = .ok (.iload_n 1, 1) := dk_27 (dk_at dksX6_text_1 17 rfl rfl)
theorem dX6_text_42 : decode cX6_text 42 = .ok (.iconst 0, 1) := dk_3 (dk_at dksX6_text_1 18 rfl rfl)
theorem dX6_text_43 : decode cX6_text 43 = .ok (.iastore, 1) := dk_79 (dk_at dksX6_text_1 19 rfl rfl)
theorem dX6_text_44 : decode cX6_text 44 = .ok (.iinc 1 1, 3) := dk_132 1 1 (dk_at dksX6_text_1 20 rfl rfl)
theorem dX6_text_47 : decode cX6_text 47 = .ok (.goto (-17), 3) := dk_167 255 239 (dk_at dksX6_text_2 0 rfl rfl)
theorem dX6_text_50 : decode cX6_text 50 = .ok (.aload_n 0, 1) := dk_42 (dk_at dksX6_text_2 3 rfl rfl)
theorem dX6_text_51 : decode cX6_text 51 = .ok (.iconst 0, 1) := dk_3 (dk_at dksX6_text_2 4 rfl rfl)
theorem dX6_text_52 : decode cX6_text 52 = .ok (.putfield 224, 3) := dk_181 0 224 (dk_at dksX6_text_2 5 rfl rfl)
theorem dX6_text_55 : decode cX6_text 55 = .ok (.iconst 0, 1) := dk_3 (dk_at dksX6_text_2 8 rfl rfl)
theorem dX6_text_56 : decode cX6_text 56 = .ok (.istore_n 1, 1) := dk_60 (dk_at dksX6_text_2 9 rfl rfl)
theorem dX6_text_57 : decode cX6_text 57 = .ok (.iload_n 1, 1) := dk_27 (dk_at dksX6_text_2 10 rfl rfl)
theorem dX6_text_58 : decode cX6_text 58 = .ok (.iconst 4, 1) := dk_7 (dk_at dksX6_text_2 11 rfl rfl)
theorem dX6_text_59 : decode cX6_text 59 = .ok (.if_icmp .ge 16, 3) := dk_162 0 16 (dk_at dksX6_text_2 12 rfl rfl)
theorem dX6_text_62 : decode cX6_text 62 = .ok (.aload_n 0, 1) := dk_42 (dk_at dksX6_text_2 15 rfl rfl)
theorem dX6_text_63 : decode cX6_text 63 = .ok (.getfield 51, 3) := dk_180 0 51 (dk_at dksX6_text_2 16 rfl rfl)
theorem dX6_text_66 : decode cX6_text 66 = .ok (.iload_n 1, 1) := dk_27 (dk_at dksX6_text_2 19 rfl rfl)
theorem dX6_text_67 : decode cX6_text 67 = .ok (.iconst 0, 1) := dk_3 (dk_at dksX6_text_2 20 rfl rfl)
theorem dX6_text_68 : decode cX6_text 68 = .ok (.bastore, 1) := dk_84 (dk_at dksX6_text_2 21 rfl rfl)
theorem dX6_text_69 : decode cX6_text 69 = .ok (.iinc 1 1, 3) := dk_132 1 1 (dk_at dksX6_text_3 0 rfl rfl)
theorem dX6_text_72 : decode cX6_text 72 = .ok (.goto (-15), 3) := dk_167 255 241 (dk_at dksX6_text_3 3 rfl rfl)
theorem dX6_text_75 : decode cX6_text 75 = .ok (.aload_n 0, 1) := dk_42 (dk_at dksX6_text_3 6 rfl rfl)
theorem dX6_text_76 : decode cX6_text 76 = .ok (.invokevirtual 160, 3) := dk_182 0 160 (dk_at dksX6_text_3 7 rfl rfl)
theorem dX6_text_79 : decode cX6_text 79 = .ok (.aload_n 0, 1) := dk_42 (dk_at dksX6_text_3 10 rfl rfl)
theorem dX6_text_80 : decode cX6_text 80 = .ok (.invokevirtual 142, 3) := dk_182 0 142 (dk_at dksX6_text_3 11 rfl rfl)
theorem dX6_text_83 : decode cX6_text 83 = .ok (.ifCond .eq 17, 3) := dk_153 0 17 (dk_at dksX6_text_3 14 rfl rfl)
theorem dX6_text_86 : decode cX6_text 86 = .ok (.aload_n 0, 1) := dk_42 (dk_at dksX6_text_3 17 rfl rfl)
theorem dX6_text_87 : decode cX6_text 87 = .ok (.getfield 118, 3) := dk_180 0 118 (dk_at dksX6_text_3 18 rfl rfl)
theorem dX6_text_90 : decode cX6_text 90 = .ok (.ifCond .eq 10, 3) := dk_153 0 10 (dk_at dksX6_text_3 21 rfl rfl)
theorem dX6_text_93 : decode cX6_text 93 = .ok (.aload_n 0, 1) := dk_42 (dk_at dksX6_text_4 0 rfl rfl)
theorem dX6_text_94 : decode cX6_text 94 = .ok (.invokevirtual 234, 3) := dk_182 0 234 (dk_at dksX6_text_4 1 rfl rfl)
theorem dX6_text_97 : decode cX6_text 97 = .ok (.goto (-18), 3) := dk_167 255 238 (dk_at dksX6_text_4 4 rfl rfl)
theorem dX6_text_100 : decode cX6_text 100 = .ok (.aload_n 0, 1) := dk_42 (dk_at dksX6_text_4 7 rfl rfl)
theorem dX6_text_101 : decode cX6_text 101 = .ok (.invokevirtual 142, 3) := dk_182 0 142 (dk_at dksX6_text_4 8 rfl rfl)
theorem dX6_text_104 : decode cX6_text 104 = .ok (.ifCond .ne 6, 3) := dk_154 0 6 (dk_at dksX6_text_4 11 rfl rfl)
theorem dX6_text_107 : decode cX6_text 107 = .ok (.bipush (-4), 2) := dk_16 252 (dk_at dksX6_text_4 14 rfl rfl)
theorem dX6_text_109 : decode cX6_text 109 = .ok (.ireturn, 1) := dk_172 (dk_at dksX6_text_4 16 rfl rfl)
theorem dX6_text_110 : decode cX6_text 110 = .ok (.iconst 0, 1) := dk_3 (dk_at dksX6_text_4 17 rfl rfl)
theorem dX6_text_111 : decode cX6_text 111 = .ok (.istore_n 1, 1) := dk_60 (dk_at dksX6_text_4 18 rfl rfl)
theorem dX6_text_112 : decode cX6_text 112 = .ok (.iload_n 1, 1) := dk_27 (dk_at dksX6_text_4 19 rfl rfl)
theorem dX6_text_113 : decode cX6_text 113 = .ok (.sipush 1120, 3) := dk_17 4 96 (dk_at dksX6_text_4 20 rfl rfl)
theorem dX6_text_116 : decode cX6_text 116 = .ok (.if_icmp .ge 21, 3) := dk_162 0 21 (dk_at dksX6_text_5 0 rfl rfl)
theorem dX6_text_119 : decode cX6_text 119 = .ok (.aload_n 0, 1) := dk_42 (dk_at dksX6_text_5 3 rfl rfl)
theorem dX6_text_120 : decode cX6_text 120 = .ok (.getfield 13, 3) := dk_180 0 13 (dk_at dksX6_text_5 4 rfl rfl)
theorem dX6_text_123 : decode cX6_text 123 = .ok (.iload_n 1, 1) := dk_27 (dk_at dksX6_text_5 7 rfl rfl)
theorem dX6_text_124 : decode cX6_text 124 = .ok (.aload_n 0, 1) := dk_42 (dk_at dksX6_text_5 8 rfl rfl)
theorem dX6_text_125 : decode cX6_text 125 = .ok (.getfield 48, 3) := dk_180 0 48 (dk_at dksX6_text_5 9 rfl rfl)
theorem dX6_text_128 : decode cX6_text 128 = .ok (.iload_n 1, 1) := dk_27 (dk_at dksX6_text_5 12 rfl rfl)
theorem dX6_text_129 : decode cX6_text 129 = .ok (.iaload, 1) := dk_46 (dk_at dksX6_text_5 13 rfl rfl)
theorem dX6_text_130 : decode cX6_text 130 = .ok (.iastore, 1) := dk_79 (dk_at dksX6_text_5 14 rfl rfl)
theorem dX6_text_131 : decode cX6_text 131 = .ok (.iinc 1 1, 3) := dk_132 1 1 (dk_at dksX6_text_5 15 rfl rfl)
theorem dX6_text_134 : decode cX6_text 134 = .ok (.goto (-22), 3) := dk_167 255 234 (dk_at dksX6_text_5 18 rfl rfl)
theorem dX6_text_137 : decode cX6_text 137 = .ok (.aload_n 0, 1) := dk_42 (dk_at dksX6_text_5 21 rfl rfl)
theorem dX6_text_138 : decode cX6_text 138 = .ok (.getfield 13, 3) := dk_180 0 13 (dk_at dksX6_text_6 0 rfl rfl)
theorem dX6_text_141 : decode cX6_text 141 = .ok (.bipush 9, 2) := dk_16 9 (dk_at dksX6_text_6 3 rfl rfl)
theorem dX6_text_143 : decode cX6_text 143 = .ok (.aload_n 0, 1) := dk_42 (dk_at dksX6_text_6 5 rfl rfl)
theorem dX6_text_144 : decode cX6_text 144 = .ok (.getfield 13, 3) := dk_180 0 13 (dk_at dksX6_text_6 6 rfl rfl)
theorem dX6_text_147 : decode cX6_text 147 = .ok (.iconst 2, 1) := dk_5 (dk_at dksX6_text_6 9 rfl rfl)
theorem dX6_text_148 : decode cX6_text 148 = .ok (.iaload, 1) := dk_46 (dk_at dksX6_text_6 10 rfl rfl)
theorem dX6_text_149 : decode cX6_text 149 = .ok (.iastore, 1) := dk_79 (dk_at dksX6_text_6 11 rfl rfl)
theorem dX6_text_150 : decode cX6_text 150 = .ok (.aload_n 0, 1) := dk_42 (dk_at dksX6_text_6 12 rfl rfl)
theorem dX6_text_151 : decode cX6_text 151 = .ok (.invokevirtual 237, 3) := dk_182 0 237 (dk_at dksX6_text_6 13 rfl rfl)
theorem dX6_text_154 : decode cX6_text 154 = .ok (.aload_n 0, 1) := dk_42 (dk_at dksX6_text_6 16 rfl rfl)
theorem dX6_text_155 : decode cX6_text 155 = .ok (.iconst 0, 1) := dk_3 (dk_at dksX6_text_6 17 rfl rfl)
theorem dX6_text_156 : decode cX6_text 156 = .ok (.putfield 92, 3) := dk_181 0 92 (dk_at dksX6_text_6 18 rfl rfl)
theorem dX6_text_159 : decode cX6_text 159 = .ok (.aload_n 0, 1) := dk_42 (dk_at dksX6_text_6 21 rfl rfl)
theorem dX6_text_160 : decode cX6_text 160 = .ok (.iconst 0, 1) := dk_3 (dk_at dksX6_text_6 22 rfl rfl)
theorem dX6_text_161 : decode cX6_text 161 = .ok (.putfield 95, 3) := dk_181 0 95 (dk_at dksX6_text_7 0 rfl rfl)
theorem dX6_text_164 : decode cX6_text 164 = .ok (.aload_n 0, 1) := dk_42 (dk_at dksX6_text_7 3 rfl rfl)
theorem dX6_text_165 : decode cX6_text 165 = .ok (.getfield 13, 3) := dk_180 0 13 (dk_at dksX6_text_7 4 rfl rfl)
theorem dX6_text_168 : decode cX6_text 168 = .ok (.iconst 2, 1) := dk_5 (dk_at dksX6_text_7 7 rfl rfl)
theorem dX6_text_169 : decode cX6_text 169 = .ok (.iaload, 1) := dk_46 (dk_at dksX6_text_7 8 rfl rfl)
theorem dX6_text_170 : decode cX6_text 170 = .ok (.ireturn, 1) := dk_172 (dk_at dksX6_text_7 9 rfl rfl)
abbrev cX6_advance : ByteArray := prog_18_method_15_code
def yX6_advance : MethodName := ⟨RX6, "advance", "()V"⟩
def dkwX6_advance_10 : List UInt8 := [96, 181, 0, 108, 177]
abbrev dktX6_advance_10 : List UInt8 := dkwX6_advance_10 ++ []
def dkwX6_advance_9 : List UInt8 := [167, 0, 28, 42, 27, 16, 59, 160, 0, 7, 6, 167, 0, 4, 7, 181, 0, 118, 42, 89, 180, 0, 108, 4]
abbrev dktX6_advance_9 : List UInt8 := dkwX6_advance_9 ++ dktX6_advance_10
def dkwX6_advance_8 : List UInt8 := [184, 0, 133, 181, 0, 129, 42, 89, 180, 0, 108, 4, 96, 181, 0, 108, 167, 255, 197, 42, 5, 181, 0, 118]
abbrev dktX6_advance_8 : List UInt8 := dkwX6_advance_8 ++ dktX6_advance_9
def dkwX6_advance_7 : List UInt8 := [42, 18, 132, 16, 10, 42, 180, 0, 129, 104, 42, 42, 180, 0, 108, 182, 0, 111, 96, 16, 48, 100]
abbrev dktX6_advance_7 : List UInt8 := dkwX6_advance_7 ++ dktX6_advance_8
def dkwX6_advance_6 : List UInt8 := [181, 0, 129, 42, 42, 180, 0, 108, 182, 0, 111, 133, 20, 0, 125, 20, 0, 127, 184, 0, 88, 153, 0, 44]
abbrev dktX6_advance_6 : List UInt8 := dkwX6_advance_6 ++ dktX6_advance_7
def dkwX6_advance_5 : List UInt8 := [181, 0, 118, 167, 0, 117, 27, 133, 20, 0, 125, 20, 0, 127, 184, 0, 88, 153, 0, 78, 42, 3]
abbrev dktX6_advance_5 : List UInt8 := dkwX6_advance_5 ++ dktX6_advance_6
def dkwX6_advance_4 : List UInt8 := [20, 0, 123, 184, 0, 88, 153, 0, 16, 42, 89, 180, 0, 108, 4, 96, 181, 0, 108, 167, 255, 225, 42, 4]
abbrev dktX6_advance_4 : List UInt8 := dkwX6_advance_4 ++ dktX6_advance_5
def dkwX6_advance_3 : List UInt8 := [20, 0, 121, 20, 0, 123, 184, 0, 88, 153, 0, 45, 42, 42, 180, 0, 108, 182, 0, 111, 133, 20, 0, 121]
abbrev dktX6_advance_3 : List UInt8 := dkwX6_advance_3 ++ dktX6_advance_4
def dkwX6_advance_2 : List UInt8 := [42, 42, 180, 0, 108, 182, 0, 111, 60, 27, 2, 160, 0, 11, 42, 3, 181, 0, 118, 167, 0, 173, 27, 133]
abbrev dktX6_advance_2 : List UInt8 := dkwX6_advance_2 ++ dktX6_advance_3
def dkwX6_advance_1 : List UInt8 := [160, 0, 16, 42, 89, 180, 0, 108, 4, 96, 181, 0, 108, 167, 255, 220, 42, 42, 180, 0, 108, 181, 0, 115]
abbrev dktX6_advance_1 : List UInt8 := dkwX6_advance_1 ++ dktX6_advance_2
def dkwX6_advance_0 : List UInt8 := [42, 42, 180, 0, 108, 182, 0, 111, 16, 32, 159, 0, 16, 42, 42, 180, 0, 108, 182, 0, 111, 16, 10]
abbrev dktX6_advance_0 : List UInt8 := dkwX6_advance_0 ++ dktX6_advance_1
theorem dksX6_advance_0 : cX6_advance.data.toList.drop 0 = dktX6_advance_0 := by decide +kernel
theorem dksX6_advance_1 : cX6_advance.data.toList.drop 23 = dktX6_advance_1 := dk_seg dksX6_advance_0 23 rfl rfl
theorem dksX6_advance_2 : cX6_advance.data.toList.drop 47 = dktX6_advance_2 := dk_seg dksX6_advance_1 24 rfl rfl
theorem dksX6_advance_3 : cX6_advance.data.toList.drop 71 = dktX6_advance_3 := dk_seg dksX6_advance_2 24 rfl rfl
theorem dksX6_advance_4 : cX6_advance.data.toList.drop 95 = dktX6_advance_4 := dk_seg dksX6_advance_3 24 rfl rfl
theorem dksX6_advance_5 : cX6_advance.data.toList.drop 119 = dktX6_advance_5 := dk_seg dksX6_advance_4 24 rfl rfl
theorem dksX6_advance_6 : cX6_advance.data.toList.drop 141 = dktX6_advance_6 := dk_seg dksX6_advance_5 22 rfl rfl
theorem dksX6_advance_7 : cX6_advance.data.toList.drop 165 = dktX6_advance_7 := dk_seg dksX6_advance_6 24 rfl rfl
theorem dksX6_advance_8 : cX6_advance.data.toList.drop 187 = dktX6_advance_8 := dk_seg dksX6_advance_7 22 rfl rfl
theorem dksX6_advance_9 : cX6_advance.data.toList.drop 211 = dktX6_advance_9 := dk_seg dksX6_advance_8 24 rfl rfl
theorem dksX6_advance_10 : cX6_advance.data.toList.drop 235 = dktX6_advance_10 := dk_seg dksX6_advance_9 24 rfl rfl
theorem dX6_advance_0 : decode cX6_advance 0 = .ok (.aload_n 0, 1) := dk_42 (dk_at dksX6_advance_0 0 rfl rfl)
theorem dX6_advance_1 : decode cX6_advance 1 = .ok (.aload_n 0, 1) := dk_42 (dk_at dksX6_advance_0 1 rfl rfl)
theorem dX6_advance_2 : decode cX6_advance 2 = .ok (.getfield 108, 3) := dk_180 0 108 (dk_at dksX6_advance_0 2 rfl rfl)
theorem dX6_advance_5 : decode cX6_advance 5 = .ok (.invokevirtual 111, 3) := dk_182 0 111 (dk_at dksX6_advance_0 5 rfl rfl)
theorem dX6_advance_8 : decode cX6_advance 8 = .ok (.bipush 32, 2) := dk_16 32 (dk_at dksX6_advance_0 8 rfl rfl)
theorem dX6_advance_10 : decode cX6_advance 10 = .ok (.if_icmp .eq 16, 3) := dk_159 0 16 (dk_at dksX6_advance_0 10 rfl rfl)
theorem dX6_advance_13 : decode cX6_advance 13 = .ok (.aload_n 0, 1) := dk_42 (dk_at dksX6_advance_0 13 rfl rfl)
theorem dX6_advance_14 : decode cX6_advance 14 = .ok (.aload_n 0, 1) := dk_42 (dk_at dksX6_advance_0 14 rfl rfl)
theorem dX6_advance_15 : decode cX6_advance 15 = .ok (.getfield 108, 3) := dk_180 0 108 (dk_at dksX6_advance_0 15 rfl rfl)
theorem dX6_advance_18 : decode cX6_advance 18 = .ok (.invokevirtual 111, 3) := dk_182 0 111 (dk_at dksX6_advance_0 18 rfl rfl)
theorem dX6_advance_21 : decode cX6_advance 21 = .ok (.bipush 10, 2) := dk_16 10 (dk_at dksX6_advance_0 21 rfl rfl)
theorem dX6_advance_23 : decode cX6_advance 23 = .ok (.if_icmp .ne 16, 3) := dk_160 0 16 (dk_at dksX6_advance_1 0 rfl rfl)
theorem dX6_advance_26 : decode cX6_advance 26 = .ok (.aload_n 0, 1) := dk_42 (dk_at dksX6_advance_1 3 rfl rfl)
theorem dX6_advance_27 : decode cX6_advance 27 = .ok (.dup, 1) := dk_89 (dk_at dksX6_advance_1 4 rfl rfl)
theorem dX6_advance_28 : decode cX6_advance 28 = .ok (.getfield 108, 3) := dk_180 0 108 (dk_at dksX6_advance_1 5 rfl rfl)
theorem dX6_advance_31 : decode cX6_advance 31 = .ok (.iconst 1, 1) := dk_4 (dk_at dksX6_advance_1 8 rfl rfl)
theorem dX6_advance_32 : decode cX6_advance 32 = .ok (.iadd, 1) := dk_96 (dk_at dksX6_advance_1 9 rfl rfl)
theorem dX6_advance_33 : decode cX6_advance 33 = .ok (.putfield 108, 3) := dk_181 0 108 (dk_at dksX6_advance_1 10 rfl rfl)
theorem dX6_advance_36 : decode cX6_advance 36 = .ok (.goto (-36), 3) := dk_167 255 220 (dk_at dksX6_advance_1 13 rfl rfl)
theorem dX6_advance_39 : decode cX6_advance 39 = .ok (.aload_n 0, 1) := dk_42 (dk_at dksX6_advance_1 16 rfl rfl)
theorem dX6_advance_40 : decode cX6_advance 40 = .ok (.aload_n 0, 1) := dk_42 (dk_at dksX6_advance_1 17 rfl rfl)
theorem dX6_advance_41 : decode cX6_advance 41 = .ok (.getfield 108, 3) := dk_180 0 108 (dk_at dksX6_advance_1 18 rfl rfl)
theorem dX6_advance_44 : decode cX6_advance 44 = .ok (.putfield 115, 3) := dk_181 0 115 (dk_at dksX6_advance_1 21 rfl rfl)
theorem dX6_advance_47 : decode cX6_advance 47 = .ok (.aload_n 0, 1) := dk_42 (dk_at dksX6_advance_2 0 rfl rfl)
theorem dX6_advance_48 : decode cX6_advance 48 = .ok (.aload_n 0, 1) := dk_42 (dk_at dksX6_advance_2 1 rfl rfl)
theorem dX6_advance_49 : decode cX6_advance 49 = .ok (.getfield 108, 3) := dk_180 0 108 (dk_at dksX6_advance_2 2 rfl rfl)
theorem dX6_advance_52 : decode cX6_advance 52 = .ok (.invokevirtual 111, 3) := dk_182 0 111 (dk_at dksX6_advance_2 5 rfl rfl)
theorem dX6_advance_55 : decode cX6_advance 55 = .ok (.istore_n 1, 1) := dk_60 (dk_at dksX6_advance_2 8 rfl rfl)
theorem dX6_advance_56 : decode cX6_advance 56 = .ok (.iload_n 1, 1) := dk_27 (dk_at dksX6_advance_2 9 rfl rfl)
theorem dX6_advance_57 : decode cX6_advance 57 = .ok (.iconst (-1), 1) := dk_2 (dk_at dksX6_advance_2 10 rfl rfl)
theorem dX6_advance_58 : decode cX6_advance 58 = .ok (.if_icmp .ne 11, 3) := dk_160 0 11 (dk_at dksX6_advance_2 11 rfl rfl)
theorem dX6_advance_61 : decode cX6_advance 61 = .ok (.aload_n 0, 1) := dk_42 (dk_at dksX6_advance_2 14 rfl rfl)
theorem dX6_advance_62 : decode cX6_advance 62 = .ok (.iconst 0, 1) := dk_3 (dk_at dksX6_advance_2 15 rfl rfl)
theorem dX6_advance_63 : decode cX6_advance 63 = .ok (.putfield 118, 3) := dk_181 0 118 (dk_at dksX6_advance_2 16 rfl rfl)
theorem dX6_advance_66 : decode cX6_advance 66 = .ok (.goto 173, 3) := dk_167 0 173 (dk_at dksX6_advance_2 19 rfl rfl)
theorem dX6_advance_69 : decode cX6_advance 69 = .ok (.iload_n 1, 1) := dk_27 (dk_at dksX6_advance_2 22 rfl rfl)
theorem dX6_advance_70 : decode cX6_advance 70 = .ok (.i2l, 1) := dk_133 (dk_at dksX6_advance_2 23 rfl rfl)
theorem dX6_advance_71 : decode cX6_advance 71 = .ok (.ldc2_w 121, 3) := dk_20 0 121 (dk_at dksX6_advance_3 0 rfl rfl)
theorem dX6_advance_74 : decode cX6_advance 74 = .ok (.ldc2_w 123, 3) := dk_20 0 123 (dk_at dksX6_advance_3 3 rfl rfl)
theorem dX6_advance_77 : decode cX6_advance 77 = .ok (.invokestatic 88, 3) := dk_184 0 88 (dk_at dksX6_advance_3 6 rfl rfl)
theorem dX6_advance_80 : decode cX6_advance 80 = .ok (.ifCond .eq 45, 3) := dk_153 0 45 (dk_at dksX6_advance_3 9 rfl rfl)
theorem dX6_advance_83 : decode cX6_advance 83 = .ok (.aload_n 0, 1) := dk_42 (dk_at dksX6_advance_3 12 rfl rfl)
theorem dX6_advance_84 : decode cX6_advance 84 = .ok (.aload_n 0, 1) := dk_42 (dk_at dksX6_advance_3 13 rfl rfl)
theorem dX6_advance_85 : decode cX6_advance 85 = .ok (.getfield 108, 3) := dk_180 0 108 (dk_at dksX6_advance_3 14 rfl rfl)
theorem dX6_advance_88 : decode cX6_advance 88 = .ok (.invokevirtual 111, 3) := dk_182 0 111 (dk_at dksX6_advance_3 17 rfl rfl)
theorem dX6_advance_91 : decode cX6_advance 91 = .ok (.i2l, 1) := dk_133 (dk_at dksX6_advance_3 20 rfl rfl)
theorem dX6_advance_92 : decode cX6_advance 92 = .ok (.ldc2_w 121, 3) := dk_20 0 121 (dk_at dksX6_advance_3 21 rfl rfl)
theorem dX6_advance_95 : decode cX6_advance 95 = .ok (.ldc2_w 123, 3) := dk_20 0 123 (dk_at dksX6_advance_4 0 rfl rfl)
theorem dX6_advance_98 : decode cX6_advance 98 = .ok (.invokestatic 88, 3) := dk_184 0 88 (dk_at dksX6_advance_4 3 rfl rfl)
theorem dX6_advance_101 : decode cX6_advance 101 = .ok (.ifCond .eq 16, 3) := dk_153 0 16 (dk_at dksX6_advance_4 6 rfl rfl)
theorem dX6_advance_104 : decode cX6_advance 104 = .ok (.aload_n 0, 1) := dk_42 (dk_at dksX6_advance_4 9 rfl rfl)
theorem dX6_advance_105 : decode cX6_advance 105 = .ok (.dup, 1) := dk_89 (dk_at dksX6_advance_4 10 rfl rfl)
theorem dX6_advance_106 : decode cX6_advance 106 = .ok (.getfield 108, 3) := dk_180 0 108 (dk_at dksX6_advance_4 11 rfl rfl)
theorem dX6_advance_109 : decode cX6_advance 109 = .ok (.iconst 1, 1) := dk_4 (dk_at dksX6_advance_4 14 rfl rfl)
theorem dX6_advance_110 : decode cX6_advance 110 = .ok (.iadd, 1) := dk_96 (dk_at dksX6_advance_4 15 rfl rfl)
theorem dX6_advance_111 : decode cX6_advance 111 = .ok (.putfield 108, 3) := dk_181 0 108 (dk_at dksX6_advance_4 16 rfl rfl)
theorem dX6_advance_114 : decode cX6_advance 114 = .ok (.goto (-31), 3) := dk_167 255 225 (dk_at dksX6_advance_4 19 rfl rfl)
theorem dX6_advance_117 : decode cX6_advance 117 = .ok (.aload_n 0, 1) := dk_42 (dk_at dksX6_advance_4 22 rfl rfl)
theorem dX6_advance_118 : decode cX6_advance 118 = .ok (.iconst 1, 1) := dk_4 (dk_at dksX6_advance_4 23 rfl rfl)
theorem dX6_advance_119 : decode cX6_advance 119 = .ok (.putfield 118, 3) := dk_181 0 118 (dk_at dksX6_advance_5 0 rfl rfl)
theorem dX6_advance_122 : decode cX6_advance 122 = .ok (.goto 117, 3) := dk_167 0 117 (dk_at dksX6_advance_5 3 rfl rfl)
theorem dX6_advance_125 : decode cX6_advance 125 = .ok (.iload_n 1, 1) := dk_27 (dk_at dksX6_advance_5 6 rfl rfl)
theorem dX6_advance_126 : decode cX6_advance 126 = .ok (.i2l, 1) := dk_133 (dk_at dksX6_advance_5 7 rfl rfl)
theorem dX6_advance_127 : decode cX6_advance 127 = .ok (.ldc2_w 125, 3) := dk_20 0 125 (dk_at dksX6_advance_5 8 rfl rfl)
theorem dX6_advance_130 : decode cX6_advance 130 = .ok (.ldc2_w 127, 3) := dk_20 0 127 (dk_at dksX6_advance_5 11 rfl rfl)
theorem dX6_advance_133 : decode cX6_advance 133 = .ok (.invokestatic 88, 3) := dk_184 0 88 (dk_at dksX6_advance_5 14 rfl rfl)
theorem dX6_advance_136 : decode cX6_advance 136 = .ok (.ifCond .eq 78, 3) := dk_153 0 78 (dk_at dksX6_advance_5 17 rfl rfl)
theorem dX6_advance_139 : decode cX6_advance 139 = .ok (.aload_n 0, 1) := dk_42 (dk_at dksX6_advance_5 20 rfl rfl)
theorem dX6_advance_140 : decode cX6_advance 140 = .ok (.iconst 0, 1) := dk_3 (dk_at dksX6_advance_5 21 rfl rfl)
theorem dX6_advance_141 : decode cX6_advance 141 = .ok (.putfield 129, 3) := dk_181 0 129 (dk_at dksX6_advance_6 0 rfl rfl)
theorem dX6_advance_144 : decode cX6_advance 144 = .ok (.aload_n 0, 1) := dk_42 (dk_at dksX6_advance_6 3 rfl rfl)
theorem dX6_advance_145 : decode cX6_advance 145 = .ok (.aload_n 0, 1) := dk_42 (dk_at dksX6_advance_6 4 rfl rfl)
theorem dX6_advance_146 : decode cX6_advance 146 = .ok (.getfield 108, 3) := dk_180 0 108 (dk_at dksX6_advance_6 5 rfl rfl)
theorem dX6_advance_149 : decode cX6_advance 149 = .ok (.invokevirtual 111, 3) := dk_182 0 111 (dk_at dksX6_advance_6 8 rfl rfl)
theorem dX6_advance_152 : decode cX6_advance 152 = .ok (.i2l, 1) := dk_133 (dk_at dksX6_advance_6 11 rfl rfl)
theorem dX6_advance_153 : decode cX6_advance 153 = .ok (.ldc2_w 125, 3) := dk_20 0 125 (dk_at dksX6_advance_6 12 rfl rfl)
theorem dX6_advance_156 : decode cX6_advance 156 = .ok (.ldc2_w 127, 3) := dk_20 0 127 (dk_at dksX6_advance_6 15 rfl rfl)
theorem dX6_advance_159 : decode cX6_advance 159 = .ok (.invokestatic 88, 3) := dk_184 0 88 (dk_at dksX6_advance_6 18 rfl rfl)
theorem dX6_advance_162 : decode cX6_advance 162 = .ok (.ifCond .eq 44, 3) := dk_153 0 44 (dk_at dksX6_advance_6 21 rfl rfl)
theorem dX6_advance_165 : decode cX6_advance 165 = .ok (.aload_n 0, 1) := dk_42 (dk_at dksX6_advance_7 0 rfl rfl)
theorem dX6_advance_166 : decode cX6_advance 166 = .ok (.ldc 132, 2) := dk_18 132 (dk_at dksX6_advance_7 1 rfl rfl)
theorem dX6_advance_168 : decode cX6_advance 168 = .ok (.bipush 10, 2) := dk_16 10 (dk_at dksX6_advance_7 3 rfl rfl)
theorem dX6_advance_170 : decode cX6_advance 170 = .ok (.aload_n 0, 1) := dk_42 (dk_at dksX6_advance_7 5 rfl rfl)
theorem dX6_advance_171 : decode cX6_advance 171 = .ok (.getfield 129, 3) := dk_180 0 129 (dk_at dksX6_advance_7 6 rfl rfl)
theorem dX6_advance_174 : decode cX6_advance 174 = .ok (.imul, 1) := dk_104 (dk_at dksX6_advance_7 9 rfl rfl)
theorem dX6_advance_175 : decode cX6_advance 175 = .ok (.aload_n 0, 1) := dk_42 (dk_at dksX6_advance_7 10 rfl rfl)
theorem dX6_advance_176 : decode cX6_advance 176 = .ok (.aload_n 0, 1) := dk_42 (dk_at dksX6_advance_7 11 rfl rfl)
theorem dX6_advance_177 : decode cX6_advance 177 = .ok (.getfield 108, 3) := dk_180 0 108 (dk_at dksX6_advance_7 12 rfl rfl)
theorem dX6_advance_180 : decode cX6_advance 180 = .ok (.invokevirtual 111, 3) := dk_182 0 111 (dk_at dksX6_advance_7 15 rfl rfl)
theorem dX6_advance_183 : decode cX6_advance 183 = .ok (.iadd, 1) := dk_96 (dk_at dksX6_advance_7 18 rfl rfl)
theorem dX6_advance_184 : decode cX6_advance 184 = .ok (.bipush 48, 2) := dk_16 48 (dk_at dksX6_advance_7 19 rfl rfl)
theorem dX6_advance_186 : decode cX6_advance 186 = .ok (.isub, 1) := dk_100 (dk_at dksX6_advance_7 21 rfl rfl)
theorem dX6_advance_187 : decode cX6_advance 187 = .ok (.invokestatic 133, 3) := dk_184 0 133 (dk_at dksX6_advance_8 0 rfl rfl)
theorem dX6_advance_190 : decode cX6_advance 190 = .ok (.putfield 129, 3) := dk_181 0 129 (dk_at dksX6_advance_8 3 rfl rfl)
theorem dX6_advance_193 : decode cX6_advance 193 = .ok (.aload_n 0, 1) := dk_42 (dk_at dksX6_advance_8 6 rfl rfl)
theorem dX6_advance_194 : decode cX6_advance 194 = .ok (.dup, 1) := dk_89 (dk_at dksX6_advance_8 7 rfl rfl)
theorem dX6_advance_195 : decode cX6_advance 195 = .ok (.getfield 108, 3) := dk_180 0 108 (dk_at dksX6_advance_8 8 rfl rfl)
theorem dX6_advance_198 : decode cX6_advance 198 = .ok (.iconst 1, 1) := dk_4 (dk_at dksX6_advance_8 11 rfl rfl)
theorem dX6_advance_199 : decode cX6_advance 199 = .ok (.iadd, 1) := dk_96 (dk_at dksX6_advance_8 12 rfl rfl)
theorem dX6_advance_200 : decode cX6_advance 200 = .ok (.putfield 108, 3) := dk_181 0 108 (dk_at dksX6_advance_8 13 rfl rfl)
theorem dX6_advance_203 : decode cX6_advance 203 = .ok (.goto (-59), 3) := dk_167 255 197 (dk_at dksX6_advance_8 16 rfl rfl)
theorem dX6_advance_206 : decode cX6_advance 206 = .ok (.aload_n 0, 1) := dk_42 (dk_at dksX6_advance_8 19 rfl rfl)
theorem dX6_advance_207 : decode cX6_advance 207 = .ok (.iconst 2, 1) := dk_5 (dk_at dksX6_advance_8 20 rfl rfl)
theorem dX6_advance_208 : decode cX6_advance 208 = .ok (.putfield 118, 3) := dk_181 0 118 (dk_at dksX6_advance_8 21 rfl rfl)
theorem dX6_advance_211 : decode cX6_advance 211 = .ok (.goto 28, 3) := dk_167 0 28 (dk_at dksX6_advance_9 0 rfl rfl)
theorem dX6_advance_214 : decode cX6_advance 214 = .ok (.aload_n 0, 1) := dk_42 (dk_at dksX6_advance_9 3 rfl rfl)
theorem dX6_advance_215 : decode cX6_advance 215 = .ok (.iload_n 1, 1) := dk_27 (dk_at dksX6_advance_9 4 rfl rfl)
theorem dX6_advance_216 : decode cX6_advance 216 = .ok (.bipush 59, 2) := dk_16 59 (dk_at dksX6_advance_9 5 rfl rfl)
theorem dX6_advance_218 : decode cX6_advance 218 = .ok (.if_icmp .ne 7, 3) := dk_160 0 7 (dk_at dksX6_advance_9 7 rfl rfl)
theorem dX6_advance_221 : decode cX6_advance 221 = .ok (.iconst 3, 1) := dk_6 (dk_at dksX6_advance_9 10 rfl rfl)
theorem dX6_advance_222 : decode cX6_advance 222 = .ok (.goto 4, 3) := dk_167 0 4 (dk_at dksX6_advance_9 11 rfl rfl)
theorem dX6_advance_225 : decode cX6_advance 225 = .ok (.iconst 4, 1) := dk_7 (dk_at dksX6_advance_9 14 rfl rfl)
theorem dX6_advance_226 : decode cX6_advance 226 = .ok (.putfield 118, 3) := dk_181 0 118 (dk_at dksX6_advance_9 15 rfl rfl)
theorem dX6_advance_229 : decode cX6_advance 229 = .ok (.aload_n 0, 1) := dk_42 (dk_at dksX6_advance_9 18 rfl rfl)
theorem dX6_advance_230 : decode cX6_advance 230 = .ok (.dup, 1) := dk_89 (dk_at dksX6_advance_9 19 rfl rfl)
theorem dX6_advance_231 : decode cX6_advance 231 = .ok (.getfield 108, 3) := dk_180 0 108 (dk_at dksX6_advance_9 20 rfl rfl)
theorem dX6_advance_234 : decode cX6_advance 234 = .ok (.iconst 1, 1) := dk_4 (dk_at dksX6_advance_9 23 rfl rfl)
theorem dX6_advance_235 : decode cX6_advance 235 = .ok (.iadd, 1) := dk_96 (dk_at dksX6_advance_10 0 rfl rfl)
theorem dX6_advance_236 : decode cX6_advance 236 = .ok (.putfield 108, 3) := dk_181 0 108 (dk_at dksX6_advance_10 1 rfl rfl)
theorem dX6_advance_239 : decode cX6_advance 239 = .ok (.return_, 1) := dk_177 (dk_at dksX6_advance_10 4 rfl rfl)
abbrev cX6_see : ByteArray := prog_18_method_14_code
def yX6_see : MethodName := ⟨RX6, "see", "(I)I"⟩
def dkwX6_see_0 : List UInt8 := [27, 42, 180, 0, 105, 162, 0, 16, 42, 180, 0, 38, 27, 51, 17, 0, 255, 126, 167, 0, 4, 2, 172]
abbrev dktX6_see_0 : List UInt8 := dkwX6_see_0 ++ []
theorem dksX6_see_0 : cX6_see.data.toList.drop 0 = dktX6_see_0 := by decide +kernel
theorem dX6_see_0 : decode cX6_see 0 = .ok (.iload_n 1, 1) := dk_27 (dk_at dksX6_see_0 0 rfl rfl)
theorem dX6_see_1 : decode cX6_see 1 = .ok (.aload_n 0, 1) := dk_42 (dk_at dksX6_see_0 1 rfl rfl)
theorem dX6_see_2 : decode cX6_see 2 = .ok (.getfield 105, 3) := dk_180 0 105 (dk_at dksX6_see_0 2 rfl rfl)
theorem dX6_see_5 : decode cX6_see 5 = .ok (.if_icmp .ge 16, 3) := dk_162 0 16 (dk_at dksX6_see_0 5 rfl rfl)
theorem dX6_see_8 : decode cX6_see 8 = .ok (.aload_n 0, 1) := dk_42 (dk_at dksX6_see_0 8 rfl rfl)
theorem dX6_see_9 : decode cX6_see 9 = .ok (.getfield 38, 3) := dk_180 0 38 (dk_at dksX6_see_0 9 rfl rfl)
theorem dX6_see_12 : decode cX6_see 12 = .ok (.iload_n 1, 1) := dk_27 (dk_at dksX6_see_0 12 rfl rfl)
theorem dX6_see_13 : decode cX6_see 13 = .ok (.baload, 1) := dk_51 (dk_at dksX6_see_0 13 rfl rfl)
theorem dX6_see_14 : decode cX6_see 14 = .ok (.sipush 255, 3) := dk_17 0 255 (dk_at dksX6_see_0 14 rfl rfl)
theorem dX6_see_17 : decode cX6_see 17 = .ok (.iand, 1) := dk_126 (dk_at dksX6_see_0 17 rfl rfl)
theorem dX6_see_18 : decode cX6_see 18 = .ok (.goto 4, 3) := dk_167 0 4 (dk_at dksX6_see_0 18 rfl rfl)
theorem dX6_see_21 : decode cX6_see 21 = .ok (.iconst (-1), 1) := dk_2 (dk_at dksX6_see_0 21 rfl rfl)
theorem dX6_see_22 : decode cX6_see 22 = .ok (.ireturn, 1) := dk_172 (dk_at dksX6_see_0 22 rfl rfl)
abbrev cX6_good : ByteArray := prog_18_method_16_code
def yX6_good : MethodName := ⟨RX6, "good", "()Z"⟩
def dkwX6_good_0 : List UInt8 := [42, 180, 0, 139, 154, 0, 7, 4, 167, 0, 4, 3, 172]
abbrev dktX6_good_0 : List UInt8 := dkwX6_good_0 ++ []
theorem dksX6_good_0 : cX6_good.data.toList.drop 0 = dktX6_good_0 := by decide +kernel
theorem dX6_good_0 : decode cX6_good 0 = .ok (.aload_n 0, 1) := dk_42 (dk_at dksX6_good_0 0 rfl rfl)
theorem dX6_good_1 : decode cX6_good 1 = .ok (.getfield 139, 3) := dk_180 0 139 (dk_at dksX6_good_0 1 rfl rfl)
theorem dX6_good_4 : decode cX6_good 4 = .ok (.ifCond .ne 7, 3) := dk_154 0 7 (dk_at dksX6_good_0 4 rfl rfl)
theorem dX6_good_7 : decode cX6_good 7 = .ok (.iconst 1, 1) := dk_4 (dk_at dksX6_good_0 7 rfl rfl)
theorem dX6_good_8 : decode cX6_good 8 = .ok (.goto 4, 3) := dk_167 0 4 (dk_at dksX6_good_0 8 rfl rfl)
theorem dX6_good_11 : decode cX6_good 11 = .ok (.iconst 0, 1) := dk_3 (dk_at dksX6_good_0 11 rfl rfl)
theorem dX6_good_12 : decode cX6_good 12 = .ok (.ireturn, 1) := dk_172 (dk_at dksX6_good_0 12 rfl rfl)
abbrev cX6_readLine : ByteArray := prog_18_method_27_code
def yX6_readLine : MethodName := ⟨RX6, "readLine", "()V"⟩
def dkwX6_readLine_17 : List UInt8 := [180, 0, 48, 3, 92, 46, 4, 96, 79, 177]
abbrev dktX6_readLine_17 : List UInt8 := dkwX6_readLine_17 ++ []
def dkwX6_readLine_16 : List UInt8 := [180, 0, 118, 6, 159, 0, 8, 42, 4, 182, 0, 166, 42, 182, 0, 142, 153, 0, 7, 42, 182, 0, 160, 42]
abbrev dktX6_readLine_16 : List UInt8 := dkwX6_readLine_16 ++ dktX6_readLine_17
def dkwX6_readLine_15 : List UInt8 := [182, 0, 156, 153, 0, 7, 4, 167, 0, 4, 5, 61, 42, 182, 0, 160, 42, 28, 182, 0, 231, 42]
abbrev dktX6_readLine_15 : List UInt8 := dkwX6_readLine_15 ++ dktX6_readLine_16
def dkwX6_readLine_14 : List UInt8 := [182, 0, 187, 79, 167, 0, 40, 42, 18, 214, 182, 0, 156, 153, 0, 7, 3, 167, 0, 17, 42, 18, 216]
abbrev dktX6_readLine_14 : List UInt8 := dkwX6_readLine_14 ++ dktX6_readLine_15
def dkwX6_readLine_13 : List UInt8 := [42, 180, 0, 51, 28, 4, 84, 42, 182, 0, 160, 42, 180, 0, 48, 8, 28, 96, 42, 3, 16, 100]
abbrev dktX6_readLine_13 : List UInt8 := dkwX6_readLine_13 ++ dktX6_readLine_14
def dkwX6_readLine_12 : List UInt8 := [167, 0, 17, 42, 180, 0, 51, 28, 51, 153, 0, 8, 42, 5, 182, 0, 166, 42, 182, 0, 142, 153, 0, 29]
abbrev dktX6_readLine_12 : List UInt8 := dkwX6_readLine_12 ++ dktX6_readLine_13
def dkwX6_readLine_11 : List UInt8 := [18, 222, 182, 0, 163, 153, 0, 71, 42, 182, 0, 190, 61, 28, 2, 160, 0, 11, 42, 4, 182, 0, 166]
abbrev dktX6_readLine_11 : List UInt8 := dkwX6_readLine_11 ++ dktX6_readLine_12
def dkwX6_readLine_10 : List UInt8 := [42, 4, 181, 0, 224, 42, 180, 0, 48, 7, 42, 3, 17, 19, 136, 182, 0, 187, 79, 167, 0, 117, 42]
abbrev dktX6_readLine_10 : List UInt8 := dkwX6_readLine_10 ++ dktX6_readLine_11
def dkwX6_readLine_9 : List UInt8 := [18, 212, 182, 0, 163, 153, 0, 10, 42, 182, 0, 228, 167, 0, 148, 42, 18, 220, 182, 0, 163, 153, 0, 25]
abbrev dktX6_readLine_9 : List UInt8 := dkwX6_readLine_9 ++ dktX6_readLine_10
def dkwX6_readLine_8 : List UInt8 := [42, 180, 0, 48, 4, 46, 96, 28, 79, 42, 180, 0, 48, 4, 92, 46, 4, 96, 79, 167, 0, 164, 42]
abbrev dktX6_readLine_8 : List UInt8 := dkwX6_readLine_8 ++ dktX6_readLine_9
def dkwX6_readLine_7 : List UInt8 := [182, 0, 195, 42, 3, 16, 9, 182, 0, 187, 61, 42, 182, 0, 142, 153, 0, 28, 42, 180, 0, 48, 16, 10]
abbrev dktX6_readLine_7 : List UInt8 := dkwX6_readLine_7 ++ dktX6_readLine_8
def dkwX6_readLine_6 : List UInt8 := [6, 182, 0, 166, 42, 182, 0, 142, 154, 0, 4, 177, 42, 18, 210, 182, 0, 163, 153, 0, 52, 42, 18, 181]
abbrev dktX6_readLine_6 : List UInt8 := dkwX6_readLine_6 ++ dktX6_readLine_7
def dkwX6_readLine_5 : List UInt8 := [159, 0, 23, 42, 18, 212, 182, 0, 156, 153, 0, 19, 42, 180, 0, 48, 5, 46, 16, 12, 160, 0, 8, 42]
abbrev dktX6_readLine_5 : List UInt8 := dkwX6_readLine_5 ++ dktX6_readLine_6
def dkwX6_readLine_4 : List UInt8 := [42, 5, 182, 0, 166, 42, 18, 210, 182, 0, 156, 153, 0, 14, 42, 180, 0, 48, 4, 46, 16, 24]
abbrev dktX6_readLine_4 : List UInt8 := dkwX6_readLine_4 ++ dktX6_readLine_5
def dkwX6_readLine_3 : List UInt8 := [154, 0, 8, 42, 4, 182, 0, 166, 42, 18, 220, 182, 0, 156, 153, 0, 15, 42, 180, 0, 224, 153, 0, 8]
abbrev dktX6_readLine_3 : List UInt8 := dkwX6_readLine_3 ++ dktX6_readLine_4
def dkwX6_readLine_2 : List UInt8 := [182, 0, 156, 154, 0, 12, 42, 18, 222, 182, 0, 156, 153, 0, 7, 4, 167, 0, 4, 3, 60, 27]
abbrev dktX6_readLine_2 : List UInt8 := dkwX6_readLine_2 ++ dktX6_readLine_3
def dkwX6_readLine_1 : List UInt8 := [154, 0, 39, 42, 18, 216, 182, 0, 156, 154, 0, 30, 42, 18, 218, 182, 0, 156, 154, 0, 21, 42, 18, 220]
abbrev dktX6_readLine_1 : List UInt8 := dkwX6_readLine_1 ++ dktX6_readLine_2
def dkwX6_readLine_0 : List UInt8 := [42, 18, 210, 182, 0, 156, 154, 0, 57, 42, 18, 212, 182, 0, 156, 154, 0, 48, 42, 18, 214, 182, 0, 156]
abbrev dktX6_readLine_0 : List UInt8 := dkwX6_readLine_0 ++ dktX6_readLine_1
theorem dksX6_readLine_0 : cX6_readLine.data.toList.drop 0 = dktX6_readLine_0 := by decide +kernel
theorem dksX6_readLine_1 : cX6_readLine.data.toList.drop 24 = dktX6_readLine_1 := dk_seg dksX6_readLine_0 24 rfl rfl
theorem dksX6_readLine_2 : cX6_readLine.data.toList.drop 48 = dktX6_readLine_2 := dk_seg dksX6_readLine_1 24 rfl rfl
theorem dksX6_readLine_3 : cX6_readLine.data.toList.drop 70 = dktX6_readLine_3 := dk_seg dksX6_readLine_2 22 rfl rfl
theorem dksX6_readLine_4 : cX6_readLine.data.toList.drop 94 = dktX6_readLine_4 := dk_seg dksX6_readLine_3 24 rfl rfl
theorem dksX6_readLine_5 : cX6_readLine.data.toList.drop 116 = dktX6_readLine_5 := dk_seg dksX6_readLine_4 22 rfl rfl
theorem dksX6_readLine_6 : cX6_readLine.data.toList.drop 140 = dktX6_readLine_6 := dk_seg dksX6_readLine_5 24 rfl rfl
theorem dksX6_readLine_7 : cX6_readLine.data.toList.drop 164 = dktX6_readLine_7 := dk_seg dksX6_readLine_6 24 rfl rfl
theorem dksX6_readLine_8 : cX6_readLine.data.toList.drop 188 = dktX6_readLine_8 := dk_seg dksX6_readLine_7 24 rfl rfl
theorem dksX6_readLine_9 : cX6_readLine.data.toList.drop 211 = dktX6_readLine_9 := dk_seg dksX6_readLine_8 23 rfl rfl
theorem dksX6_readLine_10 : cX6_readLine.data.toList.drop 235 = dktX6_readLine_10 := dk_seg dksX6_readLine_9 24 rfl rfl
theorem dksX6_readLine_11 : cX6_readLine.data.toList.drop 258 = dktX6_readLine_11 := dk_seg dksX6_readLine_10 23 rfl rfl
theorem dksX6_readLine_12 : cX6_readLine.data.toList.drop 281 = dktX6_readLine_12 := dk_seg dksX6_readLine_11 23 rfl rfl
theorem dksX6_readLine_13 : cX6_readLine.data.toList.drop 305 = dktX6_readLine_13 := dk_seg dksX6_readLine_12 24 rfl rfl
theorem dksX6_readLine_14 : cX6_readLine.data.toList.drop 327 = dktX6_readLine_14 := dk_seg dksX6_readLine_13 22 rfl rfl
theorem dksX6_readLine_15 : cX6_readLine.data.toList.drop 350 = dktX6_readLine_15 := dk_seg dksX6_readLine_14 23 rfl rfl
theorem dksX6_readLine_16 : cX6_readLine.data.toList.drop 372 = dktX6_readLine_16 := dk_seg dksX6_readLine_15 22 rfl rfl
theorem dksX6_readLine_17 : cX6_readLine.data.toList.drop 396 = dktX6_readLine_17 := dk_seg dksX6_readLine_16 24 rfl rfl
theorem dX6_readLine_0 : decode cX6_readLine 0 = .ok (.aload_n 0, 1) := dk_42 (dk_at dksX6_readLine_0 0 rfl rfl)
theorem dX6_readLine_1 : decode cX6_readLine 1 = .ok (.ldc 210, 2) := dk_18 210 (dk_at dksX6_readLine_0 1 rfl rfl)
theorem dX6_readLine_3 : decode cX6_readLine 3 = .ok (.invokevirtual 156, 3) := dk_182 0 156 (dk_at dksX6_readLine_0 3 rfl rfl)
theorem dX6_readLine_6 : decode cX6_readLine 6 = .ok (.ifCond .ne 57, 3) := dk_154 0 57 (dk_at dksX6_readLine_0 6 rfl rfl)
theorem dX6_readLine_9 : decode cX6_readLine 9 = .ok (.aload_n 0, 1) := dk_42 (dk_at dksX6_readLine_0 9 rfl rfl)
theorem dX6_readLine_10 : decode cX6_readLine 10 = .ok (.ldc 212, 2) := dk_18 212 (dk_at dksX6_readLine_0 10 rfl rfl)
theorem dX6_readLine_12 : decode cX6_readLine 12 = .ok (.invokevirtual 156, 3) := dk_182 0 156 (dk_at dksX6_readLine_0 12 rfl rfl)
theorem dX6_readLine_15 : decode cX6_readLine 15 = .ok (.ifCond .ne 48, 3) := dk_154 0 48 (dk_at dksX6_readLine_0 15 rfl rfl)
theorem dX6_readLine_18 : decode cX6_readLine 18 = .ok (.aload_n 0, 1) := dk_42 (dk_at dksX6_readLine_0 18 rfl rfl)
theorem dX6_readLine_19 : decode cX6_readLine 19 = .ok (.ldc 214, 2) := dk_18 214 (dk_at dksX6_readLine_0 19 rfl rfl)
theorem dX6_readLine_21 : decode cX6_readLine 21 = .ok (.invokevirtual 156, 3) := dk_182 0 156 (dk_at dksX6_readLine_0 21 rfl rfl)
theorem dX6_readLine_24 : decode cX6_readLine 24 = .ok (.ifCond .ne 39, 3) := dk_154 0 39 (dk_at dksX6_readLine_1 0 rfl rfl)
theorem dX6_readLine_27 : decode cX6_readLine 27 = .ok (.aload_n 0, 1) := dk_42 (dk_at dksX6_readLine_1 3 rfl rfl)
theorem dX6_readLine_28 : decode cX6_readLine 28 = .ok (.ldc 216, 2) := dk_18 216 (dk_at dksX6_readLine_1 4 rfl rfl)
theorem dX6_readLine_30 : decode cX6_readLine 30 = .ok (.invokevirtual 156, 3) := dk_182 0 156 (dk_at dksX6_readLine_1 6 rfl rfl)
theorem dX6_readLine_33 : decode cX6_readLine 33 = .ok (.ifCond .ne 30, 3) := dk_154 0 30 (dk_at dksX6_readLine_1 9 rfl rfl)
theorem dX6_readLine_36 : decode cX6_readLine 36 = .ok (.aload_n 0, 1) := dk_42 (dk_at dksX6_readLine_1 12 rfl rfl)
theorem dX6_readLine_37 : decode cX6_readLine 37 = .ok (.ldc 218, 2) := dk_18 218 (dk_at dksX6_readLine_1 13 rfl rfl)
theorem dX6_readLine_39 : decode cX6_readLine 39 = .ok (.invokevirtual 156, 3) := dk_182 0 156 (dk_at dksX6_readLine_1 15 rfl rfl)
theorem dX6_readLine_42 : decode cX6_readLine 42 = .ok (.ifCond .ne 21, 3) := dk_154 0 21 (dk_at dksX6_readLine_1 18 rfl rfl)
theorem dX6_readLine_45 : decode cX6_readLine 45 = .ok (.aload_n 0, 1) := dk_42 (dk_at dksX6_readLine_1 21 rfl rfl)
theorem dX6_readLine_46 : decode cX6_readLine 46 = .ok (.ldc 220, 2) := dk_18 220 (dk_at dksX6_readLine_1 22 rfl rfl)
theorem dX6_readLine_48 : decode cX6_readLine 48 = .ok (.invokevirtual 156, 3) := dk_182 0 156 (dk_at dksX6_readLine_2 0 rfl rfl)
theorem dX6_readLine_51 : decode cX6_readLine 51 = .ok (.ifCond .ne 12, 3) := dk_154 0 12 (dk_at dksX6_readLine_2 3 rfl rfl)
theorem dX6_readLine_54 : decode cX6_readLine 54 = .ok (.aload_n 0, 1) := dk_42 (dk_at dksX6_readLine_2 6 rfl rfl)
theorem dX6_readLine_55 : decode cX6_readLine 55 = .ok (.ldc 222, 2) := dk_18 222 (dk_at dksX6_readLine_2 7 rfl rfl)
theorem dX6_readLine_57 : decode cX6_readLine 57 = .ok (.invokevirtual 156, 3) := dk_182 0 156 (dk_at dksX6_readLine_2 9 rfl rfl)
theorem dX6_readLine_60 : decode cX6_readLine 60 = .ok (.ifCond .eq 7, 3) := dk_153 0 7 (dk_at dksX6_readLine_2 12 rfl rfl)
theorem dX6_readLine_63 : decode cX6_readLine 63 = .ok (.iconst 1, 1) := dk_4 (dk_at dksX6_readLine_2 15 rfl rfl)
theorem dX6_readLine_64 : decode cX6_readLine 64 = .ok (.goto 4, 3) := dk_167 0 4 (dk_at dksX6_readLine_2 16 rfl rfl)
theorem dX6_readLine_67 : decode cX6_readLine 67 = .ok (.iconst 0, 1) := dk_3 (dk_at dksX6_readLine_2 19 rfl rfl)
theorem dX6_readLine_68 : decode cX6_readLine 68 = .ok (.istore_n 1, 1) := dk_60 (dk_at dksX6_readLine_2 20 rfl rfl)
theorem dX6_readLine_69 : decode cX6_readLine 69 = .ok (.iload_n 1, 1) := dk_27 (dk_at dksX6_readLine_2 21 rfl rfl)
theorem dX6_readLine_70 : decode cX6_readLine 70 = .ok (.ifCond .ne 8, 3) := dk_154 0 8 (dk_at dksX6_readLine_3 0 rfl rfl)
theorem dX6_readLine_73 : decode cX6_readLine 73 = .ok (.aload_n 0, 1) := dk_42 (dk_at dksX6_readLine_3 3 rfl rfl)
theorem dX6_readLine_74 : decode cX6_readLine 74 = .ok (.iconst 1, 1) := dk_4 (dk_at dksX6_readLine_3 4 rfl rfl)
theorem dX6_readLine_75 : decode cX6_readLine 75 = .ok (.invokevirtual 166, 3) := dk_182 0 166 (dk_at dksX6_readLine_3 5 rfl rfl)
theorem dX6_readLine_78 : decode cX6_readLine 78 = .ok (.aload_n 0, 1) := dk_42 (dk_at dksX6_readLine_3 8 rfl rfl)
theorem dX6_readLine_79 : decode cX6_readLine 79 = .ok (.ldc 220, 2) := dk_18 220 (dk_at dksX6_readLine_3 9 rfl rfl)
theorem dX6_readLine_81 : decode cX6_readLine 81 = .ok (.invokevirtual 156, 3) := dk_182 0 156 (dk_at dksX6_readLine_3 11 rfl rfl)
theorem dX6_readLine_84 : decode cX6_readLine 84 = .ok (.ifCond .eq 15, 3) := dk_153 0 15 (dk_at dksX6_readLine_3 14 rfl rfl)
theorem dX6_readLine_87 : decode cX6_readLine 87 = .ok (.aload_n 0, 1) := dk_42 (dk_at dksX6_readLine_3 17 rfl rfl)
theorem dX6_readLine_88 : decode cX6_readLine 88 = .ok (.getfield 224, 3) := dk_180 0 224 (dk_at dksX6_readLine_3 18 rfl rfl)
theorem dX6_readLine_91 : decode cX6_readLine 91 = .ok (.ifCond .eq 8, 3) := dk_153 0 8 (dk_at dksX6_readLine_3 21 rfl rfl)
theorem dX6_readLine_94 : decode cX6_readLine 94 = .ok (.aload_n 0, 1) := dk_42 (dk_at dksX6_readLine_4 0 rfl rfl)
theorem dX6_readLine_95 : decode cX6_readLine 95 = .ok (.iconst 2, 1) := dk_5 (dk_at dksX6_readLine_4 1 rfl rfl)
theorem dX6_readLine_96 : decode cX6_readLine 96 = .ok (.invokevirtual 166, 3) := dk_182 0 166 (dk_at dksX6_readLine_4 2 rfl rfl)
theorem dX6_readLine_99 : decode cX6_readLine 99 = .ok (.aload_n 0, 1) := dk_42 (dk_at dksX6_readLine_4 5 rfl rfl)
theorem dX6_readLine_100 : decode cX6_readLine 100 = .ok (.ldc 210, 2) := dk_18 210 (dk_at dksX6_readLine_4 6 rfl rfl)
theorem dX6_readLine_102 : decode cX6_readLine 102 = .ok (.invokevirtual 156, 3) := dk_182 0 156 (dk_at dksX6_readLine_4 8 rfl rfl)
theorem dX6_readLine_105 : decode cX6_readLine 105 = .ok (.ifCond .eq 14, 3) := dk_153 0 14 (dk_at dksX6_readLine_4 11 rfl rfl)
theorem dX6_readLine_108 : decode cX6_readLine 108 = .ok (.aload_n 0, 1) := dk_42 (dk_at dksX6_readLine_4 14 rfl rfl)
theorem dX6_readLine_109 : decode cX6_readLine 109 = .ok (.getfield 48, 3) := dk_180 0 48 (dk_at dksX6_readLine_4 15 rfl rfl)
theorem dX6_readLine_112 : decode cX6_readLine 112 = .ok (.iconst 1, 1) := dk_4 (dk_at dksX6_readLine_4 18 rfl rfl)
theorem dX6_readLine_113 : decode cX6_readLine 113 = .ok (.iaload, 1) := dk_46 (dk_at dksX6_readLine_4 19 rfl rfl)
theorem dX6_readLine_114 : decode cX6_readLine 114 = .ok (.bipush 24, 2) := dk_16 24 (dk_at dksX6_readLine_4 20 rfl rfl)
theorem dX6_readLine_116 : decode cX6_readLine 116 = .ok (.if_icmp .eq 23, 3) := dk_159 0 23 (dk_at dksX6_readLine_5 0 rfl rfl)
theorem dX6_readLine_119 : decode cX6_readLine 119 = .ok (.aload_n 0, 1) := dk_42 (dk_at dksX6_readLine_5 3 rfl rfl)
theorem dX6_readLine_120 : decode cX6_readLine 120 = .ok (.ldc 212, 2) := dk_18 212 (dk_at dksX6_readLine_5 4 rfl rfl)
theorem dX6_readLine_122 : decode cX6_readLine 122 = .ok (.invokevirtual 156, 3) := dk_182 0 156 (dk_at dksX6_readLine_5 6 rfl rfl)
theorem dX6_readLine_125 : decode cX6_readLine 125 = .ok (.ifCond .eq 19, 3) := dk_153 0 19 (dk_at dksX6_readLine_5 9 rfl rfl)
theorem dX6_readLine_128 : decode cX6_readLine 128 = .ok (.aload_n 0, 1) := dk_42 (dk_at dksX6_readLine_5 12 rfl rfl)
theorem dX6_readLine_129 : decode cX6_readLine 129 = .ok (.getfield 48, 3) := dk_180 0 48 (dk_at dksX6_readLine_5 13 rfl rfl)
theorem dX6_readLine_132 : decode cX6_readLine 132 = .ok (.iconst 2, 1) := dk_5 (dk_at dksX6_readLine_5 16 rfl rfl)
theorem dX6_readLine_133 : decode cX6_readLine 133 = .ok (.iaload, 1) := dk_46 (dk_at dksX6_readLine_5 17 rfl rfl)
theorem dX6_readLine_134 : decode cX6_readLine 134 = .ok (.bipush 12, 2) := dk_16 12 (dk_at dksX6_readLine_5 18 rfl rfl)
theorem dX6_readLine_136 : decode cX6_readLine 136 = .ok (.if_icmp .ne 8, 3) := dk_160 0 8 (dk_at dksX6_readLine_5 20 rfl rfl)
theorem dX6_readLine_139 : decode cX6_readLine 139 = .ok (.aload_n 0, 1) := dk_42 (dk_at dksX6_readLine_5 23 rfl rfl)
theorem dX6_readLine_140 : decode cX6_readLine 140 = .ok (.iconst 3, 1) := dk_6 (dk_at dksX6_readLine_6 0 rfl rfl)
theorem dX6_readLine_141 : decode cX6_readLine 141 = .ok (.invokevirtual 166, 3) := dk_182 0 166 (dk_at dksX6_readLine_6 1 rfl rfl)
theorem dX6_readLine_144 : decode cX6_readLine 144 = .ok (.aload_n 0, 1) := dk_42 (dk_at dksX6_readLine_6 4 rfl rfl)
theorem dX6_readLine_145 : decode cX6_readLine 145 = .ok (.invokevirtual 142, 3) := dk_182 0 142 (dk_at dksX6_readLine_6 5 rfl rfl)
theorem dX6_readLine_148 : decode cX6_readLine 148 = .ok (.ifCond .ne 4, 3) := dk_154 0 4 (dk_at dksX6_readLine_6 8 rfl rfl)
theorem dX6_readLine_151 : decode cX6_readLine 151 = .ok (.return_, 1) := dk_177 (dk_at dksX6_readLine_6 11 rfl rfl)
theorem dX6_readLine_152 : decode cX6_readLine 152 = .ok (.aload_n 0, 1) := dk_42 (dk_at dksX6_readLine_6 12 rfl rfl)
theorem dX6_readLine_153 : decode cX6_readLine 153 = .ok (.ldc 210, 2) := dk_18 210 (dk_at dksX6_readLine_6 13 rfl rfl)
theorem dX6_readLine_155 : decode cX6_readLine 155 = .ok (.invokevirtual 163, 3) := dk_182 0 163 (dk_at dksX6_readLine_6 15 rfl rfl)
theorem dX6_readLine_158 : decode cX6_readLine 158 = .ok (.ifCond .eq 52, 3) := dk_153 0 52 (dk_at dksX6_readLine_6 18 rfl rfl)
theorem dX6_readLine_161 : decode cX6_readLine 161 = .ok (.aload_n 0, 1) := dk_42 (dk_at dksX6_readLine_6 21 rfl rfl)
theorem dX6_readLine_162 : decode cX6_readLine 162 = .ok (.ldc 181, 2) := dk_18 181 (dk_at dksX6_readLine_6 22 rfl rfl)
theorem dX6_readLine_164 : decode cX6_readLine 164 = .ok (.invokevirtual 195, 3) := dk_182 0 195 (dk_at dksX6_readLine_7 0 rfl rfl)
theorem dX6_readLine_167 : decode cX6_readLine 167 = .ok (.aload_n 0, 1) := dk_42 (dk_at dksX6_readLine_7 3 rfl rfl)
theorem dX6_readLine_168 : decode cX6_readLine 168 = .ok (.iconst 0, 1) := dk_3 (dk_at dksX6_readLine_7 4 rfl rfl)
theorem dX6_readLine_169 : decode cX6_readLine 169 = .ok (.bipush 9, 2) := dk_16 9 (dk_at dksX6_readLine_7 5 rfl rfl)
theorem dX6_readLine_171 : decode cX6_readLine 171 = .ok (.invokevirtual 187, 3) := dk_182 0 187 (dk_at dksX6_readLine_7 7 rfl rfl)
theorem dX6_readLine_174 : decode cX6_readLine 174 = .ok (.istore_n 2, 1) := dk_61 (dk_at dksX6_readLine_7 10 rfl rfl)
theorem dX6_readLine_175 : decode cX6_readLine 175 = .ok (.aload_n 0, 1) := dk_42 (dk_at dksX6_readLine_7 11 rfl rfl)
theorem dX6_readLine_176 : decode cX6_readLine 176 = .ok (.invokevirtual 142, 3) := dk_182 0 142 (dk_at dksX6_readLine_7 12 rfl rfl)
theorem dX6_readLine_179 : decode cX6_readLine 179 = .ok (.ifCond .eq 28, 3) := dk_153 0 28 (dk_at dksX6_readLine_7 15 rfl rfl)
theorem dX6_readLine_182 : decode cX6_readLine 182 = .ok (.aload_n 0, 1) := dk_42 (dk_at dksX6_readLine_7 18 rfl rfl)
theorem dX6_readLine_183 : decode cX6_readLine 183 = .ok (.getfield 48, 3) := dk_180 0 48 (dk_at dksX6_readLine_7 19 rfl rfl)
theorem dX6_readLine_186 : decode cX6_readLine 186 = .ok (.bipush 10, 2) := dk_16 10 (dk_at dksX6_readLine_7 22 rfl rfl)
theorem dX6_readLine_188 : decode cX6_readLine 188 = .ok (.aload_n 0, 1) := dk_42 (dk_at dksX6_readLine_8 0 rfl rfl)
theorem dX6_readLine_189 : decode cX6_readLine 189 = .ok (.getfield 48, 3) := dk_180 0 48 (dk_at dksX6_readLine_8 1 rfl rfl)
theorem dX6_readLine_192 : decode cX6_readLine 192 = .ok (.iconst 1, 1) := dk_4 (dk_at dksX6_readLine_8 4 rfl rfl)
theorem dX6_readLine_193 : decode cX6_readLine 193 = .ok (.iaload, 1) := dk_46 (dk_at dksX6_readLine_8 5 rfl rfl)
theorem dX6_readLine_194 : decode cX6_readLine 194 = .ok (.iadd, 1) := dk_96 (dk_at dksX6_readLine_8 6 rfl rfl)
theorem dX6_readLine_195 : decode cX6_readLine 195 = .ok (.iload_n 2, 1) := dk_28 (dk_at dksX6_readLine_8 7 rfl rfl)
theorem dX6_readLine_196 : decode cX6_readLine 196 = .ok (.iastore, 1) := dk_79 (dk_at dksX6_readLine_8 8 rfl rfl)
theorem dX6_readLine_197 : decode cX6_readLine 197 = .ok (.aload_n 0, 1) := dk_42 (dk_at dksX6_readLine_8 9 rfl rfl)
theorem dX6_readLine_198 : decode cX6_readLine 198 = .ok (.getfield 48, 3) := dk_180 0 48 (dk_at dksX6_readLine_8 10 rfl rfl)
theorem dX6_readLine_201 : decode cX6_readLine 201 = .ok (.iconst 1, 1) := dk_4 (dk_at dksX6_readLine_8 13 rfl rfl)
theorem dX6_readLine_202 : decode cX6_readLine 202 = .ok (.dup2, 1) := dk_92 (dk_at dksX6_readLine_8 14 rfl rfl)
theorem dX6_readLine_203 : decode cX6_readLine 203 = .ok (.iaload, 1) := dk_46 (dk_at dksX6_readLine_8 15 rfl rfl)
theorem dX6_readLine_204 : decode cX6_readLine 204 = .ok (.iconst 1, 1) := dk_4 (dk_at dksX6_readLine_8 16 rfl rfl)
theorem dX6_readLine_205 : decode cX6_readLine 205 = .ok (.iadd, 1) := dk_96 (dk_at dksX6_readLine_8 17 rfl rfl)
theorem dX6_readLine_206 : decode cX6_readLine 206 = .ok (.iastore, 1) := dk_79 (dk_at dksX6_readLine_8 18 rfl rfl)
theorem dX6_readLine_207 : decode cX6_readLine 207 = .ok (.goto 164, 3) := dk_167 0 164 (dk_at dksX6_readLine_8 19 rfl rfl)
theorem dX6_readLine_210 : decode cX6_readLine 210 = .ok (.aload_n 0, 1) := dk_42 (dk_at dksX6_readLine_8 22 rfl rfl)
theorem dX6_readLine_211 : decode cX6_readLine 211 = .ok (.ldc 212, 2) := dk_18 212 (dk_at dksX6_readLine_9 0 rfl rfl)
theorem dX6_readLine_213 : decode cX6_readLine 213 = .ok (.invokevirtual 163, 3) := dk_182 0 163 (dk_at dksX6_readLine_9 2 rfl rfl)
theorem dX6_readLine_216 : decode cX6_readLine 216 = .ok (.ifCond .eq 10, 3) := dk_153 0 10 (dk_at dksX6_readLine_9 5 rfl rfl)
theorem dX6_readLine_219 : decode cX6_readLine 219 = .ok (.aload_n 0, 1) := dk_42 (dk_at dksX6_readLine_9 8 rfl rfl)
theorem dX6_readLine_220 : decode cX6_readLine 220 = .ok (.invokevirtual 228, 3) := dk_182 0 228 (dk_at dksX6_readLine_9 9 rfl rfl)
theorem dX6_readLine_223 : decode cX6_readLine 223 = .ok (.goto 148, 3) := dk_167 0 148 (dk_at dksX6_readLine_9 12 rfl rfl)
theorem dX6_readLine_226 : decode cX6_readLine 226 = .ok (.aload_n 0, 1) := dk_42 (dk_at dksX6_readLine_9 15 rfl rfl)
theorem dX6_readLine_227 : decode cX6_readLine 227 = .ok (.ldc 220, 2) := dk_18 220 (dk_at dksX6_readLine_9 16 rfl rfl)
theorem dX6_readLine_229 : decode cX6_readLine 229 = .ok (.invokevirtual 163, 3) := dk_182 0 163 (dk_at dksX6_readLine_9 18 rfl rfl)
theorem dX6_readLine_232 : decode cX6_readLine 232 = .ok (.ifCond .eq 25, 3) := dk_153 0 25 (dk_at dksX6_readLine_9 21 rfl rfl)
theorem dX6_readLine_235 : decode cX6_readLine 235 = .ok (.aload_n 0, 1) := dk_42 (dk_at dksX6_readLine_10 0 rfl rfl)
theorem dX6_readLine_236 : decode cX6_readLine 236 = .ok (.iconst 1, 1) := dk_4 (dk_at dksX6_readLine_10 1 rfl rfl)
theorem dX6_readLine_237 : decode cX6_readLine 237 = .ok (.putfield 224, 3) := dk_181 0 224 (dk_at dksX6_readLine_10 2 rfl rfl)
theorem dX6_readLine_240 : decode cX6_readLine 240 = .ok (.aload_n 0, 1) := dk_42 (dk_at dksX6_readLine_10 5 rfl rfl)
theorem dX6_readLine_241 : decode cX6_readLine 241 = .ok (.getfield 48, 3) := dk_180 0 48 (dk_at dksX6_readLine_10 6 rfl rfl)
theorem dX6_readLine_244 : decode cX6_readLine 244 = .ok (.iconst 4, 1) := dk_7 (dk_at dksX6_readLine_10 9 rfl rfl)
theorem dX6_readLine_245 : decode cX6_readLine 245 = .ok (.aload_n 0, 1) := dk_42 (dk_at dksX6_readLine_10 10 rfl rfl)
theorem dX6_readLine_246 : decode cX6_readLine 246 = .ok (.iconst 0, 1) := dk_3 (dk_at dksX6_readLine_10 11 rfl rfl)
theorem dX6_readLine_247 : decode cX6_readLine 247 = .ok (.sipush 5000, 3) := dk_17 19 136 (dk_at dksX6_readLine_10 12 rfl rfl)
theorem dX6_readLine_250 : decode cX6_readLine 250 = .ok (.invokevirtual 187, 3) := dk_182 0 187 (dk_at dksX6_readLine_10 15 rfl rfl)
theorem dX6_readLine_253 : decode cX6_readLine 253 = .ok (.iastore, 1) := dk_79 (dk_at dksX6_readLine_10 18 rfl rfl)
theorem dX6_readLine_254 : decode cX6_readLine 254 = .ok (.goto 117, 3) := dk_167 0 117 (dk_at dksX6_readLine_10 19 rfl rfl)
theorem dX6_readLine_257 : decode cX6_readLine 257 = .ok (.aload_n 0, 1) := dk_42 (dk_at dksX6_readLine_10 22 rfl rfl)
theorem dX6_readLine_258 : decode cX6_readLine 258 = .ok (.ldc 222, 2) := dk_18 222 (dk_at dksX6_readLine_11 0 rfl rfl)
theorem dX6_readLine_260 : decode cX6_readLine 260 = .ok (.invokevirtual 163, 3) := dk_182 0 163 (dk_at dksX6_readLine_11 2 rfl rfl)
theorem dX6_readLine_263 : decode cX6_readLine 263 = .ok (.ifCond .eq 71, 3) := dk_153 0 71 (dk_at dksX6_readLine_11 5 rfl rfl)
theorem dX6_readLine_266 : decode cX6_readLine 266 = .ok (.aload_n 0, 1) := dk_42 (dk_at dksX6_readLine_11 8 rfl rfl)
theorem dX6_readLine_267 : decode cX6_readLine 267 = .ok (.invokevirtual 190, 3) := dk_182 0 190 (dk_at dksX6_readLine_11 9 rfl rfl)
theorem dX6_readLine_270 : decode cX6_readLine 270 = .ok (.istore_n 2, 1) := dk_61 (dk_at dksX6_readLine_11 12 rfl rfl)
theorem dX6_readLine_271 : decode cX6_readLine 271 = .ok (.iload_n 2, 1) := dk_28 (dk_at dksX6_readLine_11 13 rfl rfl)
theorem dX6_readLine_272 : decode cX6_readLine 272 = .ok (.iconst (-1), 1) := dk_2 (dk_at dksX6_readLine_11 14 rfl rfl)
theorem dX6_readLine_273 : decode cX6_readLine 273 = .ok (.if_icmp .ne 11, 3) := dk_160 0 11 (dk_at dksX6_readLine_11 15 rfl rfl)
theorem dX6_readLine_276 : decode cX6_readLine 276 = .ok (.aload_n 0, 1) := dk_42 (dk_at dksX6_readLine_11 18 rfl rfl)
theorem dX6_readLine_277 : decode cX6_readLine 277 = .ok (.iconst 1, 1) := dk_4 (dk_at dksX6_readLine_11 19 rfl rfl)
theorem dX6_readLine_278 : decode cX6_readLine 278 = .ok (.invokevirtual 166, 3) := dk_182 0 166 (dk_at dksX6_readLine_11 20 rfl rfl)
theorem dX6_readLine_281 : decode cX6_readLine 281 = .ok (.goto 17, 3) := dk_167 0 17 (dk_at dksX6_readLine_12 0 rfl rfl)
theorem dX6_readLine_284 : decode cX6_readLine 284 = .ok (.aload_n 0, 1) := dk_42 (dk_at dksX6_readLine_12 3 rfl rfl)
theorem dX6_readLine_285 : decode cX6_readLine 285 = .ok (.getfield 51, 3) := dk_180 0 51 (dk_at dksX6_readLine_12 4 rfl rfl)
theorem dX6_readLine_288 : decode cX6_readLine 288 = .ok (.iload_n 2, 1) := dk_28 (dk_at dksX6_readLine_12 7 rfl rfl)
theorem dX6_readLine_289 : decode cX6_readLine 289 = .ok (.baload, 1) := dk_51 (dk_at dksX6_readLine_12 8 rfl rfl)
theorem dX6_readLine_290 : decode cX6_readLine 290 = .ok (.ifCond .eq 8, 3) := dk_153 0 8 (dk_at dksX6_readLine_12 9 rfl rfl)
theorem dX6_readLine_293 : decode cX6_readLine 293 = .ok (.aload_n 0, 1) := dk_42 (dk_at dksX6_readLine_12 12 rfl rfl)
theorem dX6_readLine_294 : decode cX6_readLine 294 = .ok (.iconst 2, 1) := dk_5 (dk_at dksX6_readLine_12 13 rfl rfl)
theorem dX6_readLine_295 : decode cX6_readLine 295 = .ok (.invokevirtual 166, 3) := dk_182 0 166 (dk_at dksX6_readLine_12 14 rfl rfl)
theorem dX6_readLine_298 : decode cX6_readLine 298 = .ok (.aload_n 0, 1) := dk_42 (dk_at dksX6_readLine_12 17 rfl rfl)
theorem dX6_readLine_299 : decode cX6_readLine 299 = .ok (.invokevirtual 142, 3) := dk_182 0 142 (dk_at dksX6_readLine_12 18 rfl rfl)
theorem dX6_readLine_302 : decode cX6_readLine 302 = .ok (.ifCond .eq 29, 3) := dk_153 0 29 (dk_at dksX6_readLine_12 21 rfl rfl)
theorem dX6_readLine_305 : decode cX6_readLine 305 = .ok (.aload_n 0, 1) := dk_42 (dk_at dksX6_readLine_13 0 rfl rfl)
theorem dX6_readLine_306 : decode cX6_readLine 306 = .ok (.getfield 51, 3) := dk_180 0 51 (dk_at dksX6_readLine_13 1 rfl rfl)
theorem dX6_readLine_309 : decode cX6_readLine 309 = .ok (.iload_n 2, 1) := dk_28 (dk_at dksX6_readLine_13 4 rfl rfl)
theorem dX6_readLine_310 : decode cX6_readLine 310 = .ok (.iconst 1, 1) := dk_4 (dk_at dksX6_readLine_13 5 rfl rfl)
theorem dX6_readLine_311 : decode cX6_readLine 311 = .ok (.bastore, 1) := dk_84 (dk_at dksX6_readLine_13 6 rfl rfl)
theorem dX6_readLine_312 : decode cX6_readLine 312 = .ok (.aload_n 0, 1) := dk_42 (dk_at dksX6_readLine_13 7 rfl rfl)
theorem dX6_readLine_313 : decode cX6_readLine 313 = .ok (.invokevirtual 160, 3) := dk_182 0 160 (dk_at dksX6_readLine_13 8 rfl rfl)
theorem dX6_readLine_316 : decode cX6_readLine 316 = .ok (.aload_n 0, 1) := dk_42 (dk_at dksX6_readLine_13 11 rfl rfl)
theorem dX6_readLine_317 : decode cX6_readLine 317 = .ok (.getfield 48, 3) := dk_180 0 48 (dk_at dksX6_readLine_13 12 rfl rfl)
theorem dX6_readLine_320 : decode cX6_readLine 320 = .ok (.iconst 5, 1) := dk_8 (dk_at dksX6_readLine_13 15 rfl rfl)
theorem dX6_readLine_321 : decode cX6_readLine 321 = .ok (.iload_n 2, 1) := dk_28 (dk_at dksX6_readLine_13 16 rfl rfl)
theorem dX6_readLine_322 : decode cX6_readLine 322 = .ok (.iadd, 1) := dk_96 (dk_at dksX6_readLine_13 17 rfl rfl)
theorem dX6_readLine_323 : decode cX6_readLine 323 = .ok (.aload_n 0, 1) := dk_42 (dk_at dksX6_readLine_13 18 rfl rfl)
theorem dX6_readLine_324 : decode cX6_readLine 324 = .ok (.iconst 0, 1) := dk_3 (dk_at dksX6_readLine_13 19 rfl rfl)
theorem dX6_readLine_325 : decode cX6_readLine 325 = .ok (.bipush 100, 2) := dk_16 100 (dk_at dksX6_readLine_13 20 rfl rfl)
theorem dX6_readLine_327 : decode cX6_readLine 327 = .ok (.invokevirtual 187, 3) := dk_182 0 187 (dk_at dksX6_readLine_14 0 rfl rfl)
theorem dX6_readLine_330 : decode cX6_readLine 330 = .ok (.iastore, 1) := dk_79 (dk_at dksX6_readLine_14 3 rfl rfl)
theorem dX6_readLine_331 : decode cX6_readLine 331 = .ok (.goto 40, 3) := dk_167 0 40 (dk_at dksX6_readLine_14 4 rfl rfl)
theorem dX6_readLine_334 : decode cX6_readLine 334 = .ok (.aload_n 0, 1) := dk_42 (dk_at dksX6_readLine_14 7 rfl rfl)
theorem dX6_readLine_335 : decode cX6_readLine 335 = .ok (.ldc 214, 2) := dk_18 214 (dk_at dksX6_readLine_14 8 rfl rfl)
theorem dX6_readLine_337 : decode cX6_readLine 337 = .ok (.invokevirtual 156, 3) := dk_182 0 156 (dk_at dksX6_readLine_14 10 rfl rfl)
theorem dX6_readLine_340 : decode cX6_readLine 340 = .ok (.ifCond .eq 7, 3) := dk_153 0 7 (dk_at dksX6_readLine_14 13 rfl rfl)
theorem dX6_readLine_343 : decode cX6_readLine 343 = .ok (.iconst 0, 1) := dk_3 (dk_at dksX6_readLine_14 16 rfl rfl)
theorem dX6_readLine_344 : decode cX6_readLine 344 = .ok (.goto 17, 3) := dk_167 0 17 (dk_at dksX6_readLine_14 17 rfl rfl)
theorem dX6_readLine_347 : decode cX6_readLine 347 = .ok (.aload_n 0, 1) := dk_42 (dk_at dksX6_readLine_14 20 rfl rfl)
theorem dX6_readLine_348 : decode cX6_readLine 348 = .ok (.ldc 216, 2) := dk_18 216 (dk_at dksX6_readLine_14 21 rfl rfl)
theorem dX6_readLine_350 : decode cX6_readLine 350 = .ok (.invokevirtual 156, 3) := dk_182 0 156 (dk_at dksX6_readLine_15 0 rfl rfl)
theorem dX6_readLine_353 : decode cX6_readLine 353 = .ok (.ifCond .eq 7, 3) := dk_153 0 7 (dk_at dksX6_readLine_15 3 rfl rfl)
theorem dX6_readLine_356 : decode cX6_readLine 356 = .ok (.iconst 1, 1) := dk_4 (dk_at dksX6_readLine_15 6 rfl rfl)
theorem dX6_readLine_357 : decode cX6_readLine 357 = .ok (.goto 4, 3) := dk_167 0 4 (dk_at dksX6_readLine_15 7 rfl rfl)
theorem dX6_readLine_360 : decode cX6_readLine 360 = .ok (.iconst 2, 1) := dk_5 (dk_at dksX6_readLine_15 10 rfl rfl)
theorem dX6_readLine_361 : decode cX6_readLine 361 = .ok (.istore_n 2, 1) := dk_61 (dk_at dksX6_readLine_15 11 rfl rfl)
theorem dX6_readLine_362 : decode cX6_readLine 362 = .ok (.aload_n 0, 1) := dk_42 (dk_at dksX6_readLine_15 12 rfl rfl)
theorem dX6_readLine_363 : decode cX6_readLine 363 = .ok (.invokevirtual 160, 3) := dk_182 0 160 (dk_at dksX6_readLine_15 13 rfl rfl)
theorem dX6_readLine_366 : decode cX6_readLine 366 = .ok (.aload_n 0, 1) := dk_42 (dk_at dksX6_readLine_15 16 rfl rfl)
theorem dX6_readLine_367 : decode cX6_readLine 367 = .ok (.iload_n 2, 1) := dk_28 (dk_at dksX6_readLine_15 17 rfl rfl)
theorem dX6_readLine_368 : decode cX6_readLine 368 = .ok (.invokevirtual 231, 3) := dk_182 0 231 (dk_at dksX6_readLine_15 18 rfl rfl)
theorem dX6_readLine_371 : decode cX6_readLine 371 = .ok (.aload_n 0, 1) := dk_42 (dk_at dksX6_readLine_15 21 rfl rfl)
theorem dX6_readLine_372 : decode cX6_readLine 372 = .ok (.getfield 118, 3) := dk_180 0 118 (dk_at dksX6_readLine_16 0 rfl rfl)
theorem dX6_readLine_375 : decode cX6_readLine 375 = .ok (.iconst 3, 1) := dk_6 (dk_at dksX6_readLine_16 3 rfl rfl)
theorem dX6_readLine_376 : decode cX6_readLine 376 = .ok (.if_icmp .eq 8, 3) := dk_159 0 8 (dk_at dksX6_readLine_16 4 rfl rfl)
theorem dX6_readLine_379 : decode cX6_readLine 379 = .ok (.aload_n 0, 1) := dk_42 (dk_at dksX6_readLine_16 7 rfl rfl)
theorem dX6_readLine_380 : decode cX6_readLine 380 = .ok (.iconst 1, 1) := dk_4 (dk_at dksX6_readLine_16 8 rfl rfl)
theorem dX6_readLine_381 : decode cX6_readLine 381 = .ok (.invokevirtual 166, 3) := dk_182 0 166 (dk_at dksX6_readLine_16 9 rfl rfl)
theorem dX6_readLine_384 : decode cX6_readLine 384 = .ok (.aload_n 0, 1) := dk_42 (dk_at dksX6_readLine_16 12 rfl rfl)
theorem dX6_readLine_385 : decode cX6_readLine 385 = .ok (.invokevirtual 142, 3) := dk_182 0 142 (dk_at dksX6_readLine_16 13 rfl rfl)
theorem dX6_readLine_388 : decode cX6_readLine 388 = .ok (.ifCond .eq 7, 3) := dk_153 0 7 (dk_at dksX6_readLine_16 16 rfl rfl)
theorem dX6_readLine_391 : decode cX6_readLine 391 = .ok (.aload_n 0, 1) := dk_42 (dk_at dksX6_readLine_16 19 rfl rfl)
theorem dX6_readLine_392 : decode cX6_readLine 392 = .ok (.invokevirtual 160, 3) := dk_182 0 160 (dk_at dksX6_readLine_16 20 rfl rfl)
theorem dX6_readLine_395 : decode cX6_readLine 395 = .ok (.aload_n 0, 1) := dk_42 (dk_at dksX6_readLine_16 23 rfl rfl)
theorem dX6_readLine_396 : decode cX6_readLine 396 = .ok (.getfield 48, 3) := dk_180 0 48 (dk_at dksX6_readLine_17 0 rfl rfl)
theorem dX6_readLine_399 : decode cX6_readLine 399 = .ok (.iconst 0, 1) := dk_3 (dk_at dksX6_readLine_17 3 rfl rfl)
theorem dX6_readLine_400 : decode cX6_readLine 400 = .ok (.dup2, 1) := dk_92 (dk_at dksX6_readLine_17 4 rfl rfl)
theorem dX6_readLine_401 : decode cX6_readLine 401 = .ok (.iaload, 1) := dk_46 (dk_at dksX6_readLine_17 5 rfl rfl)
theorem dX6_readLine_402 : decode cX6_readLine 402 = .ok (.iconst 1, 1) := dk_4 (dk_at dksX6_readLine_17 6 rfl rfl)
theorem dX6_readLine_403 : decode cX6_readLine 403 = .ok (.iadd, 1) := dk_96 (dk_at dksX6_readLine_17 7 rfl rfl)
theorem dX6_readLine_404 : decode cX6_readLine 404 = .ok (.iastore, 1) := dk_79 (dk_at dksX6_readLine_17 8 rfl rfl)
theorem dX6_readLine_405 : decode cX6_readLine 405 = .ok (.return_, 1) := dk_177 (dk_at dksX6_readLine_17 9 rfl rfl)
abbrev cX6_is : ByteArray := prog_18_method_18_code
def yX6_is : MethodName := ⟨RX6, "is", "(Ljava/lang/String;)Z"⟩
def dkwX6_is_3 : List UInt8 := [167, 0, 4, 3, 61, 132, 3, 1, 167, 255, 216, 28, 172]
abbrev dktX6_is_3 : List UInt8 := dkwX6_is_3 ++ []
def dkwX6_is_2 : List UInt8 := [153, 0, 34, 42, 180, 0, 38, 42, 180, 0, 115, 29, 96, 51, 43, 29, 182, 0, 152, 160, 0, 7, 4]
abbrev dktX6_is_2 : List UInt8 := dkwX6_is_2 ++ dktX6_is_3
def dkwX6_is_1 : List UInt8 := [43, 182, 0, 146, 160, 0, 7, 4, 167, 0, 4, 3, 61, 3, 62, 29, 43, 182, 0, 146, 162, 0, 38, 28]
abbrev dktX6_is_1 : List UInt8 := dkwX6_is_1 ++ dktX6_is_2
def dkwX6_is_0 : List UInt8 := [42, 182, 0, 142, 153, 0, 31, 42, 180, 0, 118, 4, 160, 0, 23, 42, 180, 0, 108, 42, 180, 0, 115, 100]
abbrev dktX6_is_0 : List UInt8 := dkwX6_is_0 ++ dktX6_is_1
theorem dksX6_is_0 : cX6_is.data.toList.drop 0 = dktX6_is_0 := by decide +kernel
theorem dksX6_is_1 : cX6_is.data.toList.drop 24 = dktX6_is_1 := dk_seg dksX6_is_0 24 rfl rfl
theorem dksX6_is_2 : cX6_is.data.toList.drop 48 = dktX6_is_2 := dk_seg dksX6_is_1 24 rfl rfl
theorem dksX6_is_3 : cX6_is.data.toList.drop 71 = dktX6_is_3 := dk_seg dksX6_is_2 23 rfl rfl
theorem dX6_is_0 : decode cX6_is 0 = .ok (.aload_n 0, 1) := dk_42 (dk_at dksX6_is_0 0 rfl rfl)
theorem dX6_is_1 : decode cX6_is 1 = .ok (.invokevirtual 142, 3) := dk_182 0 142 (dk_at dksX6_is_0 1 rfl rfl)
theorem dX6_is_4 : decode cX6_is 4 = .ok (.ifCond .eq 31, 3) := dk_153 0 31 (dk_at dksX6_is_0 4 rfl rfl)
theorem dX6_is_7 : decode cX6_is 7 = .ok (.aload_n 0, 1) := dk_42 (dk_at dksX6_is_0 7 rfl rfl)
theorem dX6_is_8 : decode cX6_is 8 = .ok (.getfield 118, 3) := dk_180 0 118 (dk_at dksX6_is_0 8 rfl rfl)
theorem dX6_is_11 : decode cX6_is 11 = .ok (.iconst 1, 1) := dk_4 (dk_at dksX6_is_0 11 rfl rfl)
theorem dX6_is_12 : decode cX6_is 12 = .ok (.if_icmp .ne 23, 3) := dk_160 0 23 (dk_at dksX6_is_0 12 rfl rfl)
theorem dX6_is_15 : decode cX6_is 15 = .ok (.aload_n 0, 1) := dk_42 (dk_at dksX6_is_0 15 rfl rfl)
theorem dX6_is_16 : decode cX6_is 16 = .ok (.getfield 108, 3) := dk_180 0 108 (dk_at dksX6_is_0 16 rfl rfl)
theorem dX6_is_19 : decode cX6_is 19 = .ok (.aload_n 0, 1) := dk_42 (dk_at dksX6_is_0 19 rfl rfl)
theorem dX6_is_20 : decode cX6_is 20 = .ok (.getfield 115, 3) := dk_180 0 115 (dk_at dksX6_is_0 20 rfl rfl)
theorem dX6_is_23 : decode cX6_is 23 = .ok (.isub, 1) := dk_100 (dk_at dksX6_is_0 23 rfl rfl)
theorem dX6_is_24 : decode cX6_is 24 = .ok (.aload_n 1, 1) := dk_43 (dk_at dksX6_is_1 0 rfl rfl)
theorem dX6_is_25 : decode cX6_is 25 = .ok (.invokevirtual 146, 3) := dk_182 0 146 (dk_at dksX6_is_1 1 rfl rfl)
theorem dX6_is_28 : decode cX6_is 28 = .ok (.if_icmp .ne 7, 3) := dk_160 0 7 (dk_at dksX6_is_1 4 rfl rfl)
theorem dX6_is_31 : decode cX6_is 31 = .ok (.iconst 1, 1) := dk_4 (dk_at dksX6_is_1 7 rfl rfl)
theorem dX6_is_32 : decode cX6_is 32 = .ok (.goto 4, 3) := dk_167 0 4 (dk_at dksX6_is_1 8 rfl rfl)
theorem dX6_is_35 : decode cX6_is 35 = .ok (.iconst 0, 1) := dk_3 (dk_at dksX6_is_1 11 rfl rfl)
theorem dX6_is_36 : decode cX6_is 36 = .ok (.istore_n 2, 1) := dk_61 (dk_at dksX6_is_1 12 rfl rfl)
theorem dX6_is_37 : decode cX6_is 37 = .ok (.iconst 0, 1) := dk_3 (dk_at dksX6_is_1 13 rfl rfl)
theorem dX6_is_38 : decode cX6_is 38 = .ok (.istore_n 3, 1) := dk_62 (dk_at dksX6_is_1 14 rfl rfl)
theorem dX6_is_39 : decode cX6_is 39 = .ok (.iload_n 3, 1) := dk_29 (dk_at dksX6_is_1 15 rfl rfl)
theorem dX6_is_40 : decode cX6_is 40 = .ok (.aload_n 1, 1) := dk_43 (dk_at dksX6_is_1 16 rfl rfl)
theorem dX6_is_41 : decode cX6_is 41 = .ok (.invokevirtual 146, 3) := dk_182 0 146 (dk_at dksX6_is_1 17 rfl rfl)
theorem dX6_is_44 : decode cX6_is 44 = .ok (.if_icmp .ge 38, 3) := dk_162 0 38 (dk_at dksX6_is_1 20 rfl rfl)
theorem dX6_is_47 : decode cX6_is 47 = .ok (.iload_n 2, 1) := dk_28 (dk_at dksX6_is_1 23 rfl rfl)
theorem dX6_is_48 : decode cX6_is 48 = .ok (.ifCond .eq 34, 3) := dk_153 0 34 (dk_at dksX6_is_2 0 rfl rfl)
theorem dX6_is_51 : decode cX6_is 51 = .ok (.aload_n 0, 1) := dk_42 (dk_at dksX6_is_2 3 rfl rfl)
theorem dX6_is_52 : decode cX6_is 52 = .ok (.getfield 38, 3) := dk_180 0 38 (dk_at dksX6_is_2 4 rfl rfl)
theorem dX6_is_55 : decode cX6_is 55 = .ok (.aload_n 0, 1) := dk_42 (dk_at dksX6_is_2 7 rfl rfl)
theorem dX6_is_56 : decode cX6_is 56 = .ok (.getfield 115, 3) := dk_180 0 115 (dk_at dksX6_is_2 8 rfl rfl)
theorem dX6_is_59 : decode cX6_is 59 = .ok (.iload_n 3, 1) := dk_29 (dk_at dksX6_is_2 11 rfl rfl)
theorem dX6_is_60 : decode cX6_is 60 = .ok (.iadd, 1) := dk_96 (dk_at dksX6_is_2 12 rfl rfl)
theorem dX6_is_61 : decode cX6_is 61 = .ok (.baload, 1) := dk_51 (dk_at dksX6_is_2 13 rfl rfl)
theorem dX6_is_62 : decode cX6_is 62 = .ok (.aload_n 1, 1) := dk_43 (dk_at dksX6_is_2 14 rfl rfl)
theorem dX6_is_63 : decode cX6_is 63 = .ok (.iload_n 3, 1) := dk_29 (dk_at dksX6_is_2 15 rfl rfl)
theorem dX6_is_64 : decode cX6_is 64 = .ok (.invokevirtual 152, 3) := dk_182 0 152 (dk_at dksX6_is_2 16 rfl rfl)
theorem dX6_is_67 : decode cX6_is 67 = .ok (.if_icmp .ne 7, 3) := dk_160 0 7 (dk_at dksX6_is_2 19 rfl rfl)
theorem dX6_is_70 : decode cX6_is 70 = .ok (.iconst 1, 1) := dk_4 (dk_at dksX6_is_2 22 rfl rfl)
theorem dX6_is_71 : decode cX6_is 71 = .ok (.goto 4, 3) := dk_167 0 4 (dk_at dksX6_is_3 0 rfl rfl)
theorem dX6_is_74 : decode cX6_is 74 = .ok (.iconst 0, 1) := dk_3 (dk_at dksX6_is_3 3 rfl rfl)
theorem dX6_is_75 : decode cX6_is 75 = .ok (.istore_n 2, 1) := dk_61 (dk_at dksX6_is_3 4 rfl rfl)
theorem dX6_is_76 : decode cX6_is 76 = .ok (.iinc 3 1, 3) := dk_132 3 1 (dk_at dksX6_is_3 5 rfl rfl)
theorem dX6_is_79 : decode cX6_is 79 = .ok (.goto (-40), 3) := dk_167 255 216 (dk_at dksX6_is_3 8 rfl rfl)
theorem dX6_is_82 : decode cX6_is 82 = .ok (.iload_n 2, 1) := dk_28 (dk_at dksX6_is_3 11 rfl rfl)
theorem dX6_is_83 : decode cX6_is 83 = .ok (.ireturn, 1) := dk_172 (dk_at dksX6_is_3 12 rfl rfl)
abbrev cX6_errs : ByteArray := prog_18_method_17_code
def yX6_errs : MethodName := ⟨RX6, "errs", "(I)V"⟩
def dkwX6_errs_0 : List UInt8 := [42, 182, 0, 142, 154, 0, 4, 177, 42, 27, 181, 0, 139, 42, 42, 180, 0, 115, 181, 0, 45, 177]
abbrev dktX6_errs_0 : List UInt8 := dkwX6_errs_0 ++ []
theorem dksX6_errs_0 : cX6_errs.data.toList.drop 0 = dktX6_errs_0 := by decide +kernel
theorem dX6_errs_0 : decode cX6_errs 0 = .ok (.aload_n 0, 1) := dk_42 (dk_at dksX6_errs_0 0 rfl rfl)
theorem dX6_errs_1 : decode cX6_errs 1 = .ok (.invokevirtual 142, 3) := dk_182 0 142 (dk_at dksX6_errs_0 1 rfl rfl)
theorem dX6_errs_4 : decode cX6_errs 4 = .ok (.ifCond .ne 4, 3) := dk_154 0 4 (dk_at dksX6_errs_0 4 rfl rfl)
theorem dX6_errs_7 : decode cX6_errs 7 = .ok (.return_, 1) := dk_177 (dk_at dksX6_errs_0 7 rfl rfl)
theorem dX6_errs_8 : decode cX6_errs 8 = .ok (.aload_n 0, 1) := dk_42 (dk_at dksX6_errs_0 8 rfl rfl)
theorem dX6_errs_9 : decode cX6_errs 9 = .ok (.iload_n 1, 1) := dk_27 (dk_at dksX6_errs_0 9 rfl rfl)
theorem dX6_errs_10 : decode cX6_errs 10 = .ok (.putfield 139, 3) := dk_181 0 139 (dk_at dksX6_errs_0 10 rfl rfl)
theorem dX6_errs_13 : decode cX6_errs 13 = .ok (.aload_n 0, 1) := dk_42 (dk_at dksX6_errs_0 13 rfl rfl)
theorem dX6_errs_14 : decode cX6_errs 14 = .ok (.aload_n 0, 1) := dk_42 (dk_at dksX6_errs_0 14 rfl rfl)
theorem dX6_errs_15 : decode cX6_errs 15 = .ok (.getfield 115, 3) := dk_180 0 115 (dk_at dksX6_errs_0 15 rfl rfl)
theorem dX6_errs_18 : decode cX6_errs 18 = .ok (.putfield 45, 3) := dk_181 0 45 (dk_at dksX6_errs_0 18 rfl rfl)
theorem dX6_errs_21 : decode cX6_errs 21 = .ok (.return_, 1) := dk_177 (dk_at dksX6_errs_0 21 rfl rfl)
abbrev cX6_takes : ByteArray := prog_18_method_19_code
def yX6_takes : MethodName := ⟨RX6, "takes", "(Ljava/lang/String;)Z"⟩
def dkwX6_takes_0 : List UInt8 := [42, 43, 182, 0, 156, 61, 28, 153, 0, 7, 42, 182, 0, 160, 28, 172]
abbrev dktX6_takes_0 : List UInt8 := dkwX6_takes_0 ++ []
theorem dksX6_takes_0 : cX6_takes.data.toList.drop 0 = dktX6_takes_0 := by decide +kernel
theorem dX6_takes_0 : decode cX6_takes 0 = .ok (.aload_n 0, 1) := dk_42 (dk_at dksX6_takes_0 0 rfl rfl)
theorem dX6_takes_1 : decode cX6_takes 1 = .ok (.aload_n 1, 1) := dk_43 (dk_at dksX6_takes_0 1 rfl rfl)
theorem dX6_takes_2 : decode cX6_takes 2 = .ok (.invokevirtual 156, 3) := dk_182 0 156 (dk_at dksX6_takes_0 2 rfl rfl)
theorem dX6_takes_5 : decode cX6_takes 5 = .ok (.istore_n 2, 1) := dk_61 (dk_at dksX6_takes_0 5 rfl rfl)
theorem dX6_takes_6 : decode cX6_takes 6 = .ok (.iload_n 2, 1) := dk_28 (dk_at dksX6_takes_0 6 rfl rfl)
theorem dX6_takes_7 : decode cX6_takes 7 = .ok (.ifCond .eq 7, 3) := dk_153 0 7 (dk_at dksX6_takes_0 7 rfl rfl)
theorem dX6_takes_10 : decode cX6_takes 10 = .ok (.aload_n 0, 1) := dk_42 (dk_at dksX6_takes_0 10 rfl rfl)
theorem dX6_takes_11 : decode cX6_takes 11 = .ok (.invokevirtual 160, 3) := dk_182 0 160 (dk_at dksX6_takes_0 11 rfl rfl)
theorem dX6_takes_14 : decode cX6_takes 14 = .ok (.iload_n 2, 1) := dk_28 (dk_at dksX6_takes_0 14 rfl rfl)
theorem dX6_takes_15 : decode cX6_takes 15 = .ok (.ireturn, 1) := dk_172 (dk_at dksX6_takes_0 15 rfl rfl)
abbrev cX6_needsWord : ByteArray := prog_18_method_20_code
def yX6_needsWord : MethodName := ⟨RX6, "needsWord", "(Ljava/lang/String;)V"⟩
def dkwX6_needsWord_0 : List UInt8 := [42, 43, 182, 0, 163, 154, 0, 8, 42, 4, 182, 0, 166, 177]
abbrev dktX6_needsWord_0 : List UInt8 := dkwX6_needsWord_0 ++ []
theorem dksX6_needsWord_0 : cX6_needsWord.data.toList.drop 0 = dktX6_needsWord_0 := by decide +kernel
theorem dX6_needsWord_0 : decode cX6_needsWord 0 = .ok (.aload_n 0, 1) := dk_42 (dk_at dksX6_needsWord_0 0 rfl rfl)
theorem dX6_needsWord_1 : decode cX6_needsWord 1 = .ok (.aload_n 1, 1) := dk_43 (dk_at dksX6_needsWord_0 1 rfl rfl)
theorem dX6_needsWord_2 : decode cX6_needsWord 2 = .ok (.invokevirtual 163, 3) := dk_182 0 163 (dk_at dksX6_needsWord_0 2 rfl rfl)
theorem dX6_needsWord_5 : decode cX6_needsWord 5 = .ok (.ifCond .ne 8, 3) := dk_154 0 8 (dk_at dksX6_needsWord_0 5 rfl rfl)
theorem dX6_needsWord_8 : decode cX6_needsWord 8 = .ok (.aload_n 0, 1) := dk_42 (dk_at dksX6_needsWord_0 8 rfl rfl)
theorem dX6_needsWord_9 : decode cX6_needsWord 9 = .ok (.iconst 1, 1) := dk_4 (dk_at dksX6_needsWord_0 9 rfl rfl)
theorem dX6_needsWord_10 : decode cX6_needsWord 10 = .ok (.invokevirtual 166, 3) := dk_182 0 166 (dk_at dksX6_needsWord_0 10 rfl rfl)
theorem dX6_needsWord_13 : decode cX6_needsWord 13 = .ok (.return_, 1) := dk_177 (dk_at dksX6_needsWord_0 13 rfl rfl)
abbrev cX6_number : ByteArray := prog_18_method_21_code
def yX6_number : MethodName := ⟨RX6, "number", "(II)I"⟩
def dkwX6_number_2 : List UInt8 := [182, 0, 142, 154, 0, 5, 3, 172, 42, 180, 0, 129, 62, 42, 182, 0, 160, 29, 172]
abbrev dktX6_number_2 : List UInt8 := dkwX6_number_2 ++ []
def dkwX6_number_1 : List UInt8 := [153, 0, 23, 42, 180, 0, 129, 133, 27, 133, 28, 133, 184, 0, 88, 154, 0, 8, 42, 5, 182, 0, 166, 42]
abbrev dktX6_number_1 : List UInt8 := dkwX6_number_1 ++ dktX6_number_2
def dkwX6_number_0 : List UInt8 := [42, 182, 0, 142, 153, 0, 16, 42, 180, 0, 118, 5, 159, 0, 8, 42, 4, 182, 0, 166, 42, 182, 0, 142]
abbrev dktX6_number_0 : List UInt8 := dkwX6_number_0 ++ dktX6_number_1
theorem dksX6_number_0 : cX6_number.data.toList.drop 0 = dktX6_number_0 := by decide +kernel
theorem dksX6_number_1 : cX6_number.data.toList.drop 24 = dktX6_number_1 := dk_seg dksX6_number_0 24 rfl rfl
theorem dksX6_number_2 : cX6_number.data.toList.drop 48 = dktX6_number_2 := dk_seg dksX6_number_1 24 rfl rfl
theorem dX6_number_0 : decode cX6_number 0 = .ok (.aload_n 0, 1) := dk_42 (dk_at dksX6_number_0 0 rfl rfl)
theorem dX6_number_1 : decode cX6_number 1 = .ok (.invokevirtual 142, 3) := dk_182 0 142 (dk_at dksX6_number_0 1 rfl rfl)
theorem dX6_number_4 : decode cX6_number 4 = .ok (.ifCond .eq 16, 3) := dk_153 0 16 (dk_at dksX6_number_0 4 rfl rfl)
theorem dX6_number_7 : decode cX6_number 7 = .ok (.aload_n 0, 1) := dk_42 (dk_at dksX6_number_0 7 rfl rfl)
theorem dX6_number_8 : decode cX6_number 8 = .ok (.getfield 118, 3) := dk_180 0 118 (dk_at dksX6_number_0 8 rfl rfl)
theorem dX6_number_11 : decode cX6_number 11 = .ok (.iconst 2, 1) := dk_5 (dk_at dksX6_number_0 11 rfl rfl)
theorem dX6_number_12 : decode cX6_number 12 = .ok (.if_icmp .eq 8, 3) := dk_159 0 8 (dk_at dksX6_number_0 12 rfl rfl)
theorem dX6_number_15 : decode cX6_number 15 = .ok (.aload_n 0, 1) := dk_42 (dk_at dksX6_number_0 15 rfl rfl)
theorem dX6_number_16 : decode cX6_number 16 = .ok (.iconst 1, 1) := dk_4 (dk_at dksX6_number_0 16 rfl rfl)
theorem dX6_number_17 : decode cX6_number 17 = .ok (.invokevirtual 166, 3) := dk_182 0 166 (dk_at dksX6_number_0 17 rfl rfl)
theorem dX6_number_20 : decode cX6_number 20 = .ok (.aload_n 0, 1) := dk_42 (dk_at dksX6_number_0 20 rfl rfl)
theorem dX6_number_21 : decode cX6_number 21 = .ok (.invokevirtual 142, 3) := dk_182 0 142 (dk_at dksX6_number_0 21 rfl rfl)
theorem dX6_number_24 : decode cX6_number 24 = .ok (.ifCond .eq 23, 3) := dk_153 0 23 (dk_at dksX6_number_1 0 rfl rfl)
theorem dX6_number_27 : decode cX6_number 27 = .ok (.aload_n 0, 1) := dk_42 (dk_at dksX6_number_1 3 rfl rfl)
theorem dX6_number_28 : decode cX6_number 28 = .ok (.getfield 129, 3) := dk_180 0 129 (dk_at dksX6_number_1 4 rfl rfl)
theorem dX6_number_31 : decode cX6_number 31 = .ok (.i2l, 1) := dk_133 (dk_at dksX6_number_1 7 rfl rfl)
theorem dX6_number_32 : decode cX6_number 32 = .ok (.iload_n 1, 1) := dk_27 (dk_at dksX6_number_1 8 rfl rfl)
theorem dX6_number_33 : decode cX6_number 33 = .ok (.i2l, 1) := dk_133 (dk_at dksX6_number_1 9 rfl rfl)
theorem dX6_number_34 : decode cX6_number 34 = .ok (.iload_n 2, 1) := dk_28 (dk_at dksX6_number_1 10 rfl rfl)
theorem dX6_number_35 : decode cX6_number 35 = .ok (.i2l, 1) := dk_133 (dk_at dksX6_number_1 11 rfl rfl)
theorem dX6_number_36 : decode cX6_number 36 = .ok (.invokestatic 88, 3) := dk_184 0 88 (dk_at dksX6_number_1 12 rfl rfl)
theorem dX6_number_39 : decode cX6_number 39 = .ok (.ifCond .ne 8, 3) := dk_154 0 8 (dk_at dksX6_number_1 15 rfl rfl)
theorem dX6_number_42 : decode cX6_number 42 = .ok (.aload_n 0, 1) := dk_42 (dk_at dksX6_number_1 18 rfl rfl)
theorem dX6_number_43 : decode cX6_number 43 = .ok (.iconst 2, 1) := dk_5 (dk_at dksX6_number_1 19 rfl rfl)
theorem dX6_number_44 : decode cX6_number 44 = .ok (.invokevirtual 166, 3) := dk_182 0 166 (dk_at dksX6_number_1 20 rfl rfl)
theorem dX6_number_47 : decode cX6_number 47 = .ok (.aload_n 0, 1) := dk_42 (dk_at dksX6_number_1 23 rfl rfl)
theorem dX6_number_48 : decode cX6_number 48 = .ok (.invokevirtual 142, 3) := dk_182 0 142 (dk_at dksX6_number_2 0 rfl rfl)
theorem dX6_number_51 : decode cX6_number 51 = .ok (.ifCond .ne 5, 3) := dk_154 0 5 (dk_at dksX6_number_2 3 rfl rfl)
theorem dX6_number_54 : decode cX6_number 54 = .ok (.iconst 0, 1) := dk_3 (dk_at dksX6_number_2 6 rfl rfl)
theorem dX6_number_55 : decode cX6_number 55 = .ok (.ireturn, 1) := dk_172 (dk_at dksX6_number_2 7 rfl rfl)
theorem dX6_number_56 : decode cX6_number 56 = .ok (.aload_n 0, 1) := dk_42 (dk_at dksX6_number_2 8 rfl rfl)
theorem dX6_number_57 : decode cX6_number 57 = .ok (.getfield 129, 3) := dk_180 0 129 (dk_at dksX6_number_2 9 rfl rfl)
theorem dX6_number_60 : decode cX6_number 60 = .ok (.istore_n 3, 1) := dk_62 (dk_at dksX6_number_2 12 rfl rfl)
theorem dX6_number_61 : decode cX6_number 61 = .ok (.aload_n 0, 1) := dk_42 (dk_at dksX6_number_2 13 rfl rfl)
theorem dX6_number_62 : decode cX6_number 62 = .ok (.invokevirtual 160, 3) := dk_182 0 160 (dk_at dksX6_number_2 14 rfl rfl)
theorem dX6_number_65 : decode cX6_number 65 = .ok (.iload_n 3, 1) := dk_29 (dk_at dksX6_number_2 17 rfl rfl)
theorem dX6_number_66 : decode cX6_number 66 = .ok (.ireturn, 1) := dk_172 (dk_at dksX6_number_2 18 rfl rfl)
abbrev cX6_readRow : ByteArray := prog_18_method_24_code
def yX6_readRow : MethodName := ⟨RX6, "readRow", "()V"⟩
def dkwX6_readRow_7 : List UInt8 := [180, 0, 48, 5, 92, 46, 4, 96, 79, 177]
abbrev dktX6_readRow_7 : List UInt8 := dkwX6_readRow_7 ++ []
def dkwX6_readRow_6 : List UInt8 := [182, 0, 160, 28, 5, 161, 255, 127, 42, 180, 0, 118, 5, 159, 255, 119, 42, 180, 0, 48, 27, 28, 79, 42]
abbrev dktX6_readRow_6 : List UInt8 := dkwX6_readRow_6 ++ dktX6_readRow_7
def dkwX6_readRow_5 : List UInt8 := [154, 0, 4, 177, 42, 180, 0, 48, 27, 4, 96, 28, 96, 42, 180, 0, 129, 79, 132, 2, 1, 42]
abbrev dktX6_readRow_5 : List UInt8 := dkwX6_readRow_5 ++ dktX6_readRow_6
def dkwX6_readRow_4 : List UInt8 := [182, 0, 166, 132, 3, 1, 167, 255, 219, 28, 16, 12, 160, 0, 8, 42, 6, 182, 0, 166, 42, 182, 0, 142]
abbrev dktX6_readRow_4 : List UInt8 := dkwX6_readRow_4 ++ dktX6_readRow_5
def dkwX6_readRow_3 : List UInt8 := [153, 0, 31, 42, 180, 0, 48, 27, 4, 96, 29, 96, 46, 42, 180, 0, 129, 160, 0, 8, 42, 5]
abbrev dktX6_readRow_3 : List UInt8 := dkwX6_readRow_3 ++ dktX6_readRow_4
def dkwX6_readRow_2 : List UInt8 := [180, 0, 48, 4, 46, 161, 0, 8, 42, 5, 182, 0, 166, 3, 62, 29, 28, 162, 0, 38, 42, 182, 0, 142]
abbrev dktX6_readRow_2 : List UInt8 := dkwX6_readRow_2 ++ dktX6_readRow_3
def dkwX6_readRow_1 : List UInt8 := [180, 0, 118, 5, 159, 0, 8, 42, 4, 182, 0, 166, 42, 182, 0, 142, 153, 0, 21, 42, 180, 0, 129, 42]
abbrev dktX6_readRow_1 : List UInt8 := dkwX6_readRow_1 ++ dktX6_readRow_2
def dkwX6_readRow_0 : List UInt8 := [16, 34, 16, 14, 42, 180, 0, 48, 5, 46, 104, 96, 60, 3, 61, 42, 182, 0, 142, 153, 0, 16, 42]
abbrev dktX6_readRow_0 : List UInt8 := dkwX6_readRow_0 ++ dktX6_readRow_1
theorem dksX6_readRow_0 : cX6_readRow.data.toList.drop 0 = dktX6_readRow_0 := by decide +kernel
theorem dksX6_readRow_1 : cX6_readRow.data.toList.drop 23 = dktX6_readRow_1 := dk_seg dksX6_readRow_0 23 rfl rfl
theorem dksX6_readRow_2 : cX6_readRow.data.toList.drop 47 = dktX6_readRow_2 := dk_seg dksX6_readRow_1 24 rfl rfl
theorem dksX6_readRow_3 : cX6_readRow.data.toList.drop 71 = dktX6_readRow_3 := dk_seg dksX6_readRow_2 24 rfl rfl
theorem dksX6_readRow_4 : cX6_readRow.data.toList.drop 93 = dktX6_readRow_4 := dk_seg dksX6_readRow_3 22 rfl rfl
theorem dksX6_readRow_5 : cX6_readRow.data.toList.drop 117 = dktX6_readRow_5 := dk_seg dksX6_readRow_4 24 rfl rfl
theorem dksX6_readRow_6 : cX6_readRow.data.toList.drop 139 = dktX6_readRow_6 := dk_seg dksX6_readRow_5 22 rfl rfl
theorem dksX6_readRow_7 : cX6_readRow.data.toList.drop 163 = dktX6_readRow_7 := dk_seg dksX6_readRow_6 24 rfl rfl
theorem dX6_readRow_0 : decode cX6_readRow 0 = .ok (.bipush 34, 2) := dk_16 34 (dk_at dksX6_readRow_0 0 rfl rfl)
theorem dX6_readRow_2 : decode cX6_readRow 2 = .ok (.bipush 14, 2) := dk_16 14 (dk_at dksX6_readRow_0 2 rfl rfl)
theorem dX6_readRow_4 : decode cX6_readRow 4 = .ok (.aload_n 0, 1) := dk_42 (dk_at dksX6_readRow_0 4 rfl rfl)
theorem dX6_readRow_5 : decode cX6_readRow 5 = .ok (.getfield 48, 3) := dk_180 0 48 (dk_at dksX6_readRow_0 5 rfl rfl)
theorem dX6_readRow_8 : decode cX6_readRow 8 = .ok (.iconst 2, 1) := dk_5 (dk_at dksX6_readRow_0 8 rfl rfl)
theorem dX6_readRow_9 : decode cX6_readRow 9 = .ok (.iaload, 1) := dk_46 (dk_at dksX6_readRow_0 9 rfl rfl)
theorem dX6_readRow_10 : decode cX6_readRow 10 = .ok (.imul, 1) := dk_104 (dk_at dksX6_readRow_0 10 rfl rfl)
theorem dX6_readRow_11 : decode cX6_readRow 11 = .ok (.iadd, 1) := dk_96 (dk_at dksX6_readRow_0 11 rfl rfl)
theorem dX6_readRow_12 : decode cX6_readRow 12 = .ok (.istore_n 1, 1) := dk_60 (dk_at dksX6_readRow_0 12 rfl rfl)
theorem dX6_readRow_13 : decode cX6_readRow 13 = .ok (.iconst 0, 1) := dk_3 (dk_at dksX6_readRow_0 13 rfl rfl)
theorem dX6_readRow_14 : decode cX6_readRow 14 = .ok (.istore_n 2, 1) := dk_61 (dk_at dksX6_readRow_0 14 rfl rfl)
theorem dX6_readRow_15 : decode cX6_readRow 15 = .ok (.aload_n 0, 1) := dk_42 (dk_at dksX6_readRow_0 15 rfl rfl)
theorem dX6_readRow_16 : decode cX6_readRow 16 = .ok (.invokevirtual 142, 3) := dk_182 0 142 (dk_at dksX6_readRow_0 16 rfl rfl)
theorem dX6_readRow_19 : decode cX6_readRow 19 = .ok (.ifCond .eq 16, 3) := dk_153 0 16 (dk_at dksX6_readRow_0 19 rfl rfl)
theorem dX6_readRow_22 : decode cX6_readRow 22 = .ok (.aload_n 0, 1) := dk_42 (dk_at dksX6_readRow_0 22 rfl rfl)
theorem dX6_readRow_23 : decode cX6_readRow 23 = .ok (.getfield 118, 3) := dk_180 0 118 (dk_at dksX6_readRow_1 0 rfl rfl)
theorem dX6_readRow_26 : decode cX6_readRow 26 = .ok (.iconst 2, 1) := dk_5 (dk_at dksX6_readRow_1 3 rfl rfl)
theorem dX6_readRow_27 : decode cX6_readRow 27 = .ok (.if_icmp .eq 8, 3) := dk_159 0 8 (dk_at dksX6_readRow_1 4 rfl rfl)
theorem dX6_readRow_30 : decode cX6_readRow 30 = .ok (.aload_n 0, 1) := dk_42 (dk_at dksX6_readRow_1 7 rfl rfl)
theorem dX6_readRow_31 : decode cX6_readRow 31 = .ok (.iconst 1, 1) := dk_4 (dk_at dksX6_readRow_1 8 rfl rfl)
theorem dX6_readRow_32 : decode cX6_readRow 32 = .ok (.invokevirtual 166, 3) := dk_182 0 166 (dk_at dksX6_readRow_1 9 rfl rfl)
theorem dX6_readRow_35 : decode cX6_readRow 35 = .ok (.aload_n 0, 1) := dk_42 (dk_at dksX6_readRow_1 12 rfl rfl)
theorem dX6_readRow_36 : decode cX6_readRow 36 = .ok (.invokevirtual 142, 3) := dk_182 0 142 (dk_at dksX6_readRow_1 13 rfl rfl)
theorem dX6_readRow_39 : decode cX6_readRow 39 = .ok (.ifCond .eq 21, 3) := dk_153 0 21 (dk_at dksX6_readRow_1 16 rfl rfl)
theorem dX6_readRow_42 : decode cX6_readRow 42 = .ok (.aload_n 0, 1) := dk_42 (dk_at dksX6_readRow_1 19 rfl rfl)
theorem dX6_readRow_43 : decode cX6_readRow 43 = .ok (.getfield 129, 3) := dk_180 0 129 (dk_at dksX6_readRow_1 20 rfl rfl)
theorem dX6_readRow_46 : decode cX6_readRow 46 = .ok (.aload_n 0, 1) := dk_42 (dk_at dksX6_readRow_1 23 rfl rfl)
theorem dX6_readRow_47 : decode cX6_readRow 47 = .ok (.getfield 48, 3) := dk_180 0 48 (dk_at dksX6_readRow_2 0 rfl rfl)
theorem dX6_readRow_50 : decode cX6_readRow 50 = .ok (.iconst 1, 1) := dk_4 (dk_at dksX6_readRow_2 3 rfl rfl)
theorem dX6_readRow_51 : decode cX6_readRow 51 = .ok (.iaload, 1) := dk_46 (dk_at dksX6_readRow_2 4 rfl rfl)
theorem dX6_readRow_52 : decode cX6_readRow 52 = .ok (.if_icmp .lt 8, 3) := dk_161 0 8 (dk_at dksX6_readRow_2 5 rfl rfl)
theorem dX6_readRow_55 : decode cX6_readRow 55 = .ok (.aload_n 0, 1) := dk_42 (dk_at dksX6_readRow_2 8 rfl rfl)
theorem dX6_readRow_56 : decode cX6_readRow 56 = .ok (.iconst 2, 1) := dk_5 (dk_at dksX6_readRow_2 9 rfl rfl)
theorem dX6_readRow_57 : decode cX6_readRow 57 = .ok (.invokevirtual 166, 3) := dk_182 0 166 (dk_at dksX6_readRow_2 10 rfl rfl)
theorem dX6_readRow_60 : decode cX6_readRow 60 = .ok (.iconst 0, 1) := dk_3 (dk_at dksX6_readRow_2 13 rfl rfl)
theorem dX6_readRow_61 : decode cX6_readRow 61 = .ok (.istore_n 3, 1) := dk_62 (dk_at dksX6_readRow_2 14 rfl rfl)
theorem dX6_readRow_62 : decode cX6_readRow 62 = .ok (.iload_n 3, 1) := dk_29 (dk_at dksX6_readRow_2 15 rfl rfl)
theorem dX6_readRow_63 : decode cX6_readRow 63 = .ok (.iload_n 2, 1) := dk_28 (dk_at dksX6_readRow_2 16 rfl rfl)
theorem dX6_readRow_64 : decode cX6_readRow 64 = .ok (.if_icmp .ge 38, 3) := dk_162 0 38 (dk_at dksX6_readRow_2 17 rfl rfl)
theorem dX6_readRow_67 : decode cX6_readRow 67 = .ok (.aload_n 0, 1) := dk_42 (dk_at dksX6_readRow_2 20 rfl rfl)
theorem dX6_readRow_68 : decode cX6_readRow 68 = .ok (.invokevirtual 142, 3) := dk_182 0 142 (dk_at dksX6_readRow_2 21 rfl rfl)
theorem dX6_readRow_71 : decode cX6_readRow 71 = .ok (.ifCond .eq 31, 3) := dk_153 0 31 (dk_at dksX6_readRow_3 0 rfl rfl)
theorem dX6_readRow_74 : decode cX6_readRow 74 = .ok (.aload_n 0, 1) := dk_42 (dk_at dksX6_readRow_3 3 rfl rfl)
theorem dX6_readRow_75 : decode cX6_readRow 75 = .ok (.getfield 48, 3) := dk_180 0 48 (dk_at dksX6_readRow_3 4 rfl rfl)
theorem dX6_readRow_78 : decode cX6_readRow 78 = .ok (.iload_n 1, 1) := dk_27 (dk_at dksX6_readRow_3 7 rfl rfl)
theorem dX6_readRow_79 : decode cX6_readRow 79 = .ok (.iconst 1, 1) := dk_4 (dk_at dksX6_readRow_3 8 rfl rfl)
theorem dX6_readRow_80 : decode cX6_readRow 80 = .ok (.iadd, 1) := dk_96 (dk_at dksX6_readRow_3 9 rfl rfl)
theorem dX6_readRow_81 : decode cX6_readRow 81 = .ok (.iload_n 3, 1) := dk_29 (dk_at dksX6_readRow_3 10 rfl rfl)
theorem dX6_readRow_82 : decode cX6_readRow 82 = .ok (.iadd, 1) := dk_96 (dk_at dksX6_readRow_3 11 rfl rfl)
theorem dX6_readRow_83 : decode cX6_readRow 83 = .ok (.iaload, 1) := dk_46 (dk_at dksX6_readRow_3 12 rfl rfl)
theorem dX6_readRow_84 : decode cX6_readRow 84 = .ok (.aload_n 0, 1) := dk_42 (dk_at dksX6_readRow_3 13 rfl rfl)
theorem dX6_readRow_85 : decode cX6_readRow 85 = .ok (.getfield 129, 3) := dk_180 0 129 (dk_at dksX6_readRow_3 14 rfl rfl)
theorem dX6_readRow_88 : decode cX6_readRow 88 = .ok (.if_icmp .ne 8, 3) := dk_160 0 8 (dk_at dksX6_readRow_3 17 rfl rfl)
theorem dX6_readRow_91 : decode cX6_readRow 91 = .ok (.aload_n 0, 1) := dk_42 (dk_at dksX6_readRow_3 20 rfl rfl)
theorem dX6_readRow_92 : decode cX6_readRow 92 = .ok (.iconst 2, 1) := dk_5 (dk_at dksX6_readRow_3 21 rfl rfl)
theorem dX6_readRow_93 : decode cX6_readRow 93 = .ok (.invokevirtual 166, 3) := dk_182 0 166 (dk_at dksX6_readRow_4 0 rfl rfl)
theorem dX6_readRow_96 : decode cX6_readRow 96 = .ok (.iinc 3 1, 3) := dk_132 3 1 (dk_at dksX6_readRow_4 3 rfl rfl)
theorem dX6_readRow_99 : decode cX6_readRow 99 = .ok (.goto (-37), 3) := dk_167 255 219 (dk_at dksX6_readRow_4 6 rfl rfl)
theorem dX6_readRow_102 : decode cX6_readRow 102 = .ok (.iload_n 2, 1) := dk_28 (dk_at dksX6_readRow_4 9 rfl rfl)
theorem dX6_readRow_103 : decode cX6_readRow 103 = .ok (.bipush 12, 2) := dk_16 12 (dk_at dksX6_readRow_4 10 rfl rfl)
theorem dX6_readRow_105 : decode cX6_readRow 105 = .ok (.if_icmp .ne 8, 3) := dk_160 0 8 (dk_at dksX6_readRow_4 12 rfl rfl)
theorem dX6_readRow_108 : decode cX6_readRow 108 = .ok (.aload_n 0, 1) := dk_42 (dk_at dksX6_readRow_4 15 rfl rfl)
theorem dX6_readRow_109 : decode cX6_readRow 109 = .ok (.iconst 3, 1) := dk_6 (dk_at dksX6_readRow_4 16 rfl rfl)
theorem dX6_readRow_110 : decode cX6_readRow 110 = .ok (.invokevirtual 166, 3) := dk_182 0 166 (dk_at dksX6_readRow_4 17 rfl rfl)
theorem dX6_readRow_113 : decode cX6_readRow 113 = .ok (.aload_n 0, 1) := dk_42 (dk_at dksX6_readRow_4 20 rfl rfl)
theorem dX6_readRow_114 : decode cX6_readRow 114 = .ok (.invokevirtual 142, 3) := dk_182 0 142 (dk_at dksX6_readRow_4 21 rfl rfl)
theorem dX6_readRow_117 : decode cX6_readRow 117 = .ok (.ifCond .ne 4, 3) := dk_154 0 4 (dk_at dksX6_readRow_5 0 rfl rfl)
theorem dX6_readRow_120 : decode cX6_readRow 120 = .ok (.return_, 1) := dk_177 (dk_at dksX6_readRow_5 3 rfl rfl)
theorem dX6_readRow_121 : decode cX6_readRow 121 = .ok (.aload_n 0, 1) := dk_42 (dk_at dksX6_readRow_5 4 rfl rfl)
theorem dX6_readRow_122 : decode cX6_readRow 122 = .ok (.getfield 48, 3) := dk_180 0 48 (dk_at dksX6_readRow_5 5 rfl rfl)
theorem dX6_readRow_125 : decode cX6_readRow 125 = .ok (.iload_n 1, 1) := dk_27 (dk_at dksX6_readRow_5 8 rfl rfl)
theorem dX6_readRow_126 : decode cX6_readRow 126 = .ok (.iconst 1, 1) := dk_4 (dk_at dksX6_readRow_5 9 rfl rfl)
theorem dX6_readRow_127 : decode cX6_readRow 127 = .ok (.iadd, 1) := dk_96 (dk_at dksX6_readRow_5 10 rfl rfl)
theorem dX6_readRow_128 : decode cX6_readRow 128 = .ok (.iload_n 2, 1) := dk_28 (dk_at dksX6_readRow_5 11 rfl rfl)
theorem dX6_readRow_129 : decode cX6_readRow 129 = .ok (.iadd, 1) := dk_96 (dk_at dksX6_readRow_5 12 rfl rfl)
theorem dX6_readRow_130 : decode cX6_readRow 130 = .ok (.aload_n 0, 1) := dk_42 (dk_at dksX6_readRow_5 13 rfl rfl)
theorem dX6_readRow_131 : decode cX6_readRow 131 = .ok (.getfield 129, 3) := dk_180 0 129 (dk_at dksX6_readRow_5 14 rfl rfl)
theorem dX6_readRow_134 : decode cX6_readRow 134 = .ok (.iastore, 1) := dk_79 (dk_at dksX6_readRow_5 17 rfl rfl)
theorem dX6_readRow_135 : decode cX6_readRow 135 = .ok (.iinc 2 1, 3) := dk_132 2 1 (dk_at dksX6_readRow_5 18 rfl rfl)
theorem dX6_readRow_138 : decode cX6_readRow 138 = .ok (.aload_n 0, 1) := dk_42 (dk_at dksX6_readRow_5 21 rfl rfl)
theorem dX6_readRow_139 : decode cX6_readRow 139 = .ok (.invokevirtual 160, 3) := dk_182 0 160 (dk_at dksX6_readRow_6 0 rfl rfl)
theorem dX6_readRow_142 : decode cX6_readRow 142 = .ok (.iload_n 2, 1) := dk_28 (dk_at dksX6_readRow_6 3 rfl rfl)
theorem dX6_readRow_143 : decode cX6_readRow 143 = .ok (.iconst 2, 1) := dk_5 (dk_at dksX6_readRow_6 4 rfl rfl)
theorem dX6_readRow_144 : decode cX6_readRow 144 = .ok (.if_icmp .lt (-129), 3) := dk_161 255 127 (dk_at dksX6_readRow_6 5 rfl rfl)
theorem dX6_readRow_147 : decode cX6_readRow 147 = .ok (.aload_n 0, 1) := dk_42 (dk_at dksX6_readRow_6 8 rfl rfl)
theorem dX6_readRow_148 : decode cX6_readRow 148 = .ok (.getfield 118, 3) := dk_180 0 118 (dk_at dksX6_readRow_6 9 rfl rfl)
theorem dX6_readRow_151 : decode cX6_readRow 151 = .ok (.iconst 2, 1) := dk_5 (dk_at dksX6_readRow_6 12 rfl rfl)
theorem dX6_readRow_152 : decode cX6_readRow 152 = .ok (.if_icmp .eq (-137), 3) := dk_159 255 119 (dk_at dksX6_readRow_6 13 rfl rfl)
theorem dX6_readRow_155 : decode cX6_readRow 155 = .ok (.aload_n 0, 1) := dk_42 (dk_at dksX6_readRow_6 16 rfl rfl)
theorem dX6_readRow_156 : decode cX6_readRow 156 = .ok (.getfield 48, 3) := dk_180 0 48 (dk_at dksX6_readRow_6 17 rfl rfl)
theorem dX6_readRow_159 : decode cX6_readRow 159 = .ok (.iload_n 1, 1) := dk_27 (dk_at dksX6_readRow_6 20 rfl rfl)
theorem dX6_readRow_160 : decode cX6_readRow 160 = .ok (.iload_n 2, 1) := dk_28 (dk_at dksX6_readRow_6 21 rfl rfl)
theorem dX6_readRow_161 : decode cX6_readRow 161 = .ok (.iastore, 1) := dk_79 (dk_at dksX6_readRow_6 22 rfl rfl)
theorem dX6_readRow_162 : decode cX6_readRow 162 = .ok (.aload_n 0, 1) := dk_42 (dk_at dksX6_readRow_6 23 rfl rfl)
theorem dX6_readRow_163 : decode cX6_readRow 163 = .ok (.getfield 48, 3) := dk_180 0 48 (dk_at dksX6_readRow_7 0 rfl rfl)
theorem dX6_readRow_166 : decode cX6_readRow 166 = .ok (.iconst 2, 1) := dk_5 (dk_at dksX6_readRow_7 3 rfl rfl)
theorem dX6_readRow_167 : decode cX6_readRow 167 = .ok (.dup2, 1) := dk_92 (dk_at dksX6_readRow_7 4 rfl rfl)
theorem dX6_readRow_168 : decode cX6_readRow 168 = .ok (.iaload, 1) := dk_46 (dk_at dksX6_readRow_7 5 rfl rfl)
theorem dX6_readRow_169 : decode cX6_readRow 169 = .ok (.iconst 1, 1) := dk_4 (dk_at dksX6_readRow_7 6 rfl rfl)
theorem dX6_readRow_170 : decode cX6_readRow 170 = .ok (.iadd, 1) := dk_96 (dk_at dksX6_readRow_7 7 rfl rfl)
theorem dX6_readRow_171 : decode cX6_readRow 171 = .ok (.iastore, 1) := dk_79 (dk_at dksX6_readRow_7 8 rfl rfl)
theorem dX6_readRow_172 : decode cX6_readRow 172 = .ok (.return_, 1) := dk_177 (dk_at dksX6_readRow_7 9 rfl rfl)
abbrev cX6_sortHere : ByteArray := prog_18_method_23_code
def yX6_sortHere : MethodName := ⟨RX6, "sortHere", "()I"⟩
def dkwX6_sortHere_2 : List UInt8 := [153, 0, 7, 6, 167, 0, 4, 2, 172]
abbrev dktX6_sortHere_2 : List UInt8 := dkwX6_sortHere_2 ++ []
def dkwX6_sortHere_1 : List UInt8 := [167, 0, 30, 42, 18, 173, 182, 0, 156, 153, 0, 7, 5, 167, 0, 17, 42, 18, 175, 182, 0, 156]
abbrev dktX6_sortHere_1 : List UInt8 := dkwX6_sortHere_1 ++ dktX6_sortHere_2
def dkwX6_sortHere_0 : List UInt8 := [42, 18, 169, 182, 0, 156, 153, 0, 7, 3, 167, 0, 43, 42, 18, 171, 182, 0, 156, 153, 0, 7, 4]
abbrev dktX6_sortHere_0 : List UInt8 := dkwX6_sortHere_0 ++ dktX6_sortHere_1
theorem dksX6_sortHere_0 : cX6_sortHere.data.toList.drop 0 = dktX6_sortHere_0 := by decide +kernel
theorem dksX6_sortHere_1 : cX6_sortHere.data.toList.drop 23 = dktX6_sortHere_1 := dk_seg dksX6_sortHere_0 23 rfl rfl
theorem dksX6_sortHere_2 : cX6_sortHere.data.toList.drop 45 = dktX6_sortHere_2 := dk_seg dksX6_sortHere_1 22 rfl rfl
theorem dX6_sortHere_0 : decode cX6_sortHere 0 = .ok (.aload_n 0, 1) := dk_42 (dk_at dksX6_sortHere_0 0 rfl rfl)
theorem dX6_sortHere_1 : decode cX6_sortHere 1 = .ok (.ldc 169, 2) := dk_18 169 (dk_at dksX6_sortHere_0 1 rfl rfl)
theorem dX6_sortHere_3 : decode cX6_sortHere 3 = .ok (.invokevirtual 156, 3) := dk_182 0 156 (dk_at dksX6_sortHere_0 3 rfl rfl)
theorem dX6_sortHere_6 : decode cX6_sortHere 6 = .ok (.ifCond .eq 7, 3) := dk_153 0 7 (dk_at dksX6_sortHere_0 6 rfl rfl)
theorem dX6_sortHere_9 : decode cX6_sortHere 9 = .ok (.iconst 0, 1) := dk_3 (dk_at dksX6_sortHere_0 9 rfl rfl)
theorem dX6_sortHere_10 : decode cX6_sortHere 10 = .ok (.goto 43, 3) := dk_167 0 43 (dk_at dksX6_sortHere_0 10 rfl rfl)
theorem dX6_sortHere_13 : decode cX6_sortHere 13 = .ok (.aload_n 0, 1) := dk_42 (dk_at dksX6_sortHere_0 13 rfl rfl)
theorem dX6_sortHere_14 : decode cX6_sortHere 14 = .ok (.ldc 171, 2) := dk_18 171 (dk_at dksX6_sortHere_0 14 rfl rfl)
theorem dX6_sortHere_16 : decode cX6_sortHere 16 = .ok (.invokevirtual 156, 3) := dk_182 0 156 (dk_at dksX6_sortHere_0 16 rfl rfl)
theorem dX6_sortHere_19 : decode cX6_sortHere 19 = .ok (.ifCond .eq 7, 3) := dk_153 0 7 (dk_at dksX6_sortHere_0 19 rfl rfl)
theorem dX6_sortHere_22 : decode cX6_sortHere 22 = .ok (.iconst 1, 1) := dk_4 (dk_at dksX6_sortHere_0 22 rfl rfl)
theorem dX6_sortHere_23 : decode cX6_sortHere 23 = .ok (.goto 30, 3) := dk_167 0 30 (dk_at dksX6_sortHere_1 0 rfl rfl)
theorem dX6_sortHere_26 : decode cX6_sortHere 26 = .ok (.aload_n 0, 1) := dk_42 (dk_at dksX6_sortHere_1 3 rfl rfl)
theorem dX6_sortHere_27 : decode cX6_sortHere 27 = .ok (.ldc 173, 2) := dk_18 173 (dk_at dksX6_sortHere_1 4 rfl rfl)
theorem dX6_sortHere_29 : decode cX6_sortHere 29 = .ok (.invokevirtual 156, 3) := dk_182 0 156 (dk_at dksX6_sortHere_1 6 rfl rfl)
theorem dX6_sortHere_32 : decode cX6_sortHere 32 = .ok (.ifCond .eq 7, 3) := dk_153 0 7 (dk_at dksX6_sortHere_1 9 rfl rfl)
theorem dX6_sortHere_35 : decode cX6_sortHere 35 = .ok (.iconst 2, 1) := dk_5 (dk_at dksX6_sortHere_1 12 rfl rfl)
theorem dX6_sortHere_36 : decode cX6_sortHere 36 = .ok (.goto 17, 3) := dk_167 0 17 (dk_at dksX6_sortHere_1 13 rfl rfl)
theorem dX6_sortHere_39 : decode cX6_sortHere 39 = .ok (.aload_n 0, 1) := dk_42 (dk_at dksX6_sortHere_1 16 rfl rfl)
theorem dX6_sortHere_40 : decode cX6_sortHere 40 = .ok (.ldc 175, 2) := dk_18 175 (dk_at dksX6_sortHere_1 17 rfl rfl)
theorem dX6_sortHere_42 : decode cX6_sortHere 42 = .ok (.invokevirtual 156, 3) := dk_182 0 156 (dk_at dksX6_sortHere_1 19 rfl rfl)
theorem dX6_sortHere_45 : decode cX6_sortHere 45 = .ok (.ifCond .eq 7, 3) := dk_153 0 7 (dk_at dksX6_sortHere_2 0 rfl rfl)
theorem dX6_sortHere_48 : decode cX6_sortHere 48 = .ok (.iconst 3, 1) := dk_6 (dk_at dksX6_sortHere_2 3 rfl rfl)
theorem dX6_sortHere_49 : decode cX6_sortHere 49 = .ok (.goto 4, 3) := dk_167 0 4 (dk_at dksX6_sortHere_2 4 rfl rfl)
theorem dX6_sortHere_52 : decode cX6_sortHere 52 = .ok (.iconst (-1), 1) := dk_2 (dk_at dksX6_sortHere_2 7 rfl rfl)
theorem dX6_sortHere_53 : decode cX6_sortHere 53 = .ok (.ireturn, 1) := dk_172 (dk_at dksX6_sortHere_2 8 rfl rfl)
abbrev cX6_readLaw : ByteArray := prog_18_method_26_code
def yX6_readLaw : MethodName := ⟨RX6, "readLaw", "(I)V"⟩
def dkwX6_readLaw_10 : List UInt8 := [21, 4, 100, 79, 177]
abbrev dktX6_readLaw_10 : List UInt8 := dkwX6_readLaw_10 ++ []
def dkwX6_readLaw_9 : List UInt8 := [96, 21, 4, 79, 42, 180, 0, 48, 17, 0, 202, 5, 29, 104, 96, 4, 96, 42, 180, 0, 48, 6, 46]
abbrev dktX6_readLaw_9 : List UInt8 := dkwX6_readLaw_9 ++ dktX6_readLaw_10
def dkwX6_readLaw_8 : List UInt8 := [182, 0, 199, 167, 255, 168, 42, 182, 0, 142, 154, 0, 4, 177, 42, 180, 0, 48, 17, 0, 202, 5, 29, 104]
abbrev dktX6_readLaw_8 : List UInt8 := dkwX6_readLaw_8 ++ dktX6_readLaw_9
def dkwX6_readLaw_7 : List UInt8 := [18, 206, 182, 0, 156, 153, 0, 7, 6, 167, 0, 4, 7, 54, 5, 42, 182, 0, 160, 42, 21, 5]
abbrev dktX6_readLaw_7 : List UInt8 := dkwX6_readLaw_7 ++ dktX6_readLaw_8
def dkwX6_readLaw_6 : List UInt8 := [182, 0, 156, 153, 0, 7, 4, 167, 0, 30, 42, 18, 204, 182, 0, 156, 153, 0, 7, 5, 167, 0, 17, 42]
abbrev dktX6_readLaw_6 : List UInt8 := dkwX6_readLaw_6 ++ dktX6_readLaw_7
def dkwX6_readLaw_5 : List UInt8 := [154, 0, 21, 42, 18, 206, 182, 0, 156, 154, 0, 12, 42, 18, 208, 182, 0, 156, 153, 0, 58, 42, 18, 202]
abbrev dktX6_readLaw_5 : List UInt8 := dkwX6_readLaw_5 ++ dktX6_readLaw_6
def dkwX6_readLaw_4 : List UInt8 := [54, 4, 42, 3, 182, 0, 199, 42, 18, 202, 182, 0, 156, 154, 0, 30, 42, 18, 204, 182, 0, 156]
abbrev dktX6_readLaw_4 : List UInt8 := dkwX6_readLaw_4 ++ dktX6_readLaw_5
def dkwX6_readLaw_3 : List UInt8 := [182, 0, 142, 154, 0, 4, 177, 42, 182, 0, 160, 42, 18, 193, 182, 0, 195, 42, 180, 0, 48, 6, 46]
abbrev dktX6_readLaw_3 : List UInt8 := dkwX6_readLaw_3 ++ dktX6_readLaw_4
def dkwX6_readLaw_2 : List UInt8 := [180, 0, 48, 17, 0, 202, 5, 29, 104, 96, 4, 96, 46, 158, 0, 8, 42, 5, 182, 0, 166, 42]
abbrev dktX6_readLaw_2 : List UInt8 := dkwX6_readLaw_2 ++ dktX6_readLaw_3
def dkwX6_readLaw_1 : List UInt8 := [27, 5, 160, 0, 8, 16, 8, 167, 0, 8, 7, 27, 104, 28, 96, 62, 42, 182, 0, 142, 153, 0, 25, 42]
abbrev dktX6_readLaw_1 : List UInt8 := dkwX6_readLaw_1 ++ dktX6_readLaw_2
def dkwX6_readLaw_0 : List UInt8 := [42, 182, 0, 190, 61, 28, 2, 159, 0, 12, 27, 5, 160, 0, 12, 28, 153, 0, 8, 42, 4, 182, 0, 166]
abbrev dktX6_readLaw_0 : List UInt8 := dkwX6_readLaw_0 ++ dktX6_readLaw_1
theorem dksX6_readLaw_0 : cX6_readLaw.data.toList.drop 0 = dktX6_readLaw_0 := by decide +kernel
theorem dksX6_readLaw_1 : cX6_readLaw.data.toList.drop 24 = dktX6_readLaw_1 := dk_seg dksX6_readLaw_0 24 rfl rfl
theorem dksX6_readLaw_2 : cX6_readLaw.data.toList.drop 48 = dktX6_readLaw_2 := dk_seg dksX6_readLaw_1 24 rfl rfl
theorem dksX6_readLaw_3 : cX6_readLaw.data.toList.drop 70 = dktX6_readLaw_3 := dk_seg dksX6_readLaw_2 22 rfl rfl
theorem dksX6_readLaw_4 : cX6_readLaw.data.toList.drop 93 = dktX6_readLaw_4 := dk_seg dksX6_readLaw_3 23 rfl rfl
theorem dksX6_readLaw_5 : cX6_readLaw.data.toList.drop 115 = dktX6_readLaw_5 := dk_seg dksX6_readLaw_4 22 rfl rfl
theorem dksX6_readLaw_6 : cX6_readLaw.data.toList.drop 139 = dktX6_readLaw_6 := dk_seg dksX6_readLaw_5 24 rfl rfl
theorem dksX6_readLaw_7 : cX6_readLaw.data.toList.drop 163 = dktX6_readLaw_7 := dk_seg dksX6_readLaw_6 24 rfl rfl
theorem dksX6_readLaw_8 : cX6_readLaw.data.toList.drop 185 = dktX6_readLaw_8 := dk_seg dksX6_readLaw_7 22 rfl rfl
theorem dksX6_readLaw_9 : cX6_readLaw.data.toList.drop 209 = dktX6_readLaw_9 := dk_seg dksX6_readLaw_8 24 rfl rfl
theorem dksX6_readLaw_10 : cX6_readLaw.data.toList.drop 232 = dktX6_readLaw_10 := dk_seg dksX6_readLaw_9 23 rfl rfl
theorem dX6_readLaw_0 : decode cX6_readLaw 0 = .ok (.aload_n 0, 1) := dk_42 (dk_at dksX6_readLaw_0 0 rfl rfl)
theorem dX6_readLaw_1 : decode cX6_readLaw 1 = .ok (.invokevirtual 190, 3) := dk_182 0 190 (dk_at dksX6_readLaw_0 1 rfl rfl)
theorem dX6_readLaw_4 : decode cX6_readLaw 4 = .ok (.istore_n 2, 1) := dk_61 (dk_at dksX6_readLaw_0 4 rfl rfl)
theorem dX6_readLaw_5 : decode cX6_readLaw 5 = .ok (.iload_n 2, 1) := dk_28 (dk_at dksX6_readLaw_0 5 rfl rfl)
theorem dX6_readLaw_6 : decode cX6_readLaw 6 = .ok (.iconst (-1), 1) := dk_2 (dk_at dksX6_readLaw_0 6 rfl rfl)
theorem dX6_readLaw_7 : decode cX6_readLaw 7 = .ok (.if_icmp .eq 12, 3) := dk_159 0 12 (dk_at dksX6_readLaw_0 7 rfl rfl)
theorem dX6_readLaw_10 : decode cX6_readLaw 10 = .ok (.iload_n 1, 1) := dk_27 (dk_at dksX6_readLaw_0 10 rfl rfl)
theorem dX6_readLaw_11 : decode cX6_readLaw 11 = .ok (.iconst 2, 1) := dk_5 (dk_at dksX6_readLaw_0 11 rfl rfl)
theorem dX6_readLaw_12 : decode cX6_readLaw 12 = .ok (.if_icmp .ne 12, 3) := dk_160 0 12 (dk_at dksX6_readLaw_0 12 rfl rfl)
theorem dX6_readLaw_15 : decode cX6_readLaw 15 = .ok (.iload_n 2, 1) := dk_28 (dk_at dksX6_readLaw_0 15 rfl rfl)
theorem dX6_readLaw_16 : decode cX6_readLaw 16 = .ok (.ifCond .eq 8, 3) := dk_153 0 8 (dk_at dksX6_readLaw_0 16 rfl rfl)
theorem dX6_readLaw_19 : decode cX6_readLaw 19 = .ok (.aload_n 0, 1) := dk_42 (dk_at dksX6_readLaw_0 19 rfl rfl)
theorem dX6_readLaw_20 : decode cX6_readLaw 20 = .ok (.iconst 1, 1) := dk_4 (dk_at dksX6_readLaw_0 20 rfl rfl)
theorem dX6_readLaw_21 : decode cX6_readLaw 21 = .ok (.invokevirtual 166, 3) := dk_182 0 166 (dk_at dksX6_readLaw_0 21 rfl rfl)
theorem dX6_readLaw_24 : decode cX6_readLaw 24 = .ok (.iload_n 1, 1) := dk_27 (dk_at dksX6_readLaw_1 0 rfl rfl)
theorem dX6_readLaw_25 : decode cX6_readLaw 25 = .ok (.iconst 2, 1) := dk_5 (dk_at dksX6_readLaw_1 1 rfl rfl)
theorem dX6_readLaw_26 : decode cX6_readLaw 26 = .ok (.if_icmp .ne 8, 3) := dk_160 0 8 (dk_at dksX6_readLaw_1 2 rfl rfl)
theorem dX6_readLaw_29 : decode cX6_readLaw 29 = .ok (.bipush 8, 2) := dk_16 8 (dk_at dksX6_readLaw_1 5 rfl rfl)
theorem dX6_readLaw_31 : decode cX6_readLaw 31 = .ok (.goto 8, 3) := dk_167 0 8 (dk_at dksX6_readLaw_1 7 rfl rfl)
theorem dX6_readLaw_34 : decode cX6_readLaw 34 = .ok (.iconst 4, 1) := dk_7 (dk_at dksX6_readLaw_1 10 rfl rfl)
theorem dX6_readLaw_35 : decode cX6_readLaw 35 = .ok (.iload_n 1, 1) := dk_27 (dk_at dksX6_readLaw_1 11 rfl rfl)
theorem dX6_readLaw_36 : decode cX6_readLaw 36 = .ok (.imul, 1) := dk_104 (dk_at dksX6_readLaw_1 12 rfl rfl)
theorem dX6_readLaw_37 : decode cX6_readLaw 37 = .ok (.iload_n 2, 1) := dk_28 (dk_at dksX6_readLaw_1 13 rfl rfl)
theorem dX6_readLaw_38 : decode cX6_readLaw 38 = .ok (.iadd, 1) := dk_96 (dk_at dksX6_readLaw_1 14 rfl rfl)
theorem dX6_readLaw_39 : decode cX6_readLaw 39 = .ok (.istore_n 3, 1) := dk_62 (dk_at dksX6_readLaw_1 15 rfl rfl)
theorem dX6_readLaw_40 : decode cX6_readLaw 40 = .ok (.aload_n 0, 1) := dk_42 (dk_at dksX6_readLaw_1 16 rfl rfl)
theorem dX6_readLaw_41 : decode cX6_readLaw 41 = .ok (.invokevirtual 142, 3) := dk_182 0 142 (dk_at dksX6_readLaw_1 17 rfl rfl)
theorem dX6_readLaw_44 : decode cX6_readLaw 44 = .ok (.ifCond .eq 25, 3) := dk_153 0 25 (dk_at dksX6_readLaw_1 20 rfl rfl)
theorem dX6_readLaw_47 : decode cX6_readLaw 47 = .ok (.aload_n 0, 1) := dk_42 (dk_at dksX6_readLaw_1 23 rfl rfl)
theorem dX6_readLaw_48 : decode cX6_readLaw 48 = .ok (.getfield 48, 3) := dk_180 0 48 (dk_at dksX6_readLaw_2 0 rfl rfl)
theorem dX6_readLaw_51 : decode cX6_readLaw 51 = .ok (.sipush 202, 3) := dk_17 0 202 (dk_at dksX6_readLaw_2 3 rfl rfl)
theorem dX6_readLaw_54 : decode cX6_readLaw 54 = .ok (.iconst 2, 1) := dk_5 (dk_at dksX6_readLaw_2 6 rfl rfl)
theorem dX6_readLaw_55 : decode cX6_readLaw 55 = .ok (.iload_n 3, 1) := dk_29 (dk_at dksX6_readLaw_2 7 rfl rfl)
theorem dX6_readLaw_56 : decode cX6_readLaw 56 = .ok (.imul, 1) := dk_104 (dk_at dksX6_readLaw_2 8 rfl rfl)
theorem dX6_readLaw_57 : decode cX6_readLaw 57 = .ok (.iadd, 1) := dk_96 (dk_at dksX6_readLaw_2 9 rfl rfl)
theorem dX6_readLaw_58 : decode cX6_readLaw 58 = .ok (.iconst 1, 1) := dk_4 (dk_at dksX6_readLaw_2 10 rfl rfl)
theorem dX6_readLaw_59 : decode cX6_readLaw 59 = .ok (.iadd, 1) := dk_96 (dk_at dksX6_readLaw_2 11 rfl rfl)
theorem dX6_readLaw_60 : decode cX6_readLaw 60 = .ok (.iaload, 1) := dk_46 (dk_at dksX6_readLaw_2 12 rfl rfl)
theorem dX6_readLaw_61 : decode cX6_readLaw 61 = .ok (.ifCond .le 8, 3) := dk_158 0 8 (dk_at dksX6_readLaw_2 13 rfl rfl)
theorem dX6_readLaw_64 : decode cX6_readLaw 64 = .ok (.aload_n 0, 1) := dk_42 (dk_at dksX6_readLaw_2 16 rfl rfl)
theorem dX6_readLaw_65 : decode cX6_readLaw 65 = .ok (.iconst 2, 1) := dk_5 (dk_at dksX6_readLaw_2 17 rfl rfl)
theorem dX6_readLaw_66 : decode cX6_readLaw 66 = .ok (.invokevirtual 166, 3) := dk_182 0 166 (dk_at dksX6_readLaw_2 18 rfl rfl)
theorem dX6_readLaw_69 : decode cX6_readLaw 69 = .ok (.aload_n 0, 1) := dk_42 (dk_at dksX6_readLaw_2 21 rfl rfl)
theorem dX6_readLaw_70 : decode cX6_readLaw 70 = .ok (.invokevirtual 142, 3) := dk_182 0 142 (dk_at dksX6_readLaw_3 0 rfl rfl)
theorem dX6_readLaw_73 : decode cX6_readLaw 73 = .ok (.ifCond .ne 4, 3) := dk_154 0 4 (dk_at dksX6_readLaw_3 3 rfl rfl)
theorem dX6_readLaw_76 : decode cX6_readLaw 76 = .ok (.return_, 1) := dk_177 (dk_at dksX6_readLaw_3 6 rfl rfl)
theorem dX6_readLaw_77 : decode cX6_readLaw 77 = .ok (.aload_n 0, 1) := dk_42 (dk_at dksX6_readLaw_3 7 rfl rfl)
theorem dX6_readLaw_78 : decode cX6_readLaw 78 = .ok (.invokevirtual 160, 3) := dk_182 0 160 (dk_at dksX6_readLaw_3 8 rfl rfl)
theorem dX6_readLaw_81 : decode cX6_readLaw 81 = .ok (.aload_n 0, 1) := dk_42 (dk_at dksX6_readLaw_3 11 rfl rfl)
theorem dX6_readLaw_82 : decode cX6_readLaw 82 = .ok (.ldc 193, 2) := dk_18 193 (dk_at dksX6_readLaw_3 12 rfl rfl)
theorem dX6_readLaw_84 : decode cX6_readLaw 84 = .ok (.invokevirtual 195, 3) := dk_182 0 195 (dk_at dksX6_readLaw_3 14 rfl rfl)
theorem dX6_readLaw_87 : decode cX6_readLaw 87 = .ok (.aload_n 0, 1) := dk_42 (dk_at dksX6_readLaw_3 17 rfl rfl)
theorem dX6_readLaw_88 : decode cX6_readLaw 88 = .ok (.getfield 48, 3) := dk_180 0 48 (dk_at dksX6_readLaw_3 18 rfl rfl)
theorem dX6_readLaw_91 : decode cX6_readLaw 91 = .ok (.iconst 3, 1) := dk_6 (dk_at dksX6_readLaw_3 21 rfl rfl)
theorem dX6_readLaw_92 : decode cX6_readLaw 92 = .ok (.iaload, 1) := dk_46 (dk_at dksX6_readLaw_3 22 rfl rfl)
theorem dX6_readLaw_93 : decode cX6_readLaw 93 = .ok (.istore 4, 2) := dk_54 4 (dk_at dksX6_readLaw_4 0 rfl rfl)
theorem dX6_readLaw_95 : decode cX6_readLaw 95 = .ok (.aload_n 0, 1) := dk_42 (dk_at dksX6_readLaw_4 2 rfl rfl)
theorem dX6_readLaw_96 : decode cX6_readLaw 96 = .ok (.iconst 0, 1) := dk_3 (dk_at dksX6_readLaw_4 3 rfl rfl)
theorem dX6_readLaw_97 : decode cX6_readLaw 97 = .ok (.invokevirtual 199, 3) := dk_182 0 199 (dk_at dksX6_readLaw_4 4 rfl rfl)
theorem dX6_readLaw_100 : decode cX6_readLaw 100 = .ok (.aload_n 0, 1) := dk_42 (dk_at dksX6_readLaw_4 7 rfl rfl)
theorem dX6_readLaw_101 : decode cX6_readLaw 101 = .ok (.ldc 202, 2) := dk_18 202 (dk_at dksX6_readLaw_4 8 rfl rfl)
theorem dX6_readLaw_103 : decode cX6_readLaw 103 = .ok (.invokevirtual 156, 3) := dk_182 0 156 (dk_at dksX6_readLaw_4 10 rfl rfl)
theorem dX6_readLaw_106 : decode cX6_readLaw 106 = .ok (.ifCond .ne 30, 3) := dk_154 0 30 (dk_at dksX6_readLaw_4 13 rfl rfl)
theorem dX6_readLaw_109 : decode cX6_readLaw 109 = .ok (.aload_n 0, 1) := dk_42 (dk_at dksX6_readLaw_4 16 rfl rfl)
theorem dX6_readLaw_110 : decode cX6_readLaw 110 = .ok (.ldc 204, 2) := dk_18 204 (dk_at dksX6_readLaw_4 17 rfl rfl)
theorem dX6_readLaw_112 : decode cX6_readLaw 112 = .ok (.invokevirtual 156, 3) := dk_182 0 156 (dk_at dksX6_readLaw_4 19 rfl rfl)
theorem dX6_readLaw_115 : decode cX6_readLaw 115 = .ok (.ifCond .ne 21, 3) := dk_154 0 21 (dk_at dksX6_readLaw_5 0 rfl rfl)
theorem dX6_readLaw_118 : decode cX6_readLaw 118 = .ok (.aload_n 0, 1) := dk_42 (dk_at dksX6_readLaw_5 3 rfl rfl)
theorem dX6_readLaw_119 : decode cX6_readLaw 119 = .ok (.ldc 206, 2) := dk_18 206 (dk_at dksX6_readLaw_5 4 rfl rfl)
theorem dX6_readLaw_121 : decode cX6_readLaw 121 = .ok (.invokevirtual 156, 3) := dk_182 0 156 (dk_at dksX6_readLaw_5 6 rfl rfl)
theorem dX6_readLaw_124 : decode cX6_readLaw 124 = .ok (.ifCond .ne 12, 3) := dk_154 0 12 (dk_at dksX6_readLaw_5 9 rfl rfl)
theorem dX6_readLaw_127 : decode cX6_readLaw 127 = .ok (.aload_n 0, 1) := dk_42 (dk_at dksX6_readLaw_5 12 rfl rfl)
theorem dX6_readLaw_128 : decode cX6_readLaw 128 = .ok (.ldc 208, 2) := dk_18 208 (dk_at dksX6_readLaw_5 13 rfl rfl)
theorem dX6_readLaw_130 : decode cX6_readLaw 130 = .ok (.invokevirtual 156, 3) := dk_182 0 156 (dk_at dksX6_readLaw_5 15 rfl rfl)
theorem dX6_readLaw_133 : decode cX6_readLaw 133 = .ok (.ifCond .eq 58, 3) := dk_153 0 58 (dk_at dksX6_readLaw_5 18 rfl rfl)
theorem dX6_readLaw_136 : decode cX6_readLaw 136 = .ok (.aload_n 0, 1) := dk_42 (dk_at dksX6_readLaw_5 21 rfl rfl)
theorem dX6_readLaw_137 : decode cX6_readLaw 137 = .ok (.ldc 202, 2) := dk_18 202 (dk_at dksX6_readLaw_5 22 rfl rfl)
theorem dX6_readLaw_139 : decode cX6_readLaw 139 = .ok (.invokevirtual 156, 3) := dk_182 0 156 (dk_at dksX6_readLaw_6 0 rfl rfl)
theorem dX6_readLaw_142 : decode cX6_readLaw 142 = .ok (.ifCond .eq 7, 3) := dk_153 0 7 (dk_at dksX6_readLaw_6 3 rfl rfl)
theorem dX6_readLaw_145 : decode cX6_readLaw 145 = .ok (.iconst 1, 1) := dk_4 (dk_at dksX6_readLaw_6 6 rfl rfl)
theorem dX6_readLaw_146 : decode cX6_readLaw 146 = .ok (.goto 30, 3) := dk_167 0 30 (dk_at dksX6_readLaw_6 7 rfl rfl)
theorem dX6_readLaw_149 : decode cX6_readLaw 149 = .ok (.aload_n 0, 1) := dk_42 (dk_at dksX6_readLaw_6 10 rfl rfl)
theorem dX6_readLaw_150 : decode cX6_readLaw 150 = .ok (.ldc 204, 2) := dk_18 204 (dk_at dksX6_readLaw_6 11 rfl rfl)
theorem dX6_readLaw_152 : decode cX6_readLaw 152 = .ok (.invokevirtual 156, 3) := dk_182 0 156 (dk_at dksX6_readLaw_6 13 rfl rfl)
theorem dX6_readLaw_155 : decode cX6_readLaw 155 = .ok (.ifCond .eq 7, 3) := dk_153 0 7 (dk_at dksX6_readLaw_6 16 rfl rfl)
theorem dX6_readLaw_158 : decode cX6_readLaw 158 = .ok (.iconst 2, 1) := dk_5 (dk_at dksX6_readLaw_6 19 rfl rfl)
theorem dX6_readLaw_159 : decode cX6_readLaw 159 = .ok (.goto 17, 3) := dk_167 0 17 (dk_at dksX6_readLaw_6 20 rfl rfl)
theorem dX6_readLaw_162 : decode cX6_readLaw 162 = .ok (.aload_n 0, 1) := dk_42 (dk_at dksX6_readLaw_6 23 rfl rfl)
theorem dX6_readLaw_163 : decode cX6_readLaw 163 = .ok (.ldc 206, 2) := dk_18 206 (dk_at dksX6_readLaw_7 0 rfl rfl)
theorem dX6_readLaw_165 : decode cX6_readLaw 165 = .ok (.invokevirtual 156, 3) := dk_182 0 156 (dk_at dksX6_readLaw_7 2 rfl rfl)
theorem dX6_readLaw_168 : decode cX6_readLaw 168 = .ok (.ifCond .eq 7, 3) := dk_153 0 7 (dk_at dksX6_readLaw_7 5 rfl rfl)
theorem dX6_readLaw_171 : decode cX6_readLaw 171 = .ok (.iconst 3, 1) := dk_6 (dk_at dksX6_readLaw_7 8 rfl rfl)
theorem dX6_readLaw_172 : decode cX6_readLaw 172 = .ok (.goto 4, 3) := dk_167 0 4 (dk_at dksX6_readLaw_7 9 rfl rfl)
theorem dX6_readLaw_175 : decode cX6_readLaw 175 = .ok (.iconst 4, 1) := dk_7 (dk_at dksX6_readLaw_7 12 rfl rfl)
theorem dX6_readLaw_176 : decode cX6_readLaw 176 = .ok (.istore 5, 2) := dk_54 5 (dk_at dksX6_readLaw_7 13 rfl rfl)
theorem dX6_readLaw_178 : decode cX6_readLaw 178 = .ok (.aload_n 0, 1) := dk_42 (dk_at dksX6_readLaw_7 15 rfl rfl)
theorem dX6_readLaw_179 : decode cX6_readLaw 179 = .ok (.invokevirtual 160, 3) := dk_182 0 160 (dk_at dksX6_readLaw_7 16 rfl rfl)
theorem dX6_readLaw_182 : decode cX6_readLaw 182 = .ok (.aload_n 0, 1) := dk_42 (dk_at dksX6_readLaw_7 19 rfl rfl)
theorem dX6_readLaw_183 : decode cX6_readLaw 183 = .ok (.iload 5, 2) := dk_21 5 (dk_at dksX6_readLaw_7 20 rfl rfl)
theorem dX6_readLaw_185 : decode cX6_readLaw 185 = .ok (.invokevirtual 199, 3) := dk_182 0 199 (dk_at dksX6_readLaw_8 0 rfl rfl)
theorem dX6_readLaw_188 : decode cX6_readLaw 188 = .ok (.goto (-88), 3) := dk_167 255 168 (dk_at dksX6_readLaw_8 3 rfl rfl)
theorem dX6_readLaw_191 : decode cX6_readLaw 191 = .ok (.aload_n 0, 1) := dk_42 (dk_at dksX6_readLaw_8 6 rfl rfl)
theorem dX6_readLaw_192 : decode cX6_readLaw 192 = .ok (.invokevirtual 142, 3) := dk_182 0 142 (dk_at dksX6_readLaw_8 7 rfl rfl)
theorem dX6_readLaw_195 : decode cX6_readLaw 195 = .ok (.ifCond .ne 4, 3) := dk_154 0 4 (dk_at dksX6_readLaw_8 10 rfl rfl)
theorem dX6_readLaw_198 : decode cX6_readLaw 198 = .ok (.return_, 1) := dk_177 (dk_at dksX6_readLaw_8 13 rfl rfl)
theorem dX6_readLaw_199 : decode cX6_readLaw 199 = .ok (.aload_n 0, 1) := dk_42 (dk_at dksX6_readLaw_8 14 rfl rfl)
theorem dX6_readLaw_200 : decode cX6_readLaw 200 = .ok (.getfield 48, 3) := dk_180 0 48 (dk_at dksX6_readLaw_8 15 rfl rfl)
theorem dX6_readLaw_203 : decode cX6_readLaw 203 = .ok (.sipush 202, 3) := dk_17 0 202 (dk_at dksX6_readLaw_8 18 rfl rfl)
theorem dX6_readLaw_206 : decode cX6_readLaw 206 = .ok (.iconst 2, 1) := dk_5 (dk_at dksX6_readLaw_8 21 rfl rfl)
theorem dX6_readLaw_207 : decode cX6_readLaw 207 = .ok (.iload_n 3, 1) := dk_29 (dk_at dksX6_readLaw_8 22 rfl rfl)
theorem dX6_readLaw_208 : decode cX6_readLaw 208 = .ok (.imul, 1) := dk_104 (dk_at dksX6_readLaw_8 23 rfl rfl)
theorem dX6_readLaw_209 : decode cX6_readLaw 209 = .ok (.iadd, 1) := dk_96 (dk_at dksX6_readLaw_9 0 rfl rfl)
theorem dX6_readLaw_210 : decode cX6_readLaw 210 = .ok (.iload 4, 2) := dk_21 4 (dk_at dksX6_readLaw_9 1 rfl rfl)
theorem dX6_readLaw_212 : decode cX6_readLaw 212 = .ok (.iastore, 1) := dk_79 (dk_at dksX6_readLaw_9 3 rfl rfl)
theorem dX6_readLaw_213 : decode cX6_readLaw 213 = .ok (.aload_n 0, 1) := dk_42 (dk_at dksX6_readLaw_9 4 rfl rfl)
theorem dX6_readLaw_214 : decode cX6_readLaw 214 = .ok (.getfield 48, 3) := dk_180 0 48 (dk_at dksX6_readLaw_9 5 rfl rfl)
theorem dX6_readLaw_217 : decode cX6_readLaw 217 = .ok (.sipush 202, 3) := dk_17 0 202 (dk_at dksX6_readLaw_9 8 rfl rfl)
theorem dX6_readLaw_220 : decode cX6_readLaw 220 = .ok (.iconst 2, 1) := dk_5 (dk_at dksX6_readLaw_9 11 rfl rfl)
theorem dX6_readLaw_221 : decode cX6_readLaw 221 = .ok (.iload_n 3, 1) := dk_29 (dk_at dksX6_readLaw_9 12 rfl rfl)
theorem dX6_readLaw_222 : decode cX6_readLaw 222 = .ok (.imul, 1) := dk_104 (dk_at dksX6_readLaw_9 13 rfl rfl)
theorem dX6_readLaw_223 : decode cX6_readLaw 223 = .ok (.iadd, 1) := dk_96 (dk_at dksX6_readLaw_9 14 rfl rfl)
theorem dX6_readLaw_224 : decode cX6_readLaw 224 = .ok (.iconst 1, 1) := dk_4 (dk_at dksX6_readLaw_9 15 rfl rfl)
theorem dX6_readLaw_225 : decode cX6_readLaw 225 = .ok (.iadd, 1) := dk_96 (dk_at dksX6_readLaw_9 16 rfl rfl)
theorem dX6_readLaw_226 : decode cX6_readLaw 226 = .ok (.aload_n 0, 1) := dk_42 (dk_at dksX6_readLaw_9 17 rfl rfl)
theorem dX6_readLaw_227 : decode cX6_readLaw 227 = .ok (.getfield 48, 3) := dk_180 0 48 (dk_at dksX6_readLaw_9 18 rfl rfl)
theorem dX6_readLaw_230 : decode cX6_readLaw 230 = .ok (.iconst 3, 1) := dk_6 (dk_at dksX6_readLaw_9 21 rfl rfl)
theorem dX6_readLaw_231 : decode cX6_readLaw 231 = .ok (.iaload, 1) := dk_46 (dk_at dksX6_readLaw_9 22 rfl rfl)
theorem dX6_readLaw_232 : decode cX6_readLaw 232 = .ok (.iload 4, 2) := dk_21 4 (dk_at dksX6_readLaw_10 0 rfl rfl)
theorem dX6_readLaw_234 : decode cX6_readLaw 234 = .ok (.isub, 1) := dk_100 (dk_at dksX6_readLaw_10 2 rfl rfl)
theorem dX6_readLaw_235 : decode cX6_readLaw 235 = .ok (.iastore, 1) := dk_79 (dk_at dksX6_readLaw_10 3 rfl rfl)
theorem dX6_readLaw_236 : decode cX6_readLaw 236 = .ok (.return_, 1) := dk_177 (dk_at dksX6_readLaw_10 4 rfl rfl)
abbrev cX6_readPart : ByteArray := prog_18_method_25_code
def yX6_readPart : MethodName := ⟨RX6, "readPart", "(I)V"⟩
def dkwX6_readPart_6 : List UInt8 := [42, 180, 0, 48, 21, 4, 5, 96, 29, 79, 42, 180, 0, 48, 6, 92, 46, 4, 96, 79, 177]
abbrev dktX6_readPart_6 : List UInt8 := dkwX6_readPart_6 ++ []
def dkwX6_readPart_5 : List UInt8 := [6, 46, 104, 96, 54, 4, 42, 180, 0, 48, 21, 4, 27, 79, 42, 180, 0, 48, 21, 4, 4, 96, 28, 79]
abbrev dktX6_readPart_5 : List UInt8 := dkwX6_readPart_5 ++ dktX6_readPart_6
def dkwX6_readPart_4 : List UInt8 := [182, 0, 187, 167, 0, 4, 3, 62, 42, 182, 0, 142, 154, 0, 4, 177, 17, 0, 220, 6, 42, 180, 0, 48]
abbrev dktX6_readPart_4 : List UInt8 := dkwX6_readPart_4 ++ dktX6_readPart_5
def dkwX6_readPart_3 : List UInt8 := [182, 0, 142, 153, 0, 11, 28, 153, 0, 7, 42, 182, 0, 160, 28, 154, 0, 14, 42, 3, 17, 3, 232]
abbrev dktX6_readPart_3 : List UInt8 := dkwX6_readPart_3 ++ dktX6_readPart_4
def dkwX6_readPart_2 : List UInt8 := [153, 0, 7, 7, 167, 0, 17, 42, 18, 185, 182, 0, 156, 153, 0, 7, 8, 167, 0, 4, 3, 61, 42]
abbrev dktX6_readPart_2 : List UInt8 := dkwX6_readPart_2 ++ dktX6_readPart_3
def dkwX6_readPart_1 : List UInt8 := [167, 0, 43, 42, 18, 181, 182, 0, 156, 153, 0, 7, 6, 167, 0, 30, 42, 18, 183, 182, 0, 156]
abbrev dktX6_readPart_1 : List UInt8 := dkwX6_readPart_1 ++ dktX6_readPart_2
def dkwX6_readPart_0 : List UInt8 := [42, 18, 177, 182, 0, 156, 153, 0, 7, 4, 167, 0, 56, 42, 18, 179, 182, 0, 156, 153, 0, 7, 5]
abbrev dktX6_readPart_0 : List UInt8 := dkwX6_readPart_0 ++ dktX6_readPart_1
theorem dksX6_readPart_0 : cX6_readPart.data.toList.drop 0 = dktX6_readPart_0 := by decide +kernel
theorem dksX6_readPart_1 : cX6_readPart.data.toList.drop 23 = dktX6_readPart_1 := dk_seg dksX6_readPart_0 23 rfl rfl
theorem dksX6_readPart_2 : cX6_readPart.data.toList.drop 45 = dktX6_readPart_2 := dk_seg dksX6_readPart_1 22 rfl rfl
theorem dksX6_readPart_3 : cX6_readPart.data.toList.drop 68 = dktX6_readPart_3 := dk_seg dksX6_readPart_2 23 rfl rfl
theorem dksX6_readPart_4 : cX6_readPart.data.toList.drop 91 = dktX6_readPart_4 := dk_seg dksX6_readPart_3 23 rfl rfl
theorem dksX6_readPart_5 : cX6_readPart.data.toList.drop 115 = dktX6_readPart_5 := dk_seg dksX6_readPart_4 24 rfl rfl
theorem dksX6_readPart_6 : cX6_readPart.data.toList.drop 139 = dktX6_readPart_6 := dk_seg dksX6_readPart_5 24 rfl rfl
theorem dX6_readPart_0 : decode cX6_readPart 0 = .ok (.aload_n 0, 1) := dk_42 (dk_at dksX6_readPart_0 0 rfl rfl)
theorem dX6_readPart_1 : decode cX6_readPart 1 = .ok (.ldc 177, 2) := dk_18 177 (dk_at dksX6_readPart_0 1 rfl rfl)
theorem dX6_readPart_3 : decode cX6_readPart 3 = .ok (.invokevirtual 156, 3) := dk_182 0 156 (dk_at dksX6_readPart_0 3 rfl rfl)
theorem dX6_readPart_6 : decode cX6_readPart 6 = .ok (.ifCond .eq 7, 3) := dk_153 0 7 (dk_at dksX6_readPart_0 6 rfl rfl)
theorem dX6_readPart_9 : decode cX6_readPart 9 = .ok (.iconst 1, 1) := dk_4 (dk_at dksX6_readPart_0 9 rfl rfl)
theorem dX6_readPart_10 : decode cX6_readPart 10 = .ok (.goto 56, 3) := dk_167 0 56 (dk_at dksX6_readPart_0 10 rfl rfl)
theorem dX6_readPart_13 : decode cX6_readPart 13 = .ok (.aload_n 0, 1) := dk_42 (dk_at dksX6_readPart_0 13 rfl rfl)
theorem dX6_readPart_14 : decode cX6_readPart 14 = .ok (.ldc 179, 2) := dk_18 179 (dk_at dksX6_readPart_0 14 rfl rfl)
theorem dX6_readPart_16 : decode cX6_readPart 16 = .ok (.invokevirtual 156, 3) := dk_182 0 156 (dk_at dksX6_readPart_0 16 rfl rfl)
theorem dX6_readPart_19 : decode cX6_readPart 19 = .ok (.ifCond .eq 7, 3) := dk_153 0 7 (dk_at dksX6_readPart_0 19 rfl rfl)
theorem dX6_readPart_22 : decode cX6_readPart 22 = .ok (.iconst 2, 1) := dk_5 (dk_at dksX6_readPart_0 22 rfl rfl)
theorem dX6_readPart_23 : decode cX6_readPart 23 = .ok (.goto 43, 3) := dk_167 0 43 (dk_at dksX6_readPart_1 0 rfl rfl)
theorem dX6_readPart_26 : decode cX6_readPart 26 = .ok (.aload_n 0, 1) := dk_42 (dk_at dksX6_readPart_1 3 rfl rfl)
theorem dX6_readPart_27 : decode cX6_readPart 27 = .ok (.ldc 181, 2) := dk_18 181 (dk_at dksX6_readPart_1 4 rfl rfl)
theorem dX6_readPart_29 : decode cX6_readPart 29 = .ok (.invokevirtual 156, 3) := dk_182 0 156 (dk_at dksX6_readPart_1 6 rfl rfl)
theorem dX6_readPart_32 : decode cX6_readPart 32 = .ok (.ifCond .eq 7, 3) := dk_153 0 7 (dk_at dksX6_readPart_1 9 rfl rfl)
theorem dX6_readPart_35 : decode cX6_readPart 35 = .ok (.iconst 3, 1) := dk_6 (dk_at dksX6_readPart_1 12 rfl rfl)
theorem dX6_readPart_36 : decode cX6_readPart 36 = .ok (.goto 30, 3) := dk_167 0 30 (dk_at dksX6_readPart_1 13 rfl rfl)
theorem dX6_readPart_39 : decode cX6_readPart 39 = .ok (.aload_n 0, 1) := dk_42 (dk_at dksX6_readPart_1 16 rfl rfl)
theorem dX6_readPart_40 : decode cX6_readPart 40 = .ok (.ldc 183, 2) := dk_18 183 (dk_at dksX6_readPart_1 17 rfl rfl)
theorem dX6_readPart_42 : decode cX6_readPart 42 = .ok (.invokevirtual 156, 3) := dk_182 0 156 (dk_at dksX6_readPart_1 19 rfl rfl)
theorem dX6_readPart_45 : decode cX6_readPart 45 = .ok (.ifCond .eq 7, 3) := dk_153 0 7 (dk_at dksX6_readPart_2 0 rfl rfl)
theorem dX6_readPart_48 : decode cX6_readPart 48 = .ok (.iconst 4, 1) := dk_7 (dk_at dksX6_readPart_2 3 rfl rfl)
theorem dX6_readPart_49 : decode cX6_readPart 49 = .ok (.goto 17, 3) := dk_167 0 17 (dk_at dksX6_readPart_2 4 rfl rfl)
theorem dX6_readPart_52 : decode cX6_readPart 52 = .ok (.aload_n 0, 1) := dk_42 (dk_at dksX6_readPart_2 7 rfl rfl)
theorem dX6_readPart_53 : decode cX6_readPart 53 = .ok (.ldc 185, 2) := dk_18 185 (dk_at dksX6_readPart_2 8 rfl rfl)
theorem dX6_readPart_55 : decode cX6_readPart 55 = .ok (.invokevirtual 156, 3) := dk_182 0 156 (dk_at dksX6_readPart_2 10 rfl rfl)
theorem dX6_readPart_58 : decode cX6_readPart 58 = .ok (.ifCond .eq 7, 3) := dk_153 0 7 (dk_at dksX6_readPart_2 13 rfl rfl)
theorem dX6_readPart_61 : decode cX6_readPart 61 = .ok (.iconst 5, 1) := dk_8 (dk_at dksX6_readPart_2 16 rfl rfl)
theorem dX6_readPart_62 : decode cX6_readPart 62 = .ok (.goto 4, 3) := dk_167 0 4 (dk_at dksX6_readPart_2 17 rfl rfl)
theorem dX6_readPart_65 : decode cX6_readPart 65 = .ok (.iconst 0, 1) := dk_3 (dk_at dksX6_readPart_2 20 rfl rfl)
theorem dX6_readPart_66 : decode cX6_readPart 66 = .ok (.istore_n 2, 1) := dk_61 (dk_at dksX6_readPart_2 21 rfl rfl)
theorem dX6_readPart_67 : decode cX6_readPart 67 = .ok (.aload_n 0, 1) := dk_42 (dk_at dksX6_readPart_2 22 rfl rfl)
theorem dX6_readPart_68 : decode cX6_readPart 68 = .ok (.invokevirtual 142, 3) := dk_182 0 142 (dk_at dksX6_readPart_3 0 rfl rfl)
theorem dX6_readPart_71 : decode cX6_readPart 71 = .ok (.ifCond .eq 11, 3) := dk_153 0 11 (dk_at dksX6_readPart_3 3 rfl rfl)
theorem dX6_readPart_74 : decode cX6_readPart 74 = .ok (.iload_n 2, 1) := dk_28 (dk_at dksX6_readPart_3 6 rfl rfl)
theorem dX6_readPart_75 : decode cX6_readPart 75 = .ok (.ifCond .eq 7, 3) := dk_153 0 7 (dk_at dksX6_readPart_3 7 rfl rfl)
theorem dX6_readPart_78 : decode cX6_readPart 78 = .ok (.aload_n 0, 1) := dk_42 (dk_at dksX6_readPart_3 10 rfl rfl)
theorem dX6_readPart_79 : decode cX6_readPart 79 = .ok (.invokevirtual 160, 3) := dk_182 0 160 (dk_at dksX6_readPart_3 11 rfl rfl)
theorem dX6_readPart_82 : decode cX6_readPart 82 = .ok (.iload_n 2, 1) := dk_28 (dk_at dksX6_readPart_3 14 rfl rfl)
theorem dX6_readPart_83 : decode cX6_readPart 83 = .ok (.ifCond .ne 14, 3) := dk_154 0 14 (dk_at dksX6_readPart_3 15 rfl rfl)
theorem dX6_readPart_86 : decode cX6_readPart 86 = .ok (.aload_n 0, 1) := dk_42 (dk_at dksX6_readPart_3 18 rfl rfl)
theorem dX6_readPart_87 : decode cX6_readPart 87 = .ok (.iconst 0, 1) := dk_3 (dk_at dksX6_readPart_3 19 rfl rfl)
theorem dX6_readPart_88 : decode cX6_readPart 88 = .ok (.sipush 1000, 3) := dk_17 3 232 (dk_at dksX6_readPart_3 20 rfl rfl)
theorem dX6_readPart_91 : decode cX6_readPart 91 = .ok (.invokevirtual 187, 3) := dk_182 0 187 (dk_at dksX6_readPart_4 0 rfl rfl)
theorem dX6_readPart_94 : decode cX6_readPart 94 = .ok (.goto 4, 3) := dk_167 0 4 (dk_at dksX6_readPart_4 3 rfl rfl)
theorem dX6_readPart_97 : decode cX6_readPart 97 = .ok (.iconst 0, 1) := dk_3 (dk_at dksX6_readPart_4 6 rfl rfl)
theorem dX6_readPart_98 : decode cX6_readPart 98 = .ok (.istore_n 3, 1) := dk_62 (dk_at dksX6_readPart_4 7 rfl rfl)
theorem dX6_readPart_99 : decode cX6_readPart 99 = .ok (.aload_n 0, 1) := dk_42 (dk_at dksX6_readPart_4 8 rfl rfl)
theorem dX6_readPart_100 : decode cX6_readPart 100 = .ok (.invokevirtual 142, 3) := dk_182 0 142 (dk_at dksX6_readPart_4 9 rfl rfl)
theorem dX6_readPart_103 : decode cX6_readPart 103 = .ok (.ifCond .ne 4, 3) := dk_154 0 4 (dk_at dksX6_readPart_4 12 rfl rfl)
theorem dX6_readPart_106 : decode cX6_readPart 106 = .ok (.return_, 1) := dk_177 (dk_at dksX6_readPart_4 15 rfl rfl)
theorem dX6_readPart_107 : decode cX6_readPart 107 = .ok (.sipush 220, 3) := dk_17 0 220 (dk_at dksX6_readPart_4 16 rfl rfl)
theorem dX6_readPart_110 : decode cX6_readPart 110 = .ok (.iconst 3, 1) := dk_6 (dk_at dksX6_readPart_4 19 rfl rfl)
theorem dX6_readPart_111 : decode cX6_readPart 111 = .ok (.aload_n 0, 1) := dk_42 (dk_at dksX6_readPart_4 20 rfl rfl)
theorem dX6_readPart_112 : decode cX6_readPart 112 = .ok (.getfield 48, 3) := dk_180 0 48 (dk_at dksX6_readPart_4 21 rfl rfl)
theorem dX6_readPart_115 : decode cX6_readPart 115 = .ok (.iconst 3, 1) := dk_6 (dk_at dksX6_readPart_5 0 rfl rfl)
theorem dX6_readPart_116 : decode cX6_readPart 116 = .ok (.iaload, 1) := dk_46 (dk_at dksX6_readPart_5 1 rfl rfl)
theorem dX6_readPart_117 : decode cX6_readPart 117 = .ok (.imul, 1) := dk_104 (dk_at dksX6_readPart_5 2 rfl rfl)
theorem dX6_readPart_118 : decode cX6_readPart 118 = .ok (.iadd, 1) := dk_96 (dk_at dksX6_readPart_5 3 rfl rfl)
theorem dX6_readPart_119 : decode cX6_readPart 119 = .ok (.istore 4, 2) := dk_54 4 (dk_at dksX6_readPart_5 4 rfl rfl)
theorem dX6_readPart_121 : decode cX6_readPart 121 = .ok (.aload_n 0, 1) := dk_42 (dk_at dksX6_readPart_5 6 rfl rfl)
theorem dX6_readPart_122 : decode cX6_readPart 122 = .ok (.getfield 48, 3) := dk_180 0 48 (dk_at dksX6_readPart_5 7 rfl rfl)
theorem dX6_readPart_125 : decode cX6_readPart 125 = .ok (.iload 4, 2) := dk_21 4 (dk_at dksX6_readPart_5 10 rfl rfl)
theorem dX6_readPart_127 : decode cX6_readPart 127 = .ok (.iload_n 1, 1) := dk_27 (dk_at dksX6_readPart_5 12 rfl rfl)
theorem dX6_readPart_128 : decode cX6_readPart 128 = .ok (.iastore, 1) := dk_79 (dk_at dksX6_readPart_5 13 rfl rfl)
theorem dX6_readPart_129 : decode cX6_readPart 129 = .ok (.aload_n 0, 1) := dk_42 (dk_at dksX6_readPart_5 14 rfl rfl)
theorem dX6_readPart_130 : decode cX6_readPart 130 = .ok (.getfield 48, 3) := dk_180 0 48 (dk_at dksX6_readPart_5 15 rfl rfl)
theorem dX6_readPart_133 : decode cX6_readPart 133 = .ok (.iload 4, 2) := dk_21 4 (dk_at dksX6_readPart_5 18 rfl rfl)
theorem dX6_readPart_135 : decode cX6_readPart 135 = .ok (.iconst 1, 1) := dk_4 (dk_at dksX6_readPart_5 20 rfl rfl)
theorem dX6_readPart_136 : decode cX6_readPart 136 = .ok (.iadd, 1) := dk_96 (dk_at dksX6_readPart_5 21 rfl rfl)
theorem dX6_readPart_137 : decode cX6_readPart 137 = .ok (.iload_n 2, 1) := dk_28 (dk_at dksX6_readPart_5 22 rfl rfl)
theorem dX6_readPart_138 : decode cX6_readPart 138 = .ok (.iastore, 1) := dk_79 (dk_at dksX6_readPart_5 23 rfl rfl)
theorem dX6_readPart_139 : decode cX6_readPart 139 = .ok (.aload_n 0, 1) := dk_42 (dk_at dksX6_readPart_6 0 rfl rfl)
theorem dX6_readPart_140 : decode cX6_readPart 140 = .ok (.getfield 48, 3) := dk_180 0 48 (dk_at dksX6_readPart_6 1 rfl rfl)
theorem dX6_readPart_143 : decode cX6_readPart 143 = .ok (.iload 4, 2) := dk_21 4 (dk_at dksX6_readPart_6 4 rfl rfl)
theorem dX6_readPart_145 : decode cX6_readPart 145 = .ok (.iconst 2, 1) := dk_5 (dk_at dksX6_readPart_6 6 rfl rfl)
theorem dX6_readPart_146 : decode cX6_readPart 146 = .ok (.iadd, 1) := dk_96 (dk_at dksX6_readPart_6 7 rfl rfl)
theorem dX6_readPart_147 : decode cX6_readPart 147 = .ok (.iload_n 3, 1) := dk_29 (dk_at dksX6_readPart_6 8 rfl rfl)
theorem dX6_readPart_148 : decode cX6_readPart 148 = .ok (.iastore, 1) := dk_79 (dk_at dksX6_readPart_6 9 rfl rfl)
theorem dX6_readPart_149 : decode cX6_readPart 149 = .ok (.aload_n 0, 1) := dk_42 (dk_at dksX6_readPart_6 10 rfl rfl)
theorem dX6_readPart_150 : decode cX6_readPart 150 = .ok (.getfield 48, 3) := dk_180 0 48 (dk_at dksX6_readPart_6 11 rfl rfl)
theorem dX6_readPart_153 : decode cX6_readPart 153 = .ok (.iconst 3, 1) := dk_6 (dk_at dksX6_readPart_6 14 rfl rfl)
theorem dX6_readPart_154 : decode cX6_readPart 154 = .ok (.dup2, 1) := dk_92 (dk_at dksX6_readPart_6 15 rfl rfl)
theorem dX6_readPart_155 : decode cX6_readPart 155 = .ok (.iaload, 1) := dk_46 (dk_at dksX6_readPart_6 16 rfl rfl)
theorem dX6_readPart_156 : decode cX6_readPart 156 = .ok (.iconst 1, 1) := dk_4 (dk_at dksX6_readPart_6 17 rfl rfl)
theorem dX6_readPart_157 : decode cX6_readPart 157 = .ok (.iadd, 1) := dk_96 (dk_at dksX6_readPart_6 18 rfl rfl)
theorem dX6_readPart_158 : decode cX6_readPart 158 = .ok (.iastore, 1) := dk_79 (dk_at dksX6_readPart_6 19 rfl rfl)
theorem dX6_readPart_159 : decode cX6_readPart 159 = .ok (.return_, 1) := dk_177 (dk_at dksX6_readPart_6 20 rfl rfl)
abbrev cX6_clearHead : ByteArray := prog_18_method_29_code
def yX6_clearHead : MethodName := ⟨RX6, "clearHead", "()V"⟩
def dkwX6_clearHead_0 : List UInt8 := [3, 60, 27, 17, 7, 226, 162, 0, 16, 42, 180, 0, 17, 27, 3, 79, 132, 1, 1, 167, 255, 239, 177]
abbrev dktX6_clearHead_0 : List UInt8 := dkwX6_clearHead_0 ++ []
theorem dksX6_clearHead_0 : cX6_clearHead.data.toList.drop 0 = dktX6_clearHead_0 := by decide +kernel
theorem dX6_clearHead_0 : decode cX6_clearHead 0 = .ok (.iconst 0, 1) := dk_3 (dk_at dksX6_clearHead_0 0 rfl rfl)
theorem dX6_clearHead_1 : decode cX6_clearHead 1 = .ok (.istore_n 1, 1) := dk_60 (dk_at dksX6_clearHead_0 1 rfl rfl)
theorem dX6_clearHead_2 : decode cX6_clearHead 2 = .ok (.iload_n 1, 1) := dk_27 (dk_at dksX6_clearHead_0 2 rfl rfl)
theorem dX6_clearHead_3 : decode cX6_clearHead 3 = .ok (.sipush 2018, 3) := dk_17 7 226 (dk_at dksX6_clearHead_0 3 rfl rfl)
theorem dX6_clearHead_6 : decode cX6_clearHead 6 = .ok (.if_icmp .ge 16, 3) := dk_162 0 16 (dk_at dksX6_clearHead_0 6 rfl rfl)
theorem dX6_clearHead_9 : decode cX6_clearHead 9 = .ok (.aload_n 0, 1) := dk_42 (dk_at dksX6_clearHead_0 9 rfl rfl)
theorem dX6_clearHead_10 : decode cX6_clearHead 10 = .ok (.getfield 17, 3) := dk_180 0 17 (dk_at dksX6_clearHead_0 10 rfl rfl)
theorem dX6_clearHead_13 : decode cX6_clearHead 13 = .ok (.iload_n 1, 1) := dk_27 (dk_at dksX6_clearHead_0 13 rfl rfl)
theorem dX6_clearHead_14 : decode cX6_clearHead 14 = .ok (.iconst 0, 1) := dk_3 (dk_at dksX6_clearHead_0 14 rfl rfl)
theorem dX6_clearHead_15 : decode cX6_clearHead 15 = .ok (.iastore, 1) := dk_79 (dk_at dksX6_clearHead_0 15 rfl rfl)
theorem dX6_clearHead_16 : decode cX6_clearHead 16 = .ok (.iinc 1 1, 3) := dk_132 1 1 (dk_at dksX6_clearHead_0 16 rfl rfl)
theorem dX6_clearHead_19 : decode cX6_clearHead 19 = .ok (.goto (-17), 3) := dk_167 255 239 (dk_at dksX6_clearHead_0 19 rfl rfl)
theorem dX6_clearHead_22 : decode cX6_clearHead 22 = .ok (.return_, 1) := dk_177 (dk_at dksX6_clearHead_0 22 rfl rfl)
abbrev cX6_law : ByteArray := prog_18_method_32_code
def yX6_law : MethodName := ⟨RX6, "law", "(IIII)J"⟩
def dkwX6_law_3 : List UInt8 := [27, 104, 28, 96, 29, 42, 180, 0, 13, 16, 10, 21, 4, 96, 46, 182, 1, 5, 173]
abbrev dktX6_law_3 : List UInt8 := dkwX6_law_3 ++ []
def dkwX6_law_2 : List UInt8 := [173, 27, 5, 160, 0, 9, 28, 158, 0, 5, 9, 173, 42, 27, 5, 160, 0, 8, 16, 8, 167, 0, 8, 7]
abbrev dktX6_law_2 : List UInt8 := dkwX6_law_2 ++ dktX6_law_3
def dkwX6_law_1 : List UInt8 := [29, 133, 9, 20, 0, 253, 184, 0, 88, 153, 0, 12, 42, 21, 4, 182, 0, 255, 154, 0, 7, 20, 1, 3]
abbrev dktX6_law_1 : List UInt8 := dkwX6_law_1 ++ dktX6_law_2
def dkwX6_law_0 : List UInt8 := [27, 133, 9, 20, 0, 86, 184, 0, 88, 153, 0, 36, 28, 133, 9, 20, 0, 251, 184, 0, 88, 153, 0, 24]
abbrev dktX6_law_0 : List UInt8 := dkwX6_law_0 ++ dktX6_law_1
theorem dksX6_law_0 : cX6_law.data.toList.drop 0 = dktX6_law_0 := by decide +kernel
theorem dksX6_law_1 : cX6_law.data.toList.drop 24 = dktX6_law_1 := dk_seg dksX6_law_0 24 rfl rfl
theorem dksX6_law_2 : cX6_law.data.toList.drop 48 = dktX6_law_2 := dk_seg dksX6_law_1 24 rfl rfl
theorem dksX6_law_3 : cX6_law.data.toList.drop 72 = dktX6_law_3 := dk_seg dksX6_law_2 24 rfl rfl
theorem dX6_law_0 : decode cX6_law 0 = .ok (.iload_n 1, 1) := dk_27 (dk_at dksX6_law_0 0 rfl rfl)
theorem dX6_law_1 : decode cX6_law 1 = .ok (.i2l, 1) := dk_133 (dk_at dksX6_law_0 1 rfl rfl)
theorem dX6_law_2 : decode cX6_law 2 = .ok (.lconst 0, 1) := dk_9 (dk_at dksX6_law_0 2 rfl rfl)
theorem dX6_law_3 : decode cX6_law 3 = .ok (.ldc2_w 86, 3) := dk_20 0 86 (dk_at dksX6_law_0 3 rfl rfl)
theorem dX6_law_6 : decode cX6_law 6 = .ok (.invokestatic 88, 3) := dk_184 0 88 (dk_at dksX6_law_0 6 rfl rfl)
theorem dX6_law_9 : decode cX6_law 9 = .ok (.ifCond .eq 36, 3) := dk_153 0 36 (dk_at dksX6_law_0 9 rfl rfl)
theorem dX6_law_12 : decode cX6_law 12 = .ok (.iload_n 2, 1) := dk_28 (dk_at dksX6_law_0 12 rfl rfl)
theorem dX6_law_13 : decode cX6_law 13 = .ok (.i2l, 1) := dk_133 (dk_at dksX6_law_0 13 rfl rfl)
theorem dX6_law_14 : decode cX6_law 14 = .ok (.lconst 0, 1) := dk_9 (dk_at dksX6_law_0 14 rfl rfl)
theorem dX6_law_15 : decode cX6_law 15 = .ok (.ldc2_w 251, 3) := dk_20 0 251 (dk_at dksX6_law_0 15 rfl rfl)
theorem dX6_law_18 : decode cX6_law 18 = .ok (.invokestatic 88, 3) := dk_184 0 88 (dk_at dksX6_law_0 18 rfl rfl)
theorem dX6_law_21 : decode cX6_law 21 = .ok (.ifCond .eq 24, 3) := dk_153 0 24 (dk_at dksX6_law_0 21 rfl rfl)
theorem dX6_law_24 : decode cX6_law 24 = .ok (.iload_n 3, 1) := dk_29 (dk_at dksX6_law_1 0 rfl rfl)
theorem dX6_law_25 : decode cX6_law 25 = .ok (.i2l, 1) := dk_133 (dk_at dksX6_law_1 1 rfl rfl)
theorem dX6_law_26 : decode cX6_law 26 = .ok (.lconst 0, 1) := dk_9 (dk_at dksX6_law_1 2 rfl rfl)
theorem dX6_law_27 : decode cX6_law 27 = .ok (.ldc2_w 253, 3) := dk_20 0 253 (dk_at dksX6_law_1 3 rfl rfl)
theorem dX6_law_30 : decode cX6_law 30 = .ok (.invokestatic 88, 3) := dk_184 0 88 (dk_at dksX6_law_1 6 rfl rfl)
theorem dX6_law_33 : decode cX6_law 33 = .ok (.ifCond .eq 12, 3) := dk_153 0 12 (dk_at dksX6_law_1 9 rfl rfl)
theorem dX6_law_36 : decode cX6_law 36 = .ok (.aload_n 0, 1) := dk_42 (dk_at dksX6_law_1 12 rfl rfl)
theorem dX6_law_37 : decode cX6_law 37 = .ok (.iload 4, 2) := dk_21 4 (dk_at dksX6_law_1 13 rfl rfl)
theorem dX6_law_39 : decode cX6_law 39 = .ok (.invokevirtual 255, 3) := dk_182 0 255 (dk_at dksX6_law_1 15 rfl rfl)
theorem dX6_law_42 : decode cX6_law 42 = .ok (.ifCond .ne 7, 3) := dk_154 0 7 (dk_at dksX6_law_1 18 rfl rfl)
theorem dX6_law_45 : decode cX6_law 45 = .ok (.ldc2_w 259, 3) := dk_20 1 3 (dk_at dksX6_law_1 21 rfl rfl)
theorem dX6_law_48 : decode cX6_law 48 = .ok (.lreturn, 1) := dk_173 (dk_at dksX6_law_2 0 rfl rfl)
theorem dX6_law_49 : decode cX6_law 49 = .ok (.iload_n 1, 1) := dk_27 (dk_at dksX6_law_2 1 rfl rfl)
theorem dX6_law_50 : decode cX6_law 50 = .ok (.iconst 2, 1) := dk_5 (dk_at dksX6_law_2 2 rfl rfl)
theorem dX6_law_51 : decode cX6_law 51 = .ok (.if_icmp .ne 9, 3) := dk_160 0 9 (dk_at dksX6_law_2 3 rfl rfl)
theorem dX6_law_54 : decode cX6_law 54 = .ok (.iload_n 2, 1) := dk_28 (dk_at dksX6_law_2 6 rfl rfl)
theorem dX6_law_55 : decode cX6_law 55 = .ok (.ifCond .le 5, 3) := dk_158 0 5 (dk_at dksX6_law_2 7 rfl rfl)
theorem dX6_law_58 : decode cX6_law 58 = .ok (.lconst 0, 1) := dk_9 (dk_at dksX6_law_2 10 rfl rfl)
theorem dX6_law_59 : decode cX6_law 59 = .ok (.lreturn, 1) := dk_173 (dk_at dksX6_law_2 11 rfl rfl)
theorem dX6_law_60 : decode cX6_law 60 = .ok (.aload_n 0, 1) := dk_42 (dk_at dksX6_law_2 12 rfl rfl)
theorem dX6_law_61 : decode cX6_law 61 = .ok (.iload_n 1, 1) := dk_27 (dk_at dksX6_law_2 13 rfl rfl)
theorem dX6_law_62 : decode cX6_law 62 = .ok (.iconst 2, 1) := dk_5 (dk_at dksX6_law_2 14 rfl rfl)
theorem dX6_law_63 : decode cX6_law 63 = .ok (.if_icmp .ne 8, 3) := dk_160 0 8 (dk_at dksX6_law_2 15 rfl rfl)
theorem dX6_law_66 : decode cX6_law 66 = .ok (.bipush 8, 2) := dk_16 8 (dk_at dksX6_law_2 18 rfl rfl)
theorem dX6_law_68 : decode cX6_law 68 = .ok (.goto 8, 3) := dk_167 0 8 (dk_at dksX6_law_2 20 rfl rfl)
theorem dX6_law_71 : decode cX6_law 71 = .ok (.iconst 4, 1) := dk_7 (dk_at dksX6_law_2 23 rfl rfl)
theorem dX6_law_72 : decode cX6_law 72 = .ok (.iload_n 1, 1) := dk_27 (dk_at dksX6_law_3 0 rfl rfl)
theorem dX6_law_73 : decode cX6_law 73 = .ok (.imul, 1) := dk_104 (dk_at dksX6_law_3 1 rfl rfl)
theorem dX6_law_74 : decode cX6_law 74 = .ok (.iload_n 2, 1) := dk_28 (dk_at dksX6_law_3 2 rfl rfl)
theorem dX6_law_75 : decode cX6_law 75 = .ok (.iadd, 1) := dk_96 (dk_at dksX6_law_3 3 rfl rfl)
theorem dX6_law_76 : decode cX6_law 76 = .ok (.iload_n 3, 1) := dk_29 (dk_at dksX6_law_3 4 rfl rfl)
theorem dX6_law_77 : decode cX6_law 77 = .ok (.aload_n 0, 1) := dk_42 (dk_at dksX6_law_3 5 rfl rfl)
theorem dX6_law_78 : decode cX6_law 78 = .ok (.getfield 13, 3) := dk_180 0 13 (dk_at dksX6_law_3 6 rfl rfl)
theorem dX6_law_81 : decode cX6_law 81 = .ok (.bipush 10, 2) := dk_16 10 (dk_at dksX6_law_3 9 rfl rfl)
theorem dX6_law_83 : decode cX6_law 83 = .ok (.iload 4, 2) := dk_21 4 (dk_at dksX6_law_3 11 rfl rfl)
theorem dX6_law_85 : decode cX6_law 85 = .ok (.iadd, 1) := dk_96 (dk_at dksX6_law_3 13 rfl rfl)
theorem dX6_law_86 : decode cX6_law 86 = .ok (.iaload, 1) := dk_46 (dk_at dksX6_law_3 14 rfl rfl)
theorem dX6_law_87 : decode cX6_law 87 = .ok (.invokevirtual 261, 3) := dk_182 1 5 (dk_at dksX6_law_3 15 rfl rfl)
theorem dX6_law_90 : decode cX6_law 90 = .ok (.lreturn, 1) := dk_173 (dk_at dksX6_law_3 18 rfl rfl)
abbrev cX6_isThing : ByteArray := prog_18_method_9_code
def yX6_isThing : MethodName := ⟨RX6, "isThing", "(I)Z"⟩
def dkwX6_isThing_0 : List UInt8 := [27, 133, 9, 42, 180, 0, 13, 4, 46, 4, 100, 133, 184, 0, 88, 172]
abbrev dktX6_isThing_0 : List UInt8 := dkwX6_isThing_0 ++ []
theorem dksX6_isThing_0 : cX6_isThing.data.toList.drop 0 = dktX6_isThing_0 := by decide +kernel
theorem dX6_isThing_0 : decode cX6_isThing 0 = .ok (.iload_n 1, 1) := dk_27 (dk_at dksX6_isThing_0 0 rfl rfl)
theorem dX6_isThing_1 : decode cX6_isThing 1 = .ok (.i2l, 1) := dk_133 (dk_at dksX6_isThing_0 1 rfl rfl)
theorem dX6_isThing_2 : decode cX6_isThing 2 = .ok (.lconst 0, 1) := dk_9 (dk_at dksX6_isThing_0 2 rfl rfl)
theorem dX6_isThing_3 : decode cX6_isThing 3 = .ok (.aload_n 0, 1) := dk_42 (dk_at dksX6_isThing_0 3 rfl rfl)
theorem dX6_isThing_4 : decode cX6_isThing 4 = .ok (.getfield 13, 3) := dk_180 0 13 (dk_at dksX6_isThing_0 4 rfl rfl)
theorem dX6_isThing_7 : decode cX6_isThing 7 = .ok (.iconst 1, 1) := dk_4 (dk_at dksX6_isThing_0 7 rfl rfl)
theorem dX6_isThing_8 : decode cX6_isThing 8 = .ok (.iaload, 1) := dk_46 (dk_at dksX6_isThing_0 8 rfl rfl)
theorem dX6_isThing_9 : decode cX6_isThing 9 = .ok (.iconst 1, 1) := dk_4 (dk_at dksX6_isThing_0 9 rfl rfl)
theorem dX6_isThing_10 : decode cX6_isThing 10 = .ok (.isub, 1) := dk_100 (dk_at dksX6_isThing_0 10 rfl rfl)
theorem dX6_isThing_11 : decode cX6_isThing 11 = .ok (.i2l, 1) := dk_133 (dk_at dksX6_isThing_0 11 rfl rfl)
theorem dX6_isThing_12 : decode cX6_isThing 12 = .ok (.invokestatic 88, 3) := dk_184 0 88 (dk_at dksX6_isThing_0 12 rfl rfl)
theorem dX6_isThing_15 : decode cX6_isThing 15 = .ok (.ireturn, 1) := dk_172 (dk_at dksX6_isThing_0 15 rfl rfl)
abbrev cX6_comesTo : ByteArray := prog_18_method_31_code
def yX6_comesTo : MethodName := ⟨RX6, "comesTo", "(III)J"⟩
def dkwX6_comesTo_10 : List UInt8 := [20, 0, 249, 184, 0, 88, 154, 0, 5, 9, 173, 167, 255, 62, 22, 6, 173]
abbrev dktX6_comesTo_10 : List UInt8 := dkwX6_comesTo_10 ++ []
def dkwX6_comesTo_9 : List UInt8 := [153, 0, 11, 22, 6, 22, 9, 101, 167, 0, 8, 22, 6, 22, 9, 97, 55, 6, 22, 6, 20, 0, 247]
abbrev dktX6_comesTo_9 : List UInt8 := dkwX6_comesTo_9 ++ dktX6_comesTo_10
def dkwX6_comesTo_8 : List UInt8 := [20, 0, 247, 20, 0, 249, 184, 0, 88, 154, 0, 5, 9, 173, 132, 4, 1, 167, 255, 145, 21, 8]
abbrev dktX6_comesTo_8 : List UInt8 := dkwX6_comesTo_8 ++ dktX6_comesTo_9
def dkwX6_comesTo_7 : List UInt8 := [21, 13, 153, 0, 11, 22, 9, 22, 11, 105, 167, 0, 8, 22, 9, 22, 11, 109, 55, 9, 22, 9]
abbrev dktX6_comesTo_7 : List UInt8 := dkwX6_comesTo_7 ++ dktX6_comesTo_8
def dkwX6_comesTo_6 : List UInt8 := [160, 0, 7, 4, 167, 0, 4, 3, 54, 13, 21, 13, 154, 0, 12, 22, 11, 9, 148, 154, 0, 5, 9, 173]
abbrev dktX6_comesTo_6 : List UInt8 := dkwX6_comesTo_6 ++ dktX6_comesTo_7
def dkwX6_comesTo_5 : List UInt8 := [42, 21, 4, 28, 29, 182, 0, 243, 55, 11, 42, 180, 0, 13, 17, 0, 220, 6, 21, 4, 104, 96, 46, 6]
abbrev dktX6_comesTo_5 : List UInt8 := dkwX6_comesTo_5 ++ dktX6_comesTo_6
def dkwX6_comesTo_4 : List UInt8 := [21, 4, 21, 5, 162, 0, 110, 42, 180, 0, 13, 17, 0, 220, 6, 21, 4, 104, 96, 46, 6, 161, 0, 93]
abbrev dktX6_comesTo_4 : List UInt8 := dkwX6_comesTo_4 ++ dktX6_comesTo_5
def dkwX6_comesTo_3 : List UInt8 := [160, 0, 7, 4, 167, 0, 4, 3, 54, 8, 42, 21, 4, 28, 29, 182, 0, 243, 55, 9, 132, 4, 1]
abbrev dktX6_comesTo_3 : List UInt8 := dkwX6_comesTo_3 ++ dktX6_comesTo_4
def dkwX6_comesTo_2 : List UInt8 := [55, 6, 21, 4, 21, 5, 162, 0, 193, 42, 180, 0, 13, 17, 0, 220, 6, 21, 4, 104, 96, 46, 5]
abbrev dktX6_comesTo_2 : List UInt8 := dkwX6_comesTo_2 ++ dktX6_comesTo_3
def dkwX6_comesTo_1 : List UInt8 := [96, 46, 54, 4, 21, 4, 42, 180, 0, 13, 17, 0, 202, 5, 27, 104, 96, 4, 96, 46, 96, 54, 5, 9]
abbrev dktX6_comesTo_1 : List UInt8 := dkwX6_comesTo_1 ++ dktX6_comesTo_2
def dkwX6_comesTo_0 : List UInt8 := [27, 42, 180, 0, 55, 160, 0, 9, 42, 180, 0, 240, 133, 173, 42, 180, 0, 13, 17, 0, 202, 5, 27, 104]
abbrev dktX6_comesTo_0 : List UInt8 := dkwX6_comesTo_0 ++ dktX6_comesTo_1
theorem dksX6_comesTo_0 : cX6_comesTo.data.toList.drop 0 = dktX6_comesTo_0 := by decide +kernel
theorem dksX6_comesTo_1 : cX6_comesTo.data.toList.drop 24 = dktX6_comesTo_1 := dk_seg dksX6_comesTo_0 24 rfl rfl
theorem dksX6_comesTo_2 : cX6_comesTo.data.toList.drop 48 = dktX6_comesTo_2 := dk_seg dksX6_comesTo_1 24 rfl rfl
theorem dksX6_comesTo_3 : cX6_comesTo.data.toList.drop 71 = dktX6_comesTo_3 := dk_seg dksX6_comesTo_2 23 rfl rfl
theorem dksX6_comesTo_4 : cX6_comesTo.data.toList.drop 94 = dktX6_comesTo_4 := dk_seg dksX6_comesTo_3 23 rfl rfl
theorem dksX6_comesTo_5 : cX6_comesTo.data.toList.drop 118 = dktX6_comesTo_5 := dk_seg dksX6_comesTo_4 24 rfl rfl
theorem dksX6_comesTo_6 : cX6_comesTo.data.toList.drop 142 = dktX6_comesTo_6 := dk_seg dksX6_comesTo_5 24 rfl rfl
theorem dksX6_comesTo_7 : cX6_comesTo.data.toList.drop 166 = dktX6_comesTo_7 := dk_seg dksX6_comesTo_6 24 rfl rfl
theorem dksX6_comesTo_8 : cX6_comesTo.data.toList.drop 188 = dktX6_comesTo_8 := dk_seg dksX6_comesTo_7 22 rfl rfl
theorem dksX6_comesTo_9 : cX6_comesTo.data.toList.drop 210 = dktX6_comesTo_9 := dk_seg dksX6_comesTo_8 22 rfl rfl
theorem dksX6_comesTo_10 : cX6_comesTo.data.toList.drop 233 = dktX6_comesTo_10 := dk_seg dksX6_comesTo_9 23 rfl rfl
theorem dX6_comesTo_0 : decode cX6_comesTo 0 = .ok (.iload_n 1, 1) := dk_27 (dk_at dksX6_comesTo_0 0 rfl rfl)
theorem dX6_comesTo_1 : decode cX6_comesTo 1 = .ok (.aload_n 0, 1) := dk_42 (dk_at dksX6_comesTo_0 1 rfl rfl)
theorem dX6_comesTo_2 : decode cX6_comesTo 2 = .ok (.getfield 55, 3) := dk_180 0 55 (dk_at dksX6_comesTo_0 2 rfl rfl)
theorem dX6_comesTo_5 : decode cX6_comesTo 5 = .ok (.if_icmp .ne 9, 3) := dk_160 0 9 (dk_at dksX6_comesTo_0 5 rfl rfl)
theorem dX6_comesTo_8 : decode cX6_comesTo 8 = .ok (.aload_n 0, 1) := dk_42 (dk_at dksX6_comesTo_0 8 rfl rfl)
theorem dX6_comesTo_9 : decode cX6_comesTo 9 = .ok (.getfield 240, 3) := dk_180 0 240 (dk_at dksX6_comesTo_0 9 rfl rfl)
theorem dX6_comesTo_12 : decode cX6_comesTo 12 = .ok (.i2l, 1) := dk_133 (dk_at dksX6_comesTo_0 12 rfl rfl)
theorem dX6_comesTo_13 : decode cX6_comesTo 13 = .ok (.lreturn, 1) := dk_173 (dk_at dksX6_comesTo_0 13 rfl rfl)
theorem dX6_comesTo_14 : decode cX6_comesTo 14 = .ok (.aload_n 0, 1) := dk_42 (dk_at dksX6_comesTo_0 14 rfl rfl)
theorem dX6_comesTo_15 : decode cX6_comesTo 15 = .ok (.getfield 13, 3) := dk_180 0 13 (dk_at dksX6_comesTo_0 15 rfl rfl)
theorem dX6_comesTo_18 : decode cX6_comesTo 18 = .ok (.sipush 202, 3) := dk_17 0 202 (dk_at dksX6_comesTo_0 18 rfl rfl)
theorem dX6_comesTo_21 : decode cX6_comesTo 21 = .ok (.iconst 2, 1) := dk_5 (dk_at dksX6_comesTo_0 21 rfl rfl)
theorem dX6_comesTo_22 : decode cX6_comesTo 22 = .ok (.iload_n 1, 1) := dk_27 (dk_at dksX6_comesTo_0 22 rfl rfl)
theorem dX6_comesTo_23 : decode cX6_comesTo 23 = .ok (.imul, 1) := dk_104 (dk_at dksX6_comesTo_0 23 rfl rfl)
theorem dX6_comesTo_24 : decode cX6_comesTo 24 = .ok (.iadd, 1) := dk_96 (dk_at dksX6_comesTo_1 0 rfl rfl)
theorem dX6_comesTo_25 : decode cX6_comesTo 25 = .ok (.iaload, 1) := dk_46 (dk_at dksX6_comesTo_1 1 rfl rfl)
theorem dX6_comesTo_26 : decode cX6_comesTo 26 = .ok (.istore 4, 2) := dk_54 4 (dk_at dksX6_comesTo_1 2 rfl rfl)
theorem dX6_comesTo_28 : decode cX6_comesTo 28 = .ok (.iload 4, 2) := dk_21 4 (dk_at dksX6_comesTo_1 4 rfl rfl)
theorem dX6_comesTo_30 : decode cX6_comesTo 30 = .ok (.aload_n 0, 1) := dk_42 (dk_at dksX6_comesTo_1 6 rfl rfl)
theorem dX6_comesTo_31 : decode cX6_comesTo 31 = .ok (.getfield 13, 3) := dk_180 0 13 (dk_at dksX6_comesTo_1 7 rfl rfl)
theorem dX6_comesTo_34 : decode cX6_comesTo 34 = .ok (.sipush 202, 3) := dk_17 0 202 (dk_at dksX6_comesTo_1 10 rfl rfl)
theorem dX6_comesTo_37 : decode cX6_comesTo 37 = .ok (.iconst 2, 1) := dk_5 (dk_at dksX6_comesTo_1 13 rfl rfl)
theorem dX6_comesTo_38 : decode cX6_comesTo 38 = .ok (.iload_n 1, 1) := dk_27 (dk_at dksX6_comesTo_1 14 rfl rfl)
theorem dX6_comesTo_39 : decode cX6_comesTo 39 = .ok (.imul, 1) := dk_104 (dk_at dksX6_comesTo_1 15 rfl rfl)
theorem dX6_comesTo_40 : decode cX6_comesTo 40 = .ok (.iadd, 1) := dk_96 (dk_at dksX6_comesTo_1 16 rfl rfl)
theorem dX6_comesTo_41 : decode cX6_comesTo 41 = .ok (.iconst 1, 1) := dk_4 (dk_at dksX6_comesTo_1 17 rfl rfl)
theorem dX6_comesTo_42 : decode cX6_comesTo 42 = .ok (.iadd, 1) := dk_96 (dk_at dksX6_comesTo_1 18 rfl rfl)
theorem dX6_comesTo_43 : decode cX6_comesTo 43 = .ok (.iaload, 1) := dk_46 (dk_at dksX6_comesTo_1 19 rfl rfl)
theorem dX6_comesTo_44 : decode cX6_comesTo 44 = .ok (.iadd, 1) := dk_96 (dk_at dksX6_comesTo_1 20 rfl rfl)
theorem dX6_comesTo_45 : decode cX6_comesTo 45 = .ok (.istore 5, 2) := dk_54 5 (dk_at dksX6_comesTo_1 21 rfl rfl)
theorem dX6_comesTo_47 : decode cX6_comesTo 47 = .ok (.lconst 0, 1) := dk_9 (dk_at dksX6_comesTo_1 23 rfl rfl)
theorem dX6_comesTo_48 : decode cX6_comesTo 48 = .ok (.lstore 6, 2) := dk_55 6 (dk_at dksX6_comesTo_2 0 rfl rfl)
theorem dX6_comesTo_50 : decode cX6_comesTo 50 = .ok (.iload 4, 2) := dk_21 4 (dk_at dksX6_comesTo_2 2 rfl rfl)
theorem dX6_comesTo_52 : decode cX6_comesTo 52 = .ok (.iload 5, 2) := dk_21 5 (dk_at dksX6_comesTo_2 4 rfl rfl)
theorem dX6_comesTo_54 : decode cX6_comesTo 54 = .ok (.if_icmp .ge 193, 3) := dk_162 0 193 (dk_at dksX6_comesTo_2 6 rfl rfl)
theorem dX6_comesTo_57 : decode cX6_comesTo 57 = .ok (.aload_n 0, 1) := dk_42 (dk_at dksX6_comesTo_2 9 rfl rfl)
theorem dX6_comesTo_58 : decode cX6_comesTo 58 = .ok (.getfield 13, 3) := dk_180 0 13 (dk_at dksX6_comesTo_2 10 rfl rfl)
theorem dX6_comesTo_61 : decode cX6_comesTo 61 = .ok (.sipush 220, 3) := dk_17 0 220 (dk_at dksX6_comesTo_2 13 rfl rfl)
theorem dX6_comesTo_64 : decode cX6_comesTo 64 = .ok (.iconst 3, 1) := dk_6 (dk_at dksX6_comesTo_2 16 rfl rfl)
theorem dX6_comesTo_65 : decode cX6_comesTo 65 = .ok (.iload 4, 2) := dk_21 4 (dk_at dksX6_comesTo_2 17 rfl rfl)
theorem dX6_comesTo_67 : decode cX6_comesTo 67 = .ok (.imul, 1) := dk_104 (dk_at dksX6_comesTo_2 19 rfl rfl)
theorem dX6_comesTo_68 : decode cX6_comesTo 68 = .ok (.iadd, 1) := dk_96 (dk_at dksX6_comesTo_2 20 rfl rfl)
theorem dX6_comesTo_69 : decode cX6_comesTo 69 = .ok (.iaload, 1) := dk_46 (dk_at dksX6_comesTo_2 21 rfl rfl)
theorem dX6_comesTo_70 : decode cX6_comesTo 70 = .ok (.iconst 2, 1) := dk_5 (dk_at dksX6_comesTo_2 22 rfl rfl)
theorem dX6_comesTo_71 : decode cX6_comesTo 71 = .ok (.if_icmp .ne 7, 3) := dk_160 0 7 (dk_at dksX6_comesTo_3 0 rfl rfl)
theorem dX6_comesTo_74 : decode cX6_comesTo 74 = .ok (.iconst 1, 1) := dk_4 (dk_at dksX6_comesTo_3 3 rfl rfl)
theorem dX6_comesTo_75 : decode cX6_comesTo 75 = .ok (.goto 4, 3) := dk_167 0 4 (dk_at dksX6_comesTo_3 4 rfl rfl)
theorem dX6_comesTo_78 : decode cX6_comesTo 78 = .ok (.iconst 0, 1) := dk_3 (dk_at dksX6_comesTo_3 7 rfl rfl)
theorem dX6_comesTo_79 : decode cX6_comesTo 79 = .ok (.istore 8, 2) := dk_54 8 (dk_at dksX6_comesTo_3 8 rfl rfl)
theorem dX6_comesTo_81 : decode cX6_comesTo 81 = .ok (.aload_n 0, 1) := dk_42 (dk_at dksX6_comesTo_3 10 rfl rfl)
theorem dX6_comesTo_82 : decode cX6_comesTo 82 = .ok (.iload 4, 2) := dk_21 4 (dk_at dksX6_comesTo_3 11 rfl rfl)
theorem dX6_comesTo_84 : decode cX6_comesTo 84 = .ok (.iload_n 2, 1) := dk_28 (dk_at dksX6_comesTo_3 13 rfl rfl)
theorem dX6_comesTo_85 : decode cX6_comesTo 85 = .ok (.iload_n 3, 1) := dk_29 (dk_at dksX6_comesTo_3 14 rfl rfl)
theorem dX6_comesTo_86 : decode cX6_comesTo 86 = .ok (.invokevirtual 243, 3) := dk_182 0 243 (dk_at dksX6_comesTo_3 15 rfl rfl)
theorem dX6_comesTo_89 : decode cX6_comesTo 89 = .ok (.lstore 9, 2) := dk_55 9 (dk_at dksX6_comesTo_3 18 rfl rfl)
theorem dX6_comesTo_91 : decode cX6_comesTo 91 = .ok (.iinc 4 1, 3) := dk_132 4 1 (dk_at dksX6_comesTo_3 20 rfl rfl)
theorem dX6_comesTo_94 : decode cX6_comesTo 94 = .ok (.iload 4, 2) := dk_21 4 (dk_at dksX6_comesTo_4 0 rfl rfl)
theorem dX6_comesTo_96 : decode cX6_comesTo 96 = .ok (.iload 5, 2) := dk_21 5 (dk_at dksX6_comesTo_4 2 rfl rfl)
theorem dX6_comesTo_98 : decode cX6_comesTo 98 = .ok (.if_icmp .ge 110, 3) := dk_162 0 110 (dk_at dksX6_comesTo_4 4 rfl rfl)
theorem dX6_comesTo_101 : decode cX6_comesTo 101 = .ok (.aload_n 0, 1) := dk_42 (dk_at dksX6_comesTo_4 7 rfl rfl)
theorem dX6_comesTo_102 : decode cX6_comesTo 102 = .ok (.getfield 13, 3) := dk_180 0 13 (dk_at dksX6_comesTo_4 8 rfl rfl)
theorem dX6_comesTo_105 : decode cX6_comesTo 105 = .ok (.sipush 220, 3) := dk_17 0 220 (dk_at dksX6_comesTo_4 11 rfl rfl)
theorem dX6_comesTo_108 : decode cX6_comesTo 108 = .ok (.iconst 3, 1) := dk_6 (dk_at dksX6_comesTo_4 14 rfl rfl)
theorem dX6_comesTo_109 : decode cX6_comesTo 109 = .ok (.iload 4, 2) := dk_21 4 (dk_at dksX6_comesTo_4 15 rfl rfl)
theorem dX6_comesTo_111 : decode cX6_comesTo 111 = .ok (.imul, 1) := dk_104 (dk_at dksX6_comesTo_4 17 rfl rfl)
theorem dX6_comesTo_112 : decode cX6_comesTo 112 = .ok (.iadd, 1) := dk_96 (dk_at dksX6_comesTo_4 18 rfl rfl)
theorem dX6_comesTo_113 : decode cX6_comesTo 113 = .ok (.iaload, 1) := dk_46 (dk_at dksX6_comesTo_4 19 rfl rfl)
theorem dX6_comesTo_114 : decode cX6_comesTo 114 = .ok (.iconst 3, 1) := dk_6 (dk_at dksX6_comesTo_4 20 rfl rfl)
theorem dX6_comesTo_115 : decode cX6_comesTo 115 = .ok (.if_icmp .lt 93, 3) := dk_161 0 93 (dk_at dksX6_comesTo_4 21 rfl rfl)
theorem dX6_comesTo_118 : decode cX6_comesTo 118 = .ok (.aload_n 0, 1) := dk_42 (dk_at dksX6_comesTo_5 0 rfl rfl)
theorem dX6_comesTo_119 : decode cX6_comesTo 119 = .ok (.iload 4, 2) := dk_21 4 (dk_at dksX6_comesTo_5 1 rfl rfl)
theorem dX6_comesTo_121 : decode cX6_comesTo 121 = .ok (.iload_n 2, 1) := dk_28 (dk_at dksX6_comesTo_5 3 rfl rfl)
theorem dX6_comesTo_122 : decode cX6_comesTo 122 = .ok (.iload_n 3, 1) := dk_29 (dk_at dksX6_comesTo_5 4 rfl rfl)
theorem dX6_comesTo_123 : decode cX6_comesTo 123 = .ok (.invokevirtual 243, 3) := dk_182 0 243 (dk_at dksX6_comesTo_5 5 rfl rfl)
theorem dX6_comesTo_126 : decode cX6_comesTo 126 = .ok (.lstore 11, 2) := dk_55 11 (dk_at dksX6_comesTo_5 8 rfl rfl)
theorem dX6_comesTo_128 : decode cX6_comesTo 128 = .ok (.aload_n 0, 1) := dk_42 (dk_at dksX6_comesTo_5 10 rfl rfl)
theorem dX6_comesTo_129 : decode cX6_comesTo 129 = .ok (.getfield 13, 3) := dk_180 0 13 (dk_at dksX6_comesTo_5 11 rfl rfl)
theorem dX6_comesTo_132 : decode cX6_comesTo 132 = .ok (.sipush 220, 3) := dk_17 0 220 (dk_at dksX6_comesTo_5 14 rfl rfl)
theorem dX6_comesTo_135 : decode cX6_comesTo 135 = .ok (.iconst 3, 1) := dk_6 (dk_at dksX6_comesTo_5 17 rfl rfl)
theorem dX6_comesTo_136 : decode cX6_comesTo 136 = .ok (.iload 4, 2) := dk_21 4 (dk_at dksX6_comesTo_5 18 rfl rfl)
theorem dX6_comesTo_138 : decode cX6_comesTo 138 = .ok (.imul, 1) := dk_104 (dk_at dksX6_comesTo_5 20 rfl rfl)
theorem dX6_comesTo_139 : decode cX6_comesTo 139 = .ok (.iadd, 1) := dk_96 (dk_at dksX6_comesTo_5 21 rfl rfl)
theorem dX6_comesTo_140 : decode cX6_comesTo 140 = .ok (.iaload, 1) := dk_46 (dk_at dksX6_comesTo_5 22 rfl rfl)
theorem dX6_comesTo_141 : decode cX6_comesTo 141 = .ok (.iconst 3, 1) := dk_6 (dk_at dksX6_comesTo_5 23 rfl rfl)
theorem dX6_comesTo_142 : decode cX6_comesTo 142 = .ok (.if_icmp .ne 7, 3) := dk_160 0 7 (dk_at dksX6_comesTo_6 0 rfl rfl)
theorem dX6_comesTo_145 : decode cX6_comesTo 145 = .ok (.iconst 1, 1) := dk_4 (dk_at dksX6_comesTo_6 3 rfl rfl)
theorem dX6_comesTo_146 : decode cX6_comesTo 146 = .ok (.goto 4, 3) := dk_167 0 4 (dk_at dksX6_comesTo_6 4 rfl rfl)
theorem dX6_comesTo_149 : decode cX6_comesTo 149 = .ok (.iconst 0, 1) := dk_3 (dk_at dksX6_comesTo_6 7 rfl rfl)
theorem dX6_comesTo_150 : decode cX6_comesTo 150 = .ok (.istore 13, 2) := dk_54 13 (dk_at dksX6_comesTo_6 8 rfl rfl)
theorem dX6_comesTo_152 : decode cX6_comesTo 152 = .ok (.iload 13, 2) := dk_21 13 (dk_at dksX6_comesTo_6 10 rfl rfl)
theorem dX6_comesTo_154 : decode cX6_comesTo 154 = .ok (.ifCond .ne 12, 3) := dk_154 0 12 (dk_at dksX6_comesTo_6 12 rfl rfl)
theorem dX6_comesTo_157 : decode cX6_comesTo 157 = .ok (.lload 11, 2) := dk_22 11 (dk_at dksX6_comesTo_6 15 rfl rfl)
theorem dX6_comesTo_159 : decode cX6_comesTo 159 = .ok (.lconst 0, 1) := dk_9 (dk_at dksX6_comesTo_6 17 rfl rfl)
theorem dX6_comesTo_160 : decode cX6_comesTo 160 = .ok (.lcmp, 1) := dk_148 (dk_at dksX6_comesTo_6 18 rfl rfl)
theorem dX6_comesTo_161 : decode cX6_comesTo 161 = .ok (.ifCond .ne 5, 3) := dk_154 0 5 (dk_at dksX6_comesTo_6 19 rfl rfl)
theorem dX6_comesTo_164 : decode cX6_comesTo 164 = .ok (.lconst 0, 1) := dk_9 (dk_at dksX6_comesTo_6 22 rfl rfl)
theorem dX6_comesTo_165 : decode cX6_comesTo 165 = .ok (.lreturn, 1) := dk_173 (dk_at dksX6_comesTo_6 23 rfl rfl)
theorem dX6_comesTo_166 : decode cX6_comesTo 166 = .ok (.iload 13, 2) := dk_21 13 (dk_at dksX6_comesTo_7 0 rfl rfl)
theorem dX6_comesTo_168 : decode cX6_comesTo 168 = .ok (.ifCond .eq 11, 3) := dk_153 0 11 (dk_at dksX6_comesTo_7 2 rfl rfl)
theorem dX6_comesTo_171 : decode cX6_comesTo 171 = .ok (.lload 9, 2) := dk_22 9 (dk_at dksX6_comesTo_7 5 rfl rfl)
theorem dX6_comesTo_173 : decode cX6_comesTo 173 = .ok (.lload 11, 2) := dk_22 11 (dk_at dksX6_comesTo_7 7 rfl rfl)
theorem dX6_comesTo_175 : decode cX6_comesTo 175 = .ok (.lmul, 1) := dk_105 (dk_at dksX6_comesTo_7 9 rfl rfl)
theorem dX6_comesTo_176 : decode cX6_comesTo 176 = .ok (.goto 8, 3) := dk_167 0 8 (dk_at dksX6_comesTo_7 10 rfl rfl)
theorem dX6_comesTo_179 : decode cX6_comesTo 179 = .ok (.lload 9, 2) := dk_22 9 (dk_at dksX6_comesTo_7 13 rfl rfl)
theorem dX6_comesTo_181 : decode cX6_comesTo 181 = .ok (.lload 11, 2) := dk_22 11 (dk_at dksX6_comesTo_7 15 rfl rfl)
theorem dX6_comesTo_183 : decode cX6_comesTo 183 = .ok (.ldiv, 1) := dk_109 (dk_at dksX6_comesTo_7 17 rfl rfl)
theorem dX6_comesTo_184 : decode cX6_comesTo 184 = .ok (.lstore 9, 2) := dk_55 9 (dk_at dksX6_comesTo_7 18 rfl rfl)
theorem dX6_comesTo_186 : decode cX6_comesTo 186 = .ok (.lload 9, 2) := dk_22 9 (dk_at dksX6_comesTo_7 20 rfl rfl)
theorem dX6_comesTo_188 : decode cX6_comesTo 188 = .ok (.ldc2_w 247, 3) := dk_20 0 247 (dk_at dksX6_comesTo_8 0 rfl rfl)
theorem dX6_comesTo_191 : decode cX6_comesTo 191 = .ok (.ldc2_w 249, 3) := dk_20 0 249 (dk_at dksX6_comesTo_8 3 rfl rfl)
theorem dX6_comesTo_194 : decode cX6_comesTo 194 = .ok (.invokestatic 88, 3) := dk_184 0 88 (dk_at dksX6_comesTo_8 6 rfl rfl)
theorem dX6_comesTo_197 : decode cX6_comesTo 197 = .ok (.ifCond .ne 5, 3) := dk_154 0 5 (dk_at dksX6_comesTo_8 9 rfl rfl)
theorem dX6_comesTo_200 : decode cX6_comesTo 200 = .ok (.lconst 0, 1) := dk_9 (dk_at dksX6_comesTo_8 12 rfl rfl)
theorem dX6_comesTo_201 : decode cX6_comesTo 201 = .ok (.lreturn, 1) := dk_173 (dk_at dksX6_comesTo_8 13 rfl rfl)
theorem dX6_comesTo_202 : decode cX6_comesTo 202 = .ok (.iinc 4 1, 3) := dk_132 4 1 (dk_at dksX6_comesTo_8 14 rfl rfl)
theorem dX6_comesTo_205 : decode cX6_comesTo 205 = .ok (.goto (-111), 3) := dk_167 255 145 (dk_at dksX6_comesTo_8 17 rfl rfl)
theorem dX6_comesTo_208 : decode cX6_comesTo 208 = .ok (.iload 8, 2) := dk_21 8 (dk_at dksX6_comesTo_8 20 rfl rfl)
theorem dX6_comesTo_210 : decode cX6_comesTo 210 = .ok (.ifCond .eq 11, 3) := dk_153 0 11 (dk_at dksX6_comesTo_9 0 rfl rfl)
theorem dX6_comesTo_213 : decode cX6_comesTo 213 = .ok (.lload 6, 2) := dk_22 6 (dk_at dksX6_comesTo_9 3 rfl rfl)
theorem dX6_comesTo_215 : decode cX6_comesTo 215 = .ok (.lload 9, 2) := dk_22 9 (dk_at dksX6_comesTo_9 5 rfl rfl)
theorem dX6_comesTo_217 : decode cX6_comesTo 217 = .ok (.lsub, 1) := dk_101 (dk_at dksX6_comesTo_9 7 rfl rfl)
theorem dX6_comesTo_218 : decode cX6_comesTo 218 = .ok (.goto 8, 3) := dk_167 0 8 (dk_at dksX6_comesTo_9 8 rfl rfl)
theorem dX6_comesTo_221 : decode cX6_comesTo 221 = .ok (.lload 6, 2) := dk_22 6 (dk_at dksX6_comesTo_9 11 rfl rfl)
theorem dX6_comesTo_223 : decode cX6_comesTo 223 = .ok (.lload 9, 2) := dk_22 9 (dk_at dksX6_comesTo_9 13 rfl rfl)
theorem dX6_comesTo_225 : decode cX6_comesTo 225 = .ok (.ladd, 1) := dk_97 (dk_at dksX6_comesTo_9 15 rfl rfl)
theorem dX6_comesTo_226 : decode cX6_comesTo 226 = .ok (.lstore 6, 2) := dk_55 6 (dk_at dksX6_comesTo_9 16 rfl rfl)
theorem dX6_comesTo_228 : decode cX6_comesTo 228 = .ok (.lload 6, 2) := dk_22 6 (dk_at dksX6_comesTo_9 18 rfl rfl)
theorem dX6_comesTo_230 : decode cX6_comesTo 230 = .ok (.ldc2_w 247, 3) := dk_20 0 247 (dk_at dksX6_comesTo_9 20 rfl rfl)
theorem dX6_comesTo_233 : decode cX6_comesTo 233 = .ok (.ldc2_w 249, 3) := dk_20 0 249 (dk_at dksX6_comesTo_10 0 rfl rfl)
theorem dX6_comesTo_236 : decode cX6_comesTo 236 = .ok (.invokestatic 88, 3) := dk_184 0 88 (dk_at dksX6_comesTo_10 3 rfl rfl)
theorem dX6_comesTo_239 : decode cX6_comesTo 239 = .ok (.ifCond .ne 5, 3) := dk_154 0 5 (dk_at dksX6_comesTo_10 6 rfl rfl)
theorem dX6_comesTo_242 : decode cX6_comesTo 242 = .ok (.lconst 0, 1) := dk_9 (dk_at dksX6_comesTo_10 9 rfl rfl)
theorem dX6_comesTo_243 : decode cX6_comesTo 243 = .ok (.lreturn, 1) := dk_173 (dk_at dksX6_comesTo_10 10 rfl rfl)
theorem dX6_comesTo_244 : decode cX6_comesTo 244 = .ok (.goto (-194), 3) := dk_167 255 62 (dk_at dksX6_comesTo_10 11 rfl rfl)
theorem dX6_comesTo_247 : decode cX6_comesTo 247 = .ok (.lload 6, 2) := dk_22 6 (dk_at dksX6_comesTo_10 14 rfl rfl)
theorem dX6_comesTo_249 : decode cX6_comesTo 249 = .ok (.lreturn, 1) := dk_173 (dk_at dksX6_comesTo_10 16 rfl rfl)
abbrev cX6_partOf : ByteArray := prog_18_method_30_code
def yX6_partOf : MethodName := ⟨RX6, "partOf", "(III)J"⟩
def dkwX6_partOf_4 : List UInt8 := [16, 24, 112, 133, 173]
abbrev dktX6_partOf_4 : List UInt8 := dkwX6_partOf_4 ++ []
def dkwX6_partOf_3 : List UInt8 := [133, 173, 29, 133, 173, 42, 180, 0, 17, 17, 7, 225, 46, 133, 173, 42, 180, 0, 17, 17, 7, 224, 46]
abbrev dktX6_partOf_3 : List UInt8 := dkwX6_partOf_3 ++ dktX6_partOf_4
def dkwX6_partOf_2 : List UInt8 := [42, 180, 0, 13, 17, 0, 220, 6, 27, 104, 96, 5, 96, 46, 133, 173, 28, 133, 173, 17, 3, 232, 28, 100]
abbrev dktX6_partOf_2 : List UInt8 := dkwX6_partOf_2 ++ dktX6_partOf_3
def dkwX6_partOf_1 : List UInt8 := [170, 0, 0, 0, 0, 73, 0, 0, 0, 0, 0, 0, 0, 4, 0, 0, 0, 34, 0, 0, 0, 50, 0, 0, 0, 53, 0, 0, 0, 60, 0, 0, 0, 63]
abbrev dktX6_partOf_1 : List UInt8 := dkwX6_partOf_1 ++ dktX6_partOf_2
def dkwX6_partOf_0 : List UInt8 := [42, 180, 0, 13, 17, 0, 220, 6, 27, 104, 96, 4, 96, 46]
abbrev dktX6_partOf_0 : List UInt8 := dkwX6_partOf_0 ++ dktX6_partOf_1
theorem dksX6_partOf_0 : cX6_partOf.data.toList.drop 0 = dktX6_partOf_0 := by decide +kernel
theorem dksX6_partOf_1 : cX6_partOf.data.toList.drop 14 = dktX6_partOf_1 := dk_seg dksX6_partOf_0 14 rfl rfl
theorem dksX6_partOf_2 : cX6_partOf.data.toList.drop 48 = dktX6_partOf_2 := dk_seg dksX6_partOf_1 34 rfl rfl
theorem dksX6_partOf_3 : cX6_partOf.data.toList.drop 72 = dktX6_partOf_3 := dk_seg dksX6_partOf_2 24 rfl rfl
theorem dksX6_partOf_4 : cX6_partOf.data.toList.drop 95 = dktX6_partOf_4 := dk_seg dksX6_partOf_3 23 rfl rfl
theorem dX6_partOf_0 : decode cX6_partOf 0 = .ok (.aload_n 0, 1) := dk_42 (dk_at dksX6_partOf_0 0 rfl rfl)
theorem dX6_partOf_1 : decode cX6_partOf 1 = .ok (.getfield 13, 3) := dk_180 0 13 (dk_at dksX6_partOf_0 1 rfl rfl)
theorem dX6_partOf_4 : decode cX6_partOf 4 = .ok (.sipush 220, 3) := dk_17 0 220 (dk_at dksX6_partOf_0 4 rfl rfl)
theorem dX6_partOf_7 : decode cX6_partOf 7 = .ok (.iconst 3, 1) := dk_6 (dk_at dksX6_partOf_0 7 rfl rfl)
theorem dX6_partOf_8 : decode cX6_partOf 8 = .ok (.iload_n 1, 1) := dk_27 (dk_at dksX6_partOf_0 8 rfl rfl)
theorem dX6_partOf_9 : decode cX6_partOf 9 = .ok (.imul, 1) := dk_104 (dk_at dksX6_partOf_0 9 rfl rfl)
theorem dX6_partOf_10 : decode cX6_partOf 10 = .ok (.iadd, 1) := dk_96 (dk_at dksX6_partOf_0 10 rfl rfl)
theorem dX6_partOf_11 : decode cX6_partOf 11 = .ok (.iconst 1, 1) := dk_4 (dk_at dksX6_partOf_0 11 rfl rfl)
theorem dX6_partOf_12 : decode cX6_partOf 12 = .ok (.iadd, 1) := dk_96 (dk_at dksX6_partOf_0 12 rfl rfl)
theorem dX6_partOf_13 : decode cX6_partOf 13 = .ok (.iaload, 1) := dk_46 (dk_at dksX6_partOf_0 13 rfl rfl)
theorem dX6_partOf_14 : decode cX6_partOf 14 = .ok (.tableswitch 73 0 4 #[34, 50, 53, 60, 63], 34) := by decide +kernel
theorem dX6_partOf_48 : decode cX6_partOf 48 = .ok (.aload_n 0, 1) := dk_42 (dk_at dksX6_partOf_2 0 rfl rfl)
theorem dX6_partOf_49 : decode cX6_partOf 49 = .ok (.getfield 13, 3) := dk_180 0 13 (dk_at dksX6_partOf_2 1 rfl rfl)
theorem dX6_partOf_52 : decode cX6_partOf 52 = .ok (.sipush 220, 3) := dk_17 0 220 (dk_at dksX6_partOf_2 4 rfl rfl)
theorem dX6_partOf_55 : decode cX6_partOf 55 = .ok (.iconst 3, 1) := dk_6 (dk_at dksX6_partOf_2 7 rfl rfl)
theorem dX6_partOf_56 : decode cX6_partOf 56 = .ok (.iload_n 1, 1) := dk_27 (dk_at dksX6_partOf_2 8 rfl rfl)
theorem dX6_partOf_57 : decode cX6_partOf 57 = .ok (.imul, 1) := dk_104 (dk_at dksX6_partOf_2 9 rfl rfl)
theorem dX6_partOf_58 : decode cX6_partOf 58 = .ok (.iadd, 1) := dk_96 (dk_at dksX6_partOf_2 10 rfl rfl)
theorem dX6_partOf_59 : decode cX6_partOf 59 = .ok (.iconst 2, 1) := dk_5 (dk_at dksX6_partOf_2 11 rfl rfl)
theorem dX6_partOf_60 : decode cX6_partOf 60 = .ok (.iadd, 1) := dk_96 (dk_at dksX6_partOf_2 12 rfl rfl)
theorem dX6_partOf_61 : decode cX6_partOf 61 = .ok (.iaload, 1) := dk_46 (dk_at dksX6_partOf_2 13 rfl rfl)
theorem dX6_partOf_62 : decode cX6_partOf 62 = .ok (.i2l, 1) := dk_133 (dk_at dksX6_partOf_2 14 rfl rfl)
theorem dX6_partOf_63 : decode cX6_partOf 63 = .ok (.lreturn, 1) := dk_173 (dk_at dksX6_partOf_2 15 rfl rfl)
theorem dX6_partOf_64 : decode cX6_partOf 64 = .ok (.iload_n 2, 1) := dk_28 (dk_at dksX6_partOf_2 16 rfl rfl)
theorem dX6_partOf_65 : decode cX6_partOf 65 = .ok (.i2l, 1) := dk_133 (dk_at dksX6_partOf_2 17 rfl rfl)
theorem dX6_partOf_66 : decode cX6_partOf 66 = .ok (.lreturn, 1) := dk_173 (dk_at dksX6_partOf_2 18 rfl rfl)
theorem dX6_partOf_67 : decode cX6_partOf 67 = .ok (.sipush 1000, 3) := dk_17 3 232 (dk_at dksX6_partOf_2 19 rfl rfl)
theorem dX6_partOf_70 : decode cX6_partOf 70 = .ok (.iload_n 2, 1) := dk_28 (dk_at dksX6_partOf_2 22 rfl rfl)
theorem dX6_partOf_71 : decode cX6_partOf 71 = .ok (.isub, 1) := dk_100 (dk_at dksX6_partOf_2 23 rfl rfl)
theorem dX6_partOf_72 : decode cX6_partOf 72 = .ok (.i2l, 1) := dk_133 (dk_at dksX6_partOf_3 0 rfl rfl)
theorem dX6_partOf_73 : decode cX6_partOf 73 = .ok (.lreturn, 1) := dk_173 (dk_at dksX6_partOf_3 1 rfl rfl)
theorem dX6_partOf_74 : decode cX6_partOf 74 = .ok (.iload_n 3, 1) := dk_29 (dk_at dksX6_partOf_3 2 rfl rfl)
theorem dX6_partOf_75 : decode cX6_partOf 75 = .ok (.i2l, 1) := dk_133 (dk_at dksX6_partOf_3 3 rfl rfl)
theorem dX6_partOf_76 : decode cX6_partOf 76 = .ok (.lreturn, 1) := dk_173 (dk_at dksX6_partOf_3 4 rfl rfl)
theorem dX6_partOf_77 : decode cX6_partOf 77 = .ok (.aload_n 0, 1) := dk_42 (dk_at dksX6_partOf_3 5 rfl rfl)
theorem dX6_partOf_78 : decode cX6_partOf 78 = .ok (.getfield 17, 3) := dk_180 0 17 (dk_at dksX6_partOf_3 6 rfl rfl)
theorem dX6_partOf_81 : decode cX6_partOf 81 = .ok (.sipush 2017, 3) := dk_17 7 225 (dk_at dksX6_partOf_3 9 rfl rfl)
theorem dX6_partOf_84 : decode cX6_partOf 84 = .ok (.iaload, 1) := dk_46 (dk_at dksX6_partOf_3 12 rfl rfl)
theorem dX6_partOf_85 : decode cX6_partOf 85 = .ok (.i2l, 1) := dk_133 (dk_at dksX6_partOf_3 13 rfl rfl)
theorem dX6_partOf_86 : decode cX6_partOf 86 = .ok (.lreturn, 1) := dk_173 (dk_at dksX6_partOf_3 14 rfl rfl)
theorem dX6_partOf_87 : decode cX6_partOf 87 = .ok (.aload_n 0, 1) := dk_42 (dk_at dksX6_partOf_3 15 rfl rfl)
theorem dX6_partOf_88 : decode cX6_partOf 88 = .ok (.getfield 17, 3) := dk_180 0 17 (dk_at dksX6_partOf_3 16 rfl rfl)
theorem dX6_partOf_91 : decode cX6_partOf 91 = .ok (.sipush 2016, 3) := dk_17 7 224 (dk_at dksX6_partOf_3 19 rfl rfl)
theorem dX6_partOf_94 : decode cX6_partOf 94 = .ok (.iaload, 1) := dk_46 (dk_at dksX6_partOf_3 22 rfl rfl)
theorem dX6_partOf_95 : decode cX6_partOf 95 = .ok (.bipush 24, 2) := dk_16 24 (dk_at dksX6_partOf_4 0 rfl rfl)
theorem dX6_partOf_97 : decode cX6_partOf 97 = .ok (.irem, 1) := dk_112 (dk_at dksX6_partOf_4 2 rfl rfl)
theorem dX6_partOf_98 : decode cX6_partOf 98 = .ok (.i2l, 1) := dk_133 (dk_at dksX6_partOf_4 3 rfl rfl)
theorem dX6_partOf_99 : decode cX6_partOf 99 = .ok (.lreturn, 1) := dk_173 (dk_at dksX6_partOf_4 4 rfl rfl)
abbrev cX6_read : ByteArray := prog_18_method_47_code
def yX6_read : MethodName := ⟨RX6, "read", "(II)I"⟩
def dkwX6_read_2 : List UInt8 := [132, 4, 1, 167, 255, 242, 42, 27, 28, 3, 29, 182, 1, 64, 42, 180, 0, 92, 172]
abbrev dktX6_read_2 : List UInt8 := dkwX6_read_2 ++ []
def dkwX6_read_1 : List UInt8 := [27, 182, 1, 41, 184, 1, 56, 62, 3, 54, 4, 21, 4, 28, 162, 0, 14, 42, 27, 182, 1, 38]
abbrev dktX6_read_1 : List UInt8 := dkwX6_read_1 ++ dktX6_read_2
def dkwX6_read_0 : List UInt8 := [42, 27, 182, 1, 59, 153, 0, 15, 28, 133, 10, 20, 1, 62, 184, 0, 88, 154, 0, 6, 16, 254, 172, 42]
abbrev dktX6_read_0 : List UInt8 := dkwX6_read_0 ++ dktX6_read_1
theorem dksX6_read_0 : cX6_read.data.toList.drop 0 = dktX6_read_0 := by decide +kernel
theorem dksX6_read_1 : cX6_read.data.toList.drop 24 = dktX6_read_1 := dk_seg dksX6_read_0 24 rfl rfl
theorem dksX6_read_2 : cX6_read.data.toList.drop 46 = dktX6_read_2 := dk_seg dksX6_read_1 22 rfl rfl
theorem dX6_read_0 : decode cX6_read 0 = .ok (.aload_n 0, 1) := dk_42 (dk_at dksX6_read_0 0 rfl rfl)
theorem dX6_read_1 : decode cX6_read 1 = .ok (.iload_n 1, 1) := dk_27 (dk_at dksX6_read_0 1 rfl rfl)
theorem dX6_read_2 : decode cX6_read 2 = .ok (.invokevirtual 315, 3) := dk_182 1 59 (dk_at dksX6_read_0 2 rfl rfl)
theorem dX6_read_5 : decode cX6_read 5 = .ok (.ifCond .eq 15, 3) := dk_153 0 15 (dk_at dksX6_read_0 5 rfl rfl)
theorem dX6_read_8 : decode cX6_read 8 = .ok (.iload_n 2, 1) := dk_28 (dk_at dksX6_read_0 8 rfl rfl)
theorem dX6_read_9 : decode cX6_read 9 = .ok (.i2l, 1) := dk_133 (dk_at dksX6_read_0 9 rfl rfl)
theorem dX6_read_10 : decode cX6_read 10 = .ok (.lconst 1, 1) := dk_10 (dk_at dksX6_read_0 10 rfl rfl)
theorem dX6_read_11 : decode cX6_read 11 = .ok (.ldc2_w 318, 3) := dk_20 1 62 (dk_at dksX6_read_0 11 rfl rfl)
theorem dX6_read_14 : decode cX6_read 14 = .ok (.invokestatic 88, 3) := dk_184 0 88 (dk_at dksX6_read_0 14 rfl rfl)
theorem dX6_read_17 : decode cX6_read 17 = .ok (.ifCond .ne 6, 3) := dk_154 0 6 (dk_at dksX6_read_0 17 rfl rfl)
theorem dX6_read_20 : decode cX6_read 20 = .ok (.bipush (-2), 2) := dk_16 254 (dk_at dksX6_read_0 20 rfl rfl)
theorem dX6_read_22 : decode cX6_read 22 = .ok (.ireturn, 1) := dk_172 (dk_at dksX6_read_0 22 rfl rfl)
theorem dX6_read_23 : decode cX6_read 23 = .ok (.aload_n 0, 1) := dk_42 (dk_at dksX6_read_0 23 rfl rfl)
theorem dX6_read_24 : decode cX6_read 24 = .ok (.iload_n 1, 1) := dk_27 (dk_at dksX6_read_1 0 rfl rfl)
theorem dX6_read_25 : decode cX6_read 25 = .ok (.invokevirtual 297, 3) := dk_182 1 41 (dk_at dksX6_read_1 1 rfl rfl)
theorem dX6_read_28 : decode cX6_read 28 = .ok (.invokestatic 312, 3) := dk_184 1 56 (dk_at dksX6_read_1 4 rfl rfl)
theorem dX6_read_31 : decode cX6_read 31 = .ok (.istore_n 3, 1) := dk_62 (dk_at dksX6_read_1 7 rfl rfl)
theorem dX6_read_32 : decode cX6_read 32 = .ok (.iconst 0, 1) := dk_3 (dk_at dksX6_read_1 8 rfl rfl)
theorem dX6_read_33 : decode cX6_read 33 = .ok (.istore 4, 2) := dk_54 4 (dk_at dksX6_read_1 9 rfl rfl)
theorem dX6_read_35 : decode cX6_read 35 = .ok (.iload 4, 2) := dk_21 4 (dk_at dksX6_read_1 11 rfl rfl)
theorem dX6_read_37 : decode cX6_read 37 = .ok (.iload_n 2, 1) := dk_28 (dk_at dksX6_read_1 13 rfl rfl)
theorem dX6_read_38 : decode cX6_read 38 = .ok (.if_icmp .ge 14, 3) := dk_162 0 14 (dk_at dksX6_read_1 14 rfl rfl)
theorem dX6_read_41 : decode cX6_read 41 = .ok (.aload_n 0, 1) := dk_42 (dk_at dksX6_read_1 17 rfl rfl)
theorem dX6_read_42 : decode cX6_read 42 = .ok (.iload_n 1, 1) := dk_27 (dk_at dksX6_read_1 18 rfl rfl)
theorem dX6_read_43 : decode cX6_read 43 = .ok (.invokevirtual 294, 3) := dk_182 1 38 (dk_at dksX6_read_1 19 rfl rfl)
theorem dX6_read_46 : decode cX6_read 46 = .ok (.iinc 4 1, 3) := dk_132 4 1 (dk_at dksX6_read_2 0 rfl rfl)
theorem dX6_read_49 : decode cX6_read 49 = .ok (.goto (-14), 3) := dk_167 255 242 (dk_at dksX6_read_2 3 rfl rfl)
theorem dX6_read_52 : decode cX6_read 52 = .ok (.aload_n 0, 1) := dk_42 (dk_at dksX6_read_2 6 rfl rfl)
theorem dX6_read_53 : decode cX6_read 53 = .ok (.iload_n 1, 1) := dk_27 (dk_at dksX6_read_2 7 rfl rfl)
theorem dX6_read_54 : decode cX6_read 54 = .ok (.iload_n 2, 1) := dk_28 (dk_at dksX6_read_2 8 rfl rfl)
theorem dX6_read_55 : decode cX6_read 55 = .ok (.iconst 0, 1) := dk_3 (dk_at dksX6_read_2 9 rfl rfl)
theorem dX6_read_56 : decode cX6_read 56 = .ok (.iload_n 3, 1) := dk_29 (dk_at dksX6_read_2 10 rfl rfl)
theorem dX6_read_57 : decode cX6_read 57 = .ok (.invokevirtual 320, 3) := dk_182 1 64 (dk_at dksX6_read_2 11 rfl rfl)
theorem dX6_read_60 : decode cX6_read 60 = .ok (.aload_n 0, 1) := dk_42 (dk_at dksX6_read_2 14 rfl rfl)
theorem dX6_read_61 : decode cX6_read 61 = .ok (.getfield 92, 3) := dk_180 0 92 (dk_at dksX6_read_2 15 rfl rfl)
theorem dX6_read_64 : decode cX6_read 64 = .ok (.ireturn, 1) := dk_172 (dk_at dksX6_read_2 18 rfl rfl)
abbrev cX6_isRow : ByteArray := prog_18_method_8_code
def yX6_isRow : MethodName := ⟨RX6, "isRow", "(I)Z"⟩
def dkwX6_isRow_0 : List UInt8 := [27, 133, 9, 42, 180, 0, 13, 5, 46, 4, 100, 133, 184, 0, 88, 172]
abbrev dktX6_isRow_0 : List UInt8 := dkwX6_isRow_0 ++ []
theorem dksX6_isRow_0 : cX6_isRow.data.toList.drop 0 = dktX6_isRow_0 := by decide +kernel
theorem dX6_isRow_0 : decode cX6_isRow 0 = .ok (.iload_n 1, 1) := dk_27 (dk_at dksX6_isRow_0 0 rfl rfl)
theorem dX6_isRow_1 : decode cX6_isRow 1 = .ok (.i2l, 1) := dk_133 (dk_at dksX6_isRow_0 1 rfl rfl)
theorem dX6_isRow_2 : decode cX6_isRow 2 = .ok (.lconst 0, 1) := dk_9 (dk_at dksX6_isRow_0 2 rfl rfl)
theorem dX6_isRow_3 : decode cX6_isRow 3 = .ok (.aload_n 0, 1) := dk_42 (dk_at dksX6_isRow_0 3 rfl rfl)
theorem dX6_isRow_4 : decode cX6_isRow 4 = .ok (.getfield 13, 3) := dk_180 0 13 (dk_at dksX6_isRow_0 4 rfl rfl)
theorem dX6_isRow_7 : decode cX6_isRow 7 = .ok (.iconst 2, 1) := dk_5 (dk_at dksX6_isRow_0 7 rfl rfl)
theorem dX6_isRow_8 : decode cX6_isRow 8 = .ok (.iaload, 1) := dk_46 (dk_at dksX6_isRow_0 8 rfl rfl)
theorem dX6_isRow_9 : decode cX6_isRow 9 = .ok (.iconst 1, 1) := dk_4 (dk_at dksX6_isRow_0 9 rfl rfl)
theorem dX6_isRow_10 : decode cX6_isRow 10 = .ok (.isub, 1) := dk_100 (dk_at dksX6_isRow_0 10 rfl rfl)
theorem dX6_isRow_11 : decode cX6_isRow 11 = .ok (.i2l, 1) := dk_133 (dk_at dksX6_isRow_0 11 rfl rfl)
theorem dX6_isRow_12 : decode cX6_isRow 12 = .ok (.invokestatic 88, 3) := dk_184 0 88 (dk_at dksX6_isRow_0 12 rfl rfl)
theorem dX6_isRow_15 : decode cX6_isRow 15 = .ok (.ireturn, 1) := dk_172 (dk_at dksX6_isRow_0 15 rfl rfl)
abbrev cX6_slipsOf : ByteArray := prog_18_method_40_code
def yX6_slipsOf : MethodName := ⟨RX6, "slipsOf", "(I)I"⟩
def dkwX6_slipsOf_1 : List UInt8 := [7, 46, 162, 0, 9, 4, 29, 120, 167, 0, 4, 3, 128, 61, 132, 3, 1, 167, 255, 219, 28, 172]
abbrev dktX6_slipsOf_1 : List UInt8 := dkwX6_slipsOf_1 ++ []
def dkwX6_slipsOf_0 : List UInt8 := [3, 61, 3, 62, 29, 42, 27, 182, 1, 22, 162, 0, 34, 28, 42, 27, 29, 182, 1, 35, 42, 180, 0, 13]
abbrev dktX6_slipsOf_0 : List UInt8 := dkwX6_slipsOf_0 ++ dktX6_slipsOf_1
theorem dksX6_slipsOf_0 : cX6_slipsOf.data.toList.drop 0 = dktX6_slipsOf_0 := by decide +kernel
theorem dksX6_slipsOf_1 : cX6_slipsOf.data.toList.drop 24 = dktX6_slipsOf_1 := dk_seg dksX6_slipsOf_0 24 rfl rfl
theorem dX6_slipsOf_0 : decode cX6_slipsOf 0 = .ok (.iconst 0, 1) := dk_3 (dk_at dksX6_slipsOf_0 0 rfl rfl)
theorem dX6_slipsOf_1 : decode cX6_slipsOf 1 = .ok (.istore_n 2, 1) := dk_61 (dk_at dksX6_slipsOf_0 1 rfl rfl)
theorem dX6_slipsOf_2 : decode cX6_slipsOf 2 = .ok (.iconst 0, 1) := dk_3 (dk_at dksX6_slipsOf_0 2 rfl rfl)
theorem dX6_slipsOf_3 : decode cX6_slipsOf 3 = .ok (.istore_n 3, 1) := dk_62 (dk_at dksX6_slipsOf_0 3 rfl rfl)
theorem dX6_slipsOf_4 : decode cX6_slipsOf 4 = .ok (.iload_n 3, 1) := dk_29 (dk_at dksX6_slipsOf_0 4 rfl rfl)
theorem dX6_slipsOf_5 : decode cX6_slipsOf 5 = .ok (.aload_n 0, 1) := dk_42 (dk_at dksX6_slipsOf_0 5 rfl rfl)
theorem dX6_slipsOf_6 : decode cX6_slipsOf 6 = .ok (.iload_n 1, 1) := dk_27 (dk_at dksX6_slipsOf_0 6 rfl rfl)
theorem dX6_slipsOf_7 : decode cX6_slipsOf 7 = .ok (.invokevirtual 278, 3) := dk_182 1 22 (dk_at dksX6_slipsOf_0 7 rfl rfl)
theorem dX6_slipsOf_10 : decode cX6_slipsOf 10 = .ok (.if_icmp .ge 34, 3) := dk_162 0 34 (dk_at dksX6_slipsOf_0 10 rfl rfl)
theorem dX6_slipsOf_13 : decode cX6_slipsOf 13 = .ok (.iload_n 2, 1) := dk_28 (dk_at dksX6_slipsOf_0 13 rfl rfl)
theorem dX6_slipsOf_14 : decode cX6_slipsOf 14 = .ok (.aload_n 0, 1) := dk_42 (dk_at dksX6_slipsOf_0 14 rfl rfl)
theorem dX6_slipsOf_15 : decode cX6_slipsOf 15 = .ok (.iload_n 1, 1) := dk_27 (dk_at dksX6_slipsOf_0 15 rfl rfl)
theorem dX6_slipsOf_16 : decode cX6_slipsOf 16 = .ok (.iload_n 3, 1) := dk_29 (dk_at dksX6_slipsOf_0 16 rfl rfl)
theorem dX6_slipsOf_17 : decode cX6_slipsOf 17 = .ok (.invokevirtual 291, 3) := dk_182 1 35 (dk_at dksX6_slipsOf_0 17 rfl rfl)
theorem dX6_slipsOf_20 : decode cX6_slipsOf 20 = .ok (.aload_n 0, 1) := dk_42 (dk_at dksX6_slipsOf_0 20 rfl rfl)
theorem dX6_slipsOf_21 : decode cX6_slipsOf 21 = .ok (.getfield 13, 3) := dk_180 0 13 (dk_at dksX6_slipsOf_0 21 rfl rfl)
theorem dX6_slipsOf_24 : decode cX6_slipsOf 24 = .ok (.iconst 4, 1) := dk_7 (dk_at dksX6_slipsOf_1 0 rfl rfl)
theorem dX6_slipsOf_25 : decode cX6_slipsOf 25 = .ok (.iaload, 1) := dk_46 (dk_at dksX6_slipsOf_1 1 rfl rfl)
theorem dX6_slipsOf_26 : decode cX6_slipsOf 26 = .ok (.if_icmp .ge 9, 3) := dk_162 0 9 (dk_at dksX6_slipsOf_1 2 rfl rfl)
theorem dX6_slipsOf_29 : decode cX6_slipsOf 29 = .ok (.iconst 1, 1) := dk_4 (dk_at dksX6_slipsOf_1 5 rfl rfl)
theorem dX6_slipsOf_30 : decode cX6_slipsOf 30 = .ok (.iload_n 3, 1) := dk_29 (dk_at dksX6_slipsOf_1 6 rfl rfl)
theorem dX6_slipsOf_31 : decode cX6_slipsOf 31 = .ok (.ishl, 1) := dk_120 (dk_at dksX6_slipsOf_1 7 rfl rfl)
theorem dX6_slipsOf_32 : decode cX6_slipsOf 32 = .ok (.goto 4, 3) := dk_167 0 4 (dk_at dksX6_slipsOf_1 8 rfl rfl)
theorem dX6_slipsOf_35 : decode cX6_slipsOf 35 = .ok (.iconst 0, 1) := dk_3 (dk_at dksX6_slipsOf_1 11 rfl rfl)
theorem dX6_slipsOf_36 : decode cX6_slipsOf 36 = .ok (.ior, 1) := dk_128 (dk_at dksX6_slipsOf_1 12 rfl rfl)
theorem dX6_slipsOf_37 : decode cX6_slipsOf 37 = .ok (.istore_n 2, 1) := dk_61 (dk_at dksX6_slipsOf_1 13 rfl rfl)
theorem dX6_slipsOf_38 : decode cX6_slipsOf 38 = .ok (.iinc 3 1, 3) := dk_132 3 1 (dk_at dksX6_slipsOf_1 14 rfl rfl)
theorem dX6_slipsOf_41 : decode cX6_slipsOf 41 = .ok (.goto (-37), 3) := dk_167 255 219 (dk_at dksX6_slipsOf_1 17 rfl rfl)
theorem dX6_slipsOf_44 : decode cX6_slipsOf 44 = .ok (.iload_n 2, 1) := dk_28 (dk_at dksX6_slipsOf_1 20 rfl rfl)
theorem dX6_slipsOf_45 : decode cX6_slipsOf 45 = .ok (.ireturn, 1) := dk_172 (dk_at dksX6_slipsOf_1 21 rfl rfl)
abbrev cX6_manyOf : ByteArray := prog_18_method_10_code
def yX6_manyOf : MethodName := ⟨RX6, "manyOf", "(I)I"⟩
def dkwX6_manyOf_0 : List UInt8 := [42, 180, 0, 13, 16, 34, 16, 14, 27, 104, 96, 46, 172]
abbrev dktX6_manyOf_0 : List UInt8 := dkwX6_manyOf_0 ++ []
theorem dksX6_manyOf_0 : cX6_manyOf.data.toList.drop 0 = dktX6_manyOf_0 := by decide +kernel
theorem dX6_manyOf_0 : decode cX6_manyOf 0 = .ok (.aload_n 0, 1) := dk_42 (dk_at dksX6_manyOf_0 0 rfl rfl)
theorem dX6_manyOf_1 : decode cX6_manyOf 1 = .ok (.getfield 13, 3) := dk_180 0 13 (dk_at dksX6_manyOf_0 1 rfl rfl)
theorem dX6_manyOf_4 : decode cX6_manyOf 4 = .ok (.bipush 34, 2) := dk_16 34 (dk_at dksX6_manyOf_0 4 rfl rfl)
theorem dX6_manyOf_6 : decode cX6_manyOf 6 = .ok (.bipush 14, 2) := dk_16 14 (dk_at dksX6_manyOf_0 6 rfl rfl)
theorem dX6_manyOf_8 : decode cX6_manyOf 8 = .ok (.iload_n 1, 1) := dk_27 (dk_at dksX6_manyOf_0 8 rfl rfl)
theorem dX6_manyOf_9 : decode cX6_manyOf 9 = .ok (.imul, 1) := dk_104 (dk_at dksX6_manyOf_0 9 rfl rfl)
theorem dX6_manyOf_10 : decode cX6_manyOf 10 = .ok (.iadd, 1) := dk_96 (dk_at dksX6_manyOf_0 10 rfl rfl)
theorem dX6_manyOf_11 : decode cX6_manyOf 11 = .ok (.iaload, 1) := dk_46 (dk_at dksX6_manyOf_0 11 rfl rfl)
theorem dX6_manyOf_12 : decode cX6_manyOf 12 = .ok (.ireturn, 1) := dk_172 (dk_at dksX6_manyOf_0 12 rfl rfl)
abbrev cX6_supportOf : ByteArray := prog_18_method_39_code
def yX6_supportOf : MethodName := ⟨RX6, "supportOf", "(II)I"⟩
def dkwX6_supportOf_3 : List UInt8 := [184, 1, 14, 46, 104, 96, 54, 4, 132, 6, 1, 167, 255, 219, 21, 4, 16, 100, 108, 172]
abbrev dktX6_supportOf_3 : List UInt8 := dkwX6_supportOf_3 ++ []
def dkwX6_supportOf_2 : List UInt8 := [162, 0, 37, 21, 4, 42, 180, 0, 13, 8, 21, 6, 96, 46, 42, 180, 0, 17, 21, 6, 21, 5, 29]
abbrev dktX6_supportOf_2 : List UInt8 := dkwX6_supportOf_2 ++ dktX6_supportOf_3
def dkwX6_supportOf_1 : List UInt8 := [46, 104, 54, 4, 28, 158, 0, 56, 42, 27, 28, 4, 100, 182, 1, 25, 54, 5, 3, 54, 6, 21, 6, 6]
abbrev dktX6_supportOf_1 : List UInt8 := dkwX6_supportOf_1 ++ dktX6_supportOf_2
def dkwX6_supportOf_0 : List UInt8 := [42, 27, 28, 182, 1, 25, 62, 42, 180, 0, 13, 16, 8, 46, 42, 180, 0, 17, 6, 29, 28, 184, 1, 14]
abbrev dktX6_supportOf_0 : List UInt8 := dkwX6_supportOf_0 ++ dktX6_supportOf_1
theorem dksX6_supportOf_0 : cX6_supportOf.data.toList.drop 0 = dktX6_supportOf_0 := by decide +kernel
theorem dksX6_supportOf_1 : cX6_supportOf.data.toList.drop 24 = dktX6_supportOf_1 := dk_seg dksX6_supportOf_0 24 rfl rfl
theorem dksX6_supportOf_2 : cX6_supportOf.data.toList.drop 48 = dktX6_supportOf_2 := dk_seg dksX6_supportOf_1 24 rfl rfl
theorem dksX6_supportOf_3 : cX6_supportOf.data.toList.drop 71 = dktX6_supportOf_3 := dk_seg dksX6_supportOf_2 23 rfl rfl
theorem dX6_supportOf_0 : decode cX6_supportOf 0 = .ok (.aload_n 0, 1) := dk_42 (dk_at dksX6_supportOf_0 0 rfl rfl)
theorem dX6_supportOf_1 : decode cX6_supportOf 1 = .ok (.iload_n 1, 1) := dk_27 (dk_at dksX6_supportOf_0 1 rfl rfl)
theorem dX6_supportOf_2 : decode cX6_supportOf 2 = .ok (.iload_n 2, 1) := dk_28 (dk_at dksX6_supportOf_0 2 rfl rfl)
theorem dX6_supportOf_3 : decode cX6_supportOf 3 = .ok (.invokevirtual 281, 3) := dk_182 1 25 (dk_at dksX6_supportOf_0 3 rfl rfl)
theorem dX6_supportOf_6 : decode cX6_supportOf 6 = .ok (.istore_n 3, 1) := dk_62 (dk_at dksX6_supportOf_0 6 rfl rfl)
theorem dX6_supportOf_7 : decode cX6_supportOf 7 = .ok (.aload_n 0, 1) := dk_42 (dk_at dksX6_supportOf_0 7 rfl rfl)
theorem dX6_supportOf_8 : decode cX6_supportOf 8 = .ok (.getfield 13, 3) := dk_180 0 13 (dk_at dksX6_supportOf_0 8 rfl rfl)
theorem dX6_supportOf_11 : decode cX6_supportOf 11 = .ok (.bipush 8, 2) := dk_16 8 (dk_at dksX6_supportOf_0 11 rfl rfl)
theorem dX6_supportOf_13 : decode cX6_supportOf 13 = .ok (.iaload, 1) := dk_46 (dk_at dksX6_supportOf_0 13 rfl rfl)
theorem dX6_supportOf_14 : decode cX6_supportOf 14 = .ok (.aload_n 0, 1) := dk_42 (dk_at dksX6_supportOf_0 14 rfl rfl)
theorem dX6_supportOf_15 : decode cX6_supportOf 15 = .ok (.getfield 17, 3) := dk_180 0 17 (dk_at dksX6_supportOf_0 15 rfl rfl)
theorem dX6_supportOf_18 : decode cX6_supportOf 18 = .ok (.iconst 3, 1) := dk_6 (dk_at dksX6_supportOf_0 18 rfl rfl)
theorem dX6_supportOf_19 : decode cX6_supportOf 19 = .ok (.iload_n 3, 1) := dk_29 (dk_at dksX6_supportOf_0 19 rfl rfl)
theorem dX6_supportOf_20 : decode cX6_supportOf 20 = .ok (.iload_n 2, 1) := dk_28 (dk_at dksX6_supportOf_0 20 rfl rfl)
theorem dX6_supportOf_21 : decode cX6_supportOf 21 = .ok (.invokestatic 270, 3) := dk_184 1 14 (dk_at dksX6_supportOf_0 21 rfl rfl)
theorem dX6_supportOf_24 : decode cX6_supportOf 24 = .ok (.iaload, 1) := dk_46 (dk_at dksX6_supportOf_1 0 rfl rfl)
theorem dX6_supportOf_25 : decode cX6_supportOf 25 = .ok (.imul, 1) := dk_104 (dk_at dksX6_supportOf_1 1 rfl rfl)
theorem dX6_supportOf_26 : decode cX6_supportOf 26 = .ok (.istore 4, 2) := dk_54 4 (dk_at dksX6_supportOf_1 2 rfl rfl)
theorem dX6_supportOf_28 : decode cX6_supportOf 28 = .ok (.iload_n 2, 1) := dk_28 (dk_at dksX6_supportOf_1 4 rfl rfl)
theorem dX6_supportOf_29 : decode cX6_supportOf 29 = .ok (.ifCond .le 56, 3) := dk_158 0 56 (dk_at dksX6_supportOf_1 5 rfl rfl)
theorem dX6_supportOf_32 : decode cX6_supportOf 32 = .ok (.aload_n 0, 1) := dk_42 (dk_at dksX6_supportOf_1 8 rfl rfl)
theorem dX6_supportOf_33 : decode cX6_supportOf 33 = .ok (.iload_n 1, 1) := dk_27 (dk_at dksX6_supportOf_1 9 rfl rfl)
theorem dX6_supportOf_34 : decode cX6_supportOf 34 = .ok (.iload_n 2, 1) := dk_28 (dk_at dksX6_supportOf_1 10 rfl rfl)
theorem dX6_supportOf_35 : decode cX6_supportOf 35 = .ok (.iconst 1, 1) := dk_4 (dk_at dksX6_supportOf_1 11 rfl rfl)
theorem dX6_supportOf_36 : decode cX6_supportOf 36 = .ok (.isub, 1) := dk_100 (dk_at dksX6_supportOf_1 12 rfl rfl)
theorem dX6_supportOf_37 : decode cX6_supportOf 37 = .ok (.invokevirtual 281, 3) := dk_182 1 25 (dk_at dksX6_supportOf_1 13 rfl rfl)
theorem dX6_supportOf_40 : decode cX6_supportOf 40 = .ok (.istore 5, 2) := dk_54 5 (dk_at dksX6_supportOf_1 16 rfl rfl)
theorem dX6_supportOf_42 : decode cX6_supportOf 42 = .ok (.iconst 0, 1) := dk_3 (dk_at dksX6_supportOf_1 18 rfl rfl)
theorem dX6_supportOf_43 : decode cX6_supportOf 43 = .ok (.istore 6, 2) := dk_54 6 (dk_at dksX6_supportOf_1 19 rfl rfl)
theorem dX6_supportOf_45 : decode cX6_supportOf 45 = .ok (.iload 6, 2) := dk_21 6 (dk_at dksX6_supportOf_1 21 rfl rfl)
theorem dX6_supportOf_47 : decode cX6_supportOf 47 = .ok (.iconst 3, 1) := dk_6 (dk_at dksX6_supportOf_1 23 rfl rfl)
theorem dX6_supportOf_48 : decode cX6_supportOf 48 = .ok (.if_icmp .ge 37, 3) := dk_162 0 37 (dk_at dksX6_supportOf_2 0 rfl rfl)
theorem dX6_supportOf_51 : decode cX6_supportOf 51 = .ok (.iload 4, 2) := dk_21 4 (dk_at dksX6_supportOf_2 3 rfl rfl)
theorem dX6_supportOf_53 : decode cX6_supportOf 53 = .ok (.aload_n 0, 1) := dk_42 (dk_at dksX6_supportOf_2 5 rfl rfl)
theorem dX6_supportOf_54 : decode cX6_supportOf 54 = .ok (.getfield 13, 3) := dk_180 0 13 (dk_at dksX6_supportOf_2 6 rfl rfl)
theorem dX6_supportOf_57 : decode cX6_supportOf 57 = .ok (.iconst 5, 1) := dk_8 (dk_at dksX6_supportOf_2 9 rfl rfl)
theorem dX6_supportOf_58 : decode cX6_supportOf 58 = .ok (.iload 6, 2) := dk_21 6 (dk_at dksX6_supportOf_2 10 rfl rfl)
theorem dX6_supportOf_60 : decode cX6_supportOf 60 = .ok (.iadd, 1) := dk_96 (dk_at dksX6_supportOf_2 12 rfl rfl)
theorem dX6_supportOf_61 : decode cX6_supportOf 61 = .ok (.iaload, 1) := dk_46 (dk_at dksX6_supportOf_2 13 rfl rfl)
theorem dX6_supportOf_62 : decode cX6_supportOf 62 = .ok (.aload_n 0, 1) := dk_42 (dk_at dksX6_supportOf_2 14 rfl rfl)
theorem dX6_supportOf_63 : decode cX6_supportOf 63 = .ok (.getfield 17, 3) := dk_180 0 17 (dk_at dksX6_supportOf_2 15 rfl rfl)
theorem dX6_supportOf_66 : decode cX6_supportOf 66 = .ok (.iload 6, 2) := dk_21 6 (dk_at dksX6_supportOf_2 18 rfl rfl)
theorem dX6_supportOf_68 : decode cX6_supportOf 68 = .ok (.iload 5, 2) := dk_21 5 (dk_at dksX6_supportOf_2 20 rfl rfl)
theorem dX6_supportOf_70 : decode cX6_supportOf 70 = .ok (.iload_n 3, 1) := dk_29 (dk_at dksX6_supportOf_2 22 rfl rfl)
theorem dX6_supportOf_71 : decode cX6_supportOf 71 = .ok (.invokestatic 270, 3) := dk_184 1 14 (dk_at dksX6_supportOf_3 0 rfl rfl)
theorem dX6_supportOf_74 : decode cX6_supportOf 74 = .ok (.iaload, 1) := dk_46 (dk_at dksX6_supportOf_3 3 rfl rfl)
theorem dX6_supportOf_75 : decode cX6_supportOf 75 = .ok (.imul, 1) := dk_104 (dk_at dksX6_supportOf_3 4 rfl rfl)
theorem dX6_supportOf_76 : decode cX6_supportOf 76 = .ok (.iadd, 1) := dk_96 (dk_at dksX6_supportOf_3 5 rfl rfl)
theorem dX6_supportOf_77 : decode cX6_supportOf 77 = .ok (.istore 4, 2) := dk_54 4 (dk_at dksX6_supportOf_3 6 rfl rfl)
theorem dX6_supportOf_79 : decode cX6_supportOf 79 = .ok (.iinc 6 1, 3) := dk_132 6 1 (dk_at dksX6_supportOf_3 8 rfl rfl)
theorem dX6_supportOf_82 : decode cX6_supportOf 82 = .ok (.goto (-37), 3) := dk_167 255 219 (dk_at dksX6_supportOf_3 11 rfl rfl)
theorem dX6_supportOf_85 : decode cX6_supportOf 85 = .ok (.iload 4, 2) := dk_21 4 (dk_at dksX6_supportOf_3 14 rfl rfl)
theorem dX6_supportOf_87 : decode cX6_supportOf 87 = .ok (.bipush 100, 2) := dk_16 100 (dk_at dksX6_supportOf_3 16 rfl rfl)
theorem dX6_supportOf_89 : decode cX6_supportOf 89 = .ok (.idiv, 1) := dk_108 (dk_at dksX6_supportOf_3 18 rfl rfl)
theorem dX6_supportOf_90 : decode cX6_supportOf 90 = .ok (.ireturn, 1) := dk_172 (dk_at dksX6_supportOf_3 19 rfl rfl)
abbrev cX6_thingOf : ByteArray := prog_18_method_11_code
def yX6_thingOf : MethodName := ⟨RX6, "thingOf", "(II)I"⟩
def dkwX6_thingOf_0 : List UInt8 := [42, 180, 0, 13, 16, 34, 16, 14, 27, 104, 96, 4, 96, 28, 96, 46, 172]
abbrev dktX6_thingOf_0 : List UInt8 := dkwX6_thingOf_0 ++ []
theorem dksX6_thingOf_0 : cX6_thingOf.data.toList.drop 0 = dktX6_thingOf_0 := by decide +kernel
theorem dX6_thingOf_0 : decode cX6_thingOf 0 = .ok (.aload_n 0, 1) := dk_42 (dk_at dksX6_thingOf_0 0 rfl rfl)
theorem dX6_thingOf_1 : decode cX6_thingOf 1 = .ok (.getfield 13, 3) := dk_180 0 13 (dk_at dksX6_thingOf_0 1 rfl rfl)
theorem dX6_thingOf_4 : decode cX6_thingOf 4 = .ok (.bipush 34, 2) := dk_16 34 (dk_at dksX6_thingOf_0 4 rfl rfl)
theorem dX6_thingOf_6 : decode cX6_thingOf 6 = .ok (.bipush 14, 2) := dk_16 14 (dk_at dksX6_thingOf_0 6 rfl rfl)
theorem dX6_thingOf_8 : decode cX6_thingOf 8 = .ok (.iload_n 1, 1) := dk_27 (dk_at dksX6_thingOf_0 8 rfl rfl)
theorem dX6_thingOf_9 : decode cX6_thingOf 9 = .ok (.imul, 1) := dk_104 (dk_at dksX6_thingOf_0 9 rfl rfl)
theorem dX6_thingOf_10 : decode cX6_thingOf 10 = .ok (.iadd, 1) := dk_96 (dk_at dksX6_thingOf_0 10 rfl rfl)
theorem dX6_thingOf_11 : decode cX6_thingOf 11 = .ok (.iconst 1, 1) := dk_4 (dk_at dksX6_thingOf_0 11 rfl rfl)
theorem dX6_thingOf_12 : decode cX6_thingOf 12 = .ok (.iadd, 1) := dk_96 (dk_at dksX6_thingOf_0 12 rfl rfl)
theorem dX6_thingOf_13 : decode cX6_thingOf 13 = .ok (.iload_n 2, 1) := dk_28 (dk_at dksX6_thingOf_0 13 rfl rfl)
theorem dX6_thingOf_14 : decode cX6_thingOf 14 = .ok (.iadd, 1) := dk_96 (dk_at dksX6_thingOf_0 14 rfl rfl)
theorem dX6_thingOf_15 : decode cX6_thingOf 15 = .ok (.iaload, 1) := dk_46 (dk_at dksX6_thingOf_0 15 rfl rfl)
theorem dX6_thingOf_16 : decode cX6_thingOf 16 = .ok (.ireturn, 1) := dk_172 (dk_at dksX6_thingOf_0 16 rfl rfl)
abbrev cX6_linkAt : ByteArray := prog_18_method_33_code
def yX6_linkAt : MethodName := ⟨RX6, "linkAt", "(III)I"⟩
def dkwX6_linkAt_1 : List UInt8 := [16, 24, 27, 104, 96, 28, 96, 172]
abbrev dktX6_linkAt_1 : List UInt8 := dkwX6_linkAt_1 ++ []
def dkwX6_linkAt_0 : List UInt8 := [26, 6, 160, 0, 16, 17, 6, 192, 16, 12, 27, 104, 96, 28, 96, 167, 0, 15, 17, 2, 64, 26, 104]
abbrev dktX6_linkAt_0 : List UInt8 := dkwX6_linkAt_0 ++ dktX6_linkAt_1
theorem dksX6_linkAt_0 : cX6_linkAt.data.toList.drop 0 = dktX6_linkAt_0 := by decide +kernel
theorem dksX6_linkAt_1 : cX6_linkAt.data.toList.drop 23 = dktX6_linkAt_1 := dk_seg dksX6_linkAt_0 23 rfl rfl
theorem dX6_linkAt_0 : decode cX6_linkAt 0 = .ok (.iload_n 0, 1) := dk_26 (dk_at dksX6_linkAt_0 0 rfl rfl)
theorem dX6_linkAt_1 : decode cX6_linkAt 1 = .ok (.iconst 3, 1) := dk_6 (dk_at dksX6_linkAt_0 1 rfl rfl)
theorem dX6_linkAt_2 : decode cX6_linkAt 2 = .ok (.if_icmp .ne 16, 3) := dk_160 0 16 (dk_at dksX6_linkAt_0 2 rfl rfl)
theorem dX6_linkAt_5 : decode cX6_linkAt 5 = .ok (.sipush 1728, 3) := dk_17 6 192 (dk_at dksX6_linkAt_0 5 rfl rfl)
theorem dX6_linkAt_8 : decode cX6_linkAt 8 = .ok (.bipush 12, 2) := dk_16 12 (dk_at dksX6_linkAt_0 8 rfl rfl)
theorem dX6_linkAt_10 : decode cX6_linkAt 10 = .ok (.iload_n 1, 1) := dk_27 (dk_at dksX6_linkAt_0 10 rfl rfl)
theorem dX6_linkAt_11 : decode cX6_linkAt 11 = .ok (.imul, 1) := dk_104 (dk_at dksX6_linkAt_0 11 rfl rfl)
theorem dX6_linkAt_12 : decode cX6_linkAt 12 = .ok (.iadd, 1) := dk_96 (dk_at dksX6_linkAt_0 12 rfl rfl)
theorem dX6_linkAt_13 : decode cX6_linkAt 13 = .ok (.iload_n 2, 1) := dk_28 (dk_at dksX6_linkAt_0 13 rfl rfl)
theorem dX6_linkAt_14 : decode cX6_linkAt 14 = .ok (.iadd, 1) := dk_96 (dk_at dksX6_linkAt_0 14 rfl rfl)
theorem dX6_linkAt_15 : decode cX6_linkAt 15 = .ok (.goto 15, 3) := dk_167 0 15 (dk_at dksX6_linkAt_0 15 rfl rfl)
theorem dX6_linkAt_18 : decode cX6_linkAt 18 = .ok (.sipush 576, 3) := dk_17 2 64 (dk_at dksX6_linkAt_0 18 rfl rfl)
theorem dX6_linkAt_21 : decode cX6_linkAt 21 = .ok (.iload_n 0, 1) := dk_26 (dk_at dksX6_linkAt_0 21 rfl rfl)
theorem dX6_linkAt_22 : decode cX6_linkAt 22 = .ok (.imul, 1) := dk_104 (dk_at dksX6_linkAt_0 22 rfl rfl)
theorem dX6_linkAt_23 : decode cX6_linkAt 23 = .ok (.bipush 24, 2) := dk_16 24 (dk_at dksX6_linkAt_1 0 rfl rfl)
theorem dX6_linkAt_25 : decode cX6_linkAt 25 = .ok (.iload_n 1, 1) := dk_27 (dk_at dksX6_linkAt_1 2 rfl rfl)
theorem dX6_linkAt_26 : decode cX6_linkAt 26 = .ok (.imul, 1) := dk_104 (dk_at dksX6_linkAt_1 3 rfl rfl)
theorem dX6_linkAt_27 : decode cX6_linkAt 27 = .ok (.iadd, 1) := dk_96 (dk_at dksX6_linkAt_1 4 rfl rfl)
theorem dX6_linkAt_28 : decode cX6_linkAt 28 = .ok (.iload_n 2, 1) := dk_28 (dk_at dksX6_linkAt_1 5 rfl rfl)
theorem dX6_linkAt_29 : decode cX6_linkAt 29 = .ok (.iadd, 1) := dk_96 (dk_at dksX6_linkAt_1 6 rfl rfl)
theorem dX6_linkAt_30 : decode cX6_linkAt 30 = .ok (.ireturn, 1) := dk_172 (dk_at dksX6_linkAt_1 7 rfl rfl)
abbrev cX6_ones : ByteArray := prog_18_method_3_code
def yX6_ones : MethodName := ⟨RX6, "ones", "(I)I"⟩
def dkwX6_ones_1 : List UInt8 := [27, 172]
abbrev dktX6_ones_1 : List UInt8 := dkwX6_ones_1 ++ []
def dkwX6_ones_0 : List UInt8 := [3, 60, 3, 61, 28, 16, 12, 162, 0, 17, 27, 26, 28, 122, 4, 126, 96, 60, 132, 2, 1, 167, 255, 239]
abbrev dktX6_ones_0 : List UInt8 := dkwX6_ones_0 ++ dktX6_ones_1
theorem dksX6_ones_0 : cX6_ones.data.toList.drop 0 = dktX6_ones_0 := by decide +kernel
theorem dksX6_ones_1 : cX6_ones.data.toList.drop 24 = dktX6_ones_1 := dk_seg dksX6_ones_0 24 rfl rfl
theorem dX6_ones_0 : decode cX6_ones 0 = .ok (.iconst 0, 1) := dk_3 (dk_at dksX6_ones_0 0 rfl rfl)
theorem dX6_ones_1 : decode cX6_ones 1 = .ok (.istore_n 1, 1) := dk_60 (dk_at dksX6_ones_0 1 rfl rfl)
theorem dX6_ones_2 : decode cX6_ones 2 = .ok (.iconst 0, 1) := dk_3 (dk_at dksX6_ones_0 2 rfl rfl)
theorem dX6_ones_3 : decode cX6_ones 3 = .ok (.istore_n 2, 1) := dk_61 (dk_at dksX6_ones_0 3 rfl rfl)
theorem dX6_ones_4 : decode cX6_ones 4 = .ok (.iload_n 2, 1) := dk_28 (dk_at dksX6_ones_0 4 rfl rfl)
theorem dX6_ones_5 : decode cX6_ones 5 = .ok (.bipush 12, 2) := dk_16 12 (dk_at dksX6_ones_0 5 rfl rfl)
theorem dX6_ones_7 : decode cX6_ones 7 = .ok (.if_icmp .ge 17, 3) := dk_162 0 17 (dk_at dksX6_ones_0 7 rfl rfl)
theorem dX6_ones_10 : decode cX6_ones 10 = .ok (.iload_n 1, 1) := dk_27 (dk_at dksX6_ones_0 10 rfl rfl)
theorem dX6_ones_11 : decode cX6_ones 11 = .ok (.iload_n 0, 1) := dk_26 (dk_at dksX6_ones_0 11 rfl rfl)
theorem dX6_ones_12 : decode cX6_ones 12 = .ok (.iload_n 2, 1) := dk_28 (dk_at dksX6_ones_0 12 rfl rfl)
theorem dX6_ones_13 : decode cX6_ones 13 = .ok (.ishr, 1) := dk_122 (dk_at dksX6_ones_0 13 rfl rfl)
theorem dX6_ones_14 : decode cX6_ones 14 = .ok (.iconst 1, 1) := dk_4 (dk_at dksX6_ones_0 14 rfl rfl)
theorem dX6_ones_15 : decode cX6_ones 15 = .ok (.iand, 1) := dk_126 (dk_at dksX6_ones_0 15 rfl rfl)
theorem dX6_ones_16 : decode cX6_ones 16 = .ok (.iadd, 1) := dk_96 (dk_at dksX6_ones_0 16 rfl rfl)
theorem dX6_ones_17 : decode cX6_ones 17 = .ok (.istore_n 1, 1) := dk_60 (dk_at dksX6_ones_0 17 rfl rfl)
theorem dX6_ones_18 : decode cX6_ones 18 = .ok (.iinc 2 1, 3) := dk_132 2 1 (dk_at dksX6_ones_0 18 rfl rfl)
theorem dX6_ones_21 : decode cX6_ones 21 = .ok (.goto (-17), 3) := dk_167 255 239 (dk_at dksX6_ones_0 21 rfl rfl)
theorem dX6_ones_24 : decode cX6_ones 24 = .ok (.iload_n 1, 1) := dk_27 (dk_at dksX6_ones_1 0 rfl rfl)
theorem dX6_ones_25 : decode cX6_ones 25 = .ok (.ireturn, 1) := dk_172 (dk_at dksX6_ones_1 1 rfl rfl)
abbrev cX6_reads : ByteArray := prog_18_method_36_code
def yX6_reads : MethodName := ⟨RX6, "reads", "(I)V"⟩
def dkwX6_reads_7 : List UInt8 := [167, 255, 97, 42, 180, 0, 17, 17, 7, 225, 92, 46, 4, 96, 79, 177]
abbrev dktX6_reads_7 : List UInt8 := dkwX6_reads_7 ++ []
def dkwX6_reads_6 : List UInt8 := [16, 10, 21, 5, 96, 46, 182, 1, 5, 117, 182, 1, 18, 132, 5, 1, 167, 255, 186, 132, 2, 1]
abbrev dktX6_reads_6 : List UInt8 := dkwX6_reads_6 ++ dktX6_reads_7
def dkwX6_reads_5 : List UInt8 := [21, 6, 46, 158, 0, 33, 42, 21, 6, 42, 16, 8, 42, 180, 0, 17, 21, 6, 46, 42, 180, 0, 13]
abbrev dktX6_reads_5 : List UInt8 := dkwX6_reads_5 ++ dktX6_reads_6
def dkwX6_reads_4 : List UInt8 := [162, 0, 65, 3, 21, 4, 21, 5, 184, 1, 14, 54, 6, 21, 5, 29, 159, 0, 43, 42, 180, 0, 17]
abbrev dktX6_reads_4 : List UInt8 := dkwX6_reads_4 ++ dktX6_reads_5
def dkwX6_reads_3 : List UInt8 := [28, 5, 100, 182, 1, 25, 29, 29, 182, 1, 28, 3, 54, 5, 21, 5, 42, 180, 0, 13, 4, 46]
abbrev dktX6_reads_3 : List UInt8 := dkwX6_reads_3 ++ dktX6_reads_4
def dkwX6_reads_2 : List UInt8 := [29, 29, 182, 1, 28, 42, 4, 29, 21, 4, 21, 4, 182, 1, 28, 28, 4, 164, 0, 18, 42, 5, 42, 27]
abbrev dktX6_reads_2 : List UInt8 := dkwX6_reads_2 ++ dktX6_reads_3
def dkwX6_reads_1 : List UInt8 := [182, 1, 28, 28, 154, 0, 6, 167, 0, 128, 42, 27, 28, 4, 100, 182, 1, 25, 54, 4, 42, 3, 21, 4]
abbrev dktX6_reads_1 : List UInt8 := dkwX6_reads_1 ++ dktX6_reads_2
def dkwX6_reads_0 : List UInt8 := [3, 61, 28, 42, 27, 182, 1, 22, 162, 0, 156, 42, 27, 28, 182, 1, 25, 62, 42, 6, 29, 28, 29]
abbrev dktX6_reads_0 : List UInt8 := dkwX6_reads_0 ++ dktX6_reads_1
theorem dksX6_reads_0 : cX6_reads.data.toList.drop 0 = dktX6_reads_0 := by decide +kernel
theorem dksX6_reads_1 : cX6_reads.data.toList.drop 23 = dktX6_reads_1 := dk_seg dksX6_reads_0 23 rfl rfl
theorem dksX6_reads_2 : cX6_reads.data.toList.drop 47 = dktX6_reads_2 := dk_seg dksX6_reads_1 24 rfl rfl
theorem dksX6_reads_3 : cX6_reads.data.toList.drop 71 = dktX6_reads_3 := dk_seg dksX6_reads_2 24 rfl rfl
theorem dksX6_reads_4 : cX6_reads.data.toList.drop 93 = dktX6_reads_4 := dk_seg dksX6_reads_3 22 rfl rfl
theorem dksX6_reads_5 : cX6_reads.data.toList.drop 116 = dktX6_reads_5 := dk_seg dksX6_reads_4 23 rfl rfl
theorem dksX6_reads_6 : cX6_reads.data.toList.drop 139 = dktX6_reads_6 := dk_seg dksX6_reads_5 23 rfl rfl
theorem dksX6_reads_7 : cX6_reads.data.toList.drop 161 = dktX6_reads_7 := dk_seg dksX6_reads_6 22 rfl rfl
theorem dX6_reads_0 : decode cX6_reads 0 = .ok (.iconst 0, 1) := dk_3 (dk_at dksX6_reads_0 0 rfl rfl)
theorem dX6_reads_1 : decode cX6_reads 1 = .ok (.istore_n 2, 1) := dk_61 (dk_at dksX6_reads_0 1 rfl rfl)
theorem dX6_reads_2 : decode cX6_reads 2 = .ok (.iload_n 2, 1) := dk_28 (dk_at dksX6_reads_0 2 rfl rfl)
theorem dX6_reads_3 : decode cX6_reads 3 = .ok (.aload_n 0, 1) := dk_42 (dk_at dksX6_reads_0 3 rfl rfl)
theorem dX6_reads_4 : decode cX6_reads 4 = .ok (.iload_n 1, 1) := dk_27 (dk_at dksX6_reads_0 4 rfl rfl)
theorem dX6_reads_5 : decode cX6_reads 5 = .ok (.invokevirtual 278, 3) := dk_182 1 22 (dk_at dksX6_reads_0 5 rfl rfl)
theorem dX6_reads_8 : decode cX6_reads 8 = .ok (.if_icmp .ge 156, 3) := dk_162 0 156 (dk_at dksX6_reads_0 8 rfl rfl)
theorem dX6_reads_11 : decode cX6_reads 11 = .ok (.aload_n 0, 1) := dk_42 (dk_at dksX6_reads_0 11 rfl rfl)
theorem dX6_reads_12 : decode cX6_reads 12 = .ok (.iload_n 1, 1) := dk_27 (dk_at dksX6_reads_0 12 rfl rfl)
theorem dX6_reads_13 : decode cX6_reads 13 = .ok (.iload_n 2, 1) := dk_28 (dk_at dksX6_reads_0 13 rfl rfl)
theorem dX6_reads_14 : decode cX6_reads 14 = .ok (.invokevirtual 281, 3) := dk_182 1 25 (dk_at dksX6_reads_0 14 rfl rfl)
theorem dX6_reads_17 : decode cX6_reads 17 = .ok (.istore_n 3, 1) := dk_62 (dk_at dksX6_reads_0 17 rfl rfl)
theorem dX6_reads_18 : decode cX6_reads 18 = .ok (.aload_n 0, 1) := dk_42 (dk_at dksX6_reads_0 18 rfl rfl)
theorem dX6_reads_19 : decode cX6_reads 19 = .ok (.iconst 3, 1) := dk_6 (dk_at dksX6_reads_0 19 rfl rfl)
theorem dX6_reads_20 : decode cX6_reads 20 = .ok (.iload_n 3, 1) := dk_29 (dk_at dksX6_reads_0 20 rfl rfl)
theorem dX6_reads_21 : decode cX6_reads 21 = .ok (.iload_n 2, 1) := dk_28 (dk_at dksX6_reads_0 21 rfl rfl)
theorem dX6_reads_22 : decode cX6_reads 22 = .ok (.iload_n 3, 1) := dk_29 (dk_at dksX6_reads_0 22 rfl rfl)
theorem dX6_reads_23 : decode cX6_reads 23 = .ok (.invokevirtual 284, 3) := dk_182 1 28 (dk_at dksX6_reads_1 0 rfl rfl)
theorem dX6_reads_26 : decode cX6_reads 26 = .ok (.iload_n 2, 1) := dk_28 (dk_at dksX6_reads_1 3 rfl rfl)
theorem dX6_reads_27 : decode cX6_reads 27 = .ok (.ifCond .ne 6, 3) := dk_154 0 6 (dk_at dksX6_reads_1 4 rfl rfl)
theorem dX6_reads_30 : decode cX6_reads 30 = .ok (.goto 128, 3) := dk_167 0 128 (dk_at dksX6_reads_1 7 rfl rfl)
theorem dX6_reads_33 : decode cX6_reads 33 = .ok (.aload_n 0, 1) := dk_42 (dk_at dksX6_reads_1 10 rfl rfl)
theorem dX6_reads_34 : decode cX6_reads 34 = .ok (.iload_n 1, 1) := dk_27 (dk_at dksX6_reads_1 11 rfl rfl)
theorem dX6_reads_35 : decode cX6_reads 35 = .ok (.iload_n 2, 1) := dk_28 (dk_at dksX6_reads_1 12 rfl rfl)
theorem dX6_reads_36 : decode cX6_reads 36 = .ok (.iconst 1, 1) := dk_4 (dk_at dksX6_reads_1 13 rfl rfl)
theorem dX6_reads_37 : decode cX6_reads 37 = .ok (.isub, 1) := dk_100 (dk_at dksX6_reads_1 14 rfl rfl)
theorem dX6_reads_38 : decode cX6_reads 38 = .ok (.invokevirtual 281, 3) := dk_182 1 25 (dk_at dksX6_reads_1 15 rfl rfl)
theorem dX6_reads_41 : decode cX6_reads 41 = .ok (.istore 4, 2) := dk_54 4 (dk_at dksX6_reads_1 18 rfl rfl)
theorem dX6_reads_43 : decode cX6_reads 43 = .ok (.aload_n 0, 1) := dk_42 (dk_at dksX6_reads_1 20 rfl rfl)
theorem dX6_reads_44 : decode cX6_reads 44 = .ok (.iconst 0, 1) := dk_3 (dk_at dksX6_reads_1 21 rfl rfl)
theorem dX6_reads_45 : decode cX6_reads 45 = .ok (.iload 4, 2) := dk_21 4 (dk_at dksX6_reads_1 22 rfl rfl)
theorem dX6_reads_47 : decode cX6_reads 47 = .ok (.iload_n 3, 1) := dk_29 (dk_at dksX6_reads_2 0 rfl rfl)
theorem dX6_reads_48 : decode cX6_reads 48 = .ok (.iload_n 3, 1) := dk_29 (dk_at dksX6_reads_2 1 rfl rfl)
theorem dX6_reads_49 : decode cX6_reads 49 = .ok (.invokevirtual 284, 3) := dk_182 1 28 (dk_at dksX6_reads_2 2 rfl rfl)
theorem dX6_reads_52 : decode cX6_reads 52 = .ok (.aload_n 0, 1) := dk_42 (dk_at dksX6_reads_2 5 rfl rfl)
theorem dX6_reads_53 : decode cX6_reads 53 = .ok (.iconst 1, 1) := dk_4 (dk_at dksX6_reads_2 6 rfl rfl)
theorem dX6_reads_54 : decode cX6_reads 54 = .ok (.iload_n 3, 1) := dk_29 (dk_at dksX6_reads_2 7 rfl rfl)
theorem dX6_reads_55 : decode cX6_reads 55 = .ok (.iload 4, 2) := dk_21 4 (dk_at dksX6_reads_2 8 rfl rfl)
theorem dX6_reads_57 : decode cX6_reads 57 = .ok (.iload 4, 2) := dk_21 4 (dk_at dksX6_reads_2 10 rfl rfl)
theorem dX6_reads_59 : decode cX6_reads 59 = .ok (.invokevirtual 284, 3) := dk_182 1 28 (dk_at dksX6_reads_2 12 rfl rfl)
theorem dX6_reads_62 : decode cX6_reads 62 = .ok (.iload_n 2, 1) := dk_28 (dk_at dksX6_reads_2 15 rfl rfl)
theorem dX6_reads_63 : decode cX6_reads 63 = .ok (.iconst 1, 1) := dk_4 (dk_at dksX6_reads_2 16 rfl rfl)
theorem dX6_reads_64 : decode cX6_reads 64 = .ok (.if_icmp .le 18, 3) := dk_164 0 18 (dk_at dksX6_reads_2 17 rfl rfl)
theorem dX6_reads_67 : decode cX6_reads 67 = .ok (.aload_n 0, 1) := dk_42 (dk_at dksX6_reads_2 20 rfl rfl)
theorem dX6_reads_68 : decode cX6_reads 68 = .ok (.iconst 2, 1) := dk_5 (dk_at dksX6_reads_2 21 rfl rfl)
theorem dX6_reads_69 : decode cX6_reads 69 = .ok (.aload_n 0, 1) := dk_42 (dk_at dksX6_reads_2 22 rfl rfl)
theorem dX6_reads_70 : decode cX6_reads 70 = .ok (.iload_n 1, 1) := dk_27 (dk_at dksX6_reads_2 23 rfl rfl)
theorem dX6_reads_71 : decode cX6_reads 71 = .ok (.iload_n 2, 1) := dk_28 (dk_at dksX6_reads_3 0 rfl rfl)
theorem dX6_reads_72 : decode cX6_reads 72 = .ok (.iconst 2, 1) := dk_5 (dk_at dksX6_reads_3 1 rfl rfl)
theorem dX6_reads_73 : decode cX6_reads 73 = .ok (.isub, 1) := dk_100 (dk_at dksX6_reads_3 2 rfl rfl)
theorem dX6_reads_74 : decode cX6_reads 74 = .ok (.invokevirtual 281, 3) := dk_182 1 25 (dk_at dksX6_reads_3 3 rfl rfl)
theorem dX6_reads_77 : decode cX6_reads 77 = .ok (.iload_n 3, 1) := dk_29 (dk_at dksX6_reads_3 6 rfl rfl)
theorem dX6_reads_78 : decode cX6_reads 78 = .ok (.iload_n 3, 1) := dk_29 (dk_at dksX6_reads_3 7 rfl rfl)
theorem dX6_reads_79 : decode cX6_reads 79 = .ok (.invokevirtual 284, 3) := dk_182 1 28 (dk_at dksX6_reads_3 8 rfl rfl)
theorem dX6_reads_82 : decode cX6_reads 82 = .ok (.iconst 0, 1) := dk_3 (dk_at dksX6_reads_3 11 rfl rfl)
theorem dX6_reads_83 : decode cX6_reads 83 = .ok (.istore 5, 2) := dk_54 5 (dk_at dksX6_reads_3 12 rfl rfl)
theorem dX6_reads_85 : decode cX6_reads 85 = .ok (.iload 5, 2) := dk_21 5 (dk_at dksX6_reads_3 14 rfl rfl)
theorem dX6_reads_87 : decode cX6_reads 87 = .ok (.aload_n 0, 1) := dk_42 (dk_at dksX6_reads_3 16 rfl rfl)
theorem dX6_reads_88 : decode cX6_reads 88 = .ok (.getfield 13, 3) := dk_180 0 13 (dk_at dksX6_reads_3 17 rfl rfl)
theorem dX6_reads_91 : decode cX6_reads 91 = .ok (.iconst 1, 1) := dk_4 (dk_at dksX6_reads_3 20 rfl rfl)
theorem dX6_reads_92 : decode cX6_reads 92 = .ok (.iaload, 1) := dk_46 (dk_at dksX6_reads_3 21 rfl rfl)
theorem dX6_reads_93 : decode cX6_reads 93 = .ok (.if_icmp .ge 65, 3) := dk_162 0 65 (dk_at dksX6_reads_4 0 rfl rfl)
theorem dX6_reads_96 : decode cX6_reads 96 = .ok (.iconst 0, 1) := dk_3 (dk_at dksX6_reads_4 3 rfl rfl)
theorem dX6_reads_97 : decode cX6_reads 97 = .ok (.iload 4, 2) := dk_21 4 (dk_at dksX6_reads_4 4 rfl rfl)
theorem dX6_reads_99 : decode cX6_reads 99 = .ok (.iload 5, 2) := dk_21 5 (dk_at dksX6_reads_4 6 rfl rfl)
theorem dX6_reads_101 : decode cX6_reads 101 = .ok (.invokestatic 270, 3) := dk_184 1 14 (dk_at dksX6_reads_4 8 rfl rfl)
theorem dX6_reads_104 : decode cX6_reads 104 = .ok (.istore 6, 2) := dk_54 6 (dk_at dksX6_reads_4 11 rfl rfl)
theorem dX6_reads_106 : decode cX6_reads 106 = .ok (.iload 5, 2) := dk_21 5 (dk_at dksX6_reads_4 13 rfl rfl)
theorem dX6_reads_108 : decode cX6_reads 108 = .ok (.iload_n 3, 1) := dk_29 (dk_at dksX6_reads_4 15 rfl rfl)
theorem dX6_reads_109 : decode cX6_reads 109 = .ok (.if_icmp .eq 43, 3) := dk_159 0 43 (dk_at dksX6_reads_4 16 rfl rfl)
theorem dX6_reads_112 : decode cX6_reads 112 = .ok (.aload_n 0, 1) := dk_42 (dk_at dksX6_reads_4 19 rfl rfl)
theorem dX6_reads_113 : decode cX6_reads 113 = .ok (.getfield 17, 3) := dk_180 0 17 (dk_at dksX6_reads_4 20 rfl rfl)
theorem dX6_reads_116 : decode cX6_reads 116 = .ok (.iload 6, 2) := dk_21 6 (dk_at dksX6_reads_5 0 rfl rfl)
theorem dX6_reads_118 : decode cX6_reads 118 = .ok (.iaload, 1) := dk_46 (dk_at dksX6_reads_5 2 rfl rfl)
theorem dX6_reads_119 : decode cX6_reads 119 = .ok (.ifCond .le 33, 3) := dk_158 0 33 (dk_at dksX6_reads_5 3 rfl rfl)
theorem dX6_reads_122 : decode cX6_reads 122 = .ok (.aload_n 0, 1) := dk_42 (dk_at dksX6_reads_5 6 rfl rfl)
theorem dX6_reads_123 : decode cX6_reads 123 = .ok (.iload 6, 2) := dk_21 6 (dk_at dksX6_reads_5 7 rfl rfl)
theorem dX6_reads_125 : decode cX6_reads 125 = .ok (.aload_n 0, 1) := dk_42 (dk_at dksX6_reads_5 9 rfl rfl)
theorem dX6_reads_126 : decode cX6_reads 126 = .ok (.bipush 8, 2) := dk_16 8 (dk_at dksX6_reads_5 10 rfl rfl)
theorem dX6_reads_128 : decode cX6_reads 128 = .ok (.aload_n 0, 1) := dk_42 (dk_at dksX6_reads_5 12 rfl rfl)
theorem dX6_reads_129 : decode cX6_reads 129 = .ok (.getfield 17, 3) := dk_180 0 17 (dk_at dksX6_reads_5 13 rfl rfl)
theorem dX6_reads_132 : decode cX6_reads 132 = .ok (.iload 6, 2) := dk_21 6 (dk_at dksX6_reads_5 16 rfl rfl)
theorem dX6_reads_134 : decode cX6_reads 134 = .ok (.iaload, 1) := dk_46 (dk_at dksX6_reads_5 18 rfl rfl)
theorem dX6_reads_135 : decode cX6_reads 135 = .ok (.aload_n 0, 1) := dk_42 (dk_at dksX6_reads_5 19 rfl rfl)
theorem dX6_reads_136 : decode cX6_reads 136 = .ok (.getfield 13, 3) := dk_180 0 13 (dk_at dksX6_reads_5 20 rfl rfl)
theorem dX6_reads_139 : decode cX6_reads 139 = .ok (.bipush 10, 2) := dk_16 10 (dk_at dksX6_reads_6 0 rfl rfl)
theorem dX6_reads_141 : decode cX6_reads 141 = .ok (.iload 5, 2) := dk_21 5 (dk_at dksX6_reads_6 2 rfl rfl)
theorem dX6_reads_143 : decode cX6_reads 143 = .ok (.iadd, 1) := dk_96 (dk_at dksX6_reads_6 4 rfl rfl)
theorem dX6_reads_144 : decode cX6_reads 144 = .ok (.iaload, 1) := dk_46 (dk_at dksX6_reads_6 5 rfl rfl)
theorem dX6_reads_145 : decode cX6_reads 145 = .ok (.invokevirtual 261, 3) := dk_182 1 5 (dk_at dksX6_reads_6 6 rfl rfl)
theorem dX6_reads_148 : decode cX6_reads 148 = .ok (.lneg, 1) := dk_117 (dk_at dksX6_reads_6 9 rfl rfl)
theorem dX6_reads_149 : decode cX6_reads 149 = .ok (.invokevirtual 274, 3) := dk_182 1 18 (dk_at dksX6_reads_6 10 rfl rfl)
theorem dX6_reads_152 : decode cX6_reads 152 = .ok (.iinc 5 1, 3) := dk_132 5 1 (dk_at dksX6_reads_6 13 rfl rfl)
theorem dX6_reads_155 : decode cX6_reads 155 = .ok (.goto (-70), 3) := dk_167 255 186 (dk_at dksX6_reads_6 16 rfl rfl)
theorem dX6_reads_158 : decode cX6_reads 158 = .ok (.iinc 2 1, 3) := dk_132 2 1 (dk_at dksX6_reads_6 19 rfl rfl)
theorem dX6_reads_161 : decode cX6_reads 161 = .ok (.goto (-159), 3) := dk_167 255 97 (dk_at dksX6_reads_7 0 rfl rfl)
theorem dX6_reads_164 : decode cX6_reads 164 = .ok (.aload_n 0, 1) := dk_42 (dk_at dksX6_reads_7 3 rfl rfl)
theorem dX6_reads_165 : decode cX6_reads 165 = .ok (.getfield 17, 3) := dk_180 0 17 (dk_at dksX6_reads_7 4 rfl rfl)
theorem dX6_reads_168 : decode cX6_reads 168 = .ok (.sipush 2017, 3) := dk_17 7 225 (dk_at dksX6_reads_7 7 rfl rfl)
theorem dX6_reads_171 : decode cX6_reads 171 = .ok (.dup2, 1) := dk_92 (dk_at dksX6_reads_7 10 rfl rfl)
theorem dX6_reads_172 : decode cX6_reads 172 = .ok (.iaload, 1) := dk_46 (dk_at dksX6_reads_7 11 rfl rfl)
theorem dX6_reads_173 : decode cX6_reads 173 = .ok (.iconst 1, 1) := dk_4 (dk_at dksX6_reads_7 12 rfl rfl)
theorem dX6_reads_174 : decode cX6_reads 174 = .ok (.iadd, 1) := dk_96 (dk_at dksX6_reads_7 13 rfl rfl)
theorem dX6_reads_175 : decode cX6_reads 175 = .ok (.iastore, 1) := dk_79 (dk_at dksX6_reads_7 14 rfl rfl)
theorem dX6_reads_176 : decode cX6_reads 176 = .ok (.return_, 1) := dk_177 (dk_at dksX6_reads_7 15 rfl rfl)
abbrev cX6_grows : ByteArray := prog_18_method_35_code
def yX6_grows : MethodName := ⟨RX6, "grows", "(IIII)V"⟩
def dkwX6_grows_1 : List UInt8 := [16, 10, 21, 4, 96, 46, 182, 1, 5, 182, 1, 18, 177]
abbrev dktX6_grows_1 : List UInt8 := dkwX6_grows_1 ++ []
def dkwX6_grows_0 : List UInt8 := [27, 28, 29, 184, 1, 14, 54, 5, 42, 21, 5, 42, 27, 42, 180, 0, 17, 21, 5, 46, 42, 180, 0, 13]
abbrev dktX6_grows_0 : List UInt8 := dkwX6_grows_0 ++ dktX6_grows_1
theorem dksX6_grows_0 : cX6_grows.data.toList.drop 0 = dktX6_grows_0 := by decide +kernel
theorem dksX6_grows_1 : cX6_grows.data.toList.drop 24 = dktX6_grows_1 := dk_seg dksX6_grows_0 24 rfl rfl
theorem dX6_grows_0 : decode cX6_grows 0 = .ok (.iload_n 1, 1) := dk_27 (dk_at dksX6_grows_0 0 rfl rfl)
theorem dX6_grows_1 : decode cX6_grows 1 = .ok (.iload_n 2, 1) := dk_28 (dk_at dksX6_grows_0 1 rfl rfl)
theorem dX6_grows_2 : decode cX6_grows 2 = .ok (.iload_n 3, 1) := dk_29 (dk_at dksX6_grows_0 2 rfl rfl)
theorem dX6_grows_3 : decode cX6_grows 3 = .ok (.invokestatic 270, 3) := dk_184 1 14 (dk_at dksX6_grows_0 3 rfl rfl)
theorem dX6_grows_6 : decode cX6_grows 6 = .ok (.istore 5, 2) := dk_54 5 (dk_at dksX6_grows_0 6 rfl rfl)
theorem dX6_grows_8 : decode cX6_grows 8 = .ok (.aload_n 0, 1) := dk_42 (dk_at dksX6_grows_0 8 rfl rfl)
theorem dX6_grows_9 : decode cX6_grows 9 = .ok (.iload 5, 2) := dk_21 5 (dk_at dksX6_grows_0 9 rfl rfl)
theorem dX6_grows_11 : decode cX6_grows 11 = .ok (.aload_n 0, 1) := dk_42 (dk_at dksX6_grows_0 11 rfl rfl)
theorem dX6_grows_12 : decode cX6_grows 12 = .ok (.iload_n 1, 1) := dk_27 (dk_at dksX6_grows_0 12 rfl rfl)
theorem dX6_grows_13 : decode cX6_grows 13 = .ok (.aload_n 0, 1) := dk_42 (dk_at dksX6_grows_0 13 rfl rfl)
theorem dX6_grows_14 : decode cX6_grows 14 = .ok (.getfield 17, 3) := dk_180 0 17 (dk_at dksX6_grows_0 14 rfl rfl)
theorem dX6_grows_17 : decode cX6_grows 17 = .ok (.iload 5, 2) := dk_21 5 (dk_at dksX6_grows_0 17 rfl rfl)
theorem dX6_grows_19 : decode cX6_grows 19 = .ok (.iaload, 1) := dk_46 (dk_at dksX6_grows_0 19 rfl rfl)
theorem dX6_grows_20 : decode cX6_grows 20 = .ok (.aload_n 0, 1) := dk_42 (dk_at dksX6_grows_0 20 rfl rfl)
theorem dX6_grows_21 : decode cX6_grows 21 = .ok (.getfield 13, 3) := dk_180 0 13 (dk_at dksX6_grows_0 21 rfl rfl)
theorem dX6_grows_24 : decode cX6_grows 24 = .ok (.bipush 10, 2) := dk_16 10 (dk_at dksX6_grows_1 0 rfl rfl)
theorem dX6_grows_26 : decode cX6_grows 26 = .ok (.iload 4, 2) := dk_21 4 (dk_at dksX6_grows_1 2 rfl rfl)
theorem dX6_grows_28 : decode cX6_grows 28 = .ok (.iadd, 1) := dk_96 (dk_at dksX6_grows_1 4 rfl rfl)
theorem dX6_grows_29 : decode cX6_grows 29 = .ok (.iaload, 1) := dk_46 (dk_at dksX6_grows_1 5 rfl rfl)
theorem dX6_grows_30 : decode cX6_grows 30 = .ok (.invokevirtual 261, 3) := dk_182 1 5 (dk_at dksX6_grows_1 6 rfl rfl)
theorem dX6_grows_33 : decode cX6_grows 33 = .ok (.invokevirtual 274, 3) := dk_182 1 18 (dk_at dksX6_grows_1 9 rfl rfl)
theorem dX6_grows_36 : decode cX6_grows 36 = .ok (.return_, 1) := dk_177 (dk_at dksX6_grows_1 12 rfl rfl)
abbrev cX6_changes : ByteArray := prog_18_method_34_code
def yX6_changes : MethodName := ⟨RX6, "changes", "(IJ)V"⟩
def dkwX6_changes_1 : List UInt8 := [184, 1, 8, 184, 1, 11, 136, 79, 177]
abbrev dktX6_changes_1 : List UInt8 := dkwX6_changes_1 ++ []
def dkwX6_changes_0 : List UInt8 := [42, 180, 0, 17, 27, 46, 133, 32, 97, 55, 4, 42, 180, 0, 17, 27, 9, 20, 0, 253, 22, 4]
abbrev dktX6_changes_0 : List UInt8 := dkwX6_changes_0 ++ dktX6_changes_1
theorem dksX6_changes_0 : cX6_changes.data.toList.drop 0 = dktX6_changes_0 := by decide +kernel
theorem dksX6_changes_1 : cX6_changes.data.toList.drop 22 = dktX6_changes_1 := dk_seg dksX6_changes_0 22 rfl rfl
theorem dX6_changes_0 : decode cX6_changes 0 = .ok (.aload_n 0, 1) := dk_42 (dk_at dksX6_changes_0 0 rfl rfl)
theorem dX6_changes_1 : decode cX6_changes 1 = .ok (.getfield 17, 3) := dk_180 0 17 (dk_at dksX6_changes_0 1 rfl rfl)
theorem dX6_changes_4 : decode cX6_changes 4 = .ok (.iload_n 1, 1) := dk_27 (dk_at dksX6_changes_0 4 rfl rfl)
theorem dX6_changes_5 : decode cX6_changes 5 = .ok (.iaload, 1) := dk_46 (dk_at dksX6_changes_0 5 rfl rfl)
theorem dX6_changes_6 : decode cX6_changes 6 = .ok (.i2l, 1) := dk_133 (dk_at dksX6_changes_0 6 rfl rfl)
theorem dX6_changes_7 : decode cX6_changes 7 = .ok (.lload_n 2, 1) := dk_32 (dk_at dksX6_changes_0 7 rfl rfl)
theorem dX6_changes_8 : decode cX6_changes 8 = .ok (.ladd, 1) := dk_97 (dk_at dksX6_changes_0 8 rfl rfl)
theorem dX6_changes_9 : decode cX6_changes 9 = .ok (.lstore 4, 2) := dk_55 4 (dk_at dksX6_changes_0 9 rfl rfl)
theorem dX6_changes_11 : decode cX6_changes 11 = .ok (.aload_n 0, 1) := dk_42 (dk_at dksX6_changes_0 11 rfl rfl)
theorem dX6_changes_12 : decode cX6_changes 12 = .ok (.getfield 17, 3) := dk_180 0 17 (dk_at dksX6_changes_0 12 rfl rfl)
theorem dX6_changes_15 : decode cX6_changes 15 = .ok (.iload_n 1, 1) := dk_27 (dk_at dksX6_changes_0 15 rfl rfl)
theorem dX6_changes_16 : decode cX6_changes 16 = .ok (.lconst 0, 1) := dk_9 (dk_at dksX6_changes_0 16 rfl rfl)
theorem dX6_changes_17 : decode cX6_changes 17 = .ok (.ldc2_w 253, 3) := dk_20 0 253 (dk_at dksX6_changes_0 17 rfl rfl)
theorem dX6_changes_20 : decode cX6_changes 20 = .ok (.lload 4, 2) := dk_22 4 (dk_at dksX6_changes_0 20 rfl rfl)
theorem dX6_changes_22 : decode cX6_changes 22 = .ok (.invokestatic 264, 3) := dk_184 1 8 (dk_at dksX6_changes_1 0 rfl rfl)
theorem dX6_changes_25 : decode cX6_changes 25 = .ok (.invokestatic 267, 3) := dk_184 1 11 (dk_at dksX6_changes_1 3 rfl rfl)
theorem dX6_changes_28 : decode cX6_changes 28 = .ok (.l2i, 1) := dk_136 (dk_at dksX6_changes_1 6 rfl rfl)
theorem dX6_changes_29 : decode cX6_changes 29 = .ok (.iastore, 1) := dk_79 (dk_at dksX6_changes_1 7 rfl rfl)
theorem dX6_changes_30 : decode cX6_changes 30 = .ok (.return_, 1) := dk_177 (dk_at dksX6_changes_1 8 rfl rfl)
abbrev cX6_sits : ByteArray := prog_18_method_46_code
def yX6_sits : MethodName := ⟨RX6, "sits", "(IIII)V"⟩
def dkwX6_sits_7 : List UInt8 := [27, 104, 96, 4, 96, 16, 12, 96, 92, 46, 28, 96, 79, 177]
abbrev dktX6_sits_7 : List UInt8 := dkwX6_sits_7 ++ []
def dkwX6_sits_6 : List UInt8 := [21, 5, 8, 96, 29, 79, 42, 89, 180, 0, 92, 4, 96, 181, 0, 92, 42, 180, 0, 13, 16, 34, 16, 14]
abbrev dktX6_sits_6 : List UInt8 := dkwX6_sits_6 ++ dktX6_sits_7
def dkwX6_sits_5 : List UInt8 := [21, 4, 79, 42, 180, 0, 20, 21, 5, 7, 96, 42, 27, 182, 1, 41, 184, 1, 56, 79, 42, 180, 0, 20]
abbrev dktX6_sits_5 : List UInt8 := dkwX6_sits_5 ++ dktX6_sits_6
def dkwX6_sits_4 : List UInt8 := [180, 0, 20, 21, 5, 5, 96, 42, 180, 0, 17, 17, 7, 224, 46, 79, 42, 180, 0, 20, 21, 5, 6, 96]
abbrev dktX6_sits_4 : List UInt8 := dkwX6_sits_4 ++ dktX6_sits_5
def dkwX6_sits_3 : List UInt8 := [104, 54, 5, 42, 180, 0, 20, 21, 5, 27, 79, 42, 180, 0, 20, 21, 5, 4, 96, 28, 79, 42]
abbrev dktX6_sits_3 : List UInt8 := dkwX6_sits_3 ++ dktX6_sits_4
def dkwX6_sits_2 : List UInt8 := [180, 0, 92, 4, 100, 181, 0, 92, 42, 89, 180, 0, 95, 4, 96, 181, 0, 95, 16, 6, 42, 180, 0, 92]
abbrev dktX6_sits_2 : List UInt8 := dkwX6_sits_2 ++ dktX6_sits_3
def dkwX6_sits_1 : List UInt8 := [180, 0, 20, 21, 5, 16, 6, 100, 42, 180, 0, 20, 21, 5, 46, 79, 132, 5, 1, 167, 255, 228, 42, 89]
abbrev dktX6_sits_1 : List UInt8 := dkwX6_sits_1 ++ dktX6_sits_2
def dkwX6_sits_0 : List UInt8 := [42, 180, 0, 92, 16, 60, 160, 0, 58, 16, 6, 54, 5, 21, 5, 17, 1, 104, 162, 0, 26, 42]
abbrev dktX6_sits_0 : List UInt8 := dkwX6_sits_0 ++ dktX6_sits_1
theorem dksX6_sits_0 : cX6_sits.data.toList.drop 0 = dktX6_sits_0 := by decide +kernel
theorem dksX6_sits_1 : cX6_sits.data.toList.drop 22 = dktX6_sits_1 := dk_seg dksX6_sits_0 22 rfl rfl
theorem dksX6_sits_2 : cX6_sits.data.toList.drop 46 = dktX6_sits_2 := dk_seg dksX6_sits_1 24 rfl rfl
theorem dksX6_sits_3 : cX6_sits.data.toList.drop 70 = dktX6_sits_3 := dk_seg dksX6_sits_2 24 rfl rfl
theorem dksX6_sits_4 : cX6_sits.data.toList.drop 92 = dktX6_sits_4 := dk_seg dksX6_sits_3 22 rfl rfl
theorem dksX6_sits_5 : cX6_sits.data.toList.drop 116 = dktX6_sits_5 := dk_seg dksX6_sits_4 24 rfl rfl
theorem dksX6_sits_6 : cX6_sits.data.toList.drop 140 = dktX6_sits_6 := dk_seg dksX6_sits_5 24 rfl rfl
theorem dksX6_sits_7 : cX6_sits.data.toList.drop 164 = dktX6_sits_7 := dk_seg dksX6_sits_6 24 rfl rfl
theorem dX6_sits_0 : decode cX6_sits 0 = .ok (.aload_n 0, 1) := dk_42 (dk_at dksX6_sits_0 0 rfl rfl)
theorem dX6_sits_1 : decode cX6_sits 1 = .ok (.getfield 92, 3) := dk_180 0 92 (dk_at dksX6_sits_0 1 rfl rfl)
theorem dX6_sits_4 : decode cX6_sits 4 = .ok (.bipush 60, 2) := dk_16 60 (dk_at dksX6_sits_0 4 rfl rfl)
theorem dX6_sits_6 : decode cX6_sits 6 = .ok (.if_icmp .ne 58, 3) := dk_160 0 58 (dk_at dksX6_sits_0 6 rfl rfl)
theorem dX6_sits_9 : decode cX6_sits 9 = .ok (.bipush 6, 2) := dk_16 6 (dk_at dksX6_sits_0 9 rfl rfl)
theorem dX6_sits_11 : decode cX6_sits 11 = .ok (.istore 5, 2) := dk_54 5 (dk_at dksX6_sits_0 11 rfl rfl)
theorem dX6_sits_13 : decode cX6_sits 13 = .ok (.iload 5, 2) := dk_21 5 (dk_at dksX6_sits_0 13 rfl rfl)
theorem dX6_sits_15 : decode cX6_sits 15 = .ok (.sipush 360, 3) := dk_17 1 104 (dk_at dksX6_sits_0 15 rfl rfl)
theorem dX6_sits_18 : decode cX6_sits 18 = .ok (.if_icmp .ge 26, 3) := dk_162 0 26 (dk_at dksX6_sits_0 18 rfl rfl)
theorem dX6_sits_21 : decode cX6_sits 21 = .ok (.aload_n 0, 1) := dk_42 (dk_at dksX6_sits_0 21 rfl rfl)
theorem dX6_sits_22 : decode cX6_sits 22 = .ok (.getfield 20, 3) := dk_180 0 20 (dk_at dksX6_sits_1 0 rfl rfl)
theorem dX6_sits_25 : decode cX6_sits 25 = .ok (.iload 5, 2) := dk_21 5 (dk_at dksX6_sits_1 3 rfl rfl)
theorem dX6_sits_27 : decode cX6_sits 27 = .ok (.bipush 6, 2) := dk_16 6 (dk_at dksX6_sits_1 5 rfl rfl)
theorem dX6_sits_29 : decode cX6_sits 29 = .ok (.isub, 1) := dk_100 (dk_at dksX6_sits_1 7 rfl rfl)
theorem dX6_sits_30 : decode cX6_sits 30 = .ok (.aload_n 0, 1) := dk_42 (dk_at dksX6_sits_1 8 rfl rfl)
theorem dX6_sits_31 : decode cX6_sits 31 = .ok (.getfield 20, 3) := dk_180 0 20 (dk_at dksX6_sits_1 9 rfl rfl)
theorem dX6_sits_34 : decode cX6_sits 34 = .ok (.iload 5, 2) := dk_21 5 (dk_at dksX6_sits_1 12 rfl rfl)
theorem dX6_sits_36 : decode cX6_sits 36 = .ok (.iaload, 1) := dk_46 (dk_at dksX6_sits_1 14 rfl rfl)
theorem dX6_sits_37 : decode cX6_sits 37 = .ok (.iastore, 1) := dk_79 (dk_at dksX6_sits_1 15 rfl rfl)
theorem dX6_sits_38 : decode cX6_sits 38 = .ok (.iinc 5 1, 3) := dk_132 5 1 (dk_at dksX6_sits_1 16 rfl rfl)
theorem dX6_sits_41 : decode cX6_sits 41 = .ok (.goto (-28), 3) := dk_167 255 228 (dk_at dksX6_sits_1 19 rfl rfl)
theorem dX6_sits_44 : decode cX6_sits 44 = .ok (.aload_n 0, 1) := dk_42 (dk_at dksX6_sits_1 22 rfl rfl)
theorem dX6_sits_45 : decode cX6_sits 45 = .ok (.dup, 1) := dk_89 (dk_at dksX6_sits_1 23 rfl rfl)
theorem dX6_sits_46 : decode cX6_sits 46 = .ok (.getfield 92, 3) := dk_180 0 92 (dk_at dksX6_sits_2 0 rfl rfl)
theorem dX6_sits_49 : decode cX6_sits 49 = .ok (.iconst 1, 1) := dk_4 (dk_at dksX6_sits_2 3 rfl rfl)
theorem dX6_sits_50 : decode cX6_sits 50 = .ok (.isub, 1) := dk_100 (dk_at dksX6_sits_2 4 rfl rfl)
theorem dX6_sits_51 : decode cX6_sits 51 = .ok (.putfield 92, 3) := dk_181 0 92 (dk_at dksX6_sits_2 5 rfl rfl)
theorem dX6_sits_54 : decode cX6_sits 54 = .ok (.aload_n 0, 1) := dk_42 (dk_at dksX6_sits_2 8 rfl rfl)
theorem dX6_sits_55 : decode cX6_sits 55 = .ok (.dup, 1) := dk_89 (dk_at dksX6_sits_2 9 rfl rfl)
theorem dX6_sits_56 : decode cX6_sits 56 = .ok (.getfield 95, 3) := dk_180 0 95 (dk_at dksX6_sits_2 10 rfl rfl)
theorem dX6_sits_59 : decode cX6_sits 59 = .ok (.iconst 1, 1) := dk_4 (dk_at dksX6_sits_2 13 rfl rfl)
theorem dX6_sits_60 : decode cX6_sits 60 = .ok (.iadd, 1) := dk_96 (dk_at dksX6_sits_2 14 rfl rfl)
theorem dX6_sits_61 : decode cX6_sits 61 = .ok (.putfield 95, 3) := dk_181 0 95 (dk_at dksX6_sits_2 15 rfl rfl)
theorem dX6_sits_64 : decode cX6_sits 64 = .ok (.bipush 6, 2) := dk_16 6 (dk_at dksX6_sits_2 18 rfl rfl)
theorem dX6_sits_66 : decode cX6_sits 66 = .ok (.aload_n 0, 1) := dk_42 (dk_at dksX6_sits_2 20 rfl rfl)
theorem dX6_sits_67 : decode cX6_sits 67 = .ok (.getfield 92, 3) := dk_180 0 92 (dk_at dksX6_sits_2 21 rfl rfl)
theorem dX6_sits_70 : decode cX6_sits 70 = .ok (.imul, 1) := dk_104 (dk_at dksX6_sits_3 0 rfl rfl)
theorem dX6_sits_71 : decode cX6_sits 71 = .ok (.istore 5, 2) := dk_54 5 (dk_at dksX6_sits_3 1 rfl rfl)
theorem dX6_sits_73 : decode cX6_sits 73 = .ok (.aload_n 0, 1) := dk_42 (dk_at dksX6_sits_3 3 rfl rfl)
theorem dX6_sits_74 : decode cX6_sits 74 = .ok (.getfield 20, 3) := dk_180 0 20 (dk_at dksX6_sits_3 4 rfl rfl)
theorem dX6_sits_77 : decode cX6_sits 77 = .ok (.iload 5, 2) := dk_21 5 (dk_at dksX6_sits_3 7 rfl rfl)
theorem dX6_sits_79 : decode cX6_sits 79 = .ok (.iload_n 1, 1) := dk_27 (dk_at dksX6_sits_3 9 rfl rfl)
theorem dX6_sits_80 : decode cX6_sits 80 = .ok (.iastore, 1) := dk_79 (dk_at dksX6_sits_3 10 rfl rfl)
theorem dX6_sits_81 : decode cX6_sits 81 = .ok (.aload_n 0, 1) := dk_42 (dk_at dksX6_sits_3 11 rfl rfl)
theorem dX6_sits_82 : decode cX6_sits 82 = .ok (.getfield 20, 3) := dk_180 0 20 (dk_at dksX6_sits_3 12 rfl rfl)
theorem dX6_sits_85 : decode cX6_sits 85 = .ok (.iload 5, 2) := dk_21 5 (dk_at dksX6_sits_3 15 rfl rfl)
theorem dX6_sits_87 : decode cX6_sits 87 = .ok (.iconst 1, 1) := dk_4 (dk_at dksX6_sits_3 17 rfl rfl)
theorem dX6_sits_88 : decode cX6_sits 88 = .ok (.iadd, 1) := dk_96 (dk_at dksX6_sits_3 18 rfl rfl)
theorem dX6_sits_89 : decode cX6_sits 89 = .ok (.iload_n 2, 1) := dk_28 (dk_at dksX6_sits_3 19 rfl rfl)
theorem dX6_sits_90 : decode cX6_sits 90 = .ok (.iastore, 1) := dk_79 (dk_at dksX6_sits_3 20 rfl rfl)
theorem dX6_sits_91 : decode cX6_sits 91 = .ok (.aload_n 0, 1) := dk_42 (dk_at dksX6_sits_3 21 rfl rfl)
theorem dX6_sits_92 : decode cX6_sits 92 = .ok (.getfield 20, 3) := dk_180 0 20 (dk_at dksX6_sits_4 0 rfl rfl)
theorem dX6_sits_95 : decode cX6_sits 95 = .ok (.iload 5, 2) := dk_21 5 (dk_at dksX6_sits_4 3 rfl rfl)
theorem dX6_sits_97 : decode cX6_sits 97 = .ok (.iconst 2, 1) := dk_5 (dk_at dksX6_sits_4 5 rfl rfl)
theorem dX6_sits_98 : decode cX6_sits 98 = .ok (.iadd, 1) := dk_96 (dk_at dksX6_sits_4 6 rfl rfl)
theorem dX6_sits_99 : decode cX6_sits 99 = .ok (.aload_n 0, 1) := dk_42 (dk_at dksX6_sits_4 7 rfl rfl)
theorem dX6_sits_100 : decode cX6_sits 100 = .ok (.getfield 17, 3) := dk_180 0 17 (dk_at dksX6_sits_4 8 rfl rfl)
theorem dX6_sits_103 : decode cX6_sits 103 = .ok (.sipush 2016, 3) := dk_17 7 224 (dk_at dksX6_sits_4 11 rfl rfl)
theorem dX6_sits_106 : decode cX6_sits 106 = .ok (.iaload, 1) := dk_46 (dk_at dksX6_sits_4 14 rfl rfl)
theorem dX6_sits_107 : decode cX6_sits 107 = .ok (.iastore, 1) := dk_79 (dk_at dksX6_sits_4 15 rfl rfl)
theorem dX6_sits_108 : decode cX6_sits 108 = .ok (.aload_n 0, 1) := dk_42 (dk_at dksX6_sits_4 16 rfl rfl)
theorem dX6_sits_109 : decode cX6_sits 109 = .ok (.getfield 20, 3) := dk_180 0 20 (dk_at dksX6_sits_4 17 rfl rfl)
theorem dX6_sits_112 : decode cX6_sits 112 = .ok (.iload 5, 2) := dk_21 5 (dk_at dksX6_sits_4 20 rfl rfl)
theorem dX6_sits_114 : decode cX6_sits 114 = .ok (.iconst 3, 1) := dk_6 (dk_at dksX6_sits_4 22 rfl rfl)
theorem dX6_sits_115 : decode cX6_sits 115 = .ok (.iadd, 1) := dk_96 (dk_at dksX6_sits_4 23 rfl rfl)
theorem dX6_sits_116 : decode cX6_sits 116 = .ok (.iload 4, 2) := dk_21 4 (dk_at dksX6_sits_5 0 rfl rfl)
theorem dX6_sits_118 : decode cX6_sits 118 = .ok (.iastore, 1) := dk_79 (dk_at dksX6_sits_5 2 rfl rfl)
theorem dX6_sits_119 : decode cX6_sits 119 = .ok (.aload_n 0, 1) := dk_42 (dk_at dksX6_sits_5 3 rfl rfl)
theorem dX6_sits_120 : decode cX6_sits 120 = .ok (.getfield 20, 3) := dk_180 0 20 (dk_at dksX6_sits_5 4 rfl rfl)
theorem dX6_sits_123 : decode cX6_sits 123 = .ok (.iload 5, 2) := dk_21 5 (dk_at dksX6_sits_5 7 rfl rfl)
theorem dX6_sits_125 : decode cX6_sits 125 = .ok (.iconst 4, 1) := dk_7 (dk_at dksX6_sits_5 9 rfl rfl)
theorem dX6_sits_126 : decode cX6_sits 126 = .ok (.iadd, 1) := dk_96 (dk_at dksX6_sits_5 10 rfl rfl)
theorem dX6_sits_127 : decode cX6_sits 127 = .ok (.aload_n 0, 1) := dk_42 (dk_at dksX6_sits_5 11 rfl rfl)
theorem dX6_sits_128 : decode cX6_sits 128 = .ok (.iload_n 1, 1) := dk_27 (dk_at dksX6_sits_5 12 rfl rfl)
theorem dX6_sits_129 : decode cX6_sits 129 = .ok (.invokevirtual 297, 3) := dk_182 1 41 (dk_at dksX6_sits_5 13 rfl rfl)
theorem dX6_sits_132 : decode cX6_sits 132 = .ok (.invokestatic 312, 3) := dk_184 1 56 (dk_at dksX6_sits_5 16 rfl rfl)
theorem dX6_sits_135 : decode cX6_sits 135 = .ok (.iastore, 1) := dk_79 (dk_at dksX6_sits_5 19 rfl rfl)
theorem dX6_sits_136 : decode cX6_sits 136 = .ok (.aload_n 0, 1) := dk_42 (dk_at dksX6_sits_5 20 rfl rfl)
theorem dX6_sits_137 : decode cX6_sits 137 = .ok (.getfield 20, 3) := dk_180 0 20 (dk_at dksX6_sits_5 21 rfl rfl)
theorem dX6_sits_140 : decode cX6_sits 140 = .ok (.iload 5, 2) := dk_21 5 (dk_at dksX6_sits_6 0 rfl rfl)
theorem dX6_sits_142 : decode cX6_sits 142 = .ok (.iconst 5, 1) := dk_8 (dk_at dksX6_sits_6 2 rfl rfl)
theorem dX6_sits_143 : decode cX6_sits 143 = .ok (.iadd, 1) := dk_96 (dk_at dksX6_sits_6 3 rfl rfl)
theorem dX6_sits_144 : decode cX6_sits 144 = .ok (.iload_n 3, 1) := dk_29 (dk_at dksX6_sits_6 4 rfl rfl)
theorem dX6_sits_145 : decode cX6_sits 145 = .ok (.iastore, 1) := dk_79 (dk_at dksX6_sits_6 5 rfl rfl)
theorem dX6_sits_146 : decode cX6_sits 146 = .ok (.aload_n 0, 1) := dk_42 (dk_at dksX6_sits_6 6 rfl rfl)
theorem dX6_sits_147 : decode cX6_sits 147 = .ok (.dup, 1) := dk_89 (dk_at dksX6_sits_6 7 rfl rfl)
theorem dX6_sits_148 : decode cX6_sits 148 = .ok (.getfield 92, 3) := dk_180 0 92 (dk_at dksX6_sits_6 8 rfl rfl)
theorem dX6_sits_151 : decode cX6_sits 151 = .ok (.iconst 1, 1) := dk_4 (dk_at dksX6_sits_6 11 rfl rfl)
theorem dX6_sits_152 : decode cX6_sits 152 = .ok (.iadd, 1) := dk_96 (dk_at dksX6_sits_6 12 rfl rfl)
theorem dX6_sits_153 : decode cX6_sits 153 = .ok (.putfield 92, 3) := dk_181 0 92 (dk_at dksX6_sits_6 13 rfl rfl)
theorem dX6_sits_156 : decode cX6_sits 156 = .ok (.aload_n 0, 1) := dk_42 (dk_at dksX6_sits_6 16 rfl rfl)
theorem dX6_sits_157 : decode cX6_sits 157 = .ok (.getfield 13, 3) := dk_180 0 13 (dk_at dksX6_sits_6 17 rfl rfl)
theorem dX6_sits_160 : decode cX6_sits 160 = .ok (.bipush 34, 2) := dk_16 34 (dk_at dksX6_sits_6 20 rfl rfl)
theorem dX6_sits_162 : decode cX6_sits 162 = .ok (.bipush 14, 2) := dk_16 14 (dk_at dksX6_sits_6 22 rfl rfl)
theorem dX6_sits_164 : decode cX6_sits 164 = .ok (.iload_n 1, 1) := dk_27 (dk_at dksX6_sits_7 0 rfl rfl)
theorem dX6_sits_165 : decode cX6_sits 165 = .ok (.imul, 1) := dk_104 (dk_at dksX6_sits_7 1 rfl rfl)
theorem dX6_sits_166 : decode cX6_sits 166 = .ok (.iadd, 1) := dk_96 (dk_at dksX6_sits_7 2 rfl rfl)
theorem dX6_sits_167 : decode cX6_sits 167 = .ok (.iconst 1, 1) := dk_4 (dk_at dksX6_sits_7 3 rfl rfl)
theorem dX6_sits_168 : decode cX6_sits 168 = .ok (.iadd, 1) := dk_96 (dk_at dksX6_sits_7 4 rfl rfl)
theorem dX6_sits_169 : decode cX6_sits 169 = .ok (.bipush 12, 2) := dk_16 12 (dk_at dksX6_sits_7 5 rfl rfl)
theorem dX6_sits_171 : decode cX6_sits 171 = .ok (.iadd, 1) := dk_96 (dk_at dksX6_sits_7 7 rfl rfl)
theorem dX6_sits_172 : decode cX6_sits 172 = .ok (.dup2, 1) := dk_92 (dk_at dksX6_sits_7 8 rfl rfl)
theorem dX6_sits_173 : decode cX6_sits 173 = .ok (.iaload, 1) := dk_46 (dk_at dksX6_sits_7 9 rfl rfl)
theorem dX6_sits_174 : decode cX6_sits 174 = .ok (.iload_n 2, 1) := dk_28 (dk_at dksX6_sits_7 10 rfl rfl)
theorem dX6_sits_175 : decode cX6_sits 175 = .ok (.iadd, 1) := dk_96 (dk_at dksX6_sits_7 11 rfl rfl)
theorem dX6_sits_176 : decode cX6_sits 176 = .ok (.iastore, 1) := dk_79 (dk_at dksX6_sits_7 12 rfl rfl)
theorem dX6_sits_177 : decode cX6_sits 177 = .ok (.return_, 1) := dk_177 (dk_at dksX6_sits_7 13 rfl rfl)
abbrev cX6_learn : ByteArray := prog_18_method_48_code
def yX6_learn : MethodName := ⟨RX6, "learn", "(I)I"⟩
def dkwX6_learn_2 : List UInt8 := [167, 0, 4, 4, 28, 182, 1, 64, 29, 172]
abbrev dktX6_learn_2 : List UInt8 := dkwX6_learn_2 ++ []
def dkwX6_learn_1 : List UInt8 := [182, 1, 50, 62, 42, 27, 29, 2, 160, 0, 8, 16, 40, 167, 0, 4, 29, 29, 2, 160, 0, 7, 5]
abbrev dktX6_learn_1 : List UInt8 := dkwX6_learn_1 ++ dktX6_learn_2
def dkwX6_learn_0 : List UInt8 := [42, 27, 182, 1, 59, 154, 0, 6, 16, 254, 172, 42, 27, 182, 1, 41, 184, 1, 56, 61, 42, 27]
abbrev dktX6_learn_0 : List UInt8 := dkwX6_learn_0 ++ dktX6_learn_1
theorem dksX6_learn_0 : cX6_learn.data.toList.drop 0 = dktX6_learn_0 := by decide +kernel
theorem dksX6_learn_1 : cX6_learn.data.toList.drop 22 = dktX6_learn_1 := dk_seg dksX6_learn_0 22 rfl rfl
theorem dksX6_learn_2 : cX6_learn.data.toList.drop 45 = dktX6_learn_2 := dk_seg dksX6_learn_1 23 rfl rfl
theorem dX6_learn_0 : decode cX6_learn 0 = .ok (.aload_n 0, 1) := dk_42 (dk_at dksX6_learn_0 0 rfl rfl)
theorem dX6_learn_1 : decode cX6_learn 1 = .ok (.iload_n 1, 1) := dk_27 (dk_at dksX6_learn_0 1 rfl rfl)
theorem dX6_learn_2 : decode cX6_learn 2 = .ok (.invokevirtual 315, 3) := dk_182 1 59 (dk_at dksX6_learn_0 2 rfl rfl)
theorem dX6_learn_5 : decode cX6_learn 5 = .ok (.ifCond .ne 6, 3) := dk_154 0 6 (dk_at dksX6_learn_0 5 rfl rfl)
theorem dX6_learn_8 : decode cX6_learn 8 = .ok (.bipush (-2), 2) := dk_16 254 (dk_at dksX6_learn_0 8 rfl rfl)
theorem dX6_learn_10 : decode cX6_learn 10 = .ok (.ireturn, 1) := dk_172 (dk_at dksX6_learn_0 10 rfl rfl)
theorem dX6_learn_11 : decode cX6_learn 11 = .ok (.aload_n 0, 1) := dk_42 (dk_at dksX6_learn_0 11 rfl rfl)
theorem dX6_learn_12 : decode cX6_learn 12 = .ok (.iload_n 1, 1) := dk_27 (dk_at dksX6_learn_0 12 rfl rfl)
theorem dX6_learn_13 : decode cX6_learn 13 = .ok (.invokevirtual 297, 3) := dk_182 1 41 (dk_at dksX6_learn_0 13 rfl rfl)
theorem dX6_learn_16 : decode cX6_learn 16 = .ok (.invokestatic 312, 3) := dk_184 1 56 (dk_at dksX6_learn_0 16 rfl rfl)
theorem dX6_learn_19 : decode cX6_learn 19 = .ok (.istore_n 2, 1) := dk_61 (dk_at dksX6_learn_0 19 rfl rfl)
theorem dX6_learn_20 : decode cX6_learn 20 = .ok (.aload_n 0, 1) := dk_42 (dk_at dksX6_learn_0 20 rfl rfl)
theorem dX6_learn_21 : decode cX6_learn 21 = .ok (.iload_n 1, 1) := dk_27 (dk_at dksX6_learn_0 21 rfl rfl)
theorem dX6_learn_22 : decode cX6_learn 22 = .ok (.invokevirtual 306, 3) := dk_182 1 50 (dk_at dksX6_learn_1 0 rfl rfl)
theorem dX6_learn_25 : decode cX6_learn 25 = .ok (.istore_n 3, 1) := dk_62 (dk_at dksX6_learn_1 3 rfl rfl)
theorem dX6_learn_26 : decode cX6_learn 26 = .ok (.aload_n 0, 1) := dk_42 (dk_at dksX6_learn_1 4 rfl rfl)
theorem dX6_learn_27 : decode cX6_learn 27 = .ok (.iload_n 1, 1) := dk_27 (dk_at dksX6_learn_1 5 rfl rfl)
theorem dX6_learn_28 : decode cX6_learn 28 = .ok (.iload_n 3, 1) := dk_29 (dk_at dksX6_learn_1 6 rfl rfl)
theorem dX6_learn_29 : decode cX6_learn 29 = .ok (.iconst (-1), 1) := dk_2 (dk_at dksX6_learn_1 7 rfl rfl)
theorem dX6_learn_30 : decode cX6_learn 30 = .ok (.if_icmp .ne 8, 3) := dk_160 0 8 (dk_at dksX6_learn_1 8 rfl rfl)
theorem dX6_learn_33 : decode cX6_learn 33 = .ok (.bipush 40, 2) := dk_16 40 (dk_at dksX6_learn_1 11 rfl rfl)
theorem dX6_learn_35 : decode cX6_learn 35 = .ok (.goto 4, 3) := dk_167 0 4 (dk_at dksX6_learn_1 13 rfl rfl)
theorem dX6_learn_38 : decode cX6_learn 38 = .ok (.iload_n 3, 1) := dk_29 (dk_at dksX6_learn_1 16 rfl rfl)
theorem dX6_learn_39 : decode cX6_learn 39 = .ok (.iload_n 3, 1) := dk_29 (dk_at dksX6_learn_1 17 rfl rfl)
theorem dX6_learn_40 : decode cX6_learn 40 = .ok (.iconst (-1), 1) := dk_2 (dk_at dksX6_learn_1 18 rfl rfl)
theorem dX6_learn_41 : decode cX6_learn 41 = .ok (.if_icmp .ne 7, 3) := dk_160 0 7 (dk_at dksX6_learn_1 19 rfl rfl)
theorem dX6_learn_44 : decode cX6_learn 44 = .ok (.iconst 2, 1) := dk_5 (dk_at dksX6_learn_1 22 rfl rfl)
theorem dX6_learn_45 : decode cX6_learn 45 = .ok (.goto 4, 3) := dk_167 0 4 (dk_at dksX6_learn_2 0 rfl rfl)
theorem dX6_learn_48 : decode cX6_learn 48 = .ok (.iconst 1, 1) := dk_4 (dk_at dksX6_learn_2 3 rfl rfl)
theorem dX6_learn_49 : decode cX6_learn 49 = .ok (.iload_n 2, 1) := dk_28 (dk_at dksX6_learn_2 4 rfl rfl)
theorem dX6_learn_50 : decode cX6_learn 50 = .ok (.invokevirtual 320, 3) := dk_182 1 64 (dk_at dksX6_learn_2 5 rfl rfl)
theorem dX6_learn_53 : decode cX6_learn 53 = .ok (.iload_n 3, 1) := dk_29 (dk_at dksX6_learn_2 8 rfl rfl)
theorem dX6_learn_54 : decode cX6_learn 54 = .ok (.ireturn, 1) := dk_172 (dk_at dksX6_learn_2 9 rfl rfl)
abbrev cX6_learns : ByteArray := prog_18_method_41_code
def yX6_learns : MethodName := ⟨RX6, "learns", "(I)I"⟩
def dkwX6_learns_1 : List UInt8 := [4, 96, 167, 0, 4, 3, 61, 28, 5, 160, 0, 5, 29, 172, 132, 3, 1, 167, 255, 219, 2, 172]
abbrev dktX6_learns_1 : List UInt8 := dkwX6_learns_1 ++ []
def dkwX6_learns_0 : List UInt8 := [3, 61, 4, 62, 29, 16, 40, 163, 0, 37, 42, 27, 182, 1, 38, 42, 27, 182, 1, 41, 154, 0, 9, 28]
abbrev dktX6_learns_0 : List UInt8 := dkwX6_learns_0 ++ dktX6_learns_1
theorem dksX6_learns_0 : cX6_learns.data.toList.drop 0 = dktX6_learns_0 := by decide +kernel
theorem dksX6_learns_1 : cX6_learns.data.toList.drop 24 = dktX6_learns_1 := dk_seg dksX6_learns_0 24 rfl rfl
theorem dX6_learns_0 : decode cX6_learns 0 = .ok (.iconst 0, 1) := dk_3 (dk_at dksX6_learns_0 0 rfl rfl)
theorem dX6_learns_1 : decode cX6_learns 1 = .ok (.istore_n 2, 1) := dk_61 (dk_at dksX6_learns_0 1 rfl rfl)
theorem dX6_learns_2 : decode cX6_learns 2 = .ok (.iconst 1, 1) := dk_4 (dk_at dksX6_learns_0 2 rfl rfl)
theorem dX6_learns_3 : decode cX6_learns 3 = .ok (.istore_n 3, 1) := dk_62 (dk_at dksX6_learns_0 3 rfl rfl)
theorem dX6_learns_4 : decode cX6_learns 4 = .ok (.iload_n 3, 1) := dk_29 (dk_at dksX6_learns_0 4 rfl rfl)
theorem dX6_learns_5 : decode cX6_learns 5 = .ok (.bipush 40, 2) := dk_16 40 (dk_at dksX6_learns_0 5 rfl rfl)
theorem dX6_learns_7 : decode cX6_learns 7 = .ok (.if_icmp .gt 37, 3) := dk_163 0 37 (dk_at dksX6_learns_0 7 rfl rfl)
theorem dX6_learns_10 : decode cX6_learns 10 = .ok (.aload_n 0, 1) := dk_42 (dk_at dksX6_learns_0 10 rfl rfl)
theorem dX6_learns_11 : decode cX6_learns 11 = .ok (.iload_n 1, 1) := dk_27 (dk_at dksX6_learns_0 11 rfl rfl)
theorem dX6_learns_12 : decode cX6_learns 12 = .ok (.invokevirtual 294, 3) := dk_182 1 38 (dk_at dksX6_learns_0 12 rfl rfl)
theorem dX6_learns_15 : decode cX6_learns 15 = .ok (.aload_n 0, 1) := dk_42 (dk_at dksX6_learns_0 15 rfl rfl)
theorem dX6_learns_16 : decode cX6_learns 16 = .ok (.iload_n 1, 1) := dk_27 (dk_at dksX6_learns_0 16 rfl rfl)
theorem dX6_learns_17 : decode cX6_learns 17 = .ok (.invokevirtual 297, 3) := dk_182 1 41 (dk_at dksX6_learns_0 17 rfl rfl)
theorem dX6_learns_20 : decode cX6_learns 20 = .ok (.ifCond .ne 9, 3) := dk_154 0 9 (dk_at dksX6_learns_0 20 rfl rfl)
theorem dX6_learns_23 : decode cX6_learns 23 = .ok (.iload_n 2, 1) := dk_28 (dk_at dksX6_learns_0 23 rfl rfl)
theorem dX6_learns_24 : decode cX6_learns 24 = .ok (.iconst 1, 1) := dk_4 (dk_at dksX6_learns_1 0 rfl rfl)
theorem dX6_learns_25 : decode cX6_learns 25 = .ok (.iadd, 1) := dk_96 (dk_at dksX6_learns_1 1 rfl rfl)
theorem dX6_learns_26 : decode cX6_learns 26 = .ok (.goto 4, 3) := dk_167 0 4 (dk_at dksX6_learns_1 2 rfl rfl)
theorem dX6_learns_29 : decode cX6_learns 29 = .ok (.iconst 0, 1) := dk_3 (dk_at dksX6_learns_1 5 rfl rfl)
theorem dX6_learns_30 : decode cX6_learns 30 = .ok (.istore_n 2, 1) := dk_61 (dk_at dksX6_learns_1 6 rfl rfl)
theorem dX6_learns_31 : decode cX6_learns 31 = .ok (.iload_n 2, 1) := dk_28 (dk_at dksX6_learns_1 7 rfl rfl)
theorem dX6_learns_32 : decode cX6_learns 32 = .ok (.iconst 2, 1) := dk_5 (dk_at dksX6_learns_1 8 rfl rfl)
theorem dX6_learns_33 : decode cX6_learns 33 = .ok (.if_icmp .ne 5, 3) := dk_160 0 5 (dk_at dksX6_learns_1 9 rfl rfl)
theorem dX6_learns_36 : decode cX6_learns 36 = .ok (.iload_n 3, 1) := dk_29 (dk_at dksX6_learns_1 12 rfl rfl)
theorem dX6_learns_37 : decode cX6_learns 37 = .ok (.ireturn, 1) := dk_172 (dk_at dksX6_learns_1 13 rfl rfl)
theorem dX6_learns_38 : decode cX6_learns 38 = .ok (.iinc 3 1, 3) := dk_132 3 1 (dk_at dksX6_learns_1 14 rfl rfl)
theorem dX6_learns_41 : decode cX6_learns 41 = .ok (.goto (-37), 3) := dk_167 255 219 (dk_at dksX6_learns_1 17 rfl rfl)
theorem dX6_learns_44 : decode cX6_learns 44 = .ok (.iconst (-1), 1) := dk_2 (dk_at dksX6_learns_1 20 rfl rfl)
theorem dX6_learns_45 : decode cX6_learns 45 = .ok (.ireturn, 1) := dk_172 (dk_at dksX6_learns_1 21 rfl rfl)
abbrev cX6_waits : ByteArray := prog_18_method_49_code
def yX6_waits : MethodName := ⟨RX6, "waits", "(I)I"⟩
def dkwX6_waits_1 : List UInt8 := [17, 7, 224, 46, 172]
abbrev dktX6_waits_1 : List UInt8 := dkwX6_waits_1 ++ []
def dkwX6_waits_0 : List UInt8 := [27, 133, 9, 20, 1, 67, 184, 0, 88, 154, 0, 6, 16, 254, 172, 42, 27, 182, 1, 69, 42, 180, 0, 17]
abbrev dktX6_waits_0 : List UInt8 := dkwX6_waits_0 ++ dktX6_waits_1
theorem dksX6_waits_0 : cX6_waits.data.toList.drop 0 = dktX6_waits_0 := by decide +kernel
theorem dksX6_waits_1 : cX6_waits.data.toList.drop 24 = dktX6_waits_1 := dk_seg dksX6_waits_0 24 rfl rfl
theorem dX6_waits_0 : decode cX6_waits 0 = .ok (.iload_n 1, 1) := dk_27 (dk_at dksX6_waits_0 0 rfl rfl)
theorem dX6_waits_1 : decode cX6_waits 1 = .ok (.i2l, 1) := dk_133 (dk_at dksX6_waits_0 1 rfl rfl)
theorem dX6_waits_2 : decode cX6_waits 2 = .ok (.lconst 0, 1) := dk_9 (dk_at dksX6_waits_0 2 rfl rfl)
theorem dX6_waits_3 : decode cX6_waits 3 = .ok (.ldc2_w 323, 3) := dk_20 1 67 (dk_at dksX6_waits_0 3 rfl rfl)
theorem dX6_waits_6 : decode cX6_waits 6 = .ok (.invokestatic 88, 3) := dk_184 0 88 (dk_at dksX6_waits_0 6 rfl rfl)
theorem dX6_waits_9 : decode cX6_waits 9 = .ok (.ifCond .ne 6, 3) := dk_154 0 6 (dk_at dksX6_waits_0 9 rfl rfl)
theorem dX6_waits_12 : decode cX6_waits 12 = .ok (.bipush (-2), 2) := dk_16 254 (dk_at dksX6_waits_0 12 rfl rfl)
theorem dX6_waits_14 : decode cX6_waits 14 = .ok (.ireturn, 1) := dk_172 (dk_at dksX6_waits_0 14 rfl rfl)
theorem dX6_waits_15 : decode cX6_waits 15 = .ok (.aload_n 0, 1) := dk_42 (dk_at dksX6_waits_0 15 rfl rfl)
theorem dX6_waits_16 : decode cX6_waits 16 = .ok (.iload_n 1, 1) := dk_27 (dk_at dksX6_waits_0 16 rfl rfl)
theorem dX6_waits_17 : decode cX6_waits 17 = .ok (.invokevirtual 325, 3) := dk_182 1 69 (dk_at dksX6_waits_0 17 rfl rfl)
theorem dX6_waits_20 : decode cX6_waits 20 = .ok (.aload_n 0, 1) := dk_42 (dk_at dksX6_waits_0 20 rfl rfl)
theorem dX6_waits_21 : decode cX6_waits 21 = .ok (.getfield 17, 3) := dk_180 0 17 (dk_at dksX6_waits_0 21 rfl rfl)
theorem dX6_waits_24 : decode cX6_waits 24 = .ok (.sipush 2016, 3) := dk_17 7 224 (dk_at dksX6_waits_1 0 rfl rfl)
theorem dX6_waits_27 : decode cX6_waits 27 = .ok (.iaload, 1) := dk_46 (dk_at dksX6_waits_1 3 rfl rfl)
theorem dX6_waits_28 : decode cX6_waits 28 = .ok (.ireturn, 1) := dk_172 (dk_at dksX6_waits_1 4 rfl rfl)
abbrev cX6_hoursGo : ByteArray := prog_18_method_38_code
def yX6_hoursGo : MethodName := ⟨RX6, "hoursGo", "(I)V"⟩
def dkwX6_hoursGo_0 : List UInt8 := [3, 61, 28, 27, 162, 0, 13, 42, 182, 1, 32, 132, 2, 1, 167, 255, 244, 177]
abbrev dktX6_hoursGo_0 : List UInt8 := dkwX6_hoursGo_0 ++ []
theorem dksX6_hoursGo_0 : cX6_hoursGo.data.toList.drop 0 = dktX6_hoursGo_0 := by decide +kernel
theorem dX6_hoursGo_0 : decode cX6_hoursGo 0 = .ok (.iconst 0, 1) := dk_3 (dk_at dksX6_hoursGo_0 0 rfl rfl)
theorem dX6_hoursGo_1 : decode cX6_hoursGo 1 = .ok (.istore_n 2, 1) := dk_61 (dk_at dksX6_hoursGo_0 1 rfl rfl)
theorem dX6_hoursGo_2 : decode cX6_hoursGo 2 = .ok (.iload_n 2, 1) := dk_28 (dk_at dksX6_hoursGo_0 2 rfl rfl)
theorem dX6_hoursGo_3 : decode cX6_hoursGo 3 = .ok (.iload_n 1, 1) := dk_27 (dk_at dksX6_hoursGo_0 3 rfl rfl)
theorem dX6_hoursGo_4 : decode cX6_hoursGo 4 = .ok (.if_icmp .ge 13, 3) := dk_162 0 13 (dk_at dksX6_hoursGo_0 4 rfl rfl)
theorem dX6_hoursGo_7 : decode cX6_hoursGo 7 = .ok (.aload_n 0, 1) := dk_42 (dk_at dksX6_hoursGo_0 7 rfl rfl)
theorem dX6_hoursGo_8 : decode cX6_hoursGo 8 = .ok (.invokevirtual 288, 3) := dk_182 1 32 (dk_at dksX6_hoursGo_0 8 rfl rfl)
theorem dX6_hoursGo_11 : decode cX6_hoursGo 11 = .ok (.iinc 2 1, 3) := dk_132 2 1 (dk_at dksX6_hoursGo_0 11 rfl rfl)
theorem dX6_hoursGo_14 : decode cX6_hoursGo 14 = .ok (.goto (-12), 3) := dk_167 255 244 (dk_at dksX6_hoursGo_0 14 rfl rfl)
theorem dX6_hoursGo_17 : decode cX6_hoursGo 17 = .ok (.return_, 1) := dk_177 (dk_at dksX6_hoursGo_0 17 rfl rfl)
abbrev cX6_hourGoes : ByteArray := prog_18_method_37_code
def yX6_hourGoes : MethodName := ⟨RX6, "hourGoes", "()V"⟩
def dkwX6_hourGoes_6 : List UInt8 := [177]
abbrev dktX6_hourGoes_6 : List UInt8 := dkwX6_hourGoes_6 ++ []
def dkwX6_hourGoes_5 : List UInt8 := [167, 255, 151, 42, 180, 0, 17, 17, 7, 224, 92, 46, 4, 96, 79, 42, 180, 0, 17, 17, 7, 225, 3, 79]
abbrev dktX6_hourGoes_5 : List UInt8 := dkwX6_hourGoes_5 ++ dktX6_hourGoes_6
def dkwX6_hourGoes_4 : List UInt8 := [182, 1, 5, 117, 182, 1, 18, 132, 4, 1, 167, 255, 178, 132, 3, 1, 167, 255, 164, 132, 2, 1]
abbrev dktX6_hourGoes_4 : List UInt8 := dkwX6_hourGoes_4 ++ dktX6_hourGoes_5
def dkwX6_hourGoes_3 : List UInt8 := [21, 5, 46, 42, 180, 0, 13, 16, 10, 28, 6, 160, 0, 7, 29, 167, 0, 5, 21, 4, 96, 46]
abbrev dktX6_hourGoes_3 : List UInt8 := dkwX6_hourGoes_3 ++ dktX6_hourGoes_4
def dkwX6_hourGoes_2 : List UInt8 := [54, 5, 42, 180, 0, 17, 21, 5, 46, 158, 0, 43, 42, 21, 5, 42, 7, 28, 96, 42, 180, 0, 17]
abbrev dktX6_hourGoes_2 : List UInt8 := dkwX6_hourGoes_2 ++ dktX6_hourGoes_3
def dkwX6_hourGoes_1 : List UInt8 := [21, 4, 28, 6, 160, 0, 8, 16, 12, 167, 0, 4, 27, 162, 0, 68, 28, 29, 21, 4, 184, 1, 14]
abbrev dktX6_hourGoes_1 : List UInt8 := dkwX6_hourGoes_1 ++ dktX6_hourGoes_2
def dkwX6_hourGoes_0 : List UInt8 := [42, 180, 0, 13, 4, 46, 60, 3, 61, 28, 7, 162, 0, 106, 3, 62, 29, 27, 162, 0, 93, 3, 54, 4]
abbrev dktX6_hourGoes_0 : List UInt8 := dkwX6_hourGoes_0 ++ dktX6_hourGoes_1
theorem dksX6_hourGoes_0 : cX6_hourGoes.data.toList.drop 0 = dktX6_hourGoes_0 := by decide +kernel
theorem dksX6_hourGoes_1 : cX6_hourGoes.data.toList.drop 24 = dktX6_hourGoes_1 := dk_seg dksX6_hourGoes_0 24 rfl rfl
theorem dksX6_hourGoes_2 : cX6_hourGoes.data.toList.drop 47 = dktX6_hourGoes_2 := dk_seg dksX6_hourGoes_1 23 rfl rfl
theorem dksX6_hourGoes_3 : cX6_hourGoes.data.toList.drop 70 = dktX6_hourGoes_3 := dk_seg dksX6_hourGoes_2 23 rfl rfl
theorem dksX6_hourGoes_4 : cX6_hourGoes.data.toList.drop 92 = dktX6_hourGoes_4 := dk_seg dksX6_hourGoes_3 22 rfl rfl
theorem dksX6_hourGoes_5 : cX6_hourGoes.data.toList.drop 114 = dktX6_hourGoes_5 := dk_seg dksX6_hourGoes_4 22 rfl rfl
theorem dksX6_hourGoes_6 : cX6_hourGoes.data.toList.drop 138 = dktX6_hourGoes_6 := dk_seg dksX6_hourGoes_5 24 rfl rfl
theorem dX6_hourGoes_0 : decode cX6_hourGoes 0 = .ok (.aload_n 0, 1) := dk_42 (dk_at dksX6_hourGoes_0 0 rfl rfl)
theorem dX6_hourGoes_1 : decode cX6_hourGoes 1 = .ok (.getfield 13, 3) := dk_180 0 13 (dk_at dksX6_hourGoes_0 1 rfl rfl)
theorem dX6_hourGoes_4 : decode cX6_hourGoes 4 = .ok (.iconst 1, 1) := dk_4 (dk_at dksX6_hourGoes_0 4 rfl rfl)
theorem dX6_hourGoes_5 : decode cX6_hourGoes 5 = .ok (.iaload, 1) := dk_46 (dk_at dksX6_hourGoes_0 5 rfl rfl)
theorem dX6_hourGoes_6 : decode cX6_hourGoes 6 = .ok (.istore_n 1, 1) := dk_60 (dk_at dksX6_hourGoes_0 6 rfl rfl)
theorem dX6_hourGoes_7 : decode cX6_hourGoes 7 = .ok (.iconst 0, 1) := dk_3 (dk_at dksX6_hourGoes_0 7 rfl rfl)
theorem dX6_hourGoes_8 : decode cX6_hourGoes 8 = .ok (.istore_n 2, 1) := dk_61 (dk_at dksX6_hourGoes_0 8 rfl rfl)
theorem dX6_hourGoes_9 : decode cX6_hourGoes 9 = .ok (.iload_n 2, 1) := dk_28 (dk_at dksX6_hourGoes_0 9 rfl rfl)
theorem dX6_hourGoes_10 : decode cX6_hourGoes 10 = .ok (.iconst 4, 1) := dk_7 (dk_at dksX6_hourGoes_0 10 rfl rfl)
theorem dX6_hourGoes_11 : decode cX6_hourGoes 11 = .ok (.if_icmp .ge 106, 3) := dk_162 0 106 (dk_at dksX6_hourGoes_0 11 rfl rfl)
theorem dX6_hourGoes_14 : decode cX6_hourGoes 14 = .ok (.iconst 0, 1) := dk_3 (dk_at dksX6_hourGoes_0 14 rfl rfl)
theorem dX6_hourGoes_15 : decode cX6_hourGoes 15 = .ok (.istore_n 3, 1) := dk_62 (dk_at dksX6_hourGoes_0 15 rfl rfl)
theorem dX6_hourGoes_16 : decode cX6_hourGoes 16 = .ok (.iload_n 3, 1) := dk_29 (dk_at dksX6_hourGoes_0 16 rfl rfl)
theorem dX6_hourGoes_17 : decode cX6_hourGoes 17 = .ok (.iload_n 1, 1) := dk_27 (dk_at dksX6_hourGoes_0 17 rfl rfl)
theorem dX6_hourGoes_18 : decode cX6_hourGoes 18 = .ok (.if_icmp .ge 93, 3) := dk_162 0 93 (dk_at dksX6_hourGoes_0 18 rfl rfl)
theorem dX6_hourGoes_21 : decode cX6_hourGoes 21 = .ok (.iconst 0, 1) := dk_3 (dk_at dksX6_hourGoes_0 21 rfl rfl)
theorem dX6_hourGoes_22 : decode cX6_hourGoes 22 = .ok (.istore 4, 2) := dk_54 4 (dk_at dksX6_hourGoes_0 22 rfl rfl)
theorem dX6_hourGoes_24 : decode cX6_hourGoes 24 = .ok (.iload 4, 2) := dk_21 4 (dk_at dksX6_hourGoes_1 0 rfl rfl)
theorem dX6_hourGoes_26 : decode cX6_hourGoes 26 = .ok (.iload_n 2, 1) := dk_28 (dk_at dksX6_hourGoes_1 2 rfl rfl)
theorem dX6_hourGoes_27 : decode cX6_hourGoes 27 = .ok (.iconst 3, 1) := dk_6 (dk_at dksX6_hourGoes_1 3 rfl rfl)
theorem dX6_hourGoes_28 : decode cX6_hourGoes 28 = .ok (.if_icmp .ne 8, 3) := dk_160 0 8 (dk_at dksX6_hourGoes_1 4 rfl rfl)
theorem dX6_hourGoes_31 : decode cX6_hourGoes 31 = .ok (.bipush 12, 2) := dk_16 12 (dk_at dksX6_hourGoes_1 7 rfl rfl)
theorem dX6_hourGoes_33 : decode cX6_hourGoes 33 = .ok (.goto 4, 3) := dk_167 0 4 (dk_at dksX6_hourGoes_1 9 rfl rfl)
theorem dX6_hourGoes_36 : decode cX6_hourGoes 36 = .ok (.iload_n 1, 1) := dk_27 (dk_at dksX6_hourGoes_1 12 rfl rfl)
theorem dX6_hourGoes_37 : decode cX6_hourGoes 37 = .ok (.if_icmp .ge 68, 3) := dk_162 0 68 (dk_at dksX6_hourGoes_1 13 rfl rfl)
theorem dX6_hourGoes_40 : decode cX6_hourGoes 40 = .ok (.iload_n 2, 1) := dk_28 (dk_at dksX6_hourGoes_1 16 rfl rfl)
theorem dX6_hourGoes_41 : decode cX6_hourGoes 41 = .ok (.iload_n 3, 1) := dk_29 (dk_at dksX6_hourGoes_1 17 rfl rfl)
theorem dX6_hourGoes_42 : decode cX6_hourGoes 42 = .ok (.iload 4, 2) := dk_21 4 (dk_at dksX6_hourGoes_1 18 rfl rfl)
theorem dX6_hourGoes_44 : decode cX6_hourGoes 44 = .ok (.invokestatic 270, 3) := dk_184 1 14 (dk_at dksX6_hourGoes_1 20 rfl rfl)
theorem dX6_hourGoes_47 : decode cX6_hourGoes 47 = .ok (.istore 5, 2) := dk_54 5 (dk_at dksX6_hourGoes_2 0 rfl rfl)
theorem dX6_hourGoes_49 : decode cX6_hourGoes 49 = .ok (.aload_n 0, 1) := dk_42 (dk_at dksX6_hourGoes_2 2 rfl rfl)
theorem dX6_hourGoes_50 : decode cX6_hourGoes 50 = .ok (.getfield 17, 3) := dk_180 0 17 (dk_at dksX6_hourGoes_2 3 rfl rfl)
theorem dX6_hourGoes_53 : decode cX6_hourGoes 53 = .ok (.iload 5, 2) := dk_21 5 (dk_at dksX6_hourGoes_2 6 rfl rfl)
theorem dX6_hourGoes_55 : decode cX6_hourGoes 55 = .ok (.iaload, 1) := dk_46 (dk_at dksX6_hourGoes_2 8 rfl rfl)
theorem dX6_hourGoes_56 : decode cX6_hourGoes 56 = .ok (.ifCond .le 43, 3) := dk_158 0 43 (dk_at dksX6_hourGoes_2 9 rfl rfl)
theorem dX6_hourGoes_59 : decode cX6_hourGoes 59 = .ok (.aload_n 0, 1) := dk_42 (dk_at dksX6_hourGoes_2 12 rfl rfl)
theorem dX6_hourGoes_60 : decode cX6_hourGoes 60 = .ok (.iload 5, 2) := dk_21 5 (dk_at dksX6_hourGoes_2 13 rfl rfl)
theorem dX6_hourGoes_62 : decode cX6_hourGoes 62 = .ok (.aload_n 0, 1) := dk_42 (dk_at dksX6_hourGoes_2 15 rfl rfl)
theorem dX6_hourGoes_63 : decode cX6_hourGoes 63 = .ok (.iconst 4, 1) := dk_7 (dk_at dksX6_hourGoes_2 16 rfl rfl)
theorem dX6_hourGoes_64 : decode cX6_hourGoes 64 = .ok (.iload_n 2, 1) := dk_28 (dk_at dksX6_hourGoes_2 17 rfl rfl)
theorem dX6_hourGoes_65 : decode cX6_hourGoes 65 = .ok (.iadd, 1) := dk_96 (dk_at dksX6_hourGoes_2 18 rfl rfl)
theorem dX6_hourGoes_66 : decode cX6_hourGoes 66 = .ok (.aload_n 0, 1) := dk_42 (dk_at dksX6_hourGoes_2 19 rfl rfl)
theorem dX6_hourGoes_67 : decode cX6_hourGoes 67 = .ok (.getfield 17, 3) := dk_180 0 17 (dk_at dksX6_hourGoes_2 20 rfl rfl)
theorem dX6_hourGoes_70 : decode cX6_hourGoes 70 = .ok (.iload 5, 2) := dk_21 5 (dk_at dksX6_hourGoes_3 0 rfl rfl)
theorem dX6_hourGoes_72 : decode cX6_hourGoes 72 = .ok (.iaload, 1) := dk_46 (dk_at dksX6_hourGoes_3 2 rfl rfl)
theorem dX6_hourGoes_73 : decode cX6_hourGoes 73 = .ok (.aload_n 0, 1) := dk_42 (dk_at dksX6_hourGoes_3 3 rfl rfl)
theorem dX6_hourGoes_74 : decode cX6_hourGoes 74 = .ok (.getfield 13, 3) := dk_180 0 13 (dk_at dksX6_hourGoes_3 4 rfl rfl)
theorem dX6_hourGoes_77 : decode cX6_hourGoes 77 = .ok (.bipush 10, 2) := dk_16 10 (dk_at dksX6_hourGoes_3 7 rfl rfl)
theorem dX6_hourGoes_79 : decode cX6_hourGoes 79 = .ok (.iload_n 2, 1) := dk_28 (dk_at dksX6_hourGoes_3 9 rfl rfl)
theorem dX6_hourGoes_80 : decode cX6_hourGoes 80 = .ok (.iconst 3, 1) := dk_6 (dk_at dksX6_hourGoes_3 10 rfl rfl)
theorem dX6_hourGoes_81 : decode cX6_hourGoes 81 = .ok (.if_icmp .ne 7, 3) := dk_160 0 7 (dk_at dksX6_hourGoes_3 11 rfl rfl)
theorem dX6_hourGoes_84 : decode cX6_hourGoes 84 = .ok (.iload_n 3, 1) := dk_29 (dk_at dksX6_hourGoes_3 14 rfl rfl)
theorem dX6_hourGoes_85 : decode cX6_hourGoes 85 = .ok (.goto 5, 3) := dk_167 0 5 (dk_at dksX6_hourGoes_3 15 rfl rfl)
theorem dX6_hourGoes_88 : decode cX6_hourGoes 88 = .ok (.iload 4, 2) := dk_21 4 (dk_at dksX6_hourGoes_3 18 rfl rfl)
theorem dX6_hourGoes_90 : decode cX6_hourGoes 90 = .ok (.iadd, 1) := dk_96 (dk_at dksX6_hourGoes_3 20 rfl rfl)
theorem dX6_hourGoes_91 : decode cX6_hourGoes 91 = .ok (.iaload, 1) := dk_46 (dk_at dksX6_hourGoes_3 21 rfl rfl)
theorem dX6_hourGoes_92 : decode cX6_hourGoes 92 = .ok (.invokevirtual 261, 3) := dk_182 1 5 (dk_at dksX6_hourGoes_4 0 rfl rfl)
theorem dX6_hourGoes_95 : decode cX6_hourGoes 95 = .ok (.lneg, 1) := dk_117 (dk_at dksX6_hourGoes_4 3 rfl rfl)
theorem dX6_hourGoes_96 : decode cX6_hourGoes 96 = .ok (.invokevirtual 274, 3) := dk_182 1 18 (dk_at dksX6_hourGoes_4 4 rfl rfl)
theorem dX6_hourGoes_99 : decode cX6_hourGoes 99 = .ok (.iinc 4 1, 3) := dk_132 4 1 (dk_at dksX6_hourGoes_4 7 rfl rfl)
theorem dX6_hourGoes_102 : decode cX6_hourGoes 102 = .ok (.goto (-78), 3) := dk_167 255 178 (dk_at dksX6_hourGoes_4 10 rfl rfl)
theorem dX6_hourGoes_105 : decode cX6_hourGoes 105 = .ok (.iinc 3 1, 3) := dk_132 3 1 (dk_at dksX6_hourGoes_4 13 rfl rfl)
theorem dX6_hourGoes_108 : decode cX6_hourGoes 108 = .ok (.goto (-92), 3) := dk_167 255 164 (dk_at dksX6_hourGoes_4 16 rfl rfl)
theorem dX6_hourGoes_111 : decode cX6_hourGoes 111 = .ok (.iinc 2 1, 3) := dk_132 2 1 (dk_at dksX6_hourGoes_4 19 rfl rfl)
theorem dX6_hourGoes_114 : decode cX6_hourGoes 114 = .ok (.goto (-105), 3) := dk_167 255 151 (dk_at dksX6_hourGoes_5 0 rfl rfl)
theorem dX6_hourGoes_117 : decode cX6_hourGoes 117 = .ok (.aload_n 0, 1) := dk_42 (dk_at dksX6_hourGoes_5 3 rfl rfl)
theorem dX6_hourGoes_118 : decode cX6_hourGoes 118 = .ok (.getfield 17, 3) := dk_180 0 17 (dk_at dksX6_hourGoes_5 4 rfl rfl)
theorem dX6_hourGoes_121 : decode cX6_hourGoes 121 = .ok (.sipush 2016, 3) := dk_17 7 224 (dk_at dksX6_hourGoes_5 7 rfl rfl)
theorem dX6_hourGoes_124 : decode cX6_hourGoes 124 = .ok (.dup2, 1) := dk_92 (dk_at dksX6_hourGoes_5 10 rfl rfl)
theorem dX6_hourGoes_125 : decode cX6_hourGoes 125 = .ok (.iaload, 1) := dk_46 (dk_at dksX6_hourGoes_5 11 rfl rfl)
theorem dX6_hourGoes_126 : decode cX6_hourGoes 126 = .ok (.iconst 1, 1) := dk_4 (dk_at dksX6_hourGoes_5 12 rfl rfl)
theorem dX6_hourGoes_127 : decode cX6_hourGoes 127 = .ok (.iadd, 1) := dk_96 (dk_at dksX6_hourGoes_5 13 rfl rfl)
theorem dX6_hourGoes_128 : decode cX6_hourGoes 128 = .ok (.iastore, 1) := dk_79 (dk_at dksX6_hourGoes_5 14 rfl rfl)
theorem dX6_hourGoes_129 : decode cX6_hourGoes 129 = .ok (.aload_n 0, 1) := dk_42 (dk_at dksX6_hourGoes_5 15 rfl rfl)
theorem dX6_hourGoes_130 : decode cX6_hourGoes 130 = .ok (.getfield 17, 3) := dk_180 0 17 (dk_at dksX6_hourGoes_5 16 rfl rfl)
theorem dX6_hourGoes_133 : decode cX6_hourGoes 133 = .ok (.sipush 2017, 3) := dk_17 7 225 (dk_at dksX6_hourGoes_5 19 rfl rfl)
theorem dX6_hourGoes_136 : decode cX6_hourGoes 136 = .ok (.iconst 0, 1) := dk_3 (dk_at dksX6_hourGoes_5 22 rfl rfl)
theorem dX6_hourGoes_137 : decode cX6_hourGoes 137 = .ok (.iastore, 1) := dk_79 (dk_at dksX6_hourGoes_5 23 rfl rfl)
theorem dX6_hourGoes_138 : decode cX6_hourGoes 138 = .ok (.return_, 1) := dk_177 (dk_at dksX6_hourGoes_6 0 rfl rfl)
abbrev cX6_strength : ByteArray := prog_18_method_50_code
def yX6_strength : MethodName := ⟨RX6, "strength", "(III)I"⟩
def dkwX6_strength_2 : List UInt8 := [154, 0, 6, 16, 254, 172, 42, 180, 0, 17, 27, 28, 29, 184, 1, 14, 46, 172]
abbrev dktX6_strength_2 : List UInt8 := dkwX6_strength_2 ++ []
def dkwX6_strength_1 : List UInt8 := [160, 0, 18, 29, 133, 9, 20, 1, 72, 184, 0, 88, 154, 0, 17, 167, 0, 11, 42, 29, 182, 0, 255]
abbrev dktX6_strength_1 : List UInt8 := dkwX6_strength_1 ++ dktX6_strength_2
def dkwX6_strength_0 : List UInt8 := [27, 133, 9, 20, 0, 251, 184, 0, 88, 153, 0, 39, 42, 28, 182, 0, 255, 153, 0, 31, 27, 6]
abbrev dktX6_strength_0 : List UInt8 := dkwX6_strength_0 ++ dktX6_strength_1
theorem dksX6_strength_0 : cX6_strength.data.toList.drop 0 = dktX6_strength_0 := by decide +kernel
theorem dksX6_strength_1 : cX6_strength.data.toList.drop 22 = dktX6_strength_1 := dk_seg dksX6_strength_0 22 rfl rfl
theorem dksX6_strength_2 : cX6_strength.data.toList.drop 45 = dktX6_strength_2 := dk_seg dksX6_strength_1 23 rfl rfl
theorem dX6_strength_0 : decode cX6_strength 0 = .ok (.iload_n 1, 1) := dk_27 (dk_at dksX6_strength_0 0 rfl rfl)
theorem dX6_strength_1 : decode cX6_strength 1 = .ok (.i2l, 1) := dk_133 (dk_at dksX6_strength_0 1 rfl rfl)
theorem dX6_strength_2 : decode cX6_strength 2 = .ok (.lconst 0, 1) := dk_9 (dk_at dksX6_strength_0 2 rfl rfl)
theorem dX6_strength_3 : decode cX6_strength 3 = .ok (.ldc2_w 251, 3) := dk_20 0 251 (dk_at dksX6_strength_0 3 rfl rfl)
theorem dX6_strength_6 : decode cX6_strength 6 = .ok (.invokestatic 88, 3) := dk_184 0 88 (dk_at dksX6_strength_0 6 rfl rfl)
theorem dX6_strength_9 : decode cX6_strength 9 = .ok (.ifCond .eq 39, 3) := dk_153 0 39 (dk_at dksX6_strength_0 9 rfl rfl)
theorem dX6_strength_12 : decode cX6_strength 12 = .ok (.aload_n 0, 1) := dk_42 (dk_at dksX6_strength_0 12 rfl rfl)
theorem dX6_strength_13 : decode cX6_strength 13 = .ok (.iload_n 2, 1) := dk_28 (dk_at dksX6_strength_0 13 rfl rfl)
theorem dX6_strength_14 : decode cX6_strength 14 = .ok (.invokevirtual 255, 3) := dk_182 0 255 (dk_at dksX6_strength_0 14 rfl rfl)
theorem dX6_strength_17 : decode cX6_strength 17 = .ok (.ifCond .eq 31, 3) := dk_153 0 31 (dk_at dksX6_strength_0 17 rfl rfl)
theorem dX6_strength_20 : decode cX6_strength 20 = .ok (.iload_n 1, 1) := dk_27 (dk_at dksX6_strength_0 20 rfl rfl)
theorem dX6_strength_21 : decode cX6_strength 21 = .ok (.iconst 3, 1) := dk_6 (dk_at dksX6_strength_0 21 rfl rfl)
theorem dX6_strength_22 : decode cX6_strength 22 = .ok (.if_icmp .ne 18, 3) := dk_160 0 18 (dk_at dksX6_strength_1 0 rfl rfl)
theorem dX6_strength_25 : decode cX6_strength 25 = .ok (.iload_n 3, 1) := dk_29 (dk_at dksX6_strength_1 3 rfl rfl)
theorem dX6_strength_26 : decode cX6_strength 26 = .ok (.i2l, 1) := dk_133 (dk_at dksX6_strength_1 4 rfl rfl)
theorem dX6_strength_27 : decode cX6_strength 27 = .ok (.lconst 0, 1) := dk_9 (dk_at dksX6_strength_1 5 rfl rfl)
theorem dX6_strength_28 : decode cX6_strength 28 = .ok (.ldc2_w 328, 3) := dk_20 1 72 (dk_at dksX6_strength_1 6 rfl rfl)
theorem dX6_strength_31 : decode cX6_strength 31 = .ok (.invokestatic 88, 3) := dk_184 0 88 (dk_at dksX6_strength_1 9 rfl rfl)
theorem dX6_strength_34 : decode cX6_strength 34 = .ok (.ifCond .ne 17, 3) := dk_154 0 17 (dk_at dksX6_strength_1 12 rfl rfl)
theorem dX6_strength_37 : decode cX6_strength 37 = .ok (.goto 11, 3) := dk_167 0 11 (dk_at dksX6_strength_1 15 rfl rfl)
theorem dX6_strength_40 : decode cX6_strength 40 = .ok (.aload_n 0, 1) := dk_42 (dk_at dksX6_strength_1 18 rfl rfl)
theorem dX6_strength_41 : decode cX6_strength 41 = .ok (.iload_n 3, 1) := dk_29 (dk_at dksX6_strength_1 19 rfl rfl)
theorem dX6_strength_42 : decode cX6_strength 42 = .ok (.invokevirtual 255, 3) := dk_182 0 255 (dk_at dksX6_strength_1 20 rfl rfl)
theorem dX6_strength_45 : decode cX6_strength 45 = .ok (.ifCond .ne 6, 3) := dk_154 0 6 (dk_at dksX6_strength_2 0 rfl rfl)
theorem dX6_strength_48 : decode cX6_strength 48 = .ok (.bipush (-2), 2) := dk_16 254 (dk_at dksX6_strength_2 3 rfl rfl)
theorem dX6_strength_50 : decode cX6_strength 50 = .ok (.ireturn, 1) := dk_172 (dk_at dksX6_strength_2 5 rfl rfl)
theorem dX6_strength_51 : decode cX6_strength 51 = .ok (.aload_n 0, 1) := dk_42 (dk_at dksX6_strength_2 6 rfl rfl)
theorem dX6_strength_52 : decode cX6_strength 52 = .ok (.getfield 17, 3) := dk_180 0 17 (dk_at dksX6_strength_2 7 rfl rfl)
theorem dX6_strength_55 : decode cX6_strength 55 = .ok (.iload_n 1, 1) := dk_27 (dk_at dksX6_strength_2 10 rfl rfl)
theorem dX6_strength_56 : decode cX6_strength 56 = .ok (.iload_n 2, 1) := dk_28 (dk_at dksX6_strength_2 11 rfl rfl)
theorem dX6_strength_57 : decode cX6_strength 57 = .ok (.iload_n 3, 1) := dk_29 (dk_at dksX6_strength_2 12 rfl rfl)
theorem dX6_strength_58 : decode cX6_strength 58 = .ok (.invokestatic 270, 3) := dk_184 1 14 (dk_at dksX6_strength_2 13 rfl rfl)
theorem dX6_strength_61 : decode cX6_strength 61 = .ok (.iaload, 1) := dk_46 (dk_at dksX6_strength_2 16 rfl rfl)
theorem dX6_strength_62 : decode cX6_strength 62 = .ok (.ireturn, 1) := dk_172 (dk_at dksX6_strength_2 17 rfl rfl)
abbrev cX6_links : ByteArray := prog_18_method_52_code
def yX6_links : MethodName := ⟨RX6, "links", "(I)I"⟩
def dkwX6_links_0 : List UInt8 := [27, 133, 9, 20, 0, 251, 184, 0, 88, 153, 0, 11, 42, 27, 182, 1, 74, 167, 0, 5, 16, 254, 172]
abbrev dktX6_links_0 : List UInt8 := dkwX6_links_0 ++ []
theorem dksX6_links_0 : cX6_links.data.toList.drop 0 = dktX6_links_0 := by decide +kernel
theorem dX6_links_0 : decode cX6_links 0 = .ok (.iload_n 1, 1) := dk_27 (dk_at dksX6_links_0 0 rfl rfl)
theorem dX6_links_1 : decode cX6_links 1 = .ok (.i2l, 1) := dk_133 (dk_at dksX6_links_0 1 rfl rfl)
theorem dX6_links_2 : decode cX6_links 2 = .ok (.lconst 0, 1) := dk_9 (dk_at dksX6_links_0 2 rfl rfl)
theorem dX6_links_3 : decode cX6_links 3 = .ok (.ldc2_w 251, 3) := dk_20 0 251 (dk_at dksX6_links_0 3 rfl rfl)
theorem dX6_links_6 : decode cX6_links 6 = .ok (.invokestatic 88, 3) := dk_184 0 88 (dk_at dksX6_links_0 6 rfl rfl)
theorem dX6_links_9 : decode cX6_links 9 = .ok (.ifCond .eq 11, 3) := dk_153 0 11 (dk_at dksX6_links_0 9 rfl rfl)
theorem dX6_links_12 : decode cX6_links 12 = .ok (.aload_n 0, 1) := dk_42 (dk_at dksX6_links_0 12 rfl rfl)
theorem dX6_links_13 : decode cX6_links 13 = .ok (.iload_n 1, 1) := dk_27 (dk_at dksX6_links_0 13 rfl rfl)
theorem dX6_links_14 : decode cX6_links 14 = .ok (.invokevirtual 330, 3) := dk_182 1 74 (dk_at dksX6_links_0 14 rfl rfl)
theorem dX6_links_17 : decode cX6_links 17 = .ok (.goto 5, 3) := dk_167 0 5 (dk_at dksX6_links_0 17 rfl rfl)
theorem dX6_links_20 : decode cX6_links 20 = .ok (.bipush (-2), 2) := dk_16 254 (dk_at dksX6_links_0 20 rfl rfl)
theorem dX6_links_22 : decode cX6_links 22 = .ok (.ireturn, 1) := dk_172 (dk_at dksX6_links_0 22 rfl rfl)
abbrev cX6_linksOf : ByteArray := prog_18_method_51_code
def yX6_linksOf : MethodName := ⟨RX6, "linksOf", "(I)I"⟩
def dkwX6_linksOf_2 : List UInt8 := [132, 3, 1, 167, 255, 214, 28, 172]
abbrev dktX6_linksOf_2 : List UInt8 := dkwX6_linksOf_2 ++ []
def dkwX6_linksOf_1 : List UInt8 := [4, 96, 104, 162, 0, 26, 28, 42, 180, 0, 17, 29, 46, 158, 0, 7, 4, 167, 0, 4, 3, 96, 61]
abbrev dktX6_linksOf_1 : List UInt8 := dkwX6_linksOf_1 ++ dktX6_linksOf_2
def dkwX6_linksOf_0 : List UInt8 := [3, 61, 17, 2, 64, 27, 104, 62, 29, 27, 6, 160, 0, 9, 17, 7, 224, 167, 0, 10, 17, 2, 64, 27]
abbrev dktX6_linksOf_0 : List UInt8 := dkwX6_linksOf_0 ++ dktX6_linksOf_1
theorem dksX6_linksOf_0 : cX6_linksOf.data.toList.drop 0 = dktX6_linksOf_0 := by decide +kernel
theorem dksX6_linksOf_1 : cX6_linksOf.data.toList.drop 24 = dktX6_linksOf_1 := dk_seg dksX6_linksOf_0 24 rfl rfl
theorem dksX6_linksOf_2 : cX6_linksOf.data.toList.drop 47 = dktX6_linksOf_2 := dk_seg dksX6_linksOf_1 23 rfl rfl
theorem dX6_linksOf_0 : decode cX6_linksOf 0 = .ok (.iconst 0, 1) := dk_3 (dk_at dksX6_linksOf_0 0 rfl rfl)
theorem dX6_linksOf_1 : decode cX6_linksOf 1 = .ok (.istore_n 2, 1) := dk_61 (dk_at dksX6_linksOf_0 1 rfl rfl)
theorem dX6_linksOf_2 : decode cX6_linksOf 2 = .ok (.sipush 576, 3) := dk_17 2 64 (dk_at dksX6_linksOf_0 2 rfl rfl)
theorem dX6_linksOf_5 : decode cX6_linksOf 5 = .ok (.iload_n 1, 1) := dk_27 (dk_at dksX6_linksOf_0 5 rfl rfl)
theorem dX6_linksOf_6 : decode cX6_linksOf 6 = .ok (.imul, 1) := dk_104 (dk_at dksX6_linksOf_0 6 rfl rfl)
theorem dX6_linksOf_7 : decode cX6_linksOf 7 = .ok (.istore_n 3, 1) := dk_62 (dk_at dksX6_linksOf_0 7 rfl rfl)
theorem dX6_linksOf_8 : decode cX6_linksOf 8 = .ok (.iload_n 3, 1) := dk_29 (dk_at dksX6_linksOf_0 8 rfl rfl)
theorem dX6_linksOf_9 : decode cX6_linksOf 9 = .ok (.iload_n 1, 1) := dk_27 (dk_at dksX6_linksOf_0 9 rfl rfl)
theorem dX6_linksOf_10 : decode cX6_linksOf 10 = .ok (.iconst 3, 1) := dk_6 (dk_at dksX6_linksOf_0 10 rfl rfl)
theorem dX6_linksOf_11 : decode cX6_linksOf 11 = .ok (.if_icmp .ne 9, 3) := dk_160 0 9 (dk_at dksX6_linksOf_0 11 rfl rfl)
theorem dX6_linksOf_14 : decode cX6_linksOf 14 = .ok (.sipush 2016, 3) := dk_17 7 224 (dk_at dksX6_linksOf_0 14 rfl rfl)
theorem dX6_linksOf_17 : decode cX6_linksOf 17 = .ok (.goto 10, 3) := dk_167 0 10 (dk_at dksX6_linksOf_0 17 rfl rfl)
theorem dX6_linksOf_20 : decode cX6_linksOf 20 = .ok (.sipush 576, 3) := dk_17 2 64 (dk_at dksX6_linksOf_0 20 rfl rfl)
theorem dX6_linksOf_23 : decode cX6_linksOf 23 = .ok (.iload_n 1, 1) := dk_27 (dk_at dksX6_linksOf_0 23 rfl rfl)
theorem dX6_linksOf_24 : decode cX6_linksOf 24 = .ok (.iconst 1, 1) := dk_4 (dk_at dksX6_linksOf_1 0 rfl rfl)
theorem dX6_linksOf_25 : decode cX6_linksOf 25 = .ok (.iadd, 1) := dk_96 (dk_at dksX6_linksOf_1 1 rfl rfl)
theorem dX6_linksOf_26 : decode cX6_linksOf 26 = .ok (.imul, 1) := dk_104 (dk_at dksX6_linksOf_1 2 rfl rfl)
theorem dX6_linksOf_27 : decode cX6_linksOf 27 = .ok (.if_icmp .ge 26, 3) := dk_162 0 26 (dk_at dksX6_linksOf_1 3 rfl rfl)
theorem dX6_linksOf_30 : decode cX6_linksOf 30 = .ok (.iload_n 2, 1) := dk_28 (dk_at dksX6_linksOf_1 6 rfl rfl)
theorem dX6_linksOf_31 : decode cX6_linksOf 31 = .ok (.aload_n 0, 1) := dk_42 (dk_at dksX6_linksOf_1 7 rfl rfl)
theorem dX6_linksOf_32 : decode cX6_linksOf 32 = .ok (.getfield 17, 3) := dk_180 0 17 (dk_at dksX6_linksOf_1 8 rfl rfl)
theorem dX6_linksOf_35 : decode cX6_linksOf 35 = .ok (.iload_n 3, 1) := dk_29 (dk_at dksX6_linksOf_1 11 rfl rfl)
theorem dX6_linksOf_36 : decode cX6_linksOf 36 = .ok (.iaload, 1) := dk_46 (dk_at dksX6_linksOf_1 12 rfl rfl)
theorem dX6_linksOf_37 : decode cX6_linksOf 37 = .ok (.ifCond .le 7, 3) := dk_158 0 7 (dk_at dksX6_linksOf_1 13 rfl rfl)
theorem dX6_linksOf_40 : decode cX6_linksOf 40 = .ok (.iconst 1, 1) := dk_4 (dk_at dksX6_linksOf_1 16 rfl rfl)
theorem dX6_linksOf_41 : decode cX6_linksOf 41 = .ok (.goto 4, 3) := dk_167 0 4 (dk_at dksX6_linksOf_1 17 rfl rfl)
theorem dX6_linksOf_44 : decode cX6_linksOf 44 = .ok (.iconst 0, 1) := dk_3 (dk_at dksX6_linksOf_1 20 rfl rfl)
theorem dX6_linksOf_45 : decode cX6_linksOf 45 = .ok (.iadd, 1) := dk_96 (dk_at dksX6_linksOf_1 21 rfl rfl)
theorem dX6_linksOf_46 : decode cX6_linksOf 46 = .ok (.istore_n 2, 1) := dk_61 (dk_at dksX6_linksOf_1 22 rfl rfl)
theorem dX6_linksOf_47 : decode cX6_linksOf 47 = .ok (.iinc 3 1, 3) := dk_132 3 1 (dk_at dksX6_linksOf_2 0 rfl rfl)
theorem dX6_linksOf_50 : decode cX6_linksOf 50 = .ok (.goto (-42), 3) := dk_167 255 214 (dk_at dksX6_linksOf_2 3 rfl rfl)
theorem dX6_linksOf_53 : decode cX6_linksOf 53 = .ok (.iload_n 2, 1) := dk_28 (dk_at dksX6_linksOf_2 6 rfl rfl)
theorem dX6_linksOf_54 : decode cX6_linksOf 54 = .ok (.ireturn, 1) := dk_172 (dk_at dksX6_linksOf_2 7 rfl rfl)
abbrev cX6_support : ByteArray := prog_18_method_53_code
def yX6_support : MethodName := ⟨RX6, "support", "(II)I"⟩
def dkwX6_support_1 : List UInt8 := [153, 0, 12, 42, 27, 28, 182, 1, 35, 167, 0, 5, 16, 254, 172]
abbrev dktX6_support_1 : List UInt8 := dkwX6_support_1 ++ []
def dkwX6_support_0 : List UInt8 := [42, 27, 182, 1, 59, 153, 0, 29, 28, 133, 9, 42, 27, 182, 1, 22, 4, 100, 133, 184, 0, 88]
abbrev dktX6_support_0 : List UInt8 := dkwX6_support_0 ++ dktX6_support_1
theorem dksX6_support_0 : cX6_support.data.toList.drop 0 = dktX6_support_0 := by decide +kernel
theorem dksX6_support_1 : cX6_support.data.toList.drop 22 = dktX6_support_1 := dk_seg dksX6_support_0 22 rfl rfl
theorem dX6_support_0 : decode cX6_support 0 = .ok (.aload_n 0, 1) := dk_42 (dk_at dksX6_support_0 0 rfl rfl)
theorem dX6_support_1 : decode cX6_support 1 = .ok (.iload_n 1, 1) := dk_27 (dk_at dksX6_support_0 1 rfl rfl)
theorem dX6_support_2 : decode cX6_support 2 = .ok (.invokevirtual 315, 3) := dk_182 1 59 (dk_at dksX6_support_0 2 rfl rfl)
theorem dX6_support_5 : decode cX6_support 5 = .ok (.ifCond .eq 29, 3) := dk_153 0 29 (dk_at dksX6_support_0 5 rfl rfl)
theorem dX6_support_8 : decode cX6_support 8 = .ok (.iload_n 2, 1) := dk_28 (dk_at dksX6_support_0 8 rfl rfl)
theorem dX6_support_9 : decode cX6_support 9 = .ok (.i2l, 1) := dk_133 (dk_at dksX6_support_0 9 rfl rfl)
theorem dX6_support_10 : decode cX6_support 10 = .ok (.lconst 0, 1) := dk_9 (dk_at dksX6_support_0 10 rfl rfl)
theorem dX6_support_11 : decode cX6_support 11 = .ok (.aload_n 0, 1) := dk_42 (dk_at dksX6_support_0 11 rfl rfl)
theorem dX6_support_12 : decode cX6_support 12 = .ok (.iload_n 1, 1) := dk_27 (dk_at dksX6_support_0 12 rfl rfl)
theorem dX6_support_13 : decode cX6_support 13 = .ok (.invokevirtual 278, 3) := dk_182 1 22 (dk_at dksX6_support_0 13 rfl rfl)
theorem dX6_support_16 : decode cX6_support 16 = .ok (.iconst 1, 1) := dk_4 (dk_at dksX6_support_0 16 rfl rfl)
theorem dX6_support_17 : decode cX6_support 17 = .ok (.isub, 1) := dk_100 (dk_at dksX6_support_0 17 rfl rfl)
theorem dX6_support_18 : decode cX6_support 18 = .ok (.i2l, 1) := dk_133 (dk_at dksX6_support_0 18 rfl rfl)
theorem dX6_support_19 : decode cX6_support 19 = .ok (.invokestatic 88, 3) := dk_184 0 88 (dk_at dksX6_support_0 19 rfl rfl)
theorem dX6_support_22 : decode cX6_support 22 = .ok (.ifCond .eq 12, 3) := dk_153 0 12 (dk_at dksX6_support_1 0 rfl rfl)
theorem dX6_support_25 : decode cX6_support 25 = .ok (.aload_n 0, 1) := dk_42 (dk_at dksX6_support_1 3 rfl rfl)
theorem dX6_support_26 : decode cX6_support 26 = .ok (.iload_n 1, 1) := dk_27 (dk_at dksX6_support_1 4 rfl rfl)
theorem dX6_support_27 : decode cX6_support 27 = .ok (.iload_n 2, 1) := dk_28 (dk_at dksX6_support_1 5 rfl rfl)
theorem dX6_support_28 : decode cX6_support 28 = .ok (.invokevirtual 291, 3) := dk_182 1 35 (dk_at dksX6_support_1 6 rfl rfl)
theorem dX6_support_31 : decode cX6_support 31 = .ok (.goto 5, 3) := dk_167 0 5 (dk_at dksX6_support_1 9 rfl rfl)
theorem dX6_support_34 : decode cX6_support 34 = .ok (.bipush (-2), 2) := dk_16 254 (dk_at dksX6_support_1 12 rfl rfl)
theorem dX6_support_36 : decode cX6_support 36 = .ok (.ireturn, 1) := dk_172 (dk_at dksX6_support_1 14 rfl rfl)
abbrev cX6_slips : ByteArray := prog_18_method_54_code
def yX6_slips : MethodName := ⟨RX6, "slips", "(I)I"⟩
def dkwX6_slips_0 : List UInt8 := [42, 27, 182, 1, 59, 153, 0, 11, 42, 27, 182, 1, 41, 167, 0, 5, 16, 254, 172]
abbrev dktX6_slips_0 : List UInt8 := dkwX6_slips_0 ++ []
theorem dksX6_slips_0 : cX6_slips.data.toList.drop 0 = dktX6_slips_0 := by decide +kernel
theorem dX6_slips_0 : decode cX6_slips 0 = .ok (.aload_n 0, 1) := dk_42 (dk_at dksX6_slips_0 0 rfl rfl)
theorem dX6_slips_1 : decode cX6_slips 1 = .ok (.iload_n 1, 1) := dk_27 (dk_at dksX6_slips_0 1 rfl rfl)
theorem dX6_slips_2 : decode cX6_slips 2 = .ok (.invokevirtual 315, 3) := dk_182 1 59 (dk_at dksX6_slips_0 2 rfl rfl)
theorem dX6_slips_5 : decode cX6_slips 5 = .ok (.ifCond .eq 11, 3) := dk_153 0 11 (dk_at dksX6_slips_0 5 rfl rfl)
theorem dX6_slips_8 : decode cX6_slips 8 = .ok (.aload_n 0, 1) := dk_42 (dk_at dksX6_slips_0 8 rfl rfl)
theorem dX6_slips_9 : decode cX6_slips 9 = .ok (.iload_n 1, 1) := dk_27 (dk_at dksX6_slips_0 9 rfl rfl)
theorem dX6_slips_10 : decode cX6_slips 10 = .ok (.invokevirtual 297, 3) := dk_182 1 41 (dk_at dksX6_slips_0 10 rfl rfl)
theorem dX6_slips_13 : decode cX6_slips 13 = .ok (.goto 5, 3) := dk_167 0 5 (dk_at dksX6_slips_0 13 rfl rfl)
theorem dX6_slips_16 : decode cX6_slips 16 = .ok (.bipush (-2), 2) := dk_16 254 (dk_at dksX6_slips_0 16 rfl rfl)
theorem dX6_slips_18 : decode cX6_slips 18 = .ok (.ireturn, 1) := dk_172 (dk_at dksX6_slips_0 18 rfl rfl)
abbrev cX6_needs : ByteArray := prog_18_method_55_code
def yX6_needs : MethodName := ⟨RX6, "needs", "(I)I"⟩
def dkwX6_needs_0 : List UInt8 := [42, 27, 182, 1, 59, 153, 0, 11, 42, 27, 182, 1, 77, 167, 0, 5, 16, 254, 172]
abbrev dktX6_needs_0 : List UInt8 := dkwX6_needs_0 ++ []
theorem dksX6_needs_0 : cX6_needs.data.toList.drop 0 = dktX6_needs_0 := by decide +kernel
theorem dX6_needs_0 : decode cX6_needs 0 = .ok (.aload_n 0, 1) := dk_42 (dk_at dksX6_needs_0 0 rfl rfl)
theorem dX6_needs_1 : decode cX6_needs 1 = .ok (.iload_n 1, 1) := dk_27 (dk_at dksX6_needs_0 1 rfl rfl)
theorem dX6_needs_2 : decode cX6_needs 2 = .ok (.invokevirtual 315, 3) := dk_182 1 59 (dk_at dksX6_needs_0 2 rfl rfl)
theorem dX6_needs_5 : decode cX6_needs 5 = .ok (.ifCond .eq 11, 3) := dk_153 0 11 (dk_at dksX6_needs_0 5 rfl rfl)
theorem dX6_needs_8 : decode cX6_needs 8 = .ok (.aload_n 0, 1) := dk_42 (dk_at dksX6_needs_0 8 rfl rfl)
theorem dX6_needs_9 : decode cX6_needs 9 = .ok (.iload_n 1, 1) := dk_27 (dk_at dksX6_needs_0 9 rfl rfl)
theorem dX6_needs_10 : decode cX6_needs 10 = .ok (.invokevirtual 333, 3) := dk_182 1 77 (dk_at dksX6_needs_0 10 rfl rfl)
theorem dX6_needs_13 : decode cX6_needs 13 = .ok (.goto 5, 3) := dk_167 0 5 (dk_at dksX6_needs_0 13 rfl rfl)
theorem dX6_needs_16 : decode cX6_needs 16 = .ok (.bipush (-2), 2) := dk_16 254 (dk_at dksX6_needs_0 16 rfl rfl)
theorem dX6_needs_18 : decode cX6_needs 18 = .ok (.ireturn, 1) := dk_172 (dk_at dksX6_needs_0 18 rfl rfl)
abbrev cX6_needsOf : ByteArray := prog_18_method_44_code
def yX6_needsOf : MethodName := ⟨RX6, "needsOf", "(I)I"⟩
def dkwX6_needsOf_0 : List UInt8 := [42, 182, 1, 47, 42, 27, 182, 1, 50, 61, 42, 182, 1, 53, 28, 172]
abbrev dktX6_needsOf_0 : List UInt8 := dkwX6_needsOf_0 ++ []
theorem dksX6_needsOf_0 : cX6_needsOf.data.toList.drop 0 = dktX6_needsOf_0 := by decide +kernel
theorem dX6_needsOf_0 : decode cX6_needsOf 0 = .ok (.aload_n 0, 1) := dk_42 (dk_at dksX6_needsOf_0 0 rfl rfl)
theorem dX6_needsOf_1 : decode cX6_needsOf 1 = .ok (.invokevirtual 303, 3) := dk_182 1 47 (dk_at dksX6_needsOf_0 1 rfl rfl)
theorem dX6_needsOf_4 : decode cX6_needsOf 4 = .ok (.aload_n 0, 1) := dk_42 (dk_at dksX6_needsOf_0 4 rfl rfl)
theorem dX6_needsOf_5 : decode cX6_needsOf 5 = .ok (.iload_n 1, 1) := dk_27 (dk_at dksX6_needsOf_0 5 rfl rfl)
theorem dX6_needsOf_6 : decode cX6_needsOf 6 = .ok (.invokevirtual 306, 3) := dk_182 1 50 (dk_at dksX6_needsOf_0 6 rfl rfl)
theorem dX6_needsOf_9 : decode cX6_needsOf 9 = .ok (.istore_n 2, 1) := dk_61 (dk_at dksX6_needsOf_0 9 rfl rfl)
theorem dX6_needsOf_10 : decode cX6_needsOf 10 = .ok (.aload_n 0, 1) := dk_42 (dk_at dksX6_needsOf_0 10 rfl rfl)
theorem dX6_needsOf_11 : decode cX6_needsOf 11 = .ok (.invokevirtual 309, 3) := dk_182 1 53 (dk_at dksX6_needsOf_0 11 rfl rfl)
theorem dX6_needsOf_14 : decode cX6_needsOf 14 = .ok (.iload_n 2, 1) := dk_28 (dk_at dksX6_needsOf_0 14 rfl rfl)
theorem dX6_needsOf_15 : decode cX6_needsOf 15 = .ok (.ireturn, 1) := dk_172 (dk_at dksX6_needsOf_0 15 rfl rfl)
abbrev cX6_copy : ByteArray := prog_18_method_42_code
def yX6_copy : MethodName := ⟨RX6, "copy", "()V"⟩
def dkwX6_copy_1 : List UInt8 := [180, 0, 17, 27, 46, 79, 132, 1, 1, 167, 255, 225, 42, 89, 180, 1, 44, 4, 96, 181, 1, 44, 177]
abbrev dktX6_copy_1 : List UInt8 := dkwX6_copy_1 ++ []
def dkwX6_copy_0 : List UInt8 := [3, 60, 27, 17, 7, 226, 162, 0, 30, 42, 180, 0, 58, 17, 7, 226, 42, 180, 1, 44, 104, 27, 96, 42]
abbrev dktX6_copy_0 : List UInt8 := dkwX6_copy_0 ++ dktX6_copy_1
theorem dksX6_copy_0 : cX6_copy.data.toList.drop 0 = dktX6_copy_0 := by decide +kernel
theorem dksX6_copy_1 : cX6_copy.data.toList.drop 24 = dktX6_copy_1 := dk_seg dksX6_copy_0 24 rfl rfl
theorem dX6_copy_0 : decode cX6_copy 0 = .ok (.iconst 0, 1) := dk_3 (dk_at dksX6_copy_0 0 rfl rfl)
theorem dX6_copy_1 : decode cX6_copy 1 = .ok (.istore_n 1, 1) := dk_60 (dk_at dksX6_copy_0 1 rfl rfl)
theorem dX6_copy_2 : decode cX6_copy 2 = .ok (.iload_n 1, 1) := dk_27 (dk_at dksX6_copy_0 2 rfl rfl)
theorem dX6_copy_3 : decode cX6_copy 3 = .ok (.sipush 2018, 3) := dk_17 7 226 (dk_at dksX6_copy_0 3 rfl rfl)
theorem dX6_copy_6 : decode cX6_copy 6 = .ok (.if_icmp .ge 30, 3) := dk_162 0 30 (dk_at dksX6_copy_0 6 rfl rfl)
theorem dX6_copy_9 : decode cX6_copy 9 = .ok (.aload_n 0, 1) := dk_42 (dk_at dksX6_copy_0 9 rfl rfl)
theorem dX6_copy_10 : decode cX6_copy 10 = .ok (.getfield 58, 3) := dk_180 0 58 (dk_at dksX6_copy_0 10 rfl rfl)
theorem dX6_copy_13 : decode cX6_copy 13 = .ok (.sipush 2018, 3) := dk_17 7 226 (dk_at dksX6_copy_0 13 rfl rfl)
theorem dX6_copy_16 : decode cX6_copy 16 = .ok (.aload_n 0, 1) := dk_42 (dk_at dksX6_copy_0 16 rfl rfl)
theorem dX6_copy_17 : decode cX6_copy 17 = .ok (.getfield 300, 3) := dk_180 1 44 (dk_at dksX6_copy_0 17 rfl rfl)
theorem dX6_copy_20 : decode cX6_copy 20 = .ok (.imul, 1) := dk_104 (dk_at dksX6_copy_0 20 rfl rfl)
theorem dX6_copy_21 : decode cX6_copy 21 = .ok (.iload_n 1, 1) := dk_27 (dk_at dksX6_copy_0 21 rfl rfl)
theorem dX6_copy_22 : decode cX6_copy 22 = .ok (.iadd, 1) := dk_96 (dk_at dksX6_copy_0 22 rfl rfl)
theorem dX6_copy_23 : decode cX6_copy 23 = .ok (.aload_n 0, 1) := dk_42 (dk_at dksX6_copy_0 23 rfl rfl)
theorem dX6_copy_24 : decode cX6_copy 24 = .ok (.getfield 17, 3) := dk_180 0 17 (dk_at dksX6_copy_1 0 rfl rfl)
theorem dX6_copy_27 : decode cX6_copy 27 = .ok (.iload_n 1, 1) := dk_27 (dk_at dksX6_copy_1 3 rfl rfl)
theorem dX6_copy_28 : decode cX6_copy 28 = .ok (.iaload, 1) := dk_46 (dk_at dksX6_copy_1 4 rfl rfl)
theorem dX6_copy_29 : decode cX6_copy 29 = .ok (.iastore, 1) := dk_79 (dk_at dksX6_copy_1 5 rfl rfl)
theorem dX6_copy_30 : decode cX6_copy 30 = .ok (.iinc 1 1, 3) := dk_132 1 1 (dk_at dksX6_copy_1 6 rfl rfl)
theorem dX6_copy_33 : decode cX6_copy 33 = .ok (.goto (-31), 3) := dk_167 255 225 (dk_at dksX6_copy_1 9 rfl rfl)
theorem dX6_copy_36 : decode cX6_copy 36 = .ok (.aload_n 0, 1) := dk_42 (dk_at dksX6_copy_1 12 rfl rfl)
theorem dX6_copy_37 : decode cX6_copy 37 = .ok (.dup, 1) := dk_89 (dk_at dksX6_copy_1 13 rfl rfl)
theorem dX6_copy_38 : decode cX6_copy 38 = .ok (.getfield 300, 3) := dk_180 1 44 (dk_at dksX6_copy_1 14 rfl rfl)
theorem dX6_copy_41 : decode cX6_copy 41 = .ok (.iconst 1, 1) := dk_4 (dk_at dksX6_copy_1 17 rfl rfl)
theorem dX6_copy_42 : decode cX6_copy 42 = .ok (.iadd, 1) := dk_96 (dk_at dksX6_copy_1 18 rfl rfl)
theorem dX6_copy_43 : decode cX6_copy 43 = .ok (.putfield 300, 3) := dk_181 1 44 (dk_at dksX6_copy_1 19 rfl rfl)
theorem dX6_copy_46 : decode cX6_copy 46 = .ok (.return_, 1) := dk_177 (dk_at dksX6_copy_1 22 rfl rfl)
abbrev cX6_takeBack : ByteArray := prog_18_method_43_code
def yX6_takeBack : MethodName := ⟨RX6, "takeBack", "()V"⟩
def dkwX6_takeBack_1 : List UInt8 := [42, 180, 0, 58, 17, 7, 226, 42, 180, 1, 44, 104, 27, 96, 46, 79, 132, 1, 1, 167, 255, 225, 177]
abbrev dktX6_takeBack_1 : List UInt8 := dkwX6_takeBack_1 ++ []
def dkwX6_takeBack_0 : List UInt8 := [42, 89, 180, 1, 44, 4, 100, 181, 1, 44, 3, 60, 27, 17, 7, 226, 162, 0, 30, 42, 180, 0, 17, 27]
abbrev dktX6_takeBack_0 : List UInt8 := dkwX6_takeBack_0 ++ dktX6_takeBack_1
theorem dksX6_takeBack_0 : cX6_takeBack.data.toList.drop 0 = dktX6_takeBack_0 := by decide +kernel
theorem dksX6_takeBack_1 : cX6_takeBack.data.toList.drop 24 = dktX6_takeBack_1 := dk_seg dksX6_takeBack_0 24 rfl rfl
theorem dX6_takeBack_0 : decode cX6_takeBack 0 = .ok (.aload_n 0, 1) := dk_42 (dk_at dksX6_takeBack_0 0 rfl rfl)
theorem dX6_takeBack_1 : decode cX6_takeBack 1 = .ok (.dup, 1) := dk_89 (dk_at dksX6_takeBack_0 1 rfl rfl)
theorem dX6_takeBack_2 : decode cX6_takeBack 2 = .ok (.getfield 300, 3) := dk_180 1 44 (dk_at dksX6_takeBack_0 2 rfl rfl)
theorem dX6_takeBack_5 : decode cX6_takeBack 5 = .ok (.iconst 1, 1) := dk_4 (dk_at dksX6_takeBack_0 5 rfl rfl)
theorem dX6_takeBack_6 : decode cX6_takeBack 6 = .ok (.isub, 1) := dk_100 (dk_at dksX6_takeBack_0 6 rfl rfl)
theorem dX6_takeBack_7 : decode cX6_takeBack 7 = .ok (.putfield 300, 3) := dk_181 1 44 (dk_at dksX6_takeBack_0 7 rfl rfl)
theorem dX6_takeBack_10 : decode cX6_takeBack 10 = .ok (.iconst 0, 1) := dk_3 (dk_at dksX6_takeBack_0 10 rfl rfl)
theorem dX6_takeBack_11 : decode cX6_takeBack 11 = .ok (.istore_n 1, 1) := dk_60 (dk_at dksX6_takeBack_0 11 rfl rfl)
theorem dX6_takeBack_12 : decode cX6_takeBack 12 = .ok (.iload_n 1, 1) := dk_27 (dk_at dksX6_takeBack_0 12 rfl rfl)
theorem dX6_takeBack_13 : decode cX6_takeBack 13 = .ok (.sipush 2018, 3) := dk_17 7 226 (dk_at dksX6_takeBack_0 13 rfl rfl)
theorem dX6_takeBack_16 : decode cX6_takeBack 16 = .ok (.if_icmp .ge 30, 3) := dk_162 0 30 (dk_at dksX6_takeBack_0 16 rfl rfl)
theorem dX6_takeBack_19 : decode cX6_takeBack 19 = .ok (.aload_n 0, 1) := dk_42 (dk_at dksX6_takeBack_0 19 rfl rfl)
theorem dX6_takeBack_20 : decode cX6_takeBack 20 = .ok (.getfield 17, 3) := dk_180 0 17 (dk_at dksX6_takeBack_0 20 rfl rfl)
theorem dX6_takeBack_23 : decode cX6_takeBack 23 = .ok (.iload_n 1, 1) := dk_27 (dk_at dksX6_takeBack_0 23 rfl rfl)
theorem dX6_takeBack_24 : decode cX6_takeBack 24 = .ok (.aload_n 0, 1) := dk_42 (dk_at dksX6_takeBack_1 0 rfl rfl)
theorem dX6_takeBack_25 : decode cX6_takeBack 25 = .ok (.getfield 58, 3) := dk_180 0 58 (dk_at dksX6_takeBack_1 1 rfl rfl)
theorem dX6_takeBack_28 : decode cX6_takeBack 28 = .ok (.sipush 2018, 3) := dk_17 7 226 (dk_at dksX6_takeBack_1 4 rfl rfl)
theorem dX6_takeBack_31 : decode cX6_takeBack 31 = .ok (.aload_n 0, 1) := dk_42 (dk_at dksX6_takeBack_1 7 rfl rfl)
theorem dX6_takeBack_32 : decode cX6_takeBack 32 = .ok (.getfield 300, 3) := dk_180 1 44 (dk_at dksX6_takeBack_1 8 rfl rfl)
theorem dX6_takeBack_35 : decode cX6_takeBack 35 = .ok (.imul, 1) := dk_104 (dk_at dksX6_takeBack_1 11 rfl rfl)
theorem dX6_takeBack_36 : decode cX6_takeBack 36 = .ok (.iload_n 1, 1) := dk_27 (dk_at dksX6_takeBack_1 12 rfl rfl)
theorem dX6_takeBack_37 : decode cX6_takeBack 37 = .ok (.iadd, 1) := dk_96 (dk_at dksX6_takeBack_1 13 rfl rfl)
theorem dX6_takeBack_38 : decode cX6_takeBack 38 = .ok (.iaload, 1) := dk_46 (dk_at dksX6_takeBack_1 14 rfl rfl)
theorem dX6_takeBack_39 : decode cX6_takeBack 39 = .ok (.iastore, 1) := dk_79 (dk_at dksX6_takeBack_1 15 rfl rfl)
theorem dX6_takeBack_40 : decode cX6_takeBack 40 = .ok (.iinc 1 1, 3) := dk_132 1 1 (dk_at dksX6_takeBack_1 16 rfl rfl)
theorem dX6_takeBack_43 : decode cX6_takeBack 43 = .ok (.goto (-31), 3) := dk_167 255 225 (dk_at dksX6_takeBack_1 19 rfl rfl)
theorem dX6_takeBack_46 : decode cX6_takeBack 46 = .ok (.return_, 1) := dk_177 (dk_at dksX6_takeBack_1 22 rfl rfl)
abbrev cX6_fresh : ByteArray := prog_18_method_56_code
def yX6_fresh : MethodName := ⟨RX6, "fresh", "(I)I"⟩
def dkwX6_fresh_0 : List UInt8 := [42, 27, 182, 1, 59, 153, 0, 11, 42, 27, 182, 1, 80, 167, 0, 5, 16, 254, 172]
abbrev dktX6_fresh_0 : List UInt8 := dkwX6_fresh_0 ++ []
theorem dksX6_fresh_0 : cX6_fresh.data.toList.drop 0 = dktX6_fresh_0 := by decide +kernel
theorem dX6_fresh_0 : decode cX6_fresh 0 = .ok (.aload_n 0, 1) := dk_42 (dk_at dksX6_fresh_0 0 rfl rfl)
theorem dX6_fresh_1 : decode cX6_fresh 1 = .ok (.iload_n 1, 1) := dk_27 (dk_at dksX6_fresh_0 1 rfl rfl)
theorem dX6_fresh_2 : decode cX6_fresh 2 = .ok (.invokevirtual 315, 3) := dk_182 1 59 (dk_at dksX6_fresh_0 2 rfl rfl)
theorem dX6_fresh_5 : decode cX6_fresh 5 = .ok (.ifCond .eq 11, 3) := dk_153 0 11 (dk_at dksX6_fresh_0 5 rfl rfl)
theorem dX6_fresh_8 : decode cX6_fresh 8 = .ok (.aload_n 0, 1) := dk_42 (dk_at dksX6_fresh_0 8 rfl rfl)
theorem dX6_fresh_9 : decode cX6_fresh 9 = .ok (.iload_n 1, 1) := dk_27 (dk_at dksX6_fresh_0 9 rfl rfl)
theorem dX6_fresh_10 : decode cX6_fresh 10 = .ok (.invokevirtual 336, 3) := dk_182 1 80 (dk_at dksX6_fresh_0 10 rfl rfl)
theorem dX6_fresh_13 : decode cX6_fresh 13 = .ok (.goto 5, 3) := dk_167 0 5 (dk_at dksX6_fresh_0 13 rfl rfl)
theorem dX6_fresh_16 : decode cX6_fresh 16 = .ok (.bipush (-2), 2) := dk_16 254 (dk_at dksX6_fresh_0 16 rfl rfl)
theorem dX6_fresh_18 : decode cX6_fresh 18 = .ok (.ireturn, 1) := dk_172 (dk_at dksX6_fresh_0 18 rfl rfl)
abbrev cX6_freshOf : ByteArray := prog_18_method_45_code
def yX6_freshOf : MethodName := ⟨RX6, "freshOf", "(I)I"⟩
def dkwX6_freshOf_1 : List UInt8 := [167, 255, 239, 42, 180, 0, 17, 17, 7, 225, 3, 79, 42, 27, 182, 1, 50, 61, 42, 182, 1, 53, 28, 172]
abbrev dktX6_freshOf_1 : List UInt8 := dkwX6_freshOf_1 ++ []
def dkwX6_freshOf_0 : List UInt8 := [42, 182, 1, 47, 3, 61, 28, 17, 7, 224, 162, 0, 16, 42, 180, 0, 17, 28, 3, 79, 132, 2, 1]
abbrev dktX6_freshOf_0 : List UInt8 := dkwX6_freshOf_0 ++ dktX6_freshOf_1
theorem dksX6_freshOf_0 : cX6_freshOf.data.toList.drop 0 = dktX6_freshOf_0 := by decide +kernel
theorem dksX6_freshOf_1 : cX6_freshOf.data.toList.drop 23 = dktX6_freshOf_1 := dk_seg dksX6_freshOf_0 23 rfl rfl
theorem dX6_freshOf_0 : decode cX6_freshOf 0 = .ok (.aload_n 0, 1) := dk_42 (dk_at dksX6_freshOf_0 0 rfl rfl)
theorem dX6_freshOf_1 : decode cX6_freshOf 1 = .ok (.invokevirtual 303, 3) := dk_182 1 47 (dk_at dksX6_freshOf_0 1 rfl rfl)
theorem dX6_freshOf_4 : decode cX6_freshOf 4 = .ok (.iconst 0, 1) := dk_3 (dk_at dksX6_freshOf_0 4 rfl rfl)
theorem dX6_freshOf_5 : decode cX6_freshOf 5 = .ok (.istore_n 2, 1) := dk_61 (dk_at dksX6_freshOf_0 5 rfl rfl)
theorem dX6_freshOf_6 : decode cX6_freshOf 6 = .ok (.iload_n 2, 1) := dk_28 (dk_at dksX6_freshOf_0 6 rfl rfl)
theorem dX6_freshOf_7 : decode cX6_freshOf 7 = .ok (.sipush 2016, 3) := dk_17 7 224 (dk_at dksX6_freshOf_0 7 rfl rfl)
theorem dX6_freshOf_10 : decode cX6_freshOf 10 = .ok (.if_icmp .ge 16, 3) := dk_162 0 16 (dk_at dksX6_freshOf_0 10 rfl rfl)
theorem dX6_freshOf_13 : decode cX6_freshOf 13 = .ok (.aload_n 0, 1) := dk_42 (dk_at dksX6_freshOf_0 13 rfl rfl)
theorem dX6_freshOf_14 : decode cX6_freshOf 14 = .ok (.getfield 17, 3) := dk_180 0 17 (dk_at dksX6_freshOf_0 14 rfl rfl)
theorem dX6_freshOf_17 : decode cX6_freshOf 17 = .ok (.iload_n 2, 1) := dk_28 (dk_at dksX6_freshOf_0 17 rfl rfl)
theorem dX6_freshOf_18 : decode cX6_freshOf 18 = .ok (.iconst 0, 1) := dk_3 (dk_at dksX6_freshOf_0 18 rfl rfl)
theorem dX6_freshOf_19 : decode cX6_freshOf 19 = .ok (.iastore, 1) := dk_79 (dk_at dksX6_freshOf_0 19 rfl rfl)
theorem dX6_freshOf_20 : decode cX6_freshOf 20 = .ok (.iinc 2 1, 3) := dk_132 2 1 (dk_at dksX6_freshOf_0 20 rfl rfl)
theorem dX6_freshOf_23 : decode cX6_freshOf 23 = .ok (.goto (-17), 3) := dk_167 255 239 (dk_at dksX6_freshOf_1 0 rfl rfl)
theorem dX6_freshOf_26 : decode cX6_freshOf 26 = .ok (.aload_n 0, 1) := dk_42 (dk_at dksX6_freshOf_1 3 rfl rfl)
theorem dX6_freshOf_27 : decode cX6_freshOf 27 = .ok (.getfield 17, 3) := dk_180 0 17 (dk_at dksX6_freshOf_1 4 rfl rfl)
theorem dX6_freshOf_30 : decode cX6_freshOf 30 = .ok (.sipush 2017, 3) := dk_17 7 225 (dk_at dksX6_freshOf_1 7 rfl rfl)
theorem dX6_freshOf_33 : decode cX6_freshOf 33 = .ok (.iconst 0, 1) := dk_3 (dk_at dksX6_freshOf_1 10 rfl rfl)
theorem dX6_freshOf_34 : decode cX6_freshOf 34 = .ok (.iastore, 1) := dk_79 (dk_at dksX6_freshOf_1 11 rfl rfl)
theorem dX6_freshOf_35 : decode cX6_freshOf 35 = .ok (.aload_n 0, 1) := dk_42 (dk_at dksX6_freshOf_1 12 rfl rfl)
theorem dX6_freshOf_36 : decode cX6_freshOf 36 = .ok (.iload_n 1, 1) := dk_27 (dk_at dksX6_freshOf_1 13 rfl rfl)
theorem dX6_freshOf_37 : decode cX6_freshOf 37 = .ok (.invokevirtual 306, 3) := dk_182 1 50 (dk_at dksX6_freshOf_1 14 rfl rfl)
theorem dX6_freshOf_40 : decode cX6_freshOf 40 = .ok (.istore_n 2, 1) := dk_61 (dk_at dksX6_freshOf_1 17 rfl rfl)
theorem dX6_freshOf_41 : decode cX6_freshOf 41 = .ok (.aload_n 0, 1) := dk_42 (dk_at dksX6_freshOf_1 18 rfl rfl)
theorem dX6_freshOf_42 : decode cX6_freshOf 42 = .ok (.invokevirtual 309, 3) := dk_182 1 53 (dk_at dksX6_freshOf_1 19 rfl rfl)
theorem dX6_freshOf_45 : decode cX6_freshOf 45 = .ok (.iload_n 2, 1) := dk_28 (dk_at dksX6_freshOf_1 22 rfl rfl)
theorem dX6_freshOf_46 : decode cX6_freshOf 46 = .ok (.ireturn, 1) := dk_172 (dk_at dksX6_freshOf_1 23 rfl rfl)
abbrev cX6_saving : ByteArray := prog_18_method_57_code
def yX6_saving : MethodName := ⟨RX6, "saving", "(I)I"⟩
def dkwX6_saving_2 : List UInt8 := [108, 172]
abbrev dktX6_saving_2 : List UInt8 := dkwX6_saving_2 ++ []
def dkwX6_saving_1 : List UInt8 := [28, 4, 161, 0, 8, 29, 2, 160, 0, 9, 19, 1, 83, 167, 0, 12, 17, 3, 232, 28, 29, 100, 104, 28]
abbrev dktX6_saving_1 : List UInt8 := dkwX6_saving_1 ++ dktX6_saving_2
def dkwX6_saving_0 : List UInt8 := [42, 27, 182, 1, 59, 154, 0, 7, 19, 1, 83, 172, 42, 27, 182, 1, 80, 61, 42, 27, 182, 1, 77, 62]
abbrev dktX6_saving_0 : List UInt8 := dkwX6_saving_0 ++ dktX6_saving_1
theorem dksX6_saving_0 : cX6_saving.data.toList.drop 0 = dktX6_saving_0 := by decide +kernel
theorem dksX6_saving_1 : cX6_saving.data.toList.drop 24 = dktX6_saving_1 := dk_seg dksX6_saving_0 24 rfl rfl
theorem dksX6_saving_2 : cX6_saving.data.toList.drop 48 = dktX6_saving_2 := dk_seg dksX6_saving_1 24 rfl rfl
theorem dX6_saving_0 : decode cX6_saving 0 = .ok (.aload_n 0, 1) := dk_42 (dk_at dksX6_saving_0 0 rfl rfl)
theorem dX6_saving_1 : decode cX6_saving 1 = .ok (.iload_n 1, 1) := dk_27 (dk_at dksX6_saving_0 1 rfl rfl)
theorem dX6_saving_2 : decode cX6_saving 2 = .ok (.invokevirtual 315, 3) := dk_182 1 59 (dk_at dksX6_saving_0 2 rfl rfl)
theorem dX6_saving_5 : decode cX6_saving 5 = .ok (.ifCond .ne 7, 3) := dk_154 0 7 (dk_at dksX6_saving_0 5 rfl rfl)
theorem dX6_saving_8 : decode cX6_saving 8 = .ok (.ldc_w 339, 3) := dk_19 1 83 (dk_at dksX6_saving_0 8 rfl rfl)
theorem dX6_saving_11 : decode cX6_saving 11 = .ok (.ireturn, 1) := dk_172 (dk_at dksX6_saving_0 11 rfl rfl)
theorem dX6_saving_12 : decode cX6_saving 12 = .ok (.aload_n 0, 1) := dk_42 (dk_at dksX6_saving_0 12 rfl rfl)
theorem dX6_saving_13 : decode cX6_saving 13 = .ok (.iload_n 1, 1) := dk_27 (dk_at dksX6_saving_0 13 rfl rfl)
theorem dX6_saving_14 : decode cX6_saving 14 = .ok (.invokevirtual 336, 3) := dk_182 1 80 (dk_at dksX6_saving_0 14 rfl rfl)
theorem dX6_saving_17 : decode cX6_saving 17 = .ok (.istore_n 2, 1) := dk_61 (dk_at dksX6_saving_0 17 rfl rfl)
theorem dX6_saving_18 : decode cX6_saving 18 = .ok (.aload_n 0, 1) := dk_42 (dk_at dksX6_saving_0 18 rfl rfl)
theorem dX6_saving_19 : decode cX6_saving 19 = .ok (.iload_n 1, 1) := dk_27 (dk_at dksX6_saving_0 19 rfl rfl)
theorem dX6_saving_20 : decode cX6_saving 20 = .ok (.invokevirtual 333, 3) := dk_182 1 77 (dk_at dksX6_saving_0 20 rfl rfl)
theorem dX6_saving_23 : decode cX6_saving 23 = .ok (.istore_n 3, 1) := dk_62 (dk_at dksX6_saving_0 23 rfl rfl)
theorem dX6_saving_24 : decode cX6_saving 24 = .ok (.iload_n 2, 1) := dk_28 (dk_at dksX6_saving_1 0 rfl rfl)
theorem dX6_saving_25 : decode cX6_saving 25 = .ok (.iconst 1, 1) := dk_4 (dk_at dksX6_saving_1 1 rfl rfl)
theorem dX6_saving_26 : decode cX6_saving 26 = .ok (.if_icmp .lt 8, 3) := dk_161 0 8 (dk_at dksX6_saving_1 2 rfl rfl)
theorem dX6_saving_29 : decode cX6_saving 29 = .ok (.iload_n 3, 1) := dk_29 (dk_at dksX6_saving_1 5 rfl rfl)
theorem dX6_saving_30 : decode cX6_saving 30 = .ok (.iconst (-1), 1) := dk_2 (dk_at dksX6_saving_1 6 rfl rfl)
theorem dX6_saving_31 : decode cX6_saving 31 = .ok (.if_icmp .ne 9, 3) := dk_160 0 9 (dk_at dksX6_saving_1 7 rfl rfl)
theorem dX6_saving_34 : decode cX6_saving 34 = .ok (.ldc_w 339, 3) := dk_19 1 83 (dk_at dksX6_saving_1 10 rfl rfl)
theorem dX6_saving_37 : decode cX6_saving 37 = .ok (.goto 12, 3) := dk_167 0 12 (dk_at dksX6_saving_1 13 rfl rfl)
theorem dX6_saving_40 : decode cX6_saving 40 = .ok (.sipush 1000, 3) := dk_17 3 232 (dk_at dksX6_saving_1 16 rfl rfl)
theorem dX6_saving_43 : decode cX6_saving 43 = .ok (.iload_n 2, 1) := dk_28 (dk_at dksX6_saving_1 19 rfl rfl)
theorem dX6_saving_44 : decode cX6_saving 44 = .ok (.iload_n 3, 1) := dk_29 (dk_at dksX6_saving_1 20 rfl rfl)
theorem dX6_saving_45 : decode cX6_saving 45 = .ok (.isub, 1) := dk_100 (dk_at dksX6_saving_1 21 rfl rfl)
theorem dX6_saving_46 : decode cX6_saving 46 = .ok (.imul, 1) := dk_104 (dk_at dksX6_saving_1 22 rfl rfl)
theorem dX6_saving_47 : decode cX6_saving 47 = .ok (.iload_n 2, 1) := dk_28 (dk_at dksX6_saving_1 23 rfl rfl)
theorem dX6_saving_48 : decode cX6_saving 48 = .ok (.idiv, 1) := dk_108 (dk_at dksX6_saving_2 0 rfl rfl)
theorem dX6_saving_49 : decode cX6_saving 49 = .ok (.ireturn, 1) := dk_172 (dk_at dksX6_saving_2 1 rfl rfl)
abbrev cX6_after : ByteArray := prog_18_method_58_code
def yX6_after : MethodName := ⟨RX6, "after", "(II)I"⟩
def dkwX6_after_1 : List UInt8 := [182, 1, 47, 42, 28, 182, 1, 69, 42, 27, 182, 1, 50, 62, 42, 182, 1, 53, 29, 172]
abbrev dktX6_after_1 : List UInt8 := dkwX6_after_1 ++ []
def dkwX6_after_0 : List UInt8 := [42, 27, 182, 1, 59, 153, 0, 15, 28, 133, 9, 20, 1, 67, 184, 0, 88, 154, 0, 6, 16, 254, 172, 42]
abbrev dktX6_after_0 : List UInt8 := dkwX6_after_0 ++ dktX6_after_1
theorem dksX6_after_0 : cX6_after.data.toList.drop 0 = dktX6_after_0 := by decide +kernel
theorem dksX6_after_1 : cX6_after.data.toList.drop 24 = dktX6_after_1 := dk_seg dksX6_after_0 24 rfl rfl
theorem dX6_after_0 : decode cX6_after 0 = .ok (.aload_n 0, 1) := dk_42 (dk_at dksX6_after_0 0 rfl rfl)
theorem dX6_after_1 : decode cX6_after 1 = .ok (.iload_n 1, 1) := dk_27 (dk_at dksX6_after_0 1 rfl rfl)
theorem dX6_after_2 : decode cX6_after 2 = .ok (.invokevirtual 315, 3) := dk_182 1 59 (dk_at dksX6_after_0 2 rfl rfl)
theorem dX6_after_5 : decode cX6_after 5 = .ok (.ifCond .eq 15, 3) := dk_153 0 15 (dk_at dksX6_after_0 5 rfl rfl)
theorem dX6_after_8 : decode cX6_after 8 = .ok (.iload_n 2, 1) := dk_28 (dk_at dksX6_after_0 8 rfl rfl)
theorem dX6_after_9 : decode cX6_after 9 = .ok (.i2l, 1) := dk_133 (dk_at dksX6_after_0 9 rfl rfl)
theorem dX6_after_10 : decode cX6_after 10 = .ok (.lconst 0, 1) := dk_9 (dk_at dksX6_after_0 10 rfl rfl)
theorem dX6_after_11 : decode cX6_after 11 = .ok (.ldc2_w 323, 3) := dk_20 1 67 (dk_at dksX6_after_0 11 rfl rfl)
theorem dX6_after_14 : decode cX6_after 14 = .ok (.invokestatic 88, 3) := dk_184 0 88 (dk_at dksX6_after_0 14 rfl rfl)
theorem dX6_after_17 : decode cX6_after 17 = .ok (.ifCond .ne 6, 3) := dk_154 0 6 (dk_at dksX6_after_0 17 rfl rfl)
theorem dX6_after_20 : decode cX6_after 20 = .ok (.bipush (-2), 2) := dk_16 254 (dk_at dksX6_after_0 20 rfl rfl)
theorem dX6_after_22 : decode cX6_after 22 = .ok (.ireturn, 1) := dk_172 (dk_at dksX6_after_0 22 rfl rfl)
theorem dX6_after_23 : decode cX6_after 23 = .ok (.aload_n 0, 1) := dk_42 (dk_at dksX6_after_0 23 rfl rfl)
theorem dX6_after_24 : decode cX6_after 24 = .ok (.invokevirtual 303, 3) := dk_182 1 47 (dk_at dksX6_after_1 0 rfl rfl)
theorem dX6_after_27 : decode cX6_after 27 = .ok (.aload_n 0, 1) := dk_42 (dk_at dksX6_after_1 3 rfl rfl)
theorem dX6_after_28 : decode cX6_after 28 = .ok (.iload_n 2, 1) := dk_28 (dk_at dksX6_after_1 4 rfl rfl)
theorem dX6_after_29 : decode cX6_after 29 = .ok (.invokevirtual 325, 3) := dk_182 1 69 (dk_at dksX6_after_1 5 rfl rfl)
theorem dX6_after_32 : decode cX6_after 32 = .ok (.aload_n 0, 1) := dk_42 (dk_at dksX6_after_1 8 rfl rfl)
theorem dX6_after_33 : decode cX6_after 33 = .ok (.iload_n 1, 1) := dk_27 (dk_at dksX6_after_1 9 rfl rfl)
theorem dX6_after_34 : decode cX6_after 34 = .ok (.invokevirtual 306, 3) := dk_182 1 50 (dk_at dksX6_after_1 10 rfl rfl)
theorem dX6_after_37 : decode cX6_after 37 = .ok (.istore_n 3, 1) := dk_62 (dk_at dksX6_after_1 13 rfl rfl)
theorem dX6_after_38 : decode cX6_after 38 = .ok (.aload_n 0, 1) := dk_42 (dk_at dksX6_after_1 14 rfl rfl)
theorem dX6_after_39 : decode cX6_after 39 = .ok (.invokevirtual 309, 3) := dk_182 1 53 (dk_at dksX6_after_1 15 rfl rfl)
theorem dX6_after_42 : decode cX6_after 42 = .ok (.iload_n 3, 1) := dk_29 (dk_at dksX6_after_1 18 rfl rfl)
theorem dX6_after_43 : decode cX6_after 43 = .ok (.ireturn, 1) := dk_172 (dk_at dksX6_after_1 19 rfl rfl)
abbrev cX6_lasts : ByteArray := prog_18_method_59_code
def yX6_lasts : MethodName := ⟨RX6, "lasts", "(I)I"⟩
def dkwX6_lasts_2 : List UInt8 := [182, 1, 32, 132, 3, 1, 167, 255, 224, 42, 182, 1, 53, 28, 172]
abbrev dktX6_lasts_2 : List UInt8 := dkwX6_lasts_2 ++ []
def dkwX6_lasts_1 : List UInt8 := [163, 0, 31, 28, 2, 160, 0, 26, 42, 27, 182, 1, 41, 153, 0, 8, 29, 61, 167, 0, 7, 42]
abbrev dktX6_lasts_1 : List UInt8 := dkwX6_lasts_1 ++ dktX6_lasts_2
def dkwX6_lasts_0 : List UInt8 := [42, 27, 182, 1, 59, 154, 0, 6, 16, 254, 172, 42, 182, 1, 47, 2, 61, 3, 62, 29, 17, 0, 200]
abbrev dktX6_lasts_0 : List UInt8 := dkwX6_lasts_0 ++ dktX6_lasts_1
theorem dksX6_lasts_0 : cX6_lasts.data.toList.drop 0 = dktX6_lasts_0 := by decide +kernel
theorem dksX6_lasts_1 : cX6_lasts.data.toList.drop 23 = dktX6_lasts_1 := dk_seg dksX6_lasts_0 23 rfl rfl
theorem dksX6_lasts_2 : cX6_lasts.data.toList.drop 45 = dktX6_lasts_2 := dk_seg dksX6_lasts_1 22 rfl rfl
theorem dX6_lasts_0 : decode cX6_lasts 0 = .ok (.aload_n 0, 1) := dk_42 (dk_at dksX6_lasts_0 0 rfl rfl)
theorem dX6_lasts_1 : decode cX6_lasts 1 = .ok (.iload_n 1, 1) := dk_27 (dk_at dksX6_lasts_0 1 rfl rfl)
theorem dX6_lasts_2 : decode cX6_lasts 2 = .ok (.invokevirtual 315, 3) := dk_182 1 59 (dk_at dksX6_lasts_0 2 rfl rfl)
theorem dX6_lasts_5 : decode cX6_lasts 5 = .ok (.ifCond .ne 6, 3) := dk_154 0 6 (dk_at dksX6_lasts_0 5 rfl rfl)
theorem dX6_lasts_8 : decode cX6_lasts 8 = .ok (.bipush (-2), 2) := dk_16 254 (dk_at dksX6_lasts_0 8 rfl rfl)
theorem dX6_lasts_10 : decode cX6_lasts 10 = .ok (.ireturn, 1) := dk_172 (dk_at dksX6_lasts_0 10 rfl rfl)
theorem dX6_lasts_11 : decode cX6_lasts 11 = .ok (.aload_n 0, 1) := dk_42 (dk_at dksX6_lasts_0 11 rfl rfl)
theorem dX6_lasts_12 : decode cX6_lasts 12 = .ok (.invokevirtual 303, 3) := dk_182 1 47 (dk_at dksX6_lasts_0 12 rfl rfl)
theorem dX6_lasts_15 : decode cX6_lasts 15 = .ok (.iconst (-1), 1) := dk_2 (dk_at dksX6_lasts_0 15 rfl rfl)
theorem dX6_lasts_16 : decode cX6_lasts 16 = .ok (.istore_n 2, 1) := dk_61 (dk_at dksX6_lasts_0 16 rfl rfl)
theorem dX6_lasts_17 : decode cX6_lasts 17 = .ok (.iconst 0, 1) := dk_3 (dk_at dksX6_lasts_0 17 rfl rfl)
theorem dX6_lasts_18 : decode cX6_lasts 18 = .ok (.istore_n 3, 1) := dk_62 (dk_at dksX6_lasts_0 18 rfl rfl)
theorem dX6_lasts_19 : decode cX6_lasts 19 = .ok (.iload_n 3, 1) := dk_29 (dk_at dksX6_lasts_0 19 rfl rfl)
theorem dX6_lasts_20 : decode cX6_lasts 20 = .ok (.sipush 200, 3) := dk_17 0 200 (dk_at dksX6_lasts_0 20 rfl rfl)
theorem dX6_lasts_23 : decode cX6_lasts 23 = .ok (.if_icmp .gt 31, 3) := dk_163 0 31 (dk_at dksX6_lasts_1 0 rfl rfl)
theorem dX6_lasts_26 : decode cX6_lasts 26 = .ok (.iload_n 2, 1) := dk_28 (dk_at dksX6_lasts_1 3 rfl rfl)
theorem dX6_lasts_27 : decode cX6_lasts 27 = .ok (.iconst (-1), 1) := dk_2 (dk_at dksX6_lasts_1 4 rfl rfl)
theorem dX6_lasts_28 : decode cX6_lasts 28 = .ok (.if_icmp .ne 26, 3) := dk_160 0 26 (dk_at dksX6_lasts_1 5 rfl rfl)
theorem dX6_lasts_31 : decode cX6_lasts 31 = .ok (.aload_n 0, 1) := dk_42 (dk_at dksX6_lasts_1 8 rfl rfl)
theorem dX6_lasts_32 : decode cX6_lasts 32 = .ok (.iload_n 1, 1) := dk_27 (dk_at dksX6_lasts_1 9 rfl rfl)
theorem dX6_lasts_33 : decode cX6_lasts 33 = .ok (.invokevirtual 297, 3) := dk_182 1 41 (dk_at dksX6_lasts_1 10 rfl rfl)
theorem dX6_lasts_36 : decode cX6_lasts 36 = .ok (.ifCond .eq 8, 3) := dk_153 0 8 (dk_at dksX6_lasts_1 13 rfl rfl)
theorem dX6_lasts_39 : decode cX6_lasts 39 = .ok (.iload_n 3, 1) := dk_29 (dk_at dksX6_lasts_1 16 rfl rfl)
theorem dX6_lasts_40 : decode cX6_lasts 40 = .ok (.istore_n 2, 1) := dk_61 (dk_at dksX6_lasts_1 17 rfl rfl)
theorem dX6_lasts_41 : decode cX6_lasts 41 = .ok (.goto 7, 3) := dk_167 0 7 (dk_at dksX6_lasts_1 18 rfl rfl)
theorem dX6_lasts_44 : decode cX6_lasts 44 = .ok (.aload_n 0, 1) := dk_42 (dk_at dksX6_lasts_1 21 rfl rfl)
theorem dX6_lasts_45 : decode cX6_lasts 45 = .ok (.invokevirtual 288, 3) := dk_182 1 32 (dk_at dksX6_lasts_2 0 rfl rfl)
theorem dX6_lasts_48 : decode cX6_lasts 48 = .ok (.iinc 3 1, 3) := dk_132 3 1 (dk_at dksX6_lasts_2 3 rfl rfl)
theorem dX6_lasts_51 : decode cX6_lasts 51 = .ok (.goto (-32), 3) := dk_167 255 224 (dk_at dksX6_lasts_2 6 rfl rfl)
theorem dX6_lasts_54 : decode cX6_lasts 54 = .ok (.aload_n 0, 1) := dk_42 (dk_at dksX6_lasts_2 9 rfl rfl)
theorem dX6_lasts_55 : decode cX6_lasts 55 = .ok (.invokevirtual 309, 3) := dk_182 1 53 (dk_at dksX6_lasts_2 10 rfl rfl)
theorem dX6_lasts_58 : decode cX6_lasts 58 = .ok (.iload_n 2, 1) := dk_28 (dk_at dksX6_lasts_2 13 rfl rfl)
theorem dX6_lasts_59 : decode cX6_lasts 59 = .ok (.ireturn, 1) := dk_172 (dk_at dksX6_lasts_2 14 rfl rfl)
abbrev cX6_gone : ByteArray := prog_18_method_61_code
def yX6_gone : MethodName := ⟨RX6, "gone", "(I)I"⟩
def dkwX6_gone_2 : List UInt8 := [161, 0, 8, 29, 61, 167, 0, 7, 42, 182, 1, 32, 132, 3, 1, 167, 255, 214, 42, 182, 1, 53, 28, 172]
abbrev dktX6_gone_2 : List UInt8 := dkwX6_gone_2 ++ []
def dkwX6_gone_1 : List UInt8 := [163, 0, 42, 28, 2, 160, 0, 37, 42, 27, 182, 1, 77, 184, 1, 84, 42, 27, 182, 1, 80, 184, 1, 84]
abbrev dktX6_gone_1 : List UInt8 := dkwX6_gone_1 ++ dktX6_gone_2
def dkwX6_gone_0 : List UInt8 := [42, 27, 182, 1, 59, 154, 0, 6, 16, 254, 172, 42, 182, 1, 47, 2, 61, 3, 62, 29, 16, 60]
abbrev dktX6_gone_0 : List UInt8 := dkwX6_gone_0 ++ dktX6_gone_1
theorem dksX6_gone_0 : cX6_gone.data.toList.drop 0 = dktX6_gone_0 := by decide +kernel
theorem dksX6_gone_1 : cX6_gone.data.toList.drop 22 = dktX6_gone_1 := dk_seg dksX6_gone_0 22 rfl rfl
theorem dksX6_gone_2 : cX6_gone.data.toList.drop 46 = dktX6_gone_2 := dk_seg dksX6_gone_1 24 rfl rfl
theorem dX6_gone_0 : decode cX6_gone 0 = .ok (.aload_n 0, 1) := dk_42 (dk_at dksX6_gone_0 0 rfl rfl)
theorem dX6_gone_1 : decode cX6_gone 1 = .ok (.iload_n 1, 1) := dk_27 (dk_at dksX6_gone_0 1 rfl rfl)
theorem dX6_gone_2 : decode cX6_gone 2 = .ok (.invokevirtual 315, 3) := dk_182 1 59 (dk_at dksX6_gone_0 2 rfl rfl)
theorem dX6_gone_5 : decode cX6_gone 5 = .ok (.ifCond .ne 6, 3) := dk_154 0 6 (dk_at dksX6_gone_0 5 rfl rfl)
theorem dX6_gone_8 : decode cX6_gone 8 = .ok (.bipush (-2), 2) := dk_16 254 (dk_at dksX6_gone_0 8 rfl rfl)
theorem dX6_gone_10 : decode cX6_gone 10 = .ok (.ireturn, 1) := dk_172 (dk_at dksX6_gone_0 10 rfl rfl)
theorem dX6_gone_11 : decode cX6_gone 11 = .ok (.aload_n 0, 1) := dk_42 (dk_at dksX6_gone_0 11 rfl rfl)
theorem dX6_gone_12 : decode cX6_gone 12 = .ok (.invokevirtual 303, 3) := dk_182 1 47 (dk_at dksX6_gone_0 12 rfl rfl)
theorem dX6_gone_15 : decode cX6_gone 15 = .ok (.iconst (-1), 1) := dk_2 (dk_at dksX6_gone_0 15 rfl rfl)
theorem dX6_gone_16 : decode cX6_gone 16 = .ok (.istore_n 2, 1) := dk_61 (dk_at dksX6_gone_0 16 rfl rfl)
theorem dX6_gone_17 : decode cX6_gone 17 = .ok (.iconst 0, 1) := dk_3 (dk_at dksX6_gone_0 17 rfl rfl)
theorem dX6_gone_18 : decode cX6_gone 18 = .ok (.istore_n 3, 1) := dk_62 (dk_at dksX6_gone_0 18 rfl rfl)
theorem dX6_gone_19 : decode cX6_gone 19 = .ok (.iload_n 3, 1) := dk_29 (dk_at dksX6_gone_0 19 rfl rfl)
theorem dX6_gone_20 : decode cX6_gone 20 = .ok (.bipush 60, 2) := dk_16 60 (dk_at dksX6_gone_0 20 rfl rfl)
theorem dX6_gone_22 : decode cX6_gone 22 = .ok (.if_icmp .gt 42, 3) := dk_163 0 42 (dk_at dksX6_gone_1 0 rfl rfl)
theorem dX6_gone_25 : decode cX6_gone 25 = .ok (.iload_n 2, 1) := dk_28 (dk_at dksX6_gone_1 3 rfl rfl)
theorem dX6_gone_26 : decode cX6_gone 26 = .ok (.iconst (-1), 1) := dk_2 (dk_at dksX6_gone_1 4 rfl rfl)
theorem dX6_gone_27 : decode cX6_gone 27 = .ok (.if_icmp .ne 37, 3) := dk_160 0 37 (dk_at dksX6_gone_1 5 rfl rfl)
theorem dX6_gone_30 : decode cX6_gone 30 = .ok (.aload_n 0, 1) := dk_42 (dk_at dksX6_gone_1 8 rfl rfl)
theorem dX6_gone_31 : decode cX6_gone 31 = .ok (.iload_n 1, 1) := dk_27 (dk_at dksX6_gone_1 9 rfl rfl)
theorem dX6_gone_32 : decode cX6_gone 32 = .ok (.invokevirtual 333, 3) := dk_182 1 77 (dk_at dksX6_gone_1 10 rfl rfl)
theorem dX6_gone_35 : decode cX6_gone 35 = .ok (.invokestatic 340, 3) := dk_184 1 84 (dk_at dksX6_gone_1 13 rfl rfl)
theorem dX6_gone_38 : decode cX6_gone 38 = .ok (.aload_n 0, 1) := dk_42 (dk_at dksX6_gone_1 16 rfl rfl)
theorem dX6_gone_39 : decode cX6_gone 39 = .ok (.iload_n 1, 1) := dk_27 (dk_at dksX6_gone_1 17 rfl rfl)
theorem dX6_gone_40 : decode cX6_gone 40 = .ok (.invokevirtual 336, 3) := dk_182 1 80 (dk_at dksX6_gone_1 18 rfl rfl)
theorem dX6_gone_43 : decode cX6_gone 43 = .ok (.invokestatic 340, 3) := dk_184 1 84 (dk_at dksX6_gone_1 21 rfl rfl)
theorem dX6_gone_46 : decode cX6_gone 46 = .ok (.if_icmp .lt 8, 3) := dk_161 0 8 (dk_at dksX6_gone_2 0 rfl rfl)
theorem dX6_gone_49 : decode cX6_gone 49 = .ok (.iload_n 3, 1) := dk_29 (dk_at dksX6_gone_2 3 rfl rfl)
theorem dX6_gone_50 : decode cX6_gone 50 = .ok (.istore_n 2, 1) := dk_61 (dk_at dksX6_gone_2 4 rfl rfl)
theorem dX6_gone_51 : decode cX6_gone 51 = .ok (.goto 7, 3) := dk_167 0 7 (dk_at dksX6_gone_2 5 rfl rfl)
theorem dX6_gone_54 : decode cX6_gone 54 = .ok (.aload_n 0, 1) := dk_42 (dk_at dksX6_gone_2 8 rfl rfl)
theorem dX6_gone_55 : decode cX6_gone 55 = .ok (.invokevirtual 288, 3) := dk_182 1 32 (dk_at dksX6_gone_2 9 rfl rfl)
theorem dX6_gone_58 : decode cX6_gone 58 = .ok (.iinc 3 1, 3) := dk_132 3 1 (dk_at dksX6_gone_2 12 rfl rfl)
theorem dX6_gone_61 : decode cX6_gone 61 = .ok (.goto (-42), 3) := dk_167 255 214 (dk_at dksX6_gone_2 15 rfl rfl)
theorem dX6_gone_64 : decode cX6_gone 64 = .ok (.aload_n 0, 1) := dk_42 (dk_at dksX6_gone_2 18 rfl rfl)
theorem dX6_gone_65 : decode cX6_gone 65 = .ok (.invokevirtual 309, 3) := dk_182 1 53 (dk_at dksX6_gone_2 19 rfl rfl)
theorem dX6_gone_68 : decode cX6_gone 68 = .ok (.iload_n 2, 1) := dk_28 (dk_at dksX6_gone_2 22 rfl rfl)
theorem dX6_gone_69 : decode cX6_gone 69 = .ok (.ireturn, 1) := dk_172 (dk_at dksX6_gone_2 23 rfl rfl)
abbrev cX6_orMany : ByteArray := prog_18_method_60_code
def yX6_orMany : MethodName := ⟨RX6, "orMany", "(I)I"⟩
def dkwX6_orMany_0 : List UInt8 := [26, 2, 160, 0, 8, 16, 41, 167, 0, 4, 26, 172]
abbrev dktX6_orMany_0 : List UInt8 := dkwX6_orMany_0 ++ []
theorem dksX6_orMany_0 : cX6_orMany.data.toList.drop 0 = dktX6_orMany_0 := by decide +kernel
theorem dX6_orMany_0 : decode cX6_orMany 0 = .ok (.iload_n 0, 1) := dk_26 (dk_at dksX6_orMany_0 0 rfl rfl)
theorem dX6_orMany_1 : decode cX6_orMany 1 = .ok (.iconst (-1), 1) := dk_2 (dk_at dksX6_orMany_0 1 rfl rfl)
theorem dX6_orMany_2 : decode cX6_orMany 2 = .ok (.if_icmp .ne 8, 3) := dk_160 0 8 (dk_at dksX6_orMany_0 2 rfl rfl)
theorem dX6_orMany_5 : decode cX6_orMany 5 = .ok (.bipush 41, 2) := dk_16 41 (dk_at dksX6_orMany_0 5 rfl rfl)
theorem dX6_orMany_7 : decode cX6_orMany 7 = .ok (.goto 4, 3) := dk_167 0 4 (dk_at dksX6_orMany_0 7 rfl rfl)
theorem dX6_orMany_10 : decode cX6_orMany 10 = .ok (.iload_n 0, 1) := dk_26 (dk_at dksX6_orMany_0 10 rfl rfl)
theorem dX6_orMany_11 : decode cX6_orMany 11 = .ok (.ireturn, 1) := dk_172 (dk_at dksX6_orMany_0 11 rfl rfl)
abbrev cX6_without : ByteArray := prog_18_method_62_code
def yX6_without : MethodName := ⟨RX6, "without", "(II)I"⟩
def dkwX6_without_2 : List UInt8 := [42, 180, 0, 13, 8, 28, 96, 29, 79, 21, 4, 172]
abbrev dktX6_without_2 : List UInt8 := dkwX6_without_2 ++ []
def dkwX6_without_1 : List UInt8 := [180, 0, 13, 8, 28, 96, 46, 62, 42, 180, 0, 13, 8, 28, 96, 3, 79, 42, 27, 182, 1, 77, 54, 4]
abbrev dktX6_without_1 : List UInt8 := dkwX6_without_1 ++ dktX6_without_2
def dkwX6_without_0 : List UInt8 := [42, 27, 182, 1, 59, 153, 0, 15, 28, 133, 9, 20, 0, 251, 184, 0, 88, 154, 0, 6, 16, 254, 172, 42]
abbrev dktX6_without_0 : List UInt8 := dkwX6_without_0 ++ dktX6_without_1
theorem dksX6_without_0 : cX6_without.data.toList.drop 0 = dktX6_without_0 := by decide +kernel
theorem dksX6_without_1 : cX6_without.data.toList.drop 24 = dktX6_without_1 := dk_seg dksX6_without_0 24 rfl rfl
theorem dksX6_without_2 : cX6_without.data.toList.drop 48 = dktX6_without_2 := dk_seg dksX6_without_1 24 rfl rfl
theorem dX6_without_0 : decode cX6_without 0 = .ok (.aload_n 0, 1) := dk_42 (dk_at dksX6_without_0 0 rfl rfl)
theorem dX6_without_1 : decode cX6_without 1 = .ok (.iload_n 1, 1) := dk_27 (dk_at dksX6_without_0 1 rfl rfl)
theorem dX6_without_2 : decode cX6_without 2 = .ok (.invokevirtual 315, 3) := dk_182 1 59 (dk_at dksX6_without_0 2 rfl rfl)
theorem dX6_without_5 : decode cX6_without 5 = .ok (.ifCond .eq 15, 3) := dk_153 0 15 (dk_at dksX6_without_0 5 rfl rfl)
theorem dX6_without_8 : decode cX6_without 8 = .ok (.iload_n 2, 1) := dk_28 (dk_at dksX6_without_0 8 rfl rfl)
theorem dX6_without_9 : decode cX6_without 9 = .ok (.i2l, 1) := dk_133 (dk_at dksX6_without_0 9 rfl rfl)
theorem dX6_without_10 : decode cX6_without 10 = .ok (.lconst 0, 1) := dk_9 (dk_at dksX6_without_0 10 rfl rfl)
theorem dX6_without_11 : decode cX6_without 11 = .ok (.ldc2_w 251, 3) := dk_20 0 251 (dk_at dksX6_without_0 11 rfl rfl)
theorem dX6_without_14 : decode cX6_without 14 = .ok (.invokestatic 88, 3) := dk_184 0 88 (dk_at dksX6_without_0 14 rfl rfl)
theorem dX6_without_17 : decode cX6_without 17 = .ok (.ifCond .ne 6, 3) := dk_154 0 6 (dk_at dksX6_without_0 17 rfl rfl)
theorem dX6_without_20 : decode cX6_without 20 = .ok (.bipush (-2), 2) := dk_16 254 (dk_at dksX6_without_0 20 rfl rfl)
theorem dX6_without_22 : decode cX6_without 22 = .ok (.ireturn, 1) := dk_172 (dk_at dksX6_without_0 22 rfl rfl)
theorem dX6_without_23 : decode cX6_without 23 = .ok (.aload_n 0, 1) := dk_42 (dk_at dksX6_without_0 23 rfl rfl)
theorem dX6_without_24 : decode cX6_without 24 = .ok (.getfield 13, 3) := dk_180 0 13 (dk_at dksX6_without_1 0 rfl rfl)
theorem dX6_without_27 : decode cX6_without 27 = .ok (.iconst 5, 1) := dk_8 (dk_at dksX6_without_1 3 rfl rfl)
theorem dX6_without_28 : decode cX6_without 28 = .ok (.iload_n 2, 1) := dk_28 (dk_at dksX6_without_1 4 rfl rfl)
theorem dX6_without_29 : decode cX6_without 29 = .ok (.iadd, 1) := dk_96 (dk_at dksX6_without_1 5 rfl rfl)
theorem dX6_without_30 : decode cX6_without 30 = .ok (.iaload, 1) := dk_46 (dk_at dksX6_without_1 6 rfl rfl)
theorem dX6_without_31 : decode cX6_without 31 = .ok (.istore_n 3, 1) := dk_62 (dk_at dksX6_without_1 7 rfl rfl)
theorem dX6_without_32 : decode cX6_without 32 = .ok (.aload_n 0, 1) := dk_42 (dk_at dksX6_without_1 8 rfl rfl)
theorem dX6_without_33 : decode cX6_without 33 = .ok (.getfield 13, 3) := dk_180 0 13 (dk_at dksX6_without_1 9 rfl rfl)
theorem dX6_without_36 : decode cX6_without 36 = .ok (.iconst 5, 1) := dk_8 (dk_at dksX6_without_1 12 rfl rfl)
theorem dX6_without_37 : decode cX6_without 37 = .ok (.iload_n 2, 1) := dk_28 (dk_at dksX6_without_1 13 rfl rfl)
theorem dX6_without_38 : decode cX6_without 38 = .ok (.iadd, 1) := dk_96 (dk_at dksX6_without_1 14 rfl rfl)
theorem dX6_without_39 : decode cX6_without 39 = .ok (.iconst 0, 1) := dk_3 (dk_at dksX6_without_1 15 rfl rfl)
theorem dX6_without_40 : decode cX6_without 40 = .ok (.iastore, 1) := dk_79 (dk_at dksX6_without_1 16 rfl rfl)
theorem dX6_without_41 : decode cX6_without 41 = .ok (.aload_n 0, 1) := dk_42 (dk_at dksX6_without_1 17 rfl rfl)
theorem dX6_without_42 : decode cX6_without 42 = .ok (.iload_n 1, 1) := dk_27 (dk_at dksX6_without_1 18 rfl rfl)
theorem dX6_without_43 : decode cX6_without 43 = .ok (.invokevirtual 333, 3) := dk_182 1 77 (dk_at dksX6_without_1 19 rfl rfl)
theorem dX6_without_46 : decode cX6_without 46 = .ok (.istore 4, 2) := dk_54 4 (dk_at dksX6_without_1 22 rfl rfl)
theorem dX6_without_48 : decode cX6_without 48 = .ok (.aload_n 0, 1) := dk_42 (dk_at dksX6_without_2 0 rfl rfl)
theorem dX6_without_49 : decode cX6_without 49 = .ok (.getfield 13, 3) := dk_180 0 13 (dk_at dksX6_without_2 1 rfl rfl)
theorem dX6_without_52 : decode cX6_without 52 = .ok (.iconst 5, 1) := dk_8 (dk_at dksX6_without_2 4 rfl rfl)
theorem dX6_without_53 : decode cX6_without 53 = .ok (.iload_n 2, 1) := dk_28 (dk_at dksX6_without_2 5 rfl rfl)
theorem dX6_without_54 : decode cX6_without 54 = .ok (.iadd, 1) := dk_96 (dk_at dksX6_without_2 6 rfl rfl)
theorem dX6_without_55 : decode cX6_without 55 = .ok (.iload_n 3, 1) := dk_29 (dk_at dksX6_without_2 7 rfl rfl)
theorem dX6_without_56 : decode cX6_without 56 = .ok (.iastore, 1) := dk_79 (dk_at dksX6_without_2 8 rfl rfl)
theorem dX6_without_57 : decode cX6_without 57 = .ok (.iload 4, 2) := dk_21 4 (dk_at dksX6_without_2 9 rfl rfl)
theorem dX6_without_59 : decode cX6_without 59 = .ok (.ireturn, 1) := dk_172 (dk_at dksX6_without_2 11 rfl rfl)
abbrev cX6_between : ByteArray := prog_18_method_63_code
def yX6_between : MethodName := ⟨RX6, "between", "(III)I"⟩
def dkwX6_between_5 : List UInt8 := [21, 4, 100, 172]
abbrev dktX6_between_5 : List UInt8 := dkwX6_between_5 ++ []
def dkwX6_between_4 : List UInt8 := [153, 0, 15, 21, 4, 2, 159, 0, 9, 21, 6, 2, 160, 0, 9, 19, 1, 83, 167, 0, 8, 21, 6]
abbrev dktX6_between_4 : List UInt8 := dkwX6_between_4 ++ dktX6_between_5
def dkwX6_between_3 : List UInt8 := [167, 0, 4, 3, 54, 5, 42, 29, 182, 1, 69, 42, 27, 182, 1, 50, 54, 6, 42, 182, 1, 53, 21, 5]
abbrev dktX6_between_3 : List UInt8 := dkwX6_between_3 ++ dktX6_between_4
def dkwX6_between_2 : List UInt8 := [182, 1, 50, 54, 4, 42, 182, 1, 53, 42, 182, 1, 47, 42, 28, 182, 1, 50, 2, 159, 0, 7, 4]
abbrev dktX6_between_2 : List UInt8 := dkwX6_between_2 ++ dktX6_between_3
def dkwX6_between_1 : List UInt8 := [20, 1, 67, 184, 0, 88, 154, 0, 7, 19, 1, 83, 172, 42, 182, 1, 47, 42, 29, 182, 1, 69, 42, 27]
abbrev dktX6_between_1 : List UInt8 := dkwX6_between_1 ++ dktX6_between_2
def dkwX6_between_0 : List UInt8 := [42, 27, 182, 1, 59, 153, 0, 28, 42, 28, 182, 1, 59, 153, 0, 20, 27, 28, 159, 0, 15, 29, 133, 10]
abbrev dktX6_between_0 : List UInt8 := dkwX6_between_0 ++ dktX6_between_1
theorem dksX6_between_0 : cX6_between.data.toList.drop 0 = dktX6_between_0 := by decide +kernel
theorem dksX6_between_1 : cX6_between.data.toList.drop 24 = dktX6_between_1 := dk_seg dksX6_between_0 24 rfl rfl
theorem dksX6_between_2 : cX6_between.data.toList.drop 48 = dktX6_between_2 := dk_seg dksX6_between_1 24 rfl rfl
theorem dksX6_between_3 : cX6_between.data.toList.drop 71 = dktX6_between_3 := dk_seg dksX6_between_2 23 rfl rfl
theorem dksX6_between_4 : cX6_between.data.toList.drop 95 = dktX6_between_4 := dk_seg dksX6_between_3 24 rfl rfl
theorem dksX6_between_5 : cX6_between.data.toList.drop 118 = dktX6_between_5 := dk_seg dksX6_between_4 23 rfl rfl
theorem dX6_between_0 : decode cX6_between 0 = .ok (.aload_n 0, 1) := dk_42 (dk_at dksX6_between_0 0 rfl rfl)
theorem dX6_between_1 : decode cX6_between 1 = .ok (.iload_n 1, 1) := dk_27 (dk_at dksX6_between_0 1 rfl rfl)
theorem dX6_between_2 : decode cX6_between 2 = .ok (.invokevirtual 315, 3) := dk_182 1 59 (dk_at dksX6_between_0 2 rfl rfl)
theorem dX6_between_5 : decode cX6_between 5 = .ok (.ifCond .eq 28, 3) := dk_153 0 28 (dk_at dksX6_between_0 5 rfl rfl)
theorem dX6_between_8 : decode cX6_between 8 = .ok (.aload_n 0, 1) := dk_42 (dk_at dksX6_between_0 8 rfl rfl)
theorem dX6_between_9 : decode cX6_between 9 = .ok (.iload_n 2, 1) := dk_28 (dk_at dksX6_between_0 9 rfl rfl)
theorem dX6_between_10 : decode cX6_between 10 = .ok (.invokevirtual 315, 3) := dk_182 1 59 (dk_at dksX6_between_0 10 rfl rfl)
theorem dX6_between_13 : decode cX6_between 13 = .ok (.ifCond .eq 20, 3) := dk_153 0 20 (dk_at dksX6_between_0 13 rfl rfl)
theorem dX6_between_16 : decode cX6_between 16 = .ok (.iload_n 1, 1) := dk_27 (dk_at dksX6_between_0 16 rfl rfl)
theorem dX6_between_17 : decode cX6_between 17 = .ok (.iload_n 2, 1) := dk_28 (dk_at dksX6_between_0 17 rfl rfl)
theorem dX6_between_18 : decode cX6_between 18 = .ok (.if_icmp .eq 15, 3) := dk_159 0 15 (dk_at dksX6_between_0 18 rfl rfl)
theorem dX6_between_21 : decode cX6_between 21 = .ok (.iload_n 3, 1) := dk_29 (dk_at dksX6_between_0 21 rfl rfl)
theorem dX6_between_22 : decode cX6_between 22 = .ok (.i2l, 1) := dk_133 (dk_at dksX6_between_0 22 rfl rfl)
theorem dX6_between_23 : decode cX6_between 23 = .ok (.lconst 1, 1) := dk_10 (dk_at dksX6_between_0 23 rfl rfl)
theorem dX6_between_24 : decode cX6_between 24 = .ok (.ldc2_w 323, 3) := dk_20 1 67 (dk_at dksX6_between_1 0 rfl rfl)
theorem dX6_between_27 : decode cX6_between 27 = .ok (.invokestatic 88, 3) := dk_184 0 88 (dk_at dksX6_between_1 3 rfl rfl)
theorem dX6_between_30 : decode cX6_between 30 = .ok (.ifCond .ne 7, 3) := dk_154 0 7 (dk_at dksX6_between_1 6 rfl rfl)
theorem dX6_between_33 : decode cX6_between 33 = .ok (.ldc_w 339, 3) := dk_19 1 83 (dk_at dksX6_between_1 9 rfl rfl)
theorem dX6_between_36 : decode cX6_between 36 = .ok (.ireturn, 1) := dk_172 (dk_at dksX6_between_1 12 rfl rfl)
theorem dX6_between_37 : decode cX6_between 37 = .ok (.aload_n 0, 1) := dk_42 (dk_at dksX6_between_1 13 rfl rfl)
theorem dX6_between_38 : decode cX6_between 38 = .ok (.invokevirtual 303, 3) := dk_182 1 47 (dk_at dksX6_between_1 14 rfl rfl)
theorem dX6_between_41 : decode cX6_between 41 = .ok (.aload_n 0, 1) := dk_42 (dk_at dksX6_between_1 17 rfl rfl)
theorem dX6_between_42 : decode cX6_between 42 = .ok (.iload_n 3, 1) := dk_29 (dk_at dksX6_between_1 18 rfl rfl)
theorem dX6_between_43 : decode cX6_between 43 = .ok (.invokevirtual 325, 3) := dk_182 1 69 (dk_at dksX6_between_1 19 rfl rfl)
theorem dX6_between_46 : decode cX6_between 46 = .ok (.aload_n 0, 1) := dk_42 (dk_at dksX6_between_1 22 rfl rfl)
theorem dX6_between_47 : decode cX6_between 47 = .ok (.iload_n 1, 1) := dk_27 (dk_at dksX6_between_1 23 rfl rfl)
theorem dX6_between_48 : decode cX6_between 48 = .ok (.invokevirtual 306, 3) := dk_182 1 50 (dk_at dksX6_between_2 0 rfl rfl)
theorem dX6_between_51 : decode cX6_between 51 = .ok (.istore 4, 2) := dk_54 4 (dk_at dksX6_between_2 3 rfl rfl)
theorem dX6_between_53 : decode cX6_between 53 = .ok (.aload_n 0, 1) := dk_42 (dk_at dksX6_between_2 5 rfl rfl)
theorem dX6_between_54 : decode cX6_between 54 = .ok (.invokevirtual 309, 3) := dk_182 1 53 (dk_at dksX6_between_2 6 rfl rfl)
theorem dX6_between_57 : decode cX6_between 57 = .ok (.aload_n 0, 1) := dk_42 (dk_at dksX6_between_2 9 rfl rfl)
theorem dX6_between_58 : decode cX6_between 58 = .ok (.invokevirtual 303, 3) := dk_182 1 47 (dk_at dksX6_between_2 10 rfl rfl)
theorem dX6_between_61 : decode cX6_between 61 = .ok (.aload_n 0, 1) := dk_42 (dk_at dksX6_between_2 13 rfl rfl)
theorem dX6_between_62 : decode cX6_between 62 = .ok (.iload_n 2, 1) := dk_28 (dk_at dksX6_between_2 14 rfl rfl)
theorem dX6_between_63 : decode cX6_between 63 = .ok (.invokevirtual 306, 3) := dk_182 1 50 (dk_at dksX6_between_2 15 rfl rfl)
theorem dX6_between_66 : decode cX6_between 66 = .ok (.iconst (-1), 1) := dk_2 (dk_at dksX6_between_2 18 rfl rfl)
theorem dX6_between_67 : decode cX6_between 67 = .ok (.if_icmp .eq 7, 3) := dk_159 0 7 (dk_at dksX6_between_2 19 rfl rfl)
theorem dX6_between_70 : decode cX6_between 70 = .ok (.iconst 1, 1) := dk_4 (dk_at dksX6_between_2 22 rfl rfl)
theorem dX6_between_71 : decode cX6_between 71 = .ok (.goto 4, 3) := dk_167 0 4 (dk_at dksX6_between_3 0 rfl rfl)
theorem dX6_between_74 : decode cX6_between 74 = .ok (.iconst 0, 1) := dk_3 (dk_at dksX6_between_3 3 rfl rfl)
theorem dX6_between_75 : decode cX6_between 75 = .ok (.istore 5, 2) := dk_54 5 (dk_at dksX6_between_3 4 rfl rfl)
theorem dX6_between_77 : decode cX6_between 77 = .ok (.aload_n 0, 1) := dk_42 (dk_at dksX6_between_3 6 rfl rfl)
theorem dX6_between_78 : decode cX6_between 78 = .ok (.iload_n 3, 1) := dk_29 (dk_at dksX6_between_3 7 rfl rfl)
theorem dX6_between_79 : decode cX6_between 79 = .ok (.invokevirtual 325, 3) := dk_182 1 69 (dk_at dksX6_between_3 8 rfl rfl)
theorem dX6_between_82 : decode cX6_between 82 = .ok (.aload_n 0, 1) := dk_42 (dk_at dksX6_between_3 11 rfl rfl)
theorem dX6_between_83 : decode cX6_between 83 = .ok (.iload_n 1, 1) := dk_27 (dk_at dksX6_between_3 12 rfl rfl)
theorem dX6_between_84 : decode cX6_between 84 = .ok (.invokevirtual 306, 3) := dk_182 1 50 (dk_at dksX6_between_3 13 rfl rfl)
theorem dX6_between_87 : decode cX6_between 87 = .ok (.istore 6, 2) := dk_54 6 (dk_at dksX6_between_3 16 rfl rfl)
theorem dX6_between_89 : decode cX6_between 89 = .ok (.aload_n 0, 1) := dk_42 (dk_at dksX6_between_3 18 rfl rfl)
theorem dX6_between_90 : decode cX6_between 90 = .ok (.invokevirtual 309, 3) := dk_182 1 53 (dk_at dksX6_between_3 19 rfl rfl)
theorem dX6_between_93 : decode cX6_between 93 = .ok (.iload 5, 2) := dk_21 5 (dk_at dksX6_between_3 22 rfl rfl)
theorem dX6_between_95 : decode cX6_between 95 = .ok (.ifCond .eq 15, 3) := dk_153 0 15 (dk_at dksX6_between_4 0 rfl rfl)
theorem dX6_between_98 : decode cX6_between 98 = .ok (.iload 4, 2) := dk_21 4 (dk_at dksX6_between_4 3 rfl rfl)
theorem dX6_between_100 : decode cX6_between 100 = .ok (.iconst (-1), 1) := dk_2 (dk_at dksX6_between_4 5 rfl rfl)
theorem dX6_between_101 : decode cX6_between 101 = .ok (.if_icmp .eq 9, 3) := dk_159 0 9 (dk_at dksX6_between_4 6 rfl rfl)
theorem dX6_between_104 : decode cX6_between 104 = .ok (.iload 6, 2) := dk_21 6 (dk_at dksX6_between_4 9 rfl rfl)
theorem dX6_between_106 : decode cX6_between 106 = .ok (.iconst (-1), 1) := dk_2 (dk_at dksX6_between_4 11 rfl rfl)
theorem dX6_between_107 : decode cX6_between 107 = .ok (.if_icmp .ne 9, 3) := dk_160 0 9 (dk_at dksX6_between_4 12 rfl rfl)
theorem dX6_between_110 : decode cX6_between 110 = .ok (.ldc_w 339, 3) := dk_19 1 83 (dk_at dksX6_between_4 15 rfl rfl)
theorem dX6_between_113 : decode cX6_between 113 = .ok (.goto 8, 3) := dk_167 0 8 (dk_at dksX6_between_4 18 rfl rfl)
theorem dX6_between_116 : decode cX6_between 116 = .ok (.iload 6, 2) := dk_21 6 (dk_at dksX6_between_4 21 rfl rfl)
theorem dX6_between_118 : decode cX6_between 118 = .ok (.iload 4, 2) := dk_21 4 (dk_at dksX6_between_5 0 rfl rfl)
theorem dX6_between_120 : decode cX6_between 120 = .ok (.isub, 1) := dk_100 (dk_at dksX6_between_5 2 rfl rfl)
theorem dX6_between_121 : decode cX6_between 121 = .ok (.ireturn, 1) := dk_172 (dk_at dksX6_between_5 3 rfl rfl)
abbrev cX6_evening : ByteArray := prog_18_method_64_code
def yX6_evening : MethodName := ⟨RX6, "evening", "(III)I"⟩
def dkwX6_evening_6 : List UInt8 := [167, 0, 8, 21, 5, 21, 7, 100, 172]
abbrev dktX6_evening_6 : List UInt8 := dkwX6_evening_6 ++ []
def dkwX6_evening_5 : List UInt8 := [153, 0, 20, 21, 6, 153, 0, 15, 21, 5, 2, 159, 0, 9, 21, 7, 2, 160, 0, 9, 19, 1, 83]
abbrev dktX6_evening_5 : List UInt8 := dkwX6_evening_5 ++ dktX6_evening_6
def dkwX6_evening_4 : List UInt8 := [167, 0, 4, 3, 54, 6, 42, 29, 182, 1, 69, 42, 27, 182, 1, 50, 54, 7, 42, 182, 1, 53, 21, 4]
abbrev dktX6_evening_4 : List UInt8 := dkwX6_evening_4 ++ dktX6_evening_5
def dkwX6_evening_3 : List UInt8 := [42, 182, 1, 53, 42, 182, 1, 47, 42, 28, 182, 1, 69, 42, 27, 182, 1, 50, 2, 159, 0, 7, 4]
abbrev dktX6_evening_3 : List UInt8 := dkwX6_evening_3 ++ dktX6_evening_4
def dkwX6_evening_2 : List UInt8 := [159, 0, 7, 4, 167, 0, 4, 3, 54, 4, 42, 28, 29, 96, 182, 1, 69, 42, 27, 182, 1, 50, 54, 5]
abbrev dktX6_evening_2 : List UInt8 := dkwX6_evening_2 ++ dktX6_evening_3
def dkwX6_evening_1 : List UInt8 := [20, 1, 67, 184, 0, 88, 154, 0, 7, 19, 1, 83, 172, 42, 182, 1, 47, 42, 27, 182, 1, 50, 2]
abbrev dktX6_evening_1 : List UInt8 := dkwX6_evening_1 ++ dktX6_evening_2
def dkwX6_evening_0 : List UInt8 := [42, 27, 182, 1, 59, 153, 0, 27, 28, 133, 9, 20, 1, 87, 184, 0, 88, 153, 0, 15, 29, 133, 9]
abbrev dktX6_evening_0 : List UInt8 := dkwX6_evening_0 ++ dktX6_evening_1
theorem dksX6_evening_0 : cX6_evening.data.toList.drop 0 = dktX6_evening_0 := by decide +kernel
theorem dksX6_evening_1 : cX6_evening.data.toList.drop 23 = dktX6_evening_1 := dk_seg dksX6_evening_0 23 rfl rfl
theorem dksX6_evening_2 : cX6_evening.data.toList.drop 46 = dktX6_evening_2 := dk_seg dksX6_evening_1 23 rfl rfl
theorem dksX6_evening_3 : cX6_evening.data.toList.drop 70 = dktX6_evening_3 := dk_seg dksX6_evening_2 24 rfl rfl
theorem dksX6_evening_4 : cX6_evening.data.toList.drop 93 = dktX6_evening_4 := dk_seg dksX6_evening_3 23 rfl rfl
theorem dksX6_evening_5 : cX6_evening.data.toList.drop 117 = dktX6_evening_5 := dk_seg dksX6_evening_4 24 rfl rfl
theorem dksX6_evening_6 : cX6_evening.data.toList.drop 140 = dktX6_evening_6 := dk_seg dksX6_evening_5 23 rfl rfl
theorem dX6_evening_0 : decode cX6_evening 0 = .ok (.aload_n 0, 1) := dk_42 (dk_at dksX6_evening_0 0 rfl rfl)
theorem dX6_evening_1 : decode cX6_evening 1 = .ok (.iload_n 1, 1) := dk_27 (dk_at dksX6_evening_0 1 rfl rfl)
theorem dX6_evening_2 : decode cX6_evening 2 = .ok (.invokevirtual 315, 3) := dk_182 1 59 (dk_at dksX6_evening_0 2 rfl rfl)
theorem dX6_evening_5 : decode cX6_evening 5 = .ok (.ifCond .eq 27, 3) := dk_153 0 27 (dk_at dksX6_evening_0 5 rfl rfl)
theorem dX6_evening_8 : decode cX6_evening 8 = .ok (.iload_n 2, 1) := dk_28 (dk_at dksX6_evening_0 8 rfl rfl)
theorem dX6_evening_9 : decode cX6_evening 9 = .ok (.i2l, 1) := dk_133 (dk_at dksX6_evening_0 9 rfl rfl)
theorem dX6_evening_10 : decode cX6_evening 10 = .ok (.lconst 0, 1) := dk_9 (dk_at dksX6_evening_0 10 rfl rfl)
theorem dX6_evening_11 : decode cX6_evening 11 = .ok (.ldc2_w 343, 3) := dk_20 1 87 (dk_at dksX6_evening_0 11 rfl rfl)
theorem dX6_evening_14 : decode cX6_evening 14 = .ok (.invokestatic 88, 3) := dk_184 0 88 (dk_at dksX6_evening_0 14 rfl rfl)
theorem dX6_evening_17 : decode cX6_evening 17 = .ok (.ifCond .eq 15, 3) := dk_153 0 15 (dk_at dksX6_evening_0 17 rfl rfl)
theorem dX6_evening_20 : decode cX6_evening 20 = .ok (.iload_n 3, 1) := dk_29 (dk_at dksX6_evening_0 20 rfl rfl)
theorem dX6_evening_21 : decode cX6_evening 21 = .ok (.i2l, 1) := dk_133 (dk_at dksX6_evening_0 21 rfl rfl)
theorem dX6_evening_22 : decode cX6_evening 22 = .ok (.lconst 0, 1) := dk_9 (dk_at dksX6_evening_0 22 rfl rfl)
theorem dX6_evening_23 : decode cX6_evening 23 = .ok (.ldc2_w 323, 3) := dk_20 1 67 (dk_at dksX6_evening_1 0 rfl rfl)
theorem dX6_evening_26 : decode cX6_evening 26 = .ok (.invokestatic 88, 3) := dk_184 0 88 (dk_at dksX6_evening_1 3 rfl rfl)
theorem dX6_evening_29 : decode cX6_evening 29 = .ok (.ifCond .ne 7, 3) := dk_154 0 7 (dk_at dksX6_evening_1 6 rfl rfl)
theorem dX6_evening_32 : decode cX6_evening 32 = .ok (.ldc_w 339, 3) := dk_19 1 83 (dk_at dksX6_evening_1 9 rfl rfl)
theorem dX6_evening_35 : decode cX6_evening 35 = .ok (.ireturn, 1) := dk_172 (dk_at dksX6_evening_1 12 rfl rfl)
theorem dX6_evening_36 : decode cX6_evening 36 = .ok (.aload_n 0, 1) := dk_42 (dk_at dksX6_evening_1 13 rfl rfl)
theorem dX6_evening_37 : decode cX6_evening 37 = .ok (.invokevirtual 303, 3) := dk_182 1 47 (dk_at dksX6_evening_1 14 rfl rfl)
theorem dX6_evening_40 : decode cX6_evening 40 = .ok (.aload_n 0, 1) := dk_42 (dk_at dksX6_evening_1 17 rfl rfl)
theorem dX6_evening_41 : decode cX6_evening 41 = .ok (.iload_n 1, 1) := dk_27 (dk_at dksX6_evening_1 18 rfl rfl)
theorem dX6_evening_42 : decode cX6_evening 42 = .ok (.invokevirtual 306, 3) := dk_182 1 50 (dk_at dksX6_evening_1 19 rfl rfl)
theorem dX6_evening_45 : decode cX6_evening 45 = .ok (.iconst (-1), 1) := dk_2 (dk_at dksX6_evening_1 22 rfl rfl)
theorem dX6_evening_46 : decode cX6_evening 46 = .ok (.if_icmp .eq 7, 3) := dk_159 0 7 (dk_at dksX6_evening_2 0 rfl rfl)
theorem dX6_evening_49 : decode cX6_evening 49 = .ok (.iconst 1, 1) := dk_4 (dk_at dksX6_evening_2 3 rfl rfl)
theorem dX6_evening_50 : decode cX6_evening 50 = .ok (.goto 4, 3) := dk_167 0 4 (dk_at dksX6_evening_2 4 rfl rfl)
theorem dX6_evening_53 : decode cX6_evening 53 = .ok (.iconst 0, 1) := dk_3 (dk_at dksX6_evening_2 7 rfl rfl)
theorem dX6_evening_54 : decode cX6_evening 54 = .ok (.istore 4, 2) := dk_54 4 (dk_at dksX6_evening_2 8 rfl rfl)
theorem dX6_evening_56 : decode cX6_evening 56 = .ok (.aload_n 0, 1) := dk_42 (dk_at dksX6_evening_2 10 rfl rfl)
theorem dX6_evening_57 : decode cX6_evening 57 = .ok (.iload_n 2, 1) := dk_28 (dk_at dksX6_evening_2 11 rfl rfl)
theorem dX6_evening_58 : decode cX6_evening 58 = .ok (.iload_n 3, 1) := dk_29 (dk_at dksX6_evening_2 12 rfl rfl)
theorem dX6_evening_59 : decode cX6_evening 59 = .ok (.iadd, 1) := dk_96 (dk_at dksX6_evening_2 13 rfl rfl)
theorem dX6_evening_60 : decode cX6_evening 60 = .ok (.invokevirtual 325, 3) := dk_182 1 69 (dk_at dksX6_evening_2 14 rfl rfl)
theorem dX6_evening_63 : decode cX6_evening 63 = .ok (.aload_n 0, 1) := dk_42 (dk_at dksX6_evening_2 17 rfl rfl)
theorem dX6_evening_64 : decode cX6_evening 64 = .ok (.iload_n 1, 1) := dk_27 (dk_at dksX6_evening_2 18 rfl rfl)
theorem dX6_evening_65 : decode cX6_evening 65 = .ok (.invokevirtual 306, 3) := dk_182 1 50 (dk_at dksX6_evening_2 19 rfl rfl)
theorem dX6_evening_68 : decode cX6_evening 68 = .ok (.istore 5, 2) := dk_54 5 (dk_at dksX6_evening_2 22 rfl rfl)
theorem dX6_evening_70 : decode cX6_evening 70 = .ok (.aload_n 0, 1) := dk_42 (dk_at dksX6_evening_3 0 rfl rfl)
theorem dX6_evening_71 : decode cX6_evening 71 = .ok (.invokevirtual 309, 3) := dk_182 1 53 (dk_at dksX6_evening_3 1 rfl rfl)
theorem dX6_evening_74 : decode cX6_evening 74 = .ok (.aload_n 0, 1) := dk_42 (dk_at dksX6_evening_3 4 rfl rfl)
theorem dX6_evening_75 : decode cX6_evening 75 = .ok (.invokevirtual 303, 3) := dk_182 1 47 (dk_at dksX6_evening_3 5 rfl rfl)
theorem dX6_evening_78 : decode cX6_evening 78 = .ok (.aload_n 0, 1) := dk_42 (dk_at dksX6_evening_3 8 rfl rfl)
theorem dX6_evening_79 : decode cX6_evening 79 = .ok (.iload_n 2, 1) := dk_28 (dk_at dksX6_evening_3 9 rfl rfl)
theorem dX6_evening_80 : decode cX6_evening 80 = .ok (.invokevirtual 325, 3) := dk_182 1 69 (dk_at dksX6_evening_3 10 rfl rfl)
theorem dX6_evening_83 : decode cX6_evening 83 = .ok (.aload_n 0, 1) := dk_42 (dk_at dksX6_evening_3 13 rfl rfl)
theorem dX6_evening_84 : decode cX6_evening 84 = .ok (.iload_n 1, 1) := dk_27 (dk_at dksX6_evening_3 14 rfl rfl)
theorem dX6_evening_85 : decode cX6_evening 85 = .ok (.invokevirtual 306, 3) := dk_182 1 50 (dk_at dksX6_evening_3 15 rfl rfl)
theorem dX6_evening_88 : decode cX6_evening 88 = .ok (.iconst (-1), 1) := dk_2 (dk_at dksX6_evening_3 18 rfl rfl)
theorem dX6_evening_89 : decode cX6_evening 89 = .ok (.if_icmp .eq 7, 3) := dk_159 0 7 (dk_at dksX6_evening_3 19 rfl rfl)
theorem dX6_evening_92 : decode cX6_evening 92 = .ok (.iconst 1, 1) := dk_4 (dk_at dksX6_evening_3 22 rfl rfl)
theorem dX6_evening_93 : decode cX6_evening 93 = .ok (.goto 4, 3) := dk_167 0 4 (dk_at dksX6_evening_4 0 rfl rfl)
theorem dX6_evening_96 : decode cX6_evening 96 = .ok (.iconst 0, 1) := dk_3 (dk_at dksX6_evening_4 3 rfl rfl)
theorem dX6_evening_97 : decode cX6_evening 97 = .ok (.istore 6, 2) := dk_54 6 (dk_at dksX6_evening_4 4 rfl rfl)
theorem dX6_evening_99 : decode cX6_evening 99 = .ok (.aload_n 0, 1) := dk_42 (dk_at dksX6_evening_4 6 rfl rfl)
theorem dX6_evening_100 : decode cX6_evening 100 = .ok (.iload_n 3, 1) := dk_29 (dk_at dksX6_evening_4 7 rfl rfl)
theorem dX6_evening_101 : decode cX6_evening 101 = .ok (.invokevirtual 325, 3) := dk_182 1 69 (dk_at dksX6_evening_4 8 rfl rfl)
theorem dX6_evening_104 : decode cX6_evening 104 = .ok (.aload_n 0, 1) := dk_42 (dk_at dksX6_evening_4 11 rfl rfl)
theorem dX6_evening_105 : decode cX6_evening 105 = .ok (.iload_n 1, 1) := dk_27 (dk_at dksX6_evening_4 12 rfl rfl)
theorem dX6_evening_106 : decode cX6_evening 106 = .ok (.invokevirtual 306, 3) := dk_182 1 50 (dk_at dksX6_evening_4 13 rfl rfl)
theorem dX6_evening_109 : decode cX6_evening 109 = .ok (.istore 7, 2) := dk_54 7 (dk_at dksX6_evening_4 16 rfl rfl)
theorem dX6_evening_111 : decode cX6_evening 111 = .ok (.aload_n 0, 1) := dk_42 (dk_at dksX6_evening_4 18 rfl rfl)
theorem dX6_evening_112 : decode cX6_evening 112 = .ok (.invokevirtual 309, 3) := dk_182 1 53 (dk_at dksX6_evening_4 19 rfl rfl)
theorem dX6_evening_115 : decode cX6_evening 115 = .ok (.iload 4, 2) := dk_21 4 (dk_at dksX6_evening_4 22 rfl rfl)
theorem dX6_evening_117 : decode cX6_evening 117 = .ok (.ifCond .eq 20, 3) := dk_153 0 20 (dk_at dksX6_evening_5 0 rfl rfl)
theorem dX6_evening_120 : decode cX6_evening 120 = .ok (.iload 6, 2) := dk_21 6 (dk_at dksX6_evening_5 3 rfl rfl)
theorem dX6_evening_122 : decode cX6_evening 122 = .ok (.ifCond .eq 15, 3) := dk_153 0 15 (dk_at dksX6_evening_5 5 rfl rfl)
theorem dX6_evening_125 : decode cX6_evening 125 = .ok (.iload 5, 2) := dk_21 5 (dk_at dksX6_evening_5 8 rfl rfl)
theorem dX6_evening_127 : decode cX6_evening 127 = .ok (.iconst (-1), 1) := dk_2 (dk_at dksX6_evening_5 10 rfl rfl)
theorem dX6_evening_128 : decode cX6_evening 128 = .ok (.if_icmp .eq 9, 3) := dk_159 0 9 (dk_at dksX6_evening_5 11 rfl rfl)
theorem dX6_evening_131 : decode cX6_evening 131 = .ok (.iload 7, 2) := dk_21 7 (dk_at dksX6_evening_5 14 rfl rfl)
theorem dX6_evening_133 : decode cX6_evening 133 = .ok (.iconst (-1), 1) := dk_2 (dk_at dksX6_evening_5 16 rfl rfl)
theorem dX6_evening_134 : decode cX6_evening 134 = .ok (.if_icmp .ne 9, 3) := dk_160 0 9 (dk_at dksX6_evening_5 17 rfl rfl)
theorem dX6_evening_137 : decode cX6_evening 137 = .ok (.ldc_w 339, 3) := dk_19 1 83 (dk_at dksX6_evening_5 20 rfl rfl)
theorem dX6_evening_140 : decode cX6_evening 140 = .ok (.goto 8, 3) := dk_167 0 8 (dk_at dksX6_evening_6 0 rfl rfl)
theorem dX6_evening_143 : decode cX6_evening 143 = .ok (.iload 5, 2) := dk_21 5 (dk_at dksX6_evening_6 3 rfl rfl)
theorem dX6_evening_145 : decode cX6_evening 145 = .ok (.iload 7, 2) := dk_21 7 (dk_at dksX6_evening_6 5 rfl rfl)
theorem dX6_evening_147 : decode cX6_evening 147 = .ok (.isub, 1) := dk_100 (dk_at dksX6_evening_6 7 rfl rfl)
theorem dX6_evening_148 : decode cX6_evening 148 = .ok (.ireturn, 1) := dk_172 (dk_at dksX6_evening_6 8 rfl rfl)
abbrev cX6_spread : ByteArray := prog_18_method_68_code
def yX6_spread : MethodName := ⟨RX6, "spread", "(III)I"⟩
def dkwX6_spread_1 : List UInt8 := [182, 1, 89, 42, 180, 1, 92, 172]
abbrev dktX6_spread_1 : List UInt8 := dkwX6_spread_1 ++ []
def dkwX6_spread_0 : List UInt8 := [42, 27, 28, 29, 182, 1, 105, 154, 0, 5, 2, 172, 42, 2, 181, 1, 92, 42, 27, 28, 29, 3]
abbrev dktX6_spread_0 : List UInt8 := dkwX6_spread_0 ++ dktX6_spread_1
theorem dksX6_spread_0 : cX6_spread.data.toList.drop 0 = dktX6_spread_0 := by decide +kernel
theorem dksX6_spread_1 : cX6_spread.data.toList.drop 22 = dktX6_spread_1 := dk_seg dksX6_spread_0 22 rfl rfl
theorem dX6_spread_0 : decode cX6_spread 0 = .ok (.aload_n 0, 1) := dk_42 (dk_at dksX6_spread_0 0 rfl rfl)
theorem dX6_spread_1 : decode cX6_spread 1 = .ok (.iload_n 1, 1) := dk_27 (dk_at dksX6_spread_0 1 rfl rfl)
theorem dX6_spread_2 : decode cX6_spread 2 = .ok (.iload_n 2, 1) := dk_28 (dk_at dksX6_spread_0 2 rfl rfl)
theorem dX6_spread_3 : decode cX6_spread 3 = .ok (.iload_n 3, 1) := dk_29 (dk_at dksX6_spread_0 3 rfl rfl)
theorem dX6_spread_4 : decode cX6_spread 4 = .ok (.invokevirtual 361, 3) := dk_182 1 105 (dk_at dksX6_spread_0 4 rfl rfl)
theorem dX6_spread_7 : decode cX6_spread 7 = .ok (.ifCond .ne 5, 3) := dk_154 0 5 (dk_at dksX6_spread_0 7 rfl rfl)
theorem dX6_spread_10 : decode cX6_spread 10 = .ok (.iconst (-1), 1) := dk_2 (dk_at dksX6_spread_0 10 rfl rfl)
theorem dX6_spread_11 : decode cX6_spread 11 = .ok (.ireturn, 1) := dk_172 (dk_at dksX6_spread_0 11 rfl rfl)
theorem dX6_spread_12 : decode cX6_spread 12 = .ok (.aload_n 0, 1) := dk_42 (dk_at dksX6_spread_0 12 rfl rfl)
theorem dX6_spread_13 : decode cX6_spread 13 = .ok (.iconst (-1), 1) := dk_2 (dk_at dksX6_spread_0 13 rfl rfl)
theorem dX6_spread_14 : decode cX6_spread 14 = .ok (.putfield 348, 3) := dk_181 1 92 (dk_at dksX6_spread_0 14 rfl rfl)
theorem dX6_spread_17 : decode cX6_spread 17 = .ok (.aload_n 0, 1) := dk_42 (dk_at dksX6_spread_0 17 rfl rfl)
theorem dX6_spread_18 : decode cX6_spread 18 = .ok (.iload_n 1, 1) := dk_27 (dk_at dksX6_spread_0 18 rfl rfl)
theorem dX6_spread_19 : decode cX6_spread 19 = .ok (.iload_n 2, 1) := dk_28 (dk_at dksX6_spread_0 19 rfl rfl)
theorem dX6_spread_20 : decode cX6_spread 20 = .ok (.iload_n 3, 1) := dk_29 (dk_at dksX6_spread_0 20 rfl rfl)
theorem dX6_spread_21 : decode cX6_spread 21 = .ok (.iconst 0, 1) := dk_3 (dk_at dksX6_spread_0 21 rfl rfl)
theorem dX6_spread_22 : decode cX6_spread 22 = .ok (.invokevirtual 345, 3) := dk_182 1 89 (dk_at dksX6_spread_1 0 rfl rfl)
theorem dX6_spread_25 : decode cX6_spread 25 = .ok (.aload_n 0, 1) := dk_42 (dk_at dksX6_spread_1 3 rfl rfl)
theorem dX6_spread_26 : decode cX6_spread 26 = .ok (.getfield 348, 3) := dk_180 1 92 (dk_at dksX6_spread_1 4 rfl rfl)
theorem dX6_spread_29 : decode cX6_spread 29 = .ok (.ireturn, 1) := dk_172 (dk_at dksX6_spread_1 7 rfl rfl)
abbrev cX6_isPlan : ByteArray := prog_18_method_67_code
def yX6_isPlan : MethodName := ⟨RX6, "isPlan", "(III)Z"⟩
def dkwX6_isPlan_1 : List UInt8 := [20, 1, 103, 184, 0, 88, 153, 0, 7, 4, 167, 0, 4, 3, 172]
abbrev dktX6_isPlan_1 : List UInt8 := dkwX6_isPlan_1 ++ []
def dkwX6_isPlan_0 : List UInt8 := [42, 27, 182, 1, 59, 153, 0, 31, 28, 133, 10, 20, 1, 101, 184, 0, 88, 153, 0, 19, 29, 133, 10]
abbrev dktX6_isPlan_0 : List UInt8 := dkwX6_isPlan_0 ++ dktX6_isPlan_1
theorem dksX6_isPlan_0 : cX6_isPlan.data.toList.drop 0 = dktX6_isPlan_0 := by decide +kernel
theorem dksX6_isPlan_1 : cX6_isPlan.data.toList.drop 23 = dktX6_isPlan_1 := dk_seg dksX6_isPlan_0 23 rfl rfl
theorem dX6_isPlan_0 : decode cX6_isPlan 0 = .ok (.aload_n 0, 1) := dk_42 (dk_at dksX6_isPlan_0 0 rfl rfl)
theorem dX6_isPlan_1 : decode cX6_isPlan 1 = .ok (.iload_n 1, 1) := dk_27 (dk_at dksX6_isPlan_0 1 rfl rfl)
theorem dX6_isPlan_2 : decode cX6_isPlan 2 = .ok (.invokevirtual 315, 3) := dk_182 1 59 (dk_at dksX6_isPlan_0 2 rfl rfl)
theorem dX6_isPlan_5 : decode cX6_isPlan 5 = .ok (.ifCond .eq 31, 3) := dk_153 0 31 (dk_at dksX6_isPlan_0 5 rfl rfl)
theorem dX6_isPlan_8 : decode cX6_isPlan 8 = .ok (.iload_n 2, 1) := dk_28 (dk_at dksX6_isPlan_0 8 rfl rfl)
theorem dX6_isPlan_9 : decode cX6_isPlan 9 = .ok (.i2l, 1) := dk_133 (dk_at dksX6_isPlan_0 9 rfl rfl)
theorem dX6_isPlan_10 : decode cX6_isPlan 10 = .ok (.lconst 1, 1) := dk_10 (dk_at dksX6_isPlan_0 10 rfl rfl)
theorem dX6_isPlan_11 : decode cX6_isPlan 11 = .ok (.ldc2_w 357, 3) := dk_20 1 101 (dk_at dksX6_isPlan_0 11 rfl rfl)
theorem dX6_isPlan_14 : decode cX6_isPlan 14 = .ok (.invokestatic 88, 3) := dk_184 0 88 (dk_at dksX6_isPlan_0 14 rfl rfl)
theorem dX6_isPlan_17 : decode cX6_isPlan 17 = .ok (.ifCond .eq 19, 3) := dk_153 0 19 (dk_at dksX6_isPlan_0 17 rfl rfl)
theorem dX6_isPlan_20 : decode cX6_isPlan 20 = .ok (.iload_n 3, 1) := dk_29 (dk_at dksX6_isPlan_0 20 rfl rfl)
theorem dX6_isPlan_21 : decode cX6_isPlan 21 = .ok (.i2l, 1) := dk_133 (dk_at dksX6_isPlan_0 21 rfl rfl)
theorem dX6_isPlan_22 : decode cX6_isPlan 22 = .ok (.lconst 1, 1) := dk_10 (dk_at dksX6_isPlan_0 22 rfl rfl)
theorem dX6_isPlan_23 : decode cX6_isPlan 23 = .ok (.ldc2_w 359, 3) := dk_20 1 103 (dk_at dksX6_isPlan_1 0 rfl rfl)
theorem dX6_isPlan_26 : decode cX6_isPlan 26 = .ok (.invokestatic 88, 3) := dk_184 0 88 (dk_at dksX6_isPlan_1 3 rfl rfl)
theorem dX6_isPlan_29 : decode cX6_isPlan 29 = .ok (.ifCond .eq 7, 3) := dk_153 0 7 (dk_at dksX6_isPlan_1 6 rfl rfl)
theorem dX6_isPlan_32 : decode cX6_isPlan 32 = .ok (.iconst 1, 1) := dk_4 (dk_at dksX6_isPlan_1 9 rfl rfl)
theorem dX6_isPlan_33 : decode cX6_isPlan 33 = .ok (.goto 4, 3) := dk_167 0 4 (dk_at dksX6_isPlan_1 10 rfl rfl)
theorem dX6_isPlan_36 : decode cX6_isPlan 36 = .ok (.iconst 0, 1) := dk_3 (dk_at dksX6_isPlan_1 13 rfl rfl)
theorem dX6_isPlan_37 : decode cX6_isPlan 37 = .ok (.ireturn, 1) := dk_172 (dk_at dksX6_isPlan_1 14 rfl rfl)
abbrev cX6_plans : ByteArray := prog_18_method_66_code
def yX6_plans : MethodName := ⟨RX6, "plans", "(IIII)V"⟩
def dkwX6_plans_5 : List UInt8 := [42, 182, 1, 53, 132, 5, 255, 167, 255, 134, 177]
abbrev dktX6_plans_5 : List UInt8 := dkwX6_plans_5 ++ []
def dkwX6_plans_4 : List UInt8 := [164, 0, 24, 42, 16, 10, 21, 4, 104, 21, 5, 96, 181, 1, 92, 42, 42, 27, 182, 1, 95, 181, 1, 98]
abbrev dktX6_plans_4 : List UInt8 := dkwX6_plans_4 ++ dktX6_plans_5
def dkwX6_plans_3 : List UInt8 := [96, 182, 1, 89, 167, 0, 44, 42, 180, 1, 92, 2, 159, 0, 15, 42, 27, 182, 1, 95, 42, 180, 1, 98]
abbrev dktX6_plans_3 : List UInt8 := dkwX6_plans_3 ++ dktX6_plans_4
def dkwX6_plans_2 : List UInt8 := [182, 1, 69, 29, 4, 164, 0, 26, 42, 27, 28, 21, 5, 100, 29, 4, 100, 16, 10, 21, 4, 104, 21, 5]
abbrev dktX6_plans_2 : List UInt8 := dkwX6_plans_2 ++ dktX6_plans_3
def dkwX6_plans_1 : List UInt8 := [54, 6, 21, 6, 21, 5, 162, 0, 14, 42, 27, 182, 1, 38, 132, 6, 1, 167, 255, 241, 42, 16, 24]
abbrev dktX6_plans_1 : List UInt8 := dkwX6_plans_1 ++ dktX6_plans_2
def dkwX6_plans_0 : List UInt8 := [28, 54, 5, 21, 5, 29, 4, 160, 0, 7, 28, 167, 0, 4, 3, 161, 0, 113, 42, 182, 1, 47, 3]
abbrev dktX6_plans_0 : List UInt8 := dkwX6_plans_0 ++ dktX6_plans_1
theorem dksX6_plans_0 : cX6_plans.data.toList.drop 0 = dktX6_plans_0 := by decide +kernel
theorem dksX6_plans_1 : cX6_plans.data.toList.drop 23 = dktX6_plans_1 := dk_seg dksX6_plans_0 23 rfl rfl
theorem dksX6_plans_2 : cX6_plans.data.toList.drop 46 = dktX6_plans_2 := dk_seg dksX6_plans_1 23 rfl rfl
theorem dksX6_plans_3 : cX6_plans.data.toList.drop 70 = dktX6_plans_3 := dk_seg dksX6_plans_2 24 rfl rfl
theorem dksX6_plans_4 : cX6_plans.data.toList.drop 94 = dktX6_plans_4 := dk_seg dksX6_plans_3 24 rfl rfl
theorem dksX6_plans_5 : cX6_plans.data.toList.drop 118 = dktX6_plans_5 := dk_seg dksX6_plans_4 24 rfl rfl
theorem dX6_plans_0 : decode cX6_plans 0 = .ok (.iload_n 2, 1) := dk_28 (dk_at dksX6_plans_0 0 rfl rfl)
theorem dX6_plans_1 : decode cX6_plans 1 = .ok (.istore 5, 2) := dk_54 5 (dk_at dksX6_plans_0 1 rfl rfl)
theorem dX6_plans_3 : decode cX6_plans 3 = .ok (.iload 5, 2) := dk_21 5 (dk_at dksX6_plans_0 3 rfl rfl)
theorem dX6_plans_5 : decode cX6_plans 5 = .ok (.iload_n 3, 1) := dk_29 (dk_at dksX6_plans_0 5 rfl rfl)
theorem dX6_plans_6 : decode cX6_plans 6 = .ok (.iconst 1, 1) := dk_4 (dk_at dksX6_plans_0 6 rfl rfl)
theorem dX6_plans_7 : decode cX6_plans 7 = .ok (.if_icmp .ne 7, 3) := dk_160 0 7 (dk_at dksX6_plans_0 7 rfl rfl)
theorem dX6_plans_10 : decode cX6_plans 10 = .ok (.iload_n 2, 1) := dk_28 (dk_at dksX6_plans_0 10 rfl rfl)
theorem dX6_plans_11 : decode cX6_plans 11 = .ok (.goto 4, 3) := dk_167 0 4 (dk_at dksX6_plans_0 11 rfl rfl)
theorem dX6_plans_14 : decode cX6_plans 14 = .ok (.iconst 0, 1) := dk_3 (dk_at dksX6_plans_0 14 rfl rfl)
theorem dX6_plans_15 : decode cX6_plans 15 = .ok (.if_icmp .lt 113, 3) := dk_161 0 113 (dk_at dksX6_plans_0 15 rfl rfl)
theorem dX6_plans_18 : decode cX6_plans 18 = .ok (.aload_n 0, 1) := dk_42 (dk_at dksX6_plans_0 18 rfl rfl)
theorem dX6_plans_19 : decode cX6_plans 19 = .ok (.invokevirtual 303, 3) := dk_182 1 47 (dk_at dksX6_plans_0 19 rfl rfl)
theorem dX6_plans_22 : decode cX6_plans 22 = .ok (.iconst 0, 1) := dk_3 (dk_at dksX6_plans_0 22 rfl rfl)
theorem dX6_plans_23 : decode cX6_plans 23 = .ok (.istore 6, 2) := dk_54 6 (dk_at dksX6_plans_1 0 rfl rfl)
theorem dX6_plans_25 : decode cX6_plans 25 = .ok (.iload 6, 2) := dk_21 6 (dk_at dksX6_plans_1 2 rfl rfl)
theorem dX6_plans_27 : decode cX6_plans 27 = .ok (.iload 5, 2) := dk_21 5 (dk_at dksX6_plans_1 4 rfl rfl)
theorem dX6_plans_29 : decode cX6_plans 29 = .ok (.if_icmp .ge 14, 3) := dk_162 0 14 (dk_at dksX6_plans_1 6 rfl rfl)
theorem dX6_plans_32 : decode cX6_plans 32 = .ok (.aload_n 0, 1) := dk_42 (dk_at dksX6_plans_1 9 rfl rfl)
theorem dX6_plans_33 : decode cX6_plans 33 = .ok (.iload_n 1, 1) := dk_27 (dk_at dksX6_plans_1 10 rfl rfl)
theorem dX6_plans_34 : decode cX6_plans 34 = .ok (.invokevirtual 294, 3) := dk_182 1 38 (dk_at dksX6_plans_1 11 rfl rfl)
theorem dX6_plans_37 : decode cX6_plans 37 = .ok (.iinc 6 1, 3) := dk_132 6 1 (dk_at dksX6_plans_1 14 rfl rfl)
theorem dX6_plans_40 : decode cX6_plans 40 = .ok (.goto (-15), 3) := dk_167 255 241 (dk_at dksX6_plans_1 17 rfl rfl)
theorem dX6_plans_43 : decode cX6_plans 43 = .ok (.aload_n 0, 1) := dk_42 (dk_at dksX6_plans_1 20 rfl rfl)
theorem dX6_plans_44 : decode cX6_plans 44 = .ok (.bipush 24, 2) := dk_16 24 (dk_at dksX6_plans_1 21 rfl rfl)
theorem dX6_plans_46 : decode cX6_plans 46 = .ok (.invokevirtual 325, 3) := dk_182 1 69 (dk_at dksX6_plans_2 0 rfl rfl)
theorem dX6_plans_49 : decode cX6_plans 49 = .ok (.iload_n 3, 1) := dk_29 (dk_at dksX6_plans_2 3 rfl rfl)
theorem dX6_plans_50 : decode cX6_plans 50 = .ok (.iconst 1, 1) := dk_4 (dk_at dksX6_plans_2 4 rfl rfl)
theorem dX6_plans_51 : decode cX6_plans 51 = .ok (.if_icmp .le 26, 3) := dk_164 0 26 (dk_at dksX6_plans_2 5 rfl rfl)
theorem dX6_plans_54 : decode cX6_plans 54 = .ok (.aload_n 0, 1) := dk_42 (dk_at dksX6_plans_2 8 rfl rfl)
theorem dX6_plans_55 : decode cX6_plans 55 = .ok (.iload_n 1, 1) := dk_27 (dk_at dksX6_plans_2 9 rfl rfl)
theorem dX6_plans_56 : decode cX6_plans 56 = .ok (.iload_n 2, 1) := dk_28 (dk_at dksX6_plans_2 10 rfl rfl)
theorem dX6_plans_57 : decode cX6_plans 57 = .ok (.iload 5, 2) := dk_21 5 (dk_at dksX6_plans_2 11 rfl rfl)
theorem dX6_plans_59 : decode cX6_plans 59 = .ok (.isub, 1) := dk_100 (dk_at dksX6_plans_2 13 rfl rfl)
theorem dX6_plans_60 : decode cX6_plans 60 = .ok (.iload_n 3, 1) := dk_29 (dk_at dksX6_plans_2 14 rfl rfl)
theorem dX6_plans_61 : decode cX6_plans 61 = .ok (.iconst 1, 1) := dk_4 (dk_at dksX6_plans_2 15 rfl rfl)
theorem dX6_plans_62 : decode cX6_plans 62 = .ok (.isub, 1) := dk_100 (dk_at dksX6_plans_2 16 rfl rfl)
theorem dX6_plans_63 : decode cX6_plans 63 = .ok (.bipush 10, 2) := dk_16 10 (dk_at dksX6_plans_2 17 rfl rfl)
theorem dX6_plans_65 : decode cX6_plans 65 = .ok (.iload 4, 2) := dk_21 4 (dk_at dksX6_plans_2 19 rfl rfl)
theorem dX6_plans_67 : decode cX6_plans 67 = .ok (.imul, 1) := dk_104 (dk_at dksX6_plans_2 21 rfl rfl)
theorem dX6_plans_68 : decode cX6_plans 68 = .ok (.iload 5, 2) := dk_21 5 (dk_at dksX6_plans_2 22 rfl rfl)
theorem dX6_plans_70 : decode cX6_plans 70 = .ok (.iadd, 1) := dk_96 (dk_at dksX6_plans_3 0 rfl rfl)
theorem dX6_plans_71 : decode cX6_plans 71 = .ok (.invokevirtual 345, 3) := dk_182 1 89 (dk_at dksX6_plans_3 1 rfl rfl)
theorem dX6_plans_74 : decode cX6_plans 74 = .ok (.goto 44, 3) := dk_167 0 44 (dk_at dksX6_plans_3 4 rfl rfl)
theorem dX6_plans_77 : decode cX6_plans 77 = .ok (.aload_n 0, 1) := dk_42 (dk_at dksX6_plans_3 7 rfl rfl)
theorem dX6_plans_78 : decode cX6_plans 78 = .ok (.getfield 348, 3) := dk_180 1 92 (dk_at dksX6_plans_3 8 rfl rfl)
theorem dX6_plans_81 : decode cX6_plans 81 = .ok (.iconst (-1), 1) := dk_2 (dk_at dksX6_plans_3 11 rfl rfl)
theorem dX6_plans_82 : decode cX6_plans 82 = .ok (.if_icmp .eq 15, 3) := dk_159 0 15 (dk_at dksX6_plans_3 12 rfl rfl)
theorem dX6_plans_85 : decode cX6_plans 85 = .ok (.aload_n 0, 1) := dk_42 (dk_at dksX6_plans_3 15 rfl rfl)
theorem dX6_plans_86 : decode cX6_plans 86 = .ok (.iload_n 1, 1) := dk_27 (dk_at dksX6_plans_3 16 rfl rfl)
theorem dX6_plans_87 : decode cX6_plans 87 = .ok (.invokevirtual 351, 3) := dk_182 1 95 (dk_at dksX6_plans_3 17 rfl rfl)
theorem dX6_plans_90 : decode cX6_plans 90 = .ok (.aload_n 0, 1) := dk_42 (dk_at dksX6_plans_3 20 rfl rfl)
theorem dX6_plans_91 : decode cX6_plans 91 = .ok (.getfield 354, 3) := dk_180 1 98 (dk_at dksX6_plans_3 21 rfl rfl)
theorem dX6_plans_94 : decode cX6_plans 94 = .ok (.if_icmp .le 24, 3) := dk_164 0 24 (dk_at dksX6_plans_4 0 rfl rfl)
theorem dX6_plans_97 : decode cX6_plans 97 = .ok (.aload_n 0, 1) := dk_42 (dk_at dksX6_plans_4 3 rfl rfl)
theorem dX6_plans_98 : decode cX6_plans 98 = .ok (.bipush 10, 2) := dk_16 10 (dk_at dksX6_plans_4 4 rfl rfl)
theorem dX6_plans_100 : decode cX6_plans 100 = .ok (.iload 4, 2) := dk_21 4 (dk_at dksX6_plans_4 6 rfl rfl)
theorem dX6_plans_102 : decode cX6_plans 102 = .ok (.imul, 1) := dk_104 (dk_at dksX6_plans_4 8 rfl rfl)
theorem dX6_plans_103 : decode cX6_plans 103 = .ok (.iload 5, 2) := dk_21 5 (dk_at dksX6_plans_4 9 rfl rfl)
theorem dX6_plans_105 : decode cX6_plans 105 = .ok (.iadd, 1) := dk_96 (dk_at dksX6_plans_4 11 rfl rfl)
theorem dX6_plans_106 : decode cX6_plans 106 = .ok (.putfield 348, 3) := dk_181 1 92 (dk_at dksX6_plans_4 12 rfl rfl)
theorem dX6_plans_109 : decode cX6_plans 109 = .ok (.aload_n 0, 1) := dk_42 (dk_at dksX6_plans_4 15 rfl rfl)
theorem dX6_plans_110 : decode cX6_plans 110 = .ok (.aload_n 0, 1) := dk_42 (dk_at dksX6_plans_4 16 rfl rfl)
theorem dX6_plans_111 : decode cX6_plans 111 = .ok (.iload_n 1, 1) := dk_27 (dk_at dksX6_plans_4 17 rfl rfl)
theorem dX6_plans_112 : decode cX6_plans 112 = .ok (.invokevirtual 351, 3) := dk_182 1 95 (dk_at dksX6_plans_4 18 rfl rfl)
theorem dX6_plans_115 : decode cX6_plans 115 = .ok (.putfield 354, 3) := dk_181 1 98 (dk_at dksX6_plans_4 21 rfl rfl)
theorem dX6_plans_118 : decode cX6_plans 118 = .ok (.aload_n 0, 1) := dk_42 (dk_at dksX6_plans_5 0 rfl rfl)
theorem dX6_plans_119 : decode cX6_plans 119 = .ok (.invokevirtual 309, 3) := dk_182 1 53 (dk_at dksX6_plans_5 1 rfl rfl)
theorem dX6_plans_122 : decode cX6_plans 122 = .ok (.iinc 5 (-1), 3) := dk_132 5 255 (dk_at dksX6_plans_5 4 rfl rfl)
theorem dX6_plans_125 : decode cX6_plans 125 = .ok (.goto (-122), 3) := dk_167 255 134 (dk_at dksX6_plans_5 7 rfl rfl)
theorem dX6_plans_128 : decode cX6_plans 128 = .ok (.return_, 1) := dk_177 (dk_at dksX6_plans_5 10 rfl rfl)
abbrev cX6_leftOf : ByteArray := prog_18_method_65_code
def yX6_leftOf : MethodName := ⟨RX6, "leftOf", "(I)I"⟩
def dkwX6_leftOf_1 : List UInt8 := [132, 3, 1, 167, 255, 235, 28, 172]
abbrev dktX6_leftOf_1 : List UInt8 := dkwX6_leftOf_1 ++ []
def dkwX6_leftOf_0 : List UInt8 := [3, 61, 3, 62, 29, 42, 27, 182, 1, 22, 162, 0, 18, 28, 42, 27, 29, 182, 1, 35, 96, 61]
abbrev dktX6_leftOf_0 : List UInt8 := dkwX6_leftOf_0 ++ dktX6_leftOf_1
theorem dksX6_leftOf_0 : cX6_leftOf.data.toList.drop 0 = dktX6_leftOf_0 := by decide +kernel
theorem dksX6_leftOf_1 : cX6_leftOf.data.toList.drop 22 = dktX6_leftOf_1 := dk_seg dksX6_leftOf_0 22 rfl rfl
theorem dX6_leftOf_0 : decode cX6_leftOf 0 = .ok (.iconst 0, 1) := dk_3 (dk_at dksX6_leftOf_0 0 rfl rfl)
theorem dX6_leftOf_1 : decode cX6_leftOf 1 = .ok (.istore_n 2, 1) := dk_61 (dk_at dksX6_leftOf_0 1 rfl rfl)
theorem dX6_leftOf_2 : decode cX6_leftOf 2 = .ok (.iconst 0, 1) := dk_3 (dk_at dksX6_leftOf_0 2 rfl rfl)
theorem dX6_leftOf_3 : decode cX6_leftOf 3 = .ok (.istore_n 3, 1) := dk_62 (dk_at dksX6_leftOf_0 3 rfl rfl)
theorem dX6_leftOf_4 : decode cX6_leftOf 4 = .ok (.iload_n 3, 1) := dk_29 (dk_at dksX6_leftOf_0 4 rfl rfl)
theorem dX6_leftOf_5 : decode cX6_leftOf 5 = .ok (.aload_n 0, 1) := dk_42 (dk_at dksX6_leftOf_0 5 rfl rfl)
theorem dX6_leftOf_6 : decode cX6_leftOf 6 = .ok (.iload_n 1, 1) := dk_27 (dk_at dksX6_leftOf_0 6 rfl rfl)
theorem dX6_leftOf_7 : decode cX6_leftOf 7 = .ok (.invokevirtual 278, 3) := dk_182 1 22 (dk_at dksX6_leftOf_0 7 rfl rfl)
theorem dX6_leftOf_10 : decode cX6_leftOf 10 = .ok (.if_icmp .ge 18, 3) := dk_162 0 18 (dk_at dksX6_leftOf_0 10 rfl rfl)
theorem dX6_leftOf_13 : decode cX6_leftOf 13 = .ok (.iload_n 2, 1) := dk_28 (dk_at dksX6_leftOf_0 13 rfl rfl)
theorem dX6_leftOf_14 : decode cX6_leftOf 14 = .ok (.aload_n 0, 1) := dk_42 (dk_at dksX6_leftOf_0 14 rfl rfl)
theorem dX6_leftOf_15 : decode cX6_leftOf 15 = .ok (.iload_n 1, 1) := dk_27 (dk_at dksX6_leftOf_0 15 rfl rfl)
theorem dX6_leftOf_16 : decode cX6_leftOf 16 = .ok (.iload_n 3, 1) := dk_29 (dk_at dksX6_leftOf_0 16 rfl rfl)
theorem dX6_leftOf_17 : decode cX6_leftOf 17 = .ok (.invokevirtual 291, 3) := dk_182 1 35 (dk_at dksX6_leftOf_0 17 rfl rfl)
theorem dX6_leftOf_20 : decode cX6_leftOf 20 = .ok (.iadd, 1) := dk_96 (dk_at dksX6_leftOf_0 20 rfl rfl)
theorem dX6_leftOf_21 : decode cX6_leftOf 21 = .ok (.istore_n 2, 1) := dk_61 (dk_at dksX6_leftOf_0 21 rfl rfl)
theorem dX6_leftOf_22 : decode cX6_leftOf 22 = .ok (.iinc 3 1, 3) := dk_132 3 1 (dk_at dksX6_leftOf_1 0 rfl rfl)
theorem dX6_leftOf_25 : decode cX6_leftOf 25 = .ok (.goto (-21), 3) := dk_167 255 235 (dk_at dksX6_leftOf_1 3 rfl rfl)
theorem dX6_leftOf_28 : decode cX6_leftOf 28 = .ok (.iload_n 2, 1) := dk_28 (dk_at dksX6_leftOf_1 6 rfl rfl)
theorem dX6_leftOf_29 : decode cX6_leftOf 29 = .ok (.ireturn, 1) := dk_172 (dk_at dksX6_leftOf_1 7 rfl rfl)
abbrev cX6_left : ByteArray := prog_18_method_69_code
def yX6_left : MethodName := ⟨RX6, "left", "(IIII)I"⟩
def dkwX6_left_6 : List UInt8 := [21, 5, 172]
abbrev dktX6_left_6 : List UInt8 := dkwX6_left_6 ++ []
def dkwX6_left_5 : List UInt8 := [42, 16, 24, 182, 1, 69, 132, 5, 1, 167, 255, 182, 42, 27, 182, 1, 95, 54, 5, 42, 182, 1, 53]
abbrev dktX6_left_5 : List UInt8 := dkwX6_left_5 ++ dktX6_left_6
def dkwX6_left_4 : List UInt8 := [54, 7, 21, 7, 28, 162, 0, 19, 21, 6, 153, 0, 14, 42, 27, 182, 1, 38, 132, 7, 1, 167, 255, 237]
abbrev dktX6_left_4 : List UInt8 := dkwX6_left_4 ++ dktX6_left_5
def dkwX6_left_3 : List UInt8 := [4, 167, 0, 20, 3, 167, 0, 16, 21, 5, 29, 4, 100, 160, 0, 7, 4, 167, 0, 4, 3, 54, 6, 3]
abbrev dktX6_left_3 : List UInt8 := dkwX6_left_3 ++ dktX6_left_4
def dkwX6_left_2 : List UInt8 := [42, 182, 1, 47, 3, 54, 5, 21, 5, 29, 162, 0, 74, 21, 4, 4, 160, 0, 16, 21, 5, 154, 0, 7]
abbrev dktX6_left_2 : List UInt8 := dkwX6_left_2 ++ dktX6_left_3
def dkwX6_left_1 : List UInt8 := [172, 21, 4, 154, 0, 21, 42, 2, 181, 1, 92, 42, 27, 28, 29, 3, 182, 1, 89, 42, 180, 1, 98, 172]
abbrev dktX6_left_1 : List UInt8 := dkwX6_left_1 ++ dktX6_left_2
def dkwX6_left_0 : List UInt8 := [42, 27, 28, 29, 182, 1, 105, 153, 0, 16, 21, 4, 133, 9, 20, 0, 86, 184, 0, 88, 154, 0, 5, 2]
abbrev dktX6_left_0 : List UInt8 := dkwX6_left_0 ++ dktX6_left_1
theorem dksX6_left_0 : cX6_left.data.toList.drop 0 = dktX6_left_0 := by decide +kernel
theorem dksX6_left_1 : cX6_left.data.toList.drop 24 = dktX6_left_1 := dk_seg dksX6_left_0 24 rfl rfl
theorem dksX6_left_2 : cX6_left.data.toList.drop 48 = dktX6_left_2 := dk_seg dksX6_left_1 24 rfl rfl
theorem dksX6_left_3 : cX6_left.data.toList.drop 72 = dktX6_left_3 := dk_seg dksX6_left_2 24 rfl rfl
theorem dksX6_left_4 : cX6_left.data.toList.drop 96 = dktX6_left_4 := dk_seg dksX6_left_3 24 rfl rfl
theorem dksX6_left_5 : cX6_left.data.toList.drop 120 = dktX6_left_5 := dk_seg dksX6_left_4 24 rfl rfl
theorem dksX6_left_6 : cX6_left.data.toList.drop 143 = dktX6_left_6 := dk_seg dksX6_left_5 23 rfl rfl
theorem dX6_left_0 : decode cX6_left 0 = .ok (.aload_n 0, 1) := dk_42 (dk_at dksX6_left_0 0 rfl rfl)
theorem dX6_left_1 : decode cX6_left 1 = .ok (.iload_n 1, 1) := dk_27 (dk_at dksX6_left_0 1 rfl rfl)
theorem dX6_left_2 : decode cX6_left 2 = .ok (.iload_n 2, 1) := dk_28 (dk_at dksX6_left_0 2 rfl rfl)
theorem dX6_left_3 : decode cX6_left 3 = .ok (.iload_n 3, 1) := dk_29 (dk_at dksX6_left_0 3 rfl rfl)
theorem dX6_left_4 : decode cX6_left 4 = .ok (.invokevirtual 361, 3) := dk_182 1 105 (dk_at dksX6_left_0 4 rfl rfl)
theorem dX6_left_7 : decode cX6_left 7 = .ok (.ifCond .eq 16, 3) := dk_153 0 16 (dk_at dksX6_left_0 7 rfl rfl)
theorem dX6_left_10 : decode cX6_left 10 = .ok (.iload 4, 2) := dk_21 4 (dk_at dksX6_left_0 10 rfl rfl)
theorem dX6_left_12 : decode cX6_left 12 = .ok (.i2l, 1) := dk_133 (dk_at dksX6_left_0 12 rfl rfl)
theorem dX6_left_13 : decode cX6_left 13 = .ok (.lconst 0, 1) := dk_9 (dk_at dksX6_left_0 13 rfl rfl)
theorem dX6_left_14 : decode cX6_left 14 = .ok (.ldc2_w 86, 3) := dk_20 0 86 (dk_at dksX6_left_0 14 rfl rfl)
theorem dX6_left_17 : decode cX6_left 17 = .ok (.invokestatic 88, 3) := dk_184 0 88 (dk_at dksX6_left_0 17 rfl rfl)
theorem dX6_left_20 : decode cX6_left 20 = .ok (.ifCond .ne 5, 3) := dk_154 0 5 (dk_at dksX6_left_0 20 rfl rfl)
theorem dX6_left_23 : decode cX6_left 23 = .ok (.iconst (-1), 1) := dk_2 (dk_at dksX6_left_0 23 rfl rfl)
theorem dX6_left_24 : decode cX6_left 24 = .ok (.ireturn, 1) := dk_172 (dk_at dksX6_left_1 0 rfl rfl)
theorem dX6_left_25 : decode cX6_left 25 = .ok (.iload 4, 2) := dk_21 4 (dk_at dksX6_left_1 1 rfl rfl)
theorem dX6_left_27 : decode cX6_left 27 = .ok (.ifCond .ne 21, 3) := dk_154 0 21 (dk_at dksX6_left_1 3 rfl rfl)
theorem dX6_left_30 : decode cX6_left 30 = .ok (.aload_n 0, 1) := dk_42 (dk_at dksX6_left_1 6 rfl rfl)
theorem dX6_left_31 : decode cX6_left 31 = .ok (.iconst (-1), 1) := dk_2 (dk_at dksX6_left_1 7 rfl rfl)
theorem dX6_left_32 : decode cX6_left 32 = .ok (.putfield 348, 3) := dk_181 1 92 (dk_at dksX6_left_1 8 rfl rfl)
theorem dX6_left_35 : decode cX6_left 35 = .ok (.aload_n 0, 1) := dk_42 (dk_at dksX6_left_1 11 rfl rfl)
theorem dX6_left_36 : decode cX6_left 36 = .ok (.iload_n 1, 1) := dk_27 (dk_at dksX6_left_1 12 rfl rfl)
theorem dX6_left_37 : decode cX6_left 37 = .ok (.iload_n 2, 1) := dk_28 (dk_at dksX6_left_1 13 rfl rfl)
theorem dX6_left_38 : decode cX6_left 38 = .ok (.iload_n 3, 1) := dk_29 (dk_at dksX6_left_1 14 rfl rfl)
theorem dX6_left_39 : decode cX6_left 39 = .ok (.iconst 0, 1) := dk_3 (dk_at dksX6_left_1 15 rfl rfl)
theorem dX6_left_40 : decode cX6_left 40 = .ok (.invokevirtual 345, 3) := dk_182 1 89 (dk_at dksX6_left_1 16 rfl rfl)
theorem dX6_left_43 : decode cX6_left 43 = .ok (.aload_n 0, 1) := dk_42 (dk_at dksX6_left_1 19 rfl rfl)
theorem dX6_left_44 : decode cX6_left 44 = .ok (.getfield 354, 3) := dk_180 1 98 (dk_at dksX6_left_1 20 rfl rfl)
theorem dX6_left_47 : decode cX6_left 47 = .ok (.ireturn, 1) := dk_172 (dk_at dksX6_left_1 23 rfl rfl)
theorem dX6_left_48 : decode cX6_left 48 = .ok (.aload_n 0, 1) := dk_42 (dk_at dksX6_left_2 0 rfl rfl)
theorem dX6_left_49 : decode cX6_left 49 = .ok (.invokevirtual 303, 3) := dk_182 1 47 (dk_at dksX6_left_2 1 rfl rfl)
theorem dX6_left_52 : decode cX6_left 52 = .ok (.iconst 0, 1) := dk_3 (dk_at dksX6_left_2 4 rfl rfl)
theorem dX6_left_53 : decode cX6_left 53 = .ok (.istore 5, 2) := dk_54 5 (dk_at dksX6_left_2 5 rfl rfl)
theorem dX6_left_55 : decode cX6_left 55 = .ok (.iload 5, 2) := dk_21 5 (dk_at dksX6_left_2 7 rfl rfl)
theorem dX6_left_57 : decode cX6_left 57 = .ok (.iload_n 3, 1) := dk_29 (dk_at dksX6_left_2 9 rfl rfl)
theorem dX6_left_58 : decode cX6_left 58 = .ok (.if_icmp .ge 74, 3) := dk_162 0 74 (dk_at dksX6_left_2 10 rfl rfl)
theorem dX6_left_61 : decode cX6_left 61 = .ok (.iload 4, 2) := dk_21 4 (dk_at dksX6_left_2 13 rfl rfl)
theorem dX6_left_63 : decode cX6_left 63 = .ok (.iconst 1, 1) := dk_4 (dk_at dksX6_left_2 15 rfl rfl)
theorem dX6_left_64 : decode cX6_left 64 = .ok (.if_icmp .ne 16, 3) := dk_160 0 16 (dk_at dksX6_left_2 16 rfl rfl)
theorem dX6_left_67 : decode cX6_left 67 = .ok (.iload 5, 2) := dk_21 5 (dk_at dksX6_left_2 19 rfl rfl)
theorem dX6_left_69 : decode cX6_left 69 = .ok (.ifCond .ne 7, 3) := dk_154 0 7 (dk_at dksX6_left_2 21 rfl rfl)
theorem dX6_left_72 : decode cX6_left 72 = .ok (.iconst 1, 1) := dk_4 (dk_at dksX6_left_3 0 rfl rfl)
theorem dX6_left_73 : decode cX6_left 73 = .ok (.goto 20, 3) := dk_167 0 20 (dk_at dksX6_left_3 1 rfl rfl)
theorem dX6_left_76 : decode cX6_left 76 = .ok (.iconst 0, 1) := dk_3 (dk_at dksX6_left_3 4 rfl rfl)
theorem dX6_left_77 : decode cX6_left 77 = .ok (.goto 16, 3) := dk_167 0 16 (dk_at dksX6_left_3 5 rfl rfl)
theorem dX6_left_80 : decode cX6_left 80 = .ok (.iload 5, 2) := dk_21 5 (dk_at dksX6_left_3 8 rfl rfl)
theorem dX6_left_82 : decode cX6_left 82 = .ok (.iload_n 3, 1) := dk_29 (dk_at dksX6_left_3 10 rfl rfl)
theorem dX6_left_83 : decode cX6_left 83 = .ok (.iconst 1, 1) := dk_4 (dk_at dksX6_left_3 11 rfl rfl)
theorem dX6_left_84 : decode cX6_left 84 = .ok (.isub, 1) := dk_100 (dk_at dksX6_left_3 12 rfl rfl)
theorem dX6_left_85 : decode cX6_left 85 = .ok (.if_icmp .ne 7, 3) := dk_160 0 7 (dk_at dksX6_left_3 13 rfl rfl)
theorem dX6_left_88 : decode cX6_left 88 = .ok (.iconst 1, 1) := dk_4 (dk_at dksX6_left_3 16 rfl rfl)
theorem dX6_left_89 : decode cX6_left 89 = .ok (.goto 4, 3) := dk_167 0 4 (dk_at dksX6_left_3 17 rfl rfl)
theorem dX6_left_92 : decode cX6_left 92 = .ok (.iconst 0, 1) := dk_3 (dk_at dksX6_left_3 20 rfl rfl)
theorem dX6_left_93 : decode cX6_left 93 = .ok (.istore 6, 2) := dk_54 6 (dk_at dksX6_left_3 21 rfl rfl)
theorem dX6_left_95 : decode cX6_left 95 = .ok (.iconst 0, 1) := dk_3 (dk_at dksX6_left_3 23 rfl rfl)
theorem dX6_left_96 : decode cX6_left 96 = .ok (.istore 7, 2) := dk_54 7 (dk_at dksX6_left_4 0 rfl rfl)
theorem dX6_left_98 : decode cX6_left 98 = .ok (.iload 7, 2) := dk_21 7 (dk_at dksX6_left_4 2 rfl rfl)
theorem dX6_left_100 : decode cX6_left 100 = .ok (.iload_n 2, 1) := dk_28 (dk_at dksX6_left_4 4 rfl rfl)
theorem dX6_left_101 : decode cX6_left 101 = .ok (.if_icmp .ge 19, 3) := dk_162 0 19 (dk_at dksX6_left_4 5 rfl rfl)
theorem dX6_left_104 : decode cX6_left 104 = .ok (.iload 6, 2) := dk_21 6 (dk_at dksX6_left_4 8 rfl rfl)
theorem dX6_left_106 : decode cX6_left 106 = .ok (.ifCond .eq 14, 3) := dk_153 0 14 (dk_at dksX6_left_4 10 rfl rfl)
theorem dX6_left_109 : decode cX6_left 109 = .ok (.aload_n 0, 1) := dk_42 (dk_at dksX6_left_4 13 rfl rfl)
theorem dX6_left_110 : decode cX6_left 110 = .ok (.iload_n 1, 1) := dk_27 (dk_at dksX6_left_4 14 rfl rfl)
theorem dX6_left_111 : decode cX6_left 111 = .ok (.invokevirtual 294, 3) := dk_182 1 38 (dk_at dksX6_left_4 15 rfl rfl)
theorem dX6_left_114 : decode cX6_left 114 = .ok (.iinc 7 1, 3) := dk_132 7 1 (dk_at dksX6_left_4 18 rfl rfl)
theorem dX6_left_117 : decode cX6_left 117 = .ok (.goto (-19), 3) := dk_167 255 237 (dk_at dksX6_left_4 21 rfl rfl)
theorem dX6_left_120 : decode cX6_left 120 = .ok (.aload_n 0, 1) := dk_42 (dk_at dksX6_left_5 0 rfl rfl)
theorem dX6_left_121 : decode cX6_left 121 = .ok (.bipush 24, 2) := dk_16 24 (dk_at dksX6_left_5 1 rfl rfl)
theorem dX6_left_123 : decode cX6_left 123 = .ok (.invokevirtual 325, 3) := dk_182 1 69 (dk_at dksX6_left_5 3 rfl rfl)
theorem dX6_left_126 : decode cX6_left 126 = .ok (.iinc 5 1, 3) := dk_132 5 1 (dk_at dksX6_left_5 6 rfl rfl)
theorem dX6_left_129 : decode cX6_left 129 = .ok (.goto (-74), 3) := dk_167 255 182 (dk_at dksX6_left_5 9 rfl rfl)
theorem dX6_left_132 : decode cX6_left 132 = .ok (.aload_n 0, 1) := dk_42 (dk_at dksX6_left_5 12 rfl rfl)
theorem dX6_left_133 : decode cX6_left 133 = .ok (.iload_n 1, 1) := dk_27 (dk_at dksX6_left_5 13 rfl rfl)
theorem dX6_left_134 : decode cX6_left 134 = .ok (.invokevirtual 351, 3) := dk_182 1 95 (dk_at dksX6_left_5 14 rfl rfl)
theorem dX6_left_137 : decode cX6_left 137 = .ok (.istore 5, 2) := dk_54 5 (dk_at dksX6_left_5 17 rfl rfl)
theorem dX6_left_139 : decode cX6_left 139 = .ok (.aload_n 0, 1) := dk_42 (dk_at dksX6_left_5 19 rfl rfl)
theorem dX6_left_140 : decode cX6_left 140 = .ok (.invokevirtual 309, 3) := dk_182 1 53 (dk_at dksX6_left_5 20 rfl rfl)
theorem dX6_left_143 : decode cX6_left 143 = .ok (.iload 5, 2) := dk_21 5 (dk_at dksX6_left_6 0 rfl rfl)
theorem dX6_left_145 : decode cX6_left 145 = .ok (.ireturn, 1) := dk_172 (dk_at dksX6_left_6 2 rfl rfl)
abbrev cX6_shuffled : ByteArray := prog_18_method_71_code
def yX6_shuffled : MethodName := ⟨RX6, "shuffled", "(II)I"⟩
def dkwX6_shuffled_4 : List UInt8 := [42, 29, 182, 1, 109, 172]
abbrev dktX6_shuffled_4 : List UInt8 := dkwX6_shuffled_4 ++ []
def dkwX6_shuffled_3 : List UInt8 := [182, 1, 25, 79, 132, 3, 1, 21, 5, 28, 4, 96, 96, 54, 5, 167, 255, 222, 132, 4, 1, 167, 255, 206]
abbrev dktX6_shuffled_3 : List UInt8 := dkwX6_shuffled_3 ++ dktX6_shuffled_4
def dkwX6_shuffled_2 : List UInt8 := [21, 4, 54, 5, 21, 5, 42, 27, 182, 1, 22, 162, 0, 30, 42, 180, 0, 61, 29, 42, 27, 21, 5]
abbrev dktX6_shuffled_2 : List UInt8 := dkwX6_shuffled_2 ++ dktX6_shuffled_3
def dkwX6_shuffled_1 : List UInt8 := [180, 0, 13, 5, 46, 16, 12, 160, 0, 6, 16, 253, 172, 3, 62, 3, 54, 4, 21, 4, 28, 163, 0, 50]
abbrev dktX6_shuffled_1 : List UInt8 := dkwX6_shuffled_1 ++ dktX6_shuffled_2
def dkwX6_shuffled_0 : List UInt8 := [42, 27, 182, 1, 59, 153, 0, 15, 28, 133, 10, 20, 0, 251, 184, 0, 88, 154, 0, 6, 16, 254, 172, 42]
abbrev dktX6_shuffled_0 : List UInt8 := dkwX6_shuffled_0 ++ dktX6_shuffled_1
theorem dksX6_shuffled_0 : cX6_shuffled.data.toList.drop 0 = dktX6_shuffled_0 := by decide +kernel
theorem dksX6_shuffled_1 : cX6_shuffled.data.toList.drop 24 = dktX6_shuffled_1 := dk_seg dksX6_shuffled_0 24 rfl rfl
theorem dksX6_shuffled_2 : cX6_shuffled.data.toList.drop 48 = dktX6_shuffled_2 := dk_seg dksX6_shuffled_1 24 rfl rfl
theorem dksX6_shuffled_3 : cX6_shuffled.data.toList.drop 71 = dktX6_shuffled_3 := dk_seg dksX6_shuffled_2 23 rfl rfl
theorem dksX6_shuffled_4 : cX6_shuffled.data.toList.drop 95 = dktX6_shuffled_4 := dk_seg dksX6_shuffled_3 24 rfl rfl
theorem dX6_shuffled_0 : decode cX6_shuffled 0 = .ok (.aload_n 0, 1) := dk_42 (dk_at dksX6_shuffled_0 0 rfl rfl)
theorem dX6_shuffled_1 : decode cX6_shuffled 1 = .ok (.iload_n 1, 1) := dk_27 (dk_at dksX6_shuffled_0 1 rfl rfl)
theorem dX6_shuffled_2 : decode cX6_shuffled 2 = .ok (.invokevirtual 315, 3) := dk_182 1 59 (dk_at dksX6_shuffled_0 2 rfl rfl)
theorem dX6_shuffled_5 : decode cX6_shuffled 5 = .ok (.ifCond .eq 15, 3) := dk_153 0 15 (dk_at dksX6_shuffled_0 5 rfl rfl)
theorem dX6_shuffled_8 : decode cX6_shuffled 8 = .ok (.iload_n 2, 1) := dk_28 (dk_at dksX6_shuffled_0 8 rfl rfl)
theorem dX6_shuffled_9 : decode cX6_shuffled 9 = .ok (.i2l, 1) := dk_133 (dk_at dksX6_shuffled_0 9 rfl rfl)
theorem dX6_shuffled_10 : decode cX6_shuffled 10 = .ok (.lconst 1, 1) := dk_10 (dk_at dksX6_shuffled_0 10 rfl rfl)
theorem dX6_shuffled_11 : decode cX6_shuffled 11 = .ok (.ldc2_w 251, 3) := dk_20 0 251 (dk_at dksX6_shuffled_0 11 rfl rfl)
theorem dX6_shuffled_14 : decode cX6_shuffled 14 = .ok (.invokestatic 88, 3) := dk_184 0 88 (dk_at dksX6_shuffled_0 14 rfl rfl)
theorem dX6_shuffled_17 : decode cX6_shuffled 17 = .ok (.ifCond .ne 6, 3) := dk_154 0 6 (dk_at dksX6_shuffled_0 17 rfl rfl)
theorem dX6_shuffled_20 : decode cX6_shuffled 20 = .ok (.bipush (-2), 2) := dk_16 254 (dk_at dksX6_shuffled_0 20 rfl rfl)
theorem dX6_shuffled_22 : decode cX6_shuffled 22 = .ok (.ireturn, 1) := dk_172 (dk_at dksX6_shuffled_0 22 rfl rfl)
theorem dX6_shuffled_23 : decode cX6_shuffled 23 = .ok (.aload_n 0, 1) := dk_42 (dk_at dksX6_shuffled_0 23 rfl rfl)
theorem dX6_shuffled_24 : decode cX6_shuffled 24 = .ok (.getfield 13, 3) := dk_180 0 13 (dk_at dksX6_shuffled_1 0 rfl rfl)
theorem dX6_shuffled_27 : decode cX6_shuffled 27 = .ok (.iconst 2, 1) := dk_5 (dk_at dksX6_shuffled_1 3 rfl rfl)
theorem dX6_shuffled_28 : decode cX6_shuffled 28 = .ok (.iaload, 1) := dk_46 (dk_at dksX6_shuffled_1 4 rfl rfl)
theorem dX6_shuffled_29 : decode cX6_shuffled 29 = .ok (.bipush 12, 2) := dk_16 12 (dk_at dksX6_shuffled_1 5 rfl rfl)
theorem dX6_shuffled_31 : decode cX6_shuffled 31 = .ok (.if_icmp .ne 6, 3) := dk_160 0 6 (dk_at dksX6_shuffled_1 7 rfl rfl)
theorem dX6_shuffled_34 : decode cX6_shuffled 34 = .ok (.bipush (-3), 2) := dk_16 253 (dk_at dksX6_shuffled_1 10 rfl rfl)
theorem dX6_shuffled_36 : decode cX6_shuffled 36 = .ok (.ireturn, 1) := dk_172 (dk_at dksX6_shuffled_1 12 rfl rfl)
theorem dX6_shuffled_37 : decode cX6_shuffled 37 = .ok (.iconst 0, 1) := dk_3 (dk_at dksX6_shuffled_1 13 rfl rfl)
theorem dX6_shuffled_38 : decode cX6_shuffled 38 = .ok (.istore_n 3, 1) := dk_62 (dk_at dksX6_shuffled_1 14 rfl rfl)
theorem dX6_shuffled_39 : decode cX6_shuffled 39 = .ok (.iconst 0, 1) := dk_3 (dk_at dksX6_shuffled_1 15 rfl rfl)
theorem dX6_shuffled_40 : decode cX6_shuffled 40 = .ok (.istore 4, 2) := dk_54 4 (dk_at dksX6_shuffled_1 16 rfl rfl)
theorem dX6_shuffled_42 : decode cX6_shuffled 42 = .ok (.iload 4, 2) := dk_21 4 (dk_at dksX6_shuffled_1 18 rfl rfl)
theorem dX6_shuffled_44 : decode cX6_shuffled 44 = .ok (.iload_n 2, 1) := dk_28 (dk_at dksX6_shuffled_1 20 rfl rfl)
theorem dX6_shuffled_45 : decode cX6_shuffled 45 = .ok (.if_icmp .gt 50, 3) := dk_163 0 50 (dk_at dksX6_shuffled_1 21 rfl rfl)
theorem dX6_shuffled_48 : decode cX6_shuffled 48 = .ok (.iload 4, 2) := dk_21 4 (dk_at dksX6_shuffled_2 0 rfl rfl)
theorem dX6_shuffled_50 : decode cX6_shuffled 50 = .ok (.istore 5, 2) := dk_54 5 (dk_at dksX6_shuffled_2 2 rfl rfl)
theorem dX6_shuffled_52 : decode cX6_shuffled 52 = .ok (.iload 5, 2) := dk_21 5 (dk_at dksX6_shuffled_2 4 rfl rfl)
theorem dX6_shuffled_54 : decode cX6_shuffled 54 = .ok (.aload_n 0, 1) := dk_42 (dk_at dksX6_shuffled_2 6 rfl rfl)
theorem dX6_shuffled_55 : decode cX6_shuffled 55 = .ok (.iload_n 1, 1) := dk_27 (dk_at dksX6_shuffled_2 7 rfl rfl)
theorem dX6_shuffled_56 : decode cX6_shuffled 56 = .ok (.invokevirtual 278, 3) := dk_182 1 22 (dk_at dksX6_shuffled_2 8 rfl rfl)
theorem dX6_shuffled_59 : decode cX6_shuffled 59 = .ok (.if_icmp .ge 30, 3) := dk_162 0 30 (dk_at dksX6_shuffled_2 11 rfl rfl)
theorem dX6_shuffled_62 : decode cX6_shuffled 62 = .ok (.aload_n 0, 1) := dk_42 (dk_at dksX6_shuffled_2 14 rfl rfl)
theorem dX6_shuffled_63 : decode cX6_shuffled 63 = .ok (.getfield 61, 3) := dk_180 0 61 (dk_at dksX6_shuffled_2 15 rfl rfl)
theorem dX6_shuffled_66 : decode cX6_shuffled 66 = .ok (.iload_n 3, 1) := dk_29 (dk_at dksX6_shuffled_2 18 rfl rfl)
theorem dX6_shuffled_67 : decode cX6_shuffled 67 = .ok (.aload_n 0, 1) := dk_42 (dk_at dksX6_shuffled_2 19 rfl rfl)
theorem dX6_shuffled_68 : decode cX6_shuffled 68 = .ok (.iload_n 1, 1) := dk_27 (dk_at dksX6_shuffled_2 20 rfl rfl)
theorem dX6_shuffled_69 : decode cX6_shuffled 69 = .ok (.iload 5, 2) := dk_21 5 (dk_at dksX6_shuffled_2 21 rfl rfl)
theorem dX6_shuffled_71 : decode cX6_shuffled 71 = .ok (.invokevirtual 281, 3) := dk_182 1 25 (dk_at dksX6_shuffled_3 0 rfl rfl)
theorem dX6_shuffled_74 : decode cX6_shuffled 74 = .ok (.iastore, 1) := dk_79 (dk_at dksX6_shuffled_3 3 rfl rfl)
theorem dX6_shuffled_75 : decode cX6_shuffled 75 = .ok (.iinc 3 1, 3) := dk_132 3 1 (dk_at dksX6_shuffled_3 4 rfl rfl)
theorem dX6_shuffled_78 : decode cX6_shuffled 78 = .ok (.iload 5, 2) := dk_21 5 (dk_at dksX6_shuffled_3 7 rfl rfl)
theorem dX6_shuffled_80 : decode cX6_shuffled 80 = .ok (.iload_n 2, 1) := dk_28 (dk_at dksX6_shuffled_3 9 rfl rfl)
theorem dX6_shuffled_81 : decode cX6_shuffled 81 = .ok (.iconst 1, 1) := dk_4 (dk_at dksX6_shuffled_3 10 rfl rfl)
theorem dX6_shuffled_82 : decode cX6_shuffled 82 = .ok (.iadd, 1) := dk_96 (dk_at dksX6_shuffled_3 11 rfl rfl)
theorem dX6_shuffled_83 : decode cX6_shuffled 83 = .ok (.iadd, 1) := dk_96 (dk_at dksX6_shuffled_3 12 rfl rfl)
theorem dX6_shuffled_84 : decode cX6_shuffled 84 = .ok (.istore 5, 2) := dk_54 5 (dk_at dksX6_shuffled_3 13 rfl rfl)
theorem dX6_shuffled_86 : decode cX6_shuffled 86 = .ok (.goto (-34), 3) := dk_167 255 222 (dk_at dksX6_shuffled_3 15 rfl rfl)
theorem dX6_shuffled_89 : decode cX6_shuffled 89 = .ok (.iinc 4 1, 3) := dk_132 4 1 (dk_at dksX6_shuffled_3 18 rfl rfl)
theorem dX6_shuffled_92 : decode cX6_shuffled 92 = .ok (.goto (-50), 3) := dk_167 255 206 (dk_at dksX6_shuffled_3 21 rfl rfl)
theorem dX6_shuffled_95 : decode cX6_shuffled 95 = .ok (.aload_n 0, 1) := dk_42 (dk_at dksX6_shuffled_4 0 rfl rfl)
theorem dX6_shuffled_96 : decode cX6_shuffled 96 = .ok (.iload_n 3, 1) := dk_29 (dk_at dksX6_shuffled_4 1 rfl rfl)
theorem dX6_shuffled_97 : decode cX6_shuffled 97 = .ok (.invokevirtual 365, 3) := dk_182 1 109 (dk_at dksX6_shuffled_4 2 rfl rfl)
theorem dX6_shuffled_100 : decode cX6_shuffled 100 = .ok (.ireturn, 1) := dk_172 (dk_at dksX6_shuffled_4 5 rfl rfl)
abbrev cX6_makes : ByteArray := prog_18_method_70_code
def yX6_makes : MethodName := ⟨RX6, "makes", "(I)I"⟩
def dkwX6_makes_4 : List UInt8 := [172]
abbrev dktX6_makes_4 : List UInt8 := dkwX6_makes_4 ++ []
def dkwX6_makes_3 : List UInt8 := [180, 0, 61, 21, 4, 46, 79, 132, 4, 1, 167, 255, 229, 42, 180, 0, 13, 5, 92, 46, 4, 96, 79, 28]
abbrev dktX6_makes_3 : List UInt8 := dkwX6_makes_3 ++ dktX6_makes_4
def dkwX6_makes_2 : List UInt8 := [27, 79, 3, 54, 4, 21, 4, 27, 162, 0, 27, 42, 180, 0, 13, 29, 4, 96, 21, 4, 96, 42]
abbrev dktX6_makes_2 : List UInt8 := dkwX6_makes_2 ++ dktX6_makes_3
def dkwX6_makes_1 : List UInt8 := [162, 0, 19, 42, 180, 0, 13, 29, 21, 4, 96, 3, 79, 132, 4, 1, 167, 255, 236, 42, 180, 0, 13, 29]
abbrev dktX6_makes_1 : List UInt8 := dkwX6_makes_1 ++ dktX6_makes_2
def dkwX6_makes_0 : List UInt8 := [42, 180, 0, 13, 5, 46, 61, 16, 34, 16, 14, 28, 104, 96, 62, 3, 54, 4, 21, 4, 16, 14]
abbrev dktX6_makes_0 : List UInt8 := dkwX6_makes_0 ++ dktX6_makes_1
theorem dksX6_makes_0 : cX6_makes.data.toList.drop 0 = dktX6_makes_0 := by decide +kernel
theorem dksX6_makes_1 : cX6_makes.data.toList.drop 22 = dktX6_makes_1 := dk_seg dksX6_makes_0 22 rfl rfl
theorem dksX6_makes_2 : cX6_makes.data.toList.drop 46 = dktX6_makes_2 := dk_seg dksX6_makes_1 24 rfl rfl
theorem dksX6_makes_3 : cX6_makes.data.toList.drop 68 = dktX6_makes_3 := dk_seg dksX6_makes_2 22 rfl rfl
theorem dksX6_makes_4 : cX6_makes.data.toList.drop 92 = dktX6_makes_4 := dk_seg dksX6_makes_3 24 rfl rfl
theorem dX6_makes_0 : decode cX6_makes 0 = .ok (.aload_n 0, 1) := dk_42 (dk_at dksX6_makes_0 0 rfl rfl)
theorem dX6_makes_1 : decode cX6_makes 1 = .ok (.getfield 13, 3) := dk_180 0 13 (dk_at dksX6_makes_0 1 rfl rfl)
theorem dX6_makes_4 : decode cX6_makes 4 = .ok (.iconst 2, 1) := dk_5 (dk_at dksX6_makes_0 4 rfl rfl)
theorem dX6_makes_5 : decode cX6_makes 5 = .ok (.iaload, 1) := dk_46 (dk_at dksX6_makes_0 5 rfl rfl)
theorem dX6_makes_6 : decode cX6_makes 6 = .ok (.istore_n 2, 1) := dk_61 (dk_at dksX6_makes_0 6 rfl rfl)
theorem dX6_makes_7 : decode cX6_makes 7 = .ok (.bipush 34, 2) := dk_16 34 (dk_at dksX6_makes_0 7 rfl rfl)
theorem dX6_makes_9 : decode cX6_makes 9 = .ok (.bipush 14, 2) := dk_16 14 (dk_at dksX6_makes_0 9 rfl rfl)
theorem dX6_makes_11 : decode cX6_makes 11 = .ok (.iload_n 2, 1) := dk_28 (dk_at dksX6_makes_0 11 rfl rfl)
theorem dX6_makes_12 : decode cX6_makes 12 = .ok (.imul, 1) := dk_104 (dk_at dksX6_makes_0 12 rfl rfl)
theorem dX6_makes_13 : decode cX6_makes 13 = .ok (.iadd, 1) := dk_96 (dk_at dksX6_makes_0 13 rfl rfl)
theorem dX6_makes_14 : decode cX6_makes 14 = .ok (.istore_n 3, 1) := dk_62 (dk_at dksX6_makes_0 14 rfl rfl)
theorem dX6_makes_15 : decode cX6_makes 15 = .ok (.iconst 0, 1) := dk_3 (dk_at dksX6_makes_0 15 rfl rfl)
theorem dX6_makes_16 : decode cX6_makes 16 = .ok (.istore 4, 2) := dk_54 4 (dk_at dksX6_makes_0 16 rfl rfl)
theorem dX6_makes_18 : decode cX6_makes 18 = .ok (.iload 4, 2) := dk_21 4 (dk_at dksX6_makes_0 18 rfl rfl)
theorem dX6_makes_20 : decode cX6_makes 20 = .ok (.bipush 14, 2) := dk_16 14 (dk_at dksX6_makes_0 20 rfl rfl)
theorem dX6_makes_22 : decode cX6_makes 22 = .ok (.if_icmp .ge 19, 3) := dk_162 0 19 (dk_at dksX6_makes_1 0 rfl rfl)
theorem dX6_makes_25 : decode cX6_makes 25 = .ok (.aload_n 0, 1) := dk_42 (dk_at dksX6_makes_1 3 rfl rfl)
theorem dX6_makes_26 : decode cX6_makes 26 = .ok (.getfield 13, 3) := dk_180 0 13 (dk_at dksX6_makes_1 4 rfl rfl)
theorem dX6_makes_29 : decode cX6_makes 29 = .ok (.iload_n 3, 1) := dk_29 (dk_at dksX6_makes_1 7 rfl rfl)
theorem dX6_makes_30 : decode cX6_makes 30 = .ok (.iload 4, 2) := dk_21 4 (dk_at dksX6_makes_1 8 rfl rfl)
theorem dX6_makes_32 : decode cX6_makes 32 = .ok (.iadd, 1) := dk_96 (dk_at dksX6_makes_1 10 rfl rfl)
theorem dX6_makes_33 : decode cX6_makes 33 = .ok (.iconst 0, 1) := dk_3 (dk_at dksX6_makes_1 11 rfl rfl)
theorem dX6_makes_34 : decode cX6_makes 34 = .ok (.iastore, 1) := dk_79 (dk_at dksX6_makes_1 12 rfl rfl)
theorem dX6_makes_35 : decode cX6_makes 35 = .ok (.iinc 4 1, 3) := dk_132 4 1 (dk_at dksX6_makes_1 13 rfl rfl)
theorem dX6_makes_38 : decode cX6_makes 38 = .ok (.goto (-20), 3) := dk_167 255 236 (dk_at dksX6_makes_1 16 rfl rfl)
theorem dX6_makes_41 : decode cX6_makes 41 = .ok (.aload_n 0, 1) := dk_42 (dk_at dksX6_makes_1 19 rfl rfl)
theorem dX6_makes_42 : decode cX6_makes 42 = .ok (.getfield 13, 3) := dk_180 0 13 (dk_at dksX6_makes_1 20 rfl rfl)
theorem dX6_makes_45 : decode cX6_makes 45 = .ok (.iload_n 3, 1) := dk_29 (dk_at dksX6_makes_1 23 rfl rfl)
theorem dX6_makes_46 : decode cX6_makes 46 = .ok (.iload_n 1, 1) := dk_27 (dk_at dksX6_makes_2 0 rfl rfl)
theorem dX6_makes_47 : decode cX6_makes 47 = .ok (.iastore, 1) := dk_79 (dk_at dksX6_makes_2 1 rfl rfl)
theorem dX6_makes_48 : decode cX6_makes 48 = .ok (.iconst 0, 1) := dk_3 (dk_at dksX6_makes_2 2 rfl rfl)
theorem dX6_makes_49 : decode cX6_makes 49 = .ok (.istore 4, 2) := dk_54 4 (dk_at dksX6_makes_2 3 rfl rfl)
theorem dX6_makes_51 : decode cX6_makes 51 = .ok (.iload 4, 2) := dk_21 4 (dk_at dksX6_makes_2 5 rfl rfl)
theorem dX6_makes_53 : decode cX6_makes 53 = .ok (.iload_n 1, 1) := dk_27 (dk_at dksX6_makes_2 7 rfl rfl)
theorem dX6_makes_54 : decode cX6_makes 54 = .ok (.if_icmp .ge 27, 3) := dk_162 0 27 (dk_at dksX6_makes_2 8 rfl rfl)
theorem dX6_makes_57 : decode cX6_makes 57 = .ok (.aload_n 0, 1) := dk_42 (dk_at dksX6_makes_2 11 rfl rfl)
theorem dX6_makes_58 : decode cX6_makes 58 = .ok (.getfield 13, 3) := dk_180 0 13 (dk_at dksX6_makes_2 12 rfl rfl)
theorem dX6_makes_61 : decode cX6_makes 61 = .ok (.iload_n 3, 1) := dk_29 (dk_at dksX6_makes_2 15 rfl rfl)
theorem dX6_makes_62 : decode cX6_makes 62 = .ok (.iconst 1, 1) := dk_4 (dk_at dksX6_makes_2 16 rfl rfl)
theorem dX6_makes_63 : decode cX6_makes 63 = .ok (.iadd, 1) := dk_96 (dk_at dksX6_makes_2 17 rfl rfl)
theorem dX6_makes_64 : decode cX6_makes 64 = .ok (.iload 4, 2) := dk_21 4 (dk_at dksX6_makes_2 18 rfl rfl)
theorem dX6_makes_66 : decode cX6_makes 66 = .ok (.iadd, 1) := dk_96 (dk_at dksX6_makes_2 20 rfl rfl)
theorem dX6_makes_67 : decode cX6_makes 67 = .ok (.aload_n 0, 1) := dk_42 (dk_at dksX6_makes_2 21 rfl rfl)
theorem dX6_makes_68 : decode cX6_makes 68 = .ok (.getfield 61, 3) := dk_180 0 61 (dk_at dksX6_makes_3 0 rfl rfl)
theorem dX6_makes_71 : decode cX6_makes 71 = .ok (.iload 4, 2) := dk_21 4 (dk_at dksX6_makes_3 3 rfl rfl)
theorem dX6_makes_73 : decode cX6_makes 73 = .ok (.iaload, 1) := dk_46 (dk_at dksX6_makes_3 5 rfl rfl)
theorem dX6_makes_74 : decode cX6_makes 74 = .ok (.iastore, 1) := dk_79 (dk_at dksX6_makes_3 6 rfl rfl)
theorem dX6_makes_75 : decode cX6_makes 75 = .ok (.iinc 4 1, 3) := dk_132 4 1 (dk_at dksX6_makes_3 7 rfl rfl)
theorem dX6_makes_78 : decode cX6_makes 78 = .ok (.goto (-27), 3) := dk_167 255 229 (dk_at dksX6_makes_3 10 rfl rfl)
theorem dX6_makes_81 : decode cX6_makes 81 = .ok (.aload_n 0, 1) := dk_42 (dk_at dksX6_makes_3 13 rfl rfl)
theorem dX6_makes_82 : decode cX6_makes 82 = .ok (.getfield 13, 3) := dk_180 0 13 (dk_at dksX6_makes_3 14 rfl rfl)
theorem dX6_makes_85 : decode cX6_makes 85 = .ok (.iconst 2, 1) := dk_5 (dk_at dksX6_makes_3 17 rfl rfl)
theorem dX6_makes_86 : decode cX6_makes 86 = .ok (.dup2, 1) := dk_92 (dk_at dksX6_makes_3 18 rfl rfl)
theorem dX6_makes_87 : decode cX6_makes 87 = .ok (.iaload, 1) := dk_46 (dk_at dksX6_makes_3 19 rfl rfl)
theorem dX6_makes_88 : decode cX6_makes 88 = .ok (.iconst 1, 1) := dk_4 (dk_at dksX6_makes_3 20 rfl rfl)
theorem dX6_makes_89 : decode cX6_makes 89 = .ok (.iadd, 1) := dk_96 (dk_at dksX6_makes_3 21 rfl rfl)
theorem dX6_makes_90 : decode cX6_makes 90 = .ok (.iastore, 1) := dk_79 (dk_at dksX6_makes_3 22 rfl rfl)
theorem dX6_makes_91 : decode cX6_makes 91 = .ok (.iload_n 2, 1) := dk_28 (dk_at dksX6_makes_3 23 rfl rfl)
theorem dX6_makes_92 : decode cX6_makes 92 = .ok (.ireturn, 1) := dk_172 (dk_at dksX6_makes_4 0 rfl rfl)
abbrev cX6_backward : ByteArray := prog_18_method_72_code
def yX6_backward : MethodName := ⟨RX6, "backward", "(I)I"⟩
def dkwX6_backward_2 : List UInt8 := [29, 100, 182, 1, 25, 79, 132, 3, 1, 167, 255, 232, 42, 28, 182, 1, 109, 172]
abbrev dktX6_backward_2 : List UInt8 := dkwX6_backward_2 ++ []
def dkwX6_backward_1 : List UInt8 := [172, 42, 27, 182, 1, 22, 61, 3, 62, 29, 28, 162, 0, 25, 42, 180, 0, 61, 29, 42, 27, 28, 4, 100]
abbrev dktX6_backward_1 : List UInt8 := dkwX6_backward_1 ++ dktX6_backward_2
def dkwX6_backward_0 : List UInt8 := [42, 27, 182, 1, 59, 154, 0, 6, 16, 254, 172, 42, 180, 0, 13, 5, 46, 16, 12, 160, 0, 6, 16, 253]
abbrev dktX6_backward_0 : List UInt8 := dkwX6_backward_0 ++ dktX6_backward_1
theorem dksX6_backward_0 : cX6_backward.data.toList.drop 0 = dktX6_backward_0 := by decide +kernel
theorem dksX6_backward_1 : cX6_backward.data.toList.drop 24 = dktX6_backward_1 := dk_seg dksX6_backward_0 24 rfl rfl
theorem dksX6_backward_2 : cX6_backward.data.toList.drop 48 = dktX6_backward_2 := dk_seg dksX6_backward_1 24 rfl rfl
theorem dX6_backward_0 : decode cX6_backward 0 = .ok (.aload_n 0, 1) := dk_42 (dk_at dksX6_backward_0 0 rfl rfl)
theorem dX6_backward_1 : decode cX6_backward 1 = .ok (.iload_n 1, 1) := dk_27 (dk_at dksX6_backward_0 1 rfl rfl)
theorem dX6_backward_2 : decode cX6_backward 2 = .ok (.invokevirtual 315, 3) := dk_182 1 59 (dk_at dksX6_backward_0 2 rfl rfl)
theorem dX6_backward_5 : decode cX6_backward 5 = .ok (.ifCond .ne 6, 3) := dk_154 0 6 (dk_at dksX6_backward_0 5 rfl rfl)
theorem dX6_backward_8 : decode cX6_backward 8 = .ok (.bipush (-2), 2) := dk_16 254 (dk_at dksX6_backward_0 8 rfl rfl)
theorem dX6_backward_10 : decode cX6_backward 10 = .ok (.ireturn, 1) := dk_172 (dk_at dksX6_backward_0 10 rfl rfl)
theorem dX6_backward_11 : decode cX6_backward 11 = .ok (.aload_n 0, 1) := dk_42 (dk_at dksX6_backward_0 11 rfl rfl)
theorem dX6_backward_12 : decode cX6_backward 12 = .ok (.getfield 13, 3) := dk_180 0 13 (dk_at dksX6_backward_0 12 rfl rfl)
theorem dX6_backward_15 : decode cX6_backward 15 = .ok (.iconst 2, 1) := dk_5 (dk_at dksX6_backward_0 15 rfl rfl)
theorem dX6_backward_16 : decode cX6_backward 16 = .ok (.iaload, 1) := dk_46 (dk_at dksX6_backward_0 16 rfl rfl)
theorem dX6_backward_17 : decode cX6_backward 17 = .ok (.bipush 12, 2) := dk_16 12 (dk_at dksX6_backward_0 17 rfl rfl)
theorem dX6_backward_19 : decode cX6_backward 19 = .ok (.if_icmp .ne 6, 3) := dk_160 0 6 (dk_at dksX6_backward_0 19 rfl rfl)
theorem dX6_backward_22 : decode cX6_backward 22 = .ok (.bipush (-3), 2) := dk_16 253 (dk_at dksX6_backward_0 22 rfl rfl)
theorem dX6_backward_24 : decode cX6_backward 24 = .ok (.ireturn, 1) := dk_172 (dk_at dksX6_backward_1 0 rfl rfl)
theorem dX6_backward_25 : decode cX6_backward 25 = .ok (.aload_n 0, 1) := dk_42 (dk_at dksX6_backward_1 1 rfl rfl)
theorem dX6_backward_26 : decode cX6_backward 26 = .ok (.iload_n 1, 1) := dk_27 (dk_at dksX6_backward_1 2 rfl rfl)
theorem dX6_backward_27 : decode cX6_backward 27 = .ok (.invokevirtual 278, 3) := dk_182 1 22 (dk_at dksX6_backward_1 3 rfl rfl)
theorem dX6_backward_30 : decode cX6_backward 30 = .ok (.istore_n 2, 1) := dk_61 (dk_at dksX6_backward_1 6 rfl rfl)
theorem dX6_backward_31 : decode cX6_backward 31 = .ok (.iconst 0, 1) := dk_3 (dk_at dksX6_backward_1 7 rfl rfl)
theorem dX6_backward_32 : decode cX6_backward 32 = .ok (.istore_n 3, 1) := dk_62 (dk_at dksX6_backward_1 8 rfl rfl)
theorem dX6_backward_33 : decode cX6_backward 33 = .ok (.iload_n 3, 1) := dk_29 (dk_at dksX6_backward_1 9 rfl rfl)
theorem dX6_backward_34 : decode cX6_backward 34 = .ok (.iload_n 2, 1) := dk_28 (dk_at dksX6_backward_1 10 rfl rfl)
theorem dX6_backward_35 : decode cX6_backward 35 = .ok (.if_icmp .ge 25, 3) := dk_162 0 25 (dk_at dksX6_backward_1 11 rfl rfl)
theorem dX6_backward_38 : decode cX6_backward 38 = .ok (.aload_n 0, 1) := dk_42 (dk_at dksX6_backward_1 14 rfl rfl)
theorem dX6_backward_39 : decode cX6_backward 39 = .ok (.getfield 61, 3) := dk_180 0 61 (dk_at dksX6_backward_1 15 rfl rfl)
theorem dX6_backward_42 : decode cX6_backward 42 = .ok (.iload_n 3, 1) := dk_29 (dk_at dksX6_backward_1 18 rfl rfl)
theorem dX6_backward_43 : decode cX6_backward 43 = .ok (.aload_n 0, 1) := dk_42 (dk_at dksX6_backward_1 19 rfl rfl)
theorem dX6_backward_44 : decode cX6_backward 44 = .ok (.iload_n 1, 1) := dk_27 (dk_at dksX6_backward_1 20 rfl rfl)
theorem dX6_backward_45 : decode cX6_backward 45 = .ok (.iload_n 2, 1) := dk_28 (dk_at dksX6_backward_1 21 rfl rfl)
theorem dX6_backward_46 : decode cX6_backward 46 = .ok (.iconst 1, 1) := dk_4 (dk_at dksX6_backward_1 22 rfl rfl)
theorem dX6_backward_47 : decode cX6_backward 47 = .ok (.isub, 1) := dk_100 (dk_at dksX6_backward_1 23 rfl rfl)
theorem dX6_backward_48 : decode cX6_backward 48 = .ok (.iload_n 3, 1) := dk_29 (dk_at dksX6_backward_2 0 rfl rfl)
theorem dX6_backward_49 : decode cX6_backward 49 = .ok (.isub, 1) := dk_100 (dk_at dksX6_backward_2 1 rfl rfl)
theorem dX6_backward_50 : decode cX6_backward 50 = .ok (.invokevirtual 281, 3) := dk_182 1 25 (dk_at dksX6_backward_2 2 rfl rfl)
theorem dX6_backward_53 : decode cX6_backward 53 = .ok (.iastore, 1) := dk_79 (dk_at dksX6_backward_2 5 rfl rfl)
theorem dX6_backward_54 : decode cX6_backward 54 = .ok (.iinc 3 1, 3) := dk_132 3 1 (dk_at dksX6_backward_2 6 rfl rfl)
theorem dX6_backward_57 : decode cX6_backward 57 = .ok (.goto (-24), 3) := dk_167 255 232 (dk_at dksX6_backward_2 9 rfl rfl)
theorem dX6_backward_60 : decode cX6_backward 60 = .ok (.aload_n 0, 1) := dk_42 (dk_at dksX6_backward_2 12 rfl rfl)
theorem dX6_backward_61 : decode cX6_backward 61 = .ok (.iload_n 2, 1) := dk_28 (dk_at dksX6_backward_2 13 rfl rfl)
theorem dX6_backward_62 : decode cX6_backward 62 = .ok (.invokevirtual 365, 3) := dk_182 1 109 (dk_at dksX6_backward_2 14 rfl rfl)
theorem dX6_backward_65 : decode cX6_backward 65 = .ok (.ireturn, 1) := dk_172 (dk_at dksX6_backward_2 17 rfl rfl)
abbrev cX6_rowOf : ByteArray := prog_18_method_73_code
def yX6_rowOf : MethodName := ⟨RX6, "rowOf", "(I)I"⟩
def dkwX6_rowOf_8 : List UInt8 := [182, 1, 109, 172]
abbrev dktX6_rowOf_8 : List UInt8 := dkwX6_rowOf_8 ++ []
def dkwX6_rowOf_7 : List UInt8 := [16, 60, 27, 104, 28, 96, 47, 136, 79, 132, 2, 1, 167, 255, 225, 42, 42, 180, 0, 73, 27, 46]
abbrev dktX6_rowOf_7 : List UInt8 := dkwX6_rowOf_7 ++ dktX6_rowOf_8
def dkwX6_rowOf_6 : List UInt8 := [16, 253, 172, 3, 61, 28, 42, 180, 0, 73, 27, 46, 162, 0, 27, 42, 180, 0, 61, 28, 42, 180, 0, 79]
abbrev dktX6_rowOf_6 : List UInt8 := dkwX6_rowOf_6 ++ dktX6_rowOf_7
def dkwX6_rowOf_5 : List UInt8 := [132, 5, 1, 167, 255, 227, 132, 2, 1, 167, 255, 176, 42, 180, 0, 13, 5, 46, 16, 12, 160, 0, 6]
abbrev dktX6_rowOf_5 : List UInt8 := dkwX6_rowOf_5 ++ dktX6_rowOf_6
def dkwX6_rowOf_4 : List UInt8 := [162, 0, 29, 42, 180, 0, 79, 16, 60, 27, 104, 21, 5, 96, 47, 33, 148, 154, 0, 6, 16, 254, 172]
abbrev dktX6_rowOf_4 : List UInt8 := dkwX6_rowOf_4 ++ dktX6_rowOf_5
def dkwX6_rowOf_3 : List UInt8 := [180, 0, 13, 4, 46, 4, 100, 133, 184, 0, 88, 154, 0, 6, 16, 254, 172, 3, 54, 5, 21, 5, 28]
abbrev dktX6_rowOf_3 : List UInt8 := dkwX6_rowOf_3 ++ dktX6_rowOf_4
def dkwX6_rowOf_2 : List UInt8 := [42, 180, 0, 73, 27, 46, 162, 0, 76, 42, 180, 0, 79, 16, 60, 27, 104, 28, 96, 47, 66, 33, 9, 42]
abbrev dktX6_rowOf_2 : List UInt8 := dkwX6_rowOf_2 ++ dktX6_rowOf_3
def dkwX6_rowOf_1 : List UInt8 := [180, 0, 73, 27, 46, 133, 20, 0, 86, 20, 1, 115, 184, 0, 88, 154, 0, 6, 16, 254, 172, 3, 61, 28]
abbrev dktX6_rowOf_1 : List UInt8 := dkwX6_rowOf_1 ++ dktX6_rowOf_2
def dkwX6_rowOf_0 : List UInt8 := [27, 184, 1, 112, 154, 0, 6, 16, 254, 172, 42, 180, 0, 73, 27, 46, 2, 160, 0, 6, 16, 250, 172, 42]
abbrev dktX6_rowOf_0 : List UInt8 := dkwX6_rowOf_0 ++ dktX6_rowOf_1
theorem dksX6_rowOf_0 : cX6_rowOf.data.toList.drop 0 = dktX6_rowOf_0 := by decide +kernel
theorem dksX6_rowOf_1 : cX6_rowOf.data.toList.drop 24 = dktX6_rowOf_1 := dk_seg dksX6_rowOf_0 24 rfl rfl
theorem dksX6_rowOf_2 : cX6_rowOf.data.toList.drop 48 = dktX6_rowOf_2 := dk_seg dksX6_rowOf_1 24 rfl rfl
theorem dksX6_rowOf_3 : cX6_rowOf.data.toList.drop 72 = dktX6_rowOf_3 := dk_seg dksX6_rowOf_2 24 rfl rfl
theorem dksX6_rowOf_4 : cX6_rowOf.data.toList.drop 95 = dktX6_rowOf_4 := dk_seg dksX6_rowOf_3 23 rfl rfl
theorem dksX6_rowOf_5 : cX6_rowOf.data.toList.drop 118 = dktX6_rowOf_5 := dk_seg dksX6_rowOf_4 23 rfl rfl
theorem dksX6_rowOf_6 : cX6_rowOf.data.toList.drop 141 = dktX6_rowOf_6 := dk_seg dksX6_rowOf_5 23 rfl rfl
theorem dksX6_rowOf_7 : cX6_rowOf.data.toList.drop 165 = dktX6_rowOf_7 := dk_seg dksX6_rowOf_6 24 rfl rfl
theorem dksX6_rowOf_8 : cX6_rowOf.data.toList.drop 187 = dktX6_rowOf_8 := dk_seg dksX6_rowOf_7 22 rfl rfl
theorem dX6_rowOf_0 : decode cX6_rowOf 0 = .ok (.iload_n 1, 1) := dk_27 (dk_at dksX6_rowOf_0 0 rfl rfl)
theorem dX6_rowOf_1 : decode cX6_rowOf 1 = .ok (.invokestatic 368, 3) := dk_184 1 112 (dk_at dksX6_rowOf_0 1 rfl rfl)
theorem dX6_rowOf_4 : decode cX6_rowOf 4 = .ok (.ifCond .ne 6, 3) := dk_154 0 6 (dk_at dksX6_rowOf_0 4 rfl rfl)
theorem dX6_rowOf_7 : decode cX6_rowOf 7 = .ok (.bipush (-2), 2) := dk_16 254 (dk_at dksX6_rowOf_0 7 rfl rfl)
theorem dX6_rowOf_9 : decode cX6_rowOf 9 = .ok (.ireturn, 1) := dk_172 (dk_at dksX6_rowOf_0 9 rfl rfl)
theorem dX6_rowOf_10 : decode cX6_rowOf 10 = .ok (.aload_n 0, 1) := dk_42 (dk_at dksX6_rowOf_0 10 rfl rfl)
theorem dX6_rowOf_11 : decode cX6_rowOf 11 = .ok (.getfield 73, 3) := dk_180 0 73 (dk_at dksX6_rowOf_0 11 rfl rfl)
theorem dX6_rowOf_14 : decode cX6_rowOf 14 = .ok (.iload_n 1, 1) := dk_27 (dk_at dksX6_rowOf_0 14 rfl rfl)
theorem dX6_rowOf_15 : decode cX6_rowOf 15 = .ok (.iaload, 1) := dk_46 (dk_at dksX6_rowOf_0 15 rfl rfl)
theorem dX6_rowOf_16 : decode cX6_rowOf 16 = .ok (.iconst (-1), 1) := dk_2 (dk_at dksX6_rowOf_0 16 rfl rfl)
theorem dX6_rowOf_17 : decode cX6_rowOf 17 = .ok (.if_icmp .ne 6, 3) := dk_160 0 6 (dk_at dksX6_rowOf_0 17 rfl rfl)
theorem dX6_rowOf_20 : decode cX6_rowOf 20 = .ok (.bipush (-6), 2) := dk_16 250 (dk_at dksX6_rowOf_0 20 rfl rfl)
theorem dX6_rowOf_22 : decode cX6_rowOf 22 = .ok (.ireturn, 1) := dk_172 (dk_at dksX6_rowOf_0 22 rfl rfl)
theorem dX6_rowOf_23 : decode cX6_rowOf 23 = .ok (.aload_n 0, 1) := dk_42 (dk_at dksX6_rowOf_0 23 rfl rfl)
theorem dX6_rowOf_24 : decode cX6_rowOf 24 = .ok (.getfield 73, 3) := dk_180 0 73 (dk_at dksX6_rowOf_1 0 rfl rfl)
theorem dX6_rowOf_27 : decode cX6_rowOf 27 = .ok (.iload_n 1, 1) := dk_27 (dk_at dksX6_rowOf_1 3 rfl rfl)
theorem dX6_rowOf_28 : decode cX6_rowOf 28 = .ok (.iaload, 1) := dk_46 (dk_at dksX6_rowOf_1 4 rfl rfl)
theorem dX6_rowOf_29 : decode cX6_rowOf 29 = .ok (.i2l, 1) := dk_133 (dk_at dksX6_rowOf_1 5 rfl rfl)
theorem dX6_rowOf_30 : decode cX6_rowOf 30 = .ok (.ldc2_w 86, 3) := dk_20 0 86 (dk_at dksX6_rowOf_1 6 rfl rfl)
theorem dX6_rowOf_33 : decode cX6_rowOf 33 = .ok (.ldc2_w 371, 3) := dk_20 1 115 (dk_at dksX6_rowOf_1 9 rfl rfl)
theorem dX6_rowOf_36 : decode cX6_rowOf 36 = .ok (.invokestatic 88, 3) := dk_184 0 88 (dk_at dksX6_rowOf_1 12 rfl rfl)
theorem dX6_rowOf_39 : decode cX6_rowOf 39 = .ok (.ifCond .ne 6, 3) := dk_154 0 6 (dk_at dksX6_rowOf_1 15 rfl rfl)
theorem dX6_rowOf_42 : decode cX6_rowOf 42 = .ok (.bipush (-2), 2) := dk_16 254 (dk_at dksX6_rowOf_1 18 rfl rfl)
theorem dX6_rowOf_44 : decode cX6_rowOf 44 = .ok (.ireturn, 1) := dk_172 (dk_at dksX6_rowOf_1 20 rfl rfl)
theorem dX6_rowOf_45 : decode cX6_rowOf 45 = .ok (.iconst 0, 1) := dk_3 (dk_at dksX6_rowOf_1 21 rfl rfl)
theorem dX6_rowOf_46 : decode cX6_rowOf 46 = .ok (.istore_n 2, 1) := dk_61 (dk_at dksX6_rowOf_1 22 rfl rfl)
theorem dX6_rowOf_47 : decode cX6_rowOf 47 = .ok (.iload_n 2, 1) := dk_28 (dk_at dksX6_rowOf_1 23 rfl rfl)
theorem dX6_rowOf_48 : decode cX6_rowOf 48 = .ok (.aload_n 0, 1) := dk_42 (dk_at dksX6_rowOf_2 0 rfl rfl)
theorem dX6_rowOf_49 : decode cX6_rowOf 49 = .ok (.getfield 73, 3) := dk_180 0 73 (dk_at dksX6_rowOf_2 1 rfl rfl)
theorem dX6_rowOf_52 : decode cX6_rowOf 52 = .ok (.iload_n 1, 1) := dk_27 (dk_at dksX6_rowOf_2 4 rfl rfl)
theorem dX6_rowOf_53 : decode cX6_rowOf 53 = .ok (.iaload, 1) := dk_46 (dk_at dksX6_rowOf_2 5 rfl rfl)
theorem dX6_rowOf_54 : decode cX6_rowOf 54 = .ok (.if_icmp .ge 76, 3) := dk_162 0 76 (dk_at dksX6_rowOf_2 6 rfl rfl)
theorem dX6_rowOf_57 : decode cX6_rowOf 57 = .ok (.aload_n 0, 1) := dk_42 (dk_at dksX6_rowOf_2 9 rfl rfl)
theorem dX6_rowOf_58 : decode cX6_rowOf 58 = .ok (.getfield 79, 3) := dk_180 0 79 (dk_at dksX6_rowOf_2 10 rfl rfl)
theorem dX6_rowOf_61 : decode cX6_rowOf 61 = .ok (.bipush 60, 2) := dk_16 60 (dk_at dksX6_rowOf_2 13 rfl rfl)
theorem dX6_rowOf_63 : decode cX6_rowOf 63 = .ok (.iload_n 1, 1) := dk_27 (dk_at dksX6_rowOf_2 15 rfl rfl)
theorem dX6_rowOf_64 : decode cX6_rowOf 64 = .ok (.imul, 1) := dk_104 (dk_at dksX6_rowOf_2 16 rfl rfl)
theorem dX6_rowOf_65 : decode cX6_rowOf 65 = .ok (.iload_n 2, 1) := dk_28 (dk_at dksX6_rowOf_2 17 rfl rfl)
theorem dX6_rowOf_66 : decode cX6_rowOf 66 = .ok (.iadd, 1) := dk_96 (dk_at dksX6_rowOf_2 18 rfl rfl)
theorem dX6_rowOf_67 : decode cX6_rowOf 67 = .ok (.laload, 1) := dk_47 (dk_at dksX6_rowOf_2 19 rfl rfl)
theorem dX6_rowOf_68 : decode cX6_rowOf 68 = .ok (.lstore_n 3, 1) := dk_66 (dk_at dksX6_rowOf_2 20 rfl rfl)
theorem dX6_rowOf_69 : decode cX6_rowOf 69 = .ok (.lload_n 3, 1) := dk_33 (dk_at dksX6_rowOf_2 21 rfl rfl)
theorem dX6_rowOf_70 : decode cX6_rowOf 70 = .ok (.lconst 0, 1) := dk_9 (dk_at dksX6_rowOf_2 22 rfl rfl)
theorem dX6_rowOf_71 : decode cX6_rowOf 71 = .ok (.aload_n 0, 1) := dk_42 (dk_at dksX6_rowOf_2 23 rfl rfl)
theorem dX6_rowOf_72 : decode cX6_rowOf 72 = .ok (.getfield 13, 3) := dk_180 0 13 (dk_at dksX6_rowOf_3 0 rfl rfl)
theorem dX6_rowOf_75 : decode cX6_rowOf 75 = .ok (.iconst 1, 1) := dk_4 (dk_at dksX6_rowOf_3 3 rfl rfl)
theorem dX6_rowOf_76 : decode cX6_rowOf 76 = .ok (.iaload, 1) := dk_46 (dk_at dksX6_rowOf_3 4 rfl rfl)
theorem dX6_rowOf_77 : decode cX6_rowOf 77 = .ok (.iconst 1, 1) := dk_4 (dk_at dksX6_rowOf_3 5 rfl rfl)
theorem dX6_rowOf_78 : decode cX6_rowOf 78 = .ok (.isub, 1) := dk_100 (dk_at dksX6_rowOf_3 6 rfl rfl)
theorem dX6_rowOf_79 : decode cX6_rowOf 79 = .ok (.i2l, 1) := dk_133 (dk_at dksX6_rowOf_3 7 rfl rfl)
theorem dX6_rowOf_80 : decode cX6_rowOf 80 = .ok (.invokestatic 88, 3) := dk_184 0 88 (dk_at dksX6_rowOf_3 8 rfl rfl)
theorem dX6_rowOf_83 : decode cX6_rowOf 83 = .ok (.ifCond .ne 6, 3) := dk_154 0 6 (dk_at dksX6_rowOf_3 11 rfl rfl)
theorem dX6_rowOf_86 : decode cX6_rowOf 86 = .ok (.bipush (-2), 2) := dk_16 254 (dk_at dksX6_rowOf_3 14 rfl rfl)
theorem dX6_rowOf_88 : decode cX6_rowOf 88 = .ok (.ireturn, 1) := dk_172 (dk_at dksX6_rowOf_3 16 rfl rfl)
theorem dX6_rowOf_89 : decode cX6_rowOf 89 = .ok (.iconst 0, 1) := dk_3 (dk_at dksX6_rowOf_3 17 rfl rfl)
theorem dX6_rowOf_90 : decode cX6_rowOf 90 = .ok (.istore 5, 2) := dk_54 5 (dk_at dksX6_rowOf_3 18 rfl rfl)
theorem dX6_rowOf_92 : decode cX6_rowOf 92 = .ok (.iload 5, 2) := dk_21 5 (dk_at dksX6_rowOf_3 20 rfl rfl)
theorem dX6_rowOf_94 : decode cX6_rowOf 94 = .ok (.iload_n 2, 1) := dk_28 (dk_at dksX6_rowOf_3 22 rfl rfl)
theorem dX6_rowOf_95 : decode cX6_rowOf 95 = .ok (.if_icmp .ge 29, 3) := dk_162 0 29 (dk_at dksX6_rowOf_4 0 rfl rfl)
theorem dX6_rowOf_98 : decode cX6_rowOf 98 = .ok (.aload_n 0, 1) := dk_42 (dk_at dksX6_rowOf_4 3 rfl rfl)
theorem dX6_rowOf_99 : decode cX6_rowOf 99 = .ok (.getfield 79, 3) := dk_180 0 79 (dk_at dksX6_rowOf_4 4 rfl rfl)
theorem dX6_rowOf_102 : decode cX6_rowOf 102 = .ok (.bipush 60, 2) := dk_16 60 (dk_at dksX6_rowOf_4 7 rfl rfl)
theorem dX6_rowOf_104 : decode cX6_rowOf 104 = .ok (.iload_n 1, 1) := dk_27 (dk_at dksX6_rowOf_4 9 rfl rfl)
theorem dX6_rowOf_105 : decode cX6_rowOf 105 = .ok (.imul, 1) := dk_104 (dk_at dksX6_rowOf_4 10 rfl rfl)
theorem dX6_rowOf_106 : decode cX6_rowOf 106 = .ok (.iload 5, 2) := dk_21 5 (dk_at dksX6_rowOf_4 11 rfl rfl)
theorem dX6_rowOf_108 : decode cX6_rowOf 108 = .ok (.iadd, 1) := dk_96 (dk_at dksX6_rowOf_4 13 rfl rfl)
theorem dX6_rowOf_109 : decode cX6_rowOf 109 = .ok (.laload, 1) := dk_47 (dk_at dksX6_rowOf_4 14 rfl rfl)
theorem dX6_rowOf_110 : decode cX6_rowOf 110 = .ok (.lload_n 3, 1) := dk_33 (dk_at dksX6_rowOf_4 15 rfl rfl)
theorem dX6_rowOf_111 : decode cX6_rowOf 111 = .ok (.lcmp, 1) := dk_148 (dk_at dksX6_rowOf_4 16 rfl rfl)
theorem dX6_rowOf_112 : decode cX6_rowOf 112 = .ok (.ifCond .ne 6, 3) := dk_154 0 6 (dk_at dksX6_rowOf_4 17 rfl rfl)
theorem dX6_rowOf_115 : decode cX6_rowOf 115 = .ok (.bipush (-2), 2) := dk_16 254 (dk_at dksX6_rowOf_4 20 rfl rfl)
theorem dX6_rowOf_117 : decode cX6_rowOf 117 = .ok (.ireturn, 1) := dk_172 (dk_at dksX6_rowOf_4 22 rfl rfl)
theorem dX6_rowOf_118 : decode cX6_rowOf 118 = .ok (.iinc 5 1, 3) := dk_132 5 1 (dk_at dksX6_rowOf_5 0 rfl rfl)
theorem dX6_rowOf_121 : decode cX6_rowOf 121 = .ok (.goto (-29), 3) := dk_167 255 227 (dk_at dksX6_rowOf_5 3 rfl rfl)
theorem dX6_rowOf_124 : decode cX6_rowOf 124 = .ok (.iinc 2 1, 3) := dk_132 2 1 (dk_at dksX6_rowOf_5 6 rfl rfl)
theorem dX6_rowOf_127 : decode cX6_rowOf 127 = .ok (.goto (-80), 3) := dk_167 255 176 (dk_at dksX6_rowOf_5 9 rfl rfl)
theorem dX6_rowOf_130 : decode cX6_rowOf 130 = .ok (.aload_n 0, 1) := dk_42 (dk_at dksX6_rowOf_5 12 rfl rfl)
theorem dX6_rowOf_131 : decode cX6_rowOf 131 = .ok (.getfield 13, 3) := dk_180 0 13 (dk_at dksX6_rowOf_5 13 rfl rfl)
theorem dX6_rowOf_134 : decode cX6_rowOf 134 = .ok (.iconst 2, 1) := dk_5 (dk_at dksX6_rowOf_5 16 rfl rfl)
theorem dX6_rowOf_135 : decode cX6_rowOf 135 = .ok (.iaload, 1) := dk_46 (dk_at dksX6_rowOf_5 17 rfl rfl)
theorem dX6_rowOf_136 : decode cX6_rowOf 136 = .ok (.bipush 12, 2) := dk_16 12 (dk_at dksX6_rowOf_5 18 rfl rfl)
theorem dX6_rowOf_138 : decode cX6_rowOf 138 = .ok (.if_icmp .ne 6, 3) := dk_160 0 6 (dk_at dksX6_rowOf_5 20 rfl rfl)
theorem dX6_rowOf_141 : decode cX6_rowOf 141 = .ok (.bipush (-3), 2) := dk_16 253 (dk_at dksX6_rowOf_6 0 rfl rfl)
theorem dX6_rowOf_143 : decode cX6_rowOf 143 = .ok (.ireturn, 1) := dk_172 (dk_at dksX6_rowOf_6 2 rfl rfl)
theorem dX6_rowOf_144 : decode cX6_rowOf 144 = .ok (.iconst 0, 1) := dk_3 (dk_at dksX6_rowOf_6 3 rfl rfl)
theorem dX6_rowOf_145 : decode cX6_rowOf 145 = .ok (.istore_n 2, 1) := dk_61 (dk_at dksX6_rowOf_6 4 rfl rfl)
theorem dX6_rowOf_146 : decode cX6_rowOf 146 = .ok (.iload_n 2, 1) := dk_28 (dk_at dksX6_rowOf_6 5 rfl rfl)
theorem dX6_rowOf_147 : decode cX6_rowOf 147 = .ok (.aload_n 0, 1) := dk_42 (dk_at dksX6_rowOf_6 6 rfl rfl)
theorem dX6_rowOf_148 : decode cX6_rowOf 148 = .ok (.getfield 73, 3) := dk_180 0 73 (dk_at dksX6_rowOf_6 7 rfl rfl)
theorem dX6_rowOf_151 : decode cX6_rowOf 151 = .ok (.iload_n 1, 1) := dk_27 (dk_at dksX6_rowOf_6 10 rfl rfl)
theorem dX6_rowOf_152 : decode cX6_rowOf 152 = .ok (.iaload, 1) := dk_46 (dk_at dksX6_rowOf_6 11 rfl rfl)
theorem dX6_rowOf_153 : decode cX6_rowOf 153 = .ok (.if_icmp .ge 27, 3) := dk_162 0 27 (dk_at dksX6_rowOf_6 12 rfl rfl)
theorem dX6_rowOf_156 : decode cX6_rowOf 156 = .ok (.aload_n 0, 1) := dk_42 (dk_at dksX6_rowOf_6 15 rfl rfl)
theorem dX6_rowOf_157 : decode cX6_rowOf 157 = .ok (.getfield 61, 3) := dk_180 0 61 (dk_at dksX6_rowOf_6 16 rfl rfl)
theorem dX6_rowOf_160 : decode cX6_rowOf 160 = .ok (.iload_n 2, 1) := dk_28 (dk_at dksX6_rowOf_6 19 rfl rfl)
theorem dX6_rowOf_161 : decode cX6_rowOf 161 = .ok (.aload_n 0, 1) := dk_42 (dk_at dksX6_rowOf_6 20 rfl rfl)
theorem dX6_rowOf_162 : decode cX6_rowOf 162 = .ok (.getfield 79, 3) := dk_180 0 79 (dk_at dksX6_rowOf_6 21 rfl rfl)
theorem dX6_rowOf_165 : decode cX6_rowOf 165 = .ok (.bipush 60, 2) := dk_16 60 (dk_at dksX6_rowOf_7 0 rfl rfl)
theorem dX6_rowOf_167 : decode cX6_rowOf 167 = .ok (.iload_n 1, 1) := dk_27 (dk_at dksX6_rowOf_7 2 rfl rfl)
theorem dX6_rowOf_168 : decode cX6_rowOf 168 = .ok (.imul, 1) := dk_104 (dk_at dksX6_rowOf_7 3 rfl rfl)
theorem dX6_rowOf_169 : decode cX6_rowOf 169 = .ok (.iload_n 2, 1) := dk_28 (dk_at dksX6_rowOf_7 4 rfl rfl)
theorem dX6_rowOf_170 : decode cX6_rowOf 170 = .ok (.iadd, 1) := dk_96 (dk_at dksX6_rowOf_7 5 rfl rfl)
theorem dX6_rowOf_171 : decode cX6_rowOf 171 = .ok (.laload, 1) := dk_47 (dk_at dksX6_rowOf_7 6 rfl rfl)
theorem dX6_rowOf_172 : decode cX6_rowOf 172 = .ok (.l2i, 1) := dk_136 (dk_at dksX6_rowOf_7 7 rfl rfl)
theorem dX6_rowOf_173 : decode cX6_rowOf 173 = .ok (.iastore, 1) := dk_79 (dk_at dksX6_rowOf_7 8 rfl rfl)
theorem dX6_rowOf_174 : decode cX6_rowOf 174 = .ok (.iinc 2 1, 3) := dk_132 2 1 (dk_at dksX6_rowOf_7 9 rfl rfl)
theorem dX6_rowOf_177 : decode cX6_rowOf 177 = .ok (.goto (-31), 3) := dk_167 255 225 (dk_at dksX6_rowOf_7 12 rfl rfl)
theorem dX6_rowOf_180 : decode cX6_rowOf 180 = .ok (.aload_n 0, 1) := dk_42 (dk_at dksX6_rowOf_7 15 rfl rfl)
theorem dX6_rowOf_181 : decode cX6_rowOf 181 = .ok (.aload_n 0, 1) := dk_42 (dk_at dksX6_rowOf_7 16 rfl rfl)
theorem dX6_rowOf_182 : decode cX6_rowOf 182 = .ok (.getfield 73, 3) := dk_180 0 73 (dk_at dksX6_rowOf_7 17 rfl rfl)
theorem dX6_rowOf_185 : decode cX6_rowOf 185 = .ok (.iload_n 1, 1) := dk_27 (dk_at dksX6_rowOf_7 20 rfl rfl)
theorem dX6_rowOf_186 : decode cX6_rowOf 186 = .ok (.iaload, 1) := dk_46 (dk_at dksX6_rowOf_7 21 rfl rfl)
theorem dX6_rowOf_187 : decode cX6_rowOf 187 = .ok (.invokevirtual 365, 3) := dk_182 1 109 (dk_at dksX6_rowOf_8 0 rfl rfl)
theorem dX6_rowOf_190 : decode cX6_rowOf 190 = .ok (.ireturn, 1) := dk_172 (dk_at dksX6_rowOf_8 3 rfl rfl)
abbrev cX6_isSlot : ByteArray := prog_18_method_89_code
def yX6_isSlot : MethodName := ⟨RX6, "isSlot", "(I)Z"⟩
def dkwX6_isSlot_0 : List UInt8 := [26, 133, 9, 20, 0, 251, 184, 0, 88, 172]
abbrev dktX6_isSlot_0 : List UInt8 := dkwX6_isSlot_0 ++ []
theorem dksX6_isSlot_0 : cX6_isSlot.data.toList.drop 0 = dktX6_isSlot_0 := by decide +kernel
theorem dX6_isSlot_0 : decode cX6_isSlot 0 = .ok (.iload_n 0, 1) := dk_26 (dk_at dksX6_isSlot_0 0 rfl rfl)
theorem dX6_isSlot_1 : decode cX6_isSlot 1 = .ok (.i2l, 1) := dk_133 (dk_at dksX6_isSlot_0 1 rfl rfl)
theorem dX6_isSlot_2 : decode cX6_isSlot 2 = .ok (.lconst 0, 1) := dk_9 (dk_at dksX6_isSlot_0 2 rfl rfl)
theorem dX6_isSlot_3 : decode cX6_isSlot 3 = .ok (.ldc2_w 251, 3) := dk_20 0 251 (dk_at dksX6_isSlot_0 3 rfl rfl)
theorem dX6_isSlot_6 : decode cX6_isSlot 6 = .ok (.invokestatic 88, 3) := dk_184 0 88 (dk_at dksX6_isSlot_0 6 rfl rfl)
theorem dX6_isSlot_9 : decode cX6_isSlot 9 = .ok (.ireturn, 1) := dk_172 (dk_at dksX6_isSlot_0 9 rfl rfl)
abbrev cX6_thing : ByteArray := prog_18_method_74_code
def yX6_thing : MethodName := ⟨RX6, "thing", "(II)I"⟩
def dkwX6_thing_1 : List UInt8 := [184, 0, 88, 153, 0, 12, 42, 27, 28, 182, 1, 25, 167, 0, 4, 2, 172]
abbrev dktX6_thing_1 : List UInt8 := dkwX6_thing_1 ++ []
def dkwX6_thing_0 : List UInt8 := [42, 27, 182, 1, 59, 154, 0, 6, 16, 254, 172, 28, 133, 9, 42, 27, 182, 1, 22, 4, 100, 133]
abbrev dktX6_thing_0 : List UInt8 := dkwX6_thing_0 ++ dktX6_thing_1
theorem dksX6_thing_0 : cX6_thing.data.toList.drop 0 = dktX6_thing_0 := by decide +kernel
theorem dksX6_thing_1 : cX6_thing.data.toList.drop 22 = dktX6_thing_1 := dk_seg dksX6_thing_0 22 rfl rfl
theorem dX6_thing_0 : decode cX6_thing 0 = .ok (.aload_n 0, 1) := dk_42 (dk_at dksX6_thing_0 0 rfl rfl)
theorem dX6_thing_1 : decode cX6_thing 1 = .ok (.iload_n 1, 1) := dk_27 (dk_at dksX6_thing_0 1 rfl rfl)
theorem dX6_thing_2 : decode cX6_thing 2 = .ok (.invokevirtual 315, 3) := dk_182 1 59 (dk_at dksX6_thing_0 2 rfl rfl)
theorem dX6_thing_5 : decode cX6_thing 5 = .ok (.ifCond .ne 6, 3) := dk_154 0 6 (dk_at dksX6_thing_0 5 rfl rfl)
theorem dX6_thing_8 : decode cX6_thing 8 = .ok (.bipush (-2), 2) := dk_16 254 (dk_at dksX6_thing_0 8 rfl rfl)
theorem dX6_thing_10 : decode cX6_thing 10 = .ok (.ireturn, 1) := dk_172 (dk_at dksX6_thing_0 10 rfl rfl)
theorem dX6_thing_11 : decode cX6_thing 11 = .ok (.iload_n 2, 1) := dk_28 (dk_at dksX6_thing_0 11 rfl rfl)
theorem dX6_thing_12 : decode cX6_thing 12 = .ok (.i2l, 1) := dk_133 (dk_at dksX6_thing_0 12 rfl rfl)
theorem dX6_thing_13 : decode cX6_thing 13 = .ok (.lconst 0, 1) := dk_9 (dk_at dksX6_thing_0 13 rfl rfl)
theorem dX6_thing_14 : decode cX6_thing 14 = .ok (.aload_n 0, 1) := dk_42 (dk_at dksX6_thing_0 14 rfl rfl)
theorem dX6_thing_15 : decode cX6_thing 15 = .ok (.iload_n 1, 1) := dk_27 (dk_at dksX6_thing_0 15 rfl rfl)
theorem dX6_thing_16 : decode cX6_thing 16 = .ok (.invokevirtual 278, 3) := dk_182 1 22 (dk_at dksX6_thing_0 16 rfl rfl)
theorem dX6_thing_19 : decode cX6_thing 19 = .ok (.iconst 1, 1) := dk_4 (dk_at dksX6_thing_0 19 rfl rfl)
theorem dX6_thing_20 : decode cX6_thing 20 = .ok (.isub, 1) := dk_100 (dk_at dksX6_thing_0 20 rfl rfl)
theorem dX6_thing_21 : decode cX6_thing 21 = .ok (.i2l, 1) := dk_133 (dk_at dksX6_thing_0 21 rfl rfl)
theorem dX6_thing_22 : decode cX6_thing 22 = .ok (.invokestatic 88, 3) := dk_184 0 88 (dk_at dksX6_thing_1 0 rfl rfl)
theorem dX6_thing_25 : decode cX6_thing 25 = .ok (.ifCond .eq 12, 3) := dk_153 0 12 (dk_at dksX6_thing_1 3 rfl rfl)
theorem dX6_thing_28 : decode cX6_thing 28 = .ok (.aload_n 0, 1) := dk_42 (dk_at dksX6_thing_1 6 rfl rfl)
theorem dX6_thing_29 : decode cX6_thing 29 = .ok (.iload_n 1, 1) := dk_27 (dk_at dksX6_thing_1 7 rfl rfl)
theorem dX6_thing_30 : decode cX6_thing 30 = .ok (.iload_n 2, 1) := dk_28 (dk_at dksX6_thing_1 8 rfl rfl)
theorem dX6_thing_31 : decode cX6_thing 31 = .ok (.invokevirtual 281, 3) := dk_182 1 25 (dk_at dksX6_thing_1 9 rfl rfl)
theorem dX6_thing_34 : decode cX6_thing 34 = .ok (.goto 4, 3) := dk_167 0 4 (dk_at dksX6_thing_1 12 rfl rfl)
theorem dX6_thing_37 : decode cX6_thing 37 = .ok (.iconst (-1), 1) := dk_2 (dk_at dksX6_thing_1 15 rfl rfl)
theorem dX6_thing_38 : decode cX6_thing 38 = .ok (.ireturn, 1) := dk_172 (dk_at dksX6_thing_1 16 rfl rfl)
abbrev cX6_used : ByteArray := prog_18_method_75_code
def yX6_used : MethodName := ⟨RX6, "used", "(I)I"⟩
def dkwX6_used_1 : List UInt8 := [46, 167, 0, 5, 16, 254, 172]
abbrev dktX6_used_1 : List UInt8 := dkwX6_used_1 ++ []
def dkwX6_used_0 : List UInt8 := [42, 27, 182, 1, 59, 153, 0, 23, 42, 180, 0, 13, 16, 34, 16, 14, 27, 104, 96, 4, 96, 16, 12, 96]
abbrev dktX6_used_0 : List UInt8 := dkwX6_used_0 ++ dktX6_used_1
theorem dksX6_used_0 : cX6_used.data.toList.drop 0 = dktX6_used_0 := by decide +kernel
theorem dksX6_used_1 : cX6_used.data.toList.drop 24 = dktX6_used_1 := dk_seg dksX6_used_0 24 rfl rfl
theorem dX6_used_0 : decode cX6_used 0 = .ok (.aload_n 0, 1) := dk_42 (dk_at dksX6_used_0 0 rfl rfl)
theorem dX6_used_1 : decode cX6_used 1 = .ok (.iload_n 1, 1) := dk_27 (dk_at dksX6_used_0 1 rfl rfl)
theorem dX6_used_2 : decode cX6_used 2 = .ok (.invokevirtual 315, 3) := dk_182 1 59 (dk_at dksX6_used_0 2 rfl rfl)
theorem dX6_used_5 : decode cX6_used 5 = .ok (.ifCond .eq 23, 3) := dk_153 0 23 (dk_at dksX6_used_0 5 rfl rfl)
theorem dX6_used_8 : decode cX6_used 8 = .ok (.aload_n 0, 1) := dk_42 (dk_at dksX6_used_0 8 rfl rfl)
theorem dX6_used_9 : decode cX6_used 9 = .ok (.getfield 13, 3) := dk_180 0 13 (dk_at dksX6_used_0 9 rfl rfl)
theorem dX6_used_12 : decode cX6_used 12 = .ok (.bipush 34, 2) := dk_16 34 (dk_at dksX6_used_0 12 rfl rfl)
theorem dX6_used_14 : decode cX6_used 14 = .ok (.bipush 14, 2) := dk_16 14 (dk_at dksX6_used_0 14 rfl rfl)
theorem dX6_used_16 : decode cX6_used 16 = .ok (.iload_n 1, 1) := dk_27 (dk_at dksX6_used_0 16 rfl rfl)
theorem dX6_used_17 : decode cX6_used 17 = .ok (.imul, 1) := dk_104 (dk_at dksX6_used_0 17 rfl rfl)
theorem dX6_used_18 : decode cX6_used 18 = .ok (.iadd, 1) := dk_96 (dk_at dksX6_used_0 18 rfl rfl)
theorem dX6_used_19 : decode cX6_used 19 = .ok (.iconst 1, 1) := dk_4 (dk_at dksX6_used_0 19 rfl rfl)
theorem dX6_used_20 : decode cX6_used 20 = .ok (.iadd, 1) := dk_96 (dk_at dksX6_used_0 20 rfl rfl)
theorem dX6_used_21 : decode cX6_used 21 = .ok (.bipush 12, 2) := dk_16 12 (dk_at dksX6_used_0 21 rfl rfl)
theorem dX6_used_23 : decode cX6_used 23 = .ok (.iadd, 1) := dk_96 (dk_at dksX6_used_0 23 rfl rfl)
theorem dX6_used_24 : decode cX6_used 24 = .ok (.iaload, 1) := dk_46 (dk_at dksX6_used_1 0 rfl rfl)
theorem dX6_used_25 : decode cX6_used 25 = .ok (.goto 5, 3) := dk_167 0 5 (dk_at dksX6_used_1 1 rfl rfl)
theorem dX6_used_28 : decode cX6_used 28 = .ok (.bipush (-2), 2) := dk_16 254 (dk_at dksX6_used_1 4 rfl rfl)
theorem dX6_used_30 : decode cX6_used 30 = .ok (.ireturn, 1) := dk_172 (dk_at dksX6_used_1 6 rfl rfl)
abbrev cX6_sitting : ByteArray := prog_18_method_76_code
def yX6_sitting : MethodName := ⟨RX6, "sitting", "(II)I"⟩
def dkwX6_sitting_1 : List UInt8 := [184, 0, 88, 153, 0, 17, 42, 180, 0, 20, 16, 6, 27, 104, 28, 96, 46, 167, 0, 4, 2, 172]
abbrev dktX6_sitting_1 : List UInt8 := dkwX6_sitting_1 ++ []
def dkwX6_sitting_0 : List UInt8 := [27, 133, 9, 42, 180, 0, 92, 4, 100, 133, 184, 0, 88, 153, 0, 29, 28, 133, 9, 20, 1, 103]
abbrev dktX6_sitting_0 : List UInt8 := dkwX6_sitting_0 ++ dktX6_sitting_1
theorem dksX6_sitting_0 : cX6_sitting.data.toList.drop 0 = dktX6_sitting_0 := by decide +kernel
theorem dksX6_sitting_1 : cX6_sitting.data.toList.drop 22 = dktX6_sitting_1 := dk_seg dksX6_sitting_0 22 rfl rfl
theorem dX6_sitting_0 : decode cX6_sitting 0 = .ok (.iload_n 1, 1) := dk_27 (dk_at dksX6_sitting_0 0 rfl rfl)
theorem dX6_sitting_1 : decode cX6_sitting 1 = .ok (.i2l, 1) := dk_133 (dk_at dksX6_sitting_0 1 rfl rfl)
theorem dX6_sitting_2 : decode cX6_sitting 2 = .ok (.lconst 0, 1) := dk_9 (dk_at dksX6_sitting_0 2 rfl rfl)
theorem dX6_sitting_3 : decode cX6_sitting 3 = .ok (.aload_n 0, 1) := dk_42 (dk_at dksX6_sitting_0 3 rfl rfl)
theorem dX6_sitting_4 : decode cX6_sitting 4 = .ok (.getfield 92, 3) := dk_180 0 92 (dk_at dksX6_sitting_0 4 rfl rfl)
theorem dX6_sitting_7 : decode cX6_sitting 7 = .ok (.iconst 1, 1) := dk_4 (dk_at dksX6_sitting_0 7 rfl rfl)
theorem dX6_sitting_8 : decode cX6_sitting 8 = .ok (.isub, 1) := dk_100 (dk_at dksX6_sitting_0 8 rfl rfl)
theorem dX6_sitting_9 : decode cX6_sitting 9 = .ok (.i2l, 1) := dk_133 (dk_at dksX6_sitting_0 9 rfl rfl)
theorem dX6_sitting_10 : decode cX6_sitting 10 = .ok (.invokestatic 88, 3) := dk_184 0 88 (dk_at dksX6_sitting_0 10 rfl rfl)
theorem dX6_sitting_13 : decode cX6_sitting 13 = .ok (.ifCond .eq 29, 3) := dk_153 0 29 (dk_at dksX6_sitting_0 13 rfl rfl)
theorem dX6_sitting_16 : decode cX6_sitting 16 = .ok (.iload_n 2, 1) := dk_28 (dk_at dksX6_sitting_0 16 rfl rfl)
theorem dX6_sitting_17 : decode cX6_sitting 17 = .ok (.i2l, 1) := dk_133 (dk_at dksX6_sitting_0 17 rfl rfl)
theorem dX6_sitting_18 : decode cX6_sitting 18 = .ok (.lconst 0, 1) := dk_9 (dk_at dksX6_sitting_0 18 rfl rfl)
theorem dX6_sitting_19 : decode cX6_sitting 19 = .ok (.ldc2_w 359, 3) := dk_20 1 103 (dk_at dksX6_sitting_0 19 rfl rfl)
theorem dX6_sitting_22 : decode cX6_sitting 22 = .ok (.invokestatic 88, 3) := dk_184 0 88 (dk_at dksX6_sitting_1 0 rfl rfl)
theorem dX6_sitting_25 : decode cX6_sitting 25 = .ok (.ifCond .eq 17, 3) := dk_153 0 17 (dk_at dksX6_sitting_1 3 rfl rfl)
theorem dX6_sitting_28 : decode cX6_sitting 28 = .ok (.aload_n 0, 1) := dk_42 (dk_at dksX6_sitting_1 6 rfl rfl)
theorem dX6_sitting_29 : decode cX6_sitting 29 = .ok (.getfield 20, 3) := dk_180 0 20 (dk_at dksX6_sitting_1 7 rfl rfl)
theorem dX6_sitting_32 : decode cX6_sitting 32 = .ok (.bipush 6, 2) := dk_16 6 (dk_at dksX6_sitting_1 10 rfl rfl)
theorem dX6_sitting_34 : decode cX6_sitting 34 = .ok (.iload_n 1, 1) := dk_27 (dk_at dksX6_sitting_1 12 rfl rfl)
theorem dX6_sitting_35 : decode cX6_sitting 35 = .ok (.imul, 1) := dk_104 (dk_at dksX6_sitting_1 13 rfl rfl)
theorem dX6_sitting_36 : decode cX6_sitting 36 = .ok (.iload_n 2, 1) := dk_28 (dk_at dksX6_sitting_1 14 rfl rfl)
theorem dX6_sitting_37 : decode cX6_sitting 37 = .ok (.iadd, 1) := dk_96 (dk_at dksX6_sitting_1 15 rfl rfl)
theorem dX6_sitting_38 : decode cX6_sitting 38 = .ok (.iaload, 1) := dk_46 (dk_at dksX6_sitting_1 16 rfl rfl)
theorem dX6_sitting_39 : decode cX6_sitting 39 = .ok (.goto 4, 3) := dk_167 0 4 (dk_at dksX6_sitting_1 17 rfl rfl)
theorem dX6_sitting_42 : decode cX6_sitting 42 = .ok (.iconst (-1), 1) := dk_2 (dk_at dksX6_sitting_1 20 rfl rfl)
theorem dX6_sitting_43 : decode cX6_sitting 43 = .ok (.ireturn, 1) := dk_172 (dk_at dksX6_sitting_1 21 rfl rfl)
abbrev cX6_book : ByteArray := prog_18_method_77_code
def yX6_book : MethodName := ⟨RX6, "book", "(II)I"⟩
def dkwX6_book_7 : List UInt8 := [100, 172]
abbrev dktX6_book_7 : List UInt8 := dkwX6_book_7 ++ []
def dkwX6_book_6 : List UInt8 := [42, 180, 0, 20, 16, 6, 21, 5, 104, 5, 96, 46, 42, 180, 0, 20, 16, 6, 21, 4, 104, 5, 96, 46]
abbrev dktX6_book_6 : List UInt8 := dkwX6_book_6 ++ dktX6_book_7
def dkwX6_book_5 : List UInt8 := [46, 167, 0, 48, 28, 5, 160, 0, 18, 42, 180, 0, 20, 16, 6, 21, 5, 104, 4, 96, 46, 167, 0, 28]
abbrev dktX6_book_5 : List UInt8 := dkwX6_book_5 ++ dktX6_book_6
def dkwX6_book_4 : List UInt8 := [28, 154, 0, 7, 29, 167, 0, 68, 28, 4, 160, 0, 18, 42, 180, 0, 20, 16, 6, 21, 4, 104, 4, 96]
abbrev dktX6_book_4 : List UInt8 := dkwX6_book_4 ++ dktX6_book_5
def dkwX6_book_3 : List UInt8 := [167, 0, 5, 21, 4, 54, 4, 21, 6, 54, 5, 132, 6, 1, 167, 255, 205, 29, 5, 162, 0, 5, 2, 172]
abbrev dktX6_book_3 : List UInt8 := dkwX6_book_3 ++ dktX6_book_4
def dkwX6_book_2 : List UInt8 := [21, 6, 104, 46, 27, 159, 0, 6, 167, 0, 25, 132, 3, 1, 21, 4, 2, 160, 0, 8, 21, 6]
abbrev dktX6_book_2 : List UInt8 := dkwX6_book_2 ++ dktX6_book_3
def dkwX6_book_1 : List UInt8 := [2, 54, 4, 2, 54, 5, 3, 54, 6, 21, 6, 42, 180, 0, 92, 162, 0, 48, 42, 180, 0, 20, 16, 6]
abbrev dktX6_book_1 : List UInt8 := dkwX6_book_1 ++ dktX6_book_2
def dkwX6_book_0 : List UInt8 := [42, 27, 182, 1, 59, 153, 0, 15, 28, 133, 9, 20, 0, 251, 184, 0, 88, 154, 0, 5, 2, 172, 3, 62]
abbrev dktX6_book_0 : List UInt8 := dkwX6_book_0 ++ dktX6_book_1
theorem dksX6_book_0 : cX6_book.data.toList.drop 0 = dktX6_book_0 := by decide +kernel
theorem dksX6_book_1 : cX6_book.data.toList.drop 24 = dktX6_book_1 := dk_seg dksX6_book_0 24 rfl rfl
theorem dksX6_book_2 : cX6_book.data.toList.drop 48 = dktX6_book_2 := dk_seg dksX6_book_1 24 rfl rfl
theorem dksX6_book_3 : cX6_book.data.toList.drop 70 = dktX6_book_3 := dk_seg dksX6_book_2 22 rfl rfl
theorem dksX6_book_4 : cX6_book.data.toList.drop 94 = dktX6_book_4 := dk_seg dksX6_book_3 24 rfl rfl
theorem dksX6_book_5 : cX6_book.data.toList.drop 118 = dktX6_book_5 := dk_seg dksX6_book_4 24 rfl rfl
theorem dksX6_book_6 : cX6_book.data.toList.drop 142 = dktX6_book_6 := dk_seg dksX6_book_5 24 rfl rfl
theorem dksX6_book_7 : cX6_book.data.toList.drop 166 = dktX6_book_7 := dk_seg dksX6_book_6 24 rfl rfl
theorem dX6_book_0 : decode cX6_book 0 = .ok (.aload_n 0, 1) := dk_42 (dk_at dksX6_book_0 0 rfl rfl)
theorem dX6_book_1 : decode cX6_book 1 = .ok (.iload_n 1, 1) := dk_27 (dk_at dksX6_book_0 1 rfl rfl)
theorem dX6_book_2 : decode cX6_book 2 = .ok (.invokevirtual 315, 3) := dk_182 1 59 (dk_at dksX6_book_0 2 rfl rfl)
theorem dX6_book_5 : decode cX6_book 5 = .ok (.ifCond .eq 15, 3) := dk_153 0 15 (dk_at dksX6_book_0 5 rfl rfl)
theorem dX6_book_8 : decode cX6_book 8 = .ok (.iload_n 2, 1) := dk_28 (dk_at dksX6_book_0 8 rfl rfl)
theorem dX6_book_9 : decode cX6_book 9 = .ok (.i2l, 1) := dk_133 (dk_at dksX6_book_0 9 rfl rfl)
theorem dX6_book_10 : decode cX6_book 10 = .ok (.lconst 0, 1) := dk_9 (dk_at dksX6_book_0 10 rfl rfl)
theorem dX6_book_11 : decode cX6_book 11 = .ok (.ldc2_w 251, 3) := dk_20 0 251 (dk_at dksX6_book_0 11 rfl rfl)
theorem dX6_book_14 : decode cX6_book 14 = .ok (.invokestatic 88, 3) := dk_184 0 88 (dk_at dksX6_book_0 14 rfl rfl)
theorem dX6_book_17 : decode cX6_book 17 = .ok (.ifCond .ne 5, 3) := dk_154 0 5 (dk_at dksX6_book_0 17 rfl rfl)
theorem dX6_book_20 : decode cX6_book 20 = .ok (.iconst (-1), 1) := dk_2 (dk_at dksX6_book_0 20 rfl rfl)
theorem dX6_book_21 : decode cX6_book 21 = .ok (.ireturn, 1) := dk_172 (dk_at dksX6_book_0 21 rfl rfl)
theorem dX6_book_22 : decode cX6_book 22 = .ok (.iconst 0, 1) := dk_3 (dk_at dksX6_book_0 22 rfl rfl)
theorem dX6_book_23 : decode cX6_book 23 = .ok (.istore_n 3, 1) := dk_62 (dk_at dksX6_book_0 23 rfl rfl)
theorem dX6_book_24 : decode cX6_book 24 = .ok (.iconst (-1), 1) := dk_2 (dk_at dksX6_book_1 0 rfl rfl)
theorem dX6_book_25 : decode cX6_book 25 = .ok (.istore 4, 2) := dk_54 4 (dk_at dksX6_book_1 1 rfl rfl)
theorem dX6_book_27 : decode cX6_book 27 = .ok (.iconst (-1), 1) := dk_2 (dk_at dksX6_book_1 3 rfl rfl)
theorem dX6_book_28 : decode cX6_book 28 = .ok (.istore 5, 2) := dk_54 5 (dk_at dksX6_book_1 4 rfl rfl)
theorem dX6_book_30 : decode cX6_book 30 = .ok (.iconst 0, 1) := dk_3 (dk_at dksX6_book_1 6 rfl rfl)
theorem dX6_book_31 : decode cX6_book 31 = .ok (.istore 6, 2) := dk_54 6 (dk_at dksX6_book_1 7 rfl rfl)
theorem dX6_book_33 : decode cX6_book 33 = .ok (.iload 6, 2) := dk_21 6 (dk_at dksX6_book_1 9 rfl rfl)
theorem dX6_book_35 : decode cX6_book 35 = .ok (.aload_n 0, 1) := dk_42 (dk_at dksX6_book_1 11 rfl rfl)
theorem dX6_book_36 : decode cX6_book 36 = .ok (.getfield 92, 3) := dk_180 0 92 (dk_at dksX6_book_1 12 rfl rfl)
theorem dX6_book_39 : decode cX6_book 39 = .ok (.if_icmp .ge 48, 3) := dk_162 0 48 (dk_at dksX6_book_1 15 rfl rfl)
theorem dX6_book_42 : decode cX6_book 42 = .ok (.aload_n 0, 1) := dk_42 (dk_at dksX6_book_1 18 rfl rfl)
theorem dX6_book_43 : decode cX6_book 43 = .ok (.getfield 20, 3) := dk_180 0 20 (dk_at dksX6_book_1 19 rfl rfl)
theorem dX6_book_46 : decode cX6_book 46 = .ok (.bipush 6, 2) := dk_16 6 (dk_at dksX6_book_1 22 rfl rfl)
theorem dX6_book_48 : decode cX6_book 48 = .ok (.iload 6, 2) := dk_21 6 (dk_at dksX6_book_2 0 rfl rfl)
theorem dX6_book_50 : decode cX6_book 50 = .ok (.imul, 1) := dk_104 (dk_at dksX6_book_2 2 rfl rfl)
theorem dX6_book_51 : decode cX6_book 51 = .ok (.iaload, 1) := dk_46 (dk_at dksX6_book_2 3 rfl rfl)
theorem dX6_book_52 : decode cX6_book 52 = .ok (.iload_n 1, 1) := dk_27 (dk_at dksX6_book_2 4 rfl rfl)
theorem dX6_book_53 : decode cX6_book 53 = .ok (.if_icmp .eq 6, 3) := dk_159 0 6 (dk_at dksX6_book_2 5 rfl rfl)
theorem dX6_book_56 : decode cX6_book 56 = .ok (.goto 25, 3) := dk_167 0 25 (dk_at dksX6_book_2 8 rfl rfl)
theorem dX6_book_59 : decode cX6_book 59 = .ok (.iinc 3 1, 3) := dk_132 3 1 (dk_at dksX6_book_2 11 rfl rfl)
theorem dX6_book_62 : decode cX6_book 62 = .ok (.iload 4, 2) := dk_21 4 (dk_at dksX6_book_2 14 rfl rfl)
theorem dX6_book_64 : decode cX6_book 64 = .ok (.iconst (-1), 1) := dk_2 (dk_at dksX6_book_2 16 rfl rfl)
theorem dX6_book_65 : decode cX6_book 65 = .ok (.if_icmp .ne 8, 3) := dk_160 0 8 (dk_at dksX6_book_2 17 rfl rfl)
theorem dX6_book_68 : decode cX6_book 68 = .ok (.iload 6, 2) := dk_21 6 (dk_at dksX6_book_2 20 rfl rfl)
theorem dX6_book_70 : decode cX6_book 70 = .ok (.goto 5, 3) := dk_167 0 5 (dk_at dksX6_book_3 0 rfl rfl)
theorem dX6_book_73 : decode cX6_book 73 = .ok (.iload 4, 2) := dk_21 4 (dk_at dksX6_book_3 3 rfl rfl)
theorem dX6_book_75 : decode cX6_book 75 = .ok (.istore 4, 2) := dk_54 4 (dk_at dksX6_book_3 5 rfl rfl)
theorem dX6_book_77 : decode cX6_book 77 = .ok (.iload 6, 2) := dk_21 6 (dk_at dksX6_book_3 7 rfl rfl)
theorem dX6_book_79 : decode cX6_book 79 = .ok (.istore 5, 2) := dk_54 5 (dk_at dksX6_book_3 9 rfl rfl)
theorem dX6_book_81 : decode cX6_book 81 = .ok (.iinc 6 1, 3) := dk_132 6 1 (dk_at dksX6_book_3 11 rfl rfl)
theorem dX6_book_84 : decode cX6_book 84 = .ok (.goto (-51), 3) := dk_167 255 205 (dk_at dksX6_book_3 14 rfl rfl)
theorem dX6_book_87 : decode cX6_book 87 = .ok (.iload_n 3, 1) := dk_29 (dk_at dksX6_book_3 17 rfl rfl)
theorem dX6_book_88 : decode cX6_book 88 = .ok (.iconst 2, 1) := dk_5 (dk_at dksX6_book_3 18 rfl rfl)
theorem dX6_book_89 : decode cX6_book 89 = .ok (.if_icmp .ge 5, 3) := dk_162 0 5 (dk_at dksX6_book_3 19 rfl rfl)
theorem dX6_book_92 : decode cX6_book 92 = .ok (.iconst (-1), 1) := dk_2 (dk_at dksX6_book_3 22 rfl rfl)
theorem dX6_book_93 : decode cX6_book 93 = .ok (.ireturn, 1) := dk_172 (dk_at dksX6_book_3 23 rfl rfl)
theorem dX6_book_94 : decode cX6_book 94 = .ok (.iload_n 2, 1) := dk_28 (dk_at dksX6_book_4 0 rfl rfl)
theorem dX6_book_95 : decode cX6_book 95 = .ok (.ifCond .ne 7, 3) := dk_154 0 7 (dk_at dksX6_book_4 1 rfl rfl)
theorem dX6_book_98 : decode cX6_book 98 = .ok (.iload_n 3, 1) := dk_29 (dk_at dksX6_book_4 4 rfl rfl)
theorem dX6_book_99 : decode cX6_book 99 = .ok (.goto 68, 3) := dk_167 0 68 (dk_at dksX6_book_4 5 rfl rfl)
theorem dX6_book_102 : decode cX6_book 102 = .ok (.iload_n 2, 1) := dk_28 (dk_at dksX6_book_4 8 rfl rfl)
theorem dX6_book_103 : decode cX6_book 103 = .ok (.iconst 1, 1) := dk_4 (dk_at dksX6_book_4 9 rfl rfl)
theorem dX6_book_104 : decode cX6_book 104 = .ok (.if_icmp .ne 18, 3) := dk_160 0 18 (dk_at dksX6_book_4 10 rfl rfl)
theorem dX6_book_107 : decode cX6_book 107 = .ok (.aload_n 0, 1) := dk_42 (dk_at dksX6_book_4 13 rfl rfl)
theorem dX6_book_108 : decode cX6_book 108 = .ok (.getfield 20, 3) := dk_180 0 20 (dk_at dksX6_book_4 14 rfl rfl)
theorem dX6_book_111 : decode cX6_book 111 = .ok (.bipush 6, 2) := dk_16 6 (dk_at dksX6_book_4 17 rfl rfl)
theorem dX6_book_113 : decode cX6_book 113 = .ok (.iload 4, 2) := dk_21 4 (dk_at dksX6_book_4 19 rfl rfl)
theorem dX6_book_115 : decode cX6_book 115 = .ok (.imul, 1) := dk_104 (dk_at dksX6_book_4 21 rfl rfl)
theorem dX6_book_116 : decode cX6_book 116 = .ok (.iconst 1, 1) := dk_4 (dk_at dksX6_book_4 22 rfl rfl)
theorem dX6_book_117 : decode cX6_book 117 = .ok (.iadd, 1) := dk_96 (dk_at dksX6_book_4 23 rfl rfl)
theorem dX6_book_118 : decode cX6_book 118 = .ok (.iaload, 1) := dk_46 (dk_at dksX6_book_5 0 rfl rfl)
theorem dX6_book_119 : decode cX6_book 119 = .ok (.goto 48, 3) := dk_167 0 48 (dk_at dksX6_book_5 1 rfl rfl)
theorem dX6_book_122 : decode cX6_book 122 = .ok (.iload_n 2, 1) := dk_28 (dk_at dksX6_book_5 4 rfl rfl)
theorem dX6_book_123 : decode cX6_book 123 = .ok (.iconst 2, 1) := dk_5 (dk_at dksX6_book_5 5 rfl rfl)
theorem dX6_book_124 : decode cX6_book 124 = .ok (.if_icmp .ne 18, 3) := dk_160 0 18 (dk_at dksX6_book_5 6 rfl rfl)
theorem dX6_book_127 : decode cX6_book 127 = .ok (.aload_n 0, 1) := dk_42 (dk_at dksX6_book_5 9 rfl rfl)
theorem dX6_book_128 : decode cX6_book 128 = .ok (.getfield 20, 3) := dk_180 0 20 (dk_at dksX6_book_5 10 rfl rfl)
theorem dX6_book_131 : decode cX6_book 131 = .ok (.bipush 6, 2) := dk_16 6 (dk_at dksX6_book_5 13 rfl rfl)
theorem dX6_book_133 : decode cX6_book 133 = .ok (.iload 5, 2) := dk_21 5 (dk_at dksX6_book_5 15 rfl rfl)
theorem dX6_book_135 : decode cX6_book 135 = .ok (.imul, 1) := dk_104 (dk_at dksX6_book_5 17 rfl rfl)
theorem dX6_book_136 : decode cX6_book 136 = .ok (.iconst 1, 1) := dk_4 (dk_at dksX6_book_5 18 rfl rfl)
theorem dX6_book_137 : decode cX6_book 137 = .ok (.iadd, 1) := dk_96 (dk_at dksX6_book_5 19 rfl rfl)
theorem dX6_book_138 : decode cX6_book 138 = .ok (.iaload, 1) := dk_46 (dk_at dksX6_book_5 20 rfl rfl)
theorem dX6_book_139 : decode cX6_book 139 = .ok (.goto 28, 3) := dk_167 0 28 (dk_at dksX6_book_5 21 rfl rfl)
theorem dX6_book_142 : decode cX6_book 142 = .ok (.aload_n 0, 1) := dk_42 (dk_at dksX6_book_6 0 rfl rfl)
theorem dX6_book_143 : decode cX6_book 143 = .ok (.getfield 20, 3) := dk_180 0 20 (dk_at dksX6_book_6 1 rfl rfl)
theorem dX6_book_146 : decode cX6_book 146 = .ok (.bipush 6, 2) := dk_16 6 (dk_at dksX6_book_6 4 rfl rfl)
theorem dX6_book_148 : decode cX6_book 148 = .ok (.iload 5, 2) := dk_21 5 (dk_at dksX6_book_6 6 rfl rfl)
theorem dX6_book_150 : decode cX6_book 150 = .ok (.imul, 1) := dk_104 (dk_at dksX6_book_6 8 rfl rfl)
theorem dX6_book_151 : decode cX6_book 151 = .ok (.iconst 2, 1) := dk_5 (dk_at dksX6_book_6 9 rfl rfl)
theorem dX6_book_152 : decode cX6_book 152 = .ok (.iadd, 1) := dk_96 (dk_at dksX6_book_6 10 rfl rfl)
theorem dX6_book_153 : decode cX6_book 153 = .ok (.iaload, 1) := dk_46 (dk_at dksX6_book_6 11 rfl rfl)
theorem dX6_book_154 : decode cX6_book 154 = .ok (.aload_n 0, 1) := dk_42 (dk_at dksX6_book_6 12 rfl rfl)
theorem dX6_book_155 : decode cX6_book 155 = .ok (.getfield 20, 3) := dk_180 0 20 (dk_at dksX6_book_6 13 rfl rfl)
theorem dX6_book_158 : decode cX6_book 158 = .ok (.bipush 6, 2) := dk_16 6 (dk_at dksX6_book_6 16 rfl rfl)
theorem dX6_book_160 : decode cX6_book 160 = .ok (.iload 4, 2) := dk_21 4 (dk_at dksX6_book_6 18 rfl rfl)
theorem dX6_book_162 : decode cX6_book 162 = .ok (.imul, 1) := dk_104 (dk_at dksX6_book_6 20 rfl rfl)
theorem dX6_book_163 : decode cX6_book 163 = .ok (.iconst 2, 1) := dk_5 (dk_at dksX6_book_6 21 rfl rfl)
theorem dX6_book_164 : decode cX6_book 164 = .ok (.iadd, 1) := dk_96 (dk_at dksX6_book_6 22 rfl rfl)
theorem dX6_book_165 : decode cX6_book 165 = .ok (.iaload, 1) := dk_46 (dk_at dksX6_book_6 23 rfl rfl)
theorem dX6_book_166 : decode cX6_book 166 = .ok (.isub, 1) := dk_100 (dk_at dksX6_book_7 0 rfl rfl)
theorem dX6_book_167 : decode cX6_book 167 = .ok (.ireturn, 1) := dk_172 (dk_at dksX6_book_7 1 rfl rfl)
abbrev cX6_when : ByteArray := prog_18_method_78_code
def yX6_when : MethodName := ⟨RX6, "when", "(I)I"⟩
def dkwX6_when_2 : List UInt8 := [21, 5, 62, 21, 4, 61, 42, 182, 1, 32, 132, 4, 1, 167, 255, 220, 42, 182, 1, 53, 28, 172]
abbrev dktX6_when_2 : List UInt8 := dkwX6_when_2 ++ []
def dkwX6_when_1 : List UInt8 := [21, 4, 16, 24, 162, 0, 35, 42, 27, 182, 1, 77, 184, 1, 84, 54, 5, 21, 5, 29, 162, 0, 9]
abbrev dktX6_when_1 : List UInt8 := dkwX6_when_1 ++ dktX6_when_2
def dkwX6_when_0 : List UInt8 := [42, 27, 182, 1, 59, 154, 0, 6, 16, 254, 172, 42, 182, 1, 47, 2, 61, 16, 41, 62, 3, 54, 4]
abbrev dktX6_when_0 : List UInt8 := dkwX6_when_0 ++ dktX6_when_1
theorem dksX6_when_0 : cX6_when.data.toList.drop 0 = dktX6_when_0 := by decide +kernel
theorem dksX6_when_1 : cX6_when.data.toList.drop 23 = dktX6_when_1 := dk_seg dksX6_when_0 23 rfl rfl
theorem dksX6_when_2 : cX6_when.data.toList.drop 46 = dktX6_when_2 := dk_seg dksX6_when_1 23 rfl rfl
theorem dX6_when_0 : decode cX6_when 0 = .ok (.aload_n 0, 1) := dk_42 (dk_at dksX6_when_0 0 rfl rfl)
theorem dX6_when_1 : decode cX6_when 1 = .ok (.iload_n 1, 1) := dk_27 (dk_at dksX6_when_0 1 rfl rfl)
theorem dX6_when_2 : decode cX6_when 2 = .ok (.invokevirtual 315, 3) := dk_182 1 59 (dk_at dksX6_when_0 2 rfl rfl)
theorem dX6_when_5 : decode cX6_when 5 = .ok (.ifCond .ne 6, 3) := dk_154 0 6 (dk_at dksX6_when_0 5 rfl rfl)
theorem dX6_when_8 : decode cX6_when 8 = .ok (.bipush (-2), 2) := dk_16 254 (dk_at dksX6_when_0 8 rfl rfl)
theorem dX6_when_10 : decode cX6_when 10 = .ok (.ireturn, 1) := dk_172 (dk_at dksX6_when_0 10 rfl rfl)
theorem dX6_when_11 : decode cX6_when 11 = .ok (.aload_n 0, 1) := dk_42 (dk_at dksX6_when_0 11 rfl rfl)
theorem dX6_when_12 : decode cX6_when 12 = .ok (.invokevirtual 303, 3) := dk_182 1 47 (dk_at dksX6_when_0 12 rfl rfl)
theorem dX6_when_15 : decode cX6_when 15 = .ok (.iconst (-1), 1) := dk_2 (dk_at dksX6_when_0 15 rfl rfl)
theorem dX6_when_16 : decode cX6_when 16 = .ok (.istore_n 2, 1) := dk_61 (dk_at dksX6_when_0 16 rfl rfl)
theorem dX6_when_17 : decode cX6_when 17 = .ok (.bipush 41, 2) := dk_16 41 (dk_at dksX6_when_0 17 rfl rfl)
theorem dX6_when_19 : decode cX6_when 19 = .ok (.istore_n 3, 1) := dk_62 (dk_at dksX6_when_0 19 rfl rfl)
theorem dX6_when_20 : decode cX6_when 20 = .ok (.iconst 0, 1) := dk_3 (dk_at dksX6_when_0 20 rfl rfl)
theorem dX6_when_21 : decode cX6_when 21 = .ok (.istore 4, 2) := dk_54 4 (dk_at dksX6_when_0 21 rfl rfl)
theorem dX6_when_23 : decode cX6_when 23 = .ok (.iload 4, 2) := dk_21 4 (dk_at dksX6_when_1 0 rfl rfl)
theorem dX6_when_25 : decode cX6_when 25 = .ok (.bipush 24, 2) := dk_16 24 (dk_at dksX6_when_1 2 rfl rfl)
theorem dX6_when_27 : decode cX6_when 27 = .ok (.if_icmp .ge 35, 3) := dk_162 0 35 (dk_at dksX6_when_1 4 rfl rfl)
theorem dX6_when_30 : decode cX6_when 30 = .ok (.aload_n 0, 1) := dk_42 (dk_at dksX6_when_1 7 rfl rfl)
theorem dX6_when_31 : decode cX6_when 31 = .ok (.iload_n 1, 1) := dk_27 (dk_at dksX6_when_1 8 rfl rfl)
theorem dX6_when_32 : decode cX6_when 32 = .ok (.invokevirtual 333, 3) := dk_182 1 77 (dk_at dksX6_when_1 9 rfl rfl)
theorem dX6_when_35 : decode cX6_when 35 = .ok (.invokestatic 340, 3) := dk_184 1 84 (dk_at dksX6_when_1 12 rfl rfl)
theorem dX6_when_38 : decode cX6_when 38 = .ok (.istore 5, 2) := dk_54 5 (dk_at dksX6_when_1 15 rfl rfl)
theorem dX6_when_40 : decode cX6_when 40 = .ok (.iload 5, 2) := dk_21 5 (dk_at dksX6_when_1 17 rfl rfl)
theorem dX6_when_42 : decode cX6_when 42 = .ok (.iload_n 3, 1) := dk_29 (dk_at dksX6_when_1 19 rfl rfl)
theorem dX6_when_43 : decode cX6_when 43 = .ok (.if_icmp .ge 9, 3) := dk_162 0 9 (dk_at dksX6_when_1 20 rfl rfl)
theorem dX6_when_46 : decode cX6_when 46 = .ok (.iload 5, 2) := dk_21 5 (dk_at dksX6_when_2 0 rfl rfl)
theorem dX6_when_48 : decode cX6_when 48 = .ok (.istore_n 3, 1) := dk_62 (dk_at dksX6_when_2 2 rfl rfl)
theorem dX6_when_49 : decode cX6_when 49 = .ok (.iload 4, 2) := dk_21 4 (dk_at dksX6_when_2 3 rfl rfl)
theorem dX6_when_51 : decode cX6_when 51 = .ok (.istore_n 2, 1) := dk_61 (dk_at dksX6_when_2 5 rfl rfl)
theorem dX6_when_52 : decode cX6_when 52 = .ok (.aload_n 0, 1) := dk_42 (dk_at dksX6_when_2 6 rfl rfl)
theorem dX6_when_53 : decode cX6_when 53 = .ok (.invokevirtual 288, 3) := dk_182 1 32 (dk_at dksX6_when_2 7 rfl rfl)
theorem dX6_when_56 : decode cX6_when 56 = .ok (.iinc 4 1, 3) := dk_132 4 1 (dk_at dksX6_when_2 10 rfl rfl)
theorem dX6_when_59 : decode cX6_when 59 = .ok (.goto (-36), 3) := dk_167 255 220 (dk_at dksX6_when_2 13 rfl rfl)
theorem dX6_when_62 : decode cX6_when 62 = .ok (.aload_n 0, 1) := dk_42 (dk_at dksX6_when_2 16 rfl rfl)
theorem dX6_when_63 : decode cX6_when 63 = .ok (.invokevirtual 309, 3) := dk_182 1 53 (dk_at dksX6_when_2 17 rfl rfl)
theorem dX6_when_66 : decode cX6_when 66 = .ok (.iload_n 2, 1) := dk_28 (dk_at dksX6_when_2 20 rfl rfl)
theorem dX6_when_67 : decode cX6_when 67 = .ok (.ireturn, 1) := dk_172 (dk_at dksX6_when_2 21 rfl rfl)
abbrev cX6_must : ByteArray := prog_18_method_79_code
def yX6_must : MethodName := ⟨RX6, "must", "(I)I"⟩
def dkwX6_must_2 : List UInt8 := [167, 255, 225, 28, 172]
abbrev dktX6_must_2 : List UInt8 := dkwX6_must_2 ++ []
def dkwX6_must_1 : List UInt8 := [182, 1, 117, 184, 1, 84, 42, 27, 28, 182, 1, 117, 184, 1, 84, 164, 0, 5, 29, 61, 132, 3, 1]
abbrev dktX6_must_1 : List UInt8 := dkwX6_must_1 ++ dktX6_must_2
def dkwX6_must_0 : List UInt8 := [42, 27, 182, 1, 59, 154, 0, 6, 16, 254, 172, 3, 61, 4, 62, 29, 7, 162, 0, 32, 42, 27, 29]
abbrev dktX6_must_0 : List UInt8 := dkwX6_must_0 ++ dktX6_must_1
theorem dksX6_must_0 : cX6_must.data.toList.drop 0 = dktX6_must_0 := by decide +kernel
theorem dksX6_must_1 : cX6_must.data.toList.drop 23 = dktX6_must_1 := dk_seg dksX6_must_0 23 rfl rfl
theorem dksX6_must_2 : cX6_must.data.toList.drop 46 = dktX6_must_2 := dk_seg dksX6_must_1 23 rfl rfl
theorem dX6_must_0 : decode cX6_must 0 = .ok (.aload_n 0, 1) := dk_42 (dk_at dksX6_must_0 0 rfl rfl)
theorem dX6_must_1 : decode cX6_must 1 = .ok (.iload_n 1, 1) := dk_27 (dk_at dksX6_must_0 1 rfl rfl)
theorem dX6_must_2 : decode cX6_must 2 = .ok (.invokevirtual 315, 3) := dk_182 1 59 (dk_at dksX6_must_0 2 rfl rfl)
theorem dX6_must_5 : decode cX6_must 5 = .ok (.ifCond .ne 6, 3) := dk_154 0 6 (dk_at dksX6_must_0 5 rfl rfl)
theorem dX6_must_8 : decode cX6_must 8 = .ok (.bipush (-2), 2) := dk_16 254 (dk_at dksX6_must_0 8 rfl rfl)
theorem dX6_must_10 : decode cX6_must 10 = .ok (.ireturn, 1) := dk_172 (dk_at dksX6_must_0 10 rfl rfl)
theorem dX6_must_11 : decode cX6_must 11 = .ok (.iconst 0, 1) := dk_3 (dk_at dksX6_must_0 11 rfl rfl)
theorem dX6_must_12 : decode cX6_must 12 = .ok (.istore_n 2, 1) := dk_61 (dk_at dksX6_must_0 12 rfl rfl)
theorem dX6_must_13 : decode cX6_must 13 = .ok (.iconst 1, 1) := dk_4 (dk_at dksX6_must_0 13 rfl rfl)
theorem dX6_must_14 : decode cX6_must 14 = .ok (.istore_n 3, 1) := dk_62 (dk_at dksX6_must_0 14 rfl rfl)
theorem dX6_must_15 : decode cX6_must 15 = .ok (.iload_n 3, 1) := dk_29 (dk_at dksX6_must_0 15 rfl rfl)
theorem dX6_must_16 : decode cX6_must 16 = .ok (.iconst 4, 1) := dk_7 (dk_at dksX6_must_0 16 rfl rfl)
theorem dX6_must_17 : decode cX6_must 17 = .ok (.if_icmp .ge 32, 3) := dk_162 0 32 (dk_at dksX6_must_0 17 rfl rfl)
theorem dX6_must_20 : decode cX6_must 20 = .ok (.aload_n 0, 1) := dk_42 (dk_at dksX6_must_0 20 rfl rfl)
theorem dX6_must_21 : decode cX6_must 21 = .ok (.iload_n 1, 1) := dk_27 (dk_at dksX6_must_0 21 rfl rfl)
theorem dX6_must_22 : decode cX6_must 22 = .ok (.iload_n 3, 1) := dk_29 (dk_at dksX6_must_0 22 rfl rfl)
theorem dX6_must_23 : decode cX6_must 23 = .ok (.invokevirtual 373, 3) := dk_182 1 117 (dk_at dksX6_must_1 0 rfl rfl)
theorem dX6_must_26 : decode cX6_must 26 = .ok (.invokestatic 340, 3) := dk_184 1 84 (dk_at dksX6_must_1 3 rfl rfl)
theorem dX6_must_29 : decode cX6_must 29 = .ok (.aload_n 0, 1) := dk_42 (dk_at dksX6_must_1 6 rfl rfl)
theorem dX6_must_30 : decode cX6_must 30 = .ok (.iload_n 1, 1) := dk_27 (dk_at dksX6_must_1 7 rfl rfl)
theorem dX6_must_31 : decode cX6_must 31 = .ok (.iload_n 2, 1) := dk_28 (dk_at dksX6_must_1 8 rfl rfl)
theorem dX6_must_32 : decode cX6_must 32 = .ok (.invokevirtual 373, 3) := dk_182 1 117 (dk_at dksX6_must_1 9 rfl rfl)
theorem dX6_must_35 : decode cX6_must 35 = .ok (.invokestatic 340, 3) := dk_184 1 84 (dk_at dksX6_must_1 12 rfl rfl)
theorem dX6_must_38 : decode cX6_must 38 = .ok (.if_icmp .le 5, 3) := dk_164 0 5 (dk_at dksX6_must_1 15 rfl rfl)
theorem dX6_must_41 : decode cX6_must 41 = .ok (.iload_n 3, 1) := dk_29 (dk_at dksX6_must_1 18 rfl rfl)
theorem dX6_must_42 : decode cX6_must 42 = .ok (.istore_n 2, 1) := dk_61 (dk_at dksX6_must_1 19 rfl rfl)
theorem dX6_must_43 : decode cX6_must 43 = .ok (.iinc 3 1, 3) := dk_132 3 1 (dk_at dksX6_must_1 20 rfl rfl)
theorem dX6_must_46 : decode cX6_must 46 = .ok (.goto (-31), 3) := dk_167 255 225 (dk_at dksX6_must_2 0 rfl rfl)
theorem dX6_must_49 : decode cX6_must 49 = .ok (.iload_n 2, 1) := dk_28 (dk_at dksX6_must_2 3 rfl rfl)
theorem dX6_must_50 : decode cX6_must 50 = .ok (.ireturn, 1) := dk_172 (dk_at dksX6_must_2 4 rfl rfl)
abbrev cX6_verse : ByteArray := prog_18_method_80_code
def yX6_verse : MethodName := ⟨RX6, "verse", "(II)I"⟩
def dkwX6_verse_2 : List UInt8 := [19, 1, 83, 167, 0, 11, 17, 3, 232, 29, 104, 21, 4, 108, 172]
abbrev dktX6_verse_2 : List UInt8 := dkwX6_verse_2 ++ []
def dkwX6_verse_1 : List UInt8 := [182, 1, 80, 62, 42, 28, 182, 1, 80, 54, 4, 29, 2, 159, 0, 9, 21, 4, 2, 160, 0, 9]
abbrev dktX6_verse_1 : List UInt8 := dkwX6_verse_1 ++ dktX6_verse_2
def dkwX6_verse_0 : List UInt8 := [42, 27, 182, 1, 59, 153, 0, 11, 42, 28, 182, 1, 59, 154, 0, 7, 19, 1, 83, 172, 42, 27]
abbrev dktX6_verse_0 : List UInt8 := dkwX6_verse_0 ++ dktX6_verse_1
theorem dksX6_verse_0 : cX6_verse.data.toList.drop 0 = dktX6_verse_0 := by decide +kernel
theorem dksX6_verse_1 : cX6_verse.data.toList.drop 22 = dktX6_verse_1 := dk_seg dksX6_verse_0 22 rfl rfl
theorem dksX6_verse_2 : cX6_verse.data.toList.drop 44 = dktX6_verse_2 := dk_seg dksX6_verse_1 22 rfl rfl
theorem dX6_verse_0 : decode cX6_verse 0 = .ok (.aload_n 0, 1) := dk_42 (dk_at dksX6_verse_0 0 rfl rfl)
theorem dX6_verse_1 : decode cX6_verse 1 = .ok (.iload_n 1, 1) := dk_27 (dk_at dksX6_verse_0 1 rfl rfl)
theorem dX6_verse_2 : decode cX6_verse 2 = .ok (.invokevirtual 315, 3) := dk_182 1 59 (dk_at dksX6_verse_0 2 rfl rfl)
theorem dX6_verse_5 : decode cX6_verse 5 = .ok (.ifCond .eq 11, 3) := dk_153 0 11 (dk_at dksX6_verse_0 5 rfl rfl)
theorem dX6_verse_8 : decode cX6_verse 8 = .ok (.aload_n 0, 1) := dk_42 (dk_at dksX6_verse_0 8 rfl rfl)
theorem dX6_verse_9 : decode cX6_verse 9 = .ok (.iload_n 2, 1) := dk_28 (dk_at dksX6_verse_0 9 rfl rfl)
theorem dX6_verse_10 : decode cX6_verse 10 = .ok (.invokevirtual 315, 3) := dk_182 1 59 (dk_at dksX6_verse_0 10 rfl rfl)
theorem dX6_verse_13 : decode cX6_verse 13 = .ok (.ifCond .ne 7, 3) := dk_154 0 7 (dk_at dksX6_verse_0 13 rfl rfl)
theorem dX6_verse_16 : decode cX6_verse 16 = .ok (.ldc_w 339, 3) := dk_19 1 83 (dk_at dksX6_verse_0 16 rfl rfl)
theorem dX6_verse_19 : decode cX6_verse 19 = .ok (.ireturn, 1) := dk_172 (dk_at dksX6_verse_0 19 rfl rfl)
theorem dX6_verse_20 : decode cX6_verse 20 = .ok (.aload_n 0, 1) := dk_42 (dk_at dksX6_verse_0 20 rfl rfl)
theorem dX6_verse_21 : decode cX6_verse 21 = .ok (.iload_n 1, 1) := dk_27 (dk_at dksX6_verse_0 21 rfl rfl)
theorem dX6_verse_22 : decode cX6_verse 22 = .ok (.invokevirtual 336, 3) := dk_182 1 80 (dk_at dksX6_verse_1 0 rfl rfl)
theorem dX6_verse_25 : decode cX6_verse 25 = .ok (.istore_n 3, 1) := dk_62 (dk_at dksX6_verse_1 3 rfl rfl)
theorem dX6_verse_26 : decode cX6_verse 26 = .ok (.aload_n 0, 1) := dk_42 (dk_at dksX6_verse_1 4 rfl rfl)
theorem dX6_verse_27 : decode cX6_verse 27 = .ok (.iload_n 2, 1) := dk_28 (dk_at dksX6_verse_1 5 rfl rfl)
theorem dX6_verse_28 : decode cX6_verse 28 = .ok (.invokevirtual 336, 3) := dk_182 1 80 (dk_at dksX6_verse_1 6 rfl rfl)
theorem dX6_verse_31 : decode cX6_verse 31 = .ok (.istore 4, 2) := dk_54 4 (dk_at dksX6_verse_1 9 rfl rfl)
theorem dX6_verse_33 : decode cX6_verse 33 = .ok (.iload_n 3, 1) := dk_29 (dk_at dksX6_verse_1 11 rfl rfl)
theorem dX6_verse_34 : decode cX6_verse 34 = .ok (.iconst (-1), 1) := dk_2 (dk_at dksX6_verse_1 12 rfl rfl)
theorem dX6_verse_35 : decode cX6_verse 35 = .ok (.if_icmp .eq 9, 3) := dk_159 0 9 (dk_at dksX6_verse_1 13 rfl rfl)
theorem dX6_verse_38 : decode cX6_verse 38 = .ok (.iload 4, 2) := dk_21 4 (dk_at dksX6_verse_1 16 rfl rfl)
theorem dX6_verse_40 : decode cX6_verse 40 = .ok (.iconst (-1), 1) := dk_2 (dk_at dksX6_verse_1 18 rfl rfl)
theorem dX6_verse_41 : decode cX6_verse 41 = .ok (.if_icmp .ne 9, 3) := dk_160 0 9 (dk_at dksX6_verse_1 19 rfl rfl)
theorem dX6_verse_44 : decode cX6_verse 44 = .ok (.ldc_w 339, 3) := dk_19 1 83 (dk_at dksX6_verse_2 0 rfl rfl)
theorem dX6_verse_47 : decode cX6_verse 47 = .ok (.goto 11, 3) := dk_167 0 11 (dk_at dksX6_verse_2 3 rfl rfl)
theorem dX6_verse_50 : decode cX6_verse 50 = .ok (.sipush 1000, 3) := dk_17 3 232 (dk_at dksX6_verse_2 6 rfl rfl)
theorem dX6_verse_53 : decode cX6_verse 53 = .ok (.iload_n 3, 1) := dk_29 (dk_at dksX6_verse_2 9 rfl rfl)
theorem dX6_verse_54 : decode cX6_verse 54 = .ok (.imul, 1) := dk_104 (dk_at dksX6_verse_2 10 rfl rfl)
theorem dX6_verse_55 : decode cX6_verse 55 = .ok (.iload 4, 2) := dk_21 4 (dk_at dksX6_verse_2 11 rfl rfl)
theorem dX6_verse_57 : decode cX6_verse 57 = .ok (.idiv, 1) := dk_108 (dk_at dksX6_verse_2 13 rfl rfl)
theorem dX6_verse_58 : decode cX6_verse 58 = .ok (.ireturn, 1) := dk_172 (dk_at dksX6_verse_2 14 rfl rfl)
abbrev cX6_near : ByteArray := prog_18_method_82_code
def yX6_near : MethodName := ⟨RX6, "near", "(IIIZ)I"⟩
def dkwX6_near_5 : List UInt8 := [167, 0, 4, 3, 96, 54, 5, 132, 6, 1, 167, 255, 169, 21, 5, 172]
abbrev dktX6_near_5 : List UInt8 := dkwX6_near_5 ++ []
def dkwX6_near_4 : List UInt8 := [21, 4, 153, 0, 11, 21, 7, 21, 8, 100, 167, 0, 8, 21, 8, 21, 7, 100, 29, 160, 0, 7, 4]
abbrev dktX6_near_4 : List UInt8 := dkwX6_near_4 ++ dktX6_near_5
def dkwX6_near_3 : List UInt8 := [21, 6, 182, 1, 25, 182, 1, 120, 54, 8, 21, 5, 21, 7, 2, 159, 0, 35, 21, 8, 2, 159, 0, 29]
abbrev dktX6_near_3 : List UInt8 := dkwX6_near_3 ++ dktX6_near_4
def dkwX6_near_2 : List UInt8 := [162, 0, 83, 42, 28, 42, 27, 21, 6, 4, 100, 182, 1, 25, 182, 1, 120, 54, 7, 42, 28, 42, 27]
abbrev dktX6_near_2 : List UInt8 := dkwX6_near_2 ++ dktX6_near_3
def dkwX6_near_1 : List UInt8 := [184, 0, 88, 154, 0, 6, 16, 254, 172, 3, 54, 5, 4, 54, 6, 21, 6, 42, 27, 182, 1, 22]
abbrev dktX6_near_1 : List UInt8 := dkwX6_near_1 ++ dktX6_near_2
def dkwX6_near_0 : List UInt8 := [42, 27, 182, 1, 59, 153, 0, 23, 42, 28, 182, 1, 59, 153, 0, 15, 29, 133, 10, 20, 1, 72]
abbrev dktX6_near_0 : List UInt8 := dkwX6_near_0 ++ dktX6_near_1
theorem dksX6_near_0 : cX6_near.data.toList.drop 0 = dktX6_near_0 := by decide +kernel
theorem dksX6_near_1 : cX6_near.data.toList.drop 22 = dktX6_near_1 := dk_seg dksX6_near_0 22 rfl rfl
theorem dksX6_near_2 : cX6_near.data.toList.drop 44 = dktX6_near_2 := dk_seg dksX6_near_1 22 rfl rfl
theorem dksX6_near_3 : cX6_near.data.toList.drop 67 = dktX6_near_3 := dk_seg dksX6_near_2 23 rfl rfl
theorem dksX6_near_4 : cX6_near.data.toList.drop 91 = dktX6_near_4 := dk_seg dksX6_near_3 24 rfl rfl
theorem dksX6_near_5 : cX6_near.data.toList.drop 114 = dktX6_near_5 := dk_seg dksX6_near_4 23 rfl rfl
theorem dX6_near_0 : decode cX6_near 0 = .ok (.aload_n 0, 1) := dk_42 (dk_at dksX6_near_0 0 rfl rfl)
theorem dX6_near_1 : decode cX6_near 1 = .ok (.iload_n 1, 1) := dk_27 (dk_at dksX6_near_0 1 rfl rfl)
theorem dX6_near_2 : decode cX6_near 2 = .ok (.invokevirtual 315, 3) := dk_182 1 59 (dk_at dksX6_near_0 2 rfl rfl)
theorem dX6_near_5 : decode cX6_near 5 = .ok (.ifCond .eq 23, 3) := dk_153 0 23 (dk_at dksX6_near_0 5 rfl rfl)
theorem dX6_near_8 : decode cX6_near 8 = .ok (.aload_n 0, 1) := dk_42 (dk_at dksX6_near_0 8 rfl rfl)
theorem dX6_near_9 : decode cX6_near 9 = .ok (.iload_n 2, 1) := dk_28 (dk_at dksX6_near_0 9 rfl rfl)
theorem dX6_near_10 : decode cX6_near 10 = .ok (.invokevirtual 315, 3) := dk_182 1 59 (dk_at dksX6_near_0 10 rfl rfl)
theorem dX6_near_13 : decode cX6_near 13 = .ok (.ifCond .eq 15, 3) := dk_153 0 15 (dk_at dksX6_near_0 13 rfl rfl)
theorem dX6_near_16 : decode cX6_near 16 = .ok (.iload_n 3, 1) := dk_29 (dk_at dksX6_near_0 16 rfl rfl)
theorem dX6_near_17 : decode cX6_near 17 = .ok (.i2l, 1) := dk_133 (dk_at dksX6_near_0 17 rfl rfl)
theorem dX6_near_18 : decode cX6_near 18 = .ok (.lconst 1, 1) := dk_10 (dk_at dksX6_near_0 18 rfl rfl)
theorem dX6_near_19 : decode cX6_near 19 = .ok (.ldc2_w 328, 3) := dk_20 1 72 (dk_at dksX6_near_0 19 rfl rfl)
theorem dX6_near_22 : decode cX6_near 22 = .ok (.invokestatic 88, 3) := dk_184 0 88 (dk_at dksX6_near_1 0 rfl rfl)
theorem dX6_near_25 : decode cX6_near 25 = .ok (.ifCond .ne 6, 3) := dk_154 0 6 (dk_at dksX6_near_1 3 rfl rfl)
theorem dX6_near_28 : decode cX6_near 28 = .ok (.bipush (-2), 2) := dk_16 254 (dk_at dksX6_near_1 6 rfl rfl)
theorem dX6_near_30 : decode cX6_near 30 = .ok (.ireturn, 1) := dk_172 (dk_at dksX6_near_1 8 rfl rfl)
theorem dX6_near_31 : decode cX6_near 31 = .ok (.iconst 0, 1) := dk_3 (dk_at dksX6_near_1 9 rfl rfl)
theorem dX6_near_32 : decode cX6_near 32 = .ok (.istore 5, 2) := dk_54 5 (dk_at dksX6_near_1 10 rfl rfl)
theorem dX6_near_34 : decode cX6_near 34 = .ok (.iconst 1, 1) := dk_4 (dk_at dksX6_near_1 12 rfl rfl)
theorem dX6_near_35 : decode cX6_near 35 = .ok (.istore 6, 2) := dk_54 6 (dk_at dksX6_near_1 13 rfl rfl)
theorem dX6_near_37 : decode cX6_near 37 = .ok (.iload 6, 2) := dk_21 6 (dk_at dksX6_near_1 15 rfl rfl)
theorem dX6_near_39 : decode cX6_near 39 = .ok (.aload_n 0, 1) := dk_42 (dk_at dksX6_near_1 17 rfl rfl)
theorem dX6_near_40 : decode cX6_near 40 = .ok (.iload_n 1, 1) := dk_27 (dk_at dksX6_near_1 18 rfl rfl)
theorem dX6_near_41 : decode cX6_near 41 = .ok (.invokevirtual 278, 3) := dk_182 1 22 (dk_at dksX6_near_1 19 rfl rfl)
theorem dX6_near_44 : decode cX6_near 44 = .ok (.if_icmp .ge 83, 3) := dk_162 0 83 (dk_at dksX6_near_2 0 rfl rfl)
theorem dX6_near_47 : decode cX6_near 47 = .ok (.aload_n 0, 1) := dk_42 (dk_at dksX6_near_2 3 rfl rfl)
theorem dX6_near_48 : decode cX6_near 48 = .ok (.iload_n 2, 1) := dk_28 (dk_at dksX6_near_2 4 rfl rfl)
theorem dX6_near_49 : decode cX6_near 49 = .ok (.aload_n 0, 1) := dk_42 (dk_at dksX6_near_2 5 rfl rfl)
theorem dX6_near_50 : decode cX6_near 50 = .ok (.iload_n 1, 1) := dk_27 (dk_at dksX6_near_2 6 rfl rfl)
theorem dX6_near_51 : decode cX6_near 51 = .ok (.iload 6, 2) := dk_21 6 (dk_at dksX6_near_2 7 rfl rfl)
theorem dX6_near_53 : decode cX6_near 53 = .ok (.iconst 1, 1) := dk_4 (dk_at dksX6_near_2 9 rfl rfl)
theorem dX6_near_54 : decode cX6_near 54 = .ok (.isub, 1) := dk_100 (dk_at dksX6_near_2 10 rfl rfl)
theorem dX6_near_55 : decode cX6_near 55 = .ok (.invokevirtual 281, 3) := dk_182 1 25 (dk_at dksX6_near_2 11 rfl rfl)
theorem dX6_near_58 : decode cX6_near 58 = .ok (.invokevirtual 376, 3) := dk_182 1 120 (dk_at dksX6_near_2 14 rfl rfl)
theorem dX6_near_61 : decode cX6_near 61 = .ok (.istore 7, 2) := dk_54 7 (dk_at dksX6_near_2 17 rfl rfl)
theorem dX6_near_63 : decode cX6_near 63 = .ok (.aload_n 0, 1) := dk_42 (dk_at dksX6_near_2 19 rfl rfl)
theorem dX6_near_64 : decode cX6_near 64 = .ok (.iload_n 2, 1) := dk_28 (dk_at dksX6_near_2 20 rfl rfl)
theorem dX6_near_65 : decode cX6_near 65 = .ok (.aload_n 0, 1) := dk_42 (dk_at dksX6_near_2 21 rfl rfl)
theorem dX6_near_66 : decode cX6_near 66 = .ok (.iload_n 1, 1) := dk_27 (dk_at dksX6_near_2 22 rfl rfl)
theorem dX6_near_67 : decode cX6_near 67 = .ok (.iload 6, 2) := dk_21 6 (dk_at dksX6_near_3 0 rfl rfl)
theorem dX6_near_69 : decode cX6_near 69 = .ok (.invokevirtual 281, 3) := dk_182 1 25 (dk_at dksX6_near_3 2 rfl rfl)
theorem dX6_near_72 : decode cX6_near 72 = .ok (.invokevirtual 376, 3) := dk_182 1 120 (dk_at dksX6_near_3 5 rfl rfl)
theorem dX6_near_75 : decode cX6_near 75 = .ok (.istore 8, 2) := dk_54 8 (dk_at dksX6_near_3 8 rfl rfl)
theorem dX6_near_77 : decode cX6_near 77 = .ok (.iload 5, 2) := dk_21 5 (dk_at dksX6_near_3 10 rfl rfl)
theorem dX6_near_79 : decode cX6_near 79 = .ok (.iload 7, 2) := dk_21 7 (dk_at dksX6_near_3 12 rfl rfl)
theorem dX6_near_81 : decode cX6_near 81 = .ok (.iconst (-1), 1) := dk_2 (dk_at dksX6_near_3 14 rfl rfl)
theorem dX6_near_82 : decode cX6_near 82 = .ok (.if_icmp .eq 35, 3) := dk_159 0 35 (dk_at dksX6_near_3 15 rfl rfl)
theorem dX6_near_85 : decode cX6_near 85 = .ok (.iload 8, 2) := dk_21 8 (dk_at dksX6_near_3 18 rfl rfl)
theorem dX6_near_87 : decode cX6_near 87 = .ok (.iconst (-1), 1) := dk_2 (dk_at dksX6_near_3 20 rfl rfl)
theorem dX6_near_88 : decode cX6_near 88 = .ok (.if_icmp .eq 29, 3) := dk_159 0 29 (dk_at dksX6_near_3 21 rfl rfl)
theorem dX6_near_91 : decode cX6_near 91 = .ok (.iload 4, 2) := dk_21 4 (dk_at dksX6_near_4 0 rfl rfl)
theorem dX6_near_93 : decode cX6_near 93 = .ok (.ifCond .eq 11, 3) := dk_153 0 11 (dk_at dksX6_near_4 2 rfl rfl)
theorem dX6_near_96 : decode cX6_near 96 = .ok (.iload 7, 2) := dk_21 7 (dk_at dksX6_near_4 5 rfl rfl)
theorem dX6_near_98 : decode cX6_near 98 = .ok (.iload 8, 2) := dk_21 8 (dk_at dksX6_near_4 7 rfl rfl)
theorem dX6_near_100 : decode cX6_near 100 = .ok (.isub, 1) := dk_100 (dk_at dksX6_near_4 9 rfl rfl)
theorem dX6_near_101 : decode cX6_near 101 = .ok (.goto 8, 3) := dk_167 0 8 (dk_at dksX6_near_4 10 rfl rfl)
theorem dX6_near_104 : decode cX6_near 104 = .ok (.iload 8, 2) := dk_21 8 (dk_at dksX6_near_4 13 rfl rfl)
theorem dX6_near_106 : decode cX6_near 106 = .ok (.iload 7, 2) := dk_21 7 (dk_at dksX6_near_4 15 rfl rfl)
theorem dX6_near_108 : decode cX6_near 108 = .ok (.isub, 1) := dk_100 (dk_at dksX6_near_4 17 rfl rfl)
theorem dX6_near_109 : decode cX6_near 109 = .ok (.iload_n 3, 1) := dk_29 (dk_at dksX6_near_4 18 rfl rfl)
theorem dX6_near_110 : decode cX6_near 110 = .ok (.if_icmp .ne 7, 3) := dk_160 0 7 (dk_at dksX6_near_4 19 rfl rfl)
theorem dX6_near_113 : decode cX6_near 113 = .ok (.iconst 1, 1) := dk_4 (dk_at dksX6_near_4 22 rfl rfl)
theorem dX6_near_114 : decode cX6_near 114 = .ok (.goto 4, 3) := dk_167 0 4 (dk_at dksX6_near_5 0 rfl rfl)
theorem dX6_near_117 : decode cX6_near 117 = .ok (.iconst 0, 1) := dk_3 (dk_at dksX6_near_5 3 rfl rfl)
theorem dX6_near_118 : decode cX6_near 118 = .ok (.iadd, 1) := dk_96 (dk_at dksX6_near_5 4 rfl rfl)
theorem dX6_near_119 : decode cX6_near 119 = .ok (.istore 5, 2) := dk_54 5 (dk_at dksX6_near_5 5 rfl rfl)
theorem dX6_near_121 : decode cX6_near 121 = .ok (.iinc 6 1, 3) := dk_132 6 1 (dk_at dksX6_near_5 7 rfl rfl)
theorem dX6_near_124 : decode cX6_near 124 = .ok (.goto (-87), 3) := dk_167 255 169 (dk_at dksX6_near_5 10 rfl rfl)
theorem dX6_near_127 : decode cX6_near 127 = .ok (.iload 5, 2) := dk_21 5 (dk_at dksX6_near_5 13 rfl rfl)
theorem dX6_near_129 : decode cX6_near 129 = .ok (.ireturn, 1) := dk_172 (dk_at dksX6_near_5 15 rfl rfl)
abbrev cX6_placeIn : ByteArray := prog_18_method_81_code
def yX6_placeIn : MethodName := ⟨RX6, "placeIn", "(II)I"⟩
def dkwX6_placeIn_1 : List UInt8 := [132, 3, 1, 167, 255, 232, 2, 172]
abbrev dktX6_placeIn_1 : List UInt8 := dkwX6_placeIn_1 ++ []
def dkwX6_placeIn_0 : List UInt8 := [3, 62, 29, 42, 27, 182, 1, 22, 162, 0, 21, 42, 27, 29, 182, 1, 25, 28, 160, 0, 5, 29, 172]
abbrev dktX6_placeIn_0 : List UInt8 := dkwX6_placeIn_0 ++ dktX6_placeIn_1
theorem dksX6_placeIn_0 : cX6_placeIn.data.toList.drop 0 = dktX6_placeIn_0 := by decide +kernel
theorem dksX6_placeIn_1 : cX6_placeIn.data.toList.drop 23 = dktX6_placeIn_1 := dk_seg dksX6_placeIn_0 23 rfl rfl
theorem dX6_placeIn_0 : decode cX6_placeIn 0 = .ok (.iconst 0, 1) := dk_3 (dk_at dksX6_placeIn_0 0 rfl rfl)
theorem dX6_placeIn_1 : decode cX6_placeIn 1 = .ok (.istore_n 3, 1) := dk_62 (dk_at dksX6_placeIn_0 1 rfl rfl)
theorem dX6_placeIn_2 : decode cX6_placeIn 2 = .ok (.iload_n 3, 1) := dk_29 (dk_at dksX6_placeIn_0 2 rfl rfl)
theorem dX6_placeIn_3 : decode cX6_placeIn 3 = .ok (.aload_n 0, 1) := dk_42 (dk_at dksX6_placeIn_0 3 rfl rfl)
theorem dX6_placeIn_4 : decode cX6_placeIn 4 = .ok (.iload_n 1, 1) := dk_27 (dk_at dksX6_placeIn_0 4 rfl rfl)
theorem dX6_placeIn_5 : decode cX6_placeIn 5 = .ok (.invokevirtual 278, 3) := dk_182 1 22 (dk_at dksX6_placeIn_0 5 rfl rfl)
theorem dX6_placeIn_8 : decode cX6_placeIn 8 = .ok (.if_icmp .ge 21, 3) := dk_162 0 21 (dk_at dksX6_placeIn_0 8 rfl rfl)
theorem dX6_placeIn_11 : decode cX6_placeIn 11 = .ok (.aload_n 0, 1) := dk_42 (dk_at dksX6_placeIn_0 11 rfl rfl)
theorem dX6_placeIn_12 : decode cX6_placeIn 12 = .ok (.iload_n 1, 1) := dk_27 (dk_at dksX6_placeIn_0 12 rfl rfl)
theorem dX6_placeIn_13 : decode cX6_placeIn 13 = .ok (.iload_n 3, 1) := dk_29 (dk_at dksX6_placeIn_0 13 rfl rfl)
theorem dX6_placeIn_14 : decode cX6_placeIn 14 = .ok (.invokevirtual 281, 3) := dk_182 1 25 (dk_at dksX6_placeIn_0 14 rfl rfl)
theorem dX6_placeIn_17 : decode cX6_placeIn 17 = .ok (.iload_n 2, 1) := dk_28 (dk_at dksX6_placeIn_0 17 rfl rfl)
theorem dX6_placeIn_18 : decode cX6_placeIn 18 = .ok (.if_icmp .ne 5, 3) := dk_160 0 5 (dk_at dksX6_placeIn_0 18 rfl rfl)
theorem dX6_placeIn_21 : decode cX6_placeIn 21 = .ok (.iload_n 3, 1) := dk_29 (dk_at dksX6_placeIn_0 21 rfl rfl)
theorem dX6_placeIn_22 : decode cX6_placeIn 22 = .ok (.ireturn, 1) := dk_172 (dk_at dksX6_placeIn_0 22 rfl rfl)
theorem dX6_placeIn_23 : decode cX6_placeIn 23 = .ok (.iinc 3 1, 3) := dk_132 3 1 (dk_at dksX6_placeIn_1 0 rfl rfl)
theorem dX6_placeIn_26 : decode cX6_placeIn 26 = .ok (.goto (-24), 3) := dk_167 255 232 (dk_at dksX6_placeIn_1 3 rfl rfl)
theorem dX6_placeIn_29 : decode cX6_placeIn 29 = .ok (.iconst (-1), 1) := dk_2 (dk_at dksX6_placeIn_1 6 rfl rfl)
theorem dX6_placeIn_30 : decode cX6_placeIn 30 = .ok (.ireturn, 1) := dk_172 (dk_at dksX6_placeIn_1 7 rfl rfl)
abbrev cX6_fit : ByteArray := prog_18_method_84_code
def yX6_fit : MethodName := ⟨RX6, "fit", "(IIIII)I"⟩
def dkwX6_fit_9 : List UInt8 := [160, 0, 8, 21, 7, 167, 0, 5, 21, 8, 172]
abbrev dktX6_fit_9 : List UInt8 := dkwX6_fit_9 ++ []
def dkwX6_fit_8 : List UInt8 := [181, 0, 240, 167, 255, 201, 42, 2, 181, 0, 55, 21, 5, 154, 0, 8, 21, 6, 167, 0, 16, 21, 5, 4]
abbrev dktX6_fit_8 : List UInt8 := dkwX6_fit_8 ++ dktX6_fit_9
def dkwX6_fit_7 : List UInt8 := [180, 0, 240, 167, 0, 5, 21, 7, 54, 7, 42, 180, 0, 240, 54, 8, 42, 89, 180, 0, 240, 4, 96]
abbrev dktX6_fit_7 : List UInt8 := dkwX6_fit_7 ++ dktX6_fit_8
def dkwX6_fit_6 : List UInt8 := [163, 0, 52, 42, 182, 1, 123, 154, 0, 6, 167, 0, 29, 132, 6, 1, 21, 7, 2, 160, 0, 10, 42]
abbrev dktX6_fit_6 : List UInt8 := dkwX6_fit_6 ++ dktX6_fit_7
def dkwX6_fit_5 : List UInt8 := [2, 54, 8, 42, 7, 27, 104, 28, 96, 181, 0, 55, 42, 29, 181, 0, 240, 42, 180, 0, 240, 21, 4]
abbrev dktX6_fit_5 : List UInt8 := dkwX6_fit_5 ++ dktX6_fit_6
def dkwX6_fit_4 : List UInt8 := [180, 0, 13, 5, 46, 42, 180, 0, 13, 16, 9, 46, 159, 0, 6, 16, 251, 172, 3, 54, 6, 2, 54, 7]
abbrev dktX6_fit_4 : List UInt8 := dkwX6_fit_4 ++ dktX6_fit_5
def dkwX6_fit_3 : List UInt8 := [172, 42, 180, 0, 17, 17, 7, 224, 46, 17, 1, 144, 163, 0, 26, 42, 180, 0, 95, 157, 0, 19, 42]
abbrev dktX6_fit_3 : List UInt8 := dkwX6_fit_3 ++ dktX6_fit_4
def dkwX6_fit_2 : List UInt8 := [21, 4, 29, 100, 16, 30, 163, 0, 16, 21, 5, 133, 9, 20, 0, 86, 184, 0, 88, 154, 0, 6, 16, 254]
abbrev dktX6_fit_2 : List UInt8 := dkwX6_fit_2 ++ dktX6_fit_3
def dkwX6_fit_1 : List UInt8 := [9, 21, 4, 133, 184, 0, 88, 153, 0, 38, 21, 4, 133, 9, 20, 0, 253, 184, 0, 88, 153, 0, 25]
abbrev dktX6_fit_1 : List UInt8 := dkwX6_fit_1 ++ dktX6_fit_2
def dkwX6_fit_0 : List UInt8 := [27, 133, 9, 10, 184, 0, 88, 153, 0, 62, 28, 133, 9, 20, 0, 251, 184, 0, 88, 153, 0, 50, 29, 133]
abbrev dktX6_fit_0 : List UInt8 := dkwX6_fit_0 ++ dktX6_fit_1
theorem dksX6_fit_0 : cX6_fit.data.toList.drop 0 = dktX6_fit_0 := by decide +kernel
theorem dksX6_fit_1 : cX6_fit.data.toList.drop 24 = dktX6_fit_1 := dk_seg dksX6_fit_0 24 rfl rfl
theorem dksX6_fit_2 : cX6_fit.data.toList.drop 47 = dktX6_fit_2 := dk_seg dksX6_fit_1 23 rfl rfl
theorem dksX6_fit_3 : cX6_fit.data.toList.drop 71 = dktX6_fit_3 := dk_seg dksX6_fit_2 24 rfl rfl
theorem dksX6_fit_4 : cX6_fit.data.toList.drop 94 = dktX6_fit_4 := dk_seg dksX6_fit_3 23 rfl rfl
theorem dksX6_fit_5 : cX6_fit.data.toList.drop 118 = dktX6_fit_5 := dk_seg dksX6_fit_4 24 rfl rfl
theorem dksX6_fit_6 : cX6_fit.data.toList.drop 141 = dktX6_fit_6 := dk_seg dksX6_fit_5 23 rfl rfl
theorem dksX6_fit_7 : cX6_fit.data.toList.drop 164 = dktX6_fit_7 := dk_seg dksX6_fit_6 23 rfl rfl
theorem dksX6_fit_8 : cX6_fit.data.toList.drop 187 = dktX6_fit_8 := dk_seg dksX6_fit_7 23 rfl rfl
theorem dksX6_fit_9 : cX6_fit.data.toList.drop 211 = dktX6_fit_9 := dk_seg dksX6_fit_8 24 rfl rfl
theorem dX6_fit_0 : decode cX6_fit 0 = .ok (.iload_n 1, 1) := dk_27 (dk_at dksX6_fit_0 0 rfl rfl)
theorem dX6_fit_1 : decode cX6_fit 1 = .ok (.i2l, 1) := dk_133 (dk_at dksX6_fit_0 1 rfl rfl)
theorem dX6_fit_2 : decode cX6_fit 2 = .ok (.lconst 0, 1) := dk_9 (dk_at dksX6_fit_0 2 rfl rfl)
theorem dX6_fit_3 : decode cX6_fit 3 = .ok (.lconst 1, 1) := dk_10 (dk_at dksX6_fit_0 3 rfl rfl)
theorem dX6_fit_4 : decode cX6_fit 4 = .ok (.invokestatic 88, 3) := dk_184 0 88 (dk_at dksX6_fit_0 4 rfl rfl)
theorem dX6_fit_7 : decode cX6_fit 7 = .ok (.ifCond .eq 62, 3) := dk_153 0 62 (dk_at dksX6_fit_0 7 rfl rfl)
theorem dX6_fit_10 : decode cX6_fit 10 = .ok (.iload_n 2, 1) := dk_28 (dk_at dksX6_fit_0 10 rfl rfl)
theorem dX6_fit_11 : decode cX6_fit 11 = .ok (.i2l, 1) := dk_133 (dk_at dksX6_fit_0 11 rfl rfl)
theorem dX6_fit_12 : decode cX6_fit 12 = .ok (.lconst 0, 1) := dk_9 (dk_at dksX6_fit_0 12 rfl rfl)
theorem dX6_fit_13 : decode cX6_fit 13 = .ok (.ldc2_w 251, 3) := dk_20 0 251 (dk_at dksX6_fit_0 13 rfl rfl)
theorem dX6_fit_16 : decode cX6_fit 16 = .ok (.invokestatic 88, 3) := dk_184 0 88 (dk_at dksX6_fit_0 16 rfl rfl)
theorem dX6_fit_19 : decode cX6_fit 19 = .ok (.ifCond .eq 50, 3) := dk_153 0 50 (dk_at dksX6_fit_0 19 rfl rfl)
theorem dX6_fit_22 : decode cX6_fit 22 = .ok (.iload_n 3, 1) := dk_29 (dk_at dksX6_fit_0 22 rfl rfl)
theorem dX6_fit_23 : decode cX6_fit 23 = .ok (.i2l, 1) := dk_133 (dk_at dksX6_fit_0 23 rfl rfl)
theorem dX6_fit_24 : decode cX6_fit 24 = .ok (.lconst 0, 1) := dk_9 (dk_at dksX6_fit_1 0 rfl rfl)
theorem dX6_fit_25 : decode cX6_fit 25 = .ok (.iload 4, 2) := dk_21 4 (dk_at dksX6_fit_1 1 rfl rfl)
theorem dX6_fit_27 : decode cX6_fit 27 = .ok (.i2l, 1) := dk_133 (dk_at dksX6_fit_1 3 rfl rfl)
theorem dX6_fit_28 : decode cX6_fit 28 = .ok (.invokestatic 88, 3) := dk_184 0 88 (dk_at dksX6_fit_1 4 rfl rfl)
theorem dX6_fit_31 : decode cX6_fit 31 = .ok (.ifCond .eq 38, 3) := dk_153 0 38 (dk_at dksX6_fit_1 7 rfl rfl)
theorem dX6_fit_34 : decode cX6_fit 34 = .ok (.iload 4, 2) := dk_21 4 (dk_at dksX6_fit_1 10 rfl rfl)
theorem dX6_fit_36 : decode cX6_fit 36 = .ok (.i2l, 1) := dk_133 (dk_at dksX6_fit_1 12 rfl rfl)
theorem dX6_fit_37 : decode cX6_fit 37 = .ok (.lconst 0, 1) := dk_9 (dk_at dksX6_fit_1 13 rfl rfl)
theorem dX6_fit_38 : decode cX6_fit 38 = .ok (.ldc2_w 253, 3) := dk_20 0 253 (dk_at dksX6_fit_1 14 rfl rfl)
theorem dX6_fit_41 : decode cX6_fit 41 = .ok (.invokestatic 88, 3) := dk_184 0 88 (dk_at dksX6_fit_1 17 rfl rfl)
theorem dX6_fit_44 : decode cX6_fit 44 = .ok (.ifCond .eq 25, 3) := dk_153 0 25 (dk_at dksX6_fit_1 20 rfl rfl)
theorem dX6_fit_47 : decode cX6_fit 47 = .ok (.iload 4, 2) := dk_21 4 (dk_at dksX6_fit_2 0 rfl rfl)
theorem dX6_fit_49 : decode cX6_fit 49 = .ok (.iload_n 3, 1) := dk_29 (dk_at dksX6_fit_2 2 rfl rfl)
theorem dX6_fit_50 : decode cX6_fit 50 = .ok (.isub, 1) := dk_100 (dk_at dksX6_fit_2 3 rfl rfl)
theorem dX6_fit_51 : decode cX6_fit 51 = .ok (.bipush 30, 2) := dk_16 30 (dk_at dksX6_fit_2 4 rfl rfl)
theorem dX6_fit_53 : decode cX6_fit 53 = .ok (.if_icmp .gt 16, 3) := dk_163 0 16 (dk_at dksX6_fit_2 6 rfl rfl)
theorem dX6_fit_56 : decode cX6_fit 56 = .ok (.iload 5, 2) := dk_21 5 (dk_at dksX6_fit_2 9 rfl rfl)
theorem dX6_fit_58 : decode cX6_fit 58 = .ok (.i2l, 1) := dk_133 (dk_at dksX6_fit_2 11 rfl rfl)
theorem dX6_fit_59 : decode cX6_fit 59 = .ok (.lconst 0, 1) := dk_9 (dk_at dksX6_fit_2 12 rfl rfl)
theorem dX6_fit_60 : decode cX6_fit 60 = .ok (.ldc2_w 86, 3) := dk_20 0 86 (dk_at dksX6_fit_2 13 rfl rfl)
theorem dX6_fit_63 : decode cX6_fit 63 = .ok (.invokestatic 88, 3) := dk_184 0 88 (dk_at dksX6_fit_2 16 rfl rfl)
theorem dX6_fit_66 : decode cX6_fit 66 = .ok (.ifCond .ne 6, 3) := dk_154 0 6 (dk_at dksX6_fit_2 19 rfl rfl)
theorem dX6_fit_69 : decode cX6_fit 69 = .ok (.bipush (-2), 2) := dk_16 254 (dk_at dksX6_fit_2 22 rfl rfl)
theorem dX6_fit_71 : decode cX6_fit 71 = .ok (.ireturn, 1) := dk_172 (dk_at dksX6_fit_3 0 rfl rfl)
theorem dX6_fit_72 : decode cX6_fit 72 = .ok (.aload_n 0, 1) := dk_42 (dk_at dksX6_fit_3 1 rfl rfl)
theorem dX6_fit_73 : decode cX6_fit 73 = .ok (.getfield 17, 3) := dk_180 0 17 (dk_at dksX6_fit_3 2 rfl rfl)
theorem dX6_fit_76 : decode cX6_fit 76 = .ok (.sipush 2016, 3) := dk_17 7 224 (dk_at dksX6_fit_3 5 rfl rfl)
theorem dX6_fit_79 : decode cX6_fit 79 = .ok (.iaload, 1) := dk_46 (dk_at dksX6_fit_3 8 rfl rfl)
theorem dX6_fit_80 : decode cX6_fit 80 = .ok (.sipush 400, 3) := dk_17 1 144 (dk_at dksX6_fit_3 9 rfl rfl)
theorem dX6_fit_83 : decode cX6_fit 83 = .ok (.if_icmp .gt 26, 3) := dk_163 0 26 (dk_at dksX6_fit_3 12 rfl rfl)
theorem dX6_fit_86 : decode cX6_fit 86 = .ok (.aload_n 0, 1) := dk_42 (dk_at dksX6_fit_3 15 rfl rfl)
theorem dX6_fit_87 : decode cX6_fit 87 = .ok (.getfield 95, 3) := dk_180 0 95 (dk_at dksX6_fit_3 16 rfl rfl)
theorem dX6_fit_90 : decode cX6_fit 90 = .ok (.ifCond .gt 19, 3) := dk_157 0 19 (dk_at dksX6_fit_3 19 rfl rfl)
theorem dX6_fit_93 : decode cX6_fit 93 = .ok (.aload_n 0, 1) := dk_42 (dk_at dksX6_fit_3 22 rfl rfl)
theorem dX6_fit_94 : decode cX6_fit 94 = .ok (.getfield 13, 3) := dk_180 0 13 (dk_at dksX6_fit_4 0 rfl rfl)
theorem dX6_fit_97 : decode cX6_fit 97 = .ok (.iconst 2, 1) := dk_5 (dk_at dksX6_fit_4 3 rfl rfl)
theorem dX6_fit_98 : decode cX6_fit 98 = .ok (.iaload, 1) := dk_46 (dk_at dksX6_fit_4 4 rfl rfl)
theorem dX6_fit_99 : decode cX6_fit 99 = .ok (.aload_n 0, 1) := dk_42 (dk_at dksX6_fit_4 5 rfl rfl)
theorem dX6_fit_100 : decode cX6_fit 100 = .ok (.getfield 13, 3) := dk_180 0 13 (dk_at dksX6_fit_4 6 rfl rfl)
theorem dX6_fit_103 : decode cX6_fit 103 = .ok (.bipush 9, 2) := dk_16 9 (dk_at dksX6_fit_4 9 rfl rfl)
theorem dX6_fit_105 : decode cX6_fit 105 = .ok (.iaload, 1) := dk_46 (dk_at dksX6_fit_4 11 rfl rfl)
theorem dX6_fit_106 : decode cX6_fit 106 = .ok (.if_icmp .eq 6, 3) := dk_159 0 6 (dk_at dksX6_fit_4 12 rfl rfl)
theorem dX6_fit_109 : decode cX6_fit 109 = .ok (.bipush (-5), 2) := dk_16 251 (dk_at dksX6_fit_4 15 rfl rfl)
theorem dX6_fit_111 : decode cX6_fit 111 = .ok (.ireturn, 1) := dk_172 (dk_at dksX6_fit_4 17 rfl rfl)
theorem dX6_fit_112 : decode cX6_fit 112 = .ok (.iconst 0, 1) := dk_3 (dk_at dksX6_fit_4 18 rfl rfl)
theorem dX6_fit_113 : decode cX6_fit 113 = .ok (.istore 6, 2) := dk_54 6 (dk_at dksX6_fit_4 19 rfl rfl)
theorem dX6_fit_115 : decode cX6_fit 115 = .ok (.iconst (-1), 1) := dk_2 (dk_at dksX6_fit_4 21 rfl rfl)
theorem dX6_fit_116 : decode cX6_fit 116 = .ok (.istore 7, 2) := dk_54 7 (dk_at dksX6_fit_4 22 rfl rfl)
theorem dX6_fit_118 : decode cX6_fit 118 = .ok (.iconst (-1), 1) := dk_2 (dk_at dksX6_fit_5 0 rfl rfl)
theorem dX6_fit_119 : decode cX6_fit 119 = .ok (.istore 8, 2) := dk_54 8 (dk_at dksX6_fit_5 1 rfl rfl)
theorem dX6_fit_121 : decode cX6_fit 121 = .ok (.aload_n 0, 1) := dk_42 (dk_at dksX6_fit_5 3 rfl rfl)
theorem dX6_fit_122 : decode cX6_fit 122 = .ok (.iconst 4, 1) := dk_7 (dk_at dksX6_fit_5 4 rfl rfl)
theorem dX6_fit_123 : decode cX6_fit 123 = .ok (.iload_n 1, 1) := dk_27 (dk_at dksX6_fit_5 5 rfl rfl)
theorem dX6_fit_124 : decode cX6_fit 124 = .ok (.imul, 1) := dk_104 (dk_at dksX6_fit_5 6 rfl rfl)
theorem dX6_fit_125 : decode cX6_fit 125 = .ok (.iload_n 2, 1) := dk_28 (dk_at dksX6_fit_5 7 rfl rfl)
theorem dX6_fit_126 : decode cX6_fit 126 = .ok (.iadd, 1) := dk_96 (dk_at dksX6_fit_5 8 rfl rfl)
theorem dX6_fit_127 : decode cX6_fit 127 = .ok (.putfield 55, 3) := dk_181 0 55 (dk_at dksX6_fit_5 9 rfl rfl)
theorem dX6_fit_130 : decode cX6_fit 130 = .ok (.aload_n 0, 1) := dk_42 (dk_at dksX6_fit_5 12 rfl rfl)
theorem dX6_fit_131 : decode cX6_fit 131 = .ok (.iload_n 3, 1) := dk_29 (dk_at dksX6_fit_5 13 rfl rfl)
theorem dX6_fit_132 : decode cX6_fit 132 = .ok (.putfield 240, 3) := dk_181 0 240 (dk_at dksX6_fit_5 14 rfl rfl)
theorem dX6_fit_135 : decode cX6_fit 135 = .ok (.aload_n 0, 1) := dk_42 (dk_at dksX6_fit_5 17 rfl rfl)
theorem dX6_fit_136 : decode cX6_fit 136 = .ok (.getfield 240, 3) := dk_180 0 240 (dk_at dksX6_fit_5 18 rfl rfl)
theorem dX6_fit_139 : decode cX6_fit 139 = .ok (.iload 4, 2) := dk_21 4 (dk_at dksX6_fit_5 21 rfl rfl)
theorem dX6_fit_141 : decode cX6_fit 141 = .ok (.if_icmp .gt 52, 3) := dk_163 0 52 (dk_at dksX6_fit_6 0 rfl rfl)
theorem dX6_fit_144 : decode cX6_fit 144 = .ok (.aload_n 0, 1) := dk_42 (dk_at dksX6_fit_6 3 rfl rfl)
theorem dX6_fit_145 : decode cX6_fit 145 = .ok (.invokevirtual 379, 3) := dk_182 1 123 (dk_at dksX6_fit_6 4 rfl rfl)
theorem dX6_fit_148 : decode cX6_fit 148 = .ok (.ifCond .ne 6, 3) := dk_154 0 6 (dk_at dksX6_fit_6 7 rfl rfl)
theorem dX6_fit_151 : decode cX6_fit 151 = .ok (.goto 29, 3) := dk_167 0 29 (dk_at dksX6_fit_6 10 rfl rfl)
theorem dX6_fit_154 : decode cX6_fit 154 = .ok (.iinc 6 1, 3) := dk_132 6 1 (dk_at dksX6_fit_6 13 rfl rfl)
theorem dX6_fit_157 : decode cX6_fit 157 = .ok (.iload 7, 2) := dk_21 7 (dk_at dksX6_fit_6 16 rfl rfl)
theorem dX6_fit_159 : decode cX6_fit 159 = .ok (.iconst (-1), 1) := dk_2 (dk_at dksX6_fit_6 18 rfl rfl)
theorem dX6_fit_160 : decode cX6_fit 160 = .ok (.if_icmp .ne 10, 3) := dk_160 0 10 (dk_at dksX6_fit_6 19 rfl rfl)
theorem dX6_fit_163 : decode cX6_fit 163 = .ok (.aload_n 0, 1) := dk_42 (dk_at dksX6_fit_6 22 rfl rfl)
theorem dX6_fit_164 : decode cX6_fit 164 = .ok (.getfield 240, 3) := dk_180 0 240 (dk_at dksX6_fit_7 0 rfl rfl)
theorem dX6_fit_167 : decode cX6_fit 167 = .ok (.goto 5, 3) := dk_167 0 5 (dk_at dksX6_fit_7 3 rfl rfl)
theorem dX6_fit_170 : decode cX6_fit 170 = .ok (.iload 7, 2) := dk_21 7 (dk_at dksX6_fit_7 6 rfl rfl)
theorem dX6_fit_172 : decode cX6_fit 172 = .ok (.istore 7, 2) := dk_54 7 (dk_at dksX6_fit_7 8 rfl rfl)
theorem dX6_fit_174 : decode cX6_fit 174 = .ok (.aload_n 0, 1) := dk_42 (dk_at dksX6_fit_7 10 rfl rfl)
theorem dX6_fit_175 : decode cX6_fit 175 = .ok (.getfield 240, 3) := dk_180 0 240 (dk_at dksX6_fit_7 11 rfl rfl)
theorem dX6_fit_178 : decode cX6_fit 178 = .ok (.istore 8, 2) := dk_54 8 (dk_at dksX6_fit_7 14 rfl rfl)
theorem dX6_fit_180 : decode cX6_fit 180 = .ok (.aload_n 0, 1) := dk_42 (dk_at dksX6_fit_7 16 rfl rfl)
theorem dX6_fit_181 : decode cX6_fit 181 = .ok (.dup, 1) := dk_89 (dk_at dksX6_fit_7 17 rfl rfl)
theorem dX6_fit_182 : decode cX6_fit 182 = .ok (.getfield 240, 3) := dk_180 0 240 (dk_at dksX6_fit_7 18 rfl rfl)
theorem dX6_fit_185 : decode cX6_fit 185 = .ok (.iconst 1, 1) := dk_4 (dk_at dksX6_fit_7 21 rfl rfl)
theorem dX6_fit_186 : decode cX6_fit 186 = .ok (.iadd, 1) := dk_96 (dk_at dksX6_fit_7 22 rfl rfl)
theorem dX6_fit_187 : decode cX6_fit 187 = .ok (.putfield 240, 3) := dk_181 0 240 (dk_at dksX6_fit_8 0 rfl rfl)
theorem dX6_fit_190 : decode cX6_fit 190 = .ok (.goto (-55), 3) := dk_167 255 201 (dk_at dksX6_fit_8 3 rfl rfl)
theorem dX6_fit_193 : decode cX6_fit 193 = .ok (.aload_n 0, 1) := dk_42 (dk_at dksX6_fit_8 6 rfl rfl)
theorem dX6_fit_194 : decode cX6_fit 194 = .ok (.iconst (-1), 1) := dk_2 (dk_at dksX6_fit_8 7 rfl rfl)
theorem dX6_fit_195 : decode cX6_fit 195 = .ok (.putfield 55, 3) := dk_181 0 55 (dk_at dksX6_fit_8 8 rfl rfl)
theorem dX6_fit_198 : decode cX6_fit 198 = .ok (.iload 5, 2) := dk_21 5 (dk_at dksX6_fit_8 11 rfl rfl)
theorem dX6_fit_200 : decode cX6_fit 200 = .ok (.ifCond .ne 8, 3) := dk_154 0 8 (dk_at dksX6_fit_8 13 rfl rfl)
theorem dX6_fit_203 : decode cX6_fit 203 = .ok (.iload 6, 2) := dk_21 6 (dk_at dksX6_fit_8 16 rfl rfl)
theorem dX6_fit_205 : decode cX6_fit 205 = .ok (.goto 16, 3) := dk_167 0 16 (dk_at dksX6_fit_8 18 rfl rfl)
theorem dX6_fit_208 : decode cX6_fit 208 = .ok (.iload 5, 2) := dk_21 5 (dk_at dksX6_fit_8 21 rfl rfl)
theorem dX6_fit_210 : decode cX6_fit 210 = .ok (.iconst 1, 1) := dk_4 (dk_at dksX6_fit_8 23 rfl rfl)
theorem dX6_fit_211 : decode cX6_fit 211 = .ok (.if_icmp .ne 8, 3) := dk_160 0 8 (dk_at dksX6_fit_9 0 rfl rfl)
theorem dX6_fit_214 : decode cX6_fit 214 = .ok (.iload 7, 2) := dk_21 7 (dk_at dksX6_fit_9 3 rfl rfl)
theorem dX6_fit_216 : decode cX6_fit 216 = .ok (.goto 5, 3) := dk_167 0 5 (dk_at dksX6_fit_9 5 rfl rfl)
theorem dX6_fit_219 : decode cX6_fit 219 = .ok (.iload 8, 2) := dk_21 8 (dk_at dksX6_fit_9 8 rfl rfl)
theorem dX6_fit_221 : decode cX6_fit 221 = .ok (.ireturn, 1) := dk_172 (dk_at dksX6_fit_9 10 rfl rfl)
abbrev cX6_fitsBook : ByteArray := prog_18_method_83_code
def yX6_fitsBook : MethodName := ⟨RX6, "fitsBook", "()Z"⟩
def dkwX6_fitsBook_6 : List UInt8 := [132, 2, 1, 167, 255, 126, 42, 182, 1, 53, 27, 172]
abbrev dktX6_fitsBook_6 : List UInt8 := dkwX6_fitsBook_6 ++ []
def dkwX6_fitsBook_5 : List UInt8 := [160, 0, 7, 2, 167, 0, 11, 42, 180, 0, 20, 29, 4, 96, 46, 160, 0, 7, 4, 167, 0, 4, 3, 60]
abbrev dktX6_fitsBook_5 : List UInt8 := dkwX6_fitsBook_5 ++ dktX6_fitsBook_6
def dkwX6_fitsBook_4 : List UInt8 := [167, 0, 46, 42, 42, 180, 0, 20, 29, 46, 182, 1, 50, 42, 180, 0, 20, 29, 8, 96, 46, 5]
abbrev dktX6_fitsBook_4 : List UInt8 := dkwX6_fitsBook_4 ++ dktX6_fitsBook_5
def dkwX6_fitsBook_3 : List UInt8 := [4, 96, 46, 162, 0, 19, 42, 42, 180, 0, 20, 29, 46, 182, 1, 38, 132, 4, 1, 167, 255, 230]
abbrev dktX6_fitsBook_3 : List UInt8 := dkwX6_fitsBook_3 ++ dktX6_fitsBook_4
def dkwX6_fitsBook_2 : List UInt8 := [182, 1, 69, 42, 180, 0, 20, 29, 8, 96, 46, 154, 0, 38, 3, 54, 4, 21, 4, 42, 180, 0, 20, 29]
abbrev dktX6_fitsBook_2 : List UInt8 := dkwX6_fitsBook_2 ++ dktX6_fitsBook_3
def dkwX6_fitsBook_1 : List UInt8 := [16, 6, 28, 104, 62, 42, 42, 180, 0, 20, 29, 5, 96, 46, 42, 180, 0, 17, 17, 7, 224, 46, 100]
abbrev dktX6_fitsBook_1 : List UInt8 := dkwX6_fitsBook_1 ++ dktX6_fitsBook_2
def dkwX6_fitsBook_0 : List UInt8 := [42, 182, 1, 47, 42, 182, 0, 237, 4, 60, 3, 61, 28, 42, 180, 0, 92, 162, 0, 128, 27, 153, 0, 124]
abbrev dktX6_fitsBook_0 : List UInt8 := dkwX6_fitsBook_0 ++ dktX6_fitsBook_1
theorem dksX6_fitsBook_0 : cX6_fitsBook.data.toList.drop 0 = dktX6_fitsBook_0 := by decide +kernel
theorem dksX6_fitsBook_1 : cX6_fitsBook.data.toList.drop 24 = dktX6_fitsBook_1 := dk_seg dksX6_fitsBook_0 24 rfl rfl
theorem dksX6_fitsBook_2 : cX6_fitsBook.data.toList.drop 47 = dktX6_fitsBook_2 := dk_seg dksX6_fitsBook_1 23 rfl rfl
theorem dksX6_fitsBook_3 : cX6_fitsBook.data.toList.drop 71 = dktX6_fitsBook_3 := dk_seg dksX6_fitsBook_2 24 rfl rfl
theorem dksX6_fitsBook_4 : cX6_fitsBook.data.toList.drop 93 = dktX6_fitsBook_4 := dk_seg dksX6_fitsBook_3 22 rfl rfl
theorem dksX6_fitsBook_5 : cX6_fitsBook.data.toList.drop 115 = dktX6_fitsBook_5 := dk_seg dksX6_fitsBook_4 22 rfl rfl
theorem dksX6_fitsBook_6 : cX6_fitsBook.data.toList.drop 139 = dktX6_fitsBook_6 := dk_seg dksX6_fitsBook_5 24 rfl rfl
theorem dX6_fitsBook_0 : decode cX6_fitsBook 0 = .ok (.aload_n 0, 1) := dk_42 (dk_at dksX6_fitsBook_0 0 rfl rfl)
theorem dX6_fitsBook_1 : decode cX6_fitsBook 1 = .ok (.invokevirtual 303, 3) := dk_182 1 47 (dk_at dksX6_fitsBook_0 1 rfl rfl)
theorem dX6_fitsBook_4 : decode cX6_fitsBook 4 = .ok (.aload_n 0, 1) := dk_42 (dk_at dksX6_fitsBook_0 4 rfl rfl)
theorem dX6_fitsBook_5 : decode cX6_fitsBook 5 = .ok (.invokevirtual 237, 3) := dk_182 0 237 (dk_at dksX6_fitsBook_0 5 rfl rfl)
theorem dX6_fitsBook_8 : decode cX6_fitsBook 8 = .ok (.iconst 1, 1) := dk_4 (dk_at dksX6_fitsBook_0 8 rfl rfl)
theorem dX6_fitsBook_9 : decode cX6_fitsBook 9 = .ok (.istore_n 1, 1) := dk_60 (dk_at dksX6_fitsBook_0 9 rfl rfl)
theorem dX6_fitsBook_10 : decode cX6_fitsBook 10 = .ok (.iconst 0, 1) := dk_3 (dk_at dksX6_fitsBook_0 10 rfl rfl)
theorem dX6_fitsBook_11 : decode cX6_fitsBook 11 = .ok (.istore_n 2, 1) := dk_61 (dk_at dksX6_fitsBook_0 11 rfl rfl)
theorem dX6_fitsBook_12 : decode cX6_fitsBook 12 = .ok (.iload_n 2, 1) := dk_28 (dk_at dksX6_fitsBook_0 12 rfl rfl)
theorem dX6_fitsBook_13 : decode cX6_fitsBook 13 = .ok (.aload_n 0, 1) := dk_42 (dk_at dksX6_fitsBook_0 13 rfl rfl)
theorem dX6_fitsBook_14 : decode cX6_fitsBook 14 = .ok (.getfield 92, 3) := dk_180 0 92 (dk_at dksX6_fitsBook_0 14 rfl rfl)
theorem dX6_fitsBook_17 : decode cX6_fitsBook 17 = .ok (.if_icmp .ge 128, 3) := dk_162 0 128 (dk_at dksX6_fitsBook_0 17 rfl rfl)
theorem dX6_fitsBook_20 : decode cX6_fitsBook 20 = .ok (.iload_n 1, 1) := dk_27 (dk_at dksX6_fitsBook_0 20 rfl rfl)
theorem dX6_fitsBook_21 : decode cX6_fitsBook 21 = .ok (.ifCond .eq 124, 3) := dk_153 0 124 (dk_at dksX6_fitsBook_0 21 rfl rfl)
theorem dX6_fitsBook_24 : decode cX6_fitsBook 24 = .ok (.bipush 6, 2) := dk_16 6 (dk_at dksX6_fitsBook_1 0 rfl rfl)
theorem dX6_fitsBook_26 : decode cX6_fitsBook 26 = .ok (.iload_n 2, 1) := dk_28 (dk_at dksX6_fitsBook_1 2 rfl rfl)
theorem dX6_fitsBook_27 : decode cX6_fitsBook 27 = .ok (.imul, 1) := dk_104 (dk_at dksX6_fitsBook_1 3 rfl rfl)
theorem dX6_fitsBook_28 : decode cX6_fitsBook 28 = .ok (.istore_n 3, 1) := dk_62 (dk_at dksX6_fitsBook_1 4 rfl rfl)
theorem dX6_fitsBook_29 : decode cX6_fitsBook 29 = .ok (.aload_n 0, 1) := dk_42 (dk_at dksX6_fitsBook_1 5 rfl rfl)
theorem dX6_fitsBook_30 : decode cX6_fitsBook 30 = .ok (.aload_n 0, 1) := dk_42 (dk_at dksX6_fitsBook_1 6 rfl rfl)
theorem dX6_fitsBook_31 : decode cX6_fitsBook 31 = .ok (.getfield 20, 3) := dk_180 0 20 (dk_at dksX6_fitsBook_1 7 rfl rfl)
theorem dX6_fitsBook_34 : decode cX6_fitsBook 34 = .ok (.iload_n 3, 1) := dk_29 (dk_at dksX6_fitsBook_1 10 rfl rfl)
theorem dX6_fitsBook_35 : decode cX6_fitsBook 35 = .ok (.iconst 2, 1) := dk_5 (dk_at dksX6_fitsBook_1 11 rfl rfl)
theorem dX6_fitsBook_36 : decode cX6_fitsBook 36 = .ok (.iadd, 1) := dk_96 (dk_at dksX6_fitsBook_1 12 rfl rfl)
theorem dX6_fitsBook_37 : decode cX6_fitsBook 37 = .ok (.iaload, 1) := dk_46 (dk_at dksX6_fitsBook_1 13 rfl rfl)
theorem dX6_fitsBook_38 : decode cX6_fitsBook 38 = .ok (.aload_n 0, 1) := dk_42 (dk_at dksX6_fitsBook_1 14 rfl rfl)
theorem dX6_fitsBook_39 : decode cX6_fitsBook 39 = .ok (.getfield 17, 3) := dk_180 0 17 (dk_at dksX6_fitsBook_1 15 rfl rfl)
theorem dX6_fitsBook_42 : decode cX6_fitsBook 42 = .ok (.sipush 2016, 3) := dk_17 7 224 (dk_at dksX6_fitsBook_1 18 rfl rfl)
theorem dX6_fitsBook_45 : decode cX6_fitsBook 45 = .ok (.iaload, 1) := dk_46 (dk_at dksX6_fitsBook_1 21 rfl rfl)
theorem dX6_fitsBook_46 : decode cX6_fitsBook 46 = .ok (.isub, 1) := dk_100 (dk_at dksX6_fitsBook_1 22 rfl rfl)
theorem dX6_fitsBook_47 : decode cX6_fitsBook 47 = .ok (.invokevirtual 325, 3) := dk_182 1 69 (dk_at dksX6_fitsBook_2 0 rfl rfl)
theorem dX6_fitsBook_50 : decode cX6_fitsBook 50 = .ok (.aload_n 0, 1) := dk_42 (dk_at dksX6_fitsBook_2 3 rfl rfl)
theorem dX6_fitsBook_51 : decode cX6_fitsBook 51 = .ok (.getfield 20, 3) := dk_180 0 20 (dk_at dksX6_fitsBook_2 4 rfl rfl)
theorem dX6_fitsBook_54 : decode cX6_fitsBook 54 = .ok (.iload_n 3, 1) := dk_29 (dk_at dksX6_fitsBook_2 7 rfl rfl)
theorem dX6_fitsBook_55 : decode cX6_fitsBook 55 = .ok (.iconst 5, 1) := dk_8 (dk_at dksX6_fitsBook_2 8 rfl rfl)
theorem dX6_fitsBook_56 : decode cX6_fitsBook 56 = .ok (.iadd, 1) := dk_96 (dk_at dksX6_fitsBook_2 9 rfl rfl)
theorem dX6_fitsBook_57 : decode cX6_fitsBook 57 = .ok (.iaload, 1) := dk_46 (dk_at dksX6_fitsBook_2 10 rfl rfl)
theorem dX6_fitsBook_58 : decode cX6_fitsBook 58 = .ok (.ifCond .ne 38, 3) := dk_154 0 38 (dk_at dksX6_fitsBook_2 11 rfl rfl)
theorem dX6_fitsBook_61 : decode cX6_fitsBook 61 = .ok (.iconst 0, 1) := dk_3 (dk_at dksX6_fitsBook_2 14 rfl rfl)
theorem dX6_fitsBook_62 : decode cX6_fitsBook 62 = .ok (.istore 4, 2) := dk_54 4 (dk_at dksX6_fitsBook_2 15 rfl rfl)
theorem dX6_fitsBook_64 : decode cX6_fitsBook 64 = .ok (.iload 4, 2) := dk_21 4 (dk_at dksX6_fitsBook_2 17 rfl rfl)
theorem dX6_fitsBook_66 : decode cX6_fitsBook 66 = .ok (.aload_n 0, 1) := dk_42 (dk_at dksX6_fitsBook_2 19 rfl rfl)
theorem dX6_fitsBook_67 : decode cX6_fitsBook 67 = .ok (.getfield 20, 3) := dk_180 0 20 (dk_at dksX6_fitsBook_2 20 rfl rfl)
theorem dX6_fitsBook_70 : decode cX6_fitsBook 70 = .ok (.iload_n 3, 1) := dk_29 (dk_at dksX6_fitsBook_2 23 rfl rfl)
theorem dX6_fitsBook_71 : decode cX6_fitsBook 71 = .ok (.iconst 1, 1) := dk_4 (dk_at dksX6_fitsBook_3 0 rfl rfl)
theorem dX6_fitsBook_72 : decode cX6_fitsBook 72 = .ok (.iadd, 1) := dk_96 (dk_at dksX6_fitsBook_3 1 rfl rfl)
theorem dX6_fitsBook_73 : decode cX6_fitsBook 73 = .ok (.iaload, 1) := dk_46 (dk_at dksX6_fitsBook_3 2 rfl rfl)
theorem dX6_fitsBook_74 : decode cX6_fitsBook 74 = .ok (.if_icmp .ge 19, 3) := dk_162 0 19 (dk_at dksX6_fitsBook_3 3 rfl rfl)
theorem dX6_fitsBook_77 : decode cX6_fitsBook 77 = .ok (.aload_n 0, 1) := dk_42 (dk_at dksX6_fitsBook_3 6 rfl rfl)
theorem dX6_fitsBook_78 : decode cX6_fitsBook 78 = .ok (.aload_n 0, 1) := dk_42 (dk_at dksX6_fitsBook_3 7 rfl rfl)
theorem dX6_fitsBook_79 : decode cX6_fitsBook 79 = .ok (.getfield 20, 3) := dk_180 0 20 (dk_at dksX6_fitsBook_3 8 rfl rfl)
theorem dX6_fitsBook_82 : decode cX6_fitsBook 82 = .ok (.iload_n 3, 1) := dk_29 (dk_at dksX6_fitsBook_3 11 rfl rfl)
theorem dX6_fitsBook_83 : decode cX6_fitsBook 83 = .ok (.iaload, 1) := dk_46 (dk_at dksX6_fitsBook_3 12 rfl rfl)
theorem dX6_fitsBook_84 : decode cX6_fitsBook 84 = .ok (.invokevirtual 294, 3) := dk_182 1 38 (dk_at dksX6_fitsBook_3 13 rfl rfl)
theorem dX6_fitsBook_87 : decode cX6_fitsBook 87 = .ok (.iinc 4 1, 3) := dk_132 4 1 (dk_at dksX6_fitsBook_3 16 rfl rfl)
theorem dX6_fitsBook_90 : decode cX6_fitsBook 90 = .ok (.goto (-26), 3) := dk_167 255 230 (dk_at dksX6_fitsBook_3 19 rfl rfl)
theorem dX6_fitsBook_93 : decode cX6_fitsBook 93 = .ok (.goto 46, 3) := dk_167 0 46 (dk_at dksX6_fitsBook_4 0 rfl rfl)
theorem dX6_fitsBook_96 : decode cX6_fitsBook 96 = .ok (.aload_n 0, 1) := dk_42 (dk_at dksX6_fitsBook_4 3 rfl rfl)
theorem dX6_fitsBook_97 : decode cX6_fitsBook 97 = .ok (.aload_n 0, 1) := dk_42 (dk_at dksX6_fitsBook_4 4 rfl rfl)
theorem dX6_fitsBook_98 : decode cX6_fitsBook 98 = .ok (.getfield 20, 3) := dk_180 0 20 (dk_at dksX6_fitsBook_4 5 rfl rfl)
theorem dX6_fitsBook_101 : decode cX6_fitsBook 101 = .ok (.iload_n 3, 1) := dk_29 (dk_at dksX6_fitsBook_4 8 rfl rfl)
theorem dX6_fitsBook_102 : decode cX6_fitsBook 102 = .ok (.iaload, 1) := dk_46 (dk_at dksX6_fitsBook_4 9 rfl rfl)
theorem dX6_fitsBook_103 : decode cX6_fitsBook 103 = .ok (.invokevirtual 306, 3) := dk_182 1 50 (dk_at dksX6_fitsBook_4 10 rfl rfl)
theorem dX6_fitsBook_106 : decode cX6_fitsBook 106 = .ok (.aload_n 0, 1) := dk_42 (dk_at dksX6_fitsBook_4 13 rfl rfl)
theorem dX6_fitsBook_107 : decode cX6_fitsBook 107 = .ok (.getfield 20, 3) := dk_180 0 20 (dk_at dksX6_fitsBook_4 14 rfl rfl)
theorem dX6_fitsBook_110 : decode cX6_fitsBook 110 = .ok (.iload_n 3, 1) := dk_29 (dk_at dksX6_fitsBook_4 17 rfl rfl)
theorem dX6_fitsBook_111 : decode cX6_fitsBook 111 = .ok (.iconst 5, 1) := dk_8 (dk_at dksX6_fitsBook_4 18 rfl rfl)
theorem dX6_fitsBook_112 : decode cX6_fitsBook 112 = .ok (.iadd, 1) := dk_96 (dk_at dksX6_fitsBook_4 19 rfl rfl)
theorem dX6_fitsBook_113 : decode cX6_fitsBook 113 = .ok (.iaload, 1) := dk_46 (dk_at dksX6_fitsBook_4 20 rfl rfl)
theorem dX6_fitsBook_114 : decode cX6_fitsBook 114 = .ok (.iconst 2, 1) := dk_5 (dk_at dksX6_fitsBook_4 21 rfl rfl)
theorem dX6_fitsBook_115 : decode cX6_fitsBook 115 = .ok (.if_icmp .ne 7, 3) := dk_160 0 7 (dk_at dksX6_fitsBook_5 0 rfl rfl)
theorem dX6_fitsBook_118 : decode cX6_fitsBook 118 = .ok (.iconst (-1), 1) := dk_2 (dk_at dksX6_fitsBook_5 3 rfl rfl)
theorem dX6_fitsBook_119 : decode cX6_fitsBook 119 = .ok (.goto 11, 3) := dk_167 0 11 (dk_at dksX6_fitsBook_5 4 rfl rfl)
theorem dX6_fitsBook_122 : decode cX6_fitsBook 122 = .ok (.aload_n 0, 1) := dk_42 (dk_at dksX6_fitsBook_5 7 rfl rfl)
theorem dX6_fitsBook_123 : decode cX6_fitsBook 123 = .ok (.getfield 20, 3) := dk_180 0 20 (dk_at dksX6_fitsBook_5 8 rfl rfl)
theorem dX6_fitsBook_126 : decode cX6_fitsBook 126 = .ok (.iload_n 3, 1) := dk_29 (dk_at dksX6_fitsBook_5 11 rfl rfl)
theorem dX6_fitsBook_127 : decode cX6_fitsBook 127 = .ok (.iconst 1, 1) := dk_4 (dk_at dksX6_fitsBook_5 12 rfl rfl)
theorem dX6_fitsBook_128 : decode cX6_fitsBook 128 = .ok (.iadd, 1) := dk_96 (dk_at dksX6_fitsBook_5 13 rfl rfl)
theorem dX6_fitsBook_129 : decode cX6_fitsBook 129 = .ok (.iaload, 1) := dk_46 (dk_at dksX6_fitsBook_5 14 rfl rfl)
theorem dX6_fitsBook_130 : decode cX6_fitsBook 130 = .ok (.if_icmp .ne 7, 3) := dk_160 0 7 (dk_at dksX6_fitsBook_5 15 rfl rfl)
theorem dX6_fitsBook_133 : decode cX6_fitsBook 133 = .ok (.iconst 1, 1) := dk_4 (dk_at dksX6_fitsBook_5 18 rfl rfl)
theorem dX6_fitsBook_134 : decode cX6_fitsBook 134 = .ok (.goto 4, 3) := dk_167 0 4 (dk_at dksX6_fitsBook_5 19 rfl rfl)
theorem dX6_fitsBook_137 : decode cX6_fitsBook 137 = .ok (.iconst 0, 1) := dk_3 (dk_at dksX6_fitsBook_5 22 rfl rfl)
theorem dX6_fitsBook_138 : decode cX6_fitsBook 138 = .ok (.istore_n 1, 1) := dk_60 (dk_at dksX6_fitsBook_5 23 rfl rfl)
theorem dX6_fitsBook_139 : decode cX6_fitsBook 139 = .ok (.iinc 2 1, 3) := dk_132 2 1 (dk_at dksX6_fitsBook_6 0 rfl rfl)
theorem dX6_fitsBook_142 : decode cX6_fitsBook 142 = .ok (.goto (-130), 3) := dk_167 255 126 (dk_at dksX6_fitsBook_6 3 rfl rfl)
theorem dX6_fitsBook_145 : decode cX6_fitsBook 145 = .ok (.aload_n 0, 1) := dk_42 (dk_at dksX6_fitsBook_6 6 rfl rfl)
theorem dX6_fitsBook_146 : decode cX6_fitsBook 146 = .ok (.invokevirtual 309, 3) := dk_182 1 53 (dk_at dksX6_fitsBook_6 7 rfl rfl)
theorem dX6_fitsBook_149 : decode cX6_fitsBook 149 = .ok (.iload_n 1, 1) := dk_27 (dk_at dksX6_fitsBook_6 10 rfl rfl)
theorem dX6_fitsBook_150 : decode cX6_fitsBook 150 = .ok (.ireturn, 1) := dk_172 (dk_at dksX6_fitsBook_6 11 rfl rfl)
abbrev cX6_days : ByteArray := prog_18_method_85_code
def yX6_days : MethodName := ⟨RX6, "days", "(I)I"⟩
def dkwX6_days_7 : List UInt8 := [132, 3, 3, 167, 255, 114, 28, 172]
abbrev dktX6_days_7 : List UInt8 := dkwX6_days_7 ++ []
def dkwX6_days_6 : List UInt8 := [22, 6, 136, 182, 1, 126, 167, 0, 13, 42, 22, 6, 136, 22, 8, 136, 182, 1, 129, 54, 10, 132, 2, 1]
abbrev dktX6_days_6 : List UInt8 := dkwX6_days_6 ++ dktX6_days_7
def dkwX6_days_5 : List UInt8 := [184, 0, 88, 154, 0, 6, 167, 0, 42, 42, 22, 4, 136, 182, 1, 69, 22, 8, 9, 148, 154, 0, 13, 42]
abbrev dktX6_days_5 : List UInt8 := dkwX6_days_5 ++ dktX6_days_6
def dkwX6_days_4 : List UInt8 := [22, 6, 9, 42, 180, 0, 13, 5, 46, 4, 100, 133, 184, 0, 88, 153, 0, 57, 22, 8, 9, 20, 1, 62]
abbrev dktX6_days_4 : List UInt8 := dkwX6_days_4 ++ dktX6_days_5
def dkwX6_days_3 : List UInt8 := [16, 60, 27, 104, 29, 96, 5, 96, 47, 55, 8, 22, 4, 9, 20, 1, 67, 184, 0, 88, 153, 0, 75]
abbrev dktX6_days_3 : List UInt8 := dkwX6_days_3 ++ dktX6_days_4
def dkwX6_days_2 : List UInt8 := [96, 47, 55, 4, 42, 180, 0, 79, 16, 60, 27, 104, 29, 96, 4, 96, 47, 55, 6, 42, 180, 0, 79]
abbrev dktX6_days_2 : List UInt8 := dkwX6_days_2 ++ dktX6_days_3
def dkwX6_days_1 : List UInt8 := [61, 3, 62, 29, 5, 96, 42, 180, 0, 73, 27, 46, 162, 0, 136, 42, 180, 0, 79, 16, 60, 27, 104, 29]
abbrev dktX6_days_1 : List UInt8 := dkwX6_days_1 ++ dktX6_days_2
def dkwX6_days_0 : List UInt8 := [27, 184, 1, 112, 154, 0, 6, 16, 254, 172, 42, 180, 0, 73, 27, 46, 2, 160, 0, 6, 16, 250, 172, 3]
abbrev dktX6_days_0 : List UInt8 := dkwX6_days_0 ++ dktX6_days_1
theorem dksX6_days_0 : cX6_days.data.toList.drop 0 = dktX6_days_0 := by decide +kernel
theorem dksX6_days_1 : cX6_days.data.toList.drop 24 = dktX6_days_1 := dk_seg dksX6_days_0 24 rfl rfl
theorem dksX6_days_2 : cX6_days.data.toList.drop 48 = dktX6_days_2 := dk_seg dksX6_days_1 24 rfl rfl
theorem dksX6_days_3 : cX6_days.data.toList.drop 71 = dktX6_days_3 := dk_seg dksX6_days_2 23 rfl rfl
theorem dksX6_days_4 : cX6_days.data.toList.drop 94 = dktX6_days_4 := dk_seg dksX6_days_3 23 rfl rfl
theorem dksX6_days_5 : cX6_days.data.toList.drop 118 = dktX6_days_5 := dk_seg dksX6_days_4 24 rfl rfl
theorem dksX6_days_6 : cX6_days.data.toList.drop 142 = dktX6_days_6 := dk_seg dksX6_days_5 24 rfl rfl
theorem dksX6_days_7 : cX6_days.data.toList.drop 166 = dktX6_days_7 := dk_seg dksX6_days_6 24 rfl rfl
theorem dX6_days_0 : decode cX6_days 0 = .ok (.iload_n 1, 1) := dk_27 (dk_at dksX6_days_0 0 rfl rfl)
theorem dX6_days_1 : decode cX6_days 1 = .ok (.invokestatic 368, 3) := dk_184 1 112 (dk_at dksX6_days_0 1 rfl rfl)
theorem dX6_days_4 : decode cX6_days 4 = .ok (.ifCond .ne 6, 3) := dk_154 0 6 (dk_at dksX6_days_0 4 rfl rfl)
theorem dX6_days_7 : decode cX6_days 7 = .ok (.bipush (-2), 2) := dk_16 254 (dk_at dksX6_days_0 7 rfl rfl)
theorem dX6_days_9 : decode cX6_days 9 = .ok (.ireturn, 1) := dk_172 (dk_at dksX6_days_0 9 rfl rfl)
theorem dX6_days_10 : decode cX6_days 10 = .ok (.aload_n 0, 1) := dk_42 (dk_at dksX6_days_0 10 rfl rfl)
theorem dX6_days_11 : decode cX6_days 11 = .ok (.getfield 73, 3) := dk_180 0 73 (dk_at dksX6_days_0 11 rfl rfl)
theorem dX6_days_14 : decode cX6_days 14 = .ok (.iload_n 1, 1) := dk_27 (dk_at dksX6_days_0 14 rfl rfl)
theorem dX6_days_15 : decode cX6_days 15 = .ok (.iaload, 1) := dk_46 (dk_at dksX6_days_0 15 rfl rfl)
theorem dX6_days_16 : decode cX6_days 16 = .ok (.iconst (-1), 1) := dk_2 (dk_at dksX6_days_0 16 rfl rfl)
theorem dX6_days_17 : decode cX6_days 17 = .ok (.if_icmp .ne 6, 3) := dk_160 0 6 (dk_at dksX6_days_0 17 rfl rfl)
theorem dX6_days_20 : decode cX6_days 20 = .ok (.bipush (-6), 2) := dk_16 250 (dk_at dksX6_days_0 20 rfl rfl)
theorem dX6_days_22 : decode cX6_days 22 = .ok (.ireturn, 1) := dk_172 (dk_at dksX6_days_0 22 rfl rfl)
theorem dX6_days_23 : decode cX6_days 23 = .ok (.iconst 0, 1) := dk_3 (dk_at dksX6_days_0 23 rfl rfl)
theorem dX6_days_24 : decode cX6_days 24 = .ok (.istore_n 2, 1) := dk_61 (dk_at dksX6_days_1 0 rfl rfl)
theorem dX6_days_25 : decode cX6_days 25 = .ok (.iconst 0, 1) := dk_3 (dk_at dksX6_days_1 1 rfl rfl)
theorem dX6_days_26 : decode cX6_days 26 = .ok (.istore_n 3, 1) := dk_62 (dk_at dksX6_days_1 2 rfl rfl)
theorem dX6_days_27 : decode cX6_days 27 = .ok (.iload_n 3, 1) := dk_29 (dk_at dksX6_days_1 3 rfl rfl)
theorem dX6_days_28 : decode cX6_days 28 = .ok (.iconst 2, 1) := dk_5 (dk_at dksX6_days_1 4 rfl rfl)
theorem dX6_days_29 : decode cX6_days 29 = .ok (.iadd, 1) := dk_96 (dk_at dksX6_days_1 5 rfl rfl)
theorem dX6_days_30 : decode cX6_days 30 = .ok (.aload_n 0, 1) := dk_42 (dk_at dksX6_days_1 6 rfl rfl)
theorem dX6_days_31 : decode cX6_days 31 = .ok (.getfield 73, 3) := dk_180 0 73 (dk_at dksX6_days_1 7 rfl rfl)
theorem dX6_days_34 : decode cX6_days 34 = .ok (.iload_n 1, 1) := dk_27 (dk_at dksX6_days_1 10 rfl rfl)
theorem dX6_days_35 : decode cX6_days 35 = .ok (.iaload, 1) := dk_46 (dk_at dksX6_days_1 11 rfl rfl)
theorem dX6_days_36 : decode cX6_days 36 = .ok (.if_icmp .ge 136, 3) := dk_162 0 136 (dk_at dksX6_days_1 12 rfl rfl)
theorem dX6_days_39 : decode cX6_days 39 = .ok (.aload_n 0, 1) := dk_42 (dk_at dksX6_days_1 15 rfl rfl)
theorem dX6_days_40 : decode cX6_days 40 = .ok (.getfield 79, 3) := dk_180 0 79 (dk_at dksX6_days_1 16 rfl rfl)
theorem dX6_days_43 : decode cX6_days 43 = .ok (.bipush 60, 2) := dk_16 60 (dk_at dksX6_days_1 19 rfl rfl)
theorem dX6_days_45 : decode cX6_days 45 = .ok (.iload_n 1, 1) := dk_27 (dk_at dksX6_days_1 21 rfl rfl)
theorem dX6_days_46 : decode cX6_days 46 = .ok (.imul, 1) := dk_104 (dk_at dksX6_days_1 22 rfl rfl)
theorem dX6_days_47 : decode cX6_days 47 = .ok (.iload_n 3, 1) := dk_29 (dk_at dksX6_days_1 23 rfl rfl)
theorem dX6_days_48 : decode cX6_days 48 = .ok (.iadd, 1) := dk_96 (dk_at dksX6_days_2 0 rfl rfl)
theorem dX6_days_49 : decode cX6_days 49 = .ok (.laload, 1) := dk_47 (dk_at dksX6_days_2 1 rfl rfl)
theorem dX6_days_50 : decode cX6_days 50 = .ok (.lstore 4, 2) := dk_55 4 (dk_at dksX6_days_2 2 rfl rfl)
theorem dX6_days_52 : decode cX6_days 52 = .ok (.aload_n 0, 1) := dk_42 (dk_at dksX6_days_2 4 rfl rfl)
theorem dX6_days_53 : decode cX6_days 53 = .ok (.getfield 79, 3) := dk_180 0 79 (dk_at dksX6_days_2 5 rfl rfl)
theorem dX6_days_56 : decode cX6_days 56 = .ok (.bipush 60, 2) := dk_16 60 (dk_at dksX6_days_2 8 rfl rfl)
theorem dX6_days_58 : decode cX6_days 58 = .ok (.iload_n 1, 1) := dk_27 (dk_at dksX6_days_2 10 rfl rfl)
theorem dX6_days_59 : decode cX6_days 59 = .ok (.imul, 1) := dk_104 (dk_at dksX6_days_2 11 rfl rfl)
theorem dX6_days_60 : decode cX6_days 60 = .ok (.iload_n 3, 1) := dk_29 (dk_at dksX6_days_2 12 rfl rfl)
theorem dX6_days_61 : decode cX6_days 61 = .ok (.iadd, 1) := dk_96 (dk_at dksX6_days_2 13 rfl rfl)
theorem dX6_days_62 : decode cX6_days 62 = .ok (.iconst 1, 1) := dk_4 (dk_at dksX6_days_2 14 rfl rfl)
theorem dX6_days_63 : decode cX6_days 63 = .ok (.iadd, 1) := dk_96 (dk_at dksX6_days_2 15 rfl rfl)
theorem dX6_days_64 : decode cX6_days 64 = .ok (.laload, 1) := dk_47 (dk_at dksX6_days_2 16 rfl rfl)
theorem dX6_days_65 : decode cX6_days 65 = .ok (.lstore 6, 2) := dk_55 6 (dk_at dksX6_days_2 17 rfl rfl)
theorem dX6_days_67 : decode cX6_days 67 = .ok (.aload_n 0, 1) := dk_42 (dk_at dksX6_days_2 19 rfl rfl)
theorem dX6_days_68 : decode cX6_days 68 = .ok (.getfield 79, 3) := dk_180 0 79 (dk_at dksX6_days_2 20 rfl rfl)
theorem dX6_days_71 : decode cX6_days 71 = .ok (.bipush 60, 2) := dk_16 60 (dk_at dksX6_days_3 0 rfl rfl)
theorem dX6_days_73 : decode cX6_days 73 = .ok (.iload_n 1, 1) := dk_27 (dk_at dksX6_days_3 2 rfl rfl)
theorem dX6_days_74 : decode cX6_days 74 = .ok (.imul, 1) := dk_104 (dk_at dksX6_days_3 3 rfl rfl)
theorem dX6_days_75 : decode cX6_days 75 = .ok (.iload_n 3, 1) := dk_29 (dk_at dksX6_days_3 4 rfl rfl)
theorem dX6_days_76 : decode cX6_days 76 = .ok (.iadd, 1) := dk_96 (dk_at dksX6_days_3 5 rfl rfl)
theorem dX6_days_77 : decode cX6_days 77 = .ok (.iconst 2, 1) := dk_5 (dk_at dksX6_days_3 6 rfl rfl)
theorem dX6_days_78 : decode cX6_days 78 = .ok (.iadd, 1) := dk_96 (dk_at dksX6_days_3 7 rfl rfl)
theorem dX6_days_79 : decode cX6_days 79 = .ok (.laload, 1) := dk_47 (dk_at dksX6_days_3 8 rfl rfl)
theorem dX6_days_80 : decode cX6_days 80 = .ok (.lstore 8, 2) := dk_55 8 (dk_at dksX6_days_3 9 rfl rfl)
theorem dX6_days_82 : decode cX6_days 82 = .ok (.lload 4, 2) := dk_22 4 (dk_at dksX6_days_3 11 rfl rfl)
theorem dX6_days_84 : decode cX6_days 84 = .ok (.lconst 0, 1) := dk_9 (dk_at dksX6_days_3 13 rfl rfl)
theorem dX6_days_85 : decode cX6_days 85 = .ok (.ldc2_w 323, 3) := dk_20 1 67 (dk_at dksX6_days_3 14 rfl rfl)
theorem dX6_days_88 : decode cX6_days 88 = .ok (.invokestatic 88, 3) := dk_184 0 88 (dk_at dksX6_days_3 17 rfl rfl)
theorem dX6_days_91 : decode cX6_days 91 = .ok (.ifCond .eq 75, 3) := dk_153 0 75 (dk_at dksX6_days_3 20 rfl rfl)
theorem dX6_days_94 : decode cX6_days 94 = .ok (.lload 6, 2) := dk_22 6 (dk_at dksX6_days_4 0 rfl rfl)
theorem dX6_days_96 : decode cX6_days 96 = .ok (.lconst 0, 1) := dk_9 (dk_at dksX6_days_4 2 rfl rfl)
theorem dX6_days_97 : decode cX6_days 97 = .ok (.aload_n 0, 1) := dk_42 (dk_at dksX6_days_4 3 rfl rfl)
theorem dX6_days_98 : decode cX6_days 98 = .ok (.getfield 13, 3) := dk_180 0 13 (dk_at dksX6_days_4 4 rfl rfl)
theorem dX6_days_101 : decode cX6_days 101 = .ok (.iconst 2, 1) := dk_5 (dk_at dksX6_days_4 7 rfl rfl)
theorem dX6_days_102 : decode cX6_days 102 = .ok (.iaload, 1) := dk_46 (dk_at dksX6_days_4 8 rfl rfl)
theorem dX6_days_103 : decode cX6_days 103 = .ok (.iconst 1, 1) := dk_4 (dk_at dksX6_days_4 9 rfl rfl)
theorem dX6_days_104 : decode cX6_days 104 = .ok (.isub, 1) := dk_100 (dk_at dksX6_days_4 10 rfl rfl)
theorem dX6_days_105 : decode cX6_days 105 = .ok (.i2l, 1) := dk_133 (dk_at dksX6_days_4 11 rfl rfl)
theorem dX6_days_106 : decode cX6_days 106 = .ok (.invokestatic 88, 3) := dk_184 0 88 (dk_at dksX6_days_4 12 rfl rfl)
theorem dX6_days_109 : decode cX6_days 109 = .ok (.ifCond .eq 57, 3) := dk_153 0 57 (dk_at dksX6_days_4 15 rfl rfl)
theorem dX6_days_112 : decode cX6_days 112 = .ok (.lload 8, 2) := dk_22 8 (dk_at dksX6_days_4 18 rfl rfl)
theorem dX6_days_114 : decode cX6_days 114 = .ok (.lconst 0, 1) := dk_9 (dk_at dksX6_days_4 20 rfl rfl)
theorem dX6_days_115 : decode cX6_days 115 = .ok (.ldc2_w 318, 3) := dk_20 1 62 (dk_at dksX6_days_4 21 rfl rfl)
theorem dX6_days_118 : decode cX6_days 118 = .ok (.invokestatic 88, 3) := dk_184 0 88 (dk_at dksX6_days_5 0 rfl rfl)
theorem dX6_days_121 : decode cX6_days 121 = .ok (.ifCond .ne 6, 3) := dk_154 0 6 (dk_at dksX6_days_5 3 rfl rfl)
theorem dX6_days_124 : decode cX6_days 124 = .ok (.goto 42, 3) := dk_167 0 42 (dk_at dksX6_days_5 6 rfl rfl)
theorem dX6_days_127 : decode cX6_days 127 = .ok (.aload_n 0, 1) := dk_42 (dk_at dksX6_days_5 9 rfl rfl)
theorem dX6_days_128 : decode cX6_days 128 = .ok (.lload 4, 2) := dk_22 4 (dk_at dksX6_days_5 10 rfl rfl)
theorem dX6_days_130 : decode cX6_days 130 = .ok (.l2i, 1) := dk_136 (dk_at dksX6_days_5 12 rfl rfl)
theorem dX6_days_131 : decode cX6_days 131 = .ok (.invokevirtual 325, 3) := dk_182 1 69 (dk_at dksX6_days_5 13 rfl rfl)
theorem dX6_days_134 : decode cX6_days 134 = .ok (.lload 8, 2) := dk_22 8 (dk_at dksX6_days_5 16 rfl rfl)
theorem dX6_days_136 : decode cX6_days 136 = .ok (.lconst 0, 1) := dk_9 (dk_at dksX6_days_5 18 rfl rfl)
theorem dX6_days_137 : decode cX6_days 137 = .ok (.lcmp, 1) := dk_148 (dk_at dksX6_days_5 19 rfl rfl)
theorem dX6_days_138 : decode cX6_days 138 = .ok (.ifCond .ne 13, 3) := dk_154 0 13 (dk_at dksX6_days_5 20 rfl rfl)
theorem dX6_days_141 : decode cX6_days 141 = .ok (.aload_n 0, 1) := dk_42 (dk_at dksX6_days_5 23 rfl rfl)
theorem dX6_days_142 : decode cX6_days 142 = .ok (.lload 6, 2) := dk_22 6 (dk_at dksX6_days_6 0 rfl rfl)
theorem dX6_days_144 : decode cX6_days 144 = .ok (.l2i, 1) := dk_136 (dk_at dksX6_days_6 2 rfl rfl)
theorem dX6_days_145 : decode cX6_days 145 = .ok (.invokevirtual 382, 3) := dk_182 1 126 (dk_at dksX6_days_6 3 rfl rfl)
theorem dX6_days_148 : decode cX6_days 148 = .ok (.goto 13, 3) := dk_167 0 13 (dk_at dksX6_days_6 6 rfl rfl)
theorem dX6_days_151 : decode cX6_days 151 = .ok (.aload_n 0, 1) := dk_42 (dk_at dksX6_days_6 9 rfl rfl)
theorem dX6_days_152 : decode cX6_days 152 = .ok (.lload 6, 2) := dk_22 6 (dk_at dksX6_days_6 10 rfl rfl)
theorem dX6_days_154 : decode cX6_days 154 = .ok (.l2i, 1) := dk_136 (dk_at dksX6_days_6 12 rfl rfl)
theorem dX6_days_155 : decode cX6_days 155 = .ok (.lload 8, 2) := dk_22 8 (dk_at dksX6_days_6 13 rfl rfl)
theorem dX6_days_157 : decode cX6_days 157 = .ok (.l2i, 1) := dk_136 (dk_at dksX6_days_6 15 rfl rfl)
theorem dX6_days_158 : decode cX6_days 158 = .ok (.invokevirtual 385, 3) := dk_182 1 129 (dk_at dksX6_days_6 16 rfl rfl)
theorem dX6_days_161 : decode cX6_days 161 = .ok (.istore 10, 2) := dk_54 10 (dk_at dksX6_days_6 19 rfl rfl)
theorem dX6_days_163 : decode cX6_days 163 = .ok (.iinc 2 1, 3) := dk_132 2 1 (dk_at dksX6_days_6 21 rfl rfl)
theorem dX6_days_166 : decode cX6_days 166 = .ok (.iinc 3 3, 3) := dk_132 3 3 (dk_at dksX6_days_7 0 rfl rfl)
theorem dX6_days_169 : decode cX6_days 169 = .ok (.goto (-142), 3) := dk_167 255 114 (dk_at dksX6_days_7 3 rfl rfl)
theorem dX6_days_172 : decode cX6_days 172 = .ok (.iload_n 2, 1) := dk_28 (dk_at dksX6_days_7 6 rfl rfl)
theorem dX6_days_173 : decode cX6_days 173 = .ok (.ireturn, 1) := dk_172 (dk_at dksX6_days_7 7 rfl rfl)
abbrev cX6_parts : ByteArray := prog_18_method_86_code
def yX6_parts : MethodName := ⟨RX6, "parts", "(I)I"⟩
def dkwX6_parts_10 : List UInt8 := [132, 4, 1, 167, 255, 186, 28, 172]
abbrev dktX6_parts_10 : List UInt8 := dkwX6_parts_10 ++ []
def dkwX6_parts_9 : List UInt8 := [46, 100, 184, 1, 132, 54, 5, 21, 5, 29, 163, 0, 6, 167, 0, 9, 21, 4, 61, 21, 5, 62]
abbrev dktX6_parts_9 : List UInt8 := dkwX6_parts_9 ++ dktX6_parts_10
def dkwX6_parts_8 : List UInt8 := [182, 1, 22, 159, 0, 6, 167, 0, 40, 42, 21, 4, 182, 1, 77, 184, 1, 84, 42, 180, 0, 67, 21, 4]
abbrev dktX6_parts_8 : List UInt8 := dkwX6_parts_8 ++ dktX6_parts_9
def dkwX6_parts_7 : List UInt8 := [54, 4, 21, 4, 42, 180, 0, 13, 5, 46, 162, 0, 65, 42, 180, 0, 70, 21, 4, 46, 42, 21, 4]
abbrev dktX6_parts_7 : List UInt8 := dkwX6_parts_7 ++ dktX6_parts_8
def dkwX6_parts_6 : List UInt8 := [28, 42, 180, 0, 64, 28, 46, 79, 132, 2, 1, 167, 255, 234, 42, 182, 1, 53, 2, 61, 2, 62, 3]
abbrev dktX6_parts_6 : List UInt8 := dkwX6_parts_6 ++ dktX6_parts_7
def dkwX6_parts_5 : List UInt8 := [167, 0, 4, 3, 79, 132, 2, 1, 167, 255, 198, 3, 61, 28, 17, 4, 96, 162, 0, 21, 42, 180, 0, 13]
abbrev dktX6_parts_5 : List UInt8 := dkwX6_parts_5 ++ dktX6_parts_6
def dkwX6_parts_4 : List UInt8 := [3, 79, 42, 180, 0, 67, 28, 42, 28, 182, 1, 59, 153, 0, 14, 42, 28, 182, 1, 77, 184, 1, 84]
abbrev dktX6_parts_4 : List UInt8 := dkwX6_parts_4 ++ dktX6_parts_5
def dkwX6_parts_3 : List UInt8 := [162, 0, 58, 42, 180, 0, 70, 28, 42, 28, 182, 1, 59, 153, 0, 11, 42, 28, 182, 1, 22, 167, 0, 4]
abbrev dktX6_parts_3 : List UInt8 := dkwX6_parts_3 ++ dktX6_parts_4
def dkwX6_parts_2 : List UInt8 := [42, 180, 0, 13, 28, 46, 79, 132, 2, 1, 167, 255, 234, 42, 27, 182, 0, 98, 3, 61, 28, 16, 12]
abbrev dktX6_parts_2 : List UInt8 := dkwX6_parts_2 ++ dktX6_parts_3
def dkwX6_parts_1 : List UInt8 := [160, 0, 6, 16, 250, 172, 42, 182, 1, 47, 3, 61, 28, 17, 4, 96, 162, 0, 21, 42, 180, 0, 64, 28]
abbrev dktX6_parts_1 : List UInt8 := dkwX6_parts_1 ++ dktX6_parts_2
def dkwX6_parts_0 : List UInt8 := [27, 133, 9, 20, 0, 86, 184, 0, 88, 154, 0, 6, 16, 254, 172, 42, 180, 0, 35, 27, 46, 2]
abbrev dktX6_parts_0 : List UInt8 := dkwX6_parts_0 ++ dktX6_parts_1
theorem dksX6_parts_0 : cX6_parts.data.toList.drop 0 = dktX6_parts_0 := by decide +kernel
theorem dksX6_parts_1 : cX6_parts.data.toList.drop 22 = dktX6_parts_1 := dk_seg dksX6_parts_0 22 rfl rfl
theorem dksX6_parts_2 : cX6_parts.data.toList.drop 46 = dktX6_parts_2 := dk_seg dksX6_parts_1 24 rfl rfl
theorem dksX6_parts_3 : cX6_parts.data.toList.drop 69 = dktX6_parts_3 := dk_seg dksX6_parts_2 23 rfl rfl
theorem dksX6_parts_4 : cX6_parts.data.toList.drop 93 = dktX6_parts_4 := dk_seg dksX6_parts_3 24 rfl rfl
theorem dksX6_parts_5 : cX6_parts.data.toList.drop 116 = dktX6_parts_5 := dk_seg dksX6_parts_4 23 rfl rfl
theorem dksX6_parts_6 : cX6_parts.data.toList.drop 140 = dktX6_parts_6 := dk_seg dksX6_parts_5 24 rfl rfl
theorem dksX6_parts_7 : cX6_parts.data.toList.drop 163 = dktX6_parts_7 := dk_seg dksX6_parts_6 23 rfl rfl
theorem dksX6_parts_8 : cX6_parts.data.toList.drop 186 = dktX6_parts_8 := dk_seg dksX6_parts_7 23 rfl rfl
theorem dksX6_parts_9 : cX6_parts.data.toList.drop 210 = dktX6_parts_9 := dk_seg dksX6_parts_8 24 rfl rfl
theorem dksX6_parts_10 : cX6_parts.data.toList.drop 232 = dktX6_parts_10 := dk_seg dksX6_parts_9 22 rfl rfl
theorem dX6_parts_0 : decode cX6_parts 0 = .ok (.iload_n 1, 1) := dk_27 (dk_at dksX6_parts_0 0 rfl rfl)
theorem dX6_parts_1 : decode cX6_parts 1 = .ok (.i2l, 1) := dk_133 (dk_at dksX6_parts_0 1 rfl rfl)
theorem dX6_parts_2 : decode cX6_parts 2 = .ok (.lconst 0, 1) := dk_9 (dk_at dksX6_parts_0 2 rfl rfl)
theorem dX6_parts_3 : decode cX6_parts 3 = .ok (.ldc2_w 86, 3) := dk_20 0 86 (dk_at dksX6_parts_0 3 rfl rfl)
theorem dX6_parts_6 : decode cX6_parts 6 = .ok (.invokestatic 88, 3) := dk_184 0 88 (dk_at dksX6_parts_0 6 rfl rfl)
theorem dX6_parts_9 : decode cX6_parts 9 = .ok (.ifCond .ne 6, 3) := dk_154 0 6 (dk_at dksX6_parts_0 9 rfl rfl)
theorem dX6_parts_12 : decode cX6_parts 12 = .ok (.bipush (-2), 2) := dk_16 254 (dk_at dksX6_parts_0 12 rfl rfl)
theorem dX6_parts_14 : decode cX6_parts 14 = .ok (.ireturn, 1) := dk_172 (dk_at dksX6_parts_0 14 rfl rfl)
theorem dX6_parts_15 : decode cX6_parts 15 = .ok (.aload_n 0, 1) := dk_42 (dk_at dksX6_parts_0 15 rfl rfl)
theorem dX6_parts_16 : decode cX6_parts 16 = .ok (.getfield 35, 3) := dk_180 0 35 (dk_at dksX6_parts_0 16 rfl rfl)
theorem dX6_parts_19 : decode cX6_parts 19 = .ok (.iload_n 1, 1) := dk_27 (dk_at dksX6_parts_0 19 rfl rfl)
theorem dX6_parts_20 : decode cX6_parts 20 = .ok (.iaload, 1) := dk_46 (dk_at dksX6_parts_0 20 rfl rfl)
theorem dX6_parts_21 : decode cX6_parts 21 = .ok (.iconst (-1), 1) := dk_2 (dk_at dksX6_parts_0 21 rfl rfl)
theorem dX6_parts_22 : decode cX6_parts 22 = .ok (.if_icmp .ne 6, 3) := dk_160 0 6 (dk_at dksX6_parts_1 0 rfl rfl)
theorem dX6_parts_25 : decode cX6_parts 25 = .ok (.bipush (-6), 2) := dk_16 250 (dk_at dksX6_parts_1 3 rfl rfl)
theorem dX6_parts_27 : decode cX6_parts 27 = .ok (.ireturn, 1) := dk_172 (dk_at dksX6_parts_1 5 rfl rfl)
theorem dX6_parts_28 : decode cX6_parts 28 = .ok (.aload_n 0, 1) := dk_42 (dk_at dksX6_parts_1 6 rfl rfl)
theorem dX6_parts_29 : decode cX6_parts 29 = .ok (.invokevirtual 303, 3) := dk_182 1 47 (dk_at dksX6_parts_1 7 rfl rfl)
theorem dX6_parts_32 : decode cX6_parts 32 = .ok (.iconst 0, 1) := dk_3 (dk_at dksX6_parts_1 10 rfl rfl)
theorem dX6_parts_33 : decode cX6_parts 33 = .ok (.istore_n 2, 1) := dk_61 (dk_at dksX6_parts_1 11 rfl rfl)
theorem dX6_parts_34 : decode cX6_parts 34 = .ok (.iload_n 2, 1) := dk_28 (dk_at dksX6_parts_1 12 rfl rfl)
theorem dX6_parts_35 : decode cX6_parts 35 = .ok (.sipush 1120, 3) := dk_17 4 96 (dk_at dksX6_parts_1 13 rfl rfl)
theorem dX6_parts_38 : decode cX6_parts 38 = .ok (.if_icmp .ge 21, 3) := dk_162 0 21 (dk_at dksX6_parts_1 16 rfl rfl)
theorem dX6_parts_41 : decode cX6_parts 41 = .ok (.aload_n 0, 1) := dk_42 (dk_at dksX6_parts_1 19 rfl rfl)
theorem dX6_parts_42 : decode cX6_parts 42 = .ok (.getfield 64, 3) := dk_180 0 64 (dk_at dksX6_parts_1 20 rfl rfl)
theorem dX6_parts_45 : decode cX6_parts 45 = .ok (.iload_n 2, 1) := dk_28 (dk_at dksX6_parts_1 23 rfl rfl)
theorem dX6_parts_46 : decode cX6_parts 46 = .ok (.aload_n 0, 1) := dk_42 (dk_at dksX6_parts_2 0 rfl rfl)
theorem dX6_parts_47 : decode cX6_parts 47 = .ok (.getfield 13, 3) := dk_180 0 13 (dk_at dksX6_parts_2 1 rfl rfl)
theorem dX6_parts_50 : decode cX6_parts 50 = .ok (.iload_n 2, 1) := dk_28 (dk_at dksX6_parts_2 4 rfl rfl)
theorem dX6_parts_51 : decode cX6_parts 51 = .ok (.iaload, 1) := dk_46 (dk_at dksX6_parts_2 5 rfl rfl)
theorem dX6_parts_52 : decode cX6_parts 52 = .ok (.iastore, 1) := dk_79 (dk_at dksX6_parts_2 6 rfl rfl)
theorem dX6_parts_53 : decode cX6_parts 53 = .ok (.iinc 2 1, 3) := dk_132 2 1 (dk_at dksX6_parts_2 7 rfl rfl)
theorem dX6_parts_56 : decode cX6_parts 56 = .ok (.goto (-22), 3) := dk_167 255 234 (dk_at dksX6_parts_2 10 rfl rfl)
theorem dX6_parts_59 : decode cX6_parts 59 = .ok (.aload_n 0, 1) := dk_42 (dk_at dksX6_parts_2 13 rfl rfl)
theorem dX6_parts_60 : decode cX6_parts 60 = .ok (.iload_n 1, 1) := dk_27 (dk_at dksX6_parts_2 14 rfl rfl)
theorem dX6_parts_61 : decode cX6_parts 61 = .ok (.invokevirtual 98, 3) := dk_182 0 98 (dk_at dksX6_parts_2 15 rfl rfl)
theorem dX6_parts_64 : decode cX6_parts 64 = .ok (.iconst 0, 1) := dk_3 (dk_at dksX6_parts_2 18 rfl rfl)
theorem dX6_parts_65 : decode cX6_parts 65 = .ok (.istore_n 2, 1) := dk_61 (dk_at dksX6_parts_2 19 rfl rfl)
theorem dX6_parts_66 : decode cX6_parts 66 = .ok (.iload_n 2, 1) := dk_28 (dk_at dksX6_parts_2 20 rfl rfl)
theorem dX6_parts_67 : decode cX6_parts 67 = .ok (.bipush 12, 2) := dk_16 12 (dk_at dksX6_parts_2 21 rfl rfl)
theorem dX6_parts_69 : decode cX6_parts 69 = .ok (.if_icmp .ge 58, 3) := dk_162 0 58 (dk_at dksX6_parts_3 0 rfl rfl)
theorem dX6_parts_72 : decode cX6_parts 72 = .ok (.aload_n 0, 1) := dk_42 (dk_at dksX6_parts_3 3 rfl rfl)
theorem dX6_parts_73 : decode cX6_parts 73 = .ok (.getfield 70, 3) := dk_180 0 70 (dk_at dksX6_parts_3 4 rfl rfl)
theorem dX6_parts_76 : decode cX6_parts 76 = .ok (.iload_n 2, 1) := dk_28 (dk_at dksX6_parts_3 7 rfl rfl)
theorem dX6_parts_77 : decode cX6_parts 77 = .ok (.aload_n 0, 1) := dk_42 (dk_at dksX6_parts_3 8 rfl rfl)
theorem dX6_parts_78 : decode cX6_parts 78 = .ok (.iload_n 2, 1) := dk_28 (dk_at dksX6_parts_3 9 rfl rfl)
theorem dX6_parts_79 : decode cX6_parts 79 = .ok (.invokevirtual 315, 3) := dk_182 1 59 (dk_at dksX6_parts_3 10 rfl rfl)
theorem dX6_parts_82 : decode cX6_parts 82 = .ok (.ifCond .eq 11, 3) := dk_153 0 11 (dk_at dksX6_parts_3 13 rfl rfl)
theorem dX6_parts_85 : decode cX6_parts 85 = .ok (.aload_n 0, 1) := dk_42 (dk_at dksX6_parts_3 16 rfl rfl)
theorem dX6_parts_86 : decode cX6_parts 86 = .ok (.iload_n 2, 1) := dk_28 (dk_at dksX6_parts_3 17 rfl rfl)
theorem dX6_parts_87 : decode cX6_parts 87 = .ok (.invokevirtual 278, 3) := dk_182 1 22 (dk_at dksX6_parts_3 18 rfl rfl)
theorem dX6_parts_90 : decode cX6_parts 90 = .ok (.goto 4, 3) := dk_167 0 4 (dk_at dksX6_parts_3 21 rfl rfl)
theorem dX6_parts_93 : decode cX6_parts 93 = .ok (.iconst 0, 1) := dk_3 (dk_at dksX6_parts_4 0 rfl rfl)
theorem dX6_parts_94 : decode cX6_parts 94 = .ok (.iastore, 1) := dk_79 (dk_at dksX6_parts_4 1 rfl rfl)
theorem dX6_parts_95 : decode cX6_parts 95 = .ok (.aload_n 0, 1) := dk_42 (dk_at dksX6_parts_4 2 rfl rfl)
theorem dX6_parts_96 : decode cX6_parts 96 = .ok (.getfield 67, 3) := dk_180 0 67 (dk_at dksX6_parts_4 3 rfl rfl)
theorem dX6_parts_99 : decode cX6_parts 99 = .ok (.iload_n 2, 1) := dk_28 (dk_at dksX6_parts_4 6 rfl rfl)
theorem dX6_parts_100 : decode cX6_parts 100 = .ok (.aload_n 0, 1) := dk_42 (dk_at dksX6_parts_4 7 rfl rfl)
theorem dX6_parts_101 : decode cX6_parts 101 = .ok (.iload_n 2, 1) := dk_28 (dk_at dksX6_parts_4 8 rfl rfl)
theorem dX6_parts_102 : decode cX6_parts 102 = .ok (.invokevirtual 315, 3) := dk_182 1 59 (dk_at dksX6_parts_4 9 rfl rfl)
theorem dX6_parts_105 : decode cX6_parts 105 = .ok (.ifCond .eq 14, 3) := dk_153 0 14 (dk_at dksX6_parts_4 12 rfl rfl)
theorem dX6_parts_108 : decode cX6_parts 108 = .ok (.aload_n 0, 1) := dk_42 (dk_at dksX6_parts_4 15 rfl rfl)
theorem dX6_parts_109 : decode cX6_parts 109 = .ok (.iload_n 2, 1) := dk_28 (dk_at dksX6_parts_4 16 rfl rfl)
theorem dX6_parts_110 : decode cX6_parts 110 = .ok (.invokevirtual 333, 3) := dk_182 1 77 (dk_at dksX6_parts_4 17 rfl rfl)
theorem dX6_parts_113 : decode cX6_parts 113 = .ok (.invokestatic 340, 3) := dk_184 1 84 (dk_at dksX6_parts_4 20 rfl rfl)
theorem dX6_parts_116 : decode cX6_parts 116 = .ok (.goto 4, 3) := dk_167 0 4 (dk_at dksX6_parts_5 0 rfl rfl)
theorem dX6_parts_119 : decode cX6_parts 119 = .ok (.iconst 0, 1) := dk_3 (dk_at dksX6_parts_5 3 rfl rfl)
theorem dX6_parts_120 : decode cX6_parts 120 = .ok (.iastore, 1) := dk_79 (dk_at dksX6_parts_5 4 rfl rfl)
theorem dX6_parts_121 : decode cX6_parts 121 = .ok (.iinc 2 1, 3) := dk_132 2 1 (dk_at dksX6_parts_5 5 rfl rfl)
theorem dX6_parts_124 : decode cX6_parts 124 = .ok (.goto (-58), 3) := dk_167 255 198 (dk_at dksX6_parts_5 8 rfl rfl)
theorem dX6_parts_127 : decode cX6_parts 127 = .ok (.iconst 0, 1) := dk_3 (dk_at dksX6_parts_5 11 rfl rfl)
theorem dX6_parts_128 : decode cX6_parts 128 = .ok (.istore_n 2, 1) := dk_61 (dk_at dksX6_parts_5 12 rfl rfl)
theorem dX6_parts_129 : decode cX6_parts 129 = .ok (.iload_n 2, 1) := dk_28 (dk_at dksX6_parts_5 13 rfl rfl)
theorem dX6_parts_130 : decode cX6_parts 130 = .ok (.sipush 1120, 3) := dk_17 4 96 (dk_at dksX6_parts_5 14 rfl rfl)
theorem dX6_parts_133 : decode cX6_parts 133 = .ok (.if_icmp .ge 21, 3) := dk_162 0 21 (dk_at dksX6_parts_5 17 rfl rfl)
theorem dX6_parts_136 : decode cX6_parts 136 = .ok (.aload_n 0, 1) := dk_42 (dk_at dksX6_parts_5 20 rfl rfl)
theorem dX6_parts_137 : decode cX6_parts 137 = .ok (.getfield 13, 3) := dk_180 0 13 (dk_at dksX6_parts_5 21 rfl rfl)
theorem dX6_parts_140 : decode cX6_parts 140 = .ok (.iload_n 2, 1) := dk_28 (dk_at dksX6_parts_6 0 rfl rfl)
theorem dX6_parts_141 : decode cX6_parts 141 = .ok (.aload_n 0, 1) := dk_42 (dk_at dksX6_parts_6 1 rfl rfl)
theorem dX6_parts_142 : decode cX6_parts 142 = .ok (.getfield 64, 3) := dk_180 0 64 (dk_at dksX6_parts_6 2 rfl rfl)
theorem dX6_parts_145 : decode cX6_parts 145 = .ok (.iload_n 2, 1) := dk_28 (dk_at dksX6_parts_6 5 rfl rfl)
theorem dX6_parts_146 : decode cX6_parts 146 = .ok (.iaload, 1) := dk_46 (dk_at dksX6_parts_6 6 rfl rfl)
theorem dX6_parts_147 : decode cX6_parts 147 = .ok (.iastore, 1) := dk_79 (dk_at dksX6_parts_6 7 rfl rfl)
theorem dX6_parts_148 : decode cX6_parts 148 = .ok (.iinc 2 1, 3) := dk_132 2 1 (dk_at dksX6_parts_6 8 rfl rfl)
theorem dX6_parts_151 : decode cX6_parts 151 = .ok (.goto (-22), 3) := dk_167 255 234 (dk_at dksX6_parts_6 11 rfl rfl)
theorem dX6_parts_154 : decode cX6_parts 154 = .ok (.aload_n 0, 1) := dk_42 (dk_at dksX6_parts_6 14 rfl rfl)
theorem dX6_parts_155 : decode cX6_parts 155 = .ok (.invokevirtual 309, 3) := dk_182 1 53 (dk_at dksX6_parts_6 15 rfl rfl)
theorem dX6_parts_158 : decode cX6_parts 158 = .ok (.iconst (-1), 1) := dk_2 (dk_at dksX6_parts_6 18 rfl rfl)
theorem dX6_parts_159 : decode cX6_parts 159 = .ok (.istore_n 2, 1) := dk_61 (dk_at dksX6_parts_6 19 rfl rfl)
theorem dX6_parts_160 : decode cX6_parts 160 = .ok (.iconst (-1), 1) := dk_2 (dk_at dksX6_parts_6 20 rfl rfl)
theorem dX6_parts_161 : decode cX6_parts 161 = .ok (.istore_n 3, 1) := dk_62 (dk_at dksX6_parts_6 21 rfl rfl)
theorem dX6_parts_162 : decode cX6_parts 162 = .ok (.iconst 0, 1) := dk_3 (dk_at dksX6_parts_6 22 rfl rfl)
theorem dX6_parts_163 : decode cX6_parts 163 = .ok (.istore 4, 2) := dk_54 4 (dk_at dksX6_parts_7 0 rfl rfl)
theorem dX6_parts_165 : decode cX6_parts 165 = .ok (.iload 4, 2) := dk_21 4 (dk_at dksX6_parts_7 2 rfl rfl)
theorem dX6_parts_167 : decode cX6_parts 167 = .ok (.aload_n 0, 1) := dk_42 (dk_at dksX6_parts_7 4 rfl rfl)
theorem dX6_parts_168 : decode cX6_parts 168 = .ok (.getfield 13, 3) := dk_180 0 13 (dk_at dksX6_parts_7 5 rfl rfl)
theorem dX6_parts_171 : decode cX6_parts 171 = .ok (.iconst 2, 1) := dk_5 (dk_at dksX6_parts_7 8 rfl rfl)
theorem dX6_parts_172 : decode cX6_parts 172 = .ok (.iaload, 1) := dk_46 (dk_at dksX6_parts_7 9 rfl rfl)
theorem dX6_parts_173 : decode cX6_parts 173 = .ok (.if_icmp .ge 65, 3) := dk_162 0 65 (dk_at dksX6_parts_7 10 rfl rfl)
theorem dX6_parts_176 : decode cX6_parts 176 = .ok (.aload_n 0, 1) := dk_42 (dk_at dksX6_parts_7 13 rfl rfl)
theorem dX6_parts_177 : decode cX6_parts 177 = .ok (.getfield 70, 3) := dk_180 0 70 (dk_at dksX6_parts_7 14 rfl rfl)
theorem dX6_parts_180 : decode cX6_parts 180 = .ok (.iload 4, 2) := dk_21 4 (dk_at dksX6_parts_7 17 rfl rfl)
theorem dX6_parts_182 : decode cX6_parts 182 = .ok (.iaload, 1) := dk_46 (dk_at dksX6_parts_7 19 rfl rfl)
theorem dX6_parts_183 : decode cX6_parts 183 = .ok (.aload_n 0, 1) := dk_42 (dk_at dksX6_parts_7 20 rfl rfl)
theorem dX6_parts_184 : decode cX6_parts 184 = .ok (.iload 4, 2) := dk_21 4 (dk_at dksX6_parts_7 21 rfl rfl)
theorem dX6_parts_186 : decode cX6_parts 186 = .ok (.invokevirtual 278, 3) := dk_182 1 22 (dk_at dksX6_parts_8 0 rfl rfl)
theorem dX6_parts_189 : decode cX6_parts 189 = .ok (.if_icmp .eq 6, 3) := dk_159 0 6 (dk_at dksX6_parts_8 3 rfl rfl)
theorem dX6_parts_192 : decode cX6_parts 192 = .ok (.goto 40, 3) := dk_167 0 40 (dk_at dksX6_parts_8 6 rfl rfl)
theorem dX6_parts_195 : decode cX6_parts 195 = .ok (.aload_n 0, 1) := dk_42 (dk_at dksX6_parts_8 9 rfl rfl)
theorem dX6_parts_196 : decode cX6_parts 196 = .ok (.iload 4, 2) := dk_21 4 (dk_at dksX6_parts_8 10 rfl rfl)
theorem dX6_parts_198 : decode cX6_parts 198 = .ok (.invokevirtual 333, 3) := dk_182 1 77 (dk_at dksX6_parts_8 12 rfl rfl)
theorem dX6_parts_201 : decode cX6_parts 201 = .ok (.invokestatic 340, 3) := dk_184 1 84 (dk_at dksX6_parts_8 15 rfl rfl)
theorem dX6_parts_204 : decode cX6_parts 204 = .ok (.aload_n 0, 1) := dk_42 (dk_at dksX6_parts_8 18 rfl rfl)
theorem dX6_parts_205 : decode cX6_parts 205 = .ok (.getfield 67, 3) := dk_180 0 67 (dk_at dksX6_parts_8 19 rfl rfl)
theorem dX6_parts_208 : decode cX6_parts 208 = .ok (.iload 4, 2) := dk_21 4 (dk_at dksX6_parts_8 22 rfl rfl)
theorem dX6_parts_210 : decode cX6_parts 210 = .ok (.iaload, 1) := dk_46 (dk_at dksX6_parts_9 0 rfl rfl)
theorem dX6_parts_211 : decode cX6_parts 211 = .ok (.isub, 1) := dk_100 (dk_at dksX6_parts_9 1 rfl rfl)
theorem dX6_parts_212 : decode cX6_parts 212 = .ok (.invokestatic 388, 3) := dk_184 1 132 (dk_at dksX6_parts_9 2 rfl rfl)
theorem dX6_parts_215 : decode cX6_parts 215 = .ok (.istore 5, 2) := dk_54 5 (dk_at dksX6_parts_9 5 rfl rfl)
theorem dX6_parts_217 : decode cX6_parts 217 = .ok (.iload 5, 2) := dk_21 5 (dk_at dksX6_parts_9 7 rfl rfl)
theorem dX6_parts_219 : decode cX6_parts 219 = .ok (.iload_n 3, 1) := dk_29 (dk_at dksX6_parts_9 9 rfl rfl)
theorem dX6_parts_220 : decode cX6_parts 220 = .ok (.if_icmp .gt 6, 3) := dk_163 0 6 (dk_at dksX6_parts_9 10 rfl rfl)
theorem dX6_parts_223 : decode cX6_parts 223 = .ok (.goto 9, 3) := dk_167 0 9 (dk_at dksX6_parts_9 13 rfl rfl)
theorem dX6_parts_226 : decode cX6_parts 226 = .ok (.iload 4, 2) := dk_21 4 (dk_at dksX6_parts_9 16 rfl rfl)
theorem dX6_parts_228 : decode cX6_parts 228 = .ok (.istore_n 2, 1) := dk_61 (dk_at dksX6_parts_9 18 rfl rfl)
theorem dX6_parts_229 : decode cX6_parts 229 = .ok (.iload 5, 2) := dk_21 5 (dk_at dksX6_parts_9 19 rfl rfl)
theorem dX6_parts_231 : decode cX6_parts 231 = .ok (.istore_n 3, 1) := dk_62 (dk_at dksX6_parts_9 21 rfl rfl)
theorem dX6_parts_232 : decode cX6_parts 232 = .ok (.iinc 4 1, 3) := dk_132 4 1 (dk_at dksX6_parts_10 0 rfl rfl)
theorem dX6_parts_235 : decode cX6_parts 235 = .ok (.goto (-70), 3) := dk_167 255 186 (dk_at dksX6_parts_10 3 rfl rfl)
theorem dX6_parts_238 : decode cX6_parts 238 = .ok (.iload_n 2, 1) := dk_28 (dk_at dksX6_parts_10 6 rfl rfl)
theorem dX6_parts_239 : decode cX6_parts 239 = .ok (.ireturn, 1) := dk_172 (dk_at dksX6_parts_10 7 rfl rfl)
abbrev cX6_forget : ByteArray := prog_18_method_87_code
def yX6_forget : MethodName := ⟨RX6, "forget", "()I"⟩
def dkwX6_forget_1 : List UInt8 := [182, 0, 237, 42, 3, 181, 0, 92, 42, 3, 181, 0, 95, 27, 172]
abbrev dktX6_forget_1 : List UInt8 := dkwX6_forget_1 ++ []
def dkwX6_forget_0 : List UInt8 := [3, 60, 3, 61, 28, 7, 162, 0, 17, 27, 42, 28, 182, 1, 74, 96, 60, 132, 2, 1, 167, 255, 240, 42]
abbrev dktX6_forget_0 : List UInt8 := dkwX6_forget_0 ++ dktX6_forget_1
theorem dksX6_forget_0 : cX6_forget.data.toList.drop 0 = dktX6_forget_0 := by decide +kernel
theorem dksX6_forget_1 : cX6_forget.data.toList.drop 24 = dktX6_forget_1 := dk_seg dksX6_forget_0 24 rfl rfl
theorem dX6_forget_0 : decode cX6_forget 0 = .ok (.iconst 0, 1) := dk_3 (dk_at dksX6_forget_0 0 rfl rfl)
theorem dX6_forget_1 : decode cX6_forget 1 = .ok (.istore_n 1, 1) := dk_60 (dk_at dksX6_forget_0 1 rfl rfl)
theorem dX6_forget_2 : decode cX6_forget 2 = .ok (.iconst 0, 1) := dk_3 (dk_at dksX6_forget_0 2 rfl rfl)
theorem dX6_forget_3 : decode cX6_forget 3 = .ok (.istore_n 2, 1) := dk_61 (dk_at dksX6_forget_0 3 rfl rfl)
theorem dX6_forget_4 : decode cX6_forget 4 = .ok (.iload_n 2, 1) := dk_28 (dk_at dksX6_forget_0 4 rfl rfl)
theorem dX6_forget_5 : decode cX6_forget 5 = .ok (.iconst 4, 1) := dk_7 (dk_at dksX6_forget_0 5 rfl rfl)
theorem dX6_forget_6 : decode cX6_forget 6 = .ok (.if_icmp .ge 17, 3) := dk_162 0 17 (dk_at dksX6_forget_0 6 rfl rfl)
theorem dX6_forget_9 : decode cX6_forget 9 = .ok (.iload_n 1, 1) := dk_27 (dk_at dksX6_forget_0 9 rfl rfl)
theorem dX6_forget_10 : decode cX6_forget 10 = .ok (.aload_n 0, 1) := dk_42 (dk_at dksX6_forget_0 10 rfl rfl)
theorem dX6_forget_11 : decode cX6_forget 11 = .ok (.iload_n 2, 1) := dk_28 (dk_at dksX6_forget_0 11 rfl rfl)
theorem dX6_forget_12 : decode cX6_forget 12 = .ok (.invokevirtual 330, 3) := dk_182 1 74 (dk_at dksX6_forget_0 12 rfl rfl)
theorem dX6_forget_15 : decode cX6_forget 15 = .ok (.iadd, 1) := dk_96 (dk_at dksX6_forget_0 15 rfl rfl)
theorem dX6_forget_16 : decode cX6_forget 16 = .ok (.istore_n 1, 1) := dk_60 (dk_at dksX6_forget_0 16 rfl rfl)
theorem dX6_forget_17 : decode cX6_forget 17 = .ok (.iinc 2 1, 3) := dk_132 2 1 (dk_at dksX6_forget_0 17 rfl rfl)
theorem dX6_forget_20 : decode cX6_forget 20 = .ok (.goto (-16), 3) := dk_167 255 240 (dk_at dksX6_forget_0 20 rfl rfl)
theorem dX6_forget_23 : decode cX6_forget 23 = .ok (.aload_n 0, 1) := dk_42 (dk_at dksX6_forget_0 23 rfl rfl)
theorem dX6_forget_24 : decode cX6_forget 24 = .ok (.invokevirtual 237, 3) := dk_182 0 237 (dk_at dksX6_forget_1 0 rfl rfl)
theorem dX6_forget_27 : decode cX6_forget 27 = .ok (.aload_n 0, 1) := dk_42 (dk_at dksX6_forget_1 3 rfl rfl)
theorem dX6_forget_28 : decode cX6_forget 28 = .ok (.iconst 0, 1) := dk_3 (dk_at dksX6_forget_1 4 rfl rfl)
theorem dX6_forget_29 : decode cX6_forget 29 = .ok (.putfield 92, 3) := dk_181 0 92 (dk_at dksX6_forget_1 5 rfl rfl)
theorem dX6_forget_32 : decode cX6_forget 32 = .ok (.aload_n 0, 1) := dk_42 (dk_at dksX6_forget_1 8 rfl rfl)
theorem dX6_forget_33 : decode cX6_forget 33 = .ok (.iconst 0, 1) := dk_3 (dk_at dksX6_forget_1 9 rfl rfl)
theorem dX6_forget_34 : decode cX6_forget 34 = .ok (.putfield 95, 3) := dk_181 0 95 (dk_at dksX6_forget_1 10 rfl rfl)
theorem dX6_forget_37 : decode cX6_forget 37 = .ok (.iload_n 1, 1) := dk_27 (dk_at dksX6_forget_1 13 rfl rfl)
theorem dX6_forget_38 : decode cX6_forget 38 = .ok (.ireturn, 1) := dk_172 (dk_at dksX6_forget_1 14 rfl rfl)
abbrev cX6_count : ByteArray := prog_18_method_88_code
def yX6_count : MethodName := ⟨RX6, "count", "(I)I"⟩
def dkwX6_count_6 : List UInt8 := [132, 3, 1, 167, 255, 230, 28, 172, 2, 172]
abbrev dktX6_count_6 : List UInt8 := dkwX6_count_6 ++ []
def dkwX6_count_5 : List UInt8 := [62, 29, 7, 162, 0, 27, 28, 42, 180, 0, 73, 29, 46, 2, 160, 0, 7, 3, 167, 0, 4, 4, 96, 61]
abbrev dktX6_count_5 : List UInt8 := dkwX6_count_5 ++ dktX6_count_6
def dkwX6_count_4 : List UInt8 := [180, 0, 92, 172, 42, 180, 0, 13, 7, 46, 172, 42, 180, 0, 13, 8, 27, 96, 16, 8, 100, 46, 172, 3]
abbrev dktX6_count_4 : List UInt8 := dkwX6_count_4 ++ dktX6_count_5
def dkwX6_count_3 : List UInt8 := [180, 0, 102, 172, 42, 180, 0, 17, 17, 7, 224, 46, 172, 42, 180, 0, 17, 17, 7, 225, 46, 172, 42]
abbrev dktX6_count_3 : List UInt8 := dkwX6_count_3 ++ dktX6_count_4
def dkwX6_count_2 : List UInt8 := [42, 180, 0, 13, 4, 46, 172, 42, 180, 0, 13, 5, 46, 172, 42, 180, 0, 13, 3, 46, 172, 42]
abbrev dktX6_count_2 : List UInt8 := dkwX6_count_2 ++ dktX6_count_3
def dkwX6_count_1 : List UInt8 := [170, 0, 0, 0, 166, 0, 0, 0, 0, 0, 0, 0, 12, 0, 0, 0, 65, 0, 0, 0, 72, 0, 0, 0, 79, 0, 0, 0, 86, 0, 0, 0, 91, 0, 0, 0, 100, 0, 0, 0, 109, 0, 0, 0, 114, 0, 0, 0, 121, 0, 0, 0, 121, 0, 0, 0, 121, 0, 0, 0, 121, 0, 0, 0, 133]
abbrev dktX6_count_1 : List UInt8 := dkwX6_count_1 ++ dktX6_count_2
def dkwX6_count_0 : List UInt8 := [3, 61, 27]
abbrev dktX6_count_0 : List UInt8 := dkwX6_count_0 ++ dktX6_count_1
theorem dksX6_count_0 : cX6_count.data.toList.drop 0 = dktX6_count_0 := by decide +kernel
theorem dksX6_count_1 : cX6_count.data.toList.drop 3 = dktX6_count_1 := dk_seg dksX6_count_0 3 rfl rfl
theorem dksX6_count_2 : cX6_count.data.toList.drop 68 = dktX6_count_2 := dk_seg dksX6_count_1 65 rfl rfl
theorem dksX6_count_3 : cX6_count.data.toList.drop 90 = dktX6_count_3 := dk_seg dksX6_count_2 22 rfl rfl
theorem dksX6_count_4 : cX6_count.data.toList.drop 113 = dktX6_count_4 := dk_seg dksX6_count_3 23 rfl rfl
theorem dksX6_count_5 : cX6_count.data.toList.drop 137 = dktX6_count_5 := dk_seg dksX6_count_4 24 rfl rfl
theorem dksX6_count_6 : cX6_count.data.toList.drop 161 = dktX6_count_6 := dk_seg dksX6_count_5 24 rfl rfl
theorem dX6_count_0 : decode cX6_count 0 = .ok (.iconst 0, 1) := dk_3 (dk_at dksX6_count_0 0 rfl rfl)
theorem dX6_count_1 : decode cX6_count 1 = .ok (.istore_n 2, 1) := dk_61 (dk_at dksX6_count_0 1 rfl rfl)
theorem dX6_count_2 : decode cX6_count 2 = .ok (.iload_n 1, 1) := dk_27 (dk_at dksX6_count_0 2 rfl rfl)
theorem dX6_count_3 : decode cX6_count 3 = .ok (.tableswitch 166 0 12 #[65, 72, 79, 86, 91, 100, 109, 114, 121, 121, 121, 121, 133], 65) := by decide +kernel
theorem dX6_count_68 : decode cX6_count 68 = .ok (.aload_n 0, 1) := dk_42 (dk_at dksX6_count_2 0 rfl rfl)
theorem dX6_count_69 : decode cX6_count 69 = .ok (.getfield 13, 3) := dk_180 0 13 (dk_at dksX6_count_2 1 rfl rfl)
theorem dX6_count_72 : decode cX6_count 72 = .ok (.iconst 1, 1) := dk_4 (dk_at dksX6_count_2 4 rfl rfl)
theorem dX6_count_73 : decode cX6_count 73 = .ok (.iaload, 1) := dk_46 (dk_at dksX6_count_2 5 rfl rfl)
theorem dX6_count_74 : decode cX6_count 74 = .ok (.ireturn, 1) := dk_172 (dk_at dksX6_count_2 6 rfl rfl)
theorem dX6_count_75 : decode cX6_count 75 = .ok (.aload_n 0, 1) := dk_42 (dk_at dksX6_count_2 7 rfl rfl)
theorem dX6_count_76 : decode cX6_count 76 = .ok (.getfield 13, 3) := dk_180 0 13 (dk_at dksX6_count_2 8 rfl rfl)
theorem dX6_count_79 : decode cX6_count 79 = .ok (.iconst 2, 1) := dk_5 (dk_at dksX6_count_2 11 rfl rfl)
theorem dX6_count_80 : decode cX6_count 80 = .ok (.iaload, 1) := dk_46 (dk_at dksX6_count_2 12 rfl rfl)
theorem dX6_count_81 : decode cX6_count 81 = .ok (.ireturn, 1) := dk_172 (dk_at dksX6_count_2 13 rfl rfl)
theorem dX6_count_82 : decode cX6_count 82 = .ok (.aload_n 0, 1) := dk_42 (dk_at dksX6_count_2 14 rfl rfl)
theorem dX6_count_83 : decode cX6_count 83 = .ok (.getfield 13, 3) := dk_180 0 13 (dk_at dksX6_count_2 15 rfl rfl)
theorem dX6_count_86 : decode cX6_count 86 = .ok (.iconst 0, 1) := dk_3 (dk_at dksX6_count_2 18 rfl rfl)
theorem dX6_count_87 : decode cX6_count 87 = .ok (.iaload, 1) := dk_46 (dk_at dksX6_count_2 19 rfl rfl)
theorem dX6_count_88 : decode cX6_count 88 = .ok (.ireturn, 1) := dk_172 (dk_at dksX6_count_2 20 rfl rfl)
theorem dX6_count_89 : decode cX6_count 89 = .ok (.aload_n 0, 1) := dk_42 (dk_at dksX6_count_2 21 rfl rfl)
theorem dX6_count_90 : decode cX6_count 90 = .ok (.getfield 102, 3) := dk_180 0 102 (dk_at dksX6_count_3 0 rfl rfl)
theorem dX6_count_93 : decode cX6_count 93 = .ok (.ireturn, 1) := dk_172 (dk_at dksX6_count_3 3 rfl rfl)
theorem dX6_count_94 : decode cX6_count 94 = .ok (.aload_n 0, 1) := dk_42 (dk_at dksX6_count_3 4 rfl rfl)
theorem dX6_count_95 : decode cX6_count 95 = .ok (.getfield 17, 3) := dk_180 0 17 (dk_at dksX6_count_3 5 rfl rfl)
theorem dX6_count_98 : decode cX6_count 98 = .ok (.sipush 2016, 3) := dk_17 7 224 (dk_at dksX6_count_3 8 rfl rfl)
theorem dX6_count_101 : decode cX6_count 101 = .ok (.iaload, 1) := dk_46 (dk_at dksX6_count_3 11 rfl rfl)
theorem dX6_count_102 : decode cX6_count 102 = .ok (.ireturn, 1) := dk_172 (dk_at dksX6_count_3 12 rfl rfl)
theorem dX6_count_103 : decode cX6_count 103 = .ok (.aload_n 0, 1) := dk_42 (dk_at dksX6_count_3 13 rfl rfl)
theorem dX6_count_104 : decode cX6_count 104 = .ok (.getfield 17, 3) := dk_180 0 17 (dk_at dksX6_count_3 14 rfl rfl)
theorem dX6_count_107 : decode cX6_count 107 = .ok (.sipush 2017, 3) := dk_17 7 225 (dk_at dksX6_count_3 17 rfl rfl)
theorem dX6_count_110 : decode cX6_count 110 = .ok (.iaload, 1) := dk_46 (dk_at dksX6_count_3 20 rfl rfl)
theorem dX6_count_111 : decode cX6_count 111 = .ok (.ireturn, 1) := dk_172 (dk_at dksX6_count_3 21 rfl rfl)
theorem dX6_count_112 : decode cX6_count 112 = .ok (.aload_n 0, 1) := dk_42 (dk_at dksX6_count_3 22 rfl rfl)
theorem dX6_count_113 : decode cX6_count 113 = .ok (.getfield 92, 3) := dk_180 0 92 (dk_at dksX6_count_4 0 rfl rfl)
theorem dX6_count_116 : decode cX6_count 116 = .ok (.ireturn, 1) := dk_172 (dk_at dksX6_count_4 3 rfl rfl)
theorem dX6_count_117 : decode cX6_count 117 = .ok (.aload_n 0, 1) := dk_42 (dk_at dksX6_count_4 4 rfl rfl)
theorem dX6_count_118 : decode cX6_count 118 = .ok (.getfield 13, 3) := dk_180 0 13 (dk_at dksX6_count_4 5 rfl rfl)
theorem dX6_count_121 : decode cX6_count 121 = .ok (.iconst 4, 1) := dk_7 (dk_at dksX6_count_4 8 rfl rfl)
theorem dX6_count_122 : decode cX6_count 122 = .ok (.iaload, 1) := dk_46 (dk_at dksX6_count_4 9 rfl rfl)
theorem dX6_count_123 : decode cX6_count 123 = .ok (.ireturn, 1) := dk_172 (dk_at dksX6_count_4 10 rfl rfl)
theorem dX6_count_124 : decode cX6_count 124 = .ok (.aload_n 0, 1) := dk_42 (dk_at dksX6_count_4 11 rfl rfl)
theorem dX6_count_125 : decode cX6_count 125 = .ok (.getfield 13, 3) := dk_180 0 13 (dk_at dksX6_count_4 12 rfl rfl)
theorem dX6_count_128 : decode cX6_count 128 = .ok (.iconst 5, 1) := dk_8 (dk_at dksX6_count_4 15 rfl rfl)
theorem dX6_count_129 : decode cX6_count 129 = .ok (.iload_n 1, 1) := dk_27 (dk_at dksX6_count_4 16 rfl rfl)
theorem dX6_count_130 : decode cX6_count 130 = .ok (.iadd, 1) := dk_96 (dk_at dksX6_count_4 17 rfl rfl)
theorem dX6_count_131 : decode cX6_count 131 = .ok (.bipush 8, 2) := dk_16 8 (dk_at dksX6_count_4 18 rfl rfl)
theorem dX6_count_133 : decode cX6_count 133 = .ok (.isub, 1) := dk_100 (dk_at dksX6_count_4 20 rfl rfl)
theorem dX6_count_134 : decode cX6_count 134 = .ok (.iaload, 1) := dk_46 (dk_at dksX6_count_4 21 rfl rfl)
theorem dX6_count_135 : decode cX6_count 135 = .ok (.ireturn, 1) := dk_172 (dk_at dksX6_count_4 22 rfl rfl)
theorem dX6_count_136 : decode cX6_count 136 = .ok (.iconst 0, 1) := dk_3 (dk_at dksX6_count_4 23 rfl rfl)
theorem dX6_count_137 : decode cX6_count 137 = .ok (.istore_n 3, 1) := dk_62 (dk_at dksX6_count_5 0 rfl rfl)
theorem dX6_count_138 : decode cX6_count 138 = .ok (.iload_n 3, 1) := dk_29 (dk_at dksX6_count_5 1 rfl rfl)
theorem dX6_count_139 : decode cX6_count 139 = .ok (.iconst 4, 1) := dk_7 (dk_at dksX6_count_5 2 rfl rfl)
theorem dX6_count_140 : decode cX6_count 140 = .ok (.if_icmp .ge 27, 3) := dk_162 0 27 (dk_at dksX6_count_5 3 rfl rfl)
theorem dX6_count_143 : decode cX6_count 143 = .ok (.iload_n 2, 1) := dk_28 (dk_at dksX6_count_5 6 rfl rfl)
theorem dX6_count_144 : decode cX6_count 144 = .ok (.aload_n 0, 1) := dk_42 (dk_at dksX6_count_5 7 rfl rfl)
theorem dX6_count_145 : decode cX6_count 145 = .ok (.getfield 73, 3) := dk_180 0 73 (dk_at dksX6_count_5 8 rfl rfl)
theorem dX6_count_148 : decode cX6_count 148 = .ok (.iload_n 3, 1) := dk_29 (dk_at dksX6_count_5 11 rfl rfl)
theorem dX6_count_149 : decode cX6_count 149 = .ok (.iaload, 1) := dk_46 (dk_at dksX6_count_5 12 rfl rfl)
theorem dX6_count_150 : decode cX6_count 150 = .ok (.iconst (-1), 1) := dk_2 (dk_at dksX6_count_5 13 rfl rfl)
theorem dX6_count_151 : decode cX6_count 151 = .ok (.if_icmp .ne 7, 3) := dk_160 0 7 (dk_at dksX6_count_5 14 rfl rfl)
theorem dX6_count_154 : decode cX6_count 154 = .ok (.iconst 0, 1) := dk_3 (dk_at dksX6_count_5 17 rfl rfl)
theorem dX6_count_155 : decode cX6_count 155 = .ok (.goto 4, 3) := dk_167 0 4 (dk_at dksX6_count_5 18 rfl rfl)
theorem dX6_count_158 : decode cX6_count 158 = .ok (.iconst 1, 1) := dk_4 (dk_at dksX6_count_5 21 rfl rfl)
theorem dX6_count_159 : decode cX6_count 159 = .ok (.iadd, 1) := dk_96 (dk_at dksX6_count_5 22 rfl rfl)
theorem dX6_count_160 : decode cX6_count 160 = .ok (.istore_n 2, 1) := dk_61 (dk_at dksX6_count_5 23 rfl rfl)
theorem dX6_count_161 : decode cX6_count 161 = .ok (.iinc 3 1, 3) := dk_132 3 1 (dk_at dksX6_count_6 0 rfl rfl)
theorem dX6_count_164 : decode cX6_count 164 = .ok (.goto (-26), 3) := dk_167 255 230 (dk_at dksX6_count_6 3 rfl rfl)
theorem dX6_count_167 : decode cX6_count 167 = .ok (.iload_n 2, 1) := dk_28 (dk_at dksX6_count_6 6 rfl rfl)
theorem dX6_count_168 : decode cX6_count 168 = .ok (.ireturn, 1) := dk_172 (dk_at dksX6_count_6 7 rfl rfl)
theorem dX6_count_169 : decode cX6_count 169 = .ok (.iconst (-1), 1) := dk_2 (dk_at dksX6_count_6 8 rfl rfl)
theorem dX6_count_170 : decode cX6_count 170 = .ok (.ireturn, 1) := dk_172 (dk_at dksX6_count_6 9 rfl rfl)
abbrev cX6_row : ByteArray := prog_18_method_91_code
def yX6_row : MethodName := ⟨RX6, "row", "(III)I"⟩
def dkwX6_row_3 : List UInt8 := [9, 80, 132, 4, 1, 167, 255, 233, 3, 172]
abbrev dktX6_row_3 : List UInt8 := dkwX6_row_3 ++ []
def dkwX6_row_2 : List UInt8 := [27, 28, 79, 3, 54, 4, 21, 4, 16, 60, 162, 0, 22, 42, 180, 0, 79, 16, 60, 27, 104, 21, 4, 96]
abbrev dktX6_row_2 : List UInt8 := dkwX6_row_2 ++ dktX6_row_3
def dkwX6_row_1 : List UInt8 := [164, 0, 6, 16, 254, 172, 29, 156, 0, 6, 16, 253, 172, 42, 180, 0, 73, 27, 29, 79, 42, 180, 0, 76]
abbrev dktX6_row_1 : List UInt8 := dkwX6_row_1 ++ dktX6_row_2
def dkwX6_row_0 : List UInt8 := [27, 184, 1, 112, 153, 0, 21, 28, 133, 9, 20, 0, 251, 184, 0, 88, 153, 0, 9, 29, 16, 60]
abbrev dktX6_row_0 : List UInt8 := dkwX6_row_0 ++ dktX6_row_1
theorem dksX6_row_0 : cX6_row.data.toList.drop 0 = dktX6_row_0 := by decide +kernel
theorem dksX6_row_1 : cX6_row.data.toList.drop 22 = dktX6_row_1 := dk_seg dksX6_row_0 22 rfl rfl
theorem dksX6_row_2 : cX6_row.data.toList.drop 46 = dktX6_row_2 := dk_seg dksX6_row_1 24 rfl rfl
theorem dksX6_row_3 : cX6_row.data.toList.drop 70 = dktX6_row_3 := dk_seg dksX6_row_2 24 rfl rfl
theorem dX6_row_0 : decode cX6_row 0 = .ok (.iload_n 1, 1) := dk_27 (dk_at dksX6_row_0 0 rfl rfl)
theorem dX6_row_1 : decode cX6_row 1 = .ok (.invokestatic 368, 3) := dk_184 1 112 (dk_at dksX6_row_0 1 rfl rfl)
theorem dX6_row_4 : decode cX6_row 4 = .ok (.ifCond .eq 21, 3) := dk_153 0 21 (dk_at dksX6_row_0 4 rfl rfl)
theorem dX6_row_7 : decode cX6_row 7 = .ok (.iload_n 2, 1) := dk_28 (dk_at dksX6_row_0 7 rfl rfl)
theorem dX6_row_8 : decode cX6_row 8 = .ok (.i2l, 1) := dk_133 (dk_at dksX6_row_0 8 rfl rfl)
theorem dX6_row_9 : decode cX6_row 9 = .ok (.lconst 0, 1) := dk_9 (dk_at dksX6_row_0 9 rfl rfl)
theorem dX6_row_10 : decode cX6_row 10 = .ok (.ldc2_w 251, 3) := dk_20 0 251 (dk_at dksX6_row_0 10 rfl rfl)
theorem dX6_row_13 : decode cX6_row 13 = .ok (.invokestatic 88, 3) := dk_184 0 88 (dk_at dksX6_row_0 13 rfl rfl)
theorem dX6_row_16 : decode cX6_row 16 = .ok (.ifCond .eq 9, 3) := dk_153 0 9 (dk_at dksX6_row_0 16 rfl rfl)
theorem dX6_row_19 : decode cX6_row 19 = .ok (.iload_n 3, 1) := dk_29 (dk_at dksX6_row_0 19 rfl rfl)
theorem dX6_row_20 : decode cX6_row 20 = .ok (.bipush 60, 2) := dk_16 60 (dk_at dksX6_row_0 20 rfl rfl)
theorem dX6_row_22 : decode cX6_row 22 = .ok (.if_icmp .le 6, 3) := dk_164 0 6 (dk_at dksX6_row_1 0 rfl rfl)
theorem dX6_row_25 : decode cX6_row 25 = .ok (.bipush (-2), 2) := dk_16 254 (dk_at dksX6_row_1 3 rfl rfl)
theorem dX6_row_27 : decode cX6_row 27 = .ok (.ireturn, 1) := dk_172 (dk_at dksX6_row_1 5 rfl rfl)
theorem dX6_row_28 : decode cX6_row 28 = .ok (.iload_n 3, 1) := dk_29 (dk_at dksX6_row_1 6 rfl rfl)
theorem dX6_row_29 : decode cX6_row 29 = .ok (.ifCond .ge 6, 3) := dk_156 0 6 (dk_at dksX6_row_1 7 rfl rfl)
theorem dX6_row_32 : decode cX6_row 32 = .ok (.bipush (-3), 2) := dk_16 253 (dk_at dksX6_row_1 10 rfl rfl)
theorem dX6_row_34 : decode cX6_row 34 = .ok (.ireturn, 1) := dk_172 (dk_at dksX6_row_1 12 rfl rfl)
theorem dX6_row_35 : decode cX6_row 35 = .ok (.aload_n 0, 1) := dk_42 (dk_at dksX6_row_1 13 rfl rfl)
theorem dX6_row_36 : decode cX6_row 36 = .ok (.getfield 73, 3) := dk_180 0 73 (dk_at dksX6_row_1 14 rfl rfl)
theorem dX6_row_39 : decode cX6_row 39 = .ok (.iload_n 1, 1) := dk_27 (dk_at dksX6_row_1 17 rfl rfl)
theorem dX6_row_40 : decode cX6_row 40 = .ok (.iload_n 3, 1) := dk_29 (dk_at dksX6_row_1 18 rfl rfl)
theorem dX6_row_41 : decode cX6_row 41 = .ok (.iastore, 1) := dk_79 (dk_at dksX6_row_1 19 rfl rfl)
theorem dX6_row_42 : decode cX6_row 42 = .ok (.aload_n 0, 1) := dk_42 (dk_at dksX6_row_1 20 rfl rfl)
theorem dX6_row_43 : decode cX6_row 43 = .ok (.getfield 76, 3) := dk_180 0 76 (dk_at dksX6_row_1 21 rfl rfl)
theorem dX6_row_46 : decode cX6_row 46 = .ok (.iload_n 1, 1) := dk_27 (dk_at dksX6_row_2 0 rfl rfl)
theorem dX6_row_47 : decode cX6_row 47 = .ok (.iload_n 2, 1) := dk_28 (dk_at dksX6_row_2 1 rfl rfl)
theorem dX6_row_48 : decode cX6_row 48 = .ok (.iastore, 1) := dk_79 (dk_at dksX6_row_2 2 rfl rfl)
theorem dX6_row_49 : decode cX6_row 49 = .ok (.iconst 0, 1) := dk_3 (dk_at dksX6_row_2 3 rfl rfl)
theorem dX6_row_50 : decode cX6_row 50 = .ok (.istore 4, 2) := dk_54 4 (dk_at dksX6_row_2 4 rfl rfl)
theorem dX6_row_52 : decode cX6_row 52 = .ok (.iload 4, 2) := dk_21 4 (dk_at dksX6_row_2 6 rfl rfl)
theorem dX6_row_54 : decode cX6_row 54 = .ok (.bipush 60, 2) := dk_16 60 (dk_at dksX6_row_2 8 rfl rfl)
theorem dX6_row_56 : decode cX6_row 56 = .ok (.if_icmp .ge 22, 3) := dk_162 0 22 (dk_at dksX6_row_2 10 rfl rfl)
theorem dX6_row_59 : decode cX6_row 59 = .ok (.aload_n 0, 1) := dk_42 (dk_at dksX6_row_2 13 rfl rfl)
theorem dX6_row_60 : decode cX6_row 60 = .ok (.getfield 79, 3) := dk_180 0 79 (dk_at dksX6_row_2 14 rfl rfl)
theorem dX6_row_63 : decode cX6_row 63 = .ok (.bipush 60, 2) := dk_16 60 (dk_at dksX6_row_2 17 rfl rfl)
theorem dX6_row_65 : decode cX6_row 65 = .ok (.iload_n 1, 1) := dk_27 (dk_at dksX6_row_2 19 rfl rfl)
theorem dX6_row_66 : decode cX6_row 66 = .ok (.imul, 1) := dk_104 (dk_at dksX6_row_2 20 rfl rfl)
theorem dX6_row_67 : decode cX6_row 67 = .ok (.iload 4, 2) := dk_21 4 (dk_at dksX6_row_2 21 rfl rfl)
theorem dX6_row_69 : decode cX6_row 69 = .ok (.iadd, 1) := dk_96 (dk_at dksX6_row_2 23 rfl rfl)
theorem dX6_row_70 : decode cX6_row 70 = .ok (.lconst 0, 1) := dk_9 (dk_at dksX6_row_3 0 rfl rfl)
theorem dX6_row_71 : decode cX6_row 71 = .ok (.lastore, 1) := dk_80 (dk_at dksX6_row_3 1 rfl rfl)
theorem dX6_row_72 : decode cX6_row 72 = .ok (.iinc 4 1, 3) := dk_132 4 1 (dk_at dksX6_row_3 2 rfl rfl)
theorem dX6_row_75 : decode cX6_row 75 = .ok (.goto (-23), 3) := dk_167 255 233 (dk_at dksX6_row_3 5 rfl rfl)
theorem dX6_row_78 : decode cX6_row 78 = .ok (.iconst 0, 1) := dk_3 (dk_at dksX6_row_3 8 rfl rfl)
theorem dX6_row_79 : decode cX6_row 79 = .ok (.ireturn, 1) := dk_172 (dk_at dksX6_row_3 9 rfl rfl)
abbrev cX6_write : ByteArray := prog_18_method_92_code
def yX6_write : MethodName := ⟨RX6, "write", "(IIJ)I"⟩
def dkwX6_write_2 : List UInt8 := [16, 60, 27, 104, 28, 96, 33, 42, 180, 0, 76, 27, 46, 184, 1, 135, 80, 3, 172]
abbrev dktX6_write_2 : List UInt8 := dkwX6_write_2 ++ []
def dkwX6_write_1 : List UInt8 := [133, 9, 42, 180, 0, 73, 27, 46, 4, 100, 133, 184, 0, 88, 154, 0, 6, 16, 249, 172, 42, 180, 0, 79]
abbrev dktX6_write_1 : List UInt8 := dkwX6_write_1 ++ dktX6_write_2
def dkwX6_write_0 : List UInt8 := [27, 184, 1, 112, 154, 0, 6, 16, 254, 172, 42, 180, 0, 73, 27, 46, 2, 160, 0, 6, 16, 250, 172, 28]
abbrev dktX6_write_0 : List UInt8 := dkwX6_write_0 ++ dktX6_write_1
theorem dksX6_write_0 : cX6_write.data.toList.drop 0 = dktX6_write_0 := by decide +kernel
theorem dksX6_write_1 : cX6_write.data.toList.drop 24 = dktX6_write_1 := dk_seg dksX6_write_0 24 rfl rfl
theorem dksX6_write_2 : cX6_write.data.toList.drop 48 = dktX6_write_2 := dk_seg dksX6_write_1 24 rfl rfl
theorem dX6_write_0 : decode cX6_write 0 = .ok (.iload_n 1, 1) := dk_27 (dk_at dksX6_write_0 0 rfl rfl)
theorem dX6_write_1 : decode cX6_write 1 = .ok (.invokestatic 368, 3) := dk_184 1 112 (dk_at dksX6_write_0 1 rfl rfl)
theorem dX6_write_4 : decode cX6_write 4 = .ok (.ifCond .ne 6, 3) := dk_154 0 6 (dk_at dksX6_write_0 4 rfl rfl)
theorem dX6_write_7 : decode cX6_write 7 = .ok (.bipush (-2), 2) := dk_16 254 (dk_at dksX6_write_0 7 rfl rfl)
theorem dX6_write_9 : decode cX6_write 9 = .ok (.ireturn, 1) := dk_172 (dk_at dksX6_write_0 9 rfl rfl)
theorem dX6_write_10 : decode cX6_write 10 = .ok (.aload_n 0, 1) := dk_42 (dk_at dksX6_write_0 10 rfl rfl)
theorem dX6_write_11 : decode cX6_write 11 = .ok (.getfield 73, 3) := dk_180 0 73 (dk_at dksX6_write_0 11 rfl rfl)
theorem dX6_write_14 : decode cX6_write 14 = .ok (.iload_n 1, 1) := dk_27 (dk_at dksX6_write_0 14 rfl rfl)
theorem dX6_write_15 : decode cX6_write 15 = .ok (.iaload, 1) := dk_46 (dk_at dksX6_write_0 15 rfl rfl)
theorem dX6_write_16 : decode cX6_write 16 = .ok (.iconst (-1), 1) := dk_2 (dk_at dksX6_write_0 16 rfl rfl)
theorem dX6_write_17 : decode cX6_write 17 = .ok (.if_icmp .ne 6, 3) := dk_160 0 6 (dk_at dksX6_write_0 17 rfl rfl)
theorem dX6_write_20 : decode cX6_write 20 = .ok (.bipush (-6), 2) := dk_16 250 (dk_at dksX6_write_0 20 rfl rfl)
theorem dX6_write_22 : decode cX6_write 22 = .ok (.ireturn, 1) := dk_172 (dk_at dksX6_write_0 22 rfl rfl)
theorem dX6_write_23 : decode cX6_write 23 = .ok (.iload_n 2, 1) := dk_28 (dk_at dksX6_write_0 23 rfl rfl)
theorem dX6_write_24 : decode cX6_write 24 = .ok (.i2l, 1) := dk_133 (dk_at dksX6_write_1 0 rfl rfl)
theorem dX6_write_25 : decode cX6_write 25 = .ok (.lconst 0, 1) := dk_9 (dk_at dksX6_write_1 1 rfl rfl)
theorem dX6_write_26 : decode cX6_write 26 = .ok (.aload_n 0, 1) := dk_42 (dk_at dksX6_write_1 2 rfl rfl)
theorem dX6_write_27 : decode cX6_write 27 = .ok (.getfield 73, 3) := dk_180 0 73 (dk_at dksX6_write_1 3 rfl rfl)
theorem dX6_write_30 : decode cX6_write 30 = .ok (.iload_n 1, 1) := dk_27 (dk_at dksX6_write_1 6 rfl rfl)
theorem dX6_write_31 : decode cX6_write 31 = .ok (.iaload, 1) := dk_46 (dk_at dksX6_write_1 7 rfl rfl)
theorem dX6_write_32 : decode cX6_write 32 = .ok (.iconst 1, 1) := dk_4 (dk_at dksX6_write_1 8 rfl rfl)
theorem dX6_write_33 : decode cX6_write 33 = .ok (.isub, 1) := dk_100 (dk_at dksX6_write_1 9 rfl rfl)
theorem dX6_write_34 : decode cX6_write 34 = .ok (.i2l, 1) := dk_133 (dk_at dksX6_write_1 10 rfl rfl)
theorem dX6_write_35 : decode cX6_write 35 = .ok (.invokestatic 88, 3) := dk_184 0 88 (dk_at dksX6_write_1 11 rfl rfl)
theorem dX6_write_38 : decode cX6_write 38 = .ok (.ifCond .ne 6, 3) := dk_154 0 6 (dk_at dksX6_write_1 14 rfl rfl)
theorem dX6_write_41 : decode cX6_write 41 = .ok (.bipush (-7), 2) := dk_16 249 (dk_at dksX6_write_1 17 rfl rfl)
theorem dX6_write_43 : decode cX6_write 43 = .ok (.ireturn, 1) := dk_172 (dk_at dksX6_write_1 19 rfl rfl)
theorem dX6_write_44 : decode cX6_write 44 = .ok (.aload_n 0, 1) := dk_42 (dk_at dksX6_write_1 20 rfl rfl)
theorem dX6_write_45 : decode cX6_write 45 = .ok (.getfield 79, 3) := dk_180 0 79 (dk_at dksX6_write_1 21 rfl rfl)
theorem dX6_write_48 : decode cX6_write 48 = .ok (.bipush 60, 2) := dk_16 60 (dk_at dksX6_write_2 0 rfl rfl)
theorem dX6_write_50 : decode cX6_write 50 = .ok (.iload_n 1, 1) := dk_27 (dk_at dksX6_write_2 2 rfl rfl)
theorem dX6_write_51 : decode cX6_write 51 = .ok (.imul, 1) := dk_104 (dk_at dksX6_write_2 3 rfl rfl)
theorem dX6_write_52 : decode cX6_write 52 = .ok (.iload_n 2, 1) := dk_28 (dk_at dksX6_write_2 4 rfl rfl)
theorem dX6_write_53 : decode cX6_write 53 = .ok (.iadd, 1) := dk_96 (dk_at dksX6_write_2 5 rfl rfl)
theorem dX6_write_54 : decode cX6_write 54 = .ok (.lload_n 3, 1) := dk_33 (dk_at dksX6_write_2 6 rfl rfl)
theorem dX6_write_55 : decode cX6_write 55 = .ok (.aload_n 0, 1) := dk_42 (dk_at dksX6_write_2 7 rfl rfl)
theorem dX6_write_56 : decode cX6_write 56 = .ok (.getfield 76, 3) := dk_180 0 76 (dk_at dksX6_write_2 8 rfl rfl)
theorem dX6_write_59 : decode cX6_write 59 = .ok (.iload_n 1, 1) := dk_27 (dk_at dksX6_write_2 11 rfl rfl)
theorem dX6_write_60 : decode cX6_write 60 = .ok (.iaload, 1) := dk_46 (dk_at dksX6_write_2 12 rfl rfl)
theorem dX6_write_61 : decode cX6_write 61 = .ok (.invokestatic 391, 3) := dk_184 1 135 (dk_at dksX6_write_2 13 rfl rfl)
theorem dX6_write_64 : decode cX6_write 64 = .ok (.lastore, 1) := dk_80 (dk_at dksX6_write_2 16 rfl rfl)
theorem dX6_write_65 : decode cX6_write 65 = .ok (.iconst 0, 1) := dk_3 (dk_at dksX6_write_2 17 rfl rfl)
theorem dX6_write_66 : decode cX6_write 66 = .ok (.ireturn, 1) := dk_172 (dk_at dksX6_write_2 18 rfl rfl)
abbrev cX6_cut : ByteArray := prog_18_method_90_code
def yX6_cut : MethodName := ⟨RX6, "cut", "(JI)J"⟩
def dkwX6_cut_0 : List UInt8 := [16, 64, 16, 8, 28, 120, 100, 62, 30, 29, 121, 29, 123, 173]
abbrev dktX6_cut_0 : List UInt8 := dkwX6_cut_0 ++ []
theorem dksX6_cut_0 : cX6_cut.data.toList.drop 0 = dktX6_cut_0 := by decide +kernel
theorem dX6_cut_0 : decode cX6_cut 0 = .ok (.bipush 64, 2) := dk_16 64 (dk_at dksX6_cut_0 0 rfl rfl)
theorem dX6_cut_2 : decode cX6_cut 2 = .ok (.bipush 8, 2) := dk_16 8 (dk_at dksX6_cut_0 2 rfl rfl)
theorem dX6_cut_4 : decode cX6_cut 4 = .ok (.iload_n 2, 1) := dk_28 (dk_at dksX6_cut_0 4 rfl rfl)
theorem dX6_cut_5 : decode cX6_cut 5 = .ok (.ishl, 1) := dk_120 (dk_at dksX6_cut_0 5 rfl rfl)
theorem dX6_cut_6 : decode cX6_cut 6 = .ok (.isub, 1) := dk_100 (dk_at dksX6_cut_0 6 rfl rfl)
theorem dX6_cut_7 : decode cX6_cut 7 = .ok (.istore_n 3, 1) := dk_62 (dk_at dksX6_cut_0 7 rfl rfl)
theorem dX6_cut_8 : decode cX6_cut 8 = .ok (.lload_n 0, 1) := dk_30 (dk_at dksX6_cut_0 8 rfl rfl)
theorem dX6_cut_9 : decode cX6_cut 9 = .ok (.iload_n 3, 1) := dk_29 (dk_at dksX6_cut_0 9 rfl rfl)
theorem dX6_cut_10 : decode cX6_cut 10 = .ok (.lshl, 1) := dk_121 (dk_at dksX6_cut_0 10 rfl rfl)
theorem dX6_cut_11 : decode cX6_cut 11 = .ok (.iload_n 3, 1) := dk_29 (dk_at dksX6_cut_0 11 rfl rfl)
theorem dX6_cut_12 : decode cX6_cut 12 = .ok (.lshr, 1) := dk_123 (dk_at dksX6_cut_0 12 rfl rfl)
theorem dX6_cut_13 : decode cX6_cut 13 = .ok (.lreturn, 1) := dk_173 (dk_at dksX6_cut_0 13 rfl rfl)
abbrev cX6_paste : ByteArray := prog_18_method_93_code
def yX6_paste : MethodName := ⟨RX6, "paste", "(IIIII)I"⟩
def dkwX6_paste_7 : List UInt8 := [29, 104, 21, 4, 96, 21, 6, 96, 42, 180, 0, 83, 21, 6, 47, 80, 132, 6, 1, 167, 255, 224, 3, 172]
abbrev dktX6_paste_7 : List UInt8 := dkwX6_paste_7 ++ []
def dkwX6_paste_6 : List UInt8 := [47, 80, 132, 6, 1, 167, 255, 225, 3, 54, 6, 21, 6, 21, 5, 162, 0, 31, 42, 180, 0, 79, 16, 60]
abbrev dktX6_paste_6 : List UInt8 := dkwX6_paste_6 ++ dktX6_paste_7
def dkwX6_paste_5 : List UInt8 := [21, 5, 162, 0, 30, 42, 180, 0, 83, 21, 6, 42, 180, 0, 79, 16, 60, 27, 104, 28, 96, 21, 6, 96]
abbrev dktX6_paste_5 : List UInt8 := dkwX6_paste_5 ++ dktX6_paste_6
def dkwX6_paste_4 : List UInt8 := [21, 5, 133, 97, 42, 180, 0, 73, 29, 46, 133, 148, 158, 0, 6, 16, 249, 172, 3, 54, 6, 21, 6]
abbrev dktX6_paste_4 : List UInt8 := dkwX6_paste_4 ++ dktX6_paste_5
def dkwX6_paste_3 : List UInt8 := [155, 0, 38, 28, 133, 21, 5, 133, 97, 42, 180, 0, 73, 27, 46, 133, 148, 157, 0, 21, 21, 4, 133]
abbrev dktX6_paste_3 : List UInt8 := dkwX6_paste_3 ++ dktX6_paste_4
def dkwX6_paste_2 : List UInt8 := [180, 0, 76, 29, 46, 159, 0, 6, 16, 248, 172, 28, 155, 0, 48, 21, 4, 155, 0, 43, 21, 5]
abbrev dktX6_paste_2 : List UInt8 := dkwX6_paste_2 ++ dktX6_paste_3
def dkwX6_paste_1 : List UInt8 := [159, 0, 13, 42, 180, 0, 73, 29, 46, 2, 160, 0, 6, 16, 250, 172, 42, 180, 0, 76, 27, 46, 42]
abbrev dktX6_paste_1 : List UInt8 := dkwX6_paste_1 ++ dktX6_paste_2
def dkwX6_paste_0 : List UInt8 := [27, 184, 1, 112, 153, 0, 10, 29, 184, 1, 112, 154, 0, 6, 16, 254, 172, 42, 180, 0, 73, 27, 46, 2]
abbrev dktX6_paste_0 : List UInt8 := dkwX6_paste_0 ++ dktX6_paste_1
theorem dksX6_paste_0 : cX6_paste.data.toList.drop 0 = dktX6_paste_0 := by decide +kernel
theorem dksX6_paste_1 : cX6_paste.data.toList.drop 24 = dktX6_paste_1 := dk_seg dksX6_paste_0 24 rfl rfl
theorem dksX6_paste_2 : cX6_paste.data.toList.drop 47 = dktX6_paste_2 := dk_seg dksX6_paste_1 23 rfl rfl
theorem dksX6_paste_3 : cX6_paste.data.toList.drop 69 = dktX6_paste_3 := dk_seg dksX6_paste_2 22 rfl rfl
theorem dksX6_paste_4 : cX6_paste.data.toList.drop 92 = dktX6_paste_4 := dk_seg dksX6_paste_3 23 rfl rfl
theorem dksX6_paste_5 : cX6_paste.data.toList.drop 115 = dktX6_paste_5 := dk_seg dksX6_paste_4 23 rfl rfl
theorem dksX6_paste_6 : cX6_paste.data.toList.drop 139 = dktX6_paste_6 := dk_seg dksX6_paste_5 24 rfl rfl
theorem dksX6_paste_7 : cX6_paste.data.toList.drop 163 = dktX6_paste_7 := dk_seg dksX6_paste_6 24 rfl rfl
theorem dX6_paste_0 : decode cX6_paste 0 = .ok (.iload_n 1, 1) := dk_27 (dk_at dksX6_paste_0 0 rfl rfl)
theorem dX6_paste_1 : decode cX6_paste 1 = .ok (.invokestatic 368, 3) := dk_184 1 112 (dk_at dksX6_paste_0 1 rfl rfl)
theorem dX6_paste_4 : decode cX6_paste 4 = .ok (.ifCond .eq 10, 3) := dk_153 0 10 (dk_at dksX6_paste_0 4 rfl rfl)
theorem dX6_paste_7 : decode cX6_paste 7 = .ok (.iload_n 3, 1) := dk_29 (dk_at dksX6_paste_0 7 rfl rfl)
theorem dX6_paste_8 : decode cX6_paste 8 = .ok (.invokestatic 368, 3) := dk_184 1 112 (dk_at dksX6_paste_0 8 rfl rfl)
theorem dX6_paste_11 : decode cX6_paste 11 = .ok (.ifCond .ne 6, 3) := dk_154 0 6 (dk_at dksX6_paste_0 11 rfl rfl)
theorem dX6_paste_14 : decode cX6_paste 14 = .ok (.bipush (-2), 2) := dk_16 254 (dk_at dksX6_paste_0 14 rfl rfl)
theorem dX6_paste_16 : decode cX6_paste 16 = .ok (.ireturn, 1) := dk_172 (dk_at dksX6_paste_0 16 rfl rfl)
theorem dX6_paste_17 : decode cX6_paste 17 = .ok (.aload_n 0, 1) := dk_42 (dk_at dksX6_paste_0 17 rfl rfl)
theorem dX6_paste_18 : decode cX6_paste 18 = .ok (.getfield 73, 3) := dk_180 0 73 (dk_at dksX6_paste_0 18 rfl rfl)
theorem dX6_paste_21 : decode cX6_paste 21 = .ok (.iload_n 1, 1) := dk_27 (dk_at dksX6_paste_0 21 rfl rfl)
theorem dX6_paste_22 : decode cX6_paste 22 = .ok (.iaload, 1) := dk_46 (dk_at dksX6_paste_0 22 rfl rfl)
theorem dX6_paste_23 : decode cX6_paste 23 = .ok (.iconst (-1), 1) := dk_2 (dk_at dksX6_paste_0 23 rfl rfl)
theorem dX6_paste_24 : decode cX6_paste 24 = .ok (.if_icmp .eq 13, 3) := dk_159 0 13 (dk_at dksX6_paste_1 0 rfl rfl)
theorem dX6_paste_27 : decode cX6_paste 27 = .ok (.aload_n 0, 1) := dk_42 (dk_at dksX6_paste_1 3 rfl rfl)
theorem dX6_paste_28 : decode cX6_paste 28 = .ok (.getfield 73, 3) := dk_180 0 73 (dk_at dksX6_paste_1 4 rfl rfl)
theorem dX6_paste_31 : decode cX6_paste 31 = .ok (.iload_n 3, 1) := dk_29 (dk_at dksX6_paste_1 7 rfl rfl)
theorem dX6_paste_32 : decode cX6_paste 32 = .ok (.iaload, 1) := dk_46 (dk_at dksX6_paste_1 8 rfl rfl)
theorem dX6_paste_33 : decode cX6_paste 33 = .ok (.iconst (-1), 1) := dk_2 (dk_at dksX6_paste_1 9 rfl rfl)
theorem dX6_paste_34 : decode cX6_paste 34 = .ok (.if_icmp .ne 6, 3) := dk_160 0 6 (dk_at dksX6_paste_1 10 rfl rfl)
theorem dX6_paste_37 : decode cX6_paste 37 = .ok (.bipush (-6), 2) := dk_16 250 (dk_at dksX6_paste_1 13 rfl rfl)
theorem dX6_paste_39 : decode cX6_paste 39 = .ok (.ireturn, 1) := dk_172 (dk_at dksX6_paste_1 15 rfl rfl)
theorem dX6_paste_40 : decode cX6_paste 40 = .ok (.aload_n 0, 1) := dk_42 (dk_at dksX6_paste_1 16 rfl rfl)
theorem dX6_paste_41 : decode cX6_paste 41 = .ok (.getfield 76, 3) := dk_180 0 76 (dk_at dksX6_paste_1 17 rfl rfl)
theorem dX6_paste_44 : decode cX6_paste 44 = .ok (.iload_n 1, 1) := dk_27 (dk_at dksX6_paste_1 20 rfl rfl)
theorem dX6_paste_45 : decode cX6_paste 45 = .ok (.iaload, 1) := dk_46 (dk_at dksX6_paste_1 21 rfl rfl)
theorem dX6_paste_46 : decode cX6_paste 46 = .ok (.aload_n 0, 1) := dk_42 (dk_at dksX6_paste_1 22 rfl rfl)
theorem dX6_paste_47 : decode cX6_paste 47 = .ok (.getfield 76, 3) := dk_180 0 76 (dk_at dksX6_paste_2 0 rfl rfl)
theorem dX6_paste_50 : decode cX6_paste 50 = .ok (.iload_n 3, 1) := dk_29 (dk_at dksX6_paste_2 3 rfl rfl)
theorem dX6_paste_51 : decode cX6_paste 51 = .ok (.iaload, 1) := dk_46 (dk_at dksX6_paste_2 4 rfl rfl)
theorem dX6_paste_52 : decode cX6_paste 52 = .ok (.if_icmp .eq 6, 3) := dk_159 0 6 (dk_at dksX6_paste_2 5 rfl rfl)
theorem dX6_paste_55 : decode cX6_paste 55 = .ok (.bipush (-8), 2) := dk_16 248 (dk_at dksX6_paste_2 8 rfl rfl)
theorem dX6_paste_57 : decode cX6_paste 57 = .ok (.ireturn, 1) := dk_172 (dk_at dksX6_paste_2 10 rfl rfl)
theorem dX6_paste_58 : decode cX6_paste 58 = .ok (.iload_n 2, 1) := dk_28 (dk_at dksX6_paste_2 11 rfl rfl)
theorem dX6_paste_59 : decode cX6_paste 59 = .ok (.ifCond .lt 48, 3) := dk_155 0 48 (dk_at dksX6_paste_2 12 rfl rfl)
theorem dX6_paste_62 : decode cX6_paste 62 = .ok (.iload 4, 2) := dk_21 4 (dk_at dksX6_paste_2 15 rfl rfl)
theorem dX6_paste_64 : decode cX6_paste 64 = .ok (.ifCond .lt 43, 3) := dk_155 0 43 (dk_at dksX6_paste_2 17 rfl rfl)
theorem dX6_paste_67 : decode cX6_paste 67 = .ok (.iload 5, 2) := dk_21 5 (dk_at dksX6_paste_2 20 rfl rfl)
theorem dX6_paste_69 : decode cX6_paste 69 = .ok (.ifCond .lt 38, 3) := dk_155 0 38 (dk_at dksX6_paste_3 0 rfl rfl)
theorem dX6_paste_72 : decode cX6_paste 72 = .ok (.iload_n 2, 1) := dk_28 (dk_at dksX6_paste_3 3 rfl rfl)
theorem dX6_paste_73 : decode cX6_paste 73 = .ok (.i2l, 1) := dk_133 (dk_at dksX6_paste_3 4 rfl rfl)
theorem dX6_paste_74 : decode cX6_paste 74 = .ok (.iload 5, 2) := dk_21 5 (dk_at dksX6_paste_3 5 rfl rfl)
theorem dX6_paste_76 : decode cX6_paste 76 = .ok (.i2l, 1) := dk_133 (dk_at dksX6_paste_3 7 rfl rfl)
theorem dX6_paste_77 : decode cX6_paste 77 = .ok (.ladd, 1) := dk_97 (dk_at dksX6_paste_3 8 rfl rfl)
theorem dX6_paste_78 : decode cX6_paste 78 = .ok (.aload_n 0, 1) := dk_42 (dk_at dksX6_paste_3 9 rfl rfl)
theorem dX6_paste_79 : decode cX6_paste 79 = .ok (.getfield 73, 3) := dk_180 0 73 (dk_at dksX6_paste_3 10 rfl rfl)
theorem dX6_paste_82 : decode cX6_paste 82 = .ok (.iload_n 1, 1) := dk_27 (dk_at dksX6_paste_3 13 rfl rfl)
theorem dX6_paste_83 : decode cX6_paste 83 = .ok (.iaload, 1) := dk_46 (dk_at dksX6_paste_3 14 rfl rfl)
theorem dX6_paste_84 : decode cX6_paste 84 = .ok (.i2l, 1) := dk_133 (dk_at dksX6_paste_3 15 rfl rfl)
theorem dX6_paste_85 : decode cX6_paste 85 = .ok (.lcmp, 1) := dk_148 (dk_at dksX6_paste_3 16 rfl rfl)
theorem dX6_paste_86 : decode cX6_paste 86 = .ok (.ifCond .gt 21, 3) := dk_157 0 21 (dk_at dksX6_paste_3 17 rfl rfl)
theorem dX6_paste_89 : decode cX6_paste 89 = .ok (.iload 4, 2) := dk_21 4 (dk_at dksX6_paste_3 20 rfl rfl)
theorem dX6_paste_91 : decode cX6_paste 91 = .ok (.i2l, 1) := dk_133 (dk_at dksX6_paste_3 22 rfl rfl)
theorem dX6_paste_92 : decode cX6_paste 92 = .ok (.iload 5, 2) := dk_21 5 (dk_at dksX6_paste_4 0 rfl rfl)
theorem dX6_paste_94 : decode cX6_paste 94 = .ok (.i2l, 1) := dk_133 (dk_at dksX6_paste_4 2 rfl rfl)
theorem dX6_paste_95 : decode cX6_paste 95 = .ok (.ladd, 1) := dk_97 (dk_at dksX6_paste_4 3 rfl rfl)
theorem dX6_paste_96 : decode cX6_paste 96 = .ok (.aload_n 0, 1) := dk_42 (dk_at dksX6_paste_4 4 rfl rfl)
theorem dX6_paste_97 : decode cX6_paste 97 = .ok (.getfield 73, 3) := dk_180 0 73 (dk_at dksX6_paste_4 5 rfl rfl)
theorem dX6_paste_100 : decode cX6_paste 100 = .ok (.iload_n 3, 1) := dk_29 (dk_at dksX6_paste_4 8 rfl rfl)
theorem dX6_paste_101 : decode cX6_paste 101 = .ok (.iaload, 1) := dk_46 (dk_at dksX6_paste_4 9 rfl rfl)
theorem dX6_paste_102 : decode cX6_paste 102 = .ok (.i2l, 1) := dk_133 (dk_at dksX6_paste_4 10 rfl rfl)
theorem dX6_paste_103 : decode cX6_paste 103 = .ok (.lcmp, 1) := dk_148 (dk_at dksX6_paste_4 11 rfl rfl)
theorem dX6_paste_104 : decode cX6_paste 104 = .ok (.ifCond .le 6, 3) := dk_158 0 6 (dk_at dksX6_paste_4 12 rfl rfl)
theorem dX6_paste_107 : decode cX6_paste 107 = .ok (.bipush (-7), 2) := dk_16 249 (dk_at dksX6_paste_4 15 rfl rfl)
theorem dX6_paste_109 : decode cX6_paste 109 = .ok (.ireturn, 1) := dk_172 (dk_at dksX6_paste_4 17 rfl rfl)
theorem dX6_paste_110 : decode cX6_paste 110 = .ok (.iconst 0, 1) := dk_3 (dk_at dksX6_paste_4 18 rfl rfl)
theorem dX6_paste_111 : decode cX6_paste 111 = .ok (.istore 6, 2) := dk_54 6 (dk_at dksX6_paste_4 19 rfl rfl)
theorem dX6_paste_113 : decode cX6_paste 113 = .ok (.iload 6, 2) := dk_21 6 (dk_at dksX6_paste_4 21 rfl rfl)
theorem dX6_paste_115 : decode cX6_paste 115 = .ok (.iload 5, 2) := dk_21 5 (dk_at dksX6_paste_5 0 rfl rfl)
theorem dX6_paste_117 : decode cX6_paste 117 = .ok (.if_icmp .ge 30, 3) := dk_162 0 30 (dk_at dksX6_paste_5 2 rfl rfl)
theorem dX6_paste_120 : decode cX6_paste 120 = .ok (.aload_n 0, 1) := dk_42 (dk_at dksX6_paste_5 5 rfl rfl)
theorem dX6_paste_121 : decode cX6_paste 121 = .ok (.getfield 83, 3) := dk_180 0 83 (dk_at dksX6_paste_5 6 rfl rfl)
theorem dX6_paste_124 : decode cX6_paste 124 = .ok (.iload 6, 2) := dk_21 6 (dk_at dksX6_paste_5 9 rfl rfl)
theorem dX6_paste_126 : decode cX6_paste 126 = .ok (.aload_n 0, 1) := dk_42 (dk_at dksX6_paste_5 11 rfl rfl)
theorem dX6_paste_127 : decode cX6_paste 127 = .ok (.getfield 79, 3) := dk_180 0 79 (dk_at dksX6_paste_5 12 rfl rfl)
theorem dX6_paste_130 : decode cX6_paste 130 = .ok (.bipush 60, 2) := dk_16 60 (dk_at dksX6_paste_5 15 rfl rfl)
theorem dX6_paste_132 : decode cX6_paste 132 = .ok (.iload_n 1, 1) := dk_27 (dk_at dksX6_paste_5 17 rfl rfl)
theorem dX6_paste_133 : decode cX6_paste 133 = .ok (.imul, 1) := dk_104 (dk_at dksX6_paste_5 18 rfl rfl)
theorem dX6_paste_134 : decode cX6_paste 134 = .ok (.iload_n 2, 1) := dk_28 (dk_at dksX6_paste_5 19 rfl rfl)
theorem dX6_paste_135 : decode cX6_paste 135 = .ok (.iadd, 1) := dk_96 (dk_at dksX6_paste_5 20 rfl rfl)
theorem dX6_paste_136 : decode cX6_paste 136 = .ok (.iload 6, 2) := dk_21 6 (dk_at dksX6_paste_5 21 rfl rfl)
theorem dX6_paste_138 : decode cX6_paste 138 = .ok (.iadd, 1) := dk_96 (dk_at dksX6_paste_5 23 rfl rfl)
theorem dX6_paste_139 : decode cX6_paste 139 = .ok (.laload, 1) := dk_47 (dk_at dksX6_paste_6 0 rfl rfl)
theorem dX6_paste_140 : decode cX6_paste 140 = .ok (.lastore, 1) := dk_80 (dk_at dksX6_paste_6 1 rfl rfl)
theorem dX6_paste_141 : decode cX6_paste 141 = .ok (.iinc 6 1, 3) := dk_132 6 1 (dk_at dksX6_paste_6 2 rfl rfl)
theorem dX6_paste_144 : decode cX6_paste 144 = .ok (.goto (-31), 3) := dk_167 255 225 (dk_at dksX6_paste_6 5 rfl rfl)
theorem dX6_paste_147 : decode cX6_paste 147 = .ok (.iconst 0, 1) := dk_3 (dk_at dksX6_paste_6 8 rfl rfl)
theorem dX6_paste_148 : decode cX6_paste 148 = .ok (.istore 6, 2) := dk_54 6 (dk_at dksX6_paste_6 9 rfl rfl)
theorem dX6_paste_150 : decode cX6_paste 150 = .ok (.iload 6, 2) := dk_21 6 (dk_at dksX6_paste_6 11 rfl rfl)
theorem dX6_paste_152 : decode cX6_paste 152 = .ok (.iload 5, 2) := dk_21 5 (dk_at dksX6_paste_6 13 rfl rfl)
theorem dX6_paste_154 : decode cX6_paste 154 = .ok (.if_icmp .ge 31, 3) := dk_162 0 31 (dk_at dksX6_paste_6 15 rfl rfl)
theorem dX6_paste_157 : decode cX6_paste 157 = .ok (.aload_n 0, 1) := dk_42 (dk_at dksX6_paste_6 18 rfl rfl)
theorem dX6_paste_158 : decode cX6_paste 158 = .ok (.getfield 79, 3) := dk_180 0 79 (dk_at dksX6_paste_6 19 rfl rfl)
theorem dX6_paste_161 : decode cX6_paste 161 = .ok (.bipush 60, 2) := dk_16 60 (dk_at dksX6_paste_6 22 rfl rfl)
theorem dX6_paste_163 : decode cX6_paste 163 = .ok (.iload_n 3, 1) := dk_29 (dk_at dksX6_paste_7 0 rfl rfl)
theorem dX6_paste_164 : decode cX6_paste 164 = .ok (.imul, 1) := dk_104 (dk_at dksX6_paste_7 1 rfl rfl)
theorem dX6_paste_165 : decode cX6_paste 165 = .ok (.iload 4, 2) := dk_21 4 (dk_at dksX6_paste_7 2 rfl rfl)
theorem dX6_paste_167 : decode cX6_paste 167 = .ok (.iadd, 1) := dk_96 (dk_at dksX6_paste_7 4 rfl rfl)
theorem dX6_paste_168 : decode cX6_paste 168 = .ok (.iload 6, 2) := dk_21 6 (dk_at dksX6_paste_7 5 rfl rfl)
theorem dX6_paste_170 : decode cX6_paste 170 = .ok (.iadd, 1) := dk_96 (dk_at dksX6_paste_7 7 rfl rfl)
theorem dX6_paste_171 : decode cX6_paste 171 = .ok (.aload_n 0, 1) := dk_42 (dk_at dksX6_paste_7 8 rfl rfl)
theorem dX6_paste_172 : decode cX6_paste 172 = .ok (.getfield 83, 3) := dk_180 0 83 (dk_at dksX6_paste_7 9 rfl rfl)
theorem dX6_paste_175 : decode cX6_paste 175 = .ok (.iload 6, 2) := dk_21 6 (dk_at dksX6_paste_7 12 rfl rfl)
theorem dX6_paste_177 : decode cX6_paste 177 = .ok (.laload, 1) := dk_47 (dk_at dksX6_paste_7 14 rfl rfl)
theorem dX6_paste_178 : decode cX6_paste 178 = .ok (.lastore, 1) := dk_80 (dk_at dksX6_paste_7 15 rfl rfl)
theorem dX6_paste_179 : decode cX6_paste 179 = .ok (.iinc 6 1, 3) := dk_132 6 1 (dk_at dksX6_paste_7 16 rfl rfl)
theorem dX6_paste_182 : decode cX6_paste 182 = .ok (.goto (-32), 3) := dk_167 255 224 (dk_at dksX6_paste_7 19 rfl rfl)
theorem dX6_paste_185 : decode cX6_paste 185 = .ok (.iconst 0, 1) := dk_3 (dk_at dksX6_paste_7 22 rfl rfl)
theorem dX6_paste_186 : decode cX6_paste 186 = .ok (.ireturn, 1) := dk_172 (dk_at dksX6_paste_7 23 rfl rfl)
theorem q93 : (Jvm.Cond.initialized "NonsenseRowsModel") ∈ lw_all := lw_g (lw_at lw_m1 10 rfl) rfl
theorem q909 : (Jvm.Cond.selects "NonsenseRowsModel" ({ cls := "java/lang/Object", name := "getClass", desc := "()Ljava/lang/Class;" } : Jvm.MethodName) ({ cls := "java/lang/Object", name := "getClass", desc := "()Ljava/lang/Class;" } : Jvm.MethodName)) ∈ lw_all := lw_g (lw_at lw_m4 106 rfl) rfl
theorem q1390 : (Jvm.Cond.instantiable "NonsenseRowsModel" (38 : Nat)) ∈ lw_all := lw_g (lw_at lw_m6 107 rfl) rfl
theorem q1392 : (Jvm.Cond.instanceMethod ({ cls := "NonsenseRowsModel", name := "<init>", desc := "()V" } : Jvm.MethodName)) ∈ lw_all := lw_g (lw_at lw_m6 109 rfl) rfl
theorem q1393 : (Jvm.Cond.code ({ cls := "NonsenseRowsModel", name := "<init>", desc := "()V" } : Jvm.MethodName) prog_18_method_4_code (1 : Nat) (Option.none : Option Jvm.ClassFile.FieldType)) ∈ lw_all := lw_g (lw_at lw_m6 110 rfl) rfl
theorem q1394 : (Jvm.Cond.methodLink "NonsenseRowsModel" (7 : Nat) ({ cls := "java/lang/Object", name := "<init>", desc := "()V" } : Jvm.MethodName)) ∈ lw_all := lw_g (lw_at lw_m6 111 rfl) rfl
theorem q1395 : (Jvm.Cond.fieldLink "NonsenseRowsModel" (13 : Nat) "NonsenseRowsModel" "world" "[I") ∈ lw_all := lw_g (lw_at lw_m6 112 rfl) rfl
theorem q1396 : (Jvm.Cond.fieldLink "NonsenseRowsModel" (17 : Nat) "NonsenseRowsModel" "head" "[I") ∈ lw_all := lw_g (lw_at lw_m6 113 rfl) rfl
theorem q1397 : (Jvm.Cond.fieldLink "NonsenseRowsModel" (92 : Nat) "NonsenseRowsModel" "sittings" "I") ∈ lw_all := lw_g (lw_at lw_m6 114 rfl) rfl
theorem q1398 : (Jvm.Cond.fieldLink "NonsenseRowsModel" (95 : Nat) "NonsenseRowsModel" "lost" "I") ∈ lw_all := lw_g (lw_at lw_m6 115 rfl) rfl
theorem q1399 : (Jvm.Cond.fieldLink "NonsenseRowsModel" (20 : Nat) "NonsenseRowsModel" "book" "[I") ∈ lw_all := lw_g (lw_at lw_m6 116 rfl) rfl
theorem q1400 : (Jvm.Cond.fieldLink "NonsenseRowsModel" (23 : Nat) "NonsenseRowsModel" "imageWorld" "[I") ∈ lw_all := lw_g (lw_at lw_m6 117 rfl) rfl
theorem q1401 : (Jvm.Cond.fieldLink "NonsenseRowsModel" (26 : Nat) "NonsenseRowsModel" "imageHead" "[I") ∈ lw_all := lw_g (lw_at lw_m6 118 rfl) rfl
theorem q1402 : (Jvm.Cond.fieldLink "NonsenseRowsModel" (29 : Nat) "NonsenseRowsModel" "imageBook" "[I") ∈ lw_all := lw_g (lw_at lw_m6 119 rfl) rfl
theorem q1403 : (Jvm.Cond.fieldLink "NonsenseRowsModel" (32 : Nat) "NonsenseRowsModel" "imageLost" "[I") ∈ lw_all := lw_g (lw_at lw_m6 120 rfl) rfl
theorem q1404 : (Jvm.Cond.fieldLink "NonsenseRowsModel" (35 : Nat) "NonsenseRowsModel" "imageSittings" "[I") ∈ lw_all := lw_g (lw_at lw_m6 121 rfl) rfl
theorem q1405 : (Jvm.Cond.fieldLink "NonsenseRowsModel" (38 : Nat) "NonsenseRowsModel" "tape" "[B") ∈ lw_all := lw_g (lw_at lw_m6 122 rfl) rfl
theorem q1406 : (Jvm.Cond.fieldLink "NonsenseRowsModel" (102 : Nat) "NonsenseRowsModel" "taped" "I") ∈ lw_all := lw_g (lw_at lw_m6 123 rfl) rfl
theorem q1407 : (Jvm.Cond.fieldLink "NonsenseRowsModel" (42 : Nat) "NonsenseRowsModel" "five" "[I") ∈ lw_all := lw_g (lw_at lw_m6 124 rfl) rfl
theorem q1408 : (Jvm.Cond.fieldLink "NonsenseRowsModel" (105 : Nat) "NonsenseRowsModel" "size" "I") ∈ lw_all := lw_g (lw_at lw_m6 125 rfl) rfl
theorem q1409 : (Jvm.Cond.fieldLink "NonsenseRowsModel" (108 : Nat) "NonsenseRowsModel" "at" "I") ∈ lw_all := lw_g (lw_at lw_m6 126 rfl) rfl
theorem q1410 : (Jvm.Cond.fieldLink "NonsenseRowsModel" (115 : Nat) "NonsenseRowsModel" "from" "I") ∈ lw_all := lw_g (lw_at lw_m6 127 rfl) rfl
theorem q1411 : (Jvm.Cond.fieldLink "NonsenseRowsModel" (118 : Nat) "NonsenseRowsModel" "token" "I") ∈ lw_all := lw_g (lw_at lw_m6 128 rfl) rfl
theorem q1412 : (Jvm.Cond.fieldLink "NonsenseRowsModel" (129 : Nat) "NonsenseRowsModel" "value" "I") ∈ lw_all := lw_g (lw_at lw_m6 129 rfl) rfl
theorem q1413 : (Jvm.Cond.fieldLink "NonsenseRowsModel" (139 : Nat) "NonsenseRowsModel" "faultKind" "I") ∈ lw_all := lw_g (lw_at lw_m6 130 rfl) rfl
theorem q1414 : (Jvm.Cond.fieldLink "NonsenseRowsModel" (45 : Nat) "NonsenseRowsModel" "faultPlace" "I") ∈ lw_all := lw_g (lw_at lw_m6 131 rfl) rfl
theorem q1415 : (Jvm.Cond.fieldLink "NonsenseRowsModel" (48 : Nat) "NonsenseRowsModel" "fresh" "[I") ∈ lw_all := lw_g (lw_at lw_m6 132 rfl) rfl
theorem q1416 : (Jvm.Cond.fieldLink "NonsenseRowsModel" (224 : Nat) "NonsenseRowsModel" "holdTold" "Z") ∈ lw_all := lw_g (lw_at lw_m6 133 rfl) rfl
theorem q1417 : (Jvm.Cond.fieldLink "NonsenseRowsModel" (51 : Nat) "NonsenseRowsModel" "leanTold" "[Z") ∈ lw_all := lw_g (lw_at lw_m6 134 rfl) rfl
theorem q1418 : (Jvm.Cond.fieldLink "NonsenseRowsModel" (55 : Nat) "NonsenseRowsModel" "constantLaw" "I") ∈ lw_all := lw_g (lw_at lw_m6 135 rfl) rfl
theorem q1419 : (Jvm.Cond.fieldLink "NonsenseRowsModel" (240 : Nat) "NonsenseRowsModel" "constant" "I") ∈ lw_all := lw_g (lw_at lw_m6 136 rfl) rfl
theorem q1420 : (Jvm.Cond.fieldLink "NonsenseRowsModel" (58 : Nat) "NonsenseRowsModel" "copies" "[I") ∈ lw_all := lw_g (lw_at lw_m6 137 rfl) rfl
theorem q1421 : (Jvm.Cond.fieldLink "NonsenseRowsModel" (300 : Nat) "NonsenseRowsModel" "copied" "I") ∈ lw_all := lw_g (lw_at lw_m6 138 rfl) rfl
theorem q1422 : (Jvm.Cond.fieldLink "NonsenseRowsModel" (348 : Nat) "NonsenseRowsModel" "bestPlan" "I") ∈ lw_all := lw_g (lw_at lw_m6 139 rfl) rfl
theorem q1423 : (Jvm.Cond.fieldLink "NonsenseRowsModel" (354 : Nat) "NonsenseRowsModel" "bestLeft" "I") ∈ lw_all := lw_g (lw_at lw_m6 140 rfl) rfl
theorem q1424 : (Jvm.Cond.fieldLink "NonsenseRowsModel" (61 : Nat) "NonsenseRowsModel" "made" "[I") ∈ lw_all := lw_g (lw_at lw_m6 141 rfl) rfl
theorem q1425 : (Jvm.Cond.fieldLink "NonsenseRowsModel" (64 : Nat) "NonsenseRowsModel" "savedWorld" "[I") ∈ lw_all := lw_g (lw_at lw_m6 142 rfl) rfl
theorem q1426 : (Jvm.Cond.fieldLink "NonsenseRowsModel" (67 : Nat) "NonsenseRowsModel" "itsNeeds" "[I") ∈ lw_all := lw_g (lw_at lw_m6 143 rfl) rfl
theorem q1427 : (Jvm.Cond.fieldLink "NonsenseRowsModel" (70 : Nat) "NonsenseRowsModel" "itsMany" "[I") ∈ lw_all := lw_g (lw_at lw_m6 144 rfl) rfl
theorem q1428 : (Jvm.Cond.fieldLink "NonsenseRowsModel" (73 : Nat) "NonsenseRowsModel" "many" "[I") ∈ lw_all := lw_g (lw_at lw_m6 145 rfl) rfl
theorem q1429 : (Jvm.Cond.fieldLink "NonsenseRowsModel" (76 : Nat) "NonsenseRowsModel" "width" "[I") ∈ lw_all := lw_g (lw_at lw_m6 146 rfl) rfl
theorem q1430 : (Jvm.Cond.fieldLink "NonsenseRowsModel" (79 : Nat) "NonsenseRowsModel" "numbers" "[J") ∈ lw_all := lw_g (lw_at lw_m6 147 rfl) rfl
theorem q1431 : (Jvm.Cond.fieldLink "NonsenseRowsModel" (83 : Nat) "NonsenseRowsModel" "moving" "[J") ∈ lw_all := lw_g (lw_at lw_m6 148 rfl) rfl
theorem q1432 : (Jvm.Cond.lays "NonsenseRowsModel" "NonsenseRowsModel" "thrown" "I") ∈ lw_all := lw_g (lw_at lw_m6 149 rfl) rfl
theorem q1433 : (Jvm.Cond.soleField "NonsenseRowsModel" "thrown") ∈ lw_all := lw_g (lw_at lw_m6 150 rfl) rfl
theorem q1434 : (Jvm.Cond.laysFinal "NonsenseRowsModel" "NonsenseRowsModel" "world" "[I") ∈ lw_all := lw_g (lw_at lw_m6 151 rfl) rfl
theorem q1435 : (Jvm.Cond.soleField "NonsenseRowsModel" "world") ∈ lw_all := lw_g (lw_at lw_m6 152 rfl) rfl
theorem q1436 : (Jvm.Cond.laysFinal "NonsenseRowsModel" "NonsenseRowsModel" "head" "[I") ∈ lw_all := lw_g (lw_at lw_m6 153 rfl) rfl
theorem q1437 : (Jvm.Cond.soleField "NonsenseRowsModel" "head") ∈ lw_all := lw_g (lw_at lw_m6 154 rfl) rfl
theorem q1438 : (Jvm.Cond.lays "NonsenseRowsModel" "NonsenseRowsModel" "sittings" "I") ∈ lw_all := lw_g (lw_at lw_m6 155 rfl) rfl
theorem q1439 : (Jvm.Cond.soleField "NonsenseRowsModel" "sittings") ∈ lw_all := lw_g (lw_at lw_m6 156 rfl) rfl
theorem q1440 : (Jvm.Cond.lays "NonsenseRowsModel" "NonsenseRowsModel" "lost" "I") ∈ lw_all := lw_g (lw_at lw_m6 157 rfl) rfl
theorem q1441 : (Jvm.Cond.soleField "NonsenseRowsModel" "lost") ∈ lw_all := lw_g (lw_at lw_m6 158 rfl) rfl
theorem q1442 : (Jvm.Cond.laysFinal "NonsenseRowsModel" "NonsenseRowsModel" "book" "[I") ∈ lw_all := lw_g (lw_at lw_m6 159 rfl) rfl
theorem q1443 : (Jvm.Cond.soleField "NonsenseRowsModel" "book") ∈ lw_all := lw_g (lw_at lw_m6 160 rfl) rfl
theorem q1444 : (Jvm.Cond.laysFinal "NonsenseRowsModel" "NonsenseRowsModel" "imageWorld" "[I") ∈ lw_all := lw_g (lw_at lw_m6 161 rfl) rfl
theorem q1445 : (Jvm.Cond.soleField "NonsenseRowsModel" "imageWorld") ∈ lw_all := lw_g (lw_at lw_m6 162 rfl) rfl
theorem q1446 : (Jvm.Cond.laysFinal "NonsenseRowsModel" "NonsenseRowsModel" "imageHead" "[I") ∈ lw_all := lw_g (lw_at lw_m6 163 rfl) rfl
theorem q1447 : (Jvm.Cond.soleField "NonsenseRowsModel" "imageHead") ∈ lw_all := lw_g (lw_at lw_m6 164 rfl) rfl
theorem q1448 : (Jvm.Cond.laysFinal "NonsenseRowsModel" "NonsenseRowsModel" "imageBook" "[I") ∈ lw_all := lw_g (lw_at lw_m6 165 rfl) rfl
theorem q1449 : (Jvm.Cond.soleField "NonsenseRowsModel" "imageBook") ∈ lw_all := lw_g (lw_at lw_m6 166 rfl) rfl
theorem q1450 : (Jvm.Cond.laysFinal "NonsenseRowsModel" "NonsenseRowsModel" "imageLost" "[I") ∈ lw_all := lw_g (lw_at lw_m6 167 rfl) rfl
theorem q1451 : (Jvm.Cond.soleField "NonsenseRowsModel" "imageLost") ∈ lw_all := lw_g (lw_at lw_m6 168 rfl) rfl
theorem q1452 : (Jvm.Cond.laysFinal "NonsenseRowsModel" "NonsenseRowsModel" "imageSittings" "[I") ∈ lw_all := lw_g (lw_at lw_m6 169 rfl) rfl
theorem q1453 : (Jvm.Cond.soleField "NonsenseRowsModel" "imageSittings") ∈ lw_all := lw_g (lw_at lw_m6 170 rfl) rfl
theorem q1454 : (Jvm.Cond.laysFinal "NonsenseRowsModel" "NonsenseRowsModel" "tape" "[B") ∈ lw_all := lw_g (lw_at lw_m6 171 rfl) rfl
theorem q1455 : (Jvm.Cond.soleField "NonsenseRowsModel" "tape") ∈ lw_all := lw_g (lw_at lw_m6 172 rfl) rfl
theorem q1456 : (Jvm.Cond.lays "NonsenseRowsModel" "NonsenseRowsModel" "taped" "I") ∈ lw_all := lw_g (lw_at lw_m6 173 rfl) rfl
theorem q1457 : (Jvm.Cond.soleField "NonsenseRowsModel" "taped") ∈ lw_all := lw_g (lw_at lw_m6 174 rfl) rfl
theorem q1458 : (Jvm.Cond.laysFinal "NonsenseRowsModel" "NonsenseRowsModel" "five" "[I") ∈ lw_all := lw_g (lw_at lw_m6 175 rfl) rfl
theorem q1459 : (Jvm.Cond.soleField "NonsenseRowsModel" "five") ∈ lw_all := lw_g (lw_at lw_m6 176 rfl) rfl
theorem q1460 : (Jvm.Cond.lays "NonsenseRowsModel" "NonsenseRowsModel" "size" "I") ∈ lw_all := lw_g (lw_at lw_m6 177 rfl) rfl
theorem q1461 : (Jvm.Cond.soleField "NonsenseRowsModel" "size") ∈ lw_all := lw_g (lw_at lw_m6 178 rfl) rfl
theorem q1462 : (Jvm.Cond.lays "NonsenseRowsModel" "NonsenseRowsModel" "at" "I") ∈ lw_all := lw_g (lw_at lw_m6 179 rfl) rfl
theorem q1463 : (Jvm.Cond.soleField "NonsenseRowsModel" "at") ∈ lw_all := lw_g (lw_at lw_m6 180 rfl) rfl
theorem q1464 : (Jvm.Cond.lays "NonsenseRowsModel" "NonsenseRowsModel" "from" "I") ∈ lw_all := lw_g (lw_at lw_m6 181 rfl) rfl
theorem q1465 : (Jvm.Cond.soleField "NonsenseRowsModel" "from") ∈ lw_all := lw_g (lw_at lw_m6 182 rfl) rfl
theorem q1466 : (Jvm.Cond.lays "NonsenseRowsModel" "NonsenseRowsModel" "token" "I") ∈ lw_all := lw_g (lw_at lw_m6 183 rfl) rfl
theorem q1467 : (Jvm.Cond.soleField "NonsenseRowsModel" "token") ∈ lw_all := lw_g (lw_at lw_m6 184 rfl) rfl
theorem q1468 : (Jvm.Cond.lays "NonsenseRowsModel" "NonsenseRowsModel" "value" "I") ∈ lw_all := lw_g (lw_at lw_m6 185 rfl) rfl
theorem q1469 : (Jvm.Cond.soleField "NonsenseRowsModel" "value") ∈ lw_all := lw_g (lw_at lw_m6 186 rfl) rfl
theorem q1470 : (Jvm.Cond.lays "NonsenseRowsModel" "NonsenseRowsModel" "faultKind" "I") ∈ lw_all := lw_g (lw_at lw_m6 187 rfl) rfl
theorem q1471 : (Jvm.Cond.soleField "NonsenseRowsModel" "faultKind") ∈ lw_all := lw_g (lw_at lw_m6 188 rfl) rfl
theorem q1472 : (Jvm.Cond.lays "NonsenseRowsModel" "NonsenseRowsModel" "faultPlace" "I") ∈ lw_all := lw_g (lw_at lw_m6 189 rfl) rfl
theorem q1473 : (Jvm.Cond.soleField "NonsenseRowsModel" "faultPlace") ∈ lw_all := lw_g (lw_at lw_m6 190 rfl) rfl
theorem q1474 : (Jvm.Cond.laysFinal "NonsenseRowsModel" "NonsenseRowsModel" "fresh" "[I") ∈ lw_all := lw_g (lw_at lw_m6 191 rfl) rfl
theorem q1475 : (Jvm.Cond.soleField "NonsenseRowsModel" "fresh") ∈ lw_all := lw_g (lw_at lw_m6 192 rfl) rfl
theorem q1476 : (Jvm.Cond.lays "NonsenseRowsModel" "NonsenseRowsModel" "holdTold" "Z") ∈ lw_all := lw_g (lw_at lw_m6 193 rfl) rfl
theorem q1477 : (Jvm.Cond.soleField "NonsenseRowsModel" "holdTold") ∈ lw_all := lw_g (lw_at lw_m6 194 rfl) rfl
theorem q1478 : (Jvm.Cond.laysFinal "NonsenseRowsModel" "NonsenseRowsModel" "leanTold" "[Z") ∈ lw_all := lw_g (lw_at lw_m6 195 rfl) rfl
theorem q1479 : (Jvm.Cond.soleField "NonsenseRowsModel" "leanTold") ∈ lw_all := lw_g (lw_at lw_m6 196 rfl) rfl
theorem q1480 : (Jvm.Cond.lays "NonsenseRowsModel" "NonsenseRowsModel" "constantLaw" "I") ∈ lw_all := lw_g (lw_at lw_m6 197 rfl) rfl
theorem q1481 : (Jvm.Cond.soleField "NonsenseRowsModel" "constantLaw") ∈ lw_all := lw_g (lw_at lw_m6 198 rfl) rfl
theorem q1482 : (Jvm.Cond.lays "NonsenseRowsModel" "NonsenseRowsModel" "constant" "I") ∈ lw_all := lw_g (lw_at lw_m6 199 rfl) rfl
theorem q1483 : (Jvm.Cond.soleField "NonsenseRowsModel" "constant") ∈ lw_all := lw_g (lw_at lw_m6 200 rfl) rfl
theorem q1484 : (Jvm.Cond.laysFinal "NonsenseRowsModel" "NonsenseRowsModel" "copies" "[I") ∈ lw_all := lw_g (lw_at lw_m6 201 rfl) rfl
theorem q1485 : (Jvm.Cond.soleField "NonsenseRowsModel" "copies") ∈ lw_all := lw_g (lw_at lw_m6 202 rfl) rfl
theorem q1486 : (Jvm.Cond.lays "NonsenseRowsModel" "NonsenseRowsModel" "copied" "I") ∈ lw_all := lw_g (lw_at lw_m6 203 rfl) rfl
theorem q1487 : (Jvm.Cond.soleField "NonsenseRowsModel" "copied") ∈ lw_all := lw_g (lw_at lw_m6 204 rfl) rfl
theorem q1488 : (Jvm.Cond.lays "NonsenseRowsModel" "NonsenseRowsModel" "bestPlan" "I") ∈ lw_all := lw_g (lw_at lw_m6 205 rfl) rfl
theorem q1489 : (Jvm.Cond.soleField "NonsenseRowsModel" "bestPlan") ∈ lw_all := lw_g (lw_at lw_m6 206 rfl) rfl
theorem q1490 : (Jvm.Cond.lays "NonsenseRowsModel" "NonsenseRowsModel" "bestLeft" "I") ∈ lw_all := lw_g (lw_at lw_m6 207 rfl) rfl
theorem q1491 : (Jvm.Cond.soleField "NonsenseRowsModel" "bestLeft") ∈ lw_all := lw_g (lw_at lw_m6 208 rfl) rfl
theorem q1492 : (Jvm.Cond.laysFinal "NonsenseRowsModel" "NonsenseRowsModel" "made" "[I") ∈ lw_all := lw_g (lw_at lw_m6 209 rfl) rfl
theorem q1493 : (Jvm.Cond.soleField "NonsenseRowsModel" "made") ∈ lw_all := lw_g (lw_at lw_m6 210 rfl) rfl
theorem q1494 : (Jvm.Cond.laysFinal "NonsenseRowsModel" "NonsenseRowsModel" "savedWorld" "[I") ∈ lw_all := lw_g (lw_at lw_m6 211 rfl) rfl
theorem q1495 : (Jvm.Cond.soleField "NonsenseRowsModel" "savedWorld") ∈ lw_all := lw_g (lw_at lw_m6 212 rfl) rfl
theorem q1496 : (Jvm.Cond.laysFinal "NonsenseRowsModel" "NonsenseRowsModel" "itsNeeds" "[I") ∈ lw_all := lw_g (lw_at lw_m6 213 rfl) rfl
theorem q1497 : (Jvm.Cond.soleField "NonsenseRowsModel" "itsNeeds") ∈ lw_all := lw_g (lw_at lw_m6 214 rfl) rfl
theorem q1498 : (Jvm.Cond.laysFinal "NonsenseRowsModel" "NonsenseRowsModel" "itsMany" "[I") ∈ lw_all := lw_g (lw_at lw_m6 215 rfl) rfl
theorem q1499 : (Jvm.Cond.soleField "NonsenseRowsModel" "itsMany") ∈ lw_all := lw_g (lw_at lw_m6 216 rfl) rfl
theorem q1500 : (Jvm.Cond.laysFinal "NonsenseRowsModel" "NonsenseRowsModel" "many" "[I") ∈ lw_all := lw_g (lw_at lw_m6 217 rfl) rfl
theorem q1501 : (Jvm.Cond.soleField "NonsenseRowsModel" "many") ∈ lw_all := lw_g (lw_at lw_m6 218 rfl) rfl
theorem q1502 : (Jvm.Cond.laysFinal "NonsenseRowsModel" "NonsenseRowsModel" "width" "[I") ∈ lw_all := lw_g (lw_at lw_m6 219 rfl) rfl
theorem q1503 : (Jvm.Cond.soleField "NonsenseRowsModel" "width") ∈ lw_all := lw_g (lw_at lw_m6 220 rfl) rfl
theorem q1504 : (Jvm.Cond.laysFinal "NonsenseRowsModel" "NonsenseRowsModel" "numbers" "[J") ∈ lw_all := lw_g (lw_at lw_m6 221 rfl) rfl
theorem q1505 : (Jvm.Cond.soleField "NonsenseRowsModel" "numbers") ∈ lw_all := lw_g (lw_at lw_m6 222 rfl) rfl
theorem q1506 : (Jvm.Cond.laysFinal "NonsenseRowsModel" "NonsenseRowsModel" "moving" "[J") ∈ lw_all := lw_g (lw_at lw_m6 223 rfl) rfl
theorem q1507 : (Jvm.Cond.soleField "NonsenseRowsModel" "moving") ∈ lw_all := lw_g (lw_at lw_m6 224 rfl) rfl
theorem q1508 : (Jvm.Cond.superclass "NonsenseRowsModel" "java/lang/Object") ∈ lw_all := lw_g (lw_at lw_m6 225 rfl) rfl
theorem q1510 : (Jvm.Cond.instanceMethod ({ cls := "NonsenseRowsModel", name := "keep", desc := "(I)I" } : Jvm.MethodName)) ∈ lw_all := lw_g (lw_at lw_m6 227 rfl) rfl
theorem q1511 : (Jvm.Cond.selects "NonsenseRowsModel" ({ cls := "NonsenseRowsModel", name := "keep", desc := "(I)I" } : Jvm.MethodName) ({ cls := "NonsenseRowsModel", name := "keep", desc := "(I)I" } : Jvm.MethodName)) ∈ lw_all := lw_g (lw_at lw_m6 228 rfl) rfl
theorem q1512 : (Jvm.Cond.code ({ cls := "NonsenseRowsModel", name := "keep", desc := "(I)I" } : Jvm.MethodName) prog_18_method_5_code (3 : Nat) (Option.some Jvm.ClassFile.FieldType.int)) ∈ lw_all := lw_g (lw_at lw_m6 229 rfl) rfl
theorem q1513 : (Jvm.Cond.constantLong "NonsenseRowsModel" (86 : Nat) (2 : Int64)) ∈ lw_all := lw_g (lw_at lw_m6 230 rfl) rfl
theorem q1514 : (Jvm.Cond.methodLink "NonsenseRowsModel" (88 : Nat) ({ cls := "NonsenseRowsModel", name := "in", desc := "(JJJ)Z" } : Jvm.MethodName)) ∈ lw_all := lw_g (lw_at lw_m6 231 rfl) rfl
theorem q1515 : (Jvm.Cond.static ({ cls := "NonsenseRowsModel", name := "in", desc := "(JJJ)Z" } : Jvm.MethodName)) ∈ lw_all := lw_g (lw_at lw_m6 232 rfl) rfl
theorem q1516 : (Jvm.Cond.code ({ cls := "NonsenseRowsModel", name := "in", desc := "(JJJ)Z" } : Jvm.MethodName) prog_18_method_2_code (6 : Nat) (Option.some Jvm.ClassFile.FieldType.boolean)) ∈ lw_all := lw_g (lw_at lw_m6 233 rfl) rfl
theorem q1518 : (Jvm.Cond.instanceMethod ({ cls := "NonsenseRowsModel", name := "back", desc := "(I)I" } : Jvm.MethodName)) ∈ lw_all := lw_g (lw_at lw_m6 235 rfl) rfl
theorem q1519 : (Jvm.Cond.selects "NonsenseRowsModel" ({ cls := "NonsenseRowsModel", name := "back", desc := "(I)I" } : Jvm.MethodName) ({ cls := "NonsenseRowsModel", name := "back", desc := "(I)I" } : Jvm.MethodName)) ∈ lw_all := lw_g (lw_at lw_m6 236 rfl) rfl
theorem q1520 : (Jvm.Cond.code ({ cls := "NonsenseRowsModel", name := "back", desc := "(I)I" } : Jvm.MethodName) prog_18_method_7_code (3 : Nat) (Option.some Jvm.ClassFile.FieldType.int)) ∈ lw_all := lw_g (lw_at lw_m6 237 rfl) rfl
theorem q1521 : (Jvm.Cond.methodLink "NonsenseRowsModel" (98 : Nat) ({ cls := "NonsenseRowsModel", name := "takeImage", desc := "(I)V" } : Jvm.MethodName)) ∈ lw_all := lw_g (lw_at lw_m6 238 rfl) rfl
theorem q1522 : (Jvm.Cond.privateMethod ({ cls := "NonsenseRowsModel", name := "takeImage", desc := "(I)V" } : Jvm.MethodName)) ∈ lw_tbl := lw_at lw_m6 239 rfl
theorem q1523 : (Jvm.Cond.instanceMethod ({ cls := "NonsenseRowsModel", name := "takeImage", desc := "(I)V" } : Jvm.MethodName)) ∈ lw_all := lw_g (lw_at lw_m7 0 rfl) rfl
theorem q1524 : (Jvm.Cond.code ({ cls := "NonsenseRowsModel", name := "takeImage", desc := "(I)V" } : Jvm.MethodName) prog_18_method_6_code (3 : Nat) (Option.none : Option Jvm.ClassFile.FieldType)) ∈ lw_all := lw_g (lw_at lw_m7 1 rfl) rfl
theorem q1526 : (Jvm.Cond.instanceMethod ({ cls := "NonsenseRowsModel", name := "feed", desc := "(IIIII)I" } : Jvm.MethodName)) ∈ lw_all := lw_g (lw_at lw_m7 3 rfl) rfl
theorem q1527 : (Jvm.Cond.selects "NonsenseRowsModel" ({ cls := "NonsenseRowsModel", name := "feed", desc := "(IIIII)I" } : Jvm.MethodName) ({ cls := "NonsenseRowsModel", name := "feed", desc := "(IIIII)I" } : Jvm.MethodName)) ∈ lw_all := lw_g (lw_at lw_m7 4 rfl) rfl
theorem q1528 : (Jvm.Cond.code ({ cls := "NonsenseRowsModel", name := "feed", desc := "(IIIII)I" } : Jvm.MethodName) prog_18_method_12_code (7 : Nat) (Option.some Jvm.ClassFile.FieldType.int)) ∈ lw_all := lw_g (lw_at lw_m7 5 rfl) rfl
theorem q1530 : (Jvm.Cond.instanceMethod ({ cls := "NonsenseRowsModel", name := "end", desc := "(I)I" } : Jvm.MethodName)) ∈ lw_all := lw_g (lw_at lw_m7 7 rfl) rfl
theorem q1531 : (Jvm.Cond.selects "NonsenseRowsModel" ({ cls := "NonsenseRowsModel", name := "end", desc := "(I)I" } : Jvm.MethodName) ({ cls := "NonsenseRowsModel", name := "end", desc := "(I)I" } : Jvm.MethodName)) ∈ lw_all := lw_g (lw_at lw_m7 8 rfl) rfl
theorem q1532 : (Jvm.Cond.code ({ cls := "NonsenseRowsModel", name := "end", desc := "(I)I" } : Jvm.MethodName) prog_18_method_13_code (2 : Nat) (Option.some Jvm.ClassFile.FieldType.int)) ∈ lw_all := lw_g (lw_at lw_m7 9 rfl) rfl
theorem q1534 : (Jvm.Cond.instanceMethod ({ cls := "NonsenseRowsModel", name := "fault", desc := "(I)I" } : Jvm.MethodName)) ∈ lw_all := lw_g (lw_at lw_m7 11 rfl) rfl
theorem q1535 : (Jvm.Cond.selects "NonsenseRowsModel" ({ cls := "NonsenseRowsModel", name := "fault", desc := "(I)I" } : Jvm.MethodName) ({ cls := "NonsenseRowsModel", name := "fault", desc := "(I)I" } : Jvm.MethodName)) ∈ lw_all := lw_g (lw_at lw_m7 12 rfl) rfl
theorem q1536 : (Jvm.Cond.code ({ cls := "NonsenseRowsModel", name := "fault", desc := "(I)I" } : Jvm.MethodName) prog_18_method_22_code (2 : Nat) (Option.some Jvm.ClassFile.FieldType.int)) ∈ lw_all := lw_g (lw_at lw_m7 13 rfl) rfl
theorem q1538 : (Jvm.Cond.instanceMethod ({ cls := "NonsenseRowsModel", name := "text", desc := "()I" } : Jvm.MethodName)) ∈ lw_all := lw_g (lw_at lw_m7 15 rfl) rfl
theorem q1539 : (Jvm.Cond.selects "NonsenseRowsModel" ({ cls := "NonsenseRowsModel", name := "text", desc := "()I" } : Jvm.MethodName) ({ cls := "NonsenseRowsModel", name := "text", desc := "()I" } : Jvm.MethodName)) ∈ lw_all := lw_g (lw_at lw_m7 16 rfl) rfl
theorem q1540 : (Jvm.Cond.code ({ cls := "NonsenseRowsModel", name := "text", desc := "()I" } : Jvm.MethodName) prog_18_method_28_code (2 : Nat) (Option.some Jvm.ClassFile.FieldType.int)) ∈ lw_all := lw_g (lw_at lw_m7 17 rfl) rfl
theorem q1541 : (Jvm.Cond.methodLink "NonsenseRowsModel" (160 : Nat) ({ cls := "NonsenseRowsModel", name := "advance", desc := "()V" } : Jvm.MethodName)) ∈ lw_all := lw_g (lw_at lw_m7 18 rfl) rfl
theorem q1542 : (Jvm.Cond.privateMethod ({ cls := "NonsenseRowsModel", name := "advance", desc := "()V" } : Jvm.MethodName)) ∈ lw_tbl := lw_at lw_m7 19 rfl
theorem q1543 : (Jvm.Cond.instanceMethod ({ cls := "NonsenseRowsModel", name := "advance", desc := "()V" } : Jvm.MethodName)) ∈ lw_all := lw_g (lw_at lw_m7 20 rfl) rfl
theorem q1544 : (Jvm.Cond.code ({ cls := "NonsenseRowsModel", name := "advance", desc := "()V" } : Jvm.MethodName) prog_18_method_15_code (2 : Nat) (Option.none : Option Jvm.ClassFile.FieldType)) ∈ lw_all := lw_g (lw_at lw_m7 21 rfl) rfl
theorem q1545 : (Jvm.Cond.methodLink "NonsenseRowsModel" (111 : Nat) ({ cls := "NonsenseRowsModel", name := "see", desc := "(I)I" } : Jvm.MethodName)) ∈ lw_all := lw_g (lw_at lw_m7 22 rfl) rfl
theorem q1546 : (Jvm.Cond.privateMethod ({ cls := "NonsenseRowsModel", name := "see", desc := "(I)I" } : Jvm.MethodName)) ∈ lw_tbl := lw_at lw_m7 23 rfl
theorem q1547 : (Jvm.Cond.instanceMethod ({ cls := "NonsenseRowsModel", name := "see", desc := "(I)I" } : Jvm.MethodName)) ∈ lw_all := lw_g (lw_at lw_m7 24 rfl) rfl
theorem q1548 : (Jvm.Cond.code ({ cls := "NonsenseRowsModel", name := "see", desc := "(I)I" } : Jvm.MethodName) prog_18_method_14_code (2 : Nat) (Option.some Jvm.ClassFile.FieldType.int)) ∈ lw_all := lw_g (lw_at lw_m7 25 rfl) rfl
theorem q1549 : (Jvm.Cond.constantLong "NonsenseRowsModel" (121 : Nat) (97 : Int64)) ∈ lw_all := lw_g (lw_at lw_m7 26 rfl) rfl
theorem q1550 : (Jvm.Cond.constantLong "NonsenseRowsModel" (123 : Nat) (122 : Int64)) ∈ lw_all := lw_g (lw_at lw_m7 27 rfl) rfl
theorem q1551 : (Jvm.Cond.constantLong "NonsenseRowsModel" (125 : Nat) (48 : Int64)) ∈ lw_all := lw_g (lw_at lw_m7 28 rfl) rfl
theorem q1552 : (Jvm.Cond.constantLong "NonsenseRowsModel" (127 : Nat) (57 : Int64)) ∈ lw_all := lw_g (lw_at lw_m7 29 rfl) rfl
theorem q1553 : (Jvm.Cond.constant "NonsenseRowsModel" (132 : Nat) (99999 : Int32)) ∈ lw_all := lw_g (lw_at lw_m7 30 rfl) rfl
theorem q1554 : (Jvm.Cond.methodLink "NonsenseRowsModel" (133 : Nat) ({ cls := "java/lang/Math", name := "min", desc := "(II)I" } : Jvm.MethodName)) ∈ lw_all := lw_g (lw_at lw_m7 31 rfl) rfl
theorem q1555 : (Jvm.Cond.methodLink "NonsenseRowsModel" (142 : Nat) ({ cls := "NonsenseRowsModel", name := "good", desc := "()Z" } : Jvm.MethodName)) ∈ lw_all := lw_g (lw_at lw_m7 32 rfl) rfl
theorem q1556 : (Jvm.Cond.privateMethod ({ cls := "NonsenseRowsModel", name := "good", desc := "()Z" } : Jvm.MethodName)) ∈ lw_tbl := lw_at lw_m7 33 rfl
theorem q1557 : (Jvm.Cond.instanceMethod ({ cls := "NonsenseRowsModel", name := "good", desc := "()Z" } : Jvm.MethodName)) ∈ lw_all := lw_g (lw_at lw_m7 34 rfl) rfl
theorem q1558 : (Jvm.Cond.code ({ cls := "NonsenseRowsModel", name := "good", desc := "()Z" } : Jvm.MethodName) prog_18_method_16_code (1 : Nat) (Option.some Jvm.ClassFile.FieldType.boolean)) ∈ lw_all := lw_g (lw_at lw_m7 35 rfl) rfl
theorem q1559 : (Jvm.Cond.methodLink "NonsenseRowsModel" (234 : Nat) ({ cls := "NonsenseRowsModel", name := "readLine", desc := "()V" } : Jvm.MethodName)) ∈ lw_all := lw_g (lw_at lw_m7 36 rfl) rfl
theorem q1560 : (Jvm.Cond.privateMethod ({ cls := "NonsenseRowsModel", name := "readLine", desc := "()V" } : Jvm.MethodName)) ∈ lw_tbl := lw_at lw_m7 37 rfl
theorem q1561 : (Jvm.Cond.instanceMethod ({ cls := "NonsenseRowsModel", name := "readLine", desc := "()V" } : Jvm.MethodName)) ∈ lw_all := lw_g (lw_at lw_m7 38 rfl) rfl
theorem q1562 : (Jvm.Cond.code ({ cls := "NonsenseRowsModel", name := "readLine", desc := "()V" } : Jvm.MethodName) prog_18_method_27_code (3 : Nat) (Option.none : Option Jvm.ClassFile.FieldType)) ∈ lw_all := lw_g (lw_at lw_m7 39 rfl) rfl
theorem q1563 : (Jvm.Cond.stringRef "NonsenseRowsModel" (210 : Nat) "thing") ∈ lw_tbl := lw_at lw_m7 40 rfl
theorem q1564 : (Jvm.Cond.methodLink "NonsenseRowsModel" (156 : Nat) ({ cls := "NonsenseRowsModel", name := "is", desc := "(Ljava/lang/String;)Z" } : Jvm.MethodName)) ∈ lw_all := lw_g (lw_at lw_m7 41 rfl) rfl
theorem q1565 : (Jvm.Cond.privateMethod ({ cls := "NonsenseRowsModel", name := "is", desc := "(Ljava/lang/String;)Z" } : Jvm.MethodName)) ∈ lw_tbl := lw_at lw_m7 42 rfl
theorem q1566 : (Jvm.Cond.instanceMethod ({ cls := "NonsenseRowsModel", name := "is", desc := "(Ljava/lang/String;)Z" } : Jvm.MethodName)) ∈ lw_all := lw_g (lw_at lw_m7 43 rfl) rfl
theorem q1567 : (Jvm.Cond.code ({ cls := "NonsenseRowsModel", name := "is", desc := "(Ljava/lang/String;)Z" } : Jvm.MethodName) prog_18_method_18_code (4 : Nat) (Option.some Jvm.ClassFile.FieldType.boolean)) ∈ lw_all := lw_g (lw_at lw_m7 44 rfl) rfl
theorem q1568 : (Jvm.Cond.methodLink "NonsenseRowsModel" (146 : Nat) ({ cls := "java/lang/String", name := "length", desc := "()I" } : Jvm.MethodName)) ∈ lw_all := lw_g (lw_at lw_m7 45 rfl) rfl
theorem q1569 : (Jvm.Cond.methodLink "NonsenseRowsModel" (152 : Nat) ({ cls := "java/lang/String", name := "charAt", desc := "(I)C" } : Jvm.MethodName)) ∈ lw_all := lw_g (lw_at lw_m7 46 rfl) rfl
theorem q1570 : (Jvm.Cond.stringRef "NonsenseRowsModel" (212 : Nat) "row") ∈ lw_tbl := lw_at lw_m7 47 rfl
theorem q1571 : (Jvm.Cond.stringRef "NonsenseRowsModel" (214 : Nat) "grow") ∈ lw_tbl := lw_at lw_m7 48 rfl
theorem q1572 : (Jvm.Cond.stringRef "NonsenseRowsModel" (216 : Nat) "fall") ∈ lw_tbl := lw_at lw_m7 49 rfl
theorem q1573 : (Jvm.Cond.stringRef "NonsenseRowsModel" (218 : Nat) "mix") ∈ lw_tbl := lw_at lw_m7 50 rfl
theorem q1574 : (Jvm.Cond.stringRef "NonsenseRowsModel" (220 : Nat) "hold") ∈ lw_tbl := lw_at lw_m7 51 rfl
theorem q1575 : (Jvm.Cond.stringRef "NonsenseRowsModel" (222 : Nat) "lean") ∈ lw_tbl := lw_at lw_m7 52 rfl
theorem q1576 : (Jvm.Cond.methodLink "NonsenseRowsModel" (166 : Nat) ({ cls := "NonsenseRowsModel", name := "errs", desc := "(I)V" } : Jvm.MethodName)) ∈ lw_all := lw_g (lw_at lw_m7 53 rfl) rfl
theorem q1577 : (Jvm.Cond.privateMethod ({ cls := "NonsenseRowsModel", name := "errs", desc := "(I)V" } : Jvm.MethodName)) ∈ lw_tbl := lw_at lw_m7 54 rfl
theorem q1578 : (Jvm.Cond.instanceMethod ({ cls := "NonsenseRowsModel", name := "errs", desc := "(I)V" } : Jvm.MethodName)) ∈ lw_all := lw_g (lw_at lw_m7 55 rfl) rfl
theorem q1579 : (Jvm.Cond.code ({ cls := "NonsenseRowsModel", name := "errs", desc := "(I)V" } : Jvm.MethodName) prog_18_method_17_code (2 : Nat) (Option.none : Option Jvm.ClassFile.FieldType)) ∈ lw_all := lw_g (lw_at lw_m7 56 rfl) rfl
theorem q1580 : (Jvm.Cond.methodLink "NonsenseRowsModel" (163 : Nat) ({ cls := "NonsenseRowsModel", name := "takes", desc := "(Ljava/lang/String;)Z" } : Jvm.MethodName)) ∈ lw_all := lw_g (lw_at lw_m7 57 rfl) rfl
theorem q1581 : (Jvm.Cond.privateMethod ({ cls := "NonsenseRowsModel", name := "takes", desc := "(Ljava/lang/String;)Z" } : Jvm.MethodName)) ∈ lw_tbl := lw_at lw_m7 58 rfl
theorem q1582 : (Jvm.Cond.instanceMethod ({ cls := "NonsenseRowsModel", name := "takes", desc := "(Ljava/lang/String;)Z" } : Jvm.MethodName)) ∈ lw_all := lw_g (lw_at lw_m7 59 rfl) rfl
theorem q1583 : (Jvm.Cond.code ({ cls := "NonsenseRowsModel", name := "takes", desc := "(Ljava/lang/String;)Z" } : Jvm.MethodName) prog_18_method_19_code (3 : Nat) (Option.some Jvm.ClassFile.FieldType.boolean)) ∈ lw_all := lw_g (lw_at lw_m7 60 rfl) rfl
theorem q1584 : (Jvm.Cond.stringRef "NonsenseRowsModel" (181 : Nat) "easy") ∈ lw_tbl := lw_at lw_m7 61 rfl
theorem q1585 : (Jvm.Cond.methodLink "NonsenseRowsModel" (195 : Nat) ({ cls := "NonsenseRowsModel", name := "needsWord", desc := "(Ljava/lang/String;)V" } : Jvm.MethodName)) ∈ lw_all := lw_g (lw_at lw_m7 62 rfl) rfl
theorem q1586 : (Jvm.Cond.privateMethod ({ cls := "NonsenseRowsModel", name := "needsWord", desc := "(Ljava/lang/String;)V" } : Jvm.MethodName)) ∈ lw_tbl := lw_at lw_m7 63 rfl
theorem q1587 : (Jvm.Cond.instanceMethod ({ cls := "NonsenseRowsModel", name := "needsWord", desc := "(Ljava/lang/String;)V" } : Jvm.MethodName)) ∈ lw_all := lw_g (lw_at lw_m7 64 rfl) rfl
theorem q1588 : (Jvm.Cond.code ({ cls := "NonsenseRowsModel", name := "needsWord", desc := "(Ljava/lang/String;)V" } : Jvm.MethodName) prog_18_method_20_code (2 : Nat) (Option.none : Option Jvm.ClassFile.FieldType)) ∈ lw_all := lw_g (lw_at lw_m7 65 rfl) rfl
theorem q1589 : (Jvm.Cond.methodLink "NonsenseRowsModel" (187 : Nat) ({ cls := "NonsenseRowsModel", name := "number", desc := "(II)I" } : Jvm.MethodName)) ∈ lw_all := lw_g (lw_at lw_m7 66 rfl) rfl
theorem q1590 : (Jvm.Cond.privateMethod ({ cls := "NonsenseRowsModel", name := "number", desc := "(II)I" } : Jvm.MethodName)) ∈ lw_tbl := lw_at lw_m7 67 rfl
theorem q1591 : (Jvm.Cond.instanceMethod ({ cls := "NonsenseRowsModel", name := "number", desc := "(II)I" } : Jvm.MethodName)) ∈ lw_all := lw_g (lw_at lw_m7 68 rfl) rfl
theorem q1592 : (Jvm.Cond.code ({ cls := "NonsenseRowsModel", name := "number", desc := "(II)I" } : Jvm.MethodName) prog_18_method_21_code (4 : Nat) (Option.some Jvm.ClassFile.FieldType.int)) ∈ lw_all := lw_g (lw_at lw_m7 69 rfl) rfl
theorem q1593 : (Jvm.Cond.methodLink "NonsenseRowsModel" (228 : Nat) ({ cls := "NonsenseRowsModel", name := "readRow", desc := "()V" } : Jvm.MethodName)) ∈ lw_all := lw_g (lw_at lw_m7 70 rfl) rfl
theorem q1594 : (Jvm.Cond.privateMethod ({ cls := "NonsenseRowsModel", name := "readRow", desc := "()V" } : Jvm.MethodName)) ∈ lw_tbl := lw_at lw_m7 71 rfl
theorem q1595 : (Jvm.Cond.instanceMethod ({ cls := "NonsenseRowsModel", name := "readRow", desc := "()V" } : Jvm.MethodName)) ∈ lw_all := lw_g (lw_at lw_m7 72 rfl) rfl
theorem q1596 : (Jvm.Cond.code ({ cls := "NonsenseRowsModel", name := "readRow", desc := "()V" } : Jvm.MethodName) prog_18_method_24_code (4 : Nat) (Option.none : Option Jvm.ClassFile.FieldType)) ∈ lw_all := lw_g (lw_at lw_m7 73 rfl) rfl
theorem q1597 : (Jvm.Cond.methodLink "NonsenseRowsModel" (190 : Nat) ({ cls := "NonsenseRowsModel", name := "sortHere", desc := "()I" } : Jvm.MethodName)) ∈ lw_all := lw_g (lw_at lw_m7 74 rfl) rfl
theorem q1598 : (Jvm.Cond.privateMethod ({ cls := "NonsenseRowsModel", name := "sortHere", desc := "()I" } : Jvm.MethodName)) ∈ lw_tbl := lw_at lw_m7 75 rfl
theorem q1599 : (Jvm.Cond.instanceMethod ({ cls := "NonsenseRowsModel", name := "sortHere", desc := "()I" } : Jvm.MethodName)) ∈ lw_all := lw_g (lw_at lw_m7 76 rfl) rfl
theorem q1600 : (Jvm.Cond.code ({ cls := "NonsenseRowsModel", name := "sortHere", desc := "()I" } : Jvm.MethodName) prog_18_method_23_code (1 : Nat) (Option.some Jvm.ClassFile.FieldType.int)) ∈ lw_all := lw_g (lw_at lw_m7 77 rfl) rfl
theorem q1601 : (Jvm.Cond.stringRef "NonsenseRowsModel" (169 : Nat) "next") ∈ lw_tbl := lw_at lw_m7 78 rfl
theorem q1602 : (Jvm.Cond.stringRef "NonsenseRowsModel" (171 : Nat) "back") ∈ lw_tbl := lw_at lw_m7 79 rfl
theorem q1603 : (Jvm.Cond.stringRef "NonsenseRowsModel" (173 : Nat) "off") ∈ lw_tbl := lw_at lw_m7 80 rfl
theorem q1604 : (Jvm.Cond.stringRef "NonsenseRowsModel" (175 : Nat) "place") ∈ lw_tbl := lw_at lw_m7 81 rfl
theorem q1605 : (Jvm.Cond.methodLink "NonsenseRowsModel" (231 : Nat) ({ cls := "NonsenseRowsModel", name := "readLaw", desc := "(I)V" } : Jvm.MethodName)) ∈ lw_all := lw_g (lw_at lw_m7 82 rfl) rfl
theorem q1606 : (Jvm.Cond.privateMethod ({ cls := "NonsenseRowsModel", name := "readLaw", desc := "(I)V" } : Jvm.MethodName)) ∈ lw_tbl := lw_at lw_m7 83 rfl
theorem q1607 : (Jvm.Cond.instanceMethod ({ cls := "NonsenseRowsModel", name := "readLaw", desc := "(I)V" } : Jvm.MethodName)) ∈ lw_all := lw_g (lw_at lw_m7 84 rfl) rfl
theorem q1608 : (Jvm.Cond.code ({ cls := "NonsenseRowsModel", name := "readLaw", desc := "(I)V" } : Jvm.MethodName) prog_18_method_26_code (6 : Nat) (Option.none : Option Jvm.ClassFile.FieldType)) ∈ lw_all := lw_g (lw_at lw_m7 85 rfl) rfl
theorem q1609 : (Jvm.Cond.stringRef "NonsenseRowsModel" (193 : Nat) "by") ∈ lw_tbl := lw_at lw_m7 86 rfl
theorem q1610 : (Jvm.Cond.methodLink "NonsenseRowsModel" (199 : Nat) ({ cls := "NonsenseRowsModel", name := "readPart", desc := "(I)V" } : Jvm.MethodName)) ∈ lw_all := lw_g (lw_at lw_m7 87 rfl) rfl
theorem q1611 : (Jvm.Cond.privateMethod ({ cls := "NonsenseRowsModel", name := "readPart", desc := "(I)V" } : Jvm.MethodName)) ∈ lw_tbl := lw_at lw_m7 88 rfl
theorem q1612 : (Jvm.Cond.instanceMethod ({ cls := "NonsenseRowsModel", name := "readPart", desc := "(I)V" } : Jvm.MethodName)) ∈ lw_all := lw_g (lw_at lw_m7 89 rfl) rfl
theorem q1613 : (Jvm.Cond.code ({ cls := "NonsenseRowsModel", name := "readPart", desc := "(I)V" } : Jvm.MethodName) prog_18_method_25_code (5 : Nat) (Option.none : Option Jvm.ClassFile.FieldType)) ∈ lw_all := lw_g (lw_at lw_m7 90 rfl) rfl
theorem q1614 : (Jvm.Cond.stringRef "NonsenseRowsModel" (177 : Nat) "has") ∈ lw_tbl := lw_at lw_m7 91 rfl
theorem q1615 : (Jvm.Cond.stringRef "NonsenseRowsModel" (179 : Nat) "left") ∈ lw_tbl := lw_at lw_m7 92 rfl
theorem q1616 : (Jvm.Cond.stringRef "NonsenseRowsModel" (183 : Nat) "tired") ∈ lw_tbl := lw_at lw_m7 93 rfl
theorem q1617 : (Jvm.Cond.stringRef "NonsenseRowsModel" (185 : Nat) "hour") ∈ lw_tbl := lw_at lw_m7 94 rfl
theorem q1618 : (Jvm.Cond.stringRef "NonsenseRowsModel" (202 : Nat) "plus") ∈ lw_tbl := lw_at lw_m7 95 rfl
theorem q1619 : (Jvm.Cond.stringRef "NonsenseRowsModel" (204 : Nat) "minus") ∈ lw_tbl := lw_at lw_m7 96 rfl
theorem q1620 : (Jvm.Cond.stringRef "NonsenseRowsModel" (206 : Nat) "times") ∈ lw_tbl := lw_at lw_m7 97 rfl
theorem q1621 : (Jvm.Cond.stringRef "NonsenseRowsModel" (208 : Nat) "over") ∈ lw_tbl := lw_at lw_m7 98 rfl
theorem q1622 : (Jvm.Cond.methodLink "NonsenseRowsModel" (237 : Nat) ({ cls := "NonsenseRowsModel", name := "clearHead", desc := "()V" } : Jvm.MethodName)) ∈ lw_all := lw_g (lw_at lw_m7 99 rfl) rfl
theorem q1623 : (Jvm.Cond.privateMethod ({ cls := "NonsenseRowsModel", name := "clearHead", desc := "()V" } : Jvm.MethodName)) ∈ lw_tbl := lw_at lw_m7 100 rfl
theorem q1624 : (Jvm.Cond.instanceMethod ({ cls := "NonsenseRowsModel", name := "clearHead", desc := "()V" } : Jvm.MethodName)) ∈ lw_all := lw_g (lw_at lw_m7 101 rfl) rfl
theorem q1625 : (Jvm.Cond.code ({ cls := "NonsenseRowsModel", name := "clearHead", desc := "()V" } : Jvm.MethodName) prog_18_method_29_code (2 : Nat) (Option.none : Option Jvm.ClassFile.FieldType)) ∈ lw_all := lw_g (lw_at lw_m7 102 rfl) rfl
theorem q1627 : (Jvm.Cond.instanceMethod ({ cls := "NonsenseRowsModel", name := "law", desc := "(IIII)J" } : Jvm.MethodName)) ∈ lw_all := lw_g (lw_at lw_m7 104 rfl) rfl
theorem q1628 : (Jvm.Cond.selects "NonsenseRowsModel" ({ cls := "NonsenseRowsModel", name := "law", desc := "(IIII)J" } : Jvm.MethodName) ({ cls := "NonsenseRowsModel", name := "law", desc := "(IIII)J" } : Jvm.MethodName)) ∈ lw_all := lw_g (lw_at lw_m7 105 rfl) rfl
theorem q1629 : (Jvm.Cond.code ({ cls := "NonsenseRowsModel", name := "law", desc := "(IIII)J" } : Jvm.MethodName) prog_18_method_32_code (5 : Nat) (Option.some Jvm.ClassFile.FieldType.long)) ∈ lw_all := lw_g (lw_at lw_m7 106 rfl) rfl
theorem q1630 : (Jvm.Cond.constantLong "NonsenseRowsModel" (251 : Nat) (3 : Int64)) ∈ lw_all := lw_g (lw_at lw_m7 107 rfl) rfl
theorem q1631 : (Jvm.Cond.constantLong "NonsenseRowsModel" (253 : Nat) (1000 : Int64)) ∈ lw_all := lw_g (lw_at lw_m7 108 rfl) rfl
theorem q1632 : (Jvm.Cond.methodLink "NonsenseRowsModel" (255 : Nat) ({ cls := "NonsenseRowsModel", name := "isThing", desc := "(I)Z" } : Jvm.MethodName)) ∈ lw_all := lw_g (lw_at lw_m7 109 rfl) rfl
theorem q1633 : (Jvm.Cond.privateMethod ({ cls := "NonsenseRowsModel", name := "isThing", desc := "(I)Z" } : Jvm.MethodName)) ∈ lw_tbl := lw_at lw_m7 110 rfl
theorem q1634 : (Jvm.Cond.instanceMethod ({ cls := "NonsenseRowsModel", name := "isThing", desc := "(I)Z" } : Jvm.MethodName)) ∈ lw_all := lw_g (lw_at lw_m7 111 rfl) rfl
theorem q1635 : (Jvm.Cond.code ({ cls := "NonsenseRowsModel", name := "isThing", desc := "(I)Z" } : Jvm.MethodName) prog_18_method_9_code (2 : Nat) (Option.some Jvm.ClassFile.FieldType.boolean)) ∈ lw_all := lw_g (lw_at lw_m7 112 rfl) rfl
theorem q1636 : (Jvm.Cond.constantLong "NonsenseRowsModel" (259 : Nat) (-2000000000 : Int64)) ∈ lw_all := lw_g (lw_at lw_m7 113 rfl) rfl
theorem q1637 : (Jvm.Cond.methodLink "NonsenseRowsModel" (261 : Nat) ({ cls := "NonsenseRowsModel", name := "comesTo", desc := "(III)J" } : Jvm.MethodName)) ∈ lw_all := lw_g (lw_at lw_m7 114 rfl) rfl
theorem q1638 : (Jvm.Cond.privateMethod ({ cls := "NonsenseRowsModel", name := "comesTo", desc := "(III)J" } : Jvm.MethodName)) ∈ lw_tbl := lw_at lw_m7 115 rfl
theorem q1639 : (Jvm.Cond.instanceMethod ({ cls := "NonsenseRowsModel", name := "comesTo", desc := "(III)J" } : Jvm.MethodName)) ∈ lw_all := lw_g (lw_at lw_m7 116 rfl) rfl
theorem q1640 : (Jvm.Cond.code ({ cls := "NonsenseRowsModel", name := "comesTo", desc := "(III)J" } : Jvm.MethodName) prog_18_method_31_code (14 : Nat) (Option.some Jvm.ClassFile.FieldType.long)) ∈ lw_all := lw_g (lw_at lw_m7 117 rfl) rfl
theorem q1641 : (Jvm.Cond.methodLink "NonsenseRowsModel" (243 : Nat) ({ cls := "NonsenseRowsModel", name := "partOf", desc := "(III)J" } : Jvm.MethodName)) ∈ lw_all := lw_g (lw_at lw_m7 118 rfl) rfl
theorem q1642 : (Jvm.Cond.privateMethod ({ cls := "NonsenseRowsModel", name := "partOf", desc := "(III)J" } : Jvm.MethodName)) ∈ lw_tbl := lw_at lw_m7 119 rfl
theorem q1643 : (Jvm.Cond.instanceMethod ({ cls := "NonsenseRowsModel", name := "partOf", desc := "(III)J" } : Jvm.MethodName)) ∈ lw_all := lw_g (lw_at lw_m7 120 rfl) rfl
theorem q1644 : (Jvm.Cond.code ({ cls := "NonsenseRowsModel", name := "partOf", desc := "(III)J" } : Jvm.MethodName) prog_18_method_30_code (4 : Nat) (Option.some Jvm.ClassFile.FieldType.long)) ∈ lw_all := lw_g (lw_at lw_m7 121 rfl) rfl
theorem q1645 : (Jvm.Cond.constantLong "NonsenseRowsModel" (247 : Nat) (-1000000000 : Int64)) ∈ lw_all := lw_g (lw_at lw_m7 122 rfl) rfl
theorem q1646 : (Jvm.Cond.constantLong "NonsenseRowsModel" (249 : Nat) (1000000000 : Int64)) ∈ lw_all := lw_g (lw_at lw_m7 123 rfl) rfl
theorem q1648 : (Jvm.Cond.instanceMethod ({ cls := "NonsenseRowsModel", name := "read", desc := "(II)I" } : Jvm.MethodName)) ∈ lw_all := lw_g (lw_at lw_m7 125 rfl) rfl
theorem q1649 : (Jvm.Cond.selects "NonsenseRowsModel" ({ cls := "NonsenseRowsModel", name := "read", desc := "(II)I" } : Jvm.MethodName) ({ cls := "NonsenseRowsModel", name := "read", desc := "(II)I" } : Jvm.MethodName)) ∈ lw_all := lw_g (lw_at lw_m7 126 rfl) rfl
theorem q1650 : (Jvm.Cond.code ({ cls := "NonsenseRowsModel", name := "read", desc := "(II)I" } : Jvm.MethodName) prog_18_method_47_code (5 : Nat) (Option.some Jvm.ClassFile.FieldType.int)) ∈ lw_all := lw_g (lw_at lw_m7 127 rfl) rfl
theorem q1651 : (Jvm.Cond.methodLink "NonsenseRowsModel" (315 : Nat) ({ cls := "NonsenseRowsModel", name := "isRow", desc := "(I)Z" } : Jvm.MethodName)) ∈ lw_all := lw_g (lw_at lw_m7 128 rfl) rfl
theorem q1652 : (Jvm.Cond.privateMethod ({ cls := "NonsenseRowsModel", name := "isRow", desc := "(I)Z" } : Jvm.MethodName)) ∈ lw_tbl := lw_at lw_m7 129 rfl
theorem q1653 : (Jvm.Cond.instanceMethod ({ cls := "NonsenseRowsModel", name := "isRow", desc := "(I)Z" } : Jvm.MethodName)) ∈ lw_all := lw_g (lw_at lw_m7 130 rfl) rfl
theorem q1654 : (Jvm.Cond.code ({ cls := "NonsenseRowsModel", name := "isRow", desc := "(I)Z" } : Jvm.MethodName) prog_18_method_8_code (2 : Nat) (Option.some Jvm.ClassFile.FieldType.boolean)) ∈ lw_all := lw_g (lw_at lw_m7 131 rfl) rfl
theorem q1655 : (Jvm.Cond.constantLong "NonsenseRowsModel" (318 : Nat) (50 : Int64)) ∈ lw_all := lw_g (lw_at lw_m7 132 rfl) rfl
theorem q1656 : (Jvm.Cond.methodLink "NonsenseRowsModel" (297 : Nat) ({ cls := "NonsenseRowsModel", name := "slipsOf", desc := "(I)I" } : Jvm.MethodName)) ∈ lw_all := lw_g (lw_at lw_m7 133 rfl) rfl
theorem q1657 : (Jvm.Cond.privateMethod ({ cls := "NonsenseRowsModel", name := "slipsOf", desc := "(I)I" } : Jvm.MethodName)) ∈ lw_tbl := lw_at lw_m7 134 rfl
theorem q1658 : (Jvm.Cond.instanceMethod ({ cls := "NonsenseRowsModel", name := "slipsOf", desc := "(I)I" } : Jvm.MethodName)) ∈ lw_all := lw_g (lw_at lw_m7 135 rfl) rfl
theorem q1659 : (Jvm.Cond.code ({ cls := "NonsenseRowsModel", name := "slipsOf", desc := "(I)I" } : Jvm.MethodName) prog_18_method_40_code (4 : Nat) (Option.some Jvm.ClassFile.FieldType.int)) ∈ lw_all := lw_g (lw_at lw_m7 136 rfl) rfl
theorem q1660 : (Jvm.Cond.methodLink "NonsenseRowsModel" (278 : Nat) ({ cls := "NonsenseRowsModel", name := "manyOf", desc := "(I)I" } : Jvm.MethodName)) ∈ lw_all := lw_g (lw_at lw_m7 137 rfl) rfl
theorem q1661 : (Jvm.Cond.privateMethod ({ cls := "NonsenseRowsModel", name := "manyOf", desc := "(I)I" } : Jvm.MethodName)) ∈ lw_tbl := lw_at lw_m7 138 rfl
theorem q1662 : (Jvm.Cond.instanceMethod ({ cls := "NonsenseRowsModel", name := "manyOf", desc := "(I)I" } : Jvm.MethodName)) ∈ lw_all := lw_g (lw_at lw_m7 139 rfl) rfl
theorem q1663 : (Jvm.Cond.code ({ cls := "NonsenseRowsModel", name := "manyOf", desc := "(I)I" } : Jvm.MethodName) prog_18_method_10_code (2 : Nat) (Option.some Jvm.ClassFile.FieldType.int)) ∈ lw_all := lw_g (lw_at lw_m7 140 rfl) rfl
theorem q1664 : (Jvm.Cond.methodLink "NonsenseRowsModel" (291 : Nat) ({ cls := "NonsenseRowsModel", name := "supportOf", desc := "(II)I" } : Jvm.MethodName)) ∈ lw_all := lw_g (lw_at lw_m7 141 rfl) rfl
theorem q1665 : (Jvm.Cond.privateMethod ({ cls := "NonsenseRowsModel", name := "supportOf", desc := "(II)I" } : Jvm.MethodName)) ∈ lw_tbl := lw_at lw_m7 142 rfl
theorem q1666 : (Jvm.Cond.instanceMethod ({ cls := "NonsenseRowsModel", name := "supportOf", desc := "(II)I" } : Jvm.MethodName)) ∈ lw_all := lw_g (lw_at lw_m7 143 rfl) rfl
theorem q1667 : (Jvm.Cond.code ({ cls := "NonsenseRowsModel", name := "supportOf", desc := "(II)I" } : Jvm.MethodName) prog_18_method_39_code (7 : Nat) (Option.some Jvm.ClassFile.FieldType.int)) ∈ lw_all := lw_g (lw_at lw_m7 144 rfl) rfl
theorem q1668 : (Jvm.Cond.methodLink "NonsenseRowsModel" (281 : Nat) ({ cls := "NonsenseRowsModel", name := "thingOf", desc := "(II)I" } : Jvm.MethodName)) ∈ lw_all := lw_g (lw_at lw_m7 145 rfl) rfl
theorem q1669 : (Jvm.Cond.privateMethod ({ cls := "NonsenseRowsModel", name := "thingOf", desc := "(II)I" } : Jvm.MethodName)) ∈ lw_tbl := lw_at lw_m7 146 rfl
theorem q1670 : (Jvm.Cond.instanceMethod ({ cls := "NonsenseRowsModel", name := "thingOf", desc := "(II)I" } : Jvm.MethodName)) ∈ lw_all := lw_g (lw_at lw_m7 147 rfl) rfl
theorem q1671 : (Jvm.Cond.code ({ cls := "NonsenseRowsModel", name := "thingOf", desc := "(II)I" } : Jvm.MethodName) prog_18_method_11_code (3 : Nat) (Option.some Jvm.ClassFile.FieldType.int)) ∈ lw_all := lw_g (lw_at lw_m7 148 rfl) rfl
theorem q1672 : (Jvm.Cond.methodLink "NonsenseRowsModel" (270 : Nat) ({ cls := "NonsenseRowsModel", name := "linkAt", desc := "(III)I" } : Jvm.MethodName)) ∈ lw_all := lw_g (lw_at lw_m7 149 rfl) rfl
theorem q1673 : (Jvm.Cond.static ({ cls := "NonsenseRowsModel", name := "linkAt", desc := "(III)I" } : Jvm.MethodName)) ∈ lw_all := lw_g (lw_at lw_m7 150 rfl) rfl
theorem q1674 : (Jvm.Cond.code ({ cls := "NonsenseRowsModel", name := "linkAt", desc := "(III)I" } : Jvm.MethodName) prog_18_method_33_code (3 : Nat) (Option.some Jvm.ClassFile.FieldType.int)) ∈ lw_all := lw_g (lw_at lw_m7 151 rfl) rfl
theorem q1675 : (Jvm.Cond.methodLink "NonsenseRowsModel" (312 : Nat) ({ cls := "NonsenseRowsModel", name := "ones", desc := "(I)I" } : Jvm.MethodName)) ∈ lw_all := lw_g (lw_at lw_m7 152 rfl) rfl
theorem q1676 : (Jvm.Cond.static ({ cls := "NonsenseRowsModel", name := "ones", desc := "(I)I" } : Jvm.MethodName)) ∈ lw_all := lw_g (lw_at lw_m7 153 rfl) rfl
theorem q1677 : (Jvm.Cond.code ({ cls := "NonsenseRowsModel", name := "ones", desc := "(I)I" } : Jvm.MethodName) prog_18_method_3_code (3 : Nat) (Option.some Jvm.ClassFile.FieldType.int)) ∈ lw_all := lw_g (lw_at lw_m7 154 rfl) rfl
theorem q1678 : (Jvm.Cond.methodLink "NonsenseRowsModel" (294 : Nat) ({ cls := "NonsenseRowsModel", name := "reads", desc := "(I)V" } : Jvm.MethodName)) ∈ lw_all := lw_g (lw_at lw_m7 155 rfl) rfl
theorem q1679 : (Jvm.Cond.privateMethod ({ cls := "NonsenseRowsModel", name := "reads", desc := "(I)V" } : Jvm.MethodName)) ∈ lw_tbl := lw_at lw_m7 156 rfl
theorem q1680 : (Jvm.Cond.instanceMethod ({ cls := "NonsenseRowsModel", name := "reads", desc := "(I)V" } : Jvm.MethodName)) ∈ lw_all := lw_g (lw_at lw_m7 157 rfl) rfl
theorem q1681 : (Jvm.Cond.code ({ cls := "NonsenseRowsModel", name := "reads", desc := "(I)V" } : Jvm.MethodName) prog_18_method_36_code (7 : Nat) (Option.none : Option Jvm.ClassFile.FieldType)) ∈ lw_all := lw_g (lw_at lw_m7 158 rfl) rfl
theorem q1682 : (Jvm.Cond.methodLink "NonsenseRowsModel" (284 : Nat) ({ cls := "NonsenseRowsModel", name := "grows", desc := "(IIII)V" } : Jvm.MethodName)) ∈ lw_all := lw_g (lw_at lw_m7 159 rfl) rfl
theorem q1683 : (Jvm.Cond.privateMethod ({ cls := "NonsenseRowsModel", name := "grows", desc := "(IIII)V" } : Jvm.MethodName)) ∈ lw_tbl := lw_at lw_m7 160 rfl
theorem q1684 : (Jvm.Cond.instanceMethod ({ cls := "NonsenseRowsModel", name := "grows", desc := "(IIII)V" } : Jvm.MethodName)) ∈ lw_all := lw_g (lw_at lw_m7 161 rfl) rfl
theorem q1685 : (Jvm.Cond.code ({ cls := "NonsenseRowsModel", name := "grows", desc := "(IIII)V" } : Jvm.MethodName) prog_18_method_35_code (6 : Nat) (Option.none : Option Jvm.ClassFile.FieldType)) ∈ lw_all := lw_g (lw_at lw_m7 162 rfl) rfl
theorem q1686 : (Jvm.Cond.methodLink "NonsenseRowsModel" (274 : Nat) ({ cls := "NonsenseRowsModel", name := "changes", desc := "(IJ)V" } : Jvm.MethodName)) ∈ lw_all := lw_g (lw_at lw_m7 163 rfl) rfl
theorem q1687 : (Jvm.Cond.privateMethod ({ cls := "NonsenseRowsModel", name := "changes", desc := "(IJ)V" } : Jvm.MethodName)) ∈ lw_tbl := lw_at lw_m7 164 rfl
theorem q1688 : (Jvm.Cond.instanceMethod ({ cls := "NonsenseRowsModel", name := "changes", desc := "(IJ)V" } : Jvm.MethodName)) ∈ lw_all := lw_g (lw_at lw_m7 165 rfl) rfl
theorem q1689 : (Jvm.Cond.code ({ cls := "NonsenseRowsModel", name := "changes", desc := "(IJ)V" } : Jvm.MethodName) prog_18_method_34_code (6 : Nat) (Option.none : Option Jvm.ClassFile.FieldType)) ∈ lw_all := lw_g (lw_at lw_m7 166 rfl) rfl
theorem q1690 : (Jvm.Cond.methodLink "NonsenseRowsModel" (264 : Nat) ({ cls := "java/lang/Math", name := "min", desc := "(JJ)J" } : Jvm.MethodName)) ∈ lw_all := lw_g (lw_at lw_m7 167 rfl) rfl
theorem q1691 : (Jvm.Cond.methodLink "NonsenseRowsModel" (267 : Nat) ({ cls := "java/lang/Math", name := "max", desc := "(JJ)J" } : Jvm.MethodName)) ∈ lw_all := lw_g (lw_at lw_m7 168 rfl) rfl
theorem q1692 : (Jvm.Cond.methodLink "NonsenseRowsModel" (320 : Nat) ({ cls := "NonsenseRowsModel", name := "sits", desc := "(IIII)V" } : Jvm.MethodName)) ∈ lw_all := lw_g (lw_at lw_m7 169 rfl) rfl
theorem q1693 : (Jvm.Cond.privateMethod ({ cls := "NonsenseRowsModel", name := "sits", desc := "(IIII)V" } : Jvm.MethodName)) ∈ lw_tbl := lw_at lw_m7 170 rfl
theorem q1694 : (Jvm.Cond.instanceMethod ({ cls := "NonsenseRowsModel", name := "sits", desc := "(IIII)V" } : Jvm.MethodName)) ∈ lw_all := lw_g (lw_at lw_m7 171 rfl) rfl
theorem q1695 : (Jvm.Cond.code ({ cls := "NonsenseRowsModel", name := "sits", desc := "(IIII)V" } : Jvm.MethodName) prog_18_method_46_code (6 : Nat) (Option.none : Option Jvm.ClassFile.FieldType)) ∈ lw_all := lw_g (lw_at lw_m7 172 rfl) rfl
theorem q1697 : (Jvm.Cond.instanceMethod ({ cls := "NonsenseRowsModel", name := "learn", desc := "(I)I" } : Jvm.MethodName)) ∈ lw_all := lw_g (lw_at lw_m7 174 rfl) rfl
theorem q1698 : (Jvm.Cond.selects "NonsenseRowsModel" ({ cls := "NonsenseRowsModel", name := "learn", desc := "(I)I" } : Jvm.MethodName) ({ cls := "NonsenseRowsModel", name := "learn", desc := "(I)I" } : Jvm.MethodName)) ∈ lw_all := lw_g (lw_at lw_m7 175 rfl) rfl
theorem q1699 : (Jvm.Cond.code ({ cls := "NonsenseRowsModel", name := "learn", desc := "(I)I" } : Jvm.MethodName) prog_18_method_48_code (4 : Nat) (Option.some Jvm.ClassFile.FieldType.int)) ∈ lw_all := lw_g (lw_at lw_m7 176 rfl) rfl
theorem q1700 : (Jvm.Cond.methodLink "NonsenseRowsModel" (306 : Nat) ({ cls := "NonsenseRowsModel", name := "learns", desc := "(I)I" } : Jvm.MethodName)) ∈ lw_all := lw_g (lw_at lw_m7 177 rfl) rfl
theorem q1701 : (Jvm.Cond.privateMethod ({ cls := "NonsenseRowsModel", name := "learns", desc := "(I)I" } : Jvm.MethodName)) ∈ lw_tbl := lw_at lw_m7 178 rfl
theorem q1702 : (Jvm.Cond.instanceMethod ({ cls := "NonsenseRowsModel", name := "learns", desc := "(I)I" } : Jvm.MethodName)) ∈ lw_all := lw_g (lw_at lw_m7 179 rfl) rfl
theorem q1703 : (Jvm.Cond.code ({ cls := "NonsenseRowsModel", name := "learns", desc := "(I)I" } : Jvm.MethodName) prog_18_method_41_code (4 : Nat) (Option.some Jvm.ClassFile.FieldType.int)) ∈ lw_all := lw_g (lw_at lw_m7 180 rfl) rfl
theorem q1705 : (Jvm.Cond.instanceMethod ({ cls := "NonsenseRowsModel", name := "waits", desc := "(I)I" } : Jvm.MethodName)) ∈ lw_all := lw_g (lw_at lw_m7 182 rfl) rfl
theorem q1706 : (Jvm.Cond.selects "NonsenseRowsModel" ({ cls := "NonsenseRowsModel", name := "waits", desc := "(I)I" } : Jvm.MethodName) ({ cls := "NonsenseRowsModel", name := "waits", desc := "(I)I" } : Jvm.MethodName)) ∈ lw_all := lw_g (lw_at lw_m7 183 rfl) rfl
theorem q1707 : (Jvm.Cond.code ({ cls := "NonsenseRowsModel", name := "waits", desc := "(I)I" } : Jvm.MethodName) prog_18_method_49_code (2 : Nat) (Option.some Jvm.ClassFile.FieldType.int)) ∈ lw_all := lw_g (lw_at lw_m7 184 rfl) rfl
theorem q1708 : (Jvm.Cond.constantLong "NonsenseRowsModel" (323 : Nat) (200 : Int64)) ∈ lw_all := lw_g (lw_at lw_m7 185 rfl) rfl
theorem q1709 : (Jvm.Cond.methodLink "NonsenseRowsModel" (325 : Nat) ({ cls := "NonsenseRowsModel", name := "hoursGo", desc := "(I)V" } : Jvm.MethodName)) ∈ lw_all := lw_g (lw_at lw_m7 186 rfl) rfl
theorem q1710 : (Jvm.Cond.privateMethod ({ cls := "NonsenseRowsModel", name := "hoursGo", desc := "(I)V" } : Jvm.MethodName)) ∈ lw_tbl := lw_at lw_m7 187 rfl
theorem q1711 : (Jvm.Cond.instanceMethod ({ cls := "NonsenseRowsModel", name := "hoursGo", desc := "(I)V" } : Jvm.MethodName)) ∈ lw_all := lw_g (lw_at lw_m7 188 rfl) rfl
theorem q1712 : (Jvm.Cond.code ({ cls := "NonsenseRowsModel", name := "hoursGo", desc := "(I)V" } : Jvm.MethodName) prog_18_method_38_code (3 : Nat) (Option.none : Option Jvm.ClassFile.FieldType)) ∈ lw_all := lw_g (lw_at lw_m7 189 rfl) rfl
theorem q1713 : (Jvm.Cond.methodLink "NonsenseRowsModel" (288 : Nat) ({ cls := "NonsenseRowsModel", name := "hourGoes", desc := "()V" } : Jvm.MethodName)) ∈ lw_all := lw_g (lw_at lw_m7 190 rfl) rfl
theorem q1714 : (Jvm.Cond.privateMethod ({ cls := "NonsenseRowsModel", name := "hourGoes", desc := "()V" } : Jvm.MethodName)) ∈ lw_tbl := lw_at lw_m7 191 rfl
theorem q1715 : (Jvm.Cond.instanceMethod ({ cls := "NonsenseRowsModel", name := "hourGoes", desc := "()V" } : Jvm.MethodName)) ∈ lw_all := lw_g (lw_at lw_m7 192 rfl) rfl
theorem q1716 : (Jvm.Cond.code ({ cls := "NonsenseRowsModel", name := "hourGoes", desc := "()V" } : Jvm.MethodName) prog_18_method_37_code (6 : Nat) (Option.none : Option Jvm.ClassFile.FieldType)) ∈ lw_all := lw_g (lw_at lw_m7 193 rfl) rfl
theorem q1718 : (Jvm.Cond.instanceMethod ({ cls := "NonsenseRowsModel", name := "strength", desc := "(III)I" } : Jvm.MethodName)) ∈ lw_all := lw_g (lw_at lw_m7 195 rfl) rfl
theorem q1719 : (Jvm.Cond.selects "NonsenseRowsModel" ({ cls := "NonsenseRowsModel", name := "strength", desc := "(III)I" } : Jvm.MethodName) ({ cls := "NonsenseRowsModel", name := "strength", desc := "(III)I" } : Jvm.MethodName)) ∈ lw_all := lw_g (lw_at lw_m7 196 rfl) rfl
theorem q1720 : (Jvm.Cond.code ({ cls := "NonsenseRowsModel", name := "strength", desc := "(III)I" } : Jvm.MethodName) prog_18_method_50_code (4 : Nat) (Option.some Jvm.ClassFile.FieldType.int)) ∈ lw_all := lw_g (lw_at lw_m7 197 rfl) rfl
theorem q1721 : (Jvm.Cond.constantLong "NonsenseRowsModel" (328 : Nat) (11 : Int64)) ∈ lw_all := lw_g (lw_at lw_m7 198 rfl) rfl
theorem q1723 : (Jvm.Cond.instanceMethod ({ cls := "NonsenseRowsModel", name := "links", desc := "(I)I" } : Jvm.MethodName)) ∈ lw_all := lw_g (lw_at lw_m7 200 rfl) rfl
theorem q1724 : (Jvm.Cond.selects "NonsenseRowsModel" ({ cls := "NonsenseRowsModel", name := "links", desc := "(I)I" } : Jvm.MethodName) ({ cls := "NonsenseRowsModel", name := "links", desc := "(I)I" } : Jvm.MethodName)) ∈ lw_all := lw_g (lw_at lw_m7 201 rfl) rfl
theorem q1725 : (Jvm.Cond.code ({ cls := "NonsenseRowsModel", name := "links", desc := "(I)I" } : Jvm.MethodName) prog_18_method_52_code (2 : Nat) (Option.some Jvm.ClassFile.FieldType.int)) ∈ lw_all := lw_g (lw_at lw_m7 202 rfl) rfl
theorem q1726 : (Jvm.Cond.methodLink "NonsenseRowsModel" (330 : Nat) ({ cls := "NonsenseRowsModel", name := "linksOf", desc := "(I)I" } : Jvm.MethodName)) ∈ lw_all := lw_g (lw_at lw_m7 203 rfl) rfl
theorem q1727 : (Jvm.Cond.privateMethod ({ cls := "NonsenseRowsModel", name := "linksOf", desc := "(I)I" } : Jvm.MethodName)) ∈ lw_tbl := lw_at lw_m7 204 rfl
theorem q1728 : (Jvm.Cond.instanceMethod ({ cls := "NonsenseRowsModel", name := "linksOf", desc := "(I)I" } : Jvm.MethodName)) ∈ lw_all := lw_g (lw_at lw_m7 205 rfl) rfl
theorem q1729 : (Jvm.Cond.code ({ cls := "NonsenseRowsModel", name := "linksOf", desc := "(I)I" } : Jvm.MethodName) prog_18_method_51_code (4 : Nat) (Option.some Jvm.ClassFile.FieldType.int)) ∈ lw_all := lw_g (lw_at lw_m7 206 rfl) rfl
theorem q1731 : (Jvm.Cond.instanceMethod ({ cls := "NonsenseRowsModel", name := "support", desc := "(II)I" } : Jvm.MethodName)) ∈ lw_all := lw_g (lw_at lw_m7 208 rfl) rfl
theorem q1732 : (Jvm.Cond.selects "NonsenseRowsModel" ({ cls := "NonsenseRowsModel", name := "support", desc := "(II)I" } : Jvm.MethodName) ({ cls := "NonsenseRowsModel", name := "support", desc := "(II)I" } : Jvm.MethodName)) ∈ lw_all := lw_g (lw_at lw_m7 209 rfl) rfl
theorem q1733 : (Jvm.Cond.code ({ cls := "NonsenseRowsModel", name := "support", desc := "(II)I" } : Jvm.MethodName) prog_18_method_53_code (3 : Nat) (Option.some Jvm.ClassFile.FieldType.int)) ∈ lw_all := lw_g (lw_at lw_m7 210 rfl) rfl
theorem q1735 : (Jvm.Cond.instanceMethod ({ cls := "NonsenseRowsModel", name := "slips", desc := "(I)I" } : Jvm.MethodName)) ∈ lw_all := lw_g (lw_at lw_m7 212 rfl) rfl
theorem q1736 : (Jvm.Cond.selects "NonsenseRowsModel" ({ cls := "NonsenseRowsModel", name := "slips", desc := "(I)I" } : Jvm.MethodName) ({ cls := "NonsenseRowsModel", name := "slips", desc := "(I)I" } : Jvm.MethodName)) ∈ lw_all := lw_g (lw_at lw_m7 213 rfl) rfl
theorem q1737 : (Jvm.Cond.code ({ cls := "NonsenseRowsModel", name := "slips", desc := "(I)I" } : Jvm.MethodName) prog_18_method_54_code (2 : Nat) (Option.some Jvm.ClassFile.FieldType.int)) ∈ lw_all := lw_g (lw_at lw_m7 214 rfl) rfl
theorem q1739 : (Jvm.Cond.instanceMethod ({ cls := "NonsenseRowsModel", name := "needs", desc := "(I)I" } : Jvm.MethodName)) ∈ lw_all := lw_g (lw_at lw_m7 216 rfl) rfl
theorem q1740 : (Jvm.Cond.selects "NonsenseRowsModel" ({ cls := "NonsenseRowsModel", name := "needs", desc := "(I)I" } : Jvm.MethodName) ({ cls := "NonsenseRowsModel", name := "needs", desc := "(I)I" } : Jvm.MethodName)) ∈ lw_all := lw_g (lw_at lw_m7 217 rfl) rfl
theorem q1741 : (Jvm.Cond.code ({ cls := "NonsenseRowsModel", name := "needs", desc := "(I)I" } : Jvm.MethodName) prog_18_method_55_code (2 : Nat) (Option.some Jvm.ClassFile.FieldType.int)) ∈ lw_all := lw_g (lw_at lw_m7 218 rfl) rfl
theorem q1742 : (Jvm.Cond.methodLink "NonsenseRowsModel" (333 : Nat) ({ cls := "NonsenseRowsModel", name := "needsOf", desc := "(I)I" } : Jvm.MethodName)) ∈ lw_all := lw_g (lw_at lw_m7 219 rfl) rfl
theorem q1743 : (Jvm.Cond.privateMethod ({ cls := "NonsenseRowsModel", name := "needsOf", desc := "(I)I" } : Jvm.MethodName)) ∈ lw_tbl := lw_at lw_m7 220 rfl
theorem q1744 : (Jvm.Cond.instanceMethod ({ cls := "NonsenseRowsModel", name := "needsOf", desc := "(I)I" } : Jvm.MethodName)) ∈ lw_all := lw_g (lw_at lw_m7 221 rfl) rfl
theorem q1745 : (Jvm.Cond.code ({ cls := "NonsenseRowsModel", name := "needsOf", desc := "(I)I" } : Jvm.MethodName) prog_18_method_44_code (3 : Nat) (Option.some Jvm.ClassFile.FieldType.int)) ∈ lw_all := lw_g (lw_at lw_m7 222 rfl) rfl
theorem q1746 : (Jvm.Cond.methodLink "NonsenseRowsModel" (303 : Nat) ({ cls := "NonsenseRowsModel", name := "copy", desc := "()V" } : Jvm.MethodName)) ∈ lw_all := lw_g (lw_at lw_m7 223 rfl) rfl
theorem q1747 : (Jvm.Cond.privateMethod ({ cls := "NonsenseRowsModel", name := "copy", desc := "()V" } : Jvm.MethodName)) ∈ lw_tbl := lw_at lw_m7 224 rfl
theorem q1748 : (Jvm.Cond.instanceMethod ({ cls := "NonsenseRowsModel", name := "copy", desc := "()V" } : Jvm.MethodName)) ∈ lw_all := lw_g (lw_at lw_m7 225 rfl) rfl
theorem q1749 : (Jvm.Cond.code ({ cls := "NonsenseRowsModel", name := "copy", desc := "()V" } : Jvm.MethodName) prog_18_method_42_code (2 : Nat) (Option.none : Option Jvm.ClassFile.FieldType)) ∈ lw_all := lw_g (lw_at lw_m7 226 rfl) rfl
theorem q1750 : (Jvm.Cond.methodLink "NonsenseRowsModel" (309 : Nat) ({ cls := "NonsenseRowsModel", name := "takeBack", desc := "()V" } : Jvm.MethodName)) ∈ lw_all := lw_g (lw_at lw_m7 227 rfl) rfl
theorem q1751 : (Jvm.Cond.privateMethod ({ cls := "NonsenseRowsModel", name := "takeBack", desc := "()V" } : Jvm.MethodName)) ∈ lw_tbl := lw_at lw_m7 228 rfl
theorem q1752 : (Jvm.Cond.instanceMethod ({ cls := "NonsenseRowsModel", name := "takeBack", desc := "()V" } : Jvm.MethodName)) ∈ lw_all := lw_g (lw_at lw_m7 229 rfl) rfl
theorem q1753 : (Jvm.Cond.code ({ cls := "NonsenseRowsModel", name := "takeBack", desc := "()V" } : Jvm.MethodName) prog_18_method_43_code (2 : Nat) (Option.none : Option Jvm.ClassFile.FieldType)) ∈ lw_all := lw_g (lw_at lw_m7 230 rfl) rfl
theorem q1755 : (Jvm.Cond.instanceMethod ({ cls := "NonsenseRowsModel", name := "fresh", desc := "(I)I" } : Jvm.MethodName)) ∈ lw_all := lw_g (lw_at lw_m7 232 rfl) rfl
theorem q1756 : (Jvm.Cond.selects "NonsenseRowsModel" ({ cls := "NonsenseRowsModel", name := "fresh", desc := "(I)I" } : Jvm.MethodName) ({ cls := "NonsenseRowsModel", name := "fresh", desc := "(I)I" } : Jvm.MethodName)) ∈ lw_all := lw_g (lw_at lw_m7 233 rfl) rfl
theorem q1757 : (Jvm.Cond.code ({ cls := "NonsenseRowsModel", name := "fresh", desc := "(I)I" } : Jvm.MethodName) prog_18_method_56_code (2 : Nat) (Option.some Jvm.ClassFile.FieldType.int)) ∈ lw_all := lw_g (lw_at lw_m7 234 rfl) rfl
theorem q1758 : (Jvm.Cond.methodLink "NonsenseRowsModel" (336 : Nat) ({ cls := "NonsenseRowsModel", name := "freshOf", desc := "(I)I" } : Jvm.MethodName)) ∈ lw_all := lw_g (lw_at lw_m7 235 rfl) rfl
theorem q1759 : (Jvm.Cond.privateMethod ({ cls := "NonsenseRowsModel", name := "freshOf", desc := "(I)I" } : Jvm.MethodName)) ∈ lw_tbl := lw_at lw_m7 236 rfl
theorem q1760 : (Jvm.Cond.instanceMethod ({ cls := "NonsenseRowsModel", name := "freshOf", desc := "(I)I" } : Jvm.MethodName)) ∈ lw_all := lw_g (lw_at lw_m7 237 rfl) rfl
theorem q1761 : (Jvm.Cond.code ({ cls := "NonsenseRowsModel", name := "freshOf", desc := "(I)I" } : Jvm.MethodName) prog_18_method_45_code (3 : Nat) (Option.some Jvm.ClassFile.FieldType.int)) ∈ lw_all := lw_g (lw_at lw_m7 238 rfl) rfl
theorem q1763 : (Jvm.Cond.instanceMethod ({ cls := "NonsenseRowsModel", name := "saving", desc := "(I)I" } : Jvm.MethodName)) ∈ lw_all := lw_g (lw_at lw_m8 0 rfl) rfl
theorem q1764 : (Jvm.Cond.selects "NonsenseRowsModel" ({ cls := "NonsenseRowsModel", name := "saving", desc := "(I)I" } : Jvm.MethodName) ({ cls := "NonsenseRowsModel", name := "saving", desc := "(I)I" } : Jvm.MethodName)) ∈ lw_all := lw_g (lw_at lw_m8 1 rfl) rfl
theorem q1765 : (Jvm.Cond.code ({ cls := "NonsenseRowsModel", name := "saving", desc := "(I)I" } : Jvm.MethodName) prog_18_method_57_code (4 : Nat) (Option.some Jvm.ClassFile.FieldType.int)) ∈ lw_all := lw_g (lw_at lw_m8 2 rfl) rfl
theorem q1766 : (Jvm.Cond.constant "NonsenseRowsModel" (339 : Nat) (-2000000000 : Int32)) ∈ lw_all := lw_g (lw_at lw_m8 3 rfl) rfl
theorem q1768 : (Jvm.Cond.instanceMethod ({ cls := "NonsenseRowsModel", name := "after", desc := "(II)I" } : Jvm.MethodName)) ∈ lw_all := lw_g (lw_at lw_m8 5 rfl) rfl
theorem q1769 : (Jvm.Cond.selects "NonsenseRowsModel" ({ cls := "NonsenseRowsModel", name := "after", desc := "(II)I" } : Jvm.MethodName) ({ cls := "NonsenseRowsModel", name := "after", desc := "(II)I" } : Jvm.MethodName)) ∈ lw_all := lw_g (lw_at lw_m8 6 rfl) rfl
theorem q1770 : (Jvm.Cond.code ({ cls := "NonsenseRowsModel", name := "after", desc := "(II)I" } : Jvm.MethodName) prog_18_method_58_code (4 : Nat) (Option.some Jvm.ClassFile.FieldType.int)) ∈ lw_all := lw_g (lw_at lw_m8 7 rfl) rfl
theorem q1772 : (Jvm.Cond.instanceMethod ({ cls := "NonsenseRowsModel", name := "lasts", desc := "(I)I" } : Jvm.MethodName)) ∈ lw_all := lw_g (lw_at lw_m8 9 rfl) rfl
theorem q1773 : (Jvm.Cond.selects "NonsenseRowsModel" ({ cls := "NonsenseRowsModel", name := "lasts", desc := "(I)I" } : Jvm.MethodName) ({ cls := "NonsenseRowsModel", name := "lasts", desc := "(I)I" } : Jvm.MethodName)) ∈ lw_all := lw_g (lw_at lw_m8 10 rfl) rfl
theorem q1774 : (Jvm.Cond.code ({ cls := "NonsenseRowsModel", name := "lasts", desc := "(I)I" } : Jvm.MethodName) prog_18_method_59_code (4 : Nat) (Option.some Jvm.ClassFile.FieldType.int)) ∈ lw_all := lw_g (lw_at lw_m8 11 rfl) rfl
theorem q1776 : (Jvm.Cond.instanceMethod ({ cls := "NonsenseRowsModel", name := "gone", desc := "(I)I" } : Jvm.MethodName)) ∈ lw_all := lw_g (lw_at lw_m8 13 rfl) rfl
theorem q1777 : (Jvm.Cond.selects "NonsenseRowsModel" ({ cls := "NonsenseRowsModel", name := "gone", desc := "(I)I" } : Jvm.MethodName) ({ cls := "NonsenseRowsModel", name := "gone", desc := "(I)I" } : Jvm.MethodName)) ∈ lw_all := lw_g (lw_at lw_m8 14 rfl) rfl
theorem q1778 : (Jvm.Cond.code ({ cls := "NonsenseRowsModel", name := "gone", desc := "(I)I" } : Jvm.MethodName) prog_18_method_61_code (4 : Nat) (Option.some Jvm.ClassFile.FieldType.int)) ∈ lw_all := lw_g (lw_at lw_m8 15 rfl) rfl
theorem q1779 : (Jvm.Cond.methodLink "NonsenseRowsModel" (340 : Nat) ({ cls := "NonsenseRowsModel", name := "orMany", desc := "(I)I" } : Jvm.MethodName)) ∈ lw_all := lw_g (lw_at lw_m8 16 rfl) rfl
theorem q1780 : (Jvm.Cond.static ({ cls := "NonsenseRowsModel", name := "orMany", desc := "(I)I" } : Jvm.MethodName)) ∈ lw_all := lw_g (lw_at lw_m8 17 rfl) rfl
theorem q1781 : (Jvm.Cond.code ({ cls := "NonsenseRowsModel", name := "orMany", desc := "(I)I" } : Jvm.MethodName) prog_18_method_60_code (1 : Nat) (Option.some Jvm.ClassFile.FieldType.int)) ∈ lw_all := lw_g (lw_at lw_m8 18 rfl) rfl
theorem q1783 : (Jvm.Cond.instanceMethod ({ cls := "NonsenseRowsModel", name := "without", desc := "(II)I" } : Jvm.MethodName)) ∈ lw_all := lw_g (lw_at lw_m8 20 rfl) rfl
theorem q1784 : (Jvm.Cond.selects "NonsenseRowsModel" ({ cls := "NonsenseRowsModel", name := "without", desc := "(II)I" } : Jvm.MethodName) ({ cls := "NonsenseRowsModel", name := "without", desc := "(II)I" } : Jvm.MethodName)) ∈ lw_all := lw_g (lw_at lw_m8 21 rfl) rfl
theorem q1785 : (Jvm.Cond.code ({ cls := "NonsenseRowsModel", name := "without", desc := "(II)I" } : Jvm.MethodName) prog_18_method_62_code (5 : Nat) (Option.some Jvm.ClassFile.FieldType.int)) ∈ lw_all := lw_g (lw_at lw_m8 22 rfl) rfl
theorem q1787 : (Jvm.Cond.instanceMethod ({ cls := "NonsenseRowsModel", name := "between", desc := "(III)I" } : Jvm.MethodName)) ∈ lw_all := lw_g (lw_at lw_m8 24 rfl) rfl
theorem q1788 : (Jvm.Cond.selects "NonsenseRowsModel" ({ cls := "NonsenseRowsModel", name := "between", desc := "(III)I" } : Jvm.MethodName) ({ cls := "NonsenseRowsModel", name := "between", desc := "(III)I" } : Jvm.MethodName)) ∈ lw_all := lw_g (lw_at lw_m8 25 rfl) rfl
theorem q1789 : (Jvm.Cond.code ({ cls := "NonsenseRowsModel", name := "between", desc := "(III)I" } : Jvm.MethodName) prog_18_method_63_code (7 : Nat) (Option.some Jvm.ClassFile.FieldType.int)) ∈ lw_all := lw_g (lw_at lw_m8 26 rfl) rfl
theorem q1791 : (Jvm.Cond.instanceMethod ({ cls := "NonsenseRowsModel", name := "evening", desc := "(III)I" } : Jvm.MethodName)) ∈ lw_all := lw_g (lw_at lw_m8 28 rfl) rfl
theorem q1792 : (Jvm.Cond.selects "NonsenseRowsModel" ({ cls := "NonsenseRowsModel", name := "evening", desc := "(III)I" } : Jvm.MethodName) ({ cls := "NonsenseRowsModel", name := "evening", desc := "(III)I" } : Jvm.MethodName)) ∈ lw_all := lw_g (lw_at lw_m8 29 rfl) rfl
theorem q1793 : (Jvm.Cond.code ({ cls := "NonsenseRowsModel", name := "evening", desc := "(III)I" } : Jvm.MethodName) prog_18_method_64_code (8 : Nat) (Option.some Jvm.ClassFile.FieldType.int)) ∈ lw_all := lw_g (lw_at lw_m8 30 rfl) rfl
theorem q1794 : (Jvm.Cond.constantLong "NonsenseRowsModel" (343 : Nat) (23 : Int64)) ∈ lw_all := lw_g (lw_at lw_m8 31 rfl) rfl
theorem q1796 : (Jvm.Cond.instanceMethod ({ cls := "NonsenseRowsModel", name := "spread", desc := "(III)I" } : Jvm.MethodName)) ∈ lw_all := lw_g (lw_at lw_m8 33 rfl) rfl
theorem q1797 : (Jvm.Cond.selects "NonsenseRowsModel" ({ cls := "NonsenseRowsModel", name := "spread", desc := "(III)I" } : Jvm.MethodName) ({ cls := "NonsenseRowsModel", name := "spread", desc := "(III)I" } : Jvm.MethodName)) ∈ lw_all := lw_g (lw_at lw_m8 34 rfl) rfl
theorem q1798 : (Jvm.Cond.code ({ cls := "NonsenseRowsModel", name := "spread", desc := "(III)I" } : Jvm.MethodName) prog_18_method_68_code (4 : Nat) (Option.some Jvm.ClassFile.FieldType.int)) ∈ lw_all := lw_g (lw_at lw_m8 35 rfl) rfl
theorem q1799 : (Jvm.Cond.methodLink "NonsenseRowsModel" (361 : Nat) ({ cls := "NonsenseRowsModel", name := "isPlan", desc := "(III)Z" } : Jvm.MethodName)) ∈ lw_all := lw_g (lw_at lw_m8 36 rfl) rfl
theorem q1800 : (Jvm.Cond.privateMethod ({ cls := "NonsenseRowsModel", name := "isPlan", desc := "(III)Z" } : Jvm.MethodName)) ∈ lw_tbl := lw_at lw_m8 37 rfl
theorem q1801 : (Jvm.Cond.instanceMethod ({ cls := "NonsenseRowsModel", name := "isPlan", desc := "(III)Z" } : Jvm.MethodName)) ∈ lw_all := lw_g (lw_at lw_m8 38 rfl) rfl
theorem q1802 : (Jvm.Cond.code ({ cls := "NonsenseRowsModel", name := "isPlan", desc := "(III)Z" } : Jvm.MethodName) prog_18_method_67_code (4 : Nat) (Option.some Jvm.ClassFile.FieldType.boolean)) ∈ lw_all := lw_g (lw_at lw_m8 39 rfl) rfl
theorem q1803 : (Jvm.Cond.constantLong "NonsenseRowsModel" (357 : Nat) (8 : Int64)) ∈ lw_all := lw_g (lw_at lw_m8 40 rfl) rfl
theorem q1804 : (Jvm.Cond.constantLong "NonsenseRowsModel" (359 : Nat) (4 : Int64)) ∈ lw_all := lw_g (lw_at lw_m8 41 rfl) rfl
theorem q1805 : (Jvm.Cond.methodLink "NonsenseRowsModel" (345 : Nat) ({ cls := "NonsenseRowsModel", name := "plans", desc := "(IIII)V" } : Jvm.MethodName)) ∈ lw_all := lw_g (lw_at lw_m8 42 rfl) rfl
theorem q1806 : (Jvm.Cond.privateMethod ({ cls := "NonsenseRowsModel", name := "plans", desc := "(IIII)V" } : Jvm.MethodName)) ∈ lw_tbl := lw_at lw_m8 43 rfl
theorem q1807 : (Jvm.Cond.instanceMethod ({ cls := "NonsenseRowsModel", name := "plans", desc := "(IIII)V" } : Jvm.MethodName)) ∈ lw_all := lw_g (lw_at lw_m8 44 rfl) rfl
theorem q1808 : (Jvm.Cond.code ({ cls := "NonsenseRowsModel", name := "plans", desc := "(IIII)V" } : Jvm.MethodName) prog_18_method_66_code (7 : Nat) (Option.none : Option Jvm.ClassFile.FieldType)) ∈ lw_all := lw_g (lw_at lw_m8 45 rfl) rfl
theorem q1809 : (Jvm.Cond.methodLink "NonsenseRowsModel" (351 : Nat) ({ cls := "NonsenseRowsModel", name := "leftOf", desc := "(I)I" } : Jvm.MethodName)) ∈ lw_all := lw_g (lw_at lw_m8 46 rfl) rfl
theorem q1810 : (Jvm.Cond.privateMethod ({ cls := "NonsenseRowsModel", name := "leftOf", desc := "(I)I" } : Jvm.MethodName)) ∈ lw_tbl := lw_at lw_m8 47 rfl
theorem q1811 : (Jvm.Cond.instanceMethod ({ cls := "NonsenseRowsModel", name := "leftOf", desc := "(I)I" } : Jvm.MethodName)) ∈ lw_all := lw_g (lw_at lw_m8 48 rfl) rfl
theorem q1812 : (Jvm.Cond.code ({ cls := "NonsenseRowsModel", name := "leftOf", desc := "(I)I" } : Jvm.MethodName) prog_18_method_65_code (4 : Nat) (Option.some Jvm.ClassFile.FieldType.int)) ∈ lw_all := lw_g (lw_at lw_m8 49 rfl) rfl
theorem q1814 : (Jvm.Cond.instanceMethod ({ cls := "NonsenseRowsModel", name := "left", desc := "(IIII)I" } : Jvm.MethodName)) ∈ lw_all := lw_g (lw_at lw_m8 51 rfl) rfl
theorem q1815 : (Jvm.Cond.selects "NonsenseRowsModel" ({ cls := "NonsenseRowsModel", name := "left", desc := "(IIII)I" } : Jvm.MethodName) ({ cls := "NonsenseRowsModel", name := "left", desc := "(IIII)I" } : Jvm.MethodName)) ∈ lw_all := lw_g (lw_at lw_m8 52 rfl) rfl
theorem q1816 : (Jvm.Cond.code ({ cls := "NonsenseRowsModel", name := "left", desc := "(IIII)I" } : Jvm.MethodName) prog_18_method_69_code (8 : Nat) (Option.some Jvm.ClassFile.FieldType.int)) ∈ lw_all := lw_g (lw_at lw_m8 53 rfl) rfl
theorem q1818 : (Jvm.Cond.instanceMethod ({ cls := "NonsenseRowsModel", name := "shuffled", desc := "(II)I" } : Jvm.MethodName)) ∈ lw_all := lw_g (lw_at lw_m8 55 rfl) rfl
theorem q1819 : (Jvm.Cond.selects "NonsenseRowsModel" ({ cls := "NonsenseRowsModel", name := "shuffled", desc := "(II)I" } : Jvm.MethodName) ({ cls := "NonsenseRowsModel", name := "shuffled", desc := "(II)I" } : Jvm.MethodName)) ∈ lw_all := lw_g (lw_at lw_m8 56 rfl) rfl
theorem q1820 : (Jvm.Cond.code ({ cls := "NonsenseRowsModel", name := "shuffled", desc := "(II)I" } : Jvm.MethodName) prog_18_method_71_code (6 : Nat) (Option.some Jvm.ClassFile.FieldType.int)) ∈ lw_all := lw_g (lw_at lw_m8 57 rfl) rfl
theorem q1821 : (Jvm.Cond.methodLink "NonsenseRowsModel" (365 : Nat) ({ cls := "NonsenseRowsModel", name := "makes", desc := "(I)I" } : Jvm.MethodName)) ∈ lw_all := lw_g (lw_at lw_m8 58 rfl) rfl
theorem q1822 : (Jvm.Cond.privateMethod ({ cls := "NonsenseRowsModel", name := "makes", desc := "(I)I" } : Jvm.MethodName)) ∈ lw_tbl := lw_at lw_m8 59 rfl
theorem q1823 : (Jvm.Cond.instanceMethod ({ cls := "NonsenseRowsModel", name := "makes", desc := "(I)I" } : Jvm.MethodName)) ∈ lw_all := lw_g (lw_at lw_m8 60 rfl) rfl
theorem q1824 : (Jvm.Cond.code ({ cls := "NonsenseRowsModel", name := "makes", desc := "(I)I" } : Jvm.MethodName) prog_18_method_70_code (5 : Nat) (Option.some Jvm.ClassFile.FieldType.int)) ∈ lw_all := lw_g (lw_at lw_m8 61 rfl) rfl
theorem q1826 : (Jvm.Cond.instanceMethod ({ cls := "NonsenseRowsModel", name := "backward", desc := "(I)I" } : Jvm.MethodName)) ∈ lw_all := lw_g (lw_at lw_m8 63 rfl) rfl
theorem q1827 : (Jvm.Cond.selects "NonsenseRowsModel" ({ cls := "NonsenseRowsModel", name := "backward", desc := "(I)I" } : Jvm.MethodName) ({ cls := "NonsenseRowsModel", name := "backward", desc := "(I)I" } : Jvm.MethodName)) ∈ lw_all := lw_g (lw_at lw_m8 64 rfl) rfl
theorem q1828 : (Jvm.Cond.code ({ cls := "NonsenseRowsModel", name := "backward", desc := "(I)I" } : Jvm.MethodName) prog_18_method_72_code (4 : Nat) (Option.some Jvm.ClassFile.FieldType.int)) ∈ lw_all := lw_g (lw_at lw_m8 65 rfl) rfl
theorem q1830 : (Jvm.Cond.instanceMethod ({ cls := "NonsenseRowsModel", name := "rowOf", desc := "(I)I" } : Jvm.MethodName)) ∈ lw_all := lw_g (lw_at lw_m8 67 rfl) rfl
theorem q1831 : (Jvm.Cond.selects "NonsenseRowsModel" ({ cls := "NonsenseRowsModel", name := "rowOf", desc := "(I)I" } : Jvm.MethodName) ({ cls := "NonsenseRowsModel", name := "rowOf", desc := "(I)I" } : Jvm.MethodName)) ∈ lw_all := lw_g (lw_at lw_m8 68 rfl) rfl
theorem q1832 : (Jvm.Cond.code ({ cls := "NonsenseRowsModel", name := "rowOf", desc := "(I)I" } : Jvm.MethodName) prog_18_method_73_code (6 : Nat) (Option.some Jvm.ClassFile.FieldType.int)) ∈ lw_all := lw_g (lw_at lw_m8 69 rfl) rfl
theorem q1833 : (Jvm.Cond.methodLink "NonsenseRowsModel" (368 : Nat) ({ cls := "NonsenseRowsModel", name := "isSlot", desc := "(I)Z" } : Jvm.MethodName)) ∈ lw_all := lw_g (lw_at lw_m8 70 rfl) rfl
theorem q1834 : (Jvm.Cond.static ({ cls := "NonsenseRowsModel", name := "isSlot", desc := "(I)Z" } : Jvm.MethodName)) ∈ lw_all := lw_g (lw_at lw_m8 71 rfl) rfl
theorem q1835 : (Jvm.Cond.code ({ cls := "NonsenseRowsModel", name := "isSlot", desc := "(I)Z" } : Jvm.MethodName) prog_18_method_89_code (1 : Nat) (Option.some Jvm.ClassFile.FieldType.boolean)) ∈ lw_all := lw_g (lw_at lw_m8 72 rfl) rfl
theorem q1836 : (Jvm.Cond.constantLong "NonsenseRowsModel" (371 : Nat) (12 : Int64)) ∈ lw_all := lw_g (lw_at lw_m8 73 rfl) rfl
theorem q1838 : (Jvm.Cond.instanceMethod ({ cls := "NonsenseRowsModel", name := "thing", desc := "(II)I" } : Jvm.MethodName)) ∈ lw_all := lw_g (lw_at lw_m8 75 rfl) rfl
theorem q1839 : (Jvm.Cond.selects "NonsenseRowsModel" ({ cls := "NonsenseRowsModel", name := "thing", desc := "(II)I" } : Jvm.MethodName) ({ cls := "NonsenseRowsModel", name := "thing", desc := "(II)I" } : Jvm.MethodName)) ∈ lw_all := lw_g (lw_at lw_m8 76 rfl) rfl
theorem q1840 : (Jvm.Cond.code ({ cls := "NonsenseRowsModel", name := "thing", desc := "(II)I" } : Jvm.MethodName) prog_18_method_74_code (3 : Nat) (Option.some Jvm.ClassFile.FieldType.int)) ∈ lw_all := lw_g (lw_at lw_m8 77 rfl) rfl
theorem q1842 : (Jvm.Cond.instanceMethod ({ cls := "NonsenseRowsModel", name := "used", desc := "(I)I" } : Jvm.MethodName)) ∈ lw_all := lw_g (lw_at lw_m8 79 rfl) rfl
theorem q1843 : (Jvm.Cond.selects "NonsenseRowsModel" ({ cls := "NonsenseRowsModel", name := "used", desc := "(I)I" } : Jvm.MethodName) ({ cls := "NonsenseRowsModel", name := "used", desc := "(I)I" } : Jvm.MethodName)) ∈ lw_all := lw_g (lw_at lw_m8 80 rfl) rfl
theorem q1844 : (Jvm.Cond.code ({ cls := "NonsenseRowsModel", name := "used", desc := "(I)I" } : Jvm.MethodName) prog_18_method_75_code (2 : Nat) (Option.some Jvm.ClassFile.FieldType.int)) ∈ lw_all := lw_g (lw_at lw_m8 81 rfl) rfl
theorem q1846 : (Jvm.Cond.instanceMethod ({ cls := "NonsenseRowsModel", name := "sitting", desc := "(II)I" } : Jvm.MethodName)) ∈ lw_all := lw_g (lw_at lw_m8 83 rfl) rfl
theorem q1847 : (Jvm.Cond.selects "NonsenseRowsModel" ({ cls := "NonsenseRowsModel", name := "sitting", desc := "(II)I" } : Jvm.MethodName) ({ cls := "NonsenseRowsModel", name := "sitting", desc := "(II)I" } : Jvm.MethodName)) ∈ lw_all := lw_g (lw_at lw_m8 84 rfl) rfl
theorem q1848 : (Jvm.Cond.code ({ cls := "NonsenseRowsModel", name := "sitting", desc := "(II)I" } : Jvm.MethodName) prog_18_method_76_code (3 : Nat) (Option.some Jvm.ClassFile.FieldType.int)) ∈ lw_all := lw_g (lw_at lw_m8 85 rfl) rfl
theorem q1850 : (Jvm.Cond.instanceMethod ({ cls := "NonsenseRowsModel", name := "book", desc := "(II)I" } : Jvm.MethodName)) ∈ lw_all := lw_g (lw_at lw_m8 87 rfl) rfl
theorem q1851 : (Jvm.Cond.selects "NonsenseRowsModel" ({ cls := "NonsenseRowsModel", name := "book", desc := "(II)I" } : Jvm.MethodName) ({ cls := "NonsenseRowsModel", name := "book", desc := "(II)I" } : Jvm.MethodName)) ∈ lw_all := lw_g (lw_at lw_m8 88 rfl) rfl
theorem q1852 : (Jvm.Cond.code ({ cls := "NonsenseRowsModel", name := "book", desc := "(II)I" } : Jvm.MethodName) prog_18_method_77_code (7 : Nat) (Option.some Jvm.ClassFile.FieldType.int)) ∈ lw_all := lw_g (lw_at lw_m8 89 rfl) rfl
theorem q1854 : (Jvm.Cond.instanceMethod ({ cls := "NonsenseRowsModel", name := "when", desc := "(I)I" } : Jvm.MethodName)) ∈ lw_all := lw_g (lw_at lw_m8 91 rfl) rfl
theorem q1855 : (Jvm.Cond.selects "NonsenseRowsModel" ({ cls := "NonsenseRowsModel", name := "when", desc := "(I)I" } : Jvm.MethodName) ({ cls := "NonsenseRowsModel", name := "when", desc := "(I)I" } : Jvm.MethodName)) ∈ lw_all := lw_g (lw_at lw_m8 92 rfl) rfl
theorem q1856 : (Jvm.Cond.code ({ cls := "NonsenseRowsModel", name := "when", desc := "(I)I" } : Jvm.MethodName) prog_18_method_78_code (6 : Nat) (Option.some Jvm.ClassFile.FieldType.int)) ∈ lw_all := lw_g (lw_at lw_m8 93 rfl) rfl
theorem q1858 : (Jvm.Cond.instanceMethod ({ cls := "NonsenseRowsModel", name := "must", desc := "(I)I" } : Jvm.MethodName)) ∈ lw_all := lw_g (lw_at lw_m8 95 rfl) rfl
theorem q1859 : (Jvm.Cond.selects "NonsenseRowsModel" ({ cls := "NonsenseRowsModel", name := "must", desc := "(I)I" } : Jvm.MethodName) ({ cls := "NonsenseRowsModel", name := "must", desc := "(I)I" } : Jvm.MethodName)) ∈ lw_all := lw_g (lw_at lw_m8 96 rfl) rfl
theorem q1860 : (Jvm.Cond.code ({ cls := "NonsenseRowsModel", name := "must", desc := "(I)I" } : Jvm.MethodName) prog_18_method_79_code (4 : Nat) (Option.some Jvm.ClassFile.FieldType.int)) ∈ lw_all := lw_g (lw_at lw_m8 97 rfl) rfl
theorem q1861 : (Jvm.Cond.methodLink "NonsenseRowsModel" (373 : Nat) ({ cls := "NonsenseRowsModel", name := "without", desc := "(II)I" } : Jvm.MethodName)) ∈ lw_all := lw_g (lw_at lw_m8 98 rfl) rfl
theorem q1863 : (Jvm.Cond.instanceMethod ({ cls := "NonsenseRowsModel", name := "verse", desc := "(II)I" } : Jvm.MethodName)) ∈ lw_all := lw_g (lw_at lw_m8 100 rfl) rfl
theorem q1864 : (Jvm.Cond.selects "NonsenseRowsModel" ({ cls := "NonsenseRowsModel", name := "verse", desc := "(II)I" } : Jvm.MethodName) ({ cls := "NonsenseRowsModel", name := "verse", desc := "(II)I" } : Jvm.MethodName)) ∈ lw_all := lw_g (lw_at lw_m8 101 rfl) rfl
theorem q1865 : (Jvm.Cond.code ({ cls := "NonsenseRowsModel", name := "verse", desc := "(II)I" } : Jvm.MethodName) prog_18_method_80_code (5 : Nat) (Option.some Jvm.ClassFile.FieldType.int)) ∈ lw_all := lw_g (lw_at lw_m8 102 rfl) rfl
theorem q1867 : (Jvm.Cond.instanceMethod ({ cls := "NonsenseRowsModel", name := "near", desc := "(IIIZ)I" } : Jvm.MethodName)) ∈ lw_all := lw_g (lw_at lw_m8 104 rfl) rfl
theorem q1868 : (Jvm.Cond.selects "NonsenseRowsModel" ({ cls := "NonsenseRowsModel", name := "near", desc := "(IIIZ)I" } : Jvm.MethodName) ({ cls := "NonsenseRowsModel", name := "near", desc := "(IIIZ)I" } : Jvm.MethodName)) ∈ lw_all := lw_g (lw_at lw_m8 105 rfl) rfl
theorem q1869 : (Jvm.Cond.code ({ cls := "NonsenseRowsModel", name := "near", desc := "(IIIZ)I" } : Jvm.MethodName) prog_18_method_82_code (9 : Nat) (Option.some Jvm.ClassFile.FieldType.int)) ∈ lw_all := lw_g (lw_at lw_m8 106 rfl) rfl
theorem q1870 : (Jvm.Cond.methodLink "NonsenseRowsModel" (376 : Nat) ({ cls := "NonsenseRowsModel", name := "placeIn", desc := "(II)I" } : Jvm.MethodName)) ∈ lw_all := lw_g (lw_at lw_m8 107 rfl) rfl
theorem q1871 : (Jvm.Cond.privateMethod ({ cls := "NonsenseRowsModel", name := "placeIn", desc := "(II)I" } : Jvm.MethodName)) ∈ lw_tbl := lw_at lw_m8 108 rfl
theorem q1872 : (Jvm.Cond.instanceMethod ({ cls := "NonsenseRowsModel", name := "placeIn", desc := "(II)I" } : Jvm.MethodName)) ∈ lw_all := lw_g (lw_at lw_m8 109 rfl) rfl
theorem q1873 : (Jvm.Cond.code ({ cls := "NonsenseRowsModel", name := "placeIn", desc := "(II)I" } : Jvm.MethodName) prog_18_method_81_code (4 : Nat) (Option.some Jvm.ClassFile.FieldType.int)) ∈ lw_all := lw_g (lw_at lw_m8 110 rfl) rfl
theorem q1875 : (Jvm.Cond.instanceMethod ({ cls := "NonsenseRowsModel", name := "fit", desc := "(IIIII)I" } : Jvm.MethodName)) ∈ lw_all := lw_g (lw_at lw_m8 112 rfl) rfl
theorem q1876 : (Jvm.Cond.selects "NonsenseRowsModel" ({ cls := "NonsenseRowsModel", name := "fit", desc := "(IIIII)I" } : Jvm.MethodName) ({ cls := "NonsenseRowsModel", name := "fit", desc := "(IIIII)I" } : Jvm.MethodName)) ∈ lw_all := lw_g (lw_at lw_m8 113 rfl) rfl
theorem q1877 : (Jvm.Cond.code ({ cls := "NonsenseRowsModel", name := "fit", desc := "(IIIII)I" } : Jvm.MethodName) prog_18_method_84_code (9 : Nat) (Option.some Jvm.ClassFile.FieldType.int)) ∈ lw_all := lw_g (lw_at lw_m8 114 rfl) rfl
theorem q1878 : (Jvm.Cond.methodLink "NonsenseRowsModel" (379 : Nat) ({ cls := "NonsenseRowsModel", name := "fitsBook", desc := "()Z" } : Jvm.MethodName)) ∈ lw_all := lw_g (lw_at lw_m8 115 rfl) rfl
theorem q1879 : (Jvm.Cond.privateMethod ({ cls := "NonsenseRowsModel", name := "fitsBook", desc := "()Z" } : Jvm.MethodName)) ∈ lw_tbl := lw_at lw_m8 116 rfl
theorem q1880 : (Jvm.Cond.instanceMethod ({ cls := "NonsenseRowsModel", name := "fitsBook", desc := "()Z" } : Jvm.MethodName)) ∈ lw_all := lw_g (lw_at lw_m8 117 rfl) rfl
theorem q1881 : (Jvm.Cond.code ({ cls := "NonsenseRowsModel", name := "fitsBook", desc := "()Z" } : Jvm.MethodName) prog_18_method_83_code (5 : Nat) (Option.some Jvm.ClassFile.FieldType.boolean)) ∈ lw_all := lw_g (lw_at lw_m8 118 rfl) rfl
theorem q1883 : (Jvm.Cond.instanceMethod ({ cls := "NonsenseRowsModel", name := "days", desc := "(I)I" } : Jvm.MethodName)) ∈ lw_all := lw_g (lw_at lw_m8 120 rfl) rfl
theorem q1884 : (Jvm.Cond.selects "NonsenseRowsModel" ({ cls := "NonsenseRowsModel", name := "days", desc := "(I)I" } : Jvm.MethodName) ({ cls := "NonsenseRowsModel", name := "days", desc := "(I)I" } : Jvm.MethodName)) ∈ lw_all := lw_g (lw_at lw_m8 121 rfl) rfl
theorem q1885 : (Jvm.Cond.code ({ cls := "NonsenseRowsModel", name := "days", desc := "(I)I" } : Jvm.MethodName) prog_18_method_85_code (11 : Nat) (Option.some Jvm.ClassFile.FieldType.int)) ∈ lw_all := lw_g (lw_at lw_m8 122 rfl) rfl
theorem q1886 : (Jvm.Cond.methodLink "NonsenseRowsModel" (382 : Nat) ({ cls := "NonsenseRowsModel", name := "learn", desc := "(I)I" } : Jvm.MethodName)) ∈ lw_all := lw_g (lw_at lw_m8 123 rfl) rfl
theorem q1887 : (Jvm.Cond.methodLink "NonsenseRowsModel" (385 : Nat) ({ cls := "NonsenseRowsModel", name := "read", desc := "(II)I" } : Jvm.MethodName)) ∈ lw_all := lw_g (lw_at lw_m8 124 rfl) rfl
theorem q1889 : (Jvm.Cond.instanceMethod ({ cls := "NonsenseRowsModel", name := "parts", desc := "(I)I" } : Jvm.MethodName)) ∈ lw_all := lw_g (lw_at lw_m8 126 rfl) rfl
theorem q1890 : (Jvm.Cond.selects "NonsenseRowsModel" ({ cls := "NonsenseRowsModel", name := "parts", desc := "(I)I" } : Jvm.MethodName) ({ cls := "NonsenseRowsModel", name := "parts", desc := "(I)I" } : Jvm.MethodName)) ∈ lw_all := lw_g (lw_at lw_m8 127 rfl) rfl
theorem q1891 : (Jvm.Cond.code ({ cls := "NonsenseRowsModel", name := "parts", desc := "(I)I" } : Jvm.MethodName) prog_18_method_86_code (6 : Nat) (Option.some Jvm.ClassFile.FieldType.int)) ∈ lw_all := lw_g (lw_at lw_m8 128 rfl) rfl
theorem q1892 : (Jvm.Cond.methodLink "NonsenseRowsModel" (388 : Nat) ({ cls := "java/lang/Math", name := "abs", desc := "(I)I" } : Jvm.MethodName)) ∈ lw_all := lw_g (lw_at lw_m8 129 rfl) rfl
theorem q1894 : (Jvm.Cond.instanceMethod ({ cls := "NonsenseRowsModel", name := "forget", desc := "()I" } : Jvm.MethodName)) ∈ lw_all := lw_g (lw_at lw_m8 131 rfl) rfl
theorem q1895 : (Jvm.Cond.selects "NonsenseRowsModel" ({ cls := "NonsenseRowsModel", name := "forget", desc := "()I" } : Jvm.MethodName) ({ cls := "NonsenseRowsModel", name := "forget", desc := "()I" } : Jvm.MethodName)) ∈ lw_all := lw_g (lw_at lw_m8 132 rfl) rfl
theorem q1896 : (Jvm.Cond.code ({ cls := "NonsenseRowsModel", name := "forget", desc := "()I" } : Jvm.MethodName) prog_18_method_87_code (3 : Nat) (Option.some Jvm.ClassFile.FieldType.int)) ∈ lw_all := lw_g (lw_at lw_m8 133 rfl) rfl
theorem q1898 : (Jvm.Cond.instanceMethod ({ cls := "NonsenseRowsModel", name := "count", desc := "(I)I" } : Jvm.MethodName)) ∈ lw_all := lw_g (lw_at lw_m8 135 rfl) rfl
theorem q1899 : (Jvm.Cond.selects "NonsenseRowsModel" ({ cls := "NonsenseRowsModel", name := "count", desc := "(I)I" } : Jvm.MethodName) ({ cls := "NonsenseRowsModel", name := "count", desc := "(I)I" } : Jvm.MethodName)) ∈ lw_all := lw_g (lw_at lw_m8 136 rfl) rfl
theorem q1900 : (Jvm.Cond.code ({ cls := "NonsenseRowsModel", name := "count", desc := "(I)I" } : Jvm.MethodName) prog_18_method_88_code (4 : Nat) (Option.some Jvm.ClassFile.FieldType.int)) ∈ lw_all := lw_g (lw_at lw_m8 137 rfl) rfl
theorem q1902 : (Jvm.Cond.instanceMethod ({ cls := "NonsenseRowsModel", name := "row", desc := "(III)I" } : Jvm.MethodName)) ∈ lw_all := lw_g (lw_at lw_m8 139 rfl) rfl
theorem q1903 : (Jvm.Cond.selects "NonsenseRowsModel" ({ cls := "NonsenseRowsModel", name := "row", desc := "(III)I" } : Jvm.MethodName) ({ cls := "NonsenseRowsModel", name := "row", desc := "(III)I" } : Jvm.MethodName)) ∈ lw_all := lw_g (lw_at lw_m8 140 rfl) rfl
theorem q1904 : (Jvm.Cond.code ({ cls := "NonsenseRowsModel", name := "row", desc := "(III)I" } : Jvm.MethodName) prog_18_method_91_code (5 : Nat) (Option.some Jvm.ClassFile.FieldType.int)) ∈ lw_all := lw_g (lw_at lw_m8 141 rfl) rfl
theorem q1906 : (Jvm.Cond.instanceMethod ({ cls := "NonsenseRowsModel", name := "write", desc := "(IIJ)I" } : Jvm.MethodName)) ∈ lw_all := lw_g (lw_at lw_m8 143 rfl) rfl
theorem q1907 : (Jvm.Cond.selects "NonsenseRowsModel" ({ cls := "NonsenseRowsModel", name := "write", desc := "(IIJ)I" } : Jvm.MethodName) ({ cls := "NonsenseRowsModel", name := "write", desc := "(IIJ)I" } : Jvm.MethodName)) ∈ lw_all := lw_g (lw_at lw_m8 144 rfl) rfl
theorem q1908 : (Jvm.Cond.code ({ cls := "NonsenseRowsModel", name := "write", desc := "(IIJ)I" } : Jvm.MethodName) prog_18_method_92_code (5 : Nat) (Option.some Jvm.ClassFile.FieldType.int)) ∈ lw_all := lw_g (lw_at lw_m8 145 rfl) rfl
theorem q1909 : (Jvm.Cond.methodLink "NonsenseRowsModel" (391 : Nat) ({ cls := "NonsenseRowsModel", name := "cut", desc := "(JI)J" } : Jvm.MethodName)) ∈ lw_all := lw_g (lw_at lw_m8 146 rfl) rfl
theorem q1910 : (Jvm.Cond.static ({ cls := "NonsenseRowsModel", name := "cut", desc := "(JI)J" } : Jvm.MethodName)) ∈ lw_all := lw_g (lw_at lw_m8 147 rfl) rfl
theorem q1911 : (Jvm.Cond.code ({ cls := "NonsenseRowsModel", name := "cut", desc := "(JI)J" } : Jvm.MethodName) prog_18_method_90_code (4 : Nat) (Option.some Jvm.ClassFile.FieldType.long)) ∈ lw_all := lw_g (lw_at lw_m8 148 rfl) rfl
theorem q1913 : (Jvm.Cond.instanceMethod ({ cls := "NonsenseRowsModel", name := "paste", desc := "(IIIII)I" } : Jvm.MethodName)) ∈ lw_all := lw_g (lw_at lw_m8 150 rfl) rfl
theorem q1914 : (Jvm.Cond.selects "NonsenseRowsModel" ({ cls := "NonsenseRowsModel", name := "paste", desc := "(IIIII)I" } : Jvm.MethodName) ({ cls := "NonsenseRowsModel", name := "paste", desc := "(IIIII)I" } : Jvm.MethodName)) ∈ lw_all := lw_g (lw_at lw_m8 151 rfl) rfl
theorem q1915 : (Jvm.Cond.code ({ cls := "NonsenseRowsModel", name := "paste", desc := "(IIIII)I" } : Jvm.MethodName) prog_18_method_93_code (7 : Nat) (Option.some Jvm.ClassFile.FieldType.int)) ∈ lw_all := lw_g (lw_at lw_m8 152 rfl) rfl
theorem q1928 : (Jvm.Cond.castable "NonsenseRowsModel" "java/lang/Object") ∈ lw_tbl := lw_at lw_m8 165 rfl

