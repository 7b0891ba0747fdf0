set_option maxRecDepth 100000
abbrev cX1_init : ByteArray := prog_12_method_1_code
def yX1_init : MethodName := ⟨RX1, "<init>", "()V"⟩
def dkwX1_init_3 : List UInt8 := [182, 0, 45, 177]
abbrev dktX1_init_3 : List UInt8 := dkwX1_init_3 ++ []
def dkwX1_init_2 : List UInt8 := [187, 0, 34, 89, 183, 0, 36, 181, 0, 37, 42, 4, 181, 0, 41, 42, 180, 0, 37, 42, 180, 0, 12]
abbrev dktX1_init_2 : List UInt8 := dkwX1_init_2 ++ dktX1_init_3
def dkwX1_init_1 : List UInt8 := [181, 0, 23, 42, 187, 0, 18, 89, 7, 183, 0, 20, 181, 0, 27, 42, 16, 12, 188, 10, 181, 0, 30, 42]
abbrev dktX1_init_1 : List UInt8 := dkwX1_init_1 ++ dktX1_init_2
def dkwX1_init_0 : List UInt8 := [42, 183, 0, 3, 42, 187, 0, 9, 89, 183, 0, 11, 181, 0, 12, 42, 187, 0, 18, 89, 7, 183, 0, 20]
abbrev dktX1_init_0 : List UInt8 := dkwX1_init_0 ++ dktX1_init_1
theorem dksX1_init_0 : cX1_init.data.toList.drop 0 = dktX1_init_0 := by decide +kernel
theorem dksX1_init_1 : cX1_init.data.toList.drop 24 = dktX1_init_1 := dk_seg dksX1_init_0 24 rfl rfl
theorem dksX1_init_2 : cX1_init.data.toList.drop 48 = dktX1_init_2 := dk_seg dksX1_init_1 24 rfl rfl
theorem dksX1_init_3 : cX1_init.data.toList.drop 71 = dktX1_init_3 := dk_seg dksX1_init_2 23 rfl rfl
theorem dX1_init_0 : decode cX1_init 0 = .ok (.aload_n 0, 1) := dk_42 (dk_at dksX1_init_0 0 rfl rfl)
theorem dX1_init_1 : decode cX1_init 1 = .ok (.invokespecial 3, 3) := dk_183 0 3 (dk_at dksX1_init_0 1 rfl rfl)
theorem dX1_init_4 : decode cX1_init 4 = .ok (.aload_n 0, 1) := dk_42 (dk_at dksX1_init_0 4 rfl rfl)
theorem dX1_init_5 : decode cX1_init 5 = .ok (.new 9, 3) := dk_187 0 9 (dk_at dksX1_init_0 5 rfl rfl)
theorem dX1_init_8 : decode cX1_init 8 = .ok (.dup, 1) := dk_89 (dk_at dksX1_init_0 8 rfl rfl)
theorem dX1_init_9 : decode cX1_init 9 = .ok (.invokespecial 11, 3) := dk_183 0 11 (dk_at dksX1_init_0 9 rfl rfl)
theorem dX1_init_12 : decode cX1_init 12 = .ok (.putfield 12, 3) := dk_181 0 12 (dk_at dksX1_init_0 12 rfl rfl)
theorem dX1_init_15 : decode cX1_init 15 = .ok (.aload_n 0, 1) := dk_42 (dk_at dksX1_init_0 15 rfl rfl)
theorem dX1_init_16 : decode cX1_init 16 = .ok (.new 18, 3) := dk_187 0 18 (dk_at dksX1_init_0 16 rfl rfl)
theorem dX1_init_19 : decode cX1_init 19 = .ok (.dup, 1) := dk_89 (dk_at dksX1_init_0 19 rfl rfl)
theorem dX1_init_20 : decode cX1_init 20 = .ok (.iconst 4, 1) := dk_7 (dk_at dksX1_init_0 20 rfl rfl)
theorem dX1_init_21 : decode cX1_init 21 = .ok (.invokespecial 20, 3) := dk_183 0 20 (dk_at dksX1_init_0 21 rfl rfl)
theorem dX1_init_24 : decode cX1_init 24 = .ok (.putfield 23, 3) := dk_181 0 23 (dk_at dksX1_init_1 0 rfl rfl)
theorem dX1_init_27 : decode cX1_init 27 = .ok (.aload_n 0, 1) := dk_42 (dk_at dksX1_init_1 3 rfl rfl)
theorem dX1_init_28 : decode cX1_init 28 = .ok (.new 18, 3) := dk_187 0 18 (dk_at dksX1_init_1 4 rfl rfl)
theorem dX1_init_31 : decode cX1_init 31 = .ok (.dup, 1) := dk_89 (dk_at dksX1_init_1 7 rfl rfl)
theorem dX1_init_32 : decode cX1_init 32 = .ok (.iconst 4, 1) := dk_7 (dk_at dksX1_init_1 8 rfl rfl)
theorem dX1_init_33 : decode cX1_init 33 = .ok (.invokespecial 20, 3) := dk_183 0 20 (dk_at dksX1_init_1 9 rfl rfl)
theorem dX1_init_36 : decode cX1_init 36 = .ok (.putfield 27, 3) := dk_181 0 27 (dk_at dksX1_init_1 12 rfl rfl)
theorem dX1_init_39 : decode cX1_init 39 = .ok (.aload_n 0, 1) := dk_42 (dk_at dksX1_init_1 15 rfl rfl)
theorem dX1_init_40 : decode cX1_init 40 = .ok (.bipush 12, 2) := dk_16 12 (dk_at dksX1_init_1 16 rfl rfl)
theorem dX1_init_42 : decode cX1_init 42 = .ok (.newarray .int, 2) := dk_188_10 (dk_at dksX1_init_1 18 rfl rfl)
theorem dX1_init_44 : decode cX1_init 44 = .ok (.putfield 30, 3) := dk_181 0 30 (dk_at dksX1_init_1 20 rfl rfl)
theorem dX1_init_47 : decode cX1_init 47 = .ok (.aload_n 0, 1) := dk_42 (dk_at dksX1_init_1 23 rfl rfl)
theorem dX1_init_48 : decode cX1_init 48 = .ok (.new 34, 3) := dk_187 0 34 (dk_at dksX1_init_2 0 rfl rfl)
theorem dX1_init_51 : decode cX1_init 51 = .ok (.dup, 1) := dk_89 (dk_at dksX1_init_2 3 rfl rfl)
theorem dX1_init_52 : decode cX1_init 52 = .ok (.invokespecial 36, 3) := dk_183 0 36 (dk_at dksX1_init_2 4 rfl rfl)
theorem dX1_init_55 : decode cX1_init 55 = .ok (.putfield 37, 3) := dk_181 0 37 (dk_at dksX1_init_2 7 rfl rfl)
theorem dX1_init_58 : decode cX1_init 58 = .ok (.aload_n 0, 1) := dk_42 (dk_at dksX1_init_2 10 rfl rfl)
theorem dX1_init_59 : decode cX1_init 59 = .ok (.iconst 1, 1) := dk_4 (dk_at dksX1_init_2 11 rfl rfl)
theorem dX1_init_60 : decode cX1_init 60 = .ok (.putfield 41, 3) := dk_181 0 41 (dk_at dksX1_init_2 12 rfl rfl)
theorem dX1_init_63 : decode cX1_init 63 = .ok (.aload_n 0, 1) := dk_42 (dk_at dksX1_init_2 15 rfl rfl)
theorem dX1_init_64 : decode cX1_init 64 = .ok (.getfield 37, 3) := dk_180 0 37 (dk_at dksX1_init_2 16 rfl rfl)
theorem dX1_init_67 : decode cX1_init 67 = .ok (.aload_n 0, 1) := dk_42 (dk_at dksX1_init_2 19 rfl rfl)
theorem dX1_init_68 : decode cX1_init 68 = .ok (.getfield 12, 3) := dk_180 0 12 (dk_at dksX1_init_2 20 rfl rfl)
theorem dX1_init_71 : decode cX1_init 71 = .ok (.invokevirtual 45, 3) := dk_182 0 45 (dk_at dksX1_init_3 0 rfl rfl)
theorem dX1_init_74 : decode cX1_init 74 = .ok (.return_, 1) := dk_177 (dk_at dksX1_init_3 3 rfl rfl)
abbrev cX1_begins : ByteArray := prog_12_method_2_code
def yX1_begins : MethodName := ⟨RX1, "begins", "(LNonsenseRows$Text;Ljava/util/List;)V"⟩
def dkwX1_begins_3 : List UInt8 := [3, 79, 132, 3, 1, 167, 255, 240, 42, 182, 0, 70, 177]
abbrev dktX1_begins_3 : List UInt8 := dkwX1_begins_3 ++ []
def dkwX1_begins_2 : List UInt8 := [132, 3, 1, 167, 255, 223, 42, 3, 181, 0, 67, 3, 62, 29, 16, 12, 162, 0, 16, 42, 180, 0, 30, 29]
abbrev dktX1_begins_2 : List UInt8 := dkwX1_begins_2 ++ dktX1_begins_3
def dkwX1_begins_1 : List UInt8 := [162, 0, 29, 42, 180, 0, 23, 44, 29, 185, 0, 58, 2, 0, 192, 0, 62, 185, 0, 63, 2, 0, 87]
abbrev dktX1_begins_1 : List UInt8 := dkwX1_begins_1 ++ dktX1_begins_2
def dkwX1_begins_0 : List UInt8 := [42, 43, 181, 0, 12, 42, 180, 0, 23, 185, 0, 49, 1, 0, 3, 62, 29, 44, 185, 0, 54, 1, 0]
abbrev dktX1_begins_0 : List UInt8 := dkwX1_begins_0 ++ dktX1_begins_1
theorem dksX1_begins_0 : cX1_begins.data.toList.drop 0 = dktX1_begins_0 := by decide +kernel
theorem dksX1_begins_1 : cX1_begins.data.toList.drop 23 = dktX1_begins_1 := dk_seg dksX1_begins_0 23 rfl rfl
theorem dksX1_begins_2 : cX1_begins.data.toList.drop 46 = dktX1_begins_2 := dk_seg dksX1_begins_1 23 rfl rfl
theorem dksX1_begins_3 : cX1_begins.data.toList.drop 70 = dktX1_begins_3 := dk_seg dksX1_begins_2 24 rfl rfl
theorem dX1_begins_0 : decode cX1_begins 0 = .ok (.aload_n 0, 1) := dk_42 (dk_at dksX1_begins_0 0 rfl rfl)
theorem dX1_begins_1 : decode cX1_begins 1 = .ok (.aload_n 1, 1) := dk_43 (dk_at dksX1_begins_0 1 rfl rfl)
theorem dX1_begins_2 : decode cX1_begins 2 = .ok (.putfield 12, 3) := dk_181 0 12 (dk_at dksX1_begins_0 2 rfl rfl)
theorem dX1_begins_5 : decode cX1_begins 5 = .ok (.aload_n 0, 1) := dk_42 (dk_at dksX1_begins_0 5 rfl rfl)
theorem dX1_begins_6 : decode cX1_begins 6 = .ok (.getfield 23, 3) := dk_180 0 23 (dk_at dksX1_begins_0 6 rfl rfl)
theorem dX1_begins_9 : decode cX1_begins 9 = .ok (.invokeinterface 49 1, 5) := by decide +kernel
theorem dX1_begins_14 : decode cX1_begins 14 = .ok (.iconst 0, 1) := dk_3 (dk_at dksX1_begins_0 14 rfl rfl)
theorem dX1_begins_15 : decode cX1_begins 15 = .ok (.istore_n 3, 1) := dk_62 (dk_at dksX1_begins_0 15 rfl rfl)
theorem dX1_begins_16 : decode cX1_begins 16 = .ok (.iload_n 3, 1) := dk_29 (dk_at dksX1_begins_0 16 rfl rfl)
theorem dX1_begins_17 : decode cX1_begins 17 = .ok (.aload_n 2, 1) := dk_44 (dk_at dksX1_begins_0 17 rfl rfl)
theorem dX1_begins_18 : decode cX1_begins 18 = .ok (.invokeinterface 54 1, 5) := by decide +kernel
theorem dX1_begins_23 : decode cX1_begins 23 = .ok (.if_icmp .ge 29, 3) := dk_162 0 29 (dk_at dksX1_begins_1 0 rfl rfl)
theorem dX1_begins_26 : decode cX1_begins 26 = .ok (.aload_n 0, 1) := dk_42 (dk_at dksX1_begins_1 3 rfl rfl)
theorem dX1_begins_27 : decode cX1_begins 27 = .ok (.getfield 23, 3) := dk_180 0 23 (dk_at dksX1_begins_1 4 rfl rfl)
theorem dX1_begins_30 : decode cX1_begins 30 = .ok (.aload_n 2, 1) := dk_44 (dk_at dksX1_begins_1 7 rfl rfl)
theorem dX1_begins_31 : decode cX1_begins 31 = .ok (.iload_n 3, 1) := dk_29 (dk_at dksX1_begins_1 8 rfl rfl)
theorem dX1_begins_32 : decode cX1_begins 32 = .ok (.invokeinterface 58 2, 5) := by decide +kernel
theorem dX1_begins_37 : decode cX1_begins 37 = .ok (.checkcast 62, 3) := dk_192 0 62 (dk_at dksX1_begins_1 14 rfl rfl)
theorem dX1_begins_40 : decode cX1_begins 40 = .ok (.invokeinterface 63 2, 5) := by decide +kernel
theorem dX1_begins_45 : decode cX1_begins 45 = .ok (.pop, 1) := dk_87 (dk_at dksX1_begins_1 22 rfl rfl)
theorem dX1_begins_46 : decode cX1_begins 46 = .ok (.iinc 3 1, 3) := dk_132 3 1 (dk_at dksX1_begins_2 0 rfl rfl)
theorem dX1_begins_49 : decode cX1_begins 49 = .ok (.goto (-33), 3) := dk_167 255 223 (dk_at dksX1_begins_2 3 rfl rfl)
theorem dX1_begins_52 : decode cX1_begins 52 = .ok (.aload_n 0, 1) := dk_42 (dk_at dksX1_begins_2 6 rfl rfl)
theorem dX1_begins_53 : decode cX1_begins 53 = .ok (.iconst 0, 1) := dk_3 (dk_at dksX1_begins_2 7 rfl rfl)
theorem dX1_begins_54 : decode cX1_begins 54 = .ok (.putfield 67, 3) := dk_181 0 67 (dk_at dksX1_begins_2 8 rfl rfl)
theorem dX1_begins_57 : decode cX1_begins 57 = .ok (.iconst 0, 1) := dk_3 (dk_at dksX1_begins_2 11 rfl rfl)
theorem dX1_begins_58 : decode cX1_begins 58 = .ok (.istore_n 3, 1) := dk_62 (dk_at dksX1_begins_2 12 rfl rfl)
theorem dX1_begins_59 : decode cX1_begins 59 = .ok (.iload_n 3, 1) := dk_29 (dk_at dksX1_begins_2 13 rfl rfl)
theorem dX1_begins_60 : decode cX1_begins 60 = .ok (.bipush 12, 2) := dk_16 12 (dk_at dksX1_begins_2 14 rfl rfl)
theorem dX1_begins_62 : decode cX1_begins 62 = .ok (.if_icmp .ge 16, 3) := dk_162 0 16 (dk_at dksX1_begins_2 16 rfl rfl)
theorem dX1_begins_65 : decode cX1_begins 65 = .ok (.aload_n 0, 1) := dk_42 (dk_at dksX1_begins_2 19 rfl rfl)
theorem dX1_begins_66 : decode cX1_begins 66 = .ok (.getfield 30, 3) := dk_180 0 30 (dk_at dksX1_begins_2 20 rfl rfl)
theorem dX1_begins_69 : decode cX1_begins 69 = .ok (.iload_n 3, 1) := dk_29 (dk_at dksX1_begins_2 23 rfl rfl)
theorem dX1_begins_70 : decode cX1_begins 70 = .ok (.iconst 0, 1) := dk_3 (dk_at dksX1_begins_3 0 rfl rfl)
theorem dX1_begins_71 : decode cX1_begins 71 = .ok (.iastore, 1) := dk_79 (dk_at dksX1_begins_3 1 rfl rfl)
theorem dX1_begins_72 : decode cX1_begins 72 = .ok (.iinc 3 1, 3) := dk_132 3 1 (dk_at dksX1_begins_3 2 rfl rfl)
theorem dX1_begins_75 : decode cX1_begins 75 = .ok (.goto (-16), 3) := dk_167 255 240 (dk_at dksX1_begins_3 5 rfl rfl)
theorem dX1_begins_78 : decode cX1_begins 78 = .ok (.aload_n 0, 1) := dk_42 (dk_at dksX1_begins_3 8 rfl rfl)
theorem dX1_begins_79 : decode cX1_begins 79 = .ok (.invokevirtual 70, 3) := dk_182 0 70 (dk_at dksX1_begins_3 9 rfl rfl)
theorem dX1_begins_82 : decode cX1_begins 82 = .ok (.return_, 1) := dk_177 (dk_at dksX1_begins_3 12 rfl rfl)
abbrev cX1_empties : ByteArray := prog_12_method_3_code
def yX1_empties : MethodName := ⟨RX1, "empties", "()V"⟩
def dkwX1_empties_1 : List UInt8 := [182, 0, 45, 177]
abbrev dktX1_empties_1 : List UInt8 := dkwX1_empties_1 ++ []
def dkwX1_empties_0 : List UInt8 := [42, 180, 0, 27, 185, 0, 49, 1, 0, 42, 4, 181, 0, 41, 42, 180, 0, 37, 42, 180, 0, 12]
abbrev dktX1_empties_0 : List UInt8 := dkwX1_empties_0 ++ dktX1_empties_1
theorem dksX1_empties_0 : cX1_empties.data.toList.drop 0 = dktX1_empties_0 := by decide +kernel
theorem dksX1_empties_1 : cX1_empties.data.toList.drop 22 = dktX1_empties_1 := dk_seg dksX1_empties_0 22 rfl rfl
theorem dX1_empties_0 : decode cX1_empties 0 = .ok (.aload_n 0, 1) := dk_42 (dk_at dksX1_empties_0 0 rfl rfl)
theorem dX1_empties_1 : decode cX1_empties 1 = .ok (.getfield 27, 3) := dk_180 0 27 (dk_at dksX1_empties_0 1 rfl rfl)
theorem dX1_empties_4 : decode cX1_empties 4 = .ok (.invokeinterface 49 1, 5) := by decide +kernel
theorem dX1_empties_9 : decode cX1_empties 9 = .ok (.aload_n 0, 1) := dk_42 (dk_at dksX1_empties_0 9 rfl rfl)
theorem dX1_empties_10 : decode cX1_empties 10 = .ok (.iconst 1, 1) := dk_4 (dk_at dksX1_empties_0 10 rfl rfl)
theorem dX1_empties_11 : decode cX1_empties 11 = .ok (.putfield 41, 3) := dk_181 0 41 (dk_at dksX1_empties_0 11 rfl rfl)
theorem dX1_empties_14 : decode cX1_empties 14 = .ok (.aload_n 0, 1) := dk_42 (dk_at dksX1_empties_0 14 rfl rfl)
theorem dX1_empties_15 : decode cX1_empties 15 = .ok (.getfield 37, 3) := dk_180 0 37 (dk_at dksX1_empties_0 15 rfl rfl)
theorem dX1_empties_18 : decode cX1_empties 18 = .ok (.aload_n 0, 1) := dk_42 (dk_at dksX1_empties_0 18 rfl rfl)
theorem dX1_empties_19 : decode cX1_empties 19 = .ok (.getfield 12, 3) := dk_180 0 12 (dk_at dksX1_empties_0 19 rfl rfl)
theorem dX1_empties_22 : decode cX1_empties 22 = .ok (.invokevirtual 45, 3) := dk_182 0 45 (dk_at dksX1_empties_1 0 rfl rfl)
theorem dX1_empties_25 : decode cX1_empties 25 = .ok (.return_, 1) := dk_177 (dk_at dksX1_empties_1 3 rfl rfl)
abbrev cX1_becomes : ByteArray := prog_12_method_4_code
def yX1_becomes : MethodName := ⟨RX1, "becomes", "(LNonsenseRows$State;)V"⟩
def dkwX1_becomes_6 : List UInt8 := [181, 0, 67, 42, 180, 0, 37, 43, 180, 0, 37, 182, 0, 81, 177]
abbrev dktX1_becomes_6 : List UInt8 := dkwX1_becomes_6 ++ []
def dkwX1_becomes_5 : List UInt8 := [3, 42, 180, 0, 30, 3, 16, 12, 184, 0, 75, 42, 43, 180, 0, 41, 181, 0, 41, 42, 43, 180, 0, 67]
abbrev dktX1_becomes_5 : List UInt8 := dkwX1_becomes_5 ++ dktX1_becomes_6
def dkwX1_becomes_4 : List UInt8 := [185, 0, 58, 2, 0, 192, 0, 73, 185, 0, 63, 2, 0, 87, 132, 2, 1, 167, 255, 217, 43, 180, 0, 30]
abbrev dktX1_becomes_4 : List UInt8 := dkwX1_becomes_4 ++ dktX1_becomes_5
def dkwX1_becomes_3 : List UInt8 := [3, 61, 28, 43, 180, 0, 27, 185, 0, 54, 1, 0, 162, 0, 32, 42, 180, 0, 27, 43, 180, 0, 27, 28]
abbrev dktX1_becomes_3 : List UInt8 := dkwX1_becomes_3 ++ dktX1_becomes_4
def dkwX1_becomes_2 : List UInt8 := [192, 0, 62, 185, 0, 63, 2, 0, 87, 132, 2, 1, 167, 255, 217, 42, 180, 0, 27, 185, 0, 49, 1, 0]
abbrev dktX1_becomes_2 : List UInt8 := dkwX1_becomes_2 ++ dktX1_becomes_3
def dkwX1_becomes_1 : List UInt8 := [185, 0, 54, 1, 0, 162, 0, 32, 42, 180, 0, 23, 43, 180, 0, 23, 28, 185, 0, 58, 2, 0]
abbrev dktX1_becomes_1 : List UInt8 := dkwX1_becomes_1 ++ dktX1_becomes_2
def dkwX1_becomes_0 : List UInt8 := [42, 43, 180, 0, 12, 181, 0, 12, 42, 180, 0, 23, 185, 0, 49, 1, 0, 3, 61, 28, 43, 180, 0, 23]
abbrev dktX1_becomes_0 : List UInt8 := dkwX1_becomes_0 ++ dktX1_becomes_1
theorem dksX1_becomes_0 : cX1_becomes.data.toList.drop 0 = dktX1_becomes_0 := by decide +kernel
theorem dksX1_becomes_1 : cX1_becomes.data.toList.drop 24 = dktX1_becomes_1 := dk_seg dksX1_becomes_0 24 rfl rfl
theorem dksX1_becomes_2 : cX1_becomes.data.toList.drop 46 = dktX1_becomes_2 := dk_seg dksX1_becomes_1 22 rfl rfl
theorem dksX1_becomes_3 : cX1_becomes.data.toList.drop 70 = dktX1_becomes_3 := dk_seg dksX1_becomes_2 24 rfl rfl
theorem dksX1_becomes_4 : cX1_becomes.data.toList.drop 94 = dktX1_becomes_4 := dk_seg dksX1_becomes_3 24 rfl rfl
theorem dksX1_becomes_5 : cX1_becomes.data.toList.drop 118 = dktX1_becomes_5 := dk_seg dksX1_becomes_4 24 rfl rfl
theorem dksX1_becomes_6 : cX1_becomes.data.toList.drop 142 = dktX1_becomes_6 := dk_seg dksX1_becomes_5 24 rfl rfl
theorem dX1_becomes_0 : decode cX1_becomes 0 = .ok (.aload_n 0, 1) := dk_42 (dk_at dksX1_becomes_0 0 rfl rfl)
theorem dX1_becomes_1 : decode cX1_becomes 1 = .ok (.aload_n 1, 1) := dk_43 (dk_at dksX1_becomes_0 1 rfl rfl)
theorem dX1_becomes_2 : decode cX1_becomes 2 = .ok (.getfield 12, 3) := dk_180 0 12 (dk_at dksX1_becomes_0 2 rfl rfl)
theorem dX1_becomes_5 : decode cX1_becomes 5 = .ok (.putfield 12, 3) := dk_181 0 12 (dk_at dksX1_becomes_0 5 rfl rfl)
theorem dX1_becomes_8 : decode cX1_becomes 8 = .ok (.aload_n 0, 1) := dk_42 (dk_at dksX1_becomes_0 8 rfl rfl)
theorem dX1_becomes_9 : decode cX1_becomes 9 = .ok (.getfield 23, 3) := dk_180 0 23 (dk_at dksX1_becomes_0 9 rfl rfl)
theorem dX1_becomes_12 : decode cX1_becomes 12 = .ok (.invokeinterface 49 1, 5) := by decide +kernel
theorem dX1_becomes_17 : decode cX1_becomes 17 = .ok (.iconst 0, 1) := dk_3 (dk_at dksX1_becomes_0 17 rfl rfl)
theorem dX1_becomes_18 : decode cX1_becomes 18 = .ok (.istore_n 2, 1) := dk_61 (dk_at dksX1_becomes_0 18 rfl rfl)
theorem dX1_becomes_19 : decode cX1_becomes 19 = .ok (.iload_n 2, 1) := dk_28 (dk_at dksX1_becomes_0 19 rfl rfl)
theorem dX1_becomes_20 : decode cX1_becomes 20 = .ok (.aload_n 1, 1) := dk_43 (dk_at dksX1_becomes_0 20 rfl rfl)
theorem dX1_becomes_21 : decode cX1_becomes 21 = .ok (.getfield 23, 3) := dk_180 0 23 (dk_at dksX1_becomes_0 21 rfl rfl)
theorem dX1_becomes_24 : decode cX1_becomes 24 = .ok (.invokeinterface 54 1, 5) := by decide +kernel
theorem dX1_becomes_29 : decode cX1_becomes 29 = .ok (.if_icmp .ge 32, 3) := dk_162 0 32 (dk_at dksX1_becomes_1 5 rfl rfl)
theorem dX1_becomes_32 : decode cX1_becomes 32 = .ok (.aload_n 0, 1) := dk_42 (dk_at dksX1_becomes_1 8 rfl rfl)
theorem dX1_becomes_33 : decode cX1_becomes 33 = .ok (.getfield 23, 3) := dk_180 0 23 (dk_at dksX1_becomes_1 9 rfl rfl)
theorem dX1_becomes_36 : decode cX1_becomes 36 = .ok (.aload_n 1, 1) := dk_43 (dk_at dksX1_becomes_1 12 rfl rfl)
theorem dX1_becomes_37 : decode cX1_becomes 37 = .ok (.getfield 23, 3) := dk_180 0 23 (dk_at dksX1_becomes_1 13 rfl rfl)
theorem dX1_becomes_40 : decode cX1_becomes 40 = .ok (.iload_n 2, 1) := dk_28 (dk_at dksX1_becomes_1 16 rfl rfl)
theorem dX1_becomes_41 : decode cX1_becomes 41 = .ok (.invokeinterface 58 2, 5) := by decide +kernel
theorem dX1_becomes_46 : decode cX1_becomes 46 = .ok (.checkcast 62, 3) := dk_192 0 62 (dk_at dksX1_becomes_2 0 rfl rfl)
theorem dX1_becomes_49 : decode cX1_becomes 49 = .ok (.invokeinterface 63 2, 5) := by decide +kernel
theorem dX1_becomes_54 : decode cX1_becomes 54 = .ok (.pop, 1) := dk_87 (dk_at dksX1_becomes_2 8 rfl rfl)
theorem dX1_becomes_55 : decode cX1_becomes 55 = .ok (.iinc 2 1, 3) := dk_132 2 1 (dk_at dksX1_becomes_2 9 rfl rfl)
theorem dX1_becomes_58 : decode cX1_becomes 58 = .ok (.goto (-39), 3) := dk_167 255 217 (dk_at dksX1_becomes_2 12 rfl rfl)
theorem dX1_becomes_61 : decode cX1_becomes 61 = .ok (.aload_n 0, 1) := dk_42 (dk_at dksX1_becomes_2 15 rfl rfl)
theorem dX1_becomes_62 : decode cX1_becomes 62 = .ok (.getfield 27, 3) := dk_180 0 27 (dk_at dksX1_becomes_2 16 rfl rfl)
theorem dX1_becomes_65 : decode cX1_becomes 65 = .ok (.invokeinterface 49 1, 5) := by decide +kernel
theorem dX1_becomes_70 : decode cX1_becomes 70 = .ok (.iconst 0, 1) := dk_3 (dk_at dksX1_becomes_3 0 rfl rfl)
theorem dX1_becomes_71 : decode cX1_becomes 71 = .ok (.istore_n 2, 1) := dk_61 (dk_at dksX1_becomes_3 1 rfl rfl)
theorem dX1_becomes_72 : decode cX1_becomes 72 = .ok (.iload_n 2, 1) := dk_28 (dk_at dksX1_becomes_3 2 rfl rfl)
theorem dX1_becomes_73 : decode cX1_becomes 73 = .ok (.aload_n 1, 1) := dk_43 (dk_at dksX1_becomes_3 3 rfl rfl)
theorem dX1_becomes_74 : decode cX1_becomes 74 = .ok (.getfield 27, 3) := dk_180 0 27 (dk_at dksX1_becomes_3 4 rfl rfl)
theorem dX1_becomes_77 : decode cX1_becomes 77 = .ok (.invokeinterface 54 1, 5) := by decide +kernel
theorem dX1_becomes_82 : decode cX1_becomes 82 = .ok (.if_icmp .ge 32, 3) := dk_162 0 32 (dk_at dksX1_becomes_3 12 rfl rfl)
theorem dX1_becomes_85 : decode cX1_becomes 85 = .ok (.aload_n 0, 1) := dk_42 (dk_at dksX1_becomes_3 15 rfl rfl)
theorem dX1_becomes_86 : decode cX1_becomes 86 = .ok (.getfield 27, 3) := dk_180 0 27 (dk_at dksX1_becomes_3 16 rfl rfl)
theorem dX1_becomes_89 : decode cX1_becomes 89 = .ok (.aload_n 1, 1) := dk_43 (dk_at dksX1_becomes_3 19 rfl rfl)
theorem dX1_becomes_90 : decode cX1_becomes 90 = .ok (.getfield 27, 3) := dk_180 0 27 (dk_at dksX1_becomes_3 20 rfl rfl)
theorem dX1_becomes_93 : decode cX1_becomes 93 = .ok (.iload_n 2, 1) := dk_28 (dk_at dksX1_becomes_3 23 rfl rfl)
theorem dX1_becomes_94 : decode cX1_becomes 94 = .ok (.invokeinterface 58 2, 5) := by decide +kernel
theorem dX1_becomes_99 : decode cX1_becomes 99 = .ok (.checkcast 73, 3) := dk_192 0 73 (dk_at dksX1_becomes_4 5 rfl rfl)
theorem dX1_becomes_102 : decode cX1_becomes 102 = .ok (.invokeinterface 63 2, 5) := by decide +kernel
theorem dX1_becomes_107 : decode cX1_becomes 107 = .ok (.pop, 1) := dk_87 (dk_at dksX1_becomes_4 13 rfl rfl)
theorem dX1_becomes_108 : decode cX1_becomes 108 = .ok (.iinc 2 1, 3) := dk_132 2 1 (dk_at dksX1_becomes_4 14 rfl rfl)
theorem dX1_becomes_111 : decode cX1_becomes 111 = .ok (.goto (-39), 3) := dk_167 255 217 (dk_at dksX1_becomes_4 17 rfl rfl)
theorem dX1_becomes_114 : decode cX1_becomes 114 = .ok (.aload_n 1, 1) := dk_43 (dk_at dksX1_becomes_4 20 rfl rfl)
theorem dX1_becomes_115 : decode cX1_becomes 115 = .ok (.getfield 30, 3) := dk_180 0 30 (dk_at dksX1_becomes_4 21 rfl rfl)
theorem dX1_becomes_118 : decode cX1_becomes 118 = .ok (.iconst 0, 1) := dk_3 (dk_at dksX1_becomes_5 0 rfl rfl)
theorem dX1_becomes_119 : decode cX1_becomes 119 = .ok (.aload_n 0, 1) := dk_42 (dk_at dksX1_becomes_5 1 rfl rfl)
theorem dX1_becomes_120 : decode cX1_becomes 120 = .ok (.getfield 30, 3) := dk_180 0 30 (dk_at dksX1_becomes_5 2 rfl rfl)
theorem dX1_becomes_123 : decode cX1_becomes 123 = .ok (.iconst 0, 1) := dk_3 (dk_at dksX1_becomes_5 5 rfl rfl)
theorem dX1_becomes_124 : decode cX1_becomes 124 = .ok (.bipush 12, 2) := dk_16 12 (dk_at dksX1_becomes_5 6 rfl rfl)
theorem dX1_becomes_126 : decode cX1_becomes 126 = .ok (.invokestatic 75, 3) := dk_184 0 75 (dk_at dksX1_becomes_5 8 rfl rfl)
theorem dX1_becomes_129 : decode cX1_becomes 129 = .ok (.aload_n 0, 1) := dk_42 (dk_at dksX1_becomes_5 11 rfl rfl)
theorem dX1_becomes_130 : decode cX1_becomes 130 = .ok (.aload_n 1, 1) := dk_43 (dk_at dksX1_becomes_5 12 rfl rfl)
theorem dX1_becomes_131 : decode cX1_becomes 131 = .ok (.getfield 41, 3) := dk_180 0 41 (dk_at dksX1_becomes_5 13 rfl rfl)
theorem dX1_becomes_134 : decode cX1_becomes 134 = .ok (.putfield 41, 3) := dk_181 0 41 (dk_at dksX1_becomes_5 16 rfl rfl)
theorem dX1_becomes_137 : decode cX1_becomes 137 = .ok (.aload_n 0, 1) := dk_42 (dk_at dksX1_becomes_5 19 rfl rfl)
theorem dX1_becomes_138 : decode cX1_becomes 138 = .ok (.aload_n 1, 1) := dk_43 (dk_at dksX1_becomes_5 20 rfl rfl)
theorem dX1_becomes_139 : decode cX1_becomes 139 = .ok (.getfield 67, 3) := dk_180 0 67 (dk_at dksX1_becomes_5 21 rfl rfl)
theorem dX1_becomes_142 : decode cX1_becomes 142 = .ok (.putfield 67, 3) := dk_181 0 67 (dk_at dksX1_becomes_6 0 rfl rfl)
theorem dX1_becomes_145 : decode cX1_becomes 145 = .ok (.aload_n 0, 1) := dk_42 (dk_at dksX1_becomes_6 3 rfl rfl)
theorem dX1_becomes_146 : decode cX1_becomes 146 = .ok (.getfield 37, 3) := dk_180 0 37 (dk_at dksX1_becomes_6 4 rfl rfl)
theorem dX1_becomes_149 : decode cX1_becomes 149 = .ok (.aload_n 1, 1) := dk_43 (dk_at dksX1_becomes_6 7 rfl rfl)
theorem dX1_becomes_150 : decode cX1_becomes 150 = .ok (.getfield 37, 3) := dk_180 0 37 (dk_at dksX1_becomes_6 8 rfl rfl)
theorem dX1_becomes_153 : decode cX1_becomes 153 = .ok (.invokevirtual 81, 3) := dk_182 0 81 (dk_at dksX1_becomes_6 11 rfl rfl)
theorem dX1_becomes_156 : decode cX1_becomes 156 = .ok (.return_, 1) := dk_177 (dk_at dksX1_becomes_6 14 rfl rfl)
theorem q85 : (Jvm.Cond.initialized "NonsenseRows$State") ∈ lw_all := lw_g (lw_at lw_m1 2 rfl) rfl
theorem q332 : (Jvm.Cond.instantiable "NonsenseRows$State" (7 : Nat)) ∈ lw_all := lw_g (lw_at lw_m2 9 rfl) rfl
theorem q334 : (Jvm.Cond.instanceMethod ({ cls := "NonsenseRows$State", name := "<init>", desc := "()V" } : Jvm.MethodName)) ∈ lw_all := lw_g (lw_at lw_m2 11 rfl) rfl
theorem q335 : (Jvm.Cond.code ({ cls := "NonsenseRows$State", name := "<init>", desc := "()V" } : Jvm.MethodName) prog_12_method_1_code (1 : Nat) (Option.none : Option Jvm.ClassFile.FieldType)) ∈ lw_all := lw_g (lw_at lw_m2 12 rfl) rfl
theorem q336 : (Jvm.Cond.methodLink "NonsenseRows$State" (3 : Nat) ({ cls := "java/lang/Object", name := "<init>", desc := "()V" } : Jvm.MethodName)) ∈ lw_all := lw_g (lw_at lw_m2 13 rfl) rfl
theorem q337 : (Jvm.Cond.classLink "NonsenseRows$State" (9 : Nat) "NonsenseRows$Text") ∈ lw_all := lw_g (lw_at lw_m2 14 rfl) rfl
theorem q339 : (Jvm.Cond.methodLinkNest "NonsenseRows$State" (11 : Nat) ({ cls := "NonsenseRows$Text", name := "<init>", desc := "()V" } : Jvm.MethodName) "NonsenseRows") ∈ lw_tbl := lw_at lw_m2 16 rfl
theorem q385 : (Jvm.Cond.classLink "NonsenseRows$State" (18 : Nat) "java/util/ArrayList") ∈ lw_all := lw_g (lw_at lw_m2 62 rfl) rfl
theorem q387 : (Jvm.Cond.methodLink "NonsenseRows$State" (20 : Nat) ({ cls := "java/util/ArrayList", name := "<init>", desc := "(I)V" } : Jvm.MethodName)) ∈ lw_all := lw_g (lw_at lw_m2 64 rfl) rfl
theorem q413 : (Jvm.Cond.classLink "NonsenseRows$State" (34 : Nat) "NonsenseRows$Head") ∈ lw_all := lw_g (lw_at lw_m2 90 rfl) rfl
theorem q415 : (Jvm.Cond.methodLinkNest "NonsenseRows$State" (36 : Nat) ({ cls := "NonsenseRows$Head", name := "<init>", desc := "()V" } : Jvm.MethodName) "NonsenseRows") ∈ lw_tbl := lw_at lw_m2 92 rfl
theorem q469 : (Jvm.Cond.methodLink "NonsenseRows$State" (45 : Nat) ({ cls := "NonsenseRows$Head", name := "clears", desc := "(LNonsenseRows$Text;)V" } : Jvm.MethodName)) ∈ lw_all := lw_g (lw_at lw_m2 146 rfl) rfl
theorem q477 : (Jvm.Cond.fieldLink "NonsenseRows$State" (12 : Nat) "NonsenseRows$State" "text" "LNonsenseRows$Text;") ∈ lw_all := lw_g (lw_at lw_m2 154 rfl) rfl
theorem q479 : (Jvm.Cond.fieldLink "NonsenseRows$State" (23 : Nat) "NonsenseRows$State" "rows" "Ljava/util/List;") ∈ lw_all := lw_g (lw_at lw_m2 156 rfl) rfl
theorem q481 : (Jvm.Cond.fieldLink "NonsenseRows$State" (27 : Nat) "NonsenseRows$State" "book" "Ljava/util/List;") ∈ lw_all := lw_g (lw_at lw_m2 158 rfl) rfl
theorem q483 : (Jvm.Cond.fieldLink "NonsenseRows$State" (30 : Nat) "NonsenseRows$State" "used" "[I") ∈ lw_all := lw_g (lw_at lw_m2 160 rfl) rfl
theorem q485 : (Jvm.Cond.fieldLink "NonsenseRows$State" (37 : Nat) "NonsenseRows$State" "head" "LNonsenseRows$Head;") ∈ lw_all := lw_g (lw_at lw_m2 162 rfl) rfl
theorem q487 : (Jvm.Cond.fieldLink "NonsenseRows$State" (41 : Nat) "NonsenseRows$State" "isWhole" "Z") ∈ lw_all := lw_g (lw_at lw_m2 164 rfl) rfl
theorem q489 : (Jvm.Cond.fieldLink "NonsenseRows$State" (67 : Nat) "NonsenseRows$State" "isMade" "Z") ∈ lw_all := lw_g (lw_at lw_m2 166 rfl) rfl
theorem q491 : (Jvm.Cond.lays "NonsenseRows$State" "NonsenseRows$State" "text" "LNonsenseRows$Text;") ∈ lw_all := lw_g (lw_at lw_m2 168 rfl) rfl
theorem q492 : (Jvm.Cond.soleField "NonsenseRows$State" "text") ∈ lw_all := lw_g (lw_at lw_m2 169 rfl) rfl
theorem q493 : (Jvm.Cond.laysFinal "NonsenseRows$State" "NonsenseRows$State" "rows" "Ljava/util/List;") ∈ lw_all := lw_g (lw_at lw_m2 170 rfl) rfl
theorem q494 : (Jvm.Cond.soleField "NonsenseRows$State" "rows") ∈ lw_all := lw_g (lw_at lw_m2 171 rfl) rfl
theorem q495 : (Jvm.Cond.laysFinal "NonsenseRows$State" "NonsenseRows$State" "book" "Ljava/util/List;") ∈ lw_all := lw_g (lw_at lw_m2 172 rfl) rfl
theorem q496 : (Jvm.Cond.soleField "NonsenseRows$State" "book") ∈ lw_all := lw_g (lw_at lw_m2 173 rfl) rfl
theorem q497 : (Jvm.Cond.laysFinal "NonsenseRows$State" "NonsenseRows$State" "used" "[I") ∈ lw_all := lw_g (lw_at lw_m2 174 rfl) rfl
theorem q498 : (Jvm.Cond.soleField "NonsenseRows$State" "used") ∈ lw_all := lw_g (lw_at lw_m2 175 rfl) rfl
theorem q499 : (Jvm.Cond.laysFinal "NonsenseRows$State" "NonsenseRows$State" "head" "LNonsenseRows$Head;") ∈ lw_all := lw_g (lw_at lw_m2 176 rfl) rfl
theorem q500 : (Jvm.Cond.soleField "NonsenseRows$State" "head") ∈ lw_all := lw_g (lw_at lw_m2 177 rfl) rfl
theorem q501 : (Jvm.Cond.lays "NonsenseRows$State" "NonsenseRows$State" "isWhole" "Z") ∈ lw_all := lw_g (lw_at lw_m2 178 rfl) rfl
theorem q502 : (Jvm.Cond.soleField "NonsenseRows$State" "isWhole") ∈ lw_all := lw_g (lw_at lw_m2 179 rfl) rfl
theorem q503 : (Jvm.Cond.lays "NonsenseRows$State" "NonsenseRows$State" "isMade" "Z") ∈ lw_all := lw_g (lw_at lw_m2 180 rfl) rfl
theorem q504 : (Jvm.Cond.soleField "NonsenseRows$State" "isMade") ∈ lw_all := lw_g (lw_at lw_m2 181 rfl) rfl
theorem q505 : (Jvm.Cond.superclass "NonsenseRows$State" "java/lang/Object") ∈ lw_all := lw_g (lw_at lw_m2 182 rfl) rfl
theorem q905 : (Jvm.Cond.selects "NonsenseRows$State" ({ cls := "java/lang/Object", name := "getClass", desc := "()Ljava/lang/Class;" } : Jvm.MethodName) ({ cls := "java/lang/Object", name := "getClass", desc := "()Ljava/lang/Class;" } : Jvm.MethodName)) ∈ lw_all := lw_g (lw_at lw_m4 102 rfl) rfl
theorem q935 : (Jvm.Cond.instanceMethod ({ cls := "NonsenseRows$State", name := "begins", desc := "(LNonsenseRows$Text;Ljava/util/List;)V" } : Jvm.MethodName)) ∈ lw_all := lw_g (lw_at lw_m4 132 rfl) rfl
theorem q936 : (Jvm.Cond.selects "NonsenseRows$State" ({ cls := "NonsenseRows$State", name := "begins", desc := "(LNonsenseRows$Text;Ljava/util/List;)V" } : Jvm.MethodName) ({ cls := "NonsenseRows$State", name := "begins", desc := "(LNonsenseRows$Text;Ljava/util/List;)V" } : Jvm.MethodName)) ∈ lw_all := lw_g (lw_at lw_m4 133 rfl) rfl
theorem q937 : (Jvm.Cond.code ({ cls := "NonsenseRows$State", name := "begins", desc := "(LNonsenseRows$Text;Ljava/util/List;)V" } : Jvm.MethodName) prog_12_method_2_code (4 : Nat) (Option.none : Option Jvm.ClassFile.FieldType)) ∈ lw_all := lw_g (lw_at lw_m4 134 rfl) rfl
theorem q938 : (Jvm.Cond.interfaceEntry "NonsenseRows$State" (49 : Nat)) ∈ lw_tbl := lw_at lw_m4 135 rfl
theorem q939 : (Jvm.Cond.methodLink "NonsenseRows$State" (49 : Nat) ({ cls := "java/util/List", name := "clear", desc := "()V" } : Jvm.MethodName)) ∈ lw_all := lw_g (lw_at lw_m4 136 rfl) rfl
theorem q947 : (Jvm.Cond.interfaceEntry "NonsenseRows$State" (54 : Nat)) ∈ lw_tbl := lw_at lw_m4 144 rfl
theorem q948 : (Jvm.Cond.methodLink "NonsenseRows$State" (54 : Nat) ({ cls := "java/util/List", name := "size", desc := "()I" } : Jvm.MethodName)) ∈ lw_all := lw_g (lw_at lw_m4 145 rfl) rfl
theorem q949 : (Jvm.Cond.interfaceEntry "NonsenseRows$State" (58 : Nat)) ∈ lw_tbl := lw_at lw_m4 146 rfl
theorem q950 : (Jvm.Cond.methodLink "NonsenseRows$State" (58 : Nat) ({ cls := "java/util/List", name := "get", desc := "(I)Ljava/lang/Object;" } : Jvm.MethodName)) ∈ lw_all := lw_g (lw_at lw_m4 147 rfl) rfl
theorem q966 : (Jvm.Cond.classLink "NonsenseRows$State" (62 : Nat) "[I") ∈ lw_all := lw_g (lw_at lw_m4 163 rfl) rfl
theorem q967 : (Jvm.Cond.interfaceEntry "NonsenseRows$State" (63 : Nat)) ∈ lw_tbl := lw_at lw_m4 164 rfl
theorem q968 : (Jvm.Cond.methodLink "NonsenseRows$State" (63 : Nat) ({ cls := "java/util/List", name := "add", desc := "(Ljava/lang/Object;)Z" } : Jvm.MethodName)) ∈ lw_all := lw_g (lw_at lw_m4 165 rfl) rfl
theorem q969 : (Jvm.Cond.methodLink "NonsenseRows$State" (70 : Nat) ({ cls := "NonsenseRows$State", name := "empties", desc := "()V" } : Jvm.MethodName)) ∈ lw_all := lw_g (lw_at lw_m4 166 rfl) rfl
theorem q970 : (Jvm.Cond.instanceMethod ({ cls := "NonsenseRows$State", name := "empties", desc := "()V" } : Jvm.MethodName)) ∈ lw_all := lw_g (lw_at lw_m4 167 rfl) rfl
theorem q971 : (Jvm.Cond.selects "NonsenseRows$State" ({ cls := "NonsenseRows$State", name := "empties", desc := "()V" } : Jvm.MethodName) ({ cls := "NonsenseRows$State", name := "empties", desc := "()V" } : Jvm.MethodName)) ∈ lw_all := lw_g (lw_at lw_m4 168 rfl) rfl
theorem q972 : (Jvm.Cond.code ({ cls := "NonsenseRows$State", name := "empties", desc := "()V" } : Jvm.MethodName) prog_12_method_3_code (1 : Nat) (Option.none : Option Jvm.ClassFile.FieldType)) ∈ lw_all := lw_g (lw_at lw_m4 169 rfl) rfl
theorem q1379 : (Jvm.Cond.instanceMethod ({ cls := "NonsenseRows$State", name := "becomes", desc := "(LNonsenseRows$State;)V" } : Jvm.MethodName)) ∈ lw_all := lw_g (lw_at lw_m6 96 rfl) rfl
theorem q1380 : (Jvm.Cond.selects "NonsenseRows$State" ({ cls := "NonsenseRows$State", name := "becomes", desc := "(LNonsenseRows$State;)V" } : Jvm.MethodName) ({ cls := "NonsenseRows$State", name := "becomes", desc := "(LNonsenseRows$State;)V" } : Jvm.MethodName)) ∈ lw_all := lw_g (lw_at lw_m6 97 rfl) rfl
theorem q1381 : (Jvm.Cond.code ({ cls := "NonsenseRows$State", name := "becomes", desc := "(LNonsenseRows$State;)V" } : Jvm.MethodName) prog_12_method_4_code (3 : Nat) (Option.none : Option Jvm.ClassFile.FieldType)) ∈ lw_all := lw_g (lw_at lw_m6 98 rfl) rfl
theorem q1382 : (Jvm.Cond.classLink "NonsenseRows$State" (73 : Nat) "NonsenseRows$Sitting") ∈ lw_all := lw_g (lw_at lw_m6 99 rfl) rfl
theorem q1383 : (Jvm.Cond.methodLink "NonsenseRows$State" (75 : Nat) ({ cls := "java/lang/System", name := "arraycopy", desc := "(Ljava/lang/Object;ILjava/lang/Object;II)V" } : Jvm.MethodName)) ∈ lw_all := lw_g (lw_at lw_m6 100 rfl) rfl
theorem q1384 : (Jvm.Cond.methodLink "NonsenseRows$State" (81 : Nat) ({ cls := "NonsenseRows$Head", name := "becomes", desc := "(LNonsenseRows$Head;)V" } : Jvm.MethodName)) ∈ lw_all := lw_g (lw_at lw_m6 101 rfl) rfl
theorem q1921 : (Jvm.Cond.castable "NonsenseRows$State" "java/lang/Object") ∈ lw_tbl := lw_at lw_m8 158 rfl

set_option maxRecDepth 100000
abbrev cX2_init : ByteArray := prog_14_method_1_code
def yX2_init : MethodName := ⟨RX2, "<init>", "()V"⟩
def dkwX2_init_1 : List UInt8 := [197, 0, 18, 2, 181, 0, 20, 42, 7, 188, 4, 181, 0, 23, 177]
abbrev dktX2_init_1 : List UInt8 := dkwX2_init_1 ++ []
def dkwX2_init_0 : List UInt8 := [42, 183, 0, 3, 42, 16, 24, 188, 10, 181, 0, 9, 42, 7, 188, 10, 181, 0, 15, 42, 6, 7]
abbrev dktX2_init_0 : List UInt8 := dkwX2_init_0 ++ dktX2_init_1
theorem dksX2_init_0 : cX2_init.data.toList.drop 0 = dktX2_init_0 := by decide +kernel
theorem dksX2_init_1 : cX2_init.data.toList.drop 22 = dktX2_init_1 := dk_seg dksX2_init_0 22 rfl rfl
theorem dX2_init_0 : decode cX2_init 0 = .ok (.aload_n 0, 1) := dk_42 (dk_at dksX2_init_0 0 rfl rfl)
theorem dX2_init_1 : decode cX2_init 1 = .ok (.invokespecial 3, 3) := dk_183 0 3 (dk_at dksX2_init_0 1 rfl rfl)
theorem dX2_init_4 : decode cX2_init 4 = .ok (.aload_n 0, 1) := dk_42 (dk_at dksX2_init_0 4 rfl rfl)
theorem dX2_init_5 : decode cX2_init 5 = .ok (.bipush 24, 2) := dk_16 24 (dk_at dksX2_init_0 5 rfl rfl)
theorem dX2_init_7 : decode cX2_init 7 = .ok (.newarray .int, 2) := dk_188_10 (dk_at dksX2_init_0 7 rfl rfl)
theorem dX2_init_9 : decode cX2_init 9 = .ok (.putfield 9, 3) := dk_181 0 9 (dk_at dksX2_init_0 9 rfl rfl)
theorem dX2_init_12 : decode cX2_init 12 = .ok (.aload_n 0, 1) := dk_42 (dk_at dksX2_init_0 12 rfl rfl)
theorem dX2_init_13 : decode cX2_init 13 = .ok (.iconst 4, 1) := dk_7 (dk_at dksX2_init_0 13 rfl rfl)
theorem dX2_init_14 : decode cX2_init 14 = .ok (.newarray .int, 2) := dk_188_10 (dk_at dksX2_init_0 14 rfl rfl)
theorem dX2_init_16 : decode cX2_init 16 = .ok (.putfield 15, 3) := dk_181 0 15 (dk_at dksX2_init_0 16 rfl rfl)
theorem dX2_init_19 : decode cX2_init 19 = .ok (.aload_n 0, 1) := dk_42 (dk_at dksX2_init_0 19 rfl rfl)
theorem dX2_init_20 : decode cX2_init 20 = .ok (.iconst 3, 1) := dk_6 (dk_at dksX2_init_0 20 rfl rfl)
theorem dX2_init_21 : decode cX2_init 21 = .ok (.iconst 4, 1) := dk_7 (dk_at dksX2_init_0 21 rfl rfl)
theorem dX2_init_22 : decode cX2_init 22 = .ok (.multianewarray 18 2, 4) := by decide +kernel
theorem dX2_init_26 : decode cX2_init 26 = .ok (.putfield 20, 3) := dk_181 0 20 (dk_at dksX2_init_1 4 rfl rfl)
theorem dX2_init_29 : decode cX2_init 29 = .ok (.aload_n 0, 1) := dk_42 (dk_at dksX2_init_1 7 rfl rfl)
theorem dX2_init_30 : decode cX2_init 30 = .ok (.iconst 4, 1) := dk_7 (dk_at dksX2_init_1 8 rfl rfl)
theorem dX2_init_31 : decode cX2_init 31 = .ok (.newarray .boolean, 2) := dk_188_4 (dk_at dksX2_init_1 9 rfl rfl)
theorem dX2_init_33 : decode cX2_init 33 = .ok (.putfield 23, 3) := dk_181 0 23 (dk_at dksX2_init_1 11 rfl rfl)
theorem dX2_init_36 : decode cX2_init 36 = .ok (.return_, 1) := dk_177 (dk_at dksX2_init_1 14 rfl rfl)
theorem q86 : (Jvm.Cond.initialized "NonsenseRows$Text") ∈ lw_all := lw_g (lw_at lw_m1 3 rfl) rfl
theorem q338 : (Jvm.Cond.instantiable "NonsenseRows$Text" (8 : Nat)) ∈ lw_all := lw_g (lw_at lw_m2 15 rfl) rfl
theorem q340 : (Jvm.Cond.instanceMethod ({ cls := "NonsenseRows$Text", name := "<init>", desc := "()V" } : Jvm.MethodName)) ∈ lw_all := lw_g (lw_at lw_m2 17 rfl) rfl
theorem q341 : (Jvm.Cond.code ({ cls := "NonsenseRows$Text", name := "<init>", desc := "()V" } : Jvm.MethodName) prog_14_method_1_code (1 : Nat) (Option.none : Option Jvm.ClassFile.FieldType)) ∈ lw_all := lw_g (lw_at lw_m2 18 rfl) rfl
theorem q342 : (Jvm.Cond.methodLink "NonsenseRows$Text" (3 : Nat) ({ cls := "java/lang/Object", name := "<init>", desc := "()V" } : Jvm.MethodName)) ∈ lw_all := lw_g (lw_at lw_m2 19 rfl) rfl
theorem q343 : (Jvm.Cond.classLink "NonsenseRows$Text" (18 : Nat) "[[LNonsenseRows$Sum;") ∈ lw_all := lw_g (lw_at lw_m2 20 rfl) rfl
theorem q346 : (Jvm.Cond.fieldLink "NonsenseRows$Text" (9 : Nat) "NonsenseRows$Text" "easy" "[I") ∈ lw_all := lw_g (lw_at lw_m2 23 rfl) rfl
theorem q349 : (Jvm.Cond.fieldLink "NonsenseRows$Text" (15 : Nat) "NonsenseRows$Text" "leans" "[I") ∈ lw_all := lw_g (lw_at lw_m2 26 rfl) rfl
theorem q353 : (Jvm.Cond.fieldLink "NonsenseRows$Text" (20 : Nat) "NonsenseRows$Text" "laws" "[[LNonsenseRows$Sum;") ∈ lw_all := lw_g (lw_at lw_m2 30 rfl) rfl
theorem q357 : (Jvm.Cond.fieldLink "NonsenseRows$Text" (23 : Nat) "NonsenseRows$Text" "isLeaning" "[Z") ∈ lw_all := lw_g (lw_at lw_m2 34 rfl) rfl
theorem q367 : (Jvm.Cond.laysFinal "NonsenseRows$Text" "NonsenseRows$Text" "easy" "[I") ∈ lw_all := lw_g (lw_at lw_m2 44 rfl) rfl
theorem q368 : (Jvm.Cond.soleField "NonsenseRows$Text" "easy") ∈ lw_all := lw_g (lw_at lw_m2 45 rfl) rfl
theorem q369 : (Jvm.Cond.laysFinal "NonsenseRows$Text" "NonsenseRows$Text" "leans" "[I") ∈ lw_all := lw_g (lw_at lw_m2 46 rfl) rfl
theorem q370 : (Jvm.Cond.soleField "NonsenseRows$Text" "leans") ∈ lw_all := lw_g (lw_at lw_m2 47 rfl) rfl
theorem q371 : (Jvm.Cond.laysFinal "NonsenseRows$Text" "NonsenseRows$Text" "laws" "[[LNonsenseRows$Sum;") ∈ lw_all := lw_g (lw_at lw_m2 48 rfl) rfl
theorem q372 : (Jvm.Cond.soleField "NonsenseRows$Text" "laws") ∈ lw_all := lw_g (lw_at lw_m2 49 rfl) rfl
theorem q373 : (Jvm.Cond.laysFinal "NonsenseRows$Text" "NonsenseRows$Text" "isLeaning" "[Z") ∈ lw_all := lw_g (lw_at lw_m2 50 rfl) rfl
theorem q374 : (Jvm.Cond.soleField "NonsenseRows$Text" "isLeaning") ∈ lw_all := lw_g (lw_at lw_m2 51 rfl) rfl
theorem q375 : (Jvm.Cond.lays "NonsenseRows$Text" "NonsenseRows$Text" "things" "I") ∈ lw_all := lw_g (lw_at lw_m2 52 rfl) rfl
theorem q376 : (Jvm.Cond.soleField "NonsenseRows$Text" "things") ∈ lw_all := lw_g (lw_at lw_m2 53 rfl) rfl
theorem q377 : (Jvm.Cond.lays "NonsenseRows$Text" "NonsenseRows$Text" "hold" "I") ∈ lw_all := lw_g (lw_at lw_m2 54 rfl) rfl
theorem q378 : (Jvm.Cond.soleField "NonsenseRows$Text" "hold") ∈ lw_all := lw_g (lw_at lw_m2 55 rfl) rfl
theorem q379 : (Jvm.Cond.lays "NonsenseRows$Text" "NonsenseRows$Text" "lines" "I") ∈ lw_all := lw_g (lw_at lw_m2 56 rfl) rfl
theorem q380 : (Jvm.Cond.soleField "NonsenseRows$Text" "lines") ∈ lw_all := lw_g (lw_at lw_m2 57 rfl) rfl
theorem q381 : (Jvm.Cond.lays "NonsenseRows$Text" "NonsenseRows$Text" "isHeld" "Z") ∈ lw_all := lw_g (lw_at lw_m2 58 rfl) rfl
theorem q382 : (Jvm.Cond.soleField "NonsenseRows$Text" "isHeld") ∈ lw_all := lw_g (lw_at lw_m2 59 rfl) rfl
theorem q383 : (Jvm.Cond.superclass "NonsenseRows$Text" "java/lang/Object") ∈ lw_all := lw_g (lw_at lw_m2 60 rfl) rfl
theorem q906 : (Jvm.Cond.selects "NonsenseRows$Text" ({ cls := "java/lang/Object", name := "getClass", desc := "()Ljava/lang/Class;" } : Jvm.MethodName) ({ cls := "java/lang/Object", name := "getClass", desc := "()Ljava/lang/Class;" } : Jvm.MethodName)) ∈ lw_all := lw_g (lw_at lw_m4 103 rfl) rfl
theorem q1924 : (Jvm.Cond.castable "NonsenseRows$Text" "java/lang/Object") ∈ lw_tbl := lw_at lw_m8 161 rfl

set_option maxRecDepth 100000
abbrev cX3_init : ByteArray := prog_6_method_1_code
def yX3_init : MethodName := ⟨RX3, "<init>", "()V"⟩
def dkwX3_init_1 : List UInt8 := [183, 0, 18, 181, 0, 19, 177]
abbrev dktX3_init_1 : List UInt8 := dkwX3_init_1 ++ []
def dkwX3_init_0 : List UInt8 := [42, 183, 0, 3, 42, 7, 16, 24, 16, 24, 197, 0, 9, 3, 181, 0, 11, 42, 187, 0, 16, 89]
abbrev dktX3_init_0 : List UInt8 := dkwX3_init_0 ++ dktX3_init_1
theorem dksX3_init_0 : cX3_init.data.toList.drop 0 = dktX3_init_0 := by decide +kernel
theorem dksX3_init_1 : cX3_init.data.toList.drop 22 = dktX3_init_1 := dk_seg dksX3_init_0 22 rfl rfl
theorem dX3_init_0 : decode cX3_init 0 = .ok (.aload_n 0, 1) := dk_42 (dk_at dksX3_init_0 0 rfl rfl)
theorem dX3_init_1 : decode cX3_init 1 = .ok (.invokespecial 3, 3) := dk_183 0 3 (dk_at dksX3_init_0 1 rfl rfl)
theorem dX3_init_4 : decode cX3_init 4 = .ok (.aload_n 0, 1) := dk_42 (dk_at dksX3_init_0 4 rfl rfl)
theorem dX3_init_5 : decode cX3_init 5 = .ok (.iconst 4, 1) := dk_7 (dk_at dksX3_init_0 5 rfl rfl)
theorem dX3_init_6 : decode cX3_init 6 = .ok (.bipush 24, 2) := dk_16 24 (dk_at dksX3_init_0 6 rfl rfl)
theorem dX3_init_8 : decode cX3_init 8 = .ok (.bipush 24, 2) := dk_16 24 (dk_at dksX3_init_0 8 rfl rfl)
theorem dX3_init_10 : decode cX3_init 10 = .ok (.multianewarray 9 3, 4) := by decide +kernel
theorem dX3_init_14 : decode cX3_init 14 = .ok (.putfield 11, 3) := dk_181 0 11 (dk_at dksX3_init_0 14 rfl rfl)
theorem dX3_init_17 : decode cX3_init 17 = .ok (.aload_n 0, 1) := dk_42 (dk_at dksX3_init_0 17 rfl rfl)
theorem dX3_init_18 : decode cX3_init 18 = .ok (.new 16, 3) := dk_187 0 16 (dk_at dksX3_init_0 18 rfl rfl)
theorem dX3_init_21 : decode cX3_init 21 = .ok (.dup, 1) := dk_89 (dk_at dksX3_init_0 21 rfl rfl)
theorem dX3_init_22 : decode cX3_init 22 = .ok (.invokespecial 18, 3) := dk_183 0 18 (dk_at dksX3_init_1 0 rfl rfl)
theorem dX3_init_25 : decode cX3_init 25 = .ok (.putfield 19, 3) := dk_181 0 19 (dk_at dksX3_init_1 3 rfl rfl)
theorem dX3_init_28 : decode cX3_init 28 = .ok (.return_, 1) := dk_177 (dk_at dksX3_init_1 6 rfl rfl)
abbrev cX3_clears : ByteArray := prog_6_method_2_code
def yX3_clears : MethodName := ⟨RX3, "clears", "(LNonsenseRows$Text;)V"⟩
def dkwX3_clears_0 : List UInt8 := [42, 43, 181, 0, 23, 42, 3, 181, 0, 27, 42, 3, 181, 0, 31, 42, 182, 0, 34, 177]
abbrev dktX3_clears_0 : List UInt8 := dkwX3_clears_0 ++ []
theorem dksX3_clears_0 : cX3_clears.data.toList.drop 0 = dktX3_clears_0 := by decide +kernel
theorem dX3_clears_0 : decode cX3_clears 0 = .ok (.aload_n 0, 1) := dk_42 (dk_at dksX3_clears_0 0 rfl rfl)
theorem dX3_clears_1 : decode cX3_clears 1 = .ok (.aload_n 1, 1) := dk_43 (dk_at dksX3_clears_0 1 rfl rfl)
theorem dX3_clears_2 : decode cX3_clears 2 = .ok (.putfield 23, 3) := dk_181 0 23 (dk_at dksX3_clears_0 2 rfl rfl)
theorem dX3_clears_5 : decode cX3_clears 5 = .ok (.aload_n 0, 1) := dk_42 (dk_at dksX3_clears_0 5 rfl rfl)
theorem dX3_clears_6 : decode cX3_clears 6 = .ok (.iconst 0, 1) := dk_3 (dk_at dksX3_clears_0 6 rfl rfl)
theorem dX3_clears_7 : decode cX3_clears 7 = .ok (.putfield 27, 3) := dk_181 0 27 (dk_at dksX3_clears_0 7 rfl rfl)
theorem dX3_clears_10 : decode cX3_clears 10 = .ok (.aload_n 0, 1) := dk_42 (dk_at dksX3_clears_0 10 rfl rfl)
theorem dX3_clears_11 : decode cX3_clears 11 = .ok (.iconst 0, 1) := dk_3 (dk_at dksX3_clears_0 11 rfl rfl)
theorem dX3_clears_12 : decode cX3_clears 12 = .ok (.putfield 31, 3) := dk_181 0 31 (dk_at dksX3_clears_0 12 rfl rfl)
theorem dX3_clears_15 : decode cX3_clears 15 = .ok (.aload_n 0, 1) := dk_42 (dk_at dksX3_clears_0 15 rfl rfl)
theorem dX3_clears_16 : decode cX3_clears 16 = .ok (.invokevirtual 34, 3) := dk_182 0 34 (dk_at dksX3_clears_0 16 rfl rfl)
theorem dX3_clears_19 : decode cX3_clears 19 = .ok (.return_, 1) := dk_177 (dk_at dksX3_clears_0 19 rfl rfl)
abbrev cX3_empties : ByteArray := prog_6_method_3_code
def yX3_empties : MethodName := ⟨RX3, "empties", "()V"⟩
def dkwX3_empties_3 : List UInt8 := [167, 255, 217, 132, 3, 1, 167, 255, 189, 177]
abbrev dktX3_empties_3 : List UInt8 := dkwX3_empties_3 ++ []
def dkwX3_empties_2 : List UInt8 := [54, 9, 21, 9, 16, 24, 162, 0, 15, 25, 8, 21, 9, 3, 79, 132, 9, 1, 167, 255, 240, 132, 7, 1]
abbrev dktX3_empties_2 : List UInt8 := dkwX3_empties_2 ++ dktX3_empties_3
def dkwX3_empties_1 : List UInt8 := [25, 5, 190, 54, 6, 3, 54, 7, 21, 7, 21, 6, 162, 0, 38, 25, 5, 21, 7, 50, 58, 8, 3]
abbrev dktX3_empties_1 : List UInt8 := dkwX3_empties_1 ++ dktX3_empties_2
def dkwX3_empties_0 : List UInt8 := [42, 180, 0, 11, 76, 43, 190, 61, 3, 62, 29, 28, 162, 0, 68, 43, 29, 50, 58, 4, 25, 4, 58, 5]
abbrev dktX3_empties_0 : List UInt8 := dkwX3_empties_0 ++ dktX3_empties_1
theorem dksX3_empties_0 : cX3_empties.data.toList.drop 0 = dktX3_empties_0 := by decide +kernel
theorem dksX3_empties_1 : cX3_empties.data.toList.drop 24 = dktX3_empties_1 := dk_seg dksX3_empties_0 24 rfl rfl
theorem dksX3_empties_2 : cX3_empties.data.toList.drop 47 = dktX3_empties_2 := dk_seg dksX3_empties_1 23 rfl rfl
theorem dksX3_empties_3 : cX3_empties.data.toList.drop 71 = dktX3_empties_3 := dk_seg dksX3_empties_2 24 rfl rfl
theorem dX3_empties_0 : decode cX3_empties 0 = .ok (.aload_n 0, 1) := dk_42 (dk_at dksX3_empties_0 0 rfl rfl)
theorem dX3_empties_1 : decode cX3_empties 1 = .ok (.getfield 11, 3) := dk_180 0 11 (dk_at dksX3_empties_0 1 rfl rfl)
theorem dX3_empties_4 : decode cX3_empties 4 = .ok (.astore_n 1, 1) := dk_76 (dk_at dksX3_empties_0 4 rfl rfl)
theorem dX3_empties_5 : decode cX3_empties 5 = .ok (.aload_n 1, 1) := dk_43 (dk_at dksX3_empties_0 5 rfl rfl)
theorem dX3_empties_6 : decode cX3_empties 6 = .ok (.arraylength, 1) := dk_190 (dk_at dksX3_empties_0 6 rfl rfl)
theorem dX3_empties_7 : decode cX3_empties 7 = .ok (.istore_n 2, 1) := dk_61 (dk_at dksX3_empties_0 7 rfl rfl)
theorem dX3_empties_8 : decode cX3_empties 8 = .ok (.iconst 0, 1) := dk_3 (dk_at dksX3_empties_0 8 rfl rfl)
theorem dX3_empties_9 : decode cX3_empties 9 = .ok (.istore_n 3, 1) := dk_62 (dk_at dksX3_empties_0 9 rfl rfl)
theorem dX3_empties_10 : decode cX3_empties 10 = .ok (.iload_n 3, 1) := dk_29 (dk_at dksX3_empties_0 10 rfl rfl)
theorem dX3_empties_11 : decode cX3_empties 11 = .ok (.iload_n 2, 1) := dk_28 (dk_at dksX3_empties_0 11 rfl rfl)
theorem dX3_empties_12 : decode cX3_empties 12 = .ok (.if_icmp .ge 68, 3) := dk_162 0 68 (dk_at dksX3_empties_0 12 rfl rfl)
theorem dX3_empties_15 : decode cX3_empties 15 = .ok (.aload_n 1, 1) := dk_43 (dk_at dksX3_empties_0 15 rfl rfl)
theorem dX3_empties_16 : decode cX3_empties 16 = .ok (.iload_n 3, 1) := dk_29 (dk_at dksX3_empties_0 16 rfl rfl)
theorem dX3_empties_17 : decode cX3_empties 17 = .ok (.aaload, 1) := dk_50 (dk_at dksX3_empties_0 17 rfl rfl)
theorem dX3_empties_18 : decode cX3_empties 18 = .ok (.astore 4, 2) := dk_58 4 (dk_at dksX3_empties_0 18 rfl rfl)
theorem dX3_empties_20 : decode cX3_empties 20 = .ok (.aload 4, 2) := dk_25 4 (dk_at dksX3_empties_0 20 rfl rfl)
theorem dX3_empties_22 : decode cX3_empties 22 = .ok (.astore 5, 2) := dk_58 5 (dk_at dksX3_empties_0 22 rfl rfl)
theorem dX3_empties_24 : decode cX3_empties 24 = .ok (.aload 5, 2) := dk_25 5 (dk_at dksX3_empties_1 0 rfl rfl)
theorem dX3_empties_26 : decode cX3_empties 26 = .ok (.arraylength, 1) := dk_190 (dk_at dksX3_empties_1 2 rfl rfl)
theorem dX3_empties_27 : decode cX3_empties 27 = .ok (.istore 6, 2) := dk_54 6 (dk_at dksX3_empties_1 3 rfl rfl)
theorem dX3_empties_29 : decode cX3_empties 29 = .ok (.iconst 0, 1) := dk_3 (dk_at dksX3_empties_1 5 rfl rfl)
theorem dX3_empties_30 : decode cX3_empties 30 = .ok (.istore 7, 2) := dk_54 7 (dk_at dksX3_empties_1 6 rfl rfl)
theorem dX3_empties_32 : decode cX3_empties 32 = .ok (.iload 7, 2) := dk_21 7 (dk_at dksX3_empties_1 8 rfl rfl)
theorem dX3_empties_34 : decode cX3_empties 34 = .ok (.iload 6, 2) := dk_21 6 (dk_at dksX3_empties_1 10 rfl rfl)
theorem dX3_empties_36 : decode cX3_empties 36 = .ok (.if_icmp .ge 38, 3) := dk_162 0 38 (dk_at dksX3_empties_1 12 rfl rfl)
theorem dX3_empties_39 : decode cX3_empties 39 = .ok (.aload 5, 2) := dk_25 5 (dk_at dksX3_empties_1 15 rfl rfl)
theorem dX3_empties_41 : decode cX3_empties 41 = .ok (.iload 7, 2) := dk_21 7 (dk_at dksX3_empties_1 17 rfl rfl)
theorem dX3_empties_43 : decode cX3_empties 43 = .ok (.aaload, 1) := dk_50 (dk_at dksX3_empties_1 19 rfl rfl)
theorem dX3_empties_44 : decode cX3_empties 44 = .ok (.astore 8, 2) := dk_58 8 (dk_at dksX3_empties_1 20 rfl rfl)
theorem dX3_empties_46 : decode cX3_empties 46 = .ok (.iconst 0, 1) := dk_3 (dk_at dksX3_empties_1 22 rfl rfl)
theorem dX3_empties_47 : decode cX3_empties 47 = .ok (.istore 9, 2) := dk_54 9 (dk_at dksX3_empties_2 0 rfl rfl)
theorem dX3_empties_49 : decode cX3_empties 49 = .ok (.iload 9, 2) := dk_21 9 (dk_at dksX3_empties_2 2 rfl rfl)
theorem dX3_empties_51 : decode cX3_empties 51 = .ok (.bipush 24, 2) := dk_16 24 (dk_at dksX3_empties_2 4 rfl rfl)
theorem dX3_empties_53 : decode cX3_empties 53 = .ok (.if_icmp .ge 15, 3) := dk_162 0 15 (dk_at dksX3_empties_2 6 rfl rfl)
theorem dX3_empties_56 : decode cX3_empties 56 = .ok (.aload 8, 2) := dk_25 8 (dk_at dksX3_empties_2 9 rfl rfl)
theorem dX3_empties_58 : decode cX3_empties 58 = .ok (.iload 9, 2) := dk_21 9 (dk_at dksX3_empties_2 11 rfl rfl)
theorem dX3_empties_60 : decode cX3_empties 60 = .ok (.iconst 0, 1) := dk_3 (dk_at dksX3_empties_2 13 rfl rfl)
theorem dX3_empties_61 : decode cX3_empties 61 = .ok (.iastore, 1) := dk_79 (dk_at dksX3_empties_2 14 rfl rfl)
theorem dX3_empties_62 : decode cX3_empties 62 = .ok (.iinc 9 1, 3) := dk_132 9 1 (dk_at dksX3_empties_2 15 rfl rfl)
theorem dX3_empties_65 : decode cX3_empties 65 = .ok (.goto (-16), 3) := dk_167 255 240 (dk_at dksX3_empties_2 18 rfl rfl)
theorem dX3_empties_68 : decode cX3_empties 68 = .ok (.iinc 7 1, 3) := dk_132 7 1 (dk_at dksX3_empties_2 21 rfl rfl)
theorem dX3_empties_71 : decode cX3_empties 71 = .ok (.goto (-39), 3) := dk_167 255 217 (dk_at dksX3_empties_3 0 rfl rfl)
theorem dX3_empties_74 : decode cX3_empties 74 = .ok (.iinc 3 1, 3) := dk_132 3 1 (dk_at dksX3_empties_3 3 rfl rfl)
theorem dX3_empties_77 : decode cX3_empties 77 = .ok (.goto (-67), 3) := dk_167 255 189 (dk_at dksX3_empties_3 6 rfl rfl)
theorem dX3_empties_80 : decode cX3_empties 80 = .ok (.return_, 1) := dk_177 (dk_at dksX3_empties_3 9 rfl rfl)
abbrev cX3_slips : ByteArray := prog_6_method_11_code
def yX3_slips : MethodName := ⟨RX3, "slips", "([II)I"⟩
def dkwX3_slips_2 : List UInt8 := [167, 255, 217, 29, 172]
abbrev dktX3_slips_2 : List UInt8 := dkwX3_slips_2 ++ []
def dkwX3_slips_1 : List UInt8 := [180, 0, 23, 180, 0, 96, 162, 0, 10, 4, 21, 4, 120, 167, 0, 4, 3, 128, 62, 132, 4, 1]
abbrev dktX3_slips_1 : List UInt8 := dkwX3_slips_1 ++ dktX3_slips_2
def dkwX3_slips_0 : List UInt8 := [3, 62, 3, 54, 4, 21, 4, 43, 190, 162, 0, 38, 29, 42, 43, 21, 4, 28, 182, 0, 92, 42]
abbrev dktX3_slips_0 : List UInt8 := dkwX3_slips_0 ++ dktX3_slips_1
theorem dksX3_slips_0 : cX3_slips.data.toList.drop 0 = dktX3_slips_0 := by decide +kernel
theorem dksX3_slips_1 : cX3_slips.data.toList.drop 22 = dktX3_slips_1 := dk_seg dksX3_slips_0 22 rfl rfl
theorem dksX3_slips_2 : cX3_slips.data.toList.drop 44 = dktX3_slips_2 := dk_seg dksX3_slips_1 22 rfl rfl
theorem dX3_slips_0 : decode cX3_slips 0 = .ok (.iconst 0, 1) := dk_3 (dk_at dksX3_slips_0 0 rfl rfl)
theorem dX3_slips_1 : decode cX3_slips 1 = .ok (.istore_n 3, 1) := dk_62 (dk_at dksX3_slips_0 1 rfl rfl)
theorem dX3_slips_2 : decode cX3_slips 2 = .ok (.iconst 0, 1) := dk_3 (dk_at dksX3_slips_0 2 rfl rfl)
theorem dX3_slips_3 : decode cX3_slips 3 = .ok (.istore 4, 2) := dk_54 4 (dk_at dksX3_slips_0 3 rfl rfl)
theorem dX3_slips_5 : decode cX3_slips 5 = .ok (.iload 4, 2) := dk_21 4 (dk_at dksX3_slips_0 5 rfl rfl)
theorem dX3_slips_7 : decode cX3_slips 7 = .ok (.aload_n 1, 1) := dk_43 (dk_at dksX3_slips_0 7 rfl rfl)
theorem dX3_slips_8 : decode cX3_slips 8 = .ok (.arraylength, 1) := dk_190 (dk_at dksX3_slips_0 8 rfl rfl)
theorem dX3_slips_9 : decode cX3_slips 9 = .ok (.if_icmp .ge 38, 3) := dk_162 0 38 (dk_at dksX3_slips_0 9 rfl rfl)
theorem dX3_slips_12 : decode cX3_slips 12 = .ok (.iload_n 3, 1) := dk_29 (dk_at dksX3_slips_0 12 rfl rfl)
theorem dX3_slips_13 : decode cX3_slips 13 = .ok (.aload_n 0, 1) := dk_42 (dk_at dksX3_slips_0 13 rfl rfl)
theorem dX3_slips_14 : decode cX3_slips 14 = .ok (.aload_n 1, 1) := dk_43 (dk_at dksX3_slips_0 14 rfl rfl)
theorem dX3_slips_15 : decode cX3_slips 15 = .ok (.iload 4, 2) := dk_21 4 (dk_at dksX3_slips_0 15 rfl rfl)
theorem dX3_slips_17 : decode cX3_slips 17 = .ok (.iload_n 2, 1) := dk_28 (dk_at dksX3_slips_0 17 rfl rfl)
theorem dX3_slips_18 : decode cX3_slips 18 = .ok (.invokevirtual 92, 3) := dk_182 0 92 (dk_at dksX3_slips_0 18 rfl rfl)
theorem dX3_slips_21 : decode cX3_slips 21 = .ok (.aload_n 0, 1) := dk_42 (dk_at dksX3_slips_0 21 rfl rfl)
theorem dX3_slips_22 : decode cX3_slips 22 = .ok (.getfield 23, 3) := dk_180 0 23 (dk_at dksX3_slips_1 0 rfl rfl)
theorem dX3_slips_25 : decode cX3_slips 25 = .ok (.getfield 96, 3) := dk_180 0 96 (dk_at dksX3_slips_1 3 rfl rfl)
theorem dX3_slips_28 : decode cX3_slips 28 = .ok (.if_icmp .ge 10, 3) := dk_162 0 10 (dk_at dksX3_slips_1 6 rfl rfl)
theorem dX3_slips_31 : decode cX3_slips 31 = .ok (.iconst 1, 1) := dk_4 (dk_at dksX3_slips_1 9 rfl rfl)
theorem dX3_slips_32 : decode cX3_slips 32 = .ok (.iload 4, 2) := dk_21 4 (dk_at dksX3_slips_1 10 rfl rfl)
theorem dX3_slips_34 : decode cX3_slips 34 = .ok (.ishl, 1) := dk_120 (dk_at dksX3_slips_1 12 rfl rfl)
theorem dX3_slips_35 : decode cX3_slips 35 = .ok (.goto 4, 3) := dk_167 0 4 (dk_at dksX3_slips_1 13 rfl rfl)
theorem dX3_slips_38 : decode cX3_slips 38 = .ok (.iconst 0, 1) := dk_3 (dk_at dksX3_slips_1 16 rfl rfl)
theorem dX3_slips_39 : decode cX3_slips 39 = .ok (.ior, 1) := dk_128 (dk_at dksX3_slips_1 17 rfl rfl)
theorem dX3_slips_40 : decode cX3_slips 40 = .ok (.istore_n 3, 1) := dk_62 (dk_at dksX3_slips_1 18 rfl rfl)
theorem dX3_slips_41 : decode cX3_slips 41 = .ok (.iinc 4 1, 3) := dk_132 4 1 (dk_at dksX3_slips_1 19 rfl rfl)
theorem dX3_slips_44 : decode cX3_slips 44 = .ok (.goto (-39), 3) := dk_167 255 217 (dk_at dksX3_slips_2 0 rfl rfl)
theorem dX3_slips_47 : decode cX3_slips 47 = .ok (.iload_n 3, 1) := dk_29 (dk_at dksX3_slips_2 3 rfl rfl)
theorem dX3_slips_48 : decode cX3_slips 48 = .ok (.ireturn, 1) := dk_172 (dk_at dksX3_slips_2 4 rfl rfl)
abbrev cX3_support : ByteArray := prog_6_method_10_code
def yX3_support : MethodName := ⟨RX3, "support", "([III)I"⟩
def dkwX3_support_4 : List UInt8 := [172]
abbrev dktX3_support_4 : List UInt8 := dkwX3_support_4 ++ []
def dkwX3_support_3 : List UInt8 := [28, 4, 100, 46, 50, 43, 28, 46, 46, 104, 96, 54, 4, 132, 5, 1, 167, 255, 204, 21, 4, 16, 100, 108]
abbrev dktX3_support_3 : List UInt8 := dkwX3_support_3 ++ dktX3_support_4
def dkwX3_support_2 : List UInt8 := [29, 159, 0, 36, 21, 4, 42, 180, 0, 23, 180, 0, 89, 21, 5, 46, 42, 180, 0, 11, 21, 5, 50, 43]
abbrev dktX3_support_2 : List UInt8 := dkwX3_support_2 ++ dktX3_support_3
def dkwX3_support_1 : List UInt8 := [43, 28, 46, 50, 28, 46, 104, 54, 4, 3, 54, 5, 21, 5, 5, 163, 0, 52, 28, 158, 0, 48, 21, 5]
abbrev dktX3_support_1 : List UInt8 := dkwX3_support_1 ++ dktX3_support_2
def dkwX3_support_0 : List UInt8 := [29, 6, 160, 0, 7, 3, 167, 0, 25, 42, 180, 0, 23, 180, 0, 89, 6, 46, 42, 180, 0, 11, 6, 50]
abbrev dktX3_support_0 : List UInt8 := dkwX3_support_0 ++ dktX3_support_1
theorem dksX3_support_0 : cX3_support.data.toList.drop 0 = dktX3_support_0 := by decide +kernel
theorem dksX3_support_1 : cX3_support.data.toList.drop 24 = dktX3_support_1 := dk_seg dksX3_support_0 24 rfl rfl
theorem dksX3_support_2 : cX3_support.data.toList.drop 48 = dktX3_support_2 := dk_seg dksX3_support_1 24 rfl rfl
theorem dksX3_support_3 : cX3_support.data.toList.drop 72 = dktX3_support_3 := dk_seg dksX3_support_2 24 rfl rfl
theorem dksX3_support_4 : cX3_support.data.toList.drop 96 = dktX3_support_4 := dk_seg dksX3_support_3 24 rfl rfl
theorem dX3_support_0 : decode cX3_support 0 = .ok (.iload_n 3, 1) := dk_29 (dk_at dksX3_support_0 0 rfl rfl)
theorem dX3_support_1 : decode cX3_support 1 = .ok (.iconst 3, 1) := dk_6 (dk_at dksX3_support_0 1 rfl rfl)
theorem dX3_support_2 : decode cX3_support 2 = .ok (.if_icmp .ne 7, 3) := dk_160 0 7 (dk_at dksX3_support_0 2 rfl rfl)
theorem dX3_support_5 : decode cX3_support 5 = .ok (.iconst 0, 1) := dk_3 (dk_at dksX3_support_0 5 rfl rfl)
theorem dX3_support_6 : decode cX3_support 6 = .ok (.goto 25, 3) := dk_167 0 25 (dk_at dksX3_support_0 6 rfl rfl)
theorem dX3_support_9 : decode cX3_support 9 = .ok (.aload_n 0, 1) := dk_42 (dk_at dksX3_support_0 9 rfl rfl)
theorem dX3_support_10 : decode cX3_support 10 = .ok (.getfield 23, 3) := dk_180 0 23 (dk_at dksX3_support_0 10 rfl rfl)
theorem dX3_support_13 : decode cX3_support 13 = .ok (.getfield 89, 3) := dk_180 0 89 (dk_at dksX3_support_0 13 rfl rfl)
theorem dX3_support_16 : decode cX3_support 16 = .ok (.iconst 3, 1) := dk_6 (dk_at dksX3_support_0 16 rfl rfl)
theorem dX3_support_17 : decode cX3_support 17 = .ok (.iaload, 1) := dk_46 (dk_at dksX3_support_0 17 rfl rfl)
theorem dX3_support_18 : decode cX3_support 18 = .ok (.aload_n 0, 1) := dk_42 (dk_at dksX3_support_0 18 rfl rfl)
theorem dX3_support_19 : decode cX3_support 19 = .ok (.getfield 11, 3) := dk_180 0 11 (dk_at dksX3_support_0 19 rfl rfl)
theorem dX3_support_22 : decode cX3_support 22 = .ok (.iconst 3, 1) := dk_6 (dk_at dksX3_support_0 22 rfl rfl)
theorem dX3_support_23 : decode cX3_support 23 = .ok (.aaload, 1) := dk_50 (dk_at dksX3_support_0 23 rfl rfl)
theorem dX3_support_24 : decode cX3_support 24 = .ok (.aload_n 1, 1) := dk_43 (dk_at dksX3_support_1 0 rfl rfl)
theorem dX3_support_25 : decode cX3_support 25 = .ok (.iload_n 2, 1) := dk_28 (dk_at dksX3_support_1 1 rfl rfl)
theorem dX3_support_26 : decode cX3_support 26 = .ok (.iaload, 1) := dk_46 (dk_at dksX3_support_1 2 rfl rfl)
theorem dX3_support_27 : decode cX3_support 27 = .ok (.aaload, 1) := dk_50 (dk_at dksX3_support_1 3 rfl rfl)
theorem dX3_support_28 : decode cX3_support 28 = .ok (.iload_n 2, 1) := dk_28 (dk_at dksX3_support_1 4 rfl rfl)
theorem dX3_support_29 : decode cX3_support 29 = .ok (.iaload, 1) := dk_46 (dk_at dksX3_support_1 5 rfl rfl)
theorem dX3_support_30 : decode cX3_support 30 = .ok (.imul, 1) := dk_104 (dk_at dksX3_support_1 6 rfl rfl)
theorem dX3_support_31 : decode cX3_support 31 = .ok (.istore 4, 2) := dk_54 4 (dk_at dksX3_support_1 7 rfl rfl)
theorem dX3_support_33 : decode cX3_support 33 = .ok (.iconst 0, 1) := dk_3 (dk_at dksX3_support_1 9 rfl rfl)
theorem dX3_support_34 : decode cX3_support 34 = .ok (.istore 5, 2) := dk_54 5 (dk_at dksX3_support_1 10 rfl rfl)
theorem dX3_support_36 : decode cX3_support 36 = .ok (.iload 5, 2) := dk_21 5 (dk_at dksX3_support_1 12 rfl rfl)
theorem dX3_support_38 : decode cX3_support 38 = .ok (.iconst 2, 1) := dk_5 (dk_at dksX3_support_1 14 rfl rfl)
theorem dX3_support_39 : decode cX3_support 39 = .ok (.if_icmp .gt 52, 3) := dk_163 0 52 (dk_at dksX3_support_1 15 rfl rfl)
theorem dX3_support_42 : decode cX3_support 42 = .ok (.iload_n 2, 1) := dk_28 (dk_at dksX3_support_1 18 rfl rfl)
theorem dX3_support_43 : decode cX3_support 43 = .ok (.ifCond .le 48, 3) := dk_158 0 48 (dk_at dksX3_support_1 19 rfl rfl)
theorem dX3_support_46 : decode cX3_support 46 = .ok (.iload 5, 2) := dk_21 5 (dk_at dksX3_support_1 22 rfl rfl)
theorem dX3_support_48 : decode cX3_support 48 = .ok (.iload_n 3, 1) := dk_29 (dk_at dksX3_support_2 0 rfl rfl)
theorem dX3_support_49 : decode cX3_support 49 = .ok (.if_icmp .eq 36, 3) := dk_159 0 36 (dk_at dksX3_support_2 1 rfl rfl)
theorem dX3_support_52 : decode cX3_support 52 = .ok (.iload 4, 2) := dk_21 4 (dk_at dksX3_support_2 4 rfl rfl)
theorem dX3_support_54 : decode cX3_support 54 = .ok (.aload_n 0, 1) := dk_42 (dk_at dksX3_support_2 6 rfl rfl)
theorem dX3_support_55 : decode cX3_support 55 = .ok (.getfield 23, 3) := dk_180 0 23 (dk_at dksX3_support_2 7 rfl rfl)
theorem dX3_support_58 : decode cX3_support 58 = .ok (.getfield 89, 3) := dk_180 0 89 (dk_at dksX3_support_2 10 rfl rfl)
theorem dX3_support_61 : decode cX3_support 61 = .ok (.iload 5, 2) := dk_21 5 (dk_at dksX3_support_2 13 rfl rfl)
theorem dX3_support_63 : decode cX3_support 63 = .ok (.iaload, 1) := dk_46 (dk_at dksX3_support_2 15 rfl rfl)
theorem dX3_support_64 : decode cX3_support 64 = .ok (.aload_n 0, 1) := dk_42 (dk_at dksX3_support_2 16 rfl rfl)
theorem dX3_support_65 : decode cX3_support 65 = .ok (.getfield 11, 3) := dk_180 0 11 (dk_at dksX3_support_2 17 rfl rfl)
theorem dX3_support_68 : decode cX3_support 68 = .ok (.iload 5, 2) := dk_21 5 (dk_at dksX3_support_2 20 rfl rfl)
theorem dX3_support_70 : decode cX3_support 70 = .ok (.aaload, 1) := dk_50 (dk_at dksX3_support_2 22 rfl rfl)
theorem dX3_support_71 : decode cX3_support 71 = .ok (.aload_n 1, 1) := dk_43 (dk_at dksX3_support_2 23 rfl rfl)
theorem dX3_support_72 : decode cX3_support 72 = .ok (.iload_n 2, 1) := dk_28 (dk_at dksX3_support_3 0 rfl rfl)
theorem dX3_support_73 : decode cX3_support 73 = .ok (.iconst 1, 1) := dk_4 (dk_at dksX3_support_3 1 rfl rfl)
theorem dX3_support_74 : decode cX3_support 74 = .ok (.isub, 1) := dk_100 (dk_at dksX3_support_3 2 rfl rfl)
theorem dX3_support_75 : decode cX3_support 75 = .ok (.iaload, 1) := dk_46 (dk_at dksX3_support_3 3 rfl rfl)
theorem dX3_support_76 : decode cX3_support 76 = .ok (.aaload, 1) := dk_50 (dk_at dksX3_support_3 4 rfl rfl)
theorem dX3_support_77 : decode cX3_support 77 = .ok (.aload_n 1, 1) := dk_43 (dk_at dksX3_support_3 5 rfl rfl)
theorem dX3_support_78 : decode cX3_support 78 = .ok (.iload_n 2, 1) := dk_28 (dk_at dksX3_support_3 6 rfl rfl)
theorem dX3_support_79 : decode cX3_support 79 = .ok (.iaload, 1) := dk_46 (dk_at dksX3_support_3 7 rfl rfl)
theorem dX3_support_80 : decode cX3_support 80 = .ok (.iaload, 1) := dk_46 (dk_at dksX3_support_3 8 rfl rfl)
theorem dX3_support_81 : decode cX3_support 81 = .ok (.imul, 1) := dk_104 (dk_at dksX3_support_3 9 rfl rfl)
theorem dX3_support_82 : decode cX3_support 82 = .ok (.iadd, 1) := dk_96 (dk_at dksX3_support_3 10 rfl rfl)
theorem dX3_support_83 : decode cX3_support 83 = .ok (.istore 4, 2) := dk_54 4 (dk_at dksX3_support_3 11 rfl rfl)
theorem dX3_support_85 : decode cX3_support 85 = .ok (.iinc 5 1, 3) := dk_132 5 1 (dk_at dksX3_support_3 13 rfl rfl)
theorem dX3_support_88 : decode cX3_support 88 = .ok (.goto (-52), 3) := dk_167 255 204 (dk_at dksX3_support_3 16 rfl rfl)
theorem dX3_support_91 : decode cX3_support 91 = .ok (.iload 4, 2) := dk_21 4 (dk_at dksX3_support_3 19 rfl rfl)
theorem dX3_support_93 : decode cX3_support 93 = .ok (.bipush 100, 2) := dk_16 100 (dk_at dksX3_support_3 21 rfl rfl)
theorem dX3_support_95 : decode cX3_support 95 = .ok (.idiv, 1) := dk_108 (dk_at dksX3_support_3 23 rfl rfl)
theorem dX3_support_96 : decode cX3_support 96 = .ok (.ireturn, 1) := dk_172 (dk_at dksX3_support_4 0 rfl rfl)
abbrev cX3_reads : ByteArray := prog_6_method_8_code
def yX3_reads : MethodName := ⟨RX3, "reads", "([I)V"⟩
def dkwX3_reads_5 : List UInt8 := [132, 2, 1, 167, 255, 138, 42, 89, 180, 0, 31, 4, 96, 181, 0, 31, 177]
abbrev dktX3_reads_5 : List UInt8 := dkwX3_reads_5 ++ []
def dkwX3_reads_4 : List UInt8 := [29, 50, 21, 4, 46, 158, 0, 12, 42, 5, 3, 29, 21, 4, 182, 0, 85, 132, 4, 1, 167, 255, 215]
abbrev dktX3_reads_4 : List UInt8 := dkwX3_reads_4 ++ dktX3_reads_5
def dkwX3_reads_3 : List UInt8 := [3, 54, 4, 21, 4, 16, 24, 162, 0, 40, 21, 4, 43, 28, 46, 159, 0, 26, 42, 180, 0, 11, 3, 50]
abbrev dktX3_reads_3 : List UInt8 := dkwX3_reads_3 ++ dktX3_reads_4
def dkwX3_reads_2 : List UInt8 := [46, 29, 182, 0, 85, 28, 4, 164, 0, 17, 42, 3, 5, 43, 28, 5, 100, 46, 43, 28, 46, 182, 0, 85]
abbrev dktX3_reads_2 : List UInt8 := dkwX3_reads_2 ++ dktX3_reads_3
def dkwX3_reads_1 : List UInt8 := [167, 0, 95, 43, 28, 4, 100, 46, 62, 42, 3, 3, 29, 43, 28, 46, 182, 0, 85, 42, 3, 4, 43, 28]
abbrev dktX3_reads_1 : List UInt8 := dkwX3_reads_1 ++ dktX3_reads_2
def dkwX3_reads_0 : List UInt8 := [3, 61, 28, 43, 190, 162, 0, 118, 42, 3, 6, 43, 28, 46, 28, 182, 0, 85, 28, 154, 0, 6]
abbrev dktX3_reads_0 : List UInt8 := dkwX3_reads_0 ++ dktX3_reads_1
theorem dksX3_reads_0 : cX3_reads.data.toList.drop 0 = dktX3_reads_0 := by decide +kernel
theorem dksX3_reads_1 : cX3_reads.data.toList.drop 22 = dktX3_reads_1 := dk_seg dksX3_reads_0 22 rfl rfl
theorem dksX3_reads_2 : cX3_reads.data.toList.drop 46 = dktX3_reads_2 := dk_seg dksX3_reads_1 24 rfl rfl
theorem dksX3_reads_3 : cX3_reads.data.toList.drop 70 = dktX3_reads_3 := dk_seg dksX3_reads_2 24 rfl rfl
theorem dksX3_reads_4 : cX3_reads.data.toList.drop 94 = dktX3_reads_4 := dk_seg dksX3_reads_3 24 rfl rfl
theorem dksX3_reads_5 : cX3_reads.data.toList.drop 117 = dktX3_reads_5 := dk_seg dksX3_reads_4 23 rfl rfl
theorem dX3_reads_0 : decode cX3_reads 0 = .ok (.iconst 0, 1) := dk_3 (dk_at dksX3_reads_0 0 rfl rfl)
theorem dX3_reads_1 : decode cX3_reads 1 = .ok (.istore_n 2, 1) := dk_61 (dk_at dksX3_reads_0 1 rfl rfl)
theorem dX3_reads_2 : decode cX3_reads 2 = .ok (.iload_n 2, 1) := dk_28 (dk_at dksX3_reads_0 2 rfl rfl)
theorem dX3_reads_3 : decode cX3_reads 3 = .ok (.aload_n 1, 1) := dk_43 (dk_at dksX3_reads_0 3 rfl rfl)
theorem dX3_reads_4 : decode cX3_reads 4 = .ok (.arraylength, 1) := dk_190 (dk_at dksX3_reads_0 4 rfl rfl)
theorem dX3_reads_5 : decode cX3_reads 5 = .ok (.if_icmp .ge 118, 3) := dk_162 0 118 (dk_at dksX3_reads_0 5 rfl rfl)
theorem dX3_reads_8 : decode cX3_reads 8 = .ok (.aload_n 0, 1) := dk_42 (dk_at dksX3_reads_0 8 rfl rfl)
theorem dX3_reads_9 : decode cX3_reads 9 = .ok (.iconst 0, 1) := dk_3 (dk_at dksX3_reads_0 9 rfl rfl)
theorem dX3_reads_10 : decode cX3_reads 10 = .ok (.iconst 3, 1) := dk_6 (dk_at dksX3_reads_0 10 rfl rfl)
theorem dX3_reads_11 : decode cX3_reads 11 = .ok (.aload_n 1, 1) := dk_43 (dk_at dksX3_reads_0 11 rfl rfl)
theorem dX3_reads_12 : decode cX3_reads 12 = .ok (.iload_n 2, 1) := dk_28 (dk_at dksX3_reads_0 12 rfl rfl)
theorem dX3_reads_13 : decode cX3_reads 13 = .ok (.iaload, 1) := dk_46 (dk_at dksX3_reads_0 13 rfl rfl)
theorem dX3_reads_14 : decode cX3_reads 14 = .ok (.iload_n 2, 1) := dk_28 (dk_at dksX3_reads_0 14 rfl rfl)
theorem dX3_reads_15 : decode cX3_reads 15 = .ok (.invokevirtual 85, 3) := dk_182 0 85 (dk_at dksX3_reads_0 15 rfl rfl)
theorem dX3_reads_18 : decode cX3_reads 18 = .ok (.iload_n 2, 1) := dk_28 (dk_at dksX3_reads_0 18 rfl rfl)
theorem dX3_reads_19 : decode cX3_reads 19 = .ok (.ifCond .ne 6, 3) := dk_154 0 6 (dk_at dksX3_reads_0 19 rfl rfl)
theorem dX3_reads_22 : decode cX3_reads 22 = .ok (.goto 95, 3) := dk_167 0 95 (dk_at dksX3_reads_1 0 rfl rfl)
theorem dX3_reads_25 : decode cX3_reads 25 = .ok (.aload_n 1, 1) := dk_43 (dk_at dksX3_reads_1 3 rfl rfl)
theorem dX3_reads_26 : decode cX3_reads 26 = .ok (.iload_n 2, 1) := dk_28 (dk_at dksX3_reads_1 4 rfl rfl)
theorem dX3_reads_27 : decode cX3_reads 27 = .ok (.iconst 1, 1) := dk_4 (dk_at dksX3_reads_1 5 rfl rfl)
theorem dX3_reads_28 : decode cX3_reads 28 = .ok (.isub, 1) := dk_100 (dk_at dksX3_reads_1 6 rfl rfl)
theorem dX3_reads_29 : decode cX3_reads 29 = .ok (.iaload, 1) := dk_46 (dk_at dksX3_reads_1 7 rfl rfl)
theorem dX3_reads_30 : decode cX3_reads 30 = .ok (.istore_n 3, 1) := dk_62 (dk_at dksX3_reads_1 8 rfl rfl)
theorem dX3_reads_31 : decode cX3_reads 31 = .ok (.aload_n 0, 1) := dk_42 (dk_at dksX3_reads_1 9 rfl rfl)
theorem dX3_reads_32 : decode cX3_reads 32 = .ok (.iconst 0, 1) := dk_3 (dk_at dksX3_reads_1 10 rfl rfl)
theorem dX3_reads_33 : decode cX3_reads 33 = .ok (.iconst 0, 1) := dk_3 (dk_at dksX3_reads_1 11 rfl rfl)
theorem dX3_reads_34 : decode cX3_reads 34 = .ok (.iload_n 3, 1) := dk_29 (dk_at dksX3_reads_1 12 rfl rfl)
theorem dX3_reads_35 : decode cX3_reads 35 = .ok (.aload_n 1, 1) := dk_43 (dk_at dksX3_reads_1 13 rfl rfl)
theorem dX3_reads_36 : decode cX3_reads 36 = .ok (.iload_n 2, 1) := dk_28 (dk_at dksX3_reads_1 14 rfl rfl)
theorem dX3_reads_37 : decode cX3_reads 37 = .ok (.iaload, 1) := dk_46 (dk_at dksX3_reads_1 15 rfl rfl)
theorem dX3_reads_38 : decode cX3_reads 38 = .ok (.invokevirtual 85, 3) := dk_182 0 85 (dk_at dksX3_reads_1 16 rfl rfl)
theorem dX3_reads_41 : decode cX3_reads 41 = .ok (.aload_n 0, 1) := dk_42 (dk_at dksX3_reads_1 19 rfl rfl)
theorem dX3_reads_42 : decode cX3_reads 42 = .ok (.iconst 0, 1) := dk_3 (dk_at dksX3_reads_1 20 rfl rfl)
theorem dX3_reads_43 : decode cX3_reads 43 = .ok (.iconst 1, 1) := dk_4 (dk_at dksX3_reads_1 21 rfl rfl)
theorem dX3_reads_44 : decode cX3_reads 44 = .ok (.aload_n 1, 1) := dk_43 (dk_at dksX3_reads_1 22 rfl rfl)
theorem dX3_reads_45 : decode cX3_reads 45 = .ok (.iload_n 2, 1) := dk_28 (dk_at dksX3_reads_1 23 rfl rfl)
theorem dX3_reads_46 : decode cX3_reads 46 = .ok (.iaload, 1) := dk_46 (dk_at dksX3_reads_2 0 rfl rfl)
theorem dX3_reads_47 : decode cX3_reads 47 = .ok (.iload_n 3, 1) := dk_29 (dk_at dksX3_reads_2 1 rfl rfl)
theorem dX3_reads_48 : decode cX3_reads 48 = .ok (.invokevirtual 85, 3) := dk_182 0 85 (dk_at dksX3_reads_2 2 rfl rfl)
theorem dX3_reads_51 : decode cX3_reads 51 = .ok (.iload_n 2, 1) := dk_28 (dk_at dksX3_reads_2 5 rfl rfl)
theorem dX3_reads_52 : decode cX3_reads 52 = .ok (.iconst 1, 1) := dk_4 (dk_at dksX3_reads_2 6 rfl rfl)
theorem dX3_reads_53 : decode cX3_reads 53 = .ok (.if_icmp .le 17, 3) := dk_164 0 17 (dk_at dksX3_reads_2 7 rfl rfl)
theorem dX3_reads_56 : decode cX3_reads 56 = .ok (.aload_n 0, 1) := dk_42 (dk_at dksX3_reads_2 10 rfl rfl)
theorem dX3_reads_57 : decode cX3_reads 57 = .ok (.iconst 0, 1) := dk_3 (dk_at dksX3_reads_2 11 rfl rfl)
theorem dX3_reads_58 : decode cX3_reads 58 = .ok (.iconst 2, 1) := dk_5 (dk_at dksX3_reads_2 12 rfl rfl)
theorem dX3_reads_59 : decode cX3_reads 59 = .ok (.aload_n 1, 1) := dk_43 (dk_at dksX3_reads_2 13 rfl rfl)
theorem dX3_reads_60 : decode cX3_reads 60 = .ok (.iload_n 2, 1) := dk_28 (dk_at dksX3_reads_2 14 rfl rfl)
theorem dX3_reads_61 : decode cX3_reads 61 = .ok (.iconst 2, 1) := dk_5 (dk_at dksX3_reads_2 15 rfl rfl)
theorem dX3_reads_62 : decode cX3_reads 62 = .ok (.isub, 1) := dk_100 (dk_at dksX3_reads_2 16 rfl rfl)
theorem dX3_reads_63 : decode cX3_reads 63 = .ok (.iaload, 1) := dk_46 (dk_at dksX3_reads_2 17 rfl rfl)
theorem dX3_reads_64 : decode cX3_reads 64 = .ok (.aload_n 1, 1) := dk_43 (dk_at dksX3_reads_2 18 rfl rfl)
theorem dX3_reads_65 : decode cX3_reads 65 = .ok (.iload_n 2, 1) := dk_28 (dk_at dksX3_reads_2 19 rfl rfl)
theorem dX3_reads_66 : decode cX3_reads 66 = .ok (.iaload, 1) := dk_46 (dk_at dksX3_reads_2 20 rfl rfl)
theorem dX3_reads_67 : decode cX3_reads 67 = .ok (.invokevirtual 85, 3) := dk_182 0 85 (dk_at dksX3_reads_2 21 rfl rfl)
theorem dX3_reads_70 : decode cX3_reads 70 = .ok (.iconst 0, 1) := dk_3 (dk_at dksX3_reads_3 0 rfl rfl)
theorem dX3_reads_71 : decode cX3_reads 71 = .ok (.istore 4, 2) := dk_54 4 (dk_at dksX3_reads_3 1 rfl rfl)
theorem dX3_reads_73 : decode cX3_reads 73 = .ok (.iload 4, 2) := dk_21 4 (dk_at dksX3_reads_3 3 rfl rfl)
theorem dX3_reads_75 : decode cX3_reads 75 = .ok (.bipush 24, 2) := dk_16 24 (dk_at dksX3_reads_3 5 rfl rfl)
theorem dX3_reads_77 : decode cX3_reads 77 = .ok (.if_icmp .ge 40, 3) := dk_162 0 40 (dk_at dksX3_reads_3 7 rfl rfl)
theorem dX3_reads_80 : decode cX3_reads 80 = .ok (.iload 4, 2) := dk_21 4 (dk_at dksX3_reads_3 10 rfl rfl)
theorem dX3_reads_82 : decode cX3_reads 82 = .ok (.aload_n 1, 1) := dk_43 (dk_at dksX3_reads_3 12 rfl rfl)
theorem dX3_reads_83 : decode cX3_reads 83 = .ok (.iload_n 2, 1) := dk_28 (dk_at dksX3_reads_3 13 rfl rfl)
theorem dX3_reads_84 : decode cX3_reads 84 = .ok (.iaload, 1) := dk_46 (dk_at dksX3_reads_3 14 rfl rfl)
theorem dX3_reads_85 : decode cX3_reads 85 = .ok (.if_icmp .eq 26, 3) := dk_159 0 26 (dk_at dksX3_reads_3 15 rfl rfl)
theorem dX3_reads_88 : decode cX3_reads 88 = .ok (.aload_n 0, 1) := dk_42 (dk_at dksX3_reads_3 18 rfl rfl)
theorem dX3_reads_89 : decode cX3_reads 89 = .ok (.getfield 11, 3) := dk_180 0 11 (dk_at dksX3_reads_3 19 rfl rfl)
theorem dX3_reads_92 : decode cX3_reads 92 = .ok (.iconst 0, 1) := dk_3 (dk_at dksX3_reads_3 22 rfl rfl)
theorem dX3_reads_93 : decode cX3_reads 93 = .ok (.aaload, 1) := dk_50 (dk_at dksX3_reads_3 23 rfl rfl)
theorem dX3_reads_94 : decode cX3_reads 94 = .ok (.iload_n 3, 1) := dk_29 (dk_at dksX3_reads_4 0 rfl rfl)
theorem dX3_reads_95 : decode cX3_reads 95 = .ok (.aaload, 1) := dk_50 (dk_at dksX3_reads_4 1 rfl rfl)
theorem dX3_reads_96 : decode cX3_reads 96 = .ok (.iload 4, 2) := dk_21 4 (dk_at dksX3_reads_4 2 rfl rfl)
theorem dX3_reads_98 : decode cX3_reads 98 = .ok (.iaload, 1) := dk_46 (dk_at dksX3_reads_4 4 rfl rfl)
theorem dX3_reads_99 : decode cX3_reads 99 = .ok (.ifCond .le 12, 3) := dk_158 0 12 (dk_at dksX3_reads_4 5 rfl rfl)
theorem dX3_reads_102 : decode cX3_reads 102 = .ok (.aload_n 0, 1) := dk_42 (dk_at dksX3_reads_4 8 rfl rfl)
theorem dX3_reads_103 : decode cX3_reads 103 = .ok (.iconst 2, 1) := dk_5 (dk_at dksX3_reads_4 9 rfl rfl)
theorem dX3_reads_104 : decode cX3_reads 104 = .ok (.iconst 0, 1) := dk_3 (dk_at dksX3_reads_4 10 rfl rfl)
theorem dX3_reads_105 : decode cX3_reads 105 = .ok (.iload_n 3, 1) := dk_29 (dk_at dksX3_reads_4 11 rfl rfl)
theorem dX3_reads_106 : decode cX3_reads 106 = .ok (.iload 4, 2) := dk_21 4 (dk_at dksX3_reads_4 12 rfl rfl)
theorem dX3_reads_108 : decode cX3_reads 108 = .ok (.invokevirtual 85, 3) := dk_182 0 85 (dk_at dksX3_reads_4 14 rfl rfl)
theorem dX3_reads_111 : decode cX3_reads 111 = .ok (.iinc 4 1, 3) := dk_132 4 1 (dk_at dksX3_reads_4 17 rfl rfl)
theorem dX3_reads_114 : decode cX3_reads 114 = .ok (.goto (-41), 3) := dk_167 255 215 (dk_at dksX3_reads_4 20 rfl rfl)
theorem dX3_reads_117 : decode cX3_reads 117 = .ok (.iinc 2 1, 3) := dk_132 2 1 (dk_at dksX3_reads_5 0 rfl rfl)
theorem dX3_reads_120 : decode cX3_reads 120 = .ok (.goto (-118), 3) := dk_167 255 138 (dk_at dksX3_reads_5 3 rfl rfl)
theorem dX3_reads_123 : decode cX3_reads 123 = .ok (.aload_n 0, 1) := dk_42 (dk_at dksX3_reads_5 6 rfl rfl)
theorem dX3_reads_124 : decode cX3_reads 124 = .ok (.dup, 1) := dk_89 (dk_at dksX3_reads_5 7 rfl rfl)
theorem dX3_reads_125 : decode cX3_reads 125 = .ok (.getfield 31, 3) := dk_180 0 31 (dk_at dksX3_reads_5 8 rfl rfl)
theorem dX3_reads_128 : decode cX3_reads 128 = .ok (.iconst 1, 1) := dk_4 (dk_at dksX3_reads_5 11 rfl rfl)
theorem dX3_reads_129 : decode cX3_reads 129 = .ok (.iadd, 1) := dk_96 (dk_at dksX3_reads_5 12 rfl rfl)
theorem dX3_reads_130 : decode cX3_reads 130 = .ok (.putfield 31, 3) := dk_181 0 31 (dk_at dksX3_reads_5 13 rfl rfl)
theorem dX3_reads_133 : decode cX3_reads 133 = .ok (.return_, 1) := dk_177 (dk_at dksX3_reads_5 16 rfl rfl)
abbrev cX3_moves : ByteArray := prog_6_method_7_code
def yX3_moves : MethodName := ⟨RX3, "moves", "(IIII)V"⟩
def dkwX3_moves_3 : List UInt8 := [136, 79, 177]
abbrev dktX3_moves_3 : List UInt8 := dkwX3_moves_3 ++ []
def dkwX3_moves_2 : List UInt8 := [154, 0, 12, 21, 5, 133, 22, 6, 97, 167, 0, 9, 21, 5, 133, 22, 6, 101, 184, 0, 76, 184, 0, 82]
abbrev dktX3_moves_2 : List UInt8 := dkwX3_moves_2 ++ dktX3_moves_3
def dkwX3_moves_1 : List UInt8 := [184, 0, 66, 182, 0, 70, 55, 6, 42, 180, 0, 11, 28, 50, 29, 50, 21, 4, 9, 20, 0, 74, 27]
abbrev dktX3_moves_1 : List UInt8 := dkwX3_moves_1 ++ dktX3_moves_2
def dkwX3_moves_0 : List UInt8 := [42, 180, 0, 11, 28, 50, 29, 50, 21, 4, 46, 54, 5, 42, 27, 28, 21, 5, 28, 29, 21, 4]
abbrev dktX3_moves_0 : List UInt8 := dkwX3_moves_0 ++ dktX3_moves_1
theorem dksX3_moves_0 : cX3_moves.data.toList.drop 0 = dktX3_moves_0 := by decide +kernel
theorem dksX3_moves_1 : cX3_moves.data.toList.drop 22 = dktX3_moves_1 := dk_seg dksX3_moves_0 22 rfl rfl
theorem dksX3_moves_2 : cX3_moves.data.toList.drop 45 = dktX3_moves_2 := dk_seg dksX3_moves_1 23 rfl rfl
theorem dksX3_moves_3 : cX3_moves.data.toList.drop 69 = dktX3_moves_3 := dk_seg dksX3_moves_2 24 rfl rfl
theorem dX3_moves_0 : decode cX3_moves 0 = .ok (.aload_n 0, 1) := dk_42 (dk_at dksX3_moves_0 0 rfl rfl)
theorem dX3_moves_1 : decode cX3_moves 1 = .ok (.getfield 11, 3) := dk_180 0 11 (dk_at dksX3_moves_0 1 rfl rfl)
theorem dX3_moves_4 : decode cX3_moves 4 = .ok (.iload_n 2, 1) := dk_28 (dk_at dksX3_moves_0 4 rfl rfl)
theorem dX3_moves_5 : decode cX3_moves 5 = .ok (.aaload, 1) := dk_50 (dk_at dksX3_moves_0 5 rfl rfl)
theorem dX3_moves_6 : decode cX3_moves 6 = .ok (.iload_n 3, 1) := dk_29 (dk_at dksX3_moves_0 6 rfl rfl)
theorem dX3_moves_7 : decode cX3_moves 7 = .ok (.aaload, 1) := dk_50 (dk_at dksX3_moves_0 7 rfl rfl)
theorem dX3_moves_8 : decode cX3_moves 8 = .ok (.iload 4, 2) := dk_21 4 (dk_at dksX3_moves_0 8 rfl rfl)
theorem dX3_moves_10 : decode cX3_moves 10 = .ok (.iaload, 1) := dk_46 (dk_at dksX3_moves_0 10 rfl rfl)
theorem dX3_moves_11 : decode cX3_moves 11 = .ok (.istore 5, 2) := dk_54 5 (dk_at dksX3_moves_0 11 rfl rfl)
theorem dX3_moves_13 : decode cX3_moves 13 = .ok (.aload_n 0, 1) := dk_42 (dk_at dksX3_moves_0 13 rfl rfl)
theorem dX3_moves_14 : decode cX3_moves 14 = .ok (.iload_n 1, 1) := dk_27 (dk_at dksX3_moves_0 14 rfl rfl)
theorem dX3_moves_15 : decode cX3_moves 15 = .ok (.iload_n 2, 1) := dk_28 (dk_at dksX3_moves_0 15 rfl rfl)
theorem dX3_moves_16 : decode cX3_moves 16 = .ok (.iload 5, 2) := dk_21 5 (dk_at dksX3_moves_0 16 rfl rfl)
theorem dX3_moves_18 : decode cX3_moves 18 = .ok (.iload_n 2, 1) := dk_28 (dk_at dksX3_moves_0 18 rfl rfl)
theorem dX3_moves_19 : decode cX3_moves 19 = .ok (.iload_n 3, 1) := dk_29 (dk_at dksX3_moves_0 19 rfl rfl)
theorem dX3_moves_20 : decode cX3_moves 20 = .ok (.iload 4, 2) := dk_21 4 (dk_at dksX3_moves_0 20 rfl rfl)
theorem dX3_moves_22 : decode cX3_moves 22 = .ok (.invokestatic 66, 3) := dk_184 0 66 (dk_at dksX3_moves_1 0 rfl rfl)
theorem dX3_moves_25 : decode cX3_moves 25 = .ok (.invokevirtual 70, 3) := dk_182 0 70 (dk_at dksX3_moves_1 3 rfl rfl)
theorem dX3_moves_28 : decode cX3_moves 28 = .ok (.lstore 6, 2) := dk_55 6 (dk_at dksX3_moves_1 6 rfl rfl)
theorem dX3_moves_30 : decode cX3_moves 30 = .ok (.aload_n 0, 1) := dk_42 (dk_at dksX3_moves_1 8 rfl rfl)
theorem dX3_moves_31 : decode cX3_moves 31 = .ok (.getfield 11, 3) := dk_180 0 11 (dk_at dksX3_moves_1 9 rfl rfl)
theorem dX3_moves_34 : decode cX3_moves 34 = .ok (.iload_n 2, 1) := dk_28 (dk_at dksX3_moves_1 12 rfl rfl)
theorem dX3_moves_35 : decode cX3_moves 35 = .ok (.aaload, 1) := dk_50 (dk_at dksX3_moves_1 13 rfl rfl)
theorem dX3_moves_36 : decode cX3_moves 36 = .ok (.iload_n 3, 1) := dk_29 (dk_at dksX3_moves_1 14 rfl rfl)
theorem dX3_moves_37 : decode cX3_moves 37 = .ok (.aaload, 1) := dk_50 (dk_at dksX3_moves_1 15 rfl rfl)
theorem dX3_moves_38 : decode cX3_moves 38 = .ok (.iload 4, 2) := dk_21 4 (dk_at dksX3_moves_1 16 rfl rfl)
theorem dX3_moves_40 : decode cX3_moves 40 = .ok (.lconst 0, 1) := dk_9 (dk_at dksX3_moves_1 18 rfl rfl)
theorem dX3_moves_41 : decode cX3_moves 41 = .ok (.ldc2_w 74, 3) := dk_20 0 74 (dk_at dksX3_moves_1 19 rfl rfl)
theorem dX3_moves_44 : decode cX3_moves 44 = .ok (.iload_n 1, 1) := dk_27 (dk_at dksX3_moves_1 22 rfl rfl)
theorem dX3_moves_45 : decode cX3_moves 45 = .ok (.ifCond .ne 12, 3) := dk_154 0 12 (dk_at dksX3_moves_2 0 rfl rfl)
theorem dX3_moves_48 : decode cX3_moves 48 = .ok (.iload 5, 2) := dk_21 5 (dk_at dksX3_moves_2 3 rfl rfl)
theorem dX3_moves_50 : decode cX3_moves 50 = .ok (.i2l, 1) := dk_133 (dk_at dksX3_moves_2 5 rfl rfl)
theorem dX3_moves_51 : decode cX3_moves 51 = .ok (.lload 6, 2) := dk_22 6 (dk_at dksX3_moves_2 6 rfl rfl)
theorem dX3_moves_53 : decode cX3_moves 53 = .ok (.ladd, 1) := dk_97 (dk_at dksX3_moves_2 8 rfl rfl)
theorem dX3_moves_54 : decode cX3_moves 54 = .ok (.goto 9, 3) := dk_167 0 9 (dk_at dksX3_moves_2 9 rfl rfl)
theorem dX3_moves_57 : decode cX3_moves 57 = .ok (.iload 5, 2) := dk_21 5 (dk_at dksX3_moves_2 12 rfl rfl)
theorem dX3_moves_59 : decode cX3_moves 59 = .ok (.i2l, 1) := dk_133 (dk_at dksX3_moves_2 14 rfl rfl)
theorem dX3_moves_60 : decode cX3_moves 60 = .ok (.lload 6, 2) := dk_22 6 (dk_at dksX3_moves_2 15 rfl rfl)
theorem dX3_moves_62 : decode cX3_moves 62 = .ok (.lsub, 1) := dk_101 (dk_at dksX3_moves_2 17 rfl rfl)
theorem dX3_moves_63 : decode cX3_moves 63 = .ok (.invokestatic 76, 3) := dk_184 0 76 (dk_at dksX3_moves_2 18 rfl rfl)
theorem dX3_moves_66 : decode cX3_moves 66 = .ok (.invokestatic 82, 3) := dk_184 0 82 (dk_at dksX3_moves_2 21 rfl rfl)
theorem dX3_moves_69 : decode cX3_moves 69 = .ok (.l2i, 1) := dk_136 (dk_at dksX3_moves_3 0 rfl rfl)
theorem dX3_moves_70 : decode cX3_moves 70 = .ok (.iastore, 1) := dk_79 (dk_at dksX3_moves_3 1 rfl rfl)
theorem dX3_moves_71 : decode cX3_moves 71 = .ok (.return_, 1) := dk_177 (dk_at dksX3_moves_3 2 rfl rfl)
abbrev cX3_leadsTo : ByteArray := prog_6_method_6_code
def yX3_leadsTo : MethodName := ⟨RX3, "leadsTo", "(III)I"⟩
def dkwX3_leadsTo_0 : List UInt8 := [26, 6, 160, 0, 7, 27, 167, 0, 4, 28, 172]
abbrev dktX3_leadsTo_0 : List UInt8 := dkwX3_leadsTo_0 ++ []
theorem dksX3_leadsTo_0 : cX3_leadsTo.data.toList.drop 0 = dktX3_leadsTo_0 := by decide +kernel
theorem dX3_leadsTo_0 : decode cX3_leadsTo 0 = .ok (.iload_n 0, 1) := dk_26 (dk_at dksX3_leadsTo_0 0 rfl rfl)
theorem dX3_leadsTo_1 : decode cX3_leadsTo 1 = .ok (.iconst 3, 1) := dk_6 (dk_at dksX3_leadsTo_0 1 rfl rfl)
theorem dX3_leadsTo_2 : decode cX3_leadsTo 2 = .ok (.if_icmp .ne 7, 3) := dk_160 0 7 (dk_at dksX3_leadsTo_0 2 rfl rfl)
theorem dX3_leadsTo_5 : decode cX3_leadsTo 5 = .ok (.iload_n 1, 1) := dk_27 (dk_at dksX3_leadsTo_0 5 rfl rfl)
theorem dX3_leadsTo_6 : decode cX3_leadsTo 6 = .ok (.goto 4, 3) := dk_167 0 4 (dk_at dksX3_leadsTo_0 6 rfl rfl)
theorem dX3_leadsTo_9 : decode cX3_leadsTo 9 = .ok (.iload_n 2, 1) := dk_28 (dk_at dksX3_leadsTo_0 9 rfl rfl)
theorem dX3_leadsTo_10 : decode cX3_leadsTo 10 = .ok (.ireturn, 1) := dk_172 (dk_at dksX3_leadsTo_0 10 rfl rfl)
abbrev cX3_law : ByteArray := prog_6_method_5_code
def yX3_law : MethodName := ⟨RX3, "law", "(IIII)J"⟩
def dkwX3_law_3 : List UInt8 := [25, 5, 42, 180, 0, 19, 182, 0, 60, 173]
abbrev dktX3_law_3 : List UInt8 := dkwX3_law_3 ++ []
def dkwX3_law_2 : List UInt8 := [180, 0, 19, 42, 180, 0, 31, 181, 0, 58, 42, 180, 0, 19, 42, 180, 0, 27, 16, 24, 112, 181, 0, 59]
abbrev dktX3_law_2 : List UInt8 := dkwX3_law_2 ++ dktX3_law_3
def dkwX3_law_1 : List UInt8 := [29, 181, 0, 49, 42, 180, 0, 19, 42, 180, 0, 23, 180, 0, 52, 21, 4, 46, 181, 0, 56, 42]
abbrev dktX3_law_1 : List UInt8 := dkwX3_law_1 ++ dktX3_law_2
def dkwX3_law_0 : List UInt8 := [42, 180, 0, 23, 180, 0, 43, 27, 50, 28, 50, 58, 5, 25, 5, 199, 0, 5, 9, 173, 42, 180, 0, 19]
abbrev dktX3_law_0 : List UInt8 := dkwX3_law_0 ++ dktX3_law_1
theorem dksX3_law_0 : cX3_law.data.toList.drop 0 = dktX3_law_0 := by decide +kernel
theorem dksX3_law_1 : cX3_law.data.toList.drop 24 = dktX3_law_1 := dk_seg dksX3_law_0 24 rfl rfl
theorem dksX3_law_2 : cX3_law.data.toList.drop 46 = dktX3_law_2 := dk_seg dksX3_law_1 22 rfl rfl
theorem dksX3_law_3 : cX3_law.data.toList.drop 70 = dktX3_law_3 := dk_seg dksX3_law_2 24 rfl rfl
theorem dX3_law_0 : decode cX3_law 0 = .ok (.aload_n 0, 1) := dk_42 (dk_at dksX3_law_0 0 rfl rfl)
theorem dX3_law_1 : decode cX3_law 1 = .ok (.getfield 23, 3) := dk_180 0 23 (dk_at dksX3_law_0 1 rfl rfl)
theorem dX3_law_4 : decode cX3_law 4 = .ok (.getfield 43, 3) := dk_180 0 43 (dk_at dksX3_law_0 4 rfl rfl)
theorem dX3_law_7 : decode cX3_law 7 = .ok (.iload_n 1, 1) := dk_27 (dk_at dksX3_law_0 7 rfl rfl)
theorem dX3_law_8 : decode cX3_law 8 = .ok (.aaload, 1) := dk_50 (dk_at dksX3_law_0 8 rfl rfl)
theorem dX3_law_9 : decode cX3_law 9 = .ok (.iload_n 2, 1) := dk_28 (dk_at dksX3_law_0 9 rfl rfl)
theorem dX3_law_10 : decode cX3_law 10 = .ok (.aaload, 1) := dk_50 (dk_at dksX3_law_0 10 rfl rfl)
theorem dX3_law_11 : decode cX3_law 11 = .ok (.astore 5, 2) := dk_58 5 (dk_at dksX3_law_0 11 rfl rfl)
theorem dX3_law_13 : decode cX3_law 13 = .ok (.aload 5, 2) := dk_25 5 (dk_at dksX3_law_0 13 rfl rfl)
theorem dX3_law_15 : decode cX3_law 15 = .ok (.ifnonnull 5, 3) := dk_199 0 5 (dk_at dksX3_law_0 15 rfl rfl)
theorem dX3_law_18 : decode cX3_law 18 = .ok (.lconst 0, 1) := dk_9 (dk_at dksX3_law_0 18 rfl rfl)
theorem dX3_law_19 : decode cX3_law 19 = .ok (.lreturn, 1) := dk_173 (dk_at dksX3_law_0 19 rfl rfl)
theorem dX3_law_20 : decode cX3_law 20 = .ok (.aload_n 0, 1) := dk_42 (dk_at dksX3_law_0 20 rfl rfl)
theorem dX3_law_21 : decode cX3_law 21 = .ok (.getfield 19, 3) := dk_180 0 19 (dk_at dksX3_law_0 21 rfl rfl)
theorem dX3_law_24 : decode cX3_law 24 = .ok (.iload_n 3, 1) := dk_29 (dk_at dksX3_law_1 0 rfl rfl)
theorem dX3_law_25 : decode cX3_law 25 = .ok (.putfield 49, 3) := dk_181 0 49 (dk_at dksX3_law_1 1 rfl rfl)
theorem dX3_law_28 : decode cX3_law 28 = .ok (.aload_n 0, 1) := dk_42 (dk_at dksX3_law_1 4 rfl rfl)
theorem dX3_law_29 : decode cX3_law 29 = .ok (.getfield 19, 3) := dk_180 0 19 (dk_at dksX3_law_1 5 rfl rfl)
theorem dX3_law_32 : decode cX3_law 32 = .ok (.aload_n 0, 1) := dk_42 (dk_at dksX3_law_1 8 rfl rfl)
theorem dX3_law_33 : decode cX3_law 33 = .ok (.getfield 23, 3) := dk_180 0 23 (dk_at dksX3_law_1 9 rfl rfl)
theorem dX3_law_36 : decode cX3_law 36 = .ok (.getfield 52, 3) := dk_180 0 52 (dk_at dksX3_law_1 12 rfl rfl)
theorem dX3_law_39 : decode cX3_law 39 = .ok (.iload 4, 2) := dk_21 4 (dk_at dksX3_law_1 15 rfl rfl)
theorem dX3_law_41 : decode cX3_law 41 = .ok (.iaload, 1) := dk_46 (dk_at dksX3_law_1 17 rfl rfl)
theorem dX3_law_42 : decode cX3_law 42 = .ok (.putfield 56, 3) := dk_181 0 56 (dk_at dksX3_law_1 18 rfl rfl)
theorem dX3_law_45 : decode cX3_law 45 = .ok (.aload_n 0, 1) := dk_42 (dk_at dksX3_law_1 21 rfl rfl)
theorem dX3_law_46 : decode cX3_law 46 = .ok (.getfield 19, 3) := dk_180 0 19 (dk_at dksX3_law_2 0 rfl rfl)
theorem dX3_law_49 : decode cX3_law 49 = .ok (.aload_n 0, 1) := dk_42 (dk_at dksX3_law_2 3 rfl rfl)
theorem dX3_law_50 : decode cX3_law 50 = .ok (.getfield 31, 3) := dk_180 0 31 (dk_at dksX3_law_2 4 rfl rfl)
theorem dX3_law_53 : decode cX3_law 53 = .ok (.putfield 58, 3) := dk_181 0 58 (dk_at dksX3_law_2 7 rfl rfl)
theorem dX3_law_56 : decode cX3_law 56 = .ok (.aload_n 0, 1) := dk_42 (dk_at dksX3_law_2 10 rfl rfl)
theorem dX3_law_57 : decode cX3_law 57 = .ok (.getfield 19, 3) := dk_180 0 19 (dk_at dksX3_law_2 11 rfl rfl)
theorem dX3_law_60 : decode cX3_law 60 = .ok (.aload_n 0, 1) := dk_42 (dk_at dksX3_law_2 14 rfl rfl)
theorem dX3_law_61 : decode cX3_law 61 = .ok (.getfield 27, 3) := dk_180 0 27 (dk_at dksX3_law_2 15 rfl rfl)
theorem dX3_law_64 : decode cX3_law 64 = .ok (.bipush 24, 2) := dk_16 24 (dk_at dksX3_law_2 18 rfl rfl)
theorem dX3_law_66 : decode cX3_law 66 = .ok (.irem, 1) := dk_112 (dk_at dksX3_law_2 20 rfl rfl)
theorem dX3_law_67 : decode cX3_law 67 = .ok (.putfield 59, 3) := dk_181 0 59 (dk_at dksX3_law_2 21 rfl rfl)
theorem dX3_law_70 : decode cX3_law 70 = .ok (.aload 5, 2) := dk_25 5 (dk_at dksX3_law_3 0 rfl rfl)
theorem dX3_law_72 : decode cX3_law 72 = .ok (.aload_n 0, 1) := dk_42 (dk_at dksX3_law_3 2 rfl rfl)
theorem dX3_law_73 : decode cX3_law 73 = .ok (.getfield 19, 3) := dk_180 0 19 (dk_at dksX3_law_3 3 rfl rfl)
theorem dX3_law_76 : decode cX3_law 76 = .ok (.invokevirtual 60, 3) := dk_182 0 60 (dk_at dksX3_law_3 6 rfl rfl)
theorem dX3_law_79 : decode cX3_law 79 = .ok (.lreturn, 1) := dk_173 (dk_at dksX3_law_3 9 rfl rfl)
abbrev cX3_learns : ByteArray := prog_6_method_12_code
def yX3_learns : MethodName := ⟨RX3, "learns", "([II)I"⟩
def dkwX3_learns_2 : List UInt8 := [167, 255, 216, 2, 172]
abbrev dktX3_learns_2 : List UInt8 := dkwX3_learns_2 ++ []
def dkwX3_learns_1 : List UInt8 := [154, 0, 9, 29, 4, 96, 167, 0, 4, 3, 62, 29, 5, 160, 0, 6, 21, 4, 172, 132, 4, 1]
abbrev dktX3_learns_1 : List UInt8 := dkwX3_learns_1 ++ dktX3_learns_2
def dkwX3_learns_0 : List UInt8 := [3, 62, 4, 54, 4, 21, 4, 16, 40, 163, 0, 39, 42, 43, 182, 0, 99, 42, 43, 28, 182, 0, 103]
abbrev dktX3_learns_0 : List UInt8 := dkwX3_learns_0 ++ dktX3_learns_1
theorem dksX3_learns_0 : cX3_learns.data.toList.drop 0 = dktX3_learns_0 := by decide +kernel
theorem dksX3_learns_1 : cX3_learns.data.toList.drop 23 = dktX3_learns_1 := dk_seg dksX3_learns_0 23 rfl rfl
theorem dksX3_learns_2 : cX3_learns.data.toList.drop 45 = dktX3_learns_2 := dk_seg dksX3_learns_1 22 rfl rfl
theorem dX3_learns_0 : decode cX3_learns 0 = .ok (.iconst 0, 1) := dk_3 (dk_at dksX3_learns_0 0 rfl rfl)
theorem dX3_learns_1 : decode cX3_learns 1 = .ok (.istore_n 3, 1) := dk_62 (dk_at dksX3_learns_0 1 rfl rfl)
theorem dX3_learns_2 : decode cX3_learns 2 = .ok (.iconst 1, 1) := dk_4 (dk_at dksX3_learns_0 2 rfl rfl)
theorem dX3_learns_3 : decode cX3_learns 3 = .ok (.istore 4, 2) := dk_54 4 (dk_at dksX3_learns_0 3 rfl rfl)
theorem dX3_learns_5 : decode cX3_learns 5 = .ok (.iload 4, 2) := dk_21 4 (dk_at dksX3_learns_0 5 rfl rfl)
theorem dX3_learns_7 : decode cX3_learns 7 = .ok (.bipush 40, 2) := dk_16 40 (dk_at dksX3_learns_0 7 rfl rfl)
theorem dX3_learns_9 : decode cX3_learns 9 = .ok (.if_icmp .gt 39, 3) := dk_163 0 39 (dk_at dksX3_learns_0 9 rfl rfl)
theorem dX3_learns_12 : decode cX3_learns 12 = .ok (.aload_n 0, 1) := dk_42 (dk_at dksX3_learns_0 12 rfl rfl)
theorem dX3_learns_13 : decode cX3_learns 13 = .ok (.aload_n 1, 1) := dk_43 (dk_at dksX3_learns_0 13 rfl rfl)
theorem dX3_learns_14 : decode cX3_learns 14 = .ok (.invokevirtual 99, 3) := dk_182 0 99 (dk_at dksX3_learns_0 14 rfl rfl)
theorem dX3_learns_17 : decode cX3_learns 17 = .ok (.aload_n 0, 1) := dk_42 (dk_at dksX3_learns_0 17 rfl rfl)
theorem dX3_learns_18 : decode cX3_learns 18 = .ok (.aload_n 1, 1) := dk_43 (dk_at dksX3_learns_0 18 rfl rfl)
theorem dX3_learns_19 : decode cX3_learns 19 = .ok (.iload_n 2, 1) := dk_28 (dk_at dksX3_learns_0 19 rfl rfl)
theorem dX3_learns_20 : decode cX3_learns 20 = .ok (.invokevirtual 103, 3) := dk_182 0 103 (dk_at dksX3_learns_0 20 rfl rfl)
theorem dX3_learns_23 : decode cX3_learns 23 = .ok (.ifCond .ne 9, 3) := dk_154 0 9 (dk_at dksX3_learns_1 0 rfl rfl)
theorem dX3_learns_26 : decode cX3_learns 26 = .ok (.iload_n 3, 1) := dk_29 (dk_at dksX3_learns_1 3 rfl rfl)
theorem dX3_learns_27 : decode cX3_learns 27 = .ok (.iconst 1, 1) := dk_4 (dk_at dksX3_learns_1 4 rfl rfl)
theorem dX3_learns_28 : decode cX3_learns 28 = .ok (.iadd, 1) := dk_96 (dk_at dksX3_learns_1 5 rfl rfl)
theorem dX3_learns_29 : decode cX3_learns 29 = .ok (.goto 4, 3) := dk_167 0 4 (dk_at dksX3_learns_1 6 rfl rfl)
theorem dX3_learns_32 : decode cX3_learns 32 = .ok (.iconst 0, 1) := dk_3 (dk_at dksX3_learns_1 9 rfl rfl)
theorem dX3_learns_33 : decode cX3_learns 33 = .ok (.istore_n 3, 1) := dk_62 (dk_at dksX3_learns_1 10 rfl rfl)
theorem dX3_learns_34 : decode cX3_learns 34 = .ok (.iload_n 3, 1) := dk_29 (dk_at dksX3_learns_1 11 rfl rfl)
theorem dX3_learns_35 : decode cX3_learns 35 = .ok (.iconst 2, 1) := dk_5 (dk_at dksX3_learns_1 12 rfl rfl)
theorem dX3_learns_36 : decode cX3_learns 36 = .ok (.if_icmp .ne 6, 3) := dk_160 0 6 (dk_at dksX3_learns_1 13 rfl rfl)
theorem dX3_learns_39 : decode cX3_learns 39 = .ok (.iload 4, 2) := dk_21 4 (dk_at dksX3_learns_1 16 rfl rfl)
theorem dX3_learns_41 : decode cX3_learns 41 = .ok (.ireturn, 1) := dk_172 (dk_at dksX3_learns_1 18 rfl rfl)
theorem dX3_learns_42 : decode cX3_learns 42 = .ok (.iinc 4 1, 3) := dk_132 4 1 (dk_at dksX3_learns_1 19 rfl rfl)
theorem dX3_learns_45 : decode cX3_learns 45 = .ok (.goto (-40), 3) := dk_167 255 216 (dk_at dksX3_learns_2 0 rfl rfl)
theorem dX3_learns_48 : decode cX3_learns 48 = .ok (.iconst (-1), 1) := dk_2 (dk_at dksX3_learns_2 3 rfl rfl)
theorem dX3_learns_49 : decode cX3_learns 49 = .ok (.ireturn, 1) := dk_172 (dk_at dksX3_learns_2 4 rfl rfl)
abbrev cX3_waits : ByteArray := prog_6_method_9_code
def yX3_waits : MethodName := ⟨RX3, "waits", "(I)V"⟩
def dkwX3_waits_4 : List UInt8 := [132, 2, 1, 167, 255, 163, 177]
abbrev dktX3_waits_4 : List UInt8 := dkwX3_waits_4 ++ []
def dkwX3_waits_3 : List UInt8 := [167, 255, 205, 132, 3, 1, 167, 255, 191, 42, 89, 180, 0, 27, 4, 96, 181, 0, 27, 42, 3, 181, 0, 31]
abbrev dktX3_waits_3 : List UInt8 := dkwX3_waits_3 ++ dktX3_waits_4
def dkwX3_waits_2 : List UInt8 := [158, 0, 13, 42, 4, 29, 21, 4, 21, 5, 182, 0, 85, 132, 5, 1, 167, 255, 221, 132, 4, 1]
abbrev dktX3_waits_2 : List UInt8 := dkwX3_waits_2 ++ dktX3_waits_3
def dkwX3_waits_1 : List UInt8 := [3, 54, 5, 21, 5, 16, 24, 162, 0, 34, 42, 180, 0, 11, 29, 50, 21, 4, 50, 21, 5, 46]
abbrev dktX3_waits_1 : List UInt8 := dkwX3_waits_1 ++ dktX3_waits_2
def dkwX3_waits_0 : List UInt8 := [3, 61, 28, 27, 162, 0, 94, 3, 62, 29, 7, 162, 0, 66, 3, 54, 4, 21, 4, 16, 24, 162, 0, 50]
abbrev dktX3_waits_0 : List UInt8 := dkwX3_waits_0 ++ dktX3_waits_1
theorem dksX3_waits_0 : cX3_waits.data.toList.drop 0 = dktX3_waits_0 := by decide +kernel
theorem dksX3_waits_1 : cX3_waits.data.toList.drop 24 = dktX3_waits_1 := dk_seg dksX3_waits_0 24 rfl rfl
theorem dksX3_waits_2 : cX3_waits.data.toList.drop 46 = dktX3_waits_2 := dk_seg dksX3_waits_1 22 rfl rfl
theorem dksX3_waits_3 : cX3_waits.data.toList.drop 68 = dktX3_waits_3 := dk_seg dksX3_waits_2 22 rfl rfl
theorem dksX3_waits_4 : cX3_waits.data.toList.drop 92 = dktX3_waits_4 := dk_seg dksX3_waits_3 24 rfl rfl
theorem dX3_waits_0 : decode cX3_waits 0 = .ok (.iconst 0, 1) := dk_3 (dk_at dksX3_waits_0 0 rfl rfl)
theorem dX3_waits_1 : decode cX3_waits 1 = .ok (.istore_n 2, 1) := dk_61 (dk_at dksX3_waits_0 1 rfl rfl)
theorem dX3_waits_2 : decode cX3_waits 2 = .ok (.iload_n 2, 1) := dk_28 (dk_at dksX3_waits_0 2 rfl rfl)
theorem dX3_waits_3 : decode cX3_waits 3 = .ok (.iload_n 1, 1) := dk_27 (dk_at dksX3_waits_0 3 rfl rfl)
theorem dX3_waits_4 : decode cX3_waits 4 = .ok (.if_icmp .ge 94, 3) := dk_162 0 94 (dk_at dksX3_waits_0 4 rfl rfl)
theorem dX3_waits_7 : decode cX3_waits 7 = .ok (.iconst 0, 1) := dk_3 (dk_at dksX3_waits_0 7 rfl rfl)
theorem dX3_waits_8 : decode cX3_waits 8 = .ok (.istore_n 3, 1) := dk_62 (dk_at dksX3_waits_0 8 rfl rfl)
theorem dX3_waits_9 : decode cX3_waits 9 = .ok (.iload_n 3, 1) := dk_29 (dk_at dksX3_waits_0 9 rfl rfl)
theorem dX3_waits_10 : decode cX3_waits 10 = .ok (.iconst 4, 1) := dk_7 (dk_at dksX3_waits_0 10 rfl rfl)
theorem dX3_waits_11 : decode cX3_waits 11 = .ok (.if_icmp .ge 66, 3) := dk_162 0 66 (dk_at dksX3_waits_0 11 rfl rfl)
theorem dX3_waits_14 : decode cX3_waits 14 = .ok (.iconst 0, 1) := dk_3 (dk_at dksX3_waits_0 14 rfl rfl)
theorem dX3_waits_15 : decode cX3_waits 15 = .ok (.istore 4, 2) := dk_54 4 (dk_at dksX3_waits_0 15 rfl rfl)
theorem dX3_waits_17 : decode cX3_waits 17 = .ok (.iload 4, 2) := dk_21 4 (dk_at dksX3_waits_0 17 rfl rfl)
theorem dX3_waits_19 : decode cX3_waits 19 = .ok (.bipush 24, 2) := dk_16 24 (dk_at dksX3_waits_0 19 rfl rfl)
theorem dX3_waits_21 : decode cX3_waits 21 = .ok (.if_icmp .ge 50, 3) := dk_162 0 50 (dk_at dksX3_waits_0 21 rfl rfl)
theorem dX3_waits_24 : decode cX3_waits 24 = .ok (.iconst 0, 1) := dk_3 (dk_at dksX3_waits_1 0 rfl rfl)
theorem dX3_waits_25 : decode cX3_waits 25 = .ok (.istore 5, 2) := dk_54 5 (dk_at dksX3_waits_1 1 rfl rfl)
theorem dX3_waits_27 : decode cX3_waits 27 = .ok (.iload 5, 2) := dk_21 5 (dk_at dksX3_waits_1 3 rfl rfl)
theorem dX3_waits_29 : decode cX3_waits 29 = .ok (.bipush 24, 2) := dk_16 24 (dk_at dksX3_waits_1 5 rfl rfl)
theorem dX3_waits_31 : decode cX3_waits 31 = .ok (.if_icmp .ge 34, 3) := dk_162 0 34 (dk_at dksX3_waits_1 7 rfl rfl)
theorem dX3_waits_34 : decode cX3_waits 34 = .ok (.aload_n 0, 1) := dk_42 (dk_at dksX3_waits_1 10 rfl rfl)
theorem dX3_waits_35 : decode cX3_waits 35 = .ok (.getfield 11, 3) := dk_180 0 11 (dk_at dksX3_waits_1 11 rfl rfl)
theorem dX3_waits_38 : decode cX3_waits 38 = .ok (.iload_n 3, 1) := dk_29 (dk_at dksX3_waits_1 14 rfl rfl)
theorem dX3_waits_39 : decode cX3_waits 39 = .ok (.aaload, 1) := dk_50 (dk_at dksX3_waits_1 15 rfl rfl)
theorem dX3_waits_40 : decode cX3_waits 40 = .ok (.iload 4, 2) := dk_21 4 (dk_at dksX3_waits_1 16 rfl rfl)
theorem dX3_waits_42 : decode cX3_waits 42 = .ok (.aaload, 1) := dk_50 (dk_at dksX3_waits_1 18 rfl rfl)
theorem dX3_waits_43 : decode cX3_waits 43 = .ok (.iload 5, 2) := dk_21 5 (dk_at dksX3_waits_1 19 rfl rfl)
theorem dX3_waits_45 : decode cX3_waits 45 = .ok (.iaload, 1) := dk_46 (dk_at dksX3_waits_1 21 rfl rfl)
theorem dX3_waits_46 : decode cX3_waits 46 = .ok (.ifCond .le 13, 3) := dk_158 0 13 (dk_at dksX3_waits_2 0 rfl rfl)
theorem dX3_waits_49 : decode cX3_waits 49 = .ok (.aload_n 0, 1) := dk_42 (dk_at dksX3_waits_2 3 rfl rfl)
theorem dX3_waits_50 : decode cX3_waits 50 = .ok (.iconst 1, 1) := dk_4 (dk_at dksX3_waits_2 4 rfl rfl)
theorem dX3_waits_51 : decode cX3_waits 51 = .ok (.iload_n 3, 1) := dk_29 (dk_at dksX3_waits_2 5 rfl rfl)
theorem dX3_waits_52 : decode cX3_waits 52 = .ok (.iload 4, 2) := dk_21 4 (dk_at dksX3_waits_2 6 rfl rfl)
theorem dX3_waits_54 : decode cX3_waits 54 = .ok (.iload 5, 2) := dk_21 5 (dk_at dksX3_waits_2 8 rfl rfl)
theorem dX3_waits_56 : decode cX3_waits 56 = .ok (.invokevirtual 85, 3) := dk_182 0 85 (dk_at dksX3_waits_2 10 rfl rfl)
theorem dX3_waits_59 : decode cX3_waits 59 = .ok (.iinc 5 1, 3) := dk_132 5 1 (dk_at dksX3_waits_2 13 rfl rfl)
theorem dX3_waits_62 : decode cX3_waits 62 = .ok (.goto (-35), 3) := dk_167 255 221 (dk_at dksX3_waits_2 16 rfl rfl)
theorem dX3_waits_65 : decode cX3_waits 65 = .ok (.iinc 4 1, 3) := dk_132 4 1 (dk_at dksX3_waits_2 19 rfl rfl)
theorem dX3_waits_68 : decode cX3_waits 68 = .ok (.goto (-51), 3) := dk_167 255 205 (dk_at dksX3_waits_3 0 rfl rfl)
theorem dX3_waits_71 : decode cX3_waits 71 = .ok (.iinc 3 1, 3) := dk_132 3 1 (dk_at dksX3_waits_3 3 rfl rfl)
theorem dX3_waits_74 : decode cX3_waits 74 = .ok (.goto (-65), 3) := dk_167 255 191 (dk_at dksX3_waits_3 6 rfl rfl)
theorem dX3_waits_77 : decode cX3_waits 77 = .ok (.aload_n 0, 1) := dk_42 (dk_at dksX3_waits_3 9 rfl rfl)
theorem dX3_waits_78 : decode cX3_waits 78 = .ok (.dup, 1) := dk_89 (dk_at dksX3_waits_3 10 rfl rfl)
theorem dX3_waits_79 : decode cX3_waits 79 = .ok (.getfield 27, 3) := dk_180 0 27 (dk_at dksX3_waits_3 11 rfl rfl)
theorem dX3_waits_82 : decode cX3_waits 82 = .ok (.iconst 1, 1) := dk_4 (dk_at dksX3_waits_3 14 rfl rfl)
theorem dX3_waits_83 : decode cX3_waits 83 = .ok (.iadd, 1) := dk_96 (dk_at dksX3_waits_3 15 rfl rfl)
theorem dX3_waits_84 : decode cX3_waits 84 = .ok (.putfield 27, 3) := dk_181 0 27 (dk_at dksX3_waits_3 16 rfl rfl)
theorem dX3_waits_87 : decode cX3_waits 87 = .ok (.aload_n 0, 1) := dk_42 (dk_at dksX3_waits_3 19 rfl rfl)
theorem dX3_waits_88 : decode cX3_waits 88 = .ok (.iconst 0, 1) := dk_3 (dk_at dksX3_waits_3 20 rfl rfl)
theorem dX3_waits_89 : decode cX3_waits 89 = .ok (.putfield 31, 3) := dk_181 0 31 (dk_at dksX3_waits_3 21 rfl rfl)
theorem dX3_waits_92 : decode cX3_waits 92 = .ok (.iinc 2 1, 3) := dk_132 2 1 (dk_at dksX3_waits_4 0 rfl rfl)
theorem dX3_waits_95 : decode cX3_waits 95 = .ok (.goto (-93), 3) := dk_167 255 163 (dk_at dksX3_waits_4 3 rfl rfl)
theorem dX3_waits_98 : decode cX3_waits 98 = .ok (.return_, 1) := dk_177 (dk_at dksX3_waits_4 6 rfl rfl)
abbrev cX3_linkMany : ByteArray := prog_6_method_14_code
def yX3_linkMany : MethodName := ⟨RX3, "linkMany", "(I)I"⟩
def dkwX3_linkMany_3 : List UInt8 := [167, 255, 226, 132, 5, 1, 167, 255, 195, 28, 172]
abbrev dktX3_linkMany_3 : List UInt8 := dkwX3_linkMany_3 ++ []
def dkwX3_linkMany_2 : List UInt8 := [25, 7, 21, 9, 46, 54, 10, 28, 21, 10, 158, 0, 7, 4, 167, 0, 4, 3, 96, 61, 132, 9, 1]
abbrev dktX3_linkMany_2 : List UInt8 := dkwX3_linkMany_2 ++ dktX3_linkMany_3
def dkwX3_linkMany_1 : List UInt8 := [21, 5, 50, 58, 6, 25, 6, 58, 7, 25, 7, 190, 54, 8, 3, 54, 9, 21, 9, 21, 8, 162, 0, 29]
abbrev dktX3_linkMany_1 : List UInt8 := dkwX3_linkMany_1 ++ dktX3_linkMany_2
def dkwX3_linkMany_0 : List UInt8 := [3, 61, 42, 180, 0, 11, 27, 50, 78, 45, 190, 54, 4, 3, 54, 5, 21, 5, 21, 4, 162, 0, 60, 45]
abbrev dktX3_linkMany_0 : List UInt8 := dkwX3_linkMany_0 ++ dktX3_linkMany_1
theorem dksX3_linkMany_0 : cX3_linkMany.data.toList.drop 0 = dktX3_linkMany_0 := by decide +kernel
theorem dksX3_linkMany_1 : cX3_linkMany.data.toList.drop 24 = dktX3_linkMany_1 := dk_seg dksX3_linkMany_0 24 rfl rfl
theorem dksX3_linkMany_2 : cX3_linkMany.data.toList.drop 48 = dktX3_linkMany_2 := dk_seg dksX3_linkMany_1 24 rfl rfl
theorem dksX3_linkMany_3 : cX3_linkMany.data.toList.drop 71 = dktX3_linkMany_3 := dk_seg dksX3_linkMany_2 23 rfl rfl
theorem dX3_linkMany_0 : decode cX3_linkMany 0 = .ok (.iconst 0, 1) := dk_3 (dk_at dksX3_linkMany_0 0 rfl rfl)
theorem dX3_linkMany_1 : decode cX3_linkMany 1 = .ok (.istore_n 2, 1) := dk_61 (dk_at dksX3_linkMany_0 1 rfl rfl)
theorem dX3_linkMany_2 : decode cX3_linkMany 2 = .ok (.aload_n 0, 1) := dk_42 (dk_at dksX3_linkMany_0 2 rfl rfl)
theorem dX3_linkMany_3 : decode cX3_linkMany 3 = .ok (.getfield 11, 3) := dk_180 0 11 (dk_at dksX3_linkMany_0 3 rfl rfl)
theorem dX3_linkMany_6 : decode cX3_linkMany 6 = .ok (.iload_n 1, 1) := dk_27 (dk_at dksX3_linkMany_0 6 rfl rfl)
theorem dX3_linkMany_7 : decode cX3_linkMany 7 = .ok (.aaload, 1) := dk_50 (dk_at dksX3_linkMany_0 7 rfl rfl)
theorem dX3_linkMany_8 : decode cX3_linkMany 8 = .ok (.astore_n 3, 1) := dk_78 (dk_at dksX3_linkMany_0 8 rfl rfl)
theorem dX3_linkMany_9 : decode cX3_linkMany 9 = .ok (.aload_n 3, 1) := dk_45 (dk_at dksX3_linkMany_0 9 rfl rfl)
theorem dX3_linkMany_10 : decode cX3_linkMany 10 = .ok (.arraylength, 1) := dk_190 (dk_at dksX3_linkMany_0 10 rfl rfl)
theorem dX3_linkMany_11 : decode cX3_linkMany 11 = .ok (.istore 4, 2) := dk_54 4 (dk_at dksX3_linkMany_0 11 rfl rfl)
theorem dX3_linkMany_13 : decode cX3_linkMany 13 = .ok (.iconst 0, 1) := dk_3 (dk_at dksX3_linkMany_0 13 rfl rfl)
theorem dX3_linkMany_14 : decode cX3_linkMany 14 = .ok (.istore 5, 2) := dk_54 5 (dk_at dksX3_linkMany_0 14 rfl rfl)
theorem dX3_linkMany_16 : decode cX3_linkMany 16 = .ok (.iload 5, 2) := dk_21 5 (dk_at dksX3_linkMany_0 16 rfl rfl)
theorem dX3_linkMany_18 : decode cX3_linkMany 18 = .ok (.iload 4, 2) := dk_21 4 (dk_at dksX3_linkMany_0 18 rfl rfl)
theorem dX3_linkMany_20 : decode cX3_linkMany 20 = .ok (.if_icmp .ge 60, 3) := dk_162 0 60 (dk_at dksX3_linkMany_0 20 rfl rfl)
theorem dX3_linkMany_23 : decode cX3_linkMany 23 = .ok (.aload_n 3, 1) := dk_45 (dk_at dksX3_linkMany_0 23 rfl rfl)
theorem dX3_linkMany_24 : decode cX3_linkMany 24 = .ok (.iload 5, 2) := dk_21 5 (dk_at dksX3_linkMany_1 0 rfl rfl)
theorem dX3_linkMany_26 : decode cX3_linkMany 26 = .ok (.aaload, 1) := dk_50 (dk_at dksX3_linkMany_1 2 rfl rfl)
theorem dX3_linkMany_27 : decode cX3_linkMany 27 = .ok (.astore 6, 2) := dk_58 6 (dk_at dksX3_linkMany_1 3 rfl rfl)
theorem dX3_linkMany_29 : decode cX3_linkMany 29 = .ok (.aload 6, 2) := dk_25 6 (dk_at dksX3_linkMany_1 5 rfl rfl)
theorem dX3_linkMany_31 : decode cX3_linkMany 31 = .ok (.astore 7, 2) := dk_58 7 (dk_at dksX3_linkMany_1 7 rfl rfl)
theorem dX3_linkMany_33 : decode cX3_linkMany 33 = .ok (.aload 7, 2) := dk_25 7 (dk_at dksX3_linkMany_1 9 rfl rfl)
theorem dX3_linkMany_35 : decode cX3_linkMany 35 = .ok (.arraylength, 1) := dk_190 (dk_at dksX3_linkMany_1 11 rfl rfl)
theorem dX3_linkMany_36 : decode cX3_linkMany 36 = .ok (.istore 8, 2) := dk_54 8 (dk_at dksX3_linkMany_1 12 rfl rfl)
theorem dX3_linkMany_38 : decode cX3_linkMany 38 = .ok (.iconst 0, 1) := dk_3 (dk_at dksX3_linkMany_1 14 rfl rfl)
theorem dX3_linkMany_39 : decode cX3_linkMany 39 = .ok (.istore 9, 2) := dk_54 9 (dk_at dksX3_linkMany_1 15 rfl rfl)
theorem dX3_linkMany_41 : decode cX3_linkMany 41 = .ok (.iload 9, 2) := dk_21 9 (dk_at dksX3_linkMany_1 17 rfl rfl)
theorem dX3_linkMany_43 : decode cX3_linkMany 43 = .ok (.iload 8, 2) := dk_21 8 (dk_at dksX3_linkMany_1 19 rfl rfl)
theorem dX3_linkMany_45 : decode cX3_linkMany 45 = .ok (.if_icmp .ge 29, 3) := dk_162 0 29 (dk_at dksX3_linkMany_1 21 rfl rfl)
theorem dX3_linkMany_48 : decode cX3_linkMany 48 = .ok (.aload 7, 2) := dk_25 7 (dk_at dksX3_linkMany_2 0 rfl rfl)
theorem dX3_linkMany_50 : decode cX3_linkMany 50 = .ok (.iload 9, 2) := dk_21 9 (dk_at dksX3_linkMany_2 2 rfl rfl)
theorem dX3_linkMany_52 : decode cX3_linkMany 52 = .ok (.iaload, 1) := dk_46 (dk_at dksX3_linkMany_2 4 rfl rfl)
theorem dX3_linkMany_53 : decode cX3_linkMany 53 = .ok (.istore 10, 2) := dk_54 10 (dk_at dksX3_linkMany_2 5 rfl rfl)
theorem dX3_linkMany_55 : decode cX3_linkMany 55 = .ok (.iload_n 2, 1) := dk_28 (dk_at dksX3_linkMany_2 7 rfl rfl)
theorem dX3_linkMany_56 : decode cX3_linkMany 56 = .ok (.iload 10, 2) := dk_21 10 (dk_at dksX3_linkMany_2 8 rfl rfl)
theorem dX3_linkMany_58 : decode cX3_linkMany 58 = .ok (.ifCond .le 7, 3) := dk_158 0 7 (dk_at dksX3_linkMany_2 10 rfl rfl)
theorem dX3_linkMany_61 : decode cX3_linkMany 61 = .ok (.iconst 1, 1) := dk_4 (dk_at dksX3_linkMany_2 13 rfl rfl)
theorem dX3_linkMany_62 : decode cX3_linkMany 62 = .ok (.goto 4, 3) := dk_167 0 4 (dk_at dksX3_linkMany_2 14 rfl rfl)
theorem dX3_linkMany_65 : decode cX3_linkMany 65 = .ok (.iconst 0, 1) := dk_3 (dk_at dksX3_linkMany_2 17 rfl rfl)
theorem dX3_linkMany_66 : decode cX3_linkMany 66 = .ok (.iadd, 1) := dk_96 (dk_at dksX3_linkMany_2 18 rfl rfl)
theorem dX3_linkMany_67 : decode cX3_linkMany 67 = .ok (.istore_n 2, 1) := dk_61 (dk_at dksX3_linkMany_2 19 rfl rfl)
theorem dX3_linkMany_68 : decode cX3_linkMany 68 = .ok (.iinc 9 1, 3) := dk_132 9 1 (dk_at dksX3_linkMany_2 20 rfl rfl)
theorem dX3_linkMany_71 : decode cX3_linkMany 71 = .ok (.goto (-30), 3) := dk_167 255 226 (dk_at dksX3_linkMany_3 0 rfl rfl)
theorem dX3_linkMany_74 : decode cX3_linkMany 74 = .ok (.iinc 5 1, 3) := dk_132 5 1 (dk_at dksX3_linkMany_3 3 rfl rfl)
theorem dX3_linkMany_77 : decode cX3_linkMany 77 = .ok (.goto (-61), 3) := dk_167 255 195 (dk_at dksX3_linkMany_3 6 rfl rfl)
theorem dX3_linkMany_80 : decode cX3_linkMany 80 = .ok (.iload_n 2, 1) := dk_28 (dk_at dksX3_linkMany_3 9 rfl rfl)
theorem dX3_linkMany_81 : decode cX3_linkMany 81 = .ok (.ireturn, 1) := dk_172 (dk_at dksX3_linkMany_3 10 rfl rfl)
abbrev cX3_becomes : ByteArray := prog_6_method_4_code
def yX3_becomes : MethodName := ⟨RX3, "becomes", "(LNonsenseRows$Head;)V"⟩
def dkwX3_becomes_3 : List UInt8 := [167, 255, 211, 177]
abbrev dktX3_becomes_3 : List UInt8 := dkwX3_becomes_3 ++ []
def dkwX3_becomes_2 : List UInt8 := [42, 180, 0, 11, 28, 50, 29, 50, 3, 16, 24, 184, 0, 37, 132, 3, 1, 167, 255, 224, 132, 2, 1]
abbrev dktX3_becomes_2 : List UInt8 := dkwX3_becomes_2 ++ dktX3_becomes_3
def dkwX3_becomes_1 : List UInt8 := [3, 61, 28, 7, 162, 0, 46, 3, 62, 29, 16, 24, 162, 0, 32, 43, 180, 0, 11, 28, 50, 29, 50, 3]
abbrev dktX3_becomes_1 : List UInt8 := dkwX3_becomes_1 ++ dktX3_becomes_2
def dkwX3_becomes_0 : List UInt8 := [42, 43, 180, 0, 23, 181, 0, 23, 42, 43, 180, 0, 27, 181, 0, 27, 42, 43, 180, 0, 31, 181, 0, 31]
abbrev dktX3_becomes_0 : List UInt8 := dkwX3_becomes_0 ++ dktX3_becomes_1
theorem dksX3_becomes_0 : cX3_becomes.data.toList.drop 0 = dktX3_becomes_0 := by decide +kernel
theorem dksX3_becomes_1 : cX3_becomes.data.toList.drop 24 = dktX3_becomes_1 := dk_seg dksX3_becomes_0 24 rfl rfl
theorem dksX3_becomes_2 : cX3_becomes.data.toList.drop 48 = dktX3_becomes_2 := dk_seg dksX3_becomes_1 24 rfl rfl
theorem dksX3_becomes_3 : cX3_becomes.data.toList.drop 71 = dktX3_becomes_3 := dk_seg dksX3_becomes_2 23 rfl rfl
theorem dX3_becomes_0 : decode cX3_becomes 0 = .ok (.aload_n 0, 1) := dk_42 (dk_at dksX3_becomes_0 0 rfl rfl)
theorem dX3_becomes_1 : decode cX3_becomes 1 = .ok (.aload_n 1, 1) := dk_43 (dk_at dksX3_becomes_0 1 rfl rfl)
theorem dX3_becomes_2 : decode cX3_becomes 2 = .ok (.getfield 23, 3) := dk_180 0 23 (dk_at dksX3_becomes_0 2 rfl rfl)
theorem dX3_becomes_5 : decode cX3_becomes 5 = .ok (.putfield 23, 3) := dk_181 0 23 (dk_at dksX3_becomes_0 5 rfl rfl)
theorem dX3_becomes_8 : decode cX3_becomes 8 = .ok (.aload_n 0, 1) := dk_42 (dk_at dksX3_becomes_0 8 rfl rfl)
theorem dX3_becomes_9 : decode cX3_becomes 9 = .ok (.aload_n 1, 1) := dk_43 (dk_at dksX3_becomes_0 9 rfl rfl)
theorem dX3_becomes_10 : decode cX3_becomes 10 = .ok (.getfield 27, 3) := dk_180 0 27 (dk_at dksX3_becomes_0 10 rfl rfl)
theorem dX3_becomes_13 : decode cX3_becomes 13 = .ok (.putfield 27, 3) := dk_181 0 27 (dk_at dksX3_becomes_0 13 rfl rfl)
theorem dX3_becomes_16 : decode cX3_becomes 16 = .ok (.aload_n 0, 1) := dk_42 (dk_at dksX3_becomes_0 16 rfl rfl)
theorem dX3_becomes_17 : decode cX3_becomes 17 = .ok (.aload_n 1, 1) := dk_43 (dk_at dksX3_becomes_0 17 rfl rfl)
theorem dX3_becomes_18 : decode cX3_becomes 18 = .ok (.getfield 31, 3) := dk_180 0 31 (dk_at dksX3_becomes_0 18 rfl rfl)
theorem dX3_becomes_21 : decode cX3_becomes 21 = .ok (.putfield 31, 3) := dk_181 0 31 (dk_at dksX3_becomes_0 21 rfl rfl)
theorem dX3_becomes_24 : decode cX3_becomes 24 = .ok (.iconst 0, 1) := dk_3 (dk_at dksX3_becomes_1 0 rfl rfl)
theorem dX3_becomes_25 : decode cX3_becomes 25 = .ok (.istore_n 2, 1) := dk_61 (dk_at dksX3_becomes_1 1 rfl rfl)
theorem dX3_becomes_26 : decode cX3_becomes 26 = .ok (.iload_n 2, 1) := dk_28 (dk_at dksX3_becomes_1 2 rfl rfl)
theorem dX3_becomes_27 : decode cX3_becomes 27 = .ok (.iconst 4, 1) := dk_7 (dk_at dksX3_becomes_1 3 rfl rfl)
theorem dX3_becomes_28 : decode cX3_becomes 28 = .ok (.if_icmp .ge 46, 3) := dk_162 0 46 (dk_at dksX3_becomes_1 4 rfl rfl)
theorem dX3_becomes_31 : decode cX3_becomes 31 = .ok (.iconst 0, 1) := dk_3 (dk_at dksX3_becomes_1 7 rfl rfl)
theorem dX3_becomes_32 : decode cX3_becomes 32 = .ok (.istore_n 3, 1) := dk_62 (dk_at dksX3_becomes_1 8 rfl rfl)
theorem dX3_becomes_33 : decode cX3_becomes 33 = .ok (.iload_n 3, 1) := dk_29 (dk_at dksX3_becomes_1 9 rfl rfl)
theorem dX3_becomes_34 : decode cX3_becomes 34 = .ok (.bipush 24, 2) := dk_16 24 (dk_at dksX3_becomes_1 10 rfl rfl)
theorem dX3_becomes_36 : decode cX3_becomes 36 = .ok (.if_icmp .ge 32, 3) := dk_162 0 32 (dk_at dksX3_becomes_1 12 rfl rfl)
theorem dX3_becomes_39 : decode cX3_becomes 39 = .ok (.aload_n 1, 1) := dk_43 (dk_at dksX3_becomes_1 15 rfl rfl)
theorem dX3_becomes_40 : decode cX3_becomes 40 = .ok (.getfield 11, 3) := dk_180 0 11 (dk_at dksX3_becomes_1 16 rfl rfl)
theorem dX3_becomes_43 : decode cX3_becomes 43 = .ok (.iload_n 2, 1) := dk_28 (dk_at dksX3_becomes_1 19 rfl rfl)
theorem dX3_becomes_44 : decode cX3_becomes 44 = .ok (.aaload, 1) := dk_50 (dk_at dksX3_becomes_1 20 rfl rfl)
theorem dX3_becomes_45 : decode cX3_becomes 45 = .ok (.iload_n 3, 1) := dk_29 (dk_at dksX3_becomes_1 21 rfl rfl)
theorem dX3_becomes_46 : decode cX3_becomes 46 = .ok (.aaload, 1) := dk_50 (dk_at dksX3_becomes_1 22 rfl rfl)
theorem dX3_becomes_47 : decode cX3_becomes 47 = .ok (.iconst 0, 1) := dk_3 (dk_at dksX3_becomes_1 23 rfl rfl)
theorem dX3_becomes_48 : decode cX3_becomes 48 = .ok (.aload_n 0, 1) := dk_42 (dk_at dksX3_becomes_2 0 rfl rfl)
theorem dX3_becomes_49 : decode cX3_becomes 49 = .ok (.getfield 11, 3) := dk_180 0 11 (dk_at dksX3_becomes_2 1 rfl rfl)
theorem dX3_becomes_52 : decode cX3_becomes 52 = .ok (.iload_n 2, 1) := dk_28 (dk_at dksX3_becomes_2 4 rfl rfl)
theorem dX3_becomes_53 : decode cX3_becomes 53 = .ok (.aaload, 1) := dk_50 (dk_at dksX3_becomes_2 5 rfl rfl)
theorem dX3_becomes_54 : decode cX3_becomes 54 = .ok (.iload_n 3, 1) := dk_29 (dk_at dksX3_becomes_2 6 rfl rfl)
theorem dX3_becomes_55 : decode cX3_becomes 55 = .ok (.aaload, 1) := dk_50 (dk_at dksX3_becomes_2 7 rfl rfl)
theorem dX3_becomes_56 : decode cX3_becomes 56 = .ok (.iconst 0, 1) := dk_3 (dk_at dksX3_becomes_2 8 rfl rfl)
theorem dX3_becomes_57 : decode cX3_becomes 57 = .ok (.bipush 24, 2) := dk_16 24 (dk_at dksX3_becomes_2 9 rfl rfl)
theorem dX3_becomes_59 : decode cX3_becomes 59 = .ok (.invokestatic 37, 3) := dk_184 0 37 (dk_at dksX3_becomes_2 11 rfl rfl)
theorem dX3_becomes_62 : decode cX3_becomes 62 = .ok (.iinc 3 1, 3) := dk_132 3 1 (dk_at dksX3_becomes_2 14 rfl rfl)
theorem dX3_becomes_65 : decode cX3_becomes 65 = .ok (.goto (-32), 3) := dk_167 255 224 (dk_at dksX3_becomes_2 17 rfl rfl)
theorem dX3_becomes_68 : decode cX3_becomes 68 = .ok (.iinc 2 1, 3) := dk_132 2 1 (dk_at dksX3_becomes_2 20 rfl rfl)
theorem dX3_becomes_71 : decode cX3_becomes 71 = .ok (.goto (-45), 3) := dk_167 255 211 (dk_at dksX3_becomes_3 0 rfl rfl)
theorem dX3_becomes_74 : decode cX3_becomes 74 = .ok (.return_, 1) := dk_177 (dk_at dksX3_becomes_3 3 rfl rfl)
abbrev cX3_supports : ByteArray := prog_6_method_13_code
def yX3_supports : MethodName := ⟨RX3, "supports", "([I)I"⟩
def dkwX3_supports_1 : List UInt8 := [167, 255, 237, 28, 172]
abbrev dktX3_supports_1 : List UInt8 := dkwX3_supports_1 ++ []
def dkwX3_supports_0 : List UInt8 := [3, 61, 3, 62, 29, 43, 190, 162, 0, 19, 28, 42, 43, 29, 2, 182, 0, 92, 96, 61, 132, 3, 1]
abbrev dktX3_supports_0 : List UInt8 := dkwX3_supports_0 ++ dktX3_supports_1
theorem dksX3_supports_0 : cX3_supports.data.toList.drop 0 = dktX3_supports_0 := by decide +kernel
theorem dksX3_supports_1 : cX3_supports.data.toList.drop 23 = dktX3_supports_1 := dk_seg dksX3_supports_0 23 rfl rfl
theorem dX3_supports_0 : decode cX3_supports 0 = .ok (.iconst 0, 1) := dk_3 (dk_at dksX3_supports_0 0 rfl rfl)
theorem dX3_supports_1 : decode cX3_supports 1 = .ok (.istore_n 2, 1) := dk_61 (dk_at dksX3_supports_0 1 rfl rfl)
theorem dX3_supports_2 : decode cX3_supports 2 = .ok (.iconst 0, 1) := dk_3 (dk_at dksX3_supports_0 2 rfl rfl)
theorem dX3_supports_3 : decode cX3_supports 3 = .ok (.istore_n 3, 1) := dk_62 (dk_at dksX3_supports_0 3 rfl rfl)
theorem dX3_supports_4 : decode cX3_supports 4 = .ok (.iload_n 3, 1) := dk_29 (dk_at dksX3_supports_0 4 rfl rfl)
theorem dX3_supports_5 : decode cX3_supports 5 = .ok (.aload_n 1, 1) := dk_43 (dk_at dksX3_supports_0 5 rfl rfl)
theorem dX3_supports_6 : decode cX3_supports 6 = .ok (.arraylength, 1) := dk_190 (dk_at dksX3_supports_0 6 rfl rfl)
theorem dX3_supports_7 : decode cX3_supports 7 = .ok (.if_icmp .ge 19, 3) := dk_162 0 19 (dk_at dksX3_supports_0 7 rfl rfl)
theorem dX3_supports_10 : decode cX3_supports 10 = .ok (.iload_n 2, 1) := dk_28 (dk_at dksX3_supports_0 10 rfl rfl)
theorem dX3_supports_11 : decode cX3_supports 11 = .ok (.aload_n 0, 1) := dk_42 (dk_at dksX3_supports_0 11 rfl rfl)
theorem dX3_supports_12 : decode cX3_supports 12 = .ok (.aload_n 1, 1) := dk_43 (dk_at dksX3_supports_0 12 rfl rfl)
theorem dX3_supports_13 : decode cX3_supports 13 = .ok (.iload_n 3, 1) := dk_29 (dk_at dksX3_supports_0 13 rfl rfl)
theorem dX3_supports_14 : decode cX3_supports 14 = .ok (.iconst (-1), 1) := dk_2 (dk_at dksX3_supports_0 14 rfl rfl)
theorem dX3_supports_15 : decode cX3_supports 15 = .ok (.invokevirtual 92, 3) := dk_182 0 92 (dk_at dksX3_supports_0 15 rfl rfl)
theorem dX3_supports_18 : decode cX3_supports 18 = .ok (.iadd, 1) := dk_96 (dk_at dksX3_supports_0 18 rfl rfl)
theorem dX3_supports_19 : decode cX3_supports 19 = .ok (.istore_n 2, 1) := dk_61 (dk_at dksX3_supports_0 19 rfl rfl)
theorem dX3_supports_20 : decode cX3_supports 20 = .ok (.iinc 3 1, 3) := dk_132 3 1 (dk_at dksX3_supports_0 20 rfl rfl)
theorem dX3_supports_23 : decode cX3_supports 23 = .ok (.goto (-19), 3) := dk_167 255 237 (dk_at dksX3_supports_1 0 rfl rfl)
theorem dX3_supports_26 : decode cX3_supports 26 = .ok (.iload_n 2, 1) := dk_28 (dk_at dksX3_supports_1 3 rfl rfl)
theorem dX3_supports_27 : decode cX3_supports 27 = .ok (.ireturn, 1) := dk_172 (dk_at dksX3_supports_1 4 rfl rfl)
theorem q90 : (Jvm.Cond.initialized "NonsenseRows$Head") ∈ lw_all := lw_g (lw_at lw_m1 7 rfl) rfl
theorem q347 : (Jvm.Cond.fieldLinkNest "NonsenseRows$Head" (52 : Nat) "NonsenseRows$Text" "easy" "[I" "NonsenseRows") ∈ lw_tbl := lw_at lw_m2 24 rfl
theorem q350 : (Jvm.Cond.fieldLinkNest "NonsenseRows$Head" (89 : Nat) "NonsenseRows$Text" "leans" "[I" "NonsenseRows") ∈ lw_tbl := lw_at lw_m2 27 rfl
theorem q354 : (Jvm.Cond.fieldLinkNest "NonsenseRows$Head" (43 : Nat) "NonsenseRows$Text" "laws" "[[LNonsenseRows$Sum;" "NonsenseRows") ∈ lw_tbl := lw_at lw_m2 31 rfl
theorem q361 : (Jvm.Cond.fieldLinkNest "NonsenseRows$Head" (96 : Nat) "NonsenseRows$Text" "hold" "I" "NonsenseRows") ∈ lw_tbl := lw_at lw_m2 38 rfl
theorem q414 : (Jvm.Cond.instantiable "NonsenseRows$Head" (5 : Nat)) ∈ lw_all := lw_g (lw_at lw_m2 91 rfl) rfl
theorem q416 : (Jvm.Cond.instanceMethod ({ cls := "NonsenseRows$Head", name := "<init>", desc := "()V" } : Jvm.MethodName)) ∈ lw_all := lw_g (lw_at lw_m2 93 rfl) rfl
theorem q417 : (Jvm.Cond.code ({ cls := "NonsenseRows$Head", name := "<init>", desc := "()V" } : Jvm.MethodName) prog_6_method_1_code (1 : Nat) (Option.none : Option Jvm.ClassFile.FieldType)) ∈ lw_all := lw_g (lw_at lw_m2 94 rfl) rfl
theorem q418 : (Jvm.Cond.methodLink "NonsenseRows$Head" (3 : Nat) ({ cls := "java/lang/Object", name := "<init>", desc := "()V" } : Jvm.MethodName)) ∈ lw_all := lw_g (lw_at lw_m2 95 rfl) rfl
theorem q419 : (Jvm.Cond.classLink "NonsenseRows$Head" (9 : Nat) "[[[I") ∈ lw_all := lw_g (lw_at lw_m2 96 rfl) rfl
theorem q422 : (Jvm.Cond.classLink "NonsenseRows$Head" (16 : Nat) "NonsenseRows$Asked") ∈ lw_all := lw_g (lw_at lw_m2 99 rfl) rfl
theorem q424 : (Jvm.Cond.methodLinkNest "NonsenseRows$Head" (18 : Nat) ({ cls := "NonsenseRows$Asked", name := "<init>", desc := "()V" } : Jvm.MethodName) "NonsenseRows") ∈ lw_tbl := lw_at lw_m2 101 rfl
theorem q429 : (Jvm.Cond.fieldLinkNest "NonsenseRows$Head" (49 : Nat) "NonsenseRows$Asked" "has" "I" "NonsenseRows") ∈ lw_tbl := lw_at lw_m2 106 rfl
theorem q431 : (Jvm.Cond.fieldLinkNest "NonsenseRows$Head" (56 : Nat) "NonsenseRows$Asked" "easy" "I" "NonsenseRows") ∈ lw_tbl := lw_at lw_m2 108 rfl
theorem q433 : (Jvm.Cond.fieldLinkNest "NonsenseRows$Head" (58 : Nat) "NonsenseRows$Asked" "tired" "I" "NonsenseRows") ∈ lw_tbl := lw_at lw_m2 110 rfl
theorem q435 : (Jvm.Cond.fieldLinkNest "NonsenseRows$Head" (59 : Nat) "NonsenseRows$Asked" "hour" "I" "NonsenseRows") ∈ lw_tbl := lw_at lw_m2 112 rfl
theorem q450 : (Jvm.Cond.fieldLink "NonsenseRows$Head" (11 : Nat) "NonsenseRows$Head" "links" "[[[I") ∈ lw_all := lw_g (lw_at lw_m2 127 rfl) rfl
theorem q452 : (Jvm.Cond.fieldLink "NonsenseRows$Head" (19 : Nat) "NonsenseRows$Head" "asked" "LNonsenseRows$Asked;") ∈ lw_all := lw_g (lw_at lw_m2 129 rfl) rfl
theorem q453 : (Jvm.Cond.fieldLink "NonsenseRows$Head" (23 : Nat) "NonsenseRows$Head" "text" "LNonsenseRows$Text;") ∈ lw_all := lw_g (lw_at lw_m2 130 rfl) rfl
theorem q454 : (Jvm.Cond.fieldLink "NonsenseRows$Head" (27 : Nat) "NonsenseRows$Head" "hour" "I") ∈ lw_all := lw_g (lw_at lw_m2 131 rfl) rfl
theorem q456 : (Jvm.Cond.fieldLink "NonsenseRows$Head" (31 : Nat) "NonsenseRows$Head" "tired" "I") ∈ lw_all := lw_g (lw_at lw_m2 133 rfl) rfl
theorem q458 : (Jvm.Cond.laysFinal "NonsenseRows$Head" "NonsenseRows$Head" "links" "[[[I") ∈ lw_all := lw_g (lw_at lw_m2 135 rfl) rfl
theorem q459 : (Jvm.Cond.soleField "NonsenseRows$Head" "links") ∈ lw_all := lw_g (lw_at lw_m2 136 rfl) rfl
theorem q460 : (Jvm.Cond.laysFinal "NonsenseRows$Head" "NonsenseRows$Head" "asked" "LNonsenseRows$Asked;") ∈ lw_all := lw_g (lw_at lw_m2 137 rfl) rfl
theorem q461 : (Jvm.Cond.soleField "NonsenseRows$Head" "asked") ∈ lw_all := lw_g (lw_at lw_m2 138 rfl) rfl
theorem q462 : (Jvm.Cond.lays "NonsenseRows$Head" "NonsenseRows$Head" "text" "LNonsenseRows$Text;") ∈ lw_all := lw_g (lw_at lw_m2 139 rfl) rfl
theorem q463 : (Jvm.Cond.soleField "NonsenseRows$Head" "text") ∈ lw_all := lw_g (lw_at lw_m2 140 rfl) rfl
theorem q464 : (Jvm.Cond.lays "NonsenseRows$Head" "NonsenseRows$Head" "hour" "I") ∈ lw_all := lw_g (lw_at lw_m2 141 rfl) rfl
theorem q465 : (Jvm.Cond.soleField "NonsenseRows$Head" "hour") ∈ lw_all := lw_g (lw_at lw_m2 142 rfl) rfl
theorem q466 : (Jvm.Cond.lays "NonsenseRows$Head" "NonsenseRows$Head" "tired" "I") ∈ lw_all := lw_g (lw_at lw_m2 143 rfl) rfl
theorem q467 : (Jvm.Cond.soleField "NonsenseRows$Head" "tired") ∈ lw_all := lw_g (lw_at lw_m2 144 rfl) rfl
theorem q468 : (Jvm.Cond.superclass "NonsenseRows$Head" "java/lang/Object") ∈ lw_all := lw_g (lw_at lw_m2 145 rfl) rfl
theorem q470 : (Jvm.Cond.instanceMethod ({ cls := "NonsenseRows$Head", name := "clears", desc := "(LNonsenseRows$Text;)V" } : Jvm.MethodName)) ∈ lw_all := lw_g (lw_at lw_m2 147 rfl) rfl
theorem q471 : (Jvm.Cond.selects "NonsenseRows$Head" ({ cls := "NonsenseRows$Head", name := "clears", desc := "(LNonsenseRows$Text;)V" } : Jvm.MethodName) ({ cls := "NonsenseRows$Head", name := "clears", desc := "(LNonsenseRows$Text;)V" } : Jvm.MethodName)) ∈ lw_all := lw_g (lw_at lw_m2 148 rfl) rfl
theorem q472 : (Jvm.Cond.code ({ cls := "NonsenseRows$Head", name := "clears", desc := "(LNonsenseRows$Text;)V" } : Jvm.MethodName) prog_6_method_2_code (2 : Nat) (Option.none : Option Jvm.ClassFile.FieldType)) ∈ lw_all := lw_g (lw_at lw_m2 149 rfl) rfl
theorem q473 : (Jvm.Cond.methodLink "NonsenseRows$Head" (34 : Nat) ({ cls := "NonsenseRows$Head", name := "empties", desc := "()V" } : Jvm.MethodName)) ∈ lw_all := lw_g (lw_at lw_m2 150 rfl) rfl
theorem q474 : (Jvm.Cond.instanceMethod ({ cls := "NonsenseRows$Head", name := "empties", desc := "()V" } : Jvm.MethodName)) ∈ lw_all := lw_g (lw_at lw_m2 151 rfl) rfl
theorem q475 : (Jvm.Cond.selects "NonsenseRows$Head" ({ cls := "NonsenseRows$Head", name := "empties", desc := "()V" } : Jvm.MethodName) ({ cls := "NonsenseRows$Head", name := "empties", desc := "()V" } : Jvm.MethodName)) ∈ lw_all := lw_g (lw_at lw_m2 152 rfl) rfl
theorem q476 : (Jvm.Cond.code ({ cls := "NonsenseRows$Head", name := "empties", desc := "()V" } : Jvm.MethodName) prog_6_method_3_code (10 : Nat) (Option.none : Option Jvm.ClassFile.FieldType)) ∈ lw_all := lw_g (lw_at lw_m2 153 rfl) rfl
theorem q899 : (Jvm.Cond.selects "NonsenseRows$Head" ({ cls := "java/lang/Object", name := "getClass", desc := "()Ljava/lang/Class;" } : Jvm.MethodName) ({ cls := "java/lang/Object", name := "getClass", desc := "()Ljava/lang/Class;" } : Jvm.MethodName)) ∈ lw_all := lw_g (lw_at lw_m4 96 rfl) rfl
theorem q1000 : (Jvm.Cond.instanceMethod ({ cls := "NonsenseRows$Head", name := "slips", desc := "([II)I" } : Jvm.MethodName)) ∈ lw_all := lw_g (lw_at lw_m4 197 rfl) rfl
theorem q1001 : (Jvm.Cond.selects "NonsenseRows$Head" ({ cls := "NonsenseRows$Head", name := "slips", desc := "([II)I" } : Jvm.MethodName) ({ cls := "NonsenseRows$Head", name := "slips", desc := "([II)I" } : Jvm.MethodName)) ∈ lw_all := lw_g (lw_at lw_m4 198 rfl) rfl
theorem q1002 : (Jvm.Cond.code ({ cls := "NonsenseRows$Head", name := "slips", desc := "([II)I" } : Jvm.MethodName) prog_6_method_11_code (5 : Nat) (Option.some Jvm.ClassFile.FieldType.int)) ∈ lw_all := lw_g (lw_at lw_m4 199 rfl) rfl
theorem q1003 : (Jvm.Cond.methodLink "NonsenseRows$Head" (92 : Nat) ({ cls := "NonsenseRows$Head", name := "support", desc := "([III)I" } : Jvm.MethodName)) ∈ lw_all := lw_g (lw_at lw_m4 200 rfl) rfl
theorem q1004 : (Jvm.Cond.instanceMethod ({ cls := "NonsenseRows$Head", name := "support", desc := "([III)I" } : Jvm.MethodName)) ∈ lw_all := lw_g (lw_at lw_m4 201 rfl) rfl
theorem q1005 : (Jvm.Cond.selects "NonsenseRows$Head" ({ cls := "NonsenseRows$Head", name := "support", desc := "([III)I" } : Jvm.MethodName) ({ cls := "NonsenseRows$Head", name := "support", desc := "([III)I" } : Jvm.MethodName)) ∈ lw_all := lw_g (lw_at lw_m4 202 rfl) rfl
theorem q1006 : (Jvm.Cond.code ({ cls := "NonsenseRows$Head", name := "support", desc := "([III)I" } : Jvm.MethodName) prog_6_method_10_code (6 : Nat) (Option.some Jvm.ClassFile.FieldType.int)) ∈ lw_all := lw_g (lw_at lw_m4 203 rfl) rfl
theorem q1014 : (Jvm.Cond.instanceMethod ({ cls := "NonsenseRows$Head", name := "reads", desc := "([I)V" } : Jvm.MethodName)) ∈ lw_all := lw_g (lw_at lw_m4 211 rfl) rfl
theorem q1015 : (Jvm.Cond.selects "NonsenseRows$Head" ({ cls := "NonsenseRows$Head", name := "reads", desc := "([I)V" } : Jvm.MethodName) ({ cls := "NonsenseRows$Head", name := "reads", desc := "([I)V" } : Jvm.MethodName)) ∈ lw_all := lw_g (lw_at lw_m4 212 rfl) rfl
theorem q1016 : (Jvm.Cond.code ({ cls := "NonsenseRows$Head", name := "reads", desc := "([I)V" } : Jvm.MethodName) prog_6_method_8_code (5 : Nat) (Option.none : Option Jvm.ClassFile.FieldType)) ∈ lw_all := lw_g (lw_at lw_m4 213 rfl) rfl
theorem q1017 : (Jvm.Cond.methodLink "NonsenseRows$Head" (85 : Nat) ({ cls := "NonsenseRows$Head", name := "moves", desc := "(IIII)V" } : Jvm.MethodName)) ∈ lw_all := lw_g (lw_at lw_m4 214 rfl) rfl
theorem q1018 : (Jvm.Cond.privateMethod ({ cls := "NonsenseRows$Head", name := "moves", desc := "(IIII)V" } : Jvm.MethodName)) ∈ lw_tbl := lw_at lw_m4 215 rfl
theorem q1019 : (Jvm.Cond.instanceMethod ({ cls := "NonsenseRows$Head", name := "moves", desc := "(IIII)V" } : Jvm.MethodName)) ∈ lw_all := lw_g (lw_at lw_m4 216 rfl) rfl
theorem q1020 : (Jvm.Cond.code ({ cls := "NonsenseRows$Head", name := "moves", desc := "(IIII)V" } : Jvm.MethodName) prog_6_method_7_code (8 : Nat) (Option.none : Option Jvm.ClassFile.FieldType)) ∈ lw_all := lw_g (lw_at lw_m4 217 rfl) rfl
theorem q1021 : (Jvm.Cond.methodLink "NonsenseRows$Head" (66 : Nat) ({ cls := "NonsenseRows$Head", name := "leadsTo", desc := "(III)I" } : Jvm.MethodName)) ∈ lw_all := lw_g (lw_at lw_m4 218 rfl) rfl
theorem q1022 : (Jvm.Cond.static ({ cls := "NonsenseRows$Head", name := "leadsTo", desc := "(III)I" } : Jvm.MethodName)) ∈ lw_all := lw_g (lw_at lw_m4 219 rfl) rfl
theorem q1023 : (Jvm.Cond.code ({ cls := "NonsenseRows$Head", name := "leadsTo", desc := "(III)I" } : Jvm.MethodName) prog_6_method_6_code (3 : Nat) (Option.some Jvm.ClassFile.FieldType.int)) ∈ lw_all := lw_g (lw_at lw_m4 220 rfl) rfl
theorem q1024 : (Jvm.Cond.methodLink "NonsenseRows$Head" (70 : Nat) ({ cls := "NonsenseRows$Head", name := "law", desc := "(IIII)J" } : Jvm.MethodName)) ∈ lw_all := lw_g (lw_at lw_m4 221 rfl) rfl
theorem q1025 : (Jvm.Cond.instanceMethod ({ cls := "NonsenseRows$Head", name := "law", desc := "(IIII)J" } : Jvm.MethodName)) ∈ lw_all := lw_g (lw_at lw_m4 222 rfl) rfl
theorem q1026 : (Jvm.Cond.selects "NonsenseRows$Head" ({ cls := "NonsenseRows$Head", name := "law", desc := "(IIII)J" } : Jvm.MethodName) ({ cls := "NonsenseRows$Head", name := "law", desc := "(IIII)J" } : Jvm.MethodName)) ∈ lw_all := lw_g (lw_at lw_m4 223 rfl) rfl
theorem q1027 : (Jvm.Cond.code ({ cls := "NonsenseRows$Head", name := "law", desc := "(IIII)J" } : Jvm.MethodName) prog_6_method_5_code (6 : Nat) (Option.some Jvm.ClassFile.FieldType.long)) ∈ lw_all := lw_g (lw_at lw_m4 224 rfl) rfl
theorem q1028 : (Jvm.Cond.methodLink "NonsenseRows$Head" (60 : Nat) ({ cls := "NonsenseRows$Sum", name := "comes", desc := "(LNonsenseRows$Asked;)J" } : Jvm.MethodName)) ∈ lw_all := lw_g (lw_at lw_m4 225 rfl) rfl
theorem q1070 : (Jvm.Cond.constantLong "NonsenseRows$Head" (74 : Nat) (1000 : Int64)) ∈ lw_all := lw_g (lw_at lw_m5 27 rfl) rfl
theorem q1071 : (Jvm.Cond.methodLink "NonsenseRows$Head" (76 : Nat) ({ cls := "java/lang/Math", name := "min", desc := "(JJ)J" } : Jvm.MethodName)) ∈ lw_all := lw_g (lw_at lw_m5 28 rfl) rfl
theorem q1074 : (Jvm.Cond.methodLink "NonsenseRows$Head" (82 : Nat) ({ cls := "java/lang/Math", name := "max", desc := "(JJ)J" } : Jvm.MethodName)) ∈ lw_all := lw_g (lw_at lw_m5 31 rfl) rfl
theorem q1137 : (Jvm.Cond.instanceMethod ({ cls := "NonsenseRows$Head", name := "learns", desc := "([II)I" } : Jvm.MethodName)) ∈ lw_all := lw_g (lw_at lw_m5 94 rfl) rfl
theorem q1138 : (Jvm.Cond.selects "NonsenseRows$Head" ({ cls := "NonsenseRows$Head", name := "learns", desc := "([II)I" } : Jvm.MethodName) ({ cls := "NonsenseRows$Head", name := "learns", desc := "([II)I" } : Jvm.MethodName)) ∈ lw_all := lw_g (lw_at lw_m5 95 rfl) rfl
theorem q1139 : (Jvm.Cond.code ({ cls := "NonsenseRows$Head", name := "learns", desc := "([II)I" } : Jvm.MethodName) prog_6_method_12_code (5 : Nat) (Option.some Jvm.ClassFile.FieldType.int)) ∈ lw_all := lw_g (lw_at lw_m5 96 rfl) rfl
theorem q1140 : (Jvm.Cond.methodLink "NonsenseRows$Head" (99 : Nat) ({ cls := "NonsenseRows$Head", name := "reads", desc := "([I)V" } : Jvm.MethodName)) ∈ lw_all := lw_g (lw_at lw_m5 97 rfl) rfl
theorem q1141 : (Jvm.Cond.methodLink "NonsenseRows$Head" (103 : Nat) ({ cls := "NonsenseRows$Head", name := "slips", desc := "([II)I" } : Jvm.MethodName)) ∈ lw_all := lw_g (lw_at lw_m5 98 rfl) rfl
theorem q1151 : (Jvm.Cond.instanceMethod ({ cls := "NonsenseRows$Head", name := "waits", desc := "(I)V" } : Jvm.MethodName)) ∈ lw_all := lw_g (lw_at lw_m5 108 rfl) rfl
theorem q1152 : (Jvm.Cond.selects "NonsenseRows$Head" ({ cls := "NonsenseRows$Head", name := "waits", desc := "(I)V" } : Jvm.MethodName) ({ cls := "NonsenseRows$Head", name := "waits", desc := "(I)V" } : Jvm.MethodName)) ∈ lw_all := lw_g (lw_at lw_m5 109 rfl) rfl
theorem q1153 : (Jvm.Cond.code ({ cls := "NonsenseRows$Head", name := "waits", desc := "(I)V" } : Jvm.MethodName) prog_6_method_9_code (6 : Nat) (Option.none : Option Jvm.ClassFile.FieldType)) ∈ lw_all := lw_g (lw_at lw_m5 110 rfl) rfl
theorem q1171 : (Jvm.Cond.instanceMethod ({ cls := "NonsenseRows$Head", name := "linkMany", desc := "(I)I" } : Jvm.MethodName)) ∈ lw_all := lw_g (lw_at lw_m5 128 rfl) rfl
theorem q1172 : (Jvm.Cond.selects "NonsenseRows$Head" ({ cls := "NonsenseRows$Head", name := "linkMany", desc := "(I)I" } : Jvm.MethodName) ({ cls := "NonsenseRows$Head", name := "linkMany", desc := "(I)I" } : Jvm.MethodName)) ∈ lw_all := lw_g (lw_at lw_m5 129 rfl) rfl
theorem q1173 : (Jvm.Cond.code ({ cls := "NonsenseRows$Head", name := "linkMany", desc := "(I)I" } : Jvm.MethodName) prog_6_method_14_code (11 : Nat) (Option.some Jvm.ClassFile.FieldType.int)) ∈ lw_all := lw_g (lw_at lw_m5 130 rfl) rfl
theorem q1209 : (Jvm.Cond.instanceMethod ({ cls := "NonsenseRows$Head", name := "becomes", desc := "(LNonsenseRows$Head;)V" } : Jvm.MethodName)) ∈ lw_all := lw_g (lw_at lw_m5 166 rfl) rfl
theorem q1210 : (Jvm.Cond.selects "NonsenseRows$Head" ({ cls := "NonsenseRows$Head", name := "becomes", desc := "(LNonsenseRows$Head;)V" } : Jvm.MethodName) ({ cls := "NonsenseRows$Head", name := "becomes", desc := "(LNonsenseRows$Head;)V" } : Jvm.MethodName)) ∈ lw_all := lw_g (lw_at lw_m5 167 rfl) rfl
theorem q1211 : (Jvm.Cond.code ({ cls := "NonsenseRows$Head", name := "becomes", desc := "(LNonsenseRows$Head;)V" } : Jvm.MethodName) prog_6_method_4_code (4 : Nat) (Option.none : Option Jvm.ClassFile.FieldType)) ∈ lw_all := lw_g (lw_at lw_m5 168 rfl) rfl
theorem q1212 : (Jvm.Cond.methodLink "NonsenseRows$Head" (37 : Nat) ({ cls := "java/lang/System", name := "arraycopy", desc := "(Ljava/lang/Object;ILjava/lang/Object;II)V" } : Jvm.MethodName)) ∈ lw_all := lw_g (lw_at lw_m5 169 rfl) rfl
theorem q1323 : (Jvm.Cond.instanceMethod ({ cls := "NonsenseRows$Head", name := "supports", desc := "([I)I" } : Jvm.MethodName)) ∈ lw_all := lw_g (lw_at lw_m6 40 rfl) rfl
theorem q1324 : (Jvm.Cond.selects "NonsenseRows$Head" ({ cls := "NonsenseRows$Head", name := "supports", desc := "([I)I" } : Jvm.MethodName) ({ cls := "NonsenseRows$Head", name := "supports", desc := "([I)I" } : Jvm.MethodName)) ∈ lw_all := lw_g (lw_at lw_m6 41 rfl) rfl
theorem q1325 : (Jvm.Cond.code ({ cls := "NonsenseRows$Head", name := "supports", desc := "([I)I" } : Jvm.MethodName) prog_6_method_13_code (4 : Nat) (Option.some Jvm.ClassFile.FieldType.int)) ∈ lw_all := lw_g (lw_at lw_m6 42 rfl) rfl
theorem q1926 : (Jvm.Cond.castable "NonsenseRows$Head" "java/lang/Object") ∈ lw_tbl := lw_at lw_m8 163 rfl

set_option maxRecDepth 100000
abbrev cX4_init : ByteArray := prog_4_method_1_code
def yX4_init : MethodName := ⟨RX4, "<init>", "()V"⟩
theorem dX4_init_0 : decode cX4_init 0 = .ok (.aload_n 0, 1) := by decide +kernel
theorem dX4_init_1 : decode cX4_init 1 = .ok (.invokespecial 3, 3) := by decide +kernel
theorem dX4_init_4 : decode cX4_init 4 = .ok (.return_, 1) := by decide +kernel
abbrev cX4_within : ByteArray := prog_4_method_2_code
def yX4_within : MethodName := ⟨RX4, "within", "(J)J"⟩
def dkwX4_within_1 : List UInt8 := [4, 167, 0, 4, 3, 181, 0, 9, 42, 180, 0, 9, 153, 0, 7, 9, 167, 0, 4, 31, 173]
abbrev dktX4_within_1 : List UInt8 := dkwX4_within_1 ++ []
def dkwX4_within_0 : List UInt8 := [42, 42, 180, 0, 9, 154, 0, 19, 31, 20, 0, 15, 148, 157, 0, 11, 31, 20, 0, 17, 148, 156, 0, 7]
abbrev dktX4_within_0 : List UInt8 := dkwX4_within_0 ++ dktX4_within_1
theorem dksX4_within_0 : cX4_within.data.toList.drop 0 = dktX4_within_0 := by decide +kernel
theorem dksX4_within_1 : cX4_within.data.toList.drop 24 = dktX4_within_1 := dk_seg dksX4_within_0 24 rfl rfl
theorem dX4_within_0 : decode cX4_within 0 = .ok (.aload_n 0, 1) := dk_42 (dk_at dksX4_within_0 0 rfl rfl)
theorem dX4_within_1 : decode cX4_within 1 = .ok (.aload_n 0, 1) := dk_42 (dk_at dksX4_within_0 1 rfl rfl)
theorem dX4_within_2 : decode cX4_within 2 = .ok (.getfield 9, 3) := dk_180 0 9 (dk_at dksX4_within_0 2 rfl rfl)
theorem dX4_within_5 : decode cX4_within 5 = .ok (.ifCond .ne 19, 3) := dk_154 0 19 (dk_at dksX4_within_0 5 rfl rfl)
theorem dX4_within_8 : decode cX4_within 8 = .ok (.lload_n 1, 1) := dk_31 (dk_at dksX4_within_0 8 rfl rfl)
theorem dX4_within_9 : decode cX4_within 9 = .ok (.ldc2_w 15, 3) := dk_20 0 15 (dk_at dksX4_within_0 9 rfl rfl)
theorem dX4_within_12 : decode cX4_within 12 = .ok (.lcmp, 1) := dk_148 (dk_at dksX4_within_0 12 rfl rfl)
theorem dX4_within_13 : decode cX4_within 13 = .ok (.ifCond .gt 11, 3) := dk_157 0 11 (dk_at dksX4_within_0 13 rfl rfl)
theorem dX4_within_16 : decode cX4_within 16 = .ok (.lload_n 1, 1) := dk_31 (dk_at dksX4_within_0 16 rfl rfl)
theorem dX4_within_17 : decode cX4_within 17 = .ok (.ldc2_w 17, 3) := dk_20 0 17 (dk_at dksX4_within_0 17 rfl rfl)
theorem dX4_within_20 : decode cX4_within 20 = .ok (.lcmp, 1) := dk_148 (dk_at dksX4_within_0 20 rfl rfl)
theorem dX4_within_21 : decode cX4_within 21 = .ok (.ifCond .ge 7, 3) := dk_156 0 7 (dk_at dksX4_within_0 21 rfl rfl)
theorem dX4_within_24 : decode cX4_within 24 = .ok (.iconst 1, 1) := dk_4 (dk_at dksX4_within_1 0 rfl rfl)
theorem dX4_within_25 : decode cX4_within 25 = .ok (.goto 4, 3) := dk_167 0 4 (dk_at dksX4_within_1 1 rfl rfl)
theorem dX4_within_28 : decode cX4_within 28 = .ok (.iconst 0, 1) := dk_3 (dk_at dksX4_within_1 4 rfl rfl)
theorem dX4_within_29 : decode cX4_within 29 = .ok (.putfield 9, 3) := dk_181 0 9 (dk_at dksX4_within_1 5 rfl rfl)
theorem dX4_within_32 : decode cX4_within 32 = .ok (.aload_n 0, 1) := dk_42 (dk_at dksX4_within_1 8 rfl rfl)
theorem dX4_within_33 : decode cX4_within 33 = .ok (.getfield 9, 3) := dk_180 0 9 (dk_at dksX4_within_1 9 rfl rfl)
theorem dX4_within_36 : decode cX4_within 36 = .ok (.ifCond .eq 7, 3) := dk_153 0 7 (dk_at dksX4_within_1 12 rfl rfl)
theorem dX4_within_39 : decode cX4_within 39 = .ok (.lconst 0, 1) := dk_9 (dk_at dksX4_within_1 15 rfl rfl)
theorem dX4_within_40 : decode cX4_within 40 = .ok (.goto 4, 3) := dk_167 0 4 (dk_at dksX4_within_1 16 rfl rfl)
theorem dX4_within_43 : decode cX4_within 43 = .ok (.lload_n 1, 1) := dk_31 (dk_at dksX4_within_1 19 rfl rfl)
theorem dX4_within_44 : decode cX4_within 44 = .ok (.lreturn, 1) := dk_173 (dk_at dksX4_within_1 20 rfl rfl)
theorem q91 : (Jvm.Cond.initialized "NonsenseRows$Asked") ∈ lw_all := lw_g (lw_at lw_m1 8 rfl) rfl
theorem q423 : (Jvm.Cond.instantiable "NonsenseRows$Asked" (5 : Nat)) ∈ lw_all := lw_g (lw_at lw_m2 100 rfl) rfl
theorem q425 : (Jvm.Cond.instanceMethod ({ cls := "NonsenseRows$Asked", name := "<init>", desc := "()V" } : Jvm.MethodName)) ∈ lw_all := lw_g (lw_at lw_m2 102 rfl) rfl
theorem q426 : (Jvm.Cond.code ({ cls := "NonsenseRows$Asked", name := "<init>", desc := "()V" } : Jvm.MethodName) prog_4_method_1_code (1 : Nat) (Option.none : Option Jvm.ClassFile.FieldType)) ∈ lw_all := lw_g (lw_at lw_m2 103 rfl) rfl
theorem q427 : (Jvm.Cond.methodLink "NonsenseRows$Asked" (3 : Nat) ({ cls := "java/lang/Object", name := "<init>", desc := "()V" } : Jvm.MethodName)) ∈ lw_all := lw_g (lw_at lw_m2 104 rfl) rfl
theorem q436 : (Jvm.Cond.fieldLink "NonsenseRows$Asked" (9 : Nat) "NonsenseRows$Asked" "isBroken" "Z") ∈ lw_all := lw_g (lw_at lw_m2 113 rfl) rfl
theorem q439 : (Jvm.Cond.lays "NonsenseRows$Asked" "NonsenseRows$Asked" "has" "I") ∈ lw_all := lw_g (lw_at lw_m2 116 rfl) rfl
theorem q440 : (Jvm.Cond.soleField "NonsenseRows$Asked" "has") ∈ lw_all := lw_g (lw_at lw_m2 117 rfl) rfl
theorem q441 : (Jvm.Cond.lays "NonsenseRows$Asked" "NonsenseRows$Asked" "easy" "I") ∈ lw_all := lw_g (lw_at lw_m2 118 rfl) rfl
theorem q442 : (Jvm.Cond.soleField "NonsenseRows$Asked" "easy") ∈ lw_all := lw_g (lw_at lw_m2 119 rfl) rfl
theorem q443 : (Jvm.Cond.lays "NonsenseRows$Asked" "NonsenseRows$Asked" "tired" "I") ∈ lw_all := lw_g (lw_at lw_m2 120 rfl) rfl
theorem q444 : (Jvm.Cond.soleField "NonsenseRows$Asked" "tired") ∈ lw_all := lw_g (lw_at lw_m2 121 rfl) rfl
theorem q445 : (Jvm.Cond.lays "NonsenseRows$Asked" "NonsenseRows$Asked" "hour" "I") ∈ lw_all := lw_g (lw_at lw_m2 122 rfl) rfl
theorem q446 : (Jvm.Cond.soleField "NonsenseRows$Asked" "hour") ∈ lw_all := lw_g (lw_at lw_m2 123 rfl) rfl
theorem q447 : (Jvm.Cond.lays "NonsenseRows$Asked" "NonsenseRows$Asked" "isBroken" "Z") ∈ lw_all := lw_g (lw_at lw_m2 124 rfl) rfl
theorem q448 : (Jvm.Cond.soleField "NonsenseRows$Asked" "isBroken") ∈ lw_all := lw_g (lw_at lw_m2 125 rfl) rfl
theorem q449 : (Jvm.Cond.superclass "NonsenseRows$Asked" "java/lang/Object") ∈ lw_all := lw_g (lw_at lw_m2 126 rfl) rfl
theorem q898 : (Jvm.Cond.selects "NonsenseRows$Asked" ({ cls := "java/lang/Object", name := "getClass", desc := "()Ljava/lang/Class;" } : Jvm.MethodName) ({ cls := "java/lang/Object", name := "getClass", desc := "()Ljava/lang/Class;" } : Jvm.MethodName)) ∈ lw_all := lw_g (lw_at lw_m4 95 rfl) rfl
theorem q1061 : (Jvm.Cond.instanceMethod ({ cls := "NonsenseRows$Asked", name := "within", desc := "(J)J" } : Jvm.MethodName)) ∈ lw_all := lw_g (lw_at lw_m5 18 rfl) rfl
theorem q1062 : (Jvm.Cond.selects "NonsenseRows$Asked" ({ cls := "NonsenseRows$Asked", name := "within", desc := "(J)J" } : Jvm.MethodName) ({ cls := "NonsenseRows$Asked", name := "within", desc := "(J)J" } : Jvm.MethodName)) ∈ lw_all := lw_g (lw_at lw_m5 19 rfl) rfl
theorem q1063 : (Jvm.Cond.code ({ cls := "NonsenseRows$Asked", name := "within", desc := "(J)J" } : Jvm.MethodName) prog_4_method_2_code (3 : Nat) (Option.some Jvm.ClassFile.FieldType.long)) ∈ lw_all := lw_g (lw_at lw_m5 20 rfl) rfl
theorem q1064 : (Jvm.Cond.constantLong "NonsenseRows$Asked" (15 : Nat) (1000000000 : Int64)) ∈ lw_all := lw_g (lw_at lw_m5 21 rfl) rfl
theorem q1065 : (Jvm.Cond.constantLong "NonsenseRows$Asked" (17 : Nat) (-1000000000 : Int64)) ∈ lw_all := lw_g (lw_at lw_m5 22 rfl) rfl
theorem q1927 : (Jvm.Cond.castable "NonsenseRows$Asked" "java/lang/Object") ∈ lw_tbl := lw_at lw_m8 164 rfl

set_option maxRecDepth 100000
abbrev cX5_begins : ByteArray := prog_11_method_2_code
def yX5_begins : MethodName := ⟨RX5, "begins", "(II)Z"⟩
def dkwX5_begins_3 : List UInt8 := [181, 0, 9, 167, 0, 10, 42, 28, 188, 11, 181, 0, 9, 167, 0, 6, 78, 3, 172, 4, 172]
abbrev dktX5_begins_3 : List UInt8 := dkwX5_begins_3 ++ []
def dkwX5_begins_2 : List UInt8 := [42, 28, 188, 8, 181, 0, 9, 167, 0, 30, 42, 28, 188, 9, 181, 0, 9, 167, 0, 20, 42, 28, 188, 10]
abbrev dktX5_begins_2 : List UInt8 := dkwX5_begins_2 ++ dktX5_begins_3
def dkwX5_begins_1 : List UInt8 := [170, 0, 0, 0, 0, 0, 57, 0, 0, 0, 0, 0, 0, 0, 2, 0, 0, 0, 27, 0, 0, 0, 37, 0, 0, 0, 47]
abbrev dktX5_begins_1 : List UInt8 := dkwX5_begins_1 ++ dktX5_begins_2
def dkwX5_begins_0 : List UInt8 := [27]
abbrev dktX5_begins_0 : List UInt8 := dkwX5_begins_0 ++ dktX5_begins_1
theorem dksX5_begins_0 : cX5_begins.data.toList.drop 0 = dktX5_begins_0 := by decide +kernel
theorem dksX5_begins_1 : cX5_begins.data.toList.drop 1 = dktX5_begins_1 := dk_seg dksX5_begins_0 1 rfl rfl
theorem dksX5_begins_2 : cX5_begins.data.toList.drop 28 = dktX5_begins_2 := dk_seg dksX5_begins_1 27 rfl rfl
theorem dksX5_begins_3 : cX5_begins.data.toList.drop 52 = dktX5_begins_3 := dk_seg dksX5_begins_2 24 rfl rfl
theorem dX5_begins_0 : decode cX5_begins 0 = .ok (.iload_n 1, 1) := dk_27 (dk_at dksX5_begins_0 0 rfl rfl)
theorem dX5_begins_1 : decode cX5_begins 1 = .ok (.tableswitch 57 0 2 #[27, 37, 47], 27) := by decide +kernel
theorem dX5_begins_28 : decode cX5_begins 28 = .ok (.aload_n 0, 1) := dk_42 (dk_at dksX5_begins_2 0 rfl rfl)
theorem dX5_begins_29 : decode cX5_begins 29 = .ok (.iload_n 2, 1) := dk_28 (dk_at dksX5_begins_2 1 rfl rfl)
theorem dX5_begins_30 : decode cX5_begins 30 = .ok (.newarray .byte, 2) := dk_188_8 (dk_at dksX5_begins_2 2 rfl rfl)
theorem dX5_begins_32 : decode cX5_begins 32 = .ok (.putfield 9, 3) := dk_181 0 9 (dk_at dksX5_begins_2 4 rfl rfl)
theorem dX5_begins_35 : decode cX5_begins 35 = .ok (.goto 30, 3) := dk_167 0 30 (dk_at dksX5_begins_2 7 rfl rfl)
theorem dX5_begins_38 : decode cX5_begins 38 = .ok (.aload_n 0, 1) := dk_42 (dk_at dksX5_begins_2 10 rfl rfl)
theorem dX5_begins_39 : decode cX5_begins 39 = .ok (.iload_n 2, 1) := dk_28 (dk_at dksX5_begins_2 11 rfl rfl)
theorem dX5_begins_40 : decode cX5_begins 40 = .ok (.newarray .short, 2) := dk_188_9 (dk_at dksX5_begins_2 12 rfl rfl)
theorem dX5_begins_42 : decode cX5_begins 42 = .ok (.putfield 9, 3) := dk_181 0 9 (dk_at dksX5_begins_2 14 rfl rfl)
theorem dX5_begins_45 : decode cX5_begins 45 = .ok (.goto 20, 3) := dk_167 0 20 (dk_at dksX5_begins_2 17 rfl rfl)
theorem dX5_begins_48 : decode cX5_begins 48 = .ok (.aload_n 0, 1) := dk_42 (dk_at dksX5_begins_2 20 rfl rfl)
theorem dX5_begins_49 : decode cX5_begins 49 = .ok (.iload_n 2, 1) := dk_28 (dk_at dksX5_begins_2 21 rfl rfl)
theorem dX5_begins_50 : decode cX5_begins 50 = .ok (.newarray .int, 2) := dk_188_10 (dk_at dksX5_begins_2 22 rfl rfl)
theorem dX5_begins_52 : decode cX5_begins 52 = .ok (.putfield 9, 3) := dk_181 0 9 (dk_at dksX5_begins_3 0 rfl rfl)
theorem dX5_begins_55 : decode cX5_begins 55 = .ok (.goto 10, 3) := dk_167 0 10 (dk_at dksX5_begins_3 3 rfl rfl)
theorem dX5_begins_58 : decode cX5_begins 58 = .ok (.aload_n 0, 1) := dk_42 (dk_at dksX5_begins_3 6 rfl rfl)
theorem dX5_begins_59 : decode cX5_begins 59 = .ok (.iload_n 2, 1) := dk_28 (dk_at dksX5_begins_3 7 rfl rfl)
theorem dX5_begins_60 : decode cX5_begins 60 = .ok (.newarray .long, 2) := dk_188_11 (dk_at dksX5_begins_3 8 rfl rfl)
theorem dX5_begins_62 : decode cX5_begins 62 = .ok (.putfield 9, 3) := dk_181 0 9 (dk_at dksX5_begins_3 10 rfl rfl)
theorem dX5_begins_65 : decode cX5_begins 65 = .ok (.goto 6, 3) := dk_167 0 6 (dk_at dksX5_begins_3 13 rfl rfl)
theorem dX5_begins_68 : decode cX5_begins 68 = .ok (.astore_n 3, 1) := dk_78 (dk_at dksX5_begins_3 16 rfl rfl)
theorem dX5_begins_69 : decode cX5_begins 69 = .ok (.iconst 0, 1) := dk_3 (dk_at dksX5_begins_3 17 rfl rfl)
theorem dX5_begins_70 : decode cX5_begins 70 = .ok (.ireturn, 1) := dk_172 (dk_at dksX5_begins_3 18 rfl rfl)
theorem dX5_begins_71 : decode cX5_begins 71 = .ok (.iconst 1, 1) := dk_4 (dk_at dksX5_begins_3 19 rfl rfl)
theorem dX5_begins_72 : decode cX5_begins 72 = .ok (.ireturn, 1) := dk_172 (dk_at dksX5_begins_3 20 rfl rfl)
abbrev cX5_puts : ByteArray := prog_11_method_5_code
def yX5_puts : MethodName := ⟨RX5, "puts", "(IJ)I"⟩
def dkwX5_puts_0 : List UInt8 := [42, 27, 32, 182, 0, 25, 167, 0, 13, 58, 4, 16, 250, 172, 58, 4, 16, 249, 172, 3, 172]
abbrev dktX5_puts_0 : List UInt8 := dkwX5_puts_0 ++ []
theorem dksX5_puts_0 : cX5_puts.data.toList.drop 0 = dktX5_puts_0 := by decide +kernel
theorem dX5_puts_0 : decode cX5_puts 0 = .ok (.aload_n 0, 1) := dk_42 (dk_at dksX5_puts_0 0 rfl rfl)
theorem dX5_puts_1 : decode cX5_puts 1 = .ok (.iload_n 1, 1) := dk_27 (dk_at dksX5_puts_0 1 rfl rfl)
theorem dX5_puts_2 : decode cX5_puts 2 = .ok (.lload_n 2, 1) := dk_32 (dk_at dksX5_puts_0 2 rfl rfl)
theorem dX5_puts_3 : decode cX5_puts 3 = .ok (.invokevirtual 25, 3) := dk_182 0 25 (dk_at dksX5_puts_0 3 rfl rfl)
theorem dX5_puts_6 : decode cX5_puts 6 = .ok (.goto 13, 3) := dk_167 0 13 (dk_at dksX5_puts_0 6 rfl rfl)
theorem dX5_puts_9 : decode cX5_puts 9 = .ok (.astore 4, 2) := dk_58 4 (dk_at dksX5_puts_0 9 rfl rfl)
theorem dX5_puts_11 : decode cX5_puts 11 = .ok (.bipush (-6), 2) := dk_16 250 (dk_at dksX5_puts_0 11 rfl rfl)
theorem dX5_puts_13 : decode cX5_puts 13 = .ok (.ireturn, 1) := dk_172 (dk_at dksX5_puts_0 13 rfl rfl)
theorem dX5_puts_14 : decode cX5_puts 14 = .ok (.astore 4, 2) := dk_58 4 (dk_at dksX5_puts_0 14 rfl rfl)
theorem dX5_puts_16 : decode cX5_puts 16 = .ok (.bipush (-7), 2) := dk_16 249 (dk_at dksX5_puts_0 16 rfl rfl)
theorem dX5_puts_18 : decode cX5_puts 18 = .ok (.ireturn, 1) := dk_172 (dk_at dksX5_puts_0 18 rfl rfl)
theorem dX5_puts_19 : decode cX5_puts 19 = .ok (.iconst 0, 1) := dk_3 (dk_at dksX5_puts_0 19 rfl rfl)
theorem dX5_puts_20 : decode cX5_puts 20 = .ok (.ireturn, 1) := dk_172 (dk_at dksX5_puts_0 20 rfl rfl)
abbrev cX5_put : ByteArray := prog_11_method_6_code
def yX5_put : MethodName := ⟨RX5, "put", "(IJ)V"⟩
def dkwX5_put_2 : List UInt8 := [25, 4, 27, 32, 136, 147, 86, 167, 0, 9, 42, 27, 32, 182, 0, 33, 177]
abbrev dktX5_put_2 : List UInt8 := dkwX5_put_2 ++ []
def dkwX5_put_1 : List UInt8 := [145, 84, 167, 0, 38, 42, 180, 0, 9, 193, 0, 19, 153, 0, 22, 42, 180, 0, 9, 192, 0, 19, 58, 4]
abbrev dktX5_put_1 : List UInt8 := dkwX5_put_1 ++ dktX5_put_2
def dkwX5_put_0 : List UInt8 := [42, 180, 0, 9, 193, 0, 17, 153, 0, 22, 42, 180, 0, 9, 192, 0, 17, 58, 4, 25, 4, 27, 32, 136]
abbrev dktX5_put_0 : List UInt8 := dkwX5_put_0 ++ dktX5_put_1
theorem dksX5_put_0 : cX5_put.data.toList.drop 0 = dktX5_put_0 := by decide +kernel
theorem dksX5_put_1 : cX5_put.data.toList.drop 24 = dktX5_put_1 := dk_seg dksX5_put_0 24 rfl rfl
theorem dksX5_put_2 : cX5_put.data.toList.drop 48 = dktX5_put_2 := dk_seg dksX5_put_1 24 rfl rfl
theorem dX5_put_0 : decode cX5_put 0 = .ok (.aload_n 0, 1) := dk_42 (dk_at dksX5_put_0 0 rfl rfl)
theorem dX5_put_1 : decode cX5_put 1 = .ok (.getfield 9, 3) := dk_180 0 9 (dk_at dksX5_put_0 1 rfl rfl)
theorem dX5_put_4 : decode cX5_put 4 = .ok (.instanceof 17, 3) := dk_193 0 17 (dk_at dksX5_put_0 4 rfl rfl)
theorem dX5_put_7 : decode cX5_put 7 = .ok (.ifCond .eq 22, 3) := dk_153 0 22 (dk_at dksX5_put_0 7 rfl rfl)
theorem dX5_put_10 : decode cX5_put 10 = .ok (.aload_n 0, 1) := dk_42 (dk_at dksX5_put_0 10 rfl rfl)
theorem dX5_put_11 : decode cX5_put 11 = .ok (.getfield 9, 3) := dk_180 0 9 (dk_at dksX5_put_0 11 rfl rfl)
theorem dX5_put_14 : decode cX5_put 14 = .ok (.checkcast 17, 3) := dk_192 0 17 (dk_at dksX5_put_0 14 rfl rfl)
theorem dX5_put_17 : decode cX5_put 17 = .ok (.astore 4, 2) := dk_58 4 (dk_at dksX5_put_0 17 rfl rfl)
theorem dX5_put_19 : decode cX5_put 19 = .ok (.aload 4, 2) := dk_25 4 (dk_at dksX5_put_0 19 rfl rfl)
theorem dX5_put_21 : decode cX5_put 21 = .ok (.iload_n 1, 1) := dk_27 (dk_at dksX5_put_0 21 rfl rfl)
theorem dX5_put_22 : decode cX5_put 22 = .ok (.lload_n 2, 1) := dk_32 (dk_at dksX5_put_0 22 rfl rfl)
theorem dX5_put_23 : decode cX5_put 23 = .ok (.l2i, 1) := dk_136 (dk_at dksX5_put_0 23 rfl rfl)
theorem dX5_put_24 : decode cX5_put 24 = .ok (.i2b, 1) := dk_145 (dk_at dksX5_put_1 0 rfl rfl)
theorem dX5_put_25 : decode cX5_put 25 = .ok (.bastore, 1) := dk_84 (dk_at dksX5_put_1 1 rfl rfl)
theorem dX5_put_26 : decode cX5_put 26 = .ok (.goto 38, 3) := dk_167 0 38 (dk_at dksX5_put_1 2 rfl rfl)
theorem dX5_put_29 : decode cX5_put 29 = .ok (.aload_n 0, 1) := dk_42 (dk_at dksX5_put_1 5 rfl rfl)
theorem dX5_put_30 : decode cX5_put 30 = .ok (.getfield 9, 3) := dk_180 0 9 (dk_at dksX5_put_1 6 rfl rfl)
theorem dX5_put_33 : decode cX5_put 33 = .ok (.instanceof 19, 3) := dk_193 0 19 (dk_at dksX5_put_1 9 rfl rfl)
theorem dX5_put_36 : decode cX5_put 36 = .ok (.ifCond .eq 22, 3) := dk_153 0 22 (dk_at dksX5_put_1 12 rfl rfl)
theorem dX5_put_39 : decode cX5_put 39 = .ok (.aload_n 0, 1) := dk_42 (dk_at dksX5_put_1 15 rfl rfl)
theorem dX5_put_40 : decode cX5_put 40 = .ok (.getfield 9, 3) := dk_180 0 9 (dk_at dksX5_put_1 16 rfl rfl)
theorem dX5_put_43 : decode cX5_put 43 = .ok (.checkcast 19, 3) := dk_192 0 19 (dk_at dksX5_put_1 19 rfl rfl)
theorem dX5_put_46 : decode cX5_put 46 = .ok (.astore 4, 2) := dk_58 4 (dk_at dksX5_put_1 22 rfl rfl)
theorem dX5_put_48 : decode cX5_put 48 = .ok (.aload 4, 2) := dk_25 4 (dk_at dksX5_put_2 0 rfl rfl)
theorem dX5_put_50 : decode cX5_put 50 = .ok (.iload_n 1, 1) := dk_27 (dk_at dksX5_put_2 2 rfl rfl)
theorem dX5_put_51 : decode cX5_put 51 = .ok (.lload_n 2, 1) := dk_32 (dk_at dksX5_put_2 3 rfl rfl)
theorem dX5_put_52 : decode cX5_put 52 = .ok (.l2i, 1) := dk_136 (dk_at dksX5_put_2 4 rfl rfl)
theorem dX5_put_53 : decode cX5_put 53 = .ok (.i2s, 1) := dk_147 (dk_at dksX5_put_2 5 rfl rfl)
theorem dX5_put_54 : decode cX5_put 54 = .ok (.sastore, 1) := dk_86 (dk_at dksX5_put_2 6 rfl rfl)
theorem dX5_put_55 : decode cX5_put 55 = .ok (.goto 9, 3) := dk_167 0 9 (dk_at dksX5_put_2 7 rfl rfl)
theorem dX5_put_58 : decode cX5_put 58 = .ok (.aload_n 0, 1) := dk_42 (dk_at dksX5_put_2 10 rfl rfl)
theorem dX5_put_59 : decode cX5_put 59 = .ok (.iload_n 1, 1) := dk_27 (dk_at dksX5_put_2 11 rfl rfl)
theorem dX5_put_60 : decode cX5_put 60 = .ok (.lload_n 2, 1) := dk_32 (dk_at dksX5_put_2 12 rfl rfl)
theorem dX5_put_61 : decode cX5_put 61 = .ok (.invokevirtual 33, 3) := dk_182 0 33 (dk_at dksX5_put_2 13 rfl rfl)
theorem dX5_put_64 : decode cX5_put 64 = .ok (.return_, 1) := dk_177 (dk_at dksX5_put_2 16 rfl rfl)
abbrev cX5_putWider : ByteArray := prog_11_method_7_code
def yX5_putWider : MethodName := ⟨RX5, "putWider", "(IJ)V"⟩
def dkwX5_putWider_1 : List UInt8 := [192, 0, 23, 58, 5, 25, 5, 27, 32, 80, 177]
abbrev dktX5_putWider_1 : List UInt8 := dkwX5_putWider_1 ++ []
def dkwX5_putWider_0 : List UInt8 := [42, 180, 0, 9, 192, 0, 21, 58, 4, 25, 4, 27, 32, 136, 79, 167, 0, 19, 58, 4, 42, 180, 0, 9]
abbrev dktX5_putWider_0 : List UInt8 := dkwX5_putWider_0 ++ dktX5_putWider_1
theorem dksX5_putWider_0 : cX5_putWider.data.toList.drop 0 = dktX5_putWider_0 := by decide +kernel
theorem dksX5_putWider_1 : cX5_putWider.data.toList.drop 24 = dktX5_putWider_1 := dk_seg dksX5_putWider_0 24 rfl rfl
theorem dX5_putWider_0 : decode cX5_putWider 0 = .ok (.aload_n 0, 1) := dk_42 (dk_at dksX5_putWider_0 0 rfl rfl)
theorem dX5_putWider_1 : decode cX5_putWider 1 = .ok (.getfield 9, 3) := dk_180 0 9 (dk_at dksX5_putWider_0 1 rfl rfl)
theorem dX5_putWider_4 : decode cX5_putWider 4 = .ok (.checkcast 21, 3) := dk_192 0 21 (dk_at dksX5_putWider_0 4 rfl rfl)
theorem dX5_putWider_7 : decode cX5_putWider 7 = .ok (.astore 4, 2) := dk_58 4 (dk_at dksX5_putWider_0 7 rfl rfl)
theorem dX5_putWider_9 : decode cX5_putWider 9 = .ok (.aload 4, 2) := dk_25 4 (dk_at dksX5_putWider_0 9 rfl rfl)
theorem dX5_putWider_11 : decode cX5_putWider 11 = .ok (.iload_n 1, 1) := dk_27 (dk_at dksX5_putWider_0 11 rfl rfl)
theorem dX5_putWider_12 : decode cX5_putWider 12 = .ok (.lload_n 2, 1) := dk_32 (dk_at dksX5_putWider_0 12 rfl rfl)
theorem dX5_putWider_13 : decode cX5_putWider 13 = .ok (.l2i, 1) := dk_136 (dk_at dksX5_putWider_0 13 rfl rfl)
theorem dX5_putWider_14 : decode cX5_putWider 14 = .ok (.iastore, 1) := dk_79 (dk_at dksX5_putWider_0 14 rfl rfl)
theorem dX5_putWider_15 : decode cX5_putWider 15 = .ok (.goto 19, 3) := dk_167 0 19 (dk_at dksX5_putWider_0 15 rfl rfl)
theorem dX5_putWider_18 : decode cX5_putWider 18 = .ok (.astore 4, 2) := dk_58 4 (dk_at dksX5_putWider_0 18 rfl rfl)
theorem dX5_putWider_20 : decode cX5_putWider 20 = .ok (.aload_n 0, 1) := dk_42 (dk_at dksX5_putWider_0 20 rfl rfl)
theorem dX5_putWider_21 : decode cX5_putWider 21 = .ok (.getfield 9, 3) := dk_180 0 9 (dk_at dksX5_putWider_0 21 rfl rfl)
theorem dX5_putWider_24 : decode cX5_putWider 24 = .ok (.checkcast 23, 3) := dk_192 0 23 (dk_at dksX5_putWider_1 0 rfl rfl)
theorem dX5_putWider_27 : decode cX5_putWider 27 = .ok (.astore 5, 2) := dk_58 5 (dk_at dksX5_putWider_1 3 rfl rfl)
theorem dX5_putWider_29 : decode cX5_putWider 29 = .ok (.aload 5, 2) := dk_25 5 (dk_at dksX5_putWider_1 5 rfl rfl)
theorem dX5_putWider_31 : decode cX5_putWider 31 = .ok (.iload_n 1, 1) := dk_27 (dk_at dksX5_putWider_1 7 rfl rfl)
theorem dX5_putWider_32 : decode cX5_putWider 32 = .ok (.lload_n 2, 1) := dk_32 (dk_at dksX5_putWider_1 8 rfl rfl)
theorem dX5_putWider_33 : decode cX5_putWider 33 = .ok (.lastore, 1) := dk_80 (dk_at dksX5_putWider_1 9 rfl rfl)
theorem dX5_putWider_34 : decode cX5_putWider 34 = .ok (.return_, 1) := dk_177 (dk_at dksX5_putWider_1 10 rfl rfl)
abbrev cX5_pastes : ByteArray := prog_11_method_9_code
def yX5_pastes : MethodName := ⟨RX5, "pastes", "(ILNonsenseRows$Slot;II)I"⟩
def dkwX5_pastes_2 : List UInt8 := [167, 0, 8, 58, 5, 16, 249, 172, 3, 172]
abbrev dktX5_pastes_2 : List UInt8 := dkwX5_pastes_2 ++ []
def dkwX5_pastes_1 : List UInt8 := [182, 0, 38, 159, 0, 6, 16, 248, 172, 42, 180, 0, 9, 27, 44, 180, 0, 9, 29, 21, 4, 184, 0, 42]
abbrev dktX5_pastes_1 : List UInt8 := dkwX5_pastes_1 ++ dktX5_pastes_2
def dkwX5_pastes_0 : List UInt8 := [42, 180, 0, 9, 198, 0, 10, 44, 180, 0, 9, 199, 0, 6, 16, 250, 172, 42, 182, 0, 38, 44]
abbrev dktX5_pastes_0 : List UInt8 := dkwX5_pastes_0 ++ dktX5_pastes_1
theorem dksX5_pastes_0 : cX5_pastes.data.toList.drop 0 = dktX5_pastes_0 := by decide +kernel
theorem dksX5_pastes_1 : cX5_pastes.data.toList.drop 22 = dktX5_pastes_1 := dk_seg dksX5_pastes_0 22 rfl rfl
theorem dksX5_pastes_2 : cX5_pastes.data.toList.drop 46 = dktX5_pastes_2 := dk_seg dksX5_pastes_1 24 rfl rfl
theorem dX5_pastes_0 : decode cX5_pastes 0 = .ok (.aload_n 0, 1) := dk_42 (dk_at dksX5_pastes_0 0 rfl rfl)
theorem dX5_pastes_1 : decode cX5_pastes 1 = .ok (.getfield 9, 3) := dk_180 0 9 (dk_at dksX5_pastes_0 1 rfl rfl)
theorem dX5_pastes_4 : decode cX5_pastes 4 = .ok (.ifnull 10, 3) := dk_198 0 10 (dk_at dksX5_pastes_0 4 rfl rfl)
theorem dX5_pastes_7 : decode cX5_pastes 7 = .ok (.aload_n 2, 1) := dk_44 (dk_at dksX5_pastes_0 7 rfl rfl)
theorem dX5_pastes_8 : decode cX5_pastes 8 = .ok (.getfield 9, 3) := dk_180 0 9 (dk_at dksX5_pastes_0 8 rfl rfl)
theorem dX5_pastes_11 : decode cX5_pastes 11 = .ok (.ifnonnull 6, 3) := dk_199 0 6 (dk_at dksX5_pastes_0 11 rfl rfl)
theorem dX5_pastes_14 : decode cX5_pastes 14 = .ok (.bipush (-6), 2) := dk_16 250 (dk_at dksX5_pastes_0 14 rfl rfl)
theorem dX5_pastes_16 : decode cX5_pastes 16 = .ok (.ireturn, 1) := dk_172 (dk_at dksX5_pastes_0 16 rfl rfl)
theorem dX5_pastes_17 : decode cX5_pastes 17 = .ok (.aload_n 0, 1) := dk_42 (dk_at dksX5_pastes_0 17 rfl rfl)
theorem dX5_pastes_18 : decode cX5_pastes 18 = .ok (.invokevirtual 38, 3) := dk_182 0 38 (dk_at dksX5_pastes_0 18 rfl rfl)
theorem dX5_pastes_21 : decode cX5_pastes 21 = .ok (.aload_n 2, 1) := dk_44 (dk_at dksX5_pastes_0 21 rfl rfl)
theorem dX5_pastes_22 : decode cX5_pastes 22 = .ok (.invokevirtual 38, 3) := dk_182 0 38 (dk_at dksX5_pastes_1 0 rfl rfl)
theorem dX5_pastes_25 : decode cX5_pastes 25 = .ok (.if_icmp .eq 6, 3) := dk_159 0 6 (dk_at dksX5_pastes_1 3 rfl rfl)
theorem dX5_pastes_28 : decode cX5_pastes 28 = .ok (.bipush (-8), 2) := dk_16 248 (dk_at dksX5_pastes_1 6 rfl rfl)
theorem dX5_pastes_30 : decode cX5_pastes 30 = .ok (.ireturn, 1) := dk_172 (dk_at dksX5_pastes_1 8 rfl rfl)
theorem dX5_pastes_31 : decode cX5_pastes 31 = .ok (.aload_n 0, 1) := dk_42 (dk_at dksX5_pastes_1 9 rfl rfl)
theorem dX5_pastes_32 : decode cX5_pastes 32 = .ok (.getfield 9, 3) := dk_180 0 9 (dk_at dksX5_pastes_1 10 rfl rfl)
theorem dX5_pastes_35 : decode cX5_pastes 35 = .ok (.iload_n 1, 1) := dk_27 (dk_at dksX5_pastes_1 13 rfl rfl)
theorem dX5_pastes_36 : decode cX5_pastes 36 = .ok (.aload_n 2, 1) := dk_44 (dk_at dksX5_pastes_1 14 rfl rfl)
theorem dX5_pastes_37 : decode cX5_pastes 37 = .ok (.getfield 9, 3) := dk_180 0 9 (dk_at dksX5_pastes_1 15 rfl rfl)
theorem dX5_pastes_40 : decode cX5_pastes 40 = .ok (.iload_n 3, 1) := dk_29 (dk_at dksX5_pastes_1 18 rfl rfl)
theorem dX5_pastes_41 : decode cX5_pastes 41 = .ok (.iload 4, 2) := dk_21 4 (dk_at dksX5_pastes_1 19 rfl rfl)
theorem dX5_pastes_43 : decode cX5_pastes 43 = .ok (.invokestatic 42, 3) := dk_184 0 42 (dk_at dksX5_pastes_1 21 rfl rfl)
theorem dX5_pastes_46 : decode cX5_pastes 46 = .ok (.goto 8, 3) := dk_167 0 8 (dk_at dksX5_pastes_2 0 rfl rfl)
theorem dX5_pastes_49 : decode cX5_pastes 49 = .ok (.astore 5, 2) := dk_58 5 (dk_at dksX5_pastes_2 3 rfl rfl)
theorem dX5_pastes_51 : decode cX5_pastes 51 = .ok (.bipush (-7), 2) := dk_16 249 (dk_at dksX5_pastes_2 5 rfl rfl)
theorem dX5_pastes_53 : decode cX5_pastes 53 = .ok (.ireturn, 1) := dk_172 (dk_at dksX5_pastes_2 7 rfl rfl)
theorem dX5_pastes_54 : decode cX5_pastes 54 = .ok (.iconst 0, 1) := dk_3 (dk_at dksX5_pastes_2 8 rfl rfl)
theorem dX5_pastes_55 : decode cX5_pastes 55 = .ok (.ireturn, 1) := dk_172 (dk_at dksX5_pastes_2 9 rfl rfl)
abbrev cX5_width : ByteArray := prog_11_method_8_code
def yX5_width : MethodName := ⟨RX5, "width", "()I"⟩
def dkwX5_width_1 : List UInt8 := [4, 167, 0, 18, 42, 180, 0, 9, 193, 0, 21, 153, 0, 7, 5, 167, 0, 4, 6, 172]
abbrev dktX5_width_1 : List UInt8 := dkwX5_width_1 ++ []
def dkwX5_width_0 : List UInt8 := [42, 180, 0, 9, 193, 0, 17, 153, 0, 7, 3, 167, 0, 32, 42, 180, 0, 9, 193, 0, 19, 153, 0, 7]
abbrev dktX5_width_0 : List UInt8 := dkwX5_width_0 ++ dktX5_width_1
theorem dksX5_width_0 : cX5_width.data.toList.drop 0 = dktX5_width_0 := by decide +kernel
theorem dksX5_width_1 : cX5_width.data.toList.drop 24 = dktX5_width_1 := dk_seg dksX5_width_0 24 rfl rfl
theorem dX5_width_0 : decode cX5_width 0 = .ok (.aload_n 0, 1) := dk_42 (dk_at dksX5_width_0 0 rfl rfl)
theorem dX5_width_1 : decode cX5_width 1 = .ok (.getfield 9, 3) := dk_180 0 9 (dk_at dksX5_width_0 1 rfl rfl)
theorem dX5_width_4 : decode cX5_width 4 = .ok (.instanceof 17, 3) := dk_193 0 17 (dk_at dksX5_width_0 4 rfl rfl)
theorem dX5_width_7 : decode cX5_width 7 = .ok (.ifCond .eq 7, 3) := dk_153 0 7 (dk_at dksX5_width_0 7 rfl rfl)
theorem dX5_width_10 : decode cX5_width 10 = .ok (.iconst 0, 1) := dk_3 (dk_at dksX5_width_0 10 rfl rfl)
theorem dX5_width_11 : decode cX5_width 11 = .ok (.goto 32, 3) := dk_167 0 32 (dk_at dksX5_width_0 11 rfl rfl)
theorem dX5_width_14 : decode cX5_width 14 = .ok (.aload_n 0, 1) := dk_42 (dk_at dksX5_width_0 14 rfl rfl)
theorem dX5_width_15 : decode cX5_width 15 = .ok (.getfield 9, 3) := dk_180 0 9 (dk_at dksX5_width_0 15 rfl rfl)
theorem dX5_width_18 : decode cX5_width 18 = .ok (.instanceof 19, 3) := dk_193 0 19 (dk_at dksX5_width_0 18 rfl rfl)
theorem dX5_width_21 : decode cX5_width 21 = .ok (.ifCond .eq 7, 3) := dk_153 0 7 (dk_at dksX5_width_0 21 rfl rfl)
theorem dX5_width_24 : decode cX5_width 24 = .ok (.iconst 1, 1) := dk_4 (dk_at dksX5_width_1 0 rfl rfl)
theorem dX5_width_25 : decode cX5_width 25 = .ok (.goto 18, 3) := dk_167 0 18 (dk_at dksX5_width_1 1 rfl rfl)
theorem dX5_width_28 : decode cX5_width 28 = .ok (.aload_n 0, 1) := dk_42 (dk_at dksX5_width_1 4 rfl rfl)
theorem dX5_width_29 : decode cX5_width 29 = .ok (.getfield 9, 3) := dk_180 0 9 (dk_at dksX5_width_1 5 rfl rfl)
theorem dX5_width_32 : decode cX5_width 32 = .ok (.instanceof 21, 3) := dk_193 0 21 (dk_at dksX5_width_1 8 rfl rfl)
theorem dX5_width_35 : decode cX5_width 35 = .ok (.ifCond .eq 7, 3) := dk_153 0 7 (dk_at dksX5_width_1 11 rfl rfl)
theorem dX5_width_38 : decode cX5_width 38 = .ok (.iconst 2, 1) := dk_5 (dk_at dksX5_width_1 14 rfl rfl)
theorem dX5_width_39 : decode cX5_width 39 = .ok (.goto 4, 3) := dk_167 0 4 (dk_at dksX5_width_1 15 rfl rfl)
theorem dX5_width_42 : decode cX5_width 42 = .ok (.iconst 3, 1) := dk_6 (dk_at dksX5_width_1 18 rfl rfl)
theorem dX5_width_43 : decode cX5_width 43 = .ok (.ireturn, 1) := dk_172 (dk_at dksX5_width_1 19 rfl rfl)
abbrev cX5_init : ByteArray := prog_11_method_1_code
def yX5_init : MethodName := ⟨RX5, "<init>", "()V"⟩
theorem dX5_init_0 : decode cX5_init 0 = .ok (.aload_n 0, 1) := by decide +kernel
theorem dX5_init_1 : decode cX5_init 1 = .ok (.invokespecial 3, 3) := by decide +kernel
theorem dX5_init_4 : decode cX5_init 4 = .ok (.return_, 1) := by decide +kernel
abbrev cX5_many : ByteArray := prog_11_method_3_code
def yX5_many : MethodName := ⟨RX5, "many", "()I"⟩
def dkwX5_many_2 : List UInt8 := [153, 0, 14, 42, 180, 0, 9, 192, 0, 21, 190, 167, 0, 11, 42, 180, 0, 9, 192, 0, 23, 190, 172]
abbrev dktX5_many_2 : List UInt8 := dkwX5_many_2 ++ []
def dkwX5_many_1 : List UInt8 := [193, 0, 19, 153, 0, 12, 42, 180, 0, 9, 192, 0, 19, 190, 172, 42, 180, 0, 9, 193, 0, 21]
abbrev dktX5_many_1 : List UInt8 := dkwX5_many_1 ++ dktX5_many_2
def dkwX5_many_0 : List UInt8 := [42, 180, 0, 9, 193, 0, 17, 153, 0, 12, 42, 180, 0, 9, 192, 0, 17, 190, 172, 42, 180, 0, 9]
abbrev dktX5_many_0 : List UInt8 := dkwX5_many_0 ++ dktX5_many_1
theorem dksX5_many_0 : cX5_many.data.toList.drop 0 = dktX5_many_0 := by decide +kernel
theorem dksX5_many_1 : cX5_many.data.toList.drop 23 = dktX5_many_1 := dk_seg dksX5_many_0 23 rfl rfl
theorem dksX5_many_2 : cX5_many.data.toList.drop 45 = dktX5_many_2 := dk_seg dksX5_many_1 22 rfl rfl
theorem dX5_many_0 : decode cX5_many 0 = .ok (.aload_n 0, 1) := dk_42 (dk_at dksX5_many_0 0 rfl rfl)
theorem dX5_many_1 : decode cX5_many 1 = .ok (.getfield 9, 3) := dk_180 0 9 (dk_at dksX5_many_0 1 rfl rfl)
theorem dX5_many_4 : decode cX5_many 4 = .ok (.instanceof 17, 3) := dk_193 0 17 (dk_at dksX5_many_0 4 rfl rfl)
theorem dX5_many_7 : decode cX5_many 7 = .ok (.ifCond .eq 12, 3) := dk_153 0 12 (dk_at dksX5_many_0 7 rfl rfl)
theorem dX5_many_10 : decode cX5_many 10 = .ok (.aload_n 0, 1) := dk_42 (dk_at dksX5_many_0 10 rfl rfl)
theorem dX5_many_11 : decode cX5_many 11 = .ok (.getfield 9, 3) := dk_180 0 9 (dk_at dksX5_many_0 11 rfl rfl)
theorem dX5_many_14 : decode cX5_many 14 = .ok (.checkcast 17, 3) := dk_192 0 17 (dk_at dksX5_many_0 14 rfl rfl)
theorem dX5_many_17 : decode cX5_many 17 = .ok (.arraylength, 1) := dk_190 (dk_at dksX5_many_0 17 rfl rfl)
theorem dX5_many_18 : decode cX5_many 18 = .ok (.ireturn, 1) := dk_172 (dk_at dksX5_many_0 18 rfl rfl)
theorem dX5_many_19 : decode cX5_many 19 = .ok (.aload_n 0, 1) := dk_42 (dk_at dksX5_many_0 19 rfl rfl)
theorem dX5_many_20 : decode cX5_many 20 = .ok (.getfield 9, 3) := dk_180 0 9 (dk_at dksX5_many_0 20 rfl rfl)
theorem dX5_many_23 : decode cX5_many 23 = .ok (.instanceof 19, 3) := dk_193 0 19 (dk_at dksX5_many_1 0 rfl rfl)
theorem dX5_many_26 : decode cX5_many 26 = .ok (.ifCond .eq 12, 3) := dk_153 0 12 (dk_at dksX5_many_1 3 rfl rfl)
theorem dX5_many_29 : decode cX5_many 29 = .ok (.aload_n 0, 1) := dk_42 (dk_at dksX5_many_1 6 rfl rfl)
theorem dX5_many_30 : decode cX5_many 30 = .ok (.getfield 9, 3) := dk_180 0 9 (dk_at dksX5_many_1 7 rfl rfl)
theorem dX5_many_33 : decode cX5_many 33 = .ok (.checkcast 19, 3) := dk_192 0 19 (dk_at dksX5_many_1 10 rfl rfl)
theorem dX5_many_36 : decode cX5_many 36 = .ok (.arraylength, 1) := dk_190 (dk_at dksX5_many_1 13 rfl rfl)
theorem dX5_many_37 : decode cX5_many 37 = .ok (.ireturn, 1) := dk_172 (dk_at dksX5_many_1 14 rfl rfl)
theorem dX5_many_38 : decode cX5_many 38 = .ok (.aload_n 0, 1) := dk_42 (dk_at dksX5_many_1 15 rfl rfl)
theorem dX5_many_39 : decode cX5_many 39 = .ok (.getfield 9, 3) := dk_180 0 9 (dk_at dksX5_many_1 16 rfl rfl)
theorem dX5_many_42 : decode cX5_many 42 = .ok (.instanceof 21, 3) := dk_193 0 21 (dk_at dksX5_many_1 19 rfl rfl)
theorem dX5_many_45 : decode cX5_many 45 = .ok (.ifCond .eq 14, 3) := dk_153 0 14 (dk_at dksX5_many_2 0 rfl rfl)
theorem dX5_many_48 : decode cX5_many 48 = .ok (.aload_n 0, 1) := dk_42 (dk_at dksX5_many_2 3 rfl rfl)
theorem dX5_many_49 : decode cX5_many 49 = .ok (.getfield 9, 3) := dk_180 0 9 (dk_at dksX5_many_2 4 rfl rfl)
theorem dX5_many_52 : decode cX5_many 52 = .ok (.checkcast 21, 3) := dk_192 0 21 (dk_at dksX5_many_2 7 rfl rfl)
theorem dX5_many_55 : decode cX5_many 55 = .ok (.arraylength, 1) := dk_190 (dk_at dksX5_many_2 10 rfl rfl)
theorem dX5_many_56 : decode cX5_many 56 = .ok (.goto 11, 3) := dk_167 0 11 (dk_at dksX5_many_2 11 rfl rfl)
theorem dX5_many_59 : decode cX5_many 59 = .ok (.aload_n 0, 1) := dk_42 (dk_at dksX5_many_2 14 rfl rfl)
theorem dX5_many_60 : decode cX5_many 60 = .ok (.getfield 9, 3) := dk_180 0 9 (dk_at dksX5_many_2 15 rfl rfl)
theorem dX5_many_63 : decode cX5_many 63 = .ok (.checkcast 23, 3) := dk_192 0 23 (dk_at dksX5_many_2 18 rfl rfl)
theorem dX5_many_66 : decode cX5_many 66 = .ok (.arraylength, 1) := dk_190 (dk_at dksX5_many_2 21 rfl rfl)
theorem dX5_many_67 : decode cX5_many 67 = .ok (.ireturn, 1) := dk_172 (dk_at dksX5_many_2 22 rfl rfl)
abbrev cX5_number : ByteArray := prog_11_method_4_code
def yX5_number : MethodName := ⟨RX5, "number", "(I)J"⟩
def dkwX5_number_3 : List UInt8 := [192, 0, 23, 27, 47, 173]
abbrev dktX5_number_3 : List UInt8 := dkwX5_number_3 ++ []
def dkwX5_number_2 : List UInt8 := [193, 0, 21, 153, 0, 16, 42, 180, 0, 9, 192, 0, 21, 27, 46, 133, 167, 0, 12, 42, 180, 0, 9]
abbrev dktX5_number_2 : List UInt8 := dkwX5_number_2 ++ dktX5_number_3
def dkwX5_number_1 : List UInt8 := [180, 0, 9, 193, 0, 19, 153, 0, 14, 42, 180, 0, 9, 192, 0, 19, 27, 53, 133, 173, 42, 180, 0, 9]
abbrev dktX5_number_1 : List UInt8 := dkwX5_number_1 ++ dktX5_number_2
def dkwX5_number_0 : List UInt8 := [42, 180, 0, 9, 193, 0, 17, 153, 0, 14, 42, 180, 0, 9, 192, 0, 17, 27, 51, 133, 173, 42]
abbrev dktX5_number_0 : List UInt8 := dkwX5_number_0 ++ dktX5_number_1
theorem dksX5_number_0 : cX5_number.data.toList.drop 0 = dktX5_number_0 := by decide +kernel
theorem dksX5_number_1 : cX5_number.data.toList.drop 22 = dktX5_number_1 := dk_seg dksX5_number_0 22 rfl rfl
theorem dksX5_number_2 : cX5_number.data.toList.drop 46 = dktX5_number_2 := dk_seg dksX5_number_1 24 rfl rfl
theorem dksX5_number_3 : cX5_number.data.toList.drop 69 = dktX5_number_3 := dk_seg dksX5_number_2 23 rfl rfl
theorem dX5_number_0 : decode cX5_number 0 = .ok (.aload_n 0, 1) := dk_42 (dk_at dksX5_number_0 0 rfl rfl)
theorem dX5_number_1 : decode cX5_number 1 = .ok (.getfield 9, 3) := dk_180 0 9 (dk_at dksX5_number_0 1 rfl rfl)
theorem dX5_number_4 : decode cX5_number 4 = .ok (.instanceof 17, 3) := dk_193 0 17 (dk_at dksX5_number_0 4 rfl rfl)
theorem dX5_number_7 : decode cX5_number 7 = .ok (.ifCond .eq 14, 3) := dk_153 0 14 (dk_at dksX5_number_0 7 rfl rfl)
theorem dX5_number_10 : decode cX5_number 10 = .ok (.aload_n 0, 1) := dk_42 (dk_at dksX5_number_0 10 rfl rfl)
theorem dX5_number_11 : decode cX5_number 11 = .ok (.getfield 9, 3) := dk_180 0 9 (dk_at dksX5_number_0 11 rfl rfl)
theorem dX5_number_14 : decode cX5_number 14 = .ok (.checkcast 17, 3) := dk_192 0 17 (dk_at dksX5_number_0 14 rfl rfl)
theorem dX5_number_17 : decode cX5_number 17 = .ok (.iload_n 1, 1) := dk_27 (dk_at dksX5_number_0 17 rfl rfl)
theorem dX5_number_18 : decode cX5_number 18 = .ok (.baload, 1) := dk_51 (dk_at dksX5_number_0 18 rfl rfl)
theorem dX5_number_19 : decode cX5_number 19 = .ok (.i2l, 1) := dk_133 (dk_at dksX5_number_0 19 rfl rfl)
theorem dX5_number_20 : decode cX5_number 20 = .ok (.lreturn, 1) := dk_173 (dk_at dksX5_number_0 20 rfl rfl)
theorem dX5_number_21 : decode cX5_number 21 = .ok (.aload_n 0, 1) := dk_42 (dk_at dksX5_number_0 21 rfl rfl)
theorem dX5_number_22 : decode cX5_number 22 = .ok (.getfield 9, 3) := dk_180 0 9 (dk_at dksX5_number_1 0 rfl rfl)
theorem dX5_number_25 : decode cX5_number 25 = .ok (.instanceof 19, 3) := dk_193 0 19 (dk_at dksX5_number_1 3 rfl rfl)
theorem dX5_number_28 : decode cX5_number 28 = .ok (.ifCond .eq 14, 3) := dk_153 0 14 (dk_at dksX5_number_1 6 rfl rfl)
theorem dX5_number_31 : decode cX5_number 31 = .ok (.aload_n 0, 1) := dk_42 (dk_at dksX5_number_1 9 rfl rfl)
theorem dX5_number_32 : decode cX5_number 32 = .ok (.getfield 9, 3) := dk_180 0 9 (dk_at dksX5_number_1 10 rfl rfl)
theorem dX5_number_35 : decode cX5_number 35 = .ok (.checkcast 19, 3) := dk_192 0 19 (dk_at dksX5_number_1 13 rfl rfl)
theorem dX5_number_38 : decode cX5_number 38 = .ok (.iload_n 1, 1) := dk_27 (dk_at dksX5_number_1 16 rfl rfl)
theorem dX5_number_39 : decode cX5_number 39 = .ok (.saload, 1) := dk_53 (dk_at dksX5_number_1 17 rfl rfl)
theorem dX5_number_40 : decode cX5_number 40 = .ok (.i2l, 1) := dk_133 (dk_at dksX5_number_1 18 rfl rfl)
theorem dX5_number_41 : decode cX5_number 41 = .ok (.lreturn, 1) := dk_173 (dk_at dksX5_number_1 19 rfl rfl)
theorem dX5_number_42 : decode cX5_number 42 = .ok (.aload_n 0, 1) := dk_42 (dk_at dksX5_number_1 20 rfl rfl)
theorem dX5_number_43 : decode cX5_number 43 = .ok (.getfield 9, 3) := dk_180 0 9 (dk_at dksX5_number_1 21 rfl rfl)
theorem dX5_number_46 : decode cX5_number 46 = .ok (.instanceof 21, 3) := dk_193 0 21 (dk_at dksX5_number_2 0 rfl rfl)
theorem dX5_number_49 : decode cX5_number 49 = .ok (.ifCond .eq 16, 3) := dk_153 0 16 (dk_at dksX5_number_2 3 rfl rfl)
theorem dX5_number_52 : decode cX5_number 52 = .ok (.aload_n 0, 1) := dk_42 (dk_at dksX5_number_2 6 rfl rfl)
theorem dX5_number_53 : decode cX5_number 53 = .ok (.getfield 9, 3) := dk_180 0 9 (dk_at dksX5_number_2 7 rfl rfl)
theorem dX5_number_56 : decode cX5_number 56 = .ok (.checkcast 21, 3) := dk_192 0 21 (dk_at dksX5_number_2 10 rfl rfl)
theorem dX5_number_59 : decode cX5_number 59 = .ok (.iload_n 1, 1) := dk_27 (dk_at dksX5_number_2 13 rfl rfl)
theorem dX5_number_60 : decode cX5_number 60 = .ok (.iaload, 1) := dk_46 (dk_at dksX5_number_2 14 rfl rfl)
theorem dX5_number_61 : decode cX5_number 61 = .ok (.i2l, 1) := dk_133 (dk_at dksX5_number_2 15 rfl rfl)
theorem dX5_number_62 : decode cX5_number 62 = .ok (.goto 12, 3) := dk_167 0 12 (dk_at dksX5_number_2 16 rfl rfl)
theorem dX5_number_65 : decode cX5_number 65 = .ok (.aload_n 0, 1) := dk_42 (dk_at dksX5_number_2 19 rfl rfl)
theorem dX5_number_66 : decode cX5_number 66 = .ok (.getfield 9, 3) := dk_180 0 9 (dk_at dksX5_number_2 20 rfl rfl)
theorem dX5_number_69 : decode cX5_number 69 = .ok (.checkcast 23, 3) := dk_192 0 23 (dk_at dksX5_number_3 0 rfl rfl)
theorem dX5_number_72 : decode cX5_number 72 = .ok (.iload_n 1, 1) := dk_27 (dk_at dksX5_number_3 3 rfl rfl)
theorem dX5_number_73 : decode cX5_number 73 = .ok (.laload, 1) := dk_47 (dk_at dksX5_number_3 4 rfl rfl)
theorem dX5_number_74 : decode cX5_number 74 = .ok (.lreturn, 1) := dk_173 (dk_at dksX5_number_3 5 rfl rfl)
theorem q92 : (Jvm.Cond.initialized "NonsenseRows$Slot") ∈ lw_all := lw_g (lw_at lw_m1 9 rfl) rfl
theorem q134 : (Jvm.Cond.instanceMethod ({ cls := "NonsenseRows$Slot", name := "begins", desc := "(II)Z" } : Jvm.MethodName)) ∈ lw_all := lw_g (lw_at lw_m1 51 rfl) rfl
theorem q135 : (Jvm.Cond.selects "NonsenseRows$Slot" ({ cls := "NonsenseRows$Slot", name := "begins", desc := "(II)Z" } : Jvm.MethodName) ({ cls := "NonsenseRows$Slot", name := "begins", desc := "(II)Z" } : Jvm.MethodName)) ∈ lw_all := lw_g (lw_at lw_m1 52 rfl) rfl
theorem q136 : (Jvm.Cond.codeWith ({ cls := "NonsenseRows$Slot", name := "begins", desc := "(II)Z" } : Jvm.MethodName) prog_11_method_2_code (4 : Nat) (Option.some Jvm.ClassFile.FieldType.boolean) [((0 : Nat), (65 : Nat), (68 : Nat), (15 : Nat))]) ∈ lw_all := lw_g (lw_at lw_m1 53 rfl) rfl
theorem q137 : (Jvm.Cond.classLink "NonsenseRows$Slot" (15 : Nat) "java/lang/NegativeArraySizeException") ∈ lw_all := lw_g (lw_at lw_m1 54 rfl) rfl
theorem q233 : (Jvm.Cond.instanceMethod ({ cls := "NonsenseRows$Slot", name := "puts", desc := "(IJ)I" } : Jvm.MethodName)) ∈ lw_all := lw_g (lw_at lw_m1 150 rfl) rfl
theorem q234 : (Jvm.Cond.selects "NonsenseRows$Slot" ({ cls := "NonsenseRows$Slot", name := "puts", desc := "(IJ)I" } : Jvm.MethodName) ({ cls := "NonsenseRows$Slot", name := "puts", desc := "(IJ)I" } : Jvm.MethodName)) ∈ lw_all := lw_g (lw_at lw_m1 151 rfl) rfl
theorem q235 : (Jvm.Cond.codeWith ({ cls := "NonsenseRows$Slot", name := "puts", desc := "(IJ)I" } : Jvm.MethodName) prog_11_method_5_code (5 : Nat) (Option.some Jvm.ClassFile.FieldType.int) [((0 : Nat), (6 : Nat), (9 : Nat), (29 : Nat)), ((0 : Nat), (6 : Nat), (14 : Nat), (31 : Nat))]) ∈ lw_all := lw_g (lw_at lw_m1 152 rfl) rfl
theorem q236 : (Jvm.Cond.classLink "NonsenseRows$Slot" (29 : Nat) "java/lang/NullPointerException") ∈ lw_all := lw_g (lw_at lw_m1 153 rfl) rfl
theorem q261 : (Jvm.Cond.classLink "NonsenseRows$Slot" (31 : Nat) "java/lang/ArrayIndexOutOfBoundsException") ∈ lw_all := lw_g (lw_at lw_m1 178 rfl) rfl
theorem q280 : (Jvm.Cond.methodLink "NonsenseRows$Slot" (25 : Nat) ({ cls := "NonsenseRows$Slot", name := "put", desc := "(IJ)V" } : Jvm.MethodName)) ∈ lw_all := lw_g (lw_at lw_m1 197 rfl) rfl
theorem q281 : (Jvm.Cond.privateMethod ({ cls := "NonsenseRows$Slot", name := "put", desc := "(IJ)V" } : Jvm.MethodName)) ∈ lw_tbl := lw_at lw_m1 198 rfl
theorem q282 : (Jvm.Cond.instanceMethod ({ cls := "NonsenseRows$Slot", name := "put", desc := "(IJ)V" } : Jvm.MethodName)) ∈ lw_all := lw_g (lw_at lw_m1 199 rfl) rfl
theorem q283 : (Jvm.Cond.instantiable "NonsenseRows$Slot" (1 : Nat)) ∈ lw_all := lw_g (lw_at lw_m1 200 rfl) rfl
theorem q284 : (Jvm.Cond.code ({ cls := "NonsenseRows$Slot", name := "put", desc := "(IJ)V" } : Jvm.MethodName) prog_11_method_6_code (5 : Nat) (Option.none : Option Jvm.ClassFile.FieldType)) ∈ lw_all := lw_g (lw_at lw_m1 201 rfl) rfl
theorem q285 : (Jvm.Cond.classLink "NonsenseRows$Slot" (17 : Nat) "[B") ∈ lw_all := lw_g (lw_at lw_m1 202 rfl) rfl
theorem q286 : (Jvm.Cond.classLink "NonsenseRows$Slot" (19 : Nat) "[S") ∈ lw_all := lw_g (lw_at lw_m1 203 rfl) rfl
theorem q287 : (Jvm.Cond.methodLink "NonsenseRows$Slot" (33 : Nat) ({ cls := "NonsenseRows$Slot", name := "putWider", desc := "(IJ)V" } : Jvm.MethodName)) ∈ lw_all := lw_g (lw_at lw_m1 204 rfl) rfl
theorem q288 : (Jvm.Cond.privateMethod ({ cls := "NonsenseRows$Slot", name := "putWider", desc := "(IJ)V" } : Jvm.MethodName)) ∈ lw_tbl := lw_at lw_m1 205 rfl
theorem q289 : (Jvm.Cond.instanceMethod ({ cls := "NonsenseRows$Slot", name := "putWider", desc := "(IJ)V" } : Jvm.MethodName)) ∈ lw_all := lw_g (lw_at lw_m1 206 rfl) rfl
theorem q290 : (Jvm.Cond.codeWith ({ cls := "NonsenseRows$Slot", name := "putWider", desc := "(IJ)V" } : Jvm.MethodName) prog_11_method_7_code (6 : Nat) (Option.none : Option Jvm.ClassFile.FieldType) [((0 : Nat), (15 : Nat), (18 : Nat), (36 : Nat))]) ∈ lw_all := lw_g (lw_at lw_m1 207 rfl) rfl
theorem q291 : (Jvm.Cond.classLink "NonsenseRows$Slot" (36 : Nat) "java/lang/ClassCastException") ∈ lw_all := lw_g (lw_at lw_m1 208 rfl) rfl
theorem q305 : (Jvm.Cond.classLink "NonsenseRows$Slot" (21 : Nat) "[I") ∈ lw_all := lw_g (lw_at lw_m1 222 rfl) rfl
theorem q306 : (Jvm.Cond.classLink "NonsenseRows$Slot" (23 : Nat) "[J") ∈ lw_all := lw_g (lw_at lw_m1 223 rfl) rfl
theorem q312 : (Jvm.Cond.instanceMethod ({ cls := "NonsenseRows$Slot", name := "pastes", desc := "(ILNonsenseRows$Slot;II)I" } : Jvm.MethodName)) ∈ lw_all := lw_g (lw_at lw_m1 229 rfl) rfl
theorem q313 : (Jvm.Cond.selects "NonsenseRows$Slot" ({ cls := "NonsenseRows$Slot", name := "pastes", desc := "(ILNonsenseRows$Slot;II)I" } : Jvm.MethodName) ({ cls := "NonsenseRows$Slot", name := "pastes", desc := "(ILNonsenseRows$Slot;II)I" } : Jvm.MethodName)) ∈ lw_all := lw_g (lw_at lw_m1 230 rfl) rfl
theorem q314 : (Jvm.Cond.codeWith ({ cls := "NonsenseRows$Slot", name := "pastes", desc := "(ILNonsenseRows$Slot;II)I" } : Jvm.MethodName) prog_11_method_9_code (6 : Nat) (Option.some Jvm.ClassFile.FieldType.int) [((31 : Nat), (46 : Nat), (49 : Nat), (48 : Nat))]) ∈ lw_all := lw_g (lw_at lw_m1 231 rfl) rfl
theorem q315 : (Jvm.Cond.classLink "NonsenseRows$Slot" (48 : Nat) "java/lang/IndexOutOfBoundsException") ∈ lw_all := lw_g (lw_at lw_m1 232 rfl) rfl
theorem q316 : (Jvm.Cond.methodLink "NonsenseRows$Slot" (38 : Nat) ({ cls := "NonsenseRows$Slot", name := "width", desc := "()I" } : Jvm.MethodName)) ∈ lw_all := lw_g (lw_at lw_m1 233 rfl) rfl
theorem q317 : (Jvm.Cond.privateMethod ({ cls := "NonsenseRows$Slot", name := "width", desc := "()I" } : Jvm.MethodName)) ∈ lw_tbl := lw_at lw_m1 234 rfl
theorem q318 : (Jvm.Cond.instanceMethod ({ cls := "NonsenseRows$Slot", name := "width", desc := "()I" } : Jvm.MethodName)) ∈ lw_all := lw_g (lw_at lw_m1 235 rfl) rfl
theorem q319 : (Jvm.Cond.code ({ cls := "NonsenseRows$Slot", name := "width", desc := "()I" } : Jvm.MethodName) prog_11_method_8_code (1 : Nat) (Option.some Jvm.ClassFile.FieldType.int)) ∈ lw_all := lw_g (lw_at lw_m1 236 rfl) rfl
theorem q320 : (Jvm.Cond.methodLink "NonsenseRows$Slot" (42 : Nat) ({ cls := "java/lang/System", name := "arraycopy", desc := "(Ljava/lang/Object;ILjava/lang/Object;II)V" } : Jvm.MethodName)) ∈ lw_all := lw_g (lw_at lw_m1 237 rfl) rfl
theorem q510 : (Jvm.Cond.instanceMethod ({ cls := "NonsenseRows$Slot", name := "<init>", desc := "()V" } : Jvm.MethodName)) ∈ lw_all := lw_g (lw_at lw_m2 187 rfl) rfl
theorem q511 : (Jvm.Cond.code ({ cls := "NonsenseRows$Slot", name := "<init>", desc := "()V" } : Jvm.MethodName) prog_11_method_1_code (1 : Nat) (Option.none : Option Jvm.ClassFile.FieldType)) ∈ lw_all := lw_g (lw_at lw_m2 188 rfl) rfl
theorem q512 : (Jvm.Cond.methodLink "NonsenseRows$Slot" (3 : Nat) ({ cls := "java/lang/Object", name := "<init>", desc := "()V" } : Jvm.MethodName)) ∈ lw_all := lw_g (lw_at lw_m2 189 rfl) rfl
theorem q513 : (Jvm.Cond.fieldLink "NonsenseRows$Slot" (9 : Nat) "NonsenseRows$Slot" "held" "Ljava/lang/Object;") ∈ lw_all := lw_g (lw_at lw_m2 190 rfl) rfl
theorem q515 : (Jvm.Cond.lays "NonsenseRows$Slot" "NonsenseRows$Slot" "held" "Ljava/lang/Object;") ∈ lw_all := lw_g (lw_at lw_m2 192 rfl) rfl
theorem q516 : (Jvm.Cond.soleField "NonsenseRows$Slot" "held") ∈ lw_all := lw_g (lw_at lw_m2 193 rfl) rfl
theorem q517 : (Jvm.Cond.superclass "NonsenseRows$Slot" "java/lang/Object") ∈ lw_all := lw_g (lw_at lw_m2 194 rfl) rfl
theorem q904 : (Jvm.Cond.selects "NonsenseRows$Slot" ({ cls := "java/lang/Object", name := "getClass", desc := "()Ljava/lang/Class;" } : Jvm.MethodName) ({ cls := "java/lang/Object", name := "getClass", desc := "()Ljava/lang/Class;" } : Jvm.MethodName)) ∈ lw_all := lw_g (lw_at lw_m4 101 rfl) rfl
theorem q1290 : (Jvm.Cond.instanceMethod ({ cls := "NonsenseRows$Slot", name := "many", desc := "()I" } : Jvm.MethodName)) ∈ lw_all := lw_g (lw_at lw_m6 7 rfl) rfl
theorem q1291 : (Jvm.Cond.selects "NonsenseRows$Slot" ({ cls := "NonsenseRows$Slot", name := "many", desc := "()I" } : Jvm.MethodName) ({ cls := "NonsenseRows$Slot", name := "many", desc := "()I" } : Jvm.MethodName)) ∈ lw_all := lw_g (lw_at lw_m6 8 rfl) rfl
theorem q1292 : (Jvm.Cond.code ({ cls := "NonsenseRows$Slot", name := "many", desc := "()I" } : Jvm.MethodName) prog_11_method_3_code (1 : Nat) (Option.some Jvm.ClassFile.FieldType.int)) ∈ lw_all := lw_g (lw_at lw_m6 9 rfl) rfl
theorem q1294 : (Jvm.Cond.instanceMethod ({ cls := "NonsenseRows$Slot", name := "number", desc := "(I)J" } : Jvm.MethodName)) ∈ lw_all := lw_g (lw_at lw_m6 11 rfl) rfl
theorem q1295 : (Jvm.Cond.selects "NonsenseRows$Slot" ({ cls := "NonsenseRows$Slot", name := "number", desc := "(I)J" } : Jvm.MethodName) ({ cls := "NonsenseRows$Slot", name := "number", desc := "(I)J" } : Jvm.MethodName)) ∈ lw_all := lw_g (lw_at lw_m6 12 rfl) rfl
theorem q1296 : (Jvm.Cond.code ({ cls := "NonsenseRows$Slot", name := "number", desc := "(I)J" } : Jvm.MethodName) prog_11_method_4_code (2 : Nat) (Option.some Jvm.ClassFile.FieldType.long)) ∈ lw_all := lw_g (lw_at lw_m6 13 rfl) rfl
theorem q1919 : (Jvm.Cond.castable "NonsenseRows$Slot" "java/lang/Object") ∈ lw_tbl := lw_at lw_m8 156 rfl

set_option maxRecDepth 100000
abbrev cX8_init : ByteArray := prog_16_method_1_code
def yX8_init : MethodName := ⟨RX8, "<init>", "(II)V"⟩
def dkwX8_init_0 : List UInt8 := [42, 1, 1, 3, 3, 183, 0, 1, 42, 27, 181, 0, 7, 42, 28, 181, 0, 13, 177]
abbrev dktX8_init_0 : List UInt8 := dkwX8_init_0 ++ []
theorem dksX8_init_0 : cX8_init.data.toList.drop 0 = dktX8_init_0 := by decide +kernel
theorem dX8_init_0 : decode cX8_init 0 = .ok (.aload_n 0, 1) := dk_42 (dk_at dksX8_init_0 0 rfl rfl)
theorem dX8_init_1 : decode cX8_init 1 = .ok (.aconst_null, 1) := dk_1 (dk_at dksX8_init_0 1 rfl rfl)
theorem dX8_init_2 : decode cX8_init 2 = .ok (.aconst_null, 1) := dk_1 (dk_at dksX8_init_0 2 rfl rfl)
theorem dX8_init_3 : decode cX8_init 3 = .ok (.iconst 0, 1) := dk_3 (dk_at dksX8_init_0 3 rfl rfl)
theorem dX8_init_4 : decode cX8_init 4 = .ok (.iconst 0, 1) := dk_3 (dk_at dksX8_init_0 4 rfl rfl)
theorem dX8_init_5 : decode cX8_init 5 = .ok (.invokespecial 1, 3) := dk_183 0 1 (dk_at dksX8_init_0 5 rfl rfl)
theorem dX8_init_8 : decode cX8_init 8 = .ok (.aload_n 0, 1) := dk_42 (dk_at dksX8_init_0 8 rfl rfl)
theorem dX8_init_9 : decode cX8_init 9 = .ok (.iload_n 1, 1) := dk_27 (dk_at dksX8_init_0 9 rfl rfl)
theorem dX8_init_10 : decode cX8_init 10 = .ok (.putfield 7, 3) := dk_181 0 7 (dk_at dksX8_init_0 10 rfl rfl)
theorem dX8_init_13 : decode cX8_init 13 = .ok (.aload_n 0, 1) := dk_42 (dk_at dksX8_init_0 13 rfl rfl)
theorem dX8_init_14 : decode cX8_init 14 = .ok (.iload_n 2, 1) := dk_28 (dk_at dksX8_init_0 14 rfl rfl)
theorem dX8_init_15 : decode cX8_init 15 = .ok (.putfield 13, 3) := dk_181 0 13 (dk_at dksX8_init_0 15 rfl rfl)
theorem dX8_init_18 : decode cX8_init 18 = .ok (.return_, 1) := dk_177 (dk_at dksX8_init_0 18 rfl rfl)
theorem q102 : (Jvm.Cond.initialized "NonsenseRows$Wrong") ∈ lw_all := lw_g (lw_at lw_m1 19 rfl) rfl
theorem q160 : (Jvm.Cond.selects "NonsenseRows$Wrong" ({ cls := "java/lang/Throwable", name := "fillInStackTrace", desc := "()Ljava/lang/Throwable;" } : Jvm.MethodName) ({ cls := "java/lang/Throwable", name := "fillInStackTrace", desc := "()Ljava/lang/Throwable;" } : Jvm.MethodName)) ∈ lw_all := lw_g (lw_at lw_m1 77 rfl) rfl
theorem q723 : (Jvm.Cond.instantiable "NonsenseRows$Wrong" (8 : Nat)) ∈ lw_all := lw_g (lw_at lw_m3 160 rfl) rfl
theorem q724 : (Jvm.Cond.castable "NonsenseRows$Wrong" "NonsenseRows$Wrong") ∈ lw_tbl := lw_at lw_m3 161 rfl
theorem q725 : (Jvm.Cond.selects "NonsenseRows$Wrong" ({ cls := "java/lang/Throwable", name := "fillInStackTrace", desc := "(I)Ljava/lang/Throwable;" } : Jvm.MethodName) ({ cls := "java/lang/Throwable", name := "fillInStackTrace", desc := "(I)Ljava/lang/Throwable;" } : Jvm.MethodName)) ∈ lw_all := lw_g (lw_at lw_m3 162 rfl) rfl
theorem q726 : (Jvm.Cond.lays "NonsenseRows$Wrong" "java/lang/Throwable" "cause" "Ljava/lang/Throwable;") ∈ lw_all := lw_g (lw_at lw_m3 163 rfl) rfl
theorem q727 : (Jvm.Cond.lays "NonsenseRows$Wrong" "java/lang/Throwable" "stackTrace" "[Ljava/lang/StackTraceElement;") ∈ lw_all := lw_g (lw_at lw_m3 164 rfl) rfl
theorem q728 : (Jvm.Cond.lays "NonsenseRows$Wrong" "java/lang/Throwable" "suppressedExceptions" "Ljava/util/List;") ∈ lw_all := lw_g (lw_at lw_m3 165 rfl) rfl
theorem q729 : (Jvm.Cond.lays "NonsenseRows$Wrong" "java/lang/Throwable" "detailMessage" "Ljava/lang/String;") ∈ lw_all := lw_g (lw_at lw_m3 166 rfl) rfl
theorem q730 : (Jvm.Cond.lays "NonsenseRows$Wrong" "java/lang/Throwable" "backtrace" "Ljava/lang/Object;") ∈ lw_all := lw_g (lw_at lw_m3 167 rfl) rfl
theorem q732 : (Jvm.Cond.instanceMethod ({ cls := "NonsenseRows$Wrong", name := "<init>", desc := "(II)V" } : Jvm.MethodName)) ∈ lw_all := lw_g (lw_at lw_m3 169 rfl) rfl
theorem q733 : (Jvm.Cond.code ({ cls := "NonsenseRows$Wrong", name := "<init>", desc := "(II)V" } : Jvm.MethodName) prog_16_method_1_code (3 : Nat) (Option.none : Option Jvm.ClassFile.FieldType)) ∈ lw_all := lw_g (lw_at lw_m3 170 rfl) rfl
theorem q734 : (Jvm.Cond.methodLink "NonsenseRows$Wrong" (1 : Nat) ({ cls := "java/lang/Exception", name := "<init>", desc := "(Ljava/lang/String;Ljava/lang/Throwable;ZZ)V" } : Jvm.MethodName)) ∈ lw_all := lw_g (lw_at lw_m3 171 rfl) rfl
theorem q740 : (Jvm.Cond.fieldLink "NonsenseRows$Wrong" (7 : Nat) "NonsenseRows$Wrong" "kind" "I") ∈ lw_all := lw_g (lw_at lw_m3 177 rfl) rfl
theorem q742 : (Jvm.Cond.fieldLink "NonsenseRows$Wrong" (13 : Nat) "NonsenseRows$Wrong" "place" "I") ∈ lw_all := lw_g (lw_at lw_m3 179 rfl) rfl
theorem q744 : (Jvm.Cond.laysFinal "NonsenseRows$Wrong" "NonsenseRows$Wrong" "kind" "I") ∈ lw_all := lw_g (lw_at lw_m3 181 rfl) rfl
theorem q745 : (Jvm.Cond.soleField "NonsenseRows$Wrong" "kind") ∈ lw_all := lw_g (lw_at lw_m3 182 rfl) rfl
theorem q746 : (Jvm.Cond.laysFinal "NonsenseRows$Wrong" "NonsenseRows$Wrong" "place" "I") ∈ lw_all := lw_g (lw_at lw_m3 183 rfl) rfl
theorem q747 : (Jvm.Cond.soleField "NonsenseRows$Wrong" "place") ∈ lw_all := lw_g (lw_at lw_m3 184 rfl) rfl
theorem q748 : (Jvm.Cond.lays "NonsenseRows$Wrong" "java/lang/Throwable" "depth" "I") ∈ lw_all := lw_g (lw_at lw_m3 185 rfl) rfl
theorem q749 : (Jvm.Cond.superclass "NonsenseRows$Wrong" "java/lang/Exception") ∈ lw_all := lw_g (lw_at lw_m3 186 rfl) rfl
theorem q908 : (Jvm.Cond.selects "NonsenseRows$Wrong" ({ cls := "java/lang/Object", name := "getClass", desc := "()Ljava/lang/Class;" } : Jvm.MethodName) ({ cls := "java/lang/Object", name := "getClass", desc := "()Ljava/lang/Class;" } : Jvm.MethodName)) ∈ lw_all := lw_g (lw_at lw_m4 105 rfl) rfl
theorem q1930 : (Jvm.Cond.castable "NonsenseRows$Wrong" "java/lang/Object") ∈ lw_tbl := lw_at lw_m8 167 rfl

set_option maxRecDepth 100000
abbrev cX9_init : ByteArray := prog_13_method_1_code
def yX9_init : MethodName := ⟨RX9, "<init>", "()V"⟩
theorem dX9_init_0 : decode cX9_init 0 = .ok (.aload_n 0, 1) := by decide +kernel
theorem dX9_init_1 : decode cX9_init 1 = .ok (.invokespecial 1, 3) := by decide +kernel
theorem dX9_init_4 : decode cX9_init 4 = .ok (.return_, 1) := by decide +kernel
abbrev cX9_comes : ByteArray := prog_13_method_3_code
def yX9_comes : MethodName := ⟨RX9, "comes", "(LNonsenseRows$Asked;)J"⟩
def dkwX9_comes_0 : List UInt8 := [43, 3, 181, 0, 7, 42, 43, 182, 0, 13, 65, 43, 180, 0, 7, 153, 0, 7, 9, 167, 0, 4, 32, 173]
abbrev dktX9_comes_0 : List UInt8 := dkwX9_comes_0 ++ []
theorem dksX9_comes_0 : cX9_comes.data.toList.drop 0 = dktX9_comes_0 := by decide +kernel
theorem dX9_comes_0 : decode cX9_comes 0 = .ok (.aload_n 1, 1) := dk_43 (dk_at dksX9_comes_0 0 rfl rfl)
theorem dX9_comes_1 : decode cX9_comes 1 = .ok (.iconst 0, 1) := dk_3 (dk_at dksX9_comes_0 1 rfl rfl)
theorem dX9_comes_2 : decode cX9_comes 2 = .ok (.putfield 7, 3) := dk_181 0 7 (dk_at dksX9_comes_0 2 rfl rfl)
theorem dX9_comes_5 : decode cX9_comes 5 = .ok (.aload_n 0, 1) := dk_42 (dk_at dksX9_comes_0 5 rfl rfl)
theorem dX9_comes_6 : decode cX9_comes 6 = .ok (.aload_n 1, 1) := dk_43 (dk_at dksX9_comes_0 6 rfl rfl)
theorem dX9_comes_7 : decode cX9_comes 7 = .ok (.invokevirtual 13, 3) := dk_182 0 13 (dk_at dksX9_comes_0 7 rfl rfl)
theorem dX9_comes_10 : decode cX9_comes 10 = .ok (.lstore_n 2, 1) := dk_65 (dk_at dksX9_comes_0 10 rfl rfl)
theorem dX9_comes_11 : decode cX9_comes 11 = .ok (.aload_n 1, 1) := dk_43 (dk_at dksX9_comes_0 11 rfl rfl)
theorem dX9_comes_12 : decode cX9_comes 12 = .ok (.getfield 7, 3) := dk_180 0 7 (dk_at dksX9_comes_0 12 rfl rfl)
theorem dX9_comes_15 : decode cX9_comes 15 = .ok (.ifCond .eq 7, 3) := dk_153 0 7 (dk_at dksX9_comes_0 15 rfl rfl)
theorem dX9_comes_18 : decode cX9_comes 18 = .ok (.lconst 0, 1) := dk_9 (dk_at dksX9_comes_0 18 rfl rfl)
theorem dX9_comes_19 : decode cX9_comes 19 = .ok (.goto 4, 3) := dk_167 0 4 (dk_at dksX9_comes_0 19 rfl rfl)
theorem dX9_comes_22 : decode cX9_comes 22 = .ok (.lload_n 2, 1) := dk_32 (dk_at dksX9_comes_0 22 rfl rfl)
theorem dX9_comes_23 : decode cX9_comes 23 = .ok (.lreturn, 1) := dk_173 (dk_at dksX9_comes_0 23 rfl rfl)
theorem q103 : (Jvm.Cond.initialized "NonsenseRows$Sum") ∈ lw_all := lw_g (lw_at lw_m1 20 rfl) rfl
theorem q438 : (Jvm.Cond.fieldLinkNest "NonsenseRows$Sum" (7 : Nat) "NonsenseRows$Asked" "isBroken" "Z" "NonsenseRows") ∈ lw_tbl := lw_at lw_m2 115 rfl
theorem q790 : (Jvm.Cond.instanceMethod ({ cls := "NonsenseRows$Sum", name := "<init>", desc := "()V" } : Jvm.MethodName)) ∈ lw_all := lw_g (lw_at lw_m3 227 rfl) rfl
theorem q791 : (Jvm.Cond.code ({ cls := "NonsenseRows$Sum", name := "<init>", desc := "()V" } : Jvm.MethodName) prog_13_method_1_code (1 : Nat) (Option.none : Option Jvm.ClassFile.FieldType)) ∈ lw_all := lw_g (lw_at lw_m3 228 rfl) rfl
theorem q792 : (Jvm.Cond.methodLink "NonsenseRows$Sum" (1 : Nat) ({ cls := "java/lang/Object", name := "<init>", desc := "()V" } : Jvm.MethodName)) ∈ lw_all := lw_g (lw_at lw_m3 229 rfl) rfl
theorem q1029 : (Jvm.Cond.instanceMethod ({ cls := "NonsenseRows$Sum", name := "comes", desc := "(LNonsenseRows$Asked;)J" } : Jvm.MethodName)) ∈ lw_all := lw_g (lw_at lw_m4 226 rfl) rfl
theorem q1030 : (Jvm.Cond.sameMethod "NonsenseRows$Sum" "NonsenseRows$Sum" "comes" "(LNonsenseRows$Asked;)J") ∈ lw_all := lw_g (lw_at lw_m4 227 rfl) rfl
theorem q1036 : (Jvm.Cond.code ({ cls := "NonsenseRows$Sum", name := "comes", desc := "(LNonsenseRows$Asked;)J" } : Jvm.MethodName) prog_13_method_3_code (4 : Nat) (Option.some Jvm.ClassFile.FieldType.long)) ∈ lw_all := lw_g (lw_at lw_m4 233 rfl) rfl
theorem q1037 : (Jvm.Cond.methodLink "NonsenseRows$Sum" (13 : Nat) ({ cls := "NonsenseRows$Sum", name := "of", desc := "(LNonsenseRows$Asked;)J" } : Jvm.MethodName)) ∈ lw_all := lw_g (lw_at lw_m4 234 rfl) rfl
theorem q1038 : (Jvm.Cond.declares ({ cls := "NonsenseRows$Sum", name := "of", desc := "(LNonsenseRows$Asked;)J" } : Jvm.MethodName)) ∈ lw_tbl := lw_at lw_m4 235 rfl
theorem q1039 : (Jvm.Cond.sameMethod "NonsenseRows$Sum" "NonsenseRows$Sum" "of" "(LNonsenseRows$Asked;)J") ∈ lw_all := lw_g (lw_at lw_m4 236 rfl) rfl
theorem q1920 : (Jvm.Cond.castable "NonsenseRows$Sum" "java/lang/Object") ∈ lw_tbl := lw_at lw_m8 157 rfl

set_option maxRecDepth 100000
abbrev cX10_init : ByteArray := prog_3_method_1_code
def yX10_init : MethodName := ⟨RX10, "<init>", "(I)V"⟩
def dkwX10_init_0 : List UInt8 := [42, 183, 0, 1, 42, 27, 181, 0, 7, 177]
abbrev dktX10_init_0 : List UInt8 := dkwX10_init_0 ++ []
theorem dksX10_init_0 : cX10_init.data.toList.drop 0 = dktX10_init_0 := by decide +kernel
theorem dX10_init_0 : decode cX10_init 0 = .ok (.aload_n 0, 1) := dk_42 (dk_at dksX10_init_0 0 rfl rfl)
theorem dX10_init_1 : decode cX10_init 1 = .ok (.invokespecial 1, 3) := dk_183 0 1 (dk_at dksX10_init_0 1 rfl rfl)
theorem dX10_init_4 : decode cX10_init 4 = .ok (.aload_n 0, 1) := dk_42 (dk_at dksX10_init_0 4 rfl rfl)
theorem dX10_init_5 : decode cX10_init 5 = .ok (.iload_n 1, 1) := dk_27 (dk_at dksX10_init_0 5 rfl rfl)
theorem dX10_init_6 : decode cX10_init 6 = .ok (.putfield 7, 3) := dk_181 0 7 (dk_at dksX10_init_0 6 rfl rfl)
theorem dX10_init_9 : decode cX10_init 9 = .ok (.return_, 1) := dk_177 (dk_at dksX10_init_0 9 rfl rfl)
abbrev cX10_of : ByteArray := prog_3_method_2_code
def yX10_of : MethodName := ⟨RX10, "of", "(LNonsenseRows$Asked;)J"⟩
def dkwX10_of_0 : List UInt8 := [42, 180, 0, 7, 133, 173]
abbrev dktX10_of_0 : List UInt8 := dkwX10_of_0 ++ []
theorem dksX10_of_0 : cX10_of.data.toList.drop 0 = dktX10_of_0 := by decide +kernel
theorem dX10_of_0 : decode cX10_of 0 = .ok (.aload_n 0, 1) := dk_42 (dk_at dksX10_of_0 0 rfl rfl)
theorem dX10_of_1 : decode cX10_of 1 = .ok (.getfield 7, 3) := dk_180 0 7 (dk_at dksX10_of_0 1 rfl rfl)
theorem dX10_of_4 : decode cX10_of 4 = .ok (.i2l, 1) := dk_133 (dk_at dksX10_of_0 4 rfl rfl)
theorem dX10_of_5 : decode cX10_of 5 = .ok (.lreturn, 1) := dk_173 (dk_at dksX10_of_0 5 rfl rfl)
theorem q104 : (Jvm.Cond.initialized "NonsenseRows$Amount") ∈ lw_all := lw_g (lw_at lw_m1 21 rfl) rfl
theorem q780 : (Jvm.Cond.instantiable "NonsenseRows$Amount" (1 : Nat)) ∈ lw_all := lw_g (lw_at lw_m3 217 rfl) rfl
theorem q787 : (Jvm.Cond.instanceMethod ({ cls := "NonsenseRows$Amount", name := "<init>", desc := "(I)V" } : Jvm.MethodName)) ∈ lw_all := lw_g (lw_at lw_m3 224 rfl) rfl
theorem q788 : (Jvm.Cond.code ({ cls := "NonsenseRows$Amount", name := "<init>", desc := "(I)V" } : Jvm.MethodName) prog_3_method_1_code (2 : Nat) (Option.none : Option Jvm.ClassFile.FieldType)) ∈ lw_all := lw_g (lw_at lw_m3 225 rfl) rfl
theorem q789 : (Jvm.Cond.methodLinkNest "NonsenseRows$Amount" (1 : Nat) ({ cls := "NonsenseRows$Sum", name := "<init>", desc := "()V" } : Jvm.MethodName) "NonsenseRows") ∈ lw_tbl := lw_at lw_m3 226 rfl
theorem q793 : (Jvm.Cond.fieldLink "NonsenseRows$Amount" (7 : Nat) "NonsenseRows$Amount" "number" "I") ∈ lw_all := lw_g (lw_at lw_m3 230 rfl) rfl
theorem q794 : (Jvm.Cond.laysFinal "NonsenseRows$Amount" "NonsenseRows$Amount" "number" "I") ∈ lw_all := lw_g (lw_at lw_m3 231 rfl) rfl
theorem q795 : (Jvm.Cond.soleField "NonsenseRows$Amount" "number") ∈ lw_all := lw_g (lw_at lw_m3 232 rfl) rfl
theorem q796 : (Jvm.Cond.superclass "NonsenseRows$Amount" "NonsenseRows$Sum") ∈ lw_all := lw_g (lw_at lw_m3 233 rfl) rfl
theorem q897 : (Jvm.Cond.selects "NonsenseRows$Amount" ({ cls := "java/lang/Object", name := "getClass", desc := "()Ljava/lang/Class;" } : Jvm.MethodName) ({ cls := "java/lang/Object", name := "getClass", desc := "()Ljava/lang/Class;" } : Jvm.MethodName)) ∈ lw_all := lw_g (lw_at lw_m4 94 rfl) rfl
theorem q1032 : (Jvm.Cond.selects "NonsenseRows$Amount" ({ cls := "NonsenseRows$Sum", name := "comes", desc := "(LNonsenseRows$Asked;)J" } : Jvm.MethodName) ({ cls := "NonsenseRows$Sum", name := "comes", desc := "(LNonsenseRows$Asked;)J" } : Jvm.MethodName)) ∈ lw_all := lw_g (lw_at lw_m4 229 rfl) rfl
theorem q1044 : (Jvm.Cond.instanceMethod ({ cls := "NonsenseRows$Amount", name := "of", desc := "(LNonsenseRows$Asked;)J" } : Jvm.MethodName)) ∈ lw_all := lw_g (lw_at lw_m5 1 rfl) rfl
theorem q1045 : (Jvm.Cond.code ({ cls := "NonsenseRows$Amount", name := "of", desc := "(LNonsenseRows$Asked;)J" } : Jvm.MethodName) prog_3_method_2_code (2 : Nat) (Option.some Jvm.ClassFile.FieldType.long)) ∈ lw_all := lw_g (lw_at lw_m5 2 rfl) rfl
theorem q1066 : (Jvm.Cond.selects "NonsenseRows$Amount" ({ cls := "NonsenseRows$Sum", name := "of", desc := "(LNonsenseRows$Asked;)J" } : Jvm.MethodName) ({ cls := "NonsenseRows$Amount", name := "of", desc := "(LNonsenseRows$Asked;)J" } : Jvm.MethodName)) ∈ lw_all := lw_g (lw_at lw_m5 23 rfl) rfl
theorem q1931 : (Jvm.Cond.castable "NonsenseRows$Amount" "java/lang/Object") ∈ lw_tbl := lw_at lw_m8 168 rfl
theorem q1942 : (Jvm.Cond.castable "NonsenseRows$Amount" "NonsenseRows$Sum") ∈ lw_tbl := lw_at lw_m8 179 rfl

set_option maxRecDepth 100000
abbrev cX11_init : ByteArray := prog_8_method_1_code
def yX11_init : MethodName := ⟨RX11, "<init>", "(I)V"⟩
def dkwX11_init_0 : List UInt8 := [42, 183, 0, 3, 42, 27, 181, 0, 9, 177]
abbrev dktX11_init_0 : List UInt8 := dkwX11_init_0 ++ []
theorem dksX11_init_0 : cX11_init.data.toList.drop 0 = dktX11_init_0 := by decide +kernel
theorem dX11_init_0 : decode cX11_init 0 = .ok (.aload_n 0, 1) := dk_42 (dk_at dksX11_init_0 0 rfl rfl)
theorem dX11_init_1 : decode cX11_init 1 = .ok (.invokespecial 3, 3) := dk_183 0 3 (dk_at dksX11_init_0 1 rfl rfl)
theorem dX11_init_4 : decode cX11_init 4 = .ok (.aload_n 0, 1) := dk_42 (dk_at dksX11_init_0 4 rfl rfl)
theorem dX11_init_5 : decode cX11_init 5 = .ok (.iload_n 1, 1) := dk_27 (dk_at dksX11_init_0 5 rfl rfl)
theorem dX11_init_6 : decode cX11_init 6 = .ok (.putfield 9, 3) := dk_181 0 9 (dk_at dksX11_init_0 6 rfl rfl)
theorem dX11_init_9 : decode cX11_init 9 = .ok (.return_, 1) := dk_177 (dk_at dksX11_init_0 9 rfl rfl)
abbrev cX11_of : ByteArray := prog_8_method_2_code
def yX11_of : MethodName := ⟨RX11, "of", "(LNonsenseRows$Asked;)J"⟩
def dkwX11_of_3 : List UInt8 := [180, 0, 23, 133, 173, 43, 180, 0, 26, 133, 173]
abbrev dktX11_of_3 : List UInt8 := dkwX11_of_3 ++ []
def dkwX11_of_2 : List UInt8 := [43, 180, 0, 15, 133, 173, 17, 3, 232, 43, 180, 0, 15, 100, 133, 173, 43, 180, 0, 20, 133, 173, 43]
abbrev dktX11_of_2 : List UInt8 := dkwX11_of_2 ++ dktX11_of_3
def dkwX11_of_1 : List UInt8 := [170, 0, 0, 0, 0, 0, 0, 60, 0, 0, 0, 0, 0, 0, 0, 3, 0, 0, 0, 32, 0, 0, 0, 38, 0, 0, 0, 48, 0, 0, 0, 54]
abbrev dktX11_of_1 : List UInt8 := dkwX11_of_1 ++ dktX11_of_2
def dkwX11_of_0 : List UInt8 := [42, 180, 0, 9]
abbrev dktX11_of_0 : List UInt8 := dkwX11_of_0 ++ dktX11_of_1
theorem dksX11_of_0 : cX11_of.data.toList.drop 0 = dktX11_of_0 := by decide +kernel
theorem dksX11_of_1 : cX11_of.data.toList.drop 4 = dktX11_of_1 := dk_seg dksX11_of_0 4 rfl rfl
theorem dksX11_of_2 : cX11_of.data.toList.drop 36 = dktX11_of_2 := dk_seg dksX11_of_1 32 rfl rfl
theorem dksX11_of_3 : cX11_of.data.toList.drop 59 = dktX11_of_3 := dk_seg dksX11_of_2 23 rfl rfl
theorem dX11_of_0 : decode cX11_of 0 = .ok (.aload_n 0, 1) := dk_42 (dk_at dksX11_of_0 0 rfl rfl)
theorem dX11_of_1 : decode cX11_of 1 = .ok (.getfield 9, 3) := dk_180 0 9 (dk_at dksX11_of_0 1 rfl rfl)
theorem dX11_of_4 : decode cX11_of 4 = .ok (.tableswitch 60 0 3 #[32, 38, 48, 54], 32) := by decide +kernel
theorem dX11_of_36 : decode cX11_of 36 = .ok (.aload_n 1, 1) := dk_43 (dk_at dksX11_of_2 0 rfl rfl)
theorem dX11_of_37 : decode cX11_of 37 = .ok (.getfield 15, 3) := dk_180 0 15 (dk_at dksX11_of_2 1 rfl rfl)
theorem dX11_of_40 : decode cX11_of 40 = .ok (.i2l, 1) := dk_133 (dk_at dksX11_of_2 4 rfl rfl)
theorem dX11_of_41 : decode cX11_of 41 = .ok (.lreturn, 1) := dk_173 (dk_at dksX11_of_2 5 rfl rfl)
theorem dX11_of_42 : decode cX11_of 42 = .ok (.sipush 1000, 3) := dk_17 3 232 (dk_at dksX11_of_2 6 rfl rfl)
theorem dX11_of_45 : decode cX11_of 45 = .ok (.aload_n 1, 1) := dk_43 (dk_at dksX11_of_2 9 rfl rfl)
theorem dX11_of_46 : decode cX11_of 46 = .ok (.getfield 15, 3) := dk_180 0 15 (dk_at dksX11_of_2 10 rfl rfl)
theorem dX11_of_49 : decode cX11_of 49 = .ok (.isub, 1) := dk_100 (dk_at dksX11_of_2 13 rfl rfl)
theorem dX11_of_50 : decode cX11_of 50 = .ok (.i2l, 1) := dk_133 (dk_at dksX11_of_2 14 rfl rfl)
theorem dX11_of_51 : decode cX11_of 51 = .ok (.lreturn, 1) := dk_173 (dk_at dksX11_of_2 15 rfl rfl)
theorem dX11_of_52 : decode cX11_of 52 = .ok (.aload_n 1, 1) := dk_43 (dk_at dksX11_of_2 16 rfl rfl)
theorem dX11_of_53 : decode cX11_of 53 = .ok (.getfield 20, 3) := dk_180 0 20 (dk_at dksX11_of_2 17 rfl rfl)
theorem dX11_of_56 : decode cX11_of 56 = .ok (.i2l, 1) := dk_133 (dk_at dksX11_of_2 20 rfl rfl)
theorem dX11_of_57 : decode cX11_of 57 = .ok (.lreturn, 1) := dk_173 (dk_at dksX11_of_2 21 rfl rfl)
theorem dX11_of_58 : decode cX11_of 58 = .ok (.aload_n 1, 1) := dk_43 (dk_at dksX11_of_2 22 rfl rfl)
theorem dX11_of_59 : decode cX11_of 59 = .ok (.getfield 23, 3) := dk_180 0 23 (dk_at dksX11_of_3 0 rfl rfl)
theorem dX11_of_62 : decode cX11_of 62 = .ok (.i2l, 1) := dk_133 (dk_at dksX11_of_3 3 rfl rfl)
theorem dX11_of_63 : decode cX11_of 63 = .ok (.lreturn, 1) := dk_173 (dk_at dksX11_of_3 4 rfl rfl)
theorem dX11_of_64 : decode cX11_of 64 = .ok (.aload_n 1, 1) := dk_43 (dk_at dksX11_of_3 5 rfl rfl)
theorem dX11_of_65 : decode cX11_of 65 = .ok (.getfield 26, 3) := dk_180 0 26 (dk_at dksX11_of_3 6 rfl rfl)
theorem dX11_of_68 : decode cX11_of 68 = .ok (.i2l, 1) := dk_133 (dk_at dksX11_of_3 9 rfl rfl)
theorem dX11_of_69 : decode cX11_of 69 = .ok (.lreturn, 1) := dk_173 (dk_at dksX11_of_3 10 rfl rfl)
theorem q105 : (Jvm.Cond.initialized "NonsenseRows$Part") ∈ lw_all := lw_g (lw_at lw_m1 22 rfl) rfl
theorem q428 : (Jvm.Cond.fieldLinkNest "NonsenseRows$Part" (15 : Nat) "NonsenseRows$Asked" "has" "I" "NonsenseRows") ∈ lw_tbl := lw_at lw_m2 105 rfl
theorem q430 : (Jvm.Cond.fieldLinkNest "NonsenseRows$Part" (20 : Nat) "NonsenseRows$Asked" "easy" "I" "NonsenseRows") ∈ lw_tbl := lw_at lw_m2 107 rfl
theorem q432 : (Jvm.Cond.fieldLinkNest "NonsenseRows$Part" (23 : Nat) "NonsenseRows$Asked" "tired" "I" "NonsenseRows") ∈ lw_tbl := lw_at lw_m2 109 rfl
theorem q434 : (Jvm.Cond.fieldLinkNest "NonsenseRows$Part" (26 : Nat) "NonsenseRows$Asked" "hour" "I" "NonsenseRows") ∈ lw_tbl := lw_at lw_m2 111 rfl
theorem q798 : (Jvm.Cond.instantiable "NonsenseRows$Part" (1 : Nat)) ∈ lw_all := lw_g (lw_at lw_m3 235 rfl) rfl
theorem q800 : (Jvm.Cond.instanceMethod ({ cls := "NonsenseRows$Part", name := "<init>", desc := "(I)V" } : Jvm.MethodName)) ∈ lw_all := lw_g (lw_at lw_m3 237 rfl) rfl
theorem q801 : (Jvm.Cond.code ({ cls := "NonsenseRows$Part", name := "<init>", desc := "(I)V" } : Jvm.MethodName) prog_8_method_1_code (2 : Nat) (Option.none : Option Jvm.ClassFile.FieldType)) ∈ lw_all := lw_g (lw_at lw_m3 238 rfl) rfl
theorem q802 : (Jvm.Cond.methodLinkNest "NonsenseRows$Part" (3 : Nat) ({ cls := "NonsenseRows$Sum", name := "<init>", desc := "()V" } : Jvm.MethodName) "NonsenseRows") ∈ lw_tbl := lw_at lw_m3 239 rfl
theorem q803 : (Jvm.Cond.fieldLink "NonsenseRows$Part" (9 : Nat) "NonsenseRows$Part" "what" "I") ∈ lw_all := lw_g (lw_at lw_m4 0 rfl) rfl
theorem q804 : (Jvm.Cond.laysFinal "NonsenseRows$Part" "NonsenseRows$Part" "what" "I") ∈ lw_all := lw_g (lw_at lw_m4 1 rfl) rfl
theorem q805 : (Jvm.Cond.soleField "NonsenseRows$Part" "what") ∈ lw_all := lw_g (lw_at lw_m4 2 rfl) rfl
theorem q806 : (Jvm.Cond.superclass "NonsenseRows$Part" "NonsenseRows$Sum") ∈ lw_all := lw_g (lw_at lw_m4 3 rfl) rfl
theorem q901 : (Jvm.Cond.selects "NonsenseRows$Part" ({ cls := "java/lang/Object", name := "getClass", desc := "()Ljava/lang/Class;" } : Jvm.MethodName) ({ cls := "java/lang/Object", name := "getClass", desc := "()Ljava/lang/Class;" } : Jvm.MethodName)) ∈ lw_all := lw_g (lw_at lw_m4 98 rfl) rfl
theorem q1034 : (Jvm.Cond.selects "NonsenseRows$Part" ({ cls := "NonsenseRows$Sum", name := "comes", desc := "(LNonsenseRows$Asked;)J" } : Jvm.MethodName) ({ cls := "NonsenseRows$Sum", name := "comes", desc := "(LNonsenseRows$Asked;)J" } : Jvm.MethodName)) ∈ lw_all := lw_g (lw_at lw_m4 231 rfl) rfl
theorem q1046 : (Jvm.Cond.instanceMethod ({ cls := "NonsenseRows$Part", name := "of", desc := "(LNonsenseRows$Asked;)J" } : Jvm.MethodName)) ∈ lw_all := lw_g (lw_at lw_m5 3 rfl) rfl
theorem q1047 : (Jvm.Cond.code ({ cls := "NonsenseRows$Part", name := "of", desc := "(LNonsenseRows$Asked;)J" } : Jvm.MethodName) prog_8_method_2_code (2 : Nat) (Option.some Jvm.ClassFile.FieldType.long)) ∈ lw_all := lw_g (lw_at lw_m5 4 rfl) rfl
theorem q1068 : (Jvm.Cond.selects "NonsenseRows$Part" ({ cls := "NonsenseRows$Sum", name := "of", desc := "(LNonsenseRows$Asked;)J" } : Jvm.MethodName) ({ cls := "NonsenseRows$Part", name := "of", desc := "(LNonsenseRows$Asked;)J" } : Jvm.MethodName)) ∈ lw_all := lw_g (lw_at lw_m5 25 rfl) rfl
theorem q1932 : (Jvm.Cond.castable "NonsenseRows$Part" "java/lang/Object") ∈ lw_tbl := lw_at lw_m8 169 rfl
theorem q1943 : (Jvm.Cond.castable "NonsenseRows$Part" "NonsenseRows$Sum") ∈ lw_tbl := lw_at lw_m8 180 rfl

set_option maxRecDepth 100000
abbrev cX12_init : ByteArray := prog_5_method_1_code
def yX12_init : MethodName := ⟨RX12, "<init>", "(LNonsenseRows$Sum;LNonsenseRows$Sum;)V"⟩
def dkwX12_init_0 : List UInt8 := [42, 183, 0, 1, 42, 43, 181, 0, 7, 42, 44, 181, 0, 13, 177]
abbrev dktX12_init_0 : List UInt8 := dkwX12_init_0 ++ []
theorem dksX12_init_0 : cX12_init.data.toList.drop 0 = dktX12_init_0 := by decide +kernel
theorem dX12_init_0 : decode cX12_init 0 = .ok (.aload_n 0, 1) := dk_42 (dk_at dksX12_init_0 0 rfl rfl)
theorem dX12_init_1 : decode cX12_init 1 = .ok (.invokespecial 1, 3) := dk_183 0 1 (dk_at dksX12_init_0 1 rfl rfl)
theorem dX12_init_4 : decode cX12_init 4 = .ok (.aload_n 0, 1) := dk_42 (dk_at dksX12_init_0 4 rfl rfl)
theorem dX12_init_5 : decode cX12_init 5 = .ok (.aload_n 1, 1) := dk_43 (dk_at dksX12_init_0 5 rfl rfl)
theorem dX12_init_6 : decode cX12_init 6 = .ok (.putfield 7, 3) := dk_181 0 7 (dk_at dksX12_init_0 6 rfl rfl)
theorem dX12_init_9 : decode cX12_init 9 = .ok (.aload_n 0, 1) := dk_42 (dk_at dksX12_init_0 9 rfl rfl)
theorem dX12_init_10 : decode cX12_init 10 = .ok (.aload_n 2, 1) := dk_44 (dk_at dksX12_init_0 10 rfl rfl)
theorem dX12_init_11 : decode cX12_init 11 = .ok (.putfield 13, 3) := dk_181 0 13 (dk_at dksX12_init_0 11 rfl rfl)
theorem dX12_init_14 : decode cX12_init 14 = .ok (.return_, 1) := dk_177 (dk_at dksX12_init_0 14 rfl rfl)
abbrev cX12_of : ByteArray := prog_5_method_3_code
def yX12_of : MethodName := ⟨RX12, "of", "(LNonsenseRows$Asked;)J"⟩
def dkwX12_of_1 : List UInt8 := [182, 0, 23, 173]
abbrev dktX12_of_1 : List UInt8 := dkwX12_of_1 ++ []
def dkwX12_of_0 : List UInt8 := [42, 180, 0, 7, 43, 182, 0, 16, 65, 43, 42, 32, 42, 180, 0, 13, 43, 182, 0, 16, 43, 182, 0, 20]
abbrev dktX12_of_0 : List UInt8 := dkwX12_of_0 ++ dktX12_of_1
theorem dksX12_of_0 : cX12_of.data.toList.drop 0 = dktX12_of_0 := by decide +kernel
theorem dksX12_of_1 : cX12_of.data.toList.drop 24 = dktX12_of_1 := dk_seg dksX12_of_0 24 rfl rfl
theorem dX12_of_0 : decode cX12_of 0 = .ok (.aload_n 0, 1) := dk_42 (dk_at dksX12_of_0 0 rfl rfl)
theorem dX12_of_1 : decode cX12_of 1 = .ok (.getfield 7, 3) := dk_180 0 7 (dk_at dksX12_of_0 1 rfl rfl)
theorem dX12_of_4 : decode cX12_of 4 = .ok (.aload_n 1, 1) := dk_43 (dk_at dksX12_of_0 4 rfl rfl)
theorem dX12_of_5 : decode cX12_of 5 = .ok (.invokevirtual 16, 3) := dk_182 0 16 (dk_at dksX12_of_0 5 rfl rfl)
theorem dX12_of_8 : decode cX12_of 8 = .ok (.lstore_n 2, 1) := dk_65 (dk_at dksX12_of_0 8 rfl rfl)
theorem dX12_of_9 : decode cX12_of 9 = .ok (.aload_n 1, 1) := dk_43 (dk_at dksX12_of_0 9 rfl rfl)
theorem dX12_of_10 : decode cX12_of 10 = .ok (.aload_n 0, 1) := dk_42 (dk_at dksX12_of_0 10 rfl rfl)
theorem dX12_of_11 : decode cX12_of 11 = .ok (.lload_n 2, 1) := dk_32 (dk_at dksX12_of_0 11 rfl rfl)
theorem dX12_of_12 : decode cX12_of 12 = .ok (.aload_n 0, 1) := dk_42 (dk_at dksX12_of_0 12 rfl rfl)
theorem dX12_of_13 : decode cX12_of 13 = .ok (.getfield 13, 3) := dk_180 0 13 (dk_at dksX12_of_0 13 rfl rfl)
theorem dX12_of_16 : decode cX12_of 16 = .ok (.aload_n 1, 1) := dk_43 (dk_at dksX12_of_0 16 rfl rfl)
theorem dX12_of_17 : decode cX12_of 17 = .ok (.invokevirtual 16, 3) := dk_182 0 16 (dk_at dksX12_of_0 17 rfl rfl)
theorem dX12_of_20 : decode cX12_of 20 = .ok (.aload_n 1, 1) := dk_43 (dk_at dksX12_of_0 20 rfl rfl)
theorem dX12_of_21 : decode cX12_of 21 = .ok (.invokevirtual 20, 3) := dk_182 0 20 (dk_at dksX12_of_0 21 rfl rfl)
theorem dX12_of_24 : decode cX12_of 24 = .ok (.invokevirtual 23, 3) := dk_182 0 23 (dk_at dksX12_of_1 0 rfl rfl)
theorem dX12_of_27 : decode cX12_of 27 = .ok (.lreturn, 1) := dk_173 (dk_at dksX12_of_1 3 rfl rfl)
theorem q106 : (Jvm.Cond.initialized "NonsenseRows$Both") ∈ lw_all := lw_g (lw_at lw_m1 23 rfl) rfl
theorem q818 : (Jvm.Cond.instanceMethod ({ cls := "NonsenseRows$Both", name := "<init>", desc := "(LNonsenseRows$Sum;LNonsenseRows$Sum;)V" } : Jvm.MethodName)) ∈ lw_all := lw_g (lw_at lw_m4 15 rfl) rfl
theorem q819 : (Jvm.Cond.code ({ cls := "NonsenseRows$Both", name := "<init>", desc := "(LNonsenseRows$Sum;LNonsenseRows$Sum;)V" } : Jvm.MethodName) prog_5_method_1_code (3 : Nat) (Option.none : Option Jvm.ClassFile.FieldType)) ∈ lw_all := lw_g (lw_at lw_m4 16 rfl) rfl
theorem q820 : (Jvm.Cond.methodLinkNest "NonsenseRows$Both" (1 : Nat) ({ cls := "NonsenseRows$Sum", name := "<init>", desc := "()V" } : Jvm.MethodName) "NonsenseRows") ∈ lw_tbl := lw_at lw_m4 17 rfl
theorem q821 : (Jvm.Cond.fieldLink "NonsenseRows$Both" (7 : Nat) "NonsenseRows$Both" "one" "LNonsenseRows$Sum;") ∈ lw_all := lw_g (lw_at lw_m4 18 rfl) rfl
theorem q822 : (Jvm.Cond.fieldLink "NonsenseRows$Both" (13 : Nat) "NonsenseRows$Both" "other" "LNonsenseRows$Sum;") ∈ lw_all := lw_g (lw_at lw_m4 19 rfl) rfl
theorem q824 : (Jvm.Cond.soleField "NonsenseRows$Both" "one") ∈ lw_all := lw_g (lw_at lw_m4 21 rfl) rfl
theorem q826 : (Jvm.Cond.soleField "NonsenseRows$Both" "other") ∈ lw_all := lw_g (lw_at lw_m4 23 rfl) rfl
theorem q1041 : (Jvm.Cond.instanceMethod ({ cls := "NonsenseRows$Both", name := "of", desc := "(LNonsenseRows$Asked;)J" } : Jvm.MethodName)) ∈ lw_all := lw_g (lw_at lw_m4 238 rfl) rfl
theorem q1042 : (Jvm.Cond.code ({ cls := "NonsenseRows$Both", name := "of", desc := "(LNonsenseRows$Asked;)J" } : Jvm.MethodName) prog_5_method_3_code (4 : Nat) (Option.some Jvm.ClassFile.FieldType.long)) ∈ lw_all := lw_g (lw_at lw_m4 239 rfl) rfl
theorem q1043 : (Jvm.Cond.methodLink "NonsenseRows$Both" (16 : Nat) ({ cls := "NonsenseRows$Sum", name := "of", desc := "(LNonsenseRows$Asked;)J" } : Jvm.MethodName)) ∈ lw_all := lw_g (lw_at lw_m5 0 rfl) rfl
theorem q1048 : (Jvm.Cond.methodLink "NonsenseRows$Both" (20 : Nat) ({ cls := "NonsenseRows$Both", name := "of", desc := "(JJLNonsenseRows$Asked;)J" } : Jvm.MethodName)) ∈ lw_all := lw_g (lw_at lw_m5 5 rfl) rfl
theorem q1049 : (Jvm.Cond.declares ({ cls := "NonsenseRows$Both", name := "of", desc := "(JJLNonsenseRows$Asked;)J" } : Jvm.MethodName)) ∈ lw_tbl := lw_at lw_m5 6 rfl
theorem q1050 : (Jvm.Cond.sameMethod "NonsenseRows$Both" "NonsenseRows$Both" "of" "(JJLNonsenseRows$Asked;)J") ∈ lw_all := lw_g (lw_at lw_m5 7 rfl) rfl
theorem q1060 : (Jvm.Cond.methodLink "NonsenseRows$Both" (23 : Nat) ({ cls := "NonsenseRows$Asked", name := "within", desc := "(J)J" } : Jvm.MethodName)) ∈ lw_all := lw_g (lw_at lw_m5 17 rfl) rfl

set_option maxRecDepth 100000
abbrev cX13_init : ByteArray := prog_15_method_1_code
def yX13_init : MethodName := ⟨RX13, "<init>", "(LNonsenseRows$Sum;LNonsenseRows$Sum;)V"⟩
def dkwX13_init_0 : List UInt8 := [42, 43, 44, 183, 0, 1, 177]
abbrev dktX13_init_0 : List UInt8 := dkwX13_init_0 ++ []
theorem dksX13_init_0 : cX13_init.data.toList.drop 0 = dktX13_init_0 := by decide +kernel
theorem dX13_init_0 : decode cX13_init 0 = .ok (.aload_n 0, 1) := dk_42 (dk_at dksX13_init_0 0 rfl rfl)
theorem dX13_init_1 : decode cX13_init 1 = .ok (.aload_n 1, 1) := dk_43 (dk_at dksX13_init_0 1 rfl rfl)
theorem dX13_init_2 : decode cX13_init 2 = .ok (.aload_n 2, 1) := dk_44 (dk_at dksX13_init_0 2 rfl rfl)
theorem dX13_init_3 : decode cX13_init 3 = .ok (.invokespecial 1, 3) := dk_183 0 1 (dk_at dksX13_init_0 3 rfl rfl)
theorem dX13_init_6 : decode cX13_init 6 = .ok (.return_, 1) := dk_177 (dk_at dksX13_init_0 6 rfl rfl)
abbrev cX13_of : ByteArray := prog_15_method_2_code
def yX13_of : MethodName := ⟨RX13, "of", "(JJLNonsenseRows$Asked;)J"⟩
def dkwX13_of_0 : List UInt8 := [31, 33, 105, 173]
abbrev dktX13_of_0 : List UInt8 := dkwX13_of_0 ++ []
theorem dksX13_of_0 : cX13_of.data.toList.drop 0 = dktX13_of_0 := by decide +kernel
theorem dX13_of_0 : decode cX13_of 0 = .ok (.lload_n 1, 1) := dk_31 (dk_at dksX13_of_0 0 rfl rfl)
theorem dX13_of_1 : decode cX13_of 1 = .ok (.lload_n 3, 1) := dk_33 (dk_at dksX13_of_0 1 rfl rfl)
theorem dX13_of_2 : decode cX13_of 2 = .ok (.lmul, 1) := dk_105 (dk_at dksX13_of_0 2 rfl rfl)
theorem dX13_of_3 : decode cX13_of 3 = .ok (.lreturn, 1) := dk_173 (dk_at dksX13_of_0 3 rfl rfl)
theorem q107 : (Jvm.Cond.initialized "NonsenseRows$Times") ∈ lw_all := lw_g (lw_at lw_m1 24 rfl) rfl
theorem q815 : (Jvm.Cond.instanceMethod ({ cls := "NonsenseRows$Times", name := "<init>", desc := "(LNonsenseRows$Sum;LNonsenseRows$Sum;)V" } : Jvm.MethodName)) ∈ lw_all := lw_g (lw_at lw_m4 12 rfl) rfl
theorem q816 : (Jvm.Cond.code ({ cls := "NonsenseRows$Times", name := "<init>", desc := "(LNonsenseRows$Sum;LNonsenseRows$Sum;)V" } : Jvm.MethodName) prog_15_method_1_code (3 : Nat) (Option.none : Option Jvm.ClassFile.FieldType)) ∈ lw_all := lw_g (lw_at lw_m4 13 rfl) rfl
theorem q817 : (Jvm.Cond.methodLink "NonsenseRows$Times" (1 : Nat) ({ cls := "NonsenseRows$Both", name := "<init>", desc := "(LNonsenseRows$Sum;LNonsenseRows$Sum;)V" } : Jvm.MethodName)) ∈ lw_all := lw_g (lw_at lw_m4 14 rfl) rfl
theorem q829 : (Jvm.Cond.instantiable "NonsenseRows$Times" (2 : Nat)) ∈ lw_all := lw_g (lw_at lw_m4 26 rfl) rfl
theorem q831 : (Jvm.Cond.laysFinal "NonsenseRows$Times" "NonsenseRows$Both" "one" "LNonsenseRows$Sum;") ∈ lw_all := lw_g (lw_at lw_m4 28 rfl) rfl
theorem q832 : (Jvm.Cond.laysFinal "NonsenseRows$Times" "NonsenseRows$Both" "other" "LNonsenseRows$Sum;") ∈ lw_all := lw_g (lw_at lw_m4 29 rfl) rfl
theorem q833 : (Jvm.Cond.superclass "NonsenseRows$Times" "NonsenseRows$Both") ∈ lw_all := lw_g (lw_at lw_m4 30 rfl) rfl
theorem q907 : (Jvm.Cond.selects "NonsenseRows$Times" ({ cls := "java/lang/Object", name := "getClass", desc := "()Ljava/lang/Class;" } : Jvm.MethodName) ({ cls := "java/lang/Object", name := "getClass", desc := "()Ljava/lang/Class;" } : Jvm.MethodName)) ∈ lw_all := lw_g (lw_at lw_m4 104 rfl) rfl
theorem q1035 : (Jvm.Cond.selects "NonsenseRows$Times" ({ cls := "NonsenseRows$Sum", name := "comes", desc := "(LNonsenseRows$Asked;)J" } : Jvm.MethodName) ({ cls := "NonsenseRows$Sum", name := "comes", desc := "(LNonsenseRows$Asked;)J" } : Jvm.MethodName)) ∈ lw_all := lw_g (lw_at lw_m4 232 rfl) rfl
theorem q1057 : (Jvm.Cond.selects "NonsenseRows$Times" ({ cls := "NonsenseRows$Both", name := "of", desc := "(JJLNonsenseRows$Asked;)J" } : Jvm.MethodName) ({ cls := "NonsenseRows$Times", name := "of", desc := "(JJLNonsenseRows$Asked;)J" } : Jvm.MethodName)) ∈ lw_all := lw_g (lw_at lw_m5 14 rfl) rfl
theorem q1058 : (Jvm.Cond.instanceMethod ({ cls := "NonsenseRows$Times", name := "of", desc := "(JJLNonsenseRows$Asked;)J" } : Jvm.MethodName)) ∈ lw_all := lw_g (lw_at lw_m5 15 rfl) rfl
theorem q1059 : (Jvm.Cond.code ({ cls := "NonsenseRows$Times", name := "of", desc := "(JJLNonsenseRows$Asked;)J" } : Jvm.MethodName) prog_15_method_2_code (6 : Nat) (Option.some Jvm.ClassFile.FieldType.long)) ∈ lw_all := lw_g (lw_at lw_m5 16 rfl) rfl
theorem q1069 : (Jvm.Cond.selects "NonsenseRows$Times" ({ cls := "NonsenseRows$Sum", name := "of", desc := "(LNonsenseRows$Asked;)J" } : Jvm.MethodName) ({ cls := "NonsenseRows$Both", name := "of", desc := "(LNonsenseRows$Asked;)J" } : Jvm.MethodName)) ∈ lw_all := lw_g (lw_at lw_m5 26 rfl) rfl
theorem q1934 : (Jvm.Cond.castable "NonsenseRows$Times" "java/lang/Object") ∈ lw_tbl := lw_at lw_m8 171 rfl
theorem q1945 : (Jvm.Cond.castable "NonsenseRows$Times" "NonsenseRows$Sum") ∈ lw_tbl := lw_at lw_m8 182 rfl

set_option maxRecDepth 100000
abbrev cX14_init : ByteArray := prog_7_method_1_code
def yX14_init : MethodName := ⟨RX14, "<init>", "(LNonsenseRows$Sum;LNonsenseRows$Sum;)V"⟩
def dkwX14_init_0 : List UInt8 := [42, 43, 44, 183, 0, 1, 177]
abbrev dktX14_init_0 : List UInt8 := dkwX14_init_0 ++ []
theorem dksX14_init_0 : cX14_init.data.toList.drop 0 = dktX14_init_0 := by decide +kernel
theorem dX14_init_0 : decode cX14_init 0 = .ok (.aload_n 0, 1) := dk_42 (dk_at dksX14_init_0 0 rfl rfl)
theorem dX14_init_1 : decode cX14_init 1 = .ok (.aload_n 1, 1) := dk_43 (dk_at dksX14_init_0 1 rfl rfl)
theorem dX14_init_2 : decode cX14_init 2 = .ok (.aload_n 2, 1) := dk_44 (dk_at dksX14_init_0 2 rfl rfl)
theorem dX14_init_3 : decode cX14_init 3 = .ok (.invokespecial 1, 3) := dk_183 0 1 (dk_at dksX14_init_0 3 rfl rfl)
theorem dX14_init_6 : decode cX14_init 6 = .ok (.return_, 1) := dk_177 (dk_at dksX14_init_0 6 rfl rfl)
abbrev cX14_of : ByteArray := prog_7_method_2_code
def yX14_of : MethodName := ⟨RX14, "of", "(JJLNonsenseRows$Asked;)J"⟩
def dkwX14_of_1 : List UInt8 := [33, 9, 148, 154, 0, 7, 9, 167, 0, 6, 31, 33, 109, 173]
abbrev dktX14_of_1 : List UInt8 := dkwX14_of_1 ++ []
def dkwX14_of_0 : List UInt8 := [25, 5, 25, 5, 180, 0, 7, 154, 0, 9, 33, 9, 148, 154, 0, 7, 4, 167, 0, 4, 3, 181, 0, 7]
abbrev dktX14_of_0 : List UInt8 := dkwX14_of_0 ++ dktX14_of_1
theorem dksX14_of_0 : cX14_of.data.toList.drop 0 = dktX14_of_0 := by decide +kernel
theorem dksX14_of_1 : cX14_of.data.toList.drop 24 = dktX14_of_1 := dk_seg dksX14_of_0 24 rfl rfl
theorem dX14_of_0 : decode cX14_of 0 = .ok (.aload 5, 2) := dk_25 5 (dk_at dksX14_of_0 0 rfl rfl)
theorem dX14_of_2 : decode cX14_of 2 = .ok (.aload 5, 2) := dk_25 5 (dk_at dksX14_of_0 2 rfl rfl)
theorem dX14_of_4 : decode cX14_of 4 = .ok (.getfield 7, 3) := dk_180 0 7 (dk_at dksX14_of_0 4 rfl rfl)
theorem dX14_of_7 : decode cX14_of 7 = .ok (.ifCond .ne 9, 3) := dk_154 0 9 (dk_at dksX14_of_0 7 rfl rfl)
theorem dX14_of_10 : decode cX14_of 10 = .ok (.lload_n 3, 1) := dk_33 (dk_at dksX14_of_0 10 rfl rfl)
theorem dX14_of_11 : decode cX14_of 11 = .ok (.lconst 0, 1) := dk_9 (dk_at dksX14_of_0 11 rfl rfl)
theorem dX14_of_12 : decode cX14_of 12 = .ok (.lcmp, 1) := dk_148 (dk_at dksX14_of_0 12 rfl rfl)
theorem dX14_of_13 : decode cX14_of 13 = .ok (.ifCond .ne 7, 3) := dk_154 0 7 (dk_at dksX14_of_0 13 rfl rfl)
theorem dX14_of_16 : decode cX14_of 16 = .ok (.iconst 1, 1) := dk_4 (dk_at dksX14_of_0 16 rfl rfl)
theorem dX14_of_17 : decode cX14_of 17 = .ok (.goto 4, 3) := dk_167 0 4 (dk_at dksX14_of_0 17 rfl rfl)
theorem dX14_of_20 : decode cX14_of 20 = .ok (.iconst 0, 1) := dk_3 (dk_at dksX14_of_0 20 rfl rfl)
theorem dX14_of_21 : decode cX14_of 21 = .ok (.putfield 7, 3) := dk_181 0 7 (dk_at dksX14_of_0 21 rfl rfl)
theorem dX14_of_24 : decode cX14_of 24 = .ok (.lload_n 3, 1) := dk_33 (dk_at dksX14_of_1 0 rfl rfl)
theorem dX14_of_25 : decode cX14_of 25 = .ok (.lconst 0, 1) := dk_9 (dk_at dksX14_of_1 1 rfl rfl)
theorem dX14_of_26 : decode cX14_of 26 = .ok (.lcmp, 1) := dk_148 (dk_at dksX14_of_1 2 rfl rfl)
theorem dX14_of_27 : decode cX14_of 27 = .ok (.ifCond .ne 7, 3) := dk_154 0 7 (dk_at dksX14_of_1 3 rfl rfl)
theorem dX14_of_30 : decode cX14_of 30 = .ok (.lconst 0, 1) := dk_9 (dk_at dksX14_of_1 6 rfl rfl)
theorem dX14_of_31 : decode cX14_of 31 = .ok (.goto 6, 3) := dk_167 0 6 (dk_at dksX14_of_1 7 rfl rfl)
theorem dX14_of_34 : decode cX14_of 34 = .ok (.lload_n 1, 1) := dk_31 (dk_at dksX14_of_1 10 rfl rfl)
theorem dX14_of_35 : decode cX14_of 35 = .ok (.lload_n 3, 1) := dk_33 (dk_at dksX14_of_1 11 rfl rfl)
theorem dX14_of_36 : decode cX14_of 36 = .ok (.ldiv, 1) := dk_109 (dk_at dksX14_of_1 12 rfl rfl)
theorem dX14_of_37 : decode cX14_of 37 = .ok (.lreturn, 1) := dk_173 (dk_at dksX14_of_1 13 rfl rfl)
theorem q108 : (Jvm.Cond.initialized "NonsenseRows$Over") ∈ lw_all := lw_g (lw_at lw_m1 25 rfl) rfl
theorem q437 : (Jvm.Cond.fieldLinkNest "NonsenseRows$Over" (7 : Nat) "NonsenseRows$Asked" "isBroken" "Z" "NonsenseRows") ∈ lw_tbl := lw_at lw_m2 114 rfl
theorem q810 : (Jvm.Cond.instantiable "NonsenseRows$Over" (2 : Nat)) ∈ lw_all := lw_g (lw_at lw_m4 7 rfl) rfl
theorem q812 : (Jvm.Cond.instanceMethod ({ cls := "NonsenseRows$Over", name := "<init>", desc := "(LNonsenseRows$Sum;LNonsenseRows$Sum;)V" } : Jvm.MethodName)) ∈ lw_all := lw_g (lw_at lw_m4 9 rfl) rfl
theorem q813 : (Jvm.Cond.code ({ cls := "NonsenseRows$Over", name := "<init>", desc := "(LNonsenseRows$Sum;LNonsenseRows$Sum;)V" } : Jvm.MethodName) prog_7_method_1_code (3 : Nat) (Option.none : Option Jvm.ClassFile.FieldType)) ∈ lw_all := lw_g (lw_at lw_m4 10 rfl) rfl
theorem q814 : (Jvm.Cond.methodLink "NonsenseRows$Over" (1 : Nat) ({ cls := "NonsenseRows$Times", name := "<init>", desc := "(LNonsenseRows$Sum;LNonsenseRows$Sum;)V" } : Jvm.MethodName)) ∈ lw_all := lw_g (lw_at lw_m4 11 rfl) rfl
theorem q823 : (Jvm.Cond.laysFinal "NonsenseRows$Over" "NonsenseRows$Both" "one" "LNonsenseRows$Sum;") ∈ lw_all := lw_g (lw_at lw_m4 20 rfl) rfl
theorem q825 : (Jvm.Cond.laysFinal "NonsenseRows$Over" "NonsenseRows$Both" "other" "LNonsenseRows$Sum;") ∈ lw_all := lw_g (lw_at lw_m4 22 rfl) rfl
theorem q827 : (Jvm.Cond.superclass "NonsenseRows$Over" "NonsenseRows$Times") ∈ lw_all := lw_g (lw_at lw_m4 24 rfl) rfl
theorem q900 : (Jvm.Cond.selects "NonsenseRows$Over" ({ cls := "java/lang/Object", name := "getClass", desc := "()Ljava/lang/Class;" } : Jvm.MethodName) ({ cls := "java/lang/Object", name := "getClass", desc := "()Ljava/lang/Class;" } : Jvm.MethodName)) ∈ lw_all := lw_g (lw_at lw_m4 97 rfl) rfl
theorem q1033 : (Jvm.Cond.selects "NonsenseRows$Over" ({ cls := "NonsenseRows$Sum", name := "comes", desc := "(LNonsenseRows$Asked;)J" } : Jvm.MethodName) ({ cls := "NonsenseRows$Sum", name := "comes", desc := "(LNonsenseRows$Asked;)J" } : Jvm.MethodName)) ∈ lw_all := lw_g (lw_at lw_m4 230 rfl) rfl
theorem q1054 : (Jvm.Cond.selects "NonsenseRows$Over" ({ cls := "NonsenseRows$Both", name := "of", desc := "(JJLNonsenseRows$Asked;)J" } : Jvm.MethodName) ({ cls := "NonsenseRows$Over", name := "of", desc := "(JJLNonsenseRows$Asked;)J" } : Jvm.MethodName)) ∈ lw_all := lw_g (lw_at lw_m5 11 rfl) rfl
theorem q1055 : (Jvm.Cond.instanceMethod ({ cls := "NonsenseRows$Over", name := "of", desc := "(JJLNonsenseRows$Asked;)J" } : Jvm.MethodName)) ∈ lw_all := lw_g (lw_at lw_m5 12 rfl) rfl
theorem q1056 : (Jvm.Cond.code ({ cls := "NonsenseRows$Over", name := "of", desc := "(JJLNonsenseRows$Asked;)J" } : Jvm.MethodName) prog_7_method_2_code (6 : Nat) (Option.some Jvm.ClassFile.FieldType.long)) ∈ lw_all := lw_g (lw_at lw_m5 13 rfl) rfl
theorem q1067 : (Jvm.Cond.selects "NonsenseRows$Over" ({ cls := "NonsenseRows$Sum", name := "of", desc := "(LNonsenseRows$Asked;)J" } : Jvm.MethodName) ({ cls := "NonsenseRows$Both", name := "of", desc := "(LNonsenseRows$Asked;)J" } : Jvm.MethodName)) ∈ lw_all := lw_g (lw_at lw_m5 24 rfl) rfl
theorem q1933 : (Jvm.Cond.castable "NonsenseRows$Over" "java/lang/Object") ∈ lw_tbl := lw_at lw_m8 170 rfl
theorem q1944 : (Jvm.Cond.castable "NonsenseRows$Over" "NonsenseRows$Sum") ∈ lw_tbl := lw_at lw_m8 181 rfl

set_option maxRecDepth 100000
abbrev cX15_init : ByteArray := prog_2_method_1_code
def yX15_init : MethodName := ⟨RX15, "<init>", "(LNonsenseRows$Sum;ZLNonsenseRows$Sum;)V"⟩
def dkwX15_init_0 : List UInt8 := [42, 43, 45, 183, 0, 1, 42, 28, 181, 0, 7, 177]
abbrev dktX15_init_0 : List UInt8 := dkwX15_init_0 ++ []
theorem dksX15_init_0 : cX15_init.data.toList.drop 0 = dktX15_init_0 := by decide +kernel
theorem dX15_init_0 : decode cX15_init 0 = .ok (.aload_n 0, 1) := dk_42 (dk_at dksX15_init_0 0 rfl rfl)
theorem dX15_init_1 : decode cX15_init 1 = .ok (.aload_n 1, 1) := dk_43 (dk_at dksX15_init_0 1 rfl rfl)
theorem dX15_init_2 : decode cX15_init 2 = .ok (.aload_n 3, 1) := dk_45 (dk_at dksX15_init_0 2 rfl rfl)
theorem dX15_init_3 : decode cX15_init 3 = .ok (.invokespecial 1, 3) := dk_183 0 1 (dk_at dksX15_init_0 3 rfl rfl)
theorem dX15_init_6 : decode cX15_init 6 = .ok (.aload_n 0, 1) := dk_42 (dk_at dksX15_init_0 6 rfl rfl)
theorem dX15_init_7 : decode cX15_init 7 = .ok (.iload_n 2, 1) := dk_28 (dk_at dksX15_init_0 7 rfl rfl)
theorem dX15_init_8 : decode cX15_init 8 = .ok (.putfield 7, 3) := dk_181 0 7 (dk_at dksX15_init_0 8 rfl rfl)
theorem dX15_init_11 : decode cX15_init 11 = .ok (.return_, 1) := dk_177 (dk_at dksX15_init_0 11 rfl rfl)
abbrev cX15_of : ByteArray := prog_2_method_2_code
def yX15_of : MethodName := ⟨RX15, "of", "(JJLNonsenseRows$Asked;)J"⟩
def dkwX15_of_0 : List UInt8 := [42, 180, 0, 7, 153, 0, 9, 31, 33, 101, 167, 0, 6, 31, 33, 97, 173]
abbrev dktX15_of_0 : List UInt8 := dkwX15_of_0 ++ []
theorem dksX15_of_0 : cX15_of.data.toList.drop 0 = dktX15_of_0 := by decide +kernel
theorem dX15_of_0 : decode cX15_of 0 = .ok (.aload_n 0, 1) := dk_42 (dk_at dksX15_of_0 0 rfl rfl)
theorem dX15_of_1 : decode cX15_of 1 = .ok (.getfield 7, 3) := dk_180 0 7 (dk_at dksX15_of_0 1 rfl rfl)
theorem dX15_of_4 : decode cX15_of 4 = .ok (.ifCond .eq 9, 3) := dk_153 0 9 (dk_at dksX15_of_0 4 rfl rfl)
theorem dX15_of_7 : decode cX15_of 7 = .ok (.lload_n 1, 1) := dk_31 (dk_at dksX15_of_0 7 rfl rfl)
theorem dX15_of_8 : decode cX15_of 8 = .ok (.lload_n 3, 1) := dk_33 (dk_at dksX15_of_0 8 rfl rfl)
theorem dX15_of_9 : decode cX15_of 9 = .ok (.lsub, 1) := dk_101 (dk_at dksX15_of_0 9 rfl rfl)
theorem dX15_of_10 : decode cX15_of 10 = .ok (.goto 6, 3) := dk_167 0 6 (dk_at dksX15_of_0 10 rfl rfl)
theorem dX15_of_13 : decode cX15_of 13 = .ok (.lload_n 1, 1) := dk_31 (dk_at dksX15_of_0 13 rfl rfl)
theorem dX15_of_14 : decode cX15_of 14 = .ok (.lload_n 3, 1) := dk_33 (dk_at dksX15_of_0 14 rfl rfl)
theorem dX15_of_15 : decode cX15_of 15 = .ok (.ladd, 1) := dk_97 (dk_at dksX15_of_0 15 rfl rfl)
theorem dX15_of_16 : decode cX15_of 16 = .ok (.lreturn, 1) := dk_173 (dk_at dksX15_of_0 16 rfl rfl)
theorem q109 : (Jvm.Cond.initialized "NonsenseRows$Added") ∈ lw_all := lw_g (lw_at lw_m1 26 rfl) rfl
theorem q837 : (Jvm.Cond.instantiable "NonsenseRows$Added" (3 : Nat)) ∈ lw_all := lw_g (lw_at lw_m4 34 rfl) rfl
theorem q839 : (Jvm.Cond.instanceMethod ({ cls := "NonsenseRows$Added", name := "<init>", desc := "(LNonsenseRows$Sum;ZLNonsenseRows$Sum;)V" } : Jvm.MethodName)) ∈ lw_all := lw_g (lw_at lw_m4 36 rfl) rfl
theorem q840 : (Jvm.Cond.code ({ cls := "NonsenseRows$Added", name := "<init>", desc := "(LNonsenseRows$Sum;ZLNonsenseRows$Sum;)V" } : Jvm.MethodName) prog_2_method_1_code (4 : Nat) (Option.none : Option Jvm.ClassFile.FieldType)) ∈ lw_all := lw_g (lw_at lw_m4 37 rfl) rfl
theorem q841 : (Jvm.Cond.methodLink "NonsenseRows$Added" (1 : Nat) ({ cls := "NonsenseRows$Both", name := "<init>", desc := "(LNonsenseRows$Sum;LNonsenseRows$Sum;)V" } : Jvm.MethodName)) ∈ lw_all := lw_g (lw_at lw_m4 38 rfl) rfl
theorem q842 : (Jvm.Cond.fieldLink "NonsenseRows$Added" (7 : Nat) "NonsenseRows$Added" "isLess" "Z") ∈ lw_all := lw_g (lw_at lw_m4 39 rfl) rfl
theorem q843 : (Jvm.Cond.laysFinal "NonsenseRows$Added" "NonsenseRows$Added" "isLess" "Z") ∈ lw_all := lw_g (lw_at lw_m4 40 rfl) rfl
theorem q844 : (Jvm.Cond.soleField "NonsenseRows$Added" "isLess") ∈ lw_all := lw_g (lw_at lw_m4 41 rfl) rfl
theorem q845 : (Jvm.Cond.laysFinal "NonsenseRows$Added" "NonsenseRows$Both" "one" "LNonsenseRows$Sum;") ∈ lw_all := lw_g (lw_at lw_m4 42 rfl) rfl
theorem q846 : (Jvm.Cond.laysFinal "NonsenseRows$Added" "NonsenseRows$Both" "other" "LNonsenseRows$Sum;") ∈ lw_all := lw_g (lw_at lw_m4 43 rfl) rfl
theorem q847 : (Jvm.Cond.superclass "NonsenseRows$Added" "NonsenseRows$Both") ∈ lw_all := lw_g (lw_at lw_m4 44 rfl) rfl
theorem q896 : (Jvm.Cond.selects "NonsenseRows$Added" ({ cls := "java/lang/Object", name := "getClass", desc := "()Ljava/lang/Class;" } : Jvm.MethodName) ({ cls := "java/lang/Object", name := "getClass", desc := "()Ljava/lang/Class;" } : Jvm.MethodName)) ∈ lw_all := lw_g (lw_at lw_m4 93 rfl) rfl
theorem q1031 : (Jvm.Cond.selects "NonsenseRows$Added" ({ cls := "NonsenseRows$Sum", name := "comes", desc := "(LNonsenseRows$Asked;)J" } : Jvm.MethodName) ({ cls := "NonsenseRows$Sum", name := "comes", desc := "(LNonsenseRows$Asked;)J" } : Jvm.MethodName)) ∈ lw_all := lw_g (lw_at lw_m4 228 rfl) rfl
theorem q1040 : (Jvm.Cond.selects "NonsenseRows$Added" ({ cls := "NonsenseRows$Sum", name := "of", desc := "(LNonsenseRows$Asked;)J" } : Jvm.MethodName) ({ cls := "NonsenseRows$Both", name := "of", desc := "(LNonsenseRows$Asked;)J" } : Jvm.MethodName)) ∈ lw_all := lw_g (lw_at lw_m4 237 rfl) rfl
theorem q1051 : (Jvm.Cond.selects "NonsenseRows$Added" ({ cls := "NonsenseRows$Both", name := "of", desc := "(JJLNonsenseRows$Asked;)J" } : Jvm.MethodName) ({ cls := "NonsenseRows$Added", name := "of", desc := "(JJLNonsenseRows$Asked;)J" } : Jvm.MethodName)) ∈ lw_all := lw_g (lw_at lw_m5 8 rfl) rfl
theorem q1052 : (Jvm.Cond.instanceMethod ({ cls := "NonsenseRows$Added", name := "of", desc := "(JJLNonsenseRows$Asked;)J" } : Jvm.MethodName)) ∈ lw_all := lw_g (lw_at lw_m5 9 rfl) rfl
theorem q1053 : (Jvm.Cond.code ({ cls := "NonsenseRows$Added", name := "of", desc := "(JJLNonsenseRows$Asked;)J" } : Jvm.MethodName) prog_2_method_2_code (6 : Nat) (Option.some Jvm.ClassFile.FieldType.long)) ∈ lw_all := lw_g (lw_at lw_m5 10 rfl) rfl
theorem q1935 : (Jvm.Cond.castable "NonsenseRows$Added" "java/lang/Object") ∈ lw_tbl := lw_at lw_m8 172 rfl
theorem q1946 : (Jvm.Cond.castable "NonsenseRows$Added" "NonsenseRows$Sum") ∈ lw_tbl := lw_at lw_m8 183 rfl

set_option maxRecDepth 100000
abbrev cX16_init : ByteArray := prog_10_method_1_code
def yX16_init : MethodName := ⟨RX16, "<init>", "(IIIIIZZ)V"⟩
def dkwX16_init_1 : List UInt8 := [181, 0, 20, 42, 29, 181, 0, 23, 42, 21, 4, 181, 0, 26, 42, 21, 5, 181, 0, 29, 177]
abbrev dktX16_init_1 : List UInt8 := dkwX16_init_1 ++ []
def dkwX16_init_0 : List UInt8 := [42, 183, 0, 1, 42, 21, 6, 181, 0, 7, 42, 21, 7, 181, 0, 13, 42, 27, 181, 0, 16, 42, 28]
abbrev dktX16_init_0 : List UInt8 := dkwX16_init_0 ++ dktX16_init_1
theorem dksX16_init_0 : cX16_init.data.toList.drop 0 = dktX16_init_0 := by decide +kernel
theorem dksX16_init_1 : cX16_init.data.toList.drop 23 = dktX16_init_1 := dk_seg dksX16_init_0 23 rfl rfl
theorem dX16_init_0 : decode cX16_init 0 = .ok (.aload_n 0, 1) := dk_42 (dk_at dksX16_init_0 0 rfl rfl)
theorem dX16_init_1 : decode cX16_init 1 = .ok (.invokespecial 1, 3) := dk_183 0 1 (dk_at dksX16_init_0 1 rfl rfl)
theorem dX16_init_4 : decode cX16_init 4 = .ok (.aload_n 0, 1) := dk_42 (dk_at dksX16_init_0 4 rfl rfl)
theorem dX16_init_5 : decode cX16_init 5 = .ok (.iload 6, 2) := dk_21 6 (dk_at dksX16_init_0 5 rfl rfl)
theorem dX16_init_7 : decode cX16_init 7 = .ok (.putfield 7, 3) := dk_181 0 7 (dk_at dksX16_init_0 7 rfl rfl)
theorem dX16_init_10 : decode cX16_init 10 = .ok (.aload_n 0, 1) := dk_42 (dk_at dksX16_init_0 10 rfl rfl)
theorem dX16_init_11 : decode cX16_init 11 = .ok (.iload 7, 2) := dk_21 7 (dk_at dksX16_init_0 11 rfl rfl)
theorem dX16_init_13 : decode cX16_init 13 = .ok (.putfield 13, 3) := dk_181 0 13 (dk_at dksX16_init_0 13 rfl rfl)
theorem dX16_init_16 : decode cX16_init 16 = .ok (.aload_n 0, 1) := dk_42 (dk_at dksX16_init_0 16 rfl rfl)
theorem dX16_init_17 : decode cX16_init 17 = .ok (.iload_n 1, 1) := dk_27 (dk_at dksX16_init_0 17 rfl rfl)
theorem dX16_init_18 : decode cX16_init 18 = .ok (.putfield 16, 3) := dk_181 0 16 (dk_at dksX16_init_0 18 rfl rfl)
theorem dX16_init_21 : decode cX16_init 21 = .ok (.aload_n 0, 1) := dk_42 (dk_at dksX16_init_0 21 rfl rfl)
theorem dX16_init_22 : decode cX16_init 22 = .ok (.iload_n 2, 1) := dk_28 (dk_at dksX16_init_0 22 rfl rfl)
theorem dX16_init_23 : decode cX16_init 23 = .ok (.putfield 20, 3) := dk_181 0 20 (dk_at dksX16_init_1 0 rfl rfl)
theorem dX16_init_26 : decode cX16_init 26 = .ok (.aload_n 0, 1) := dk_42 (dk_at dksX16_init_1 3 rfl rfl)
theorem dX16_init_27 : decode cX16_init 27 = .ok (.iload_n 3, 1) := dk_29 (dk_at dksX16_init_1 4 rfl rfl)
theorem dX16_init_28 : decode cX16_init 28 = .ok (.putfield 23, 3) := dk_181 0 23 (dk_at dksX16_init_1 5 rfl rfl)
theorem dX16_init_31 : decode cX16_init 31 = .ok (.aload_n 0, 1) := dk_42 (dk_at dksX16_init_1 8 rfl rfl)
theorem dX16_init_32 : decode cX16_init 32 = .ok (.iload 4, 2) := dk_21 4 (dk_at dksX16_init_1 9 rfl rfl)
theorem dX16_init_34 : decode cX16_init 34 = .ok (.putfield 26, 3) := dk_181 0 26 (dk_at dksX16_init_1 11 rfl rfl)
theorem dX16_init_37 : decode cX16_init 37 = .ok (.aload_n 0, 1) := dk_42 (dk_at dksX16_init_1 14 rfl rfl)
theorem dX16_init_38 : decode cX16_init 38 = .ok (.iload 5, 2) := dk_21 5 (dk_at dksX16_init_1 15 rfl rfl)
theorem dX16_init_40 : decode cX16_init 40 = .ok (.putfield 29, 3) := dk_181 0 29 (dk_at dksX16_init_1 17 rfl rfl)
theorem dX16_init_43 : decode cX16_init 43 = .ok (.return_, 1) := dk_177 (dk_at dksX16_init_1 20 rfl rfl)
theorem q115 : (Jvm.Cond.initialized "NonsenseRows$Sitting") ∈ lw_all := lw_g (lw_at lw_m1 32 rfl) rfl
theorem q903 : (Jvm.Cond.selects "NonsenseRows$Sitting" ({ cls := "java/lang/Object", name := "getClass", desc := "()Ljava/lang/Class;" } : Jvm.MethodName) ({ cls := "java/lang/Object", name := "getClass", desc := "()Ljava/lang/Class;" } : Jvm.MethodName)) ∈ lw_all := lw_g (lw_at lw_m4 100 rfl) rfl
theorem q1096 : (Jvm.Cond.instantiable "NonsenseRows$Sitting" (7 : Nat)) ∈ lw_all := lw_g (lw_at lw_m5 53 rfl) rfl
theorem q1098 : (Jvm.Cond.instanceMethod ({ cls := "NonsenseRows$Sitting", name := "<init>", desc := "(IIIIIZZ)V" } : Jvm.MethodName)) ∈ lw_all := lw_g (lw_at lw_m5 55 rfl) rfl
theorem q1099 : (Jvm.Cond.code ({ cls := "NonsenseRows$Sitting", name := "<init>", desc := "(IIIIIZZ)V" } : Jvm.MethodName) prog_10_method_1_code (8 : Nat) (Option.none : Option Jvm.ClassFile.FieldType)) ∈ lw_all := lw_g (lw_at lw_m5 56 rfl) rfl
theorem q1100 : (Jvm.Cond.methodLink "NonsenseRows$Sitting" (1 : Nat) ({ cls := "java/lang/Object", name := "<init>", desc := "()V" } : Jvm.MethodName)) ∈ lw_all := lw_g (lw_at lw_m5 57 rfl) rfl
theorem q1101 : (Jvm.Cond.fieldLink "NonsenseRows$Sitting" (16 : Nat) "NonsenseRows$Sitting" "row" "I") ∈ lw_all := lw_g (lw_at lw_m5 58 rfl) rfl
theorem q1103 : (Jvm.Cond.fieldLink "NonsenseRows$Sitting" (20 : Nat) "NonsenseRows$Sitting" "readings" "I") ∈ lw_all := lw_g (lw_at lw_m5 60 rfl) rfl
theorem q1105 : (Jvm.Cond.fieldLink "NonsenseRows$Sitting" (23 : Nat) "NonsenseRows$Sitting" "hour" "I") ∈ lw_all := lw_g (lw_at lw_m5 62 rfl) rfl
theorem q1107 : (Jvm.Cond.fieldLink "NonsenseRows$Sitting" (26 : Nat) "NonsenseRows$Sitting" "ahead" "I") ∈ lw_all := lw_g (lw_at lw_m5 64 rfl) rfl
theorem q1109 : (Jvm.Cond.fieldLink "NonsenseRows$Sitting" (29 : Nat) "NonsenseRows$Sitting" "behind" "I") ∈ lw_all := lw_g (lw_at lw_m5 66 rfl) rfl
theorem q1111 : (Jvm.Cond.fieldLink "NonsenseRows$Sitting" (7 : Nat) "NonsenseRows$Sitting" "isLearnt" "Z") ∈ lw_all := lw_g (lw_at lw_m5 68 rfl) rfl
theorem q1113 : (Jvm.Cond.fieldLink "NonsenseRows$Sitting" (13 : Nat) "NonsenseRows$Sitting" "isEnough" "Z") ∈ lw_all := lw_g (lw_at lw_m5 70 rfl) rfl
theorem q1115 : (Jvm.Cond.laysFinal "NonsenseRows$Sitting" "NonsenseRows$Sitting" "row" "I") ∈ lw_all := lw_g (lw_at lw_m5 72 rfl) rfl
theorem q1116 : (Jvm.Cond.soleField "NonsenseRows$Sitting" "row") ∈ lw_all := lw_g (lw_at lw_m5 73 rfl) rfl
theorem q1117 : (Jvm.Cond.laysFinal "NonsenseRows$Sitting" "NonsenseRows$Sitting" "readings" "I") ∈ lw_all := lw_g (lw_at lw_m5 74 rfl) rfl
theorem q1118 : (Jvm.Cond.soleField "NonsenseRows$Sitting" "readings") ∈ lw_all := lw_g (lw_at lw_m5 75 rfl) rfl
theorem q1119 : (Jvm.Cond.laysFinal "NonsenseRows$Sitting" "NonsenseRows$Sitting" "hour" "I") ∈ lw_all := lw_g (lw_at lw_m5 76 rfl) rfl
theorem q1120 : (Jvm.Cond.soleField "NonsenseRows$Sitting" "hour") ∈ lw_all := lw_g (lw_at lw_m5 77 rfl) rfl
theorem q1121 : (Jvm.Cond.laysFinal "NonsenseRows$Sitting" "NonsenseRows$Sitting" "ahead" "I") ∈ lw_all := lw_g (lw_at lw_m5 78 rfl) rfl
theorem q1122 : (Jvm.Cond.soleField "NonsenseRows$Sitting" "ahead") ∈ lw_all := lw_g (lw_at lw_m5 79 rfl) rfl
theorem q1123 : (Jvm.Cond.laysFinal "NonsenseRows$Sitting" "NonsenseRows$Sitting" "behind" "I") ∈ lw_all := lw_g (lw_at lw_m5 80 rfl) rfl
theorem q1124 : (Jvm.Cond.soleField "NonsenseRows$Sitting" "behind") ∈ lw_all := lw_g (lw_at lw_m5 81 rfl) rfl
theorem q1125 : (Jvm.Cond.laysFinal "NonsenseRows$Sitting" "NonsenseRows$Sitting" "isLearnt" "Z") ∈ lw_all := lw_g (lw_at lw_m5 82 rfl) rfl
theorem q1126 : (Jvm.Cond.soleField "NonsenseRows$Sitting" "isLearnt") ∈ lw_all := lw_g (lw_at lw_m5 83 rfl) rfl
theorem q1127 : (Jvm.Cond.laysFinal "NonsenseRows$Sitting" "NonsenseRows$Sitting" "isEnough" "Z") ∈ lw_all := lw_g (lw_at lw_m5 84 rfl) rfl
theorem q1128 : (Jvm.Cond.soleField "NonsenseRows$Sitting" "isEnough") ∈ lw_all := lw_g (lw_at lw_m5 85 rfl) rfl
theorem q1129 : (Jvm.Cond.superclass "NonsenseRows$Sitting" "java/lang/Object") ∈ lw_all := lw_g (lw_at lw_m5 86 rfl) rfl
theorem q1936 : (Jvm.Cond.castable "NonsenseRows$Sitting" "java/lang/Object") ∈ lw_tbl := lw_at lw_m8 173 rfl

