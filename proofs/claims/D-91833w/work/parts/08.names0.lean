set_option maxRecDepth 100000
abbrev cX0_row : ByteArray := prog_1_method_3_code
def yX0_row : MethodName := ⟨RX0, "row", "(III)I"⟩
def dkwX0_row_2 : List UInt8 := [16, 253, 172]
abbrev dktX0_row_2 : List UInt8 := dkwX0_row_2 ++ []
def dkwX0_row_1 : List UInt8 := [164, 0, 6, 16, 254, 172, 42, 180, 0, 13, 27, 50, 28, 29, 182, 0, 17, 153, 0, 7, 3, 167, 0, 5]
abbrev dktX0_row_1 : List UInt8 := dkwX0_row_1 ++ dktX0_row_2
def dkwX0_row_0 : List UInt8 := [27, 184, 0, 9, 153, 0, 21, 28, 133, 9, 20, 0, 3, 184, 0, 5, 153, 0, 9, 29, 16, 60]
abbrev dktX0_row_0 : List UInt8 := dkwX0_row_0 ++ dktX0_row_1
theorem dksX0_row_0 : cX0_row.data.toList.drop 0 = dktX0_row_0 := by decide +kernel
theorem dksX0_row_1 : cX0_row.data.toList.drop 22 = dktX0_row_1 := dk_seg dksX0_row_0 22 rfl rfl
theorem dksX0_row_2 : cX0_row.data.toList.drop 46 = dktX0_row_2 := dk_seg dksX0_row_1 24 rfl rfl
theorem dX0_row_0 : decode cX0_row 0 = .ok (.iload_n 1, 1) := dk_27 (dk_at dksX0_row_0 0 rfl rfl)
theorem dX0_row_1 : decode cX0_row 1 = .ok (.invokestatic 9, 3) := dk_184 0 9 (dk_at dksX0_row_0 1 rfl rfl)
theorem dX0_row_4 : decode cX0_row 4 = .ok (.ifCond .eq 21, 3) := dk_153 0 21 (dk_at dksX0_row_0 4 rfl rfl)
theorem dX0_row_7 : decode cX0_row 7 = .ok (.iload_n 2, 1) := dk_28 (dk_at dksX0_row_0 7 rfl rfl)
theorem dX0_row_8 : decode cX0_row 8 = .ok (.i2l, 1) := dk_133 (dk_at dksX0_row_0 8 rfl rfl)
theorem dX0_row_9 : decode cX0_row 9 = .ok (.lconst 0, 1) := dk_9 (dk_at dksX0_row_0 9 rfl rfl)
theorem dX0_row_10 : decode cX0_row 10 = .ok (.ldc2_w 3, 3) := dk_20 0 3 (dk_at dksX0_row_0 10 rfl rfl)
theorem dX0_row_13 : decode cX0_row 13 = .ok (.invokestatic 5, 3) := dk_184 0 5 (dk_at dksX0_row_0 13 rfl rfl)
theorem dX0_row_16 : decode cX0_row 16 = .ok (.ifCond .eq 9, 3) := dk_153 0 9 (dk_at dksX0_row_0 16 rfl rfl)
theorem dX0_row_19 : decode cX0_row 19 = .ok (.iload_n 3, 1) := dk_29 (dk_at dksX0_row_0 19 rfl rfl)
theorem dX0_row_20 : decode cX0_row 20 = .ok (.bipush 60, 2) := dk_16 60 (dk_at dksX0_row_0 20 rfl rfl)
theorem dX0_row_22 : decode cX0_row 22 = .ok (.if_icmp .le 6, 3) := dk_164 0 6 (dk_at dksX0_row_1 0 rfl rfl)
theorem dX0_row_25 : decode cX0_row 25 = .ok (.bipush (-2), 2) := dk_16 254 (dk_at dksX0_row_1 3 rfl rfl)
theorem dX0_row_27 : decode cX0_row 27 = .ok (.ireturn, 1) := dk_172 (dk_at dksX0_row_1 5 rfl rfl)
theorem dX0_row_28 : decode cX0_row 28 = .ok (.aload_n 0, 1) := dk_42 (dk_at dksX0_row_1 6 rfl rfl)
theorem dX0_row_29 : decode cX0_row 29 = .ok (.getfield 13, 3) := dk_180 0 13 (dk_at dksX0_row_1 7 rfl rfl)
theorem dX0_row_32 : decode cX0_row 32 = .ok (.iload_n 1, 1) := dk_27 (dk_at dksX0_row_1 10 rfl rfl)
theorem dX0_row_33 : decode cX0_row 33 = .ok (.aaload, 1) := dk_50 (dk_at dksX0_row_1 11 rfl rfl)
theorem dX0_row_34 : decode cX0_row 34 = .ok (.iload_n 2, 1) := dk_28 (dk_at dksX0_row_1 12 rfl rfl)
theorem dX0_row_35 : decode cX0_row 35 = .ok (.iload_n 3, 1) := dk_29 (dk_at dksX0_row_1 13 rfl rfl)
theorem dX0_row_36 : decode cX0_row 36 = .ok (.invokevirtual 17, 3) := dk_182 0 17 (dk_at dksX0_row_1 14 rfl rfl)
theorem dX0_row_39 : decode cX0_row 39 = .ok (.ifCond .eq 7, 3) := dk_153 0 7 (dk_at dksX0_row_1 17 rfl rfl)
theorem dX0_row_42 : decode cX0_row 42 = .ok (.iconst 0, 1) := dk_3 (dk_at dksX0_row_1 20 rfl rfl)
theorem dX0_row_43 : decode cX0_row 43 = .ok (.goto 5, 3) := dk_167 0 5 (dk_at dksX0_row_1 21 rfl rfl)
theorem dX0_row_46 : decode cX0_row 46 = .ok (.bipush (-3), 2) := dk_16 253 (dk_at dksX0_row_2 0 rfl rfl)
theorem dX0_row_48 : decode cX0_row 48 = .ok (.ireturn, 1) := dk_172 (dk_at dksX0_row_2 2 rfl rfl)
abbrev cX0_isSlot : ByteArray := prog_1_method_2_code
def yX0_isSlot : MethodName := ⟨RX0, "isSlot", "(I)Z"⟩
def dkwX0_isSlot_0 : List UInt8 := [26, 133, 9, 20, 0, 3, 184, 0, 5, 172]
abbrev dktX0_isSlot_0 : List UInt8 := dkwX0_isSlot_0 ++ []
theorem dksX0_isSlot_0 : cX0_isSlot.data.toList.drop 0 = dktX0_isSlot_0 := by decide +kernel
theorem dX0_isSlot_0 : decode cX0_isSlot 0 = .ok (.iload_n 0, 1) := dk_26 (dk_at dksX0_isSlot_0 0 rfl rfl)
theorem dX0_isSlot_1 : decode cX0_isSlot 1 = .ok (.i2l, 1) := dk_133 (dk_at dksX0_isSlot_0 1 rfl rfl)
theorem dX0_isSlot_2 : decode cX0_isSlot 2 = .ok (.lconst 0, 1) := dk_9 (dk_at dksX0_isSlot_0 2 rfl rfl)
theorem dX0_isSlot_3 : decode cX0_isSlot 3 = .ok (.ldc2_w 3, 3) := dk_20 0 3 (dk_at dksX0_isSlot_0 3 rfl rfl)
theorem dX0_isSlot_6 : decode cX0_isSlot 6 = .ok (.invokestatic 5, 3) := dk_184 0 5 (dk_at dksX0_isSlot_0 6 rfl rfl)
theorem dX0_isSlot_9 : decode cX0_isSlot 9 = .ok (.ireturn, 1) := dk_172 (dk_at dksX0_isSlot_0 9 rfl rfl)
abbrev cX0_in : ByteArray := prog_1_method_1_code
def yX0_in : MethodName := ⟨RX0, "in", "(JJJ)Z"⟩
def dkwX0_in_0 : List UInt8 := [30, 32, 148, 155, 0, 14, 30, 22, 4, 148, 157, 0, 7, 4, 167, 0, 4, 3, 172]
abbrev dktX0_in_0 : List UInt8 := dkwX0_in_0 ++ []
theorem dksX0_in_0 : cX0_in.data.toList.drop 0 = dktX0_in_0 := by decide +kernel
theorem dX0_in_0 : decode cX0_in 0 = .ok (.lload_n 0, 1) := dk_30 (dk_at dksX0_in_0 0 rfl rfl)
theorem dX0_in_1 : decode cX0_in 1 = .ok (.lload_n 2, 1) := dk_32 (dk_at dksX0_in_0 1 rfl rfl)
theorem dX0_in_2 : decode cX0_in 2 = .ok (.lcmp, 1) := dk_148 (dk_at dksX0_in_0 2 rfl rfl)
theorem dX0_in_3 : decode cX0_in 3 = .ok (.ifCond .lt 14, 3) := dk_155 0 14 (dk_at dksX0_in_0 3 rfl rfl)
theorem dX0_in_6 : decode cX0_in 6 = .ok (.lload_n 0, 1) := dk_30 (dk_at dksX0_in_0 6 rfl rfl)
theorem dX0_in_7 : decode cX0_in 7 = .ok (.lload 4, 2) := dk_22 4 (dk_at dksX0_in_0 7 rfl rfl)
theorem dX0_in_9 : decode cX0_in 9 = .ok (.lcmp, 1) := dk_148 (dk_at dksX0_in_0 9 rfl rfl)
theorem dX0_in_10 : decode cX0_in 10 = .ok (.ifCond .gt 7, 3) := dk_157 0 7 (dk_at dksX0_in_0 10 rfl rfl)
theorem dX0_in_13 : decode cX0_in 13 = .ok (.iconst 1, 1) := dk_4 (dk_at dksX0_in_0 13 rfl rfl)
theorem dX0_in_14 : decode cX0_in 14 = .ok (.goto 4, 3) := dk_167 0 4 (dk_at dksX0_in_0 14 rfl rfl)
theorem dX0_in_17 : decode cX0_in 17 = .ok (.iconst 0, 1) := dk_3 (dk_at dksX0_in_0 17 rfl rfl)
theorem dX0_in_18 : decode cX0_in 18 = .ok (.ireturn, 1) := dk_172 (dk_at dksX0_in_0 18 rfl rfl)
abbrev cX0_write : ByteArray := prog_1_method_4_code
def yX0_write : MethodName := ⟨RX0, "write", "(IIJ)I"⟩
def dkwX0_write_0 : List UInt8 := [27, 184, 0, 9, 153, 0, 17, 42, 180, 0, 13, 27, 50, 28, 33, 182, 0, 23, 167, 0, 5, 16, 254, 172]
abbrev dktX0_write_0 : List UInt8 := dkwX0_write_0 ++ []
theorem dksX0_write_0 : cX0_write.data.toList.drop 0 = dktX0_write_0 := by decide +kernel
theorem dX0_write_0 : decode cX0_write 0 = .ok (.iload_n 1, 1) := dk_27 (dk_at dksX0_write_0 0 rfl rfl)
theorem dX0_write_1 : decode cX0_write 1 = .ok (.invokestatic 9, 3) := dk_184 0 9 (dk_at dksX0_write_0 1 rfl rfl)
theorem dX0_write_4 : decode cX0_write 4 = .ok (.ifCond .eq 17, 3) := dk_153 0 17 (dk_at dksX0_write_0 4 rfl rfl)
theorem dX0_write_7 : decode cX0_write 7 = .ok (.aload_n 0, 1) := dk_42 (dk_at dksX0_write_0 7 rfl rfl)
theorem dX0_write_8 : decode cX0_write 8 = .ok (.getfield 13, 3) := dk_180 0 13 (dk_at dksX0_write_0 8 rfl rfl)
theorem dX0_write_11 : decode cX0_write 11 = .ok (.iload_n 1, 1) := dk_27 (dk_at dksX0_write_0 11 rfl rfl)
theorem dX0_write_12 : decode cX0_write 12 = .ok (.aaload, 1) := dk_50 (dk_at dksX0_write_0 12 rfl rfl)
theorem dX0_write_13 : decode cX0_write 13 = .ok (.iload_n 2, 1) := dk_28 (dk_at dksX0_write_0 13 rfl rfl)
theorem dX0_write_14 : decode cX0_write 14 = .ok (.lload_n 3, 1) := dk_33 (dk_at dksX0_write_0 14 rfl rfl)
theorem dX0_write_15 : decode cX0_write 15 = .ok (.invokevirtual 23, 3) := dk_182 0 23 (dk_at dksX0_write_0 15 rfl rfl)
theorem dX0_write_18 : decode cX0_write 18 = .ok (.goto 5, 3) := dk_167 0 5 (dk_at dksX0_write_0 18 rfl rfl)
theorem dX0_write_21 : decode cX0_write 21 = .ok (.bipush (-2), 2) := dk_16 254 (dk_at dksX0_write_0 21 rfl rfl)
theorem dX0_write_23 : decode cX0_write 23 = .ok (.ireturn, 1) := dk_172 (dk_at dksX0_write_0 23 rfl rfl)
abbrev cX0_paste : ByteArray := prog_1_method_5_code
def yX0_paste : MethodName := ⟨RX0, "paste", "(IIIII)I"⟩
def dkwX0_paste_1 : List UInt8 := [180, 0, 13, 29, 50, 21, 4, 21, 5, 182, 0, 27, 167, 0, 5, 16, 254, 172]
abbrev dktX0_paste_1 : List UInt8 := dkwX0_paste_1 ++ []
def dkwX0_paste_0 : List UInt8 := [27, 184, 0, 9, 153, 0, 33, 29, 184, 0, 9, 153, 0, 26, 42, 180, 0, 13, 27, 50, 28, 42]
abbrev dktX0_paste_0 : List UInt8 := dkwX0_paste_0 ++ dktX0_paste_1
theorem dksX0_paste_0 : cX0_paste.data.toList.drop 0 = dktX0_paste_0 := by decide +kernel
theorem dksX0_paste_1 : cX0_paste.data.toList.drop 22 = dktX0_paste_1 := dk_seg dksX0_paste_0 22 rfl rfl
theorem dX0_paste_0 : decode cX0_paste 0 = .ok (.iload_n 1, 1) := dk_27 (dk_at dksX0_paste_0 0 rfl rfl)
theorem dX0_paste_1 : decode cX0_paste 1 = .ok (.invokestatic 9, 3) := dk_184 0 9 (dk_at dksX0_paste_0 1 rfl rfl)
theorem dX0_paste_4 : decode cX0_paste 4 = .ok (.ifCond .eq 33, 3) := dk_153 0 33 (dk_at dksX0_paste_0 4 rfl rfl)
theorem dX0_paste_7 : decode cX0_paste 7 = .ok (.iload_n 3, 1) := dk_29 (dk_at dksX0_paste_0 7 rfl rfl)
theorem dX0_paste_8 : decode cX0_paste 8 = .ok (.invokestatic 9, 3) := dk_184 0 9 (dk_at dksX0_paste_0 8 rfl rfl)
theorem dX0_paste_11 : decode cX0_paste 11 = .ok (.ifCond .eq 26, 3) := dk_153 0 26 (dk_at dksX0_paste_0 11 rfl rfl)
theorem dX0_paste_14 : decode cX0_paste 14 = .ok (.aload_n 0, 1) := dk_42 (dk_at dksX0_paste_0 14 rfl rfl)
theorem dX0_paste_15 : decode cX0_paste 15 = .ok (.getfield 13, 3) := dk_180 0 13 (dk_at dksX0_paste_0 15 rfl rfl)
theorem dX0_paste_18 : decode cX0_paste 18 = .ok (.iload_n 1, 1) := dk_27 (dk_at dksX0_paste_0 18 rfl rfl)
theorem dX0_paste_19 : decode cX0_paste 19 = .ok (.aaload, 1) := dk_50 (dk_at dksX0_paste_0 19 rfl rfl)
theorem dX0_paste_20 : decode cX0_paste 20 = .ok (.iload_n 2, 1) := dk_28 (dk_at dksX0_paste_0 20 rfl rfl)
theorem dX0_paste_21 : decode cX0_paste 21 = .ok (.aload_n 0, 1) := dk_42 (dk_at dksX0_paste_0 21 rfl rfl)
theorem dX0_paste_22 : decode cX0_paste 22 = .ok (.getfield 13, 3) := dk_180 0 13 (dk_at dksX0_paste_1 0 rfl rfl)
theorem dX0_paste_25 : decode cX0_paste 25 = .ok (.iload_n 3, 1) := dk_29 (dk_at dksX0_paste_1 3 rfl rfl)
theorem dX0_paste_26 : decode cX0_paste 26 = .ok (.aaload, 1) := dk_50 (dk_at dksX0_paste_1 4 rfl rfl)
theorem dX0_paste_27 : decode cX0_paste 27 = .ok (.iload 4, 2) := dk_21 4 (dk_at dksX0_paste_1 5 rfl rfl)
theorem dX0_paste_29 : decode cX0_paste 29 = .ok (.iload 5, 2) := dk_21 5 (dk_at dksX0_paste_1 7 rfl rfl)
theorem dX0_paste_31 : decode cX0_paste 31 = .ok (.invokevirtual 27, 3) := dk_182 0 27 (dk_at dksX0_paste_1 9 rfl rfl)
theorem dX0_paste_34 : decode cX0_paste 34 = .ok (.goto 5, 3) := dk_167 0 5 (dk_at dksX0_paste_1 12 rfl rfl)
theorem dX0_paste_37 : decode cX0_paste 37 = .ok (.bipush (-2), 2) := dk_16 254 (dk_at dksX0_paste_1 15 rfl rfl)
theorem dX0_paste_39 : decode cX0_paste 39 = .ok (.ireturn, 1) := dk_172 (dk_at dksX0_paste_1 17 rfl rfl)
abbrev cX0_init : ByteArray := prog_1_method_7_code
def yX0_init : MethodName := ⟨RX0, "<init>", "()V"⟩
def dkwX0_init_4 : List UInt8 := [177]
abbrev dktX0_init_4 : List UInt8 := dkwX0_init_4 ++ []
def dkwX0_init_3 : List UInt8 := [27, 7, 162, 0, 22, 42, 180, 0, 13, 27, 187, 0, 18, 89, 183, 0, 76, 83, 132, 1, 1, 167, 255, 235]
abbrev dktX0_init_3 : List UInt8 := dkwX0_init_3 ++ dktX0_init_4
def dkwX0_init_2 : List UInt8 := [181, 0, 61, 42, 2, 181, 0, 65, 42, 7, 188, 10, 181, 0, 69, 42, 7, 188, 10, 181, 0, 73, 3, 60]
abbrev dktX0_init_2 : List UInt8 := dkwX0_init_2 ++ dktX0_init_3
def dkwX0_init_1 : List UInt8 := [6, 189, 0, 43, 181, 0, 50, 42, 187, 0, 54, 89, 183, 0, 56, 181, 0, 57, 42, 17, 3, 132, 188, 8]
abbrev dktX0_init_1 : List UInt8 := dkwX0_init_1 ++ dktX0_init_2
def dkwX0_init_0 : List UInt8 := [42, 183, 0, 37, 42, 7, 189, 0, 18, 181, 0, 13, 42, 187, 0, 43, 89, 183, 0, 45, 181, 0, 46, 42]
abbrev dktX0_init_0 : List UInt8 := dkwX0_init_0 ++ dktX0_init_1
theorem dksX0_init_0 : cX0_init.data.toList.drop 0 = dktX0_init_0 := by decide +kernel
theorem dksX0_init_1 : cX0_init.data.toList.drop 24 = dktX0_init_1 := dk_seg dksX0_init_0 24 rfl rfl
theorem dksX0_init_2 : cX0_init.data.toList.drop 48 = dktX0_init_2 := dk_seg dksX0_init_1 24 rfl rfl
theorem dksX0_init_3 : cX0_init.data.toList.drop 72 = dktX0_init_3 := dk_seg dksX0_init_2 24 rfl rfl
theorem dksX0_init_4 : cX0_init.data.toList.drop 96 = dktX0_init_4 := dk_seg dksX0_init_3 24 rfl rfl
theorem dX0_init_0 : decode cX0_init 0 = .ok (.aload_n 0, 1) := dk_42 (dk_at dksX0_init_0 0 rfl rfl)
theorem dX0_init_1 : decode cX0_init 1 = .ok (.invokespecial 37, 3) := dk_183 0 37 (dk_at dksX0_init_0 1 rfl rfl)
theorem dX0_init_4 : decode cX0_init 4 = .ok (.aload_n 0, 1) := dk_42 (dk_at dksX0_init_0 4 rfl rfl)
theorem dX0_init_5 : decode cX0_init 5 = .ok (.iconst 4, 1) := dk_7 (dk_at dksX0_init_0 5 rfl rfl)
theorem dX0_init_6 : decode cX0_init 6 = .ok (.anewarray 18, 3) := dk_189 0 18 (dk_at dksX0_init_0 6 rfl rfl)
theorem dX0_init_9 : decode cX0_init 9 = .ok (.putfield 13, 3) := dk_181 0 13 (dk_at dksX0_init_0 9 rfl rfl)
theorem dX0_init_12 : decode cX0_init 12 = .ok (.aload_n 0, 1) := dk_42 (dk_at dksX0_init_0 12 rfl rfl)
theorem dX0_init_13 : decode cX0_init 13 = .ok (.new 43, 3) := dk_187 0 43 (dk_at dksX0_init_0 13 rfl rfl)
theorem dX0_init_16 : decode cX0_init 16 = .ok (.dup, 1) := dk_89 (dk_at dksX0_init_0 16 rfl rfl)
theorem dX0_init_17 : decode cX0_init 17 = .ok (.invokespecial 45, 3) := dk_183 0 45 (dk_at dksX0_init_0 17 rfl rfl)
theorem dX0_init_20 : decode cX0_init 20 = .ok (.putfield 46, 3) := dk_181 0 46 (dk_at dksX0_init_0 20 rfl rfl)
theorem dX0_init_23 : decode cX0_init 23 = .ok (.aload_n 0, 1) := dk_42 (dk_at dksX0_init_0 23 rfl rfl)
theorem dX0_init_24 : decode cX0_init 24 = .ok (.iconst 3, 1) := dk_6 (dk_at dksX0_init_1 0 rfl rfl)
theorem dX0_init_25 : decode cX0_init 25 = .ok (.anewarray 43, 3) := dk_189 0 43 (dk_at dksX0_init_1 1 rfl rfl)
theorem dX0_init_28 : decode cX0_init 28 = .ok (.putfield 50, 3) := dk_181 0 50 (dk_at dksX0_init_1 4 rfl rfl)
theorem dX0_init_31 : decode cX0_init 31 = .ok (.aload_n 0, 1) := dk_42 (dk_at dksX0_init_1 7 rfl rfl)
theorem dX0_init_32 : decode cX0_init 32 = .ok (.new 54, 3) := dk_187 0 54 (dk_at dksX0_init_1 8 rfl rfl)
theorem dX0_init_35 : decode cX0_init 35 = .ok (.dup, 1) := dk_89 (dk_at dksX0_init_1 11 rfl rfl)
theorem dX0_init_36 : decode cX0_init 36 = .ok (.invokespecial 56, 3) := dk_183 0 56 (dk_at dksX0_init_1 12 rfl rfl)
theorem dX0_init_39 : decode cX0_init 39 = .ok (.putfield 57, 3) := dk_181 0 57 (dk_at dksX0_init_1 15 rfl rfl)
theorem dX0_init_42 : decode cX0_init 42 = .ok (.aload_n 0, 1) := dk_42 (dk_at dksX0_init_1 18 rfl rfl)
theorem dX0_init_43 : decode cX0_init 43 = .ok (.sipush 900, 3) := dk_17 3 132 (dk_at dksX0_init_1 19 rfl rfl)
theorem dX0_init_46 : decode cX0_init 46 = .ok (.newarray .byte, 2) := dk_188_8 (dk_at dksX0_init_1 22 rfl rfl)
theorem dX0_init_48 : decode cX0_init 48 = .ok (.putfield 61, 3) := dk_181 0 61 (dk_at dksX0_init_2 0 rfl rfl)
theorem dX0_init_51 : decode cX0_init 51 = .ok (.aload_n 0, 1) := dk_42 (dk_at dksX0_init_2 3 rfl rfl)
theorem dX0_init_52 : decode cX0_init 52 = .ok (.iconst (-1), 1) := dk_2 (dk_at dksX0_init_2 4 rfl rfl)
theorem dX0_init_53 : decode cX0_init 53 = .ok (.putfield 65, 3) := dk_181 0 65 (dk_at dksX0_init_2 5 rfl rfl)
theorem dX0_init_56 : decode cX0_init 56 = .ok (.aload_n 0, 1) := dk_42 (dk_at dksX0_init_2 8 rfl rfl)
theorem dX0_init_57 : decode cX0_init 57 = .ok (.iconst 4, 1) := dk_7 (dk_at dksX0_init_2 9 rfl rfl)
theorem dX0_init_58 : decode cX0_init 58 = .ok (.newarray .int, 2) := dk_188_10 (dk_at dksX0_init_2 10 rfl rfl)
theorem dX0_init_60 : decode cX0_init 60 = .ok (.putfield 69, 3) := dk_181 0 69 (dk_at dksX0_init_2 12 rfl rfl)
theorem dX0_init_63 : decode cX0_init 63 = .ok (.aload_n 0, 1) := dk_42 (dk_at dksX0_init_2 15 rfl rfl)
theorem dX0_init_64 : decode cX0_init 64 = .ok (.iconst 4, 1) := dk_7 (dk_at dksX0_init_2 16 rfl rfl)
theorem dX0_init_65 : decode cX0_init 65 = .ok (.newarray .int, 2) := dk_188_10 (dk_at dksX0_init_2 17 rfl rfl)
theorem dX0_init_67 : decode cX0_init 67 = .ok (.putfield 73, 3) := dk_181 0 73 (dk_at dksX0_init_2 19 rfl rfl)
theorem dX0_init_70 : decode cX0_init 70 = .ok (.iconst 0, 1) := dk_3 (dk_at dksX0_init_2 22 rfl rfl)
theorem dX0_init_71 : decode cX0_init 71 = .ok (.istore_n 1, 1) := dk_60 (dk_at dksX0_init_2 23 rfl rfl)
theorem dX0_init_72 : decode cX0_init 72 = .ok (.iload_n 1, 1) := dk_27 (dk_at dksX0_init_3 0 rfl rfl)
theorem dX0_init_73 : decode cX0_init 73 = .ok (.iconst 4, 1) := dk_7 (dk_at dksX0_init_3 1 rfl rfl)
theorem dX0_init_74 : decode cX0_init 74 = .ok (.if_icmp .ge 22, 3) := dk_162 0 22 (dk_at dksX0_init_3 2 rfl rfl)
theorem dX0_init_77 : decode cX0_init 77 = .ok (.aload_n 0, 1) := dk_42 (dk_at dksX0_init_3 5 rfl rfl)
theorem dX0_init_78 : decode cX0_init 78 = .ok (.getfield 13, 3) := dk_180 0 13 (dk_at dksX0_init_3 6 rfl rfl)
theorem dX0_init_81 : decode cX0_init 81 = .ok (.iload_n 1, 1) := dk_27 (dk_at dksX0_init_3 9 rfl rfl)
theorem dX0_init_82 : decode cX0_init 82 = .ok (.new 18, 3) := dk_187 0 18 (dk_at dksX0_init_3 10 rfl rfl)
theorem dX0_init_85 : decode cX0_init 85 = .ok (.dup, 1) := dk_89 (dk_at dksX0_init_3 13 rfl rfl)
theorem dX0_init_86 : decode cX0_init 86 = .ok (.invokespecial 76, 3) := dk_183 0 76 (dk_at dksX0_init_3 14 rfl rfl)
theorem dX0_init_89 : decode cX0_init 89 = .ok (.aastore, 1) := dk_83 (dk_at dksX0_init_3 17 rfl rfl)
theorem dX0_init_90 : decode cX0_init 90 = .ok (.iinc 1 1, 3) := dk_132 1 1 (dk_at dksX0_init_3 18 rfl rfl)
theorem dX0_init_93 : decode cX0_init 93 = .ok (.goto (-21), 3) := dk_167 255 235 (dk_at dksX0_init_3 21 rfl rfl)
theorem dX0_init_96 : decode cX0_init 96 = .ok (.return_, 1) := dk_177 (dk_at dksX0_init_4 0 rfl rfl)
abbrev cX0_feed : ByteArray := prog_1_method_8_code
def yX0_feed : MethodName := ⟨RX0, "feed", "(IIIII)I"⟩
def dkwX0_feed_2 : List UInt8 := [172]
abbrev dktX0_feed_2 : List UInt8 := dkwX0_feed_2 ++ []
def dkwX0_feed_1 : List UInt8 := [182, 0, 80, 42, 29, 182, 0, 80, 42, 21, 4, 182, 0, 80, 42, 21, 5, 182, 0, 80, 42, 180, 0, 77]
abbrev dktX0_feed_1 : List UInt8 := dkwX0_feed_1 ++ dktX0_feed_2
def dkwX0_feed_0 : List UInt8 := [42, 180, 0, 77, 16, 20, 96, 17, 3, 132, 164, 0, 5, 2, 172, 42, 27, 182, 0, 80, 42, 28]
abbrev dktX0_feed_0 : List UInt8 := dkwX0_feed_0 ++ dktX0_feed_1
theorem dksX0_feed_0 : cX0_feed.data.toList.drop 0 = dktX0_feed_0 := by decide +kernel
theorem dksX0_feed_1 : cX0_feed.data.toList.drop 22 = dktX0_feed_1 := dk_seg dksX0_feed_0 22 rfl rfl
theorem dksX0_feed_2 : cX0_feed.data.toList.drop 46 = dktX0_feed_2 := dk_seg dksX0_feed_1 24 rfl rfl
theorem dX0_feed_0 : decode cX0_feed 0 = .ok (.aload_n 0, 1) := dk_42 (dk_at dksX0_feed_0 0 rfl rfl)
theorem dX0_feed_1 : decode cX0_feed 1 = .ok (.getfield 77, 3) := dk_180 0 77 (dk_at dksX0_feed_0 1 rfl rfl)
theorem dX0_feed_4 : decode cX0_feed 4 = .ok (.bipush 20, 2) := dk_16 20 (dk_at dksX0_feed_0 4 rfl rfl)
theorem dX0_feed_6 : decode cX0_feed 6 = .ok (.iadd, 1) := dk_96 (dk_at dksX0_feed_0 6 rfl rfl)
theorem dX0_feed_7 : decode cX0_feed 7 = .ok (.sipush 900, 3) := dk_17 3 132 (dk_at dksX0_feed_0 7 rfl rfl)
theorem dX0_feed_10 : decode cX0_feed 10 = .ok (.if_icmp .le 5, 3) := dk_164 0 5 (dk_at dksX0_feed_0 10 rfl rfl)
theorem dX0_feed_13 : decode cX0_feed 13 = .ok (.iconst (-1), 1) := dk_2 (dk_at dksX0_feed_0 13 rfl rfl)
theorem dX0_feed_14 : decode cX0_feed 14 = .ok (.ireturn, 1) := dk_172 (dk_at dksX0_feed_0 14 rfl rfl)
theorem dX0_feed_15 : decode cX0_feed 15 = .ok (.aload_n 0, 1) := dk_42 (dk_at dksX0_feed_0 15 rfl rfl)
theorem dX0_feed_16 : decode cX0_feed 16 = .ok (.iload_n 1, 1) := dk_27 (dk_at dksX0_feed_0 16 rfl rfl)
theorem dX0_feed_17 : decode cX0_feed 17 = .ok (.invokevirtual 80, 3) := dk_182 0 80 (dk_at dksX0_feed_0 17 rfl rfl)
theorem dX0_feed_20 : decode cX0_feed 20 = .ok (.aload_n 0, 1) := dk_42 (dk_at dksX0_feed_0 20 rfl rfl)
theorem dX0_feed_21 : decode cX0_feed 21 = .ok (.iload_n 2, 1) := dk_28 (dk_at dksX0_feed_0 21 rfl rfl)
theorem dX0_feed_22 : decode cX0_feed 22 = .ok (.invokevirtual 80, 3) := dk_182 0 80 (dk_at dksX0_feed_1 0 rfl rfl)
theorem dX0_feed_25 : decode cX0_feed 25 = .ok (.aload_n 0, 1) := dk_42 (dk_at dksX0_feed_1 3 rfl rfl)
theorem dX0_feed_26 : decode cX0_feed 26 = .ok (.iload_n 3, 1) := dk_29 (dk_at dksX0_feed_1 4 rfl rfl)
theorem dX0_feed_27 : decode cX0_feed 27 = .ok (.invokevirtual 80, 3) := dk_182 0 80 (dk_at dksX0_feed_1 5 rfl rfl)
theorem dX0_feed_30 : decode cX0_feed 30 = .ok (.aload_n 0, 1) := dk_42 (dk_at dksX0_feed_1 8 rfl rfl)
theorem dX0_feed_31 : decode cX0_feed 31 = .ok (.iload 4, 2) := dk_21 4 (dk_at dksX0_feed_1 9 rfl rfl)
theorem dX0_feed_33 : decode cX0_feed 33 = .ok (.invokevirtual 80, 3) := dk_182 0 80 (dk_at dksX0_feed_1 11 rfl rfl)
theorem dX0_feed_36 : decode cX0_feed 36 = .ok (.aload_n 0, 1) := dk_42 (dk_at dksX0_feed_1 14 rfl rfl)
theorem dX0_feed_37 : decode cX0_feed 37 = .ok (.iload 5, 2) := dk_21 5 (dk_at dksX0_feed_1 15 rfl rfl)
theorem dX0_feed_39 : decode cX0_feed 39 = .ok (.invokevirtual 80, 3) := dk_182 0 80 (dk_at dksX0_feed_1 17 rfl rfl)
theorem dX0_feed_42 : decode cX0_feed 42 = .ok (.aload_n 0, 1) := dk_42 (dk_at dksX0_feed_1 20 rfl rfl)
theorem dX0_feed_43 : decode cX0_feed 43 = .ok (.getfield 77, 3) := dk_180 0 77 (dk_at dksX0_feed_1 21 rfl rfl)
theorem dX0_feed_46 : decode cX0_feed 46 = .ok (.ireturn, 1) := dk_172 (dk_at dksX0_feed_2 0 rfl rfl)
abbrev cX0_puts : ByteArray := prog_1_method_9_code
def yX0_puts : MethodName := ⟨RX0, "puts", "(I)V"⟩
def dkwX0_puts_1 : List UInt8 := [180, 0, 77, 4, 96, 181, 0, 77, 132, 2, 248, 167, 255, 226, 177]
abbrev dktX0_puts_1 : List UInt8 := dkwX0_puts_1 ++ []
def dkwX0_puts_0 : List UInt8 := [16, 24, 61, 28, 155, 0, 32, 42, 180, 0, 61, 42, 180, 0, 77, 27, 28, 122, 145, 84, 42, 89]
abbrev dktX0_puts_0 : List UInt8 := dkwX0_puts_0 ++ dktX0_puts_1
theorem dksX0_puts_0 : cX0_puts.data.toList.drop 0 = dktX0_puts_0 := by decide +kernel
theorem dksX0_puts_1 : cX0_puts.data.toList.drop 22 = dktX0_puts_1 := dk_seg dksX0_puts_0 22 rfl rfl
theorem dX0_puts_0 : decode cX0_puts 0 = .ok (.bipush 24, 2) := dk_16 24 (dk_at dksX0_puts_0 0 rfl rfl)
theorem dX0_puts_2 : decode cX0_puts 2 = .ok (.istore_n 2, 1) := dk_61 (dk_at dksX0_puts_0 2 rfl rfl)
theorem dX0_puts_3 : decode cX0_puts 3 = .ok (.iload_n 2, 1) := dk_28 (dk_at dksX0_puts_0 3 rfl rfl)
theorem dX0_puts_4 : decode cX0_puts 4 = .ok (.ifCond .lt 32, 3) := dk_155 0 32 (dk_at dksX0_puts_0 4 rfl rfl)
theorem dX0_puts_7 : decode cX0_puts 7 = .ok (.aload_n 0, 1) := dk_42 (dk_at dksX0_puts_0 7 rfl rfl)
theorem dX0_puts_8 : decode cX0_puts 8 = .ok (.getfield 61, 3) := dk_180 0 61 (dk_at dksX0_puts_0 8 rfl rfl)
theorem dX0_puts_11 : decode cX0_puts 11 = .ok (.aload_n 0, 1) := dk_42 (dk_at dksX0_puts_0 11 rfl rfl)
theorem dX0_puts_12 : decode cX0_puts 12 = .ok (.getfield 77, 3) := dk_180 0 77 (dk_at dksX0_puts_0 12 rfl rfl)
theorem dX0_puts_15 : decode cX0_puts 15 = .ok (.iload_n 1, 1) := dk_27 (dk_at dksX0_puts_0 15 rfl rfl)
theorem dX0_puts_16 : decode cX0_puts 16 = .ok (.iload_n 2, 1) := dk_28 (dk_at dksX0_puts_0 16 rfl rfl)
theorem dX0_puts_17 : decode cX0_puts 17 = .ok (.ishr, 1) := dk_122 (dk_at dksX0_puts_0 17 rfl rfl)
theorem dX0_puts_18 : decode cX0_puts 18 = .ok (.i2b, 1) := dk_145 (dk_at dksX0_puts_0 18 rfl rfl)
theorem dX0_puts_19 : decode cX0_puts 19 = .ok (.bastore, 1) := dk_84 (dk_at dksX0_puts_0 19 rfl rfl)
theorem dX0_puts_20 : decode cX0_puts 20 = .ok (.aload_n 0, 1) := dk_42 (dk_at dksX0_puts_0 20 rfl rfl)
theorem dX0_puts_21 : decode cX0_puts 21 = .ok (.dup, 1) := dk_89 (dk_at dksX0_puts_0 21 rfl rfl)
theorem dX0_puts_22 : decode cX0_puts 22 = .ok (.getfield 77, 3) := dk_180 0 77 (dk_at dksX0_puts_1 0 rfl rfl)
theorem dX0_puts_25 : decode cX0_puts 25 = .ok (.iconst 1, 1) := dk_4 (dk_at dksX0_puts_1 3 rfl rfl)
theorem dX0_puts_26 : decode cX0_puts 26 = .ok (.iadd, 1) := dk_96 (dk_at dksX0_puts_1 4 rfl rfl)
theorem dX0_puts_27 : decode cX0_puts 27 = .ok (.putfield 77, 3) := dk_181 0 77 (dk_at dksX0_puts_1 5 rfl rfl)
theorem dX0_puts_30 : decode cX0_puts 30 = .ok (.iinc 2 (-8), 3) := dk_132 2 248 (dk_at dksX0_puts_1 8 rfl rfl)
theorem dX0_puts_33 : decode cX0_puts 33 = .ok (.goto (-30), 3) := dk_167 255 226 (dk_at dksX0_puts_1 11 rfl rfl)
theorem dX0_puts_36 : decode cX0_puts 36 = .ok (.return_, 1) := dk_177 (dk_at dksX0_puts_1 14 rfl rfl)
abbrev cX0_end : ByteArray := prog_1_method_10_code
def yX0_end : MethodName := ⟨RX0, "end", "(I)I"⟩
def dkwX0_end_0 : List UInt8 := [27, 133, 9, 42, 180, 0, 77, 133, 184, 0, 5, 154, 0, 5, 2, 172, 42, 27, 181, 0, 77, 27, 172]
abbrev dktX0_end_0 : List UInt8 := dkwX0_end_0 ++ []
theorem dksX0_end_0 : cX0_end.data.toList.drop 0 = dktX0_end_0 := by decide +kernel
theorem dX0_end_0 : decode cX0_end 0 = .ok (.iload_n 1, 1) := dk_27 (dk_at dksX0_end_0 0 rfl rfl)
theorem dX0_end_1 : decode cX0_end 1 = .ok (.i2l, 1) := dk_133 (dk_at dksX0_end_0 1 rfl rfl)
theorem dX0_end_2 : decode cX0_end 2 = .ok (.lconst 0, 1) := dk_9 (dk_at dksX0_end_0 2 rfl rfl)
theorem dX0_end_3 : decode cX0_end 3 = .ok (.aload_n 0, 1) := dk_42 (dk_at dksX0_end_0 3 rfl rfl)
theorem dX0_end_4 : decode cX0_end 4 = .ok (.getfield 77, 3) := dk_180 0 77 (dk_at dksX0_end_0 4 rfl rfl)
theorem dX0_end_7 : decode cX0_end 7 = .ok (.i2l, 1) := dk_133 (dk_at dksX0_end_0 7 rfl rfl)
theorem dX0_end_8 : decode cX0_end 8 = .ok (.invokestatic 5, 3) := dk_184 0 5 (dk_at dksX0_end_0 8 rfl rfl)
theorem dX0_end_11 : decode cX0_end 11 = .ok (.ifCond .ne 5, 3) := dk_154 0 5 (dk_at dksX0_end_0 11 rfl rfl)
theorem dX0_end_14 : decode cX0_end 14 = .ok (.iconst (-1), 1) := dk_2 (dk_at dksX0_end_0 14 rfl rfl)
theorem dX0_end_15 : decode cX0_end 15 = .ok (.ireturn, 1) := dk_172 (dk_at dksX0_end_0 15 rfl rfl)
theorem dX0_end_16 : decode cX0_end 16 = .ok (.aload_n 0, 1) := dk_42 (dk_at dksX0_end_0 16 rfl rfl)
theorem dX0_end_17 : decode cX0_end 17 = .ok (.iload_n 1, 1) := dk_27 (dk_at dksX0_end_0 17 rfl rfl)
theorem dX0_end_18 : decode cX0_end 18 = .ok (.putfield 77, 3) := dk_181 0 77 (dk_at dksX0_end_0 18 rfl rfl)
theorem dX0_end_21 : decode cX0_end 21 = .ok (.iload_n 1, 1) := dk_27 (dk_at dksX0_end_0 21 rfl rfl)
theorem dX0_end_22 : decode cX0_end 22 = .ok (.ireturn, 1) := dk_172 (dk_at dksX0_end_0 22 rfl rfl)
abbrev cX0_text : ByteArray := prog_1_method_11_code
def yX0_text : MethodName := ⟨RX0, "text", "()I"⟩
def dkwX0_text_4 : List UInt8 := [58, 4, 42, 3, 181, 0, 77, 25, 4, 191]
abbrev dktX0_text_4 : List UInt8 := dkwX0_text_4 ++ []
def dkwX0_text_3 : List UInt8 := [180, 0, 111, 181, 0, 83, 42, 43, 180, 0, 114, 181, 0, 65, 16, 252, 61, 42, 3, 181, 0, 77, 28, 172]
abbrev dktX0_text_3 : List UInt8 := dkwX0_text_3 ++ dktX0_text_4
def dkwX0_text_2 : List UInt8 := [180, 0, 46, 180, 0, 102, 185, 0, 103, 1, 0, 62, 42, 3, 181, 0, 77, 29, 172, 76, 42, 43]
abbrev dktX0_text_2 : List UInt8 := dkwX0_text_2 ++ dktX0_text_3
def dkwX0_text_1 : List UInt8 := [183, 0, 88, 76, 43, 182, 0, 91, 77, 42, 180, 0, 46, 44, 43, 180, 0, 95, 182, 0, 99, 42]
abbrev dktX0_text_1 : List UInt8 := dkwX0_text_1 ++ dktX0_text_2
def dkwX0_text_0 : List UInt8 := [42, 3, 181, 0, 83, 42, 2, 181, 0, 65, 187, 0, 86, 89, 42, 180, 0, 61, 42, 180, 0, 77]
abbrev dktX0_text_0 : List UInt8 := dkwX0_text_0 ++ dktX0_text_1
theorem dksX0_text_0 : cX0_text.data.toList.drop 0 = dktX0_text_0 := by decide +kernel
theorem dksX0_text_1 : cX0_text.data.toList.drop 22 = dktX0_text_1 := dk_seg dksX0_text_0 22 rfl rfl
theorem dksX0_text_2 : cX0_text.data.toList.drop 44 = dktX0_text_2 := dk_seg dksX0_text_1 22 rfl rfl
theorem dksX0_text_3 : cX0_text.data.toList.drop 66 = dktX0_text_3 := dk_seg dksX0_text_2 22 rfl rfl
theorem dksX0_text_4 : cX0_text.data.toList.drop 90 = dktX0_text_4 := dk_seg dksX0_text_3 24 rfl rfl
theorem dX0_text_0 : decode cX0_text 0 = .ok (.aload_n 0, 1) := dk_42 (dk_at dksX0_text_0 0 rfl rfl)
theorem dX0_text_1 : decode cX0_text 1 = .ok (.iconst 0, 1) := dk_3 (dk_at dksX0_text_0 1 rfl rfl)
theorem dX0_text_2 : decode cX0_text 2 = .ok (.putfield 83, 3) := dk_181 0 83 (dk_at dksX0_text_0 2 rfl rfl)
theorem dX0_text_5 : decode cX0_text 5 = .ok (.aload_n 0, 1) := dk_42 (dk_at dksX0_text_0 5 rfl rfl)
theorem dX0_text_6 : decode cX0_text 6 = .ok (.iconst (-1), 1) := dk_2 (dk_at dksX0_text_0 6 rfl rfl)
theorem dX0_text_7 : decode cX0_text 7 = .ok (.putfield 65, 3) := dk_181 0 65 (dk_at dksX0_text_0 7 rfl rfl)
theorem dX0_text_10 : decode cX0_text 10 = .ok (.new 86, 3) := dk_187 0 86 (dk_at dksX0_text_0 10 rfl rfl)
theorem dX0_text_13 : decode cX0_text 13 = .ok (.dup, 1) := dk_89 (dk_at dksX0_text_0 13 rfl rfl)
theorem dX0_text_14 : decode cX0_text 14 = .ok (.aload_n 0, 1) := dk_42 (dk_at dksX0_text_0 14 rfl rfl)
theorem dX0_text_15 : decode cX0_text 15 = .ok (.getfield 61, 3) := dk_180 0 61 (dk_at dksX0_text_0 15 rfl rfl)
theorem dX0_text_18 : decode cX0_text 18 = .ok (.aload_n 0, 1) := dk_42 (dk_at dksX0_text_0 18 rfl rfl)
theorem dX0_text_19 : decode cX0_text 19 = .ok (.getfield 77, 3) := dk_180 0 77 (dk_at dksX0_text_0 19 rfl rfl)
theorem dX0_text_22 : decode cX0_text 22 = .ok (.invokespecial 88, 3) := dk_183 0 88 (dk_at dksX0_text_1 0 rfl rfl)
theorem dX0_text_25 : decode cX0_text 25 = .ok (.astore_n 1, 1) := dk_76 (dk_at dksX0_text_1 3 rfl rfl)
theorem dX0_text_26 : decode cX0_text 26 = .ok (.aload_n 1, 1) := dk_43 (dk_at dksX0_text_1 4 rfl rfl)
theorem dX0_text_27 : decode cX0_text 27 = .ok (.invokevirtual 91, 3) := dk_182 0 91 (dk_at dksX0_text_1 5 rfl rfl)
theorem dX0_text_30 : decode cX0_text 30 = .ok (.astore_n 2, 1) := dk_77 (dk_at dksX0_text_1 8 rfl rfl)
theorem dX0_text_31 : decode cX0_text 31 = .ok (.aload_n 0, 1) := dk_42 (dk_at dksX0_text_1 9 rfl rfl)
theorem dX0_text_32 : decode cX0_text 32 = .ok (.getfield 46, 3) := dk_180 0 46 (dk_at dksX0_text_1 10 rfl rfl)
theorem dX0_text_35 : decode cX0_text 35 = .ok (.aload_n 2, 1) := dk_44 (dk_at dksX0_text_1 13 rfl rfl)
theorem dX0_text_36 : decode cX0_text 36 = .ok (.aload_n 1, 1) := dk_43 (dk_at dksX0_text_1 14 rfl rfl)
theorem dX0_text_37 : decode cX0_text 37 = .ok (.getfield 95, 3) := dk_180 0 95 (dk_at dksX0_text_1 15 rfl rfl)
theorem dX0_text_40 : decode cX0_text 40 = .ok (.invokevirtual 99, 3) := dk_182 0 99 (dk_at dksX0_text_1 18 rfl rfl)
theorem dX0_text_43 : decode cX0_text 43 = .ok (.aload_n 0, 1) := dk_42 (dk_at dksX0_text_1 21 rfl rfl)
theorem dX0_text_44 : decode cX0_text 44 = .ok (.getfield 46, 3) := dk_180 0 46 (dk_at dksX0_text_2 0 rfl rfl)
theorem dX0_text_47 : decode cX0_text 47 = .ok (.getfield 102, 3) := dk_180 0 102 (dk_at dksX0_text_2 3 rfl rfl)
theorem dX0_text_50 : decode cX0_text 50 = .ok (.invokeinterface 103 1, 5) := by decide +kernel
theorem dX0_text_55 : decode cX0_text 55 = .ok (.istore_n 3, 1) := dk_62 (dk_at dksX0_text_2 11 rfl rfl)
theorem dX0_text_56 : decode cX0_text 56 = .ok (.aload_n 0, 1) := dk_42 (dk_at dksX0_text_2 12 rfl rfl)
theorem dX0_text_57 : decode cX0_text 57 = .ok (.iconst 0, 1) := dk_3 (dk_at dksX0_text_2 13 rfl rfl)
theorem dX0_text_58 : decode cX0_text 58 = .ok (.putfield 77, 3) := dk_181 0 77 (dk_at dksX0_text_2 14 rfl rfl)
theorem dX0_text_61 : decode cX0_text 61 = .ok (.iload_n 3, 1) := dk_29 (dk_at dksX0_text_2 17 rfl rfl)
theorem dX0_text_62 : decode cX0_text 62 = .ok (.ireturn, 1) := dk_172 (dk_at dksX0_text_2 18 rfl rfl)
theorem dX0_text_63 : decode cX0_text 63 = .ok (.astore_n 1, 1) := dk_76 (dk_at dksX0_text_2 19 rfl rfl)
theorem dX0_text_64 : decode cX0_text 64 = .ok (.aload_n 0, 1) := dk_42 (dk_at dksX0_text_2 20 rfl rfl)
theorem dX0_text_65 : decode cX0_text 65 = .ok (.aload_n 1, 1) := dk_43 (dk_at dksX0_text_2 21 rfl rfl)
theorem dX0_text_66 : decode cX0_text 66 = .ok (.getfield 111, 3) := dk_180 0 111 (dk_at dksX0_text_3 0 rfl rfl)
theorem dX0_text_69 : decode cX0_text 69 = .ok (.putfield 83, 3) := dk_181 0 83 (dk_at dksX0_text_3 3 rfl rfl)
theorem dX0_text_72 : decode cX0_text 72 = .ok (.aload_n 0, 1) := dk_42 (dk_at dksX0_text_3 6 rfl rfl)
theorem dX0_text_73 : decode cX0_text 73 = .ok (.aload_n 1, 1) := dk_43 (dk_at dksX0_text_3 7 rfl rfl)
theorem dX0_text_74 : decode cX0_text 74 = .ok (.getfield 114, 3) := dk_180 0 114 (dk_at dksX0_text_3 8 rfl rfl)
theorem dX0_text_77 : decode cX0_text 77 = .ok (.putfield 65, 3) := dk_181 0 65 (dk_at dksX0_text_3 11 rfl rfl)
theorem dX0_text_80 : decode cX0_text 80 = .ok (.bipush (-4), 2) := dk_16 252 (dk_at dksX0_text_3 14 rfl rfl)
theorem dX0_text_82 : decode cX0_text 82 = .ok (.istore_n 2, 1) := dk_61 (dk_at dksX0_text_3 16 rfl rfl)
theorem dX0_text_83 : decode cX0_text 83 = .ok (.aload_n 0, 1) := dk_42 (dk_at dksX0_text_3 17 rfl rfl)
theorem dX0_text_84 : decode cX0_text 84 = .ok (.iconst 0, 1) := dk_3 (dk_at dksX0_text_3 18 rfl rfl)
theorem dX0_text_85 : decode cX0_text 85 = .ok (.putfield 77, 3) := dk_181 0 77 (dk_at dksX0_text_3 19 rfl rfl)
theorem dX0_text_88 : decode cX0_text 88 = .ok (.iload_n 2, 1) := dk_28 (dk_at dksX0_text_3 22 rfl rfl)
theorem dX0_text_89 : decode cX0_text 89 = .ok (.ireturn, 1) := dk_172 (dk_at dksX0_text_3 23 rfl rfl)
theorem dX0_text_90 : decode cX0_text 90 = .ok (.astore 4, 2) := dk_58 4 (dk_at dksX0_text_4 0 rfl rfl)
theorem dX0_text_92 : decode cX0_text 92 = .ok (.aload_n 0, 1) := dk_42 (dk_at dksX0_text_4 2 rfl rfl)
theorem dX0_text_93 : decode cX0_text 93 = .ok (.iconst 0, 1) := dk_3 (dk_at dksX0_text_4 3 rfl rfl)
theorem dX0_text_94 : decode cX0_text 94 = .ok (.putfield 77, 3) := dk_181 0 77 (dk_at dksX0_text_4 4 rfl rfl)
theorem dX0_text_97 : decode cX0_text 97 = .ok (.aload 4, 2) := dk_25 4 (dk_at dksX0_text_4 7 rfl rfl)
theorem dX0_text_99 : decode cX0_text 99 = .ok (.athrow, 1) := dk_191 (dk_at dksX0_text_4 9 rfl rfl)
abbrev cX0_shortened : ByteArray := prog_1_method_6_code
def yX0_shortened : MethodName := ⟨RX0, "shortened", "([II)[I"⟩
def dkwX0_shortened_0 : List UInt8 := [27, 188, 10, 77, 42, 3, 44, 3, 27, 184, 0, 31, 44, 176]
abbrev dktX0_shortened_0 : List UInt8 := dkwX0_shortened_0 ++ []
theorem dksX0_shortened_0 : cX0_shortened.data.toList.drop 0 = dktX0_shortened_0 := by decide +kernel
theorem dX0_shortened_0 : decode cX0_shortened 0 = .ok (.iload_n 1, 1) := dk_27 (dk_at dksX0_shortened_0 0 rfl rfl)
theorem dX0_shortened_1 : decode cX0_shortened 1 = .ok (.newarray .int, 2) := dk_188_10 (dk_at dksX0_shortened_0 1 rfl rfl)
theorem dX0_shortened_3 : decode cX0_shortened 3 = .ok (.astore_n 2, 1) := dk_77 (dk_at dksX0_shortened_0 3 rfl rfl)
theorem dX0_shortened_4 : decode cX0_shortened 4 = .ok (.aload_n 0, 1) := dk_42 (dk_at dksX0_shortened_0 4 rfl rfl)
theorem dX0_shortened_5 : decode cX0_shortened 5 = .ok (.iconst 0, 1) := dk_3 (dk_at dksX0_shortened_0 5 rfl rfl)
theorem dX0_shortened_6 : decode cX0_shortened 6 = .ok (.aload_n 2, 1) := dk_44 (dk_at dksX0_shortened_0 6 rfl rfl)
theorem dX0_shortened_7 : decode cX0_shortened 7 = .ok (.iconst 0, 1) := dk_3 (dk_at dksX0_shortened_0 7 rfl rfl)
theorem dX0_shortened_8 : decode cX0_shortened 8 = .ok (.iload_n 1, 1) := dk_27 (dk_at dksX0_shortened_0 8 rfl rfl)
theorem dX0_shortened_9 : decode cX0_shortened 9 = .ok (.invokestatic 31, 3) := dk_184 0 31 (dk_at dksX0_shortened_0 9 rfl rfl)
theorem dX0_shortened_12 : decode cX0_shortened 12 = .ok (.aload_n 2, 1) := dk_44 (dk_at dksX0_shortened_0 12 rfl rfl)
theorem dX0_shortened_13 : decode cX0_shortened 13 = .ok (.areturn, 1) := dk_176 (dk_at dksX0_shortened_0 13 rfl rfl)
abbrev cX0_fault : ByteArray := prog_1_method_12_code
def yX0_fault : MethodName := ⟨RX0, "fault", "(I)I"⟩
def dkwX0_fault_1 : List UInt8 := [172]
abbrev dktX0_fault_1 : List UInt8 := dkwX0_fault_1 ++ []
def dkwX0_fault_0 : List UInt8 := [27, 154, 0, 10, 42, 180, 0, 83, 167, 0, 16, 27, 4, 160, 0, 10, 42, 180, 0, 65, 167, 0, 4, 2]
abbrev dktX0_fault_0 : List UInt8 := dkwX0_fault_0 ++ dktX0_fault_1
theorem dksX0_fault_0 : cX0_fault.data.toList.drop 0 = dktX0_fault_0 := by decide +kernel
theorem dksX0_fault_1 : cX0_fault.data.toList.drop 24 = dktX0_fault_1 := dk_seg dksX0_fault_0 24 rfl rfl
theorem dX0_fault_0 : decode cX0_fault 0 = .ok (.iload_n 1, 1) := dk_27 (dk_at dksX0_fault_0 0 rfl rfl)
theorem dX0_fault_1 : decode cX0_fault 1 = .ok (.ifCond .ne 10, 3) := dk_154 0 10 (dk_at dksX0_fault_0 1 rfl rfl)
theorem dX0_fault_4 : decode cX0_fault 4 = .ok (.aload_n 0, 1) := dk_42 (dk_at dksX0_fault_0 4 rfl rfl)
theorem dX0_fault_5 : decode cX0_fault 5 = .ok (.getfield 83, 3) := dk_180 0 83 (dk_at dksX0_fault_0 5 rfl rfl)
theorem dX0_fault_8 : decode cX0_fault 8 = .ok (.goto 16, 3) := dk_167 0 16 (dk_at dksX0_fault_0 8 rfl rfl)
theorem dX0_fault_11 : decode cX0_fault 11 = .ok (.iload_n 1, 1) := dk_27 (dk_at dksX0_fault_0 11 rfl rfl)
theorem dX0_fault_12 : decode cX0_fault 12 = .ok (.iconst 1, 1) := dk_4 (dk_at dksX0_fault_0 12 rfl rfl)
theorem dX0_fault_13 : decode cX0_fault 13 = .ok (.if_icmp .ne 10, 3) := dk_160 0 10 (dk_at dksX0_fault_0 13 rfl rfl)
theorem dX0_fault_16 : decode cX0_fault 16 = .ok (.aload_n 0, 1) := dk_42 (dk_at dksX0_fault_0 16 rfl rfl)
theorem dX0_fault_17 : decode cX0_fault 17 = .ok (.getfield 65, 3) := dk_180 0 65 (dk_at dksX0_fault_0 17 rfl rfl)
theorem dX0_fault_20 : decode cX0_fault 20 = .ok (.goto 4, 3) := dk_167 0 4 (dk_at dksX0_fault_0 20 rfl rfl)
theorem dX0_fault_23 : decode cX0_fault 23 = .ok (.iconst (-1), 1) := dk_2 (dk_at dksX0_fault_0 23 rfl rfl)
theorem dX0_fault_24 : decode cX0_fault 24 = .ok (.ireturn, 1) := dk_172 (dk_at dksX0_fault_1 0 rfl rfl)
abbrev cX0_read : ByteArray := prog_1_method_19_code
def yX0_read : MethodName := ⟨RX0, "read", "(II)I"⟩
def dkwX0_read_3 : List UInt8 := [180, 0, 46, 180, 0, 141, 185, 0, 103, 1, 0, 172]
abbrev dktX0_read_3 : List UInt8 := dkwX0_read_3 ++ []
def dkwX0_read_2 : List UInt8 := [182, 0, 127, 182, 0, 174, 132, 4, 1, 167, 255, 232, 42, 27, 28, 29, 3, 4, 182, 0, 178, 42]
abbrev dktX0_read_2 : List UInt8 := dkwX0_read_2 ++ dktX0_read_3
def dkwX0_read_1 : List UInt8 := [27, 182, 0, 156, 62, 3, 54, 4, 21, 4, 28, 162, 0, 24, 42, 180, 0, 46, 180, 0, 124, 42, 27]
abbrev dktX0_read_1 : List UInt8 := dkwX0_read_1 ++ dktX0_read_2
def dkwX0_read_0 : List UInt8 := [42, 27, 182, 0, 169, 153, 0, 15, 28, 133, 10, 20, 0, 172, 184, 0, 5, 154, 0, 6, 16, 254, 172, 42]
abbrev dktX0_read_0 : List UInt8 := dkwX0_read_0 ++ dktX0_read_1
theorem dksX0_read_0 : cX0_read.data.toList.drop 0 = dktX0_read_0 := by decide +kernel
theorem dksX0_read_1 : cX0_read.data.toList.drop 24 = dktX0_read_1 := dk_seg dksX0_read_0 24 rfl rfl
theorem dksX0_read_2 : cX0_read.data.toList.drop 47 = dktX0_read_2 := dk_seg dksX0_read_1 23 rfl rfl
theorem dksX0_read_3 : cX0_read.data.toList.drop 69 = dktX0_read_3 := dk_seg dksX0_read_2 22 rfl rfl
theorem dX0_read_0 : decode cX0_read 0 = .ok (.aload_n 0, 1) := dk_42 (dk_at dksX0_read_0 0 rfl rfl)
theorem dX0_read_1 : decode cX0_read 1 = .ok (.iload_n 1, 1) := dk_27 (dk_at dksX0_read_0 1 rfl rfl)
theorem dX0_read_2 : decode cX0_read 2 = .ok (.invokevirtual 169, 3) := dk_182 0 169 (dk_at dksX0_read_0 2 rfl rfl)
theorem dX0_read_5 : decode cX0_read 5 = .ok (.ifCond .eq 15, 3) := dk_153 0 15 (dk_at dksX0_read_0 5 rfl rfl)
theorem dX0_read_8 : decode cX0_read 8 = .ok (.iload_n 2, 1) := dk_28 (dk_at dksX0_read_0 8 rfl rfl)
theorem dX0_read_9 : decode cX0_read 9 = .ok (.i2l, 1) := dk_133 (dk_at dksX0_read_0 9 rfl rfl)
theorem dX0_read_10 : decode cX0_read 10 = .ok (.lconst 1, 1) := dk_10 (dk_at dksX0_read_0 10 rfl rfl)
theorem dX0_read_11 : decode cX0_read 11 = .ok (.ldc2_w 172, 3) := dk_20 0 172 (dk_at dksX0_read_0 11 rfl rfl)
theorem dX0_read_14 : decode cX0_read 14 = .ok (.invokestatic 5, 3) := dk_184 0 5 (dk_at dksX0_read_0 14 rfl rfl)
theorem dX0_read_17 : decode cX0_read 17 = .ok (.ifCond .ne 6, 3) := dk_154 0 6 (dk_at dksX0_read_0 17 rfl rfl)
theorem dX0_read_20 : decode cX0_read 20 = .ok (.bipush (-2), 2) := dk_16 254 (dk_at dksX0_read_0 20 rfl rfl)
theorem dX0_read_22 : decode cX0_read 22 = .ok (.ireturn, 1) := dk_172 (dk_at dksX0_read_0 22 rfl rfl)
theorem dX0_read_23 : decode cX0_read 23 = .ok (.aload_n 0, 1) := dk_42 (dk_at dksX0_read_0 23 rfl rfl)
theorem dX0_read_24 : decode cX0_read 24 = .ok (.iload_n 1, 1) := dk_27 (dk_at dksX0_read_1 0 rfl rfl)
theorem dX0_read_25 : decode cX0_read 25 = .ok (.invokevirtual 156, 3) := dk_182 0 156 (dk_at dksX0_read_1 1 rfl rfl)
theorem dX0_read_28 : decode cX0_read 28 = .ok (.istore_n 3, 1) := dk_62 (dk_at dksX0_read_1 4 rfl rfl)
theorem dX0_read_29 : decode cX0_read 29 = .ok (.iconst 0, 1) := dk_3 (dk_at dksX0_read_1 5 rfl rfl)
theorem dX0_read_30 : decode cX0_read 30 = .ok (.istore 4, 2) := dk_54 4 (dk_at dksX0_read_1 6 rfl rfl)
theorem dX0_read_32 : decode cX0_read 32 = .ok (.iload 4, 2) := dk_21 4 (dk_at dksX0_read_1 8 rfl rfl)
theorem dX0_read_34 : decode cX0_read 34 = .ok (.iload_n 2, 1) := dk_28 (dk_at dksX0_read_1 10 rfl rfl)
theorem dX0_read_35 : decode cX0_read 35 = .ok (.if_icmp .ge 24, 3) := dk_162 0 24 (dk_at dksX0_read_1 11 rfl rfl)
theorem dX0_read_38 : decode cX0_read 38 = .ok (.aload_n 0, 1) := dk_42 (dk_at dksX0_read_1 14 rfl rfl)
theorem dX0_read_39 : decode cX0_read 39 = .ok (.getfield 46, 3) := dk_180 0 46 (dk_at dksX0_read_1 15 rfl rfl)
theorem dX0_read_42 : decode cX0_read 42 = .ok (.getfield 124, 3) := dk_180 0 124 (dk_at dksX0_read_1 18 rfl rfl)
theorem dX0_read_45 : decode cX0_read 45 = .ok (.aload_n 0, 1) := dk_42 (dk_at dksX0_read_1 21 rfl rfl)
theorem dX0_read_46 : decode cX0_read 46 = .ok (.iload_n 1, 1) := dk_27 (dk_at dksX0_read_1 22 rfl rfl)
theorem dX0_read_47 : decode cX0_read 47 = .ok (.invokevirtual 127, 3) := dk_182 0 127 (dk_at dksX0_read_2 0 rfl rfl)
theorem dX0_read_50 : decode cX0_read 50 = .ok (.invokevirtual 174, 3) := dk_182 0 174 (dk_at dksX0_read_2 3 rfl rfl)
theorem dX0_read_53 : decode cX0_read 53 = .ok (.iinc 4 1, 3) := dk_132 4 1 (dk_at dksX0_read_2 6 rfl rfl)
theorem dX0_read_56 : decode cX0_read 56 = .ok (.goto (-24), 3) := dk_167 255 232 (dk_at dksX0_read_2 9 rfl rfl)
theorem dX0_read_59 : decode cX0_read 59 = .ok (.aload_n 0, 1) := dk_42 (dk_at dksX0_read_2 12 rfl rfl)
theorem dX0_read_60 : decode cX0_read 60 = .ok (.iload_n 1, 1) := dk_27 (dk_at dksX0_read_2 13 rfl rfl)
theorem dX0_read_61 : decode cX0_read 61 = .ok (.iload_n 2, 1) := dk_28 (dk_at dksX0_read_2 14 rfl rfl)
theorem dX0_read_62 : decode cX0_read 62 = .ok (.iload_n 3, 1) := dk_29 (dk_at dksX0_read_2 15 rfl rfl)
theorem dX0_read_63 : decode cX0_read 63 = .ok (.iconst 0, 1) := dk_3 (dk_at dksX0_read_2 16 rfl rfl)
theorem dX0_read_64 : decode cX0_read 64 = .ok (.iconst 1, 1) := dk_4 (dk_at dksX0_read_2 17 rfl rfl)
theorem dX0_read_65 : decode cX0_read 65 = .ok (.invokevirtual 178, 3) := dk_182 0 178 (dk_at dksX0_read_2 18 rfl rfl)
theorem dX0_read_68 : decode cX0_read 68 = .ok (.aload_n 0, 1) := dk_42 (dk_at dksX0_read_2 21 rfl rfl)
theorem dX0_read_69 : decode cX0_read 69 = .ok (.getfield 46, 3) := dk_180 0 46 (dk_at dksX0_read_3 0 rfl rfl)
theorem dX0_read_72 : decode cX0_read 72 = .ok (.getfield 141, 3) := dk_180 0 141 (dk_at dksX0_read_3 3 rfl rfl)
theorem dX0_read_75 : decode cX0_read 75 = .ok (.invokeinterface 103 1, 5) := by decide +kernel
theorem dX0_read_80 : decode cX0_read 80 = .ok (.ireturn, 1) := dk_172 (dk_at dksX0_read_3 11 rfl rfl)
abbrev cX0_isRow : ByteArray := prog_1_method_13_code
def yX0_isRow : MethodName := ⟨RX0, "isRow", "(I)Z"⟩
def dkwX0_isRow_0 : List UInt8 := [27, 133, 9, 42, 180, 0, 46, 180, 0, 102, 185, 0, 103, 1, 0, 4, 100, 133, 184, 0, 5, 172]
abbrev dktX0_isRow_0 : List UInt8 := dkwX0_isRow_0 ++ []
theorem dksX0_isRow_0 : cX0_isRow.data.toList.drop 0 = dktX0_isRow_0 := by decide +kernel
theorem dX0_isRow_0 : decode cX0_isRow 0 = .ok (.iload_n 1, 1) := dk_27 (dk_at dksX0_isRow_0 0 rfl rfl)
theorem dX0_isRow_1 : decode cX0_isRow 1 = .ok (.i2l, 1) := dk_133 (dk_at dksX0_isRow_0 1 rfl rfl)
theorem dX0_isRow_2 : decode cX0_isRow 2 = .ok (.lconst 0, 1) := dk_9 (dk_at dksX0_isRow_0 2 rfl rfl)
theorem dX0_isRow_3 : decode cX0_isRow 3 = .ok (.aload_n 0, 1) := dk_42 (dk_at dksX0_isRow_0 3 rfl rfl)
theorem dX0_isRow_4 : decode cX0_isRow 4 = .ok (.getfield 46, 3) := dk_180 0 46 (dk_at dksX0_isRow_0 4 rfl rfl)
theorem dX0_isRow_7 : decode cX0_isRow 7 = .ok (.getfield 102, 3) := dk_180 0 102 (dk_at dksX0_isRow_0 7 rfl rfl)
theorem dX0_isRow_10 : decode cX0_isRow 10 = .ok (.invokeinterface 103 1, 5) := by decide +kernel
theorem dX0_isRow_15 : decode cX0_isRow 15 = .ok (.iconst 1, 1) := dk_4 (dk_at dksX0_isRow_0 15 rfl rfl)
theorem dX0_isRow_16 : decode cX0_isRow 16 = .ok (.isub, 1) := dk_100 (dk_at dksX0_isRow_0 16 rfl rfl)
theorem dX0_isRow_17 : decode cX0_isRow 17 = .ok (.i2l, 1) := dk_133 (dk_at dksX0_isRow_0 17 rfl rfl)
theorem dX0_isRow_18 : decode cX0_isRow 18 = .ok (.invokestatic 5, 3) := dk_184 0 5 (dk_at dksX0_isRow_0 18 rfl rfl)
theorem dX0_isRow_21 : decode cX0_isRow 21 = .ok (.ireturn, 1) := dk_172 (dk_at dksX0_isRow_0 21 rfl rfl)
abbrev cX0_slipMany : ByteArray := prog_1_method_17_code
def yX0_slipMany : MethodName := ⟨RX0, "slipMany", "(I)I"⟩
def dkwX0_slipMany_0 : List UInt8 := [42, 180, 0, 46, 180, 0, 124, 42, 27, 182, 0, 127, 2, 182, 0, 131, 184, 0, 135, 172]
abbrev dktX0_slipMany_0 : List UInt8 := dkwX0_slipMany_0 ++ []
theorem dksX0_slipMany_0 : cX0_slipMany.data.toList.drop 0 = dktX0_slipMany_0 := by decide +kernel
theorem dX0_slipMany_0 : decode cX0_slipMany 0 = .ok (.aload_n 0, 1) := dk_42 (dk_at dksX0_slipMany_0 0 rfl rfl)
theorem dX0_slipMany_1 : decode cX0_slipMany 1 = .ok (.getfield 46, 3) := dk_180 0 46 (dk_at dksX0_slipMany_0 1 rfl rfl)
theorem dX0_slipMany_4 : decode cX0_slipMany 4 = .ok (.getfield 124, 3) := dk_180 0 124 (dk_at dksX0_slipMany_0 4 rfl rfl)
theorem dX0_slipMany_7 : decode cX0_slipMany 7 = .ok (.aload_n 0, 1) := dk_42 (dk_at dksX0_slipMany_0 7 rfl rfl)
theorem dX0_slipMany_8 : decode cX0_slipMany 8 = .ok (.iload_n 1, 1) := dk_27 (dk_at dksX0_slipMany_0 8 rfl rfl)
theorem dX0_slipMany_9 : decode cX0_slipMany 9 = .ok (.invokevirtual 127, 3) := dk_182 0 127 (dk_at dksX0_slipMany_0 9 rfl rfl)
theorem dX0_slipMany_12 : decode cX0_slipMany 12 = .ok (.iconst (-1), 1) := dk_2 (dk_at dksX0_slipMany_0 12 rfl rfl)
theorem dX0_slipMany_13 : decode cX0_slipMany 13 = .ok (.invokevirtual 131, 3) := dk_182 0 131 (dk_at dksX0_slipMany_0 13 rfl rfl)
theorem dX0_slipMany_16 : decode cX0_slipMany 16 = .ok (.invokestatic 135, 3) := dk_184 0 135 (dk_at dksX0_slipMany_0 16 rfl rfl)
theorem dX0_slipMany_19 : decode cX0_slipMany 19 = .ok (.ireturn, 1) := dk_172 (dk_at dksX0_slipMany_0 19 rfl rfl)
abbrev cX0_rowAt : ByteArray := prog_1_method_16_code
def yX0_rowAt : MethodName := ⟨RX0, "rowAt", "(I)[I"⟩
def dkwX0_rowAt_0 : List UInt8 := [42, 180, 0, 46, 180, 0, 102, 27, 185, 0, 119, 2, 0, 192, 0, 123, 176]
abbrev dktX0_rowAt_0 : List UInt8 := dkwX0_rowAt_0 ++ []
theorem dksX0_rowAt_0 : cX0_rowAt.data.toList.drop 0 = dktX0_rowAt_0 := by decide +kernel
theorem dX0_rowAt_0 : decode cX0_rowAt 0 = .ok (.aload_n 0, 1) := dk_42 (dk_at dksX0_rowAt_0 0 rfl rfl)
theorem dX0_rowAt_1 : decode cX0_rowAt 1 = .ok (.getfield 46, 3) := dk_180 0 46 (dk_at dksX0_rowAt_0 1 rfl rfl)
theorem dX0_rowAt_4 : decode cX0_rowAt 4 = .ok (.getfield 102, 3) := dk_180 0 102 (dk_at dksX0_rowAt_0 4 rfl rfl)
theorem dX0_rowAt_7 : decode cX0_rowAt 7 = .ok (.iload_n 1, 1) := dk_27 (dk_at dksX0_rowAt_0 7 rfl rfl)
theorem dX0_rowAt_8 : decode cX0_rowAt 8 = .ok (.invokeinterface 119 2, 5) := by decide +kernel
theorem dX0_rowAt_13 : decode cX0_rowAt 13 = .ok (.checkcast 123, 3) := dk_192 0 123 (dk_at dksX0_rowAt_0 13 rfl rfl)
theorem dX0_rowAt_16 : decode cX0_rowAt 16 = .ok (.areturn, 1) := dk_176 (dk_at dksX0_rowAt_0 16 rfl rfl)
abbrev cX0_notes : ByteArray := prog_1_method_18_code
def yX0_notes : MethodName := ⟨RX0, "notes", "(IIIZZ)V"⟩
def dkwX0_notes_4 : List UInt8 := [177]
abbrev dktX0_notes_4 : List UInt8 := dkwX0_notes_4 ++ []
def dkwX0_notes_3 : List UInt8 := [21, 5, 183, 0, 159, 185, 0, 162, 2, 0, 87, 42, 180, 0, 46, 180, 0, 166, 27, 92, 46, 28, 96, 79]
abbrev dktX0_notes_3 : List UInt8 := dkwX0_notes_3 ++ dktX0_notes_4
def dkwX0_notes_2 : List UInt8 := [187, 0, 151, 89, 27, 28, 42, 180, 0, 46, 180, 0, 124, 180, 0, 153, 29, 42, 27, 182, 0, 156, 21, 4]
abbrev dktX0_notes_2 : List UInt8 := dkwX0_notes_2 ++ dktX0_notes_3
def dkwX0_notes_1 : List UInt8 := [3, 185, 0, 144, 2, 0, 87, 42, 180, 0, 46, 3, 181, 0, 147, 42, 180, 0, 46, 180, 0, 141]
abbrev dktX0_notes_1 : List UInt8 := dkwX0_notes_1 ++ dktX0_notes_2
def dkwX0_notes_0 : List UInt8 := [42, 180, 0, 46, 180, 0, 141, 185, 0, 103, 1, 0, 16, 60, 160, 0, 25, 42, 180, 0, 46, 180, 0, 141]
abbrev dktX0_notes_0 : List UInt8 := dkwX0_notes_0 ++ dktX0_notes_1
theorem dksX0_notes_0 : cX0_notes.data.toList.drop 0 = dktX0_notes_0 := by decide +kernel
theorem dksX0_notes_1 : cX0_notes.data.toList.drop 24 = dktX0_notes_1 := dk_seg dksX0_notes_0 24 rfl rfl
theorem dksX0_notes_2 : cX0_notes.data.toList.drop 46 = dktX0_notes_2 := dk_seg dksX0_notes_1 22 rfl rfl
theorem dksX0_notes_3 : cX0_notes.data.toList.drop 70 = dktX0_notes_3 := dk_seg dksX0_notes_2 24 rfl rfl
theorem dksX0_notes_4 : cX0_notes.data.toList.drop 94 = dktX0_notes_4 := dk_seg dksX0_notes_3 24 rfl rfl
theorem dX0_notes_0 : decode cX0_notes 0 = .ok (.aload_n 0, 1) := dk_42 (dk_at dksX0_notes_0 0 rfl rfl)
theorem dX0_notes_1 : decode cX0_notes 1 = .ok (.getfield 46, 3) := dk_180 0 46 (dk_at dksX0_notes_0 1 rfl rfl)
theorem dX0_notes_4 : decode cX0_notes 4 = .ok (.getfield 141, 3) := dk_180 0 141 (dk_at dksX0_notes_0 4 rfl rfl)
theorem dX0_notes_7 : decode cX0_notes 7 = .ok (.invokeinterface 103 1, 5) := by decide +kernel
theorem dX0_notes_12 : decode cX0_notes 12 = .ok (.bipush 60, 2) := dk_16 60 (dk_at dksX0_notes_0 12 rfl rfl)
theorem dX0_notes_14 : decode cX0_notes 14 = .ok (.if_icmp .ne 25, 3) := dk_160 0 25 (dk_at dksX0_notes_0 14 rfl rfl)
theorem dX0_notes_17 : decode cX0_notes 17 = .ok (.aload_n 0, 1) := dk_42 (dk_at dksX0_notes_0 17 rfl rfl)
theorem dX0_notes_18 : decode cX0_notes 18 = .ok (.getfield 46, 3) := dk_180 0 46 (dk_at dksX0_notes_0 18 rfl rfl)
theorem dX0_notes_21 : decode cX0_notes 21 = .ok (.getfield 141, 3) := dk_180 0 141 (dk_at dksX0_notes_0 21 rfl rfl)
theorem dX0_notes_24 : decode cX0_notes 24 = .ok (.iconst 0, 1) := dk_3 (dk_at dksX0_notes_1 0 rfl rfl)
theorem dX0_notes_25 : decode cX0_notes 25 = .ok (.invokeinterface 144 2, 5) := by decide +kernel
theorem dX0_notes_30 : decode cX0_notes 30 = .ok (.pop, 1) := dk_87 (dk_at dksX0_notes_1 6 rfl rfl)
theorem dX0_notes_31 : decode cX0_notes 31 = .ok (.aload_n 0, 1) := dk_42 (dk_at dksX0_notes_1 7 rfl rfl)
theorem dX0_notes_32 : decode cX0_notes 32 = .ok (.getfield 46, 3) := dk_180 0 46 (dk_at dksX0_notes_1 8 rfl rfl)
theorem dX0_notes_35 : decode cX0_notes 35 = .ok (.iconst 0, 1) := dk_3 (dk_at dksX0_notes_1 11 rfl rfl)
theorem dX0_notes_36 : decode cX0_notes 36 = .ok (.putfield 147, 3) := dk_181 0 147 (dk_at dksX0_notes_1 12 rfl rfl)
theorem dX0_notes_39 : decode cX0_notes 39 = .ok (.aload_n 0, 1) := dk_42 (dk_at dksX0_notes_1 15 rfl rfl)
theorem dX0_notes_40 : decode cX0_notes 40 = .ok (.getfield 46, 3) := dk_180 0 46 (dk_at dksX0_notes_1 16 rfl rfl)
theorem dX0_notes_43 : decode cX0_notes 43 = .ok (.getfield 141, 3) := dk_180 0 141 (dk_at dksX0_notes_1 19 rfl rfl)
theorem dX0_notes_46 : decode cX0_notes 46 = .ok (.new 151, 3) := dk_187 0 151 (dk_at dksX0_notes_2 0 rfl rfl)
theorem dX0_notes_49 : decode cX0_notes 49 = .ok (.dup, 1) := dk_89 (dk_at dksX0_notes_2 3 rfl rfl)
theorem dX0_notes_50 : decode cX0_notes 50 = .ok (.iload_n 1, 1) := dk_27 (dk_at dksX0_notes_2 4 rfl rfl)
theorem dX0_notes_51 : decode cX0_notes 51 = .ok (.iload_n 2, 1) := dk_28 (dk_at dksX0_notes_2 5 rfl rfl)
theorem dX0_notes_52 : decode cX0_notes 52 = .ok (.aload_n 0, 1) := dk_42 (dk_at dksX0_notes_2 6 rfl rfl)
theorem dX0_notes_53 : decode cX0_notes 53 = .ok (.getfield 46, 3) := dk_180 0 46 (dk_at dksX0_notes_2 7 rfl rfl)
theorem dX0_notes_56 : decode cX0_notes 56 = .ok (.getfield 124, 3) := dk_180 0 124 (dk_at dksX0_notes_2 10 rfl rfl)
theorem dX0_notes_59 : decode cX0_notes 59 = .ok (.getfield 153, 3) := dk_180 0 153 (dk_at dksX0_notes_2 13 rfl rfl)
theorem dX0_notes_62 : decode cX0_notes 62 = .ok (.iload_n 3, 1) := dk_29 (dk_at dksX0_notes_2 16 rfl rfl)
theorem dX0_notes_63 : decode cX0_notes 63 = .ok (.aload_n 0, 1) := dk_42 (dk_at dksX0_notes_2 17 rfl rfl)
theorem dX0_notes_64 : decode cX0_notes 64 = .ok (.iload_n 1, 1) := dk_27 (dk_at dksX0_notes_2 18 rfl rfl)
theorem dX0_notes_65 : decode cX0_notes 65 = .ok (.invokevirtual 156, 3) := dk_182 0 156 (dk_at dksX0_notes_2 19 rfl rfl)
theorem dX0_notes_68 : decode cX0_notes 68 = .ok (.iload 4, 2) := dk_21 4 (dk_at dksX0_notes_2 22 rfl rfl)
theorem dX0_notes_70 : decode cX0_notes 70 = .ok (.iload 5, 2) := dk_21 5 (dk_at dksX0_notes_3 0 rfl rfl)
theorem dX0_notes_72 : decode cX0_notes 72 = .ok (.invokespecial 159, 3) := dk_183 0 159 (dk_at dksX0_notes_3 2 rfl rfl)
theorem dX0_notes_75 : decode cX0_notes 75 = .ok (.invokeinterface 162 2, 5) := by decide +kernel
theorem dX0_notes_80 : decode cX0_notes 80 = .ok (.pop, 1) := dk_87 (dk_at dksX0_notes_3 10 rfl rfl)
theorem dX0_notes_81 : decode cX0_notes 81 = .ok (.aload_n 0, 1) := dk_42 (dk_at dksX0_notes_3 11 rfl rfl)
theorem dX0_notes_82 : decode cX0_notes 82 = .ok (.getfield 46, 3) := dk_180 0 46 (dk_at dksX0_notes_3 12 rfl rfl)
theorem dX0_notes_85 : decode cX0_notes 85 = .ok (.getfield 166, 3) := dk_180 0 166 (dk_at dksX0_notes_3 15 rfl rfl)
theorem dX0_notes_88 : decode cX0_notes 88 = .ok (.iload_n 1, 1) := dk_27 (dk_at dksX0_notes_3 18 rfl rfl)
theorem dX0_notes_89 : decode cX0_notes 89 = .ok (.dup2, 1) := dk_92 (dk_at dksX0_notes_3 19 rfl rfl)
theorem dX0_notes_90 : decode cX0_notes 90 = .ok (.iaload, 1) := dk_46 (dk_at dksX0_notes_3 20 rfl rfl)
theorem dX0_notes_91 : decode cX0_notes 91 = .ok (.iload_n 2, 1) := dk_28 (dk_at dksX0_notes_3 21 rfl rfl)
theorem dX0_notes_92 : decode cX0_notes 92 = .ok (.iadd, 1) := dk_96 (dk_at dksX0_notes_3 22 rfl rfl)
theorem dX0_notes_93 : decode cX0_notes 93 = .ok (.iastore, 1) := dk_79 (dk_at dksX0_notes_3 23 rfl rfl)
theorem dX0_notes_94 : decode cX0_notes 94 = .ok (.return_, 1) := dk_177 (dk_at dksX0_notes_4 0 rfl rfl)
abbrev cX0_learn : ByteArray := prog_1_method_20_code
def yX0_learn : MethodName := ⟨RX0, "learn", "(I)I"⟩
def dkwX0_learn_2 : List UInt8 := [4, 29, 2, 159, 0, 7, 4, 167, 0, 4, 3, 182, 0, 178, 29, 172]
abbrev dktX0_learn_2 : List UInt8 := dkwX0_learn_2 ++ []
def dkwX0_learn_1 : List UInt8 := [42, 27, 182, 0, 127, 2, 182, 0, 182, 62, 42, 27, 29, 2, 160, 0, 8, 16, 40, 167, 0, 4, 29, 28]
abbrev dktX0_learn_1 : List UInt8 := dkwX0_learn_1 ++ dktX0_learn_2
def dkwX0_learn_0 : List UInt8 := [42, 27, 182, 0, 169, 154, 0, 6, 16, 254, 172, 42, 27, 182, 0, 156, 61, 42, 180, 0, 46, 180, 0, 124]
abbrev dktX0_learn_0 : List UInt8 := dkwX0_learn_0 ++ dktX0_learn_1
theorem dksX0_learn_0 : cX0_learn.data.toList.drop 0 = dktX0_learn_0 := by decide +kernel
theorem dksX0_learn_1 : cX0_learn.data.toList.drop 24 = dktX0_learn_1 := dk_seg dksX0_learn_0 24 rfl rfl
theorem dksX0_learn_2 : cX0_learn.data.toList.drop 48 = dktX0_learn_2 := dk_seg dksX0_learn_1 24 rfl rfl
theorem dX0_learn_0 : decode cX0_learn 0 = .ok (.aload_n 0, 1) := dk_42 (dk_at dksX0_learn_0 0 rfl rfl)
theorem dX0_learn_1 : decode cX0_learn 1 = .ok (.iload_n 1, 1) := dk_27 (dk_at dksX0_learn_0 1 rfl rfl)
theorem dX0_learn_2 : decode cX0_learn 2 = .ok (.invokevirtual 169, 3) := dk_182 0 169 (dk_at dksX0_learn_0 2 rfl rfl)
theorem dX0_learn_5 : decode cX0_learn 5 = .ok (.ifCond .ne 6, 3) := dk_154 0 6 (dk_at dksX0_learn_0 5 rfl rfl)
theorem dX0_learn_8 : decode cX0_learn 8 = .ok (.bipush (-2), 2) := dk_16 254 (dk_at dksX0_learn_0 8 rfl rfl)
theorem dX0_learn_10 : decode cX0_learn 10 = .ok (.ireturn, 1) := dk_172 (dk_at dksX0_learn_0 10 rfl rfl)
theorem dX0_learn_11 : decode cX0_learn 11 = .ok (.aload_n 0, 1) := dk_42 (dk_at dksX0_learn_0 11 rfl rfl)
theorem dX0_learn_12 : decode cX0_learn 12 = .ok (.iload_n 1, 1) := dk_27 (dk_at dksX0_learn_0 12 rfl rfl)
theorem dX0_learn_13 : decode cX0_learn 13 = .ok (.invokevirtual 156, 3) := dk_182 0 156 (dk_at dksX0_learn_0 13 rfl rfl)
theorem dX0_learn_16 : decode cX0_learn 16 = .ok (.istore_n 2, 1) := dk_61 (dk_at dksX0_learn_0 16 rfl rfl)
theorem dX0_learn_17 : decode cX0_learn 17 = .ok (.aload_n 0, 1) := dk_42 (dk_at dksX0_learn_0 17 rfl rfl)
theorem dX0_learn_18 : decode cX0_learn 18 = .ok (.getfield 46, 3) := dk_180 0 46 (dk_at dksX0_learn_0 18 rfl rfl)
theorem dX0_learn_21 : decode cX0_learn 21 = .ok (.getfield 124, 3) := dk_180 0 124 (dk_at dksX0_learn_0 21 rfl rfl)
theorem dX0_learn_24 : decode cX0_learn 24 = .ok (.aload_n 0, 1) := dk_42 (dk_at dksX0_learn_1 0 rfl rfl)
theorem dX0_learn_25 : decode cX0_learn 25 = .ok (.iload_n 1, 1) := dk_27 (dk_at dksX0_learn_1 1 rfl rfl)
theorem dX0_learn_26 : decode cX0_learn 26 = .ok (.invokevirtual 127, 3) := dk_182 0 127 (dk_at dksX0_learn_1 2 rfl rfl)
theorem dX0_learn_29 : decode cX0_learn 29 = .ok (.iconst (-1), 1) := dk_2 (dk_at dksX0_learn_1 5 rfl rfl)
theorem dX0_learn_30 : decode cX0_learn 30 = .ok (.invokevirtual 182, 3) := dk_182 0 182 (dk_at dksX0_learn_1 6 rfl rfl)
theorem dX0_learn_33 : decode cX0_learn 33 = .ok (.istore_n 3, 1) := dk_62 (dk_at dksX0_learn_1 9 rfl rfl)
theorem dX0_learn_34 : decode cX0_learn 34 = .ok (.aload_n 0, 1) := dk_42 (dk_at dksX0_learn_1 10 rfl rfl)
theorem dX0_learn_35 : decode cX0_learn 35 = .ok (.iload_n 1, 1) := dk_27 (dk_at dksX0_learn_1 11 rfl rfl)
theorem dX0_learn_36 : decode cX0_learn 36 = .ok (.iload_n 3, 1) := dk_29 (dk_at dksX0_learn_1 12 rfl rfl)
theorem dX0_learn_37 : decode cX0_learn 37 = .ok (.iconst (-1), 1) := dk_2 (dk_at dksX0_learn_1 13 rfl rfl)
theorem dX0_learn_38 : decode cX0_learn 38 = .ok (.if_icmp .ne 8, 3) := dk_160 0 8 (dk_at dksX0_learn_1 14 rfl rfl)
theorem dX0_learn_41 : decode cX0_learn 41 = .ok (.bipush 40, 2) := dk_16 40 (dk_at dksX0_learn_1 17 rfl rfl)
theorem dX0_learn_43 : decode cX0_learn 43 = .ok (.goto 4, 3) := dk_167 0 4 (dk_at dksX0_learn_1 19 rfl rfl)
theorem dX0_learn_46 : decode cX0_learn 46 = .ok (.iload_n 3, 1) := dk_29 (dk_at dksX0_learn_1 22 rfl rfl)
theorem dX0_learn_47 : decode cX0_learn 47 = .ok (.iload_n 2, 1) := dk_28 (dk_at dksX0_learn_1 23 rfl rfl)
theorem dX0_learn_48 : decode cX0_learn 48 = .ok (.iconst 1, 1) := dk_4 (dk_at dksX0_learn_2 0 rfl rfl)
theorem dX0_learn_49 : decode cX0_learn 49 = .ok (.iload_n 3, 1) := dk_29 (dk_at dksX0_learn_2 1 rfl rfl)
theorem dX0_learn_50 : decode cX0_learn 50 = .ok (.iconst (-1), 1) := dk_2 (dk_at dksX0_learn_2 2 rfl rfl)
theorem dX0_learn_51 : decode cX0_learn 51 = .ok (.if_icmp .eq 7, 3) := dk_159 0 7 (dk_at dksX0_learn_2 3 rfl rfl)
theorem dX0_learn_54 : decode cX0_learn 54 = .ok (.iconst 1, 1) := dk_4 (dk_at dksX0_learn_2 6 rfl rfl)
theorem dX0_learn_55 : decode cX0_learn 55 = .ok (.goto 4, 3) := dk_167 0 4 (dk_at dksX0_learn_2 7 rfl rfl)
theorem dX0_learn_58 : decode cX0_learn 58 = .ok (.iconst 0, 1) := dk_3 (dk_at dksX0_learn_2 10 rfl rfl)
theorem dX0_learn_59 : decode cX0_learn 59 = .ok (.invokevirtual 178, 3) := dk_182 0 178 (dk_at dksX0_learn_2 11 rfl rfl)
theorem dX0_learn_62 : decode cX0_learn 62 = .ok (.iload_n 3, 1) := dk_29 (dk_at dksX0_learn_2 14 rfl rfl)
theorem dX0_learn_63 : decode cX0_learn 63 = .ok (.ireturn, 1) := dk_172 (dk_at dksX0_learn_2 15 rfl rfl)
abbrev cX0_waits : ByteArray := prog_1_method_21_code
def yX0_waits : MethodName := ⟨RX0, "waits", "(I)I"⟩
def dkwX0_waits_1 : List UInt8 := [180, 0, 46, 180, 0, 124, 180, 0, 153, 172]
abbrev dktX0_waits_1 : List UInt8 := dkwX0_waits_1 ++ []
def dkwX0_waits_0 : List UInt8 := [27, 184, 0, 185, 154, 0, 6, 16, 254, 172, 42, 180, 0, 46, 180, 0, 124, 27, 182, 0, 188, 42]
abbrev dktX0_waits_0 : List UInt8 := dkwX0_waits_0 ++ dktX0_waits_1
theorem dksX0_waits_0 : cX0_waits.data.toList.drop 0 = dktX0_waits_0 := by decide +kernel
theorem dksX0_waits_1 : cX0_waits.data.toList.drop 22 = dktX0_waits_1 := dk_seg dksX0_waits_0 22 rfl rfl
theorem dX0_waits_0 : decode cX0_waits 0 = .ok (.iload_n 1, 1) := dk_27 (dk_at dksX0_waits_0 0 rfl rfl)
theorem dX0_waits_1 : decode cX0_waits 1 = .ok (.invokestatic 185, 3) := dk_184 0 185 (dk_at dksX0_waits_0 1 rfl rfl)
theorem dX0_waits_4 : decode cX0_waits 4 = .ok (.ifCond .ne 6, 3) := dk_154 0 6 (dk_at dksX0_waits_0 4 rfl rfl)
theorem dX0_waits_7 : decode cX0_waits 7 = .ok (.bipush (-2), 2) := dk_16 254 (dk_at dksX0_waits_0 7 rfl rfl)
theorem dX0_waits_9 : decode cX0_waits 9 = .ok (.ireturn, 1) := dk_172 (dk_at dksX0_waits_0 9 rfl rfl)
theorem dX0_waits_10 : decode cX0_waits 10 = .ok (.aload_n 0, 1) := dk_42 (dk_at dksX0_waits_0 10 rfl rfl)
theorem dX0_waits_11 : decode cX0_waits 11 = .ok (.getfield 46, 3) := dk_180 0 46 (dk_at dksX0_waits_0 11 rfl rfl)
theorem dX0_waits_14 : decode cX0_waits 14 = .ok (.getfield 124, 3) := dk_180 0 124 (dk_at dksX0_waits_0 14 rfl rfl)
theorem dX0_waits_17 : decode cX0_waits 17 = .ok (.iload_n 1, 1) := dk_27 (dk_at dksX0_waits_0 17 rfl rfl)
theorem dX0_waits_18 : decode cX0_waits 18 = .ok (.invokevirtual 188, 3) := dk_182 0 188 (dk_at dksX0_waits_0 18 rfl rfl)
theorem dX0_waits_21 : decode cX0_waits 21 = .ok (.aload_n 0, 1) := dk_42 (dk_at dksX0_waits_0 21 rfl rfl)
theorem dX0_waits_22 : decode cX0_waits 22 = .ok (.getfield 46, 3) := dk_180 0 46 (dk_at dksX0_waits_1 0 rfl rfl)
theorem dX0_waits_25 : decode cX0_waits 25 = .ok (.getfield 124, 3) := dk_180 0 124 (dk_at dksX0_waits_1 3 rfl rfl)
theorem dX0_waits_28 : decode cX0_waits 28 = .ok (.getfield 153, 3) := dk_180 0 153 (dk_at dksX0_waits_1 6 rfl rfl)
theorem dX0_waits_31 : decode cX0_waits 31 = .ok (.ireturn, 1) := dk_172 (dk_at dksX0_waits_1 9 rfl rfl)
abbrev cX0_areHours : ByteArray := prog_1_method_15_code
def yX0_areHours : MethodName := ⟨RX0, "areHours", "(I)Z"⟩
def dkwX0_areHours_0 : List UInt8 := [26, 133, 9, 20, 0, 117, 184, 0, 5, 172]
abbrev dktX0_areHours_0 : List UInt8 := dkwX0_areHours_0 ++ []
theorem dksX0_areHours_0 : cX0_areHours.data.toList.drop 0 = dktX0_areHours_0 := by decide +kernel
theorem dX0_areHours_0 : decode cX0_areHours 0 = .ok (.iload_n 0, 1) := dk_26 (dk_at dksX0_areHours_0 0 rfl rfl)
theorem dX0_areHours_1 : decode cX0_areHours 1 = .ok (.i2l, 1) := dk_133 (dk_at dksX0_areHours_0 1 rfl rfl)
theorem dX0_areHours_2 : decode cX0_areHours 2 = .ok (.lconst 0, 1) := dk_9 (dk_at dksX0_areHours_0 2 rfl rfl)
theorem dX0_areHours_3 : decode cX0_areHours 3 = .ok (.ldc2_w 117, 3) := dk_20 0 117 (dk_at dksX0_areHours_0 3 rfl rfl)
theorem dX0_areHours_6 : decode cX0_areHours 6 = .ok (.invokestatic 5, 3) := dk_184 0 5 (dk_at dksX0_areHours_0 6 rfl rfl)
theorem dX0_areHours_9 : decode cX0_areHours 9 = .ok (.ireturn, 1) := dk_172 (dk_at dksX0_areHours_0 9 rfl rfl)
abbrev cX0_strength : ByteArray := prog_1_method_23_code
def yX0_strength : MethodName := ⟨RX0, "strength", "(III)I"⟩
def dkwX0_strength_2 : List UInt8 := [180, 0, 46, 180, 0, 124, 180, 0, 208, 27, 50, 28, 50, 29, 46, 172]
abbrev dktX0_strength_2 : List UInt8 := dkwX0_strength_2 ++ []
def dkwX0_strength_1 : List UInt8 := [20, 0, 206, 184, 0, 5, 154, 0, 17, 167, 0, 11, 42, 29, 182, 0, 203, 154, 0, 6, 16, 254, 172, 42]
abbrev dktX0_strength_1 : List UInt8 := dkwX0_strength_1 ++ dktX0_strength_2
def dkwX0_strength_0 : List UInt8 := [27, 184, 0, 200, 153, 0, 39, 42, 28, 182, 0, 203, 153, 0, 31, 27, 6, 160, 0, 18, 29, 133, 9]
abbrev dktX0_strength_0 : List UInt8 := dkwX0_strength_0 ++ dktX0_strength_1
theorem dksX0_strength_0 : cX0_strength.data.toList.drop 0 = dktX0_strength_0 := by decide +kernel
theorem dksX0_strength_1 : cX0_strength.data.toList.drop 23 = dktX0_strength_1 := dk_seg dksX0_strength_0 23 rfl rfl
theorem dksX0_strength_2 : cX0_strength.data.toList.drop 47 = dktX0_strength_2 := dk_seg dksX0_strength_1 24 rfl rfl
theorem dX0_strength_0 : decode cX0_strength 0 = .ok (.iload_n 1, 1) := dk_27 (dk_at dksX0_strength_0 0 rfl rfl)
theorem dX0_strength_1 : decode cX0_strength 1 = .ok (.invokestatic 200, 3) := dk_184 0 200 (dk_at dksX0_strength_0 1 rfl rfl)
theorem dX0_strength_4 : decode cX0_strength 4 = .ok (.ifCond .eq 39, 3) := dk_153 0 39 (dk_at dksX0_strength_0 4 rfl rfl)
theorem dX0_strength_7 : decode cX0_strength 7 = .ok (.aload_n 0, 1) := dk_42 (dk_at dksX0_strength_0 7 rfl rfl)
theorem dX0_strength_8 : decode cX0_strength 8 = .ok (.iload_n 2, 1) := dk_28 (dk_at dksX0_strength_0 8 rfl rfl)
theorem dX0_strength_9 : decode cX0_strength 9 = .ok (.invokevirtual 203, 3) := dk_182 0 203 (dk_at dksX0_strength_0 9 rfl rfl)
theorem dX0_strength_12 : decode cX0_strength 12 = .ok (.ifCond .eq 31, 3) := dk_153 0 31 (dk_at dksX0_strength_0 12 rfl rfl)
theorem dX0_strength_15 : decode cX0_strength 15 = .ok (.iload_n 1, 1) := dk_27 (dk_at dksX0_strength_0 15 rfl rfl)
theorem dX0_strength_16 : decode cX0_strength 16 = .ok (.iconst 3, 1) := dk_6 (dk_at dksX0_strength_0 16 rfl rfl)
theorem dX0_strength_17 : decode cX0_strength 17 = .ok (.if_icmp .ne 18, 3) := dk_160 0 18 (dk_at dksX0_strength_0 17 rfl rfl)
theorem dX0_strength_20 : decode cX0_strength 20 = .ok (.iload_n 3, 1) := dk_29 (dk_at dksX0_strength_0 20 rfl rfl)
theorem dX0_strength_21 : decode cX0_strength 21 = .ok (.i2l, 1) := dk_133 (dk_at dksX0_strength_0 21 rfl rfl)
theorem dX0_strength_22 : decode cX0_strength 22 = .ok (.lconst 0, 1) := dk_9 (dk_at dksX0_strength_0 22 rfl rfl)
theorem dX0_strength_23 : decode cX0_strength 23 = .ok (.ldc2_w 206, 3) := dk_20 0 206 (dk_at dksX0_strength_1 0 rfl rfl)
theorem dX0_strength_26 : decode cX0_strength 26 = .ok (.invokestatic 5, 3) := dk_184 0 5 (dk_at dksX0_strength_1 3 rfl rfl)
theorem dX0_strength_29 : decode cX0_strength 29 = .ok (.ifCond .ne 17, 3) := dk_154 0 17 (dk_at dksX0_strength_1 6 rfl rfl)
theorem dX0_strength_32 : decode cX0_strength 32 = .ok (.goto 11, 3) := dk_167 0 11 (dk_at dksX0_strength_1 9 rfl rfl)
theorem dX0_strength_35 : decode cX0_strength 35 = .ok (.aload_n 0, 1) := dk_42 (dk_at dksX0_strength_1 12 rfl rfl)
theorem dX0_strength_36 : decode cX0_strength 36 = .ok (.iload_n 3, 1) := dk_29 (dk_at dksX0_strength_1 13 rfl rfl)
theorem dX0_strength_37 : decode cX0_strength 37 = .ok (.invokevirtual 203, 3) := dk_182 0 203 (dk_at dksX0_strength_1 14 rfl rfl)
theorem dX0_strength_40 : decode cX0_strength 40 = .ok (.ifCond .ne 6, 3) := dk_154 0 6 (dk_at dksX0_strength_1 17 rfl rfl)
theorem dX0_strength_43 : decode cX0_strength 43 = .ok (.bipush (-2), 2) := dk_16 254 (dk_at dksX0_strength_1 20 rfl rfl)
theorem dX0_strength_45 : decode cX0_strength 45 = .ok (.ireturn, 1) := dk_172 (dk_at dksX0_strength_1 22 rfl rfl)
theorem dX0_strength_46 : decode cX0_strength 46 = .ok (.aload_n 0, 1) := dk_42 (dk_at dksX0_strength_1 23 rfl rfl)
theorem dX0_strength_47 : decode cX0_strength 47 = .ok (.getfield 46, 3) := dk_180 0 46 (dk_at dksX0_strength_2 0 rfl rfl)
theorem dX0_strength_50 : decode cX0_strength 50 = .ok (.getfield 124, 3) := dk_180 0 124 (dk_at dksX0_strength_2 3 rfl rfl)
theorem dX0_strength_53 : decode cX0_strength 53 = .ok (.getfield 208, 3) := dk_180 0 208 (dk_at dksX0_strength_2 6 rfl rfl)
theorem dX0_strength_56 : decode cX0_strength 56 = .ok (.iload_n 1, 1) := dk_27 (dk_at dksX0_strength_2 9 rfl rfl)
theorem dX0_strength_57 : decode cX0_strength 57 = .ok (.aaload, 1) := dk_50 (dk_at dksX0_strength_2 10 rfl rfl)
theorem dX0_strength_58 : decode cX0_strength 58 = .ok (.iload_n 2, 1) := dk_28 (dk_at dksX0_strength_2 11 rfl rfl)
theorem dX0_strength_59 : decode cX0_strength 59 = .ok (.aaload, 1) := dk_50 (dk_at dksX0_strength_2 12 rfl rfl)
theorem dX0_strength_60 : decode cX0_strength 60 = .ok (.iload_n 3, 1) := dk_29 (dk_at dksX0_strength_2 13 rfl rfl)
theorem dX0_strength_61 : decode cX0_strength 61 = .ok (.iaload, 1) := dk_46 (dk_at dksX0_strength_2 14 rfl rfl)
theorem dX0_strength_62 : decode cX0_strength 62 = .ok (.ireturn, 1) := dk_172 (dk_at dksX0_strength_2 15 rfl rfl)
abbrev cX0_isSort : ByteArray := prog_1_method_14_code
def yX0_isSort : MethodName := ⟨RX0, "isSort", "(I)Z"⟩
def dkwX0_isSort_0 : List UInt8 := [26, 133, 9, 20, 0, 3, 184, 0, 5, 172]
abbrev dktX0_isSort_0 : List UInt8 := dkwX0_isSort_0 ++ []
theorem dksX0_isSort_0 : cX0_isSort.data.toList.drop 0 = dktX0_isSort_0 := by decide +kernel
theorem dX0_isSort_0 : decode cX0_isSort 0 = .ok (.iload_n 0, 1) := dk_26 (dk_at dksX0_isSort_0 0 rfl rfl)
theorem dX0_isSort_1 : decode cX0_isSort 1 = .ok (.i2l, 1) := dk_133 (dk_at dksX0_isSort_0 1 rfl rfl)
theorem dX0_isSort_2 : decode cX0_isSort 2 = .ok (.lconst 0, 1) := dk_9 (dk_at dksX0_isSort_0 2 rfl rfl)
theorem dX0_isSort_3 : decode cX0_isSort 3 = .ok (.ldc2_w 3, 3) := dk_20 0 3 (dk_at dksX0_isSort_0 3 rfl rfl)
theorem dX0_isSort_6 : decode cX0_isSort 6 = .ok (.invokestatic 5, 3) := dk_184 0 5 (dk_at dksX0_isSort_0 6 rfl rfl)
theorem dX0_isSort_9 : decode cX0_isSort 9 = .ok (.ireturn, 1) := dk_172 (dk_at dksX0_isSort_0 9 rfl rfl)
abbrev cX0_isThing : ByteArray := prog_1_method_22_code
def yX0_isThing : MethodName := ⟨RX0, "isThing", "(I)Z"⟩
def dkwX0_isThing_0 : List UInt8 := [27, 133, 9, 42, 180, 0, 46, 180, 0, 191, 180, 0, 195, 4, 100, 133, 184, 0, 5, 172]
abbrev dktX0_isThing_0 : List UInt8 := dkwX0_isThing_0 ++ []
theorem dksX0_isThing_0 : cX0_isThing.data.toList.drop 0 = dktX0_isThing_0 := by decide +kernel
theorem dX0_isThing_0 : decode cX0_isThing 0 = .ok (.iload_n 1, 1) := dk_27 (dk_at dksX0_isThing_0 0 rfl rfl)
theorem dX0_isThing_1 : decode cX0_isThing 1 = .ok (.i2l, 1) := dk_133 (dk_at dksX0_isThing_0 1 rfl rfl)
theorem dX0_isThing_2 : decode cX0_isThing 2 = .ok (.lconst 0, 1) := dk_9 (dk_at dksX0_isThing_0 2 rfl rfl)
theorem dX0_isThing_3 : decode cX0_isThing 3 = .ok (.aload_n 0, 1) := dk_42 (dk_at dksX0_isThing_0 3 rfl rfl)
theorem dX0_isThing_4 : decode cX0_isThing 4 = .ok (.getfield 46, 3) := dk_180 0 46 (dk_at dksX0_isThing_0 4 rfl rfl)
theorem dX0_isThing_7 : decode cX0_isThing 7 = .ok (.getfield 191, 3) := dk_180 0 191 (dk_at dksX0_isThing_0 7 rfl rfl)
theorem dX0_isThing_10 : decode cX0_isThing 10 = .ok (.getfield 195, 3) := dk_180 0 195 (dk_at dksX0_isThing_0 10 rfl rfl)
theorem dX0_isThing_13 : decode cX0_isThing 13 = .ok (.iconst 1, 1) := dk_4 (dk_at dksX0_isThing_0 13 rfl rfl)
theorem dX0_isThing_14 : decode cX0_isThing 14 = .ok (.isub, 1) := dk_100 (dk_at dksX0_isThing_0 14 rfl rfl)
theorem dX0_isThing_15 : decode cX0_isThing 15 = .ok (.i2l, 1) := dk_133 (dk_at dksX0_isThing_0 15 rfl rfl)
theorem dX0_isThing_16 : decode cX0_isThing 16 = .ok (.invokestatic 5, 3) := dk_184 0 5 (dk_at dksX0_isThing_0 16 rfl rfl)
theorem dX0_isThing_19 : decode cX0_isThing 19 = .ok (.ireturn, 1) := dk_172 (dk_at dksX0_isThing_0 19 rfl rfl)
abbrev cX0_links : ByteArray := prog_1_method_24_code
def yX0_links : MethodName := ⟨RX0, "links", "(I)I"⟩
def dkwX0_links_0 : List UInt8 := [27, 184, 0, 200, 153, 0, 17, 42, 180, 0, 46, 180, 0, 124, 27, 182, 0, 212, 167, 0, 5, 16, 254, 172]
abbrev dktX0_links_0 : List UInt8 := dkwX0_links_0 ++ []
theorem dksX0_links_0 : cX0_links.data.toList.drop 0 = dktX0_links_0 := by decide +kernel
theorem dX0_links_0 : decode cX0_links 0 = .ok (.iload_n 1, 1) := dk_27 (dk_at dksX0_links_0 0 rfl rfl)
theorem dX0_links_1 : decode cX0_links 1 = .ok (.invokestatic 200, 3) := dk_184 0 200 (dk_at dksX0_links_0 1 rfl rfl)
theorem dX0_links_4 : decode cX0_links 4 = .ok (.ifCond .eq 17, 3) := dk_153 0 17 (dk_at dksX0_links_0 4 rfl rfl)
theorem dX0_links_7 : decode cX0_links 7 = .ok (.aload_n 0, 1) := dk_42 (dk_at dksX0_links_0 7 rfl rfl)
theorem dX0_links_8 : decode cX0_links 8 = .ok (.getfield 46, 3) := dk_180 0 46 (dk_at dksX0_links_0 8 rfl rfl)
theorem dX0_links_11 : decode cX0_links 11 = .ok (.getfield 124, 3) := dk_180 0 124 (dk_at dksX0_links_0 11 rfl rfl)
theorem dX0_links_14 : decode cX0_links 14 = .ok (.iload_n 1, 1) := dk_27 (dk_at dksX0_links_0 14 rfl rfl)
theorem dX0_links_15 : decode cX0_links 15 = .ok (.invokevirtual 212, 3) := dk_182 0 212 (dk_at dksX0_links_0 15 rfl rfl)
theorem dX0_links_18 : decode cX0_links 18 = .ok (.goto 5, 3) := dk_167 0 5 (dk_at dksX0_links_0 18 rfl rfl)
theorem dX0_links_21 : decode cX0_links 21 = .ok (.bipush (-2), 2) := dk_16 254 (dk_at dksX0_links_0 21 rfl rfl)
theorem dX0_links_23 : decode cX0_links 23 = .ok (.ireturn, 1) := dk_172 (dk_at dksX0_links_0 23 rfl rfl)
abbrev cX0_support : ByteArray := prog_1_method_25_code
def yX0_support : MethodName := ⟨RX0, "support", "(II)I"⟩
def dkwX0_support_2 : List UInt8 := [16, 254, 172]
abbrev dktX0_support_2 : List UInt8 := dkwX0_support_2 ++ []
def dkwX0_support_1 : List UInt8 := [153, 0, 23, 42, 180, 0, 46, 180, 0, 124, 42, 27, 182, 0, 127, 28, 2, 182, 0, 215, 167, 0, 5]
abbrev dktX0_support_1 : List UInt8 := dkwX0_support_1 ++ dktX0_support_2
def dkwX0_support_0 : List UInt8 := [42, 27, 182, 0, 169, 153, 0, 41, 28, 133, 9, 42, 27, 182, 0, 127, 190, 4, 100, 133, 184, 0, 5]
abbrev dktX0_support_0 : List UInt8 := dkwX0_support_0 ++ dktX0_support_1
theorem dksX0_support_0 : cX0_support.data.toList.drop 0 = dktX0_support_0 := by decide +kernel
theorem dksX0_support_1 : cX0_support.data.toList.drop 23 = dktX0_support_1 := dk_seg dksX0_support_0 23 rfl rfl
theorem dksX0_support_2 : cX0_support.data.toList.drop 46 = dktX0_support_2 := dk_seg dksX0_support_1 23 rfl rfl
theorem dX0_support_0 : decode cX0_support 0 = .ok (.aload_n 0, 1) := dk_42 (dk_at dksX0_support_0 0 rfl rfl)
theorem dX0_support_1 : decode cX0_support 1 = .ok (.iload_n 1, 1) := dk_27 (dk_at dksX0_support_0 1 rfl rfl)
theorem dX0_support_2 : decode cX0_support 2 = .ok (.invokevirtual 169, 3) := dk_182 0 169 (dk_at dksX0_support_0 2 rfl rfl)
theorem dX0_support_5 : decode cX0_support 5 = .ok (.ifCond .eq 41, 3) := dk_153 0 41 (dk_at dksX0_support_0 5 rfl rfl)
theorem dX0_support_8 : decode cX0_support 8 = .ok (.iload_n 2, 1) := dk_28 (dk_at dksX0_support_0 8 rfl rfl)
theorem dX0_support_9 : decode cX0_support 9 = .ok (.i2l, 1) := dk_133 (dk_at dksX0_support_0 9 rfl rfl)
theorem dX0_support_10 : decode cX0_support 10 = .ok (.lconst 0, 1) := dk_9 (dk_at dksX0_support_0 10 rfl rfl)
theorem dX0_support_11 : decode cX0_support 11 = .ok (.aload_n 0, 1) := dk_42 (dk_at dksX0_support_0 11 rfl rfl)
theorem dX0_support_12 : decode cX0_support 12 = .ok (.iload_n 1, 1) := dk_27 (dk_at dksX0_support_0 12 rfl rfl)
theorem dX0_support_13 : decode cX0_support 13 = .ok (.invokevirtual 127, 3) := dk_182 0 127 (dk_at dksX0_support_0 13 rfl rfl)
theorem dX0_support_16 : decode cX0_support 16 = .ok (.arraylength, 1) := dk_190 (dk_at dksX0_support_0 16 rfl rfl)
theorem dX0_support_17 : decode cX0_support 17 = .ok (.iconst 1, 1) := dk_4 (dk_at dksX0_support_0 17 rfl rfl)
theorem dX0_support_18 : decode cX0_support 18 = .ok (.isub, 1) := dk_100 (dk_at dksX0_support_0 18 rfl rfl)
theorem dX0_support_19 : decode cX0_support 19 = .ok (.i2l, 1) := dk_133 (dk_at dksX0_support_0 19 rfl rfl)
theorem dX0_support_20 : decode cX0_support 20 = .ok (.invokestatic 5, 3) := dk_184 0 5 (dk_at dksX0_support_0 20 rfl rfl)
theorem dX0_support_23 : decode cX0_support 23 = .ok (.ifCond .eq 23, 3) := dk_153 0 23 (dk_at dksX0_support_1 0 rfl rfl)
theorem dX0_support_26 : decode cX0_support 26 = .ok (.aload_n 0, 1) := dk_42 (dk_at dksX0_support_1 3 rfl rfl)
theorem dX0_support_27 : decode cX0_support 27 = .ok (.getfield 46, 3) := dk_180 0 46 (dk_at dksX0_support_1 4 rfl rfl)
theorem dX0_support_30 : decode cX0_support 30 = .ok (.getfield 124, 3) := dk_180 0 124 (dk_at dksX0_support_1 7 rfl rfl)
theorem dX0_support_33 : decode cX0_support 33 = .ok (.aload_n 0, 1) := dk_42 (dk_at dksX0_support_1 10 rfl rfl)
theorem dX0_support_34 : decode cX0_support 34 = .ok (.iload_n 1, 1) := dk_27 (dk_at dksX0_support_1 11 rfl rfl)
theorem dX0_support_35 : decode cX0_support 35 = .ok (.invokevirtual 127, 3) := dk_182 0 127 (dk_at dksX0_support_1 12 rfl rfl)
theorem dX0_support_38 : decode cX0_support 38 = .ok (.iload_n 2, 1) := dk_28 (dk_at dksX0_support_1 15 rfl rfl)
theorem dX0_support_39 : decode cX0_support 39 = .ok (.iconst (-1), 1) := dk_2 (dk_at dksX0_support_1 16 rfl rfl)
theorem dX0_support_40 : decode cX0_support 40 = .ok (.invokevirtual 215, 3) := dk_182 0 215 (dk_at dksX0_support_1 17 rfl rfl)
theorem dX0_support_43 : decode cX0_support 43 = .ok (.goto 5, 3) := dk_167 0 5 (dk_at dksX0_support_1 20 rfl rfl)
theorem dX0_support_46 : decode cX0_support 46 = .ok (.bipush (-2), 2) := dk_16 254 (dk_at dksX0_support_2 0 rfl rfl)
theorem dX0_support_48 : decode cX0_support 48 = .ok (.ireturn, 1) := dk_172 (dk_at dksX0_support_2 2 rfl rfl)
abbrev cX0_slips : ByteArray := prog_1_method_26_code
def yX0_slips : MethodName := ⟨RX0, "slips", "(I)I"⟩
def dkwX0_slips_1 : List UInt8 := [167, 0, 5, 16, 254, 172]
abbrev dktX0_slips_1 : List UInt8 := dkwX0_slips_1 ++ []
def dkwX0_slips_0 : List UInt8 := [42, 27, 182, 0, 169, 153, 0, 22, 42, 180, 0, 46, 180, 0, 124, 42, 27, 182, 0, 127, 2, 182, 0, 131]
abbrev dktX0_slips_0 : List UInt8 := dkwX0_slips_0 ++ dktX0_slips_1
theorem dksX0_slips_0 : cX0_slips.data.toList.drop 0 = dktX0_slips_0 := by decide +kernel
theorem dksX0_slips_1 : cX0_slips.data.toList.drop 24 = dktX0_slips_1 := dk_seg dksX0_slips_0 24 rfl rfl
theorem dX0_slips_0 : decode cX0_slips 0 = .ok (.aload_n 0, 1) := dk_42 (dk_at dksX0_slips_0 0 rfl rfl)
theorem dX0_slips_1 : decode cX0_slips 1 = .ok (.iload_n 1, 1) := dk_27 (dk_at dksX0_slips_0 1 rfl rfl)
theorem dX0_slips_2 : decode cX0_slips 2 = .ok (.invokevirtual 169, 3) := dk_182 0 169 (dk_at dksX0_slips_0 2 rfl rfl)
theorem dX0_slips_5 : decode cX0_slips 5 = .ok (.ifCond .eq 22, 3) := dk_153 0 22 (dk_at dksX0_slips_0 5 rfl rfl)
theorem dX0_slips_8 : decode cX0_slips 8 = .ok (.aload_n 0, 1) := dk_42 (dk_at dksX0_slips_0 8 rfl rfl)
theorem dX0_slips_9 : decode cX0_slips 9 = .ok (.getfield 46, 3) := dk_180 0 46 (dk_at dksX0_slips_0 9 rfl rfl)
theorem dX0_slips_12 : decode cX0_slips 12 = .ok (.getfield 124, 3) := dk_180 0 124 (dk_at dksX0_slips_0 12 rfl rfl)
theorem dX0_slips_15 : decode cX0_slips 15 = .ok (.aload_n 0, 1) := dk_42 (dk_at dksX0_slips_0 15 rfl rfl)
theorem dX0_slips_16 : decode cX0_slips 16 = .ok (.iload_n 1, 1) := dk_27 (dk_at dksX0_slips_0 16 rfl rfl)
theorem dX0_slips_17 : decode cX0_slips 17 = .ok (.invokevirtual 127, 3) := dk_182 0 127 (dk_at dksX0_slips_0 17 rfl rfl)
theorem dX0_slips_20 : decode cX0_slips 20 = .ok (.iconst (-1), 1) := dk_2 (dk_at dksX0_slips_0 20 rfl rfl)
theorem dX0_slips_21 : decode cX0_slips 21 = .ok (.invokevirtual 131, 3) := dk_182 0 131 (dk_at dksX0_slips_0 21 rfl rfl)
theorem dX0_slips_24 : decode cX0_slips 24 = .ok (.goto 5, 3) := dk_167 0 5 (dk_at dksX0_slips_1 0 rfl rfl)
theorem dX0_slips_27 : decode cX0_slips 27 = .ok (.bipush (-2), 2) := dk_16 254 (dk_at dksX0_slips_1 3 rfl rfl)
theorem dX0_slips_29 : decode cX0_slips 29 = .ok (.ireturn, 1) := dk_172 (dk_at dksX0_slips_1 5 rfl rfl)
abbrev cX0_law : ByteArray := prog_1_method_27_code
def yX0_law : MethodName := ⟨RX0, "law", "(IIII)J"⟩
def dkwX0_law_2 : List UInt8 := [180, 0, 46, 180, 0, 124, 27, 28, 29, 21, 4, 182, 0, 225, 173]
abbrev dktX0_law_2 : List UInt8 := dkwX0_law_2 ++ []
def dkwX0_law_1 : List UInt8 := [20, 0, 221, 184, 0, 5, 153, 0, 12, 42, 21, 4, 182, 0, 203, 154, 0, 7, 20, 0, 223, 173, 42]
abbrev dktX0_law_1 : List UInt8 := dkwX0_law_1 ++ dktX0_law_2
def dkwX0_law_0 : List UInt8 := [27, 133, 9, 20, 0, 219, 184, 0, 5, 153, 0, 31, 28, 184, 0, 200, 153, 0, 24, 29, 133, 9]
abbrev dktX0_law_0 : List UInt8 := dkwX0_law_0 ++ dktX0_law_1
theorem dksX0_law_0 : cX0_law.data.toList.drop 0 = dktX0_law_0 := by decide +kernel
theorem dksX0_law_1 : cX0_law.data.toList.drop 22 = dktX0_law_1 := dk_seg dksX0_law_0 22 rfl rfl
theorem dksX0_law_2 : cX0_law.data.toList.drop 45 = dktX0_law_2 := dk_seg dksX0_law_1 23 rfl rfl
theorem dX0_law_0 : decode cX0_law 0 = .ok (.iload_n 1, 1) := dk_27 (dk_at dksX0_law_0 0 rfl rfl)
theorem dX0_law_1 : decode cX0_law 1 = .ok (.i2l, 1) := dk_133 (dk_at dksX0_law_0 1 rfl rfl)
theorem dX0_law_2 : decode cX0_law 2 = .ok (.lconst 0, 1) := dk_9 (dk_at dksX0_law_0 2 rfl rfl)
theorem dX0_law_3 : decode cX0_law 3 = .ok (.ldc2_w 219, 3) := dk_20 0 219 (dk_at dksX0_law_0 3 rfl rfl)
theorem dX0_law_6 : decode cX0_law 6 = .ok (.invokestatic 5, 3) := dk_184 0 5 (dk_at dksX0_law_0 6 rfl rfl)
theorem dX0_law_9 : decode cX0_law 9 = .ok (.ifCond .eq 31, 3) := dk_153 0 31 (dk_at dksX0_law_0 9 rfl rfl)
theorem dX0_law_12 : decode cX0_law 12 = .ok (.iload_n 2, 1) := dk_28 (dk_at dksX0_law_0 12 rfl rfl)
theorem dX0_law_13 : decode cX0_law 13 = .ok (.invokestatic 200, 3) := dk_184 0 200 (dk_at dksX0_law_0 13 rfl rfl)
theorem dX0_law_16 : decode cX0_law 16 = .ok (.ifCond .eq 24, 3) := dk_153 0 24 (dk_at dksX0_law_0 16 rfl rfl)
theorem dX0_law_19 : decode cX0_law 19 = .ok (.iload_n 3, 1) := dk_29 (dk_at dksX0_law_0 19 rfl rfl)
theorem dX0_law_20 : decode cX0_law 20 = .ok (.i2l, 1) := dk_133 (dk_at dksX0_law_0 20 rfl rfl)
theorem dX0_law_21 : decode cX0_law 21 = .ok (.lconst 0, 1) := dk_9 (dk_at dksX0_law_0 21 rfl rfl)
theorem dX0_law_22 : decode cX0_law 22 = .ok (.ldc2_w 221, 3) := dk_20 0 221 (dk_at dksX0_law_1 0 rfl rfl)
theorem dX0_law_25 : decode cX0_law 25 = .ok (.invokestatic 5, 3) := dk_184 0 5 (dk_at dksX0_law_1 3 rfl rfl)
theorem dX0_law_28 : decode cX0_law 28 = .ok (.ifCond .eq 12, 3) := dk_153 0 12 (dk_at dksX0_law_1 6 rfl rfl)
theorem dX0_law_31 : decode cX0_law 31 = .ok (.aload_n 0, 1) := dk_42 (dk_at dksX0_law_1 9 rfl rfl)
theorem dX0_law_32 : decode cX0_law 32 = .ok (.iload 4, 2) := dk_21 4 (dk_at dksX0_law_1 10 rfl rfl)
theorem dX0_law_34 : decode cX0_law 34 = .ok (.invokevirtual 203, 3) := dk_182 0 203 (dk_at dksX0_law_1 12 rfl rfl)
theorem dX0_law_37 : decode cX0_law 37 = .ok (.ifCond .ne 7, 3) := dk_154 0 7 (dk_at dksX0_law_1 15 rfl rfl)
theorem dX0_law_40 : decode cX0_law 40 = .ok (.ldc2_w 223, 3) := dk_20 0 223 (dk_at dksX0_law_1 18 rfl rfl)
theorem dX0_law_43 : decode cX0_law 43 = .ok (.lreturn, 1) := dk_173 (dk_at dksX0_law_1 21 rfl rfl)
theorem dX0_law_44 : decode cX0_law 44 = .ok (.aload_n 0, 1) := dk_42 (dk_at dksX0_law_1 22 rfl rfl)
theorem dX0_law_45 : decode cX0_law 45 = .ok (.getfield 46, 3) := dk_180 0 46 (dk_at dksX0_law_2 0 rfl rfl)
theorem dX0_law_48 : decode cX0_law 48 = .ok (.getfield 124, 3) := dk_180 0 124 (dk_at dksX0_law_2 3 rfl rfl)
theorem dX0_law_51 : decode cX0_law 51 = .ok (.iload_n 1, 1) := dk_27 (dk_at dksX0_law_2 6 rfl rfl)
theorem dX0_law_52 : decode cX0_law 52 = .ok (.iload_n 2, 1) := dk_28 (dk_at dksX0_law_2 7 rfl rfl)
theorem dX0_law_53 : decode cX0_law 53 = .ok (.iload_n 3, 1) := dk_29 (dk_at dksX0_law_2 8 rfl rfl)
theorem dX0_law_54 : decode cX0_law 54 = .ok (.iload 4, 2) := dk_21 4 (dk_at dksX0_law_2 9 rfl rfl)
theorem dX0_law_56 : decode cX0_law 56 = .ok (.invokevirtual 225, 3) := dk_182 0 225 (dk_at dksX0_law_2 11 rfl rfl)
theorem dX0_law_59 : decode cX0_law 59 = .ok (.lreturn, 1) := dk_173 (dk_at dksX0_law_2 14 rfl rfl)
abbrev cX0_forget : ByteArray := prog_1_method_28_code
def yX0_forget : MethodName := ⟨RX0, "forget", "()I"⟩
def dkwX0_forget_1 : List UInt8 := [132, 2, 1, 167, 255, 234, 42, 180, 0, 46, 182, 0, 229, 27, 172]
abbrev dktX0_forget_1 : List UInt8 := dkwX0_forget_1 ++ []
def dkwX0_forget_0 : List UInt8 := [3, 60, 3, 61, 28, 7, 162, 0, 23, 27, 42, 180, 0, 46, 180, 0, 124, 28, 182, 0, 212, 96, 60]
abbrev dktX0_forget_0 : List UInt8 := dkwX0_forget_0 ++ dktX0_forget_1
theorem dksX0_forget_0 : cX0_forget.data.toList.drop 0 = dktX0_forget_0 := by decide +kernel
theorem dksX0_forget_1 : cX0_forget.data.toList.drop 23 = dktX0_forget_1 := dk_seg dksX0_forget_0 23 rfl rfl
theorem dX0_forget_0 : decode cX0_forget 0 = .ok (.iconst 0, 1) := dk_3 (dk_at dksX0_forget_0 0 rfl rfl)
theorem dX0_forget_1 : decode cX0_forget 1 = .ok (.istore_n 1, 1) := dk_60 (dk_at dksX0_forget_0 1 rfl rfl)
theorem dX0_forget_2 : decode cX0_forget 2 = .ok (.iconst 0, 1) := dk_3 (dk_at dksX0_forget_0 2 rfl rfl)
theorem dX0_forget_3 : decode cX0_forget 3 = .ok (.istore_n 2, 1) := dk_61 (dk_at dksX0_forget_0 3 rfl rfl)
theorem dX0_forget_4 : decode cX0_forget 4 = .ok (.iload_n 2, 1) := dk_28 (dk_at dksX0_forget_0 4 rfl rfl)
theorem dX0_forget_5 : decode cX0_forget 5 = .ok (.iconst 4, 1) := dk_7 (dk_at dksX0_forget_0 5 rfl rfl)
theorem dX0_forget_6 : decode cX0_forget 6 = .ok (.if_icmp .ge 23, 3) := dk_162 0 23 (dk_at dksX0_forget_0 6 rfl rfl)
theorem dX0_forget_9 : decode cX0_forget 9 = .ok (.iload_n 1, 1) := dk_27 (dk_at dksX0_forget_0 9 rfl rfl)
theorem dX0_forget_10 : decode cX0_forget 10 = .ok (.aload_n 0, 1) := dk_42 (dk_at dksX0_forget_0 10 rfl rfl)
theorem dX0_forget_11 : decode cX0_forget 11 = .ok (.getfield 46, 3) := dk_180 0 46 (dk_at dksX0_forget_0 11 rfl rfl)
theorem dX0_forget_14 : decode cX0_forget 14 = .ok (.getfield 124, 3) := dk_180 0 124 (dk_at dksX0_forget_0 14 rfl rfl)
theorem dX0_forget_17 : decode cX0_forget 17 = .ok (.iload_n 2, 1) := dk_28 (dk_at dksX0_forget_0 17 rfl rfl)
theorem dX0_forget_18 : decode cX0_forget 18 = .ok (.invokevirtual 212, 3) := dk_182 0 212 (dk_at dksX0_forget_0 18 rfl rfl)
theorem dX0_forget_21 : decode cX0_forget 21 = .ok (.iadd, 1) := dk_96 (dk_at dksX0_forget_0 21 rfl rfl)
theorem dX0_forget_22 : decode cX0_forget 22 = .ok (.istore_n 1, 1) := dk_60 (dk_at dksX0_forget_0 22 rfl rfl)
theorem dX0_forget_23 : decode cX0_forget 23 = .ok (.iinc 2 1, 3) := dk_132 2 1 (dk_at dksX0_forget_1 0 rfl rfl)
theorem dX0_forget_26 : decode cX0_forget 26 = .ok (.goto (-22), 3) := dk_167 255 234 (dk_at dksX0_forget_1 3 rfl rfl)
theorem dX0_forget_29 : decode cX0_forget 29 = .ok (.aload_n 0, 1) := dk_42 (dk_at dksX0_forget_1 6 rfl rfl)
theorem dX0_forget_30 : decode cX0_forget 30 = .ok (.getfield 46, 3) := dk_180 0 46 (dk_at dksX0_forget_1 7 rfl rfl)
theorem dX0_forget_33 : decode cX0_forget 33 = .ok (.invokevirtual 229, 3) := dk_182 0 229 (dk_at dksX0_forget_1 10 rfl rfl)
theorem dX0_forget_36 : decode cX0_forget 36 = .ok (.iload_n 1, 1) := dk_27 (dk_at dksX0_forget_1 13 rfl rfl)
theorem dX0_forget_37 : decode cX0_forget 37 = .ok (.ireturn, 1) := dk_172 (dk_at dksX0_forget_1 14 rfl rfl)
abbrev cX0_needs : ByteArray := prog_1_method_32_code
def yX0_needs : MethodName := ⟨RX0, "needs", "(I)I"⟩
def dkwX0_needs_0 : List UInt8 := [42, 27, 182, 0, 169, 153, 0, 12, 42, 27, 3, 182, 0, 244, 167, 0, 5, 16, 254, 172]
abbrev dktX0_needs_0 : List UInt8 := dkwX0_needs_0 ++ []
theorem dksX0_needs_0 : cX0_needs.data.toList.drop 0 = dktX0_needs_0 := by decide +kernel
theorem dX0_needs_0 : decode cX0_needs 0 = .ok (.aload_n 0, 1) := dk_42 (dk_at dksX0_needs_0 0 rfl rfl)
theorem dX0_needs_1 : decode cX0_needs 1 = .ok (.iload_n 1, 1) := dk_27 (dk_at dksX0_needs_0 1 rfl rfl)
theorem dX0_needs_2 : decode cX0_needs 2 = .ok (.invokevirtual 169, 3) := dk_182 0 169 (dk_at dksX0_needs_0 2 rfl rfl)
theorem dX0_needs_5 : decode cX0_needs 5 = .ok (.ifCond .eq 12, 3) := dk_153 0 12 (dk_at dksX0_needs_0 5 rfl rfl)
theorem dX0_needs_8 : decode cX0_needs 8 = .ok (.aload_n 0, 1) := dk_42 (dk_at dksX0_needs_0 8 rfl rfl)
theorem dX0_needs_9 : decode cX0_needs 9 = .ok (.iload_n 1, 1) := dk_27 (dk_at dksX0_needs_0 9 rfl rfl)
theorem dX0_needs_10 : decode cX0_needs 10 = .ok (.iconst 0, 1) := dk_3 (dk_at dksX0_needs_0 10 rfl rfl)
theorem dX0_needs_11 : decode cX0_needs 11 = .ok (.invokevirtual 244, 3) := dk_182 0 244 (dk_at dksX0_needs_0 11 rfl rfl)
theorem dX0_needs_14 : decode cX0_needs 14 = .ok (.goto 5, 3) := dk_167 0 5 (dk_at dksX0_needs_0 14 rfl rfl)
theorem dX0_needs_17 : decode cX0_needs 17 = .ok (.bipush (-2), 2) := dk_16 254 (dk_at dksX0_needs_0 17 rfl rfl)
theorem dX0_needs_19 : decode cX0_needs 19 = .ok (.ireturn, 1) := dk_172 (dk_at dksX0_needs_0 19 rfl rfl)
abbrev cX0_needsOf : ByteArray := prog_1_method_30_code
def yX0_needsOf : MethodName := ⟨RX0, "needsOf", "(II)I"⟩
def dkwX0_needsOf_0 : List UInt8 := [42, 182, 0, 236, 28, 182, 0, 188, 42, 180, 0, 57, 42, 27, 182, 0, 127, 2, 182, 0, 182, 172]
abbrev dktX0_needsOf_0 : List UInt8 := dkwX0_needsOf_0 ++ []
theorem dksX0_needsOf_0 : cX0_needsOf.data.toList.drop 0 = dktX0_needsOf_0 := by decide +kernel
theorem dX0_needsOf_0 : decode cX0_needsOf 0 = .ok (.aload_n 0, 1) := dk_42 (dk_at dksX0_needsOf_0 0 rfl rfl)
theorem dX0_needsOf_1 : decode cX0_needsOf 1 = .ok (.invokevirtual 236, 3) := dk_182 0 236 (dk_at dksX0_needsOf_0 1 rfl rfl)
theorem dX0_needsOf_4 : decode cX0_needsOf 4 = .ok (.iload_n 2, 1) := dk_28 (dk_at dksX0_needsOf_0 4 rfl rfl)
theorem dX0_needsOf_5 : decode cX0_needsOf 5 = .ok (.invokevirtual 188, 3) := dk_182 0 188 (dk_at dksX0_needsOf_0 5 rfl rfl)
theorem dX0_needsOf_8 : decode cX0_needsOf 8 = .ok (.aload_n 0, 1) := dk_42 (dk_at dksX0_needsOf_0 8 rfl rfl)
theorem dX0_needsOf_9 : decode cX0_needsOf 9 = .ok (.getfield 57, 3) := dk_180 0 57 (dk_at dksX0_needsOf_0 9 rfl rfl)
theorem dX0_needsOf_12 : decode cX0_needsOf 12 = .ok (.aload_n 0, 1) := dk_42 (dk_at dksX0_needsOf_0 12 rfl rfl)
theorem dX0_needsOf_13 : decode cX0_needsOf 13 = .ok (.iload_n 1, 1) := dk_27 (dk_at dksX0_needsOf_0 13 rfl rfl)
theorem dX0_needsOf_14 : decode cX0_needsOf 14 = .ok (.invokevirtual 127, 3) := dk_182 0 127 (dk_at dksX0_needsOf_0 14 rfl rfl)
theorem dX0_needsOf_17 : decode cX0_needsOf 17 = .ok (.iconst (-1), 1) := dk_2 (dk_at dksX0_needsOf_0 17 rfl rfl)
theorem dX0_needsOf_18 : decode cX0_needsOf 18 = .ok (.invokevirtual 182, 3) := dk_182 0 182 (dk_at dksX0_needsOf_0 18 rfl rfl)
theorem dX0_needsOf_21 : decode cX0_needsOf 21 = .ok (.ireturn, 1) := dk_172 (dk_at dksX0_needsOf_0 21 rfl rfl)
abbrev cX0_onPaper : ByteArray := prog_1_method_29_code
def yX0_onPaper : MethodName := ⟨RX0, "onPaper", "()LNonsenseRows$Head;"⟩
def dkwX0_onPaper_0 : List UInt8 := [42, 180, 0, 57, 42, 180, 0, 46, 180, 0, 124, 182, 0, 232, 42, 180, 0, 57, 176]
abbrev dktX0_onPaper_0 : List UInt8 := dkwX0_onPaper_0 ++ []
theorem dksX0_onPaper_0 : cX0_onPaper.data.toList.drop 0 = dktX0_onPaper_0 := by decide +kernel
theorem dX0_onPaper_0 : decode cX0_onPaper 0 = .ok (.aload_n 0, 1) := dk_42 (dk_at dksX0_onPaper_0 0 rfl rfl)
theorem dX0_onPaper_1 : decode cX0_onPaper 1 = .ok (.getfield 57, 3) := dk_180 0 57 (dk_at dksX0_onPaper_0 1 rfl rfl)
theorem dX0_onPaper_4 : decode cX0_onPaper 4 = .ok (.aload_n 0, 1) := dk_42 (dk_at dksX0_onPaper_0 4 rfl rfl)
theorem dX0_onPaper_5 : decode cX0_onPaper 5 = .ok (.getfield 46, 3) := dk_180 0 46 (dk_at dksX0_onPaper_0 5 rfl rfl)
theorem dX0_onPaper_8 : decode cX0_onPaper 8 = .ok (.getfield 124, 3) := dk_180 0 124 (dk_at dksX0_onPaper_0 8 rfl rfl)
theorem dX0_onPaper_11 : decode cX0_onPaper 11 = .ok (.invokevirtual 232, 3) := dk_182 0 232 (dk_at dksX0_onPaper_0 11 rfl rfl)
theorem dX0_onPaper_14 : decode cX0_onPaper 14 = .ok (.aload_n 0, 1) := dk_42 (dk_at dksX0_onPaper_0 14 rfl rfl)
theorem dX0_onPaper_15 : decode cX0_onPaper 15 = .ok (.getfield 57, 3) := dk_180 0 57 (dk_at dksX0_onPaper_0 15 rfl rfl)
theorem dX0_onPaper_18 : decode cX0_onPaper 18 = .ok (.areturn, 1) := dk_176 (dk_at dksX0_onPaper_0 18 rfl rfl)
abbrev cX0_fresh : ByteArray := prog_1_method_33_code
def yX0_fresh : MethodName := ⟨RX0, "fresh", "(I)I"⟩
def dkwX0_fresh_0 : List UInt8 := [42, 27, 182, 0, 169, 153, 0, 12, 42, 27, 3, 182, 0, 248, 167, 0, 5, 16, 254, 172]
abbrev dktX0_fresh_0 : List UInt8 := dkwX0_fresh_0 ++ []
theorem dksX0_fresh_0 : cX0_fresh.data.toList.drop 0 = dktX0_fresh_0 := by decide +kernel
theorem dX0_fresh_0 : decode cX0_fresh 0 = .ok (.aload_n 0, 1) := dk_42 (dk_at dksX0_fresh_0 0 rfl rfl)
theorem dX0_fresh_1 : decode cX0_fresh 1 = .ok (.iload_n 1, 1) := dk_27 (dk_at dksX0_fresh_0 1 rfl rfl)
theorem dX0_fresh_2 : decode cX0_fresh 2 = .ok (.invokevirtual 169, 3) := dk_182 0 169 (dk_at dksX0_fresh_0 2 rfl rfl)
theorem dX0_fresh_5 : decode cX0_fresh 5 = .ok (.ifCond .eq 12, 3) := dk_153 0 12 (dk_at dksX0_fresh_0 5 rfl rfl)
theorem dX0_fresh_8 : decode cX0_fresh 8 = .ok (.aload_n 0, 1) := dk_42 (dk_at dksX0_fresh_0 8 rfl rfl)
theorem dX0_fresh_9 : decode cX0_fresh 9 = .ok (.iload_n 1, 1) := dk_27 (dk_at dksX0_fresh_0 9 rfl rfl)
theorem dX0_fresh_10 : decode cX0_fresh 10 = .ok (.iconst 0, 1) := dk_3 (dk_at dksX0_fresh_0 10 rfl rfl)
theorem dX0_fresh_11 : decode cX0_fresh 11 = .ok (.invokevirtual 248, 3) := dk_182 0 248 (dk_at dksX0_fresh_0 11 rfl rfl)
theorem dX0_fresh_14 : decode cX0_fresh 14 = .ok (.goto 5, 3) := dk_167 0 5 (dk_at dksX0_fresh_0 14 rfl rfl)
theorem dX0_fresh_17 : decode cX0_fresh 17 = .ok (.bipush (-2), 2) := dk_16 254 (dk_at dksX0_fresh_0 17 rfl rfl)
theorem dX0_fresh_19 : decode cX0_fresh 19 = .ok (.ireturn, 1) := dk_172 (dk_at dksX0_fresh_0 19 rfl rfl)
abbrev cX0_freshOf : ByteArray := prog_1_method_31_code
def yX0_freshOf : MethodName := ⟨RX0, "freshOf", "(II)I"⟩
def dkwX0_freshOf_1 : List UInt8 := [3, 181, 0, 241, 42, 180, 0, 57, 42, 27, 182, 0, 127, 2, 182, 0, 182, 172]
abbrev dktX0_freshOf_1 : List UInt8 := dkwX0_freshOf_1 ++ []
def dkwX0_freshOf_0 : List UInt8 := [42, 182, 0, 236, 182, 0, 240, 42, 180, 0, 57, 89, 180, 0, 153, 28, 96, 181, 0, 153, 42, 180, 0, 57]
abbrev dktX0_freshOf_0 : List UInt8 := dkwX0_freshOf_0 ++ dktX0_freshOf_1
theorem dksX0_freshOf_0 : cX0_freshOf.data.toList.drop 0 = dktX0_freshOf_0 := by decide +kernel
theorem dksX0_freshOf_1 : cX0_freshOf.data.toList.drop 24 = dktX0_freshOf_1 := dk_seg dksX0_freshOf_0 24 rfl rfl
theorem dX0_freshOf_0 : decode cX0_freshOf 0 = .ok (.aload_n 0, 1) := dk_42 (dk_at dksX0_freshOf_0 0 rfl rfl)
theorem dX0_freshOf_1 : decode cX0_freshOf 1 = .ok (.invokevirtual 236, 3) := dk_182 0 236 (dk_at dksX0_freshOf_0 1 rfl rfl)
theorem dX0_freshOf_4 : decode cX0_freshOf 4 = .ok (.invokevirtual 240, 3) := dk_182 0 240 (dk_at dksX0_freshOf_0 4 rfl rfl)
theorem dX0_freshOf_7 : decode cX0_freshOf 7 = .ok (.aload_n 0, 1) := dk_42 (dk_at dksX0_freshOf_0 7 rfl rfl)
theorem dX0_freshOf_8 : decode cX0_freshOf 8 = .ok (.getfield 57, 3) := dk_180 0 57 (dk_at dksX0_freshOf_0 8 rfl rfl)
theorem dX0_freshOf_11 : decode cX0_freshOf 11 = .ok (.dup, 1) := dk_89 (dk_at dksX0_freshOf_0 11 rfl rfl)
theorem dX0_freshOf_12 : decode cX0_freshOf 12 = .ok (.getfield 153, 3) := dk_180 0 153 (dk_at dksX0_freshOf_0 12 rfl rfl)
theorem dX0_freshOf_15 : decode cX0_freshOf 15 = .ok (.iload_n 2, 1) := dk_28 (dk_at dksX0_freshOf_0 15 rfl rfl)
theorem dX0_freshOf_16 : decode cX0_freshOf 16 = .ok (.iadd, 1) := dk_96 (dk_at dksX0_freshOf_0 16 rfl rfl)
theorem dX0_freshOf_17 : decode cX0_freshOf 17 = .ok (.putfield 153, 3) := dk_181 0 153 (dk_at dksX0_freshOf_0 17 rfl rfl)
theorem dX0_freshOf_20 : decode cX0_freshOf 20 = .ok (.aload_n 0, 1) := dk_42 (dk_at dksX0_freshOf_0 20 rfl rfl)
theorem dX0_freshOf_21 : decode cX0_freshOf 21 = .ok (.getfield 57, 3) := dk_180 0 57 (dk_at dksX0_freshOf_0 21 rfl rfl)
theorem dX0_freshOf_24 : decode cX0_freshOf 24 = .ok (.iconst 0, 1) := dk_3 (dk_at dksX0_freshOf_1 0 rfl rfl)
theorem dX0_freshOf_25 : decode cX0_freshOf 25 = .ok (.putfield 241, 3) := dk_181 0 241 (dk_at dksX0_freshOf_1 1 rfl rfl)
theorem dX0_freshOf_28 : decode cX0_freshOf 28 = .ok (.aload_n 0, 1) := dk_42 (dk_at dksX0_freshOf_1 4 rfl rfl)
theorem dX0_freshOf_29 : decode cX0_freshOf 29 = .ok (.getfield 57, 3) := dk_180 0 57 (dk_at dksX0_freshOf_1 5 rfl rfl)
theorem dX0_freshOf_32 : decode cX0_freshOf 32 = .ok (.aload_n 0, 1) := dk_42 (dk_at dksX0_freshOf_1 8 rfl rfl)
theorem dX0_freshOf_33 : decode cX0_freshOf 33 = .ok (.iload_n 1, 1) := dk_27 (dk_at dksX0_freshOf_1 9 rfl rfl)
theorem dX0_freshOf_34 : decode cX0_freshOf 34 = .ok (.invokevirtual 127, 3) := dk_182 0 127 (dk_at dksX0_freshOf_1 10 rfl rfl)
theorem dX0_freshOf_37 : decode cX0_freshOf 37 = .ok (.iconst (-1), 1) := dk_2 (dk_at dksX0_freshOf_1 13 rfl rfl)
theorem dX0_freshOf_38 : decode cX0_freshOf 38 = .ok (.invokevirtual 182, 3) := dk_182 0 182 (dk_at dksX0_freshOf_1 14 rfl rfl)
theorem dX0_freshOf_41 : decode cX0_freshOf 41 = .ok (.ireturn, 1) := dk_172 (dk_at dksX0_freshOf_1 17 rfl rfl)
abbrev cX0_saving : ByteArray := prog_1_method_34_code
def yX0_saving : MethodName := ⟨RX0, "saving", "(I)I"⟩
def dkwX0_saving_2 : List UInt8 := [108, 172]
abbrev dktX0_saving_2 : List UInt8 := dkwX0_saving_2 ++ []
def dkwX0_saving_1 : List UInt8 := [62, 28, 2, 159, 0, 8, 29, 2, 160, 0, 8, 18, 251, 167, 0, 12, 17, 3, 232, 29, 28, 100, 104, 29]
abbrev dktX0_saving_1 : List UInt8 := dkwX0_saving_1 ++ dktX0_saving_2
def dkwX0_saving_0 : List UInt8 := [42, 27, 182, 0, 169, 154, 0, 6, 18, 251, 172, 42, 27, 3, 182, 0, 244, 61, 42, 27, 3, 182, 0, 248]
abbrev dktX0_saving_0 : List UInt8 := dkwX0_saving_0 ++ dktX0_saving_1
theorem dksX0_saving_0 : cX0_saving.data.toList.drop 0 = dktX0_saving_0 := by decide +kernel
theorem dksX0_saving_1 : cX0_saving.data.toList.drop 24 = dktX0_saving_1 := dk_seg dksX0_saving_0 24 rfl rfl
theorem dksX0_saving_2 : cX0_saving.data.toList.drop 48 = dktX0_saving_2 := dk_seg dksX0_saving_1 24 rfl rfl
theorem dX0_saving_0 : decode cX0_saving 0 = .ok (.aload_n 0, 1) := dk_42 (dk_at dksX0_saving_0 0 rfl rfl)
theorem dX0_saving_1 : decode cX0_saving 1 = .ok (.iload_n 1, 1) := dk_27 (dk_at dksX0_saving_0 1 rfl rfl)
theorem dX0_saving_2 : decode cX0_saving 2 = .ok (.invokevirtual 169, 3) := dk_182 0 169 (dk_at dksX0_saving_0 2 rfl rfl)
theorem dX0_saving_5 : decode cX0_saving 5 = .ok (.ifCond .ne 6, 3) := dk_154 0 6 (dk_at dksX0_saving_0 5 rfl rfl)
theorem dX0_saving_8 : decode cX0_saving 8 = .ok (.ldc 251, 2) := dk_18 251 (dk_at dksX0_saving_0 8 rfl rfl)
theorem dX0_saving_10 : decode cX0_saving 10 = .ok (.ireturn, 1) := dk_172 (dk_at dksX0_saving_0 10 rfl rfl)
theorem dX0_saving_11 : decode cX0_saving 11 = .ok (.aload_n 0, 1) := dk_42 (dk_at dksX0_saving_0 11 rfl rfl)
theorem dX0_saving_12 : decode cX0_saving 12 = .ok (.iload_n 1, 1) := dk_27 (dk_at dksX0_saving_0 12 rfl rfl)
theorem dX0_saving_13 : decode cX0_saving 13 = .ok (.iconst 0, 1) := dk_3 (dk_at dksX0_saving_0 13 rfl rfl)
theorem dX0_saving_14 : decode cX0_saving 14 = .ok (.invokevirtual 244, 3) := dk_182 0 244 (dk_at dksX0_saving_0 14 rfl rfl)
theorem dX0_saving_17 : decode cX0_saving 17 = .ok (.istore_n 2, 1) := dk_61 (dk_at dksX0_saving_0 17 rfl rfl)
theorem dX0_saving_18 : decode cX0_saving 18 = .ok (.aload_n 0, 1) := dk_42 (dk_at dksX0_saving_0 18 rfl rfl)
theorem dX0_saving_19 : decode cX0_saving 19 = .ok (.iload_n 1, 1) := dk_27 (dk_at dksX0_saving_0 19 rfl rfl)
theorem dX0_saving_20 : decode cX0_saving 20 = .ok (.iconst 0, 1) := dk_3 (dk_at dksX0_saving_0 20 rfl rfl)
theorem dX0_saving_21 : decode cX0_saving 21 = .ok (.invokevirtual 248, 3) := dk_182 0 248 (dk_at dksX0_saving_0 21 rfl rfl)
theorem dX0_saving_24 : decode cX0_saving 24 = .ok (.istore_n 3, 1) := dk_62 (dk_at dksX0_saving_1 0 rfl rfl)
theorem dX0_saving_25 : decode cX0_saving 25 = .ok (.iload_n 2, 1) := dk_28 (dk_at dksX0_saving_1 1 rfl rfl)
theorem dX0_saving_26 : decode cX0_saving 26 = .ok (.iconst (-1), 1) := dk_2 (dk_at dksX0_saving_1 2 rfl rfl)
theorem dX0_saving_27 : decode cX0_saving 27 = .ok (.if_icmp .eq 8, 3) := dk_159 0 8 (dk_at dksX0_saving_1 3 rfl rfl)
theorem dX0_saving_30 : decode cX0_saving 30 = .ok (.iload_n 3, 1) := dk_29 (dk_at dksX0_saving_1 6 rfl rfl)
theorem dX0_saving_31 : decode cX0_saving 31 = .ok (.iconst (-1), 1) := dk_2 (dk_at dksX0_saving_1 7 rfl rfl)
theorem dX0_saving_32 : decode cX0_saving 32 = .ok (.if_icmp .ne 8, 3) := dk_160 0 8 (dk_at dksX0_saving_1 8 rfl rfl)
theorem dX0_saving_35 : decode cX0_saving 35 = .ok (.ldc 251, 2) := dk_18 251 (dk_at dksX0_saving_1 11 rfl rfl)
theorem dX0_saving_37 : decode cX0_saving 37 = .ok (.goto 12, 3) := dk_167 0 12 (dk_at dksX0_saving_1 13 rfl rfl)
theorem dX0_saving_40 : decode cX0_saving 40 = .ok (.sipush 1000, 3) := dk_17 3 232 (dk_at dksX0_saving_1 16 rfl rfl)
theorem dX0_saving_43 : decode cX0_saving 43 = .ok (.iload_n 3, 1) := dk_29 (dk_at dksX0_saving_1 19 rfl rfl)
theorem dX0_saving_44 : decode cX0_saving 44 = .ok (.iload_n 2, 1) := dk_28 (dk_at dksX0_saving_1 20 rfl rfl)
theorem dX0_saving_45 : decode cX0_saving 45 = .ok (.isub, 1) := dk_100 (dk_at dksX0_saving_1 21 rfl rfl)
theorem dX0_saving_46 : decode cX0_saving 46 = .ok (.imul, 1) := dk_104 (dk_at dksX0_saving_1 22 rfl rfl)
theorem dX0_saving_47 : decode cX0_saving 47 = .ok (.iload_n 3, 1) := dk_29 (dk_at dksX0_saving_1 23 rfl rfl)
theorem dX0_saving_48 : decode cX0_saving 48 = .ok (.idiv, 1) := dk_108 (dk_at dksX0_saving_2 0 rfl rfl)
theorem dX0_saving_49 : decode cX0_saving 49 = .ok (.ireturn, 1) := dk_172 (dk_at dksX0_saving_2 1 rfl rfl)
abbrev cX0_after : ByteArray := prog_1_method_35_code
def yX0_after : MethodName := ⟨RX0, "after", "(II)I"⟩
def dkwX0_after_1 : List UInt8 := [16, 254, 172]
abbrev dktX0_after_1 : List UInt8 := dkwX0_after_1 ++ []
def dkwX0_after_0 : List UInt8 := [42, 27, 182, 0, 169, 153, 0, 19, 28, 184, 0, 185, 153, 0, 12, 42, 27, 28, 182, 0, 244, 167, 0, 5]
abbrev dktX0_after_0 : List UInt8 := dkwX0_after_0 ++ dktX0_after_1
theorem dksX0_after_0 : cX0_after.data.toList.drop 0 = dktX0_after_0 := by decide +kernel
theorem dksX0_after_1 : cX0_after.data.toList.drop 24 = dktX0_after_1 := dk_seg dksX0_after_0 24 rfl rfl
theorem dX0_after_0 : decode cX0_after 0 = .ok (.aload_n 0, 1) := dk_42 (dk_at dksX0_after_0 0 rfl rfl)
theorem dX0_after_1 : decode cX0_after 1 = .ok (.iload_n 1, 1) := dk_27 (dk_at dksX0_after_0 1 rfl rfl)
theorem dX0_after_2 : decode cX0_after 2 = .ok (.invokevirtual 169, 3) := dk_182 0 169 (dk_at dksX0_after_0 2 rfl rfl)
theorem dX0_after_5 : decode cX0_after 5 = .ok (.ifCond .eq 19, 3) := dk_153 0 19 (dk_at dksX0_after_0 5 rfl rfl)
theorem dX0_after_8 : decode cX0_after 8 = .ok (.iload_n 2, 1) := dk_28 (dk_at dksX0_after_0 8 rfl rfl)
theorem dX0_after_9 : decode cX0_after 9 = .ok (.invokestatic 185, 3) := dk_184 0 185 (dk_at dksX0_after_0 9 rfl rfl)
theorem dX0_after_12 : decode cX0_after 12 = .ok (.ifCond .eq 12, 3) := dk_153 0 12 (dk_at dksX0_after_0 12 rfl rfl)
theorem dX0_after_15 : decode cX0_after 15 = .ok (.aload_n 0, 1) := dk_42 (dk_at dksX0_after_0 15 rfl rfl)
theorem dX0_after_16 : decode cX0_after 16 = .ok (.iload_n 1, 1) := dk_27 (dk_at dksX0_after_0 16 rfl rfl)
theorem dX0_after_17 : decode cX0_after 17 = .ok (.iload_n 2, 1) := dk_28 (dk_at dksX0_after_0 17 rfl rfl)
theorem dX0_after_18 : decode cX0_after 18 = .ok (.invokevirtual 244, 3) := dk_182 0 244 (dk_at dksX0_after_0 18 rfl rfl)
theorem dX0_after_21 : decode cX0_after 21 = .ok (.goto 5, 3) := dk_167 0 5 (dk_at dksX0_after_0 21 rfl rfl)
theorem dX0_after_24 : decode cX0_after 24 = .ok (.bipush (-2), 2) := dk_16 254 (dk_at dksX0_after_1 0 rfl rfl)
theorem dX0_after_26 : decode cX0_after 26 = .ok (.ireturn, 1) := dk_172 (dk_at dksX0_after_1 2 rfl rfl)
abbrev cX0_lasts : ByteArray := prog_1_method_36_code
def yX0_lasts : MethodName := ⟨RX0, "lasts", "(I)I"⟩
def dkwX0_lasts_2 : List UInt8 := [180, 0, 57, 4, 182, 0, 188, 132, 2, 1, 167, 255, 220, 2, 172]
abbrev dktX0_lasts_2 : List UInt8 := dkwX0_lasts_2 ++ []
def dkwX0_lasts_1 : List UInt8 := [163, 0, 35, 42, 180, 0, 57, 42, 27, 182, 0, 127, 2, 182, 0, 131, 153, 0, 5, 28, 172, 42]
abbrev dktX0_lasts_1 : List UInt8 := dkwX0_lasts_1 ++ dktX0_lasts_2
def dkwX0_lasts_0 : List UInt8 := [42, 27, 182, 0, 169, 154, 0, 6, 16, 254, 172, 42, 182, 0, 236, 87, 3, 61, 28, 17, 0, 200]
abbrev dktX0_lasts_0 : List UInt8 := dkwX0_lasts_0 ++ dktX0_lasts_1
theorem dksX0_lasts_0 : cX0_lasts.data.toList.drop 0 = dktX0_lasts_0 := by decide +kernel
theorem dksX0_lasts_1 : cX0_lasts.data.toList.drop 22 = dktX0_lasts_1 := dk_seg dksX0_lasts_0 22 rfl rfl
theorem dksX0_lasts_2 : cX0_lasts.data.toList.drop 44 = dktX0_lasts_2 := dk_seg dksX0_lasts_1 22 rfl rfl
theorem dX0_lasts_0 : decode cX0_lasts 0 = .ok (.aload_n 0, 1) := dk_42 (dk_at dksX0_lasts_0 0 rfl rfl)
theorem dX0_lasts_1 : decode cX0_lasts 1 = .ok (.iload_n 1, 1) := dk_27 (dk_at dksX0_lasts_0 1 rfl rfl)
theorem dX0_lasts_2 : decode cX0_lasts 2 = .ok (.invokevirtual 169, 3) := dk_182 0 169 (dk_at dksX0_lasts_0 2 rfl rfl)
theorem dX0_lasts_5 : decode cX0_lasts 5 = .ok (.ifCond .ne 6, 3) := dk_154 0 6 (dk_at dksX0_lasts_0 5 rfl rfl)
theorem dX0_lasts_8 : decode cX0_lasts 8 = .ok (.bipush (-2), 2) := dk_16 254 (dk_at dksX0_lasts_0 8 rfl rfl)
theorem dX0_lasts_10 : decode cX0_lasts 10 = .ok (.ireturn, 1) := dk_172 (dk_at dksX0_lasts_0 10 rfl rfl)
theorem dX0_lasts_11 : decode cX0_lasts 11 = .ok (.aload_n 0, 1) := dk_42 (dk_at dksX0_lasts_0 11 rfl rfl)
theorem dX0_lasts_12 : decode cX0_lasts 12 = .ok (.invokevirtual 236, 3) := dk_182 0 236 (dk_at dksX0_lasts_0 12 rfl rfl)
theorem dX0_lasts_15 : decode cX0_lasts 15 = .ok (.pop, 1) := dk_87 (dk_at dksX0_lasts_0 15 rfl rfl)
theorem dX0_lasts_16 : decode cX0_lasts 16 = .ok (.iconst 0, 1) := dk_3 (dk_at dksX0_lasts_0 16 rfl rfl)
theorem dX0_lasts_17 : decode cX0_lasts 17 = .ok (.istore_n 2, 1) := dk_61 (dk_at dksX0_lasts_0 17 rfl rfl)
theorem dX0_lasts_18 : decode cX0_lasts 18 = .ok (.iload_n 2, 1) := dk_28 (dk_at dksX0_lasts_0 18 rfl rfl)
theorem dX0_lasts_19 : decode cX0_lasts 19 = .ok (.sipush 200, 3) := dk_17 0 200 (dk_at dksX0_lasts_0 19 rfl rfl)
theorem dX0_lasts_22 : decode cX0_lasts 22 = .ok (.if_icmp .gt 35, 3) := dk_163 0 35 (dk_at dksX0_lasts_1 0 rfl rfl)
theorem dX0_lasts_25 : decode cX0_lasts 25 = .ok (.aload_n 0, 1) := dk_42 (dk_at dksX0_lasts_1 3 rfl rfl)
theorem dX0_lasts_26 : decode cX0_lasts 26 = .ok (.getfield 57, 3) := dk_180 0 57 (dk_at dksX0_lasts_1 4 rfl rfl)
theorem dX0_lasts_29 : decode cX0_lasts 29 = .ok (.aload_n 0, 1) := dk_42 (dk_at dksX0_lasts_1 7 rfl rfl)
theorem dX0_lasts_30 : decode cX0_lasts 30 = .ok (.iload_n 1, 1) := dk_27 (dk_at dksX0_lasts_1 8 rfl rfl)
theorem dX0_lasts_31 : decode cX0_lasts 31 = .ok (.invokevirtual 127, 3) := dk_182 0 127 (dk_at dksX0_lasts_1 9 rfl rfl)
theorem dX0_lasts_34 : decode cX0_lasts 34 = .ok (.iconst (-1), 1) := dk_2 (dk_at dksX0_lasts_1 12 rfl rfl)
theorem dX0_lasts_35 : decode cX0_lasts 35 = .ok (.invokevirtual 131, 3) := dk_182 0 131 (dk_at dksX0_lasts_1 13 rfl rfl)
theorem dX0_lasts_38 : decode cX0_lasts 38 = .ok (.ifCond .eq 5, 3) := dk_153 0 5 (dk_at dksX0_lasts_1 16 rfl rfl)
theorem dX0_lasts_41 : decode cX0_lasts 41 = .ok (.iload_n 2, 1) := dk_28 (dk_at dksX0_lasts_1 19 rfl rfl)
theorem dX0_lasts_42 : decode cX0_lasts 42 = .ok (.ireturn, 1) := dk_172 (dk_at dksX0_lasts_1 20 rfl rfl)
theorem dX0_lasts_43 : decode cX0_lasts 43 = .ok (.aload_n 0, 1) := dk_42 (dk_at dksX0_lasts_1 21 rfl rfl)
theorem dX0_lasts_44 : decode cX0_lasts 44 = .ok (.getfield 57, 3) := dk_180 0 57 (dk_at dksX0_lasts_2 0 rfl rfl)
theorem dX0_lasts_47 : decode cX0_lasts 47 = .ok (.iconst 1, 1) := dk_4 (dk_at dksX0_lasts_2 3 rfl rfl)
theorem dX0_lasts_48 : decode cX0_lasts 48 = .ok (.invokevirtual 188, 3) := dk_182 0 188 (dk_at dksX0_lasts_2 4 rfl rfl)
theorem dX0_lasts_51 : decode cX0_lasts 51 = .ok (.iinc 2 1, 3) := dk_132 2 1 (dk_at dksX0_lasts_2 7 rfl rfl)
theorem dX0_lasts_54 : decode cX0_lasts 54 = .ok (.goto (-36), 3) := dk_167 255 220 (dk_at dksX0_lasts_2 10 rfl rfl)
theorem dX0_lasts_57 : decode cX0_lasts 57 = .ok (.iconst (-1), 1) := dk_2 (dk_at dksX0_lasts_2 13 rfl rfl)
theorem dX0_lasts_58 : decode cX0_lasts 58 = .ok (.ireturn, 1) := dk_172 (dk_at dksX0_lasts_2 14 rfl rfl)
abbrev cX0_gone : ByteArray := prog_1_method_38_code
def yX0_gone : MethodName := ⟨RX0, "gone", "(I)I"⟩
def dkwX0_gone_2 : List UInt8 := [167, 255, 224, 2, 172]
abbrev dktX0_gone_2 : List UInt8 := dkwX0_gone_2 ++ []
def dkwX0_gone_1 : List UInt8 := [182, 0, 244, 184, 0, 252, 42, 27, 28, 182, 0, 248, 184, 0, 252, 161, 0, 5, 28, 172, 132, 2, 1]
abbrev dktX0_gone_1 : List UInt8 := dkwX0_gone_1 ++ dktX0_gone_2
def dkwX0_gone_0 : List UInt8 := [42, 27, 182, 0, 169, 154, 0, 6, 16, 254, 172, 3, 61, 28, 16, 60, 163, 0, 32, 42, 27, 28]
abbrev dktX0_gone_0 : List UInt8 := dkwX0_gone_0 ++ dktX0_gone_1
theorem dksX0_gone_0 : cX0_gone.data.toList.drop 0 = dktX0_gone_0 := by decide +kernel
theorem dksX0_gone_1 : cX0_gone.data.toList.drop 22 = dktX0_gone_1 := dk_seg dksX0_gone_0 22 rfl rfl
theorem dksX0_gone_2 : cX0_gone.data.toList.drop 45 = dktX0_gone_2 := dk_seg dksX0_gone_1 23 rfl rfl
theorem dX0_gone_0 : decode cX0_gone 0 = .ok (.aload_n 0, 1) := dk_42 (dk_at dksX0_gone_0 0 rfl rfl)
theorem dX0_gone_1 : decode cX0_gone 1 = .ok (.iload_n 1, 1) := dk_27 (dk_at dksX0_gone_0 1 rfl rfl)
theorem dX0_gone_2 : decode cX0_gone 2 = .ok (.invokevirtual 169, 3) := dk_182 0 169 (dk_at dksX0_gone_0 2 rfl rfl)
theorem dX0_gone_5 : decode cX0_gone 5 = .ok (.ifCond .ne 6, 3) := dk_154 0 6 (dk_at dksX0_gone_0 5 rfl rfl)
theorem dX0_gone_8 : decode cX0_gone 8 = .ok (.bipush (-2), 2) := dk_16 254 (dk_at dksX0_gone_0 8 rfl rfl)
theorem dX0_gone_10 : decode cX0_gone 10 = .ok (.ireturn, 1) := dk_172 (dk_at dksX0_gone_0 10 rfl rfl)
theorem dX0_gone_11 : decode cX0_gone 11 = .ok (.iconst 0, 1) := dk_3 (dk_at dksX0_gone_0 11 rfl rfl)
theorem dX0_gone_12 : decode cX0_gone 12 = .ok (.istore_n 2, 1) := dk_61 (dk_at dksX0_gone_0 12 rfl rfl)
theorem dX0_gone_13 : decode cX0_gone 13 = .ok (.iload_n 2, 1) := dk_28 (dk_at dksX0_gone_0 13 rfl rfl)
theorem dX0_gone_14 : decode cX0_gone 14 = .ok (.bipush 60, 2) := dk_16 60 (dk_at dksX0_gone_0 14 rfl rfl)
theorem dX0_gone_16 : decode cX0_gone 16 = .ok (.if_icmp .gt 32, 3) := dk_163 0 32 (dk_at dksX0_gone_0 16 rfl rfl)
theorem dX0_gone_19 : decode cX0_gone 19 = .ok (.aload_n 0, 1) := dk_42 (dk_at dksX0_gone_0 19 rfl rfl)
theorem dX0_gone_20 : decode cX0_gone 20 = .ok (.iload_n 1, 1) := dk_27 (dk_at dksX0_gone_0 20 rfl rfl)
theorem dX0_gone_21 : decode cX0_gone 21 = .ok (.iload_n 2, 1) := dk_28 (dk_at dksX0_gone_0 21 rfl rfl)
theorem dX0_gone_22 : decode cX0_gone 22 = .ok (.invokevirtual 244, 3) := dk_182 0 244 (dk_at dksX0_gone_1 0 rfl rfl)
theorem dX0_gone_25 : decode cX0_gone 25 = .ok (.invokestatic 252, 3) := dk_184 0 252 (dk_at dksX0_gone_1 3 rfl rfl)
theorem dX0_gone_28 : decode cX0_gone 28 = .ok (.aload_n 0, 1) := dk_42 (dk_at dksX0_gone_1 6 rfl rfl)
theorem dX0_gone_29 : decode cX0_gone 29 = .ok (.iload_n 1, 1) := dk_27 (dk_at dksX0_gone_1 7 rfl rfl)
theorem dX0_gone_30 : decode cX0_gone 30 = .ok (.iload_n 2, 1) := dk_28 (dk_at dksX0_gone_1 8 rfl rfl)
theorem dX0_gone_31 : decode cX0_gone 31 = .ok (.invokevirtual 248, 3) := dk_182 0 248 (dk_at dksX0_gone_1 9 rfl rfl)
theorem dX0_gone_34 : decode cX0_gone 34 = .ok (.invokestatic 252, 3) := dk_184 0 252 (dk_at dksX0_gone_1 12 rfl rfl)
theorem dX0_gone_37 : decode cX0_gone 37 = .ok (.if_icmp .lt 5, 3) := dk_161 0 5 (dk_at dksX0_gone_1 15 rfl rfl)
theorem dX0_gone_40 : decode cX0_gone 40 = .ok (.iload_n 2, 1) := dk_28 (dk_at dksX0_gone_1 18 rfl rfl)
theorem dX0_gone_41 : decode cX0_gone 41 = .ok (.ireturn, 1) := dk_172 (dk_at dksX0_gone_1 19 rfl rfl)
theorem dX0_gone_42 : decode cX0_gone 42 = .ok (.iinc 2 1, 3) := dk_132 2 1 (dk_at dksX0_gone_1 20 rfl rfl)
theorem dX0_gone_45 : decode cX0_gone 45 = .ok (.goto (-32), 3) := dk_167 255 224 (dk_at dksX0_gone_2 0 rfl rfl)
theorem dX0_gone_48 : decode cX0_gone 48 = .ok (.iconst (-1), 1) := dk_2 (dk_at dksX0_gone_2 3 rfl rfl)
theorem dX0_gone_49 : decode cX0_gone 49 = .ok (.ireturn, 1) := dk_172 (dk_at dksX0_gone_2 4 rfl rfl)
abbrev cX0_counted : ByteArray := prog_1_method_37_code
def yX0_counted : MethodName := ⟨RX0, "counted", "(I)I"⟩
def dkwX0_counted_0 : List UInt8 := [26, 2, 160, 0, 8, 16, 41, 167, 0, 4, 26, 172]
abbrev dktX0_counted_0 : List UInt8 := dkwX0_counted_0 ++ []
theorem dksX0_counted_0 : cX0_counted.data.toList.drop 0 = dktX0_counted_0 := by decide +kernel
theorem dX0_counted_0 : decode cX0_counted 0 = .ok (.iload_n 0, 1) := dk_26 (dk_at dksX0_counted_0 0 rfl rfl)
theorem dX0_counted_1 : decode cX0_counted 1 = .ok (.iconst (-1), 1) := dk_2 (dk_at dksX0_counted_0 1 rfl rfl)
theorem dX0_counted_2 : decode cX0_counted 2 = .ok (.if_icmp .ne 8, 3) := dk_160 0 8 (dk_at dksX0_counted_0 2 rfl rfl)
theorem dX0_counted_5 : decode cX0_counted 5 = .ok (.bipush 41, 2) := dk_16 41 (dk_at dksX0_counted_0 5 rfl rfl)
theorem dX0_counted_7 : decode cX0_counted 7 = .ok (.goto 4, 3) := dk_167 0 4 (dk_at dksX0_counted_0 7 rfl rfl)
theorem dX0_counted_10 : decode cX0_counted 10 = .ok (.iload_n 0, 1) := dk_26 (dk_at dksX0_counted_0 10 rfl rfl)
theorem dX0_counted_11 : decode cX0_counted 11 = .ok (.ireturn, 1) := dk_172 (dk_at dksX0_counted_0 11 rfl rfl)
abbrev cX0_without : ByteArray := prog_1_method_39_code
def yX0_without : MethodName := ⟨RX0, "without", "(II)I"⟩
def dkwX0_without_1 : List UInt8 := [28, 182, 0, 182, 167, 0, 5, 16, 254, 172]
abbrev dktX0_without_1 : List UInt8 := dkwX0_without_1 ++ []
def dkwX0_without_0 : List UInt8 := [42, 27, 182, 0, 169, 153, 0, 26, 28, 184, 0, 200, 153, 0, 19, 42, 182, 0, 236, 42, 27, 182, 0, 127]
abbrev dktX0_without_0 : List UInt8 := dkwX0_without_0 ++ dktX0_without_1
theorem dksX0_without_0 : cX0_without.data.toList.drop 0 = dktX0_without_0 := by decide +kernel
theorem dksX0_without_1 : cX0_without.data.toList.drop 24 = dktX0_without_1 := dk_seg dksX0_without_0 24 rfl rfl
theorem dX0_without_0 : decode cX0_without 0 = .ok (.aload_n 0, 1) := dk_42 (dk_at dksX0_without_0 0 rfl rfl)
theorem dX0_without_1 : decode cX0_without 1 = .ok (.iload_n 1, 1) := dk_27 (dk_at dksX0_without_0 1 rfl rfl)
theorem dX0_without_2 : decode cX0_without 2 = .ok (.invokevirtual 169, 3) := dk_182 0 169 (dk_at dksX0_without_0 2 rfl rfl)
theorem dX0_without_5 : decode cX0_without 5 = .ok (.ifCond .eq 26, 3) := dk_153 0 26 (dk_at dksX0_without_0 5 rfl rfl)
theorem dX0_without_8 : decode cX0_without 8 = .ok (.iload_n 2, 1) := dk_28 (dk_at dksX0_without_0 8 rfl rfl)
theorem dX0_without_9 : decode cX0_without 9 = .ok (.invokestatic 200, 3) := dk_184 0 200 (dk_at dksX0_without_0 9 rfl rfl)
theorem dX0_without_12 : decode cX0_without 12 = .ok (.ifCond .eq 19, 3) := dk_153 0 19 (dk_at dksX0_without_0 12 rfl rfl)
theorem dX0_without_15 : decode cX0_without 15 = .ok (.aload_n 0, 1) := dk_42 (dk_at dksX0_without_0 15 rfl rfl)
theorem dX0_without_16 : decode cX0_without 16 = .ok (.invokevirtual 236, 3) := dk_182 0 236 (dk_at dksX0_without_0 16 rfl rfl)
theorem dX0_without_19 : decode cX0_without 19 = .ok (.aload_n 0, 1) := dk_42 (dk_at dksX0_without_0 19 rfl rfl)
theorem dX0_without_20 : decode cX0_without 20 = .ok (.iload_n 1, 1) := dk_27 (dk_at dksX0_without_0 20 rfl rfl)
theorem dX0_without_21 : decode cX0_without 21 = .ok (.invokevirtual 127, 3) := dk_182 0 127 (dk_at dksX0_without_0 21 rfl rfl)
theorem dX0_without_24 : decode cX0_without 24 = .ok (.iload_n 2, 1) := dk_28 (dk_at dksX0_without_1 0 rfl rfl)
theorem dX0_without_25 : decode cX0_without 25 = .ok (.invokevirtual 182, 3) := dk_182 0 182 (dk_at dksX0_without_1 1 rfl rfl)
theorem dX0_without_28 : decode cX0_without 28 = .ok (.goto 5, 3) := dk_167 0 5 (dk_at dksX0_without_1 4 rfl rfl)
theorem dX0_without_31 : decode cX0_without 31 = .ok (.bipush (-2), 2) := dk_16 254 (dk_at dksX0_without_1 7 rfl rfl)
theorem dX0_without_33 : decode cX0_without 33 = .ok (.ireturn, 1) := dk_172 (dk_at dksX0_without_1 9 rfl rfl)
abbrev cX0_between : ByteArray := prog_1_method_40_code
def yX0_between : MethodName := ⟨RX0, "between", "(III)I"⟩
def dkwX0_between_4 : List UInt8 := [160, 0, 8, 18, 251, 167, 0, 8, 21, 5, 21, 4, 100, 172]
abbrev dktX0_between_4 : List UInt8 := dkwX0_between_4 ++ []
def dkwX0_between_3 : List UInt8 := [42, 180, 0, 57, 42, 27, 182, 0, 127, 2, 182, 0, 182, 54, 5, 21, 5, 2, 159, 0, 9, 21, 4, 2]
abbrev dktX0_between_3 : List UInt8 := dkwX0_between_3 ++ dktX0_between_4
def dkwX0_between_2 : List UInt8 := [42, 28, 182, 0, 127, 2, 182, 0, 182, 2, 160, 0, 6, 18, 251, 172, 42, 180, 0, 57, 29, 182, 0, 188]
abbrev dktX0_between_2 : List UInt8 := dkwX0_between_2 ++ dktX0_between_3
def dkwX0_between_1 : List UInt8 := [20, 0, 117, 184, 0, 5, 154, 0, 6, 18, 251, 172, 42, 27, 29, 182, 0, 244, 54, 4, 42, 182, 0, 236]
abbrev dktX0_between_1 : List UInt8 := dkwX0_between_1 ++ dktX0_between_2
def dkwX0_between_0 : List UInt8 := [42, 27, 182, 0, 169, 153, 0, 28, 42, 28, 182, 0, 169, 153, 0, 20, 27, 28, 159, 0, 15, 29, 133, 10]
abbrev dktX0_between_0 : List UInt8 := dkwX0_between_0 ++ dktX0_between_1
theorem dksX0_between_0 : cX0_between.data.toList.drop 0 = dktX0_between_0 := by decide +kernel
theorem dksX0_between_1 : cX0_between.data.toList.drop 24 = dktX0_between_1 := dk_seg dksX0_between_0 24 rfl rfl
theorem dksX0_between_2 : cX0_between.data.toList.drop 48 = dktX0_between_2 := dk_seg dksX0_between_1 24 rfl rfl
theorem dksX0_between_3 : cX0_between.data.toList.drop 72 = dktX0_between_3 := dk_seg dksX0_between_2 24 rfl rfl
theorem dksX0_between_4 : cX0_between.data.toList.drop 96 = dktX0_between_4 := dk_seg dksX0_between_3 24 rfl rfl
theorem dX0_between_0 : decode cX0_between 0 = .ok (.aload_n 0, 1) := dk_42 (dk_at dksX0_between_0 0 rfl rfl)
theorem dX0_between_1 : decode cX0_between 1 = .ok (.iload_n 1, 1) := dk_27 (dk_at dksX0_between_0 1 rfl rfl)
theorem dX0_between_2 : decode cX0_between 2 = .ok (.invokevirtual 169, 3) := dk_182 0 169 (dk_at dksX0_between_0 2 rfl rfl)
theorem dX0_between_5 : decode cX0_between 5 = .ok (.ifCond .eq 28, 3) := dk_153 0 28 (dk_at dksX0_between_0 5 rfl rfl)
theorem dX0_between_8 : decode cX0_between 8 = .ok (.aload_n 0, 1) := dk_42 (dk_at dksX0_between_0 8 rfl rfl)
theorem dX0_between_9 : decode cX0_between 9 = .ok (.iload_n 2, 1) := dk_28 (dk_at dksX0_between_0 9 rfl rfl)
theorem dX0_between_10 : decode cX0_between 10 = .ok (.invokevirtual 169, 3) := dk_182 0 169 (dk_at dksX0_between_0 10 rfl rfl)
theorem dX0_between_13 : decode cX0_between 13 = .ok (.ifCond .eq 20, 3) := dk_153 0 20 (dk_at dksX0_between_0 13 rfl rfl)
theorem dX0_between_16 : decode cX0_between 16 = .ok (.iload_n 1, 1) := dk_27 (dk_at dksX0_between_0 16 rfl rfl)
theorem dX0_between_17 : decode cX0_between 17 = .ok (.iload_n 2, 1) := dk_28 (dk_at dksX0_between_0 17 rfl rfl)
theorem dX0_between_18 : decode cX0_between 18 = .ok (.if_icmp .eq 15, 3) := dk_159 0 15 (dk_at dksX0_between_0 18 rfl rfl)
theorem dX0_between_21 : decode cX0_between 21 = .ok (.iload_n 3, 1) := dk_29 (dk_at dksX0_between_0 21 rfl rfl)
theorem dX0_between_22 : decode cX0_between 22 = .ok (.i2l, 1) := dk_133 (dk_at dksX0_between_0 22 rfl rfl)
theorem dX0_between_23 : decode cX0_between 23 = .ok (.lconst 1, 1) := dk_10 (dk_at dksX0_between_0 23 rfl rfl)
theorem dX0_between_24 : decode cX0_between 24 = .ok (.ldc2_w 117, 3) := dk_20 0 117 (dk_at dksX0_between_1 0 rfl rfl)
theorem dX0_between_27 : decode cX0_between 27 = .ok (.invokestatic 5, 3) := dk_184 0 5 (dk_at dksX0_between_1 3 rfl rfl)
theorem dX0_between_30 : decode cX0_between 30 = .ok (.ifCond .ne 6, 3) := dk_154 0 6 (dk_at dksX0_between_1 6 rfl rfl)
theorem dX0_between_33 : decode cX0_between 33 = .ok (.ldc 251, 2) := dk_18 251 (dk_at dksX0_between_1 9 rfl rfl)
theorem dX0_between_35 : decode cX0_between 35 = .ok (.ireturn, 1) := dk_172 (dk_at dksX0_between_1 11 rfl rfl)
theorem dX0_between_36 : decode cX0_between 36 = .ok (.aload_n 0, 1) := dk_42 (dk_at dksX0_between_1 12 rfl rfl)
theorem dX0_between_37 : decode cX0_between 37 = .ok (.iload_n 1, 1) := dk_27 (dk_at dksX0_between_1 13 rfl rfl)
theorem dX0_between_38 : decode cX0_between 38 = .ok (.iload_n 3, 1) := dk_29 (dk_at dksX0_between_1 14 rfl rfl)
theorem dX0_between_39 : decode cX0_between 39 = .ok (.invokevirtual 244, 3) := dk_182 0 244 (dk_at dksX0_between_1 15 rfl rfl)
theorem dX0_between_42 : decode cX0_between 42 = .ok (.istore 4, 2) := dk_54 4 (dk_at dksX0_between_1 18 rfl rfl)
theorem dX0_between_44 : decode cX0_between 44 = .ok (.aload_n 0, 1) := dk_42 (dk_at dksX0_between_1 20 rfl rfl)
theorem dX0_between_45 : decode cX0_between 45 = .ok (.invokevirtual 236, 3) := dk_182 0 236 (dk_at dksX0_between_1 21 rfl rfl)
theorem dX0_between_48 : decode cX0_between 48 = .ok (.aload_n 0, 1) := dk_42 (dk_at dksX0_between_2 0 rfl rfl)
theorem dX0_between_49 : decode cX0_between 49 = .ok (.iload_n 2, 1) := dk_28 (dk_at dksX0_between_2 1 rfl rfl)
theorem dX0_between_50 : decode cX0_between 50 = .ok (.invokevirtual 127, 3) := dk_182 0 127 (dk_at dksX0_between_2 2 rfl rfl)
theorem dX0_between_53 : decode cX0_between 53 = .ok (.iconst (-1), 1) := dk_2 (dk_at dksX0_between_2 5 rfl rfl)
theorem dX0_between_54 : decode cX0_between 54 = .ok (.invokevirtual 182, 3) := dk_182 0 182 (dk_at dksX0_between_2 6 rfl rfl)
theorem dX0_between_57 : decode cX0_between 57 = .ok (.iconst (-1), 1) := dk_2 (dk_at dksX0_between_2 9 rfl rfl)
theorem dX0_between_58 : decode cX0_between 58 = .ok (.if_icmp .ne 6, 3) := dk_160 0 6 (dk_at dksX0_between_2 10 rfl rfl)
theorem dX0_between_61 : decode cX0_between 61 = .ok (.ldc 251, 2) := dk_18 251 (dk_at dksX0_between_2 13 rfl rfl)
theorem dX0_between_63 : decode cX0_between 63 = .ok (.ireturn, 1) := dk_172 (dk_at dksX0_between_2 15 rfl rfl)
theorem dX0_between_64 : decode cX0_between 64 = .ok (.aload_n 0, 1) := dk_42 (dk_at dksX0_between_2 16 rfl rfl)
theorem dX0_between_65 : decode cX0_between 65 = .ok (.getfield 57, 3) := dk_180 0 57 (dk_at dksX0_between_2 17 rfl rfl)
theorem dX0_between_68 : decode cX0_between 68 = .ok (.iload_n 3, 1) := dk_29 (dk_at dksX0_between_2 20 rfl rfl)
theorem dX0_between_69 : decode cX0_between 69 = .ok (.invokevirtual 188, 3) := dk_182 0 188 (dk_at dksX0_between_2 21 rfl rfl)
theorem dX0_between_72 : decode cX0_between 72 = .ok (.aload_n 0, 1) := dk_42 (dk_at dksX0_between_3 0 rfl rfl)
theorem dX0_between_73 : decode cX0_between 73 = .ok (.getfield 57, 3) := dk_180 0 57 (dk_at dksX0_between_3 1 rfl rfl)
theorem dX0_between_76 : decode cX0_between 76 = .ok (.aload_n 0, 1) := dk_42 (dk_at dksX0_between_3 4 rfl rfl)
theorem dX0_between_77 : decode cX0_between 77 = .ok (.iload_n 1, 1) := dk_27 (dk_at dksX0_between_3 5 rfl rfl)
theorem dX0_between_78 : decode cX0_between 78 = .ok (.invokevirtual 127, 3) := dk_182 0 127 (dk_at dksX0_between_3 6 rfl rfl)
theorem dX0_between_81 : decode cX0_between 81 = .ok (.iconst (-1), 1) := dk_2 (dk_at dksX0_between_3 9 rfl rfl)
theorem dX0_between_82 : decode cX0_between 82 = .ok (.invokevirtual 182, 3) := dk_182 0 182 (dk_at dksX0_between_3 10 rfl rfl)
theorem dX0_between_85 : decode cX0_between 85 = .ok (.istore 5, 2) := dk_54 5 (dk_at dksX0_between_3 13 rfl rfl)
theorem dX0_between_87 : decode cX0_between 87 = .ok (.iload 5, 2) := dk_21 5 (dk_at dksX0_between_3 15 rfl rfl)
theorem dX0_between_89 : decode cX0_between 89 = .ok (.iconst (-1), 1) := dk_2 (dk_at dksX0_between_3 17 rfl rfl)
theorem dX0_between_90 : decode cX0_between 90 = .ok (.if_icmp .eq 9, 3) := dk_159 0 9 (dk_at dksX0_between_3 18 rfl rfl)
theorem dX0_between_93 : decode cX0_between 93 = .ok (.iload 4, 2) := dk_21 4 (dk_at dksX0_between_3 21 rfl rfl)
theorem dX0_between_95 : decode cX0_between 95 = .ok (.iconst (-1), 1) := dk_2 (dk_at dksX0_between_3 23 rfl rfl)
theorem dX0_between_96 : decode cX0_between 96 = .ok (.if_icmp .ne 8, 3) := dk_160 0 8 (dk_at dksX0_between_4 0 rfl rfl)
theorem dX0_between_99 : decode cX0_between 99 = .ok (.ldc 251, 2) := dk_18 251 (dk_at dksX0_between_4 3 rfl rfl)
theorem dX0_between_101 : decode cX0_between 101 = .ok (.goto 8, 3) := dk_167 0 8 (dk_at dksX0_between_4 5 rfl rfl)
theorem dX0_between_104 : decode cX0_between 104 = .ok (.iload 5, 2) := dk_21 5 (dk_at dksX0_between_4 8 rfl rfl)
theorem dX0_between_106 : decode cX0_between 106 = .ok (.iload 4, 2) := dk_21 4 (dk_at dksX0_between_4 10 rfl rfl)
theorem dX0_between_108 : decode cX0_between 108 = .ok (.isub, 1) := dk_100 (dk_at dksX0_between_4 12 rfl rfl)
theorem dX0_between_109 : decode cX0_between 109 = .ok (.ireturn, 1) := dk_172 (dk_at dksX0_between_4 13 rfl rfl)
abbrev cX0_evening : ByteArray := prog_1_method_41_code
def yX0_evening : MethodName := ⟨RX0, "evening", "(III)I"⟩
def dkwX0_evening_6 : List UInt8 := [167, 0, 8, 21, 4, 21, 5, 100, 172]
abbrev dktX0_evening_6 : List UInt8 := dkwX0_evening_6 ++ []
def dkwX0_evening_5 : List UInt8 := [182, 0, 127, 2, 182, 0, 182, 54, 5, 21, 4, 2, 159, 0, 9, 21, 5, 2, 160, 0, 8, 18, 251]
abbrev dktX0_evening_5 : List UInt8 := dkwX0_evening_5 ++ dktX0_evening_6
def dkwX0_evening_4 : List UInt8 := [182, 0, 182, 2, 160, 0, 6, 18, 251, 172, 42, 180, 0, 57, 29, 182, 0, 188, 42, 180, 0, 57, 42, 27]
abbrev dktX0_evening_4 : List UInt8 := dkwX0_evening_4 ++ dktX0_evening_5
def dkwX0_evening_3 : List UInt8 := [182, 0, 182, 54, 4, 42, 182, 0, 236, 28, 182, 0, 188, 42, 180, 0, 57, 42, 27, 182, 0, 127, 2]
abbrev dktX0_evening_3 : List UInt8 := dkwX0_evening_3 ++ dktX0_evening_4
def dkwX0_evening_2 : List UInt8 := [18, 251, 172, 42, 180, 0, 57, 28, 29, 96, 182, 0, 188, 42, 180, 0, 57, 42, 27, 182, 0, 127, 2]
abbrev dktX0_evening_2 : List UInt8 := dkwX0_evening_2 ++ dktX0_evening_3
def dkwX0_evening_1 : List UInt8 := [154, 0, 6, 18, 251, 172, 42, 182, 0, 236, 42, 27, 182, 0, 127, 2, 182, 0, 182, 2, 160, 0, 6]
abbrev dktX0_evening_1 : List UInt8 := dkwX0_evening_1 ++ dktX0_evening_2
def dkwX0_evening_0 : List UInt8 := [42, 27, 182, 0, 169, 153, 0, 22, 28, 133, 9, 20, 0, 255, 184, 0, 5, 153, 0, 10, 29, 184, 0, 185]
abbrev dktX0_evening_0 : List UInt8 := dkwX0_evening_0 ++ dktX0_evening_1
theorem dksX0_evening_0 : cX0_evening.data.toList.drop 0 = dktX0_evening_0 := by decide +kernel
theorem dksX0_evening_1 : cX0_evening.data.toList.drop 24 = dktX0_evening_1 := dk_seg dksX0_evening_0 24 rfl rfl
theorem dksX0_evening_2 : cX0_evening.data.toList.drop 47 = dktX0_evening_2 := dk_seg dksX0_evening_1 23 rfl rfl
theorem dksX0_evening_3 : cX0_evening.data.toList.drop 70 = dktX0_evening_3 := dk_seg dksX0_evening_2 23 rfl rfl
theorem dksX0_evening_4 : cX0_evening.data.toList.drop 93 = dktX0_evening_4 := dk_seg dksX0_evening_3 23 rfl rfl
theorem dksX0_evening_5 : cX0_evening.data.toList.drop 117 = dktX0_evening_5 := dk_seg dksX0_evening_4 24 rfl rfl
theorem dksX0_evening_6 : cX0_evening.data.toList.drop 140 = dktX0_evening_6 := dk_seg dksX0_evening_5 23 rfl rfl
theorem dX0_evening_0 : decode cX0_evening 0 = .ok (.aload_n 0, 1) := dk_42 (dk_at dksX0_evening_0 0 rfl rfl)
theorem dX0_evening_1 : decode cX0_evening 1 = .ok (.iload_n 1, 1) := dk_27 (dk_at dksX0_evening_0 1 rfl rfl)
theorem dX0_evening_2 : decode cX0_evening 2 = .ok (.invokevirtual 169, 3) := dk_182 0 169 (dk_at dksX0_evening_0 2 rfl rfl)
theorem dX0_evening_5 : decode cX0_evening 5 = .ok (.ifCond .eq 22, 3) := dk_153 0 22 (dk_at dksX0_evening_0 5 rfl rfl)
theorem dX0_evening_8 : decode cX0_evening 8 = .ok (.iload_n 2, 1) := dk_28 (dk_at dksX0_evening_0 8 rfl rfl)
theorem dX0_evening_9 : decode cX0_evening 9 = .ok (.i2l, 1) := dk_133 (dk_at dksX0_evening_0 9 rfl rfl)
theorem dX0_evening_10 : decode cX0_evening 10 = .ok (.lconst 0, 1) := dk_9 (dk_at dksX0_evening_0 10 rfl rfl)
theorem dX0_evening_11 : decode cX0_evening 11 = .ok (.ldc2_w 255, 3) := dk_20 0 255 (dk_at dksX0_evening_0 11 rfl rfl)
theorem dX0_evening_14 : decode cX0_evening 14 = .ok (.invokestatic 5, 3) := dk_184 0 5 (dk_at dksX0_evening_0 14 rfl rfl)
theorem dX0_evening_17 : decode cX0_evening 17 = .ok (.ifCond .eq 10, 3) := dk_153 0 10 (dk_at dksX0_evening_0 17 rfl rfl)
theorem dX0_evening_20 : decode cX0_evening 20 = .ok (.iload_n 3, 1) := dk_29 (dk_at dksX0_evening_0 20 rfl rfl)
theorem dX0_evening_21 : decode cX0_evening 21 = .ok (.invokestatic 185, 3) := dk_184 0 185 (dk_at dksX0_evening_0 21 rfl rfl)
theorem dX0_evening_24 : decode cX0_evening 24 = .ok (.ifCond .ne 6, 3) := dk_154 0 6 (dk_at dksX0_evening_1 0 rfl rfl)
theorem dX0_evening_27 : decode cX0_evening 27 = .ok (.ldc 251, 2) := dk_18 251 (dk_at dksX0_evening_1 3 rfl rfl)
theorem dX0_evening_29 : decode cX0_evening 29 = .ok (.ireturn, 1) := dk_172 (dk_at dksX0_evening_1 5 rfl rfl)
theorem dX0_evening_30 : decode cX0_evening 30 = .ok (.aload_n 0, 1) := dk_42 (dk_at dksX0_evening_1 6 rfl rfl)
theorem dX0_evening_31 : decode cX0_evening 31 = .ok (.invokevirtual 236, 3) := dk_182 0 236 (dk_at dksX0_evening_1 7 rfl rfl)
theorem dX0_evening_34 : decode cX0_evening 34 = .ok (.aload_n 0, 1) := dk_42 (dk_at dksX0_evening_1 10 rfl rfl)
theorem dX0_evening_35 : decode cX0_evening 35 = .ok (.iload_n 1, 1) := dk_27 (dk_at dksX0_evening_1 11 rfl rfl)
theorem dX0_evening_36 : decode cX0_evening 36 = .ok (.invokevirtual 127, 3) := dk_182 0 127 (dk_at dksX0_evening_1 12 rfl rfl)
theorem dX0_evening_39 : decode cX0_evening 39 = .ok (.iconst (-1), 1) := dk_2 (dk_at dksX0_evening_1 15 rfl rfl)
theorem dX0_evening_40 : decode cX0_evening 40 = .ok (.invokevirtual 182, 3) := dk_182 0 182 (dk_at dksX0_evening_1 16 rfl rfl)
theorem dX0_evening_43 : decode cX0_evening 43 = .ok (.iconst (-1), 1) := dk_2 (dk_at dksX0_evening_1 19 rfl rfl)
theorem dX0_evening_44 : decode cX0_evening 44 = .ok (.if_icmp .ne 6, 3) := dk_160 0 6 (dk_at dksX0_evening_1 20 rfl rfl)
theorem dX0_evening_47 : decode cX0_evening 47 = .ok (.ldc 251, 2) := dk_18 251 (dk_at dksX0_evening_2 0 rfl rfl)
theorem dX0_evening_49 : decode cX0_evening 49 = .ok (.ireturn, 1) := dk_172 (dk_at dksX0_evening_2 2 rfl rfl)
theorem dX0_evening_50 : decode cX0_evening 50 = .ok (.aload_n 0, 1) := dk_42 (dk_at dksX0_evening_2 3 rfl rfl)
theorem dX0_evening_51 : decode cX0_evening 51 = .ok (.getfield 57, 3) := dk_180 0 57 (dk_at dksX0_evening_2 4 rfl rfl)
theorem dX0_evening_54 : decode cX0_evening 54 = .ok (.iload_n 2, 1) := dk_28 (dk_at dksX0_evening_2 7 rfl rfl)
theorem dX0_evening_55 : decode cX0_evening 55 = .ok (.iload_n 3, 1) := dk_29 (dk_at dksX0_evening_2 8 rfl rfl)
theorem dX0_evening_56 : decode cX0_evening 56 = .ok (.iadd, 1) := dk_96 (dk_at dksX0_evening_2 9 rfl rfl)
theorem dX0_evening_57 : decode cX0_evening 57 = .ok (.invokevirtual 188, 3) := dk_182 0 188 (dk_at dksX0_evening_2 10 rfl rfl)
theorem dX0_evening_60 : decode cX0_evening 60 = .ok (.aload_n 0, 1) := dk_42 (dk_at dksX0_evening_2 13 rfl rfl)
theorem dX0_evening_61 : decode cX0_evening 61 = .ok (.getfield 57, 3) := dk_180 0 57 (dk_at dksX0_evening_2 14 rfl rfl)
theorem dX0_evening_64 : decode cX0_evening 64 = .ok (.aload_n 0, 1) := dk_42 (dk_at dksX0_evening_2 17 rfl rfl)
theorem dX0_evening_65 : decode cX0_evening 65 = .ok (.iload_n 1, 1) := dk_27 (dk_at dksX0_evening_2 18 rfl rfl)
theorem dX0_evening_66 : decode cX0_evening 66 = .ok (.invokevirtual 127, 3) := dk_182 0 127 (dk_at dksX0_evening_2 19 rfl rfl)
theorem dX0_evening_69 : decode cX0_evening 69 = .ok (.iconst (-1), 1) := dk_2 (dk_at dksX0_evening_2 22 rfl rfl)
theorem dX0_evening_70 : decode cX0_evening 70 = .ok (.invokevirtual 182, 3) := dk_182 0 182 (dk_at dksX0_evening_3 0 rfl rfl)
theorem dX0_evening_73 : decode cX0_evening 73 = .ok (.istore 4, 2) := dk_54 4 (dk_at dksX0_evening_3 3 rfl rfl)
theorem dX0_evening_75 : decode cX0_evening 75 = .ok (.aload_n 0, 1) := dk_42 (dk_at dksX0_evening_3 5 rfl rfl)
theorem dX0_evening_76 : decode cX0_evening 76 = .ok (.invokevirtual 236, 3) := dk_182 0 236 (dk_at dksX0_evening_3 6 rfl rfl)
theorem dX0_evening_79 : decode cX0_evening 79 = .ok (.iload_n 2, 1) := dk_28 (dk_at dksX0_evening_3 9 rfl rfl)
theorem dX0_evening_80 : decode cX0_evening 80 = .ok (.invokevirtual 188, 3) := dk_182 0 188 (dk_at dksX0_evening_3 10 rfl rfl)
theorem dX0_evening_83 : decode cX0_evening 83 = .ok (.aload_n 0, 1) := dk_42 (dk_at dksX0_evening_3 13 rfl rfl)
theorem dX0_evening_84 : decode cX0_evening 84 = .ok (.getfield 57, 3) := dk_180 0 57 (dk_at dksX0_evening_3 14 rfl rfl)
theorem dX0_evening_87 : decode cX0_evening 87 = .ok (.aload_n 0, 1) := dk_42 (dk_at dksX0_evening_3 17 rfl rfl)
theorem dX0_evening_88 : decode cX0_evening 88 = .ok (.iload_n 1, 1) := dk_27 (dk_at dksX0_evening_3 18 rfl rfl)
theorem dX0_evening_89 : decode cX0_evening 89 = .ok (.invokevirtual 127, 3) := dk_182 0 127 (dk_at dksX0_evening_3 19 rfl rfl)
theorem dX0_evening_92 : decode cX0_evening 92 = .ok (.iconst (-1), 1) := dk_2 (dk_at dksX0_evening_3 22 rfl rfl)
theorem dX0_evening_93 : decode cX0_evening 93 = .ok (.invokevirtual 182, 3) := dk_182 0 182 (dk_at dksX0_evening_4 0 rfl rfl)
theorem dX0_evening_96 : decode cX0_evening 96 = .ok (.iconst (-1), 1) := dk_2 (dk_at dksX0_evening_4 3 rfl rfl)
theorem dX0_evening_97 : decode cX0_evening 97 = .ok (.if_icmp .ne 6, 3) := dk_160 0 6 (dk_at dksX0_evening_4 4 rfl rfl)
theorem dX0_evening_100 : decode cX0_evening 100 = .ok (.ldc 251, 2) := dk_18 251 (dk_at dksX0_evening_4 7 rfl rfl)
theorem dX0_evening_102 : decode cX0_evening 102 = .ok (.ireturn, 1) := dk_172 (dk_at dksX0_evening_4 9 rfl rfl)
theorem dX0_evening_103 : decode cX0_evening 103 = .ok (.aload_n 0, 1) := dk_42 (dk_at dksX0_evening_4 10 rfl rfl)
theorem dX0_evening_104 : decode cX0_evening 104 = .ok (.getfield 57, 3) := dk_180 0 57 (dk_at dksX0_evening_4 11 rfl rfl)
theorem dX0_evening_107 : decode cX0_evening 107 = .ok (.iload_n 3, 1) := dk_29 (dk_at dksX0_evening_4 14 rfl rfl)
theorem dX0_evening_108 : decode cX0_evening 108 = .ok (.invokevirtual 188, 3) := dk_182 0 188 (dk_at dksX0_evening_4 15 rfl rfl)
theorem dX0_evening_111 : decode cX0_evening 111 = .ok (.aload_n 0, 1) := dk_42 (dk_at dksX0_evening_4 18 rfl rfl)
theorem dX0_evening_112 : decode cX0_evening 112 = .ok (.getfield 57, 3) := dk_180 0 57 (dk_at dksX0_evening_4 19 rfl rfl)
theorem dX0_evening_115 : decode cX0_evening 115 = .ok (.aload_n 0, 1) := dk_42 (dk_at dksX0_evening_4 22 rfl rfl)
theorem dX0_evening_116 : decode cX0_evening 116 = .ok (.iload_n 1, 1) := dk_27 (dk_at dksX0_evening_4 23 rfl rfl)
theorem dX0_evening_117 : decode cX0_evening 117 = .ok (.invokevirtual 127, 3) := dk_182 0 127 (dk_at dksX0_evening_5 0 rfl rfl)
theorem dX0_evening_120 : decode cX0_evening 120 = .ok (.iconst (-1), 1) := dk_2 (dk_at dksX0_evening_5 3 rfl rfl)
theorem dX0_evening_121 : decode cX0_evening 121 = .ok (.invokevirtual 182, 3) := dk_182 0 182 (dk_at dksX0_evening_5 4 rfl rfl)
theorem dX0_evening_124 : decode cX0_evening 124 = .ok (.istore 5, 2) := dk_54 5 (dk_at dksX0_evening_5 7 rfl rfl)
theorem dX0_evening_126 : decode cX0_evening 126 = .ok (.iload 4, 2) := dk_21 4 (dk_at dksX0_evening_5 9 rfl rfl)
theorem dX0_evening_128 : decode cX0_evening 128 = .ok (.iconst (-1), 1) := dk_2 (dk_at dksX0_evening_5 11 rfl rfl)
theorem dX0_evening_129 : decode cX0_evening 129 = .ok (.if_icmp .eq 9, 3) := dk_159 0 9 (dk_at dksX0_evening_5 12 rfl rfl)
theorem dX0_evening_132 : decode cX0_evening 132 = .ok (.iload 5, 2) := dk_21 5 (dk_at dksX0_evening_5 15 rfl rfl)
theorem dX0_evening_134 : decode cX0_evening 134 = .ok (.iconst (-1), 1) := dk_2 (dk_at dksX0_evening_5 17 rfl rfl)
theorem dX0_evening_135 : decode cX0_evening 135 = .ok (.if_icmp .ne 8, 3) := dk_160 0 8 (dk_at dksX0_evening_5 18 rfl rfl)
theorem dX0_evening_138 : decode cX0_evening 138 = .ok (.ldc 251, 2) := dk_18 251 (dk_at dksX0_evening_5 21 rfl rfl)
theorem dX0_evening_140 : decode cX0_evening 140 = .ok (.goto 8, 3) := dk_167 0 8 (dk_at dksX0_evening_6 0 rfl rfl)
theorem dX0_evening_143 : decode cX0_evening 143 = .ok (.iload 4, 2) := dk_21 4 (dk_at dksX0_evening_6 3 rfl rfl)
theorem dX0_evening_145 : decode cX0_evening 145 = .ok (.iload 5, 2) := dk_21 5 (dk_at dksX0_evening_6 5 rfl rfl)
theorem dX0_evening_147 : decode cX0_evening 147 = .ok (.isub, 1) := dk_100 (dk_at dksX0_evening_6 7 rfl rfl)
theorem dX0_evening_148 : decode cX0_evening 148 = .ok (.ireturn, 1) := dk_172 (dk_at dksX0_evening_6 8 rfl rfl)
abbrev cX0_when : ByteArray := prog_1_method_42_code
def yX0_when : MethodName := ⟨RX0, "when", "(I)I"⟩
def dkwX0_when_2 : List UInt8 := [21, 5, 62, 21, 4, 61, 132, 4, 1, 167, 255, 219, 28, 172]
abbrev dktX0_when_2 : List UInt8 := dkwX0_when_2 ++ []
def dkwX0_when_1 : List UInt8 := [162, 0, 36, 42, 27, 21, 4, 182, 0, 244, 184, 0, 252, 54, 5, 21, 5, 29, 161, 0, 6, 167, 0, 9]
abbrev dktX0_when_1 : List UInt8 := dkwX0_when_1 ++ dktX0_when_2
def dkwX0_when_0 : List UInt8 := [42, 27, 182, 0, 169, 154, 0, 6, 16, 254, 172, 2, 61, 16, 41, 62, 3, 54, 4, 21, 4, 16, 24]
abbrev dktX0_when_0 : List UInt8 := dkwX0_when_0 ++ dktX0_when_1
theorem dksX0_when_0 : cX0_when.data.toList.drop 0 = dktX0_when_0 := by decide +kernel
theorem dksX0_when_1 : cX0_when.data.toList.drop 23 = dktX0_when_1 := dk_seg dksX0_when_0 23 rfl rfl
theorem dksX0_when_2 : cX0_when.data.toList.drop 47 = dktX0_when_2 := dk_seg dksX0_when_1 24 rfl rfl
theorem dX0_when_0 : decode cX0_when 0 = .ok (.aload_n 0, 1) := dk_42 (dk_at dksX0_when_0 0 rfl rfl)
theorem dX0_when_1 : decode cX0_when 1 = .ok (.iload_n 1, 1) := dk_27 (dk_at dksX0_when_0 1 rfl rfl)
theorem dX0_when_2 : decode cX0_when 2 = .ok (.invokevirtual 169, 3) := dk_182 0 169 (dk_at dksX0_when_0 2 rfl rfl)
theorem dX0_when_5 : decode cX0_when 5 = .ok (.ifCond .ne 6, 3) := dk_154 0 6 (dk_at dksX0_when_0 5 rfl rfl)
theorem dX0_when_8 : decode cX0_when 8 = .ok (.bipush (-2), 2) := dk_16 254 (dk_at dksX0_when_0 8 rfl rfl)
theorem dX0_when_10 : decode cX0_when 10 = .ok (.ireturn, 1) := dk_172 (dk_at dksX0_when_0 10 rfl rfl)
theorem dX0_when_11 : decode cX0_when 11 = .ok (.iconst (-1), 1) := dk_2 (dk_at dksX0_when_0 11 rfl rfl)
theorem dX0_when_12 : decode cX0_when 12 = .ok (.istore_n 2, 1) := dk_61 (dk_at dksX0_when_0 12 rfl rfl)
theorem dX0_when_13 : decode cX0_when 13 = .ok (.bipush 41, 2) := dk_16 41 (dk_at dksX0_when_0 13 rfl rfl)
theorem dX0_when_15 : decode cX0_when 15 = .ok (.istore_n 3, 1) := dk_62 (dk_at dksX0_when_0 15 rfl rfl)
theorem dX0_when_16 : decode cX0_when 16 = .ok (.iconst 0, 1) := dk_3 (dk_at dksX0_when_0 16 rfl rfl)
theorem dX0_when_17 : decode cX0_when 17 = .ok (.istore 4, 2) := dk_54 4 (dk_at dksX0_when_0 17 rfl rfl)
theorem dX0_when_19 : decode cX0_when 19 = .ok (.iload 4, 2) := dk_21 4 (dk_at dksX0_when_0 19 rfl rfl)
theorem dX0_when_21 : decode cX0_when 21 = .ok (.bipush 24, 2) := dk_16 24 (dk_at dksX0_when_0 21 rfl rfl)
theorem dX0_when_23 : decode cX0_when 23 = .ok (.if_icmp .ge 36, 3) := dk_162 0 36 (dk_at dksX0_when_1 0 rfl rfl)
theorem dX0_when_26 : decode cX0_when 26 = .ok (.aload_n 0, 1) := dk_42 (dk_at dksX0_when_1 3 rfl rfl)
theorem dX0_when_27 : decode cX0_when 27 = .ok (.iload_n 1, 1) := dk_27 (dk_at dksX0_when_1 4 rfl rfl)
theorem dX0_when_28 : decode cX0_when 28 = .ok (.iload 4, 2) := dk_21 4 (dk_at dksX0_when_1 5 rfl rfl)
theorem dX0_when_30 : decode cX0_when 30 = .ok (.invokevirtual 244, 3) := dk_182 0 244 (dk_at dksX0_when_1 7 rfl rfl)
theorem dX0_when_33 : decode cX0_when 33 = .ok (.invokestatic 252, 3) := dk_184 0 252 (dk_at dksX0_when_1 10 rfl rfl)
theorem dX0_when_36 : decode cX0_when 36 = .ok (.istore 5, 2) := dk_54 5 (dk_at dksX0_when_1 13 rfl rfl)
theorem dX0_when_38 : decode cX0_when 38 = .ok (.iload 5, 2) := dk_21 5 (dk_at dksX0_when_1 15 rfl rfl)
theorem dX0_when_40 : decode cX0_when 40 = .ok (.iload_n 3, 1) := dk_29 (dk_at dksX0_when_1 17 rfl rfl)
theorem dX0_when_41 : decode cX0_when 41 = .ok (.if_icmp .lt 6, 3) := dk_161 0 6 (dk_at dksX0_when_1 18 rfl rfl)
theorem dX0_when_44 : decode cX0_when 44 = .ok (.goto 9, 3) := dk_167 0 9 (dk_at dksX0_when_1 21 rfl rfl)
theorem dX0_when_47 : decode cX0_when 47 = .ok (.iload 5, 2) := dk_21 5 (dk_at dksX0_when_2 0 rfl rfl)
theorem dX0_when_49 : decode cX0_when 49 = .ok (.istore_n 3, 1) := dk_62 (dk_at dksX0_when_2 2 rfl rfl)
theorem dX0_when_50 : decode cX0_when 50 = .ok (.iload 4, 2) := dk_21 4 (dk_at dksX0_when_2 3 rfl rfl)
theorem dX0_when_52 : decode cX0_when 52 = .ok (.istore_n 2, 1) := dk_61 (dk_at dksX0_when_2 5 rfl rfl)
theorem dX0_when_53 : decode cX0_when 53 = .ok (.iinc 4 1, 3) := dk_132 4 1 (dk_at dksX0_when_2 6 rfl rfl)
theorem dX0_when_56 : decode cX0_when 56 = .ok (.goto (-37), 3) := dk_167 255 219 (dk_at dksX0_when_2 9 rfl rfl)
theorem dX0_when_59 : decode cX0_when 59 = .ok (.iload_n 2, 1) := dk_28 (dk_at dksX0_when_2 12 rfl rfl)
theorem dX0_when_60 : decode cX0_when 60 = .ok (.ireturn, 1) := dk_172 (dk_at dksX0_when_2 13 rfl rfl)
abbrev cX0_must : ByteArray := prog_1_method_43_code
def yX0_must : MethodName := ⟨RX0, "must", "(I)I"⟩
def dkwX0_must_2 : List UInt8 := [163, 0, 6, 167, 0, 9, 21, 5, 62, 21, 4, 61, 132, 4, 1, 167, 255, 213, 28, 172]
abbrev dktX0_must_2 : List UInt8 := dkwX0_must_2 ++ []
def dkwX0_must_1 : List UInt8 := [42, 182, 0, 236, 42, 27, 182, 0, 127, 21, 4, 182, 0, 182, 184, 0, 252, 54, 5, 21, 5, 29]
abbrev dktX0_must_1 : List UInt8 := dkwX0_must_1 ++ dktX0_must_2
def dkwX0_must_0 : List UInt8 := [42, 27, 182, 0, 169, 154, 0, 6, 16, 254, 172, 3, 61, 2, 62, 3, 54, 4, 21, 4, 7, 162, 0, 43]
abbrev dktX0_must_0 : List UInt8 := dkwX0_must_0 ++ dktX0_must_1
theorem dksX0_must_0 : cX0_must.data.toList.drop 0 = dktX0_must_0 := by decide +kernel
theorem dksX0_must_1 : cX0_must.data.toList.drop 24 = dktX0_must_1 := dk_seg dksX0_must_0 24 rfl rfl
theorem dksX0_must_2 : cX0_must.data.toList.drop 46 = dktX0_must_2 := dk_seg dksX0_must_1 22 rfl rfl
theorem dX0_must_0 : decode cX0_must 0 = .ok (.aload_n 0, 1) := dk_42 (dk_at dksX0_must_0 0 rfl rfl)
theorem dX0_must_1 : decode cX0_must 1 = .ok (.iload_n 1, 1) := dk_27 (dk_at dksX0_must_0 1 rfl rfl)
theorem dX0_must_2 : decode cX0_must 2 = .ok (.invokevirtual 169, 3) := dk_182 0 169 (dk_at dksX0_must_0 2 rfl rfl)
theorem dX0_must_5 : decode cX0_must 5 = .ok (.ifCond .ne 6, 3) := dk_154 0 6 (dk_at dksX0_must_0 5 rfl rfl)
theorem dX0_must_8 : decode cX0_must 8 = .ok (.bipush (-2), 2) := dk_16 254 (dk_at dksX0_must_0 8 rfl rfl)
theorem dX0_must_10 : decode cX0_must 10 = .ok (.ireturn, 1) := dk_172 (dk_at dksX0_must_0 10 rfl rfl)
theorem dX0_must_11 : decode cX0_must 11 = .ok (.iconst 0, 1) := dk_3 (dk_at dksX0_must_0 11 rfl rfl)
theorem dX0_must_12 : decode cX0_must 12 = .ok (.istore_n 2, 1) := dk_61 (dk_at dksX0_must_0 12 rfl rfl)
theorem dX0_must_13 : decode cX0_must 13 = .ok (.iconst (-1), 1) := dk_2 (dk_at dksX0_must_0 13 rfl rfl)
theorem dX0_must_14 : decode cX0_must 14 = .ok (.istore_n 3, 1) := dk_62 (dk_at dksX0_must_0 14 rfl rfl)
theorem dX0_must_15 : decode cX0_must 15 = .ok (.iconst 0, 1) := dk_3 (dk_at dksX0_must_0 15 rfl rfl)
theorem dX0_must_16 : decode cX0_must 16 = .ok (.istore 4, 2) := dk_54 4 (dk_at dksX0_must_0 16 rfl rfl)
theorem dX0_must_18 : decode cX0_must 18 = .ok (.iload 4, 2) := dk_21 4 (dk_at dksX0_must_0 18 rfl rfl)
theorem dX0_must_20 : decode cX0_must 20 = .ok (.iconst 4, 1) := dk_7 (dk_at dksX0_must_0 20 rfl rfl)
theorem dX0_must_21 : decode cX0_must 21 = .ok (.if_icmp .ge 43, 3) := dk_162 0 43 (dk_at dksX0_must_0 21 rfl rfl)
theorem dX0_must_24 : decode cX0_must 24 = .ok (.aload_n 0, 1) := dk_42 (dk_at dksX0_must_1 0 rfl rfl)
theorem dX0_must_25 : decode cX0_must 25 = .ok (.invokevirtual 236, 3) := dk_182 0 236 (dk_at dksX0_must_1 1 rfl rfl)
theorem dX0_must_28 : decode cX0_must 28 = .ok (.aload_n 0, 1) := dk_42 (dk_at dksX0_must_1 4 rfl rfl)
theorem dX0_must_29 : decode cX0_must 29 = .ok (.iload_n 1, 1) := dk_27 (dk_at dksX0_must_1 5 rfl rfl)
theorem dX0_must_30 : decode cX0_must 30 = .ok (.invokevirtual 127, 3) := dk_182 0 127 (dk_at dksX0_must_1 6 rfl rfl)
theorem dX0_must_33 : decode cX0_must 33 = .ok (.iload 4, 2) := dk_21 4 (dk_at dksX0_must_1 9 rfl rfl)
theorem dX0_must_35 : decode cX0_must 35 = .ok (.invokevirtual 182, 3) := dk_182 0 182 (dk_at dksX0_must_1 11 rfl rfl)
theorem dX0_must_38 : decode cX0_must 38 = .ok (.invokestatic 252, 3) := dk_184 0 252 (dk_at dksX0_must_1 14 rfl rfl)
theorem dX0_must_41 : decode cX0_must 41 = .ok (.istore 5, 2) := dk_54 5 (dk_at dksX0_must_1 17 rfl rfl)
theorem dX0_must_43 : decode cX0_must 43 = .ok (.iload 5, 2) := dk_21 5 (dk_at dksX0_must_1 19 rfl rfl)
theorem dX0_must_45 : decode cX0_must 45 = .ok (.iload_n 3, 1) := dk_29 (dk_at dksX0_must_1 21 rfl rfl)
theorem dX0_must_46 : decode cX0_must 46 = .ok (.if_icmp .gt 6, 3) := dk_163 0 6 (dk_at dksX0_must_2 0 rfl rfl)
theorem dX0_must_49 : decode cX0_must 49 = .ok (.goto 9, 3) := dk_167 0 9 (dk_at dksX0_must_2 3 rfl rfl)
theorem dX0_must_52 : decode cX0_must 52 = .ok (.iload 5, 2) := dk_21 5 (dk_at dksX0_must_2 6 rfl rfl)
theorem dX0_must_54 : decode cX0_must 54 = .ok (.istore_n 3, 1) := dk_62 (dk_at dksX0_must_2 8 rfl rfl)
theorem dX0_must_55 : decode cX0_must 55 = .ok (.iload 4, 2) := dk_21 4 (dk_at dksX0_must_2 9 rfl rfl)
theorem dX0_must_57 : decode cX0_must 57 = .ok (.istore_n 2, 1) := dk_61 (dk_at dksX0_must_2 11 rfl rfl)
theorem dX0_must_58 : decode cX0_must 58 = .ok (.iinc 4 1, 3) := dk_132 4 1 (dk_at dksX0_must_2 12 rfl rfl)
theorem dX0_must_61 : decode cX0_must 61 = .ok (.goto (-43), 3) := dk_167 255 213 (dk_at dksX0_must_2 15 rfl rfl)
theorem dX0_must_64 : decode cX0_must 64 = .ok (.iload_n 2, 1) := dk_28 (dk_at dksX0_must_2 18 rfl rfl)
theorem dX0_must_65 : decode cX0_must 65 = .ok (.ireturn, 1) := dk_172 (dk_at dksX0_must_2 19 rfl rfl)
abbrev cX0_verse : ByteArray := prog_1_method_44_code
def yX0_verse : MethodName := ⟨RX0, "verse", "(II)I"⟩
def dkwX0_verse_2 : List UInt8 := [18, 251, 167, 0, 11, 17, 3, 232, 29, 104, 21, 4, 108, 172]
abbrev dktX0_verse_2 : List UInt8 := dkwX0_verse_2 ++ []
def dkwX0_verse_1 : List UInt8 := [182, 0, 248, 62, 42, 28, 3, 182, 0, 248, 54, 4, 29, 2, 159, 0, 9, 21, 4, 2, 160, 0, 8]
abbrev dktX0_verse_1 : List UInt8 := dkwX0_verse_1 ++ dktX0_verse_2
def dkwX0_verse_0 : List UInt8 := [42, 27, 182, 0, 169, 153, 0, 11, 42, 28, 182, 0, 169, 154, 0, 6, 18, 251, 172, 42, 27, 3]
abbrev dktX0_verse_0 : List UInt8 := dkwX0_verse_0 ++ dktX0_verse_1
theorem dksX0_verse_0 : cX0_verse.data.toList.drop 0 = dktX0_verse_0 := by decide +kernel
theorem dksX0_verse_1 : cX0_verse.data.toList.drop 22 = dktX0_verse_1 := dk_seg dksX0_verse_0 22 rfl rfl
theorem dksX0_verse_2 : cX0_verse.data.toList.drop 45 = dktX0_verse_2 := dk_seg dksX0_verse_1 23 rfl rfl
theorem dX0_verse_0 : decode cX0_verse 0 = .ok (.aload_n 0, 1) := dk_42 (dk_at dksX0_verse_0 0 rfl rfl)
theorem dX0_verse_1 : decode cX0_verse 1 = .ok (.iload_n 1, 1) := dk_27 (dk_at dksX0_verse_0 1 rfl rfl)
theorem dX0_verse_2 : decode cX0_verse 2 = .ok (.invokevirtual 169, 3) := dk_182 0 169 (dk_at dksX0_verse_0 2 rfl rfl)
theorem dX0_verse_5 : decode cX0_verse 5 = .ok (.ifCond .eq 11, 3) := dk_153 0 11 (dk_at dksX0_verse_0 5 rfl rfl)
theorem dX0_verse_8 : decode cX0_verse 8 = .ok (.aload_n 0, 1) := dk_42 (dk_at dksX0_verse_0 8 rfl rfl)
theorem dX0_verse_9 : decode cX0_verse 9 = .ok (.iload_n 2, 1) := dk_28 (dk_at dksX0_verse_0 9 rfl rfl)
theorem dX0_verse_10 : decode cX0_verse 10 = .ok (.invokevirtual 169, 3) := dk_182 0 169 (dk_at dksX0_verse_0 10 rfl rfl)
theorem dX0_verse_13 : decode cX0_verse 13 = .ok (.ifCond .ne 6, 3) := dk_154 0 6 (dk_at dksX0_verse_0 13 rfl rfl)
theorem dX0_verse_16 : decode cX0_verse 16 = .ok (.ldc 251, 2) := dk_18 251 (dk_at dksX0_verse_0 16 rfl rfl)
theorem dX0_verse_18 : decode cX0_verse 18 = .ok (.ireturn, 1) := dk_172 (dk_at dksX0_verse_0 18 rfl rfl)
theorem dX0_verse_19 : decode cX0_verse 19 = .ok (.aload_n 0, 1) := dk_42 (dk_at dksX0_verse_0 19 rfl rfl)
theorem dX0_verse_20 : decode cX0_verse 20 = .ok (.iload_n 1, 1) := dk_27 (dk_at dksX0_verse_0 20 rfl rfl)
theorem dX0_verse_21 : decode cX0_verse 21 = .ok (.iconst 0, 1) := dk_3 (dk_at dksX0_verse_0 21 rfl rfl)
theorem dX0_verse_22 : decode cX0_verse 22 = .ok (.invokevirtual 248, 3) := dk_182 0 248 (dk_at dksX0_verse_1 0 rfl rfl)
theorem dX0_verse_25 : decode cX0_verse 25 = .ok (.istore_n 3, 1) := dk_62 (dk_at dksX0_verse_1 3 rfl rfl)
theorem dX0_verse_26 : decode cX0_verse 26 = .ok (.aload_n 0, 1) := dk_42 (dk_at dksX0_verse_1 4 rfl rfl)
theorem dX0_verse_27 : decode cX0_verse 27 = .ok (.iload_n 2, 1) := dk_28 (dk_at dksX0_verse_1 5 rfl rfl)
theorem dX0_verse_28 : decode cX0_verse 28 = .ok (.iconst 0, 1) := dk_3 (dk_at dksX0_verse_1 6 rfl rfl)
theorem dX0_verse_29 : decode cX0_verse 29 = .ok (.invokevirtual 248, 3) := dk_182 0 248 (dk_at dksX0_verse_1 7 rfl rfl)
theorem dX0_verse_32 : decode cX0_verse 32 = .ok (.istore 4, 2) := dk_54 4 (dk_at dksX0_verse_1 10 rfl rfl)
theorem dX0_verse_34 : decode cX0_verse 34 = .ok (.iload_n 3, 1) := dk_29 (dk_at dksX0_verse_1 12 rfl rfl)
theorem dX0_verse_35 : decode cX0_verse 35 = .ok (.iconst (-1), 1) := dk_2 (dk_at dksX0_verse_1 13 rfl rfl)
theorem dX0_verse_36 : decode cX0_verse 36 = .ok (.if_icmp .eq 9, 3) := dk_159 0 9 (dk_at dksX0_verse_1 14 rfl rfl)
theorem dX0_verse_39 : decode cX0_verse 39 = .ok (.iload 4, 2) := dk_21 4 (dk_at dksX0_verse_1 17 rfl rfl)
theorem dX0_verse_41 : decode cX0_verse 41 = .ok (.iconst (-1), 1) := dk_2 (dk_at dksX0_verse_1 19 rfl rfl)
theorem dX0_verse_42 : decode cX0_verse 42 = .ok (.if_icmp .ne 8, 3) := dk_160 0 8 (dk_at dksX0_verse_1 20 rfl rfl)
theorem dX0_verse_45 : decode cX0_verse 45 = .ok (.ldc 251, 2) := dk_18 251 (dk_at dksX0_verse_2 0 rfl rfl)
theorem dX0_verse_47 : decode cX0_verse 47 = .ok (.goto 11, 3) := dk_167 0 11 (dk_at dksX0_verse_2 2 rfl rfl)
theorem dX0_verse_50 : decode cX0_verse 50 = .ok (.sipush 1000, 3) := dk_17 3 232 (dk_at dksX0_verse_2 5 rfl rfl)
theorem dX0_verse_53 : decode cX0_verse 53 = .ok (.iload_n 3, 1) := dk_29 (dk_at dksX0_verse_2 8 rfl rfl)
theorem dX0_verse_54 : decode cX0_verse 54 = .ok (.imul, 1) := dk_104 (dk_at dksX0_verse_2 9 rfl rfl)
theorem dX0_verse_55 : decode cX0_verse 55 = .ok (.iload 4, 2) := dk_21 4 (dk_at dksX0_verse_2 10 rfl rfl)
theorem dX0_verse_57 : decode cX0_verse 57 = .ok (.idiv, 1) := dk_108 (dk_at dksX0_verse_2 12 rfl rfl)
theorem dX0_verse_58 : decode cX0_verse 58 = .ok (.ireturn, 1) := dk_172 (dk_at dksX0_verse_2 13 rfl rfl)
abbrev cX0_near : ByteArray := prog_1_method_46_code
def yX0_near : MethodName := ⟨RX0, "near", "(IIIZ)I"⟩
def dkwX0_near_6 : List UInt8 := [54, 5, 132, 6, 1, 167, 255, 151, 21, 5, 172]
abbrev dktX0_near_6 : List UInt8 := dkwX0_near_6 ++ []
def dkwX0_near_5 : List UInt8 := [159, 0, 22, 21, 8, 2, 159, 0, 16, 21, 8, 21, 7, 100, 29, 160, 0, 7, 4, 167, 0, 4, 3, 96]
abbrev dktX0_near_5 : List UInt8 := dkwX0_near_5 ++ dktX0_near_6
def dkwX0_near_4 : List UInt8 := [153, 0, 10, 21, 6, 4, 100, 167, 0, 5, 21, 6, 46, 184, 1, 1, 54, 8, 21, 5, 21, 7, 2]
abbrev dktX0_near_4 : List UInt8 := dkwX0_near_4 ++ dktX0_near_5
def dkwX0_near_3 : List UInt8 := [21, 6, 4, 100, 46, 184, 1, 1, 54, 7, 42, 28, 182, 0, 127, 42, 27, 182, 0, 127, 21, 4]
abbrev dktX0_near_3 : List UInt8 := dkwX0_near_3 ++ dktX0_near_4
def dkwX0_near_2 : List UInt8 := [162, 0, 100, 42, 28, 182, 0, 127, 42, 27, 182, 0, 127, 21, 4, 153, 0, 8, 21, 6, 167, 0, 7]
abbrev dktX0_near_2 : List UInt8 := dkwX0_near_2 ++ dktX0_near_3
def dkwX0_near_1 : List UInt8 := [184, 0, 5, 154, 0, 6, 16, 254, 172, 3, 54, 5, 4, 54, 6, 21, 6, 42, 27, 182, 0, 127, 190]
abbrev dktX0_near_1 : List UInt8 := dkwX0_near_1 ++ dktX0_near_2
def dkwX0_near_0 : List UInt8 := [42, 27, 182, 0, 169, 153, 0, 23, 42, 28, 182, 0, 169, 153, 0, 15, 29, 133, 10, 20, 0, 206]
abbrev dktX0_near_0 : List UInt8 := dkwX0_near_0 ++ dktX0_near_1
theorem dksX0_near_0 : cX0_near.data.toList.drop 0 = dktX0_near_0 := by decide +kernel
theorem dksX0_near_1 : cX0_near.data.toList.drop 22 = dktX0_near_1 := dk_seg dksX0_near_0 22 rfl rfl
theorem dksX0_near_2 : cX0_near.data.toList.drop 45 = dktX0_near_2 := dk_seg dksX0_near_1 23 rfl rfl
theorem dksX0_near_3 : cX0_near.data.toList.drop 68 = dktX0_near_3 := dk_seg dksX0_near_2 23 rfl rfl
theorem dksX0_near_4 : cX0_near.data.toList.drop 90 = dktX0_near_4 := dk_seg dksX0_near_3 22 rfl rfl
theorem dksX0_near_5 : cX0_near.data.toList.drop 113 = dktX0_near_5 := dk_seg dksX0_near_4 23 rfl rfl
theorem dksX0_near_6 : cX0_near.data.toList.drop 137 = dktX0_near_6 := dk_seg dksX0_near_5 24 rfl rfl
theorem dX0_near_0 : decode cX0_near 0 = .ok (.aload_n 0, 1) := dk_42 (dk_at dksX0_near_0 0 rfl rfl)
theorem dX0_near_1 : decode cX0_near 1 = .ok (.iload_n 1, 1) := dk_27 (dk_at dksX0_near_0 1 rfl rfl)
theorem dX0_near_2 : decode cX0_near 2 = .ok (.invokevirtual 169, 3) := dk_182 0 169 (dk_at dksX0_near_0 2 rfl rfl)
theorem dX0_near_5 : decode cX0_near 5 = .ok (.ifCond .eq 23, 3) := dk_153 0 23 (dk_at dksX0_near_0 5 rfl rfl)
theorem dX0_near_8 : decode cX0_near 8 = .ok (.aload_n 0, 1) := dk_42 (dk_at dksX0_near_0 8 rfl rfl)
theorem dX0_near_9 : decode cX0_near 9 = .ok (.iload_n 2, 1) := dk_28 (dk_at dksX0_near_0 9 rfl rfl)
theorem dX0_near_10 : decode cX0_near 10 = .ok (.invokevirtual 169, 3) := dk_182 0 169 (dk_at dksX0_near_0 10 rfl rfl)
theorem dX0_near_13 : decode cX0_near 13 = .ok (.ifCond .eq 15, 3) := dk_153 0 15 (dk_at dksX0_near_0 13 rfl rfl)
theorem dX0_near_16 : decode cX0_near 16 = .ok (.iload_n 3, 1) := dk_29 (dk_at dksX0_near_0 16 rfl rfl)
theorem dX0_near_17 : decode cX0_near 17 = .ok (.i2l, 1) := dk_133 (dk_at dksX0_near_0 17 rfl rfl)
theorem dX0_near_18 : decode cX0_near 18 = .ok (.lconst 1, 1) := dk_10 (dk_at dksX0_near_0 18 rfl rfl)
theorem dX0_near_19 : decode cX0_near 19 = .ok (.ldc2_w 206, 3) := dk_20 0 206 (dk_at dksX0_near_0 19 rfl rfl)
theorem dX0_near_22 : decode cX0_near 22 = .ok (.invokestatic 5, 3) := dk_184 0 5 (dk_at dksX0_near_1 0 rfl rfl)
theorem dX0_near_25 : decode cX0_near 25 = .ok (.ifCond .ne 6, 3) := dk_154 0 6 (dk_at dksX0_near_1 3 rfl rfl)
theorem dX0_near_28 : decode cX0_near 28 = .ok (.bipush (-2), 2) := dk_16 254 (dk_at dksX0_near_1 6 rfl rfl)
theorem dX0_near_30 : decode cX0_near 30 = .ok (.ireturn, 1) := dk_172 (dk_at dksX0_near_1 8 rfl rfl)
theorem dX0_near_31 : decode cX0_near 31 = .ok (.iconst 0, 1) := dk_3 (dk_at dksX0_near_1 9 rfl rfl)
theorem dX0_near_32 : decode cX0_near 32 = .ok (.istore 5, 2) := dk_54 5 (dk_at dksX0_near_1 10 rfl rfl)
theorem dX0_near_34 : decode cX0_near 34 = .ok (.iconst 1, 1) := dk_4 (dk_at dksX0_near_1 12 rfl rfl)
theorem dX0_near_35 : decode cX0_near 35 = .ok (.istore 6, 2) := dk_54 6 (dk_at dksX0_near_1 13 rfl rfl)
theorem dX0_near_37 : decode cX0_near 37 = .ok (.iload 6, 2) := dk_21 6 (dk_at dksX0_near_1 15 rfl rfl)
theorem dX0_near_39 : decode cX0_near 39 = .ok (.aload_n 0, 1) := dk_42 (dk_at dksX0_near_1 17 rfl rfl)
theorem dX0_near_40 : decode cX0_near 40 = .ok (.iload_n 1, 1) := dk_27 (dk_at dksX0_near_1 18 rfl rfl)
theorem dX0_near_41 : decode cX0_near 41 = .ok (.invokevirtual 127, 3) := dk_182 0 127 (dk_at dksX0_near_1 19 rfl rfl)
theorem dX0_near_44 : decode cX0_near 44 = .ok (.arraylength, 1) := dk_190 (dk_at dksX0_near_1 22 rfl rfl)
theorem dX0_near_45 : decode cX0_near 45 = .ok (.if_icmp .ge 100, 3) := dk_162 0 100 (dk_at dksX0_near_2 0 rfl rfl)
theorem dX0_near_48 : decode cX0_near 48 = .ok (.aload_n 0, 1) := dk_42 (dk_at dksX0_near_2 3 rfl rfl)
theorem dX0_near_49 : decode cX0_near 49 = .ok (.iload_n 2, 1) := dk_28 (dk_at dksX0_near_2 4 rfl rfl)
theorem dX0_near_50 : decode cX0_near 50 = .ok (.invokevirtual 127, 3) := dk_182 0 127 (dk_at dksX0_near_2 5 rfl rfl)
theorem dX0_near_53 : decode cX0_near 53 = .ok (.aload_n 0, 1) := dk_42 (dk_at dksX0_near_2 8 rfl rfl)
theorem dX0_near_54 : decode cX0_near 54 = .ok (.iload_n 1, 1) := dk_27 (dk_at dksX0_near_2 9 rfl rfl)
theorem dX0_near_55 : decode cX0_near 55 = .ok (.invokevirtual 127, 3) := dk_182 0 127 (dk_at dksX0_near_2 10 rfl rfl)
theorem dX0_near_58 : decode cX0_near 58 = .ok (.iload 4, 2) := dk_21 4 (dk_at dksX0_near_2 13 rfl rfl)
theorem dX0_near_60 : decode cX0_near 60 = .ok (.ifCond .eq 8, 3) := dk_153 0 8 (dk_at dksX0_near_2 15 rfl rfl)
theorem dX0_near_63 : decode cX0_near 63 = .ok (.iload 6, 2) := dk_21 6 (dk_at dksX0_near_2 18 rfl rfl)
theorem dX0_near_65 : decode cX0_near 65 = .ok (.goto 7, 3) := dk_167 0 7 (dk_at dksX0_near_2 20 rfl rfl)
theorem dX0_near_68 : decode cX0_near 68 = .ok (.iload 6, 2) := dk_21 6 (dk_at dksX0_near_3 0 rfl rfl)
theorem dX0_near_70 : decode cX0_near 70 = .ok (.iconst 1, 1) := dk_4 (dk_at dksX0_near_3 2 rfl rfl)
theorem dX0_near_71 : decode cX0_near 71 = .ok (.isub, 1) := dk_100 (dk_at dksX0_near_3 3 rfl rfl)
theorem dX0_near_72 : decode cX0_near 72 = .ok (.iaload, 1) := dk_46 (dk_at dksX0_near_3 4 rfl rfl)
theorem dX0_near_73 : decode cX0_near 73 = .ok (.invokestatic 257, 3) := dk_184 1 1 (dk_at dksX0_near_3 5 rfl rfl)
theorem dX0_near_76 : decode cX0_near 76 = .ok (.istore 7, 2) := dk_54 7 (dk_at dksX0_near_3 8 rfl rfl)
theorem dX0_near_78 : decode cX0_near 78 = .ok (.aload_n 0, 1) := dk_42 (dk_at dksX0_near_3 10 rfl rfl)
theorem dX0_near_79 : decode cX0_near 79 = .ok (.iload_n 2, 1) := dk_28 (dk_at dksX0_near_3 11 rfl rfl)
theorem dX0_near_80 : decode cX0_near 80 = .ok (.invokevirtual 127, 3) := dk_182 0 127 (dk_at dksX0_near_3 12 rfl rfl)
theorem dX0_near_83 : decode cX0_near 83 = .ok (.aload_n 0, 1) := dk_42 (dk_at dksX0_near_3 15 rfl rfl)
theorem dX0_near_84 : decode cX0_near 84 = .ok (.iload_n 1, 1) := dk_27 (dk_at dksX0_near_3 16 rfl rfl)
theorem dX0_near_85 : decode cX0_near 85 = .ok (.invokevirtual 127, 3) := dk_182 0 127 (dk_at dksX0_near_3 17 rfl rfl)
theorem dX0_near_88 : decode cX0_near 88 = .ok (.iload 4, 2) := dk_21 4 (dk_at dksX0_near_3 20 rfl rfl)
theorem dX0_near_90 : decode cX0_near 90 = .ok (.ifCond .eq 10, 3) := dk_153 0 10 (dk_at dksX0_near_4 0 rfl rfl)
theorem dX0_near_93 : decode cX0_near 93 = .ok (.iload 6, 2) := dk_21 6 (dk_at dksX0_near_4 3 rfl rfl)
theorem dX0_near_95 : decode cX0_near 95 = .ok (.iconst 1, 1) := dk_4 (dk_at dksX0_near_4 5 rfl rfl)
theorem dX0_near_96 : decode cX0_near 96 = .ok (.isub, 1) := dk_100 (dk_at dksX0_near_4 6 rfl rfl)
theorem dX0_near_97 : decode cX0_near 97 = .ok (.goto 5, 3) := dk_167 0 5 (dk_at dksX0_near_4 7 rfl rfl)
theorem dX0_near_100 : decode cX0_near 100 = .ok (.iload 6, 2) := dk_21 6 (dk_at dksX0_near_4 10 rfl rfl)
theorem dX0_near_102 : decode cX0_near 102 = .ok (.iaload, 1) := dk_46 (dk_at dksX0_near_4 12 rfl rfl)
theorem dX0_near_103 : decode cX0_near 103 = .ok (.invokestatic 257, 3) := dk_184 1 1 (dk_at dksX0_near_4 13 rfl rfl)
theorem dX0_near_106 : decode cX0_near 106 = .ok (.istore 8, 2) := dk_54 8 (dk_at dksX0_near_4 16 rfl rfl)
theorem dX0_near_108 : decode cX0_near 108 = .ok (.iload 5, 2) := dk_21 5 (dk_at dksX0_near_4 18 rfl rfl)
theorem dX0_near_110 : decode cX0_near 110 = .ok (.iload 7, 2) := dk_21 7 (dk_at dksX0_near_4 20 rfl rfl)
theorem dX0_near_112 : decode cX0_near 112 = .ok (.iconst (-1), 1) := dk_2 (dk_at dksX0_near_4 22 rfl rfl)
theorem dX0_near_113 : decode cX0_near 113 = .ok (.if_icmp .eq 22, 3) := dk_159 0 22 (dk_at dksX0_near_5 0 rfl rfl)
theorem dX0_near_116 : decode cX0_near 116 = .ok (.iload 8, 2) := dk_21 8 (dk_at dksX0_near_5 3 rfl rfl)
theorem dX0_near_118 : decode cX0_near 118 = .ok (.iconst (-1), 1) := dk_2 (dk_at dksX0_near_5 5 rfl rfl)
theorem dX0_near_119 : decode cX0_near 119 = .ok (.if_icmp .eq 16, 3) := dk_159 0 16 (dk_at dksX0_near_5 6 rfl rfl)
theorem dX0_near_122 : decode cX0_near 122 = .ok (.iload 8, 2) := dk_21 8 (dk_at dksX0_near_5 9 rfl rfl)
theorem dX0_near_124 : decode cX0_near 124 = .ok (.iload 7, 2) := dk_21 7 (dk_at dksX0_near_5 11 rfl rfl)
theorem dX0_near_126 : decode cX0_near 126 = .ok (.isub, 1) := dk_100 (dk_at dksX0_near_5 13 rfl rfl)
theorem dX0_near_127 : decode cX0_near 127 = .ok (.iload_n 3, 1) := dk_29 (dk_at dksX0_near_5 14 rfl rfl)
theorem dX0_near_128 : decode cX0_near 128 = .ok (.if_icmp .ne 7, 3) := dk_160 0 7 (dk_at dksX0_near_5 15 rfl rfl)
theorem dX0_near_131 : decode cX0_near 131 = .ok (.iconst 1, 1) := dk_4 (dk_at dksX0_near_5 18 rfl rfl)
theorem dX0_near_132 : decode cX0_near 132 = .ok (.goto 4, 3) := dk_167 0 4 (dk_at dksX0_near_5 19 rfl rfl)
theorem dX0_near_135 : decode cX0_near 135 = .ok (.iconst 0, 1) := dk_3 (dk_at dksX0_near_5 22 rfl rfl)
theorem dX0_near_136 : decode cX0_near 136 = .ok (.iadd, 1) := dk_96 (dk_at dksX0_near_5 23 rfl rfl)
theorem dX0_near_137 : decode cX0_near 137 = .ok (.istore 5, 2) := dk_54 5 (dk_at dksX0_near_6 0 rfl rfl)
theorem dX0_near_139 : decode cX0_near 139 = .ok (.iinc 6 1, 3) := dk_132 6 1 (dk_at dksX0_near_6 2 rfl rfl)
theorem dX0_near_142 : decode cX0_near 142 = .ok (.goto (-105), 3) := dk_167 255 151 (dk_at dksX0_near_6 5 rfl rfl)
theorem dX0_near_145 : decode cX0_near 145 = .ok (.iload 5, 2) := dk_21 5 (dk_at dksX0_near_6 8 rfl rfl)
theorem dX0_near_147 : decode cX0_near 147 = .ok (.ireturn, 1) := dk_172 (dk_at dksX0_near_6 10 rfl rfl)
abbrev cX0_placeOf : ByteArray := prog_1_method_45_code
def yX0_placeOf : MethodName := ⟨RX0, "placeOf", "([II)I"⟩
def dkwX0_placeOf_1 : List UInt8 := [172]
abbrev dktX0_placeOf_1 : List UInt8 := dkwX0_placeOf_1 ++ []
def dkwX0_placeOf_0 : List UInt8 := [3, 61, 28, 42, 190, 162, 0, 18, 42, 28, 46, 27, 160, 0, 5, 28, 172, 132, 2, 1, 167, 255, 238, 2]
abbrev dktX0_placeOf_0 : List UInt8 := dkwX0_placeOf_0 ++ dktX0_placeOf_1
theorem dksX0_placeOf_0 : cX0_placeOf.data.toList.drop 0 = dktX0_placeOf_0 := by decide +kernel
theorem dksX0_placeOf_1 : cX0_placeOf.data.toList.drop 24 = dktX0_placeOf_1 := dk_seg dksX0_placeOf_0 24 rfl rfl
theorem dX0_placeOf_0 : decode cX0_placeOf 0 = .ok (.iconst 0, 1) := dk_3 (dk_at dksX0_placeOf_0 0 rfl rfl)
theorem dX0_placeOf_1 : decode cX0_placeOf 1 = .ok (.istore_n 2, 1) := dk_61 (dk_at dksX0_placeOf_0 1 rfl rfl)
theorem dX0_placeOf_2 : decode cX0_placeOf 2 = .ok (.iload_n 2, 1) := dk_28 (dk_at dksX0_placeOf_0 2 rfl rfl)
theorem dX0_placeOf_3 : decode cX0_placeOf 3 = .ok (.aload_n 0, 1) := dk_42 (dk_at dksX0_placeOf_0 3 rfl rfl)
theorem dX0_placeOf_4 : decode cX0_placeOf 4 = .ok (.arraylength, 1) := dk_190 (dk_at dksX0_placeOf_0 4 rfl rfl)
theorem dX0_placeOf_5 : decode cX0_placeOf 5 = .ok (.if_icmp .ge 18, 3) := dk_162 0 18 (dk_at dksX0_placeOf_0 5 rfl rfl)
theorem dX0_placeOf_8 : decode cX0_placeOf 8 = .ok (.aload_n 0, 1) := dk_42 (dk_at dksX0_placeOf_0 8 rfl rfl)
theorem dX0_placeOf_9 : decode cX0_placeOf 9 = .ok (.iload_n 2, 1) := dk_28 (dk_at dksX0_placeOf_0 9 rfl rfl)
theorem dX0_placeOf_10 : decode cX0_placeOf 10 = .ok (.iaload, 1) := dk_46 (dk_at dksX0_placeOf_0 10 rfl rfl)
theorem dX0_placeOf_11 : decode cX0_placeOf 11 = .ok (.iload_n 1, 1) := dk_27 (dk_at dksX0_placeOf_0 11 rfl rfl)
theorem dX0_placeOf_12 : decode cX0_placeOf 12 = .ok (.if_icmp .ne 5, 3) := dk_160 0 5 (dk_at dksX0_placeOf_0 12 rfl rfl)
theorem dX0_placeOf_15 : decode cX0_placeOf 15 = .ok (.iload_n 2, 1) := dk_28 (dk_at dksX0_placeOf_0 15 rfl rfl)
theorem dX0_placeOf_16 : decode cX0_placeOf 16 = .ok (.ireturn, 1) := dk_172 (dk_at dksX0_placeOf_0 16 rfl rfl)
theorem dX0_placeOf_17 : decode cX0_placeOf 17 = .ok (.iinc 2 1, 3) := dk_132 2 1 (dk_at dksX0_placeOf_0 17 rfl rfl)
theorem dX0_placeOf_20 : decode cX0_placeOf 20 = .ok (.goto (-18), 3) := dk_167 255 238 (dk_at dksX0_placeOf_0 20 rfl rfl)
theorem dX0_placeOf_23 : decode cX0_placeOf 23 = .ok (.iconst (-1), 1) := dk_2 (dk_at dksX0_placeOf_0 23 rfl rfl)
theorem dX0_placeOf_24 : decode cX0_placeOf 24 = .ok (.ireturn, 1) := dk_172 (dk_at dksX0_placeOf_1 0 rfl rfl)
abbrev cX0_fit : ByteArray := prog_1_method_48_code
def yX0_fit : MethodName := ⟨RX0, "fit", "(IIIII)I"⟩
def dkwX0_fit_11 : List UInt8 := [4, 160, 0, 8, 21, 8, 167, 0, 5, 21, 9, 172]
abbrev dktX0_fit_11 : List UInt8 := dkwX0_fit_11 ++ []
def dkwX0_fit_10 : List UInt8 := [180, 1, 24, 27, 50, 28, 25, 6, 83, 25, 11, 191, 21, 5, 154, 0, 8, 21, 7, 167, 0, 16, 21, 5]
abbrev dktX0_fit_10 : List UInt8 := dkwX0_fit_10 ++ dktX0_fit_11
def dkwX0_fit_9 : List UInt8 := [180, 0, 191, 180, 1, 24, 27, 50, 28, 25, 6, 83, 167, 0, 24, 58, 11, 42, 180, 0, 46, 180, 0, 191]
abbrev dktX0_fit_9 : List UInt8 := dkwX0_fit_9 ++ dktX0_fit_10
def dkwX0_fit_8 : List UInt8 := [21, 10, 167, 0, 5, 21, 8, 54, 8, 21, 10, 54, 9, 132, 10, 1, 167, 255, 191, 42, 180, 0, 46]
abbrev dktX0_fit_8 : List UInt8 := dkwX0_fit_8 ++ dktX0_fit_9
def dkwX0_fit_7 : List UInt8 := [183, 1, 30, 83, 42, 182, 1, 32, 154, 0, 6, 167, 0, 25, 132, 7, 1, 21, 8, 2, 160, 0, 8]
abbrev dktX0_fit_7 : List UInt8 := dkwX0_fit_7 ++ dktX0_fit_8
def dkwX0_fit_6 : List UInt8 := [21, 4, 163, 0, 64, 42, 180, 0, 46, 180, 0, 191, 180, 1, 24, 27, 50, 28, 187, 1, 28, 89, 21, 10]
abbrev dktX0_fit_6 : List UInt8 := dkwX0_fit_6 ++ dktX0_fit_7
def dkwX0_fit_5 : List UInt8 := [180, 1, 24, 27, 50, 28, 50, 58, 6, 3, 54, 7, 2, 54, 8, 2, 54, 9, 29, 54, 10, 21, 10]
abbrev dktX0_fit_5 : List UInt8 := dkwX0_fit_5 ++ dktX0_fit_6
def dkwX0_fit_4 : List UInt8 := [153, 0, 13, 42, 180, 0, 46, 180, 1, 21, 153, 0, 6, 16, 251, 172, 42, 180, 0, 46, 180, 0, 191]
abbrev dktX0_fit_4 : List UInt8 := dkwX0_fit_4 ++ dktX0_fit_5
def dkwX0_fit_3 : List UInt8 := [180, 0, 46, 180, 0, 124, 180, 0, 153, 17, 1, 144, 163, 0, 23, 42, 180, 0, 46, 180, 0, 147]
abbrev dktX0_fit_3 : List UInt8 := dkwX0_fit_3 ++ dktX0_fit_4
def dkwX0_fit_2 : List UInt8 := [184, 0, 200, 153, 0, 16, 21, 5, 133, 9, 20, 0, 219, 184, 0, 5, 154, 0, 6, 16, 254, 172, 42]
abbrev dktX0_fit_2 : List UInt8 := dkwX0_fit_2 ++ dktX0_fit_3
def dkwX0_fit_1 : List UInt8 := [153, 0, 42, 21, 4, 29, 100, 16, 30, 163, 0, 33, 27, 133, 9, 10, 184, 0, 5, 153, 0, 23, 28]
abbrev dktX0_fit_1 : List UInt8 := dkwX0_fit_1 ++ dktX0_fit_2
def dkwX0_fit_0 : List UInt8 := [29, 133, 9, 21, 4, 133, 184, 0, 5, 153, 0, 56, 21, 4, 133, 29, 133, 20, 0, 221, 184, 0, 5]
abbrev dktX0_fit_0 : List UInt8 := dkwX0_fit_0 ++ dktX0_fit_1
theorem dksX0_fit_0 : cX0_fit.data.toList.drop 0 = dktX0_fit_0 := by decide +kernel
theorem dksX0_fit_1 : cX0_fit.data.toList.drop 23 = dktX0_fit_1 := dk_seg dksX0_fit_0 23 rfl rfl
theorem dksX0_fit_2 : cX0_fit.data.toList.drop 46 = dktX0_fit_2 := dk_seg dksX0_fit_1 23 rfl rfl
theorem dksX0_fit_3 : cX0_fit.data.toList.drop 69 = dktX0_fit_3 := dk_seg dksX0_fit_2 23 rfl rfl
theorem dksX0_fit_4 : cX0_fit.data.toList.drop 91 = dktX0_fit_4 := dk_seg dksX0_fit_3 22 rfl rfl
theorem dksX0_fit_5 : cX0_fit.data.toList.drop 114 = dktX0_fit_5 := dk_seg dksX0_fit_4 23 rfl rfl
theorem dksX0_fit_6 : cX0_fit.data.toList.drop 137 = dktX0_fit_6 := dk_seg dksX0_fit_5 23 rfl rfl
theorem dksX0_fit_7 : cX0_fit.data.toList.drop 161 = dktX0_fit_7 := dk_seg dksX0_fit_6 24 rfl rfl
theorem dksX0_fit_8 : cX0_fit.data.toList.drop 184 = dktX0_fit_8 := dk_seg dksX0_fit_7 23 rfl rfl
theorem dksX0_fit_9 : cX0_fit.data.toList.drop 207 = dktX0_fit_9 := dk_seg dksX0_fit_8 23 rfl rfl
theorem dksX0_fit_10 : cX0_fit.data.toList.drop 231 = dktX0_fit_10 := dk_seg dksX0_fit_9 24 rfl rfl
theorem dksX0_fit_11 : cX0_fit.data.toList.drop 255 = dktX0_fit_11 := dk_seg dksX0_fit_10 24 rfl rfl
theorem dX0_fit_0 : decode cX0_fit 0 = .ok (.iload_n 3, 1) := dk_29 (dk_at dksX0_fit_0 0 rfl rfl)
theorem dX0_fit_1 : decode cX0_fit 1 = .ok (.i2l, 1) := dk_133 (dk_at dksX0_fit_0 1 rfl rfl)
theorem dX0_fit_2 : decode cX0_fit 2 = .ok (.lconst 0, 1) := dk_9 (dk_at dksX0_fit_0 2 rfl rfl)
theorem dX0_fit_3 : decode cX0_fit 3 = .ok (.iload 4, 2) := dk_21 4 (dk_at dksX0_fit_0 3 rfl rfl)
theorem dX0_fit_5 : decode cX0_fit 5 = .ok (.i2l, 1) := dk_133 (dk_at dksX0_fit_0 5 rfl rfl)
theorem dX0_fit_6 : decode cX0_fit 6 = .ok (.invokestatic 5, 3) := dk_184 0 5 (dk_at dksX0_fit_0 6 rfl rfl)
theorem dX0_fit_9 : decode cX0_fit 9 = .ok (.ifCond .eq 56, 3) := dk_153 0 56 (dk_at dksX0_fit_0 9 rfl rfl)
theorem dX0_fit_12 : decode cX0_fit 12 = .ok (.iload 4, 2) := dk_21 4 (dk_at dksX0_fit_0 12 rfl rfl)
theorem dX0_fit_14 : decode cX0_fit 14 = .ok (.i2l, 1) := dk_133 (dk_at dksX0_fit_0 14 rfl rfl)
theorem dX0_fit_15 : decode cX0_fit 15 = .ok (.iload_n 3, 1) := dk_29 (dk_at dksX0_fit_0 15 rfl rfl)
theorem dX0_fit_16 : decode cX0_fit 16 = .ok (.i2l, 1) := dk_133 (dk_at dksX0_fit_0 16 rfl rfl)
theorem dX0_fit_17 : decode cX0_fit 17 = .ok (.ldc2_w 221, 3) := dk_20 0 221 (dk_at dksX0_fit_0 17 rfl rfl)
theorem dX0_fit_20 : decode cX0_fit 20 = .ok (.invokestatic 5, 3) := dk_184 0 5 (dk_at dksX0_fit_0 20 rfl rfl)
theorem dX0_fit_23 : decode cX0_fit 23 = .ok (.ifCond .eq 42, 3) := dk_153 0 42 (dk_at dksX0_fit_1 0 rfl rfl)
theorem dX0_fit_26 : decode cX0_fit 26 = .ok (.iload 4, 2) := dk_21 4 (dk_at dksX0_fit_1 3 rfl rfl)
theorem dX0_fit_28 : decode cX0_fit 28 = .ok (.iload_n 3, 1) := dk_29 (dk_at dksX0_fit_1 5 rfl rfl)
theorem dX0_fit_29 : decode cX0_fit 29 = .ok (.isub, 1) := dk_100 (dk_at dksX0_fit_1 6 rfl rfl)
theorem dX0_fit_30 : decode cX0_fit 30 = .ok (.bipush 30, 2) := dk_16 30 (dk_at dksX0_fit_1 7 rfl rfl)
theorem dX0_fit_32 : decode cX0_fit 32 = .ok (.if_icmp .gt 33, 3) := dk_163 0 33 (dk_at dksX0_fit_1 9 rfl rfl)
theorem dX0_fit_35 : decode cX0_fit 35 = .ok (.iload_n 1, 1) := dk_27 (dk_at dksX0_fit_1 12 rfl rfl)
theorem dX0_fit_36 : decode cX0_fit 36 = .ok (.i2l, 1) := dk_133 (dk_at dksX0_fit_1 13 rfl rfl)
theorem dX0_fit_37 : decode cX0_fit 37 = .ok (.lconst 0, 1) := dk_9 (dk_at dksX0_fit_1 14 rfl rfl)
theorem dX0_fit_38 : decode cX0_fit 38 = .ok (.lconst 1, 1) := dk_10 (dk_at dksX0_fit_1 15 rfl rfl)
theorem dX0_fit_39 : decode cX0_fit 39 = .ok (.invokestatic 5, 3) := dk_184 0 5 (dk_at dksX0_fit_1 16 rfl rfl)
theorem dX0_fit_42 : decode cX0_fit 42 = .ok (.ifCond .eq 23, 3) := dk_153 0 23 (dk_at dksX0_fit_1 19 rfl rfl)
theorem dX0_fit_45 : decode cX0_fit 45 = .ok (.iload_n 2, 1) := dk_28 (dk_at dksX0_fit_1 22 rfl rfl)
theorem dX0_fit_46 : decode cX0_fit 46 = .ok (.invokestatic 200, 3) := dk_184 0 200 (dk_at dksX0_fit_2 0 rfl rfl)
theorem dX0_fit_49 : decode cX0_fit 49 = .ok (.ifCond .eq 16, 3) := dk_153 0 16 (dk_at dksX0_fit_2 3 rfl rfl)
theorem dX0_fit_52 : decode cX0_fit 52 = .ok (.iload 5, 2) := dk_21 5 (dk_at dksX0_fit_2 6 rfl rfl)
theorem dX0_fit_54 : decode cX0_fit 54 = .ok (.i2l, 1) := dk_133 (dk_at dksX0_fit_2 8 rfl rfl)
theorem dX0_fit_55 : decode cX0_fit 55 = .ok (.lconst 0, 1) := dk_9 (dk_at dksX0_fit_2 9 rfl rfl)
theorem dX0_fit_56 : decode cX0_fit 56 = .ok (.ldc2_w 219, 3) := dk_20 0 219 (dk_at dksX0_fit_2 10 rfl rfl)
theorem dX0_fit_59 : decode cX0_fit 59 = .ok (.invokestatic 5, 3) := dk_184 0 5 (dk_at dksX0_fit_2 13 rfl rfl)
theorem dX0_fit_62 : decode cX0_fit 62 = .ok (.ifCond .ne 6, 3) := dk_154 0 6 (dk_at dksX0_fit_2 16 rfl rfl)
theorem dX0_fit_65 : decode cX0_fit 65 = .ok (.bipush (-2), 2) := dk_16 254 (dk_at dksX0_fit_2 19 rfl rfl)
theorem dX0_fit_67 : decode cX0_fit 67 = .ok (.ireturn, 1) := dk_172 (dk_at dksX0_fit_2 21 rfl rfl)
theorem dX0_fit_68 : decode cX0_fit 68 = .ok (.aload_n 0, 1) := dk_42 (dk_at dksX0_fit_2 22 rfl rfl)
theorem dX0_fit_69 : decode cX0_fit 69 = .ok (.getfield 46, 3) := dk_180 0 46 (dk_at dksX0_fit_3 0 rfl rfl)
theorem dX0_fit_72 : decode cX0_fit 72 = .ok (.getfield 124, 3) := dk_180 0 124 (dk_at dksX0_fit_3 3 rfl rfl)
theorem dX0_fit_75 : decode cX0_fit 75 = .ok (.getfield 153, 3) := dk_180 0 153 (dk_at dksX0_fit_3 6 rfl rfl)
theorem dX0_fit_78 : decode cX0_fit 78 = .ok (.sipush 400, 3) := dk_17 1 144 (dk_at dksX0_fit_3 9 rfl rfl)
theorem dX0_fit_81 : decode cX0_fit 81 = .ok (.if_icmp .gt 23, 3) := dk_163 0 23 (dk_at dksX0_fit_3 12 rfl rfl)
theorem dX0_fit_84 : decode cX0_fit 84 = .ok (.aload_n 0, 1) := dk_42 (dk_at dksX0_fit_3 15 rfl rfl)
theorem dX0_fit_85 : decode cX0_fit 85 = .ok (.getfield 46, 3) := dk_180 0 46 (dk_at dksX0_fit_3 16 rfl rfl)
theorem dX0_fit_88 : decode cX0_fit 88 = .ok (.getfield 147, 3) := dk_180 0 147 (dk_at dksX0_fit_3 19 rfl rfl)
theorem dX0_fit_91 : decode cX0_fit 91 = .ok (.ifCond .eq 13, 3) := dk_153 0 13 (dk_at dksX0_fit_4 0 rfl rfl)
theorem dX0_fit_94 : decode cX0_fit 94 = .ok (.aload_n 0, 1) := dk_42 (dk_at dksX0_fit_4 3 rfl rfl)
theorem dX0_fit_95 : decode cX0_fit 95 = .ok (.getfield 46, 3) := dk_180 0 46 (dk_at dksX0_fit_4 4 rfl rfl)
theorem dX0_fit_98 : decode cX0_fit 98 = .ok (.getfield 277, 3) := dk_180 1 21 (dk_at dksX0_fit_4 7 rfl rfl)
theorem dX0_fit_101 : decode cX0_fit 101 = .ok (.ifCond .eq 6, 3) := dk_153 0 6 (dk_at dksX0_fit_4 10 rfl rfl)
theorem dX0_fit_104 : decode cX0_fit 104 = .ok (.bipush (-5), 2) := dk_16 251 (dk_at dksX0_fit_4 13 rfl rfl)
theorem dX0_fit_106 : decode cX0_fit 106 = .ok (.ireturn, 1) := dk_172 (dk_at dksX0_fit_4 15 rfl rfl)
theorem dX0_fit_107 : decode cX0_fit 107 = .ok (.aload_n 0, 1) := dk_42 (dk_at dksX0_fit_4 16 rfl rfl)
theorem dX0_fit_108 : decode cX0_fit 108 = .ok (.getfield 46, 3) := dk_180 0 46 (dk_at dksX0_fit_4 17 rfl rfl)
theorem dX0_fit_111 : decode cX0_fit 111 = .ok (.getfield 191, 3) := dk_180 0 191 (dk_at dksX0_fit_4 20 rfl rfl)
theorem dX0_fit_114 : decode cX0_fit 114 = .ok (.getfield 280, 3) := dk_180 1 24 (dk_at dksX0_fit_5 0 rfl rfl)
theorem dX0_fit_117 : decode cX0_fit 117 = .ok (.iload_n 1, 1) := dk_27 (dk_at dksX0_fit_5 3 rfl rfl)
theorem dX0_fit_118 : decode cX0_fit 118 = .ok (.aaload, 1) := dk_50 (dk_at dksX0_fit_5 4 rfl rfl)
theorem dX0_fit_119 : decode cX0_fit 119 = .ok (.iload_n 2, 1) := dk_28 (dk_at dksX0_fit_5 5 rfl rfl)
theorem dX0_fit_120 : decode cX0_fit 120 = .ok (.aaload, 1) := dk_50 (dk_at dksX0_fit_5 6 rfl rfl)
theorem dX0_fit_121 : decode cX0_fit 121 = .ok (.astore 6, 2) := dk_58 6 (dk_at dksX0_fit_5 7 rfl rfl)
theorem dX0_fit_123 : decode cX0_fit 123 = .ok (.iconst 0, 1) := dk_3 (dk_at dksX0_fit_5 9 rfl rfl)
theorem dX0_fit_124 : decode cX0_fit 124 = .ok (.istore 7, 2) := dk_54 7 (dk_at dksX0_fit_5 10 rfl rfl)
theorem dX0_fit_126 : decode cX0_fit 126 = .ok (.iconst (-1), 1) := dk_2 (dk_at dksX0_fit_5 12 rfl rfl)
theorem dX0_fit_127 : decode cX0_fit 127 = .ok (.istore 8, 2) := dk_54 8 (dk_at dksX0_fit_5 13 rfl rfl)
theorem dX0_fit_129 : decode cX0_fit 129 = .ok (.iconst (-1), 1) := dk_2 (dk_at dksX0_fit_5 15 rfl rfl)
theorem dX0_fit_130 : decode cX0_fit 130 = .ok (.istore 9, 2) := dk_54 9 (dk_at dksX0_fit_5 16 rfl rfl)
theorem dX0_fit_132 : decode cX0_fit 132 = .ok (.iload_n 3, 1) := dk_29 (dk_at dksX0_fit_5 18 rfl rfl)
theorem dX0_fit_133 : decode cX0_fit 133 = .ok (.istore 10, 2) := dk_54 10 (dk_at dksX0_fit_5 19 rfl rfl)
theorem dX0_fit_135 : decode cX0_fit 135 = .ok (.iload 10, 2) := dk_21 10 (dk_at dksX0_fit_5 21 rfl rfl)
theorem dX0_fit_137 : decode cX0_fit 137 = .ok (.iload 4, 2) := dk_21 4 (dk_at dksX0_fit_6 0 rfl rfl)
theorem dX0_fit_139 : decode cX0_fit 139 = .ok (.if_icmp .gt 64, 3) := dk_163 0 64 (dk_at dksX0_fit_6 2 rfl rfl)
theorem dX0_fit_142 : decode cX0_fit 142 = .ok (.aload_n 0, 1) := dk_42 (dk_at dksX0_fit_6 5 rfl rfl)
theorem dX0_fit_143 : decode cX0_fit 143 = .ok (.getfield 46, 3) := dk_180 0 46 (dk_at dksX0_fit_6 6 rfl rfl)
theorem dX0_fit_146 : decode cX0_fit 146 = .ok (.getfield 191, 3) := dk_180 0 191 (dk_at dksX0_fit_6 9 rfl rfl)
theorem dX0_fit_149 : decode cX0_fit 149 = .ok (.getfield 280, 3) := dk_180 1 24 (dk_at dksX0_fit_6 12 rfl rfl)
theorem dX0_fit_152 : decode cX0_fit 152 = .ok (.iload_n 1, 1) := dk_27 (dk_at dksX0_fit_6 15 rfl rfl)
theorem dX0_fit_153 : decode cX0_fit 153 = .ok (.aaload, 1) := dk_50 (dk_at dksX0_fit_6 16 rfl rfl)
theorem dX0_fit_154 : decode cX0_fit 154 = .ok (.iload_n 2, 1) := dk_28 (dk_at dksX0_fit_6 17 rfl rfl)
theorem dX0_fit_155 : decode cX0_fit 155 = .ok (.new 284, 3) := dk_187 1 28 (dk_at dksX0_fit_6 18 rfl rfl)
theorem dX0_fit_158 : decode cX0_fit 158 = .ok (.dup, 1) := dk_89 (dk_at dksX0_fit_6 21 rfl rfl)
theorem dX0_fit_159 : decode cX0_fit 159 = .ok (.iload 10, 2) := dk_21 10 (dk_at dksX0_fit_6 22 rfl rfl)
theorem dX0_fit_161 : decode cX0_fit 161 = .ok (.invokespecial 286, 3) := dk_183 1 30 (dk_at dksX0_fit_7 0 rfl rfl)
theorem dX0_fit_164 : decode cX0_fit 164 = .ok (.aastore, 1) := dk_83 (dk_at dksX0_fit_7 3 rfl rfl)
theorem dX0_fit_165 : decode cX0_fit 165 = .ok (.aload_n 0, 1) := dk_42 (dk_at dksX0_fit_7 4 rfl rfl)
theorem dX0_fit_166 : decode cX0_fit 166 = .ok (.invokevirtual 288, 3) := dk_182 1 32 (dk_at dksX0_fit_7 5 rfl rfl)
theorem dX0_fit_169 : decode cX0_fit 169 = .ok (.ifCond .ne 6, 3) := dk_154 0 6 (dk_at dksX0_fit_7 8 rfl rfl)
theorem dX0_fit_172 : decode cX0_fit 172 = .ok (.goto 25, 3) := dk_167 0 25 (dk_at dksX0_fit_7 11 rfl rfl)
theorem dX0_fit_175 : decode cX0_fit 175 = .ok (.iinc 7 1, 3) := dk_132 7 1 (dk_at dksX0_fit_7 14 rfl rfl)
theorem dX0_fit_178 : decode cX0_fit 178 = .ok (.iload 8, 2) := dk_21 8 (dk_at dksX0_fit_7 17 rfl rfl)
theorem dX0_fit_180 : decode cX0_fit 180 = .ok (.iconst (-1), 1) := dk_2 (dk_at dksX0_fit_7 19 rfl rfl)
theorem dX0_fit_181 : decode cX0_fit 181 = .ok (.if_icmp .ne 8, 3) := dk_160 0 8 (dk_at dksX0_fit_7 20 rfl rfl)
theorem dX0_fit_184 : decode cX0_fit 184 = .ok (.iload 10, 2) := dk_21 10 (dk_at dksX0_fit_8 0 rfl rfl)
theorem dX0_fit_186 : decode cX0_fit 186 = .ok (.goto 5, 3) := dk_167 0 5 (dk_at dksX0_fit_8 2 rfl rfl)
theorem dX0_fit_189 : decode cX0_fit 189 = .ok (.iload 8, 2) := dk_21 8 (dk_at dksX0_fit_8 5 rfl rfl)
theorem dX0_fit_191 : decode cX0_fit 191 = .ok (.istore 8, 2) := dk_54 8 (dk_at dksX0_fit_8 7 rfl rfl)
theorem dX0_fit_193 : decode cX0_fit 193 = .ok (.iload 10, 2) := dk_21 10 (dk_at dksX0_fit_8 9 rfl rfl)
theorem dX0_fit_195 : decode cX0_fit 195 = .ok (.istore 9, 2) := dk_54 9 (dk_at dksX0_fit_8 11 rfl rfl)
theorem dX0_fit_197 : decode cX0_fit 197 = .ok (.iinc 10 1, 3) := dk_132 10 1 (dk_at dksX0_fit_8 13 rfl rfl)
theorem dX0_fit_200 : decode cX0_fit 200 = .ok (.goto (-65), 3) := dk_167 255 191 (dk_at dksX0_fit_8 16 rfl rfl)
theorem dX0_fit_203 : decode cX0_fit 203 = .ok (.aload_n 0, 1) := dk_42 (dk_at dksX0_fit_8 19 rfl rfl)
theorem dX0_fit_204 : decode cX0_fit 204 = .ok (.getfield 46, 3) := dk_180 0 46 (dk_at dksX0_fit_8 20 rfl rfl)
theorem dX0_fit_207 : decode cX0_fit 207 = .ok (.getfield 191, 3) := dk_180 0 191 (dk_at dksX0_fit_9 0 rfl rfl)
theorem dX0_fit_210 : decode cX0_fit 210 = .ok (.getfield 280, 3) := dk_180 1 24 (dk_at dksX0_fit_9 3 rfl rfl)
theorem dX0_fit_213 : decode cX0_fit 213 = .ok (.iload_n 1, 1) := dk_27 (dk_at dksX0_fit_9 6 rfl rfl)
theorem dX0_fit_214 : decode cX0_fit 214 = .ok (.aaload, 1) := dk_50 (dk_at dksX0_fit_9 7 rfl rfl)
theorem dX0_fit_215 : decode cX0_fit 215 = .ok (.iload_n 2, 1) := dk_28 (dk_at dksX0_fit_9 8 rfl rfl)
theorem dX0_fit_216 : decode cX0_fit 216 = .ok (.aload 6, 2) := dk_25 6 (dk_at dksX0_fit_9 9 rfl rfl)
theorem dX0_fit_218 : decode cX0_fit 218 = .ok (.aastore, 1) := dk_83 (dk_at dksX0_fit_9 11 rfl rfl)
theorem dX0_fit_219 : decode cX0_fit 219 = .ok (.goto 24, 3) := dk_167 0 24 (dk_at dksX0_fit_9 12 rfl rfl)
theorem dX0_fit_222 : decode cX0_fit 222 = .ok (.astore 11, 2) := dk_58 11 (dk_at dksX0_fit_9 15 rfl rfl)
theorem dX0_fit_224 : decode cX0_fit 224 = .ok (.aload_n 0, 1) := dk_42 (dk_at dksX0_fit_9 17 rfl rfl)
theorem dX0_fit_225 : decode cX0_fit 225 = .ok (.getfield 46, 3) := dk_180 0 46 (dk_at dksX0_fit_9 18 rfl rfl)
theorem dX0_fit_228 : decode cX0_fit 228 = .ok (.getfield 191, 3) := dk_180 0 191 (dk_at dksX0_fit_9 21 rfl rfl)
theorem dX0_fit_231 : decode cX0_fit 231 = .ok (.getfield 280, 3) := dk_180 1 24 (dk_at dksX0_fit_10 0 rfl rfl)
theorem dX0_fit_234 : decode cX0_fit 234 = .ok (.iload_n 1, 1) := dk_27 (dk_at dksX0_fit_10 3 rfl rfl)
theorem dX0_fit_235 : decode cX0_fit 235 = .ok (.aaload, 1) := dk_50 (dk_at dksX0_fit_10 4 rfl rfl)
theorem dX0_fit_236 : decode cX0_fit 236 = .ok (.iload_n 2, 1) := dk_28 (dk_at dksX0_fit_10 5 rfl rfl)
theorem dX0_fit_237 : decode cX0_fit 237 = .ok (.aload 6, 2) := dk_25 6 (dk_at dksX0_fit_10 6 rfl rfl)
theorem dX0_fit_239 : decode cX0_fit 239 = .ok (.aastore, 1) := dk_83 (dk_at dksX0_fit_10 8 rfl rfl)
theorem dX0_fit_240 : decode cX0_fit 240 = .ok (.aload 11, 2) := dk_25 11 (dk_at dksX0_fit_10 9 rfl rfl)
theorem dX0_fit_242 : decode cX0_fit 242 = .ok (.athrow, 1) := dk_191 (dk_at dksX0_fit_10 11 rfl rfl)
theorem dX0_fit_243 : decode cX0_fit 243 = .ok (.iload 5, 2) := dk_21 5 (dk_at dksX0_fit_10 12 rfl rfl)
theorem dX0_fit_245 : decode cX0_fit 245 = .ok (.ifCond .ne 8, 3) := dk_154 0 8 (dk_at dksX0_fit_10 14 rfl rfl)
theorem dX0_fit_248 : decode cX0_fit 248 = .ok (.iload 7, 2) := dk_21 7 (dk_at dksX0_fit_10 17 rfl rfl)
theorem dX0_fit_250 : decode cX0_fit 250 = .ok (.goto 16, 3) := dk_167 0 16 (dk_at dksX0_fit_10 19 rfl rfl)
theorem dX0_fit_253 : decode cX0_fit 253 = .ok (.iload 5, 2) := dk_21 5 (dk_at dksX0_fit_10 22 rfl rfl)
theorem dX0_fit_255 : decode cX0_fit 255 = .ok (.iconst 1, 1) := dk_4 (dk_at dksX0_fit_11 0 rfl rfl)
theorem dX0_fit_256 : decode cX0_fit 256 = .ok (.if_icmp .ne 8, 3) := dk_160 0 8 (dk_at dksX0_fit_11 1 rfl rfl)
theorem dX0_fit_259 : decode cX0_fit 259 = .ok (.iload 8, 2) := dk_21 8 (dk_at dksX0_fit_11 4 rfl rfl)
theorem dX0_fit_261 : decode cX0_fit 261 = .ok (.goto 5, 3) := dk_167 0 5 (dk_at dksX0_fit_11 6 rfl rfl)
theorem dX0_fit_264 : decode cX0_fit 264 = .ok (.iload 9, 2) := dk_21 9 (dk_at dksX0_fit_11 9 rfl rfl)
theorem dX0_fit_266 : decode cX0_fit 266 = .ok (.ireturn, 1) := dk_172 (dk_at dksX0_fit_11 11 rfl rfl)
abbrev cX0_replays : ByteArray := prog_1_method_47_code
def yX0_replays : MethodName := ⟨RX0, "replays", "()Z"⟩
def dkwX0_replays_6 : List UInt8 := [132, 1, 1, 167, 255, 127, 4, 172]
abbrev dktX0_replays_6 : List UInt8 := dkwX0_replays_6 ++ []
def dkwX0_replays_5 : List UInt8 := [162, 0, 24, 42, 180, 0, 57, 42, 44, 180, 1, 12, 182, 0, 127, 182, 0, 174, 132, 3, 1, 167, 255, 230]
abbrev dktX0_replays_5 : List UInt8 := dkwX0_replays_5 ++ dktX0_replays_6
def dkwX0_replays_4 : List UInt8 := [153, 0, 10, 44, 180, 1, 18, 167, 0, 4, 2, 159, 0, 36, 3, 172, 3, 62, 29, 44, 180, 1, 18]
abbrev dktX0_replays_4 : List UInt8 := dkwX0_replays_4 ++ dktX0_replays_5
def dkwX0_replays_3 : List UInt8 := [153, 0, 39, 42, 180, 0, 57, 42, 44, 180, 1, 12, 182, 0, 127, 2, 182, 0, 182, 44, 180, 1, 15]
abbrev dktX0_replays_3 : List UInt8 := dkwX0_replays_3 ++ dktX0_replays_4
def dkwX0_replays_2 : List UInt8 := [77, 42, 180, 0, 57, 44, 180, 1, 8, 42, 180, 0, 57, 180, 0, 153, 100, 182, 0, 188, 44, 180, 1, 9]
abbrev dktX0_replays_2 : List UInt8 := dkwX0_replays_2 ++ dktX0_replays_3
def dkwX0_replays_1 : List UInt8 := [185, 0, 103, 1, 0, 162, 0, 119, 42, 180, 0, 46, 180, 0, 141, 27, 185, 0, 119, 2, 0, 192, 0, 151]
abbrev dktX0_replays_1 : List UInt8 := dkwX0_replays_1 ++ dktX0_replays_2
def dkwX0_replays_0 : List UInt8 := [42, 180, 0, 57, 42, 180, 0, 46, 180, 0, 191, 182, 1, 4, 3, 60, 27, 42, 180, 0, 46, 180, 0, 141]
abbrev dktX0_replays_0 : List UInt8 := dkwX0_replays_0 ++ dktX0_replays_1
theorem dksX0_replays_0 : cX0_replays.data.toList.drop 0 = dktX0_replays_0 := by decide +kernel
theorem dksX0_replays_1 : cX0_replays.data.toList.drop 24 = dktX0_replays_1 := dk_seg dksX0_replays_0 24 rfl rfl
theorem dksX0_replays_2 : cX0_replays.data.toList.drop 48 = dktX0_replays_2 := dk_seg dksX0_replays_1 24 rfl rfl
theorem dksX0_replays_3 : cX0_replays.data.toList.drop 72 = dktX0_replays_3 := dk_seg dksX0_replays_2 24 rfl rfl
theorem dksX0_replays_4 : cX0_replays.data.toList.drop 95 = dktX0_replays_4 := dk_seg dksX0_replays_3 23 rfl rfl
theorem dksX0_replays_5 : cX0_replays.data.toList.drop 118 = dktX0_replays_5 := dk_seg dksX0_replays_4 23 rfl rfl
theorem dksX0_replays_6 : cX0_replays.data.toList.drop 142 = dktX0_replays_6 := dk_seg dksX0_replays_5 24 rfl rfl
theorem dX0_replays_0 : decode cX0_replays 0 = .ok (.aload_n 0, 1) := dk_42 (dk_at dksX0_replays_0 0 rfl rfl)
theorem dX0_replays_1 : decode cX0_replays 1 = .ok (.getfield 57, 3) := dk_180 0 57 (dk_at dksX0_replays_0 1 rfl rfl)
theorem dX0_replays_4 : decode cX0_replays 4 = .ok (.aload_n 0, 1) := dk_42 (dk_at dksX0_replays_0 4 rfl rfl)
theorem dX0_replays_5 : decode cX0_replays 5 = .ok (.getfield 46, 3) := dk_180 0 46 (dk_at dksX0_replays_0 5 rfl rfl)
theorem dX0_replays_8 : decode cX0_replays 8 = .ok (.getfield 191, 3) := dk_180 0 191 (dk_at dksX0_replays_0 8 rfl rfl)
theorem dX0_replays_11 : decode cX0_replays 11 = .ok (.invokevirtual 260, 3) := dk_182 1 4 (dk_at dksX0_replays_0 11 rfl rfl)
theorem dX0_replays_14 : decode cX0_replays 14 = .ok (.iconst 0, 1) := dk_3 (dk_at dksX0_replays_0 14 rfl rfl)
theorem dX0_replays_15 : decode cX0_replays 15 = .ok (.istore_n 1, 1) := dk_60 (dk_at dksX0_replays_0 15 rfl rfl)
theorem dX0_replays_16 : decode cX0_replays 16 = .ok (.iload_n 1, 1) := dk_27 (dk_at dksX0_replays_0 16 rfl rfl)
theorem dX0_replays_17 : decode cX0_replays 17 = .ok (.aload_n 0, 1) := dk_42 (dk_at dksX0_replays_0 17 rfl rfl)
theorem dX0_replays_18 : decode cX0_replays 18 = .ok (.getfield 46, 3) := dk_180 0 46 (dk_at dksX0_replays_0 18 rfl rfl)
theorem dX0_replays_21 : decode cX0_replays 21 = .ok (.getfield 141, 3) := dk_180 0 141 (dk_at dksX0_replays_0 21 rfl rfl)
theorem dX0_replays_24 : decode cX0_replays 24 = .ok (.invokeinterface 103 1, 5) := by decide +kernel
theorem dX0_replays_29 : decode cX0_replays 29 = .ok (.if_icmp .ge 119, 3) := dk_162 0 119 (dk_at dksX0_replays_1 5 rfl rfl)
theorem dX0_replays_32 : decode cX0_replays 32 = .ok (.aload_n 0, 1) := dk_42 (dk_at dksX0_replays_1 8 rfl rfl)
theorem dX0_replays_33 : decode cX0_replays 33 = .ok (.getfield 46, 3) := dk_180 0 46 (dk_at dksX0_replays_1 9 rfl rfl)
theorem dX0_replays_36 : decode cX0_replays 36 = .ok (.getfield 141, 3) := dk_180 0 141 (dk_at dksX0_replays_1 12 rfl rfl)
theorem dX0_replays_39 : decode cX0_replays 39 = .ok (.iload_n 1, 1) := dk_27 (dk_at dksX0_replays_1 15 rfl rfl)
theorem dX0_replays_40 : decode cX0_replays 40 = .ok (.invokeinterface 119 2, 5) := by decide +kernel
theorem dX0_replays_45 : decode cX0_replays 45 = .ok (.checkcast 151, 3) := dk_192 0 151 (dk_at dksX0_replays_1 21 rfl rfl)
theorem dX0_replays_48 : decode cX0_replays 48 = .ok (.astore_n 2, 1) := dk_77 (dk_at dksX0_replays_2 0 rfl rfl)
theorem dX0_replays_49 : decode cX0_replays 49 = .ok (.aload_n 0, 1) := dk_42 (dk_at dksX0_replays_2 1 rfl rfl)
theorem dX0_replays_50 : decode cX0_replays 50 = .ok (.getfield 57, 3) := dk_180 0 57 (dk_at dksX0_replays_2 2 rfl rfl)
theorem dX0_replays_53 : decode cX0_replays 53 = .ok (.aload_n 2, 1) := dk_44 (dk_at dksX0_replays_2 5 rfl rfl)
theorem dX0_replays_54 : decode cX0_replays 54 = .ok (.getfield 264, 3) := dk_180 1 8 (dk_at dksX0_replays_2 6 rfl rfl)
theorem dX0_replays_57 : decode cX0_replays 57 = .ok (.aload_n 0, 1) := dk_42 (dk_at dksX0_replays_2 9 rfl rfl)
theorem dX0_replays_58 : decode cX0_replays 58 = .ok (.getfield 57, 3) := dk_180 0 57 (dk_at dksX0_replays_2 10 rfl rfl)
theorem dX0_replays_61 : decode cX0_replays 61 = .ok (.getfield 153, 3) := dk_180 0 153 (dk_at dksX0_replays_2 13 rfl rfl)
theorem dX0_replays_64 : decode cX0_replays 64 = .ok (.isub, 1) := dk_100 (dk_at dksX0_replays_2 16 rfl rfl)
theorem dX0_replays_65 : decode cX0_replays 65 = .ok (.invokevirtual 188, 3) := dk_182 0 188 (dk_at dksX0_replays_2 17 rfl rfl)
theorem dX0_replays_68 : decode cX0_replays 68 = .ok (.aload_n 2, 1) := dk_44 (dk_at dksX0_replays_2 20 rfl rfl)
theorem dX0_replays_69 : decode cX0_replays 69 = .ok (.getfield 265, 3) := dk_180 1 9 (dk_at dksX0_replays_2 21 rfl rfl)
theorem dX0_replays_72 : decode cX0_replays 72 = .ok (.ifCond .eq 39, 3) := dk_153 0 39 (dk_at dksX0_replays_3 0 rfl rfl)
theorem dX0_replays_75 : decode cX0_replays 75 = .ok (.aload_n 0, 1) := dk_42 (dk_at dksX0_replays_3 3 rfl rfl)
theorem dX0_replays_76 : decode cX0_replays 76 = .ok (.getfield 57, 3) := dk_180 0 57 (dk_at dksX0_replays_3 4 rfl rfl)
theorem dX0_replays_79 : decode cX0_replays 79 = .ok (.aload_n 0, 1) := dk_42 (dk_at dksX0_replays_3 7 rfl rfl)
theorem dX0_replays_80 : decode cX0_replays 80 = .ok (.aload_n 2, 1) := dk_44 (dk_at dksX0_replays_3 8 rfl rfl)
theorem dX0_replays_81 : decode cX0_replays 81 = .ok (.getfield 268, 3) := dk_180 1 12 (dk_at dksX0_replays_3 9 rfl rfl)
theorem dX0_replays_84 : decode cX0_replays 84 = .ok (.invokevirtual 127, 3) := dk_182 0 127 (dk_at dksX0_replays_3 12 rfl rfl)
theorem dX0_replays_87 : decode cX0_replays 87 = .ok (.iconst (-1), 1) := dk_2 (dk_at dksX0_replays_3 15 rfl rfl)
theorem dX0_replays_88 : decode cX0_replays 88 = .ok (.invokevirtual 182, 3) := dk_182 0 182 (dk_at dksX0_replays_3 16 rfl rfl)
theorem dX0_replays_91 : decode cX0_replays 91 = .ok (.aload_n 2, 1) := dk_44 (dk_at dksX0_replays_3 19 rfl rfl)
theorem dX0_replays_92 : decode cX0_replays 92 = .ok (.getfield 271, 3) := dk_180 1 15 (dk_at dksX0_replays_3 20 rfl rfl)
theorem dX0_replays_95 : decode cX0_replays 95 = .ok (.ifCond .eq 10, 3) := dk_153 0 10 (dk_at dksX0_replays_4 0 rfl rfl)
theorem dX0_replays_98 : decode cX0_replays 98 = .ok (.aload_n 2, 1) := dk_44 (dk_at dksX0_replays_4 3 rfl rfl)
theorem dX0_replays_99 : decode cX0_replays 99 = .ok (.getfield 274, 3) := dk_180 1 18 (dk_at dksX0_replays_4 4 rfl rfl)
theorem dX0_replays_102 : decode cX0_replays 102 = .ok (.goto 4, 3) := dk_167 0 4 (dk_at dksX0_replays_4 7 rfl rfl)
theorem dX0_replays_105 : decode cX0_replays 105 = .ok (.iconst (-1), 1) := dk_2 (dk_at dksX0_replays_4 10 rfl rfl)
theorem dX0_replays_106 : decode cX0_replays 106 = .ok (.if_icmp .eq 36, 3) := dk_159 0 36 (dk_at dksX0_replays_4 11 rfl rfl)
theorem dX0_replays_109 : decode cX0_replays 109 = .ok (.iconst 0, 1) := dk_3 (dk_at dksX0_replays_4 14 rfl rfl)
theorem dX0_replays_110 : decode cX0_replays 110 = .ok (.ireturn, 1) := dk_172 (dk_at dksX0_replays_4 15 rfl rfl)
theorem dX0_replays_111 : decode cX0_replays 111 = .ok (.iconst 0, 1) := dk_3 (dk_at dksX0_replays_4 16 rfl rfl)
theorem dX0_replays_112 : decode cX0_replays 112 = .ok (.istore_n 3, 1) := dk_62 (dk_at dksX0_replays_4 17 rfl rfl)
theorem dX0_replays_113 : decode cX0_replays 113 = .ok (.iload_n 3, 1) := dk_29 (dk_at dksX0_replays_4 18 rfl rfl)
theorem dX0_replays_114 : decode cX0_replays 114 = .ok (.aload_n 2, 1) := dk_44 (dk_at dksX0_replays_4 19 rfl rfl)
theorem dX0_replays_115 : decode cX0_replays 115 = .ok (.getfield 274, 3) := dk_180 1 18 (dk_at dksX0_replays_4 20 rfl rfl)
theorem dX0_replays_118 : decode cX0_replays 118 = .ok (.if_icmp .ge 24, 3) := dk_162 0 24 (dk_at dksX0_replays_5 0 rfl rfl)
theorem dX0_replays_121 : decode cX0_replays 121 = .ok (.aload_n 0, 1) := dk_42 (dk_at dksX0_replays_5 3 rfl rfl)
theorem dX0_replays_122 : decode cX0_replays 122 = .ok (.getfield 57, 3) := dk_180 0 57 (dk_at dksX0_replays_5 4 rfl rfl)
theorem dX0_replays_125 : decode cX0_replays 125 = .ok (.aload_n 0, 1) := dk_42 (dk_at dksX0_replays_5 7 rfl rfl)
theorem dX0_replays_126 : decode cX0_replays 126 = .ok (.aload_n 2, 1) := dk_44 (dk_at dksX0_replays_5 8 rfl rfl)
theorem dX0_replays_127 : decode cX0_replays 127 = .ok (.getfield 268, 3) := dk_180 1 12 (dk_at dksX0_replays_5 9 rfl rfl)
theorem dX0_replays_130 : decode cX0_replays 130 = .ok (.invokevirtual 127, 3) := dk_182 0 127 (dk_at dksX0_replays_5 12 rfl rfl)
theorem dX0_replays_133 : decode cX0_replays 133 = .ok (.invokevirtual 174, 3) := dk_182 0 174 (dk_at dksX0_replays_5 15 rfl rfl)
theorem dX0_replays_136 : decode cX0_replays 136 = .ok (.iinc 3 1, 3) := dk_132 3 1 (dk_at dksX0_replays_5 18 rfl rfl)
theorem dX0_replays_139 : decode cX0_replays 139 = .ok (.goto (-26), 3) := dk_167 255 230 (dk_at dksX0_replays_5 21 rfl rfl)
theorem dX0_replays_142 : decode cX0_replays 142 = .ok (.iinc 1 1, 3) := dk_132 1 1 (dk_at dksX0_replays_6 0 rfl rfl)
theorem dX0_replays_145 : decode cX0_replays 145 = .ok (.goto (-129), 3) := dk_167 255 127 (dk_at dksX0_replays_6 3 rfl rfl)
theorem dX0_replays_148 : decode cX0_replays 148 = .ok (.iconst 1, 1) := dk_4 (dk_at dksX0_replays_6 6 rfl rfl)
theorem dX0_replays_149 : decode cX0_replays 149 = .ok (.ireturn, 1) := dk_172 (dk_at dksX0_replays_6 7 rfl rfl)
abbrev cX0_days : ByteArray := prog_1_method_49_code
def yX0_days : MethodName := ⟨RX0, "days", "(I)I"⟩
def dkwX0_days_7 : List UInt8 := [5, 96, 182, 1, 43, 136, 182, 1, 52, 87, 132, 3, 1, 132, 4, 3, 167, 255, 107, 29, 172]
abbrev dktX0_days_7 : List UInt8 := dkwX0_days_7 ++ []
def dkwX0_days_6 : List UInt8 := [182, 1, 43, 136, 182, 1, 49, 87, 167, 0, 26, 42, 44, 21, 4, 4, 96, 182, 1, 43, 136, 44, 21, 4]
abbrev dktX0_days_6 : List UInt8 := dkwX0_days_6 ++ dktX0_days_7
def dkwX0_days_5 : List UInt8 := [136, 182, 1, 47, 87, 44, 21, 4, 5, 96, 182, 1, 43, 9, 148, 154, 0, 20, 42, 44, 21, 4, 4, 96]
abbrev dktX0_days_5 : List UInt8 := dkwX0_days_5 ++ dktX0_days_6
def dkwX0_days_4 : List UInt8 := [96, 182, 1, 43, 9, 20, 0, 172, 184, 0, 5, 154, 0, 6, 167, 0, 71, 42, 44, 21, 4, 182, 1, 43]
abbrev dktX0_days_4 : List UInt8 := dkwX0_days_4 ++ dktX0_days_5
def dkwX0_days_3 : List UInt8 := [180, 0, 46, 180, 0, 102, 185, 0, 103, 1, 0, 4, 100, 133, 184, 0, 5, 153, 0, 92, 44, 21, 4, 5]
abbrev dktX0_days_3 : List UInt8 := dkwX0_days_3 ++ dktX0_days_4
def dkwX0_days_2 : List UInt8 := [182, 1, 43, 9, 20, 0, 117, 184, 0, 5, 153, 0, 122, 44, 21, 4, 4, 96, 182, 1, 43, 9, 42]
abbrev dktX0_days_2 : List UInt8 := dkwX0_days_2 ++ dktX0_days_3
def dkwX0_days_1 : List UInt8 := [16, 250, 172, 3, 62, 3, 54, 4, 21, 4, 5, 96, 44, 182, 1, 40, 162, 0, 144, 44, 21, 4]
abbrev dktX0_days_1 : List UInt8 := dkwX0_days_1 ++ dktX0_days_2
def dkwX0_days_0 : List UInt8 := [27, 184, 0, 9, 154, 0, 6, 16, 254, 172, 42, 180, 0, 13, 27, 50, 77, 44, 180, 1, 36, 199, 0, 6]
abbrev dktX0_days_0 : List UInt8 := dkwX0_days_0 ++ dktX0_days_1
theorem dksX0_days_0 : cX0_days.data.toList.drop 0 = dktX0_days_0 := by decide +kernel
theorem dksX0_days_1 : cX0_days.data.toList.drop 24 = dktX0_days_1 := dk_seg dksX0_days_0 24 rfl rfl
theorem dksX0_days_2 : cX0_days.data.toList.drop 46 = dktX0_days_2 := dk_seg dksX0_days_1 22 rfl rfl
theorem dksX0_days_3 : cX0_days.data.toList.drop 69 = dktX0_days_3 := dk_seg dksX0_days_2 23 rfl rfl
theorem dksX0_days_4 : cX0_days.data.toList.drop 93 = dktX0_days_4 := dk_seg dksX0_days_3 24 rfl rfl
theorem dksX0_days_5 : cX0_days.data.toList.drop 117 = dktX0_days_5 := dk_seg dksX0_days_4 24 rfl rfl
theorem dksX0_days_6 : cX0_days.data.toList.drop 141 = dktX0_days_6 := dk_seg dksX0_days_5 24 rfl rfl
theorem dksX0_days_7 : cX0_days.data.toList.drop 165 = dktX0_days_7 := dk_seg dksX0_days_6 24 rfl rfl
theorem dX0_days_0 : decode cX0_days 0 = .ok (.iload_n 1, 1) := dk_27 (dk_at dksX0_days_0 0 rfl rfl)
theorem dX0_days_1 : decode cX0_days 1 = .ok (.invokestatic 9, 3) := dk_184 0 9 (dk_at dksX0_days_0 1 rfl rfl)
theorem dX0_days_4 : decode cX0_days 4 = .ok (.ifCond .ne 6, 3) := dk_154 0 6 (dk_at dksX0_days_0 4 rfl rfl)
theorem dX0_days_7 : decode cX0_days 7 = .ok (.bipush (-2), 2) := dk_16 254 (dk_at dksX0_days_0 7 rfl rfl)
theorem dX0_days_9 : decode cX0_days 9 = .ok (.ireturn, 1) := dk_172 (dk_at dksX0_days_0 9 rfl rfl)
theorem dX0_days_10 : decode cX0_days 10 = .ok (.aload_n 0, 1) := dk_42 (dk_at dksX0_days_0 10 rfl rfl)
theorem dX0_days_11 : decode cX0_days 11 = .ok (.getfield 13, 3) := dk_180 0 13 (dk_at dksX0_days_0 11 rfl rfl)
theorem dX0_days_14 : decode cX0_days 14 = .ok (.iload_n 1, 1) := dk_27 (dk_at dksX0_days_0 14 rfl rfl)
theorem dX0_days_15 : decode cX0_days 15 = .ok (.aaload, 1) := dk_50 (dk_at dksX0_days_0 15 rfl rfl)
theorem dX0_days_16 : decode cX0_days 16 = .ok (.astore_n 2, 1) := dk_77 (dk_at dksX0_days_0 16 rfl rfl)
theorem dX0_days_17 : decode cX0_days 17 = .ok (.aload_n 2, 1) := dk_44 (dk_at dksX0_days_0 17 rfl rfl)
theorem dX0_days_18 : decode cX0_days 18 = .ok (.getfield 292, 3) := dk_180 1 36 (dk_at dksX0_days_0 18 rfl rfl)
theorem dX0_days_21 : decode cX0_days 21 = .ok (.ifnonnull 6, 3) := dk_199 0 6 (dk_at dksX0_days_0 21 rfl rfl)
theorem dX0_days_24 : decode cX0_days 24 = .ok (.bipush (-6), 2) := dk_16 250 (dk_at dksX0_days_1 0 rfl rfl)
theorem dX0_days_26 : decode cX0_days 26 = .ok (.ireturn, 1) := dk_172 (dk_at dksX0_days_1 2 rfl rfl)
theorem dX0_days_27 : decode cX0_days 27 = .ok (.iconst 0, 1) := dk_3 (dk_at dksX0_days_1 3 rfl rfl)
theorem dX0_days_28 : decode cX0_days 28 = .ok (.istore_n 3, 1) := dk_62 (dk_at dksX0_days_1 4 rfl rfl)
theorem dX0_days_29 : decode cX0_days 29 = .ok (.iconst 0, 1) := dk_3 (dk_at dksX0_days_1 5 rfl rfl)
theorem dX0_days_30 : decode cX0_days 30 = .ok (.istore 4, 2) := dk_54 4 (dk_at dksX0_days_1 6 rfl rfl)
theorem dX0_days_32 : decode cX0_days 32 = .ok (.iload 4, 2) := dk_21 4 (dk_at dksX0_days_1 8 rfl rfl)
theorem dX0_days_34 : decode cX0_days 34 = .ok (.iconst 2, 1) := dk_5 (dk_at dksX0_days_1 10 rfl rfl)
theorem dX0_days_35 : decode cX0_days 35 = .ok (.iadd, 1) := dk_96 (dk_at dksX0_days_1 11 rfl rfl)
theorem dX0_days_36 : decode cX0_days 36 = .ok (.aload_n 2, 1) := dk_44 (dk_at dksX0_days_1 12 rfl rfl)
theorem dX0_days_37 : decode cX0_days 37 = .ok (.invokevirtual 296, 3) := dk_182 1 40 (dk_at dksX0_days_1 13 rfl rfl)
theorem dX0_days_40 : decode cX0_days 40 = .ok (.if_icmp .ge 144, 3) := dk_162 0 144 (dk_at dksX0_days_1 16 rfl rfl)
theorem dX0_days_43 : decode cX0_days 43 = .ok (.aload_n 2, 1) := dk_44 (dk_at dksX0_days_1 19 rfl rfl)
theorem dX0_days_44 : decode cX0_days 44 = .ok (.iload 4, 2) := dk_21 4 (dk_at dksX0_days_1 20 rfl rfl)
theorem dX0_days_46 : decode cX0_days 46 = .ok (.invokevirtual 299, 3) := dk_182 1 43 (dk_at dksX0_days_2 0 rfl rfl)
theorem dX0_days_49 : decode cX0_days 49 = .ok (.lconst 0, 1) := dk_9 (dk_at dksX0_days_2 3 rfl rfl)
theorem dX0_days_50 : decode cX0_days 50 = .ok (.ldc2_w 117, 3) := dk_20 0 117 (dk_at dksX0_days_2 4 rfl rfl)
theorem dX0_days_53 : decode cX0_days 53 = .ok (.invokestatic 5, 3) := dk_184 0 5 (dk_at dksX0_days_2 7 rfl rfl)
theorem dX0_days_56 : decode cX0_days 56 = .ok (.ifCond .eq 122, 3) := dk_153 0 122 (dk_at dksX0_days_2 10 rfl rfl)
theorem dX0_days_59 : decode cX0_days 59 = .ok (.aload_n 2, 1) := dk_44 (dk_at dksX0_days_2 13 rfl rfl)
theorem dX0_days_60 : decode cX0_days 60 = .ok (.iload 4, 2) := dk_21 4 (dk_at dksX0_days_2 14 rfl rfl)
theorem dX0_days_62 : decode cX0_days 62 = .ok (.iconst 1, 1) := dk_4 (dk_at dksX0_days_2 16 rfl rfl)
theorem dX0_days_63 : decode cX0_days 63 = .ok (.iadd, 1) := dk_96 (dk_at dksX0_days_2 17 rfl rfl)
theorem dX0_days_64 : decode cX0_days 64 = .ok (.invokevirtual 299, 3) := dk_182 1 43 (dk_at dksX0_days_2 18 rfl rfl)
theorem dX0_days_67 : decode cX0_days 67 = .ok (.lconst 0, 1) := dk_9 (dk_at dksX0_days_2 21 rfl rfl)
theorem dX0_days_68 : decode cX0_days 68 = .ok (.aload_n 0, 1) := dk_42 (dk_at dksX0_days_2 22 rfl rfl)
theorem dX0_days_69 : decode cX0_days 69 = .ok (.getfield 46, 3) := dk_180 0 46 (dk_at dksX0_days_3 0 rfl rfl)
theorem dX0_days_72 : decode cX0_days 72 = .ok (.getfield 102, 3) := dk_180 0 102 (dk_at dksX0_days_3 3 rfl rfl)
theorem dX0_days_75 : decode cX0_days 75 = .ok (.invokeinterface 103 1, 5) := by decide +kernel
theorem dX0_days_80 : decode cX0_days 80 = .ok (.iconst 1, 1) := dk_4 (dk_at dksX0_days_3 11 rfl rfl)
theorem dX0_days_81 : decode cX0_days 81 = .ok (.isub, 1) := dk_100 (dk_at dksX0_days_3 12 rfl rfl)
theorem dX0_days_82 : decode cX0_days 82 = .ok (.i2l, 1) := dk_133 (dk_at dksX0_days_3 13 rfl rfl)
theorem dX0_days_83 : decode cX0_days 83 = .ok (.invokestatic 5, 3) := dk_184 0 5 (dk_at dksX0_days_3 14 rfl rfl)
theorem dX0_days_86 : decode cX0_days 86 = .ok (.ifCond .eq 92, 3) := dk_153 0 92 (dk_at dksX0_days_3 17 rfl rfl)
theorem dX0_days_89 : decode cX0_days 89 = .ok (.aload_n 2, 1) := dk_44 (dk_at dksX0_days_3 20 rfl rfl)
theorem dX0_days_90 : decode cX0_days 90 = .ok (.iload 4, 2) := dk_21 4 (dk_at dksX0_days_3 21 rfl rfl)
theorem dX0_days_92 : decode cX0_days 92 = .ok (.iconst 2, 1) := dk_5 (dk_at dksX0_days_3 23 rfl rfl)
theorem dX0_days_93 : decode cX0_days 93 = .ok (.iadd, 1) := dk_96 (dk_at dksX0_days_4 0 rfl rfl)
theorem dX0_days_94 : decode cX0_days 94 = .ok (.invokevirtual 299, 3) := dk_182 1 43 (dk_at dksX0_days_4 1 rfl rfl)
theorem dX0_days_97 : decode cX0_days 97 = .ok (.lconst 0, 1) := dk_9 (dk_at dksX0_days_4 4 rfl rfl)
theorem dX0_days_98 : decode cX0_days 98 = .ok (.ldc2_w 172, 3) := dk_20 0 172 (dk_at dksX0_days_4 5 rfl rfl)
theorem dX0_days_101 : decode cX0_days 101 = .ok (.invokestatic 5, 3) := dk_184 0 5 (dk_at dksX0_days_4 8 rfl rfl)
theorem dX0_days_104 : decode cX0_days 104 = .ok (.ifCond .ne 6, 3) := dk_154 0 6 (dk_at dksX0_days_4 11 rfl rfl)
theorem dX0_days_107 : decode cX0_days 107 = .ok (.goto 71, 3) := dk_167 0 71 (dk_at dksX0_days_4 14 rfl rfl)
theorem dX0_days_110 : decode cX0_days 110 = .ok (.aload_n 0, 1) := dk_42 (dk_at dksX0_days_4 17 rfl rfl)
theorem dX0_days_111 : decode cX0_days 111 = .ok (.aload_n 2, 1) := dk_44 (dk_at dksX0_days_4 18 rfl rfl)
theorem dX0_days_112 : decode cX0_days 112 = .ok (.iload 4, 2) := dk_21 4 (dk_at dksX0_days_4 19 rfl rfl)
theorem dX0_days_114 : decode cX0_days 114 = .ok (.invokevirtual 299, 3) := dk_182 1 43 (dk_at dksX0_days_4 21 rfl rfl)
theorem dX0_days_117 : decode cX0_days 117 = .ok (.l2i, 1) := dk_136 (dk_at dksX0_days_5 0 rfl rfl)
theorem dX0_days_118 : decode cX0_days 118 = .ok (.invokevirtual 303, 3) := dk_182 1 47 (dk_at dksX0_days_5 1 rfl rfl)
theorem dX0_days_121 : decode cX0_days 121 = .ok (.pop, 1) := dk_87 (dk_at dksX0_days_5 4 rfl rfl)
theorem dX0_days_122 : decode cX0_days 122 = .ok (.aload_n 2, 1) := dk_44 (dk_at dksX0_days_5 5 rfl rfl)
theorem dX0_days_123 : decode cX0_days 123 = .ok (.iload 4, 2) := dk_21 4 (dk_at dksX0_days_5 6 rfl rfl)
theorem dX0_days_125 : decode cX0_days 125 = .ok (.iconst 2, 1) := dk_5 (dk_at dksX0_days_5 8 rfl rfl)
theorem dX0_days_126 : decode cX0_days 126 = .ok (.iadd, 1) := dk_96 (dk_at dksX0_days_5 9 rfl rfl)
theorem dX0_days_127 : decode cX0_days 127 = .ok (.invokevirtual 299, 3) := dk_182 1 43 (dk_at dksX0_days_5 10 rfl rfl)
theorem dX0_days_130 : decode cX0_days 130 = .ok (.lconst 0, 1) := dk_9 (dk_at dksX0_days_5 13 rfl rfl)
theorem dX0_days_131 : decode cX0_days 131 = .ok (.lcmp, 1) := dk_148 (dk_at dksX0_days_5 14 rfl rfl)
theorem dX0_days_132 : decode cX0_days 132 = .ok (.ifCond .ne 20, 3) := dk_154 0 20 (dk_at dksX0_days_5 15 rfl rfl)
theorem dX0_days_135 : decode cX0_days 135 = .ok (.aload_n 0, 1) := dk_42 (dk_at dksX0_days_5 18 rfl rfl)
theorem dX0_days_136 : decode cX0_days 136 = .ok (.aload_n 2, 1) := dk_44 (dk_at dksX0_days_5 19 rfl rfl)
theorem dX0_days_137 : decode cX0_days 137 = .ok (.iload 4, 2) := dk_21 4 (dk_at dksX0_days_5 20 rfl rfl)
theorem dX0_days_139 : decode cX0_days 139 = .ok (.iconst 1, 1) := dk_4 (dk_at dksX0_days_5 22 rfl rfl)
theorem dX0_days_140 : decode cX0_days 140 = .ok (.iadd, 1) := dk_96 (dk_at dksX0_days_5 23 rfl rfl)
theorem dX0_days_141 : decode cX0_days 141 = .ok (.invokevirtual 299, 3) := dk_182 1 43 (dk_at dksX0_days_6 0 rfl rfl)
theorem dX0_days_144 : decode cX0_days 144 = .ok (.l2i, 1) := dk_136 (dk_at dksX0_days_6 3 rfl rfl)
theorem dX0_days_145 : decode cX0_days 145 = .ok (.invokevirtual 305, 3) := dk_182 1 49 (dk_at dksX0_days_6 4 rfl rfl)
theorem dX0_days_148 : decode cX0_days 148 = .ok (.pop, 1) := dk_87 (dk_at dksX0_days_6 7 rfl rfl)
theorem dX0_days_149 : decode cX0_days 149 = .ok (.goto 26, 3) := dk_167 0 26 (dk_at dksX0_days_6 8 rfl rfl)
theorem dX0_days_152 : decode cX0_days 152 = .ok (.aload_n 0, 1) := dk_42 (dk_at dksX0_days_6 11 rfl rfl)
theorem dX0_days_153 : decode cX0_days 153 = .ok (.aload_n 2, 1) := dk_44 (dk_at dksX0_days_6 12 rfl rfl)
theorem dX0_days_154 : decode cX0_days 154 = .ok (.iload 4, 2) := dk_21 4 (dk_at dksX0_days_6 13 rfl rfl)
theorem dX0_days_156 : decode cX0_days 156 = .ok (.iconst 1, 1) := dk_4 (dk_at dksX0_days_6 15 rfl rfl)
theorem dX0_days_157 : decode cX0_days 157 = .ok (.iadd, 1) := dk_96 (dk_at dksX0_days_6 16 rfl rfl)
theorem dX0_days_158 : decode cX0_days 158 = .ok (.invokevirtual 299, 3) := dk_182 1 43 (dk_at dksX0_days_6 17 rfl rfl)
theorem dX0_days_161 : decode cX0_days 161 = .ok (.l2i, 1) := dk_136 (dk_at dksX0_days_6 20 rfl rfl)
theorem dX0_days_162 : decode cX0_days 162 = .ok (.aload_n 2, 1) := dk_44 (dk_at dksX0_days_6 21 rfl rfl)
theorem dX0_days_163 : decode cX0_days 163 = .ok (.iload 4, 2) := dk_21 4 (dk_at dksX0_days_6 22 rfl rfl)
theorem dX0_days_165 : decode cX0_days 165 = .ok (.iconst 2, 1) := dk_5 (dk_at dksX0_days_7 0 rfl rfl)
theorem dX0_days_166 : decode cX0_days 166 = .ok (.iadd, 1) := dk_96 (dk_at dksX0_days_7 1 rfl rfl)
theorem dX0_days_167 : decode cX0_days 167 = .ok (.invokevirtual 299, 3) := dk_182 1 43 (dk_at dksX0_days_7 2 rfl rfl)
theorem dX0_days_170 : decode cX0_days 170 = .ok (.l2i, 1) := dk_136 (dk_at dksX0_days_7 5 rfl rfl)
theorem dX0_days_171 : decode cX0_days 171 = .ok (.invokevirtual 308, 3) := dk_182 1 52 (dk_at dksX0_days_7 6 rfl rfl)
theorem dX0_days_174 : decode cX0_days 174 = .ok (.pop, 1) := dk_87 (dk_at dksX0_days_7 9 rfl rfl)
theorem dX0_days_175 : decode cX0_days 175 = .ok (.iinc 3 1, 3) := dk_132 3 1 (dk_at dksX0_days_7 10 rfl rfl)
theorem dX0_days_178 : decode cX0_days 178 = .ok (.iinc 4 3, 3) := dk_132 4 3 (dk_at dksX0_days_7 13 rfl rfl)
theorem dX0_days_181 : decode cX0_days 181 = .ok (.goto (-149), 3) := dk_167 255 107 (dk_at dksX0_days_7 16 rfl rfl)
theorem dX0_days_184 : decode cX0_days 184 = .ok (.iload_n 3, 1) := dk_29 (dk_at dksX0_days_7 19 rfl rfl)
theorem dX0_days_185 : decode cX0_days 185 = .ok (.ireturn, 1) := dk_172 (dk_at dksX0_days_7 20 rfl rfl)
abbrev cX0_spread : ByteArray := prog_1_method_54_code
def yX0_spread : MethodName := ⟨RX0, "spread", "(III)I"⟩
def dkwX0_spread_2 : List UInt8 := [132, 5, 1, 167, 255, 232, 21, 4, 172]
abbrev dktX0_spread_2 : List UInt8 := dkwX0_spread_2 ++ []
def dkwX0_spread_1 : List UInt8 := [54, 5, 21, 5, 29, 162, 0, 24, 16, 10, 21, 4, 104, 42, 180, 0, 73, 21, 5, 46, 96, 54, 4]
abbrev dktX0_spread_1 : List UInt8 := dkwX0_spread_1 ++ dktX0_spread_2
def dkwX0_spread_0 : List UInt8 := [42, 27, 28, 29, 182, 1, 73, 154, 0, 5, 2, 172, 42, 27, 28, 29, 182, 1, 77, 3, 54, 4, 3]
abbrev dktX0_spread_0 : List UInt8 := dkwX0_spread_0 ++ dktX0_spread_1
theorem dksX0_spread_0 : cX0_spread.data.toList.drop 0 = dktX0_spread_0 := by decide +kernel
theorem dksX0_spread_1 : cX0_spread.data.toList.drop 23 = dktX0_spread_1 := dk_seg dksX0_spread_0 23 rfl rfl
theorem dksX0_spread_2 : cX0_spread.data.toList.drop 46 = dktX0_spread_2 := dk_seg dksX0_spread_1 23 rfl rfl
theorem dX0_spread_0 : decode cX0_spread 0 = .ok (.aload_n 0, 1) := dk_42 (dk_at dksX0_spread_0 0 rfl rfl)
theorem dX0_spread_1 : decode cX0_spread 1 = .ok (.iload_n 1, 1) := dk_27 (dk_at dksX0_spread_0 1 rfl rfl)
theorem dX0_spread_2 : decode cX0_spread 2 = .ok (.iload_n 2, 1) := dk_28 (dk_at dksX0_spread_0 2 rfl rfl)
theorem dX0_spread_3 : decode cX0_spread 3 = .ok (.iload_n 3, 1) := dk_29 (dk_at dksX0_spread_0 3 rfl rfl)
theorem dX0_spread_4 : decode cX0_spread 4 = .ok (.invokevirtual 329, 3) := dk_182 1 73 (dk_at dksX0_spread_0 4 rfl rfl)
theorem dX0_spread_7 : decode cX0_spread 7 = .ok (.ifCond .ne 5, 3) := dk_154 0 5 (dk_at dksX0_spread_0 7 rfl rfl)
theorem dX0_spread_10 : decode cX0_spread 10 = .ok (.iconst (-1), 1) := dk_2 (dk_at dksX0_spread_0 10 rfl rfl)
theorem dX0_spread_11 : decode cX0_spread 11 = .ok (.ireturn, 1) := dk_172 (dk_at dksX0_spread_0 11 rfl rfl)
theorem dX0_spread_12 : decode cX0_spread 12 = .ok (.aload_n 0, 1) := dk_42 (dk_at dksX0_spread_0 12 rfl rfl)
theorem dX0_spread_13 : decode cX0_spread 13 = .ok (.iload_n 1, 1) := dk_27 (dk_at dksX0_spread_0 13 rfl rfl)
theorem dX0_spread_14 : decode cX0_spread 14 = .ok (.iload_n 2, 1) := dk_28 (dk_at dksX0_spread_0 14 rfl rfl)
theorem dX0_spread_15 : decode cX0_spread 15 = .ok (.iload_n 3, 1) := dk_29 (dk_at dksX0_spread_0 15 rfl rfl)
theorem dX0_spread_16 : decode cX0_spread 16 = .ok (.invokevirtual 333, 3) := dk_182 1 77 (dk_at dksX0_spread_0 16 rfl rfl)
theorem dX0_spread_19 : decode cX0_spread 19 = .ok (.iconst 0, 1) := dk_3 (dk_at dksX0_spread_0 19 rfl rfl)
theorem dX0_spread_20 : decode cX0_spread 20 = .ok (.istore 4, 2) := dk_54 4 (dk_at dksX0_spread_0 20 rfl rfl)
theorem dX0_spread_22 : decode cX0_spread 22 = .ok (.iconst 0, 1) := dk_3 (dk_at dksX0_spread_0 22 rfl rfl)
theorem dX0_spread_23 : decode cX0_spread 23 = .ok (.istore 5, 2) := dk_54 5 (dk_at dksX0_spread_1 0 rfl rfl)
theorem dX0_spread_25 : decode cX0_spread 25 = .ok (.iload 5, 2) := dk_21 5 (dk_at dksX0_spread_1 2 rfl rfl)
theorem dX0_spread_27 : decode cX0_spread 27 = .ok (.iload_n 3, 1) := dk_29 (dk_at dksX0_spread_1 4 rfl rfl)
theorem dX0_spread_28 : decode cX0_spread 28 = .ok (.if_icmp .ge 24, 3) := dk_162 0 24 (dk_at dksX0_spread_1 5 rfl rfl)
theorem dX0_spread_31 : decode cX0_spread 31 = .ok (.bipush 10, 2) := dk_16 10 (dk_at dksX0_spread_1 8 rfl rfl)
theorem dX0_spread_33 : decode cX0_spread 33 = .ok (.iload 4, 2) := dk_21 4 (dk_at dksX0_spread_1 10 rfl rfl)
theorem dX0_spread_35 : decode cX0_spread 35 = .ok (.imul, 1) := dk_104 (dk_at dksX0_spread_1 12 rfl rfl)
theorem dX0_spread_36 : decode cX0_spread 36 = .ok (.aload_n 0, 1) := dk_42 (dk_at dksX0_spread_1 13 rfl rfl)
theorem dX0_spread_37 : decode cX0_spread 37 = .ok (.getfield 73, 3) := dk_180 0 73 (dk_at dksX0_spread_1 14 rfl rfl)
theorem dX0_spread_40 : decode cX0_spread 40 = .ok (.iload 5, 2) := dk_21 5 (dk_at dksX0_spread_1 17 rfl rfl)
theorem dX0_spread_42 : decode cX0_spread 42 = .ok (.iaload, 1) := dk_46 (dk_at dksX0_spread_1 19 rfl rfl)
theorem dX0_spread_43 : decode cX0_spread 43 = .ok (.iadd, 1) := dk_96 (dk_at dksX0_spread_1 20 rfl rfl)
theorem dX0_spread_44 : decode cX0_spread 44 = .ok (.istore 4, 2) := dk_54 4 (dk_at dksX0_spread_1 21 rfl rfl)
theorem dX0_spread_46 : decode cX0_spread 46 = .ok (.iinc 5 1, 3) := dk_132 5 1 (dk_at dksX0_spread_2 0 rfl rfl)
theorem dX0_spread_49 : decode cX0_spread 49 = .ok (.goto (-24), 3) := dk_167 255 232 (dk_at dksX0_spread_2 3 rfl rfl)
theorem dX0_spread_52 : decode cX0_spread 52 = .ok (.iload 4, 2) := dk_21 4 (dk_at dksX0_spread_2 6 rfl rfl)
theorem dX0_spread_54 : decode cX0_spread 54 = .ok (.ireturn, 1) := dk_172 (dk_at dksX0_spread_2 8 rfl rfl)
abbrev cX0_isSpread : ByteArray := prog_1_method_52_code
def yX0_isSpread : MethodName := ⟨RX0, "isSpread", "(III)Z"⟩
def dkwX0_isSpread_1 : List UInt8 := [20, 1, 71, 184, 0, 5, 153, 0, 7, 4, 167, 0, 4, 3, 172]
abbrev dktX0_isSpread_1 : List UInt8 := dkwX0_isSpread_1 ++ []
def dkwX0_isSpread_0 : List UInt8 := [42, 27, 182, 0, 169, 153, 0, 31, 28, 133, 10, 20, 1, 69, 184, 0, 5, 153, 0, 19, 29, 133, 10]
abbrev dktX0_isSpread_0 : List UInt8 := dkwX0_isSpread_0 ++ dktX0_isSpread_1
theorem dksX0_isSpread_0 : cX0_isSpread.data.toList.drop 0 = dktX0_isSpread_0 := by decide +kernel
theorem dksX0_isSpread_1 : cX0_isSpread.data.toList.drop 23 = dktX0_isSpread_1 := dk_seg dksX0_isSpread_0 23 rfl rfl
theorem dX0_isSpread_0 : decode cX0_isSpread 0 = .ok (.aload_n 0, 1) := dk_42 (dk_at dksX0_isSpread_0 0 rfl rfl)
theorem dX0_isSpread_1 : decode cX0_isSpread 1 = .ok (.iload_n 1, 1) := dk_27 (dk_at dksX0_isSpread_0 1 rfl rfl)
theorem dX0_isSpread_2 : decode cX0_isSpread 2 = .ok (.invokevirtual 169, 3) := dk_182 0 169 (dk_at dksX0_isSpread_0 2 rfl rfl)
theorem dX0_isSpread_5 : decode cX0_isSpread 5 = .ok (.ifCond .eq 31, 3) := dk_153 0 31 (dk_at dksX0_isSpread_0 5 rfl rfl)
theorem dX0_isSpread_8 : decode cX0_isSpread 8 = .ok (.iload_n 2, 1) := dk_28 (dk_at dksX0_isSpread_0 8 rfl rfl)
theorem dX0_isSpread_9 : decode cX0_isSpread 9 = .ok (.i2l, 1) := dk_133 (dk_at dksX0_isSpread_0 9 rfl rfl)
theorem dX0_isSpread_10 : decode cX0_isSpread 10 = .ok (.lconst 1, 1) := dk_10 (dk_at dksX0_isSpread_0 10 rfl rfl)
theorem dX0_isSpread_11 : decode cX0_isSpread 11 = .ok (.ldc2_w 325, 3) := dk_20 1 69 (dk_at dksX0_isSpread_0 11 rfl rfl)
theorem dX0_isSpread_14 : decode cX0_isSpread 14 = .ok (.invokestatic 5, 3) := dk_184 0 5 (dk_at dksX0_isSpread_0 14 rfl rfl)
theorem dX0_isSpread_17 : decode cX0_isSpread 17 = .ok (.ifCond .eq 19, 3) := dk_153 0 19 (dk_at dksX0_isSpread_0 17 rfl rfl)
theorem dX0_isSpread_20 : decode cX0_isSpread 20 = .ok (.iload_n 3, 1) := dk_29 (dk_at dksX0_isSpread_0 20 rfl rfl)
theorem dX0_isSpread_21 : decode cX0_isSpread 21 = .ok (.i2l, 1) := dk_133 (dk_at dksX0_isSpread_0 21 rfl rfl)
theorem dX0_isSpread_22 : decode cX0_isSpread 22 = .ok (.lconst 1, 1) := dk_10 (dk_at dksX0_isSpread_0 22 rfl rfl)
theorem dX0_isSpread_23 : decode cX0_isSpread 23 = .ok (.ldc2_w 327, 3) := dk_20 1 71 (dk_at dksX0_isSpread_1 0 rfl rfl)
theorem dX0_isSpread_26 : decode cX0_isSpread 26 = .ok (.invokestatic 5, 3) := dk_184 0 5 (dk_at dksX0_isSpread_1 3 rfl rfl)
theorem dX0_isSpread_29 : decode cX0_isSpread 29 = .ok (.ifCond .eq 7, 3) := dk_153 0 7 (dk_at dksX0_isSpread_1 6 rfl rfl)
theorem dX0_isSpread_32 : decode cX0_isSpread 32 = .ok (.iconst 1, 1) := dk_4 (dk_at dksX0_isSpread_1 9 rfl rfl)
theorem dX0_isSpread_33 : decode cX0_isSpread 33 = .ok (.goto 4, 3) := dk_167 0 4 (dk_at dksX0_isSpread_1 10 rfl rfl)
theorem dX0_isSpread_36 : decode cX0_isSpread 36 = .ok (.iconst 0, 1) := dk_3 (dk_at dksX0_isSpread_1 13 rfl rfl)
theorem dX0_isSpread_37 : decode cX0_isSpread 37 = .ok (.ireturn, 1) := dk_172 (dk_at dksX0_isSpread_1 14 rfl rfl)
abbrev cX0_spreads : ByteArray := prog_1_method_53_code
def yX0_spreads : MethodName := ⟨RX0, "spreads", "(III)V"⟩
def dkwX0_spreads_0 : List UInt8 := [42, 2, 181, 1, 62, 42, 27, 3, 28, 29, 182, 1, 65, 177]
abbrev dktX0_spreads_0 : List UInt8 := dkwX0_spreads_0 ++ []
theorem dksX0_spreads_0 : cX0_spreads.data.toList.drop 0 = dktX0_spreads_0 := by decide +kernel
theorem dX0_spreads_0 : decode cX0_spreads 0 = .ok (.aload_n 0, 1) := dk_42 (dk_at dksX0_spreads_0 0 rfl rfl)
theorem dX0_spreads_1 : decode cX0_spreads 1 = .ok (.iconst (-1), 1) := dk_2 (dk_at dksX0_spreads_0 1 rfl rfl)
theorem dX0_spreads_2 : decode cX0_spreads 2 = .ok (.putfield 318, 3) := dk_181 1 62 (dk_at dksX0_spreads_0 2 rfl rfl)
theorem dX0_spreads_5 : decode cX0_spreads 5 = .ok (.aload_n 0, 1) := dk_42 (dk_at dksX0_spreads_0 5 rfl rfl)
theorem dX0_spreads_6 : decode cX0_spreads 6 = .ok (.iload_n 1, 1) := dk_27 (dk_at dksX0_spreads_0 6 rfl rfl)
theorem dX0_spreads_7 : decode cX0_spreads 7 = .ok (.iconst 0, 1) := dk_3 (dk_at dksX0_spreads_0 7 rfl rfl)
theorem dX0_spreads_8 : decode cX0_spreads 8 = .ok (.iload_n 2, 1) := dk_28 (dk_at dksX0_spreads_0 8 rfl rfl)
theorem dX0_spreads_9 : decode cX0_spreads 9 = .ok (.iload_n 3, 1) := dk_29 (dk_at dksX0_spreads_0 9 rfl rfl)
theorem dX0_spreads_10 : decode cX0_spreads 10 = .ok (.invokevirtual 321, 3) := dk_182 1 65 (dk_at dksX0_spreads_0 10 rfl rfl)
theorem dX0_spreads_13 : decode cX0_spreads 13 = .ok (.return_, 1) := dk_177 (dk_at dksX0_spreads_0 13 rfl rfl)
abbrev cX0_plans : ByteArray := prog_1_method_51_code
def yX0_plans : MethodName := ⟨RX0, "plans", "(IIII)V"⟩
def dkwX0_plans_3 : List UInt8 := [79, 42, 27, 28, 4, 96, 29, 21, 5, 100, 21, 4, 182, 1, 65, 132, 5, 255, 167, 255, 226, 177]
abbrev dktX0_plans_3 : List UInt8 := dkwX0_plans_3 ++ []
def dkwX0_plans_2 : List UInt8 := [180, 0, 73, 3, 7, 184, 0, 31, 177, 29, 54, 5, 21, 5, 155, 0, 31, 42, 180, 0, 69, 28, 21, 5]
abbrev dktX0_plans_2 : List UInt8 := dkwX0_plans_2 ++ dktX0_plans_3
def dkwX0_plans_1 : List UInt8 := [21, 5, 42, 180, 1, 62, 163, 0, 4, 177, 42, 21, 5, 181, 1, 62, 42, 180, 0, 69, 3, 42]
abbrev dktX0_plans_1 : List UInt8 := dkwX0_plans_1 ++ dktX0_plans_2
def dkwX0_plans_0 : List UInt8 := [28, 21, 4, 4, 100, 160, 0, 50, 42, 180, 0, 69, 28, 29, 79, 42, 27, 21, 4, 182, 1, 59, 54, 5]
abbrev dktX0_plans_0 : List UInt8 := dkwX0_plans_0 ++ dktX0_plans_1
theorem dksX0_plans_0 : cX0_plans.data.toList.drop 0 = dktX0_plans_0 := by decide +kernel
theorem dksX0_plans_1 : cX0_plans.data.toList.drop 24 = dktX0_plans_1 := dk_seg dksX0_plans_0 24 rfl rfl
theorem dksX0_plans_2 : cX0_plans.data.toList.drop 46 = dktX0_plans_2 := dk_seg dksX0_plans_1 22 rfl rfl
theorem dksX0_plans_3 : cX0_plans.data.toList.drop 70 = dktX0_plans_3 := dk_seg dksX0_plans_2 24 rfl rfl
theorem dX0_plans_0 : decode cX0_plans 0 = .ok (.iload_n 2, 1) := dk_28 (dk_at dksX0_plans_0 0 rfl rfl)
theorem dX0_plans_1 : decode cX0_plans 1 = .ok (.iload 4, 2) := dk_21 4 (dk_at dksX0_plans_0 1 rfl rfl)
theorem dX0_plans_3 : decode cX0_plans 3 = .ok (.iconst 1, 1) := dk_4 (dk_at dksX0_plans_0 3 rfl rfl)
theorem dX0_plans_4 : decode cX0_plans 4 = .ok (.isub, 1) := dk_100 (dk_at dksX0_plans_0 4 rfl rfl)
theorem dX0_plans_5 : decode cX0_plans 5 = .ok (.if_icmp .ne 50, 3) := dk_160 0 50 (dk_at dksX0_plans_0 5 rfl rfl)
theorem dX0_plans_8 : decode cX0_plans 8 = .ok (.aload_n 0, 1) := dk_42 (dk_at dksX0_plans_0 8 rfl rfl)
theorem dX0_plans_9 : decode cX0_plans 9 = .ok (.getfield 69, 3) := dk_180 0 69 (dk_at dksX0_plans_0 9 rfl rfl)
theorem dX0_plans_12 : decode cX0_plans 12 = .ok (.iload_n 2, 1) := dk_28 (dk_at dksX0_plans_0 12 rfl rfl)
theorem dX0_plans_13 : decode cX0_plans 13 = .ok (.iload_n 3, 1) := dk_29 (dk_at dksX0_plans_0 13 rfl rfl)
theorem dX0_plans_14 : decode cX0_plans 14 = .ok (.iastore, 1) := dk_79 (dk_at dksX0_plans_0 14 rfl rfl)
theorem dX0_plans_15 : decode cX0_plans 15 = .ok (.aload_n 0, 1) := dk_42 (dk_at dksX0_plans_0 15 rfl rfl)
theorem dX0_plans_16 : decode cX0_plans 16 = .ok (.iload_n 1, 1) := dk_27 (dk_at dksX0_plans_0 16 rfl rfl)
theorem dX0_plans_17 : decode cX0_plans 17 = .ok (.iload 4, 2) := dk_21 4 (dk_at dksX0_plans_0 17 rfl rfl)
theorem dX0_plans_19 : decode cX0_plans 19 = .ok (.invokevirtual 315, 3) := dk_182 1 59 (dk_at dksX0_plans_0 19 rfl rfl)
theorem dX0_plans_22 : decode cX0_plans 22 = .ok (.istore 5, 2) := dk_54 5 (dk_at dksX0_plans_0 22 rfl rfl)
theorem dX0_plans_24 : decode cX0_plans 24 = .ok (.iload 5, 2) := dk_21 5 (dk_at dksX0_plans_1 0 rfl rfl)
theorem dX0_plans_26 : decode cX0_plans 26 = .ok (.aload_n 0, 1) := dk_42 (dk_at dksX0_plans_1 2 rfl rfl)
theorem dX0_plans_27 : decode cX0_plans 27 = .ok (.getfield 318, 3) := dk_180 1 62 (dk_at dksX0_plans_1 3 rfl rfl)
theorem dX0_plans_30 : decode cX0_plans 30 = .ok (.if_icmp .gt 4, 3) := dk_163 0 4 (dk_at dksX0_plans_1 6 rfl rfl)
theorem dX0_plans_33 : decode cX0_plans 33 = .ok (.return_, 1) := dk_177 (dk_at dksX0_plans_1 9 rfl rfl)
theorem dX0_plans_34 : decode cX0_plans 34 = .ok (.aload_n 0, 1) := dk_42 (dk_at dksX0_plans_1 10 rfl rfl)
theorem dX0_plans_35 : decode cX0_plans 35 = .ok (.iload 5, 2) := dk_21 5 (dk_at dksX0_plans_1 11 rfl rfl)
theorem dX0_plans_37 : decode cX0_plans 37 = .ok (.putfield 318, 3) := dk_181 1 62 (dk_at dksX0_plans_1 13 rfl rfl)
theorem dX0_plans_40 : decode cX0_plans 40 = .ok (.aload_n 0, 1) := dk_42 (dk_at dksX0_plans_1 16 rfl rfl)
theorem dX0_plans_41 : decode cX0_plans 41 = .ok (.getfield 69, 3) := dk_180 0 69 (dk_at dksX0_plans_1 17 rfl rfl)
theorem dX0_plans_44 : decode cX0_plans 44 = .ok (.iconst 0, 1) := dk_3 (dk_at dksX0_plans_1 20 rfl rfl)
theorem dX0_plans_45 : decode cX0_plans 45 = .ok (.aload_n 0, 1) := dk_42 (dk_at dksX0_plans_1 21 rfl rfl)
theorem dX0_plans_46 : decode cX0_plans 46 = .ok (.getfield 73, 3) := dk_180 0 73 (dk_at dksX0_plans_2 0 rfl rfl)
theorem dX0_plans_49 : decode cX0_plans 49 = .ok (.iconst 0, 1) := dk_3 (dk_at dksX0_plans_2 3 rfl rfl)
theorem dX0_plans_50 : decode cX0_plans 50 = .ok (.iconst 4, 1) := dk_7 (dk_at dksX0_plans_2 4 rfl rfl)
theorem dX0_plans_51 : decode cX0_plans 51 = .ok (.invokestatic 31, 3) := dk_184 0 31 (dk_at dksX0_plans_2 5 rfl rfl)
theorem dX0_plans_54 : decode cX0_plans 54 = .ok (.return_, 1) := dk_177 (dk_at dksX0_plans_2 8 rfl rfl)
theorem dX0_plans_55 : decode cX0_plans 55 = .ok (.iload_n 3, 1) := dk_29 (dk_at dksX0_plans_2 9 rfl rfl)
theorem dX0_plans_56 : decode cX0_plans 56 = .ok (.istore 5, 2) := dk_54 5 (dk_at dksX0_plans_2 10 rfl rfl)
theorem dX0_plans_58 : decode cX0_plans 58 = .ok (.iload 5, 2) := dk_21 5 (dk_at dksX0_plans_2 12 rfl rfl)
theorem dX0_plans_60 : decode cX0_plans 60 = .ok (.ifCond .lt 31, 3) := dk_155 0 31 (dk_at dksX0_plans_2 14 rfl rfl)
theorem dX0_plans_63 : decode cX0_plans 63 = .ok (.aload_n 0, 1) := dk_42 (dk_at dksX0_plans_2 17 rfl rfl)
theorem dX0_plans_64 : decode cX0_plans 64 = .ok (.getfield 69, 3) := dk_180 0 69 (dk_at dksX0_plans_2 18 rfl rfl)
theorem dX0_plans_67 : decode cX0_plans 67 = .ok (.iload_n 2, 1) := dk_28 (dk_at dksX0_plans_2 21 rfl rfl)
theorem dX0_plans_68 : decode cX0_plans 68 = .ok (.iload 5, 2) := dk_21 5 (dk_at dksX0_plans_2 22 rfl rfl)
theorem dX0_plans_70 : decode cX0_plans 70 = .ok (.iastore, 1) := dk_79 (dk_at dksX0_plans_3 0 rfl rfl)
theorem dX0_plans_71 : decode cX0_plans 71 = .ok (.aload_n 0, 1) := dk_42 (dk_at dksX0_plans_3 1 rfl rfl)
theorem dX0_plans_72 : decode cX0_plans 72 = .ok (.iload_n 1, 1) := dk_27 (dk_at dksX0_plans_3 2 rfl rfl)
theorem dX0_plans_73 : decode cX0_plans 73 = .ok (.iload_n 2, 1) := dk_28 (dk_at dksX0_plans_3 3 rfl rfl)
theorem dX0_plans_74 : decode cX0_plans 74 = .ok (.iconst 1, 1) := dk_4 (dk_at dksX0_plans_3 4 rfl rfl)
theorem dX0_plans_75 : decode cX0_plans 75 = .ok (.iadd, 1) := dk_96 (dk_at dksX0_plans_3 5 rfl rfl)
theorem dX0_plans_76 : decode cX0_plans 76 = .ok (.iload_n 3, 1) := dk_29 (dk_at dksX0_plans_3 6 rfl rfl)
theorem dX0_plans_77 : decode cX0_plans 77 = .ok (.iload 5, 2) := dk_21 5 (dk_at dksX0_plans_3 7 rfl rfl)
theorem dX0_plans_79 : decode cX0_plans 79 = .ok (.isub, 1) := dk_100 (dk_at dksX0_plans_3 9 rfl rfl)
theorem dX0_plans_80 : decode cX0_plans 80 = .ok (.iload 4, 2) := dk_21 4 (dk_at dksX0_plans_3 10 rfl rfl)
theorem dX0_plans_82 : decode cX0_plans 82 = .ok (.invokevirtual 321, 3) := dk_182 1 65 (dk_at dksX0_plans_3 12 rfl rfl)
theorem dX0_plans_85 : decode cX0_plans 85 = .ok (.iinc 5 (-1), 3) := dk_132 5 255 (dk_at dksX0_plans_3 15 rfl rfl)
theorem dX0_plans_88 : decode cX0_plans 88 = .ok (.goto (-30), 3) := dk_167 255 226 (dk_at dksX0_plans_3 18 rfl rfl)
theorem dX0_plans_91 : decode cX0_plans 91 = .ok (.return_, 1) := dk_177 (dk_at dksX0_plans_3 21 rfl rfl)
abbrev cX0_leavesBy : ByteArray := prog_1_method_50_code
def yX0_leavesBy : MethodName := ⟨RX0, "leavesBy", "(II)I"⟩
def dkwX0_leavesBy_3 : List UInt8 := [182, 1, 55, 172]
abbrev dktX0_leavesBy_3 : List UInt8 := dkwX0_leavesBy_3 ++ []
def dkwX0_leavesBy_2 : List UInt8 := [180, 0, 57, 16, 24, 182, 0, 188, 132, 3, 1, 167, 255, 207, 42, 180, 0, 57, 42, 27, 182, 0, 127]
abbrev dktX0_leavesBy_2 : List UInt8 := dkwX0_leavesBy_2 ++ dktX0_leavesBy_3
def dkwX0_leavesBy_1 : List UInt8 := [162, 0, 21, 42, 180, 0, 57, 42, 27, 182, 0, 127, 182, 0, 174, 132, 4, 1, 167, 255, 230, 42]
abbrev dktX0_leavesBy_1 : List UInt8 := dkwX0_leavesBy_1 ++ dktX0_leavesBy_2
def dkwX0_leavesBy_0 : List UInt8 := [42, 182, 0, 236, 87, 3, 62, 29, 28, 162, 0, 50, 3, 54, 4, 21, 4, 42, 180, 0, 69, 29, 46]
abbrev dktX0_leavesBy_0 : List UInt8 := dkwX0_leavesBy_0 ++ dktX0_leavesBy_1
theorem dksX0_leavesBy_0 : cX0_leavesBy.data.toList.drop 0 = dktX0_leavesBy_0 := by decide +kernel
theorem dksX0_leavesBy_1 : cX0_leavesBy.data.toList.drop 23 = dktX0_leavesBy_1 := dk_seg dksX0_leavesBy_0 23 rfl rfl
theorem dksX0_leavesBy_2 : cX0_leavesBy.data.toList.drop 45 = dktX0_leavesBy_2 := dk_seg dksX0_leavesBy_1 22 rfl rfl
theorem dksX0_leavesBy_3 : cX0_leavesBy.data.toList.drop 68 = dktX0_leavesBy_3 := dk_seg dksX0_leavesBy_2 23 rfl rfl
theorem dX0_leavesBy_0 : decode cX0_leavesBy 0 = .ok (.aload_n 0, 1) := dk_42 (dk_at dksX0_leavesBy_0 0 rfl rfl)
theorem dX0_leavesBy_1 : decode cX0_leavesBy 1 = .ok (.invokevirtual 236, 3) := dk_182 0 236 (dk_at dksX0_leavesBy_0 1 rfl rfl)
theorem dX0_leavesBy_4 : decode cX0_leavesBy 4 = .ok (.pop, 1) := dk_87 (dk_at dksX0_leavesBy_0 4 rfl rfl)
theorem dX0_leavesBy_5 : decode cX0_leavesBy 5 = .ok (.iconst 0, 1) := dk_3 (dk_at dksX0_leavesBy_0 5 rfl rfl)
theorem dX0_leavesBy_6 : decode cX0_leavesBy 6 = .ok (.istore_n 3, 1) := dk_62 (dk_at dksX0_leavesBy_0 6 rfl rfl)
theorem dX0_leavesBy_7 : decode cX0_leavesBy 7 = .ok (.iload_n 3, 1) := dk_29 (dk_at dksX0_leavesBy_0 7 rfl rfl)
theorem dX0_leavesBy_8 : decode cX0_leavesBy 8 = .ok (.iload_n 2, 1) := dk_28 (dk_at dksX0_leavesBy_0 8 rfl rfl)
theorem dX0_leavesBy_9 : decode cX0_leavesBy 9 = .ok (.if_icmp .ge 50, 3) := dk_162 0 50 (dk_at dksX0_leavesBy_0 9 rfl rfl)
theorem dX0_leavesBy_12 : decode cX0_leavesBy 12 = .ok (.iconst 0, 1) := dk_3 (dk_at dksX0_leavesBy_0 12 rfl rfl)
theorem dX0_leavesBy_13 : decode cX0_leavesBy 13 = .ok (.istore 4, 2) := dk_54 4 (dk_at dksX0_leavesBy_0 13 rfl rfl)
theorem dX0_leavesBy_15 : decode cX0_leavesBy 15 = .ok (.iload 4, 2) := dk_21 4 (dk_at dksX0_leavesBy_0 15 rfl rfl)
theorem dX0_leavesBy_17 : decode cX0_leavesBy 17 = .ok (.aload_n 0, 1) := dk_42 (dk_at dksX0_leavesBy_0 17 rfl rfl)
theorem dX0_leavesBy_18 : decode cX0_leavesBy 18 = .ok (.getfield 69, 3) := dk_180 0 69 (dk_at dksX0_leavesBy_0 18 rfl rfl)
theorem dX0_leavesBy_21 : decode cX0_leavesBy 21 = .ok (.iload_n 3, 1) := dk_29 (dk_at dksX0_leavesBy_0 21 rfl rfl)
theorem dX0_leavesBy_22 : decode cX0_leavesBy 22 = .ok (.iaload, 1) := dk_46 (dk_at dksX0_leavesBy_0 22 rfl rfl)
theorem dX0_leavesBy_23 : decode cX0_leavesBy 23 = .ok (.if_icmp .ge 21, 3) := dk_162 0 21 (dk_at dksX0_leavesBy_1 0 rfl rfl)
theorem dX0_leavesBy_26 : decode cX0_leavesBy 26 = .ok (.aload_n 0, 1) := dk_42 (dk_at dksX0_leavesBy_1 3 rfl rfl)
theorem dX0_leavesBy_27 : decode cX0_leavesBy 27 = .ok (.getfield 57, 3) := dk_180 0 57 (dk_at dksX0_leavesBy_1 4 rfl rfl)
theorem dX0_leavesBy_30 : decode cX0_leavesBy 30 = .ok (.aload_n 0, 1) := dk_42 (dk_at dksX0_leavesBy_1 7 rfl rfl)
theorem dX0_leavesBy_31 : decode cX0_leavesBy 31 = .ok (.iload_n 1, 1) := dk_27 (dk_at dksX0_leavesBy_1 8 rfl rfl)
theorem dX0_leavesBy_32 : decode cX0_leavesBy 32 = .ok (.invokevirtual 127, 3) := dk_182 0 127 (dk_at dksX0_leavesBy_1 9 rfl rfl)
theorem dX0_leavesBy_35 : decode cX0_leavesBy 35 = .ok (.invokevirtual 174, 3) := dk_182 0 174 (dk_at dksX0_leavesBy_1 12 rfl rfl)
theorem dX0_leavesBy_38 : decode cX0_leavesBy 38 = .ok (.iinc 4 1, 3) := dk_132 4 1 (dk_at dksX0_leavesBy_1 15 rfl rfl)
theorem dX0_leavesBy_41 : decode cX0_leavesBy 41 = .ok (.goto (-26), 3) := dk_167 255 230 (dk_at dksX0_leavesBy_1 18 rfl rfl)
theorem dX0_leavesBy_44 : decode cX0_leavesBy 44 = .ok (.aload_n 0, 1) := dk_42 (dk_at dksX0_leavesBy_1 21 rfl rfl)
theorem dX0_leavesBy_45 : decode cX0_leavesBy 45 = .ok (.getfield 57, 3) := dk_180 0 57 (dk_at dksX0_leavesBy_2 0 rfl rfl)
theorem dX0_leavesBy_48 : decode cX0_leavesBy 48 = .ok (.bipush 24, 2) := dk_16 24 (dk_at dksX0_leavesBy_2 3 rfl rfl)
theorem dX0_leavesBy_50 : decode cX0_leavesBy 50 = .ok (.invokevirtual 188, 3) := dk_182 0 188 (dk_at dksX0_leavesBy_2 5 rfl rfl)
theorem dX0_leavesBy_53 : decode cX0_leavesBy 53 = .ok (.iinc 3 1, 3) := dk_132 3 1 (dk_at dksX0_leavesBy_2 8 rfl rfl)
theorem dX0_leavesBy_56 : decode cX0_leavesBy 56 = .ok (.goto (-49), 3) := dk_167 255 207 (dk_at dksX0_leavesBy_2 11 rfl rfl)
theorem dX0_leavesBy_59 : decode cX0_leavesBy 59 = .ok (.aload_n 0, 1) := dk_42 (dk_at dksX0_leavesBy_2 14 rfl rfl)
theorem dX0_leavesBy_60 : decode cX0_leavesBy 60 = .ok (.getfield 57, 3) := dk_180 0 57 (dk_at dksX0_leavesBy_2 15 rfl rfl)
theorem dX0_leavesBy_63 : decode cX0_leavesBy 63 = .ok (.aload_n 0, 1) := dk_42 (dk_at dksX0_leavesBy_2 18 rfl rfl)
theorem dX0_leavesBy_64 : decode cX0_leavesBy 64 = .ok (.iload_n 1, 1) := dk_27 (dk_at dksX0_leavesBy_2 19 rfl rfl)
theorem dX0_leavesBy_65 : decode cX0_leavesBy 65 = .ok (.invokevirtual 127, 3) := dk_182 0 127 (dk_at dksX0_leavesBy_2 20 rfl rfl)
theorem dX0_leavesBy_68 : decode cX0_leavesBy 68 = .ok (.invokevirtual 311, 3) := dk_182 1 55 (dk_at dksX0_leavesBy_3 0 rfl rfl)
theorem dX0_leavesBy_71 : decode cX0_leavesBy 71 = .ok (.ireturn, 1) := dk_172 (dk_at dksX0_leavesBy_3 3 rfl rfl)
abbrev cX0_left : ByteArray := prog_1_method_55_code
def yX0_left : MethodName := ⟨RX0, "left", "(IIII)I"⟩
def dkwX0_left_3 : List UInt8 := [160, 0, 7, 28, 167, 0, 4, 3, 79, 132, 5, 1, 167, 255, 217, 42, 27, 29, 182, 1, 59, 172]
abbrev dktX0_left_3 : List UInt8 := dkwX0_left_3 ++ []
def dkwX0_left_2 : List UInt8 := [162, 0, 39, 42, 180, 0, 69, 21, 5, 21, 5, 21, 4, 4, 160, 0, 7, 3, 167, 0, 6, 29, 4, 100]
abbrev dktX0_left_2 : List UInt8 := dkwX0_left_2 ++ dktX0_left_3
def dkwX0_left_1 : List UInt8 := [172, 21, 4, 154, 0, 15, 42, 27, 28, 29, 182, 1, 77, 42, 180, 1, 62, 172, 3, 54, 5, 21, 5, 29]
abbrev dktX0_left_1 : List UInt8 := dkwX0_left_1 ++ dktX0_left_2
def dkwX0_left_0 : List UInt8 := [42, 27, 28, 29, 182, 1, 73, 153, 0, 16, 21, 4, 133, 9, 20, 0, 219, 184, 0, 5, 154, 0, 5, 2]
abbrev dktX0_left_0 : List UInt8 := dkwX0_left_0 ++ dktX0_left_1
theorem dksX0_left_0 : cX0_left.data.toList.drop 0 = dktX0_left_0 := by decide +kernel
theorem dksX0_left_1 : cX0_left.data.toList.drop 24 = dktX0_left_1 := dk_seg dksX0_left_0 24 rfl rfl
theorem dksX0_left_2 : cX0_left.data.toList.drop 48 = dktX0_left_2 := dk_seg dksX0_left_1 24 rfl rfl
theorem dksX0_left_3 : cX0_left.data.toList.drop 72 = dktX0_left_3 := dk_seg dksX0_left_2 24 rfl rfl
theorem dX0_left_0 : decode cX0_left 0 = .ok (.aload_n 0, 1) := dk_42 (dk_at dksX0_left_0 0 rfl rfl)
theorem dX0_left_1 : decode cX0_left 1 = .ok (.iload_n 1, 1) := dk_27 (dk_at dksX0_left_0 1 rfl rfl)
theorem dX0_left_2 : decode cX0_left 2 = .ok (.iload_n 2, 1) := dk_28 (dk_at dksX0_left_0 2 rfl rfl)
theorem dX0_left_3 : decode cX0_left 3 = .ok (.iload_n 3, 1) := dk_29 (dk_at dksX0_left_0 3 rfl rfl)
theorem dX0_left_4 : decode cX0_left 4 = .ok (.invokevirtual 329, 3) := dk_182 1 73 (dk_at dksX0_left_0 4 rfl rfl)
theorem dX0_left_7 : decode cX0_left 7 = .ok (.ifCond .eq 16, 3) := dk_153 0 16 (dk_at dksX0_left_0 7 rfl rfl)
theorem dX0_left_10 : decode cX0_left 10 = .ok (.iload 4, 2) := dk_21 4 (dk_at dksX0_left_0 10 rfl rfl)
theorem dX0_left_12 : decode cX0_left 12 = .ok (.i2l, 1) := dk_133 (dk_at dksX0_left_0 12 rfl rfl)
theorem dX0_left_13 : decode cX0_left 13 = .ok (.lconst 0, 1) := dk_9 (dk_at dksX0_left_0 13 rfl rfl)
theorem dX0_left_14 : decode cX0_left 14 = .ok (.ldc2_w 219, 3) := dk_20 0 219 (dk_at dksX0_left_0 14 rfl rfl)
theorem dX0_left_17 : decode cX0_left 17 = .ok (.invokestatic 5, 3) := dk_184 0 5 (dk_at dksX0_left_0 17 rfl rfl)
theorem dX0_left_20 : decode cX0_left 20 = .ok (.ifCond .ne 5, 3) := dk_154 0 5 (dk_at dksX0_left_0 20 rfl rfl)
theorem dX0_left_23 : decode cX0_left 23 = .ok (.iconst (-1), 1) := dk_2 (dk_at dksX0_left_0 23 rfl rfl)
theorem dX0_left_24 : decode cX0_left 24 = .ok (.ireturn, 1) := dk_172 (dk_at dksX0_left_1 0 rfl rfl)
theorem dX0_left_25 : decode cX0_left 25 = .ok (.iload 4, 2) := dk_21 4 (dk_at dksX0_left_1 1 rfl rfl)
theorem dX0_left_27 : decode cX0_left 27 = .ok (.ifCond .ne 15, 3) := dk_154 0 15 (dk_at dksX0_left_1 3 rfl rfl)
theorem dX0_left_30 : decode cX0_left 30 = .ok (.aload_n 0, 1) := dk_42 (dk_at dksX0_left_1 6 rfl rfl)
theorem dX0_left_31 : decode cX0_left 31 = .ok (.iload_n 1, 1) := dk_27 (dk_at dksX0_left_1 7 rfl rfl)
theorem dX0_left_32 : decode cX0_left 32 = .ok (.iload_n 2, 1) := dk_28 (dk_at dksX0_left_1 8 rfl rfl)
theorem dX0_left_33 : decode cX0_left 33 = .ok (.iload_n 3, 1) := dk_29 (dk_at dksX0_left_1 9 rfl rfl)
theorem dX0_left_34 : decode cX0_left 34 = .ok (.invokevirtual 333, 3) := dk_182 1 77 (dk_at dksX0_left_1 10 rfl rfl)
theorem dX0_left_37 : decode cX0_left 37 = .ok (.aload_n 0, 1) := dk_42 (dk_at dksX0_left_1 13 rfl rfl)
theorem dX0_left_38 : decode cX0_left 38 = .ok (.getfield 318, 3) := dk_180 1 62 (dk_at dksX0_left_1 14 rfl rfl)
theorem dX0_left_41 : decode cX0_left 41 = .ok (.ireturn, 1) := dk_172 (dk_at dksX0_left_1 17 rfl rfl)
theorem dX0_left_42 : decode cX0_left 42 = .ok (.iconst 0, 1) := dk_3 (dk_at dksX0_left_1 18 rfl rfl)
theorem dX0_left_43 : decode cX0_left 43 = .ok (.istore 5, 2) := dk_54 5 (dk_at dksX0_left_1 19 rfl rfl)
theorem dX0_left_45 : decode cX0_left 45 = .ok (.iload 5, 2) := dk_21 5 (dk_at dksX0_left_1 21 rfl rfl)
theorem dX0_left_47 : decode cX0_left 47 = .ok (.iload_n 3, 1) := dk_29 (dk_at dksX0_left_1 23 rfl rfl)
theorem dX0_left_48 : decode cX0_left 48 = .ok (.if_icmp .ge 39, 3) := dk_162 0 39 (dk_at dksX0_left_2 0 rfl rfl)
theorem dX0_left_51 : decode cX0_left 51 = .ok (.aload_n 0, 1) := dk_42 (dk_at dksX0_left_2 3 rfl rfl)
theorem dX0_left_52 : decode cX0_left 52 = .ok (.getfield 69, 3) := dk_180 0 69 (dk_at dksX0_left_2 4 rfl rfl)
theorem dX0_left_55 : decode cX0_left 55 = .ok (.iload 5, 2) := dk_21 5 (dk_at dksX0_left_2 7 rfl rfl)
theorem dX0_left_57 : decode cX0_left 57 = .ok (.iload 5, 2) := dk_21 5 (dk_at dksX0_left_2 9 rfl rfl)
theorem dX0_left_59 : decode cX0_left 59 = .ok (.iload 4, 2) := dk_21 4 (dk_at dksX0_left_2 11 rfl rfl)
theorem dX0_left_61 : decode cX0_left 61 = .ok (.iconst 1, 1) := dk_4 (dk_at dksX0_left_2 13 rfl rfl)
theorem dX0_left_62 : decode cX0_left 62 = .ok (.if_icmp .ne 7, 3) := dk_160 0 7 (dk_at dksX0_left_2 14 rfl rfl)
theorem dX0_left_65 : decode cX0_left 65 = .ok (.iconst 0, 1) := dk_3 (dk_at dksX0_left_2 17 rfl rfl)
theorem dX0_left_66 : decode cX0_left 66 = .ok (.goto 6, 3) := dk_167 0 6 (dk_at dksX0_left_2 18 rfl rfl)
theorem dX0_left_69 : decode cX0_left 69 = .ok (.iload_n 3, 1) := dk_29 (dk_at dksX0_left_2 21 rfl rfl)
theorem dX0_left_70 : decode cX0_left 70 = .ok (.iconst 1, 1) := dk_4 (dk_at dksX0_left_2 22 rfl rfl)
theorem dX0_left_71 : decode cX0_left 71 = .ok (.isub, 1) := dk_100 (dk_at dksX0_left_2 23 rfl rfl)
theorem dX0_left_72 : decode cX0_left 72 = .ok (.if_icmp .ne 7, 3) := dk_160 0 7 (dk_at dksX0_left_3 0 rfl rfl)
theorem dX0_left_75 : decode cX0_left 75 = .ok (.iload_n 2, 1) := dk_28 (dk_at dksX0_left_3 3 rfl rfl)
theorem dX0_left_76 : decode cX0_left 76 = .ok (.goto 4, 3) := dk_167 0 4 (dk_at dksX0_left_3 4 rfl rfl)
theorem dX0_left_79 : decode cX0_left 79 = .ok (.iconst 0, 1) := dk_3 (dk_at dksX0_left_3 7 rfl rfl)
theorem dX0_left_80 : decode cX0_left 80 = .ok (.iastore, 1) := dk_79 (dk_at dksX0_left_3 8 rfl rfl)
theorem dX0_left_81 : decode cX0_left 81 = .ok (.iinc 5 1, 3) := dk_132 5 1 (dk_at dksX0_left_3 9 rfl rfl)
theorem dX0_left_84 : decode cX0_left 84 = .ok (.goto (-39), 3) := dk_167 255 217 (dk_at dksX0_left_3 12 rfl rfl)
theorem dX0_left_87 : decode cX0_left 87 = .ok (.aload_n 0, 1) := dk_42 (dk_at dksX0_left_3 15 rfl rfl)
theorem dX0_left_88 : decode cX0_left 88 = .ok (.iload_n 1, 1) := dk_27 (dk_at dksX0_left_3 16 rfl rfl)
theorem dX0_left_89 : decode cX0_left 89 = .ok (.iload_n 3, 1) := dk_29 (dk_at dksX0_left_3 17 rfl rfl)
theorem dX0_left_90 : decode cX0_left 90 = .ok (.invokevirtual 315, 3) := dk_182 1 59 (dk_at dksX0_left_3 18 rfl rfl)
theorem dX0_left_93 : decode cX0_left 93 = .ok (.ireturn, 1) := dk_172 (dk_at dksX0_left_3 21 rfl rfl)
abbrev cX0_shuffled : ByteArray := prog_1_method_57_code
def yX0_shuffled : MethodName := ⟨RX0, "shuffled", "(II)I"⟩
def dkwX0_shuffled_3 : List UInt8 := [21, 7, 28, 4, 96, 96, 54, 7, 167, 255, 229, 132, 6, 1, 167, 255, 213, 42, 25, 4, 182, 1, 81, 172]
abbrev dktX0_shuffled_3 : List UInt8 := dkwX0_shuffled_3 ++ []
def dkwX0_shuffled_2 : List UInt8 := [21, 6, 54, 7, 21, 7, 45, 190, 162, 0, 26, 25, 4, 21, 5, 45, 21, 7, 46, 79, 132, 5, 1]
abbrev dktX0_shuffled_2 : List UInt8 := dkwX0_shuffled_2 ++ dktX0_shuffled_3
def dkwX0_shuffled_1 : List UInt8 := [27, 182, 0, 127, 78, 45, 190, 188, 10, 58, 4, 3, 54, 5, 3, 54, 6, 21, 6, 28, 163, 0, 43]
abbrev dktX0_shuffled_1 : List UInt8 := dkwX0_shuffled_1 ++ dktX0_shuffled_2
def dkwX0_shuffled_0 : List UInt8 := [42, 27, 182, 0, 169, 153, 0, 15, 28, 133, 10, 20, 0, 3, 184, 0, 5, 154, 0, 6, 16, 254, 172, 42]
abbrev dktX0_shuffled_0 : List UInt8 := dkwX0_shuffled_0 ++ dktX0_shuffled_1
theorem dksX0_shuffled_0 : cX0_shuffled.data.toList.drop 0 = dktX0_shuffled_0 := by decide +kernel
theorem dksX0_shuffled_1 : cX0_shuffled.data.toList.drop 24 = dktX0_shuffled_1 := dk_seg dksX0_shuffled_0 24 rfl rfl
theorem dksX0_shuffled_2 : cX0_shuffled.data.toList.drop 47 = dktX0_shuffled_2 := dk_seg dksX0_shuffled_1 23 rfl rfl
theorem dksX0_shuffled_3 : cX0_shuffled.data.toList.drop 70 = dktX0_shuffled_3 := dk_seg dksX0_shuffled_2 23 rfl rfl
theorem dX0_shuffled_0 : decode cX0_shuffled 0 = .ok (.aload_n 0, 1) := dk_42 (dk_at dksX0_shuffled_0 0 rfl rfl)
theorem dX0_shuffled_1 : decode cX0_shuffled 1 = .ok (.iload_n 1, 1) := dk_27 (dk_at dksX0_shuffled_0 1 rfl rfl)
theorem dX0_shuffled_2 : decode cX0_shuffled 2 = .ok (.invokevirtual 169, 3) := dk_182 0 169 (dk_at dksX0_shuffled_0 2 rfl rfl)
theorem dX0_shuffled_5 : decode cX0_shuffled 5 = .ok (.ifCond .eq 15, 3) := dk_153 0 15 (dk_at dksX0_shuffled_0 5 rfl rfl)
theorem dX0_shuffled_8 : decode cX0_shuffled 8 = .ok (.iload_n 2, 1) := dk_28 (dk_at dksX0_shuffled_0 8 rfl rfl)
theorem dX0_shuffled_9 : decode cX0_shuffled 9 = .ok (.i2l, 1) := dk_133 (dk_at dksX0_shuffled_0 9 rfl rfl)
theorem dX0_shuffled_10 : decode cX0_shuffled 10 = .ok (.lconst 1, 1) := dk_10 (dk_at dksX0_shuffled_0 10 rfl rfl)
theorem dX0_shuffled_11 : decode cX0_shuffled 11 = .ok (.ldc2_w 3, 3) := dk_20 0 3 (dk_at dksX0_shuffled_0 11 rfl rfl)
theorem dX0_shuffled_14 : decode cX0_shuffled 14 = .ok (.invokestatic 5, 3) := dk_184 0 5 (dk_at dksX0_shuffled_0 14 rfl rfl)
theorem dX0_shuffled_17 : decode cX0_shuffled 17 = .ok (.ifCond .ne 6, 3) := dk_154 0 6 (dk_at dksX0_shuffled_0 17 rfl rfl)
theorem dX0_shuffled_20 : decode cX0_shuffled 20 = .ok (.bipush (-2), 2) := dk_16 254 (dk_at dksX0_shuffled_0 20 rfl rfl)
theorem dX0_shuffled_22 : decode cX0_shuffled 22 = .ok (.ireturn, 1) := dk_172 (dk_at dksX0_shuffled_0 22 rfl rfl)
theorem dX0_shuffled_23 : decode cX0_shuffled 23 = .ok (.aload_n 0, 1) := dk_42 (dk_at dksX0_shuffled_0 23 rfl rfl)
theorem dX0_shuffled_24 : decode cX0_shuffled 24 = .ok (.iload_n 1, 1) := dk_27 (dk_at dksX0_shuffled_1 0 rfl rfl)
theorem dX0_shuffled_25 : decode cX0_shuffled 25 = .ok (.invokevirtual 127, 3) := dk_182 0 127 (dk_at dksX0_shuffled_1 1 rfl rfl)
theorem dX0_shuffled_28 : decode cX0_shuffled 28 = .ok (.astore_n 3, 1) := dk_78 (dk_at dksX0_shuffled_1 4 rfl rfl)
theorem dX0_shuffled_29 : decode cX0_shuffled 29 = .ok (.aload_n 3, 1) := dk_45 (dk_at dksX0_shuffled_1 5 rfl rfl)
theorem dX0_shuffled_30 : decode cX0_shuffled 30 = .ok (.arraylength, 1) := dk_190 (dk_at dksX0_shuffled_1 6 rfl rfl)
theorem dX0_shuffled_31 : decode cX0_shuffled 31 = .ok (.newarray .int, 2) := dk_188_10 (dk_at dksX0_shuffled_1 7 rfl rfl)
theorem dX0_shuffled_33 : decode cX0_shuffled 33 = .ok (.astore 4, 2) := dk_58 4 (dk_at dksX0_shuffled_1 9 rfl rfl)
theorem dX0_shuffled_35 : decode cX0_shuffled 35 = .ok (.iconst 0, 1) := dk_3 (dk_at dksX0_shuffled_1 11 rfl rfl)
theorem dX0_shuffled_36 : decode cX0_shuffled 36 = .ok (.istore 5, 2) := dk_54 5 (dk_at dksX0_shuffled_1 12 rfl rfl)
theorem dX0_shuffled_38 : decode cX0_shuffled 38 = .ok (.iconst 0, 1) := dk_3 (dk_at dksX0_shuffled_1 14 rfl rfl)
theorem dX0_shuffled_39 : decode cX0_shuffled 39 = .ok (.istore 6, 2) := dk_54 6 (dk_at dksX0_shuffled_1 15 rfl rfl)
theorem dX0_shuffled_41 : decode cX0_shuffled 41 = .ok (.iload 6, 2) := dk_21 6 (dk_at dksX0_shuffled_1 17 rfl rfl)
theorem dX0_shuffled_43 : decode cX0_shuffled 43 = .ok (.iload_n 2, 1) := dk_28 (dk_at dksX0_shuffled_1 19 rfl rfl)
theorem dX0_shuffled_44 : decode cX0_shuffled 44 = .ok (.if_icmp .gt 43, 3) := dk_163 0 43 (dk_at dksX0_shuffled_1 20 rfl rfl)
theorem dX0_shuffled_47 : decode cX0_shuffled 47 = .ok (.iload 6, 2) := dk_21 6 (dk_at dksX0_shuffled_2 0 rfl rfl)
theorem dX0_shuffled_49 : decode cX0_shuffled 49 = .ok (.istore 7, 2) := dk_54 7 (dk_at dksX0_shuffled_2 2 rfl rfl)
theorem dX0_shuffled_51 : decode cX0_shuffled 51 = .ok (.iload 7, 2) := dk_21 7 (dk_at dksX0_shuffled_2 4 rfl rfl)
theorem dX0_shuffled_53 : decode cX0_shuffled 53 = .ok (.aload_n 3, 1) := dk_45 (dk_at dksX0_shuffled_2 6 rfl rfl)
theorem dX0_shuffled_54 : decode cX0_shuffled 54 = .ok (.arraylength, 1) := dk_190 (dk_at dksX0_shuffled_2 7 rfl rfl)
theorem dX0_shuffled_55 : decode cX0_shuffled 55 = .ok (.if_icmp .ge 26, 3) := dk_162 0 26 (dk_at dksX0_shuffled_2 8 rfl rfl)
theorem dX0_shuffled_58 : decode cX0_shuffled 58 = .ok (.aload 4, 2) := dk_25 4 (dk_at dksX0_shuffled_2 11 rfl rfl)
theorem dX0_shuffled_60 : decode cX0_shuffled 60 = .ok (.iload 5, 2) := dk_21 5 (dk_at dksX0_shuffled_2 13 rfl rfl)
theorem dX0_shuffled_62 : decode cX0_shuffled 62 = .ok (.aload_n 3, 1) := dk_45 (dk_at dksX0_shuffled_2 15 rfl rfl)
theorem dX0_shuffled_63 : decode cX0_shuffled 63 = .ok (.iload 7, 2) := dk_21 7 (dk_at dksX0_shuffled_2 16 rfl rfl)
theorem dX0_shuffled_65 : decode cX0_shuffled 65 = .ok (.iaload, 1) := dk_46 (dk_at dksX0_shuffled_2 18 rfl rfl)
theorem dX0_shuffled_66 : decode cX0_shuffled 66 = .ok (.iastore, 1) := dk_79 (dk_at dksX0_shuffled_2 19 rfl rfl)
theorem dX0_shuffled_67 : decode cX0_shuffled 67 = .ok (.iinc 5 1, 3) := dk_132 5 1 (dk_at dksX0_shuffled_2 20 rfl rfl)
theorem dX0_shuffled_70 : decode cX0_shuffled 70 = .ok (.iload 7, 2) := dk_21 7 (dk_at dksX0_shuffled_3 0 rfl rfl)
theorem dX0_shuffled_72 : decode cX0_shuffled 72 = .ok (.iload_n 2, 1) := dk_28 (dk_at dksX0_shuffled_3 2 rfl rfl)
theorem dX0_shuffled_73 : decode cX0_shuffled 73 = .ok (.iconst 1, 1) := dk_4 (dk_at dksX0_shuffled_3 3 rfl rfl)
theorem dX0_shuffled_74 : decode cX0_shuffled 74 = .ok (.iadd, 1) := dk_96 (dk_at dksX0_shuffled_3 4 rfl rfl)
theorem dX0_shuffled_75 : decode cX0_shuffled 75 = .ok (.iadd, 1) := dk_96 (dk_at dksX0_shuffled_3 5 rfl rfl)
theorem dX0_shuffled_76 : decode cX0_shuffled 76 = .ok (.istore 7, 2) := dk_54 7 (dk_at dksX0_shuffled_3 6 rfl rfl)
theorem dX0_shuffled_78 : decode cX0_shuffled 78 = .ok (.goto (-27), 3) := dk_167 255 229 (dk_at dksX0_shuffled_3 8 rfl rfl)
theorem dX0_shuffled_81 : decode cX0_shuffled 81 = .ok (.iinc 6 1, 3) := dk_132 6 1 (dk_at dksX0_shuffled_3 11 rfl rfl)
theorem dX0_shuffled_84 : decode cX0_shuffled 84 = .ok (.goto (-43), 3) := dk_167 255 213 (dk_at dksX0_shuffled_3 14 rfl rfl)
theorem dX0_shuffled_87 : decode cX0_shuffled 87 = .ok (.aload_n 0, 1) := dk_42 (dk_at dksX0_shuffled_3 17 rfl rfl)
theorem dX0_shuffled_88 : decode cX0_shuffled 88 = .ok (.aload 4, 2) := dk_25 4 (dk_at dksX0_shuffled_3 18 rfl rfl)
theorem dX0_shuffled_90 : decode cX0_shuffled 90 = .ok (.invokevirtual 337, 3) := dk_182 1 81 (dk_at dksX0_shuffled_3 20 rfl rfl)
theorem dX0_shuffled_93 : decode cX0_shuffled 93 = .ok (.ireturn, 1) := dk_172 (dk_at dksX0_shuffled_3 23 rfl rfl)
abbrev cX0_adds : ByteArray := prog_1_method_56_code
def yX0_adds : MethodName := ⟨RX0, "adds", "([I)I"⟩
def dkwX0_adds_2 : List UInt8 := [180, 0, 102, 185, 0, 103, 1, 0, 4, 100, 172]
abbrev dktX0_adds_2 : List UInt8 := dkwX0_adds_2 ++ []
def dkwX0_adds_1 : List UInt8 := [4, 181, 1, 21, 42, 180, 0, 46, 180, 0, 102, 43, 185, 0, 162, 2, 0, 87, 42, 180, 0, 46]
abbrev dktX0_adds_1 : List UInt8 := dkwX0_adds_1 ++ dktX0_adds_2
def dkwX0_adds_0 : List UInt8 := [42, 180, 0, 46, 180, 0, 102, 185, 0, 103, 1, 0, 16, 12, 160, 0, 6, 16, 253, 172, 42, 180, 0, 46]
abbrev dktX0_adds_0 : List UInt8 := dkwX0_adds_0 ++ dktX0_adds_1
theorem dksX0_adds_0 : cX0_adds.data.toList.drop 0 = dktX0_adds_0 := by decide +kernel
theorem dksX0_adds_1 : cX0_adds.data.toList.drop 24 = dktX0_adds_1 := dk_seg dksX0_adds_0 24 rfl rfl
theorem dksX0_adds_2 : cX0_adds.data.toList.drop 46 = dktX0_adds_2 := dk_seg dksX0_adds_1 22 rfl rfl
theorem dX0_adds_0 : decode cX0_adds 0 = .ok (.aload_n 0, 1) := dk_42 (dk_at dksX0_adds_0 0 rfl rfl)
theorem dX0_adds_1 : decode cX0_adds 1 = .ok (.getfield 46, 3) := dk_180 0 46 (dk_at dksX0_adds_0 1 rfl rfl)
theorem dX0_adds_4 : decode cX0_adds 4 = .ok (.getfield 102, 3) := dk_180 0 102 (dk_at dksX0_adds_0 4 rfl rfl)
theorem dX0_adds_7 : decode cX0_adds 7 = .ok (.invokeinterface 103 1, 5) := by decide +kernel
theorem dX0_adds_12 : decode cX0_adds 12 = .ok (.bipush 12, 2) := dk_16 12 (dk_at dksX0_adds_0 12 rfl rfl)
theorem dX0_adds_14 : decode cX0_adds 14 = .ok (.if_icmp .ne 6, 3) := dk_160 0 6 (dk_at dksX0_adds_0 14 rfl rfl)
theorem dX0_adds_17 : decode cX0_adds 17 = .ok (.bipush (-3), 2) := dk_16 253 (dk_at dksX0_adds_0 17 rfl rfl)
theorem dX0_adds_19 : decode cX0_adds 19 = .ok (.ireturn, 1) := dk_172 (dk_at dksX0_adds_0 19 rfl rfl)
theorem dX0_adds_20 : decode cX0_adds 20 = .ok (.aload_n 0, 1) := dk_42 (dk_at dksX0_adds_0 20 rfl rfl)
theorem dX0_adds_21 : decode cX0_adds 21 = .ok (.getfield 46, 3) := dk_180 0 46 (dk_at dksX0_adds_0 21 rfl rfl)
theorem dX0_adds_24 : decode cX0_adds 24 = .ok (.iconst 1, 1) := dk_4 (dk_at dksX0_adds_1 0 rfl rfl)
theorem dX0_adds_25 : decode cX0_adds 25 = .ok (.putfield 277, 3) := dk_181 1 21 (dk_at dksX0_adds_1 1 rfl rfl)
theorem dX0_adds_28 : decode cX0_adds 28 = .ok (.aload_n 0, 1) := dk_42 (dk_at dksX0_adds_1 4 rfl rfl)
theorem dX0_adds_29 : decode cX0_adds 29 = .ok (.getfield 46, 3) := dk_180 0 46 (dk_at dksX0_adds_1 5 rfl rfl)
theorem dX0_adds_32 : decode cX0_adds 32 = .ok (.getfield 102, 3) := dk_180 0 102 (dk_at dksX0_adds_1 8 rfl rfl)
theorem dX0_adds_35 : decode cX0_adds 35 = .ok (.aload_n 1, 1) := dk_43 (dk_at dksX0_adds_1 11 rfl rfl)
theorem dX0_adds_36 : decode cX0_adds 36 = .ok (.invokeinterface 162 2, 5) := by decide +kernel
theorem dX0_adds_41 : decode cX0_adds 41 = .ok (.pop, 1) := dk_87 (dk_at dksX0_adds_1 17 rfl rfl)
theorem dX0_adds_42 : decode cX0_adds 42 = .ok (.aload_n 0, 1) := dk_42 (dk_at dksX0_adds_1 18 rfl rfl)
theorem dX0_adds_43 : decode cX0_adds 43 = .ok (.getfield 46, 3) := dk_180 0 46 (dk_at dksX0_adds_1 19 rfl rfl)
theorem dX0_adds_46 : decode cX0_adds 46 = .ok (.getfield 102, 3) := dk_180 0 102 (dk_at dksX0_adds_2 0 rfl rfl)
theorem dX0_adds_49 : decode cX0_adds 49 = .ok (.invokeinterface 103 1, 5) := by decide +kernel
theorem dX0_adds_54 : decode cX0_adds 54 = .ok (.iconst 1, 1) := dk_4 (dk_at dksX0_adds_2 8 rfl rfl)
theorem dX0_adds_55 : decode cX0_adds 55 = .ok (.isub, 1) := dk_100 (dk_at dksX0_adds_2 9 rfl rfl)
theorem dX0_adds_56 : decode cX0_adds 56 = .ok (.ireturn, 1) := dk_172 (dk_at dksX0_adds_2 10 rfl rfl)
abbrev cX0_backward : ByteArray := prog_1_method_58_code
def yX0_backward : MethodName := ⟨RX0, "backward", "(I)I"⟩
def dkwX0_backward_2 : List UInt8 := [132, 4, 1, 167, 255, 233, 42, 45, 182, 1, 81, 172]
abbrev dktX0_backward_2 : List UInt8 := dkwX0_backward_2 ++ []
def dkwX0_backward_1 : List UInt8 := [54, 4, 21, 4, 44, 190, 162, 0, 22, 45, 21, 4, 44, 44, 190, 4, 100, 21, 4, 100, 46, 79]
abbrev dktX0_backward_1 : List UInt8 := dkwX0_backward_1 ++ dktX0_backward_2
def dkwX0_backward_0 : List UInt8 := [42, 27, 182, 0, 169, 154, 0, 6, 16, 254, 172, 42, 27, 182, 0, 127, 77, 44, 190, 188, 10, 78, 3]
abbrev dktX0_backward_0 : List UInt8 := dkwX0_backward_0 ++ dktX0_backward_1
theorem dksX0_backward_0 : cX0_backward.data.toList.drop 0 = dktX0_backward_0 := by decide +kernel
theorem dksX0_backward_1 : cX0_backward.data.toList.drop 23 = dktX0_backward_1 := dk_seg dksX0_backward_0 23 rfl rfl
theorem dksX0_backward_2 : cX0_backward.data.toList.drop 45 = dktX0_backward_2 := dk_seg dksX0_backward_1 22 rfl rfl
theorem dX0_backward_0 : decode cX0_backward 0 = .ok (.aload_n 0, 1) := dk_42 (dk_at dksX0_backward_0 0 rfl rfl)
theorem dX0_backward_1 : decode cX0_backward 1 = .ok (.iload_n 1, 1) := dk_27 (dk_at dksX0_backward_0 1 rfl rfl)
theorem dX0_backward_2 : decode cX0_backward 2 = .ok (.invokevirtual 169, 3) := dk_182 0 169 (dk_at dksX0_backward_0 2 rfl rfl)
theorem dX0_backward_5 : decode cX0_backward 5 = .ok (.ifCond .ne 6, 3) := dk_154 0 6 (dk_at dksX0_backward_0 5 rfl rfl)
theorem dX0_backward_8 : decode cX0_backward 8 = .ok (.bipush (-2), 2) := dk_16 254 (dk_at dksX0_backward_0 8 rfl rfl)
theorem dX0_backward_10 : decode cX0_backward 10 = .ok (.ireturn, 1) := dk_172 (dk_at dksX0_backward_0 10 rfl rfl)
theorem dX0_backward_11 : decode cX0_backward 11 = .ok (.aload_n 0, 1) := dk_42 (dk_at dksX0_backward_0 11 rfl rfl)
theorem dX0_backward_12 : decode cX0_backward 12 = .ok (.iload_n 1, 1) := dk_27 (dk_at dksX0_backward_0 12 rfl rfl)
theorem dX0_backward_13 : decode cX0_backward 13 = .ok (.invokevirtual 127, 3) := dk_182 0 127 (dk_at dksX0_backward_0 13 rfl rfl)
theorem dX0_backward_16 : decode cX0_backward 16 = .ok (.astore_n 2, 1) := dk_77 (dk_at dksX0_backward_0 16 rfl rfl)
theorem dX0_backward_17 : decode cX0_backward 17 = .ok (.aload_n 2, 1) := dk_44 (dk_at dksX0_backward_0 17 rfl rfl)
theorem dX0_backward_18 : decode cX0_backward 18 = .ok (.arraylength, 1) := dk_190 (dk_at dksX0_backward_0 18 rfl rfl)
theorem dX0_backward_19 : decode cX0_backward 19 = .ok (.newarray .int, 2) := dk_188_10 (dk_at dksX0_backward_0 19 rfl rfl)
theorem dX0_backward_21 : decode cX0_backward 21 = .ok (.astore_n 3, 1) := dk_78 (dk_at dksX0_backward_0 21 rfl rfl)
theorem dX0_backward_22 : decode cX0_backward 22 = .ok (.iconst 0, 1) := dk_3 (dk_at dksX0_backward_0 22 rfl rfl)
theorem dX0_backward_23 : decode cX0_backward 23 = .ok (.istore 4, 2) := dk_54 4 (dk_at dksX0_backward_1 0 rfl rfl)
theorem dX0_backward_25 : decode cX0_backward 25 = .ok (.iload 4, 2) := dk_21 4 (dk_at dksX0_backward_1 2 rfl rfl)
theorem dX0_backward_27 : decode cX0_backward 27 = .ok (.aload_n 2, 1) := dk_44 (dk_at dksX0_backward_1 4 rfl rfl)
theorem dX0_backward_28 : decode cX0_backward 28 = .ok (.arraylength, 1) := dk_190 (dk_at dksX0_backward_1 5 rfl rfl)
theorem dX0_backward_29 : decode cX0_backward 29 = .ok (.if_icmp .ge 22, 3) := dk_162 0 22 (dk_at dksX0_backward_1 6 rfl rfl)
theorem dX0_backward_32 : decode cX0_backward 32 = .ok (.aload_n 3, 1) := dk_45 (dk_at dksX0_backward_1 9 rfl rfl)
theorem dX0_backward_33 : decode cX0_backward 33 = .ok (.iload 4, 2) := dk_21 4 (dk_at dksX0_backward_1 10 rfl rfl)
theorem dX0_backward_35 : decode cX0_backward 35 = .ok (.aload_n 2, 1) := dk_44 (dk_at dksX0_backward_1 12 rfl rfl)
theorem dX0_backward_36 : decode cX0_backward 36 = .ok (.aload_n 2, 1) := dk_44 (dk_at dksX0_backward_1 13 rfl rfl)
theorem dX0_backward_37 : decode cX0_backward 37 = .ok (.arraylength, 1) := dk_190 (dk_at dksX0_backward_1 14 rfl rfl)
theorem dX0_backward_38 : decode cX0_backward 38 = .ok (.iconst 1, 1) := dk_4 (dk_at dksX0_backward_1 15 rfl rfl)
theorem dX0_backward_39 : decode cX0_backward 39 = .ok (.isub, 1) := dk_100 (dk_at dksX0_backward_1 16 rfl rfl)
theorem dX0_backward_40 : decode cX0_backward 40 = .ok (.iload 4, 2) := dk_21 4 (dk_at dksX0_backward_1 17 rfl rfl)
theorem dX0_backward_42 : decode cX0_backward 42 = .ok (.isub, 1) := dk_100 (dk_at dksX0_backward_1 19 rfl rfl)
theorem dX0_backward_43 : decode cX0_backward 43 = .ok (.iaload, 1) := dk_46 (dk_at dksX0_backward_1 20 rfl rfl)
theorem dX0_backward_44 : decode cX0_backward 44 = .ok (.iastore, 1) := dk_79 (dk_at dksX0_backward_1 21 rfl rfl)
theorem dX0_backward_45 : decode cX0_backward 45 = .ok (.iinc 4 1, 3) := dk_132 4 1 (dk_at dksX0_backward_2 0 rfl rfl)
theorem dX0_backward_48 : decode cX0_backward 48 = .ok (.goto (-23), 3) := dk_167 255 233 (dk_at dksX0_backward_2 3 rfl rfl)
theorem dX0_backward_51 : decode cX0_backward 51 = .ok (.aload_n 0, 1) := dk_42 (dk_at dksX0_backward_2 6 rfl rfl)
theorem dX0_backward_52 : decode cX0_backward 52 = .ok (.aload_n 3, 1) := dk_45 (dk_at dksX0_backward_2 7 rfl rfl)
theorem dX0_backward_53 : decode cX0_backward 53 = .ok (.invokevirtual 337, 3) := dk_182 1 81 (dk_at dksX0_backward_2 8 rfl rfl)
theorem dX0_backward_56 : decode cX0_backward 56 = .ok (.ireturn, 1) := dk_172 (dk_at dksX0_backward_2 11 rfl rfl)
abbrev cX0_rowOf : ByteArray := prog_1_method_59_code
def yX0_rowOf : MethodName := ⟨RX0, "rowOf", "(I)I"⟩
def dkwX0_rowOf_6 : List UInt8 := [182, 1, 81, 172]
abbrev dktX0_rowOf_6 : List UInt8 := dkwX0_rowOf_6 ++ []
def dkwX0_rowOf_5 : List UInt8 := [21, 4, 46, 160, 0, 6, 16, 254, 172, 132, 5, 1, 167, 255, 232, 132, 4, 1, 167, 255, 176, 42, 45]
abbrev dktX0_rowOf_5 : List UInt8 := dkwX0_rowOf_5 ++ dktX0_rowOf_6
def dkwX0_rowOf_4 : List UInt8 := [44, 21, 4, 182, 1, 43, 136, 79, 3, 54, 5, 21, 5, 21, 4, 162, 0, 23, 45, 21, 5, 46, 45]
abbrev dktX0_rowOf_4 : List UInt8 := dkwX0_rowOf_4 ++ dktX0_rowOf_5
def dkwX0_rowOf_3 : List UInt8 := [180, 0, 46, 180, 0, 191, 180, 0, 195, 4, 100, 133, 184, 0, 5, 154, 0, 6, 16, 254, 172, 45, 21, 4]
abbrev dktX0_rowOf_3 : List UInt8 := dkwX0_rowOf_3 ++ dktX0_rowOf_4
def dkwX0_rowOf_2 : List UInt8 := [182, 1, 40, 188, 10, 78, 3, 54, 4, 21, 4, 45, 190, 162, 0, 79, 44, 21, 4, 182, 1, 43, 9, 42]
abbrev dktX0_rowOf_2 : List UInt8 := dkwX0_rowOf_2 ++ dktX0_rowOf_3
def dkwX0_rowOf_1 : List UInt8 := [16, 250, 172, 44, 182, 1, 40, 133, 20, 0, 219, 20, 1, 84, 184, 0, 5, 154, 0, 6, 16, 254, 172, 44]
abbrev dktX0_rowOf_1 : List UInt8 := dkwX0_rowOf_1 ++ dktX0_rowOf_2
def dkwX0_rowOf_0 : List UInt8 := [27, 184, 0, 9, 154, 0, 6, 16, 254, 172, 42, 180, 0, 13, 27, 50, 77, 44, 180, 1, 36, 199, 0, 6]
abbrev dktX0_rowOf_0 : List UInt8 := dkwX0_rowOf_0 ++ dktX0_rowOf_1
theorem dksX0_rowOf_0 : cX0_rowOf.data.toList.drop 0 = dktX0_rowOf_0 := by decide +kernel
theorem dksX0_rowOf_1 : cX0_rowOf.data.toList.drop 24 = dktX0_rowOf_1 := dk_seg dksX0_rowOf_0 24 rfl rfl
theorem dksX0_rowOf_2 : cX0_rowOf.data.toList.drop 48 = dktX0_rowOf_2 := dk_seg dksX0_rowOf_1 24 rfl rfl
theorem dksX0_rowOf_3 : cX0_rowOf.data.toList.drop 72 = dktX0_rowOf_3 := dk_seg dksX0_rowOf_2 24 rfl rfl
theorem dksX0_rowOf_4 : cX0_rowOf.data.toList.drop 96 = dktX0_rowOf_4 := dk_seg dksX0_rowOf_3 24 rfl rfl
theorem dksX0_rowOf_5 : cX0_rowOf.data.toList.drop 119 = dktX0_rowOf_5 := dk_seg dksX0_rowOf_4 23 rfl rfl
theorem dksX0_rowOf_6 : cX0_rowOf.data.toList.drop 142 = dktX0_rowOf_6 := dk_seg dksX0_rowOf_5 23 rfl rfl
theorem dX0_rowOf_0 : decode cX0_rowOf 0 = .ok (.iload_n 1, 1) := dk_27 (dk_at dksX0_rowOf_0 0 rfl rfl)
theorem dX0_rowOf_1 : decode cX0_rowOf 1 = .ok (.invokestatic 9, 3) := dk_184 0 9 (dk_at dksX0_rowOf_0 1 rfl rfl)
theorem dX0_rowOf_4 : decode cX0_rowOf 4 = .ok (.ifCond .ne 6, 3) := dk_154 0 6 (dk_at dksX0_rowOf_0 4 rfl rfl)
theorem dX0_rowOf_7 : decode cX0_rowOf 7 = .ok (.bipush (-2), 2) := dk_16 254 (dk_at dksX0_rowOf_0 7 rfl rfl)
theorem dX0_rowOf_9 : decode cX0_rowOf 9 = .ok (.ireturn, 1) := dk_172 (dk_at dksX0_rowOf_0 9 rfl rfl)
theorem dX0_rowOf_10 : decode cX0_rowOf 10 = .ok (.aload_n 0, 1) := dk_42 (dk_at dksX0_rowOf_0 10 rfl rfl)
theorem dX0_rowOf_11 : decode cX0_rowOf 11 = .ok (.getfield 13, 3) := dk_180 0 13 (dk_at dksX0_rowOf_0 11 rfl rfl)
theorem dX0_rowOf_14 : decode cX0_rowOf 14 = .ok (.iload_n 1, 1) := dk_27 (dk_at dksX0_rowOf_0 14 rfl rfl)
theorem dX0_rowOf_15 : decode cX0_rowOf 15 = .ok (.aaload, 1) := dk_50 (dk_at dksX0_rowOf_0 15 rfl rfl)
theorem dX0_rowOf_16 : decode cX0_rowOf 16 = .ok (.astore_n 2, 1) := dk_77 (dk_at dksX0_rowOf_0 16 rfl rfl)
theorem dX0_rowOf_17 : decode cX0_rowOf 17 = .ok (.aload_n 2, 1) := dk_44 (dk_at dksX0_rowOf_0 17 rfl rfl)
theorem dX0_rowOf_18 : decode cX0_rowOf 18 = .ok (.getfield 292, 3) := dk_180 1 36 (dk_at dksX0_rowOf_0 18 rfl rfl)
theorem dX0_rowOf_21 : decode cX0_rowOf 21 = .ok (.ifnonnull 6, 3) := dk_199 0 6 (dk_at dksX0_rowOf_0 21 rfl rfl)
theorem dX0_rowOf_24 : decode cX0_rowOf 24 = .ok (.bipush (-6), 2) := dk_16 250 (dk_at dksX0_rowOf_1 0 rfl rfl)
theorem dX0_rowOf_26 : decode cX0_rowOf 26 = .ok (.ireturn, 1) := dk_172 (dk_at dksX0_rowOf_1 2 rfl rfl)
theorem dX0_rowOf_27 : decode cX0_rowOf 27 = .ok (.aload_n 2, 1) := dk_44 (dk_at dksX0_rowOf_1 3 rfl rfl)
theorem dX0_rowOf_28 : decode cX0_rowOf 28 = .ok (.invokevirtual 296, 3) := dk_182 1 40 (dk_at dksX0_rowOf_1 4 rfl rfl)
theorem dX0_rowOf_31 : decode cX0_rowOf 31 = .ok (.i2l, 1) := dk_133 (dk_at dksX0_rowOf_1 7 rfl rfl)
theorem dX0_rowOf_32 : decode cX0_rowOf 32 = .ok (.ldc2_w 219, 3) := dk_20 0 219 (dk_at dksX0_rowOf_1 8 rfl rfl)
theorem dX0_rowOf_35 : decode cX0_rowOf 35 = .ok (.ldc2_w 340, 3) := dk_20 1 84 (dk_at dksX0_rowOf_1 11 rfl rfl)
theorem dX0_rowOf_38 : decode cX0_rowOf 38 = .ok (.invokestatic 5, 3) := dk_184 0 5 (dk_at dksX0_rowOf_1 14 rfl rfl)
theorem dX0_rowOf_41 : decode cX0_rowOf 41 = .ok (.ifCond .ne 6, 3) := dk_154 0 6 (dk_at dksX0_rowOf_1 17 rfl rfl)
theorem dX0_rowOf_44 : decode cX0_rowOf 44 = .ok (.bipush (-2), 2) := dk_16 254 (dk_at dksX0_rowOf_1 20 rfl rfl)
theorem dX0_rowOf_46 : decode cX0_rowOf 46 = .ok (.ireturn, 1) := dk_172 (dk_at dksX0_rowOf_1 22 rfl rfl)
theorem dX0_rowOf_47 : decode cX0_rowOf 47 = .ok (.aload_n 2, 1) := dk_44 (dk_at dksX0_rowOf_1 23 rfl rfl)
theorem dX0_rowOf_48 : decode cX0_rowOf 48 = .ok (.invokevirtual 296, 3) := dk_182 1 40 (dk_at dksX0_rowOf_2 0 rfl rfl)
theorem dX0_rowOf_51 : decode cX0_rowOf 51 = .ok (.newarray .int, 2) := dk_188_10 (dk_at dksX0_rowOf_2 3 rfl rfl)
theorem dX0_rowOf_53 : decode cX0_rowOf 53 = .ok (.astore_n 3, 1) := dk_78 (dk_at dksX0_rowOf_2 5 rfl rfl)
theorem dX0_rowOf_54 : decode cX0_rowOf 54 = .ok (.iconst 0, 1) := dk_3 (dk_at dksX0_rowOf_2 6 rfl rfl)
theorem dX0_rowOf_55 : decode cX0_rowOf 55 = .ok (.istore 4, 2) := dk_54 4 (dk_at dksX0_rowOf_2 7 rfl rfl)
theorem dX0_rowOf_57 : decode cX0_rowOf 57 = .ok (.iload 4, 2) := dk_21 4 (dk_at dksX0_rowOf_2 9 rfl rfl)
theorem dX0_rowOf_59 : decode cX0_rowOf 59 = .ok (.aload_n 3, 1) := dk_45 (dk_at dksX0_rowOf_2 11 rfl rfl)
theorem dX0_rowOf_60 : decode cX0_rowOf 60 = .ok (.arraylength, 1) := dk_190 (dk_at dksX0_rowOf_2 12 rfl rfl)
theorem dX0_rowOf_61 : decode cX0_rowOf 61 = .ok (.if_icmp .ge 79, 3) := dk_162 0 79 (dk_at dksX0_rowOf_2 13 rfl rfl)
theorem dX0_rowOf_64 : decode cX0_rowOf 64 = .ok (.aload_n 2, 1) := dk_44 (dk_at dksX0_rowOf_2 16 rfl rfl)
theorem dX0_rowOf_65 : decode cX0_rowOf 65 = .ok (.iload 4, 2) := dk_21 4 (dk_at dksX0_rowOf_2 17 rfl rfl)
theorem dX0_rowOf_67 : decode cX0_rowOf 67 = .ok (.invokevirtual 299, 3) := dk_182 1 43 (dk_at dksX0_rowOf_2 19 rfl rfl)
theorem dX0_rowOf_70 : decode cX0_rowOf 70 = .ok (.lconst 0, 1) := dk_9 (dk_at dksX0_rowOf_2 22 rfl rfl)
theorem dX0_rowOf_71 : decode cX0_rowOf 71 = .ok (.aload_n 0, 1) := dk_42 (dk_at dksX0_rowOf_2 23 rfl rfl)
theorem dX0_rowOf_72 : decode cX0_rowOf 72 = .ok (.getfield 46, 3) := dk_180 0 46 (dk_at dksX0_rowOf_3 0 rfl rfl)
theorem dX0_rowOf_75 : decode cX0_rowOf 75 = .ok (.getfield 191, 3) := dk_180 0 191 (dk_at dksX0_rowOf_3 3 rfl rfl)
theorem dX0_rowOf_78 : decode cX0_rowOf 78 = .ok (.getfield 195, 3) := dk_180 0 195 (dk_at dksX0_rowOf_3 6 rfl rfl)
theorem dX0_rowOf_81 : decode cX0_rowOf 81 = .ok (.iconst 1, 1) := dk_4 (dk_at dksX0_rowOf_3 9 rfl rfl)
theorem dX0_rowOf_82 : decode cX0_rowOf 82 = .ok (.isub, 1) := dk_100 (dk_at dksX0_rowOf_3 10 rfl rfl)
theorem dX0_rowOf_83 : decode cX0_rowOf 83 = .ok (.i2l, 1) := dk_133 (dk_at dksX0_rowOf_3 11 rfl rfl)
theorem dX0_rowOf_84 : decode cX0_rowOf 84 = .ok (.invokestatic 5, 3) := dk_184 0 5 (dk_at dksX0_rowOf_3 12 rfl rfl)
theorem dX0_rowOf_87 : decode cX0_rowOf 87 = .ok (.ifCond .ne 6, 3) := dk_154 0 6 (dk_at dksX0_rowOf_3 15 rfl rfl)
theorem dX0_rowOf_90 : decode cX0_rowOf 90 = .ok (.bipush (-2), 2) := dk_16 254 (dk_at dksX0_rowOf_3 18 rfl rfl)
theorem dX0_rowOf_92 : decode cX0_rowOf 92 = .ok (.ireturn, 1) := dk_172 (dk_at dksX0_rowOf_3 20 rfl rfl)
theorem dX0_rowOf_93 : decode cX0_rowOf 93 = .ok (.aload_n 3, 1) := dk_45 (dk_at dksX0_rowOf_3 21 rfl rfl)
theorem dX0_rowOf_94 : decode cX0_rowOf 94 = .ok (.iload 4, 2) := dk_21 4 (dk_at dksX0_rowOf_3 22 rfl rfl)
theorem dX0_rowOf_96 : decode cX0_rowOf 96 = .ok (.aload_n 2, 1) := dk_44 (dk_at dksX0_rowOf_4 0 rfl rfl)
theorem dX0_rowOf_97 : decode cX0_rowOf 97 = .ok (.iload 4, 2) := dk_21 4 (dk_at dksX0_rowOf_4 1 rfl rfl)
theorem dX0_rowOf_99 : decode cX0_rowOf 99 = .ok (.invokevirtual 299, 3) := dk_182 1 43 (dk_at dksX0_rowOf_4 3 rfl rfl)
theorem dX0_rowOf_102 : decode cX0_rowOf 102 = .ok (.l2i, 1) := dk_136 (dk_at dksX0_rowOf_4 6 rfl rfl)
theorem dX0_rowOf_103 : decode cX0_rowOf 103 = .ok (.iastore, 1) := dk_79 (dk_at dksX0_rowOf_4 7 rfl rfl)
theorem dX0_rowOf_104 : decode cX0_rowOf 104 = .ok (.iconst 0, 1) := dk_3 (dk_at dksX0_rowOf_4 8 rfl rfl)
theorem dX0_rowOf_105 : decode cX0_rowOf 105 = .ok (.istore 5, 2) := dk_54 5 (dk_at dksX0_rowOf_4 9 rfl rfl)
theorem dX0_rowOf_107 : decode cX0_rowOf 107 = .ok (.iload 5, 2) := dk_21 5 (dk_at dksX0_rowOf_4 11 rfl rfl)
theorem dX0_rowOf_109 : decode cX0_rowOf 109 = .ok (.iload 4, 2) := dk_21 4 (dk_at dksX0_rowOf_4 13 rfl rfl)
theorem dX0_rowOf_111 : decode cX0_rowOf 111 = .ok (.if_icmp .ge 23, 3) := dk_162 0 23 (dk_at dksX0_rowOf_4 15 rfl rfl)
theorem dX0_rowOf_114 : decode cX0_rowOf 114 = .ok (.aload_n 3, 1) := dk_45 (dk_at dksX0_rowOf_4 18 rfl rfl)
theorem dX0_rowOf_115 : decode cX0_rowOf 115 = .ok (.iload 5, 2) := dk_21 5 (dk_at dksX0_rowOf_4 19 rfl rfl)
theorem dX0_rowOf_117 : decode cX0_rowOf 117 = .ok (.iaload, 1) := dk_46 (dk_at dksX0_rowOf_4 21 rfl rfl)
theorem dX0_rowOf_118 : decode cX0_rowOf 118 = .ok (.aload_n 3, 1) := dk_45 (dk_at dksX0_rowOf_4 22 rfl rfl)
theorem dX0_rowOf_119 : decode cX0_rowOf 119 = .ok (.iload 4, 2) := dk_21 4 (dk_at dksX0_rowOf_5 0 rfl rfl)
theorem dX0_rowOf_121 : decode cX0_rowOf 121 = .ok (.iaload, 1) := dk_46 (dk_at dksX0_rowOf_5 2 rfl rfl)
theorem dX0_rowOf_122 : decode cX0_rowOf 122 = .ok (.if_icmp .ne 6, 3) := dk_160 0 6 (dk_at dksX0_rowOf_5 3 rfl rfl)
theorem dX0_rowOf_125 : decode cX0_rowOf 125 = .ok (.bipush (-2), 2) := dk_16 254 (dk_at dksX0_rowOf_5 6 rfl rfl)
theorem dX0_rowOf_127 : decode cX0_rowOf 127 = .ok (.ireturn, 1) := dk_172 (dk_at dksX0_rowOf_5 8 rfl rfl)
theorem dX0_rowOf_128 : decode cX0_rowOf 128 = .ok (.iinc 5 1, 3) := dk_132 5 1 (dk_at dksX0_rowOf_5 9 rfl rfl)
theorem dX0_rowOf_131 : decode cX0_rowOf 131 = .ok (.goto (-24), 3) := dk_167 255 232 (dk_at dksX0_rowOf_5 12 rfl rfl)
theorem dX0_rowOf_134 : decode cX0_rowOf 134 = .ok (.iinc 4 1, 3) := dk_132 4 1 (dk_at dksX0_rowOf_5 15 rfl rfl)
theorem dX0_rowOf_137 : decode cX0_rowOf 137 = .ok (.goto (-80), 3) := dk_167 255 176 (dk_at dksX0_rowOf_5 18 rfl rfl)
theorem dX0_rowOf_140 : decode cX0_rowOf 140 = .ok (.aload_n 0, 1) := dk_42 (dk_at dksX0_rowOf_5 21 rfl rfl)
theorem dX0_rowOf_141 : decode cX0_rowOf 141 = .ok (.aload_n 3, 1) := dk_45 (dk_at dksX0_rowOf_5 22 rfl rfl)
theorem dX0_rowOf_142 : decode cX0_rowOf 142 = .ok (.invokevirtual 337, 3) := dk_182 1 81 (dk_at dksX0_rowOf_6 0 rfl rfl)
theorem dX0_rowOf_145 : decode cX0_rowOf 145 = .ok (.ireturn, 1) := dk_172 (dk_at dksX0_rowOf_6 3 rfl rfl)
abbrev cX0_thing : ByteArray := prog_1_method_60_code
def yX0_thing : MethodName := ⟨RX0, "thing", "(II)I"⟩
def dkwX0_thing_1 : List UInt8 := [184, 0, 5, 153, 0, 13, 42, 27, 182, 0, 127, 28, 46, 167, 0, 4, 2, 172]
abbrev dktX0_thing_1 : List UInt8 := dkwX0_thing_1 ++ []
def dkwX0_thing_0 : List UInt8 := [42, 27, 182, 0, 169, 154, 0, 6, 16, 254, 172, 28, 133, 9, 42, 27, 182, 0, 127, 190, 4, 100, 133]
abbrev dktX0_thing_0 : List UInt8 := dkwX0_thing_0 ++ dktX0_thing_1
theorem dksX0_thing_0 : cX0_thing.data.toList.drop 0 = dktX0_thing_0 := by decide +kernel
theorem dksX0_thing_1 : cX0_thing.data.toList.drop 23 = dktX0_thing_1 := dk_seg dksX0_thing_0 23 rfl rfl
theorem dX0_thing_0 : decode cX0_thing 0 = .ok (.aload_n 0, 1) := dk_42 (dk_at dksX0_thing_0 0 rfl rfl)
theorem dX0_thing_1 : decode cX0_thing 1 = .ok (.iload_n 1, 1) := dk_27 (dk_at dksX0_thing_0 1 rfl rfl)
theorem dX0_thing_2 : decode cX0_thing 2 = .ok (.invokevirtual 169, 3) := dk_182 0 169 (dk_at dksX0_thing_0 2 rfl rfl)
theorem dX0_thing_5 : decode cX0_thing 5 = .ok (.ifCond .ne 6, 3) := dk_154 0 6 (dk_at dksX0_thing_0 5 rfl rfl)
theorem dX0_thing_8 : decode cX0_thing 8 = .ok (.bipush (-2), 2) := dk_16 254 (dk_at dksX0_thing_0 8 rfl rfl)
theorem dX0_thing_10 : decode cX0_thing 10 = .ok (.ireturn, 1) := dk_172 (dk_at dksX0_thing_0 10 rfl rfl)
theorem dX0_thing_11 : decode cX0_thing 11 = .ok (.iload_n 2, 1) := dk_28 (dk_at dksX0_thing_0 11 rfl rfl)
theorem dX0_thing_12 : decode cX0_thing 12 = .ok (.i2l, 1) := dk_133 (dk_at dksX0_thing_0 12 rfl rfl)
theorem dX0_thing_13 : decode cX0_thing 13 = .ok (.lconst 0, 1) := dk_9 (dk_at dksX0_thing_0 13 rfl rfl)
theorem dX0_thing_14 : decode cX0_thing 14 = .ok (.aload_n 0, 1) := dk_42 (dk_at dksX0_thing_0 14 rfl rfl)
theorem dX0_thing_15 : decode cX0_thing 15 = .ok (.iload_n 1, 1) := dk_27 (dk_at dksX0_thing_0 15 rfl rfl)
theorem dX0_thing_16 : decode cX0_thing 16 = .ok (.invokevirtual 127, 3) := dk_182 0 127 (dk_at dksX0_thing_0 16 rfl rfl)
theorem dX0_thing_19 : decode cX0_thing 19 = .ok (.arraylength, 1) := dk_190 (dk_at dksX0_thing_0 19 rfl rfl)
theorem dX0_thing_20 : decode cX0_thing 20 = .ok (.iconst 1, 1) := dk_4 (dk_at dksX0_thing_0 20 rfl rfl)
theorem dX0_thing_21 : decode cX0_thing 21 = .ok (.isub, 1) := dk_100 (dk_at dksX0_thing_0 21 rfl rfl)
theorem dX0_thing_22 : decode cX0_thing 22 = .ok (.i2l, 1) := dk_133 (dk_at dksX0_thing_0 22 rfl rfl)
theorem dX0_thing_23 : decode cX0_thing 23 = .ok (.invokestatic 5, 3) := dk_184 0 5 (dk_at dksX0_thing_1 0 rfl rfl)
theorem dX0_thing_26 : decode cX0_thing 26 = .ok (.ifCond .eq 13, 3) := dk_153 0 13 (dk_at dksX0_thing_1 3 rfl rfl)
theorem dX0_thing_29 : decode cX0_thing 29 = .ok (.aload_n 0, 1) := dk_42 (dk_at dksX0_thing_1 6 rfl rfl)
theorem dX0_thing_30 : decode cX0_thing 30 = .ok (.iload_n 1, 1) := dk_27 (dk_at dksX0_thing_1 7 rfl rfl)
theorem dX0_thing_31 : decode cX0_thing 31 = .ok (.invokevirtual 127, 3) := dk_182 0 127 (dk_at dksX0_thing_1 8 rfl rfl)
theorem dX0_thing_34 : decode cX0_thing 34 = .ok (.iload_n 2, 1) := dk_28 (dk_at dksX0_thing_1 11 rfl rfl)
theorem dX0_thing_35 : decode cX0_thing 35 = .ok (.iaload, 1) := dk_46 (dk_at dksX0_thing_1 12 rfl rfl)
theorem dX0_thing_36 : decode cX0_thing 36 = .ok (.goto 4, 3) := dk_167 0 4 (dk_at dksX0_thing_1 13 rfl rfl)
theorem dX0_thing_39 : decode cX0_thing 39 = .ok (.iconst (-1), 1) := dk_2 (dk_at dksX0_thing_1 16 rfl rfl)
theorem dX0_thing_40 : decode cX0_thing 40 = .ok (.ireturn, 1) := dk_172 (dk_at dksX0_thing_1 17 rfl rfl)
abbrev cX0_used : ByteArray := prog_1_method_61_code
def yX0_used : MethodName := ⟨RX0, "used", "(I)I"⟩
def dkwX0_used_0 : List UInt8 := [42, 27, 182, 0, 169, 153, 0, 15, 42, 180, 0, 46, 180, 0, 166, 27, 46, 167, 0, 5, 16, 254, 172]
abbrev dktX0_used_0 : List UInt8 := dkwX0_used_0 ++ []
theorem dksX0_used_0 : cX0_used.data.toList.drop 0 = dktX0_used_0 := by decide +kernel
theorem dX0_used_0 : decode cX0_used 0 = .ok (.aload_n 0, 1) := dk_42 (dk_at dksX0_used_0 0 rfl rfl)
theorem dX0_used_1 : decode cX0_used 1 = .ok (.iload_n 1, 1) := dk_27 (dk_at dksX0_used_0 1 rfl rfl)
theorem dX0_used_2 : decode cX0_used 2 = .ok (.invokevirtual 169, 3) := dk_182 0 169 (dk_at dksX0_used_0 2 rfl rfl)
theorem dX0_used_5 : decode cX0_used 5 = .ok (.ifCond .eq 15, 3) := dk_153 0 15 (dk_at dksX0_used_0 5 rfl rfl)
theorem dX0_used_8 : decode cX0_used 8 = .ok (.aload_n 0, 1) := dk_42 (dk_at dksX0_used_0 8 rfl rfl)
theorem dX0_used_9 : decode cX0_used 9 = .ok (.getfield 46, 3) := dk_180 0 46 (dk_at dksX0_used_0 9 rfl rfl)
theorem dX0_used_12 : decode cX0_used 12 = .ok (.getfield 166, 3) := dk_180 0 166 (dk_at dksX0_used_0 12 rfl rfl)
theorem dX0_used_15 : decode cX0_used 15 = .ok (.iload_n 1, 1) := dk_27 (dk_at dksX0_used_0 15 rfl rfl)
theorem dX0_used_16 : decode cX0_used 16 = .ok (.iaload, 1) := dk_46 (dk_at dksX0_used_0 16 rfl rfl)
theorem dX0_used_17 : decode cX0_used 17 = .ok (.goto 5, 3) := dk_167 0 5 (dk_at dksX0_used_0 17 rfl rfl)
theorem dX0_used_20 : decode cX0_used 20 = .ok (.bipush (-2), 2) := dk_16 254 (dk_at dksX0_used_0 20 rfl rfl)
theorem dX0_used_22 : decode cX0_used 22 = .ok (.ireturn, 1) := dk_172 (dk_at dksX0_used_0 22 rfl rfl)
abbrev cX0_sitting : ByteArray := prog_1_method_62_code
def yX0_sitting : MethodName := ⟨RX0, "sitting", "(II)I"⟩
def dkwX0_sitting_4 : List UInt8 := [172, 2, 172]
abbrev dktX0_sitting_4 : List UInt8 := dkwX0_sitting_4 ++ []
def dkwX0_sitting_3 : List UInt8 := [45, 180, 1, 12, 172, 45, 180, 1, 18, 172, 45, 180, 1, 8, 172, 45, 180, 1, 86, 172, 45, 180, 1, 89]
abbrev dktX0_sitting_3 : List UInt8 := dkwX0_sitting_3 ++ dktX0_sitting_4
def dkwX0_sitting_2 : List UInt8 := [170, 0, 0, 0, 0, 0, 0, 61, 0, 0, 0, 0, 0, 0, 0, 4, 0, 0, 0, 36, 0, 0, 0, 41, 0, 0, 0, 46, 0, 0, 0, 51, 0, 0, 0, 56]
abbrev dktX0_sitting_2 : List UInt8 := dkwX0_sitting_2 ++ dktX0_sitting_3
def dkwX0_sitting_1 : List UInt8 := [2, 172, 42, 180, 0, 46, 180, 0, 141, 27, 185, 0, 119, 2, 0, 192, 0, 151, 78, 28]
abbrev dktX0_sitting_1 : List UInt8 := dkwX0_sitting_1 ++ dktX0_sitting_2
def dkwX0_sitting_0 : List UInt8 := [27, 133, 9, 42, 180, 0, 46, 180, 0, 141, 185, 0, 103, 1, 0, 4, 100, 133, 184, 0, 5, 154, 0, 5]
abbrev dktX0_sitting_0 : List UInt8 := dkwX0_sitting_0 ++ dktX0_sitting_1
theorem dksX0_sitting_0 : cX0_sitting.data.toList.drop 0 = dktX0_sitting_0 := by decide +kernel
theorem dksX0_sitting_1 : cX0_sitting.data.toList.drop 24 = dktX0_sitting_1 := dk_seg dksX0_sitting_0 24 rfl rfl
theorem dksX0_sitting_2 : cX0_sitting.data.toList.drop 44 = dktX0_sitting_2 := dk_seg dksX0_sitting_1 20 rfl rfl
theorem dksX0_sitting_3 : cX0_sitting.data.toList.drop 80 = dktX0_sitting_3 := dk_seg dksX0_sitting_2 36 rfl rfl
theorem dksX0_sitting_4 : cX0_sitting.data.toList.drop 104 = dktX0_sitting_4 := dk_seg dksX0_sitting_3 24 rfl rfl
theorem dX0_sitting_0 : decode cX0_sitting 0 = .ok (.iload_n 1, 1) := dk_27 (dk_at dksX0_sitting_0 0 rfl rfl)
theorem dX0_sitting_1 : decode cX0_sitting 1 = .ok (.i2l, 1) := dk_133 (dk_at dksX0_sitting_0 1 rfl rfl)
theorem dX0_sitting_2 : decode cX0_sitting 2 = .ok (.lconst 0, 1) := dk_9 (dk_at dksX0_sitting_0 2 rfl rfl)
theorem dX0_sitting_3 : decode cX0_sitting 3 = .ok (.aload_n 0, 1) := dk_42 (dk_at dksX0_sitting_0 3 rfl rfl)
theorem dX0_sitting_4 : decode cX0_sitting 4 = .ok (.getfield 46, 3) := dk_180 0 46 (dk_at dksX0_sitting_0 4 rfl rfl)
theorem dX0_sitting_7 : decode cX0_sitting 7 = .ok (.getfield 141, 3) := dk_180 0 141 (dk_at dksX0_sitting_0 7 rfl rfl)
theorem dX0_sitting_10 : decode cX0_sitting 10 = .ok (.invokeinterface 103 1, 5) := by decide +kernel
theorem dX0_sitting_15 : decode cX0_sitting 15 = .ok (.iconst 1, 1) := dk_4 (dk_at dksX0_sitting_0 15 rfl rfl)
theorem dX0_sitting_16 : decode cX0_sitting 16 = .ok (.isub, 1) := dk_100 (dk_at dksX0_sitting_0 16 rfl rfl)
theorem dX0_sitting_17 : decode cX0_sitting 17 = .ok (.i2l, 1) := dk_133 (dk_at dksX0_sitting_0 17 rfl rfl)
theorem dX0_sitting_18 : decode cX0_sitting 18 = .ok (.invokestatic 5, 3) := dk_184 0 5 (dk_at dksX0_sitting_0 18 rfl rfl)
theorem dX0_sitting_21 : decode cX0_sitting 21 = .ok (.ifCond .ne 5, 3) := dk_154 0 5 (dk_at dksX0_sitting_0 21 rfl rfl)
theorem dX0_sitting_24 : decode cX0_sitting 24 = .ok (.iconst (-1), 1) := dk_2 (dk_at dksX0_sitting_1 0 rfl rfl)
theorem dX0_sitting_25 : decode cX0_sitting 25 = .ok (.ireturn, 1) := dk_172 (dk_at dksX0_sitting_1 1 rfl rfl)
theorem dX0_sitting_26 : decode cX0_sitting 26 = .ok (.aload_n 0, 1) := dk_42 (dk_at dksX0_sitting_1 2 rfl rfl)
theorem dX0_sitting_27 : decode cX0_sitting 27 = .ok (.getfield 46, 3) := dk_180 0 46 (dk_at dksX0_sitting_1 3 rfl rfl)
theorem dX0_sitting_30 : decode cX0_sitting 30 = .ok (.getfield 141, 3) := dk_180 0 141 (dk_at dksX0_sitting_1 6 rfl rfl)
theorem dX0_sitting_33 : decode cX0_sitting 33 = .ok (.iload_n 1, 1) := dk_27 (dk_at dksX0_sitting_1 9 rfl rfl)
theorem dX0_sitting_34 : decode cX0_sitting 34 = .ok (.invokeinterface 119 2, 5) := by decide +kernel
theorem dX0_sitting_39 : decode cX0_sitting 39 = .ok (.checkcast 151, 3) := dk_192 0 151 (dk_at dksX0_sitting_1 15 rfl rfl)
theorem dX0_sitting_42 : decode cX0_sitting 42 = .ok (.astore_n 3, 1) := dk_78 (dk_at dksX0_sitting_1 18 rfl rfl)
theorem dX0_sitting_43 : decode cX0_sitting 43 = .ok (.iload_n 2, 1) := dk_28 (dk_at dksX0_sitting_1 19 rfl rfl)
theorem dX0_sitting_44 : decode cX0_sitting 44 = .ok (.tableswitch 61 0 4 #[36, 41, 46, 51, 56], 36) := by decide +kernel
theorem dX0_sitting_80 : decode cX0_sitting 80 = .ok (.aload_n 3, 1) := dk_45 (dk_at dksX0_sitting_3 0 rfl rfl)
theorem dX0_sitting_81 : decode cX0_sitting 81 = .ok (.getfield 268, 3) := dk_180 1 12 (dk_at dksX0_sitting_3 1 rfl rfl)
theorem dX0_sitting_84 : decode cX0_sitting 84 = .ok (.ireturn, 1) := dk_172 (dk_at dksX0_sitting_3 4 rfl rfl)
theorem dX0_sitting_85 : decode cX0_sitting 85 = .ok (.aload_n 3, 1) := dk_45 (dk_at dksX0_sitting_3 5 rfl rfl)
theorem dX0_sitting_86 : decode cX0_sitting 86 = .ok (.getfield 274, 3) := dk_180 1 18 (dk_at dksX0_sitting_3 6 rfl rfl)
theorem dX0_sitting_89 : decode cX0_sitting 89 = .ok (.ireturn, 1) := dk_172 (dk_at dksX0_sitting_3 9 rfl rfl)
theorem dX0_sitting_90 : decode cX0_sitting 90 = .ok (.aload_n 3, 1) := dk_45 (dk_at dksX0_sitting_3 10 rfl rfl)
theorem dX0_sitting_91 : decode cX0_sitting 91 = .ok (.getfield 264, 3) := dk_180 1 8 (dk_at dksX0_sitting_3 11 rfl rfl)
theorem dX0_sitting_94 : decode cX0_sitting 94 = .ok (.ireturn, 1) := dk_172 (dk_at dksX0_sitting_3 14 rfl rfl)
theorem dX0_sitting_95 : decode cX0_sitting 95 = .ok (.aload_n 3, 1) := dk_45 (dk_at dksX0_sitting_3 15 rfl rfl)
theorem dX0_sitting_96 : decode cX0_sitting 96 = .ok (.getfield 342, 3) := dk_180 1 86 (dk_at dksX0_sitting_3 16 rfl rfl)
theorem dX0_sitting_99 : decode cX0_sitting 99 = .ok (.ireturn, 1) := dk_172 (dk_at dksX0_sitting_3 19 rfl rfl)
theorem dX0_sitting_100 : decode cX0_sitting 100 = .ok (.aload_n 3, 1) := dk_45 (dk_at dksX0_sitting_3 20 rfl rfl)
theorem dX0_sitting_101 : decode cX0_sitting 101 = .ok (.getfield 345, 3) := dk_180 1 89 (dk_at dksX0_sitting_3 21 rfl rfl)
theorem dX0_sitting_104 : decode cX0_sitting 104 = .ok (.ireturn, 1) := dk_172 (dk_at dksX0_sitting_4 0 rfl rfl)
theorem dX0_sitting_105 : decode cX0_sitting 105 = .ok (.iconst (-1), 1) := dk_2 (dk_at dksX0_sitting_4 1 rfl rfl)
theorem dX0_sitting_106 : decode cX0_sitting 106 = .ok (.ireturn, 1) := dk_172 (dk_at dksX0_sitting_4 2 rfl rfl)
abbrev cX0_book : ByteArray := prog_1_method_63_code
def yX0_book : MethodName := ⟨RX0, "book", "(II)I"⟩
def dkwX0_book_6 : List UInt8 := [172, 2, 172]
abbrev dktX0_book_6 : List UInt8 := dkwX0_book_6 ++ []
def dkwX0_book_5 : List UInt8 := [21, 5, 172, 45, 180, 1, 18, 172, 25, 4, 180, 1, 18, 172, 25, 4, 180, 1, 8, 45, 180, 1, 8, 100]
abbrev dktX0_book_5 : List UInt8 := dkwX0_book_5 ++ dktX0_book_6
def dkwX0_book_4 : List UInt8 := [170, 0, 0, 0, 0, 0, 0, 57, 0, 0, 0, 0, 0, 0, 0, 3, 0, 0, 0, 32, 0, 0, 0, 35, 0, 0, 0, 40, 0, 0, 0, 46]
abbrev dktX0_book_4 : List UInt8 := dkwX0_book_4 ++ dktX0_book_5
def dkwX0_book_3 : List UInt8 := [25, 7, 78, 25, 7, 58, 4, 132, 6, 1, 167, 255, 191, 21, 5, 5, 162, 0, 5, 2, 172, 28]
abbrev dktX0_book_3 : List UInt8 := dkwX0_book_3 ++ dktX0_book_4
def dkwX0_book_2 : List UInt8 := [192, 0, 151, 58, 7, 25, 7, 180, 1, 12, 27, 159, 0, 6, 167, 0, 17, 132, 5, 1, 45, 199, 0, 6]
abbrev dktX0_book_2 : List UInt8 := dkwX0_book_2 ++ dktX0_book_3
def dkwX0_book_1 : List UInt8 := [185, 0, 103, 1, 0, 162, 0, 54, 42, 180, 0, 46, 180, 0, 141, 21, 6, 185, 0, 119, 2, 0]
abbrev dktX0_book_1 : List UInt8 := dkwX0_book_1 ++ dktX0_book_2
def dkwX0_book_0 : List UInt8 := [1, 78, 1, 58, 4, 3, 54, 5, 3, 54, 6, 21, 6, 42, 180, 0, 46, 180, 0, 141]
abbrev dktX0_book_0 : List UInt8 := dkwX0_book_0 ++ dktX0_book_1
theorem dksX0_book_0 : cX0_book.data.toList.drop 0 = dktX0_book_0 := by decide +kernel
theorem dksX0_book_1 : cX0_book.data.toList.drop 20 = dktX0_book_1 := dk_seg dksX0_book_0 20 rfl rfl
theorem dksX0_book_2 : cX0_book.data.toList.drop 42 = dktX0_book_2 := dk_seg dksX0_book_1 22 rfl rfl
theorem dksX0_book_3 : cX0_book.data.toList.drop 66 = dktX0_book_3 := dk_seg dksX0_book_2 24 rfl rfl
theorem dksX0_book_4 : cX0_book.data.toList.drop 88 = dktX0_book_4 := dk_seg dksX0_book_3 22 rfl rfl
theorem dksX0_book_5 : cX0_book.data.toList.drop 120 = dktX0_book_5 := dk_seg dksX0_book_4 32 rfl rfl
theorem dksX0_book_6 : cX0_book.data.toList.drop 144 = dktX0_book_6 := dk_seg dksX0_book_5 24 rfl rfl
theorem dX0_book_0 : decode cX0_book 0 = .ok (.aconst_null, 1) := dk_1 (dk_at dksX0_book_0 0 rfl rfl)
theorem dX0_book_1 : decode cX0_book 1 = .ok (.astore_n 3, 1) := dk_78 (dk_at dksX0_book_0 1 rfl rfl)
theorem dX0_book_2 : decode cX0_book 2 = .ok (.aconst_null, 1) := dk_1 (dk_at dksX0_book_0 2 rfl rfl)
theorem dX0_book_3 : decode cX0_book 3 = .ok (.astore 4, 2) := dk_58 4 (dk_at dksX0_book_0 3 rfl rfl)
theorem dX0_book_5 : decode cX0_book 5 = .ok (.iconst 0, 1) := dk_3 (dk_at dksX0_book_0 5 rfl rfl)
theorem dX0_book_6 : decode cX0_book 6 = .ok (.istore 5, 2) := dk_54 5 (dk_at dksX0_book_0 6 rfl rfl)
theorem dX0_book_8 : decode cX0_book 8 = .ok (.iconst 0, 1) := dk_3 (dk_at dksX0_book_0 8 rfl rfl)
theorem dX0_book_9 : decode cX0_book 9 = .ok (.istore 6, 2) := dk_54 6 (dk_at dksX0_book_0 9 rfl rfl)
theorem dX0_book_11 : decode cX0_book 11 = .ok (.iload 6, 2) := dk_21 6 (dk_at dksX0_book_0 11 rfl rfl)
theorem dX0_book_13 : decode cX0_book 13 = .ok (.aload_n 0, 1) := dk_42 (dk_at dksX0_book_0 13 rfl rfl)
theorem dX0_book_14 : decode cX0_book 14 = .ok (.getfield 46, 3) := dk_180 0 46 (dk_at dksX0_book_0 14 rfl rfl)
theorem dX0_book_17 : decode cX0_book 17 = .ok (.getfield 141, 3) := dk_180 0 141 (dk_at dksX0_book_0 17 rfl rfl)
theorem dX0_book_20 : decode cX0_book 20 = .ok (.invokeinterface 103 1, 5) := by decide +kernel
theorem dX0_book_25 : decode cX0_book 25 = .ok (.if_icmp .ge 54, 3) := dk_162 0 54 (dk_at dksX0_book_1 5 rfl rfl)
theorem dX0_book_28 : decode cX0_book 28 = .ok (.aload_n 0, 1) := dk_42 (dk_at dksX0_book_1 8 rfl rfl)
theorem dX0_book_29 : decode cX0_book 29 = .ok (.getfield 46, 3) := dk_180 0 46 (dk_at dksX0_book_1 9 rfl rfl)
theorem dX0_book_32 : decode cX0_book 32 = .ok (.getfield 141, 3) := dk_180 0 141 (dk_at dksX0_book_1 12 rfl rfl)
theorem dX0_book_35 : decode cX0_book 35 = .ok (.iload 6, 2) := dk_21 6 (dk_at dksX0_book_1 15 rfl rfl)
theorem dX0_book_37 : decode cX0_book 37 = .ok (.invokeinterface 119 2, 5) := by decide +kernel
theorem dX0_book_42 : decode cX0_book 42 = .ok (.checkcast 151, 3) := dk_192 0 151 (dk_at dksX0_book_2 0 rfl rfl)
theorem dX0_book_45 : decode cX0_book 45 = .ok (.astore 7, 2) := dk_58 7 (dk_at dksX0_book_2 3 rfl rfl)
theorem dX0_book_47 : decode cX0_book 47 = .ok (.aload 7, 2) := dk_25 7 (dk_at dksX0_book_2 5 rfl rfl)
theorem dX0_book_49 : decode cX0_book 49 = .ok (.getfield 268, 3) := dk_180 1 12 (dk_at dksX0_book_2 7 rfl rfl)
theorem dX0_book_52 : decode cX0_book 52 = .ok (.iload_n 1, 1) := dk_27 (dk_at dksX0_book_2 10 rfl rfl)
theorem dX0_book_53 : decode cX0_book 53 = .ok (.if_icmp .eq 6, 3) := dk_159 0 6 (dk_at dksX0_book_2 11 rfl rfl)
theorem dX0_book_56 : decode cX0_book 56 = .ok (.goto 17, 3) := dk_167 0 17 (dk_at dksX0_book_2 14 rfl rfl)
theorem dX0_book_59 : decode cX0_book 59 = .ok (.iinc 5 1, 3) := dk_132 5 1 (dk_at dksX0_book_2 17 rfl rfl)
theorem dX0_book_62 : decode cX0_book 62 = .ok (.aload_n 3, 1) := dk_45 (dk_at dksX0_book_2 20 rfl rfl)
theorem dX0_book_63 : decode cX0_book 63 = .ok (.ifnonnull 6, 3) := dk_199 0 6 (dk_at dksX0_book_2 21 rfl rfl)
theorem dX0_book_66 : decode cX0_book 66 = .ok (.aload 7, 2) := dk_25 7 (dk_at dksX0_book_3 0 rfl rfl)
theorem dX0_book_68 : decode cX0_book 68 = .ok (.astore_n 3, 1) := dk_78 (dk_at dksX0_book_3 2 rfl rfl)
theorem dX0_book_69 : decode cX0_book 69 = .ok (.aload 7, 2) := dk_25 7 (dk_at dksX0_book_3 3 rfl rfl)
theorem dX0_book_71 : decode cX0_book 71 = .ok (.astore 4, 2) := dk_58 4 (dk_at dksX0_book_3 5 rfl rfl)
theorem dX0_book_73 : decode cX0_book 73 = .ok (.iinc 6 1, 3) := dk_132 6 1 (dk_at dksX0_book_3 7 rfl rfl)
theorem dX0_book_76 : decode cX0_book 76 = .ok (.goto (-65), 3) := dk_167 255 191 (dk_at dksX0_book_3 10 rfl rfl)
theorem dX0_book_79 : decode cX0_book 79 = .ok (.iload 5, 2) := dk_21 5 (dk_at dksX0_book_3 13 rfl rfl)
theorem dX0_book_81 : decode cX0_book 81 = .ok (.iconst 2, 1) := dk_5 (dk_at dksX0_book_3 15 rfl rfl)
theorem dX0_book_82 : decode cX0_book 82 = .ok (.if_icmp .ge 5, 3) := dk_162 0 5 (dk_at dksX0_book_3 16 rfl rfl)
theorem dX0_book_85 : decode cX0_book 85 = .ok (.iconst (-1), 1) := dk_2 (dk_at dksX0_book_3 19 rfl rfl)
theorem dX0_book_86 : decode cX0_book 86 = .ok (.ireturn, 1) := dk_172 (dk_at dksX0_book_3 20 rfl rfl)
theorem dX0_book_87 : decode cX0_book 87 = .ok (.iload_n 2, 1) := dk_28 (dk_at dksX0_book_3 21 rfl rfl)
theorem dX0_book_88 : decode cX0_book 88 = .ok (.tableswitch 57 0 3 #[32, 35, 40, 46], 32) := by decide +kernel
theorem dX0_book_120 : decode cX0_book 120 = .ok (.iload 5, 2) := dk_21 5 (dk_at dksX0_book_5 0 rfl rfl)
theorem dX0_book_122 : decode cX0_book 122 = .ok (.ireturn, 1) := dk_172 (dk_at dksX0_book_5 2 rfl rfl)
theorem dX0_book_123 : decode cX0_book 123 = .ok (.aload_n 3, 1) := dk_45 (dk_at dksX0_book_5 3 rfl rfl)
theorem dX0_book_124 : decode cX0_book 124 = .ok (.getfield 274, 3) := dk_180 1 18 (dk_at dksX0_book_5 4 rfl rfl)
theorem dX0_book_127 : decode cX0_book 127 = .ok (.ireturn, 1) := dk_172 (dk_at dksX0_book_5 7 rfl rfl)
theorem dX0_book_128 : decode cX0_book 128 = .ok (.aload 4, 2) := dk_25 4 (dk_at dksX0_book_5 8 rfl rfl)
theorem dX0_book_130 : decode cX0_book 130 = .ok (.getfield 274, 3) := dk_180 1 18 (dk_at dksX0_book_5 10 rfl rfl)
theorem dX0_book_133 : decode cX0_book 133 = .ok (.ireturn, 1) := dk_172 (dk_at dksX0_book_5 13 rfl rfl)
theorem dX0_book_134 : decode cX0_book 134 = .ok (.aload 4, 2) := dk_25 4 (dk_at dksX0_book_5 14 rfl rfl)
theorem dX0_book_136 : decode cX0_book 136 = .ok (.getfield 264, 3) := dk_180 1 8 (dk_at dksX0_book_5 16 rfl rfl)
theorem dX0_book_139 : decode cX0_book 139 = .ok (.aload_n 3, 1) := dk_45 (dk_at dksX0_book_5 19 rfl rfl)
theorem dX0_book_140 : decode cX0_book 140 = .ok (.getfield 264, 3) := dk_180 1 8 (dk_at dksX0_book_5 20 rfl rfl)
theorem dX0_book_143 : decode cX0_book 143 = .ok (.isub, 1) := dk_100 (dk_at dksX0_book_5 23 rfl rfl)
theorem dX0_book_144 : decode cX0_book 144 = .ok (.ireturn, 1) := dk_172 (dk_at dksX0_book_6 0 rfl rfl)
theorem dX0_book_145 : decode cX0_book 145 = .ok (.iconst (-1), 1) := dk_2 (dk_at dksX0_book_6 1 rfl rfl)
theorem dX0_book_146 : decode cX0_book 146 = .ok (.ireturn, 1) := dk_172 (dk_at dksX0_book_6 2 rfl rfl)
abbrev cX0_parts : ByteArray := prog_1_method_64_code
def yX0_parts : MethodName := ⟨RX0, "parts", "(I)I"⟩
def dkwX0_parts_8 : List UInt8 := [21, 4, 61, 21, 6, 62, 132, 4, 1, 167, 255, 98, 28, 172]
abbrev dktX0_parts_8 : List UInt8 := dkwX0_parts_8 ++ []
def dkwX0_parts_7 : List UInt8 := [184, 0, 252, 100, 184, 1, 92, 54, 6, 28, 2, 159, 0, 12, 21, 6, 29, 163, 0, 6, 167, 0, 9]
abbrev dktX0_parts_7 : List UInt8 := dkwX0_parts_7 ++ dktX0_parts_8
def dkwX0_parts_6 : List UInt8 := [180, 0, 50, 27, 50, 180, 0, 102, 21, 4, 185, 0, 119, 2, 0, 192, 0, 123, 2, 182, 0, 182]
abbrev dktX0_parts_6 : List UInt8 := dkwX0_parts_6 ++ dktX0_parts_7
def dkwX0_parts_5 : List UInt8 := [180, 0, 57, 42, 180, 0, 50, 27, 50, 180, 0, 124, 182, 0, 232, 21, 5, 42, 180, 0, 57, 42]
abbrev dktX0_parts_5 : List UInt8 := dkwX0_parts_5 ++ dktX0_parts_6
def dkwX0_parts_4 : List UInt8 := [192, 0, 123, 190, 159, 0, 6, 167, 0, 89, 42, 21, 4, 3, 182, 0, 244, 184, 0, 252, 54, 5, 42]
abbrev dktX0_parts_4 : List UInt8 := dkwX0_parts_4 ++ dktX0_parts_5
def dkwX0_parts_3 : List UInt8 := [21, 4, 182, 0, 127, 190, 42, 180, 0, 50, 27, 50, 180, 0, 102, 21, 4, 185, 0, 119, 2, 0]
abbrev dktX0_parts_3 : List UInt8 := dkwX0_parts_3 ++ dktX0_parts_4
def dkwX0_parts_2 : List UInt8 := [162, 0, 147, 21, 4, 42, 180, 0, 50, 27, 50, 180, 0, 102, 185, 0, 103, 1, 0, 162, 0, 128, 42]
abbrev dktX0_parts_2 : List UInt8 := dkwX0_parts_2 ++ dktX0_parts_3
def dkwX0_parts_1 : List UInt8 := [16, 250, 172, 2, 61, 3, 62, 3, 54, 4, 21, 4, 42, 180, 0, 46, 180, 0, 102, 185, 0, 103, 1, 0]
abbrev dktX0_parts_1 : List UInt8 := dkwX0_parts_1 ++ dktX0_parts_2
def dkwX0_parts_0 : List UInt8 := [27, 133, 9, 20, 0, 219, 184, 0, 5, 154, 0, 6, 16, 254, 172, 42, 180, 0, 50, 27, 50, 199, 0, 6]
abbrev dktX0_parts_0 : List UInt8 := dkwX0_parts_0 ++ dktX0_parts_1
theorem dksX0_parts_0 : cX0_parts.data.toList.drop 0 = dktX0_parts_0 := by decide +kernel
theorem dksX0_parts_1 : cX0_parts.data.toList.drop 24 = dktX0_parts_1 := dk_seg dksX0_parts_0 24 rfl rfl
theorem dksX0_parts_2 : cX0_parts.data.toList.drop 48 = dktX0_parts_2 := dk_seg dksX0_parts_1 24 rfl rfl
theorem dksX0_parts_3 : cX0_parts.data.toList.drop 71 = dktX0_parts_3 := dk_seg dksX0_parts_2 23 rfl rfl
theorem dksX0_parts_4 : cX0_parts.data.toList.drop 93 = dktX0_parts_4 := dk_seg dksX0_parts_3 22 rfl rfl
theorem dksX0_parts_5 : cX0_parts.data.toList.drop 116 = dktX0_parts_5 := dk_seg dksX0_parts_4 23 rfl rfl
theorem dksX0_parts_6 : cX0_parts.data.toList.drop 138 = dktX0_parts_6 := dk_seg dksX0_parts_5 22 rfl rfl
theorem dksX0_parts_7 : cX0_parts.data.toList.drop 160 = dktX0_parts_7 := dk_seg dksX0_parts_6 22 rfl rfl
theorem dksX0_parts_8 : cX0_parts.data.toList.drop 183 = dktX0_parts_8 := dk_seg dksX0_parts_7 23 rfl rfl
theorem dX0_parts_0 : decode cX0_parts 0 = .ok (.iload_n 1, 1) := dk_27 (dk_at dksX0_parts_0 0 rfl rfl)
theorem dX0_parts_1 : decode cX0_parts 1 = .ok (.i2l, 1) := dk_133 (dk_at dksX0_parts_0 1 rfl rfl)
theorem dX0_parts_2 : decode cX0_parts 2 = .ok (.lconst 0, 1) := dk_9 (dk_at dksX0_parts_0 2 rfl rfl)
theorem dX0_parts_3 : decode cX0_parts 3 = .ok (.ldc2_w 219, 3) := dk_20 0 219 (dk_at dksX0_parts_0 3 rfl rfl)
theorem dX0_parts_6 : decode cX0_parts 6 = .ok (.invokestatic 5, 3) := dk_184 0 5 (dk_at dksX0_parts_0 6 rfl rfl)
theorem dX0_parts_9 : decode cX0_parts 9 = .ok (.ifCond .ne 6, 3) := dk_154 0 6 (dk_at dksX0_parts_0 9 rfl rfl)
theorem dX0_parts_12 : decode cX0_parts 12 = .ok (.bipush (-2), 2) := dk_16 254 (dk_at dksX0_parts_0 12 rfl rfl)
theorem dX0_parts_14 : decode cX0_parts 14 = .ok (.ireturn, 1) := dk_172 (dk_at dksX0_parts_0 14 rfl rfl)
theorem dX0_parts_15 : decode cX0_parts 15 = .ok (.aload_n 0, 1) := dk_42 (dk_at dksX0_parts_0 15 rfl rfl)
theorem dX0_parts_16 : decode cX0_parts 16 = .ok (.getfield 50, 3) := dk_180 0 50 (dk_at dksX0_parts_0 16 rfl rfl)
theorem dX0_parts_19 : decode cX0_parts 19 = .ok (.iload_n 1, 1) := dk_27 (dk_at dksX0_parts_0 19 rfl rfl)
theorem dX0_parts_20 : decode cX0_parts 20 = .ok (.aaload, 1) := dk_50 (dk_at dksX0_parts_0 20 rfl rfl)
theorem dX0_parts_21 : decode cX0_parts 21 = .ok (.ifnonnull 6, 3) := dk_199 0 6 (dk_at dksX0_parts_0 21 rfl rfl)
theorem dX0_parts_24 : decode cX0_parts 24 = .ok (.bipush (-6), 2) := dk_16 250 (dk_at dksX0_parts_1 0 rfl rfl)
theorem dX0_parts_26 : decode cX0_parts 26 = .ok (.ireturn, 1) := dk_172 (dk_at dksX0_parts_1 2 rfl rfl)
theorem dX0_parts_27 : decode cX0_parts 27 = .ok (.iconst (-1), 1) := dk_2 (dk_at dksX0_parts_1 3 rfl rfl)
theorem dX0_parts_28 : decode cX0_parts 28 = .ok (.istore_n 2, 1) := dk_61 (dk_at dksX0_parts_1 4 rfl rfl)
theorem dX0_parts_29 : decode cX0_parts 29 = .ok (.iconst 0, 1) := dk_3 (dk_at dksX0_parts_1 5 rfl rfl)
theorem dX0_parts_30 : decode cX0_parts 30 = .ok (.istore_n 3, 1) := dk_62 (dk_at dksX0_parts_1 6 rfl rfl)
theorem dX0_parts_31 : decode cX0_parts 31 = .ok (.iconst 0, 1) := dk_3 (dk_at dksX0_parts_1 7 rfl rfl)
theorem dX0_parts_32 : decode cX0_parts 32 = .ok (.istore 4, 2) := dk_54 4 (dk_at dksX0_parts_1 8 rfl rfl)
theorem dX0_parts_34 : decode cX0_parts 34 = .ok (.iload 4, 2) := dk_21 4 (dk_at dksX0_parts_1 10 rfl rfl)
theorem dX0_parts_36 : decode cX0_parts 36 = .ok (.aload_n 0, 1) := dk_42 (dk_at dksX0_parts_1 12 rfl rfl)
theorem dX0_parts_37 : decode cX0_parts 37 = .ok (.getfield 46, 3) := dk_180 0 46 (dk_at dksX0_parts_1 13 rfl rfl)
theorem dX0_parts_40 : decode cX0_parts 40 = .ok (.getfield 102, 3) := dk_180 0 102 (dk_at dksX0_parts_1 16 rfl rfl)
theorem dX0_parts_43 : decode cX0_parts 43 = .ok (.invokeinterface 103 1, 5) := by decide +kernel
theorem dX0_parts_48 : decode cX0_parts 48 = .ok (.if_icmp .ge 147, 3) := dk_162 0 147 (dk_at dksX0_parts_2 0 rfl rfl)
theorem dX0_parts_51 : decode cX0_parts 51 = .ok (.iload 4, 2) := dk_21 4 (dk_at dksX0_parts_2 3 rfl rfl)
theorem dX0_parts_53 : decode cX0_parts 53 = .ok (.aload_n 0, 1) := dk_42 (dk_at dksX0_parts_2 5 rfl rfl)
theorem dX0_parts_54 : decode cX0_parts 54 = .ok (.getfield 50, 3) := dk_180 0 50 (dk_at dksX0_parts_2 6 rfl rfl)
theorem dX0_parts_57 : decode cX0_parts 57 = .ok (.iload_n 1, 1) := dk_27 (dk_at dksX0_parts_2 9 rfl rfl)
theorem dX0_parts_58 : decode cX0_parts 58 = .ok (.aaload, 1) := dk_50 (dk_at dksX0_parts_2 10 rfl rfl)
theorem dX0_parts_59 : decode cX0_parts 59 = .ok (.getfield 102, 3) := dk_180 0 102 (dk_at dksX0_parts_2 11 rfl rfl)
theorem dX0_parts_62 : decode cX0_parts 62 = .ok (.invokeinterface 103 1, 5) := by decide +kernel
theorem dX0_parts_67 : decode cX0_parts 67 = .ok (.if_icmp .ge 128, 3) := dk_162 0 128 (dk_at dksX0_parts_2 19 rfl rfl)
theorem dX0_parts_70 : decode cX0_parts 70 = .ok (.aload_n 0, 1) := dk_42 (dk_at dksX0_parts_2 22 rfl rfl)
theorem dX0_parts_71 : decode cX0_parts 71 = .ok (.iload 4, 2) := dk_21 4 (dk_at dksX0_parts_3 0 rfl rfl)
theorem dX0_parts_73 : decode cX0_parts 73 = .ok (.invokevirtual 127, 3) := dk_182 0 127 (dk_at dksX0_parts_3 2 rfl rfl)
theorem dX0_parts_76 : decode cX0_parts 76 = .ok (.arraylength, 1) := dk_190 (dk_at dksX0_parts_3 5 rfl rfl)
theorem dX0_parts_77 : decode cX0_parts 77 = .ok (.aload_n 0, 1) := dk_42 (dk_at dksX0_parts_3 6 rfl rfl)
theorem dX0_parts_78 : decode cX0_parts 78 = .ok (.getfield 50, 3) := dk_180 0 50 (dk_at dksX0_parts_3 7 rfl rfl)
theorem dX0_parts_81 : decode cX0_parts 81 = .ok (.iload_n 1, 1) := dk_27 (dk_at dksX0_parts_3 10 rfl rfl)
theorem dX0_parts_82 : decode cX0_parts 82 = .ok (.aaload, 1) := dk_50 (dk_at dksX0_parts_3 11 rfl rfl)
theorem dX0_parts_83 : decode cX0_parts 83 = .ok (.getfield 102, 3) := dk_180 0 102 (dk_at dksX0_parts_3 12 rfl rfl)
theorem dX0_parts_86 : decode cX0_parts 86 = .ok (.iload 4, 2) := dk_21 4 (dk_at dksX0_parts_3 15 rfl rfl)
theorem dX0_parts_88 : decode cX0_parts 88 = .ok (.invokeinterface 119 2, 5) := by decide +kernel
theorem dX0_parts_93 : decode cX0_parts 93 = .ok (.checkcast 123, 3) := dk_192 0 123 (dk_at dksX0_parts_4 0 rfl rfl)
theorem dX0_parts_96 : decode cX0_parts 96 = .ok (.arraylength, 1) := dk_190 (dk_at dksX0_parts_4 3 rfl rfl)
theorem dX0_parts_97 : decode cX0_parts 97 = .ok (.if_icmp .eq 6, 3) := dk_159 0 6 (dk_at dksX0_parts_4 4 rfl rfl)
theorem dX0_parts_100 : decode cX0_parts 100 = .ok (.goto 89, 3) := dk_167 0 89 (dk_at dksX0_parts_4 7 rfl rfl)
theorem dX0_parts_103 : decode cX0_parts 103 = .ok (.aload_n 0, 1) := dk_42 (dk_at dksX0_parts_4 10 rfl rfl)
theorem dX0_parts_104 : decode cX0_parts 104 = .ok (.iload 4, 2) := dk_21 4 (dk_at dksX0_parts_4 11 rfl rfl)
theorem dX0_parts_106 : decode cX0_parts 106 = .ok (.iconst 0, 1) := dk_3 (dk_at dksX0_parts_4 13 rfl rfl)
theorem dX0_parts_107 : decode cX0_parts 107 = .ok (.invokevirtual 244, 3) := dk_182 0 244 (dk_at dksX0_parts_4 14 rfl rfl)
theorem dX0_parts_110 : decode cX0_parts 110 = .ok (.invokestatic 252, 3) := dk_184 0 252 (dk_at dksX0_parts_4 17 rfl rfl)
theorem dX0_parts_113 : decode cX0_parts 113 = .ok (.istore 5, 2) := dk_54 5 (dk_at dksX0_parts_4 20 rfl rfl)
theorem dX0_parts_115 : decode cX0_parts 115 = .ok (.aload_n 0, 1) := dk_42 (dk_at dksX0_parts_4 22 rfl rfl)
theorem dX0_parts_116 : decode cX0_parts 116 = .ok (.getfield 57, 3) := dk_180 0 57 (dk_at dksX0_parts_5 0 rfl rfl)
theorem dX0_parts_119 : decode cX0_parts 119 = .ok (.aload_n 0, 1) := dk_42 (dk_at dksX0_parts_5 3 rfl rfl)
theorem dX0_parts_120 : decode cX0_parts 120 = .ok (.getfield 50, 3) := dk_180 0 50 (dk_at dksX0_parts_5 4 rfl rfl)
theorem dX0_parts_123 : decode cX0_parts 123 = .ok (.iload_n 1, 1) := dk_27 (dk_at dksX0_parts_5 7 rfl rfl)
theorem dX0_parts_124 : decode cX0_parts 124 = .ok (.aaload, 1) := dk_50 (dk_at dksX0_parts_5 8 rfl rfl)
theorem dX0_parts_125 : decode cX0_parts 125 = .ok (.getfield 124, 3) := dk_180 0 124 (dk_at dksX0_parts_5 9 rfl rfl)
theorem dX0_parts_128 : decode cX0_parts 128 = .ok (.invokevirtual 232, 3) := dk_182 0 232 (dk_at dksX0_parts_5 12 rfl rfl)
theorem dX0_parts_131 : decode cX0_parts 131 = .ok (.iload 5, 2) := dk_21 5 (dk_at dksX0_parts_5 15 rfl rfl)
theorem dX0_parts_133 : decode cX0_parts 133 = .ok (.aload_n 0, 1) := dk_42 (dk_at dksX0_parts_5 17 rfl rfl)
theorem dX0_parts_134 : decode cX0_parts 134 = .ok (.getfield 57, 3) := dk_180 0 57 (dk_at dksX0_parts_5 18 rfl rfl)
theorem dX0_parts_137 : decode cX0_parts 137 = .ok (.aload_n 0, 1) := dk_42 (dk_at dksX0_parts_5 21 rfl rfl)
theorem dX0_parts_138 : decode cX0_parts 138 = .ok (.getfield 50, 3) := dk_180 0 50 (dk_at dksX0_parts_6 0 rfl rfl)
theorem dX0_parts_141 : decode cX0_parts 141 = .ok (.iload_n 1, 1) := dk_27 (dk_at dksX0_parts_6 3 rfl rfl)
theorem dX0_parts_142 : decode cX0_parts 142 = .ok (.aaload, 1) := dk_50 (dk_at dksX0_parts_6 4 rfl rfl)
theorem dX0_parts_143 : decode cX0_parts 143 = .ok (.getfield 102, 3) := dk_180 0 102 (dk_at dksX0_parts_6 5 rfl rfl)
theorem dX0_parts_146 : decode cX0_parts 146 = .ok (.iload 4, 2) := dk_21 4 (dk_at dksX0_parts_6 8 rfl rfl)
theorem dX0_parts_148 : decode cX0_parts 148 = .ok (.invokeinterface 119 2, 5) := by decide +kernel
theorem dX0_parts_153 : decode cX0_parts 153 = .ok (.checkcast 123, 3) := dk_192 0 123 (dk_at dksX0_parts_6 15 rfl rfl)
theorem dX0_parts_156 : decode cX0_parts 156 = .ok (.iconst (-1), 1) := dk_2 (dk_at dksX0_parts_6 18 rfl rfl)
theorem dX0_parts_157 : decode cX0_parts 157 = .ok (.invokevirtual 182, 3) := dk_182 0 182 (dk_at dksX0_parts_6 19 rfl rfl)
theorem dX0_parts_160 : decode cX0_parts 160 = .ok (.invokestatic 252, 3) := dk_184 0 252 (dk_at dksX0_parts_7 0 rfl rfl)
theorem dX0_parts_163 : decode cX0_parts 163 = .ok (.isub, 1) := dk_100 (dk_at dksX0_parts_7 3 rfl rfl)
theorem dX0_parts_164 : decode cX0_parts 164 = .ok (.invokestatic 348, 3) := dk_184 1 92 (dk_at dksX0_parts_7 4 rfl rfl)
theorem dX0_parts_167 : decode cX0_parts 167 = .ok (.istore 6, 2) := dk_54 6 (dk_at dksX0_parts_7 7 rfl rfl)
theorem dX0_parts_169 : decode cX0_parts 169 = .ok (.iload_n 2, 1) := dk_28 (dk_at dksX0_parts_7 9 rfl rfl)
theorem dX0_parts_170 : decode cX0_parts 170 = .ok (.iconst (-1), 1) := dk_2 (dk_at dksX0_parts_7 10 rfl rfl)
theorem dX0_parts_171 : decode cX0_parts 171 = .ok (.if_icmp .eq 12, 3) := dk_159 0 12 (dk_at dksX0_parts_7 11 rfl rfl)
theorem dX0_parts_174 : decode cX0_parts 174 = .ok (.iload 6, 2) := dk_21 6 (dk_at dksX0_parts_7 14 rfl rfl)
theorem dX0_parts_176 : decode cX0_parts 176 = .ok (.iload_n 3, 1) := dk_29 (dk_at dksX0_parts_7 16 rfl rfl)
theorem dX0_parts_177 : decode cX0_parts 177 = .ok (.if_icmp .gt 6, 3) := dk_163 0 6 (dk_at dksX0_parts_7 17 rfl rfl)
theorem dX0_parts_180 : decode cX0_parts 180 = .ok (.goto 9, 3) := dk_167 0 9 (dk_at dksX0_parts_7 20 rfl rfl)
theorem dX0_parts_183 : decode cX0_parts 183 = .ok (.iload 4, 2) := dk_21 4 (dk_at dksX0_parts_8 0 rfl rfl)
theorem dX0_parts_185 : decode cX0_parts 185 = .ok (.istore_n 2, 1) := dk_61 (dk_at dksX0_parts_8 2 rfl rfl)
theorem dX0_parts_186 : decode cX0_parts 186 = .ok (.iload 6, 2) := dk_21 6 (dk_at dksX0_parts_8 3 rfl rfl)
theorem dX0_parts_188 : decode cX0_parts 188 = .ok (.istore_n 3, 1) := dk_62 (dk_at dksX0_parts_8 5 rfl rfl)
theorem dX0_parts_189 : decode cX0_parts 189 = .ok (.iinc 4 1, 3) := dk_132 4 1 (dk_at dksX0_parts_8 6 rfl rfl)
theorem dX0_parts_192 : decode cX0_parts 192 = .ok (.goto (-158), 3) := dk_167 255 98 (dk_at dksX0_parts_8 9 rfl rfl)
theorem dX0_parts_195 : decode cX0_parts 195 = .ok (.iload_n 2, 1) := dk_28 (dk_at dksX0_parts_8 12 rfl rfl)
theorem dX0_parts_196 : decode cX0_parts 196 = .ok (.ireturn, 1) := dk_172 (dk_at dksX0_parts_8 13 rfl rfl)
abbrev cX0_count : ByteArray := prog_1_method_65_code
def yX0_count : MethodName := ⟨RX0, "count", "(I)I"⟩
def dkwX0_count_7 : List UInt8 := [180, 1, 36, 199, 0, 7, 3, 167, 0, 4, 4, 96, 61, 132, 3, 1, 167, 255, 228, 28, 172, 2, 172]
abbrev dktX0_count_7 : List UInt8 := dkwX0_count_7 ++ []
def dkwX0_count_6 : List UInt8 := [180, 1, 103, 27, 16, 8, 100, 46, 172, 3, 62, 29, 7, 162, 0, 29, 28, 42, 180, 0, 13, 29, 50]
abbrev dktX0_count_6 : List UInt8 := dkwX0_count_6 ++ dktX0_count_7
def dkwX0_count_5 : List UInt8 := [185, 0, 103, 1, 0, 172, 42, 180, 0, 46, 180, 0, 191, 180, 1, 100, 172, 42, 180, 0, 46, 180, 0, 191]
abbrev dktX0_count_5 : List UInt8 := dkwX0_count_5 ++ dktX0_count_6
def dkwX0_count_4 : List UInt8 := [180, 0, 153, 172, 42, 180, 0, 46, 180, 0, 124, 180, 0, 241, 172, 42, 180, 0, 46, 180, 0, 141]
abbrev dktX0_count_4 : List UInt8 := dkwX0_count_4 ++ dktX0_count_5
def dkwX0_count_3 : List UInt8 := [42, 180, 0, 46, 180, 0, 191, 180, 1, 97, 172, 42, 180, 0, 77, 172, 42, 180, 0, 46, 180, 0, 124]
abbrev dktX0_count_3 : List UInt8 := dkwX0_count_3 ++ dktX0_count_4
def dkwX0_count_2 : List UInt8 := [42, 180, 0, 46, 180, 0, 191, 180, 0, 195, 172, 42, 180, 0, 46, 180, 0, 102, 185, 0, 103, 1, 0, 172]
abbrev dktX0_count_2 : List UInt8 := dkwX0_count_2 ++ dktX0_count_3
def dkwX0_count_1 : List UInt8 := [170, 0, 0, 0, 202, 0, 0, 0, 0, 0, 0, 0, 12, 0, 0, 0, 65, 0, 0, 0, 76, 0, 0, 0, 89, 0, 0, 0, 100, 0, 0, 0, 105, 0, 0, 0, 116, 0, 0, 0, 127, 0, 0, 0, 140, 0, 0, 0, 151, 0, 0, 0, 151, 0, 0, 0, 151, 0, 0, 0, 151, 0, 0, 0, 167]
abbrev dktX0_count_1 : List UInt8 := dkwX0_count_1 ++ dktX0_count_2
def dkwX0_count_0 : List UInt8 := [3, 61, 27]
abbrev dktX0_count_0 : List UInt8 := dkwX0_count_0 ++ dktX0_count_1
theorem dksX0_count_0 : cX0_count.data.toList.drop 0 = dktX0_count_0 := by decide +kernel
theorem dksX0_count_1 : cX0_count.data.toList.drop 3 = dktX0_count_1 := dk_seg dksX0_count_0 3 rfl rfl
theorem dksX0_count_2 : cX0_count.data.toList.drop 68 = dktX0_count_2 := dk_seg dksX0_count_1 65 rfl rfl
theorem dksX0_count_3 : cX0_count.data.toList.drop 92 = dktX0_count_3 := dk_seg dksX0_count_2 24 rfl rfl
theorem dksX0_count_4 : cX0_count.data.toList.drop 115 = dktX0_count_4 := dk_seg dksX0_count_3 23 rfl rfl
theorem dksX0_count_5 : cX0_count.data.toList.drop 137 = dktX0_count_5 := dk_seg dksX0_count_4 22 rfl rfl
theorem dksX0_count_6 : cX0_count.data.toList.drop 161 = dktX0_count_6 := dk_seg dksX0_count_5 24 rfl rfl
theorem dksX0_count_7 : cX0_count.data.toList.drop 184 = dktX0_count_7 := dk_seg dksX0_count_6 23 rfl rfl
theorem dX0_count_0 : decode cX0_count 0 = .ok (.iconst 0, 1) := dk_3 (dk_at dksX0_count_0 0 rfl rfl)
theorem dX0_count_1 : decode cX0_count 1 = .ok (.istore_n 2, 1) := dk_61 (dk_at dksX0_count_0 1 rfl rfl)
theorem dX0_count_2 : decode cX0_count 2 = .ok (.iload_n 1, 1) := dk_27 (dk_at dksX0_count_0 2 rfl rfl)
theorem dX0_count_3 : decode cX0_count 3 = .ok (.tableswitch 202 0 12 #[65, 76, 89, 100, 105, 116, 127, 140, 151, 151, 151, 151, 167], 65) := by decide +kernel
theorem dX0_count_68 : decode cX0_count 68 = .ok (.aload_n 0, 1) := dk_42 (dk_at dksX0_count_2 0 rfl rfl)
theorem dX0_count_69 : decode cX0_count 69 = .ok (.getfield 46, 3) := dk_180 0 46 (dk_at dksX0_count_2 1 rfl rfl)
theorem dX0_count_72 : decode cX0_count 72 = .ok (.getfield 191, 3) := dk_180 0 191 (dk_at dksX0_count_2 4 rfl rfl)
theorem dX0_count_75 : decode cX0_count 75 = .ok (.getfield 195, 3) := dk_180 0 195 (dk_at dksX0_count_2 7 rfl rfl)
theorem dX0_count_78 : decode cX0_count 78 = .ok (.ireturn, 1) := dk_172 (dk_at dksX0_count_2 10 rfl rfl)
theorem dX0_count_79 : decode cX0_count 79 = .ok (.aload_n 0, 1) := dk_42 (dk_at dksX0_count_2 11 rfl rfl)
theorem dX0_count_80 : decode cX0_count 80 = .ok (.getfield 46, 3) := dk_180 0 46 (dk_at dksX0_count_2 12 rfl rfl)
theorem dX0_count_83 : decode cX0_count 83 = .ok (.getfield 102, 3) := dk_180 0 102 (dk_at dksX0_count_2 15 rfl rfl)
theorem dX0_count_86 : decode cX0_count 86 = .ok (.invokeinterface 103 1, 5) := by decide +kernel
theorem dX0_count_91 : decode cX0_count 91 = .ok (.ireturn, 1) := dk_172 (dk_at dksX0_count_2 23 rfl rfl)
theorem dX0_count_92 : decode cX0_count 92 = .ok (.aload_n 0, 1) := dk_42 (dk_at dksX0_count_3 0 rfl rfl)
theorem dX0_count_93 : decode cX0_count 93 = .ok (.getfield 46, 3) := dk_180 0 46 (dk_at dksX0_count_3 1 rfl rfl)
theorem dX0_count_96 : decode cX0_count 96 = .ok (.getfield 191, 3) := dk_180 0 191 (dk_at dksX0_count_3 4 rfl rfl)
theorem dX0_count_99 : decode cX0_count 99 = .ok (.getfield 353, 3) := dk_180 1 97 (dk_at dksX0_count_3 7 rfl rfl)
theorem dX0_count_102 : decode cX0_count 102 = .ok (.ireturn, 1) := dk_172 (dk_at dksX0_count_3 10 rfl rfl)
theorem dX0_count_103 : decode cX0_count 103 = .ok (.aload_n 0, 1) := dk_42 (dk_at dksX0_count_3 11 rfl rfl)
theorem dX0_count_104 : decode cX0_count 104 = .ok (.getfield 77, 3) := dk_180 0 77 (dk_at dksX0_count_3 12 rfl rfl)
theorem dX0_count_107 : decode cX0_count 107 = .ok (.ireturn, 1) := dk_172 (dk_at dksX0_count_3 15 rfl rfl)
theorem dX0_count_108 : decode cX0_count 108 = .ok (.aload_n 0, 1) := dk_42 (dk_at dksX0_count_3 16 rfl rfl)
theorem dX0_count_109 : decode cX0_count 109 = .ok (.getfield 46, 3) := dk_180 0 46 (dk_at dksX0_count_3 17 rfl rfl)
theorem dX0_count_112 : decode cX0_count 112 = .ok (.getfield 124, 3) := dk_180 0 124 (dk_at dksX0_count_3 20 rfl rfl)
theorem dX0_count_115 : decode cX0_count 115 = .ok (.getfield 153, 3) := dk_180 0 153 (dk_at dksX0_count_4 0 rfl rfl)
theorem dX0_count_118 : decode cX0_count 118 = .ok (.ireturn, 1) := dk_172 (dk_at dksX0_count_4 3 rfl rfl)
theorem dX0_count_119 : decode cX0_count 119 = .ok (.aload_n 0, 1) := dk_42 (dk_at dksX0_count_4 4 rfl rfl)
theorem dX0_count_120 : decode cX0_count 120 = .ok (.getfield 46, 3) := dk_180 0 46 (dk_at dksX0_count_4 5 rfl rfl)
theorem dX0_count_123 : decode cX0_count 123 = .ok (.getfield 124, 3) := dk_180 0 124 (dk_at dksX0_count_4 8 rfl rfl)
theorem dX0_count_126 : decode cX0_count 126 = .ok (.getfield 241, 3) := dk_180 0 241 (dk_at dksX0_count_4 11 rfl rfl)
theorem dX0_count_129 : decode cX0_count 129 = .ok (.ireturn, 1) := dk_172 (dk_at dksX0_count_4 14 rfl rfl)
theorem dX0_count_130 : decode cX0_count 130 = .ok (.aload_n 0, 1) := dk_42 (dk_at dksX0_count_4 15 rfl rfl)
theorem dX0_count_131 : decode cX0_count 131 = .ok (.getfield 46, 3) := dk_180 0 46 (dk_at dksX0_count_4 16 rfl rfl)
theorem dX0_count_134 : decode cX0_count 134 = .ok (.getfield 141, 3) := dk_180 0 141 (dk_at dksX0_count_4 19 rfl rfl)
theorem dX0_count_137 : decode cX0_count 137 = .ok (.invokeinterface 103 1, 5) := by decide +kernel
theorem dX0_count_142 : decode cX0_count 142 = .ok (.ireturn, 1) := dk_172 (dk_at dksX0_count_5 5 rfl rfl)
theorem dX0_count_143 : decode cX0_count 143 = .ok (.aload_n 0, 1) := dk_42 (dk_at dksX0_count_5 6 rfl rfl)
theorem dX0_count_144 : decode cX0_count 144 = .ok (.getfield 46, 3) := dk_180 0 46 (dk_at dksX0_count_5 7 rfl rfl)
theorem dX0_count_147 : decode cX0_count 147 = .ok (.getfield 191, 3) := dk_180 0 191 (dk_at dksX0_count_5 10 rfl rfl)
theorem dX0_count_150 : decode cX0_count 150 = .ok (.getfield 356, 3) := dk_180 1 100 (dk_at dksX0_count_5 13 rfl rfl)
theorem dX0_count_153 : decode cX0_count 153 = .ok (.ireturn, 1) := dk_172 (dk_at dksX0_count_5 16 rfl rfl)
theorem dX0_count_154 : decode cX0_count 154 = .ok (.aload_n 0, 1) := dk_42 (dk_at dksX0_count_5 17 rfl rfl)
theorem dX0_count_155 : decode cX0_count 155 = .ok (.getfield 46, 3) := dk_180 0 46 (dk_at dksX0_count_5 18 rfl rfl)
theorem dX0_count_158 : decode cX0_count 158 = .ok (.getfield 191, 3) := dk_180 0 191 (dk_at dksX0_count_5 21 rfl rfl)
theorem dX0_count_161 : decode cX0_count 161 = .ok (.getfield 359, 3) := dk_180 1 103 (dk_at dksX0_count_6 0 rfl rfl)
theorem dX0_count_164 : decode cX0_count 164 = .ok (.iload_n 1, 1) := dk_27 (dk_at dksX0_count_6 3 rfl rfl)
theorem dX0_count_165 : decode cX0_count 165 = .ok (.bipush 8, 2) := dk_16 8 (dk_at dksX0_count_6 4 rfl rfl)
theorem dX0_count_167 : decode cX0_count 167 = .ok (.isub, 1) := dk_100 (dk_at dksX0_count_6 6 rfl rfl)
theorem dX0_count_168 : decode cX0_count 168 = .ok (.iaload, 1) := dk_46 (dk_at dksX0_count_6 7 rfl rfl)
theorem dX0_count_169 : decode cX0_count 169 = .ok (.ireturn, 1) := dk_172 (dk_at dksX0_count_6 8 rfl rfl)
theorem dX0_count_170 : decode cX0_count 170 = .ok (.iconst 0, 1) := dk_3 (dk_at dksX0_count_6 9 rfl rfl)
theorem dX0_count_171 : decode cX0_count 171 = .ok (.istore_n 3, 1) := dk_62 (dk_at dksX0_count_6 10 rfl rfl)
theorem dX0_count_172 : decode cX0_count 172 = .ok (.iload_n 3, 1) := dk_29 (dk_at dksX0_count_6 11 rfl rfl)
theorem dX0_count_173 : decode cX0_count 173 = .ok (.iconst 4, 1) := dk_7 (dk_at dksX0_count_6 12 rfl rfl)
theorem dX0_count_174 : decode cX0_count 174 = .ok (.if_icmp .ge 29, 3) := dk_162 0 29 (dk_at dksX0_count_6 13 rfl rfl)
theorem dX0_count_177 : decode cX0_count 177 = .ok (.iload_n 2, 1) := dk_28 (dk_at dksX0_count_6 16 rfl rfl)
theorem dX0_count_178 : decode cX0_count 178 = .ok (.aload_n 0, 1) := dk_42 (dk_at dksX0_count_6 17 rfl rfl)
theorem dX0_count_179 : decode cX0_count 179 = .ok (.getfield 13, 3) := dk_180 0 13 (dk_at dksX0_count_6 18 rfl rfl)
theorem dX0_count_182 : decode cX0_count 182 = .ok (.iload_n 3, 1) := dk_29 (dk_at dksX0_count_6 21 rfl rfl)
theorem dX0_count_183 : decode cX0_count 183 = .ok (.aaload, 1) := dk_50 (dk_at dksX0_count_6 22 rfl rfl)
theorem dX0_count_184 : decode cX0_count 184 = .ok (.getfield 292, 3) := dk_180 1 36 (dk_at dksX0_count_7 0 rfl rfl)
theorem dX0_count_187 : decode cX0_count 187 = .ok (.ifnonnull 7, 3) := dk_199 0 7 (dk_at dksX0_count_7 3 rfl rfl)
theorem dX0_count_190 : decode cX0_count 190 = .ok (.iconst 0, 1) := dk_3 (dk_at dksX0_count_7 6 rfl rfl)
theorem dX0_count_191 : decode cX0_count 191 = .ok (.goto 4, 3) := dk_167 0 4 (dk_at dksX0_count_7 7 rfl rfl)
theorem dX0_count_194 : decode cX0_count 194 = .ok (.iconst 1, 1) := dk_4 (dk_at dksX0_count_7 10 rfl rfl)
theorem dX0_count_195 : decode cX0_count 195 = .ok (.iadd, 1) := dk_96 (dk_at dksX0_count_7 11 rfl rfl)
theorem dX0_count_196 : decode cX0_count 196 = .ok (.istore_n 2, 1) := dk_61 (dk_at dksX0_count_7 12 rfl rfl)
theorem dX0_count_197 : decode cX0_count 197 = .ok (.iinc 3 1, 3) := dk_132 3 1 (dk_at dksX0_count_7 13 rfl rfl)
theorem dX0_count_200 : decode cX0_count 200 = .ok (.goto (-28), 3) := dk_167 255 228 (dk_at dksX0_count_7 16 rfl rfl)
theorem dX0_count_203 : decode cX0_count 203 = .ok (.iload_n 2, 1) := dk_28 (dk_at dksX0_count_7 19 rfl rfl)
theorem dX0_count_204 : decode cX0_count 204 = .ok (.ireturn, 1) := dk_172 (dk_at dksX0_count_7 20 rfl rfl)
theorem dX0_count_205 : decode cX0_count 205 = .ok (.iconst (-1), 1) := dk_2 (dk_at dksX0_count_7 21 rfl rfl)
theorem dX0_count_206 : decode cX0_count 206 = .ok (.ireturn, 1) := dk_172 (dk_at dksX0_count_7 22 rfl rfl)
abbrev cX0_keep : ByteArray := prog_1_method_66_code
def yX0_keep : MethodName := ⟨RX0, "keep", "(I)I"⟩
def dkwX0_keep_2 : List UInt8 := [182, 1, 106, 3, 172]
abbrev dktX0_keep_2 : List UInt8 := dkwX0_keep_2 ++ []
def dkwX0_keep_1 : List UInt8 := [42, 180, 0, 50, 27, 187, 0, 43, 89, 183, 0, 45, 83, 42, 180, 0, 50, 27, 50, 42, 180, 0, 46]
abbrev dktX0_keep_1 : List UInt8 := dkwX0_keep_1 ++ dktX0_keep_2
def dkwX0_keep_0 : List UInt8 := [27, 133, 9, 20, 0, 219, 184, 0, 5, 154, 0, 6, 16, 254, 172, 42, 180, 0, 50, 27, 50, 199, 0, 16]
abbrev dktX0_keep_0 : List UInt8 := dkwX0_keep_0 ++ dktX0_keep_1
theorem dksX0_keep_0 : cX0_keep.data.toList.drop 0 = dktX0_keep_0 := by decide +kernel
theorem dksX0_keep_1 : cX0_keep.data.toList.drop 24 = dktX0_keep_1 := dk_seg dksX0_keep_0 24 rfl rfl
theorem dksX0_keep_2 : cX0_keep.data.toList.drop 47 = dktX0_keep_2 := dk_seg dksX0_keep_1 23 rfl rfl
theorem dX0_keep_0 : decode cX0_keep 0 = .ok (.iload_n 1, 1) := dk_27 (dk_at dksX0_keep_0 0 rfl rfl)
theorem dX0_keep_1 : decode cX0_keep 1 = .ok (.i2l, 1) := dk_133 (dk_at dksX0_keep_0 1 rfl rfl)
theorem dX0_keep_2 : decode cX0_keep 2 = .ok (.lconst 0, 1) := dk_9 (dk_at dksX0_keep_0 2 rfl rfl)
theorem dX0_keep_3 : decode cX0_keep 3 = .ok (.ldc2_w 219, 3) := dk_20 0 219 (dk_at dksX0_keep_0 3 rfl rfl)
theorem dX0_keep_6 : decode cX0_keep 6 = .ok (.invokestatic 5, 3) := dk_184 0 5 (dk_at dksX0_keep_0 6 rfl rfl)
theorem dX0_keep_9 : decode cX0_keep 9 = .ok (.ifCond .ne 6, 3) := dk_154 0 6 (dk_at dksX0_keep_0 9 rfl rfl)
theorem dX0_keep_12 : decode cX0_keep 12 = .ok (.bipush (-2), 2) := dk_16 254 (dk_at dksX0_keep_0 12 rfl rfl)
theorem dX0_keep_14 : decode cX0_keep 14 = .ok (.ireturn, 1) := dk_172 (dk_at dksX0_keep_0 14 rfl rfl)
theorem dX0_keep_15 : decode cX0_keep 15 = .ok (.aload_n 0, 1) := dk_42 (dk_at dksX0_keep_0 15 rfl rfl)
theorem dX0_keep_16 : decode cX0_keep 16 = .ok (.getfield 50, 3) := dk_180 0 50 (dk_at dksX0_keep_0 16 rfl rfl)
theorem dX0_keep_19 : decode cX0_keep 19 = .ok (.iload_n 1, 1) := dk_27 (dk_at dksX0_keep_0 19 rfl rfl)
theorem dX0_keep_20 : decode cX0_keep 20 = .ok (.aaload, 1) := dk_50 (dk_at dksX0_keep_0 20 rfl rfl)
theorem dX0_keep_21 : decode cX0_keep 21 = .ok (.ifnonnull 16, 3) := dk_199 0 16 (dk_at dksX0_keep_0 21 rfl rfl)
theorem dX0_keep_24 : decode cX0_keep 24 = .ok (.aload_n 0, 1) := dk_42 (dk_at dksX0_keep_1 0 rfl rfl)
theorem dX0_keep_25 : decode cX0_keep 25 = .ok (.getfield 50, 3) := dk_180 0 50 (dk_at dksX0_keep_1 1 rfl rfl)
theorem dX0_keep_28 : decode cX0_keep 28 = .ok (.iload_n 1, 1) := dk_27 (dk_at dksX0_keep_1 4 rfl rfl)
theorem dX0_keep_29 : decode cX0_keep 29 = .ok (.new 43, 3) := dk_187 0 43 (dk_at dksX0_keep_1 5 rfl rfl)
theorem dX0_keep_32 : decode cX0_keep 32 = .ok (.dup, 1) := dk_89 (dk_at dksX0_keep_1 8 rfl rfl)
theorem dX0_keep_33 : decode cX0_keep 33 = .ok (.invokespecial 45, 3) := dk_183 0 45 (dk_at dksX0_keep_1 9 rfl rfl)
theorem dX0_keep_36 : decode cX0_keep 36 = .ok (.aastore, 1) := dk_83 (dk_at dksX0_keep_1 12 rfl rfl)
theorem dX0_keep_37 : decode cX0_keep 37 = .ok (.aload_n 0, 1) := dk_42 (dk_at dksX0_keep_1 13 rfl rfl)
theorem dX0_keep_38 : decode cX0_keep 38 = .ok (.getfield 50, 3) := dk_180 0 50 (dk_at dksX0_keep_1 14 rfl rfl)
theorem dX0_keep_41 : decode cX0_keep 41 = .ok (.iload_n 1, 1) := dk_27 (dk_at dksX0_keep_1 17 rfl rfl)
theorem dX0_keep_42 : decode cX0_keep 42 = .ok (.aaload, 1) := dk_50 (dk_at dksX0_keep_1 18 rfl rfl)
theorem dX0_keep_43 : decode cX0_keep 43 = .ok (.aload_n 0, 1) := dk_42 (dk_at dksX0_keep_1 19 rfl rfl)
theorem dX0_keep_44 : decode cX0_keep 44 = .ok (.getfield 46, 3) := dk_180 0 46 (dk_at dksX0_keep_1 20 rfl rfl)
theorem dX0_keep_47 : decode cX0_keep 47 = .ok (.invokevirtual 362, 3) := dk_182 1 106 (dk_at dksX0_keep_2 0 rfl rfl)
theorem dX0_keep_50 : decode cX0_keep 50 = .ok (.iconst 0, 1) := dk_3 (dk_at dksX0_keep_2 3 rfl rfl)
theorem dX0_keep_51 : decode cX0_keep 51 = .ok (.ireturn, 1) := dk_172 (dk_at dksX0_keep_2 4 rfl rfl)
abbrev cX0_back : ByteArray := prog_1_method_67_code
def yX0_back : MethodName := ⟨RX0, "back", "(I)I"⟩
def dkwX0_back_1 : List UInt8 := [16, 250, 172, 42, 180, 0, 46, 42, 180, 0, 50, 27, 50, 182, 1, 106, 3, 172]
abbrev dktX0_back_1 : List UInt8 := dkwX0_back_1 ++ []
def dkwX0_back_0 : List UInt8 := [27, 133, 9, 20, 0, 219, 184, 0, 5, 154, 0, 6, 16, 254, 172, 42, 180, 0, 50, 27, 50, 199, 0, 6]
abbrev dktX0_back_0 : List UInt8 := dkwX0_back_0 ++ dktX0_back_1
theorem dksX0_back_0 : cX0_back.data.toList.drop 0 = dktX0_back_0 := by decide +kernel
theorem dksX0_back_1 : cX0_back.data.toList.drop 24 = dktX0_back_1 := dk_seg dksX0_back_0 24 rfl rfl
theorem dX0_back_0 : decode cX0_back 0 = .ok (.iload_n 1, 1) := dk_27 (dk_at dksX0_back_0 0 rfl rfl)
theorem dX0_back_1 : decode cX0_back 1 = .ok (.i2l, 1) := dk_133 (dk_at dksX0_back_0 1 rfl rfl)
theorem dX0_back_2 : decode cX0_back 2 = .ok (.lconst 0, 1) := dk_9 (dk_at dksX0_back_0 2 rfl rfl)
theorem dX0_back_3 : decode cX0_back 3 = .ok (.ldc2_w 219, 3) := dk_20 0 219 (dk_at dksX0_back_0 3 rfl rfl)
theorem dX0_back_6 : decode cX0_back 6 = .ok (.invokestatic 5, 3) := dk_184 0 5 (dk_at dksX0_back_0 6 rfl rfl)
theorem dX0_back_9 : decode cX0_back 9 = .ok (.ifCond .ne 6, 3) := dk_154 0 6 (dk_at dksX0_back_0 9 rfl rfl)
theorem dX0_back_12 : decode cX0_back 12 = .ok (.bipush (-2), 2) := dk_16 254 (dk_at dksX0_back_0 12 rfl rfl)
theorem dX0_back_14 : decode cX0_back 14 = .ok (.ireturn, 1) := dk_172 (dk_at dksX0_back_0 14 rfl rfl)
theorem dX0_back_15 : decode cX0_back 15 = .ok (.aload_n 0, 1) := dk_42 (dk_at dksX0_back_0 15 rfl rfl)
theorem dX0_back_16 : decode cX0_back 16 = .ok (.getfield 50, 3) := dk_180 0 50 (dk_at dksX0_back_0 16 rfl rfl)
theorem dX0_back_19 : decode cX0_back 19 = .ok (.iload_n 1, 1) := dk_27 (dk_at dksX0_back_0 19 rfl rfl)
theorem dX0_back_20 : decode cX0_back 20 = .ok (.aaload, 1) := dk_50 (dk_at dksX0_back_0 20 rfl rfl)
theorem dX0_back_21 : decode cX0_back 21 = .ok (.ifnonnull 6, 3) := dk_199 0 6 (dk_at dksX0_back_0 21 rfl rfl)
theorem dX0_back_24 : decode cX0_back 24 = .ok (.bipush (-6), 2) := dk_16 250 (dk_at dksX0_back_1 0 rfl rfl)
theorem dX0_back_26 : decode cX0_back 26 = .ok (.ireturn, 1) := dk_172 (dk_at dksX0_back_1 2 rfl rfl)
theorem dX0_back_27 : decode cX0_back 27 = .ok (.aload_n 0, 1) := dk_42 (dk_at dksX0_back_1 3 rfl rfl)
theorem dX0_back_28 : decode cX0_back 28 = .ok (.getfield 46, 3) := dk_180 0 46 (dk_at dksX0_back_1 4 rfl rfl)
theorem dX0_back_31 : decode cX0_back 31 = .ok (.aload_n 0, 1) := dk_42 (dk_at dksX0_back_1 7 rfl rfl)
theorem dX0_back_32 : decode cX0_back 32 = .ok (.getfield 50, 3) := dk_180 0 50 (dk_at dksX0_back_1 8 rfl rfl)
theorem dX0_back_35 : decode cX0_back 35 = .ok (.iload_n 1, 1) := dk_27 (dk_at dksX0_back_1 11 rfl rfl)
theorem dX0_back_36 : decode cX0_back 36 = .ok (.aaload, 1) := dk_50 (dk_at dksX0_back_1 12 rfl rfl)
theorem dX0_back_37 : decode cX0_back 37 = .ok (.invokevirtual 362, 3) := dk_182 1 106 (dk_at dksX0_back_1 13 rfl rfl)
theorem dX0_back_40 : decode cX0_back 40 = .ok (.iconst 0, 1) := dk_3 (dk_at dksX0_back_1 16 rfl rfl)
theorem dX0_back_41 : decode cX0_back 41 = .ok (.ireturn, 1) := dk_172 (dk_at dksX0_back_1 17 rfl rfl)
theorem q84 : (Jvm.Cond.initialized "NonsenseRows") ∈ lw_all := lw_g (lw_at lw_m1 1 rfl) rfl
theorem q123 : (Jvm.Cond.instanceMethod ({ cls := "NonsenseRows", name := "row", desc := "(III)I" } : Jvm.MethodName)) ∈ lw_all := lw_g (lw_at lw_m1 40 rfl) rfl
theorem q124 : (Jvm.Cond.selects "NonsenseRows" ({ cls := "NonsenseRows", name := "row", desc := "(III)I" } : Jvm.MethodName) ({ cls := "NonsenseRows", name := "row", desc := "(III)I" } : Jvm.MethodName)) ∈ lw_all := lw_g (lw_at lw_m1 41 rfl) rfl
theorem q125 : (Jvm.Cond.code ({ cls := "NonsenseRows", name := "row", desc := "(III)I" } : Jvm.MethodName) prog_1_method_3_code (4 : Nat) (Option.some Jvm.ClassFile.FieldType.int)) ∈ lw_all := lw_g (lw_at lw_m1 42 rfl) rfl
theorem q126 : (Jvm.Cond.methodLink "NonsenseRows" (9 : Nat) ({ cls := "NonsenseRows", name := "isSlot", desc := "(I)Z" } : Jvm.MethodName)) ∈ lw_all := lw_g (lw_at lw_m1 43 rfl) rfl
theorem q127 : (Jvm.Cond.static ({ cls := "NonsenseRows", name := "isSlot", desc := "(I)Z" } : Jvm.MethodName)) ∈ lw_all := lw_g (lw_at lw_m1 44 rfl) rfl
theorem q128 : (Jvm.Cond.code ({ cls := "NonsenseRows", name := "isSlot", desc := "(I)Z" } : Jvm.MethodName) prog_1_method_2_code (1 : Nat) (Option.some Jvm.ClassFile.FieldType.boolean)) ∈ lw_all := lw_g (lw_at lw_m1 45 rfl) rfl
theorem q129 : (Jvm.Cond.constantLong "NonsenseRows" (3 : Nat) (3 : Int64)) ∈ lw_all := lw_g (lw_at lw_m1 46 rfl) rfl
theorem q130 : (Jvm.Cond.methodLink "NonsenseRows" (5 : Nat) ({ cls := "NonsenseRows", name := "in", desc := "(JJJ)Z" } : Jvm.MethodName)) ∈ lw_all := lw_g (lw_at lw_m1 47 rfl) rfl
theorem q131 : (Jvm.Cond.static ({ cls := "NonsenseRows", name := "in", desc := "(JJJ)Z" } : Jvm.MethodName)) ∈ lw_all := lw_g (lw_at lw_m1 48 rfl) rfl
theorem q132 : (Jvm.Cond.code ({ cls := "NonsenseRows", name := "in", desc := "(JJJ)Z" } : Jvm.MethodName) prog_1_method_1_code (6 : Nat) (Option.some Jvm.ClassFile.FieldType.boolean)) ∈ lw_all := lw_g (lw_at lw_m1 49 rfl) rfl
theorem q133 : (Jvm.Cond.methodLink "NonsenseRows" (17 : Nat) ({ cls := "NonsenseRows$Slot", name := "begins", desc := "(II)Z" } : Jvm.MethodName)) ∈ lw_all := lw_g (lw_at lw_m1 50 rfl) rfl
theorem q229 : (Jvm.Cond.instanceMethod ({ cls := "NonsenseRows", name := "write", desc := "(IIJ)I" } : Jvm.MethodName)) ∈ lw_all := lw_g (lw_at lw_m1 146 rfl) rfl
theorem q230 : (Jvm.Cond.selects "NonsenseRows" ({ cls := "NonsenseRows", name := "write", desc := "(IIJ)I" } : Jvm.MethodName) ({ cls := "NonsenseRows", name := "write", desc := "(IIJ)I" } : Jvm.MethodName)) ∈ lw_all := lw_g (lw_at lw_m1 147 rfl) rfl
theorem q231 : (Jvm.Cond.code ({ cls := "NonsenseRows", name := "write", desc := "(IIJ)I" } : Jvm.MethodName) prog_1_method_4_code (5 : Nat) (Option.some Jvm.ClassFile.FieldType.int)) ∈ lw_all := lw_g (lw_at lw_m1 148 rfl) rfl
theorem q232 : (Jvm.Cond.methodLink "NonsenseRows" (23 : Nat) ({ cls := "NonsenseRows$Slot", name := "puts", desc := "(IJ)I" } : Jvm.MethodName)) ∈ lw_all := lw_g (lw_at lw_m1 149 rfl) rfl
theorem q308 : (Jvm.Cond.instanceMethod ({ cls := "NonsenseRows", name := "paste", desc := "(IIIII)I" } : Jvm.MethodName)) ∈ lw_all := lw_g (lw_at lw_m1 225 rfl) rfl
theorem q309 : (Jvm.Cond.selects "NonsenseRows" ({ cls := "NonsenseRows", name := "paste", desc := "(IIIII)I" } : Jvm.MethodName) ({ cls := "NonsenseRows", name := "paste", desc := "(IIIII)I" } : Jvm.MethodName)) ∈ lw_all := lw_g (lw_at lw_m1 226 rfl) rfl
theorem q310 : (Jvm.Cond.code ({ cls := "NonsenseRows", name := "paste", desc := "(IIIII)I" } : Jvm.MethodName) prog_1_method_5_code (6 : Nat) (Option.some Jvm.ClassFile.FieldType.int)) ∈ lw_all := lw_g (lw_at lw_m1 227 rfl) rfl
theorem q311 : (Jvm.Cond.methodLink "NonsenseRows" (27 : Nat) ({ cls := "NonsenseRows$Slot", name := "pastes", desc := "(ILNonsenseRows$Slot;II)I" } : Jvm.MethodName)) ∈ lw_all := lw_g (lw_at lw_m1 228 rfl) rfl
theorem q324 : (Jvm.Cond.instantiable "NonsenseRows" (11 : Nat)) ∈ lw_all := lw_g (lw_at lw_m2 1 rfl) rfl
theorem q326 : (Jvm.Cond.instanceMethod ({ cls := "NonsenseRows", name := "<init>", desc := "()V" } : Jvm.MethodName)) ∈ lw_all := lw_g (lw_at lw_m2 3 rfl) rfl
theorem q327 : (Jvm.Cond.code ({ cls := "NonsenseRows", name := "<init>", desc := "()V" } : Jvm.MethodName) prog_1_method_7_code (2 : Nat) (Option.none : Option Jvm.ClassFile.FieldType)) ∈ lw_all := lw_g (lw_at lw_m2 4 rfl) rfl
theorem q328 : (Jvm.Cond.methodLink "NonsenseRows" (37 : Nat) ({ cls := "java/lang/Object", name := "<init>", desc := "()V" } : Jvm.MethodName)) ∈ lw_all := lw_g (lw_at lw_m2 5 rfl) rfl
theorem q329 : (Jvm.Cond.classLink "NonsenseRows" (18 : Nat) "NonsenseRows$Slot") ∈ lw_all := lw_g (lw_at lw_m2 6 rfl) rfl
theorem q331 : (Jvm.Cond.classLink "NonsenseRows" (43 : Nat) "NonsenseRows$State") ∈ lw_all := lw_g (lw_at lw_m2 8 rfl) rfl
theorem q333 : (Jvm.Cond.methodLink "NonsenseRows" (45 : Nat) ({ cls := "NonsenseRows$State", name := "<init>", desc := "()V" } : Jvm.MethodName)) ∈ lw_all := lw_g (lw_at lw_m2 10 rfl) rfl
theorem q352 : (Jvm.Cond.fieldLinkNest "NonsenseRows" (359 : Nat) "NonsenseRows$Text" "leans" "[I" "NonsenseRows") ∈ lw_tbl := lw_at lw_m2 29 rfl
theorem q356 : (Jvm.Cond.fieldLinkNest "NonsenseRows" (280 : Nat) "NonsenseRows$Text" "laws" "[[LNonsenseRows$Sum;" "NonsenseRows") ∈ lw_tbl := lw_at lw_m2 33 rfl
theorem q360 : (Jvm.Cond.fieldLinkNest "NonsenseRows" (195 : Nat) "NonsenseRows$Text" "things" "I" "NonsenseRows") ∈ lw_tbl := lw_at lw_m2 37 rfl
theorem q363 : (Jvm.Cond.fieldLinkNest "NonsenseRows" (356 : Nat) "NonsenseRows$Text" "hold" "I" "NonsenseRows") ∈ lw_tbl := lw_at lw_m2 40 rfl
theorem q365 : (Jvm.Cond.fieldLinkNest "NonsenseRows" (353 : Nat) "NonsenseRows$Text" "lines" "I" "NonsenseRows") ∈ lw_tbl := lw_at lw_m2 42 rfl
theorem q451 : (Jvm.Cond.fieldLinkNest "NonsenseRows" (208 : Nat) "NonsenseRows$Head" "links" "[[[I" "NonsenseRows") ∈ lw_tbl := lw_at lw_m2 128 rfl
theorem q455 : (Jvm.Cond.fieldLinkNest "NonsenseRows" (153 : Nat) "NonsenseRows$Head" "hour" "I" "NonsenseRows") ∈ lw_tbl := lw_at lw_m2 132 rfl
theorem q457 : (Jvm.Cond.fieldLinkNest "NonsenseRows" (241 : Nat) "NonsenseRows$Head" "tired" "I" "NonsenseRows") ∈ lw_tbl := lw_at lw_m2 134 rfl
theorem q478 : (Jvm.Cond.fieldLinkNest "NonsenseRows" (191 : Nat) "NonsenseRows$State" "text" "LNonsenseRows$Text;" "NonsenseRows") ∈ lw_tbl := lw_at lw_m2 155 rfl
theorem q480 : (Jvm.Cond.fieldLinkNest "NonsenseRows" (102 : Nat) "NonsenseRows$State" "rows" "Ljava/util/List;" "NonsenseRows") ∈ lw_tbl := lw_at lw_m2 157 rfl
theorem q482 : (Jvm.Cond.fieldLinkNest "NonsenseRows" (141 : Nat) "NonsenseRows$State" "book" "Ljava/util/List;" "NonsenseRows") ∈ lw_tbl := lw_at lw_m2 159 rfl
theorem q484 : (Jvm.Cond.fieldLinkNest "NonsenseRows" (166 : Nat) "NonsenseRows$State" "used" "[I" "NonsenseRows") ∈ lw_tbl := lw_at lw_m2 161 rfl
theorem q486 : (Jvm.Cond.fieldLinkNest "NonsenseRows" (124 : Nat) "NonsenseRows$State" "head" "LNonsenseRows$Head;" "NonsenseRows") ∈ lw_tbl := lw_at lw_m2 163 rfl
theorem q488 : (Jvm.Cond.fieldLinkNest "NonsenseRows" (147 : Nat) "NonsenseRows$State" "isWhole" "Z" "NonsenseRows") ∈ lw_tbl := lw_at lw_m2 165 rfl
theorem q490 : (Jvm.Cond.fieldLinkNest "NonsenseRows" (277 : Nat) "NonsenseRows$State" "isMade" "Z" "NonsenseRows") ∈ lw_tbl := lw_at lw_m2 167 rfl
theorem q507 : (Jvm.Cond.classLink "NonsenseRows" (54 : Nat) "NonsenseRows$Head") ∈ lw_all := lw_g (lw_at lw_m2 184 rfl) rfl
theorem q508 : (Jvm.Cond.methodLinkNest "NonsenseRows" (56 : Nat) ({ cls := "NonsenseRows$Head", name := "<init>", desc := "()V" } : Jvm.MethodName) "NonsenseRows") ∈ lw_tbl := lw_at lw_m2 185 rfl
theorem q509 : (Jvm.Cond.methodLinkNest "NonsenseRows" (76 : Nat) ({ cls := "NonsenseRows$Slot", name := "<init>", desc := "()V" } : Jvm.MethodName) "NonsenseRows") ∈ lw_tbl := lw_at lw_m2 186 rfl
theorem q514 : (Jvm.Cond.fieldLinkNest "NonsenseRows" (292 : Nat) "NonsenseRows$Slot" "held" "Ljava/lang/Object;" "NonsenseRows") ∈ lw_tbl := lw_at lw_m2 191 rfl
theorem q518 : (Jvm.Cond.fieldLink "NonsenseRows" (13 : Nat) "NonsenseRows" "slots" "[LNonsenseRows$Slot;") ∈ lw_all := lw_g (lw_at lw_m2 195 rfl) rfl
theorem q519 : (Jvm.Cond.fieldLink "NonsenseRows" (46 : Nat) "NonsenseRows" "now" "LNonsenseRows$State;") ∈ lw_all := lw_g (lw_at lw_m2 196 rfl) rfl
theorem q520 : (Jvm.Cond.fieldLink "NonsenseRows" (50 : Nat) "NonsenseRows" "images" "[LNonsenseRows$State;") ∈ lw_all := lw_g (lw_at lw_m2 197 rfl) rfl
theorem q521 : (Jvm.Cond.fieldLink "NonsenseRows" (57 : Nat) "NonsenseRows" "paper" "LNonsenseRows$Head;") ∈ lw_all := lw_g (lw_at lw_m2 198 rfl) rfl
theorem q522 : (Jvm.Cond.fieldLink "NonsenseRows" (61 : Nat) "NonsenseRows" "tape" "[B") ∈ lw_all := lw_g (lw_at lw_m2 199 rfl) rfl
theorem q523 : (Jvm.Cond.fieldLink "NonsenseRows" (77 : Nat) "NonsenseRows" "taped" "I") ∈ lw_all := lw_g (lw_at lw_m2 200 rfl) rfl
theorem q524 : (Jvm.Cond.fieldLink "NonsenseRows" (83 : Nat) "NonsenseRows" "faultKind" "I") ∈ lw_all := lw_g (lw_at lw_m2 201 rfl) rfl
theorem q525 : (Jvm.Cond.fieldLink "NonsenseRows" (65 : Nat) "NonsenseRows" "faultPlace" "I") ∈ lw_all := lw_g (lw_at lw_m2 202 rfl) rfl
theorem q526 : (Jvm.Cond.fieldLink "NonsenseRows" (69 : Nat) "NonsenseRows" "plan" "[I") ∈ lw_all := lw_g (lw_at lw_m2 203 rfl) rfl
theorem q527 : (Jvm.Cond.fieldLink "NonsenseRows" (73 : Nat) "NonsenseRows" "bestPlan" "[I") ∈ lw_all := lw_g (lw_at lw_m2 204 rfl) rfl
theorem q528 : (Jvm.Cond.fieldLink "NonsenseRows" (318 : Nat) "NonsenseRows" "bestLeft" "I") ∈ lw_all := lw_g (lw_at lw_m2 205 rfl) rfl
theorem q529 : (Jvm.Cond.laysFinal "NonsenseRows" "NonsenseRows" "slots" "[LNonsenseRows$Slot;") ∈ lw_all := lw_g (lw_at lw_m2 206 rfl) rfl
theorem q530 : (Jvm.Cond.soleField "NonsenseRows" "slots") ∈ lw_all := lw_g (lw_at lw_m2 207 rfl) rfl
theorem q531 : (Jvm.Cond.laysFinal "NonsenseRows" "NonsenseRows" "now" "LNonsenseRows$State;") ∈ lw_all := lw_g (lw_at lw_m2 208 rfl) rfl
theorem q532 : (Jvm.Cond.soleField "NonsenseRows" "now") ∈ lw_all := lw_g (lw_at lw_m2 209 rfl) rfl
theorem q533 : (Jvm.Cond.laysFinal "NonsenseRows" "NonsenseRows" "images" "[LNonsenseRows$State;") ∈ lw_all := lw_g (lw_at lw_m2 210 rfl) rfl
theorem q534 : (Jvm.Cond.soleField "NonsenseRows" "images") ∈ lw_all := lw_g (lw_at lw_m2 211 rfl) rfl
theorem q535 : (Jvm.Cond.laysFinal "NonsenseRows" "NonsenseRows" "paper" "LNonsenseRows$Head;") ∈ lw_all := lw_g (lw_at lw_m2 212 rfl) rfl
theorem q536 : (Jvm.Cond.soleField "NonsenseRows" "paper") ∈ lw_all := lw_g (lw_at lw_m2 213 rfl) rfl
theorem q537 : (Jvm.Cond.laysFinal "NonsenseRows" "NonsenseRows" "tape" "[B") ∈ lw_all := lw_g (lw_at lw_m2 214 rfl) rfl
theorem q538 : (Jvm.Cond.soleField "NonsenseRows" "tape") ∈ lw_all := lw_g (lw_at lw_m2 215 rfl) rfl
theorem q539 : (Jvm.Cond.lays "NonsenseRows" "NonsenseRows" "taped" "I") ∈ lw_all := lw_g (lw_at lw_m2 216 rfl) rfl
theorem q540 : (Jvm.Cond.soleField "NonsenseRows" "taped") ∈ lw_all := lw_g (lw_at lw_m2 217 rfl) rfl
theorem q541 : (Jvm.Cond.lays "NonsenseRows" "NonsenseRows" "faultKind" "I") ∈ lw_all := lw_g (lw_at lw_m2 218 rfl) rfl
theorem q542 : (Jvm.Cond.soleField "NonsenseRows" "faultKind") ∈ lw_all := lw_g (lw_at lw_m2 219 rfl) rfl
theorem q543 : (Jvm.Cond.lays "NonsenseRows" "NonsenseRows" "faultPlace" "I") ∈ lw_all := lw_g (lw_at lw_m2 220 rfl) rfl
theorem q544 : (Jvm.Cond.soleField "NonsenseRows" "faultPlace") ∈ lw_all := lw_g (lw_at lw_m2 221 rfl) rfl
theorem q545 : (Jvm.Cond.laysFinal "NonsenseRows" "NonsenseRows" "plan" "[I") ∈ lw_all := lw_g (lw_at lw_m2 222 rfl) rfl
theorem q546 : (Jvm.Cond.soleField "NonsenseRows" "plan") ∈ lw_all := lw_g (lw_at lw_m2 223 rfl) rfl
theorem q547 : (Jvm.Cond.laysFinal "NonsenseRows" "NonsenseRows" "bestPlan" "[I") ∈ lw_all := lw_g (lw_at lw_m2 224 rfl) rfl
theorem q548 : (Jvm.Cond.soleField "NonsenseRows" "bestPlan") ∈ lw_all := lw_g (lw_at lw_m2 225 rfl) rfl
theorem q549 : (Jvm.Cond.lays "NonsenseRows" "NonsenseRows" "bestLeft" "I") ∈ lw_all := lw_g (lw_at lw_m2 226 rfl) rfl
theorem q550 : (Jvm.Cond.soleField "NonsenseRows" "bestLeft") ∈ lw_all := lw_g (lw_at lw_m2 227 rfl) rfl
theorem q551 : (Jvm.Cond.superclass "NonsenseRows" "java/lang/Object") ∈ lw_all := lw_g (lw_at lw_m2 228 rfl) rfl
theorem q553 : (Jvm.Cond.instanceMethod ({ cls := "NonsenseRows", name := "feed", desc := "(IIIII)I" } : Jvm.MethodName)) ∈ lw_all := lw_g (lw_at lw_m2 230 rfl) rfl
theorem q554 : (Jvm.Cond.selects "NonsenseRows" ({ cls := "NonsenseRows", name := "feed", desc := "(IIIII)I" } : Jvm.MethodName) ({ cls := "NonsenseRows", name := "feed", desc := "(IIIII)I" } : Jvm.MethodName)) ∈ lw_all := lw_g (lw_at lw_m2 231 rfl) rfl
theorem q555 : (Jvm.Cond.code ({ cls := "NonsenseRows", name := "feed", desc := "(IIIII)I" } : Jvm.MethodName) prog_1_method_8_code (6 : Nat) (Option.some Jvm.ClassFile.FieldType.int)) ∈ lw_all := lw_g (lw_at lw_m2 232 rfl) rfl
theorem q556 : (Jvm.Cond.methodLink "NonsenseRows" (80 : Nat) ({ cls := "NonsenseRows", name := "puts", desc := "(I)V" } : Jvm.MethodName)) ∈ lw_all := lw_g (lw_at lw_m2 233 rfl) rfl
theorem q557 : (Jvm.Cond.privateMethod ({ cls := "NonsenseRows", name := "puts", desc := "(I)V" } : Jvm.MethodName)) ∈ lw_tbl := lw_at lw_m2 234 rfl
theorem q558 : (Jvm.Cond.instanceMethod ({ cls := "NonsenseRows", name := "puts", desc := "(I)V" } : Jvm.MethodName)) ∈ lw_all := lw_g (lw_at lw_m2 235 rfl) rfl
theorem q559 : (Jvm.Cond.code ({ cls := "NonsenseRows", name := "puts", desc := "(I)V" } : Jvm.MethodName) prog_1_method_9_code (3 : Nat) (Option.none : Option Jvm.ClassFile.FieldType)) ∈ lw_all := lw_g (lw_at lw_m2 236 rfl) rfl
theorem q561 : (Jvm.Cond.instanceMethod ({ cls := "NonsenseRows", name := "end", desc := "(I)I" } : Jvm.MethodName)) ∈ lw_all := lw_g (lw_at lw_m2 238 rfl) rfl
theorem q562 : (Jvm.Cond.selects "NonsenseRows" ({ cls := "NonsenseRows", name := "end", desc := "(I)I" } : Jvm.MethodName) ({ cls := "NonsenseRows", name := "end", desc := "(I)I" } : Jvm.MethodName)) ∈ lw_all := lw_g (lw_at lw_m2 239 rfl) rfl
theorem q563 : (Jvm.Cond.code ({ cls := "NonsenseRows", name := "end", desc := "(I)I" } : Jvm.MethodName) prog_1_method_10_code (2 : Nat) (Option.some Jvm.ClassFile.FieldType.int)) ∈ lw_all := lw_g (lw_at lw_m3 0 rfl) rfl
theorem q565 : (Jvm.Cond.instanceMethod ({ cls := "NonsenseRows", name := "text", desc := "()I" } : Jvm.MethodName)) ∈ lw_all := lw_g (lw_at lw_m3 2 rfl) rfl
theorem q566 : (Jvm.Cond.selects "NonsenseRows" ({ cls := "NonsenseRows", name := "text", desc := "()I" } : Jvm.MethodName) ({ cls := "NonsenseRows", name := "text", desc := "()I" } : Jvm.MethodName)) ∈ lw_all := lw_g (lw_at lw_m3 3 rfl) rfl
theorem q567 : (Jvm.Cond.codeWith ({ cls := "NonsenseRows", name := "text", desc := "()I" } : Jvm.MethodName) prog_1_method_11_code (5 : Nat) (Option.some Jvm.ClassFile.FieldType.int) [((0 : Nat), (56 : Nat), (63 : Nat), (109 : Nat)), ((0 : Nat), (56 : Nat), (90 : Nat), (0 : Nat)), ((63 : Nat), (83 : Nat), (90 : Nat), (0 : Nat)), ((90 : Nat), (92 : Nat), (90 : Nat), (0 : Nat))]) ∈ lw_all := lw_g (lw_at lw_m3 4 rfl) rfl
theorem q568 : (Jvm.Cond.classLink "NonsenseRows" (109 : Nat) "NonsenseRows$Wrong") ∈ lw_all := lw_g (lw_at lw_m3 5 rfl) rfl
theorem q569 : (Jvm.Cond.classLink "NonsenseRows" (86 : Nat) "NonsenseRows$Reader") ∈ lw_all := lw_g (lw_at lw_m3 6 rfl) rfl
theorem q571 : (Jvm.Cond.methodLink "NonsenseRows" (88 : Nat) ({ cls := "NonsenseRows$Reader", name := "<init>", desc := "([BI)V" } : Jvm.MethodName)) ∈ lw_all := lw_g (lw_at lw_m3 8 rfl) rfl
theorem q600 : (Jvm.Cond.fieldLinkNest "NonsenseRows" (95 : Nat) "NonsenseRows$Reader" "rows" "Ljava/util/List;" "NonsenseRows") ∈ lw_tbl := lw_at lw_m3 37 rfl
theorem q631 : (Jvm.Cond.methodLink "NonsenseRows" (91 : Nat) ({ cls := "NonsenseRows$Reader", name := "whole", desc := "()LNonsenseRows$Text;" } : Jvm.MethodName)) ∈ lw_all := lw_g (lw_at lw_m3 68 rfl) rfl
theorem q741 : (Jvm.Cond.fieldLinkNest "NonsenseRows" (111 : Nat) "NonsenseRows$Wrong" "kind" "I" "NonsenseRows") ∈ lw_tbl := lw_at lw_m3 178 rfl
theorem q743 : (Jvm.Cond.fieldLinkNest "NonsenseRows" (114 : Nat) "NonsenseRows$Wrong" "place" "I" "NonsenseRows") ∈ lw_tbl := lw_at lw_m3 180 rfl
theorem q853 : (Jvm.Cond.static ({ cls := "NonsenseRows", name := "shortened", desc := "([II)[I" } : Jvm.MethodName)) ∈ lw_all := lw_g (lw_at lw_m4 50 rfl) rfl
theorem q854 : (Jvm.Cond.code ({ cls := "NonsenseRows", name := "shortened", desc := "([II)[I" } : Jvm.MethodName) prog_1_method_6_code (3 : Nat) (Option.some (Jvm.ClassFile.FieldType.array Jvm.ClassFile.FieldType.int))) ∈ lw_all := lw_g (lw_at lw_m4 51 rfl) rfl
theorem q855 : (Jvm.Cond.methodLink "NonsenseRows" (31 : Nat) ({ cls := "java/lang/System", name := "arraycopy", desc := "(Ljava/lang/Object;ILjava/lang/Object;II)V" } : Jvm.MethodName)) ∈ lw_all := lw_g (lw_at lw_m4 52 rfl) rfl
theorem q895 : (Jvm.Cond.selects "NonsenseRows" ({ cls := "java/lang/Object", name := "getClass", desc := "()Ljava/lang/Class;" } : Jvm.MethodName) ({ cls := "java/lang/Object", name := "getClass", desc := "()Ljava/lang/Class;" } : Jvm.MethodName)) ∈ lw_all := lw_g (lw_at lw_m4 92 rfl) rfl
theorem q934 : (Jvm.Cond.methodLink "NonsenseRows" (99 : Nat) ({ cls := "NonsenseRows$State", name := "begins", desc := "(LNonsenseRows$Text;Ljava/util/List;)V" } : Jvm.MethodName)) ∈ lw_all := lw_g (lw_at lw_m4 131 rfl) rfl
theorem q973 : (Jvm.Cond.interfaceEntry "NonsenseRows" (103 : Nat)) ∈ lw_tbl := lw_at lw_m4 170 rfl
theorem q974 : (Jvm.Cond.methodLink "NonsenseRows" (103 : Nat) ({ cls := "java/util/List", name := "size", desc := "()I" } : Jvm.MethodName)) ∈ lw_all := lw_g (lw_at lw_m4 171 rfl) rfl
theorem q976 : (Jvm.Cond.instanceMethod ({ cls := "NonsenseRows", name := "fault", desc := "(I)I" } : Jvm.MethodName)) ∈ lw_all := lw_g (lw_at lw_m4 173 rfl) rfl
theorem q977 : (Jvm.Cond.selects "NonsenseRows" ({ cls := "NonsenseRows", name := "fault", desc := "(I)I" } : Jvm.MethodName) ({ cls := "NonsenseRows", name := "fault", desc := "(I)I" } : Jvm.MethodName)) ∈ lw_all := lw_g (lw_at lw_m4 174 rfl) rfl
theorem q978 : (Jvm.Cond.code ({ cls := "NonsenseRows", name := "fault", desc := "(I)I" } : Jvm.MethodName) prog_1_method_12_code (2 : Nat) (Option.some Jvm.ClassFile.FieldType.int)) ∈ lw_all := lw_g (lw_at lw_m4 175 rfl) rfl
theorem q980 : (Jvm.Cond.instanceMethod ({ cls := "NonsenseRows", name := "read", desc := "(II)I" } : Jvm.MethodName)) ∈ lw_all := lw_g (lw_at lw_m4 177 rfl) rfl
theorem q981 : (Jvm.Cond.selects "NonsenseRows" ({ cls := "NonsenseRows", name := "read", desc := "(II)I" } : Jvm.MethodName) ({ cls := "NonsenseRows", name := "read", desc := "(II)I" } : Jvm.MethodName)) ∈ lw_all := lw_g (lw_at lw_m4 178 rfl) rfl
theorem q982 : (Jvm.Cond.code ({ cls := "NonsenseRows", name := "read", desc := "(II)I" } : Jvm.MethodName) prog_1_method_19_code (5 : Nat) (Option.some Jvm.ClassFile.FieldType.int)) ∈ lw_all := lw_g (lw_at lw_m4 179 rfl) rfl
theorem q983 : (Jvm.Cond.methodLink "NonsenseRows" (169 : Nat) ({ cls := "NonsenseRows", name := "isRow", desc := "(I)Z" } : Jvm.MethodName)) ∈ lw_all := lw_g (lw_at lw_m4 180 rfl) rfl
theorem q984 : (Jvm.Cond.privateMethod ({ cls := "NonsenseRows", name := "isRow", desc := "(I)Z" } : Jvm.MethodName)) ∈ lw_tbl := lw_at lw_m4 181 rfl
theorem q985 : (Jvm.Cond.instanceMethod ({ cls := "NonsenseRows", name := "isRow", desc := "(I)Z" } : Jvm.MethodName)) ∈ lw_all := lw_g (lw_at lw_m4 182 rfl) rfl
theorem q986 : (Jvm.Cond.code ({ cls := "NonsenseRows", name := "isRow", desc := "(I)Z" } : Jvm.MethodName) prog_1_method_13_code (2 : Nat) (Option.some Jvm.ClassFile.FieldType.boolean)) ∈ lw_all := lw_g (lw_at lw_m4 183 rfl) rfl
theorem q987 : (Jvm.Cond.constantLong "NonsenseRows" (172 : Nat) (50 : Int64)) ∈ lw_all := lw_g (lw_at lw_m4 184 rfl) rfl
theorem q988 : (Jvm.Cond.methodLink "NonsenseRows" (156 : Nat) ({ cls := "NonsenseRows", name := "slipMany", desc := "(I)I" } : Jvm.MethodName)) ∈ lw_all := lw_g (lw_at lw_m4 185 rfl) rfl
theorem q989 : (Jvm.Cond.privateMethod ({ cls := "NonsenseRows", name := "slipMany", desc := "(I)I" } : Jvm.MethodName)) ∈ lw_tbl := lw_at lw_m4 186 rfl
theorem q990 : (Jvm.Cond.instanceMethod ({ cls := "NonsenseRows", name := "slipMany", desc := "(I)I" } : Jvm.MethodName)) ∈ lw_all := lw_g (lw_at lw_m4 187 rfl) rfl
theorem q991 : (Jvm.Cond.code ({ cls := "NonsenseRows", name := "slipMany", desc := "(I)I" } : Jvm.MethodName) prog_1_method_17_code (2 : Nat) (Option.some Jvm.ClassFile.FieldType.int)) ∈ lw_all := lw_g (lw_at lw_m4 188 rfl) rfl
theorem q992 : (Jvm.Cond.methodLink "NonsenseRows" (127 : Nat) ({ cls := "NonsenseRows", name := "rowAt", desc := "(I)[I" } : Jvm.MethodName)) ∈ lw_all := lw_g (lw_at lw_m4 189 rfl) rfl
theorem q993 : (Jvm.Cond.privateMethod ({ cls := "NonsenseRows", name := "rowAt", desc := "(I)[I" } : Jvm.MethodName)) ∈ lw_tbl := lw_at lw_m4 190 rfl
theorem q994 : (Jvm.Cond.instanceMethod ({ cls := "NonsenseRows", name := "rowAt", desc := "(I)[I" } : Jvm.MethodName)) ∈ lw_all := lw_g (lw_at lw_m4 191 rfl) rfl
theorem q995 : (Jvm.Cond.code ({ cls := "NonsenseRows", name := "rowAt", desc := "(I)[I" } : Jvm.MethodName) prog_1_method_16_code (2 : Nat) (Option.some (Jvm.ClassFile.FieldType.array Jvm.ClassFile.FieldType.int))) ∈ lw_all := lw_g (lw_at lw_m4 192 rfl) rfl
theorem q996 : (Jvm.Cond.interfaceEntry "NonsenseRows" (119 : Nat)) ∈ lw_tbl := lw_at lw_m4 193 rfl
theorem q997 : (Jvm.Cond.methodLink "NonsenseRows" (119 : Nat) ({ cls := "java/util/List", name := "get", desc := "(I)Ljava/lang/Object;" } : Jvm.MethodName)) ∈ lw_all := lw_g (lw_at lw_m4 194 rfl) rfl
theorem q998 : (Jvm.Cond.classLink "NonsenseRows" (123 : Nat) "[I") ∈ lw_all := lw_g (lw_at lw_m4 195 rfl) rfl
theorem q999 : (Jvm.Cond.methodLink "NonsenseRows" (131 : Nat) ({ cls := "NonsenseRows$Head", name := "slips", desc := "([II)I" } : Jvm.MethodName)) ∈ lw_all := lw_g (lw_at lw_m4 196 rfl) rfl
theorem q1007 : (Jvm.Cond.methodLink "NonsenseRows" (135 : Nat) ({ cls := "java/lang/Integer", name := "bitCount", desc := "(I)I" } : Jvm.MethodName)) ∈ lw_all := lw_g (lw_at lw_m4 204 rfl) rfl
theorem q1013 : (Jvm.Cond.methodLink "NonsenseRows" (174 : Nat) ({ cls := "NonsenseRows$Head", name := "reads", desc := "([I)V" } : Jvm.MethodName)) ∈ lw_all := lw_g (lw_at lw_m4 210 rfl) rfl
theorem q1077 : (Jvm.Cond.methodLink "NonsenseRows" (178 : Nat) ({ cls := "NonsenseRows", name := "notes", desc := "(IIIZZ)V" } : Jvm.MethodName)) ∈ lw_all := lw_g (lw_at lw_m5 34 rfl) rfl
theorem q1078 : (Jvm.Cond.privateMethod ({ cls := "NonsenseRows", name := "notes", desc := "(IIIZZ)V" } : Jvm.MethodName)) ∈ lw_tbl := lw_at lw_m5 35 rfl
theorem q1079 : (Jvm.Cond.instanceMethod ({ cls := "NonsenseRows", name := "notes", desc := "(IIIZZ)V" } : Jvm.MethodName)) ∈ lw_all := lw_g (lw_at lw_m5 36 rfl) rfl
theorem q1080 : (Jvm.Cond.code ({ cls := "NonsenseRows", name := "notes", desc := "(IIIZZ)V" } : Jvm.MethodName) prog_1_method_18_code (6 : Nat) (Option.none : Option Jvm.ClassFile.FieldType)) ∈ lw_all := lw_g (lw_at lw_m5 37 rfl) rfl
theorem q1081 : (Jvm.Cond.interfaceEntry "NonsenseRows" (144 : Nat)) ∈ lw_tbl := lw_at lw_m5 38 rfl
theorem q1082 : (Jvm.Cond.methodLink "NonsenseRows" (144 : Nat) ({ cls := "java/util/List", name := "remove", desc := "(I)Ljava/lang/Object;" } : Jvm.MethodName)) ∈ lw_all := lw_g (lw_at lw_m5 39 rfl) rfl
theorem q1095 : (Jvm.Cond.classLink "NonsenseRows" (151 : Nat) "NonsenseRows$Sitting") ∈ lw_all := lw_g (lw_at lw_m5 52 rfl) rfl
theorem q1097 : (Jvm.Cond.methodLink "NonsenseRows" (159 : Nat) ({ cls := "NonsenseRows$Sitting", name := "<init>", desc := "(IIIIIZZ)V" } : Jvm.MethodName)) ∈ lw_all := lw_g (lw_at lw_m5 54 rfl) rfl
theorem q1102 : (Jvm.Cond.fieldLinkNest "NonsenseRows" (268 : Nat) "NonsenseRows$Sitting" "row" "I" "NonsenseRows") ∈ lw_tbl := lw_at lw_m5 59 rfl
theorem q1104 : (Jvm.Cond.fieldLinkNest "NonsenseRows" (274 : Nat) "NonsenseRows$Sitting" "readings" "I" "NonsenseRows") ∈ lw_tbl := lw_at lw_m5 61 rfl
theorem q1106 : (Jvm.Cond.fieldLinkNest "NonsenseRows" (264 : Nat) "NonsenseRows$Sitting" "hour" "I" "NonsenseRows") ∈ lw_tbl := lw_at lw_m5 63 rfl
theorem q1108 : (Jvm.Cond.fieldLinkNest "NonsenseRows" (342 : Nat) "NonsenseRows$Sitting" "ahead" "I" "NonsenseRows") ∈ lw_tbl := lw_at lw_m5 65 rfl
theorem q1110 : (Jvm.Cond.fieldLinkNest "NonsenseRows" (345 : Nat) "NonsenseRows$Sitting" "behind" "I" "NonsenseRows") ∈ lw_tbl := lw_at lw_m5 67 rfl
theorem q1112 : (Jvm.Cond.fieldLinkNest "NonsenseRows" (265 : Nat) "NonsenseRows$Sitting" "isLearnt" "Z" "NonsenseRows") ∈ lw_tbl := lw_at lw_m5 69 rfl
theorem q1114 : (Jvm.Cond.fieldLinkNest "NonsenseRows" (271 : Nat) "NonsenseRows$Sitting" "isEnough" "Z" "NonsenseRows") ∈ lw_tbl := lw_at lw_m5 71 rfl
theorem q1130 : (Jvm.Cond.interfaceEntry "NonsenseRows" (162 : Nat)) ∈ lw_tbl := lw_at lw_m5 87 rfl
theorem q1131 : (Jvm.Cond.methodLink "NonsenseRows" (162 : Nat) ({ cls := "java/util/List", name := "add", desc := "(Ljava/lang/Object;)Z" } : Jvm.MethodName)) ∈ lw_all := lw_g (lw_at lw_m5 88 rfl) rfl
theorem q1133 : (Jvm.Cond.instanceMethod ({ cls := "NonsenseRows", name := "learn", desc := "(I)I" } : Jvm.MethodName)) ∈ lw_all := lw_g (lw_at lw_m5 90 rfl) rfl
theorem q1134 : (Jvm.Cond.selects "NonsenseRows" ({ cls := "NonsenseRows", name := "learn", desc := "(I)I" } : Jvm.MethodName) ({ cls := "NonsenseRows", name := "learn", desc := "(I)I" } : Jvm.MethodName)) ∈ lw_all := lw_g (lw_at lw_m5 91 rfl) rfl
theorem q1135 : (Jvm.Cond.code ({ cls := "NonsenseRows", name := "learn", desc := "(I)I" } : Jvm.MethodName) prog_1_method_20_code (4 : Nat) (Option.some Jvm.ClassFile.FieldType.int)) ∈ lw_all := lw_g (lw_at lw_m5 92 rfl) rfl
theorem q1136 : (Jvm.Cond.methodLink "NonsenseRows" (182 : Nat) ({ cls := "NonsenseRows$Head", name := "learns", desc := "([II)I" } : Jvm.MethodName)) ∈ lw_all := lw_g (lw_at lw_m5 93 rfl) rfl
theorem q1143 : (Jvm.Cond.instanceMethod ({ cls := "NonsenseRows", name := "waits", desc := "(I)I" } : Jvm.MethodName)) ∈ lw_all := lw_g (lw_at lw_m5 100 rfl) rfl
theorem q1144 : (Jvm.Cond.selects "NonsenseRows" ({ cls := "NonsenseRows", name := "waits", desc := "(I)I" } : Jvm.MethodName) ({ cls := "NonsenseRows", name := "waits", desc := "(I)I" } : Jvm.MethodName)) ∈ lw_all := lw_g (lw_at lw_m5 101 rfl) rfl
theorem q1145 : (Jvm.Cond.code ({ cls := "NonsenseRows", name := "waits", desc := "(I)I" } : Jvm.MethodName) prog_1_method_21_code (2 : Nat) (Option.some Jvm.ClassFile.FieldType.int)) ∈ lw_all := lw_g (lw_at lw_m5 102 rfl) rfl
theorem q1146 : (Jvm.Cond.methodLink "NonsenseRows" (185 : Nat) ({ cls := "NonsenseRows", name := "areHours", desc := "(I)Z" } : Jvm.MethodName)) ∈ lw_all := lw_g (lw_at lw_m5 103 rfl) rfl
theorem q1147 : (Jvm.Cond.static ({ cls := "NonsenseRows", name := "areHours", desc := "(I)Z" } : Jvm.MethodName)) ∈ lw_all := lw_g (lw_at lw_m5 104 rfl) rfl
theorem q1148 : (Jvm.Cond.code ({ cls := "NonsenseRows", name := "areHours", desc := "(I)Z" } : Jvm.MethodName) prog_1_method_15_code (1 : Nat) (Option.some Jvm.ClassFile.FieldType.boolean)) ∈ lw_all := lw_g (lw_at lw_m5 105 rfl) rfl
theorem q1149 : (Jvm.Cond.constantLong "NonsenseRows" (117 : Nat) (200 : Int64)) ∈ lw_all := lw_g (lw_at lw_m5 106 rfl) rfl
theorem q1150 : (Jvm.Cond.methodLink "NonsenseRows" (188 : Nat) ({ cls := "NonsenseRows$Head", name := "waits", desc := "(I)V" } : Jvm.MethodName)) ∈ lw_all := lw_g (lw_at lw_m5 107 rfl) rfl
theorem q1155 : (Jvm.Cond.instanceMethod ({ cls := "NonsenseRows", name := "strength", desc := "(III)I" } : Jvm.MethodName)) ∈ lw_all := lw_g (lw_at lw_m5 112 rfl) rfl
theorem q1156 : (Jvm.Cond.selects "NonsenseRows" ({ cls := "NonsenseRows", name := "strength", desc := "(III)I" } : Jvm.MethodName) ({ cls := "NonsenseRows", name := "strength", desc := "(III)I" } : Jvm.MethodName)) ∈ lw_all := lw_g (lw_at lw_m5 113 rfl) rfl
theorem q1157 : (Jvm.Cond.code ({ cls := "NonsenseRows", name := "strength", desc := "(III)I" } : Jvm.MethodName) prog_1_method_23_code (4 : Nat) (Option.some Jvm.ClassFile.FieldType.int)) ∈ lw_all := lw_g (lw_at lw_m5 114 rfl) rfl
theorem q1158 : (Jvm.Cond.methodLink "NonsenseRows" (200 : Nat) ({ cls := "NonsenseRows", name := "isSort", desc := "(I)Z" } : Jvm.MethodName)) ∈ lw_all := lw_g (lw_at lw_m5 115 rfl) rfl
theorem q1159 : (Jvm.Cond.static ({ cls := "NonsenseRows", name := "isSort", desc := "(I)Z" } : Jvm.MethodName)) ∈ lw_all := lw_g (lw_at lw_m5 116 rfl) rfl
theorem q1160 : (Jvm.Cond.code ({ cls := "NonsenseRows", name := "isSort", desc := "(I)Z" } : Jvm.MethodName) prog_1_method_14_code (1 : Nat) (Option.some Jvm.ClassFile.FieldType.boolean)) ∈ lw_all := lw_g (lw_at lw_m5 117 rfl) rfl
theorem q1161 : (Jvm.Cond.methodLink "NonsenseRows" (203 : Nat) ({ cls := "NonsenseRows", name := "isThing", desc := "(I)Z" } : Jvm.MethodName)) ∈ lw_all := lw_g (lw_at lw_m5 118 rfl) rfl
theorem q1162 : (Jvm.Cond.privateMethod ({ cls := "NonsenseRows", name := "isThing", desc := "(I)Z" } : Jvm.MethodName)) ∈ lw_tbl := lw_at lw_m5 119 rfl
theorem q1163 : (Jvm.Cond.instanceMethod ({ cls := "NonsenseRows", name := "isThing", desc := "(I)Z" } : Jvm.MethodName)) ∈ lw_all := lw_g (lw_at lw_m5 120 rfl) rfl
theorem q1164 : (Jvm.Cond.code ({ cls := "NonsenseRows", name := "isThing", desc := "(I)Z" } : Jvm.MethodName) prog_1_method_22_code (2 : Nat) (Option.some Jvm.ClassFile.FieldType.boolean)) ∈ lw_all := lw_g (lw_at lw_m5 121 rfl) rfl
theorem q1165 : (Jvm.Cond.constantLong "NonsenseRows" (206 : Nat) (11 : Int64)) ∈ lw_all := lw_g (lw_at lw_m5 122 rfl) rfl
theorem q1167 : (Jvm.Cond.instanceMethod ({ cls := "NonsenseRows", name := "links", desc := "(I)I" } : Jvm.MethodName)) ∈ lw_all := lw_g (lw_at lw_m5 124 rfl) rfl
theorem q1168 : (Jvm.Cond.selects "NonsenseRows" ({ cls := "NonsenseRows", name := "links", desc := "(I)I" } : Jvm.MethodName) ({ cls := "NonsenseRows", name := "links", desc := "(I)I" } : Jvm.MethodName)) ∈ lw_all := lw_g (lw_at lw_m5 125 rfl) rfl
theorem q1169 : (Jvm.Cond.code ({ cls := "NonsenseRows", name := "links", desc := "(I)I" } : Jvm.MethodName) prog_1_method_24_code (2 : Nat) (Option.some Jvm.ClassFile.FieldType.int)) ∈ lw_all := lw_g (lw_at lw_m5 126 rfl) rfl
theorem q1170 : (Jvm.Cond.methodLink "NonsenseRows" (212 : Nat) ({ cls := "NonsenseRows$Head", name := "linkMany", desc := "(I)I" } : Jvm.MethodName)) ∈ lw_all := lw_g (lw_at lw_m5 127 rfl) rfl
theorem q1175 : (Jvm.Cond.instanceMethod ({ cls := "NonsenseRows", name := "support", desc := "(II)I" } : Jvm.MethodName)) ∈ lw_all := lw_g (lw_at lw_m5 132 rfl) rfl
theorem q1176 : (Jvm.Cond.selects "NonsenseRows" ({ cls := "NonsenseRows", name := "support", desc := "(II)I" } : Jvm.MethodName) ({ cls := "NonsenseRows", name := "support", desc := "(II)I" } : Jvm.MethodName)) ∈ lw_all := lw_g (lw_at lw_m5 133 rfl) rfl
theorem q1177 : (Jvm.Cond.code ({ cls := "NonsenseRows", name := "support", desc := "(II)I" } : Jvm.MethodName) prog_1_method_25_code (3 : Nat) (Option.some Jvm.ClassFile.FieldType.int)) ∈ lw_all := lw_g (lw_at lw_m5 134 rfl) rfl
theorem q1178 : (Jvm.Cond.methodLink "NonsenseRows" (215 : Nat) ({ cls := "NonsenseRows$Head", name := "support", desc := "([III)I" } : Jvm.MethodName)) ∈ lw_all := lw_g (lw_at lw_m5 135 rfl) rfl
theorem q1180 : (Jvm.Cond.instanceMethod ({ cls := "NonsenseRows", name := "slips", desc := "(I)I" } : Jvm.MethodName)) ∈ lw_all := lw_g (lw_at lw_m5 137 rfl) rfl
theorem q1181 : (Jvm.Cond.selects "NonsenseRows" ({ cls := "NonsenseRows", name := "slips", desc := "(I)I" } : Jvm.MethodName) ({ cls := "NonsenseRows", name := "slips", desc := "(I)I" } : Jvm.MethodName)) ∈ lw_all := lw_g (lw_at lw_m5 138 rfl) rfl
theorem q1182 : (Jvm.Cond.code ({ cls := "NonsenseRows", name := "slips", desc := "(I)I" } : Jvm.MethodName) prog_1_method_26_code (2 : Nat) (Option.some Jvm.ClassFile.FieldType.int)) ∈ lw_all := lw_g (lw_at lw_m5 139 rfl) rfl
theorem q1184 : (Jvm.Cond.instanceMethod ({ cls := "NonsenseRows", name := "law", desc := "(IIII)J" } : Jvm.MethodName)) ∈ lw_all := lw_g (lw_at lw_m5 141 rfl) rfl
theorem q1185 : (Jvm.Cond.selects "NonsenseRows" ({ cls := "NonsenseRows", name := "law", desc := "(IIII)J" } : Jvm.MethodName) ({ cls := "NonsenseRows", name := "law", desc := "(IIII)J" } : Jvm.MethodName)) ∈ lw_all := lw_g (lw_at lw_m5 142 rfl) rfl
theorem q1186 : (Jvm.Cond.code ({ cls := "NonsenseRows", name := "law", desc := "(IIII)J" } : Jvm.MethodName) prog_1_method_27_code (5 : Nat) (Option.some Jvm.ClassFile.FieldType.long)) ∈ lw_all := lw_g (lw_at lw_m5 143 rfl) rfl
theorem q1187 : (Jvm.Cond.constantLong "NonsenseRows" (219 : Nat) (2 : Int64)) ∈ lw_all := lw_g (lw_at lw_m5 144 rfl) rfl
theorem q1188 : (Jvm.Cond.constantLong "NonsenseRows" (221 : Nat) (1000 : Int64)) ∈ lw_all := lw_g (lw_at lw_m5 145 rfl) rfl
theorem q1189 : (Jvm.Cond.constantLong "NonsenseRows" (223 : Nat) (-2000000000 : Int64)) ∈ lw_all := lw_g (lw_at lw_m5 146 rfl) rfl
theorem q1190 : (Jvm.Cond.methodLink "NonsenseRows" (225 : Nat) ({ cls := "NonsenseRows$Head", name := "law", desc := "(IIII)J" } : Jvm.MethodName)) ∈ lw_all := lw_g (lw_at lw_m5 147 rfl) rfl
theorem q1192 : (Jvm.Cond.instanceMethod ({ cls := "NonsenseRows", name := "forget", desc := "()I" } : Jvm.MethodName)) ∈ lw_all := lw_g (lw_at lw_m5 149 rfl) rfl
theorem q1193 : (Jvm.Cond.selects "NonsenseRows" ({ cls := "NonsenseRows", name := "forget", desc := "()I" } : Jvm.MethodName) ({ cls := "NonsenseRows", name := "forget", desc := "()I" } : Jvm.MethodName)) ∈ lw_all := lw_g (lw_at lw_m5 150 rfl) rfl
theorem q1194 : (Jvm.Cond.code ({ cls := "NonsenseRows", name := "forget", desc := "()I" } : Jvm.MethodName) prog_1_method_28_code (3 : Nat) (Option.some Jvm.ClassFile.FieldType.int)) ∈ lw_all := lw_g (lw_at lw_m5 151 rfl) rfl
theorem q1195 : (Jvm.Cond.methodLink "NonsenseRows" (229 : Nat) ({ cls := "NonsenseRows$State", name := "empties", desc := "()V" } : Jvm.MethodName)) ∈ lw_all := lw_g (lw_at lw_m5 152 rfl) rfl
theorem q1197 : (Jvm.Cond.instanceMethod ({ cls := "NonsenseRows", name := "needs", desc := "(I)I" } : Jvm.MethodName)) ∈ lw_all := lw_g (lw_at lw_m5 154 rfl) rfl
theorem q1198 : (Jvm.Cond.selects "NonsenseRows" ({ cls := "NonsenseRows", name := "needs", desc := "(I)I" } : Jvm.MethodName) ({ cls := "NonsenseRows", name := "needs", desc := "(I)I" } : Jvm.MethodName)) ∈ lw_all := lw_g (lw_at lw_m5 155 rfl) rfl
theorem q1199 : (Jvm.Cond.code ({ cls := "NonsenseRows", name := "needs", desc := "(I)I" } : Jvm.MethodName) prog_1_method_32_code (2 : Nat) (Option.some Jvm.ClassFile.FieldType.int)) ∈ lw_all := lw_g (lw_at lw_m5 156 rfl) rfl
theorem q1200 : (Jvm.Cond.methodLink "NonsenseRows" (244 : Nat) ({ cls := "NonsenseRows", name := "needsOf", desc := "(II)I" } : Jvm.MethodName)) ∈ lw_all := lw_g (lw_at lw_m5 157 rfl) rfl
theorem q1201 : (Jvm.Cond.privateMethod ({ cls := "NonsenseRows", name := "needsOf", desc := "(II)I" } : Jvm.MethodName)) ∈ lw_tbl := lw_at lw_m5 158 rfl
theorem q1202 : (Jvm.Cond.instanceMethod ({ cls := "NonsenseRows", name := "needsOf", desc := "(II)I" } : Jvm.MethodName)) ∈ lw_all := lw_g (lw_at lw_m5 159 rfl) rfl
theorem q1203 : (Jvm.Cond.code ({ cls := "NonsenseRows", name := "needsOf", desc := "(II)I" } : Jvm.MethodName) prog_1_method_30_code (3 : Nat) (Option.some Jvm.ClassFile.FieldType.int)) ∈ lw_all := lw_g (lw_at lw_m5 160 rfl) rfl
theorem q1204 : (Jvm.Cond.methodLink "NonsenseRows" (236 : Nat) ({ cls := "NonsenseRows", name := "onPaper", desc := "()LNonsenseRows$Head;" } : Jvm.MethodName)) ∈ lw_all := lw_g (lw_at lw_m5 161 rfl) rfl
theorem q1205 : (Jvm.Cond.privateMethod ({ cls := "NonsenseRows", name := "onPaper", desc := "()LNonsenseRows$Head;" } : Jvm.MethodName)) ∈ lw_tbl := lw_at lw_m5 162 rfl
theorem q1206 : (Jvm.Cond.instanceMethod ({ cls := "NonsenseRows", name := "onPaper", desc := "()LNonsenseRows$Head;" } : Jvm.MethodName)) ∈ lw_all := lw_g (lw_at lw_m5 163 rfl) rfl
theorem q1207 : (Jvm.Cond.code ({ cls := "NonsenseRows", name := "onPaper", desc := "()LNonsenseRows$Head;" } : Jvm.MethodName) prog_1_method_29_code (1 : Nat) (Option.some (Jvm.ClassFile.FieldType.object "NonsenseRows$Head"))) ∈ lw_all := lw_g (lw_at lw_m5 164 rfl) rfl
theorem q1208 : (Jvm.Cond.methodLink "NonsenseRows" (232 : Nat) ({ cls := "NonsenseRows$Head", name := "becomes", desc := "(LNonsenseRows$Head;)V" } : Jvm.MethodName)) ∈ lw_all := lw_g (lw_at lw_m5 165 rfl) rfl
theorem q1214 : (Jvm.Cond.instanceMethod ({ cls := "NonsenseRows", name := "fresh", desc := "(I)I" } : Jvm.MethodName)) ∈ lw_all := lw_g (lw_at lw_m5 171 rfl) rfl
theorem q1215 : (Jvm.Cond.selects "NonsenseRows" ({ cls := "NonsenseRows", name := "fresh", desc := "(I)I" } : Jvm.MethodName) ({ cls := "NonsenseRows", name := "fresh", desc := "(I)I" } : Jvm.MethodName)) ∈ lw_all := lw_g (lw_at lw_m5 172 rfl) rfl
theorem q1216 : (Jvm.Cond.code ({ cls := "NonsenseRows", name := "fresh", desc := "(I)I" } : Jvm.MethodName) prog_1_method_33_code (2 : Nat) (Option.some Jvm.ClassFile.FieldType.int)) ∈ lw_all := lw_g (lw_at lw_m5 173 rfl) rfl
theorem q1217 : (Jvm.Cond.methodLink "NonsenseRows" (248 : Nat) ({ cls := "NonsenseRows", name := "freshOf", desc := "(II)I" } : Jvm.MethodName)) ∈ lw_all := lw_g (lw_at lw_m5 174 rfl) rfl
theorem q1218 : (Jvm.Cond.privateMethod ({ cls := "NonsenseRows", name := "freshOf", desc := "(II)I" } : Jvm.MethodName)) ∈ lw_tbl := lw_at lw_m5 175 rfl
theorem q1219 : (Jvm.Cond.instanceMethod ({ cls := "NonsenseRows", name := "freshOf", desc := "(II)I" } : Jvm.MethodName)) ∈ lw_all := lw_g (lw_at lw_m5 176 rfl) rfl
theorem q1220 : (Jvm.Cond.code ({ cls := "NonsenseRows", name := "freshOf", desc := "(II)I" } : Jvm.MethodName) prog_1_method_31_code (3 : Nat) (Option.some Jvm.ClassFile.FieldType.int)) ∈ lw_all := lw_g (lw_at lw_m5 177 rfl) rfl
theorem q1221 : (Jvm.Cond.methodLink "NonsenseRows" (240 : Nat) ({ cls := "NonsenseRows$Head", name := "empties", desc := "()V" } : Jvm.MethodName)) ∈ lw_all := lw_g (lw_at lw_m5 178 rfl) rfl
theorem q1223 : (Jvm.Cond.instanceMethod ({ cls := "NonsenseRows", name := "saving", desc := "(I)I" } : Jvm.MethodName)) ∈ lw_all := lw_g (lw_at lw_m5 180 rfl) rfl
theorem q1224 : (Jvm.Cond.selects "NonsenseRows" ({ cls := "NonsenseRows", name := "saving", desc := "(I)I" } : Jvm.MethodName) ({ cls := "NonsenseRows", name := "saving", desc := "(I)I" } : Jvm.MethodName)) ∈ lw_all := lw_g (lw_at lw_m5 181 rfl) rfl
theorem q1225 : (Jvm.Cond.code ({ cls := "NonsenseRows", name := "saving", desc := "(I)I" } : Jvm.MethodName) prog_1_method_34_code (4 : Nat) (Option.some Jvm.ClassFile.FieldType.int)) ∈ lw_all := lw_g (lw_at lw_m5 182 rfl) rfl
theorem q1226 : (Jvm.Cond.constant "NonsenseRows" (251 : Nat) (-2000000000 : Int32)) ∈ lw_all := lw_g (lw_at lw_m5 183 rfl) rfl
theorem q1228 : (Jvm.Cond.instanceMethod ({ cls := "NonsenseRows", name := "after", desc := "(II)I" } : Jvm.MethodName)) ∈ lw_all := lw_g (lw_at lw_m5 185 rfl) rfl
theorem q1229 : (Jvm.Cond.selects "NonsenseRows" ({ cls := "NonsenseRows", name := "after", desc := "(II)I" } : Jvm.MethodName) ({ cls := "NonsenseRows", name := "after", desc := "(II)I" } : Jvm.MethodName)) ∈ lw_all := lw_g (lw_at lw_m5 186 rfl) rfl
theorem q1230 : (Jvm.Cond.code ({ cls := "NonsenseRows", name := "after", desc := "(II)I" } : Jvm.MethodName) prog_1_method_35_code (3 : Nat) (Option.some Jvm.ClassFile.FieldType.int)) ∈ lw_all := lw_g (lw_at lw_m5 187 rfl) rfl
theorem q1232 : (Jvm.Cond.instanceMethod ({ cls := "NonsenseRows", name := "lasts", desc := "(I)I" } : Jvm.MethodName)) ∈ lw_all := lw_g (lw_at lw_m5 189 rfl) rfl
theorem q1233 : (Jvm.Cond.selects "NonsenseRows" ({ cls := "NonsenseRows", name := "lasts", desc := "(I)I" } : Jvm.MethodName) ({ cls := "NonsenseRows", name := "lasts", desc := "(I)I" } : Jvm.MethodName)) ∈ lw_all := lw_g (lw_at lw_m5 190 rfl) rfl
theorem q1234 : (Jvm.Cond.code ({ cls := "NonsenseRows", name := "lasts", desc := "(I)I" } : Jvm.MethodName) prog_1_method_36_code (3 : Nat) (Option.some Jvm.ClassFile.FieldType.int)) ∈ lw_all := lw_g (lw_at lw_m5 191 rfl) rfl
theorem q1236 : (Jvm.Cond.instanceMethod ({ cls := "NonsenseRows", name := "gone", desc := "(I)I" } : Jvm.MethodName)) ∈ lw_all := lw_g (lw_at lw_m5 193 rfl) rfl
theorem q1237 : (Jvm.Cond.selects "NonsenseRows" ({ cls := "NonsenseRows", name := "gone", desc := "(I)I" } : Jvm.MethodName) ({ cls := "NonsenseRows", name := "gone", desc := "(I)I" } : Jvm.MethodName)) ∈ lw_all := lw_g (lw_at lw_m5 194 rfl) rfl
theorem q1238 : (Jvm.Cond.code ({ cls := "NonsenseRows", name := "gone", desc := "(I)I" } : Jvm.MethodName) prog_1_method_38_code (3 : Nat) (Option.some Jvm.ClassFile.FieldType.int)) ∈ lw_all := lw_g (lw_at lw_m5 195 rfl) rfl
theorem q1239 : (Jvm.Cond.methodLink "NonsenseRows" (252 : Nat) ({ cls := "NonsenseRows", name := "counted", desc := "(I)I" } : Jvm.MethodName)) ∈ lw_all := lw_g (lw_at lw_m5 196 rfl) rfl
theorem q1240 : (Jvm.Cond.static ({ cls := "NonsenseRows", name := "counted", desc := "(I)I" } : Jvm.MethodName)) ∈ lw_all := lw_g (lw_at lw_m5 197 rfl) rfl
theorem q1241 : (Jvm.Cond.code ({ cls := "NonsenseRows", name := "counted", desc := "(I)I" } : Jvm.MethodName) prog_1_method_37_code (1 : Nat) (Option.some Jvm.ClassFile.FieldType.int)) ∈ lw_all := lw_g (lw_at lw_m5 198 rfl) rfl
theorem q1243 : (Jvm.Cond.instanceMethod ({ cls := "NonsenseRows", name := "without", desc := "(II)I" } : Jvm.MethodName)) ∈ lw_all := lw_g (lw_at lw_m5 200 rfl) rfl
theorem q1244 : (Jvm.Cond.selects "NonsenseRows" ({ cls := "NonsenseRows", name := "without", desc := "(II)I" } : Jvm.MethodName) ({ cls := "NonsenseRows", name := "without", desc := "(II)I" } : Jvm.MethodName)) ∈ lw_all := lw_g (lw_at lw_m5 201 rfl) rfl
theorem q1245 : (Jvm.Cond.code ({ cls := "NonsenseRows", name := "without", desc := "(II)I" } : Jvm.MethodName) prog_1_method_39_code (3 : Nat) (Option.some Jvm.ClassFile.FieldType.int)) ∈ lw_all := lw_g (lw_at lw_m5 202 rfl) rfl
theorem q1247 : (Jvm.Cond.instanceMethod ({ cls := "NonsenseRows", name := "between", desc := "(III)I" } : Jvm.MethodName)) ∈ lw_all := lw_g (lw_at lw_m5 204 rfl) rfl
theorem q1248 : (Jvm.Cond.selects "NonsenseRows" ({ cls := "NonsenseRows", name := "between", desc := "(III)I" } : Jvm.MethodName) ({ cls := "NonsenseRows", name := "between", desc := "(III)I" } : Jvm.MethodName)) ∈ lw_all := lw_g (lw_at lw_m5 205 rfl) rfl
theorem q1249 : (Jvm.Cond.code ({ cls := "NonsenseRows", name := "between", desc := "(III)I" } : Jvm.MethodName) prog_1_method_40_code (6 : Nat) (Option.some Jvm.ClassFile.FieldType.int)) ∈ lw_all := lw_g (lw_at lw_m5 206 rfl) rfl
theorem q1251 : (Jvm.Cond.instanceMethod ({ cls := "NonsenseRows", name := "evening", desc := "(III)I" } : Jvm.MethodName)) ∈ lw_all := lw_g (lw_at lw_m5 208 rfl) rfl
theorem q1252 : (Jvm.Cond.selects "NonsenseRows" ({ cls := "NonsenseRows", name := "evening", desc := "(III)I" } : Jvm.MethodName) ({ cls := "NonsenseRows", name := "evening", desc := "(III)I" } : Jvm.MethodName)) ∈ lw_all := lw_g (lw_at lw_m5 209 rfl) rfl
theorem q1253 : (Jvm.Cond.code ({ cls := "NonsenseRows", name := "evening", desc := "(III)I" } : Jvm.MethodName) prog_1_method_41_code (6 : Nat) (Option.some Jvm.ClassFile.FieldType.int)) ∈ lw_all := lw_g (lw_at lw_m5 210 rfl) rfl
theorem q1254 : (Jvm.Cond.constantLong "NonsenseRows" (255 : Nat) (23 : Int64)) ∈ lw_all := lw_g (lw_at lw_m5 211 rfl) rfl
theorem q1256 : (Jvm.Cond.instanceMethod ({ cls := "NonsenseRows", name := "when", desc := "(I)I" } : Jvm.MethodName)) ∈ lw_all := lw_g (lw_at lw_m5 213 rfl) rfl
theorem q1257 : (Jvm.Cond.selects "NonsenseRows" ({ cls := "NonsenseRows", name := "when", desc := "(I)I" } : Jvm.MethodName) ({ cls := "NonsenseRows", name := "when", desc := "(I)I" } : Jvm.MethodName)) ∈ lw_all := lw_g (lw_at lw_m5 214 rfl) rfl
theorem q1258 : (Jvm.Cond.code ({ cls := "NonsenseRows", name := "when", desc := "(I)I" } : Jvm.MethodName) prog_1_method_42_code (6 : Nat) (Option.some Jvm.ClassFile.FieldType.int)) ∈ lw_all := lw_g (lw_at lw_m5 215 rfl) rfl
theorem q1260 : (Jvm.Cond.instanceMethod ({ cls := "NonsenseRows", name := "must", desc := "(I)I" } : Jvm.MethodName)) ∈ lw_all := lw_g (lw_at lw_m5 217 rfl) rfl
theorem q1261 : (Jvm.Cond.selects "NonsenseRows" ({ cls := "NonsenseRows", name := "must", desc := "(I)I" } : Jvm.MethodName) ({ cls := "NonsenseRows", name := "must", desc := "(I)I" } : Jvm.MethodName)) ∈ lw_all := lw_g (lw_at lw_m5 218 rfl) rfl
theorem q1262 : (Jvm.Cond.code ({ cls := "NonsenseRows", name := "must", desc := "(I)I" } : Jvm.MethodName) prog_1_method_43_code (6 : Nat) (Option.some Jvm.ClassFile.FieldType.int)) ∈ lw_all := lw_g (lw_at lw_m5 219 rfl) rfl
theorem q1264 : (Jvm.Cond.instanceMethod ({ cls := "NonsenseRows", name := "verse", desc := "(II)I" } : Jvm.MethodName)) ∈ lw_all := lw_g (lw_at lw_m5 221 rfl) rfl
theorem q1265 : (Jvm.Cond.selects "NonsenseRows" ({ cls := "NonsenseRows", name := "verse", desc := "(II)I" } : Jvm.MethodName) ({ cls := "NonsenseRows", name := "verse", desc := "(II)I" } : Jvm.MethodName)) ∈ lw_all := lw_g (lw_at lw_m5 222 rfl) rfl
theorem q1266 : (Jvm.Cond.code ({ cls := "NonsenseRows", name := "verse", desc := "(II)I" } : Jvm.MethodName) prog_1_method_44_code (5 : Nat) (Option.some Jvm.ClassFile.FieldType.int)) ∈ lw_all := lw_g (lw_at lw_m5 223 rfl) rfl
theorem q1268 : (Jvm.Cond.instanceMethod ({ cls := "NonsenseRows", name := "near", desc := "(IIIZ)I" } : Jvm.MethodName)) ∈ lw_all := lw_g (lw_at lw_m5 225 rfl) rfl
theorem q1269 : (Jvm.Cond.selects "NonsenseRows" ({ cls := "NonsenseRows", name := "near", desc := "(IIIZ)I" } : Jvm.MethodName) ({ cls := "NonsenseRows", name := "near", desc := "(IIIZ)I" } : Jvm.MethodName)) ∈ lw_all := lw_g (lw_at lw_m5 226 rfl) rfl
theorem q1270 : (Jvm.Cond.code ({ cls := "NonsenseRows", name := "near", desc := "(IIIZ)I" } : Jvm.MethodName) prog_1_method_46_code (9 : Nat) (Option.some Jvm.ClassFile.FieldType.int)) ∈ lw_all := lw_g (lw_at lw_m5 227 rfl) rfl
theorem q1271 : (Jvm.Cond.methodLink "NonsenseRows" (257 : Nat) ({ cls := "NonsenseRows", name := "placeOf", desc := "([II)I" } : Jvm.MethodName)) ∈ lw_all := lw_g (lw_at lw_m5 228 rfl) rfl
theorem q1272 : (Jvm.Cond.static ({ cls := "NonsenseRows", name := "placeOf", desc := "([II)I" } : Jvm.MethodName)) ∈ lw_all := lw_g (lw_at lw_m5 229 rfl) rfl
theorem q1273 : (Jvm.Cond.code ({ cls := "NonsenseRows", name := "placeOf", desc := "([II)I" } : Jvm.MethodName) prog_1_method_45_code (3 : Nat) (Option.some Jvm.ClassFile.FieldType.int)) ∈ lw_all := lw_g (lw_at lw_m5 230 rfl) rfl
theorem q1275 : (Jvm.Cond.instanceMethod ({ cls := "NonsenseRows", name := "fit", desc := "(IIIII)I" } : Jvm.MethodName)) ∈ lw_all := lw_g (lw_at lw_m5 232 rfl) rfl
theorem q1276 : (Jvm.Cond.selects "NonsenseRows" ({ cls := "NonsenseRows", name := "fit", desc := "(IIIII)I" } : Jvm.MethodName) ({ cls := "NonsenseRows", name := "fit", desc := "(IIIII)I" } : Jvm.MethodName)) ∈ lw_all := lw_g (lw_at lw_m5 233 rfl) rfl
theorem q1277 : (Jvm.Cond.codeWith ({ cls := "NonsenseRows", name := "fit", desc := "(IIIII)I" } : Jvm.MethodName) prog_1_method_48_code (12 : Nat) (Option.some Jvm.ClassFile.FieldType.int) [((132 : Nat), (203 : Nat), (222 : Nat), (0 : Nat)), ((222 : Nat), (224 : Nat), (222 : Nat), (0 : Nat))]) ∈ lw_all := lw_g (lw_at lw_m5 234 rfl) rfl
theorem q1278 : (Jvm.Cond.classLink "NonsenseRows" (284 : Nat) "NonsenseRows$Amount") ∈ lw_all := lw_g (lw_at lw_m5 235 rfl) rfl
theorem q1279 : (Jvm.Cond.methodLink "NonsenseRows" (286 : Nat) ({ cls := "NonsenseRows$Amount", name := "<init>", desc := "(I)V" } : Jvm.MethodName)) ∈ lw_all := lw_g (lw_at lw_m5 236 rfl) rfl
theorem q1280 : (Jvm.Cond.methodLink "NonsenseRows" (288 : Nat) ({ cls := "NonsenseRows", name := "replays", desc := "()Z" } : Jvm.MethodName)) ∈ lw_all := lw_g (lw_at lw_m5 237 rfl) rfl
theorem q1281 : (Jvm.Cond.privateMethod ({ cls := "NonsenseRows", name := "replays", desc := "()Z" } : Jvm.MethodName)) ∈ lw_tbl := lw_at lw_m5 238 rfl
theorem q1282 : (Jvm.Cond.instanceMethod ({ cls := "NonsenseRows", name := "replays", desc := "()Z" } : Jvm.MethodName)) ∈ lw_all := lw_g (lw_at lw_m5 239 rfl) rfl
theorem q1283 : (Jvm.Cond.code ({ cls := "NonsenseRows", name := "replays", desc := "()Z" } : Jvm.MethodName) prog_1_method_47_code (4 : Nat) (Option.some Jvm.ClassFile.FieldType.boolean)) ∈ lw_all := lw_g (lw_at lw_m6 0 rfl) rfl
theorem q1284 : (Jvm.Cond.methodLink "NonsenseRows" (260 : Nat) ({ cls := "NonsenseRows$Head", name := "clears", desc := "(LNonsenseRows$Text;)V" } : Jvm.MethodName)) ∈ lw_all := lw_g (lw_at lw_m6 1 rfl) rfl
theorem q1286 : (Jvm.Cond.instanceMethod ({ cls := "NonsenseRows", name := "days", desc := "(I)I" } : Jvm.MethodName)) ∈ lw_all := lw_g (lw_at lw_m6 3 rfl) rfl
theorem q1287 : (Jvm.Cond.selects "NonsenseRows" ({ cls := "NonsenseRows", name := "days", desc := "(I)I" } : Jvm.MethodName) ({ cls := "NonsenseRows", name := "days", desc := "(I)I" } : Jvm.MethodName)) ∈ lw_all := lw_g (lw_at lw_m6 4 rfl) rfl
theorem q1288 : (Jvm.Cond.code ({ cls := "NonsenseRows", name := "days", desc := "(I)I" } : Jvm.MethodName) prog_1_method_49_code (5 : Nat) (Option.some Jvm.ClassFile.FieldType.int)) ∈ lw_all := lw_g (lw_at lw_m6 5 rfl) rfl
theorem q1289 : (Jvm.Cond.methodLink "NonsenseRows" (296 : Nat) ({ cls := "NonsenseRows$Slot", name := "many", desc := "()I" } : Jvm.MethodName)) ∈ lw_all := lw_g (lw_at lw_m6 6 rfl) rfl
theorem q1293 : (Jvm.Cond.methodLink "NonsenseRows" (299 : Nat) ({ cls := "NonsenseRows$Slot", name := "number", desc := "(I)J" } : Jvm.MethodName)) ∈ lw_all := lw_g (lw_at lw_m6 10 rfl) rfl
theorem q1297 : (Jvm.Cond.methodLink "NonsenseRows" (303 : Nat) ({ cls := "NonsenseRows", name := "waits", desc := "(I)I" } : Jvm.MethodName)) ∈ lw_all := lw_g (lw_at lw_m6 14 rfl) rfl
theorem q1298 : (Jvm.Cond.methodLink "NonsenseRows" (305 : Nat) ({ cls := "NonsenseRows", name := "learn", desc := "(I)I" } : Jvm.MethodName)) ∈ lw_all := lw_g (lw_at lw_m6 15 rfl) rfl
theorem q1299 : (Jvm.Cond.methodLink "NonsenseRows" (308 : Nat) ({ cls := "NonsenseRows", name := "read", desc := "(II)I" } : Jvm.MethodName)) ∈ lw_all := lw_g (lw_at lw_m6 16 rfl) rfl
theorem q1301 : (Jvm.Cond.instanceMethod ({ cls := "NonsenseRows", name := "spread", desc := "(III)I" } : Jvm.MethodName)) ∈ lw_all := lw_g (lw_at lw_m6 18 rfl) rfl
theorem q1302 : (Jvm.Cond.selects "NonsenseRows" ({ cls := "NonsenseRows", name := "spread", desc := "(III)I" } : Jvm.MethodName) ({ cls := "NonsenseRows", name := "spread", desc := "(III)I" } : Jvm.MethodName)) ∈ lw_all := lw_g (lw_at lw_m6 19 rfl) rfl
theorem q1303 : (Jvm.Cond.code ({ cls := "NonsenseRows", name := "spread", desc := "(III)I" } : Jvm.MethodName) prog_1_method_54_code (6 : Nat) (Option.some Jvm.ClassFile.FieldType.int)) ∈ lw_all := lw_g (lw_at lw_m6 20 rfl) rfl
theorem q1304 : (Jvm.Cond.methodLink "NonsenseRows" (329 : Nat) ({ cls := "NonsenseRows", name := "isSpread", desc := "(III)Z" } : Jvm.MethodName)) ∈ lw_all := lw_g (lw_at lw_m6 21 rfl) rfl
theorem q1305 : (Jvm.Cond.privateMethod ({ cls := "NonsenseRows", name := "isSpread", desc := "(III)Z" } : Jvm.MethodName)) ∈ lw_tbl := lw_at lw_m6 22 rfl
theorem q1306 : (Jvm.Cond.instanceMethod ({ cls := "NonsenseRows", name := "isSpread", desc := "(III)Z" } : Jvm.MethodName)) ∈ lw_all := lw_g (lw_at lw_m6 23 rfl) rfl
theorem q1307 : (Jvm.Cond.code ({ cls := "NonsenseRows", name := "isSpread", desc := "(III)Z" } : Jvm.MethodName) prog_1_method_52_code (4 : Nat) (Option.some Jvm.ClassFile.FieldType.boolean)) ∈ lw_all := lw_g (lw_at lw_m6 24 rfl) rfl
theorem q1308 : (Jvm.Cond.constantLong "NonsenseRows" (325 : Nat) (8 : Int64)) ∈ lw_all := lw_g (lw_at lw_m6 25 rfl) rfl
theorem q1309 : (Jvm.Cond.constantLong "NonsenseRows" (327 : Nat) (4 : Int64)) ∈ lw_all := lw_g (lw_at lw_m6 26 rfl) rfl
theorem q1310 : (Jvm.Cond.methodLink "NonsenseRows" (333 : Nat) ({ cls := "NonsenseRows", name := "spreads", desc := "(III)V" } : Jvm.MethodName)) ∈ lw_all := lw_g (lw_at lw_m6 27 rfl) rfl
theorem q1311 : (Jvm.Cond.privateMethod ({ cls := "NonsenseRows", name := "spreads", desc := "(III)V" } : Jvm.MethodName)) ∈ lw_tbl := lw_at lw_m6 28 rfl
theorem q1312 : (Jvm.Cond.instanceMethod ({ cls := "NonsenseRows", name := "spreads", desc := "(III)V" } : Jvm.MethodName)) ∈ lw_all := lw_g (lw_at lw_m6 29 rfl) rfl
theorem q1313 : (Jvm.Cond.code ({ cls := "NonsenseRows", name := "spreads", desc := "(III)V" } : Jvm.MethodName) prog_1_method_53_code (4 : Nat) (Option.none : Option Jvm.ClassFile.FieldType)) ∈ lw_all := lw_g (lw_at lw_m6 30 rfl) rfl
theorem q1314 : (Jvm.Cond.methodLink "NonsenseRows" (321 : Nat) ({ cls := "NonsenseRows", name := "plans", desc := "(IIII)V" } : Jvm.MethodName)) ∈ lw_all := lw_g (lw_at lw_m6 31 rfl) rfl
theorem q1315 : (Jvm.Cond.privateMethod ({ cls := "NonsenseRows", name := "plans", desc := "(IIII)V" } : Jvm.MethodName)) ∈ lw_tbl := lw_at lw_m6 32 rfl
theorem q1316 : (Jvm.Cond.instanceMethod ({ cls := "NonsenseRows", name := "plans", desc := "(IIII)V" } : Jvm.MethodName)) ∈ lw_all := lw_g (lw_at lw_m6 33 rfl) rfl
theorem q1317 : (Jvm.Cond.code ({ cls := "NonsenseRows", name := "plans", desc := "(IIII)V" } : Jvm.MethodName) prog_1_method_51_code (6 : Nat) (Option.none : Option Jvm.ClassFile.FieldType)) ∈ lw_all := lw_g (lw_at lw_m6 34 rfl) rfl
theorem q1318 : (Jvm.Cond.methodLink "NonsenseRows" (315 : Nat) ({ cls := "NonsenseRows", name := "leavesBy", desc := "(II)I" } : Jvm.MethodName)) ∈ lw_all := lw_g (lw_at lw_m6 35 rfl) rfl
theorem q1319 : (Jvm.Cond.privateMethod ({ cls := "NonsenseRows", name := "leavesBy", desc := "(II)I" } : Jvm.MethodName)) ∈ lw_tbl := lw_at lw_m6 36 rfl
theorem q1320 : (Jvm.Cond.instanceMethod ({ cls := "NonsenseRows", name := "leavesBy", desc := "(II)I" } : Jvm.MethodName)) ∈ lw_all := lw_g (lw_at lw_m6 37 rfl) rfl
theorem q1321 : (Jvm.Cond.code ({ cls := "NonsenseRows", name := "leavesBy", desc := "(II)I" } : Jvm.MethodName) prog_1_method_50_code (5 : Nat) (Option.some Jvm.ClassFile.FieldType.int)) ∈ lw_all := lw_g (lw_at lw_m6 38 rfl) rfl
theorem q1322 : (Jvm.Cond.methodLink "NonsenseRows" (311 : Nat) ({ cls := "NonsenseRows$Head", name := "supports", desc := "([I)I" } : Jvm.MethodName)) ∈ lw_all := lw_g (lw_at lw_m6 39 rfl) rfl
theorem q1327 : (Jvm.Cond.instanceMethod ({ cls := "NonsenseRows", name := "left", desc := "(IIII)I" } : Jvm.MethodName)) ∈ lw_all := lw_g (lw_at lw_m6 44 rfl) rfl
theorem q1328 : (Jvm.Cond.selects "NonsenseRows" ({ cls := "NonsenseRows", name := "left", desc := "(IIII)I" } : Jvm.MethodName) ({ cls := "NonsenseRows", name := "left", desc := "(IIII)I" } : Jvm.MethodName)) ∈ lw_all := lw_g (lw_at lw_m6 45 rfl) rfl
theorem q1329 : (Jvm.Cond.code ({ cls := "NonsenseRows", name := "left", desc := "(IIII)I" } : Jvm.MethodName) prog_1_method_55_code (6 : Nat) (Option.some Jvm.ClassFile.FieldType.int)) ∈ lw_all := lw_g (lw_at lw_m6 46 rfl) rfl
theorem q1331 : (Jvm.Cond.instanceMethod ({ cls := "NonsenseRows", name := "shuffled", desc := "(II)I" } : Jvm.MethodName)) ∈ lw_all := lw_g (lw_at lw_m6 48 rfl) rfl
theorem q1332 : (Jvm.Cond.selects "NonsenseRows" ({ cls := "NonsenseRows", name := "shuffled", desc := "(II)I" } : Jvm.MethodName) ({ cls := "NonsenseRows", name := "shuffled", desc := "(II)I" } : Jvm.MethodName)) ∈ lw_all := lw_g (lw_at lw_m6 49 rfl) rfl
theorem q1333 : (Jvm.Cond.code ({ cls := "NonsenseRows", name := "shuffled", desc := "(II)I" } : Jvm.MethodName) prog_1_method_57_code (8 : Nat) (Option.some Jvm.ClassFile.FieldType.int)) ∈ lw_all := lw_g (lw_at lw_m6 50 rfl) rfl
theorem q1334 : (Jvm.Cond.methodLink "NonsenseRows" (337 : Nat) ({ cls := "NonsenseRows", name := "adds", desc := "([I)I" } : Jvm.MethodName)) ∈ lw_all := lw_g (lw_at lw_m6 51 rfl) rfl
theorem q1335 : (Jvm.Cond.privateMethod ({ cls := "NonsenseRows", name := "adds", desc := "([I)I" } : Jvm.MethodName)) ∈ lw_tbl := lw_at lw_m6 52 rfl
theorem q1336 : (Jvm.Cond.instanceMethod ({ cls := "NonsenseRows", name := "adds", desc := "([I)I" } : Jvm.MethodName)) ∈ lw_all := lw_g (lw_at lw_m6 53 rfl) rfl
theorem q1337 : (Jvm.Cond.code ({ cls := "NonsenseRows", name := "adds", desc := "([I)I" } : Jvm.MethodName) prog_1_method_56_code (2 : Nat) (Option.some Jvm.ClassFile.FieldType.int)) ∈ lw_all := lw_g (lw_at lw_m6 54 rfl) rfl
theorem q1339 : (Jvm.Cond.instanceMethod ({ cls := "NonsenseRows", name := "backward", desc := "(I)I" } : Jvm.MethodName)) ∈ lw_all := lw_g (lw_at lw_m6 56 rfl) rfl
theorem q1340 : (Jvm.Cond.selects "NonsenseRows" ({ cls := "NonsenseRows", name := "backward", desc := "(I)I" } : Jvm.MethodName) ({ cls := "NonsenseRows", name := "backward", desc := "(I)I" } : Jvm.MethodName)) ∈ lw_all := lw_g (lw_at lw_m6 57 rfl) rfl
theorem q1341 : (Jvm.Cond.code ({ cls := "NonsenseRows", name := "backward", desc := "(I)I" } : Jvm.MethodName) prog_1_method_58_code (5 : Nat) (Option.some Jvm.ClassFile.FieldType.int)) ∈ lw_all := lw_g (lw_at lw_m6 58 rfl) rfl
theorem q1343 : (Jvm.Cond.instanceMethod ({ cls := "NonsenseRows", name := "rowOf", desc := "(I)I" } : Jvm.MethodName)) ∈ lw_all := lw_g (lw_at lw_m6 60 rfl) rfl
theorem q1344 : (Jvm.Cond.selects "NonsenseRows" ({ cls := "NonsenseRows", name := "rowOf", desc := "(I)I" } : Jvm.MethodName) ({ cls := "NonsenseRows", name := "rowOf", desc := "(I)I" } : Jvm.MethodName)) ∈ lw_all := lw_g (lw_at lw_m6 61 rfl) rfl
theorem q1345 : (Jvm.Cond.code ({ cls := "NonsenseRows", name := "rowOf", desc := "(I)I" } : Jvm.MethodName) prog_1_method_59_code (6 : Nat) (Option.some Jvm.ClassFile.FieldType.int)) ∈ lw_all := lw_g (lw_at lw_m6 62 rfl) rfl
theorem q1346 : (Jvm.Cond.constantLong "NonsenseRows" (340 : Nat) (12 : Int64)) ∈ lw_all := lw_g (lw_at lw_m6 63 rfl) rfl
theorem q1348 : (Jvm.Cond.instanceMethod ({ cls := "NonsenseRows", name := "thing", desc := "(II)I" } : Jvm.MethodName)) ∈ lw_all := lw_g (lw_at lw_m6 65 rfl) rfl
theorem q1349 : (Jvm.Cond.selects "NonsenseRows" ({ cls := "NonsenseRows", name := "thing", desc := "(II)I" } : Jvm.MethodName) ({ cls := "NonsenseRows", name := "thing", desc := "(II)I" } : Jvm.MethodName)) ∈ lw_all := lw_g (lw_at lw_m6 66 rfl) rfl
theorem q1350 : (Jvm.Cond.code ({ cls := "NonsenseRows", name := "thing", desc := "(II)I" } : Jvm.MethodName) prog_1_method_60_code (3 : Nat) (Option.some Jvm.ClassFile.FieldType.int)) ∈ lw_all := lw_g (lw_at lw_m6 67 rfl) rfl
theorem q1352 : (Jvm.Cond.instanceMethod ({ cls := "NonsenseRows", name := "used", desc := "(I)I" } : Jvm.MethodName)) ∈ lw_all := lw_g (lw_at lw_m6 69 rfl) rfl
theorem q1353 : (Jvm.Cond.selects "NonsenseRows" ({ cls := "NonsenseRows", name := "used", desc := "(I)I" } : Jvm.MethodName) ({ cls := "NonsenseRows", name := "used", desc := "(I)I" } : Jvm.MethodName)) ∈ lw_all := lw_g (lw_at lw_m6 70 rfl) rfl
theorem q1354 : (Jvm.Cond.code ({ cls := "NonsenseRows", name := "used", desc := "(I)I" } : Jvm.MethodName) prog_1_method_61_code (2 : Nat) (Option.some Jvm.ClassFile.FieldType.int)) ∈ lw_all := lw_g (lw_at lw_m6 71 rfl) rfl
theorem q1356 : (Jvm.Cond.instanceMethod ({ cls := "NonsenseRows", name := "sitting", desc := "(II)I" } : Jvm.MethodName)) ∈ lw_all := lw_g (lw_at lw_m6 73 rfl) rfl
theorem q1357 : (Jvm.Cond.selects "NonsenseRows" ({ cls := "NonsenseRows", name := "sitting", desc := "(II)I" } : Jvm.MethodName) ({ cls := "NonsenseRows", name := "sitting", desc := "(II)I" } : Jvm.MethodName)) ∈ lw_all := lw_g (lw_at lw_m6 74 rfl) rfl
theorem q1358 : (Jvm.Cond.code ({ cls := "NonsenseRows", name := "sitting", desc := "(II)I" } : Jvm.MethodName) prog_1_method_62_code (4 : Nat) (Option.some Jvm.ClassFile.FieldType.int)) ∈ lw_all := lw_g (lw_at lw_m6 75 rfl) rfl
theorem q1360 : (Jvm.Cond.instanceMethod ({ cls := "NonsenseRows", name := "book", desc := "(II)I" } : Jvm.MethodName)) ∈ lw_all := lw_g (lw_at lw_m6 77 rfl) rfl
theorem q1361 : (Jvm.Cond.selects "NonsenseRows" ({ cls := "NonsenseRows", name := "book", desc := "(II)I" } : Jvm.MethodName) ({ cls := "NonsenseRows", name := "book", desc := "(II)I" } : Jvm.MethodName)) ∈ lw_all := lw_g (lw_at lw_m6 78 rfl) rfl
theorem q1362 : (Jvm.Cond.code ({ cls := "NonsenseRows", name := "book", desc := "(II)I" } : Jvm.MethodName) prog_1_method_63_code (8 : Nat) (Option.some Jvm.ClassFile.FieldType.int)) ∈ lw_all := lw_g (lw_at lw_m6 79 rfl) rfl
theorem q1364 : (Jvm.Cond.instanceMethod ({ cls := "NonsenseRows", name := "parts", desc := "(I)I" } : Jvm.MethodName)) ∈ lw_all := lw_g (lw_at lw_m6 81 rfl) rfl
theorem q1365 : (Jvm.Cond.selects "NonsenseRows" ({ cls := "NonsenseRows", name := "parts", desc := "(I)I" } : Jvm.MethodName) ({ cls := "NonsenseRows", name := "parts", desc := "(I)I" } : Jvm.MethodName)) ∈ lw_all := lw_g (lw_at lw_m6 82 rfl) rfl
theorem q1366 : (Jvm.Cond.code ({ cls := "NonsenseRows", name := "parts", desc := "(I)I" } : Jvm.MethodName) prog_1_method_64_code (7 : Nat) (Option.some Jvm.ClassFile.FieldType.int)) ∈ lw_all := lw_g (lw_at lw_m6 83 rfl) rfl
theorem q1367 : (Jvm.Cond.methodLink "NonsenseRows" (348 : Nat) ({ cls := "java/lang/Math", name := "abs", desc := "(I)I" } : Jvm.MethodName)) ∈ lw_all := lw_g (lw_at lw_m6 84 rfl) rfl
theorem q1371 : (Jvm.Cond.instanceMethod ({ cls := "NonsenseRows", name := "count", desc := "(I)I" } : Jvm.MethodName)) ∈ lw_all := lw_g (lw_at lw_m6 88 rfl) rfl
theorem q1372 : (Jvm.Cond.selects "NonsenseRows" ({ cls := "NonsenseRows", name := "count", desc := "(I)I" } : Jvm.MethodName) ({ cls := "NonsenseRows", name := "count", desc := "(I)I" } : Jvm.MethodName)) ∈ lw_all := lw_g (lw_at lw_m6 89 rfl) rfl
theorem q1373 : (Jvm.Cond.code ({ cls := "NonsenseRows", name := "count", desc := "(I)I" } : Jvm.MethodName) prog_1_method_65_code (4 : Nat) (Option.some Jvm.ClassFile.FieldType.int)) ∈ lw_all := lw_g (lw_at lw_m6 90 rfl) rfl
theorem q1375 : (Jvm.Cond.instanceMethod ({ cls := "NonsenseRows", name := "keep", desc := "(I)I" } : Jvm.MethodName)) ∈ lw_all := lw_g (lw_at lw_m6 92 rfl) rfl
theorem q1376 : (Jvm.Cond.selects "NonsenseRows" ({ cls := "NonsenseRows", name := "keep", desc := "(I)I" } : Jvm.MethodName) ({ cls := "NonsenseRows", name := "keep", desc := "(I)I" } : Jvm.MethodName)) ∈ lw_all := lw_g (lw_at lw_m6 93 rfl) rfl
theorem q1377 : (Jvm.Cond.code ({ cls := "NonsenseRows", name := "keep", desc := "(I)I" } : Jvm.MethodName) prog_1_method_66_code (2 : Nat) (Option.some Jvm.ClassFile.FieldType.int)) ∈ lw_all := lw_g (lw_at lw_m6 94 rfl) rfl
theorem q1378 : (Jvm.Cond.methodLink "NonsenseRows" (362 : Nat) ({ cls := "NonsenseRows$State", name := "becomes", desc := "(LNonsenseRows$State;)V" } : Jvm.MethodName)) ∈ lw_all := lw_g (lw_at lw_m6 95 rfl) rfl
theorem q1386 : (Jvm.Cond.instanceMethod ({ cls := "NonsenseRows", name := "back", desc := "(I)I" } : Jvm.MethodName)) ∈ lw_all := lw_g (lw_at lw_m6 103 rfl) rfl
theorem q1387 : (Jvm.Cond.selects "NonsenseRows" ({ cls := "NonsenseRows", name := "back", desc := "(I)I" } : Jvm.MethodName) ({ cls := "NonsenseRows", name := "back", desc := "(I)I" } : Jvm.MethodName)) ∈ lw_all := lw_g (lw_at lw_m6 104 rfl) rfl
theorem q1388 : (Jvm.Cond.code ({ cls := "NonsenseRows", name := "back", desc := "(I)I" } : Jvm.MethodName) prog_1_method_67_code (2 : Nat) (Option.some Jvm.ClassFile.FieldType.int)) ∈ lw_all := lw_g (lw_at lw_m6 105 rfl) rfl
theorem q1923 : (Jvm.Cond.castable "NonsenseRows" "java/lang/Object") ∈ lw_tbl := lw_at lw_m8 160 rfl

