set_option maxRecDepth 100000
abbrev cX0_row : ByteArray := prog_1_method_5_code
def yX0_row : MethodName := ⟨RX0, "row", "(III)I"⟩
def dkwX0_row_2 : List UInt8 := [16, 253, 172]
abbrev dktX0_row_2 : List UInt8 := dkwX0_row_2 ++ []
def dkwX0_row_1 : List UInt8 := [164, 0, 6, 16, 254, 172, 42, 180, 0, 19, 27, 50, 28, 29, 182, 0, 23, 153, 0, 7, 3, 167, 0, 5]
abbrev dktX0_row_1 : List UInt8 := dkwX0_row_1 ++ dktX0_row_2
def dkwX0_row_0 : List UInt8 := [27, 184, 0, 15, 153, 0, 21, 28, 133, 9, 20, 0, 9, 184, 0, 11, 153, 0, 9, 29, 16, 60]
abbrev dktX0_row_0 : List UInt8 := dkwX0_row_0 ++ dktX0_row_1
theorem dksX0_row_0 : cX0_row.data.toList.drop 0 = dktX0_row_0 := by decide +kernel
theorem dksX0_row_1 : cX0_row.data.toList.drop 22 = dktX0_row_1 := dk_seg dksX0_row_0 22 rfl rfl
theorem dksX0_row_2 : cX0_row.data.toList.drop 46 = dktX0_row_2 := dk_seg dksX0_row_1 24 rfl rfl
theorem dX0_row_0 : decode cX0_row 0 = .ok (.iload_n 1, 1) := dk_27 (dk_at dksX0_row_0 0 rfl rfl)
theorem dX0_row_1 : decode cX0_row 1 = .ok (.invokestatic 15, 3) := dk_184 0 15 (dk_at dksX0_row_0 1 rfl rfl)
theorem dX0_row_4 : decode cX0_row 4 = .ok (.ifCond .eq 21, 3) := dk_153 0 21 (dk_at dksX0_row_0 4 rfl rfl)
theorem dX0_row_7 : decode cX0_row 7 = .ok (.iload_n 2, 1) := dk_28 (dk_at dksX0_row_0 7 rfl rfl)
theorem dX0_row_8 : decode cX0_row 8 = .ok (.i2l, 1) := dk_133 (dk_at dksX0_row_0 8 rfl rfl)
theorem dX0_row_9 : decode cX0_row 9 = .ok (.lconst 0, 1) := dk_9 (dk_at dksX0_row_0 9 rfl rfl)
theorem dX0_row_10 : decode cX0_row 10 = .ok (.ldc2_w 9, 3) := dk_20 0 9 (dk_at dksX0_row_0 10 rfl rfl)
theorem dX0_row_13 : decode cX0_row 13 = .ok (.invokestatic 11, 3) := dk_184 0 11 (dk_at dksX0_row_0 13 rfl rfl)
theorem dX0_row_16 : decode cX0_row 16 = .ok (.ifCond .eq 9, 3) := dk_153 0 9 (dk_at dksX0_row_0 16 rfl rfl)
theorem dX0_row_19 : decode cX0_row 19 = .ok (.iload_n 3, 1) := dk_29 (dk_at dksX0_row_0 19 rfl rfl)
theorem dX0_row_20 : decode cX0_row 20 = .ok (.bipush 60, 2) := dk_16 60 (dk_at dksX0_row_0 20 rfl rfl)
theorem dX0_row_22 : decode cX0_row 22 = .ok (.if_icmp .le 6, 3) := dk_164 0 6 (dk_at dksX0_row_1 0 rfl rfl)
theorem dX0_row_25 : decode cX0_row 25 = .ok (.bipush (-2), 2) := dk_16 254 (dk_at dksX0_row_1 3 rfl rfl)
theorem dX0_row_27 : decode cX0_row 27 = .ok (.ireturn, 1) := dk_172 (dk_at dksX0_row_1 5 rfl rfl)
theorem dX0_row_28 : decode cX0_row 28 = .ok (.aload_n 0, 1) := dk_42 (dk_at dksX0_row_1 6 rfl rfl)
theorem dX0_row_29 : decode cX0_row 29 = .ok (.getfield 19, 3) := dk_180 0 19 (dk_at dksX0_row_1 7 rfl rfl)
theorem dX0_row_32 : decode cX0_row 32 = .ok (.iload_n 1, 1) := dk_27 (dk_at dksX0_row_1 10 rfl rfl)
theorem dX0_row_33 : decode cX0_row 33 = .ok (.aaload, 1) := dk_50 (dk_at dksX0_row_1 11 rfl rfl)
theorem dX0_row_34 : decode cX0_row 34 = .ok (.iload_n 2, 1) := dk_28 (dk_at dksX0_row_1 12 rfl rfl)
theorem dX0_row_35 : decode cX0_row 35 = .ok (.iload_n 3, 1) := dk_29 (dk_at dksX0_row_1 13 rfl rfl)
theorem dX0_row_36 : decode cX0_row 36 = .ok (.invokevirtual 23, 3) := dk_182 0 23 (dk_at dksX0_row_1 14 rfl rfl)
theorem dX0_row_39 : decode cX0_row 39 = .ok (.ifCond .eq 7, 3) := dk_153 0 7 (dk_at dksX0_row_1 17 rfl rfl)
theorem dX0_row_42 : decode cX0_row 42 = .ok (.iconst 0, 1) := dk_3 (dk_at dksX0_row_1 20 rfl rfl)
theorem dX0_row_43 : decode cX0_row 43 = .ok (.goto 5, 3) := dk_167 0 5 (dk_at dksX0_row_1 21 rfl rfl)
theorem dX0_row_46 : decode cX0_row 46 = .ok (.bipush (-3), 2) := dk_16 253 (dk_at dksX0_row_2 0 rfl rfl)
theorem dX0_row_48 : decode cX0_row 48 = .ok (.ireturn, 1) := dk_172 (dk_at dksX0_row_2 2 rfl rfl)
abbrev cX0_isSlot : ByteArray := prog_1_method_4_code
def yX0_isSlot : MethodName := ⟨RX0, "isSlot", "(I)Z"⟩
def dkwX0_isSlot_0 : List UInt8 := [26, 133, 9, 20, 0, 9, 184, 0, 11, 172]
abbrev dktX0_isSlot_0 : List UInt8 := dkwX0_isSlot_0 ++ []
theorem dksX0_isSlot_0 : cX0_isSlot.data.toList.drop 0 = dktX0_isSlot_0 := by decide +kernel
theorem dX0_isSlot_0 : decode cX0_isSlot 0 = .ok (.iload_n 0, 1) := dk_26 (dk_at dksX0_isSlot_0 0 rfl rfl)
theorem dX0_isSlot_1 : decode cX0_isSlot 1 = .ok (.i2l, 1) := dk_133 (dk_at dksX0_isSlot_0 1 rfl rfl)
theorem dX0_isSlot_2 : decode cX0_isSlot 2 = .ok (.lconst 0, 1) := dk_9 (dk_at dksX0_isSlot_0 2 rfl rfl)
theorem dX0_isSlot_3 : decode cX0_isSlot 3 = .ok (.ldc2_w 9, 3) := dk_20 0 9 (dk_at dksX0_isSlot_0 3 rfl rfl)
theorem dX0_isSlot_6 : decode cX0_isSlot 6 = .ok (.invokestatic 11, 3) := dk_184 0 11 (dk_at dksX0_isSlot_0 6 rfl rfl)
theorem dX0_isSlot_9 : decode cX0_isSlot 9 = .ok (.ireturn, 1) := dk_172 (dk_at dksX0_isSlot_0 9 rfl rfl)
abbrev cX0_in : ByteArray := prog_1_method_1_code
def yX0_in : MethodName := ⟨RX0, "in", "(JJJ)Z"⟩
def dkwX0_in_0 : List UInt8 := [30, 32, 148, 155, 0, 14, 30, 22, 4, 148, 157, 0, 7, 4, 167, 0, 4, 3, 172]
abbrev dktX0_in_0 : List UInt8 := dkwX0_in_0 ++ []
theorem dksX0_in_0 : cX0_in.data.toList.drop 0 = dktX0_in_0 := by decide +kernel
theorem dX0_in_0 : decode cX0_in 0 = .ok (.lload_n 0, 1) := dk_30 (dk_at dksX0_in_0 0 rfl rfl)
theorem dX0_in_1 : decode cX0_in 1 = .ok (.lload_n 2, 1) := dk_32 (dk_at dksX0_in_0 1 rfl rfl)
theorem dX0_in_2 : decode cX0_in 2 = .ok (.lcmp, 1) := dk_148 (dk_at dksX0_in_0 2 rfl rfl)
theorem dX0_in_3 : decode cX0_in 3 = .ok (.ifCond .lt 14, 3) := dk_155 0 14 (dk_at dksX0_in_0 3 rfl rfl)
theorem dX0_in_6 : decode cX0_in 6 = .ok (.lload_n 0, 1) := dk_30 (dk_at dksX0_in_0 6 rfl rfl)
theorem dX0_in_7 : decode cX0_in 7 = .ok (.lload 4, 2) := dk_22 4 (dk_at dksX0_in_0 7 rfl rfl)
theorem dX0_in_9 : decode cX0_in 9 = .ok (.lcmp, 1) := dk_148 (dk_at dksX0_in_0 9 rfl rfl)
theorem dX0_in_10 : decode cX0_in 10 = .ok (.ifCond .gt 7, 3) := dk_157 0 7 (dk_at dksX0_in_0 10 rfl rfl)
theorem dX0_in_13 : decode cX0_in 13 = .ok (.iconst 1, 1) := dk_4 (dk_at dksX0_in_0 13 rfl rfl)
theorem dX0_in_14 : decode cX0_in 14 = .ok (.goto 4, 3) := dk_167 0 4 (dk_at dksX0_in_0 14 rfl rfl)
theorem dX0_in_17 : decode cX0_in 17 = .ok (.iconst 0, 1) := dk_3 (dk_at dksX0_in_0 17 rfl rfl)
theorem dX0_in_18 : decode cX0_in 18 = .ok (.ireturn, 1) := dk_172 (dk_at dksX0_in_0 18 rfl rfl)
abbrev cX0_write : ByteArray := prog_1_method_6_code
def yX0_write : MethodName := ⟨RX0, "write", "(IIJ)I"⟩
def dkwX0_write_0 : List UInt8 := [27, 184, 0, 15, 153, 0, 17, 42, 180, 0, 19, 27, 50, 28, 33, 182, 0, 29, 167, 0, 5, 16, 254, 172]
abbrev dktX0_write_0 : List UInt8 := dkwX0_write_0 ++ []
theorem dksX0_write_0 : cX0_write.data.toList.drop 0 = dktX0_write_0 := by decide +kernel
theorem dX0_write_0 : decode cX0_write 0 = .ok (.iload_n 1, 1) := dk_27 (dk_at dksX0_write_0 0 rfl rfl)
theorem dX0_write_1 : decode cX0_write 1 = .ok (.invokestatic 15, 3) := dk_184 0 15 (dk_at dksX0_write_0 1 rfl rfl)
theorem dX0_write_4 : decode cX0_write 4 = .ok (.ifCond .eq 17, 3) := dk_153 0 17 (dk_at dksX0_write_0 4 rfl rfl)
theorem dX0_write_7 : decode cX0_write 7 = .ok (.aload_n 0, 1) := dk_42 (dk_at dksX0_write_0 7 rfl rfl)
theorem dX0_write_8 : decode cX0_write 8 = .ok (.getfield 19, 3) := dk_180 0 19 (dk_at dksX0_write_0 8 rfl rfl)
theorem dX0_write_11 : decode cX0_write 11 = .ok (.iload_n 1, 1) := dk_27 (dk_at dksX0_write_0 11 rfl rfl)
theorem dX0_write_12 : decode cX0_write 12 = .ok (.aaload, 1) := dk_50 (dk_at dksX0_write_0 12 rfl rfl)
theorem dX0_write_13 : decode cX0_write 13 = .ok (.iload_n 2, 1) := dk_28 (dk_at dksX0_write_0 13 rfl rfl)
theorem dX0_write_14 : decode cX0_write 14 = .ok (.lload_n 3, 1) := dk_33 (dk_at dksX0_write_0 14 rfl rfl)
theorem dX0_write_15 : decode cX0_write 15 = .ok (.invokevirtual 29, 3) := dk_182 0 29 (dk_at dksX0_write_0 15 rfl rfl)
theorem dX0_write_18 : decode cX0_write 18 = .ok (.goto 5, 3) := dk_167 0 5 (dk_at dksX0_write_0 18 rfl rfl)
theorem dX0_write_21 : decode cX0_write 21 = .ok (.bipush (-2), 2) := dk_16 254 (dk_at dksX0_write_0 21 rfl rfl)
theorem dX0_write_23 : decode cX0_write 23 = .ok (.ireturn, 1) := dk_172 (dk_at dksX0_write_0 23 rfl rfl)
abbrev cX0_paste : ByteArray := prog_1_method_7_code
def yX0_paste : MethodName := ⟨RX0, "paste", "(IIIII)I"⟩
def dkwX0_paste_1 : List UInt8 := [180, 0, 19, 29, 50, 21, 4, 21, 5, 182, 0, 33, 167, 0, 5, 16, 254, 172]
abbrev dktX0_paste_1 : List UInt8 := dkwX0_paste_1 ++ []
def dkwX0_paste_0 : List UInt8 := [27, 184, 0, 15, 153, 0, 33, 29, 184, 0, 15, 153, 0, 26, 42, 180, 0, 19, 27, 50, 28, 42]
abbrev dktX0_paste_0 : List UInt8 := dkwX0_paste_0 ++ dktX0_paste_1
theorem dksX0_paste_0 : cX0_paste.data.toList.drop 0 = dktX0_paste_0 := by decide +kernel
theorem dksX0_paste_1 : cX0_paste.data.toList.drop 22 = dktX0_paste_1 := dk_seg dksX0_paste_0 22 rfl rfl
theorem dX0_paste_0 : decode cX0_paste 0 = .ok (.iload_n 1, 1) := dk_27 (dk_at dksX0_paste_0 0 rfl rfl)
theorem dX0_paste_1 : decode cX0_paste 1 = .ok (.invokestatic 15, 3) := dk_184 0 15 (dk_at dksX0_paste_0 1 rfl rfl)
theorem dX0_paste_4 : decode cX0_paste 4 = .ok (.ifCond .eq 33, 3) := dk_153 0 33 (dk_at dksX0_paste_0 4 rfl rfl)
theorem dX0_paste_7 : decode cX0_paste 7 = .ok (.iload_n 3, 1) := dk_29 (dk_at dksX0_paste_0 7 rfl rfl)
theorem dX0_paste_8 : decode cX0_paste 8 = .ok (.invokestatic 15, 3) := dk_184 0 15 (dk_at dksX0_paste_0 8 rfl rfl)
theorem dX0_paste_11 : decode cX0_paste 11 = .ok (.ifCond .eq 26, 3) := dk_153 0 26 (dk_at dksX0_paste_0 11 rfl rfl)
theorem dX0_paste_14 : decode cX0_paste 14 = .ok (.aload_n 0, 1) := dk_42 (dk_at dksX0_paste_0 14 rfl rfl)
theorem dX0_paste_15 : decode cX0_paste 15 = .ok (.getfield 19, 3) := dk_180 0 19 (dk_at dksX0_paste_0 15 rfl rfl)
theorem dX0_paste_18 : decode cX0_paste 18 = .ok (.iload_n 1, 1) := dk_27 (dk_at dksX0_paste_0 18 rfl rfl)
theorem dX0_paste_19 : decode cX0_paste 19 = .ok (.aaload, 1) := dk_50 (dk_at dksX0_paste_0 19 rfl rfl)
theorem dX0_paste_20 : decode cX0_paste 20 = .ok (.iload_n 2, 1) := dk_28 (dk_at dksX0_paste_0 20 rfl rfl)
theorem dX0_paste_21 : decode cX0_paste 21 = .ok (.aload_n 0, 1) := dk_42 (dk_at dksX0_paste_0 21 rfl rfl)
theorem dX0_paste_22 : decode cX0_paste 22 = .ok (.getfield 19, 3) := dk_180 0 19 (dk_at dksX0_paste_1 0 rfl rfl)
theorem dX0_paste_25 : decode cX0_paste 25 = .ok (.iload_n 3, 1) := dk_29 (dk_at dksX0_paste_1 3 rfl rfl)
theorem dX0_paste_26 : decode cX0_paste 26 = .ok (.aaload, 1) := dk_50 (dk_at dksX0_paste_1 4 rfl rfl)
theorem dX0_paste_27 : decode cX0_paste 27 = .ok (.iload 4, 2) := dk_21 4 (dk_at dksX0_paste_1 5 rfl rfl)
theorem dX0_paste_29 : decode cX0_paste 29 = .ok (.iload 5, 2) := dk_21 5 (dk_at dksX0_paste_1 7 rfl rfl)
theorem dX0_paste_31 : decode cX0_paste 31 = .ok (.invokevirtual 33, 3) := dk_182 0 33 (dk_at dksX0_paste_1 9 rfl rfl)
theorem dX0_paste_34 : decode cX0_paste 34 = .ok (.goto 5, 3) := dk_167 0 5 (dk_at dksX0_paste_1 12 rfl rfl)
theorem dX0_paste_37 : decode cX0_paste 37 = .ok (.bipush (-2), 2) := dk_16 254 (dk_at dksX0_paste_1 15 rfl rfl)
theorem dX0_paste_39 : decode cX0_paste 39 = .ok (.ireturn, 1) := dk_172 (dk_at dksX0_paste_1 17 rfl rfl)
abbrev cX0_init : ByteArray := prog_1_method_8_code
def yX0_init : MethodName := ⟨RX0, "<init>", "()V"⟩
def dkwX0_init_6 : List UInt8 := [42, 17, 7, 208, 188, 11, 181, 0, 93, 177]
abbrev dktX0_init_6 : List UInt8 := dkwX0_init_6 ++ []
def dkwX0_init_5 : List UInt8 := [181, 0, 79, 42, 187, 0, 82, 89, 42, 183, 0, 84, 181, 0, 85, 42, 17, 7, 208, 188, 11, 181, 0, 89]
abbrev dktX0_init_5 : List UInt8 := dkwX0_init_5 ++ dktX0_init_6
def dkwX0_init_4 : List UInt8 := [181, 0, 68, 42, 187, 0, 72, 89, 42, 183, 0, 74, 181, 0, 75, 42, 187, 0, 72, 89, 42, 183, 0, 74]
abbrev dktX0_init_4 : List UInt8 := dkwX0_init_4 ++ dktX0_init_5
def dkwX0_init_3 : List UInt8 := [17, 2, 188, 188, 8, 181, 0, 55, 42, 2, 181, 0, 59, 42, 187, 0, 63, 89, 42, 183, 0, 65]
abbrev dktX0_init_3 : List UInt8 := dkwX0_init_3 ++ dktX0_init_4
def dkwX0_init_2 : List UInt8 := [83, 181, 0, 19, 42, 187, 0, 44, 89, 183, 0, 46, 181, 0, 47, 42, 6, 189, 0, 44, 181, 0, 51, 42]
abbrev dktX0_init_2 : List UInt8 := dkwX0_init_2 ++ dktX0_init_3
def dkwX0_init_1 : List UInt8 := [89, 183, 0, 43, 83, 89, 5, 187, 0, 24, 89, 183, 0, 43, 83, 89, 6, 187, 0, 24, 89, 183, 0, 43]
abbrev dktX0_init_1 : List UInt8 := dkwX0_init_1 ++ dktX0_init_2
def dkwX0_init_0 : List UInt8 := [42, 183, 0, 37, 42, 7, 189, 0, 24, 89, 3, 187, 0, 24, 89, 183, 0, 43, 83, 89, 4, 187, 0, 24]
abbrev dktX0_init_0 : List UInt8 := dkwX0_init_0 ++ dktX0_init_1
theorem dksX0_init_0 : cX0_init.data.toList.drop 0 = dktX0_init_0 := by decide +kernel
theorem dksX0_init_1 : cX0_init.data.toList.drop 24 = dktX0_init_1 := dk_seg dksX0_init_0 24 rfl rfl
theorem dksX0_init_2 : cX0_init.data.toList.drop 48 = dktX0_init_2 := dk_seg dksX0_init_1 24 rfl rfl
theorem dksX0_init_3 : cX0_init.data.toList.drop 72 = dktX0_init_3 := dk_seg dksX0_init_2 24 rfl rfl
theorem dksX0_init_4 : cX0_init.data.toList.drop 94 = dktX0_init_4 := dk_seg dksX0_init_3 22 rfl rfl
theorem dksX0_init_5 : cX0_init.data.toList.drop 118 = dktX0_init_5 := dk_seg dksX0_init_4 24 rfl rfl
theorem dksX0_init_6 : cX0_init.data.toList.drop 142 = dktX0_init_6 := dk_seg dksX0_init_5 24 rfl rfl
theorem dX0_init_0 : decode cX0_init 0 = .ok (.aload_n 0, 1) := dk_42 (dk_at dksX0_init_0 0 rfl rfl)
theorem dX0_init_1 : decode cX0_init 1 = .ok (.invokespecial 37, 3) := dk_183 0 37 (dk_at dksX0_init_0 1 rfl rfl)
theorem dX0_init_4 : decode cX0_init 4 = .ok (.aload_n 0, 1) := dk_42 (dk_at dksX0_init_0 4 rfl rfl)
theorem dX0_init_5 : decode cX0_init 5 = .ok (.iconst 4, 1) := dk_7 (dk_at dksX0_init_0 5 rfl rfl)
theorem dX0_init_6 : decode cX0_init 6 = .ok (.anewarray 24, 3) := dk_189 0 24 (dk_at dksX0_init_0 6 rfl rfl)
theorem dX0_init_9 : decode cX0_init 9 = .ok (.dup, 1) := dk_89 (dk_at dksX0_init_0 9 rfl rfl)
theorem dX0_init_10 : decode cX0_init 10 = .ok (.iconst 0, 1) := dk_3 (dk_at dksX0_init_0 10 rfl rfl)
theorem dX0_init_11 : decode cX0_init 11 = .ok (.new 24, 3) := dk_187 0 24 (dk_at dksX0_init_0 11 rfl rfl)
theorem dX0_init_14 : decode cX0_init 14 = .ok (.dup, 1) := dk_89 (dk_at dksX0_init_0 14 rfl rfl)
theorem dX0_init_15 : decode cX0_init 15 = .ok (.invokespecial 43, 3) := dk_183 0 43 (dk_at dksX0_init_0 15 rfl rfl)
theorem dX0_init_18 : decode cX0_init 18 = .ok (.aastore, 1) := dk_83 (dk_at dksX0_init_0 18 rfl rfl)
theorem dX0_init_19 : decode cX0_init 19 = .ok (.dup, 1) := dk_89 (dk_at dksX0_init_0 19 rfl rfl)
theorem dX0_init_20 : decode cX0_init 20 = .ok (.iconst 1, 1) := dk_4 (dk_at dksX0_init_0 20 rfl rfl)
theorem dX0_init_21 : decode cX0_init 21 = .ok (.new 24, 3) := dk_187 0 24 (dk_at dksX0_init_0 21 rfl rfl)
theorem dX0_init_24 : decode cX0_init 24 = .ok (.dup, 1) := dk_89 (dk_at dksX0_init_1 0 rfl rfl)
theorem dX0_init_25 : decode cX0_init 25 = .ok (.invokespecial 43, 3) := dk_183 0 43 (dk_at dksX0_init_1 1 rfl rfl)
theorem dX0_init_28 : decode cX0_init 28 = .ok (.aastore, 1) := dk_83 (dk_at dksX0_init_1 4 rfl rfl)
theorem dX0_init_29 : decode cX0_init 29 = .ok (.dup, 1) := dk_89 (dk_at dksX0_init_1 5 rfl rfl)
theorem dX0_init_30 : decode cX0_init 30 = .ok (.iconst 2, 1) := dk_5 (dk_at dksX0_init_1 6 rfl rfl)
theorem dX0_init_31 : decode cX0_init 31 = .ok (.new 24, 3) := dk_187 0 24 (dk_at dksX0_init_1 7 rfl rfl)
theorem dX0_init_34 : decode cX0_init 34 = .ok (.dup, 1) := dk_89 (dk_at dksX0_init_1 10 rfl rfl)
theorem dX0_init_35 : decode cX0_init 35 = .ok (.invokespecial 43, 3) := dk_183 0 43 (dk_at dksX0_init_1 11 rfl rfl)
theorem dX0_init_38 : decode cX0_init 38 = .ok (.aastore, 1) := dk_83 (dk_at dksX0_init_1 14 rfl rfl)
theorem dX0_init_39 : decode cX0_init 39 = .ok (.dup, 1) := dk_89 (dk_at dksX0_init_1 15 rfl rfl)
theorem dX0_init_40 : decode cX0_init 40 = .ok (.iconst 3, 1) := dk_6 (dk_at dksX0_init_1 16 rfl rfl)
theorem dX0_init_41 : decode cX0_init 41 = .ok (.new 24, 3) := dk_187 0 24 (dk_at dksX0_init_1 17 rfl rfl)
theorem dX0_init_44 : decode cX0_init 44 = .ok (.dup, 1) := dk_89 (dk_at dksX0_init_1 20 rfl rfl)
theorem dX0_init_45 : decode cX0_init 45 = .ok (.invokespecial 43, 3) := dk_183 0 43 (dk_at dksX0_init_1 21 rfl rfl)
theorem dX0_init_48 : decode cX0_init 48 = .ok (.aastore, 1) := dk_83 (dk_at dksX0_init_2 0 rfl rfl)
theorem dX0_init_49 : decode cX0_init 49 = .ok (.putfield 19, 3) := dk_181 0 19 (dk_at dksX0_init_2 1 rfl rfl)
theorem dX0_init_52 : decode cX0_init 52 = .ok (.aload_n 0, 1) := dk_42 (dk_at dksX0_init_2 4 rfl rfl)
theorem dX0_init_53 : decode cX0_init 53 = .ok (.new 44, 3) := dk_187 0 44 (dk_at dksX0_init_2 5 rfl rfl)
theorem dX0_init_56 : decode cX0_init 56 = .ok (.dup, 1) := dk_89 (dk_at dksX0_init_2 8 rfl rfl)
theorem dX0_init_57 : decode cX0_init 57 = .ok (.invokespecial 46, 3) := dk_183 0 46 (dk_at dksX0_init_2 9 rfl rfl)
theorem dX0_init_60 : decode cX0_init 60 = .ok (.putfield 47, 3) := dk_181 0 47 (dk_at dksX0_init_2 12 rfl rfl)
theorem dX0_init_63 : decode cX0_init 63 = .ok (.aload_n 0, 1) := dk_42 (dk_at dksX0_init_2 15 rfl rfl)
theorem dX0_init_64 : decode cX0_init 64 = .ok (.iconst 3, 1) := dk_6 (dk_at dksX0_init_2 16 rfl rfl)
theorem dX0_init_65 : decode cX0_init 65 = .ok (.anewarray 44, 3) := dk_189 0 44 (dk_at dksX0_init_2 17 rfl rfl)
theorem dX0_init_68 : decode cX0_init 68 = .ok (.putfield 51, 3) := dk_181 0 51 (dk_at dksX0_init_2 20 rfl rfl)
theorem dX0_init_71 : decode cX0_init 71 = .ok (.aload_n 0, 1) := dk_42 (dk_at dksX0_init_2 23 rfl rfl)
theorem dX0_init_72 : decode cX0_init 72 = .ok (.sipush 700, 3) := dk_17 2 188 (dk_at dksX0_init_3 0 rfl rfl)
theorem dX0_init_75 : decode cX0_init 75 = .ok (.newarray .byte, 2) := dk_188_8 (dk_at dksX0_init_3 3 rfl rfl)
theorem dX0_init_77 : decode cX0_init 77 = .ok (.putfield 55, 3) := dk_181 0 55 (dk_at dksX0_init_3 5 rfl rfl)
theorem dX0_init_80 : decode cX0_init 80 = .ok (.aload_n 0, 1) := dk_42 (dk_at dksX0_init_3 8 rfl rfl)
theorem dX0_init_81 : decode cX0_init 81 = .ok (.iconst (-1), 1) := dk_2 (dk_at dksX0_init_3 9 rfl rfl)
theorem dX0_init_82 : decode cX0_init 82 = .ok (.putfield 59, 3) := dk_181 0 59 (dk_at dksX0_init_3 10 rfl rfl)
theorem dX0_init_85 : decode cX0_init 85 = .ok (.aload_n 0, 1) := dk_42 (dk_at dksX0_init_3 13 rfl rfl)
theorem dX0_init_86 : decode cX0_init 86 = .ok (.new 63, 3) := dk_187 0 63 (dk_at dksX0_init_3 14 rfl rfl)
theorem dX0_init_89 : decode cX0_init 89 = .ok (.dup, 1) := dk_89 (dk_at dksX0_init_3 17 rfl rfl)
theorem dX0_init_90 : decode cX0_init 90 = .ok (.aload_n 0, 1) := dk_42 (dk_at dksX0_init_3 18 rfl rfl)
theorem dX0_init_91 : decode cX0_init 91 = .ok (.invokespecial 65, 3) := dk_183 0 65 (dk_at dksX0_init_3 19 rfl rfl)
theorem dX0_init_94 : decode cX0_init 94 = .ok (.putfield 68, 3) := dk_181 0 68 (dk_at dksX0_init_4 0 rfl rfl)
theorem dX0_init_97 : decode cX0_init 97 = .ok (.aload_n 0, 1) := dk_42 (dk_at dksX0_init_4 3 rfl rfl)
theorem dX0_init_98 : decode cX0_init 98 = .ok (.new 72, 3) := dk_187 0 72 (dk_at dksX0_init_4 4 rfl rfl)
theorem dX0_init_101 : decode cX0_init 101 = .ok (.dup, 1) := dk_89 (dk_at dksX0_init_4 7 rfl rfl)
theorem dX0_init_102 : decode cX0_init 102 = .ok (.aload_n 0, 1) := dk_42 (dk_at dksX0_init_4 8 rfl rfl)
theorem dX0_init_103 : decode cX0_init 103 = .ok (.invokespecial 74, 3) := dk_183 0 74 (dk_at dksX0_init_4 9 rfl rfl)
theorem dX0_init_106 : decode cX0_init 106 = .ok (.putfield 75, 3) := dk_181 0 75 (dk_at dksX0_init_4 12 rfl rfl)
theorem dX0_init_109 : decode cX0_init 109 = .ok (.aload_n 0, 1) := dk_42 (dk_at dksX0_init_4 15 rfl rfl)
theorem dX0_init_110 : decode cX0_init 110 = .ok (.new 72, 3) := dk_187 0 72 (dk_at dksX0_init_4 16 rfl rfl)
theorem dX0_init_113 : decode cX0_init 113 = .ok (.dup, 1) := dk_89 (dk_at dksX0_init_4 19 rfl rfl)
theorem dX0_init_114 : decode cX0_init 114 = .ok (.aload_n 0, 1) := dk_42 (dk_at dksX0_init_4 20 rfl rfl)
theorem dX0_init_115 : decode cX0_init 115 = .ok (.invokespecial 74, 3) := dk_183 0 74 (dk_at dksX0_init_4 21 rfl rfl)
theorem dX0_init_118 : decode cX0_init 118 = .ok (.putfield 79, 3) := dk_181 0 79 (dk_at dksX0_init_5 0 rfl rfl)
theorem dX0_init_121 : decode cX0_init 121 = .ok (.aload_n 0, 1) := dk_42 (dk_at dksX0_init_5 3 rfl rfl)
theorem dX0_init_122 : decode cX0_init 122 = .ok (.new 82, 3) := dk_187 0 82 (dk_at dksX0_init_5 4 rfl rfl)
theorem dX0_init_125 : decode cX0_init 125 = .ok (.dup, 1) := dk_89 (dk_at dksX0_init_5 7 rfl rfl)
theorem dX0_init_126 : decode cX0_init 126 = .ok (.aload_n 0, 1) := dk_42 (dk_at dksX0_init_5 8 rfl rfl)
theorem dX0_init_127 : decode cX0_init 127 = .ok (.invokespecial 84, 3) := dk_183 0 84 (dk_at dksX0_init_5 9 rfl rfl)
theorem dX0_init_130 : decode cX0_init 130 = .ok (.putfield 85, 3) := dk_181 0 85 (dk_at dksX0_init_5 12 rfl rfl)
theorem dX0_init_133 : decode cX0_init 133 = .ok (.aload_n 0, 1) := dk_42 (dk_at dksX0_init_5 15 rfl rfl)
theorem dX0_init_134 : decode cX0_init 134 = .ok (.sipush 2000, 3) := dk_17 7 208 (dk_at dksX0_init_5 16 rfl rfl)
theorem dX0_init_137 : decode cX0_init 137 = .ok (.newarray .long, 2) := dk_188_11 (dk_at dksX0_init_5 19 rfl rfl)
theorem dX0_init_139 : decode cX0_init 139 = .ok (.putfield 89, 3) := dk_181 0 89 (dk_at dksX0_init_5 21 rfl rfl)
theorem dX0_init_142 : decode cX0_init 142 = .ok (.aload_n 0, 1) := dk_42 (dk_at dksX0_init_6 0 rfl rfl)
theorem dX0_init_143 : decode cX0_init 143 = .ok (.sipush 2000, 3) := dk_17 7 208 (dk_at dksX0_init_6 1 rfl rfl)
theorem dX0_init_146 : decode cX0_init 146 = .ok (.newarray .long, 2) := dk_188_11 (dk_at dksX0_init_6 4 rfl rfl)
theorem dX0_init_148 : decode cX0_init 148 = .ok (.putfield 93, 3) := dk_181 0 93 (dk_at dksX0_init_6 6 rfl rfl)
theorem dX0_init_151 : decode cX0_init 151 = .ok (.return_, 1) := dk_177 (dk_at dksX0_init_6 9 rfl rfl)
abbrev cX0_feed : ByteArray := prog_1_method_9_code
def yX0_feed : MethodName := ⟨RX0, "feed", "(IIIII)I"⟩
def dkwX0_feed_4 : List UInt8 := [16, 20, 96, 181, 0, 96, 42, 180, 0, 96, 172]
abbrev dktX0_feed_4 : List UInt8 := dkwX0_feed_4 ++ []
def dkwX0_feed_3 : List UInt8 := [16, 24, 16, 8, 21, 7, 7, 112, 104, 100, 122, 145, 84, 132, 7, 1, 167, 255, 215, 42, 89, 180, 0, 96]
abbrev dktX0_feed_3 : List UInt8 := dkwX0_feed_3 ++ dktX0_feed_4
def dkwX0_feed_2 : List UInt8 := [16, 20, 162, 0, 40, 42, 180, 0, 55, 42, 180, 0, 96, 21, 7, 96, 25, 6, 21, 7, 7, 108, 46]
abbrev dktX0_feed_2 : List UInt8 := dkwX0_feed_2 ++ dktX0_feed_3
def dkwX0_feed_1 : List UInt8 := [28, 79, 89, 5, 29, 79, 89, 6, 21, 4, 79, 89, 7, 21, 5, 79, 58, 6, 3, 54, 7, 21, 7]
abbrev dktX0_feed_1 : List UInt8 := dkwX0_feed_1 ++ dktX0_feed_2
def dkwX0_feed_0 : List UInt8 := [42, 180, 0, 96, 16, 20, 96, 17, 2, 188, 164, 0, 5, 2, 172, 8, 188, 10, 89, 3, 27, 79, 89, 4]
abbrev dktX0_feed_0 : List UInt8 := dkwX0_feed_0 ++ dktX0_feed_1
theorem dksX0_feed_0 : cX0_feed.data.toList.drop 0 = dktX0_feed_0 := by decide +kernel
theorem dksX0_feed_1 : cX0_feed.data.toList.drop 24 = dktX0_feed_1 := dk_seg dksX0_feed_0 24 rfl rfl
theorem dksX0_feed_2 : cX0_feed.data.toList.drop 47 = dktX0_feed_2 := dk_seg dksX0_feed_1 23 rfl rfl
theorem dksX0_feed_3 : cX0_feed.data.toList.drop 70 = dktX0_feed_3 := dk_seg dksX0_feed_2 23 rfl rfl
theorem dksX0_feed_4 : cX0_feed.data.toList.drop 94 = dktX0_feed_4 := dk_seg dksX0_feed_3 24 rfl rfl
theorem dX0_feed_0 : decode cX0_feed 0 = .ok (.aload_n 0, 1) := dk_42 (dk_at dksX0_feed_0 0 rfl rfl)
theorem dX0_feed_1 : decode cX0_feed 1 = .ok (.getfield 96, 3) := dk_180 0 96 (dk_at dksX0_feed_0 1 rfl rfl)
theorem dX0_feed_4 : decode cX0_feed 4 = .ok (.bipush 20, 2) := dk_16 20 (dk_at dksX0_feed_0 4 rfl rfl)
theorem dX0_feed_6 : decode cX0_feed 6 = .ok (.iadd, 1) := dk_96 (dk_at dksX0_feed_0 6 rfl rfl)
theorem dX0_feed_7 : decode cX0_feed 7 = .ok (.sipush 700, 3) := dk_17 2 188 (dk_at dksX0_feed_0 7 rfl rfl)
theorem dX0_feed_10 : decode cX0_feed 10 = .ok (.if_icmp .le 5, 3) := dk_164 0 5 (dk_at dksX0_feed_0 10 rfl rfl)
theorem dX0_feed_13 : decode cX0_feed 13 = .ok (.iconst (-1), 1) := dk_2 (dk_at dksX0_feed_0 13 rfl rfl)
theorem dX0_feed_14 : decode cX0_feed 14 = .ok (.ireturn, 1) := dk_172 (dk_at dksX0_feed_0 14 rfl rfl)
theorem dX0_feed_15 : decode cX0_feed 15 = .ok (.iconst 5, 1) := dk_8 (dk_at dksX0_feed_0 15 rfl rfl)
theorem dX0_feed_16 : decode cX0_feed 16 = .ok (.newarray .int, 2) := dk_188_10 (dk_at dksX0_feed_0 16 rfl rfl)
theorem dX0_feed_18 : decode cX0_feed 18 = .ok (.dup, 1) := dk_89 (dk_at dksX0_feed_0 18 rfl rfl)
theorem dX0_feed_19 : decode cX0_feed 19 = .ok (.iconst 0, 1) := dk_3 (dk_at dksX0_feed_0 19 rfl rfl)
theorem dX0_feed_20 : decode cX0_feed 20 = .ok (.iload_n 1, 1) := dk_27 (dk_at dksX0_feed_0 20 rfl rfl)
theorem dX0_feed_21 : decode cX0_feed 21 = .ok (.iastore, 1) := dk_79 (dk_at dksX0_feed_0 21 rfl rfl)
theorem dX0_feed_22 : decode cX0_feed 22 = .ok (.dup, 1) := dk_89 (dk_at dksX0_feed_0 22 rfl rfl)
theorem dX0_feed_23 : decode cX0_feed 23 = .ok (.iconst 1, 1) := dk_4 (dk_at dksX0_feed_0 23 rfl rfl)
theorem dX0_feed_24 : decode cX0_feed 24 = .ok (.iload_n 2, 1) := dk_28 (dk_at dksX0_feed_1 0 rfl rfl)
theorem dX0_feed_25 : decode cX0_feed 25 = .ok (.iastore, 1) := dk_79 (dk_at dksX0_feed_1 1 rfl rfl)
theorem dX0_feed_26 : decode cX0_feed 26 = .ok (.dup, 1) := dk_89 (dk_at dksX0_feed_1 2 rfl rfl)
theorem dX0_feed_27 : decode cX0_feed 27 = .ok (.iconst 2, 1) := dk_5 (dk_at dksX0_feed_1 3 rfl rfl)
theorem dX0_feed_28 : decode cX0_feed 28 = .ok (.iload_n 3, 1) := dk_29 (dk_at dksX0_feed_1 4 rfl rfl)
theorem dX0_feed_29 : decode cX0_feed 29 = .ok (.iastore, 1) := dk_79 (dk_at dksX0_feed_1 5 rfl rfl)
theorem dX0_feed_30 : decode cX0_feed 30 = .ok (.dup, 1) := dk_89 (dk_at dksX0_feed_1 6 rfl rfl)
theorem dX0_feed_31 : decode cX0_feed 31 = .ok (.iconst 3, 1) := dk_6 (dk_at dksX0_feed_1 7 rfl rfl)
theorem dX0_feed_32 : decode cX0_feed 32 = .ok (.iload 4, 2) := dk_21 4 (dk_at dksX0_feed_1 8 rfl rfl)
theorem dX0_feed_34 : decode cX0_feed 34 = .ok (.iastore, 1) := dk_79 (dk_at dksX0_feed_1 10 rfl rfl)
theorem dX0_feed_35 : decode cX0_feed 35 = .ok (.dup, 1) := dk_89 (dk_at dksX0_feed_1 11 rfl rfl)
theorem dX0_feed_36 : decode cX0_feed 36 = .ok (.iconst 4, 1) := dk_7 (dk_at dksX0_feed_1 12 rfl rfl)
theorem dX0_feed_37 : decode cX0_feed 37 = .ok (.iload 5, 2) := dk_21 5 (dk_at dksX0_feed_1 13 rfl rfl)
theorem dX0_feed_39 : decode cX0_feed 39 = .ok (.iastore, 1) := dk_79 (dk_at dksX0_feed_1 15 rfl rfl)
theorem dX0_feed_40 : decode cX0_feed 40 = .ok (.astore 6, 2) := dk_58 6 (dk_at dksX0_feed_1 16 rfl rfl)
theorem dX0_feed_42 : decode cX0_feed 42 = .ok (.iconst 0, 1) := dk_3 (dk_at dksX0_feed_1 18 rfl rfl)
theorem dX0_feed_43 : decode cX0_feed 43 = .ok (.istore 7, 2) := dk_54 7 (dk_at dksX0_feed_1 19 rfl rfl)
theorem dX0_feed_45 : decode cX0_feed 45 = .ok (.iload 7, 2) := dk_21 7 (dk_at dksX0_feed_1 21 rfl rfl)
theorem dX0_feed_47 : decode cX0_feed 47 = .ok (.bipush 20, 2) := dk_16 20 (dk_at dksX0_feed_2 0 rfl rfl)
theorem dX0_feed_49 : decode cX0_feed 49 = .ok (.if_icmp .ge 40, 3) := dk_162 0 40 (dk_at dksX0_feed_2 2 rfl rfl)
theorem dX0_feed_52 : decode cX0_feed 52 = .ok (.aload_n 0, 1) := dk_42 (dk_at dksX0_feed_2 5 rfl rfl)
theorem dX0_feed_53 : decode cX0_feed 53 = .ok (.getfield 55, 3) := dk_180 0 55 (dk_at dksX0_feed_2 6 rfl rfl)
theorem dX0_feed_56 : decode cX0_feed 56 = .ok (.aload_n 0, 1) := dk_42 (dk_at dksX0_feed_2 9 rfl rfl)
theorem dX0_feed_57 : decode cX0_feed 57 = .ok (.getfield 96, 3) := dk_180 0 96 (dk_at dksX0_feed_2 10 rfl rfl)
theorem dX0_feed_60 : decode cX0_feed 60 = .ok (.iload 7, 2) := dk_21 7 (dk_at dksX0_feed_2 13 rfl rfl)
theorem dX0_feed_62 : decode cX0_feed 62 = .ok (.iadd, 1) := dk_96 (dk_at dksX0_feed_2 15 rfl rfl)
theorem dX0_feed_63 : decode cX0_feed 63 = .ok (.aload 6, 2) := dk_25 6 (dk_at dksX0_feed_2 16 rfl rfl)
theorem dX0_feed_65 : decode cX0_feed 65 = .ok (.iload 7, 2) := dk_21 7 (dk_at dksX0_feed_2 18 rfl rfl)
theorem dX0_feed_67 : decode cX0_feed 67 = .ok (.iconst 4, 1) := dk_7 (dk_at dksX0_feed_2 20 rfl rfl)
theorem dX0_feed_68 : decode cX0_feed 68 = .ok (.idiv, 1) := dk_108 (dk_at dksX0_feed_2 21 rfl rfl)
theorem dX0_feed_69 : decode cX0_feed 69 = .ok (.iaload, 1) := dk_46 (dk_at dksX0_feed_2 22 rfl rfl)
theorem dX0_feed_70 : decode cX0_feed 70 = .ok (.bipush 24, 2) := dk_16 24 (dk_at dksX0_feed_3 0 rfl rfl)
theorem dX0_feed_72 : decode cX0_feed 72 = .ok (.bipush 8, 2) := dk_16 8 (dk_at dksX0_feed_3 2 rfl rfl)
theorem dX0_feed_74 : decode cX0_feed 74 = .ok (.iload 7, 2) := dk_21 7 (dk_at dksX0_feed_3 4 rfl rfl)
theorem dX0_feed_76 : decode cX0_feed 76 = .ok (.iconst 4, 1) := dk_7 (dk_at dksX0_feed_3 6 rfl rfl)
theorem dX0_feed_77 : decode cX0_feed 77 = .ok (.irem, 1) := dk_112 (dk_at dksX0_feed_3 7 rfl rfl)
theorem dX0_feed_78 : decode cX0_feed 78 = .ok (.imul, 1) := dk_104 (dk_at dksX0_feed_3 8 rfl rfl)
theorem dX0_feed_79 : decode cX0_feed 79 = .ok (.isub, 1) := dk_100 (dk_at dksX0_feed_3 9 rfl rfl)
theorem dX0_feed_80 : decode cX0_feed 80 = .ok (.ishr, 1) := dk_122 (dk_at dksX0_feed_3 10 rfl rfl)
theorem dX0_feed_81 : decode cX0_feed 81 = .ok (.i2b, 1) := dk_145 (dk_at dksX0_feed_3 11 rfl rfl)
theorem dX0_feed_82 : decode cX0_feed 82 = .ok (.bastore, 1) := dk_84 (dk_at dksX0_feed_3 12 rfl rfl)
theorem dX0_feed_83 : decode cX0_feed 83 = .ok (.iinc 7 1, 3) := dk_132 7 1 (dk_at dksX0_feed_3 13 rfl rfl)
theorem dX0_feed_86 : decode cX0_feed 86 = .ok (.goto (-41), 3) := dk_167 255 215 (dk_at dksX0_feed_3 16 rfl rfl)
theorem dX0_feed_89 : decode cX0_feed 89 = .ok (.aload_n 0, 1) := dk_42 (dk_at dksX0_feed_3 19 rfl rfl)
theorem dX0_feed_90 : decode cX0_feed 90 = .ok (.dup, 1) := dk_89 (dk_at dksX0_feed_3 20 rfl rfl)
theorem dX0_feed_91 : decode cX0_feed 91 = .ok (.getfield 96, 3) := dk_180 0 96 (dk_at dksX0_feed_3 21 rfl rfl)
theorem dX0_feed_94 : decode cX0_feed 94 = .ok (.bipush 20, 2) := dk_16 20 (dk_at dksX0_feed_4 0 rfl rfl)
theorem dX0_feed_96 : decode cX0_feed 96 = .ok (.iadd, 1) := dk_96 (dk_at dksX0_feed_4 2 rfl rfl)
theorem dX0_feed_97 : decode cX0_feed 97 = .ok (.putfield 96, 3) := dk_181 0 96 (dk_at dksX0_feed_4 3 rfl rfl)
theorem dX0_feed_100 : decode cX0_feed 100 = .ok (.aload_n 0, 1) := dk_42 (dk_at dksX0_feed_4 6 rfl rfl)
theorem dX0_feed_101 : decode cX0_feed 101 = .ok (.getfield 96, 3) := dk_180 0 96 (dk_at dksX0_feed_4 7 rfl rfl)
theorem dX0_feed_104 : decode cX0_feed 104 = .ok (.ireturn, 1) := dk_172 (dk_at dksX0_feed_4 10 rfl rfl)
abbrev cX0_end : ByteArray := prog_1_method_10_code
def yX0_end : MethodName := ⟨RX0, "end", "(I)I"⟩
def dkwX0_end_0 : List UInt8 := [27, 133, 9, 42, 180, 0, 96, 133, 184, 0, 11, 154, 0, 5, 2, 172, 42, 27, 181, 0, 96, 27, 172]
abbrev dktX0_end_0 : List UInt8 := dkwX0_end_0 ++ []
theorem dksX0_end_0 : cX0_end.data.toList.drop 0 = dktX0_end_0 := by decide +kernel
theorem dX0_end_0 : decode cX0_end 0 = .ok (.iload_n 1, 1) := dk_27 (dk_at dksX0_end_0 0 rfl rfl)
theorem dX0_end_1 : decode cX0_end 1 = .ok (.i2l, 1) := dk_133 (dk_at dksX0_end_0 1 rfl rfl)
theorem dX0_end_2 : decode cX0_end 2 = .ok (.lconst 0, 1) := dk_9 (dk_at dksX0_end_0 2 rfl rfl)
theorem dX0_end_3 : decode cX0_end 3 = .ok (.aload_n 0, 1) := dk_42 (dk_at dksX0_end_0 3 rfl rfl)
theorem dX0_end_4 : decode cX0_end 4 = .ok (.getfield 96, 3) := dk_180 0 96 (dk_at dksX0_end_0 4 rfl rfl)
theorem dX0_end_7 : decode cX0_end 7 = .ok (.i2l, 1) := dk_133 (dk_at dksX0_end_0 7 rfl rfl)
theorem dX0_end_8 : decode cX0_end 8 = .ok (.invokestatic 11, 3) := dk_184 0 11 (dk_at dksX0_end_0 8 rfl rfl)
theorem dX0_end_11 : decode cX0_end 11 = .ok (.ifCond .ne 5, 3) := dk_154 0 5 (dk_at dksX0_end_0 11 rfl rfl)
theorem dX0_end_14 : decode cX0_end 14 = .ok (.iconst (-1), 1) := dk_2 (dk_at dksX0_end_0 14 rfl rfl)
theorem dX0_end_15 : decode cX0_end 15 = .ok (.ireturn, 1) := dk_172 (dk_at dksX0_end_0 15 rfl rfl)
theorem dX0_end_16 : decode cX0_end 16 = .ok (.aload_n 0, 1) := dk_42 (dk_at dksX0_end_0 16 rfl rfl)
theorem dX0_end_17 : decode cX0_end 17 = .ok (.iload_n 1, 1) := dk_27 (dk_at dksX0_end_0 17 rfl rfl)
theorem dX0_end_18 : decode cX0_end 18 = .ok (.putfield 96, 3) := dk_181 0 96 (dk_at dksX0_end_0 18 rfl rfl)
theorem dX0_end_21 : decode cX0_end 21 = .ok (.iload_n 1, 1) := dk_27 (dk_at dksX0_end_0 21 rfl rfl)
theorem dX0_end_22 : decode cX0_end 22 = .ok (.ireturn, 1) := dk_172 (dk_at dksX0_end_0 22 rfl rfl)
abbrev cX0_rivers : ByteArray := prog_1_method_11_code
def yX0_rivers : MethodName := ⟨RX0, "rivers", "()I"⟩
def dkwX0_rivers_4 : List UInt8 := [181, 0, 96, 45, 191]
abbrev dktX0_rivers_4 : List UInt8 := dkwX0_rivers_4 ++ []
def dkwX0_rivers_3 : List UInt8 := [181, 0, 112, 42, 43, 180, 0, 123, 181, 0, 59, 16, 252, 61, 42, 3, 181, 0, 96, 28, 172, 78, 42, 3]
abbrev dktX0_rivers_3 : List UInt8 := dkwX0_rivers_3 ++ dktX0_rivers_4
def dkwX0_rivers_2 : List UInt8 := [181, 0, 59, 42, 180, 0, 47, 180, 0, 115, 61, 42, 3, 181, 0, 96, 28, 172, 76, 42, 43, 180, 0, 120]
abbrev dktX0_rivers_2 : List UInt8 := dkwX0_rivers_2 ++ dktX0_rivers_3
def dkwX0_rivers_1 : List UInt8 := [153, 0, 7, 43, 167, 0, 10, 187, 0, 44, 89, 183, 0, 46, 181, 0, 47, 42, 3, 181, 0, 112, 42, 2]
abbrev dktX0_rivers_1 : List UInt8 := dkwX0_rivers_1 ++ dktX0_rivers_2
def dkwX0_rivers_0 : List UInt8 := [187, 0, 99, 89, 42, 180, 0, 55, 42, 180, 0, 96, 183, 0, 101, 182, 0, 104, 76, 42, 43, 182, 0, 108]
abbrev dktX0_rivers_0 : List UInt8 := dkwX0_rivers_0 ++ dktX0_rivers_1
theorem dksX0_rivers_0 : cX0_rivers.data.toList.drop 0 = dktX0_rivers_0 := by decide +kernel
theorem dksX0_rivers_1 : cX0_rivers.data.toList.drop 24 = dktX0_rivers_1 := dk_seg dksX0_rivers_0 24 rfl rfl
theorem dksX0_rivers_2 : cX0_rivers.data.toList.drop 48 = dktX0_rivers_2 := dk_seg dksX0_rivers_1 24 rfl rfl
theorem dksX0_rivers_3 : cX0_rivers.data.toList.drop 72 = dktX0_rivers_3 := dk_seg dksX0_rivers_2 24 rfl rfl
theorem dksX0_rivers_4 : cX0_rivers.data.toList.drop 96 = dktX0_rivers_4 := dk_seg dksX0_rivers_3 24 rfl rfl
theorem dX0_rivers_0 : decode cX0_rivers 0 = .ok (.new 99, 3) := dk_187 0 99 (dk_at dksX0_rivers_0 0 rfl rfl)
theorem dX0_rivers_3 : decode cX0_rivers 3 = .ok (.dup, 1) := dk_89 (dk_at dksX0_rivers_0 3 rfl rfl)
theorem dX0_rivers_4 : decode cX0_rivers 4 = .ok (.aload_n 0, 1) := dk_42 (dk_at dksX0_rivers_0 4 rfl rfl)
theorem dX0_rivers_5 : decode cX0_rivers 5 = .ok (.getfield 55, 3) := dk_180 0 55 (dk_at dksX0_rivers_0 5 rfl rfl)
theorem dX0_rivers_8 : decode cX0_rivers 8 = .ok (.aload_n 0, 1) := dk_42 (dk_at dksX0_rivers_0 8 rfl rfl)
theorem dX0_rivers_9 : decode cX0_rivers 9 = .ok (.getfield 96, 3) := dk_180 0 96 (dk_at dksX0_rivers_0 9 rfl rfl)
theorem dX0_rivers_12 : decode cX0_rivers 12 = .ok (.invokespecial 101, 3) := dk_183 0 101 (dk_at dksX0_rivers_0 12 rfl rfl)
theorem dX0_rivers_15 : decode cX0_rivers 15 = .ok (.invokevirtual 104, 3) := dk_182 0 104 (dk_at dksX0_rivers_0 15 rfl rfl)
theorem dX0_rivers_18 : decode cX0_rivers 18 = .ok (.astore_n 1, 1) := dk_76 (dk_at dksX0_rivers_0 18 rfl rfl)
theorem dX0_rivers_19 : decode cX0_rivers 19 = .ok (.aload_n 0, 1) := dk_42 (dk_at dksX0_rivers_0 19 rfl rfl)
theorem dX0_rivers_20 : decode cX0_rivers 20 = .ok (.aload_n 1, 1) := dk_43 (dk_at dksX0_rivers_0 20 rfl rfl)
theorem dX0_rivers_21 : decode cX0_rivers 21 = .ok (.invokevirtual 108, 3) := dk_182 0 108 (dk_at dksX0_rivers_0 21 rfl rfl)
theorem dX0_rivers_24 : decode cX0_rivers 24 = .ok (.ifCond .eq 7, 3) := dk_153 0 7 (dk_at dksX0_rivers_1 0 rfl rfl)
theorem dX0_rivers_27 : decode cX0_rivers 27 = .ok (.aload_n 1, 1) := dk_43 (dk_at dksX0_rivers_1 3 rfl rfl)
theorem dX0_rivers_28 : decode cX0_rivers 28 = .ok (.goto 10, 3) := dk_167 0 10 (dk_at dksX0_rivers_1 4 rfl rfl)
theorem dX0_rivers_31 : decode cX0_rivers 31 = .ok (.new 44, 3) := dk_187 0 44 (dk_at dksX0_rivers_1 7 rfl rfl)
theorem dX0_rivers_34 : decode cX0_rivers 34 = .ok (.dup, 1) := dk_89 (dk_at dksX0_rivers_1 10 rfl rfl)
theorem dX0_rivers_35 : decode cX0_rivers 35 = .ok (.invokespecial 46, 3) := dk_183 0 46 (dk_at dksX0_rivers_1 11 rfl rfl)
theorem dX0_rivers_38 : decode cX0_rivers 38 = .ok (.putfield 47, 3) := dk_181 0 47 (dk_at dksX0_rivers_1 14 rfl rfl)
theorem dX0_rivers_41 : decode cX0_rivers 41 = .ok (.aload_n 0, 1) := dk_42 (dk_at dksX0_rivers_1 17 rfl rfl)
theorem dX0_rivers_42 : decode cX0_rivers 42 = .ok (.iconst 0, 1) := dk_3 (dk_at dksX0_rivers_1 18 rfl rfl)
theorem dX0_rivers_43 : decode cX0_rivers 43 = .ok (.putfield 112, 3) := dk_181 0 112 (dk_at dksX0_rivers_1 19 rfl rfl)
theorem dX0_rivers_46 : decode cX0_rivers 46 = .ok (.aload_n 0, 1) := dk_42 (dk_at dksX0_rivers_1 22 rfl rfl)
theorem dX0_rivers_47 : decode cX0_rivers 47 = .ok (.iconst (-1), 1) := dk_2 (dk_at dksX0_rivers_1 23 rfl rfl)
theorem dX0_rivers_48 : decode cX0_rivers 48 = .ok (.putfield 59, 3) := dk_181 0 59 (dk_at dksX0_rivers_2 0 rfl rfl)
theorem dX0_rivers_51 : decode cX0_rivers 51 = .ok (.aload_n 0, 1) := dk_42 (dk_at dksX0_rivers_2 3 rfl rfl)
theorem dX0_rivers_52 : decode cX0_rivers 52 = .ok (.getfield 47, 3) := dk_180 0 47 (dk_at dksX0_rivers_2 4 rfl rfl)
theorem dX0_rivers_55 : decode cX0_rivers 55 = .ok (.getfield 115, 3) := dk_180 0 115 (dk_at dksX0_rivers_2 7 rfl rfl)
theorem dX0_rivers_58 : decode cX0_rivers 58 = .ok (.istore_n 2, 1) := dk_61 (dk_at dksX0_rivers_2 10 rfl rfl)
theorem dX0_rivers_59 : decode cX0_rivers 59 = .ok (.aload_n 0, 1) := dk_42 (dk_at dksX0_rivers_2 11 rfl rfl)
theorem dX0_rivers_60 : decode cX0_rivers 60 = .ok (.iconst 0, 1) := dk_3 (dk_at dksX0_rivers_2 12 rfl rfl)
theorem dX0_rivers_61 : decode cX0_rivers 61 = .ok (.putfield 96, 3) := dk_181 0 96 (dk_at dksX0_rivers_2 13 rfl rfl)
theorem dX0_rivers_64 : decode cX0_rivers 64 = .ok (.iload_n 2, 1) := dk_28 (dk_at dksX0_rivers_2 16 rfl rfl)
theorem dX0_rivers_65 : decode cX0_rivers 65 = .ok (.ireturn, 1) := dk_172 (dk_at dksX0_rivers_2 17 rfl rfl)
theorem dX0_rivers_66 : decode cX0_rivers 66 = .ok (.astore_n 1, 1) := dk_76 (dk_at dksX0_rivers_2 18 rfl rfl)
theorem dX0_rivers_67 : decode cX0_rivers 67 = .ok (.aload_n 0, 1) := dk_42 (dk_at dksX0_rivers_2 19 rfl rfl)
theorem dX0_rivers_68 : decode cX0_rivers 68 = .ok (.aload_n 1, 1) := dk_43 (dk_at dksX0_rivers_2 20 rfl rfl)
theorem dX0_rivers_69 : decode cX0_rivers 69 = .ok (.getfield 120, 3) := dk_180 0 120 (dk_at dksX0_rivers_2 21 rfl rfl)
theorem dX0_rivers_72 : decode cX0_rivers 72 = .ok (.putfield 112, 3) := dk_181 0 112 (dk_at dksX0_rivers_3 0 rfl rfl)
theorem dX0_rivers_75 : decode cX0_rivers 75 = .ok (.aload_n 0, 1) := dk_42 (dk_at dksX0_rivers_3 3 rfl rfl)
theorem dX0_rivers_76 : decode cX0_rivers 76 = .ok (.aload_n 1, 1) := dk_43 (dk_at dksX0_rivers_3 4 rfl rfl)
theorem dX0_rivers_77 : decode cX0_rivers 77 = .ok (.getfield 123, 3) := dk_180 0 123 (dk_at dksX0_rivers_3 5 rfl rfl)
theorem dX0_rivers_80 : decode cX0_rivers 80 = .ok (.putfield 59, 3) := dk_181 0 59 (dk_at dksX0_rivers_3 8 rfl rfl)
theorem dX0_rivers_83 : decode cX0_rivers 83 = .ok (.bipush (-4), 2) := dk_16 252 (dk_at dksX0_rivers_3 11 rfl rfl)
theorem dX0_rivers_85 : decode cX0_rivers 85 = .ok (.istore_n 2, 1) := dk_61 (dk_at dksX0_rivers_3 13 rfl rfl)
theorem dX0_rivers_86 : decode cX0_rivers 86 = .ok (.aload_n 0, 1) := dk_42 (dk_at dksX0_rivers_3 14 rfl rfl)
theorem dX0_rivers_87 : decode cX0_rivers 87 = .ok (.iconst 0, 1) := dk_3 (dk_at dksX0_rivers_3 15 rfl rfl)
theorem dX0_rivers_88 : decode cX0_rivers 88 = .ok (.putfield 96, 3) := dk_181 0 96 (dk_at dksX0_rivers_3 16 rfl rfl)
theorem dX0_rivers_91 : decode cX0_rivers 91 = .ok (.iload_n 2, 1) := dk_28 (dk_at dksX0_rivers_3 19 rfl rfl)
theorem dX0_rivers_92 : decode cX0_rivers 92 = .ok (.ireturn, 1) := dk_172 (dk_at dksX0_rivers_3 20 rfl rfl)
theorem dX0_rivers_93 : decode cX0_rivers 93 = .ok (.astore_n 3, 1) := dk_78 (dk_at dksX0_rivers_3 21 rfl rfl)
theorem dX0_rivers_94 : decode cX0_rivers 94 = .ok (.aload_n 0, 1) := dk_42 (dk_at dksX0_rivers_3 22 rfl rfl)
theorem dX0_rivers_95 : decode cX0_rivers 95 = .ok (.iconst 0, 1) := dk_3 (dk_at dksX0_rivers_3 23 rfl rfl)
theorem dX0_rivers_96 : decode cX0_rivers 96 = .ok (.putfield 96, 3) := dk_181 0 96 (dk_at dksX0_rivers_4 0 rfl rfl)
theorem dX0_rivers_99 : decode cX0_rivers 99 = .ok (.aload_n 3, 1) := dk_45 (dk_at dksX0_rivers_4 3 rfl rfl)
theorem dX0_rivers_100 : decode cX0_rivers 100 = .ok (.athrow, 1) := dk_191 (dk_at dksX0_rivers_4 4 rfl rfl)
abbrev cX0_fault : ByteArray := prog_1_method_12_code
def yX0_fault : MethodName := ⟨RX0, "fault", "(I)I"⟩
def dkwX0_fault_1 : List UInt8 := [172]
abbrev dktX0_fault_1 : List UInt8 := dkwX0_fault_1 ++ []
def dkwX0_fault_0 : List UInt8 := [27, 154, 0, 10, 42, 180, 0, 112, 167, 0, 16, 27, 4, 160, 0, 10, 42, 180, 0, 59, 167, 0, 4, 2]
abbrev dktX0_fault_0 : List UInt8 := dkwX0_fault_0 ++ dktX0_fault_1
theorem dksX0_fault_0 : cX0_fault.data.toList.drop 0 = dktX0_fault_0 := by decide +kernel
theorem dksX0_fault_1 : cX0_fault.data.toList.drop 24 = dktX0_fault_1 := dk_seg dksX0_fault_0 24 rfl rfl
theorem dX0_fault_0 : decode cX0_fault 0 = .ok (.iload_n 1, 1) := dk_27 (dk_at dksX0_fault_0 0 rfl rfl)
theorem dX0_fault_1 : decode cX0_fault 1 = .ok (.ifCond .ne 10, 3) := dk_154 0 10 (dk_at dksX0_fault_0 1 rfl rfl)
theorem dX0_fault_4 : decode cX0_fault 4 = .ok (.aload_n 0, 1) := dk_42 (dk_at dksX0_fault_0 4 rfl rfl)
theorem dX0_fault_5 : decode cX0_fault 5 = .ok (.getfield 112, 3) := dk_180 0 112 (dk_at dksX0_fault_0 5 rfl rfl)
theorem dX0_fault_8 : decode cX0_fault 8 = .ok (.goto 16, 3) := dk_167 0 16 (dk_at dksX0_fault_0 8 rfl rfl)
theorem dX0_fault_11 : decode cX0_fault 11 = .ok (.iload_n 1, 1) := dk_27 (dk_at dksX0_fault_0 11 rfl rfl)
theorem dX0_fault_12 : decode cX0_fault 12 = .ok (.iconst 1, 1) := dk_4 (dk_at dksX0_fault_0 12 rfl rfl)
theorem dX0_fault_13 : decode cX0_fault 13 = .ok (.if_icmp .ne 10, 3) := dk_160 0 10 (dk_at dksX0_fault_0 13 rfl rfl)
theorem dX0_fault_16 : decode cX0_fault 16 = .ok (.aload_n 0, 1) := dk_42 (dk_at dksX0_fault_0 16 rfl rfl)
theorem dX0_fault_17 : decode cX0_fault 17 = .ok (.getfield 59, 3) := dk_180 0 59 (dk_at dksX0_fault_0 17 rfl rfl)
theorem dX0_fault_20 : decode cX0_fault 20 = .ok (.goto 4, 3) := dk_167 0 4 (dk_at dksX0_fault_0 20 rfl rfl)
theorem dX0_fault_23 : decode cX0_fault 23 = .ok (.iconst (-1), 1) := dk_2 (dk_at dksX0_fault_0 23 rfl rfl)
theorem dX0_fault_24 : decode cX0_fault 24 = .ok (.ireturn, 1) := dk_172 (dk_at dksX0_fault_1 0 rfl rfl)
abbrev cX0_reach : ByteArray := prog_1_method_22_code
def yX0_reach : MethodName := ⟨RX0, "reach", "(II)I"⟩
def dkwX0_reach_2 : List UInt8 := [180, 0, 167, 167, 0, 16, 42, 27, 182, 0, 160, 180, 0, 170, 167, 0, 5, 16, 254, 172]
abbrev dktX0_reach_2 : List UInt8 := dkwX0_reach_2 ++ []
def dkwX0_reach_1 : List UInt8 := [154, 0, 14, 42, 27, 182, 0, 160, 180, 0, 164, 167, 0, 32, 28, 4, 160, 0, 14, 42, 27, 182, 0, 160]
abbrev dktX0_reach_1 : List UInt8 := dkwX0_reach_1 ++ dktX0_reach_2
def dkwX0_reach_0 : List UInt8 := [42, 27, 133, 182, 0, 151, 153, 0, 57, 28, 133, 9, 20, 0, 158, 184, 0, 11, 153, 0, 45, 28]
abbrev dktX0_reach_0 : List UInt8 := dkwX0_reach_0 ++ dktX0_reach_1
theorem dksX0_reach_0 : cX0_reach.data.toList.drop 0 = dktX0_reach_0 := by decide +kernel
theorem dksX0_reach_1 : cX0_reach.data.toList.drop 22 = dktX0_reach_1 := dk_seg dksX0_reach_0 22 rfl rfl
theorem dksX0_reach_2 : cX0_reach.data.toList.drop 46 = dktX0_reach_2 := dk_seg dksX0_reach_1 24 rfl rfl
theorem dX0_reach_0 : decode cX0_reach 0 = .ok (.aload_n 0, 1) := dk_42 (dk_at dksX0_reach_0 0 rfl rfl)
theorem dX0_reach_1 : decode cX0_reach 1 = .ok (.iload_n 1, 1) := dk_27 (dk_at dksX0_reach_0 1 rfl rfl)
theorem dX0_reach_2 : decode cX0_reach 2 = .ok (.i2l, 1) := dk_133 (dk_at dksX0_reach_0 2 rfl rfl)
theorem dX0_reach_3 : decode cX0_reach 3 = .ok (.invokevirtual 151, 3) := dk_182 0 151 (dk_at dksX0_reach_0 3 rfl rfl)
theorem dX0_reach_6 : decode cX0_reach 6 = .ok (.ifCond .eq 57, 3) := dk_153 0 57 (dk_at dksX0_reach_0 6 rfl rfl)
theorem dX0_reach_9 : decode cX0_reach 9 = .ok (.iload_n 2, 1) := dk_28 (dk_at dksX0_reach_0 9 rfl rfl)
theorem dX0_reach_10 : decode cX0_reach 10 = .ok (.i2l, 1) := dk_133 (dk_at dksX0_reach_0 10 rfl rfl)
theorem dX0_reach_11 : decode cX0_reach 11 = .ok (.lconst 0, 1) := dk_9 (dk_at dksX0_reach_0 11 rfl rfl)
theorem dX0_reach_12 : decode cX0_reach 12 = .ok (.ldc2_w 158, 3) := dk_20 0 158 (dk_at dksX0_reach_0 12 rfl rfl)
theorem dX0_reach_15 : decode cX0_reach 15 = .ok (.invokestatic 11, 3) := dk_184 0 11 (dk_at dksX0_reach_0 15 rfl rfl)
theorem dX0_reach_18 : decode cX0_reach 18 = .ok (.ifCond .eq 45, 3) := dk_153 0 45 (dk_at dksX0_reach_0 18 rfl rfl)
theorem dX0_reach_21 : decode cX0_reach 21 = .ok (.iload_n 2, 1) := dk_28 (dk_at dksX0_reach_0 21 rfl rfl)
theorem dX0_reach_22 : decode cX0_reach 22 = .ok (.ifCond .ne 14, 3) := dk_154 0 14 (dk_at dksX0_reach_1 0 rfl rfl)
theorem dX0_reach_25 : decode cX0_reach 25 = .ok (.aload_n 0, 1) := dk_42 (dk_at dksX0_reach_1 3 rfl rfl)
theorem dX0_reach_26 : decode cX0_reach 26 = .ok (.iload_n 1, 1) := dk_27 (dk_at dksX0_reach_1 4 rfl rfl)
theorem dX0_reach_27 : decode cX0_reach 27 = .ok (.invokevirtual 160, 3) := dk_182 0 160 (dk_at dksX0_reach_1 5 rfl rfl)
theorem dX0_reach_30 : decode cX0_reach 30 = .ok (.getfield 164, 3) := dk_180 0 164 (dk_at dksX0_reach_1 8 rfl rfl)
theorem dX0_reach_33 : decode cX0_reach 33 = .ok (.goto 32, 3) := dk_167 0 32 (dk_at dksX0_reach_1 11 rfl rfl)
theorem dX0_reach_36 : decode cX0_reach 36 = .ok (.iload_n 2, 1) := dk_28 (dk_at dksX0_reach_1 14 rfl rfl)
theorem dX0_reach_37 : decode cX0_reach 37 = .ok (.iconst 1, 1) := dk_4 (dk_at dksX0_reach_1 15 rfl rfl)
theorem dX0_reach_38 : decode cX0_reach 38 = .ok (.if_icmp .ne 14, 3) := dk_160 0 14 (dk_at dksX0_reach_1 16 rfl rfl)
theorem dX0_reach_41 : decode cX0_reach 41 = .ok (.aload_n 0, 1) := dk_42 (dk_at dksX0_reach_1 19 rfl rfl)
theorem dX0_reach_42 : decode cX0_reach 42 = .ok (.iload_n 1, 1) := dk_27 (dk_at dksX0_reach_1 20 rfl rfl)
theorem dX0_reach_43 : decode cX0_reach 43 = .ok (.invokevirtual 160, 3) := dk_182 0 160 (dk_at dksX0_reach_1 21 rfl rfl)
theorem dX0_reach_46 : decode cX0_reach 46 = .ok (.getfield 167, 3) := dk_180 0 167 (dk_at dksX0_reach_2 0 rfl rfl)
theorem dX0_reach_49 : decode cX0_reach 49 = .ok (.goto 16, 3) := dk_167 0 16 (dk_at dksX0_reach_2 3 rfl rfl)
theorem dX0_reach_52 : decode cX0_reach 52 = .ok (.aload_n 0, 1) := dk_42 (dk_at dksX0_reach_2 6 rfl rfl)
theorem dX0_reach_53 : decode cX0_reach 53 = .ok (.iload_n 1, 1) := dk_27 (dk_at dksX0_reach_2 7 rfl rfl)
theorem dX0_reach_54 : decode cX0_reach 54 = .ok (.invokevirtual 160, 3) := dk_182 0 160 (dk_at dksX0_reach_2 8 rfl rfl)
theorem dX0_reach_57 : decode cX0_reach 57 = .ok (.getfield 170, 3) := dk_180 0 170 (dk_at dksX0_reach_2 11 rfl rfl)
theorem dX0_reach_60 : decode cX0_reach 60 = .ok (.goto 5, 3) := dk_167 0 5 (dk_at dksX0_reach_2 14 rfl rfl)
theorem dX0_reach_63 : decode cX0_reach 63 = .ok (.bipush (-2), 2) := dk_16 254 (dk_at dksX0_reach_2 17 rfl rfl)
theorem dX0_reach_65 : decode cX0_reach 65 = .ok (.ireturn, 1) := dk_172 (dk_at dksX0_reach_2 19 rfl rfl)
abbrev cX0_isReach : ByteArray := prog_1_method_16_code
def yX0_isReach : MethodName := ⟨RX0, "isReach", "(J)Z"⟩
def dkwX0_isReach_0 : List UInt8 := [31, 9, 42, 182, 0, 147, 4, 100, 133, 184, 0, 11, 172]
abbrev dktX0_isReach_0 : List UInt8 := dkwX0_isReach_0 ++ []
theorem dksX0_isReach_0 : cX0_isReach.data.toList.drop 0 = dktX0_isReach_0 := by decide +kernel
theorem dX0_isReach_0 : decode cX0_isReach 0 = .ok (.lload_n 1, 1) := dk_31 (dk_at dksX0_isReach_0 0 rfl rfl)
theorem dX0_isReach_1 : decode cX0_isReach 1 = .ok (.lconst 0, 1) := dk_9 (dk_at dksX0_isReach_0 1 rfl rfl)
theorem dX0_isReach_2 : decode cX0_isReach 2 = .ok (.aload_n 0, 1) := dk_42 (dk_at dksX0_isReach_0 2 rfl rfl)
theorem dX0_isReach_3 : decode cX0_isReach 3 = .ok (.invokevirtual 147, 3) := dk_182 0 147 (dk_at dksX0_isReach_0 3 rfl rfl)
theorem dX0_isReach_6 : decode cX0_isReach 6 = .ok (.iconst 1, 1) := dk_4 (dk_at dksX0_isReach_0 6 rfl rfl)
theorem dX0_isReach_7 : decode cX0_isReach 7 = .ok (.isub, 1) := dk_100 (dk_at dksX0_isReach_0 7 rfl rfl)
theorem dX0_isReach_8 : decode cX0_isReach 8 = .ok (.i2l, 1) := dk_133 (dk_at dksX0_isReach_0 8 rfl rfl)
theorem dX0_isReach_9 : decode cX0_isReach 9 = .ok (.invokestatic 11, 3) := dk_184 0 11 (dk_at dksX0_isReach_0 9 rfl rfl)
theorem dX0_isReach_12 : decode cX0_isReach 12 = .ok (.ireturn, 1) := dk_172 (dk_at dksX0_isReach_0 12 rfl rfl)
abbrev cX0_reaches : ByteArray := prog_1_method_13_code
def yX0_reaches : MethodName := ⟨RX0, "reaches", "()I"⟩
def dkwX0_reaches_0 : List UInt8 := [42, 180, 0, 47, 180, 0, 126, 185, 0, 130, 1, 0, 172]
abbrev dktX0_reaches_0 : List UInt8 := dkwX0_reaches_0 ++ []
theorem dksX0_reaches_0 : cX0_reaches.data.toList.drop 0 = dktX0_reaches_0 := by decide +kernel
theorem dX0_reaches_0 : decode cX0_reaches 0 = .ok (.aload_n 0, 1) := dk_42 (dk_at dksX0_reaches_0 0 rfl rfl)
theorem dX0_reaches_1 : decode cX0_reaches 1 = .ok (.getfield 47, 3) := dk_180 0 47 (dk_at dksX0_reaches_0 1 rfl rfl)
theorem dX0_reaches_4 : decode cX0_reaches 4 = .ok (.getfield 126, 3) := dk_180 0 126 (dk_at dksX0_reaches_0 4 rfl rfl)
theorem dX0_reaches_7 : decode cX0_reaches 7 = .ok (.invokeinterface 130 1, 5) := by decide +kernel
theorem dX0_reaches_12 : decode cX0_reaches 12 = .ok (.ireturn, 1) := dk_172 (dk_at dksX0_reaches_0 12 rfl rfl)
abbrev cX0_one : ByteArray := prog_1_method_14_code
def yX0_one : MethodName := ⟨RX0, "one", "(I)LQuotedRiver$Reach;"⟩
def dkwX0_one_0 : List UInt8 := [42, 180, 0, 47, 180, 0, 126, 27, 185, 0, 136, 2, 0, 192, 0, 140, 176]
abbrev dktX0_one_0 : List UInt8 := dkwX0_one_0 ++ []
theorem dksX0_one_0 : cX0_one.data.toList.drop 0 = dktX0_one_0 := by decide +kernel
theorem dX0_one_0 : decode cX0_one 0 = .ok (.aload_n 0, 1) := dk_42 (dk_at dksX0_one_0 0 rfl rfl)
theorem dX0_one_1 : decode cX0_one 1 = .ok (.getfield 47, 3) := dk_180 0 47 (dk_at dksX0_one_0 1 rfl rfl)
theorem dX0_one_4 : decode cX0_one 4 = .ok (.getfield 126, 3) := dk_180 0 126 (dk_at dksX0_one_0 4 rfl rfl)
theorem dX0_one_7 : decode cX0_one 7 = .ok (.iload_n 1, 1) := dk_27 (dk_at dksX0_one_0 7 rfl rfl)
theorem dX0_one_8 : decode cX0_one 8 = .ok (.invokeinterface 136 2, 5) := by decide +kernel
theorem dX0_one_13 : decode cX0_one 13 = .ok (.checkcast 140, 3) := dk_192 0 140 (dk_at dksX0_one_0 13 rfl rfl)
theorem dX0_one_16 : decode cX0_one 16 = .ok (.areturn, 1) := dk_176 (dk_at dksX0_one_0 16 rfl rfl)
abbrev cX0_join : ByteArray := prog_1_method_23_code
def yX0_join : MethodName := ⟨RX0, "join", "(II)I"⟩
def dkwX0_join_2 : List UInt8 := [180, 0, 183, 167, 0, 19, 28, 5, 160, 0, 10, 45, 180, 0, 184, 167, 0, 7, 45, 180, 0, 187, 172]
abbrev dktX0_join_2 : List UInt8 := dkwX0_join_2 ++ []
def dkwX0_join_1 : List UInt8 := [27, 182, 0, 176, 78, 28, 154, 0, 10, 45, 180, 0, 180, 167, 0, 31, 28, 4, 160, 0, 10, 45]
abbrev dktX0_join_1 : List UInt8 := dkwX0_join_1 ++ dktX0_join_2
def dkwX0_join_0 : List UInt8 := [42, 27, 182, 0, 173, 153, 0, 15, 28, 133, 9, 20, 0, 9, 184, 0, 11, 154, 0, 6, 16, 254, 172, 42]
abbrev dktX0_join_0 : List UInt8 := dkwX0_join_0 ++ dktX0_join_1
theorem dksX0_join_0 : cX0_join.data.toList.drop 0 = dktX0_join_0 := by decide +kernel
theorem dksX0_join_1 : cX0_join.data.toList.drop 24 = dktX0_join_1 := dk_seg dksX0_join_0 24 rfl rfl
theorem dksX0_join_2 : cX0_join.data.toList.drop 46 = dktX0_join_2 := dk_seg dksX0_join_1 22 rfl rfl
theorem dX0_join_0 : decode cX0_join 0 = .ok (.aload_n 0, 1) := dk_42 (dk_at dksX0_join_0 0 rfl rfl)
theorem dX0_join_1 : decode cX0_join 1 = .ok (.iload_n 1, 1) := dk_27 (dk_at dksX0_join_0 1 rfl rfl)
theorem dX0_join_2 : decode cX0_join 2 = .ok (.invokevirtual 173, 3) := dk_182 0 173 (dk_at dksX0_join_0 2 rfl rfl)
theorem dX0_join_5 : decode cX0_join 5 = .ok (.ifCond .eq 15, 3) := dk_153 0 15 (dk_at dksX0_join_0 5 rfl rfl)
theorem dX0_join_8 : decode cX0_join 8 = .ok (.iload_n 2, 1) := dk_28 (dk_at dksX0_join_0 8 rfl rfl)
theorem dX0_join_9 : decode cX0_join 9 = .ok (.i2l, 1) := dk_133 (dk_at dksX0_join_0 9 rfl rfl)
theorem dX0_join_10 : decode cX0_join 10 = .ok (.lconst 0, 1) := dk_9 (dk_at dksX0_join_0 10 rfl rfl)
theorem dX0_join_11 : decode cX0_join 11 = .ok (.ldc2_w 9, 3) := dk_20 0 9 (dk_at dksX0_join_0 11 rfl rfl)
theorem dX0_join_14 : decode cX0_join 14 = .ok (.invokestatic 11, 3) := dk_184 0 11 (dk_at dksX0_join_0 14 rfl rfl)
theorem dX0_join_17 : decode cX0_join 17 = .ok (.ifCond .ne 6, 3) := dk_154 0 6 (dk_at dksX0_join_0 17 rfl rfl)
theorem dX0_join_20 : decode cX0_join 20 = .ok (.bipush (-2), 2) := dk_16 254 (dk_at dksX0_join_0 20 rfl rfl)
theorem dX0_join_22 : decode cX0_join 22 = .ok (.ireturn, 1) := dk_172 (dk_at dksX0_join_0 22 rfl rfl)
theorem dX0_join_23 : decode cX0_join 23 = .ok (.aload_n 0, 1) := dk_42 (dk_at dksX0_join_0 23 rfl rfl)
theorem dX0_join_24 : decode cX0_join 24 = .ok (.iload_n 1, 1) := dk_27 (dk_at dksX0_join_1 0 rfl rfl)
theorem dX0_join_25 : decode cX0_join 25 = .ok (.invokevirtual 176, 3) := dk_182 0 176 (dk_at dksX0_join_1 1 rfl rfl)
theorem dX0_join_28 : decode cX0_join 28 = .ok (.astore_n 3, 1) := dk_78 (dk_at dksX0_join_1 4 rfl rfl)
theorem dX0_join_29 : decode cX0_join 29 = .ok (.iload_n 2, 1) := dk_28 (dk_at dksX0_join_1 5 rfl rfl)
theorem dX0_join_30 : decode cX0_join 30 = .ok (.ifCond .ne 10, 3) := dk_154 0 10 (dk_at dksX0_join_1 6 rfl rfl)
theorem dX0_join_33 : decode cX0_join 33 = .ok (.aload_n 3, 1) := dk_45 (dk_at dksX0_join_1 9 rfl rfl)
theorem dX0_join_34 : decode cX0_join 34 = .ok (.getfield 180, 3) := dk_180 0 180 (dk_at dksX0_join_1 10 rfl rfl)
theorem dX0_join_37 : decode cX0_join 37 = .ok (.goto 31, 3) := dk_167 0 31 (dk_at dksX0_join_1 13 rfl rfl)
theorem dX0_join_40 : decode cX0_join 40 = .ok (.iload_n 2, 1) := dk_28 (dk_at dksX0_join_1 16 rfl rfl)
theorem dX0_join_41 : decode cX0_join 41 = .ok (.iconst 1, 1) := dk_4 (dk_at dksX0_join_1 17 rfl rfl)
theorem dX0_join_42 : decode cX0_join 42 = .ok (.if_icmp .ne 10, 3) := dk_160 0 10 (dk_at dksX0_join_1 18 rfl rfl)
theorem dX0_join_45 : decode cX0_join 45 = .ok (.aload_n 3, 1) := dk_45 (dk_at dksX0_join_1 21 rfl rfl)
theorem dX0_join_46 : decode cX0_join 46 = .ok (.getfield 183, 3) := dk_180 0 183 (dk_at dksX0_join_2 0 rfl rfl)
theorem dX0_join_49 : decode cX0_join 49 = .ok (.goto 19, 3) := dk_167 0 19 (dk_at dksX0_join_2 3 rfl rfl)
theorem dX0_join_52 : decode cX0_join 52 = .ok (.iload_n 2, 1) := dk_28 (dk_at dksX0_join_2 6 rfl rfl)
theorem dX0_join_53 : decode cX0_join 53 = .ok (.iconst 2, 1) := dk_5 (dk_at dksX0_join_2 7 rfl rfl)
theorem dX0_join_54 : decode cX0_join 54 = .ok (.if_icmp .ne 10, 3) := dk_160 0 10 (dk_at dksX0_join_2 8 rfl rfl)
theorem dX0_join_57 : decode cX0_join 57 = .ok (.aload_n 3, 1) := dk_45 (dk_at dksX0_join_2 11 rfl rfl)
theorem dX0_join_58 : decode cX0_join 58 = .ok (.getfield 184, 3) := dk_180 0 184 (dk_at dksX0_join_2 12 rfl rfl)
theorem dX0_join_61 : decode cX0_join 61 = .ok (.goto 7, 3) := dk_167 0 7 (dk_at dksX0_join_2 15 rfl rfl)
theorem dX0_join_64 : decode cX0_join 64 = .ok (.aload_n 3, 1) := dk_45 (dk_at dksX0_join_2 18 rfl rfl)
theorem dX0_join_65 : decode cX0_join 65 = .ok (.getfield 187, 3) := dk_180 0 187 (dk_at dksX0_join_2 19 rfl rfl)
theorem dX0_join_68 : decode cX0_join 68 = .ok (.ireturn, 1) := dk_172 (dk_at dksX0_join_2 22 rfl rfl)
abbrev cX0_isJoin : ByteArray := prog_1_method_17_code
def yX0_isJoin : MethodName := ⟨RX0, "isJoin", "(I)Z"⟩
def dkwX0_isJoin_0 : List UInt8 := [27, 133, 9, 42, 180, 0, 47, 180, 0, 142, 185, 0, 130, 1, 0, 4, 100, 133, 184, 0, 11, 172]
abbrev dktX0_isJoin_0 : List UInt8 := dkwX0_isJoin_0 ++ []
theorem dksX0_isJoin_0 : cX0_isJoin.data.toList.drop 0 = dktX0_isJoin_0 := by decide +kernel
theorem dX0_isJoin_0 : decode cX0_isJoin 0 = .ok (.iload_n 1, 1) := dk_27 (dk_at dksX0_isJoin_0 0 rfl rfl)
theorem dX0_isJoin_1 : decode cX0_isJoin 1 = .ok (.i2l, 1) := dk_133 (dk_at dksX0_isJoin_0 1 rfl rfl)
theorem dX0_isJoin_2 : decode cX0_isJoin 2 = .ok (.lconst 0, 1) := dk_9 (dk_at dksX0_isJoin_0 2 rfl rfl)
theorem dX0_isJoin_3 : decode cX0_isJoin 3 = .ok (.aload_n 0, 1) := dk_42 (dk_at dksX0_isJoin_0 3 rfl rfl)
theorem dX0_isJoin_4 : decode cX0_isJoin 4 = .ok (.getfield 47, 3) := dk_180 0 47 (dk_at dksX0_isJoin_0 4 rfl rfl)
theorem dX0_isJoin_7 : decode cX0_isJoin 7 = .ok (.getfield 142, 3) := dk_180 0 142 (dk_at dksX0_isJoin_0 7 rfl rfl)
theorem dX0_isJoin_10 : decode cX0_isJoin 10 = .ok (.invokeinterface 130 1, 5) := by decide +kernel
theorem dX0_isJoin_15 : decode cX0_isJoin 15 = .ok (.iconst 1, 1) := dk_4 (dk_at dksX0_isJoin_0 15 rfl rfl)
theorem dX0_isJoin_16 : decode cX0_isJoin 16 = .ok (.isub, 1) := dk_100 (dk_at dksX0_isJoin_0 16 rfl rfl)
theorem dX0_isJoin_17 : decode cX0_isJoin 17 = .ok (.i2l, 1) := dk_133 (dk_at dksX0_isJoin_0 17 rfl rfl)
theorem dX0_isJoin_18 : decode cX0_isJoin 18 = .ok (.invokestatic 11, 3) := dk_184 0 11 (dk_at dksX0_isJoin_0 18 rfl rfl)
theorem dX0_isJoin_21 : decode cX0_isJoin 21 = .ok (.ireturn, 1) := dk_172 (dk_at dksX0_isJoin_0 21 rfl rfl)
abbrev cX0_joinOf : ByteArray := prog_1_method_15_code
def yX0_joinOf : MethodName := ⟨RX0, "joinOf", "(I)LQuotedRiver$Join;"⟩
def dkwX0_joinOf_0 : List UInt8 := [42, 180, 0, 47, 180, 0, 142, 27, 185, 0, 136, 2, 0, 192, 0, 145, 176]
abbrev dktX0_joinOf_0 : List UInt8 := dkwX0_joinOf_0 ++ []
theorem dksX0_joinOf_0 : cX0_joinOf.data.toList.drop 0 = dktX0_joinOf_0 := by decide +kernel
theorem dX0_joinOf_0 : decode cX0_joinOf 0 = .ok (.aload_n 0, 1) := dk_42 (dk_at dksX0_joinOf_0 0 rfl rfl)
theorem dX0_joinOf_1 : decode cX0_joinOf 1 = .ok (.getfield 47, 3) := dk_180 0 47 (dk_at dksX0_joinOf_0 1 rfl rfl)
theorem dX0_joinOf_4 : decode cX0_joinOf 4 = .ok (.getfield 142, 3) := dk_180 0 142 (dk_at dksX0_joinOf_0 4 rfl rfl)
theorem dX0_joinOf_7 : decode cX0_joinOf 7 = .ok (.iload_n 1, 1) := dk_27 (dk_at dksX0_joinOf_0 7 rfl rfl)
theorem dX0_joinOf_8 : decode cX0_joinOf 8 = .ok (.invokeinterface 136 2, 5) := by decide +kernel
theorem dX0_joinOf_13 : decode cX0_joinOf 13 = .ok (.checkcast 145, 3) := dk_192 0 145 (dk_at dksX0_joinOf_0 13 rfl rfl)
theorem dX0_joinOf_16 : decode cX0_joinOf 16 = .ok (.areturn, 1) := dk_176 (dk_at dksX0_joinOf_0 16 rfl rfl)
abbrev cX0_idle : ByteArray := prog_1_method_25_code
def yX0_idle : MethodName := ⟨RX0, "idle", "(I)I"⟩
def dkwX0_idle_2 : List UInt8 := [96, 61, 132, 3, 1, 167, 255, 227, 28, 172]
abbrev dktX0_idle_2 : List UInt8 := dkwX0_idle_2 ++ []
def dkwX0_idle_1 : List UInt8 := [29, 16, 60, 163, 0, 29, 28, 42, 180, 0, 68, 27, 29, 182, 0, 197, 153, 0, 7, 4, 167, 0, 4, 3]
abbrev dktX0_idle_1 : List UInt8 := dkwX0_idle_1 ++ dktX0_idle_2
def dkwX0_idle_0 : List UInt8 := [42, 27, 133, 182, 0, 151, 154, 0, 6, 16, 254, 172, 42, 180, 0, 68, 182, 0, 190, 87, 3, 61, 3, 62]
abbrev dktX0_idle_0 : List UInt8 := dkwX0_idle_0 ++ dktX0_idle_1
theorem dksX0_idle_0 : cX0_idle.data.toList.drop 0 = dktX0_idle_0 := by decide +kernel
theorem dksX0_idle_1 : cX0_idle.data.toList.drop 24 = dktX0_idle_1 := dk_seg dksX0_idle_0 24 rfl rfl
theorem dksX0_idle_2 : cX0_idle.data.toList.drop 48 = dktX0_idle_2 := dk_seg dksX0_idle_1 24 rfl rfl
theorem dX0_idle_0 : decode cX0_idle 0 = .ok (.aload_n 0, 1) := dk_42 (dk_at dksX0_idle_0 0 rfl rfl)
theorem dX0_idle_1 : decode cX0_idle 1 = .ok (.iload_n 1, 1) := dk_27 (dk_at dksX0_idle_0 1 rfl rfl)
theorem dX0_idle_2 : decode cX0_idle 2 = .ok (.i2l, 1) := dk_133 (dk_at dksX0_idle_0 2 rfl rfl)
theorem dX0_idle_3 : decode cX0_idle 3 = .ok (.invokevirtual 151, 3) := dk_182 0 151 (dk_at dksX0_idle_0 3 rfl rfl)
theorem dX0_idle_6 : decode cX0_idle 6 = .ok (.ifCond .ne 6, 3) := dk_154 0 6 (dk_at dksX0_idle_0 6 rfl rfl)
theorem dX0_idle_9 : decode cX0_idle 9 = .ok (.bipush (-2), 2) := dk_16 254 (dk_at dksX0_idle_0 9 rfl rfl)
theorem dX0_idle_11 : decode cX0_idle 11 = .ok (.ireturn, 1) := dk_172 (dk_at dksX0_idle_0 11 rfl rfl)
theorem dX0_idle_12 : decode cX0_idle 12 = .ok (.aload_n 0, 1) := dk_42 (dk_at dksX0_idle_0 12 rfl rfl)
theorem dX0_idle_13 : decode cX0_idle 13 = .ok (.getfield 68, 3) := dk_180 0 68 (dk_at dksX0_idle_0 13 rfl rfl)
theorem dX0_idle_16 : decode cX0_idle 16 = .ok (.invokevirtual 190, 3) := dk_182 0 190 (dk_at dksX0_idle_0 16 rfl rfl)
theorem dX0_idle_19 : decode cX0_idle 19 = .ok (.pop, 1) := dk_87 (dk_at dksX0_idle_0 19 rfl rfl)
theorem dX0_idle_20 : decode cX0_idle 20 = .ok (.iconst 0, 1) := dk_3 (dk_at dksX0_idle_0 20 rfl rfl)
theorem dX0_idle_21 : decode cX0_idle 21 = .ok (.istore_n 2, 1) := dk_61 (dk_at dksX0_idle_0 21 rfl rfl)
theorem dX0_idle_22 : decode cX0_idle 22 = .ok (.iconst 0, 1) := dk_3 (dk_at dksX0_idle_0 22 rfl rfl)
theorem dX0_idle_23 : decode cX0_idle 23 = .ok (.istore_n 3, 1) := dk_62 (dk_at dksX0_idle_0 23 rfl rfl)
theorem dX0_idle_24 : decode cX0_idle 24 = .ok (.iload_n 3, 1) := dk_29 (dk_at dksX0_idle_1 0 rfl rfl)
theorem dX0_idle_25 : decode cX0_idle 25 = .ok (.bipush 60, 2) := dk_16 60 (dk_at dksX0_idle_1 1 rfl rfl)
theorem dX0_idle_27 : decode cX0_idle 27 = .ok (.if_icmp .gt 29, 3) := dk_163 0 29 (dk_at dksX0_idle_1 3 rfl rfl)
theorem dX0_idle_30 : decode cX0_idle 30 = .ok (.iload_n 2, 1) := dk_28 (dk_at dksX0_idle_1 6 rfl rfl)
theorem dX0_idle_31 : decode cX0_idle 31 = .ok (.aload_n 0, 1) := dk_42 (dk_at dksX0_idle_1 7 rfl rfl)
theorem dX0_idle_32 : decode cX0_idle 32 = .ok (.getfield 68, 3) := dk_180 0 68 (dk_at dksX0_idle_1 8 rfl rfl)
theorem dX0_idle_35 : decode cX0_idle 35 = .ok (.iload_n 1, 1) := dk_27 (dk_at dksX0_idle_1 11 rfl rfl)
theorem dX0_idle_36 : decode cX0_idle 36 = .ok (.iload_n 3, 1) := dk_29 (dk_at dksX0_idle_1 12 rfl rfl)
theorem dX0_idle_37 : decode cX0_idle 37 = .ok (.invokevirtual 197, 3) := dk_182 0 197 (dk_at dksX0_idle_1 13 rfl rfl)
theorem dX0_idle_40 : decode cX0_idle 40 = .ok (.ifCond .eq 7, 3) := dk_153 0 7 (dk_at dksX0_idle_1 16 rfl rfl)
theorem dX0_idle_43 : decode cX0_idle 43 = .ok (.iconst 1, 1) := dk_4 (dk_at dksX0_idle_1 19 rfl rfl)
theorem dX0_idle_44 : decode cX0_idle 44 = .ok (.goto 4, 3) := dk_167 0 4 (dk_at dksX0_idle_1 20 rfl rfl)
theorem dX0_idle_47 : decode cX0_idle 47 = .ok (.iconst 0, 1) := dk_3 (dk_at dksX0_idle_1 23 rfl rfl)
theorem dX0_idle_48 : decode cX0_idle 48 = .ok (.iadd, 1) := dk_96 (dk_at dksX0_idle_2 0 rfl rfl)
theorem dX0_idle_49 : decode cX0_idle 49 = .ok (.istore_n 2, 1) := dk_61 (dk_at dksX0_idle_2 1 rfl rfl)
theorem dX0_idle_50 : decode cX0_idle 50 = .ok (.iinc 3 1, 3) := dk_132 3 1 (dk_at dksX0_idle_2 2 rfl rfl)
theorem dX0_idle_53 : decode cX0_idle 53 = .ok (.goto (-29), 3) := dk_167 255 227 (dk_at dksX0_idle_2 5 rfl rfl)
theorem dX0_idle_56 : decode cX0_idle 56 = .ok (.iload_n 2, 1) := dk_28 (dk_at dksX0_idle_2 8 rfl rfl)
theorem dX0_idle_57 : decode cX0_idle 57 = .ok (.ireturn, 1) := dk_172 (dk_at dksX0_idle_2 9 rfl rfl)
abbrev cX0_alike : ByteArray := prog_1_method_26_code
def yX0_alike : MethodName := ⟨RX0, "alike", "(II)I"⟩
def dkwX0_alike_4 : List UInt8 := [167, 255, 200, 29, 172]
abbrev dktX0_alike_4 : List UInt8 := dkwX0_alike_4 ++ []
def dkwX0_alike_3 : List UInt8 := [180, 0, 79, 180, 0, 206, 21, 4, 46, 160, 0, 7, 4, 167, 0, 4, 3, 96, 62, 132, 4, 1]
abbrev dktX0_alike_3 : List UInt8 := dkwX0_alike_3 ++ dktX0_alike_4
def dkwX0_alike_2 : List UInt8 := [180, 0, 206, 21, 4, 46, 16, 10, 162, 0, 30, 42, 180, 0, 75, 180, 0, 206, 21, 4, 46, 42]
abbrev dktX0_alike_2 : List UInt8 := dkwX0_alike_2 ++ dktX0_alike_3
def dkwX0_alike_1 : List UInt8 := [3, 182, 0, 193, 87, 3, 62, 3, 54, 4, 21, 4, 16, 60, 163, 0, 55, 29, 42, 180, 0, 75]
abbrev dktX0_alike_1 : List UInt8 := dkwX0_alike_1 ++ dktX0_alike_2
def dkwX0_alike_0 : List UInt8 := [42, 27, 28, 182, 0, 200, 154, 0, 6, 16, 254, 172, 42, 27, 3, 182, 0, 203, 87, 42, 180, 0, 79, 28]
abbrev dktX0_alike_0 : List UInt8 := dkwX0_alike_0 ++ dktX0_alike_1
theorem dksX0_alike_0 : cX0_alike.data.toList.drop 0 = dktX0_alike_0 := by decide +kernel
theorem dksX0_alike_1 : cX0_alike.data.toList.drop 24 = dktX0_alike_1 := dk_seg dksX0_alike_0 24 rfl rfl
theorem dksX0_alike_2 : cX0_alike.data.toList.drop 46 = dktX0_alike_2 := dk_seg dksX0_alike_1 22 rfl rfl
theorem dksX0_alike_3 : cX0_alike.data.toList.drop 68 = dktX0_alike_3 := dk_seg dksX0_alike_2 22 rfl rfl
theorem dksX0_alike_4 : cX0_alike.data.toList.drop 90 = dktX0_alike_4 := dk_seg dksX0_alike_3 22 rfl rfl
theorem dX0_alike_0 : decode cX0_alike 0 = .ok (.aload_n 0, 1) := dk_42 (dk_at dksX0_alike_0 0 rfl rfl)
theorem dX0_alike_1 : decode cX0_alike 1 = .ok (.iload_n 1, 1) := dk_27 (dk_at dksX0_alike_0 1 rfl rfl)
theorem dX0_alike_2 : decode cX0_alike 2 = .ok (.iload_n 2, 1) := dk_28 (dk_at dksX0_alike_0 2 rfl rfl)
theorem dX0_alike_3 : decode cX0_alike 3 = .ok (.invokevirtual 200, 3) := dk_182 0 200 (dk_at dksX0_alike_0 3 rfl rfl)
theorem dX0_alike_6 : decode cX0_alike 6 = .ok (.ifCond .ne 6, 3) := dk_154 0 6 (dk_at dksX0_alike_0 6 rfl rfl)
theorem dX0_alike_9 : decode cX0_alike 9 = .ok (.bipush (-2), 2) := dk_16 254 (dk_at dksX0_alike_0 9 rfl rfl)
theorem dX0_alike_11 : decode cX0_alike 11 = .ok (.ireturn, 1) := dk_172 (dk_at dksX0_alike_0 11 rfl rfl)
theorem dX0_alike_12 : decode cX0_alike 12 = .ok (.aload_n 0, 1) := dk_42 (dk_at dksX0_alike_0 12 rfl rfl)
theorem dX0_alike_13 : decode cX0_alike 13 = .ok (.iload_n 1, 1) := dk_27 (dk_at dksX0_alike_0 13 rfl rfl)
theorem dX0_alike_14 : decode cX0_alike 14 = .ok (.iconst 0, 1) := dk_3 (dk_at dksX0_alike_0 14 rfl rfl)
theorem dX0_alike_15 : decode cX0_alike 15 = .ok (.invokevirtual 203, 3) := dk_182 0 203 (dk_at dksX0_alike_0 15 rfl rfl)
theorem dX0_alike_18 : decode cX0_alike 18 = .ok (.pop, 1) := dk_87 (dk_at dksX0_alike_0 18 rfl rfl)
theorem dX0_alike_19 : decode cX0_alike 19 = .ok (.aload_n 0, 1) := dk_42 (dk_at dksX0_alike_0 19 rfl rfl)
theorem dX0_alike_20 : decode cX0_alike 20 = .ok (.getfield 79, 3) := dk_180 0 79 (dk_at dksX0_alike_0 20 rfl rfl)
theorem dX0_alike_23 : decode cX0_alike 23 = .ok (.iload_n 2, 1) := dk_28 (dk_at dksX0_alike_0 23 rfl rfl)
theorem dX0_alike_24 : decode cX0_alike 24 = .ok (.iconst 0, 1) := dk_3 (dk_at dksX0_alike_1 0 rfl rfl)
theorem dX0_alike_25 : decode cX0_alike 25 = .ok (.invokevirtual 193, 3) := dk_182 0 193 (dk_at dksX0_alike_1 1 rfl rfl)
theorem dX0_alike_28 : decode cX0_alike 28 = .ok (.pop, 1) := dk_87 (dk_at dksX0_alike_1 4 rfl rfl)
theorem dX0_alike_29 : decode cX0_alike 29 = .ok (.iconst 0, 1) := dk_3 (dk_at dksX0_alike_1 5 rfl rfl)
theorem dX0_alike_30 : decode cX0_alike 30 = .ok (.istore_n 3, 1) := dk_62 (dk_at dksX0_alike_1 6 rfl rfl)
theorem dX0_alike_31 : decode cX0_alike 31 = .ok (.iconst 0, 1) := dk_3 (dk_at dksX0_alike_1 7 rfl rfl)
theorem dX0_alike_32 : decode cX0_alike 32 = .ok (.istore 4, 2) := dk_54 4 (dk_at dksX0_alike_1 8 rfl rfl)
theorem dX0_alike_34 : decode cX0_alike 34 = .ok (.iload 4, 2) := dk_21 4 (dk_at dksX0_alike_1 10 rfl rfl)
theorem dX0_alike_36 : decode cX0_alike 36 = .ok (.bipush 60, 2) := dk_16 60 (dk_at dksX0_alike_1 12 rfl rfl)
theorem dX0_alike_38 : decode cX0_alike 38 = .ok (.if_icmp .gt 55, 3) := dk_163 0 55 (dk_at dksX0_alike_1 14 rfl rfl)
theorem dX0_alike_41 : decode cX0_alike 41 = .ok (.iload_n 3, 1) := dk_29 (dk_at dksX0_alike_1 17 rfl rfl)
theorem dX0_alike_42 : decode cX0_alike 42 = .ok (.aload_n 0, 1) := dk_42 (dk_at dksX0_alike_1 18 rfl rfl)
theorem dX0_alike_43 : decode cX0_alike 43 = .ok (.getfield 75, 3) := dk_180 0 75 (dk_at dksX0_alike_1 19 rfl rfl)
theorem dX0_alike_46 : decode cX0_alike 46 = .ok (.getfield 206, 3) := dk_180 0 206 (dk_at dksX0_alike_2 0 rfl rfl)
theorem dX0_alike_49 : decode cX0_alike 49 = .ok (.iload 4, 2) := dk_21 4 (dk_at dksX0_alike_2 3 rfl rfl)
theorem dX0_alike_51 : decode cX0_alike 51 = .ok (.iaload, 1) := dk_46 (dk_at dksX0_alike_2 5 rfl rfl)
theorem dX0_alike_52 : decode cX0_alike 52 = .ok (.bipush 10, 2) := dk_16 10 (dk_at dksX0_alike_2 6 rfl rfl)
theorem dX0_alike_54 : decode cX0_alike 54 = .ok (.if_icmp .ge 30, 3) := dk_162 0 30 (dk_at dksX0_alike_2 8 rfl rfl)
theorem dX0_alike_57 : decode cX0_alike 57 = .ok (.aload_n 0, 1) := dk_42 (dk_at dksX0_alike_2 11 rfl rfl)
theorem dX0_alike_58 : decode cX0_alike 58 = .ok (.getfield 75, 3) := dk_180 0 75 (dk_at dksX0_alike_2 12 rfl rfl)
theorem dX0_alike_61 : decode cX0_alike 61 = .ok (.getfield 206, 3) := dk_180 0 206 (dk_at dksX0_alike_2 15 rfl rfl)
theorem dX0_alike_64 : decode cX0_alike 64 = .ok (.iload 4, 2) := dk_21 4 (dk_at dksX0_alike_2 18 rfl rfl)
theorem dX0_alike_66 : decode cX0_alike 66 = .ok (.iaload, 1) := dk_46 (dk_at dksX0_alike_2 20 rfl rfl)
theorem dX0_alike_67 : decode cX0_alike 67 = .ok (.aload_n 0, 1) := dk_42 (dk_at dksX0_alike_2 21 rfl rfl)
theorem dX0_alike_68 : decode cX0_alike 68 = .ok (.getfield 79, 3) := dk_180 0 79 (dk_at dksX0_alike_3 0 rfl rfl)
theorem dX0_alike_71 : decode cX0_alike 71 = .ok (.getfield 206, 3) := dk_180 0 206 (dk_at dksX0_alike_3 3 rfl rfl)
theorem dX0_alike_74 : decode cX0_alike 74 = .ok (.iload 4, 2) := dk_21 4 (dk_at dksX0_alike_3 6 rfl rfl)
theorem dX0_alike_76 : decode cX0_alike 76 = .ok (.iaload, 1) := dk_46 (dk_at dksX0_alike_3 8 rfl rfl)
theorem dX0_alike_77 : decode cX0_alike 77 = .ok (.if_icmp .ne 7, 3) := dk_160 0 7 (dk_at dksX0_alike_3 9 rfl rfl)
theorem dX0_alike_80 : decode cX0_alike 80 = .ok (.iconst 1, 1) := dk_4 (dk_at dksX0_alike_3 12 rfl rfl)
theorem dX0_alike_81 : decode cX0_alike 81 = .ok (.goto 4, 3) := dk_167 0 4 (dk_at dksX0_alike_3 13 rfl rfl)
theorem dX0_alike_84 : decode cX0_alike 84 = .ok (.iconst 0, 1) := dk_3 (dk_at dksX0_alike_3 16 rfl rfl)
theorem dX0_alike_85 : decode cX0_alike 85 = .ok (.iadd, 1) := dk_96 (dk_at dksX0_alike_3 17 rfl rfl)
theorem dX0_alike_86 : decode cX0_alike 86 = .ok (.istore_n 3, 1) := dk_62 (dk_at dksX0_alike_3 18 rfl rfl)
theorem dX0_alike_87 : decode cX0_alike 87 = .ok (.iinc 4 1, 3) := dk_132 4 1 (dk_at dksX0_alike_3 19 rfl rfl)
theorem dX0_alike_90 : decode cX0_alike 90 = .ok (.goto (-56), 3) := dk_167 255 200 (dk_at dksX0_alike_4 0 rfl rfl)
theorem dX0_alike_93 : decode cX0_alike 93 = .ok (.iload_n 3, 1) := dk_29 (dk_at dksX0_alike_4 3 rfl rfl)
theorem dX0_alike_94 : decode cX0_alike 94 = .ok (.ireturn, 1) := dk_172 (dk_at dksX0_alike_4 4 rfl rfl)
abbrev cX0_areReaches : ByteArray := prog_1_method_20_code
def yX0_areReaches : MethodName := ⟨RX0, "areReaches", "(II)Z"⟩
def dkwX0_areReaches_0 : List UInt8 := [42, 27, 133, 182, 0, 151, 153, 0, 16, 42, 28, 133, 182, 0, 151, 153, 0, 7, 4, 167, 0, 4, 3, 172]
abbrev dktX0_areReaches_0 : List UInt8 := dkwX0_areReaches_0 ++ []
theorem dksX0_areReaches_0 : cX0_areReaches.data.toList.drop 0 = dktX0_areReaches_0 := by decide +kernel
theorem dX0_areReaches_0 : decode cX0_areReaches 0 = .ok (.aload_n 0, 1) := dk_42 (dk_at dksX0_areReaches_0 0 rfl rfl)
theorem dX0_areReaches_1 : decode cX0_areReaches 1 = .ok (.iload_n 1, 1) := dk_27 (dk_at dksX0_areReaches_0 1 rfl rfl)
theorem dX0_areReaches_2 : decode cX0_areReaches 2 = .ok (.i2l, 1) := dk_133 (dk_at dksX0_areReaches_0 2 rfl rfl)
theorem dX0_areReaches_3 : decode cX0_areReaches 3 = .ok (.invokevirtual 151, 3) := dk_182 0 151 (dk_at dksX0_areReaches_0 3 rfl rfl)
theorem dX0_areReaches_6 : decode cX0_areReaches 6 = .ok (.ifCond .eq 16, 3) := dk_153 0 16 (dk_at dksX0_areReaches_0 6 rfl rfl)
theorem dX0_areReaches_9 : decode cX0_areReaches 9 = .ok (.aload_n 0, 1) := dk_42 (dk_at dksX0_areReaches_0 9 rfl rfl)
theorem dX0_areReaches_10 : decode cX0_areReaches 10 = .ok (.iload_n 2, 1) := dk_28 (dk_at dksX0_areReaches_0 10 rfl rfl)
theorem dX0_areReaches_11 : decode cX0_areReaches 11 = .ok (.i2l, 1) := dk_133 (dk_at dksX0_areReaches_0 11 rfl rfl)
theorem dX0_areReaches_12 : decode cX0_areReaches 12 = .ok (.invokevirtual 151, 3) := dk_182 0 151 (dk_at dksX0_areReaches_0 12 rfl rfl)
theorem dX0_areReaches_15 : decode cX0_areReaches 15 = .ok (.ifCond .eq 7, 3) := dk_153 0 7 (dk_at dksX0_areReaches_0 15 rfl rfl)
theorem dX0_areReaches_18 : decode cX0_areReaches 18 = .ok (.iconst 1, 1) := dk_4 (dk_at dksX0_areReaches_0 18 rfl rfl)
theorem dX0_areReaches_19 : decode cX0_areReaches 19 = .ok (.goto 4, 3) := dk_167 0 4 (dk_at dksX0_areReaches_0 19 rfl rfl)
theorem dX0_areReaches_22 : decode cX0_areReaches 22 = .ok (.iconst 0, 1) := dk_3 (dk_at dksX0_areReaches_0 22 rfl rfl)
theorem dX0_areReaches_23 : decode cX0_areReaches 23 = .ok (.ireturn, 1) := dk_172 (dk_at dksX0_areReaches_0 23 rfl rfl)
abbrev cX0_put : ByteArray := prog_1_method_24_code
def yX0_put : MethodName := ⟨RX0, "put", "(II)LQuotedRiver$Stick;"⟩
def dkwX0_put_0 : List UInt8 := [42, 180, 0, 68, 182, 0, 190, 87, 42, 180, 0, 75, 27, 28, 182, 0, 193, 176]
abbrev dktX0_put_0 : List UInt8 := dkwX0_put_0 ++ []
theorem dksX0_put_0 : cX0_put.data.toList.drop 0 = dktX0_put_0 := by decide +kernel
theorem dX0_put_0 : decode cX0_put 0 = .ok (.aload_n 0, 1) := dk_42 (dk_at dksX0_put_0 0 rfl rfl)
theorem dX0_put_1 : decode cX0_put 1 = .ok (.getfield 68, 3) := dk_180 0 68 (dk_at dksX0_put_0 1 rfl rfl)
theorem dX0_put_4 : decode cX0_put 4 = .ok (.invokevirtual 190, 3) := dk_182 0 190 (dk_at dksX0_put_0 4 rfl rfl)
theorem dX0_put_7 : decode cX0_put 7 = .ok (.pop, 1) := dk_87 (dk_at dksX0_put_0 7 rfl rfl)
theorem dX0_put_8 : decode cX0_put 8 = .ok (.aload_n 0, 1) := dk_42 (dk_at dksX0_put_0 8 rfl rfl)
theorem dX0_put_9 : decode cX0_put 9 = .ok (.getfield 75, 3) := dk_180 0 75 (dk_at dksX0_put_0 9 rfl rfl)
theorem dX0_put_12 : decode cX0_put 12 = .ok (.iload_n 1, 1) := dk_27 (dk_at dksX0_put_0 12 rfl rfl)
theorem dX0_put_13 : decode cX0_put 13 = .ok (.iload_n 2, 1) := dk_28 (dk_at dksX0_put_0 13 rfl rfl)
theorem dX0_put_14 : decode cX0_put 14 = .ok (.invokevirtual 193, 3) := dk_182 0 193 (dk_at dksX0_put_0 14 rfl rfl)
theorem dX0_put_17 : decode cX0_put 17 = .ok (.areturn, 1) := dk_176 (dk_at dksX0_put_0 17 rfl rfl)
abbrev cX0_isOn : ByteArray := prog_1_method_2_code
def yX0_isOn : MethodName := ⟨RX0, "isOn", "(II)Z"⟩
def dkwX0_isOn_0 : List UInt8 := [26, 27, 122, 4, 126, 4, 160, 0, 7, 4, 167, 0, 4, 3, 172]
abbrev dktX0_isOn_0 : List UInt8 := dkwX0_isOn_0 ++ []
theorem dksX0_isOn_0 : cX0_isOn.data.toList.drop 0 = dktX0_isOn_0 := by decide +kernel
theorem dX0_isOn_0 : decode cX0_isOn 0 = .ok (.iload_n 0, 1) := dk_26 (dk_at dksX0_isOn_0 0 rfl rfl)
theorem dX0_isOn_1 : decode cX0_isOn 1 = .ok (.iload_n 1, 1) := dk_27 (dk_at dksX0_isOn_0 1 rfl rfl)
theorem dX0_isOn_2 : decode cX0_isOn 2 = .ok (.ishr, 1) := dk_122 (dk_at dksX0_isOn_0 2 rfl rfl)
theorem dX0_isOn_3 : decode cX0_isOn 3 = .ok (.iconst 1, 1) := dk_4 (dk_at dksX0_isOn_0 3 rfl rfl)
theorem dX0_isOn_4 : decode cX0_isOn 4 = .ok (.iand, 1) := dk_126 (dk_at dksX0_isOn_0 4 rfl rfl)
theorem dX0_isOn_5 : decode cX0_isOn 5 = .ok (.iconst 1, 1) := dk_4 (dk_at dksX0_isOn_0 5 rfl rfl)
theorem dX0_isOn_6 : decode cX0_isOn 6 = .ok (.if_icmp .ne 7, 3) := dk_160 0 7 (dk_at dksX0_isOn_0 6 rfl rfl)
theorem dX0_isOn_9 : decode cX0_isOn 9 = .ok (.iconst 1, 1) := dk_4 (dk_at dksX0_isOn_0 9 rfl rfl)
theorem dX0_isOn_10 : decode cX0_isOn 10 = .ok (.goto 4, 3) := dk_167 0 4 (dk_at dksX0_isOn_0 10 rfl rfl)
theorem dX0_isOn_13 : decode cX0_isOn 13 = .ok (.iconst 0, 1) := dk_3 (dk_at dksX0_isOn_0 13 rfl rfl)
theorem dX0_isOn_14 : decode cX0_isOn 14 = .ok (.ireturn, 1) := dk_172 (dk_at dksX0_isOn_0 14 rfl rfl)
abbrev cX0_busy : ByteArray := prog_1_method_27_code
def yX0_busy : MethodName := ⟨RX0, "busy", "(I)I"⟩
def dkwX0_busy_2 : List UInt8 := [167, 0, 9, 21, 4, 61, 21, 5, 62, 132, 4, 1, 167, 255, 217, 28, 172]
abbrev dktX0_busy_2 : List UInt8 := dkwX0_busy_2 ++ []
def dkwX0_busy_1 : List UInt8 := [182, 0, 147, 162, 0, 36, 42, 21, 4, 27, 182, 0, 209, 184, 0, 212, 54, 5, 21, 5, 29, 163, 0, 6]
abbrev dktX0_busy_1 : List UInt8 := dkwX0_busy_1 ++ dktX0_busy_2
def dkwX0_busy_0 : List UInt8 := [42, 27, 133, 182, 0, 155, 154, 0, 6, 16, 254, 172, 2, 61, 3, 62, 3, 54, 4, 21, 4, 42]
abbrev dktX0_busy_0 : List UInt8 := dkwX0_busy_0 ++ dktX0_busy_1
theorem dksX0_busy_0 : cX0_busy.data.toList.drop 0 = dktX0_busy_0 := by decide +kernel
theorem dksX0_busy_1 : cX0_busy.data.toList.drop 22 = dktX0_busy_1 := dk_seg dksX0_busy_0 22 rfl rfl
theorem dksX0_busy_2 : cX0_busy.data.toList.drop 46 = dktX0_busy_2 := dk_seg dksX0_busy_1 24 rfl rfl
theorem dX0_busy_0 : decode cX0_busy 0 = .ok (.aload_n 0, 1) := dk_42 (dk_at dksX0_busy_0 0 rfl rfl)
theorem dX0_busy_1 : decode cX0_busy 1 = .ok (.iload_n 1, 1) := dk_27 (dk_at dksX0_busy_0 1 rfl rfl)
theorem dX0_busy_2 : decode cX0_busy 2 = .ok (.i2l, 1) := dk_133 (dk_at dksX0_busy_0 2 rfl rfl)
theorem dX0_busy_3 : decode cX0_busy 3 = .ok (.invokevirtual 155, 3) := dk_182 0 155 (dk_at dksX0_busy_0 3 rfl rfl)
theorem dX0_busy_6 : decode cX0_busy 6 = .ok (.ifCond .ne 6, 3) := dk_154 0 6 (dk_at dksX0_busy_0 6 rfl rfl)
theorem dX0_busy_9 : decode cX0_busy 9 = .ok (.bipush (-2), 2) := dk_16 254 (dk_at dksX0_busy_0 9 rfl rfl)
theorem dX0_busy_11 : decode cX0_busy 11 = .ok (.ireturn, 1) := dk_172 (dk_at dksX0_busy_0 11 rfl rfl)
theorem dX0_busy_12 : decode cX0_busy 12 = .ok (.iconst (-1), 1) := dk_2 (dk_at dksX0_busy_0 12 rfl rfl)
theorem dX0_busy_13 : decode cX0_busy 13 = .ok (.istore_n 2, 1) := dk_61 (dk_at dksX0_busy_0 13 rfl rfl)
theorem dX0_busy_14 : decode cX0_busy 14 = .ok (.iconst 0, 1) := dk_3 (dk_at dksX0_busy_0 14 rfl rfl)
theorem dX0_busy_15 : decode cX0_busy 15 = .ok (.istore_n 3, 1) := dk_62 (dk_at dksX0_busy_0 15 rfl rfl)
theorem dX0_busy_16 : decode cX0_busy 16 = .ok (.iconst 0, 1) := dk_3 (dk_at dksX0_busy_0 16 rfl rfl)
theorem dX0_busy_17 : decode cX0_busy 17 = .ok (.istore 4, 2) := dk_54 4 (dk_at dksX0_busy_0 17 rfl rfl)
theorem dX0_busy_19 : decode cX0_busy 19 = .ok (.iload 4, 2) := dk_21 4 (dk_at dksX0_busy_0 19 rfl rfl)
theorem dX0_busy_21 : decode cX0_busy 21 = .ok (.aload_n 0, 1) := dk_42 (dk_at dksX0_busy_0 21 rfl rfl)
theorem dX0_busy_22 : decode cX0_busy 22 = .ok (.invokevirtual 147, 3) := dk_182 0 147 (dk_at dksX0_busy_1 0 rfl rfl)
theorem dX0_busy_25 : decode cX0_busy 25 = .ok (.if_icmp .ge 36, 3) := dk_162 0 36 (dk_at dksX0_busy_1 3 rfl rfl)
theorem dX0_busy_28 : decode cX0_busy 28 = .ok (.aload_n 0, 1) := dk_42 (dk_at dksX0_busy_1 6 rfl rfl)
theorem dX0_busy_29 : decode cX0_busy 29 = .ok (.iload 4, 2) := dk_21 4 (dk_at dksX0_busy_1 7 rfl rfl)
theorem dX0_busy_31 : decode cX0_busy 31 = .ok (.iload_n 1, 1) := dk_27 (dk_at dksX0_busy_1 9 rfl rfl)
theorem dX0_busy_32 : decode cX0_busy 32 = .ok (.invokevirtual 209, 3) := dk_182 0 209 (dk_at dksX0_busy_1 10 rfl rfl)
theorem dX0_busy_35 : decode cX0_busy 35 = .ok (.invokestatic 212, 3) := dk_184 0 212 (dk_at dksX0_busy_1 13 rfl rfl)
theorem dX0_busy_38 : decode cX0_busy 38 = .ok (.istore 5, 2) := dk_54 5 (dk_at dksX0_busy_1 16 rfl rfl)
theorem dX0_busy_40 : decode cX0_busy 40 = .ok (.iload 5, 2) := dk_21 5 (dk_at dksX0_busy_1 18 rfl rfl)
theorem dX0_busy_42 : decode cX0_busy 42 = .ok (.iload_n 3, 1) := dk_29 (dk_at dksX0_busy_1 20 rfl rfl)
theorem dX0_busy_43 : decode cX0_busy 43 = .ok (.if_icmp .gt 6, 3) := dk_163 0 6 (dk_at dksX0_busy_1 21 rfl rfl)
theorem dX0_busy_46 : decode cX0_busy 46 = .ok (.goto 9, 3) := dk_167 0 9 (dk_at dksX0_busy_2 0 rfl rfl)
theorem dX0_busy_49 : decode cX0_busy 49 = .ok (.iload 4, 2) := dk_21 4 (dk_at dksX0_busy_2 3 rfl rfl)
theorem dX0_busy_51 : decode cX0_busy 51 = .ok (.istore_n 2, 1) := dk_61 (dk_at dksX0_busy_2 5 rfl rfl)
theorem dX0_busy_52 : decode cX0_busy 52 = .ok (.iload 5, 2) := dk_21 5 (dk_at dksX0_busy_2 6 rfl rfl)
theorem dX0_busy_54 : decode cX0_busy 54 = .ok (.istore_n 3, 1) := dk_62 (dk_at dksX0_busy_2 8 rfl rfl)
theorem dX0_busy_55 : decode cX0_busy 55 = .ok (.iinc 4 1, 3) := dk_132 4 1 (dk_at dksX0_busy_2 9 rfl rfl)
theorem dX0_busy_58 : decode cX0_busy 58 = .ok (.goto (-39), 3) := dk_167 255 217 (dk_at dksX0_busy_2 12 rfl rfl)
theorem dX0_busy_61 : decode cX0_busy 61 = .ok (.iload_n 2, 1) := dk_28 (dk_at dksX0_busy_2 15 rfl rfl)
theorem dX0_busy_62 : decode cX0_busy 62 = .ok (.ireturn, 1) := dk_172 (dk_at dksX0_busy_2 16 rfl rfl)
abbrev cX0_isStep : ByteArray := prog_1_method_18_code
def yX0_isStep : MethodName := ⟨RX0, "isStep", "(J)Z"⟩
def dkwX0_isStep_1 : List UInt8 := [167, 0, 4, 3, 172]
abbrev dktX0_isStep_1 : List UInt8 := dkwX0_isStep_1 ++ []
def dkwX0_isStep_0 : List UInt8 := [42, 180, 0, 47, 182, 0, 108, 153, 0, 18, 31, 9, 20, 0, 149, 184, 0, 11, 153, 0, 7, 4]
abbrev dktX0_isStep_0 : List UInt8 := dkwX0_isStep_0 ++ dktX0_isStep_1
theorem dksX0_isStep_0 : cX0_isStep.data.toList.drop 0 = dktX0_isStep_0 := by decide +kernel
theorem dksX0_isStep_1 : cX0_isStep.data.toList.drop 22 = dktX0_isStep_1 := dk_seg dksX0_isStep_0 22 rfl rfl
theorem dX0_isStep_0 : decode cX0_isStep 0 = .ok (.aload_n 0, 1) := dk_42 (dk_at dksX0_isStep_0 0 rfl rfl)
theorem dX0_isStep_1 : decode cX0_isStep 1 = .ok (.getfield 47, 3) := dk_180 0 47 (dk_at dksX0_isStep_0 1 rfl rfl)
theorem dX0_isStep_4 : decode cX0_isStep 4 = .ok (.invokevirtual 108, 3) := dk_182 0 108 (dk_at dksX0_isStep_0 4 rfl rfl)
theorem dX0_isStep_7 : decode cX0_isStep 7 = .ok (.ifCond .eq 18, 3) := dk_153 0 18 (dk_at dksX0_isStep_0 7 rfl rfl)
theorem dX0_isStep_10 : decode cX0_isStep 10 = .ok (.lload_n 1, 1) := dk_31 (dk_at dksX0_isStep_0 10 rfl rfl)
theorem dX0_isStep_11 : decode cX0_isStep 11 = .ok (.lconst 0, 1) := dk_9 (dk_at dksX0_isStep_0 11 rfl rfl)
theorem dX0_isStep_12 : decode cX0_isStep 12 = .ok (.ldc2_w 149, 3) := dk_20 0 149 (dk_at dksX0_isStep_0 12 rfl rfl)
theorem dX0_isStep_15 : decode cX0_isStep 15 = .ok (.invokestatic 11, 3) := dk_184 0 11 (dk_at dksX0_isStep_0 15 rfl rfl)
theorem dX0_isStep_18 : decode cX0_isStep 18 = .ok (.ifCond .eq 7, 3) := dk_153 0 7 (dk_at dksX0_isStep_0 18 rfl rfl)
theorem dX0_isStep_21 : decode cX0_isStep 21 = .ok (.iconst 1, 1) := dk_4 (dk_at dksX0_isStep_0 21 rfl rfl)
theorem dX0_isStep_22 : decode cX0_isStep 22 = .ok (.goto 4, 3) := dk_167 0 4 (dk_at dksX0_isStep_1 0 rfl rfl)
theorem dX0_isStep_25 : decode cX0_isStep 25 = .ok (.iconst 0, 1) := dk_3 (dk_at dksX0_isStep_1 3 rfl rfl)
theorem dX0_isStep_26 : decode cX0_isStep 26 = .ok (.ireturn, 1) := dk_172 (dk_at dksX0_isStep_1 4 rfl rfl)
abbrev cX0_from : ByteArray := prog_1_method_58_code
def yX0_from : MethodName := ⟨RX0, "from", "(II)I"⟩
def dkwX0_from_2 : List UInt8 := [167, 0, 4, 3, 128, 62, 132, 4, 1, 167, 255, 217, 29, 172]
abbrev dktX0_from_2 : List UInt8 := dkwX0_from_2 ++ []
def dkwX0_from_1 : List UInt8 := [162, 0, 36, 29, 42, 21, 4, 3, 182, 0, 203, 180, 0, 206, 28, 46, 27, 160, 0, 10, 4, 21, 4, 120]
abbrev dktX0_from_1 : List UInt8 := dkwX0_from_1 ++ dktX0_from_2
def dkwX0_from_0 : List UInt8 := [42, 27, 28, 182, 0, 240, 154, 0, 6, 16, 254, 172, 3, 62, 3, 54, 4, 21, 4, 42, 182, 0, 147]
abbrev dktX0_from_0 : List UInt8 := dkwX0_from_0 ++ dktX0_from_1
theorem dksX0_from_0 : cX0_from.data.toList.drop 0 = dktX0_from_0 := by decide +kernel
theorem dksX0_from_1 : cX0_from.data.toList.drop 23 = dktX0_from_1 := dk_seg dksX0_from_0 23 rfl rfl
theorem dksX0_from_2 : cX0_from.data.toList.drop 47 = dktX0_from_2 := dk_seg dksX0_from_1 24 rfl rfl
theorem dX0_from_0 : decode cX0_from 0 = .ok (.aload_n 0, 1) := dk_42 (dk_at dksX0_from_0 0 rfl rfl)
theorem dX0_from_1 : decode cX0_from 1 = .ok (.iload_n 1, 1) := dk_27 (dk_at dksX0_from_0 1 rfl rfl)
theorem dX0_from_2 : decode cX0_from 2 = .ok (.iload_n 2, 1) := dk_28 (dk_at dksX0_from_0 2 rfl rfl)
theorem dX0_from_3 : decode cX0_from 3 = .ok (.invokevirtual 240, 3) := dk_182 0 240 (dk_at dksX0_from_0 3 rfl rfl)
theorem dX0_from_6 : decode cX0_from 6 = .ok (.ifCond .ne 6, 3) := dk_154 0 6 (dk_at dksX0_from_0 6 rfl rfl)
theorem dX0_from_9 : decode cX0_from 9 = .ok (.bipush (-2), 2) := dk_16 254 (dk_at dksX0_from_0 9 rfl rfl)
theorem dX0_from_11 : decode cX0_from 11 = .ok (.ireturn, 1) := dk_172 (dk_at dksX0_from_0 11 rfl rfl)
theorem dX0_from_12 : decode cX0_from 12 = .ok (.iconst 0, 1) := dk_3 (dk_at dksX0_from_0 12 rfl rfl)
theorem dX0_from_13 : decode cX0_from 13 = .ok (.istore_n 3, 1) := dk_62 (dk_at dksX0_from_0 13 rfl rfl)
theorem dX0_from_14 : decode cX0_from 14 = .ok (.iconst 0, 1) := dk_3 (dk_at dksX0_from_0 14 rfl rfl)
theorem dX0_from_15 : decode cX0_from 15 = .ok (.istore 4, 2) := dk_54 4 (dk_at dksX0_from_0 15 rfl rfl)
theorem dX0_from_17 : decode cX0_from 17 = .ok (.iload 4, 2) := dk_21 4 (dk_at dksX0_from_0 17 rfl rfl)
theorem dX0_from_19 : decode cX0_from 19 = .ok (.aload_n 0, 1) := dk_42 (dk_at dksX0_from_0 19 rfl rfl)
theorem dX0_from_20 : decode cX0_from 20 = .ok (.invokevirtual 147, 3) := dk_182 0 147 (dk_at dksX0_from_0 20 rfl rfl)
theorem dX0_from_23 : decode cX0_from 23 = .ok (.if_icmp .ge 36, 3) := dk_162 0 36 (dk_at dksX0_from_1 0 rfl rfl)
theorem dX0_from_26 : decode cX0_from 26 = .ok (.iload_n 3, 1) := dk_29 (dk_at dksX0_from_1 3 rfl rfl)
theorem dX0_from_27 : decode cX0_from 27 = .ok (.aload_n 0, 1) := dk_42 (dk_at dksX0_from_1 4 rfl rfl)
theorem dX0_from_28 : decode cX0_from 28 = .ok (.iload 4, 2) := dk_21 4 (dk_at dksX0_from_1 5 rfl rfl)
theorem dX0_from_30 : decode cX0_from 30 = .ok (.iconst 0, 1) := dk_3 (dk_at dksX0_from_1 7 rfl rfl)
theorem dX0_from_31 : decode cX0_from 31 = .ok (.invokevirtual 203, 3) := dk_182 0 203 (dk_at dksX0_from_1 8 rfl rfl)
theorem dX0_from_34 : decode cX0_from 34 = .ok (.getfield 206, 3) := dk_180 0 206 (dk_at dksX0_from_1 11 rfl rfl)
theorem dX0_from_37 : decode cX0_from 37 = .ok (.iload_n 2, 1) := dk_28 (dk_at dksX0_from_1 14 rfl rfl)
theorem dX0_from_38 : decode cX0_from 38 = .ok (.iaload, 1) := dk_46 (dk_at dksX0_from_1 15 rfl rfl)
theorem dX0_from_39 : decode cX0_from 39 = .ok (.iload_n 1, 1) := dk_27 (dk_at dksX0_from_1 16 rfl rfl)
theorem dX0_from_40 : decode cX0_from 40 = .ok (.if_icmp .ne 10, 3) := dk_160 0 10 (dk_at dksX0_from_1 17 rfl rfl)
theorem dX0_from_43 : decode cX0_from 43 = .ok (.iconst 1, 1) := dk_4 (dk_at dksX0_from_1 20 rfl rfl)
theorem dX0_from_44 : decode cX0_from 44 = .ok (.iload 4, 2) := dk_21 4 (dk_at dksX0_from_1 21 rfl rfl)
theorem dX0_from_46 : decode cX0_from 46 = .ok (.ishl, 1) := dk_120 (dk_at dksX0_from_1 23 rfl rfl)
theorem dX0_from_47 : decode cX0_from 47 = .ok (.goto 4, 3) := dk_167 0 4 (dk_at dksX0_from_2 0 rfl rfl)
theorem dX0_from_50 : decode cX0_from 50 = .ok (.iconst 0, 1) := dk_3 (dk_at dksX0_from_2 3 rfl rfl)
theorem dX0_from_51 : decode cX0_from 51 = .ok (.ior, 1) := dk_128 (dk_at dksX0_from_2 4 rfl rfl)
theorem dX0_from_52 : decode cX0_from 52 = .ok (.istore_n 3, 1) := dk_62 (dk_at dksX0_from_2 5 rfl rfl)
theorem dX0_from_53 : decode cX0_from 53 = .ok (.iinc 4 1, 3) := dk_132 4 1 (dk_at dksX0_from_2 6 rfl rfl)
theorem dX0_from_56 : decode cX0_from 56 = .ok (.goto (-39), 3) := dk_167 255 217 (dk_at dksX0_from_2 9 rfl rfl)
theorem dX0_from_59 : decode cX0_from 59 = .ok (.iload_n 3, 1) := dk_29 (dk_at dksX0_from_2 12 rfl rfl)
theorem dX0_from_60 : decode cX0_from 60 = .ok (.ireturn, 1) := dk_172 (dk_at dksX0_from_2 13 rfl rfl)
abbrev cX0_isStick : ByteArray := prog_1_method_21_code
def yX0_isStick : MethodName := ⟨RX0, "isStick", "(II)Z"⟩
def dkwX0_isStick_0 : List UInt8 := [42, 27, 133, 182, 0, 151, 153, 0, 16, 42, 28, 133, 182, 0, 155, 153, 0, 7, 4, 167, 0, 4, 3, 172]
abbrev dktX0_isStick_0 : List UInt8 := dkwX0_isStick_0 ++ []
theorem dksX0_isStick_0 : cX0_isStick.data.toList.drop 0 = dktX0_isStick_0 := by decide +kernel
theorem dX0_isStick_0 : decode cX0_isStick 0 = .ok (.aload_n 0, 1) := dk_42 (dk_at dksX0_isStick_0 0 rfl rfl)
theorem dX0_isStick_1 : decode cX0_isStick 1 = .ok (.iload_n 1, 1) := dk_27 (dk_at dksX0_isStick_0 1 rfl rfl)
theorem dX0_isStick_2 : decode cX0_isStick 2 = .ok (.i2l, 1) := dk_133 (dk_at dksX0_isStick_0 2 rfl rfl)
theorem dX0_isStick_3 : decode cX0_isStick 3 = .ok (.invokevirtual 151, 3) := dk_182 0 151 (dk_at dksX0_isStick_0 3 rfl rfl)
theorem dX0_isStick_6 : decode cX0_isStick 6 = .ok (.ifCond .eq 16, 3) := dk_153 0 16 (dk_at dksX0_isStick_0 6 rfl rfl)
theorem dX0_isStick_9 : decode cX0_isStick 9 = .ok (.aload_n 0, 1) := dk_42 (dk_at dksX0_isStick_0 9 rfl rfl)
theorem dX0_isStick_10 : decode cX0_isStick 10 = .ok (.iload_n 2, 1) := dk_28 (dk_at dksX0_isStick_0 10 rfl rfl)
theorem dX0_isStick_11 : decode cX0_isStick 11 = .ok (.i2l, 1) := dk_133 (dk_at dksX0_isStick_0 11 rfl rfl)
theorem dX0_isStick_12 : decode cX0_isStick 12 = .ok (.invokevirtual 155, 3) := dk_182 0 155 (dk_at dksX0_isStick_0 12 rfl rfl)
theorem dX0_isStick_15 : decode cX0_isStick 15 = .ok (.ifCond .eq 7, 3) := dk_153 0 7 (dk_at dksX0_isStick_0 15 rfl rfl)
theorem dX0_isStick_18 : decode cX0_isStick 18 = .ok (.iconst 1, 1) := dk_4 (dk_at dksX0_isStick_0 18 rfl rfl)
theorem dX0_isStick_19 : decode cX0_isStick 19 = .ok (.goto 4, 3) := dk_167 0 4 (dk_at dksX0_isStick_0 19 rfl rfl)
theorem dX0_isStick_22 : decode cX0_isStick 22 = .ok (.iconst 0, 1) := dk_3 (dk_at dksX0_isStick_0 22 rfl rfl)
theorem dX0_isStick_23 : decode cX0_isStick 23 = .ok (.ireturn, 1) := dk_172 (dk_at dksX0_isStick_0 23 rfl rfl)
abbrev cX0_size : ByteArray := prog_1_method_3_code
def yX0_size : MethodName := ⟨RX0, "size", "(I)I"⟩
theorem dX0_size_0 : decode cX0_size 0 = .ok (.iload_n 0, 1) := by decide +kernel
theorem dX0_size_1 : decode cX0_size 1 = .ok (.invokestatic 1, 3) := by decide +kernel
theorem dX0_size_4 : decode cX0_size 4 = .ok (.ireturn, 1) := by decide +kernel
abbrev cX0_flows : ByteArray := prog_1_method_28_code
def yX0_flows : MethodName := ⟨RX0, "flows", "(I)I"⟩
def dkwX0_flows_1 : List UInt8 := [100, 28, 2, 130, 126, 172]
abbrev dktX0_flows_1 : List UInt8 := dkwX0_flows_1 ++ []
def dkwX0_flows_0 : List UInt8 := [42, 27, 182, 0, 214, 61, 28, 16, 254, 160, 0, 8, 16, 254, 167, 0, 15, 4, 42, 182, 0, 147, 120, 4]
abbrev dktX0_flows_0 : List UInt8 := dkwX0_flows_0 ++ dktX0_flows_1
theorem dksX0_flows_0 : cX0_flows.data.toList.drop 0 = dktX0_flows_0 := by decide +kernel
theorem dksX0_flows_1 : cX0_flows.data.toList.drop 24 = dktX0_flows_1 := dk_seg dksX0_flows_0 24 rfl rfl
theorem dX0_flows_0 : decode cX0_flows 0 = .ok (.aload_n 0, 1) := dk_42 (dk_at dksX0_flows_0 0 rfl rfl)
theorem dX0_flows_1 : decode cX0_flows 1 = .ok (.iload_n 1, 1) := dk_27 (dk_at dksX0_flows_0 1 rfl rfl)
theorem dX0_flows_2 : decode cX0_flows 2 = .ok (.invokevirtual 214, 3) := dk_182 0 214 (dk_at dksX0_flows_0 2 rfl rfl)
theorem dX0_flows_5 : decode cX0_flows 5 = .ok (.istore_n 2, 1) := dk_61 (dk_at dksX0_flows_0 5 rfl rfl)
theorem dX0_flows_6 : decode cX0_flows 6 = .ok (.iload_n 2, 1) := dk_28 (dk_at dksX0_flows_0 6 rfl rfl)
theorem dX0_flows_7 : decode cX0_flows 7 = .ok (.bipush (-2), 2) := dk_16 254 (dk_at dksX0_flows_0 7 rfl rfl)
theorem dX0_flows_9 : decode cX0_flows 9 = .ok (.if_icmp .ne 8, 3) := dk_160 0 8 (dk_at dksX0_flows_0 9 rfl rfl)
theorem dX0_flows_12 : decode cX0_flows 12 = .ok (.bipush (-2), 2) := dk_16 254 (dk_at dksX0_flows_0 12 rfl rfl)
theorem dX0_flows_14 : decode cX0_flows 14 = .ok (.goto 15, 3) := dk_167 0 15 (dk_at dksX0_flows_0 14 rfl rfl)
theorem dX0_flows_17 : decode cX0_flows 17 = .ok (.iconst 1, 1) := dk_4 (dk_at dksX0_flows_0 17 rfl rfl)
theorem dX0_flows_18 : decode cX0_flows 18 = .ok (.aload_n 0, 1) := dk_42 (dk_at dksX0_flows_0 18 rfl rfl)
theorem dX0_flows_19 : decode cX0_flows 19 = .ok (.invokevirtual 147, 3) := dk_182 0 147 (dk_at dksX0_flows_0 19 rfl rfl)
theorem dX0_flows_22 : decode cX0_flows 22 = .ok (.ishl, 1) := dk_120 (dk_at dksX0_flows_0 22 rfl rfl)
theorem dX0_flows_23 : decode cX0_flows 23 = .ok (.iconst 1, 1) := dk_4 (dk_at dksX0_flows_0 23 rfl rfl)
theorem dX0_flows_24 : decode cX0_flows 24 = .ok (.isub, 1) := dk_100 (dk_at dksX0_flows_1 0 rfl rfl)
theorem dX0_flows_25 : decode cX0_flows 25 = .ok (.iload_n 2, 1) := dk_28 (dk_at dksX0_flows_1 1 rfl rfl)
theorem dX0_flows_26 : decode cX0_flows 26 = .ok (.iconst (-1), 1) := dk_2 (dk_at dksX0_flows_1 2 rfl rfl)
theorem dX0_flows_27 : decode cX0_flows 27 = .ok (.ixor, 1) := dk_130 (dk_at dksX0_flows_1 3 rfl rfl)
theorem dX0_flows_28 : decode cX0_flows 28 = .ok (.iand, 1) := dk_126 (dk_at dksX0_flows_1 4 rfl rfl)
theorem dX0_flows_29 : decode cX0_flows 29 = .ok (.ireturn, 1) := dk_172 (dk_at dksX0_flows_1 5 rfl rfl)
abbrev cX0_stands : ByteArray := prog_1_method_47_code
def yX0_stands : MethodName := ⟨RX0, "stands", "(I)I"⟩
def dkwX0_stands_2 : List UInt8 := [167, 0, 4, 3, 128, 61, 132, 3, 1, 167, 255, 223, 28, 172]
abbrev dktX0_stands_2 : List UInt8 := dkwX0_stands_2 ++ []
def dkwX0_stands_1 : List UInt8 := [29, 42, 182, 0, 147, 162, 0, 31, 28, 42, 180, 0, 68, 29, 27, 182, 0, 197, 153, 0, 9, 4, 29, 120]
abbrev dktX0_stands_1 : List UInt8 := dkwX0_stands_1 ++ dktX0_stands_2
def dkwX0_stands_0 : List UInt8 := [42, 27, 133, 182, 0, 155, 154, 0, 6, 16, 254, 172, 42, 180, 0, 68, 182, 0, 190, 87, 3, 61, 3, 62]
abbrev dktX0_stands_0 : List UInt8 := dkwX0_stands_0 ++ dktX0_stands_1
theorem dksX0_stands_0 : cX0_stands.data.toList.drop 0 = dktX0_stands_0 := by decide +kernel
theorem dksX0_stands_1 : cX0_stands.data.toList.drop 24 = dktX0_stands_1 := dk_seg dksX0_stands_0 24 rfl rfl
theorem dksX0_stands_2 : cX0_stands.data.toList.drop 48 = dktX0_stands_2 := dk_seg dksX0_stands_1 24 rfl rfl
theorem dX0_stands_0 : decode cX0_stands 0 = .ok (.aload_n 0, 1) := dk_42 (dk_at dksX0_stands_0 0 rfl rfl)
theorem dX0_stands_1 : decode cX0_stands 1 = .ok (.iload_n 1, 1) := dk_27 (dk_at dksX0_stands_0 1 rfl rfl)
theorem dX0_stands_2 : decode cX0_stands 2 = .ok (.i2l, 1) := dk_133 (dk_at dksX0_stands_0 2 rfl rfl)
theorem dX0_stands_3 : decode cX0_stands 3 = .ok (.invokevirtual 155, 3) := dk_182 0 155 (dk_at dksX0_stands_0 3 rfl rfl)
theorem dX0_stands_6 : decode cX0_stands 6 = .ok (.ifCond .ne 6, 3) := dk_154 0 6 (dk_at dksX0_stands_0 6 rfl rfl)
theorem dX0_stands_9 : decode cX0_stands 9 = .ok (.bipush (-2), 2) := dk_16 254 (dk_at dksX0_stands_0 9 rfl rfl)
theorem dX0_stands_11 : decode cX0_stands 11 = .ok (.ireturn, 1) := dk_172 (dk_at dksX0_stands_0 11 rfl rfl)
theorem dX0_stands_12 : decode cX0_stands 12 = .ok (.aload_n 0, 1) := dk_42 (dk_at dksX0_stands_0 12 rfl rfl)
theorem dX0_stands_13 : decode cX0_stands 13 = .ok (.getfield 68, 3) := dk_180 0 68 (dk_at dksX0_stands_0 13 rfl rfl)
theorem dX0_stands_16 : decode cX0_stands 16 = .ok (.invokevirtual 190, 3) := dk_182 0 190 (dk_at dksX0_stands_0 16 rfl rfl)
theorem dX0_stands_19 : decode cX0_stands 19 = .ok (.pop, 1) := dk_87 (dk_at dksX0_stands_0 19 rfl rfl)
theorem dX0_stands_20 : decode cX0_stands 20 = .ok (.iconst 0, 1) := dk_3 (dk_at dksX0_stands_0 20 rfl rfl)
theorem dX0_stands_21 : decode cX0_stands 21 = .ok (.istore_n 2, 1) := dk_61 (dk_at dksX0_stands_0 21 rfl rfl)
theorem dX0_stands_22 : decode cX0_stands 22 = .ok (.iconst 0, 1) := dk_3 (dk_at dksX0_stands_0 22 rfl rfl)
theorem dX0_stands_23 : decode cX0_stands 23 = .ok (.istore_n 3, 1) := dk_62 (dk_at dksX0_stands_0 23 rfl rfl)
theorem dX0_stands_24 : decode cX0_stands 24 = .ok (.iload_n 3, 1) := dk_29 (dk_at dksX0_stands_1 0 rfl rfl)
theorem dX0_stands_25 : decode cX0_stands 25 = .ok (.aload_n 0, 1) := dk_42 (dk_at dksX0_stands_1 1 rfl rfl)
theorem dX0_stands_26 : decode cX0_stands 26 = .ok (.invokevirtual 147, 3) := dk_182 0 147 (dk_at dksX0_stands_1 2 rfl rfl)
theorem dX0_stands_29 : decode cX0_stands 29 = .ok (.if_icmp .ge 31, 3) := dk_162 0 31 (dk_at dksX0_stands_1 5 rfl rfl)
theorem dX0_stands_32 : decode cX0_stands 32 = .ok (.iload_n 2, 1) := dk_28 (dk_at dksX0_stands_1 8 rfl rfl)
theorem dX0_stands_33 : decode cX0_stands 33 = .ok (.aload_n 0, 1) := dk_42 (dk_at dksX0_stands_1 9 rfl rfl)
theorem dX0_stands_34 : decode cX0_stands 34 = .ok (.getfield 68, 3) := dk_180 0 68 (dk_at dksX0_stands_1 10 rfl rfl)
theorem dX0_stands_37 : decode cX0_stands 37 = .ok (.iload_n 3, 1) := dk_29 (dk_at dksX0_stands_1 13 rfl rfl)
theorem dX0_stands_38 : decode cX0_stands 38 = .ok (.iload_n 1, 1) := dk_27 (dk_at dksX0_stands_1 14 rfl rfl)
theorem dX0_stands_39 : decode cX0_stands 39 = .ok (.invokevirtual 197, 3) := dk_182 0 197 (dk_at dksX0_stands_1 15 rfl rfl)
theorem dX0_stands_42 : decode cX0_stands 42 = .ok (.ifCond .eq 9, 3) := dk_153 0 9 (dk_at dksX0_stands_1 18 rfl rfl)
theorem dX0_stands_45 : decode cX0_stands 45 = .ok (.iconst 1, 1) := dk_4 (dk_at dksX0_stands_1 21 rfl rfl)
theorem dX0_stands_46 : decode cX0_stands 46 = .ok (.iload_n 3, 1) := dk_29 (dk_at dksX0_stands_1 22 rfl rfl)
theorem dX0_stands_47 : decode cX0_stands 47 = .ok (.ishl, 1) := dk_120 (dk_at dksX0_stands_1 23 rfl rfl)
theorem dX0_stands_48 : decode cX0_stands 48 = .ok (.goto 4, 3) := dk_167 0 4 (dk_at dksX0_stands_2 0 rfl rfl)
theorem dX0_stands_51 : decode cX0_stands 51 = .ok (.iconst 0, 1) := dk_3 (dk_at dksX0_stands_2 3 rfl rfl)
theorem dX0_stands_52 : decode cX0_stands 52 = .ok (.ior, 1) := dk_128 (dk_at dksX0_stands_2 4 rfl rfl)
theorem dX0_stands_53 : decode cX0_stands 53 = .ok (.istore_n 2, 1) := dk_61 (dk_at dksX0_stands_2 5 rfl rfl)
theorem dX0_stands_54 : decode cX0_stands 54 = .ok (.iinc 3 1, 3) := dk_132 3 1 (dk_at dksX0_stands_2 6 rfl rfl)
theorem dX0_stands_57 : decode cX0_stands 57 = .ok (.goto (-33), 3) := dk_167 255 223 (dk_at dksX0_stands_2 9 rfl rfl)
theorem dX0_stands_60 : decode cX0_stands 60 = .ok (.iload_n 2, 1) := dk_28 (dk_at dksX0_stands_2 12 rfl rfl)
theorem dX0_stands_61 : decode cX0_stands 61 = .ok (.ireturn, 1) := dk_172 (dk_at dksX0_stands_2 13 rfl rfl)
abbrev cX0_mouths : ByteArray := prog_1_method_29_code
def yX0_mouths : MethodName := ⟨RX0, "mouths", "()I"⟩
def dkwX0_mouths_2 : List UInt8 := [60, 132, 2, 1, 167, 255, 223, 27, 172]
abbrev dktX0_mouths_2 : List UInt8 := dkwX0_mouths_2 ++ []
def dkwX0_mouths_1 : List UInt8 := [162, 0, 31, 27, 42, 28, 182, 0, 160, 180, 0, 164, 2, 160, 0, 9, 4, 28, 120, 167, 0, 4, 3, 128]
abbrev dktX0_mouths_1 : List UInt8 := dkwX0_mouths_1 ++ dktX0_mouths_2
def dkwX0_mouths_0 : List UInt8 := [42, 180, 0, 47, 182, 0, 108, 154, 0, 6, 16, 254, 172, 3, 60, 3, 61, 28, 42, 182, 0, 147]
abbrev dktX0_mouths_0 : List UInt8 := dkwX0_mouths_0 ++ dktX0_mouths_1
theorem dksX0_mouths_0 : cX0_mouths.data.toList.drop 0 = dktX0_mouths_0 := by decide +kernel
theorem dksX0_mouths_1 : cX0_mouths.data.toList.drop 22 = dktX0_mouths_1 := dk_seg dksX0_mouths_0 22 rfl rfl
theorem dksX0_mouths_2 : cX0_mouths.data.toList.drop 46 = dktX0_mouths_2 := dk_seg dksX0_mouths_1 24 rfl rfl
theorem dX0_mouths_0 : decode cX0_mouths 0 = .ok (.aload_n 0, 1) := dk_42 (dk_at dksX0_mouths_0 0 rfl rfl)
theorem dX0_mouths_1 : decode cX0_mouths 1 = .ok (.getfield 47, 3) := dk_180 0 47 (dk_at dksX0_mouths_0 1 rfl rfl)
theorem dX0_mouths_4 : decode cX0_mouths 4 = .ok (.invokevirtual 108, 3) := dk_182 0 108 (dk_at dksX0_mouths_0 4 rfl rfl)
theorem dX0_mouths_7 : decode cX0_mouths 7 = .ok (.ifCond .ne 6, 3) := dk_154 0 6 (dk_at dksX0_mouths_0 7 rfl rfl)
theorem dX0_mouths_10 : decode cX0_mouths 10 = .ok (.bipush (-2), 2) := dk_16 254 (dk_at dksX0_mouths_0 10 rfl rfl)
theorem dX0_mouths_12 : decode cX0_mouths 12 = .ok (.ireturn, 1) := dk_172 (dk_at dksX0_mouths_0 12 rfl rfl)
theorem dX0_mouths_13 : decode cX0_mouths 13 = .ok (.iconst 0, 1) := dk_3 (dk_at dksX0_mouths_0 13 rfl rfl)
theorem dX0_mouths_14 : decode cX0_mouths 14 = .ok (.istore_n 1, 1) := dk_60 (dk_at dksX0_mouths_0 14 rfl rfl)
theorem dX0_mouths_15 : decode cX0_mouths 15 = .ok (.iconst 0, 1) := dk_3 (dk_at dksX0_mouths_0 15 rfl rfl)
theorem dX0_mouths_16 : decode cX0_mouths 16 = .ok (.istore_n 2, 1) := dk_61 (dk_at dksX0_mouths_0 16 rfl rfl)
theorem dX0_mouths_17 : decode cX0_mouths 17 = .ok (.iload_n 2, 1) := dk_28 (dk_at dksX0_mouths_0 17 rfl rfl)
theorem dX0_mouths_18 : decode cX0_mouths 18 = .ok (.aload_n 0, 1) := dk_42 (dk_at dksX0_mouths_0 18 rfl rfl)
theorem dX0_mouths_19 : decode cX0_mouths 19 = .ok (.invokevirtual 147, 3) := dk_182 0 147 (dk_at dksX0_mouths_0 19 rfl rfl)
theorem dX0_mouths_22 : decode cX0_mouths 22 = .ok (.if_icmp .ge 31, 3) := dk_162 0 31 (dk_at dksX0_mouths_1 0 rfl rfl)
theorem dX0_mouths_25 : decode cX0_mouths 25 = .ok (.iload_n 1, 1) := dk_27 (dk_at dksX0_mouths_1 3 rfl rfl)
theorem dX0_mouths_26 : decode cX0_mouths 26 = .ok (.aload_n 0, 1) := dk_42 (dk_at dksX0_mouths_1 4 rfl rfl)
theorem dX0_mouths_27 : decode cX0_mouths 27 = .ok (.iload_n 2, 1) := dk_28 (dk_at dksX0_mouths_1 5 rfl rfl)
theorem dX0_mouths_28 : decode cX0_mouths 28 = .ok (.invokevirtual 160, 3) := dk_182 0 160 (dk_at dksX0_mouths_1 6 rfl rfl)
theorem dX0_mouths_31 : decode cX0_mouths 31 = .ok (.getfield 164, 3) := dk_180 0 164 (dk_at dksX0_mouths_1 9 rfl rfl)
theorem dX0_mouths_34 : decode cX0_mouths 34 = .ok (.iconst (-1), 1) := dk_2 (dk_at dksX0_mouths_1 12 rfl rfl)
theorem dX0_mouths_35 : decode cX0_mouths 35 = .ok (.if_icmp .ne 9, 3) := dk_160 0 9 (dk_at dksX0_mouths_1 13 rfl rfl)
theorem dX0_mouths_38 : decode cX0_mouths 38 = .ok (.iconst 1, 1) := dk_4 (dk_at dksX0_mouths_1 16 rfl rfl)
theorem dX0_mouths_39 : decode cX0_mouths 39 = .ok (.iload_n 2, 1) := dk_28 (dk_at dksX0_mouths_1 17 rfl rfl)
theorem dX0_mouths_40 : decode cX0_mouths 40 = .ok (.ishl, 1) := dk_120 (dk_at dksX0_mouths_1 18 rfl rfl)
theorem dX0_mouths_41 : decode cX0_mouths 41 = .ok (.goto 4, 3) := dk_167 0 4 (dk_at dksX0_mouths_1 19 rfl rfl)
theorem dX0_mouths_44 : decode cX0_mouths 44 = .ok (.iconst 0, 1) := dk_3 (dk_at dksX0_mouths_1 22 rfl rfl)
theorem dX0_mouths_45 : decode cX0_mouths 45 = .ok (.ior, 1) := dk_128 (dk_at dksX0_mouths_1 23 rfl rfl)
theorem dX0_mouths_46 : decode cX0_mouths 46 = .ok (.istore_n 1, 1) := dk_60 (dk_at dksX0_mouths_2 0 rfl rfl)
theorem dX0_mouths_47 : decode cX0_mouths 47 = .ok (.iinc 2 1, 3) := dk_132 2 1 (dk_at dksX0_mouths_2 1 rfl rfl)
theorem dX0_mouths_50 : decode cX0_mouths 50 = .ok (.goto (-33), 3) := dk_167 255 223 (dk_at dksX0_mouths_2 4 rfl rfl)
theorem dX0_mouths_53 : decode cX0_mouths 53 = .ok (.iload_n 1, 1) := dk_27 (dk_at dksX0_mouths_2 7 rfl rfl)
theorem dX0_mouths_54 : decode cX0_mouths 54 = .ok (.ireturn, 1) := dk_172 (dk_at dksX0_mouths_2 8 rfl rfl)
abbrev cX0_springs : ByteArray := prog_1_method_30_code
def yX0_springs : MethodName := ⟨RX0, "springs", "()I"⟩
def dkwX0_springs_4 : List UInt8 := [180, 0, 183, 120, 2, 130, 126, 60, 132, 2, 1, 167, 255, 222, 27, 172]
abbrev dktX0_springs_4 : List UInt8 := dkwX0_springs_4 ++ []
def dkwX0_springs_3 : List UInt8 := [61, 28, 42, 180, 0, 47, 180, 0, 142, 185, 0, 130, 1, 0, 162, 0, 24, 27, 4, 42, 28, 182, 0, 176]
abbrev dktX0_springs_3 : List UInt8 := dkwX0_springs_3 ++ dktX0_springs_4
def dkwX0_springs_2 : List UInt8 := [167, 0, 15, 4, 42, 28, 182, 0, 160, 180, 0, 164, 120, 2, 130, 126, 60, 132, 2, 1, 167, 255, 214, 3]
abbrev dktX0_springs_2 : List UInt8 := dkwX0_springs_2 ++ dktX0_springs_3
def dkwX0_springs_1 : List UInt8 := [28, 42, 182, 0, 147, 162, 0, 40, 27, 42, 28, 182, 0, 160, 180, 0, 164, 2, 160, 0, 7, 27]
abbrev dktX0_springs_1 : List UInt8 := dkwX0_springs_1 ++ dktX0_springs_2
def dkwX0_springs_0 : List UInt8 := [42, 180, 0, 47, 182, 0, 108, 154, 0, 6, 16, 254, 172, 4, 42, 182, 0, 147, 120, 4, 100, 60, 3, 61]
abbrev dktX0_springs_0 : List UInt8 := dkwX0_springs_0 ++ dktX0_springs_1
theorem dksX0_springs_0 : cX0_springs.data.toList.drop 0 = dktX0_springs_0 := by decide +kernel
theorem dksX0_springs_1 : cX0_springs.data.toList.drop 24 = dktX0_springs_1 := dk_seg dksX0_springs_0 24 rfl rfl
theorem dksX0_springs_2 : cX0_springs.data.toList.drop 46 = dktX0_springs_2 := dk_seg dksX0_springs_1 22 rfl rfl
theorem dksX0_springs_3 : cX0_springs.data.toList.drop 70 = dktX0_springs_3 := dk_seg dksX0_springs_2 24 rfl rfl
theorem dksX0_springs_4 : cX0_springs.data.toList.drop 94 = dktX0_springs_4 := dk_seg dksX0_springs_3 24 rfl rfl
theorem dX0_springs_0 : decode cX0_springs 0 = .ok (.aload_n 0, 1) := dk_42 (dk_at dksX0_springs_0 0 rfl rfl)
theorem dX0_springs_1 : decode cX0_springs 1 = .ok (.getfield 47, 3) := dk_180 0 47 (dk_at dksX0_springs_0 1 rfl rfl)
theorem dX0_springs_4 : decode cX0_springs 4 = .ok (.invokevirtual 108, 3) := dk_182 0 108 (dk_at dksX0_springs_0 4 rfl rfl)
theorem dX0_springs_7 : decode cX0_springs 7 = .ok (.ifCond .ne 6, 3) := dk_154 0 6 (dk_at dksX0_springs_0 7 rfl rfl)
theorem dX0_springs_10 : decode cX0_springs 10 = .ok (.bipush (-2), 2) := dk_16 254 (dk_at dksX0_springs_0 10 rfl rfl)
theorem dX0_springs_12 : decode cX0_springs 12 = .ok (.ireturn, 1) := dk_172 (dk_at dksX0_springs_0 12 rfl rfl)
theorem dX0_springs_13 : decode cX0_springs 13 = .ok (.iconst 1, 1) := dk_4 (dk_at dksX0_springs_0 13 rfl rfl)
theorem dX0_springs_14 : decode cX0_springs 14 = .ok (.aload_n 0, 1) := dk_42 (dk_at dksX0_springs_0 14 rfl rfl)
theorem dX0_springs_15 : decode cX0_springs 15 = .ok (.invokevirtual 147, 3) := dk_182 0 147 (dk_at dksX0_springs_0 15 rfl rfl)
theorem dX0_springs_18 : decode cX0_springs 18 = .ok (.ishl, 1) := dk_120 (dk_at dksX0_springs_0 18 rfl rfl)
theorem dX0_springs_19 : decode cX0_springs 19 = .ok (.iconst 1, 1) := dk_4 (dk_at dksX0_springs_0 19 rfl rfl)
theorem dX0_springs_20 : decode cX0_springs 20 = .ok (.isub, 1) := dk_100 (dk_at dksX0_springs_0 20 rfl rfl)
theorem dX0_springs_21 : decode cX0_springs 21 = .ok (.istore_n 1, 1) := dk_60 (dk_at dksX0_springs_0 21 rfl rfl)
theorem dX0_springs_22 : decode cX0_springs 22 = .ok (.iconst 0, 1) := dk_3 (dk_at dksX0_springs_0 22 rfl rfl)
theorem dX0_springs_23 : decode cX0_springs 23 = .ok (.istore_n 2, 1) := dk_61 (dk_at dksX0_springs_0 23 rfl rfl)
theorem dX0_springs_24 : decode cX0_springs 24 = .ok (.iload_n 2, 1) := dk_28 (dk_at dksX0_springs_1 0 rfl rfl)
theorem dX0_springs_25 : decode cX0_springs 25 = .ok (.aload_n 0, 1) := dk_42 (dk_at dksX0_springs_1 1 rfl rfl)
theorem dX0_springs_26 : decode cX0_springs 26 = .ok (.invokevirtual 147, 3) := dk_182 0 147 (dk_at dksX0_springs_1 2 rfl rfl)
theorem dX0_springs_29 : decode cX0_springs 29 = .ok (.if_icmp .ge 40, 3) := dk_162 0 40 (dk_at dksX0_springs_1 5 rfl rfl)
theorem dX0_springs_32 : decode cX0_springs 32 = .ok (.iload_n 1, 1) := dk_27 (dk_at dksX0_springs_1 8 rfl rfl)
theorem dX0_springs_33 : decode cX0_springs 33 = .ok (.aload_n 0, 1) := dk_42 (dk_at dksX0_springs_1 9 rfl rfl)
theorem dX0_springs_34 : decode cX0_springs 34 = .ok (.iload_n 2, 1) := dk_28 (dk_at dksX0_springs_1 10 rfl rfl)
theorem dX0_springs_35 : decode cX0_springs 35 = .ok (.invokevirtual 160, 3) := dk_182 0 160 (dk_at dksX0_springs_1 11 rfl rfl)
theorem dX0_springs_38 : decode cX0_springs 38 = .ok (.getfield 164, 3) := dk_180 0 164 (dk_at dksX0_springs_1 14 rfl rfl)
theorem dX0_springs_41 : decode cX0_springs 41 = .ok (.iconst (-1), 1) := dk_2 (dk_at dksX0_springs_1 17 rfl rfl)
theorem dX0_springs_42 : decode cX0_springs 42 = .ok (.if_icmp .ne 7, 3) := dk_160 0 7 (dk_at dksX0_springs_1 18 rfl rfl)
theorem dX0_springs_45 : decode cX0_springs 45 = .ok (.iload_n 1, 1) := dk_27 (dk_at dksX0_springs_1 21 rfl rfl)
theorem dX0_springs_46 : decode cX0_springs 46 = .ok (.goto 15, 3) := dk_167 0 15 (dk_at dksX0_springs_2 0 rfl rfl)
theorem dX0_springs_49 : decode cX0_springs 49 = .ok (.iconst 1, 1) := dk_4 (dk_at dksX0_springs_2 3 rfl rfl)
theorem dX0_springs_50 : decode cX0_springs 50 = .ok (.aload_n 0, 1) := dk_42 (dk_at dksX0_springs_2 4 rfl rfl)
theorem dX0_springs_51 : decode cX0_springs 51 = .ok (.iload_n 2, 1) := dk_28 (dk_at dksX0_springs_2 5 rfl rfl)
theorem dX0_springs_52 : decode cX0_springs 52 = .ok (.invokevirtual 160, 3) := dk_182 0 160 (dk_at dksX0_springs_2 6 rfl rfl)
theorem dX0_springs_55 : decode cX0_springs 55 = .ok (.getfield 164, 3) := dk_180 0 164 (dk_at dksX0_springs_2 9 rfl rfl)
theorem dX0_springs_58 : decode cX0_springs 58 = .ok (.ishl, 1) := dk_120 (dk_at dksX0_springs_2 12 rfl rfl)
theorem dX0_springs_59 : decode cX0_springs 59 = .ok (.iconst (-1), 1) := dk_2 (dk_at dksX0_springs_2 13 rfl rfl)
theorem dX0_springs_60 : decode cX0_springs 60 = .ok (.ixor, 1) := dk_130 (dk_at dksX0_springs_2 14 rfl rfl)
theorem dX0_springs_61 : decode cX0_springs 61 = .ok (.iand, 1) := dk_126 (dk_at dksX0_springs_2 15 rfl rfl)
theorem dX0_springs_62 : decode cX0_springs 62 = .ok (.istore_n 1, 1) := dk_60 (dk_at dksX0_springs_2 16 rfl rfl)
theorem dX0_springs_63 : decode cX0_springs 63 = .ok (.iinc 2 1, 3) := dk_132 2 1 (dk_at dksX0_springs_2 17 rfl rfl)
theorem dX0_springs_66 : decode cX0_springs 66 = .ok (.goto (-42), 3) := dk_167 255 214 (dk_at dksX0_springs_2 20 rfl rfl)
theorem dX0_springs_69 : decode cX0_springs 69 = .ok (.iconst 0, 1) := dk_3 (dk_at dksX0_springs_2 23 rfl rfl)
theorem dX0_springs_70 : decode cX0_springs 70 = .ok (.istore_n 2, 1) := dk_61 (dk_at dksX0_springs_3 0 rfl rfl)
theorem dX0_springs_71 : decode cX0_springs 71 = .ok (.iload_n 2, 1) := dk_28 (dk_at dksX0_springs_3 1 rfl rfl)
theorem dX0_springs_72 : decode cX0_springs 72 = .ok (.aload_n 0, 1) := dk_42 (dk_at dksX0_springs_3 2 rfl rfl)
theorem dX0_springs_73 : decode cX0_springs 73 = .ok (.getfield 47, 3) := dk_180 0 47 (dk_at dksX0_springs_3 3 rfl rfl)
theorem dX0_springs_76 : decode cX0_springs 76 = .ok (.getfield 142, 3) := dk_180 0 142 (dk_at dksX0_springs_3 6 rfl rfl)
theorem dX0_springs_79 : decode cX0_springs 79 = .ok (.invokeinterface 130 1, 5) := by decide +kernel
theorem dX0_springs_84 : decode cX0_springs 84 = .ok (.if_icmp .ge 24, 3) := dk_162 0 24 (dk_at dksX0_springs_3 14 rfl rfl)
theorem dX0_springs_87 : decode cX0_springs 87 = .ok (.iload_n 1, 1) := dk_27 (dk_at dksX0_springs_3 17 rfl rfl)
theorem dX0_springs_88 : decode cX0_springs 88 = .ok (.iconst 1, 1) := dk_4 (dk_at dksX0_springs_3 18 rfl rfl)
theorem dX0_springs_89 : decode cX0_springs 89 = .ok (.aload_n 0, 1) := dk_42 (dk_at dksX0_springs_3 19 rfl rfl)
theorem dX0_springs_90 : decode cX0_springs 90 = .ok (.iload_n 2, 1) := dk_28 (dk_at dksX0_springs_3 20 rfl rfl)
theorem dX0_springs_91 : decode cX0_springs 91 = .ok (.invokevirtual 176, 3) := dk_182 0 176 (dk_at dksX0_springs_3 21 rfl rfl)
theorem dX0_springs_94 : decode cX0_springs 94 = .ok (.getfield 183, 3) := dk_180 0 183 (dk_at dksX0_springs_4 0 rfl rfl)
theorem dX0_springs_97 : decode cX0_springs 97 = .ok (.ishl, 1) := dk_120 (dk_at dksX0_springs_4 3 rfl rfl)
theorem dX0_springs_98 : decode cX0_springs 98 = .ok (.iconst (-1), 1) := dk_2 (dk_at dksX0_springs_4 4 rfl rfl)
theorem dX0_springs_99 : decode cX0_springs 99 = .ok (.ixor, 1) := dk_130 (dk_at dksX0_springs_4 5 rfl rfl)
theorem dX0_springs_100 : decode cX0_springs 100 = .ok (.iand, 1) := dk_126 (dk_at dksX0_springs_4 6 rfl rfl)
theorem dX0_springs_101 : decode cX0_springs 101 = .ok (.istore_n 1, 1) := dk_60 (dk_at dksX0_springs_4 7 rfl rfl)
theorem dX0_springs_102 : decode cX0_springs 102 = .ok (.iinc 2 1, 3) := dk_132 2 1 (dk_at dksX0_springs_4 8 rfl rfl)
theorem dX0_springs_105 : decode cX0_springs 105 = .ok (.goto (-34), 3) := dk_167 255 222 (dk_at dksX0_springs_4 11 rfl rfl)
theorem dX0_springs_108 : decode cX0_springs 108 = .ok (.iload_n 1, 1) := dk_27 (dk_at dksX0_springs_4 14 rfl rfl)
theorem dX0_springs_109 : decode cX0_springs 109 = .ok (.ireturn, 1) := dk_172 (dk_at dksX0_springs_4 15 rfl rfl)
abbrev cX0_depth : ByteArray := prog_1_method_32_code
def yX0_depth : MethodName := ⟨RX0, "depth", "(I)I"⟩
def dkwX0_depth_0 : List UInt8 := [42, 27, 133, 182, 0, 151, 153, 0, 11, 42, 27, 182, 0, 217, 167, 0, 5, 16, 254, 172]
abbrev dktX0_depth_0 : List UInt8 := dkwX0_depth_0 ++ []
theorem dksX0_depth_0 : cX0_depth.data.toList.drop 0 = dktX0_depth_0 := by decide +kernel
theorem dX0_depth_0 : decode cX0_depth 0 = .ok (.aload_n 0, 1) := dk_42 (dk_at dksX0_depth_0 0 rfl rfl)
theorem dX0_depth_1 : decode cX0_depth 1 = .ok (.iload_n 1, 1) := dk_27 (dk_at dksX0_depth_0 1 rfl rfl)
theorem dX0_depth_2 : decode cX0_depth 2 = .ok (.i2l, 1) := dk_133 (dk_at dksX0_depth_0 2 rfl rfl)
theorem dX0_depth_3 : decode cX0_depth 3 = .ok (.invokevirtual 151, 3) := dk_182 0 151 (dk_at dksX0_depth_0 3 rfl rfl)
theorem dX0_depth_6 : decode cX0_depth 6 = .ok (.ifCond .eq 11, 3) := dk_153 0 11 (dk_at dksX0_depth_0 6 rfl rfl)
theorem dX0_depth_9 : decode cX0_depth 9 = .ok (.aload_n 0, 1) := dk_42 (dk_at dksX0_depth_0 9 rfl rfl)
theorem dX0_depth_10 : decode cX0_depth 10 = .ok (.iload_n 1, 1) := dk_27 (dk_at dksX0_depth_0 10 rfl rfl)
theorem dX0_depth_11 : decode cX0_depth 11 = .ok (.invokevirtual 217, 3) := dk_182 0 217 (dk_at dksX0_depth_0 11 rfl rfl)
theorem dX0_depth_14 : decode cX0_depth 14 = .ok (.goto 5, 3) := dk_167 0 5 (dk_at dksX0_depth_0 14 rfl rfl)
theorem dX0_depth_17 : decode cX0_depth 17 = .ok (.bipush (-2), 2) := dk_16 254 (dk_at dksX0_depth_0 17 rfl rfl)
theorem dX0_depth_19 : decode cX0_depth 19 = .ok (.ireturn, 1) := dk_172 (dk_at dksX0_depth_0 19 rfl rfl)
abbrev cX0_depthOf : ByteArray := prog_1_method_31_code
def yX0_depthOf : MethodName := ⟨RX0, "depthOf", "(I)I"⟩
def dkwX0_depthOf_1 : List UInt8 := [132, 2, 1, 167, 255, 233, 29, 2, 160, 0, 7, 28, 167, 0, 4, 2, 172]
abbrev dktX0_depthOf_1 : List UInt8 := dkwX0_depthOf_1 ++ []
def dkwX0_depthOf_0 : List UInt8 := [3, 61, 27, 62, 29, 2, 159, 0, 24, 28, 16, 10, 163, 0, 18, 42, 29, 182, 0, 160, 180, 0, 164, 62]
abbrev dktX0_depthOf_0 : List UInt8 := dkwX0_depthOf_0 ++ dktX0_depthOf_1
theorem dksX0_depthOf_0 : cX0_depthOf.data.toList.drop 0 = dktX0_depthOf_0 := by decide +kernel
theorem dksX0_depthOf_1 : cX0_depthOf.data.toList.drop 24 = dktX0_depthOf_1 := dk_seg dksX0_depthOf_0 24 rfl rfl
theorem dX0_depthOf_0 : decode cX0_depthOf 0 = .ok (.iconst 0, 1) := dk_3 (dk_at dksX0_depthOf_0 0 rfl rfl)
theorem dX0_depthOf_1 : decode cX0_depthOf 1 = .ok (.istore_n 2, 1) := dk_61 (dk_at dksX0_depthOf_0 1 rfl rfl)
theorem dX0_depthOf_2 : decode cX0_depthOf 2 = .ok (.iload_n 1, 1) := dk_27 (dk_at dksX0_depthOf_0 2 rfl rfl)
theorem dX0_depthOf_3 : decode cX0_depthOf 3 = .ok (.istore_n 3, 1) := dk_62 (dk_at dksX0_depthOf_0 3 rfl rfl)
theorem dX0_depthOf_4 : decode cX0_depthOf 4 = .ok (.iload_n 3, 1) := dk_29 (dk_at dksX0_depthOf_0 4 rfl rfl)
theorem dX0_depthOf_5 : decode cX0_depthOf 5 = .ok (.iconst (-1), 1) := dk_2 (dk_at dksX0_depthOf_0 5 rfl rfl)
theorem dX0_depthOf_6 : decode cX0_depthOf 6 = .ok (.if_icmp .eq 24, 3) := dk_159 0 24 (dk_at dksX0_depthOf_0 6 rfl rfl)
theorem dX0_depthOf_9 : decode cX0_depthOf 9 = .ok (.iload_n 2, 1) := dk_28 (dk_at dksX0_depthOf_0 9 rfl rfl)
theorem dX0_depthOf_10 : decode cX0_depthOf 10 = .ok (.bipush 10, 2) := dk_16 10 (dk_at dksX0_depthOf_0 10 rfl rfl)
theorem dX0_depthOf_12 : decode cX0_depthOf 12 = .ok (.if_icmp .gt 18, 3) := dk_163 0 18 (dk_at dksX0_depthOf_0 12 rfl rfl)
theorem dX0_depthOf_15 : decode cX0_depthOf 15 = .ok (.aload_n 0, 1) := dk_42 (dk_at dksX0_depthOf_0 15 rfl rfl)
theorem dX0_depthOf_16 : decode cX0_depthOf 16 = .ok (.iload_n 3, 1) := dk_29 (dk_at dksX0_depthOf_0 16 rfl rfl)
theorem dX0_depthOf_17 : decode cX0_depthOf 17 = .ok (.invokevirtual 160, 3) := dk_182 0 160 (dk_at dksX0_depthOf_0 17 rfl rfl)
theorem dX0_depthOf_20 : decode cX0_depthOf 20 = .ok (.getfield 164, 3) := dk_180 0 164 (dk_at dksX0_depthOf_0 20 rfl rfl)
theorem dX0_depthOf_23 : decode cX0_depthOf 23 = .ok (.istore_n 3, 1) := dk_62 (dk_at dksX0_depthOf_0 23 rfl rfl)
theorem dX0_depthOf_24 : decode cX0_depthOf 24 = .ok (.iinc 2 1, 3) := dk_132 2 1 (dk_at dksX0_depthOf_1 0 rfl rfl)
theorem dX0_depthOf_27 : decode cX0_depthOf 27 = .ok (.goto (-23), 3) := dk_167 255 233 (dk_at dksX0_depthOf_1 3 rfl rfl)
theorem dX0_depthOf_30 : decode cX0_depthOf 30 = .ok (.iload_n 3, 1) := dk_29 (dk_at dksX0_depthOf_1 6 rfl rfl)
theorem dX0_depthOf_31 : decode cX0_depthOf 31 = .ok (.iconst (-1), 1) := dk_2 (dk_at dksX0_depthOf_1 7 rfl rfl)
theorem dX0_depthOf_32 : decode cX0_depthOf 32 = .ok (.if_icmp .ne 7, 3) := dk_160 0 7 (dk_at dksX0_depthOf_1 8 rfl rfl)
theorem dX0_depthOf_35 : decode cX0_depthOf 35 = .ok (.iload_n 2, 1) := dk_28 (dk_at dksX0_depthOf_1 11 rfl rfl)
theorem dX0_depthOf_36 : decode cX0_depthOf 36 = .ok (.goto 4, 3) := dk_167 0 4 (dk_at dksX0_depthOf_1 12 rfl rfl)
theorem dX0_depthOf_39 : decode cX0_depthOf 39 = .ok (.iconst (-1), 1) := dk_2 (dk_at dksX0_depthOf_1 15 rfl rfl)
theorem dX0_depthOf_40 : decode cX0_depthOf 40 = .ok (.ireturn, 1) := dk_172 (dk_at dksX0_depthOf_1 16 rfl rfl)
abbrev cX0_rings : ByteArray := prog_1_method_33_code
def yX0_rings : MethodName := ⟨RX0, "rings", "()I"⟩
def dkwX0_rings_3 : List UInt8 := [29, 28, 160, 0, 9, 4, 28, 120, 167, 0, 4, 3, 128, 60, 132, 2, 1, 167, 255, 186, 27, 172]
abbrev dktX0_rings_3 : List UInt8 := dkwX0_rings_3 ++ []
def dkwX0_rings_2 : List UInt8 := [159, 0, 23, 29, 28, 159, 0, 18, 42, 29, 182, 0, 160, 180, 0, 164, 62, 132, 4, 1, 167, 255, 227, 27]
abbrev dktX0_rings_2 : List UInt8 := dkwX0_rings_2 ++ dktX0_rings_3
def dkwX0_rings_1 : List UInt8 := [162, 0, 68, 42, 28, 182, 0, 160, 180, 0, 164, 62, 3, 54, 4, 21, 4, 16, 10, 162, 0, 28, 29, 2]
abbrev dktX0_rings_1 : List UInt8 := dkwX0_rings_1 ++ dktX0_rings_2
def dkwX0_rings_0 : List UInt8 := [42, 180, 0, 47, 182, 0, 108, 154, 0, 6, 16, 254, 172, 3, 60, 3, 61, 28, 42, 182, 0, 147]
abbrev dktX0_rings_0 : List UInt8 := dkwX0_rings_0 ++ dktX0_rings_1
theorem dksX0_rings_0 : cX0_rings.data.toList.drop 0 = dktX0_rings_0 := by decide +kernel
theorem dksX0_rings_1 : cX0_rings.data.toList.drop 22 = dktX0_rings_1 := dk_seg dksX0_rings_0 22 rfl rfl
theorem dksX0_rings_2 : cX0_rings.data.toList.drop 46 = dktX0_rings_2 := dk_seg dksX0_rings_1 24 rfl rfl
theorem dksX0_rings_3 : cX0_rings.data.toList.drop 70 = dktX0_rings_3 := dk_seg dksX0_rings_2 24 rfl rfl
theorem dX0_rings_0 : decode cX0_rings 0 = .ok (.aload_n 0, 1) := dk_42 (dk_at dksX0_rings_0 0 rfl rfl)
theorem dX0_rings_1 : decode cX0_rings 1 = .ok (.getfield 47, 3) := dk_180 0 47 (dk_at dksX0_rings_0 1 rfl rfl)
theorem dX0_rings_4 : decode cX0_rings 4 = .ok (.invokevirtual 108, 3) := dk_182 0 108 (dk_at dksX0_rings_0 4 rfl rfl)
theorem dX0_rings_7 : decode cX0_rings 7 = .ok (.ifCond .ne 6, 3) := dk_154 0 6 (dk_at dksX0_rings_0 7 rfl rfl)
theorem dX0_rings_10 : decode cX0_rings 10 = .ok (.bipush (-2), 2) := dk_16 254 (dk_at dksX0_rings_0 10 rfl rfl)
theorem dX0_rings_12 : decode cX0_rings 12 = .ok (.ireturn, 1) := dk_172 (dk_at dksX0_rings_0 12 rfl rfl)
theorem dX0_rings_13 : decode cX0_rings 13 = .ok (.iconst 0, 1) := dk_3 (dk_at dksX0_rings_0 13 rfl rfl)
theorem dX0_rings_14 : decode cX0_rings 14 = .ok (.istore_n 1, 1) := dk_60 (dk_at dksX0_rings_0 14 rfl rfl)
theorem dX0_rings_15 : decode cX0_rings 15 = .ok (.iconst 0, 1) := dk_3 (dk_at dksX0_rings_0 15 rfl rfl)
theorem dX0_rings_16 : decode cX0_rings 16 = .ok (.istore_n 2, 1) := dk_61 (dk_at dksX0_rings_0 16 rfl rfl)
theorem dX0_rings_17 : decode cX0_rings 17 = .ok (.iload_n 2, 1) := dk_28 (dk_at dksX0_rings_0 17 rfl rfl)
theorem dX0_rings_18 : decode cX0_rings 18 = .ok (.aload_n 0, 1) := dk_42 (dk_at dksX0_rings_0 18 rfl rfl)
theorem dX0_rings_19 : decode cX0_rings 19 = .ok (.invokevirtual 147, 3) := dk_182 0 147 (dk_at dksX0_rings_0 19 rfl rfl)
theorem dX0_rings_22 : decode cX0_rings 22 = .ok (.if_icmp .ge 68, 3) := dk_162 0 68 (dk_at dksX0_rings_1 0 rfl rfl)
theorem dX0_rings_25 : decode cX0_rings 25 = .ok (.aload_n 0, 1) := dk_42 (dk_at dksX0_rings_1 3 rfl rfl)
theorem dX0_rings_26 : decode cX0_rings 26 = .ok (.iload_n 2, 1) := dk_28 (dk_at dksX0_rings_1 4 rfl rfl)
theorem dX0_rings_27 : decode cX0_rings 27 = .ok (.invokevirtual 160, 3) := dk_182 0 160 (dk_at dksX0_rings_1 5 rfl rfl)
theorem dX0_rings_30 : decode cX0_rings 30 = .ok (.getfield 164, 3) := dk_180 0 164 (dk_at dksX0_rings_1 8 rfl rfl)
theorem dX0_rings_33 : decode cX0_rings 33 = .ok (.istore_n 3, 1) := dk_62 (dk_at dksX0_rings_1 11 rfl rfl)
theorem dX0_rings_34 : decode cX0_rings 34 = .ok (.iconst 0, 1) := dk_3 (dk_at dksX0_rings_1 12 rfl rfl)
theorem dX0_rings_35 : decode cX0_rings 35 = .ok (.istore 4, 2) := dk_54 4 (dk_at dksX0_rings_1 13 rfl rfl)
theorem dX0_rings_37 : decode cX0_rings 37 = .ok (.iload 4, 2) := dk_21 4 (dk_at dksX0_rings_1 15 rfl rfl)
theorem dX0_rings_39 : decode cX0_rings 39 = .ok (.bipush 10, 2) := dk_16 10 (dk_at dksX0_rings_1 17 rfl rfl)
theorem dX0_rings_41 : decode cX0_rings 41 = .ok (.if_icmp .ge 28, 3) := dk_162 0 28 (dk_at dksX0_rings_1 19 rfl rfl)
theorem dX0_rings_44 : decode cX0_rings 44 = .ok (.iload_n 3, 1) := dk_29 (dk_at dksX0_rings_1 22 rfl rfl)
theorem dX0_rings_45 : decode cX0_rings 45 = .ok (.iconst (-1), 1) := dk_2 (dk_at dksX0_rings_1 23 rfl rfl)
theorem dX0_rings_46 : decode cX0_rings 46 = .ok (.if_icmp .eq 23, 3) := dk_159 0 23 (dk_at dksX0_rings_2 0 rfl rfl)
theorem dX0_rings_49 : decode cX0_rings 49 = .ok (.iload_n 3, 1) := dk_29 (dk_at dksX0_rings_2 3 rfl rfl)
theorem dX0_rings_50 : decode cX0_rings 50 = .ok (.iload_n 2, 1) := dk_28 (dk_at dksX0_rings_2 4 rfl rfl)
theorem dX0_rings_51 : decode cX0_rings 51 = .ok (.if_icmp .eq 18, 3) := dk_159 0 18 (dk_at dksX0_rings_2 5 rfl rfl)
theorem dX0_rings_54 : decode cX0_rings 54 = .ok (.aload_n 0, 1) := dk_42 (dk_at dksX0_rings_2 8 rfl rfl)
theorem dX0_rings_55 : decode cX0_rings 55 = .ok (.iload_n 3, 1) := dk_29 (dk_at dksX0_rings_2 9 rfl rfl)
theorem dX0_rings_56 : decode cX0_rings 56 = .ok (.invokevirtual 160, 3) := dk_182 0 160 (dk_at dksX0_rings_2 10 rfl rfl)
theorem dX0_rings_59 : decode cX0_rings 59 = .ok (.getfield 164, 3) := dk_180 0 164 (dk_at dksX0_rings_2 13 rfl rfl)
theorem dX0_rings_62 : decode cX0_rings 62 = .ok (.istore_n 3, 1) := dk_62 (dk_at dksX0_rings_2 16 rfl rfl)
theorem dX0_rings_63 : decode cX0_rings 63 = .ok (.iinc 4 1, 3) := dk_132 4 1 (dk_at dksX0_rings_2 17 rfl rfl)
theorem dX0_rings_66 : decode cX0_rings 66 = .ok (.goto (-29), 3) := dk_167 255 227 (dk_at dksX0_rings_2 20 rfl rfl)
theorem dX0_rings_69 : decode cX0_rings 69 = .ok (.iload_n 1, 1) := dk_27 (dk_at dksX0_rings_2 23 rfl rfl)
theorem dX0_rings_70 : decode cX0_rings 70 = .ok (.iload_n 3, 1) := dk_29 (dk_at dksX0_rings_3 0 rfl rfl)
theorem dX0_rings_71 : decode cX0_rings 71 = .ok (.iload_n 2, 1) := dk_28 (dk_at dksX0_rings_3 1 rfl rfl)
theorem dX0_rings_72 : decode cX0_rings 72 = .ok (.if_icmp .ne 9, 3) := dk_160 0 9 (dk_at dksX0_rings_3 2 rfl rfl)
theorem dX0_rings_75 : decode cX0_rings 75 = .ok (.iconst 1, 1) := dk_4 (dk_at dksX0_rings_3 5 rfl rfl)
theorem dX0_rings_76 : decode cX0_rings 76 = .ok (.iload_n 2, 1) := dk_28 (dk_at dksX0_rings_3 6 rfl rfl)
theorem dX0_rings_77 : decode cX0_rings 77 = .ok (.ishl, 1) := dk_120 (dk_at dksX0_rings_3 7 rfl rfl)
theorem dX0_rings_78 : decode cX0_rings 78 = .ok (.goto 4, 3) := dk_167 0 4 (dk_at dksX0_rings_3 8 rfl rfl)
theorem dX0_rings_81 : decode cX0_rings 81 = .ok (.iconst 0, 1) := dk_3 (dk_at dksX0_rings_3 11 rfl rfl)
theorem dX0_rings_82 : decode cX0_rings 82 = .ok (.ior, 1) := dk_128 (dk_at dksX0_rings_3 12 rfl rfl)
theorem dX0_rings_83 : decode cX0_rings 83 = .ok (.istore_n 1, 1) := dk_60 (dk_at dksX0_rings_3 13 rfl rfl)
theorem dX0_rings_84 : decode cX0_rings 84 = .ok (.iinc 2 1, 3) := dk_132 2 1 (dk_at dksX0_rings_3 14 rfl rfl)
theorem dX0_rings_87 : decode cX0_rings 87 = .ok (.goto (-70), 3) := dk_167 255 186 (dk_at dksX0_rings_3 17 rfl rfl)
theorem dX0_rings_90 : decode cX0_rings 90 = .ok (.iload_n 1, 1) := dk_27 (dk_at dksX0_rings_3 20 rfl rfl)
theorem dX0_rings_91 : decode cX0_rings 91 = .ok (.ireturn, 1) := dk_172 (dk_at dksX0_rings_3 21 rfl rfl)
abbrev cX0_rained : ByteArray := prog_1_method_34_code
def yX0_rained : MethodName := ⟨RX0, "rained", "(I)I"⟩
def dkwX0_rained_2 : List UInt8 := [172]
abbrev dktX0_rained_2 : List UInt8 := dkwX0_rained_2 ++ []
def dkwX0_rained_1 : List UInt8 := [29, 27, 163, 0, 21, 28, 42, 180, 0, 68, 180, 0, 220, 29, 46, 96, 61, 132, 3, 1, 167, 255, 236, 28]
abbrev dktX0_rained_1 : List UInt8 := dkwX0_rained_1 ++ dktX0_rained_2
def dkwX0_rained_0 : List UInt8 := [42, 27, 133, 182, 0, 155, 154, 0, 6, 16, 254, 172, 42, 180, 0, 68, 182, 0, 190, 87, 3, 61, 3, 62]
abbrev dktX0_rained_0 : List UInt8 := dkwX0_rained_0 ++ dktX0_rained_1
theorem dksX0_rained_0 : cX0_rained.data.toList.drop 0 = dktX0_rained_0 := by decide +kernel
theorem dksX0_rained_1 : cX0_rained.data.toList.drop 24 = dktX0_rained_1 := dk_seg dksX0_rained_0 24 rfl rfl
theorem dksX0_rained_2 : cX0_rained.data.toList.drop 48 = dktX0_rained_2 := dk_seg dksX0_rained_1 24 rfl rfl
theorem dX0_rained_0 : decode cX0_rained 0 = .ok (.aload_n 0, 1) := dk_42 (dk_at dksX0_rained_0 0 rfl rfl)
theorem dX0_rained_1 : decode cX0_rained 1 = .ok (.iload_n 1, 1) := dk_27 (dk_at dksX0_rained_0 1 rfl rfl)
theorem dX0_rained_2 : decode cX0_rained 2 = .ok (.i2l, 1) := dk_133 (dk_at dksX0_rained_0 2 rfl rfl)
theorem dX0_rained_3 : decode cX0_rained 3 = .ok (.invokevirtual 155, 3) := dk_182 0 155 (dk_at dksX0_rained_0 3 rfl rfl)
theorem dX0_rained_6 : decode cX0_rained 6 = .ok (.ifCond .ne 6, 3) := dk_154 0 6 (dk_at dksX0_rained_0 6 rfl rfl)
theorem dX0_rained_9 : decode cX0_rained 9 = .ok (.bipush (-2), 2) := dk_16 254 (dk_at dksX0_rained_0 9 rfl rfl)
theorem dX0_rained_11 : decode cX0_rained 11 = .ok (.ireturn, 1) := dk_172 (dk_at dksX0_rained_0 11 rfl rfl)
theorem dX0_rained_12 : decode cX0_rained 12 = .ok (.aload_n 0, 1) := dk_42 (dk_at dksX0_rained_0 12 rfl rfl)
theorem dX0_rained_13 : decode cX0_rained 13 = .ok (.getfield 68, 3) := dk_180 0 68 (dk_at dksX0_rained_0 13 rfl rfl)
theorem dX0_rained_16 : decode cX0_rained 16 = .ok (.invokevirtual 190, 3) := dk_182 0 190 (dk_at dksX0_rained_0 16 rfl rfl)
theorem dX0_rained_19 : decode cX0_rained 19 = .ok (.pop, 1) := dk_87 (dk_at dksX0_rained_0 19 rfl rfl)
theorem dX0_rained_20 : decode cX0_rained 20 = .ok (.iconst 0, 1) := dk_3 (dk_at dksX0_rained_0 20 rfl rfl)
theorem dX0_rained_21 : decode cX0_rained 21 = .ok (.istore_n 2, 1) := dk_61 (dk_at dksX0_rained_0 21 rfl rfl)
theorem dX0_rained_22 : decode cX0_rained 22 = .ok (.iconst 0, 1) := dk_3 (dk_at dksX0_rained_0 22 rfl rfl)
theorem dX0_rained_23 : decode cX0_rained 23 = .ok (.istore_n 3, 1) := dk_62 (dk_at dksX0_rained_0 23 rfl rfl)
theorem dX0_rained_24 : decode cX0_rained 24 = .ok (.iload_n 3, 1) := dk_29 (dk_at dksX0_rained_1 0 rfl rfl)
theorem dX0_rained_25 : decode cX0_rained 25 = .ok (.iload_n 1, 1) := dk_27 (dk_at dksX0_rained_1 1 rfl rfl)
theorem dX0_rained_26 : decode cX0_rained 26 = .ok (.if_icmp .gt 21, 3) := dk_163 0 21 (dk_at dksX0_rained_1 2 rfl rfl)
theorem dX0_rained_29 : decode cX0_rained 29 = .ok (.iload_n 2, 1) := dk_28 (dk_at dksX0_rained_1 5 rfl rfl)
theorem dX0_rained_30 : decode cX0_rained 30 = .ok (.aload_n 0, 1) := dk_42 (dk_at dksX0_rained_1 6 rfl rfl)
theorem dX0_rained_31 : decode cX0_rained 31 = .ok (.getfield 68, 3) := dk_180 0 68 (dk_at dksX0_rained_1 7 rfl rfl)
theorem dX0_rained_34 : decode cX0_rained 34 = .ok (.getfield 220, 3) := dk_180 0 220 (dk_at dksX0_rained_1 10 rfl rfl)
theorem dX0_rained_37 : decode cX0_rained 37 = .ok (.iload_n 3, 1) := dk_29 (dk_at dksX0_rained_1 13 rfl rfl)
theorem dX0_rained_38 : decode cX0_rained 38 = .ok (.iaload, 1) := dk_46 (dk_at dksX0_rained_1 14 rfl rfl)
theorem dX0_rained_39 : decode cX0_rained 39 = .ok (.iadd, 1) := dk_96 (dk_at dksX0_rained_1 15 rfl rfl)
theorem dX0_rained_40 : decode cX0_rained 40 = .ok (.istore_n 2, 1) := dk_61 (dk_at dksX0_rained_1 16 rfl rfl)
theorem dX0_rained_41 : decode cX0_rained 41 = .ok (.iinc 3 1, 3) := dk_132 3 1 (dk_at dksX0_rained_1 17 rfl rfl)
theorem dX0_rained_44 : decode cX0_rained 44 = .ok (.goto (-20), 3) := dk_167 255 236 (dk_at dksX0_rained_1 20 rfl rfl)
theorem dX0_rained_47 : decode cX0_rained 47 = .ok (.iload_n 2, 1) := dk_28 (dk_at dksX0_rained_1 23 rfl rfl)
theorem dX0_rained_48 : decode cX0_rained 48 = .ok (.ireturn, 1) := dk_172 (dk_at dksX0_rained_2 0 rfl rfl)
abbrev cX0_lowest : ByteArray := prog_1_method_35_code
def yX0_lowest : MethodName := ⟨RX0, "lowest", "()I"⟩
def dkwX0_lowest_2 : List UInt8 := [46, 162, 0, 5, 28, 60, 132, 2, 1, 167, 255, 224, 27, 172]
abbrev dktX0_lowest_2 : List UInt8 := dkwX0_lowest_2 ++ []
def dkwX0_lowest_1 : List UInt8 := [61, 28, 16, 60, 163, 0, 32, 42, 180, 0, 68, 180, 0, 223, 28, 46, 42, 180, 0, 68, 180, 0, 223, 27]
abbrev dktX0_lowest_1 : List UInt8 := dkwX0_lowest_1 ++ dktX0_lowest_2
def dkwX0_lowest_0 : List UInt8 := [42, 180, 0, 47, 182, 0, 108, 154, 0, 6, 16, 254, 172, 42, 180, 0, 68, 182, 0, 190, 87, 3, 60, 4]
abbrev dktX0_lowest_0 : List UInt8 := dkwX0_lowest_0 ++ dktX0_lowest_1
theorem dksX0_lowest_0 : cX0_lowest.data.toList.drop 0 = dktX0_lowest_0 := by decide +kernel
theorem dksX0_lowest_1 : cX0_lowest.data.toList.drop 24 = dktX0_lowest_1 := dk_seg dksX0_lowest_0 24 rfl rfl
theorem dksX0_lowest_2 : cX0_lowest.data.toList.drop 48 = dktX0_lowest_2 := dk_seg dksX0_lowest_1 24 rfl rfl
theorem dX0_lowest_0 : decode cX0_lowest 0 = .ok (.aload_n 0, 1) := dk_42 (dk_at dksX0_lowest_0 0 rfl rfl)
theorem dX0_lowest_1 : decode cX0_lowest 1 = .ok (.getfield 47, 3) := dk_180 0 47 (dk_at dksX0_lowest_0 1 rfl rfl)
theorem dX0_lowest_4 : decode cX0_lowest 4 = .ok (.invokevirtual 108, 3) := dk_182 0 108 (dk_at dksX0_lowest_0 4 rfl rfl)
theorem dX0_lowest_7 : decode cX0_lowest 7 = .ok (.ifCond .ne 6, 3) := dk_154 0 6 (dk_at dksX0_lowest_0 7 rfl rfl)
theorem dX0_lowest_10 : decode cX0_lowest 10 = .ok (.bipush (-2), 2) := dk_16 254 (dk_at dksX0_lowest_0 10 rfl rfl)
theorem dX0_lowest_12 : decode cX0_lowest 12 = .ok (.ireturn, 1) := dk_172 (dk_at dksX0_lowest_0 12 rfl rfl)
theorem dX0_lowest_13 : decode cX0_lowest 13 = .ok (.aload_n 0, 1) := dk_42 (dk_at dksX0_lowest_0 13 rfl rfl)
theorem dX0_lowest_14 : decode cX0_lowest 14 = .ok (.getfield 68, 3) := dk_180 0 68 (dk_at dksX0_lowest_0 14 rfl rfl)
theorem dX0_lowest_17 : decode cX0_lowest 17 = .ok (.invokevirtual 190, 3) := dk_182 0 190 (dk_at dksX0_lowest_0 17 rfl rfl)
theorem dX0_lowest_20 : decode cX0_lowest 20 = .ok (.pop, 1) := dk_87 (dk_at dksX0_lowest_0 20 rfl rfl)
theorem dX0_lowest_21 : decode cX0_lowest 21 = .ok (.iconst 0, 1) := dk_3 (dk_at dksX0_lowest_0 21 rfl rfl)
theorem dX0_lowest_22 : decode cX0_lowest 22 = .ok (.istore_n 1, 1) := dk_60 (dk_at dksX0_lowest_0 22 rfl rfl)
theorem dX0_lowest_23 : decode cX0_lowest 23 = .ok (.iconst 1, 1) := dk_4 (dk_at dksX0_lowest_0 23 rfl rfl)
theorem dX0_lowest_24 : decode cX0_lowest 24 = .ok (.istore_n 2, 1) := dk_61 (dk_at dksX0_lowest_1 0 rfl rfl)
theorem dX0_lowest_25 : decode cX0_lowest 25 = .ok (.iload_n 2, 1) := dk_28 (dk_at dksX0_lowest_1 1 rfl rfl)
theorem dX0_lowest_26 : decode cX0_lowest 26 = .ok (.bipush 60, 2) := dk_16 60 (dk_at dksX0_lowest_1 2 rfl rfl)
theorem dX0_lowest_28 : decode cX0_lowest 28 = .ok (.if_icmp .gt 32, 3) := dk_163 0 32 (dk_at dksX0_lowest_1 4 rfl rfl)
theorem dX0_lowest_31 : decode cX0_lowest 31 = .ok (.aload_n 0, 1) := dk_42 (dk_at dksX0_lowest_1 7 rfl rfl)
theorem dX0_lowest_32 : decode cX0_lowest 32 = .ok (.getfield 68, 3) := dk_180 0 68 (dk_at dksX0_lowest_1 8 rfl rfl)
theorem dX0_lowest_35 : decode cX0_lowest 35 = .ok (.getfield 223, 3) := dk_180 0 223 (dk_at dksX0_lowest_1 11 rfl rfl)
theorem dX0_lowest_38 : decode cX0_lowest 38 = .ok (.iload_n 2, 1) := dk_28 (dk_at dksX0_lowest_1 14 rfl rfl)
theorem dX0_lowest_39 : decode cX0_lowest 39 = .ok (.iaload, 1) := dk_46 (dk_at dksX0_lowest_1 15 rfl rfl)
theorem dX0_lowest_40 : decode cX0_lowest 40 = .ok (.aload_n 0, 1) := dk_42 (dk_at dksX0_lowest_1 16 rfl rfl)
theorem dX0_lowest_41 : decode cX0_lowest 41 = .ok (.getfield 68, 3) := dk_180 0 68 (dk_at dksX0_lowest_1 17 rfl rfl)
theorem dX0_lowest_44 : decode cX0_lowest 44 = .ok (.getfield 223, 3) := dk_180 0 223 (dk_at dksX0_lowest_1 20 rfl rfl)
theorem dX0_lowest_47 : decode cX0_lowest 47 = .ok (.iload_n 1, 1) := dk_27 (dk_at dksX0_lowest_1 23 rfl rfl)
theorem dX0_lowest_48 : decode cX0_lowest 48 = .ok (.iaload, 1) := dk_46 (dk_at dksX0_lowest_2 0 rfl rfl)
theorem dX0_lowest_49 : decode cX0_lowest 49 = .ok (.if_icmp .ge 5, 3) := dk_162 0 5 (dk_at dksX0_lowest_2 1 rfl rfl)
theorem dX0_lowest_52 : decode cX0_lowest 52 = .ok (.iload_n 2, 1) := dk_28 (dk_at dksX0_lowest_2 4 rfl rfl)
theorem dX0_lowest_53 : decode cX0_lowest 53 = .ok (.istore_n 1, 1) := dk_60 (dk_at dksX0_lowest_2 5 rfl rfl)
theorem dX0_lowest_54 : decode cX0_lowest 54 = .ok (.iinc 2 1, 3) := dk_132 2 1 (dk_at dksX0_lowest_2 6 rfl rfl)
theorem dX0_lowest_57 : decode cX0_lowest 57 = .ok (.goto (-32), 3) := dk_167 255 224 (dk_at dksX0_lowest_2 9 rfl rfl)
theorem dX0_lowest_60 : decode cX0_lowest 60 = .ok (.iload_n 1, 1) := dk_27 (dk_at dksX0_lowest_2 12 rfl rfl)
theorem dX0_lowest_61 : decode cX0_lowest 61 = .ok (.ireturn, 1) := dk_172 (dk_at dksX0_lowest_2 13 rfl rfl)
abbrev cX0_deeper : ByteArray := prog_1_method_36_code
def yX0_deeper : MethodName := ⟨RX0, "deeper", "()I"⟩
def dkwX0_deeper_1 : List UInt8 := [180, 0, 223, 27, 46, 184, 0, 229, 172]
abbrev dktX0_deeper_1 : List UInt8 := dkwX0_deeper_1 ++ []
def dkwX0_deeper_0 : List UInt8 := [42, 180, 0, 47, 182, 0, 108, 154, 0, 6, 16, 254, 172, 42, 182, 0, 226, 60, 16, 20, 42, 180, 0, 68]
abbrev dktX0_deeper_0 : List UInt8 := dkwX0_deeper_0 ++ dktX0_deeper_1
theorem dksX0_deeper_0 : cX0_deeper.data.toList.drop 0 = dktX0_deeper_0 := by decide +kernel
theorem dksX0_deeper_1 : cX0_deeper.data.toList.drop 24 = dktX0_deeper_1 := dk_seg dksX0_deeper_0 24 rfl rfl
theorem dX0_deeper_0 : decode cX0_deeper 0 = .ok (.aload_n 0, 1) := dk_42 (dk_at dksX0_deeper_0 0 rfl rfl)
theorem dX0_deeper_1 : decode cX0_deeper 1 = .ok (.getfield 47, 3) := dk_180 0 47 (dk_at dksX0_deeper_0 1 rfl rfl)
theorem dX0_deeper_4 : decode cX0_deeper 4 = .ok (.invokevirtual 108, 3) := dk_182 0 108 (dk_at dksX0_deeper_0 4 rfl rfl)
theorem dX0_deeper_7 : decode cX0_deeper 7 = .ok (.ifCond .ne 6, 3) := dk_154 0 6 (dk_at dksX0_deeper_0 7 rfl rfl)
theorem dX0_deeper_10 : decode cX0_deeper 10 = .ok (.bipush (-2), 2) := dk_16 254 (dk_at dksX0_deeper_0 10 rfl rfl)
theorem dX0_deeper_12 : decode cX0_deeper 12 = .ok (.ireturn, 1) := dk_172 (dk_at dksX0_deeper_0 12 rfl rfl)
theorem dX0_deeper_13 : decode cX0_deeper 13 = .ok (.aload_n 0, 1) := dk_42 (dk_at dksX0_deeper_0 13 rfl rfl)
theorem dX0_deeper_14 : decode cX0_deeper 14 = .ok (.invokevirtual 226, 3) := dk_182 0 226 (dk_at dksX0_deeper_0 14 rfl rfl)
theorem dX0_deeper_17 : decode cX0_deeper 17 = .ok (.istore_n 1, 1) := dk_60 (dk_at dksX0_deeper_0 17 rfl rfl)
theorem dX0_deeper_18 : decode cX0_deeper 18 = .ok (.bipush 20, 2) := dk_16 20 (dk_at dksX0_deeper_0 18 rfl rfl)
theorem dX0_deeper_20 : decode cX0_deeper 20 = .ok (.aload_n 0, 1) := dk_42 (dk_at dksX0_deeper_0 20 rfl rfl)
theorem dX0_deeper_21 : decode cX0_deeper 21 = .ok (.getfield 68, 3) := dk_180 0 68 (dk_at dksX0_deeper_0 21 rfl rfl)
theorem dX0_deeper_24 : decode cX0_deeper 24 = .ok (.getfield 223, 3) := dk_180 0 223 (dk_at dksX0_deeper_1 0 rfl rfl)
theorem dX0_deeper_27 : decode cX0_deeper 27 = .ok (.iload_n 1, 1) := dk_27 (dk_at dksX0_deeper_1 3 rfl rfl)
theorem dX0_deeper_28 : decode cX0_deeper 28 = .ok (.iaload, 1) := dk_46 (dk_at dksX0_deeper_1 4 rfl rfl)
theorem dX0_deeper_29 : decode cX0_deeper 29 = .ok (.invokestatic 229, 3) := dk_184 0 229 (dk_at dksX0_deeper_1 5 rfl rfl)
theorem dX0_deeper_32 : decode cX0_deeper 32 = .ok (.ireturn, 1) := dk_172 (dk_at dksX0_deeper_1 8 rfl rfl)
abbrev cX0_goes : ByteArray := prog_1_method_37_code
def yX0_goes : MethodName := ⟨RX0, "goes", "(II)I"⟩
def dkwX0_goes_2 : List UInt8 := [27, 182, 0, 176, 180, 0, 187, 160, 0, 7, 4, 167, 0, 4, 3, 172]
abbrev dktX0_goes_2 : List UInt8 := dkwX0_goes_2 ++ []
def dkwX0_goes_1 : List UInt8 := [182, 0, 190, 180, 0, 234, 27, 184, 0, 237, 154, 0, 28, 28, 42, 27, 182, 0, 176, 180, 0, 184, 112, 42]
abbrev dktX0_goes_1 : List UInt8 := dkwX0_goes_1 ++ dktX0_goes_2
def dkwX0_goes_0 : List UInt8 := [42, 27, 182, 0, 173, 153, 0, 12, 42, 28, 133, 182, 0, 155, 154, 0, 6, 16, 254, 172, 42, 180, 0, 68]
abbrev dktX0_goes_0 : List UInt8 := dkwX0_goes_0 ++ dktX0_goes_1
theorem dksX0_goes_0 : cX0_goes.data.toList.drop 0 = dktX0_goes_0 := by decide +kernel
theorem dksX0_goes_1 : cX0_goes.data.toList.drop 24 = dktX0_goes_1 := dk_seg dksX0_goes_0 24 rfl rfl
theorem dksX0_goes_2 : cX0_goes.data.toList.drop 48 = dktX0_goes_2 := dk_seg dksX0_goes_1 24 rfl rfl
theorem dX0_goes_0 : decode cX0_goes 0 = .ok (.aload_n 0, 1) := dk_42 (dk_at dksX0_goes_0 0 rfl rfl)
theorem dX0_goes_1 : decode cX0_goes 1 = .ok (.iload_n 1, 1) := dk_27 (dk_at dksX0_goes_0 1 rfl rfl)
theorem dX0_goes_2 : decode cX0_goes 2 = .ok (.invokevirtual 173, 3) := dk_182 0 173 (dk_at dksX0_goes_0 2 rfl rfl)
theorem dX0_goes_5 : decode cX0_goes 5 = .ok (.ifCond .eq 12, 3) := dk_153 0 12 (dk_at dksX0_goes_0 5 rfl rfl)
theorem dX0_goes_8 : decode cX0_goes 8 = .ok (.aload_n 0, 1) := dk_42 (dk_at dksX0_goes_0 8 rfl rfl)
theorem dX0_goes_9 : decode cX0_goes 9 = .ok (.iload_n 2, 1) := dk_28 (dk_at dksX0_goes_0 9 rfl rfl)
theorem dX0_goes_10 : decode cX0_goes 10 = .ok (.i2l, 1) := dk_133 (dk_at dksX0_goes_0 10 rfl rfl)
theorem dX0_goes_11 : decode cX0_goes 11 = .ok (.invokevirtual 155, 3) := dk_182 0 155 (dk_at dksX0_goes_0 11 rfl rfl)
theorem dX0_goes_14 : decode cX0_goes 14 = .ok (.ifCond .ne 6, 3) := dk_154 0 6 (dk_at dksX0_goes_0 14 rfl rfl)
theorem dX0_goes_17 : decode cX0_goes 17 = .ok (.bipush (-2), 2) := dk_16 254 (dk_at dksX0_goes_0 17 rfl rfl)
theorem dX0_goes_19 : decode cX0_goes 19 = .ok (.ireturn, 1) := dk_172 (dk_at dksX0_goes_0 19 rfl rfl)
theorem dX0_goes_20 : decode cX0_goes 20 = .ok (.aload_n 0, 1) := dk_42 (dk_at dksX0_goes_0 20 rfl rfl)
theorem dX0_goes_21 : decode cX0_goes 21 = .ok (.getfield 68, 3) := dk_180 0 68 (dk_at dksX0_goes_0 21 rfl rfl)
theorem dX0_goes_24 : decode cX0_goes 24 = .ok (.invokevirtual 190, 3) := dk_182 0 190 (dk_at dksX0_goes_1 0 rfl rfl)
theorem dX0_goes_27 : decode cX0_goes 27 = .ok (.getfield 234, 3) := dk_180 0 234 (dk_at dksX0_goes_1 3 rfl rfl)
theorem dX0_goes_30 : decode cX0_goes 30 = .ok (.iload_n 1, 1) := dk_27 (dk_at dksX0_goes_1 6 rfl rfl)
theorem dX0_goes_31 : decode cX0_goes 31 = .ok (.invokestatic 237, 3) := dk_184 0 237 (dk_at dksX0_goes_1 7 rfl rfl)
theorem dX0_goes_34 : decode cX0_goes 34 = .ok (.ifCond .ne 28, 3) := dk_154 0 28 (dk_at dksX0_goes_1 10 rfl rfl)
theorem dX0_goes_37 : decode cX0_goes 37 = .ok (.iload_n 2, 1) := dk_28 (dk_at dksX0_goes_1 13 rfl rfl)
theorem dX0_goes_38 : decode cX0_goes 38 = .ok (.aload_n 0, 1) := dk_42 (dk_at dksX0_goes_1 14 rfl rfl)
theorem dX0_goes_39 : decode cX0_goes 39 = .ok (.iload_n 1, 1) := dk_27 (dk_at dksX0_goes_1 15 rfl rfl)
theorem dX0_goes_40 : decode cX0_goes 40 = .ok (.invokevirtual 176, 3) := dk_182 0 176 (dk_at dksX0_goes_1 16 rfl rfl)
theorem dX0_goes_43 : decode cX0_goes 43 = .ok (.getfield 184, 3) := dk_180 0 184 (dk_at dksX0_goes_1 19 rfl rfl)
theorem dX0_goes_46 : decode cX0_goes 46 = .ok (.irem, 1) := dk_112 (dk_at dksX0_goes_1 22 rfl rfl)
theorem dX0_goes_47 : decode cX0_goes 47 = .ok (.aload_n 0, 1) := dk_42 (dk_at dksX0_goes_1 23 rfl rfl)
theorem dX0_goes_48 : decode cX0_goes 48 = .ok (.iload_n 1, 1) := dk_27 (dk_at dksX0_goes_2 0 rfl rfl)
theorem dX0_goes_49 : decode cX0_goes 49 = .ok (.invokevirtual 176, 3) := dk_182 0 176 (dk_at dksX0_goes_2 1 rfl rfl)
theorem dX0_goes_52 : decode cX0_goes 52 = .ok (.getfield 187, 3) := dk_180 0 187 (dk_at dksX0_goes_2 4 rfl rfl)
theorem dX0_goes_55 : decode cX0_goes 55 = .ok (.if_icmp .ne 7, 3) := dk_160 0 7 (dk_at dksX0_goes_2 7 rfl rfl)
theorem dX0_goes_58 : decode cX0_goes 58 = .ok (.iconst 1, 1) := dk_4 (dk_at dksX0_goes_2 10 rfl rfl)
theorem dX0_goes_59 : decode cX0_goes 59 = .ok (.goto 4, 3) := dk_167 0 4 (dk_at dksX0_goes_2 11 rfl rfl)
theorem dX0_goes_62 : decode cX0_goes 62 = .ok (.iconst 0, 1) := dk_3 (dk_at dksX0_goes_2 14 rfl rfl)
theorem dX0_goes_63 : decode cX0_goes 63 = .ok (.ireturn, 1) := dk_172 (dk_at dksX0_goes_2 15 rfl rfl)
abbrev cX0_used : ByteArray := prog_1_method_38_code
def yX0_used : MethodName := ⟨RX0, "used", "(II)I"⟩
def dkwX0_used_1 : List UInt8 := [180, 0, 243, 172]
abbrev dktX0_used_1 : List UInt8 := dkwX0_used_1 ++ []
def dkwX0_used_0 : List UInt8 := [42, 27, 28, 182, 0, 240, 154, 0, 6, 16, 254, 172, 42, 27, 28, 182, 0, 203, 87, 42, 180, 0, 75]
abbrev dktX0_used_0 : List UInt8 := dkwX0_used_0 ++ dktX0_used_1
theorem dksX0_used_0 : cX0_used.data.toList.drop 0 = dktX0_used_0 := by decide +kernel
theorem dksX0_used_1 : cX0_used.data.toList.drop 23 = dktX0_used_1 := dk_seg dksX0_used_0 23 rfl rfl
theorem dX0_used_0 : decode cX0_used 0 = .ok (.aload_n 0, 1) := dk_42 (dk_at dksX0_used_0 0 rfl rfl)
theorem dX0_used_1 : decode cX0_used 1 = .ok (.iload_n 1, 1) := dk_27 (dk_at dksX0_used_0 1 rfl rfl)
theorem dX0_used_2 : decode cX0_used 2 = .ok (.iload_n 2, 1) := dk_28 (dk_at dksX0_used_0 2 rfl rfl)
theorem dX0_used_3 : decode cX0_used 3 = .ok (.invokevirtual 240, 3) := dk_182 0 240 (dk_at dksX0_used_0 3 rfl rfl)
theorem dX0_used_6 : decode cX0_used 6 = .ok (.ifCond .ne 6, 3) := dk_154 0 6 (dk_at dksX0_used_0 6 rfl rfl)
theorem dX0_used_9 : decode cX0_used 9 = .ok (.bipush (-2), 2) := dk_16 254 (dk_at dksX0_used_0 9 rfl rfl)
theorem dX0_used_11 : decode cX0_used 11 = .ok (.ireturn, 1) := dk_172 (dk_at dksX0_used_0 11 rfl rfl)
theorem dX0_used_12 : decode cX0_used 12 = .ok (.aload_n 0, 1) := dk_42 (dk_at dksX0_used_0 12 rfl rfl)
theorem dX0_used_13 : decode cX0_used 13 = .ok (.iload_n 1, 1) := dk_27 (dk_at dksX0_used_0 13 rfl rfl)
theorem dX0_used_14 : decode cX0_used 14 = .ok (.iload_n 2, 1) := dk_28 (dk_at dksX0_used_0 14 rfl rfl)
theorem dX0_used_15 : decode cX0_used 15 = .ok (.invokevirtual 203, 3) := dk_182 0 203 (dk_at dksX0_used_0 15 rfl rfl)
theorem dX0_used_18 : decode cX0_used 18 = .ok (.pop, 1) := dk_87 (dk_at dksX0_used_0 18 rfl rfl)
theorem dX0_used_19 : decode cX0_used 19 = .ok (.aload_n 0, 1) := dk_42 (dk_at dksX0_used_0 19 rfl rfl)
theorem dX0_used_20 : decode cX0_used 20 = .ok (.getfield 75, 3) := dk_180 0 75 (dk_at dksX0_used_0 20 rfl rfl)
theorem dX0_used_23 : decode cX0_used 23 = .ok (.getfield 243, 3) := dk_180 0 243 (dk_at dksX0_used_1 0 rfl rfl)
theorem dX0_used_26 : decode cX0_used 26 = .ok (.ireturn, 1) := dk_172 (dk_at dksX0_used_1 3 rfl rfl)
abbrev cX0_together : ByteArray := prog_1_method_39_code
def yX0_together : MethodName := ⟨RX0, "together", "(II)I"⟩
def dkwX0_together_3 : List UInt8 := [128, 62, 132, 4, 1, 167, 255, 204, 29, 172]
abbrev dktX0_together_3 : List UInt8 := dkwX0_together_3 ++ []
def dkwX0_together_2 : List UInt8 := [16, 60, 46, 42, 180, 0, 75, 180, 0, 206, 16, 60, 46, 160, 0, 10, 4, 21, 4, 120, 167, 0, 4, 3]
abbrev dktX0_together_2 : List UInt8 := dkwX0_together_2 ++ dktX0_together_3
def dkwX0_together_1 : List UInt8 := [21, 4, 42, 182, 0, 147, 162, 0, 49, 29, 42, 180, 0, 79, 21, 4, 28, 182, 0, 193, 180, 0, 206]
abbrev dktX0_together_1 : List UInt8 := dkwX0_together_1 ++ dktX0_together_2
def dkwX0_together_0 : List UInt8 := [42, 27, 28, 182, 0, 240, 154, 0, 6, 16, 254, 172, 42, 27, 28, 182, 0, 203, 87, 3, 62, 3, 54, 4]
abbrev dktX0_together_0 : List UInt8 := dkwX0_together_0 ++ dktX0_together_1
theorem dksX0_together_0 : cX0_together.data.toList.drop 0 = dktX0_together_0 := by decide +kernel
theorem dksX0_together_1 : cX0_together.data.toList.drop 24 = dktX0_together_1 := dk_seg dksX0_together_0 24 rfl rfl
theorem dksX0_together_2 : cX0_together.data.toList.drop 47 = dktX0_together_2 := dk_seg dksX0_together_1 23 rfl rfl
theorem dksX0_together_3 : cX0_together.data.toList.drop 71 = dktX0_together_3 := dk_seg dksX0_together_2 24 rfl rfl
theorem dX0_together_0 : decode cX0_together 0 = .ok (.aload_n 0, 1) := dk_42 (dk_at dksX0_together_0 0 rfl rfl)
theorem dX0_together_1 : decode cX0_together 1 = .ok (.iload_n 1, 1) := dk_27 (dk_at dksX0_together_0 1 rfl rfl)
theorem dX0_together_2 : decode cX0_together 2 = .ok (.iload_n 2, 1) := dk_28 (dk_at dksX0_together_0 2 rfl rfl)
theorem dX0_together_3 : decode cX0_together 3 = .ok (.invokevirtual 240, 3) := dk_182 0 240 (dk_at dksX0_together_0 3 rfl rfl)
theorem dX0_together_6 : decode cX0_together 6 = .ok (.ifCond .ne 6, 3) := dk_154 0 6 (dk_at dksX0_together_0 6 rfl rfl)
theorem dX0_together_9 : decode cX0_together 9 = .ok (.bipush (-2), 2) := dk_16 254 (dk_at dksX0_together_0 9 rfl rfl)
theorem dX0_together_11 : decode cX0_together 11 = .ok (.ireturn, 1) := dk_172 (dk_at dksX0_together_0 11 rfl rfl)
theorem dX0_together_12 : decode cX0_together 12 = .ok (.aload_n 0, 1) := dk_42 (dk_at dksX0_together_0 12 rfl rfl)
theorem dX0_together_13 : decode cX0_together 13 = .ok (.iload_n 1, 1) := dk_27 (dk_at dksX0_together_0 13 rfl rfl)
theorem dX0_together_14 : decode cX0_together 14 = .ok (.iload_n 2, 1) := dk_28 (dk_at dksX0_together_0 14 rfl rfl)
theorem dX0_together_15 : decode cX0_together 15 = .ok (.invokevirtual 203, 3) := dk_182 0 203 (dk_at dksX0_together_0 15 rfl rfl)
theorem dX0_together_18 : decode cX0_together 18 = .ok (.pop, 1) := dk_87 (dk_at dksX0_together_0 18 rfl rfl)
theorem dX0_together_19 : decode cX0_together 19 = .ok (.iconst 0, 1) := dk_3 (dk_at dksX0_together_0 19 rfl rfl)
theorem dX0_together_20 : decode cX0_together 20 = .ok (.istore_n 3, 1) := dk_62 (dk_at dksX0_together_0 20 rfl rfl)
theorem dX0_together_21 : decode cX0_together 21 = .ok (.iconst 0, 1) := dk_3 (dk_at dksX0_together_0 21 rfl rfl)
theorem dX0_together_22 : decode cX0_together 22 = .ok (.istore 4, 2) := dk_54 4 (dk_at dksX0_together_0 22 rfl rfl)
theorem dX0_together_24 : decode cX0_together 24 = .ok (.iload 4, 2) := dk_21 4 (dk_at dksX0_together_1 0 rfl rfl)
theorem dX0_together_26 : decode cX0_together 26 = .ok (.aload_n 0, 1) := dk_42 (dk_at dksX0_together_1 2 rfl rfl)
theorem dX0_together_27 : decode cX0_together 27 = .ok (.invokevirtual 147, 3) := dk_182 0 147 (dk_at dksX0_together_1 3 rfl rfl)
theorem dX0_together_30 : decode cX0_together 30 = .ok (.if_icmp .ge 49, 3) := dk_162 0 49 (dk_at dksX0_together_1 6 rfl rfl)
theorem dX0_together_33 : decode cX0_together 33 = .ok (.iload_n 3, 1) := dk_29 (dk_at dksX0_together_1 9 rfl rfl)
theorem dX0_together_34 : decode cX0_together 34 = .ok (.aload_n 0, 1) := dk_42 (dk_at dksX0_together_1 10 rfl rfl)
theorem dX0_together_35 : decode cX0_together 35 = .ok (.getfield 79, 3) := dk_180 0 79 (dk_at dksX0_together_1 11 rfl rfl)
theorem dX0_together_38 : decode cX0_together 38 = .ok (.iload 4, 2) := dk_21 4 (dk_at dksX0_together_1 14 rfl rfl)
theorem dX0_together_40 : decode cX0_together 40 = .ok (.iload_n 2, 1) := dk_28 (dk_at dksX0_together_1 16 rfl rfl)
theorem dX0_together_41 : decode cX0_together 41 = .ok (.invokevirtual 193, 3) := dk_182 0 193 (dk_at dksX0_together_1 17 rfl rfl)
theorem dX0_together_44 : decode cX0_together 44 = .ok (.getfield 206, 3) := dk_180 0 206 (dk_at dksX0_together_1 20 rfl rfl)
theorem dX0_together_47 : decode cX0_together 47 = .ok (.bipush 60, 2) := dk_16 60 (dk_at dksX0_together_2 0 rfl rfl)
theorem dX0_together_49 : decode cX0_together 49 = .ok (.iaload, 1) := dk_46 (dk_at dksX0_together_2 2 rfl rfl)
theorem dX0_together_50 : decode cX0_together 50 = .ok (.aload_n 0, 1) := dk_42 (dk_at dksX0_together_2 3 rfl rfl)
theorem dX0_together_51 : decode cX0_together 51 = .ok (.getfield 75, 3) := dk_180 0 75 (dk_at dksX0_together_2 4 rfl rfl)
theorem dX0_together_54 : decode cX0_together 54 = .ok (.getfield 206, 3) := dk_180 0 206 (dk_at dksX0_together_2 7 rfl rfl)
theorem dX0_together_57 : decode cX0_together 57 = .ok (.bipush 60, 2) := dk_16 60 (dk_at dksX0_together_2 10 rfl rfl)
theorem dX0_together_59 : decode cX0_together 59 = .ok (.iaload, 1) := dk_46 (dk_at dksX0_together_2 12 rfl rfl)
theorem dX0_together_60 : decode cX0_together 60 = .ok (.if_icmp .ne 10, 3) := dk_160 0 10 (dk_at dksX0_together_2 13 rfl rfl)
theorem dX0_together_63 : decode cX0_together 63 = .ok (.iconst 1, 1) := dk_4 (dk_at dksX0_together_2 16 rfl rfl)
theorem dX0_together_64 : decode cX0_together 64 = .ok (.iload 4, 2) := dk_21 4 (dk_at dksX0_together_2 17 rfl rfl)
theorem dX0_together_66 : decode cX0_together 66 = .ok (.ishl, 1) := dk_120 (dk_at dksX0_together_2 19 rfl rfl)
theorem dX0_together_67 : decode cX0_together 67 = .ok (.goto 4, 3) := dk_167 0 4 (dk_at dksX0_together_2 20 rfl rfl)
theorem dX0_together_70 : decode cX0_together 70 = .ok (.iconst 0, 1) := dk_3 (dk_at dksX0_together_2 23 rfl rfl)
theorem dX0_together_71 : decode cX0_together 71 = .ok (.ior, 1) := dk_128 (dk_at dksX0_together_3 0 rfl rfl)
theorem dX0_together_72 : decode cX0_together 72 = .ok (.istore_n 3, 1) := dk_62 (dk_at dksX0_together_3 1 rfl rfl)
theorem dX0_together_73 : decode cX0_together 73 = .ok (.iinc 4 1, 3) := dk_132 4 1 (dk_at dksX0_together_3 2 rfl rfl)
theorem dX0_together_76 : decode cX0_together 76 = .ok (.goto (-52), 3) := dk_167 255 204 (dk_at dksX0_together_3 5 rfl rfl)
theorem dX0_together_79 : decode cX0_together 79 = .ok (.iload_n 3, 1) := dk_29 (dk_at dksX0_together_3 8 rfl rfl)
theorem dX0_together_80 : decode cX0_together 80 = .ok (.ireturn, 1) := dk_172 (dk_at dksX0_together_3 9 rfl rfl)
abbrev cX0_again : ByteArray := prog_1_method_40_code
def yX0_again : MethodName := ⟨RX0, "again", "(II)I"⟩
def dkwX0_again_1 : List UInt8 := [180, 0, 245, 172]
abbrev dktX0_again_1 : List UInt8 := dkwX0_again_1 ++ []
def dkwX0_again_0 : List UInt8 := [42, 27, 28, 182, 0, 240, 154, 0, 6, 16, 254, 172, 42, 27, 28, 182, 0, 203, 87, 42, 180, 0, 75]
abbrev dktX0_again_0 : List UInt8 := dkwX0_again_0 ++ dktX0_again_1
theorem dksX0_again_0 : cX0_again.data.toList.drop 0 = dktX0_again_0 := by decide +kernel
theorem dksX0_again_1 : cX0_again.data.toList.drop 23 = dktX0_again_1 := dk_seg dksX0_again_0 23 rfl rfl
theorem dX0_again_0 : decode cX0_again 0 = .ok (.aload_n 0, 1) := dk_42 (dk_at dksX0_again_0 0 rfl rfl)
theorem dX0_again_1 : decode cX0_again 1 = .ok (.iload_n 1, 1) := dk_27 (dk_at dksX0_again_0 1 rfl rfl)
theorem dX0_again_2 : decode cX0_again 2 = .ok (.iload_n 2, 1) := dk_28 (dk_at dksX0_again_0 2 rfl rfl)
theorem dX0_again_3 : decode cX0_again 3 = .ok (.invokevirtual 240, 3) := dk_182 0 240 (dk_at dksX0_again_0 3 rfl rfl)
theorem dX0_again_6 : decode cX0_again 6 = .ok (.ifCond .ne 6, 3) := dk_154 0 6 (dk_at dksX0_again_0 6 rfl rfl)
theorem dX0_again_9 : decode cX0_again 9 = .ok (.bipush (-2), 2) := dk_16 254 (dk_at dksX0_again_0 9 rfl rfl)
theorem dX0_again_11 : decode cX0_again 11 = .ok (.ireturn, 1) := dk_172 (dk_at dksX0_again_0 11 rfl rfl)
theorem dX0_again_12 : decode cX0_again 12 = .ok (.aload_n 0, 1) := dk_42 (dk_at dksX0_again_0 12 rfl rfl)
theorem dX0_again_13 : decode cX0_again 13 = .ok (.iload_n 1, 1) := dk_27 (dk_at dksX0_again_0 13 rfl rfl)
theorem dX0_again_14 : decode cX0_again 14 = .ok (.iload_n 2, 1) := dk_28 (dk_at dksX0_again_0 14 rfl rfl)
theorem dX0_again_15 : decode cX0_again 15 = .ok (.invokevirtual 203, 3) := dk_182 0 203 (dk_at dksX0_again_0 15 rfl rfl)
theorem dX0_again_18 : decode cX0_again 18 = .ok (.pop, 1) := dk_87 (dk_at dksX0_again_0 18 rfl rfl)
theorem dX0_again_19 : decode cX0_again 19 = .ok (.aload_n 0, 1) := dk_42 (dk_at dksX0_again_0 19 rfl rfl)
theorem dX0_again_20 : decode cX0_again 20 = .ok (.getfield 75, 3) := dk_180 0 75 (dk_at dksX0_again_0 20 rfl rfl)
theorem dX0_again_23 : decode cX0_again 23 = .ok (.getfield 245, 3) := dk_180 0 245 (dk_at dksX0_again_1 0 rfl rfl)
theorem dX0_again_26 : decode cX0_again 26 = .ok (.ireturn, 1) := dk_172 (dk_at dksX0_again_1 3 rfl rfl)
abbrev cX0_can : ByteArray := prog_1_method_41_code
def yX0_can : MethodName := ⟨RX0, "can", "(I)I"⟩
def dkwX0_can_1 : List UInt8 := [27, 29, 182, 0, 203, 182, 0, 248, 128, 61, 132, 3, 1, 167, 255, 235, 28, 172]
abbrev dktX0_can_1 : List UInt8 := dkwX0_can_1 ++ []
def dkwX0_can_0 : List UInt8 := [42, 27, 133, 182, 0, 151, 154, 0, 6, 16, 254, 172, 3, 61, 3, 62, 29, 16, 60, 163, 0, 21, 28, 42]
abbrev dktX0_can_0 : List UInt8 := dkwX0_can_0 ++ dktX0_can_1
theorem dksX0_can_0 : cX0_can.data.toList.drop 0 = dktX0_can_0 := by decide +kernel
theorem dksX0_can_1 : cX0_can.data.toList.drop 24 = dktX0_can_1 := dk_seg dksX0_can_0 24 rfl rfl
theorem dX0_can_0 : decode cX0_can 0 = .ok (.aload_n 0, 1) := dk_42 (dk_at dksX0_can_0 0 rfl rfl)
theorem dX0_can_1 : decode cX0_can 1 = .ok (.iload_n 1, 1) := dk_27 (dk_at dksX0_can_0 1 rfl rfl)
theorem dX0_can_2 : decode cX0_can 2 = .ok (.i2l, 1) := dk_133 (dk_at dksX0_can_0 2 rfl rfl)
theorem dX0_can_3 : decode cX0_can 3 = .ok (.invokevirtual 151, 3) := dk_182 0 151 (dk_at dksX0_can_0 3 rfl rfl)
theorem dX0_can_6 : decode cX0_can 6 = .ok (.ifCond .ne 6, 3) := dk_154 0 6 (dk_at dksX0_can_0 6 rfl rfl)
theorem dX0_can_9 : decode cX0_can 9 = .ok (.bipush (-2), 2) := dk_16 254 (dk_at dksX0_can_0 9 rfl rfl)
theorem dX0_can_11 : decode cX0_can 11 = .ok (.ireturn, 1) := dk_172 (dk_at dksX0_can_0 11 rfl rfl)
theorem dX0_can_12 : decode cX0_can 12 = .ok (.iconst 0, 1) := dk_3 (dk_at dksX0_can_0 12 rfl rfl)
theorem dX0_can_13 : decode cX0_can 13 = .ok (.istore_n 2, 1) := dk_61 (dk_at dksX0_can_0 13 rfl rfl)
theorem dX0_can_14 : decode cX0_can 14 = .ok (.iconst 0, 1) := dk_3 (dk_at dksX0_can_0 14 rfl rfl)
theorem dX0_can_15 : decode cX0_can 15 = .ok (.istore_n 3, 1) := dk_62 (dk_at dksX0_can_0 15 rfl rfl)
theorem dX0_can_16 : decode cX0_can 16 = .ok (.iload_n 3, 1) := dk_29 (dk_at dksX0_can_0 16 rfl rfl)
theorem dX0_can_17 : decode cX0_can 17 = .ok (.bipush 60, 2) := dk_16 60 (dk_at dksX0_can_0 17 rfl rfl)
theorem dX0_can_19 : decode cX0_can 19 = .ok (.if_icmp .gt 21, 3) := dk_163 0 21 (dk_at dksX0_can_0 19 rfl rfl)
theorem dX0_can_22 : decode cX0_can 22 = .ok (.iload_n 2, 1) := dk_28 (dk_at dksX0_can_0 22 rfl rfl)
theorem dX0_can_23 : decode cX0_can 23 = .ok (.aload_n 0, 1) := dk_42 (dk_at dksX0_can_0 23 rfl rfl)
theorem dX0_can_24 : decode cX0_can 24 = .ok (.iload_n 1, 1) := dk_27 (dk_at dksX0_can_1 0 rfl rfl)
theorem dX0_can_25 : decode cX0_can 25 = .ok (.iload_n 3, 1) := dk_29 (dk_at dksX0_can_1 1 rfl rfl)
theorem dX0_can_26 : decode cX0_can 26 = .ok (.invokevirtual 203, 3) := dk_182 0 203 (dk_at dksX0_can_1 2 rfl rfl)
theorem dX0_can_29 : decode cX0_can 29 = .ok (.invokevirtual 248, 3) := dk_182 0 248 (dk_at dksX0_can_1 5 rfl rfl)
theorem dX0_can_32 : decode cX0_can 32 = .ok (.ior, 1) := dk_128 (dk_at dksX0_can_1 8 rfl rfl)
theorem dX0_can_33 : decode cX0_can 33 = .ok (.istore_n 2, 1) := dk_61 (dk_at dksX0_can_1 9 rfl rfl)
theorem dX0_can_34 : decode cX0_can 34 = .ok (.iinc 3 1, 3) := dk_132 3 1 (dk_at dksX0_can_1 10 rfl rfl)
theorem dX0_can_37 : decode cX0_can 37 = .ok (.goto (-21), 3) := dk_167 255 235 (dk_at dksX0_can_1 13 rfl rfl)
theorem dX0_can_40 : decode cX0_can 40 = .ok (.iload_n 2, 1) := dk_28 (dk_at dksX0_can_1 16 rfl rfl)
theorem dX0_can_41 : decode cX0_can 41 = .ok (.ireturn, 1) := dk_172 (dk_at dksX0_can_1 17 rfl rfl)
abbrev cX0_slowly : ByteArray := prog_1_method_42_code
def yX0_slowly : MethodName := ⟨RX0, "slowly", "(II)I"⟩
def dkwX0_slowly_2 : List UInt8 := [21, 5, 21, 4, 100, 184, 0, 254, 62, 132, 4, 1, 167, 255, 213, 29, 172]
abbrev dktX0_slowly_2 : List UInt8 := dkwX0_slowly_2 ++ []
def dkwX0_slowly_1 : List UInt8 := [42, 27, 21, 4, 182, 0, 203, 28, 182, 0, 251, 54, 5, 21, 5, 2, 160, 0, 7, 29, 167, 0, 12, 29]
abbrev dktX0_slowly_1 : List UInt8 := dkwX0_slowly_1 ++ dktX0_slowly_2
def dkwX0_slowly_0 : List UInt8 := [42, 27, 28, 182, 0, 200, 154, 0, 6, 16, 254, 172, 2, 62, 3, 54, 4, 21, 4, 16, 60, 163, 0, 42]
abbrev dktX0_slowly_0 : List UInt8 := dkwX0_slowly_0 ++ dktX0_slowly_1
theorem dksX0_slowly_0 : cX0_slowly.data.toList.drop 0 = dktX0_slowly_0 := by decide +kernel
theorem dksX0_slowly_1 : cX0_slowly.data.toList.drop 24 = dktX0_slowly_1 := dk_seg dksX0_slowly_0 24 rfl rfl
theorem dksX0_slowly_2 : cX0_slowly.data.toList.drop 48 = dktX0_slowly_2 := dk_seg dksX0_slowly_1 24 rfl rfl
theorem dX0_slowly_0 : decode cX0_slowly 0 = .ok (.aload_n 0, 1) := dk_42 (dk_at dksX0_slowly_0 0 rfl rfl)
theorem dX0_slowly_1 : decode cX0_slowly 1 = .ok (.iload_n 1, 1) := dk_27 (dk_at dksX0_slowly_0 1 rfl rfl)
theorem dX0_slowly_2 : decode cX0_slowly 2 = .ok (.iload_n 2, 1) := dk_28 (dk_at dksX0_slowly_0 2 rfl rfl)
theorem dX0_slowly_3 : decode cX0_slowly 3 = .ok (.invokevirtual 200, 3) := dk_182 0 200 (dk_at dksX0_slowly_0 3 rfl rfl)
theorem dX0_slowly_6 : decode cX0_slowly 6 = .ok (.ifCond .ne 6, 3) := dk_154 0 6 (dk_at dksX0_slowly_0 6 rfl rfl)
theorem dX0_slowly_9 : decode cX0_slowly 9 = .ok (.bipush (-2), 2) := dk_16 254 (dk_at dksX0_slowly_0 9 rfl rfl)
theorem dX0_slowly_11 : decode cX0_slowly 11 = .ok (.ireturn, 1) := dk_172 (dk_at dksX0_slowly_0 11 rfl rfl)
theorem dX0_slowly_12 : decode cX0_slowly 12 = .ok (.iconst (-1), 1) := dk_2 (dk_at dksX0_slowly_0 12 rfl rfl)
theorem dX0_slowly_13 : decode cX0_slowly 13 = .ok (.istore_n 3, 1) := dk_62 (dk_at dksX0_slowly_0 13 rfl rfl)
theorem dX0_slowly_14 : decode cX0_slowly 14 = .ok (.iconst 0, 1) := dk_3 (dk_at dksX0_slowly_0 14 rfl rfl)
theorem dX0_slowly_15 : decode cX0_slowly 15 = .ok (.istore 4, 2) := dk_54 4 (dk_at dksX0_slowly_0 15 rfl rfl)
theorem dX0_slowly_17 : decode cX0_slowly 17 = .ok (.iload 4, 2) := dk_21 4 (dk_at dksX0_slowly_0 17 rfl rfl)
theorem dX0_slowly_19 : decode cX0_slowly 19 = .ok (.bipush 60, 2) := dk_16 60 (dk_at dksX0_slowly_0 19 rfl rfl)
theorem dX0_slowly_21 : decode cX0_slowly 21 = .ok (.if_icmp .gt 42, 3) := dk_163 0 42 (dk_at dksX0_slowly_0 21 rfl rfl)
theorem dX0_slowly_24 : decode cX0_slowly 24 = .ok (.aload_n 0, 1) := dk_42 (dk_at dksX0_slowly_1 0 rfl rfl)
theorem dX0_slowly_25 : decode cX0_slowly 25 = .ok (.iload_n 1, 1) := dk_27 (dk_at dksX0_slowly_1 1 rfl rfl)
theorem dX0_slowly_26 : decode cX0_slowly 26 = .ok (.iload 4, 2) := dk_21 4 (dk_at dksX0_slowly_1 2 rfl rfl)
theorem dX0_slowly_28 : decode cX0_slowly 28 = .ok (.invokevirtual 203, 3) := dk_182 0 203 (dk_at dksX0_slowly_1 4 rfl rfl)
theorem dX0_slowly_31 : decode cX0_slowly 31 = .ok (.iload_n 2, 1) := dk_28 (dk_at dksX0_slowly_1 7 rfl rfl)
theorem dX0_slowly_32 : decode cX0_slowly 32 = .ok (.invokevirtual 251, 3) := dk_182 0 251 (dk_at dksX0_slowly_1 8 rfl rfl)
theorem dX0_slowly_35 : decode cX0_slowly 35 = .ok (.istore 5, 2) := dk_54 5 (dk_at dksX0_slowly_1 11 rfl rfl)
theorem dX0_slowly_37 : decode cX0_slowly 37 = .ok (.iload 5, 2) := dk_21 5 (dk_at dksX0_slowly_1 13 rfl rfl)
theorem dX0_slowly_39 : decode cX0_slowly 39 = .ok (.iconst (-1), 1) := dk_2 (dk_at dksX0_slowly_1 15 rfl rfl)
theorem dX0_slowly_40 : decode cX0_slowly 40 = .ok (.if_icmp .ne 7, 3) := dk_160 0 7 (dk_at dksX0_slowly_1 16 rfl rfl)
theorem dX0_slowly_43 : decode cX0_slowly 43 = .ok (.iload_n 3, 1) := dk_29 (dk_at dksX0_slowly_1 19 rfl rfl)
theorem dX0_slowly_44 : decode cX0_slowly 44 = .ok (.goto 12, 3) := dk_167 0 12 (dk_at dksX0_slowly_1 20 rfl rfl)
theorem dX0_slowly_47 : decode cX0_slowly 47 = .ok (.iload_n 3, 1) := dk_29 (dk_at dksX0_slowly_1 23 rfl rfl)
theorem dX0_slowly_48 : decode cX0_slowly 48 = .ok (.iload 5, 2) := dk_21 5 (dk_at dksX0_slowly_2 0 rfl rfl)
theorem dX0_slowly_50 : decode cX0_slowly 50 = .ok (.iload 4, 2) := dk_21 4 (dk_at dksX0_slowly_2 2 rfl rfl)
theorem dX0_slowly_52 : decode cX0_slowly 52 = .ok (.isub, 1) := dk_100 (dk_at dksX0_slowly_2 4 rfl rfl)
theorem dX0_slowly_53 : decode cX0_slowly 53 = .ok (.invokestatic 254, 3) := dk_184 0 254 (dk_at dksX0_slowly_2 5 rfl rfl)
theorem dX0_slowly_56 : decode cX0_slowly 56 = .ok (.istore_n 3, 1) := dk_62 (dk_at dksX0_slowly_2 8 rfl rfl)
theorem dX0_slowly_57 : decode cX0_slowly 57 = .ok (.iinc 4 1, 3) := dk_132 4 1 (dk_at dksX0_slowly_2 9 rfl rfl)
theorem dX0_slowly_60 : decode cX0_slowly 60 = .ok (.goto (-43), 3) := dk_167 255 213 (dk_at dksX0_slowly_2 12 rfl rfl)
theorem dX0_slowly_63 : decode cX0_slowly 63 = .ok (.iload_n 3, 1) := dk_29 (dk_at dksX0_slowly_2 15 rfl rfl)
theorem dX0_slowly_64 : decode cX0_slowly 64 = .ok (.ireturn, 1) := dk_172 (dk_at dksX0_slowly_2 16 rfl rfl)
abbrev cX0_mean : ByteArray := prog_1_method_43_code
def yX0_mean : MethodName := ⟨RX0, "mean", "(II)J"⟩
def dkwX0_mean_4 : List UInt8 := [22, 5, 184, 1, 18, 109, 173]
abbrev dktX0_mean_4 : List UInt8 := dkwX0_mean_4 ++ []
def dkwX0_mean_3 : List UInt8 := [167, 255, 231, 20, 1, 12, 27, 184, 1, 14, 55, 5, 28, 154, 0, 7, 33, 167, 0, 5, 22, 5, 33]
abbrev dktX0_mean_3 : List UInt8 := dkwX0_mean_3 ++ dktX0_mean_4
def dkwX0_mean_2 : List UInt8 := [17, 7, 208, 162, 0, 23, 33, 21, 5, 133, 42, 180, 0, 89, 21, 5, 47, 105, 97, 66, 132, 5, 1]
abbrev dktX0_mean_2 : List UInt8 := dkwX0_mean_2 ++ dktX0_mean_3
def dkwX0_mean_1 : List UInt8 := [184, 1, 3, 154, 0, 7, 20, 1, 6, 173, 42, 27, 182, 1, 8, 9, 66, 3, 54, 5, 21, 5]
abbrev dktX0_mean_1 : List UInt8 := dkwX0_mean_1 ++ dktX0_mean_2
def dkwX0_mean_0 : List UInt8 := [42, 180, 0, 47, 182, 0, 108, 153, 0, 22, 27, 133, 9, 20, 1, 1, 184, 0, 11, 153, 0, 10, 28]
abbrev dktX0_mean_0 : List UInt8 := dkwX0_mean_0 ++ dktX0_mean_1
theorem dksX0_mean_0 : cX0_mean.data.toList.drop 0 = dktX0_mean_0 := by decide +kernel
theorem dksX0_mean_1 : cX0_mean.data.toList.drop 23 = dktX0_mean_1 := dk_seg dksX0_mean_0 23 rfl rfl
theorem dksX0_mean_2 : cX0_mean.data.toList.drop 45 = dktX0_mean_2 := dk_seg dksX0_mean_1 22 rfl rfl
theorem dksX0_mean_3 : cX0_mean.data.toList.drop 68 = dktX0_mean_3 := dk_seg dksX0_mean_2 23 rfl rfl
theorem dksX0_mean_4 : cX0_mean.data.toList.drop 91 = dktX0_mean_4 := dk_seg dksX0_mean_3 23 rfl rfl
theorem dX0_mean_0 : decode cX0_mean 0 = .ok (.aload_n 0, 1) := dk_42 (dk_at dksX0_mean_0 0 rfl rfl)
theorem dX0_mean_1 : decode cX0_mean 1 = .ok (.getfield 47, 3) := dk_180 0 47 (dk_at dksX0_mean_0 1 rfl rfl)
theorem dX0_mean_4 : decode cX0_mean 4 = .ok (.invokevirtual 108, 3) := dk_182 0 108 (dk_at dksX0_mean_0 4 rfl rfl)
theorem dX0_mean_7 : decode cX0_mean 7 = .ok (.ifCond .eq 22, 3) := dk_153 0 22 (dk_at dksX0_mean_0 7 rfl rfl)
theorem dX0_mean_10 : decode cX0_mean 10 = .ok (.iload_n 1, 1) := dk_27 (dk_at dksX0_mean_0 10 rfl rfl)
theorem dX0_mean_11 : decode cX0_mean 11 = .ok (.i2l, 1) := dk_133 (dk_at dksX0_mean_0 11 rfl rfl)
theorem dX0_mean_12 : decode cX0_mean 12 = .ok (.lconst 0, 1) := dk_9 (dk_at dksX0_mean_0 12 rfl rfl)
theorem dX0_mean_13 : decode cX0_mean 13 = .ok (.ldc2_w 257, 3) := dk_20 1 1 (dk_at dksX0_mean_0 13 rfl rfl)
theorem dX0_mean_16 : decode cX0_mean 16 = .ok (.invokestatic 11, 3) := dk_184 0 11 (dk_at dksX0_mean_0 16 rfl rfl)
theorem dX0_mean_19 : decode cX0_mean 19 = .ok (.ifCond .eq 10, 3) := dk_153 0 10 (dk_at dksX0_mean_0 19 rfl rfl)
theorem dX0_mean_22 : decode cX0_mean 22 = .ok (.iload_n 2, 1) := dk_28 (dk_at dksX0_mean_0 22 rfl rfl)
theorem dX0_mean_23 : decode cX0_mean 23 = .ok (.invokestatic 259, 3) := dk_184 1 3 (dk_at dksX0_mean_1 0 rfl rfl)
theorem dX0_mean_26 : decode cX0_mean 26 = .ok (.ifCond .ne 7, 3) := dk_154 0 7 (dk_at dksX0_mean_1 3 rfl rfl)
theorem dX0_mean_29 : decode cX0_mean 29 = .ok (.ldc2_w 262, 3) := dk_20 1 6 (dk_at dksX0_mean_1 6 rfl rfl)
theorem dX0_mean_32 : decode cX0_mean 32 = .ok (.lreturn, 1) := dk_173 (dk_at dksX0_mean_1 9 rfl rfl)
theorem dX0_mean_33 : decode cX0_mean 33 = .ok (.aload_n 0, 1) := dk_42 (dk_at dksX0_mean_1 10 rfl rfl)
theorem dX0_mean_34 : decode cX0_mean 34 = .ok (.iload_n 1, 1) := dk_27 (dk_at dksX0_mean_1 11 rfl rfl)
theorem dX0_mean_35 : decode cX0_mean 35 = .ok (.invokevirtual 264, 3) := dk_182 1 8 (dk_at dksX0_mean_1 12 rfl rfl)
theorem dX0_mean_38 : decode cX0_mean 38 = .ok (.lconst 0, 1) := dk_9 (dk_at dksX0_mean_1 15 rfl rfl)
theorem dX0_mean_39 : decode cX0_mean 39 = .ok (.lstore_n 3, 1) := dk_66 (dk_at dksX0_mean_1 16 rfl rfl)
theorem dX0_mean_40 : decode cX0_mean 40 = .ok (.iconst 0, 1) := dk_3 (dk_at dksX0_mean_1 17 rfl rfl)
theorem dX0_mean_41 : decode cX0_mean 41 = .ok (.istore 5, 2) := dk_54 5 (dk_at dksX0_mean_1 18 rfl rfl)
theorem dX0_mean_43 : decode cX0_mean 43 = .ok (.iload 5, 2) := dk_21 5 (dk_at dksX0_mean_1 20 rfl rfl)
theorem dX0_mean_45 : decode cX0_mean 45 = .ok (.sipush 2000, 3) := dk_17 7 208 (dk_at dksX0_mean_2 0 rfl rfl)
theorem dX0_mean_48 : decode cX0_mean 48 = .ok (.if_icmp .ge 23, 3) := dk_162 0 23 (dk_at dksX0_mean_2 3 rfl rfl)
theorem dX0_mean_51 : decode cX0_mean 51 = .ok (.lload_n 3, 1) := dk_33 (dk_at dksX0_mean_2 6 rfl rfl)
theorem dX0_mean_52 : decode cX0_mean 52 = .ok (.iload 5, 2) := dk_21 5 (dk_at dksX0_mean_2 7 rfl rfl)
theorem dX0_mean_54 : decode cX0_mean 54 = .ok (.i2l, 1) := dk_133 (dk_at dksX0_mean_2 9 rfl rfl)
theorem dX0_mean_55 : decode cX0_mean 55 = .ok (.aload_n 0, 1) := dk_42 (dk_at dksX0_mean_2 10 rfl rfl)
theorem dX0_mean_56 : decode cX0_mean 56 = .ok (.getfield 89, 3) := dk_180 0 89 (dk_at dksX0_mean_2 11 rfl rfl)
theorem dX0_mean_59 : decode cX0_mean 59 = .ok (.iload 5, 2) := dk_21 5 (dk_at dksX0_mean_2 14 rfl rfl)
theorem dX0_mean_61 : decode cX0_mean 61 = .ok (.laload, 1) := dk_47 (dk_at dksX0_mean_2 16 rfl rfl)
theorem dX0_mean_62 : decode cX0_mean 62 = .ok (.lmul, 1) := dk_105 (dk_at dksX0_mean_2 17 rfl rfl)
theorem dX0_mean_63 : decode cX0_mean 63 = .ok (.ladd, 1) := dk_97 (dk_at dksX0_mean_2 18 rfl rfl)
theorem dX0_mean_64 : decode cX0_mean 64 = .ok (.lstore_n 3, 1) := dk_66 (dk_at dksX0_mean_2 19 rfl rfl)
theorem dX0_mean_65 : decode cX0_mean 65 = .ok (.iinc 5 1, 3) := dk_132 5 1 (dk_at dksX0_mean_2 20 rfl rfl)
theorem dX0_mean_68 : decode cX0_mean 68 = .ok (.goto (-25), 3) := dk_167 255 231 (dk_at dksX0_mean_3 0 rfl rfl)
theorem dX0_mean_71 : decode cX0_mean 71 = .ok (.ldc2_w 268, 3) := dk_20 1 12 (dk_at dksX0_mean_3 3 rfl rfl)
theorem dX0_mean_74 : decode cX0_mean 74 = .ok (.iload_n 1, 1) := dk_27 (dk_at dksX0_mean_3 6 rfl rfl)
theorem dX0_mean_75 : decode cX0_mean 75 = .ok (.invokestatic 270, 3) := dk_184 1 14 (dk_at dksX0_mean_3 7 rfl rfl)
theorem dX0_mean_78 : decode cX0_mean 78 = .ok (.lstore 5, 2) := dk_55 5 (dk_at dksX0_mean_3 10 rfl rfl)
theorem dX0_mean_80 : decode cX0_mean 80 = .ok (.iload_n 2, 1) := dk_28 (dk_at dksX0_mean_3 12 rfl rfl)
theorem dX0_mean_81 : decode cX0_mean 81 = .ok (.ifCond .ne 7, 3) := dk_154 0 7 (dk_at dksX0_mean_3 13 rfl rfl)
theorem dX0_mean_84 : decode cX0_mean 84 = .ok (.lload_n 3, 1) := dk_33 (dk_at dksX0_mean_3 16 rfl rfl)
theorem dX0_mean_85 : decode cX0_mean 85 = .ok (.goto 5, 3) := dk_167 0 5 (dk_at dksX0_mean_3 17 rfl rfl)
theorem dX0_mean_88 : decode cX0_mean 88 = .ok (.lload 5, 2) := dk_22 5 (dk_at dksX0_mean_3 20 rfl rfl)
theorem dX0_mean_90 : decode cX0_mean 90 = .ok (.lload_n 3, 1) := dk_33 (dk_at dksX0_mean_3 22 rfl rfl)
theorem dX0_mean_91 : decode cX0_mean 91 = .ok (.lload 5, 2) := dk_22 5 (dk_at dksX0_mean_4 0 rfl rfl)
theorem dX0_mean_93 : decode cX0_mean 93 = .ok (.invokestatic 274, 3) := dk_184 1 18 (dk_at dksX0_mean_4 2 rfl rfl)
theorem dX0_mean_96 : decode cX0_mean 96 = .ok (.ldiv, 1) := dk_109 (dk_at dksX0_mean_4 5 rfl rfl)
theorem dX0_mean_97 : decode cX0_mean 97 = .ok (.lreturn, 1) := dk_173 (dk_at dksX0_mean_4 6 rfl rfl)
abbrev cX0_isBit : ByteArray := prog_1_method_19_code
def yX0_isBit : MethodName := ⟨RX0, "isBit", "(I)Z"⟩
def dkwX0_isBit_0 : List UInt8 := [26, 133, 9, 10, 184, 0, 11, 172]
abbrev dktX0_isBit_0 : List UInt8 := dkwX0_isBit_0 ++ []
theorem dksX0_isBit_0 : cX0_isBit.data.toList.drop 0 = dktX0_isBit_0 := by decide +kernel
theorem dX0_isBit_0 : decode cX0_isBit 0 = .ok (.iload_n 0, 1) := dk_26 (dk_at dksX0_isBit_0 0 rfl rfl)
theorem dX0_isBit_1 : decode cX0_isBit 1 = .ok (.i2l, 1) := dk_133 (dk_at dksX0_isBit_0 1 rfl rfl)
theorem dX0_isBit_2 : decode cX0_isBit 2 = .ok (.lconst 0, 1) := dk_9 (dk_at dksX0_isBit_0 2 rfl rfl)
theorem dX0_isBit_3 : decode cX0_isBit 3 = .ok (.lconst 1, 1) := dk_10 (dk_at dksX0_isBit_0 3 rfl rfl)
theorem dX0_isBit_4 : decode cX0_isBit 4 = .ok (.invokestatic 11, 3) := dk_184 0 11 (dk_at dksX0_isBit_0 4 rfl rfl)
theorem dX0_isBit_7 : decode cX0_isBit 7 = .ok (.ireturn, 1) := dk_172 (dk_at dksX0_isBit_0 7 rfl rfl)
abbrev cX0_laysLikely : ByteArray := prog_1_method_91_code
def yX0_laysLikely : MethodName := ⟨RX0, "laysLikely", "(I)V"⟩
def dkwX0_laysLikely_7 : List UInt8 := [17, 7, 208, 184, 1, 134, 132, 2, 1, 167, 255, 115, 177]
abbrev dktX0_laysLikely_7 : List UInt8 := dkwX0_laysLikely_7 ++ []
def dkwX0_laysLikely_6 : List UInt8 := [180, 1, 128, 133, 105, 97, 80, 132, 3, 1, 167, 255, 152, 42, 180, 0, 93, 3, 42, 180, 0, 89, 3]
abbrev dktX0_laysLikely_6 : List UInt8 := dkwX0_laysLikely_6 ++ dktX0_laysLikely_7
def dkwX0_laysLikely_5 : List UInt8 := [21, 4, 42, 180, 0, 47, 180, 1, 131, 96, 92, 47, 42, 180, 0, 89, 29, 47, 42, 180, 0, 47]
abbrev dktX0_laysLikely_5 : List UInt8 := dkwX0_laysLikely_5 ++ dktX0_laysLikely_6
def dkwX0_laysLikely_4 : List UInt8 := [42, 180, 0, 89, 29, 47, 16, 10, 42, 180, 0, 47, 180, 1, 128, 100, 133, 105, 97, 80, 42, 180, 0, 93]
abbrev dktX0_laysLikely_4 : List UInt8 := dkwX0_laysLikely_4 ++ dktX0_laysLikely_5
def dkwX0_laysLikely_3 : List UInt8 := [100, 184, 0, 254, 42, 180, 0, 68, 180, 0, 220, 28, 46, 96, 54, 4, 42, 180, 0, 93, 21, 4, 92, 47]
abbrev dktX0_laysLikely_3 : List UInt8 := dkwX0_laysLikely_3 ++ dktX0_laysLikely_4
def dkwX0_laysLikely_2 : List UInt8 := [29, 17, 7, 208, 162, 0, 103, 42, 180, 0, 89, 29, 47, 9, 148, 154, 0, 6, 167, 0, 83, 3, 29, 4]
abbrev dktX0_laysLikely_2 : List UInt8 := dkwX0_laysLikely_2 ++ dktX0_laysLikely_3
def dkwX0_laysLikely_1 : List UInt8 := [180, 0, 223, 3, 46, 10, 80, 4, 61, 28, 27, 163, 0, 142, 42, 180, 0, 93, 9, 184, 1, 122, 3, 62]
abbrev dktX0_laysLikely_1 : List UInt8 := dkwX0_laysLikely_1 ++ dktX0_laysLikely_2
def dkwX0_laysLikely_0 : List UInt8 := [42, 180, 0, 68, 182, 0, 190, 87, 42, 180, 0, 89, 9, 184, 1, 122, 42, 180, 0, 89, 42, 180, 0, 68]
abbrev dktX0_laysLikely_0 : List UInt8 := dkwX0_laysLikely_0 ++ dktX0_laysLikely_1
theorem dksX0_laysLikely_0 : cX0_laysLikely.data.toList.drop 0 = dktX0_laysLikely_0 := by decide +kernel
theorem dksX0_laysLikely_1 : cX0_laysLikely.data.toList.drop 24 = dktX0_laysLikely_1 := dk_seg dksX0_laysLikely_0 24 rfl rfl
theorem dksX0_laysLikely_2 : cX0_laysLikely.data.toList.drop 48 = dktX0_laysLikely_2 := dk_seg dksX0_laysLikely_1 24 rfl rfl
theorem dksX0_laysLikely_3 : cX0_laysLikely.data.toList.drop 72 = dktX0_laysLikely_3 := dk_seg dksX0_laysLikely_2 24 rfl rfl
theorem dksX0_laysLikely_4 : cX0_laysLikely.data.toList.drop 96 = dktX0_laysLikely_4 := dk_seg dksX0_laysLikely_3 24 rfl rfl
theorem dksX0_laysLikely_5 : cX0_laysLikely.data.toList.drop 120 = dktX0_laysLikely_5 := dk_seg dksX0_laysLikely_4 24 rfl rfl
theorem dksX0_laysLikely_6 : cX0_laysLikely.data.toList.drop 142 = dktX0_laysLikely_6 := dk_seg dksX0_laysLikely_5 22 rfl rfl
theorem dksX0_laysLikely_7 : cX0_laysLikely.data.toList.drop 165 = dktX0_laysLikely_7 := dk_seg dksX0_laysLikely_6 23 rfl rfl
theorem dX0_laysLikely_0 : decode cX0_laysLikely 0 = .ok (.aload_n 0, 1) := dk_42 (dk_at dksX0_laysLikely_0 0 rfl rfl)
theorem dX0_laysLikely_1 : decode cX0_laysLikely 1 = .ok (.getfield 68, 3) := dk_180 0 68 (dk_at dksX0_laysLikely_0 1 rfl rfl)
theorem dX0_laysLikely_4 : decode cX0_laysLikely 4 = .ok (.invokevirtual 190, 3) := dk_182 0 190 (dk_at dksX0_laysLikely_0 4 rfl rfl)
theorem dX0_laysLikely_7 : decode cX0_laysLikely 7 = .ok (.pop, 1) := dk_87 (dk_at dksX0_laysLikely_0 7 rfl rfl)
theorem dX0_laysLikely_8 : decode cX0_laysLikely 8 = .ok (.aload_n 0, 1) := dk_42 (dk_at dksX0_laysLikely_0 8 rfl rfl)
theorem dX0_laysLikely_9 : decode cX0_laysLikely 9 = .ok (.getfield 89, 3) := dk_180 0 89 (dk_at dksX0_laysLikely_0 9 rfl rfl)
theorem dX0_laysLikely_12 : decode cX0_laysLikely 12 = .ok (.lconst 0, 1) := dk_9 (dk_at dksX0_laysLikely_0 12 rfl rfl)
theorem dX0_laysLikely_13 : decode cX0_laysLikely 13 = .ok (.invokestatic 378, 3) := dk_184 1 122 (dk_at dksX0_laysLikely_0 13 rfl rfl)
theorem dX0_laysLikely_16 : decode cX0_laysLikely 16 = .ok (.aload_n 0, 1) := dk_42 (dk_at dksX0_laysLikely_0 16 rfl rfl)
theorem dX0_laysLikely_17 : decode cX0_laysLikely 17 = .ok (.getfield 89, 3) := dk_180 0 89 (dk_at dksX0_laysLikely_0 17 rfl rfl)
theorem dX0_laysLikely_20 : decode cX0_laysLikely 20 = .ok (.aload_n 0, 1) := dk_42 (dk_at dksX0_laysLikely_0 20 rfl rfl)
theorem dX0_laysLikely_21 : decode cX0_laysLikely 21 = .ok (.getfield 68, 3) := dk_180 0 68 (dk_at dksX0_laysLikely_0 21 rfl rfl)
theorem dX0_laysLikely_24 : decode cX0_laysLikely 24 = .ok (.getfield 223, 3) := dk_180 0 223 (dk_at dksX0_laysLikely_1 0 rfl rfl)
theorem dX0_laysLikely_27 : decode cX0_laysLikely 27 = .ok (.iconst 0, 1) := dk_3 (dk_at dksX0_laysLikely_1 3 rfl rfl)
theorem dX0_laysLikely_28 : decode cX0_laysLikely 28 = .ok (.iaload, 1) := dk_46 (dk_at dksX0_laysLikely_1 4 rfl rfl)
theorem dX0_laysLikely_29 : decode cX0_laysLikely 29 = .ok (.lconst 1, 1) := dk_10 (dk_at dksX0_laysLikely_1 5 rfl rfl)
theorem dX0_laysLikely_30 : decode cX0_laysLikely 30 = .ok (.lastore, 1) := dk_80 (dk_at dksX0_laysLikely_1 6 rfl rfl)
theorem dX0_laysLikely_31 : decode cX0_laysLikely 31 = .ok (.iconst 1, 1) := dk_4 (dk_at dksX0_laysLikely_1 7 rfl rfl)
theorem dX0_laysLikely_32 : decode cX0_laysLikely 32 = .ok (.istore_n 2, 1) := dk_61 (dk_at dksX0_laysLikely_1 8 rfl rfl)
theorem dX0_laysLikely_33 : decode cX0_laysLikely 33 = .ok (.iload_n 2, 1) := dk_28 (dk_at dksX0_laysLikely_1 9 rfl rfl)
theorem dX0_laysLikely_34 : decode cX0_laysLikely 34 = .ok (.iload_n 1, 1) := dk_27 (dk_at dksX0_laysLikely_1 10 rfl rfl)
theorem dX0_laysLikely_35 : decode cX0_laysLikely 35 = .ok (.if_icmp .gt 142, 3) := dk_163 0 142 (dk_at dksX0_laysLikely_1 11 rfl rfl)
theorem dX0_laysLikely_38 : decode cX0_laysLikely 38 = .ok (.aload_n 0, 1) := dk_42 (dk_at dksX0_laysLikely_1 14 rfl rfl)
theorem dX0_laysLikely_39 : decode cX0_laysLikely 39 = .ok (.getfield 93, 3) := dk_180 0 93 (dk_at dksX0_laysLikely_1 15 rfl rfl)
theorem dX0_laysLikely_42 : decode cX0_laysLikely 42 = .ok (.lconst 0, 1) := dk_9 (dk_at dksX0_laysLikely_1 18 rfl rfl)
theorem dX0_laysLikely_43 : decode cX0_laysLikely 43 = .ok (.invokestatic 378, 3) := dk_184 1 122 (dk_at dksX0_laysLikely_1 19 rfl rfl)
theorem dX0_laysLikely_46 : decode cX0_laysLikely 46 = .ok (.iconst 0, 1) := dk_3 (dk_at dksX0_laysLikely_1 22 rfl rfl)
theorem dX0_laysLikely_47 : decode cX0_laysLikely 47 = .ok (.istore_n 3, 1) := dk_62 (dk_at dksX0_laysLikely_1 23 rfl rfl)
theorem dX0_laysLikely_48 : decode cX0_laysLikely 48 = .ok (.iload_n 3, 1) := dk_29 (dk_at dksX0_laysLikely_2 0 rfl rfl)
theorem dX0_laysLikely_49 : decode cX0_laysLikely 49 = .ok (.sipush 2000, 3) := dk_17 7 208 (dk_at dksX0_laysLikely_2 1 rfl rfl)
theorem dX0_laysLikely_52 : decode cX0_laysLikely 52 = .ok (.if_icmp .ge 103, 3) := dk_162 0 103 (dk_at dksX0_laysLikely_2 4 rfl rfl)
theorem dX0_laysLikely_55 : decode cX0_laysLikely 55 = .ok (.aload_n 0, 1) := dk_42 (dk_at dksX0_laysLikely_2 7 rfl rfl)
theorem dX0_laysLikely_56 : decode cX0_laysLikely 56 = .ok (.getfield 89, 3) := dk_180 0 89 (dk_at dksX0_laysLikely_2 8 rfl rfl)
theorem dX0_laysLikely_59 : decode cX0_laysLikely 59 = .ok (.iload_n 3, 1) := dk_29 (dk_at dksX0_laysLikely_2 11 rfl rfl)
theorem dX0_laysLikely_60 : decode cX0_laysLikely 60 = .ok (.laload, 1) := dk_47 (dk_at dksX0_laysLikely_2 12 rfl rfl)
theorem dX0_laysLikely_61 : decode cX0_laysLikely 61 = .ok (.lconst 0, 1) := dk_9 (dk_at dksX0_laysLikely_2 13 rfl rfl)
theorem dX0_laysLikely_62 : decode cX0_laysLikely 62 = .ok (.lcmp, 1) := dk_148 (dk_at dksX0_laysLikely_2 14 rfl rfl)
theorem dX0_laysLikely_63 : decode cX0_laysLikely 63 = .ok (.ifCond .ne 6, 3) := dk_154 0 6 (dk_at dksX0_laysLikely_2 15 rfl rfl)
theorem dX0_laysLikely_66 : decode cX0_laysLikely 66 = .ok (.goto 83, 3) := dk_167 0 83 (dk_at dksX0_laysLikely_2 18 rfl rfl)
theorem dX0_laysLikely_69 : decode cX0_laysLikely 69 = .ok (.iconst 0, 1) := dk_3 (dk_at dksX0_laysLikely_2 21 rfl rfl)
theorem dX0_laysLikely_70 : decode cX0_laysLikely 70 = .ok (.iload_n 3, 1) := dk_29 (dk_at dksX0_laysLikely_2 22 rfl rfl)
theorem dX0_laysLikely_71 : decode cX0_laysLikely 71 = .ok (.iconst 1, 1) := dk_4 (dk_at dksX0_laysLikely_2 23 rfl rfl)
theorem dX0_laysLikely_72 : decode cX0_laysLikely 72 = .ok (.isub, 1) := dk_100 (dk_at dksX0_laysLikely_3 0 rfl rfl)
theorem dX0_laysLikely_73 : decode cX0_laysLikely 73 = .ok (.invokestatic 254, 3) := dk_184 0 254 (dk_at dksX0_laysLikely_3 1 rfl rfl)
theorem dX0_laysLikely_76 : decode cX0_laysLikely 76 = .ok (.aload_n 0, 1) := dk_42 (dk_at dksX0_laysLikely_3 4 rfl rfl)
theorem dX0_laysLikely_77 : decode cX0_laysLikely 77 = .ok (.getfield 68, 3) := dk_180 0 68 (dk_at dksX0_laysLikely_3 5 rfl rfl)
theorem dX0_laysLikely_80 : decode cX0_laysLikely 80 = .ok (.getfield 220, 3) := dk_180 0 220 (dk_at dksX0_laysLikely_3 8 rfl rfl)
theorem dX0_laysLikely_83 : decode cX0_laysLikely 83 = .ok (.iload_n 2, 1) := dk_28 (dk_at dksX0_laysLikely_3 11 rfl rfl)
theorem dX0_laysLikely_84 : decode cX0_laysLikely 84 = .ok (.iaload, 1) := dk_46 (dk_at dksX0_laysLikely_3 12 rfl rfl)
theorem dX0_laysLikely_85 : decode cX0_laysLikely 85 = .ok (.iadd, 1) := dk_96 (dk_at dksX0_laysLikely_3 13 rfl rfl)
theorem dX0_laysLikely_86 : decode cX0_laysLikely 86 = .ok (.istore 4, 2) := dk_54 4 (dk_at dksX0_laysLikely_3 14 rfl rfl)
theorem dX0_laysLikely_88 : decode cX0_laysLikely 88 = .ok (.aload_n 0, 1) := dk_42 (dk_at dksX0_laysLikely_3 16 rfl rfl)
theorem dX0_laysLikely_89 : decode cX0_laysLikely 89 = .ok (.getfield 93, 3) := dk_180 0 93 (dk_at dksX0_laysLikely_3 17 rfl rfl)
theorem dX0_laysLikely_92 : decode cX0_laysLikely 92 = .ok (.iload 4, 2) := dk_21 4 (dk_at dksX0_laysLikely_3 20 rfl rfl)
theorem dX0_laysLikely_94 : decode cX0_laysLikely 94 = .ok (.dup2, 1) := dk_92 (dk_at dksX0_laysLikely_3 22 rfl rfl)
theorem dX0_laysLikely_95 : decode cX0_laysLikely 95 = .ok (.laload, 1) := dk_47 (dk_at dksX0_laysLikely_3 23 rfl rfl)
theorem dX0_laysLikely_96 : decode cX0_laysLikely 96 = .ok (.aload_n 0, 1) := dk_42 (dk_at dksX0_laysLikely_4 0 rfl rfl)
theorem dX0_laysLikely_97 : decode cX0_laysLikely 97 = .ok (.getfield 89, 3) := dk_180 0 89 (dk_at dksX0_laysLikely_4 1 rfl rfl)
theorem dX0_laysLikely_100 : decode cX0_laysLikely 100 = .ok (.iload_n 3, 1) := dk_29 (dk_at dksX0_laysLikely_4 4 rfl rfl)
theorem dX0_laysLikely_101 : decode cX0_laysLikely 101 = .ok (.laload, 1) := dk_47 (dk_at dksX0_laysLikely_4 5 rfl rfl)
theorem dX0_laysLikely_102 : decode cX0_laysLikely 102 = .ok (.bipush 10, 2) := dk_16 10 (dk_at dksX0_laysLikely_4 6 rfl rfl)
theorem dX0_laysLikely_104 : decode cX0_laysLikely 104 = .ok (.aload_n 0, 1) := dk_42 (dk_at dksX0_laysLikely_4 8 rfl rfl)
theorem dX0_laysLikely_105 : decode cX0_laysLikely 105 = .ok (.getfield 47, 3) := dk_180 0 47 (dk_at dksX0_laysLikely_4 9 rfl rfl)
theorem dX0_laysLikely_108 : decode cX0_laysLikely 108 = .ok (.getfield 384, 3) := dk_180 1 128 (dk_at dksX0_laysLikely_4 12 rfl rfl)
theorem dX0_laysLikely_111 : decode cX0_laysLikely 111 = .ok (.isub, 1) := dk_100 (dk_at dksX0_laysLikely_4 15 rfl rfl)
theorem dX0_laysLikely_112 : decode cX0_laysLikely 112 = .ok (.i2l, 1) := dk_133 (dk_at dksX0_laysLikely_4 16 rfl rfl)
theorem dX0_laysLikely_113 : decode cX0_laysLikely 113 = .ok (.lmul, 1) := dk_105 (dk_at dksX0_laysLikely_4 17 rfl rfl)
theorem dX0_laysLikely_114 : decode cX0_laysLikely 114 = .ok (.ladd, 1) := dk_97 (dk_at dksX0_laysLikely_4 18 rfl rfl)
theorem dX0_laysLikely_115 : decode cX0_laysLikely 115 = .ok (.lastore, 1) := dk_80 (dk_at dksX0_laysLikely_4 19 rfl rfl)
theorem dX0_laysLikely_116 : decode cX0_laysLikely 116 = .ok (.aload_n 0, 1) := dk_42 (dk_at dksX0_laysLikely_4 20 rfl rfl)
theorem dX0_laysLikely_117 : decode cX0_laysLikely 117 = .ok (.getfield 93, 3) := dk_180 0 93 (dk_at dksX0_laysLikely_4 21 rfl rfl)
theorem dX0_laysLikely_120 : decode cX0_laysLikely 120 = .ok (.iload 4, 2) := dk_21 4 (dk_at dksX0_laysLikely_5 0 rfl rfl)
theorem dX0_laysLikely_122 : decode cX0_laysLikely 122 = .ok (.aload_n 0, 1) := dk_42 (dk_at dksX0_laysLikely_5 2 rfl rfl)
theorem dX0_laysLikely_123 : decode cX0_laysLikely 123 = .ok (.getfield 47, 3) := dk_180 0 47 (dk_at dksX0_laysLikely_5 3 rfl rfl)
theorem dX0_laysLikely_126 : decode cX0_laysLikely 126 = .ok (.getfield 387, 3) := dk_180 1 131 (dk_at dksX0_laysLikely_5 6 rfl rfl)
theorem dX0_laysLikely_129 : decode cX0_laysLikely 129 = .ok (.iadd, 1) := dk_96 (dk_at dksX0_laysLikely_5 9 rfl rfl)
theorem dX0_laysLikely_130 : decode cX0_laysLikely 130 = .ok (.dup2, 1) := dk_92 (dk_at dksX0_laysLikely_5 10 rfl rfl)
theorem dX0_laysLikely_131 : decode cX0_laysLikely 131 = .ok (.laload, 1) := dk_47 (dk_at dksX0_laysLikely_5 11 rfl rfl)
theorem dX0_laysLikely_132 : decode cX0_laysLikely 132 = .ok (.aload_n 0, 1) := dk_42 (dk_at dksX0_laysLikely_5 12 rfl rfl)
theorem dX0_laysLikely_133 : decode cX0_laysLikely 133 = .ok (.getfield 89, 3) := dk_180 0 89 (dk_at dksX0_laysLikely_5 13 rfl rfl)
theorem dX0_laysLikely_136 : decode cX0_laysLikely 136 = .ok (.iload_n 3, 1) := dk_29 (dk_at dksX0_laysLikely_5 16 rfl rfl)
theorem dX0_laysLikely_137 : decode cX0_laysLikely 137 = .ok (.laload, 1) := dk_47 (dk_at dksX0_laysLikely_5 17 rfl rfl)
theorem dX0_laysLikely_138 : decode cX0_laysLikely 138 = .ok (.aload_n 0, 1) := dk_42 (dk_at dksX0_laysLikely_5 18 rfl rfl)
theorem dX0_laysLikely_139 : decode cX0_laysLikely 139 = .ok (.getfield 47, 3) := dk_180 0 47 (dk_at dksX0_laysLikely_5 19 rfl rfl)
theorem dX0_laysLikely_142 : decode cX0_laysLikely 142 = .ok (.getfield 384, 3) := dk_180 1 128 (dk_at dksX0_laysLikely_6 0 rfl rfl)
theorem dX0_laysLikely_145 : decode cX0_laysLikely 145 = .ok (.i2l, 1) := dk_133 (dk_at dksX0_laysLikely_6 3 rfl rfl)
theorem dX0_laysLikely_146 : decode cX0_laysLikely 146 = .ok (.lmul, 1) := dk_105 (dk_at dksX0_laysLikely_6 4 rfl rfl)
theorem dX0_laysLikely_147 : decode cX0_laysLikely 147 = .ok (.ladd, 1) := dk_97 (dk_at dksX0_laysLikely_6 5 rfl rfl)
theorem dX0_laysLikely_148 : decode cX0_laysLikely 148 = .ok (.lastore, 1) := dk_80 (dk_at dksX0_laysLikely_6 6 rfl rfl)
theorem dX0_laysLikely_149 : decode cX0_laysLikely 149 = .ok (.iinc 3 1, 3) := dk_132 3 1 (dk_at dksX0_laysLikely_6 7 rfl rfl)
theorem dX0_laysLikely_152 : decode cX0_laysLikely 152 = .ok (.goto (-104), 3) := dk_167 255 152 (dk_at dksX0_laysLikely_6 10 rfl rfl)
theorem dX0_laysLikely_155 : decode cX0_laysLikely 155 = .ok (.aload_n 0, 1) := dk_42 (dk_at dksX0_laysLikely_6 13 rfl rfl)
theorem dX0_laysLikely_156 : decode cX0_laysLikely 156 = .ok (.getfield 93, 3) := dk_180 0 93 (dk_at dksX0_laysLikely_6 14 rfl rfl)
theorem dX0_laysLikely_159 : decode cX0_laysLikely 159 = .ok (.iconst 0, 1) := dk_3 (dk_at dksX0_laysLikely_6 17 rfl rfl)
theorem dX0_laysLikely_160 : decode cX0_laysLikely 160 = .ok (.aload_n 0, 1) := dk_42 (dk_at dksX0_laysLikely_6 18 rfl rfl)
theorem dX0_laysLikely_161 : decode cX0_laysLikely 161 = .ok (.getfield 89, 3) := dk_180 0 89 (dk_at dksX0_laysLikely_6 19 rfl rfl)
theorem dX0_laysLikely_164 : decode cX0_laysLikely 164 = .ok (.iconst 0, 1) := dk_3 (dk_at dksX0_laysLikely_6 22 rfl rfl)
theorem dX0_laysLikely_165 : decode cX0_laysLikely 165 = .ok (.sipush 2000, 3) := dk_17 7 208 (dk_at dksX0_laysLikely_7 0 rfl rfl)
theorem dX0_laysLikely_168 : decode cX0_laysLikely 168 = .ok (.invokestatic 390, 3) := dk_184 1 134 (dk_at dksX0_laysLikely_7 3 rfl rfl)
theorem dX0_laysLikely_171 : decode cX0_laysLikely 171 = .ok (.iinc 2 1, 3) := dk_132 2 1 (dk_at dksX0_laysLikely_7 6 rfl rfl)
theorem dX0_laysLikely_174 : decode cX0_laysLikely 174 = .ok (.goto (-141), 3) := dk_167 255 115 (dk_at dksX0_laysLikely_7 9 rfl rfl)
theorem dX0_laysLikely_177 : decode cX0_laysLikely 177 = .ok (.return_, 1) := dk_177 (dk_at dksX0_laysLikely_7 12 rfl rfl)
abbrev cX0_power : ByteArray := prog_1_method_93_code
def yX0_power : MethodName := ⟨RX0, "power", "(JI)J"⟩
def dkwX0_power_0 : List UInt8 := [28, 154, 0, 7, 10, 167, 0, 12, 30, 30, 28, 4, 100, 184, 1, 14, 105, 173]
abbrev dktX0_power_0 : List UInt8 := dkwX0_power_0 ++ []
theorem dksX0_power_0 : cX0_power.data.toList.drop 0 = dktX0_power_0 := by decide +kernel
theorem dX0_power_0 : decode cX0_power 0 = .ok (.iload_n 2, 1) := dk_28 (dk_at dksX0_power_0 0 rfl rfl)
theorem dX0_power_1 : decode cX0_power 1 = .ok (.ifCond .ne 7, 3) := dk_154 0 7 (dk_at dksX0_power_0 1 rfl rfl)
theorem dX0_power_4 : decode cX0_power 4 = .ok (.lconst 1, 1) := dk_10 (dk_at dksX0_power_0 4 rfl rfl)
theorem dX0_power_5 : decode cX0_power 5 = .ok (.goto 12, 3) := dk_167 0 12 (dk_at dksX0_power_0 5 rfl rfl)
theorem dX0_power_8 : decode cX0_power 8 = .ok (.lload_n 0, 1) := dk_30 (dk_at dksX0_power_0 8 rfl rfl)
theorem dX0_power_9 : decode cX0_power 9 = .ok (.lload_n 0, 1) := dk_30 (dk_at dksX0_power_0 9 rfl rfl)
theorem dX0_power_10 : decode cX0_power 10 = .ok (.iload_n 2, 1) := dk_28 (dk_at dksX0_power_0 10 rfl rfl)
theorem dX0_power_11 : decode cX0_power 11 = .ok (.iconst 1, 1) := dk_4 (dk_at dksX0_power_0 11 rfl rfl)
theorem dX0_power_12 : decode cX0_power 12 = .ok (.isub, 1) := dk_100 (dk_at dksX0_power_0 12 rfl rfl)
theorem dX0_power_13 : decode cX0_power 13 = .ok (.invokestatic 270, 3) := dk_184 1 14 (dk_at dksX0_power_0 13 rfl rfl)
theorem dX0_power_16 : decode cX0_power 16 = .ok (.lmul, 1) := dk_105 (dk_at dksX0_power_0 16 rfl rfl)
theorem dX0_power_17 : decode cX0_power 17 = .ok (.lreturn, 1) := dk_173 (dk_at dksX0_power_0 17 rfl rfl)
abbrev cX0_common : ByteArray := prog_1_method_94_code
def yX0_common : MethodName := ⟨RX0, "common", "(JJ)J"⟩
def dkwX0_common_0 : List UInt8 := [32, 9, 148, 154, 0, 7, 30, 167, 0, 10, 32, 30, 32, 113, 184, 1, 18, 173]
abbrev dktX0_common_0 : List UInt8 := dkwX0_common_0 ++ []
theorem dksX0_common_0 : cX0_common.data.toList.drop 0 = dktX0_common_0 := by decide +kernel
theorem dX0_common_0 : decode cX0_common 0 = .ok (.lload_n 2, 1) := dk_32 (dk_at dksX0_common_0 0 rfl rfl)
theorem dX0_common_1 : decode cX0_common 1 = .ok (.lconst 0, 1) := dk_9 (dk_at dksX0_common_0 1 rfl rfl)
theorem dX0_common_2 : decode cX0_common 2 = .ok (.lcmp, 1) := dk_148 (dk_at dksX0_common_0 2 rfl rfl)
theorem dX0_common_3 : decode cX0_common 3 = .ok (.ifCond .ne 7, 3) := dk_154 0 7 (dk_at dksX0_common_0 3 rfl rfl)
theorem dX0_common_6 : decode cX0_common 6 = .ok (.lload_n 0, 1) := dk_30 (dk_at dksX0_common_0 6 rfl rfl)
theorem dX0_common_7 : decode cX0_common 7 = .ok (.goto 10, 3) := dk_167 0 10 (dk_at dksX0_common_0 7 rfl rfl)
theorem dX0_common_10 : decode cX0_common 10 = .ok (.lload_n 2, 1) := dk_32 (dk_at dksX0_common_0 10 rfl rfl)
theorem dX0_common_11 : decode cX0_common 11 = .ok (.lload_n 0, 1) := dk_30 (dk_at dksX0_common_0 11 rfl rfl)
theorem dX0_common_12 : decode cX0_common 12 = .ok (.lload_n 2, 1) := dk_32 (dk_at dksX0_common_0 12 rfl rfl)
theorem dX0_common_13 : decode cX0_common 13 = .ok (.lrem, 1) := dk_113 (dk_at dksX0_common_0 13 rfl rfl)
theorem dX0_common_14 : decode cX0_common 14 = .ok (.invokestatic 274, 3) := dk_184 1 18 (dk_at dksX0_common_0 14 rfl rfl)
theorem dX0_common_17 : decode cX0_common 17 = .ok (.lreturn, 1) := dk_173 (dk_at dksX0_common_0 17 rfl rfl)
abbrev cX0_answer : ByteArray := prog_1_method_44_code
def yX0_answer : MethodName := ⟨RX0, "answer", "(I)I"⟩
def dkwX0_answer_1 : List UInt8 := [29, 27, 184, 1, 24, 28, 27, 184, 1, 24, 164, 0, 5, 29, 61, 132, 3, 1, 167, 255, 233, 28, 172]
abbrev dktX0_answer_1 : List UInt8 := dkwX0_answer_1 ++ []
def dkwX0_answer_0 : List UInt8 := [27, 133, 9, 20, 1, 22, 184, 0, 11, 154, 0, 6, 16, 254, 172, 3, 61, 4, 62, 29, 7, 163, 0, 24]
abbrev dktX0_answer_0 : List UInt8 := dkwX0_answer_0 ++ dktX0_answer_1
theorem dksX0_answer_0 : cX0_answer.data.toList.drop 0 = dktX0_answer_0 := by decide +kernel
theorem dksX0_answer_1 : cX0_answer.data.toList.drop 24 = dktX0_answer_1 := dk_seg dksX0_answer_0 24 rfl rfl
theorem dX0_answer_0 : decode cX0_answer 0 = .ok (.iload_n 1, 1) := dk_27 (dk_at dksX0_answer_0 0 rfl rfl)
theorem dX0_answer_1 : decode cX0_answer 1 = .ok (.i2l, 1) := dk_133 (dk_at dksX0_answer_0 1 rfl rfl)
theorem dX0_answer_2 : decode cX0_answer 2 = .ok (.lconst 0, 1) := dk_9 (dk_at dksX0_answer_0 2 rfl rfl)
theorem dX0_answer_3 : decode cX0_answer 3 = .ok (.ldc2_w 278, 3) := dk_20 1 22 (dk_at dksX0_answer_0 3 rfl rfl)
theorem dX0_answer_6 : decode cX0_answer 6 = .ok (.invokestatic 11, 3) := dk_184 0 11 (dk_at dksX0_answer_0 6 rfl rfl)
theorem dX0_answer_9 : decode cX0_answer 9 = .ok (.ifCond .ne 6, 3) := dk_154 0 6 (dk_at dksX0_answer_0 9 rfl rfl)
theorem dX0_answer_12 : decode cX0_answer 12 = .ok (.bipush (-2), 2) := dk_16 254 (dk_at dksX0_answer_0 12 rfl rfl)
theorem dX0_answer_14 : decode cX0_answer 14 = .ok (.ireturn, 1) := dk_172 (dk_at dksX0_answer_0 14 rfl rfl)
theorem dX0_answer_15 : decode cX0_answer 15 = .ok (.iconst 0, 1) := dk_3 (dk_at dksX0_answer_0 15 rfl rfl)
theorem dX0_answer_16 : decode cX0_answer 16 = .ok (.istore_n 2, 1) := dk_61 (dk_at dksX0_answer_0 16 rfl rfl)
theorem dX0_answer_17 : decode cX0_answer 17 = .ok (.iconst 1, 1) := dk_4 (dk_at dksX0_answer_0 17 rfl rfl)
theorem dX0_answer_18 : decode cX0_answer 18 = .ok (.istore_n 3, 1) := dk_62 (dk_at dksX0_answer_0 18 rfl rfl)
theorem dX0_answer_19 : decode cX0_answer 19 = .ok (.iload_n 3, 1) := dk_29 (dk_at dksX0_answer_0 19 rfl rfl)
theorem dX0_answer_20 : decode cX0_answer 20 = .ok (.iconst 4, 1) := dk_7 (dk_at dksX0_answer_0 20 rfl rfl)
theorem dX0_answer_21 : decode cX0_answer 21 = .ok (.if_icmp .gt 24, 3) := dk_163 0 24 (dk_at dksX0_answer_0 21 rfl rfl)
theorem dX0_answer_24 : decode cX0_answer 24 = .ok (.iload_n 3, 1) := dk_29 (dk_at dksX0_answer_1 0 rfl rfl)
theorem dX0_answer_25 : decode cX0_answer 25 = .ok (.iload_n 1, 1) := dk_27 (dk_at dksX0_answer_1 1 rfl rfl)
theorem dX0_answer_26 : decode cX0_answer 26 = .ok (.invokestatic 280, 3) := dk_184 1 24 (dk_at dksX0_answer_1 2 rfl rfl)
theorem dX0_answer_29 : decode cX0_answer 29 = .ok (.iload_n 2, 1) := dk_28 (dk_at dksX0_answer_1 5 rfl rfl)
theorem dX0_answer_30 : decode cX0_answer 30 = .ok (.iload_n 1, 1) := dk_27 (dk_at dksX0_answer_1 6 rfl rfl)
theorem dX0_answer_31 : decode cX0_answer 31 = .ok (.invokestatic 280, 3) := dk_184 1 24 (dk_at dksX0_answer_1 7 rfl rfl)
theorem dX0_answer_34 : decode cX0_answer 34 = .ok (.if_icmp .le 5, 3) := dk_164 0 5 (dk_at dksX0_answer_1 10 rfl rfl)
theorem dX0_answer_37 : decode cX0_answer 37 = .ok (.iload_n 3, 1) := dk_29 (dk_at dksX0_answer_1 13 rfl rfl)
theorem dX0_answer_38 : decode cX0_answer 38 = .ok (.istore_n 2, 1) := dk_61 (dk_at dksX0_answer_1 14 rfl rfl)
theorem dX0_answer_39 : decode cX0_answer 39 = .ok (.iinc 3 1, 3) := dk_132 3 1 (dk_at dksX0_answer_1 15 rfl rfl)
theorem dX0_answer_42 : decode cX0_answer 42 = .ok (.goto (-23), 3) := dk_167 255 233 (dk_at dksX0_answer_1 18 rfl rfl)
theorem dX0_answer_45 : decode cX0_answer 45 = .ok (.iload_n 2, 1) := dk_28 (dk_at dksX0_answer_1 21 rfl rfl)
theorem dX0_answer_46 : decode cX0_answer 46 = .ok (.ireturn, 1) := dk_172 (dk_at dksX0_answer_1 22 rfl rfl)
abbrev cX0_hasOf : ByteArray := prog_1_method_85_code
def yX0_hasOf : MethodName := ⟨RX0, "hasOf", "(II)I"⟩
def dkwX0_hasOf_0 : List UInt8 := [16, 6, 26, 104, 26, 26, 27, 96, 104, 100, 172]
abbrev dktX0_hasOf_0 : List UInt8 := dkwX0_hasOf_0 ++ []
theorem dksX0_hasOf_0 : cX0_hasOf.data.toList.drop 0 = dktX0_hasOf_0 := by decide +kernel
theorem dX0_hasOf_0 : decode cX0_hasOf 0 = .ok (.bipush 6, 2) := dk_16 6 (dk_at dksX0_hasOf_0 0 rfl rfl)
theorem dX0_hasOf_2 : decode cX0_hasOf 2 = .ok (.iload_n 0, 1) := dk_26 (dk_at dksX0_hasOf_0 2 rfl rfl)
theorem dX0_hasOf_3 : decode cX0_hasOf 3 = .ok (.imul, 1) := dk_104 (dk_at dksX0_hasOf_0 3 rfl rfl)
theorem dX0_hasOf_4 : decode cX0_hasOf 4 = .ok (.iload_n 0, 1) := dk_26 (dk_at dksX0_hasOf_0 4 rfl rfl)
theorem dX0_hasOf_5 : decode cX0_hasOf 5 = .ok (.iload_n 0, 1) := dk_26 (dk_at dksX0_hasOf_0 5 rfl rfl)
theorem dX0_hasOf_6 : decode cX0_hasOf 6 = .ok (.iload_n 1, 1) := dk_27 (dk_at dksX0_hasOf_0 6 rfl rfl)
theorem dX0_hasOf_7 : decode cX0_hasOf 7 = .ok (.iadd, 1) := dk_96 (dk_at dksX0_hasOf_0 7 rfl rfl)
theorem dX0_hasOf_8 : decode cX0_hasOf 8 = .ok (.imul, 1) := dk_104 (dk_at dksX0_hasOf_0 8 rfl rfl)
theorem dX0_hasOf_9 : decode cX0_hasOf 9 = .ok (.isub, 1) := dk_100 (dk_at dksX0_hasOf_0 9 rfl rfl)
theorem dX0_hasOf_10 : decode cX0_hasOf 10 = .ok (.ireturn, 1) := dk_172 (dk_at dksX0_hasOf_0 10 rfl rfl)
abbrev cX0_rain : ByteArray := prog_1_method_45_code
def yX0_rain : MethodName := ⟨RX0, "rain", "(II)I"⟩
def dkwX0_rain_2 : List UInt8 := [192, 1, 30, 78, 28, 154, 0, 10, 45, 180, 1, 32, 167, 0, 7, 45, 180, 1, 35, 172]
abbrev dktX0_rain_2 : List UInt8 := dkwX0_rain_2 ++ []
def dkwX0_rain_1 : List UInt8 := [28, 184, 1, 3, 154, 0, 6, 16, 254, 172, 42, 180, 0, 47, 180, 1, 27, 27, 185, 0, 136, 2, 0]
abbrev dktX0_rain_1 : List UInt8 := dkwX0_rain_1 ++ dktX0_rain_2
def dkwX0_rain_0 : List UInt8 := [27, 133, 9, 42, 180, 0, 47, 180, 1, 27, 185, 0, 130, 1, 0, 4, 100, 133, 184, 0, 11, 153, 0, 10]
abbrev dktX0_rain_0 : List UInt8 := dkwX0_rain_0 ++ dktX0_rain_1
theorem dksX0_rain_0 : cX0_rain.data.toList.drop 0 = dktX0_rain_0 := by decide +kernel
theorem dksX0_rain_1 : cX0_rain.data.toList.drop 24 = dktX0_rain_1 := dk_seg dksX0_rain_0 24 rfl rfl
theorem dksX0_rain_2 : cX0_rain.data.toList.drop 47 = dktX0_rain_2 := dk_seg dksX0_rain_1 23 rfl rfl
theorem dX0_rain_0 : decode cX0_rain 0 = .ok (.iload_n 1, 1) := dk_27 (dk_at dksX0_rain_0 0 rfl rfl)
theorem dX0_rain_1 : decode cX0_rain 1 = .ok (.i2l, 1) := dk_133 (dk_at dksX0_rain_0 1 rfl rfl)
theorem dX0_rain_2 : decode cX0_rain 2 = .ok (.lconst 0, 1) := dk_9 (dk_at dksX0_rain_0 2 rfl rfl)
theorem dX0_rain_3 : decode cX0_rain 3 = .ok (.aload_n 0, 1) := dk_42 (dk_at dksX0_rain_0 3 rfl rfl)
theorem dX0_rain_4 : decode cX0_rain 4 = .ok (.getfield 47, 3) := dk_180 0 47 (dk_at dksX0_rain_0 4 rfl rfl)
theorem dX0_rain_7 : decode cX0_rain 7 = .ok (.getfield 283, 3) := dk_180 1 27 (dk_at dksX0_rain_0 7 rfl rfl)
theorem dX0_rain_10 : decode cX0_rain 10 = .ok (.invokeinterface 130 1, 5) := by decide +kernel
theorem dX0_rain_15 : decode cX0_rain 15 = .ok (.iconst 1, 1) := dk_4 (dk_at dksX0_rain_0 15 rfl rfl)
theorem dX0_rain_16 : decode cX0_rain 16 = .ok (.isub, 1) := dk_100 (dk_at dksX0_rain_0 16 rfl rfl)
theorem dX0_rain_17 : decode cX0_rain 17 = .ok (.i2l, 1) := dk_133 (dk_at dksX0_rain_0 17 rfl rfl)
theorem dX0_rain_18 : decode cX0_rain 18 = .ok (.invokestatic 11, 3) := dk_184 0 11 (dk_at dksX0_rain_0 18 rfl rfl)
theorem dX0_rain_21 : decode cX0_rain 21 = .ok (.ifCond .eq 10, 3) := dk_153 0 10 (dk_at dksX0_rain_0 21 rfl rfl)
theorem dX0_rain_24 : decode cX0_rain 24 = .ok (.iload_n 2, 1) := dk_28 (dk_at dksX0_rain_1 0 rfl rfl)
theorem dX0_rain_25 : decode cX0_rain 25 = .ok (.invokestatic 259, 3) := dk_184 1 3 (dk_at dksX0_rain_1 1 rfl rfl)
theorem dX0_rain_28 : decode cX0_rain 28 = .ok (.ifCond .ne 6, 3) := dk_154 0 6 (dk_at dksX0_rain_1 4 rfl rfl)
theorem dX0_rain_31 : decode cX0_rain 31 = .ok (.bipush (-2), 2) := dk_16 254 (dk_at dksX0_rain_1 7 rfl rfl)
theorem dX0_rain_33 : decode cX0_rain 33 = .ok (.ireturn, 1) := dk_172 (dk_at dksX0_rain_1 9 rfl rfl)
theorem dX0_rain_34 : decode cX0_rain 34 = .ok (.aload_n 0, 1) := dk_42 (dk_at dksX0_rain_1 10 rfl rfl)
theorem dX0_rain_35 : decode cX0_rain 35 = .ok (.getfield 47, 3) := dk_180 0 47 (dk_at dksX0_rain_1 11 rfl rfl)
theorem dX0_rain_38 : decode cX0_rain 38 = .ok (.getfield 283, 3) := dk_180 1 27 (dk_at dksX0_rain_1 14 rfl rfl)
theorem dX0_rain_41 : decode cX0_rain 41 = .ok (.iload_n 1, 1) := dk_27 (dk_at dksX0_rain_1 17 rfl rfl)
theorem dX0_rain_42 : decode cX0_rain 42 = .ok (.invokeinterface 136 2, 5) := by decide +kernel
theorem dX0_rain_47 : decode cX0_rain 47 = .ok (.checkcast 286, 3) := dk_192 1 30 (dk_at dksX0_rain_2 0 rfl rfl)
theorem dX0_rain_50 : decode cX0_rain 50 = .ok (.astore_n 3, 1) := dk_78 (dk_at dksX0_rain_2 3 rfl rfl)
theorem dX0_rain_51 : decode cX0_rain 51 = .ok (.iload_n 2, 1) := dk_28 (dk_at dksX0_rain_2 4 rfl rfl)
theorem dX0_rain_52 : decode cX0_rain 52 = .ok (.ifCond .ne 10, 3) := dk_154 0 10 (dk_at dksX0_rain_2 5 rfl rfl)
theorem dX0_rain_55 : decode cX0_rain 55 = .ok (.aload_n 3, 1) := dk_45 (dk_at dksX0_rain_2 8 rfl rfl)
theorem dX0_rain_56 : decode cX0_rain 56 = .ok (.getfield 288, 3) := dk_180 1 32 (dk_at dksX0_rain_2 9 rfl rfl)
theorem dX0_rain_59 : decode cX0_rain 59 = .ok (.goto 7, 3) := dk_167 0 7 (dk_at dksX0_rain_2 12 rfl rfl)
theorem dX0_rain_62 : decode cX0_rain 62 = .ok (.aload_n 3, 1) := dk_45 (dk_at dksX0_rain_2 15 rfl rfl)
theorem dX0_rain_63 : decode cX0_rain 63 = .ok (.getfield 291, 3) := dk_180 1 35 (dk_at dksX0_rain_2 16 rfl rfl)
theorem dX0_rain_66 : decode cX0_rain 66 = .ok (.ireturn, 1) := dk_172 (dk_at dksX0_rain_2 19 rfl rfl)
abbrev cX0_level : ByteArray := prog_1_method_46_code
def yX0_level : MethodName := ⟨RX0, "level", "(I)I"⟩
def dkwX0_level_1 : List UInt8 := [16, 254, 172]
abbrev dktX0_level_1 : List UInt8 := dkwX0_level_1 ++ []
def dkwX0_level_0 : List UInt8 := [42, 27, 133, 182, 0, 155, 153, 0, 18, 42, 180, 0, 68, 182, 0, 190, 180, 0, 223, 27, 46, 167, 0, 5]
abbrev dktX0_level_0 : List UInt8 := dkwX0_level_0 ++ dktX0_level_1
theorem dksX0_level_0 : cX0_level.data.toList.drop 0 = dktX0_level_0 := by decide +kernel
theorem dksX0_level_1 : cX0_level.data.toList.drop 24 = dktX0_level_1 := dk_seg dksX0_level_0 24 rfl rfl
theorem dX0_level_0 : decode cX0_level 0 = .ok (.aload_n 0, 1) := dk_42 (dk_at dksX0_level_0 0 rfl rfl)
theorem dX0_level_1 : decode cX0_level 1 = .ok (.iload_n 1, 1) := dk_27 (dk_at dksX0_level_0 1 rfl rfl)
theorem dX0_level_2 : decode cX0_level 2 = .ok (.i2l, 1) := dk_133 (dk_at dksX0_level_0 2 rfl rfl)
theorem dX0_level_3 : decode cX0_level 3 = .ok (.invokevirtual 155, 3) := dk_182 0 155 (dk_at dksX0_level_0 3 rfl rfl)
theorem dX0_level_6 : decode cX0_level 6 = .ok (.ifCond .eq 18, 3) := dk_153 0 18 (dk_at dksX0_level_0 6 rfl rfl)
theorem dX0_level_9 : decode cX0_level 9 = .ok (.aload_n 0, 1) := dk_42 (dk_at dksX0_level_0 9 rfl rfl)
theorem dX0_level_10 : decode cX0_level 10 = .ok (.getfield 68, 3) := dk_180 0 68 (dk_at dksX0_level_0 10 rfl rfl)
theorem dX0_level_13 : decode cX0_level 13 = .ok (.invokevirtual 190, 3) := dk_182 0 190 (dk_at dksX0_level_0 13 rfl rfl)
theorem dX0_level_16 : decode cX0_level 16 = .ok (.getfield 223, 3) := dk_180 0 223 (dk_at dksX0_level_0 16 rfl rfl)
theorem dX0_level_19 : decode cX0_level 19 = .ok (.iload_n 1, 1) := dk_27 (dk_at dksX0_level_0 19 rfl rfl)
theorem dX0_level_20 : decode cX0_level 20 = .ok (.iaload, 1) := dk_46 (dk_at dksX0_level_0 20 rfl rfl)
theorem dX0_level_21 : decode cX0_level 21 = .ok (.goto 5, 3) := dk_167 0 5 (dk_at dksX0_level_0 21 rfl rfl)
theorem dX0_level_24 : decode cX0_level 24 = .ok (.bipush (-2), 2) := dk_16 254 (dk_at dksX0_level_1 0 rfl rfl)
theorem dX0_level_26 : decode cX0_level 26 = .ok (.ireturn, 1) := dk_172 (dk_at dksX0_level_1 2 rfl rfl)
abbrev cX0_dry : ByteArray := prog_1_method_48_code
def yX0_dry : MethodName := ⟨RX0, "dry", "(I)I"⟩
def dkwX0_dry_2 : List UInt8 := [167, 255, 233, 2, 172]
abbrev dktX0_dry_2 : List UInt8 := dkwX0_dry_2 ++ []
def dkwX0_dry_1 : List UInt8 := [16, 60, 163, 0, 23, 42, 180, 0, 68, 27, 28, 182, 0, 197, 153, 0, 5, 28, 172, 132, 2, 1]
abbrev dktX0_dry_1 : List UInt8 := dkwX0_dry_1 ++ dktX0_dry_2
def dkwX0_dry_0 : List UInt8 := [42, 27, 133, 182, 0, 151, 154, 0, 6, 16, 254, 172, 42, 180, 0, 68, 182, 0, 190, 87, 3, 61, 28]
abbrev dktX0_dry_0 : List UInt8 := dkwX0_dry_0 ++ dktX0_dry_1
theorem dksX0_dry_0 : cX0_dry.data.toList.drop 0 = dktX0_dry_0 := by decide +kernel
theorem dksX0_dry_1 : cX0_dry.data.toList.drop 23 = dktX0_dry_1 := dk_seg dksX0_dry_0 23 rfl rfl
theorem dksX0_dry_2 : cX0_dry.data.toList.drop 45 = dktX0_dry_2 := dk_seg dksX0_dry_1 22 rfl rfl
theorem dX0_dry_0 : decode cX0_dry 0 = .ok (.aload_n 0, 1) := dk_42 (dk_at dksX0_dry_0 0 rfl rfl)
theorem dX0_dry_1 : decode cX0_dry 1 = .ok (.iload_n 1, 1) := dk_27 (dk_at dksX0_dry_0 1 rfl rfl)
theorem dX0_dry_2 : decode cX0_dry 2 = .ok (.i2l, 1) := dk_133 (dk_at dksX0_dry_0 2 rfl rfl)
theorem dX0_dry_3 : decode cX0_dry 3 = .ok (.invokevirtual 151, 3) := dk_182 0 151 (dk_at dksX0_dry_0 3 rfl rfl)
theorem dX0_dry_6 : decode cX0_dry 6 = .ok (.ifCond .ne 6, 3) := dk_154 0 6 (dk_at dksX0_dry_0 6 rfl rfl)
theorem dX0_dry_9 : decode cX0_dry 9 = .ok (.bipush (-2), 2) := dk_16 254 (dk_at dksX0_dry_0 9 rfl rfl)
theorem dX0_dry_11 : decode cX0_dry 11 = .ok (.ireturn, 1) := dk_172 (dk_at dksX0_dry_0 11 rfl rfl)
theorem dX0_dry_12 : decode cX0_dry 12 = .ok (.aload_n 0, 1) := dk_42 (dk_at dksX0_dry_0 12 rfl rfl)
theorem dX0_dry_13 : decode cX0_dry 13 = .ok (.getfield 68, 3) := dk_180 0 68 (dk_at dksX0_dry_0 13 rfl rfl)
theorem dX0_dry_16 : decode cX0_dry 16 = .ok (.invokevirtual 190, 3) := dk_182 0 190 (dk_at dksX0_dry_0 16 rfl rfl)
theorem dX0_dry_19 : decode cX0_dry 19 = .ok (.pop, 1) := dk_87 (dk_at dksX0_dry_0 19 rfl rfl)
theorem dX0_dry_20 : decode cX0_dry 20 = .ok (.iconst 0, 1) := dk_3 (dk_at dksX0_dry_0 20 rfl rfl)
theorem dX0_dry_21 : decode cX0_dry 21 = .ok (.istore_n 2, 1) := dk_61 (dk_at dksX0_dry_0 21 rfl rfl)
theorem dX0_dry_22 : decode cX0_dry 22 = .ok (.iload_n 2, 1) := dk_28 (dk_at dksX0_dry_0 22 rfl rfl)
theorem dX0_dry_23 : decode cX0_dry 23 = .ok (.bipush 60, 2) := dk_16 60 (dk_at dksX0_dry_1 0 rfl rfl)
theorem dX0_dry_25 : decode cX0_dry 25 = .ok (.if_icmp .gt 23, 3) := dk_163 0 23 (dk_at dksX0_dry_1 2 rfl rfl)
theorem dX0_dry_28 : decode cX0_dry 28 = .ok (.aload_n 0, 1) := dk_42 (dk_at dksX0_dry_1 5 rfl rfl)
theorem dX0_dry_29 : decode cX0_dry 29 = .ok (.getfield 68, 3) := dk_180 0 68 (dk_at dksX0_dry_1 6 rfl rfl)
theorem dX0_dry_32 : decode cX0_dry 32 = .ok (.iload_n 1, 1) := dk_27 (dk_at dksX0_dry_1 9 rfl rfl)
theorem dX0_dry_33 : decode cX0_dry 33 = .ok (.iload_n 2, 1) := dk_28 (dk_at dksX0_dry_1 10 rfl rfl)
theorem dX0_dry_34 : decode cX0_dry 34 = .ok (.invokevirtual 197, 3) := dk_182 0 197 (dk_at dksX0_dry_1 11 rfl rfl)
theorem dX0_dry_37 : decode cX0_dry 37 = .ok (.ifCond .eq 5, 3) := dk_153 0 5 (dk_at dksX0_dry_1 14 rfl rfl)
theorem dX0_dry_40 : decode cX0_dry 40 = .ok (.iload_n 2, 1) := dk_28 (dk_at dksX0_dry_1 17 rfl rfl)
theorem dX0_dry_41 : decode cX0_dry 41 = .ok (.ireturn, 1) := dk_172 (dk_at dksX0_dry_1 18 rfl rfl)
theorem dX0_dry_42 : decode cX0_dry 42 = .ok (.iinc 2 1, 3) := dk_132 2 1 (dk_at dksX0_dry_1 19 rfl rfl)
theorem dX0_dry_45 : decode cX0_dry 45 = .ok (.goto (-23), 3) := dk_167 255 233 (dk_at dksX0_dry_2 0 rfl rfl)
theorem dX0_dry_48 : decode cX0_dry 48 = .ok (.iconst (-1), 1) := dk_2 (dk_at dksX0_dry_2 3 rfl rfl)
theorem dX0_dry_49 : decode cX0_dry 49 = .ok (.ireturn, 1) := dk_172 (dk_at dksX0_dry_2 4 rfl rfl)
abbrev cX0_drought : ByteArray := prog_1_method_49_code
def yX0_drought : MethodName := ⟨RX0, "drought", "(I)I"⟩
def dkwX0_drought_2 : List UInt8 := [4, 96, 167, 0, 4, 3, 62, 28, 29, 184, 0, 254, 61, 132, 4, 1, 167, 255, 219, 28, 172]
abbrev dktX0_drought_2 : List UInt8 := dkwX0_drought_2 ++ []
def dkwX0_drought_1 : List UInt8 := [3, 54, 4, 21, 4, 16, 60, 163, 0, 36, 42, 180, 0, 68, 27, 21, 4, 182, 0, 197, 153, 0, 9, 29]
abbrev dktX0_drought_1 : List UInt8 := dkwX0_drought_1 ++ dktX0_drought_2
def dkwX0_drought_0 : List UInt8 := [42, 27, 133, 182, 0, 151, 154, 0, 6, 16, 254, 172, 42, 180, 0, 68, 182, 0, 190, 87, 3, 61, 3, 62]
abbrev dktX0_drought_0 : List UInt8 := dkwX0_drought_0 ++ dktX0_drought_1
theorem dksX0_drought_0 : cX0_drought.data.toList.drop 0 = dktX0_drought_0 := by decide +kernel
theorem dksX0_drought_1 : cX0_drought.data.toList.drop 24 = dktX0_drought_1 := dk_seg dksX0_drought_0 24 rfl rfl
theorem dksX0_drought_2 : cX0_drought.data.toList.drop 48 = dktX0_drought_2 := dk_seg dksX0_drought_1 24 rfl rfl
theorem dX0_drought_0 : decode cX0_drought 0 = .ok (.aload_n 0, 1) := dk_42 (dk_at dksX0_drought_0 0 rfl rfl)
theorem dX0_drought_1 : decode cX0_drought 1 = .ok (.iload_n 1, 1) := dk_27 (dk_at dksX0_drought_0 1 rfl rfl)
theorem dX0_drought_2 : decode cX0_drought 2 = .ok (.i2l, 1) := dk_133 (dk_at dksX0_drought_0 2 rfl rfl)
theorem dX0_drought_3 : decode cX0_drought 3 = .ok (.invokevirtual 151, 3) := dk_182 0 151 (dk_at dksX0_drought_0 3 rfl rfl)
theorem dX0_drought_6 : decode cX0_drought 6 = .ok (.ifCond .ne 6, 3) := dk_154 0 6 (dk_at dksX0_drought_0 6 rfl rfl)
theorem dX0_drought_9 : decode cX0_drought 9 = .ok (.bipush (-2), 2) := dk_16 254 (dk_at dksX0_drought_0 9 rfl rfl)
theorem dX0_drought_11 : decode cX0_drought 11 = .ok (.ireturn, 1) := dk_172 (dk_at dksX0_drought_0 11 rfl rfl)
theorem dX0_drought_12 : decode cX0_drought 12 = .ok (.aload_n 0, 1) := dk_42 (dk_at dksX0_drought_0 12 rfl rfl)
theorem dX0_drought_13 : decode cX0_drought 13 = .ok (.getfield 68, 3) := dk_180 0 68 (dk_at dksX0_drought_0 13 rfl rfl)
theorem dX0_drought_16 : decode cX0_drought 16 = .ok (.invokevirtual 190, 3) := dk_182 0 190 (dk_at dksX0_drought_0 16 rfl rfl)
theorem dX0_drought_19 : decode cX0_drought 19 = .ok (.pop, 1) := dk_87 (dk_at dksX0_drought_0 19 rfl rfl)
theorem dX0_drought_20 : decode cX0_drought 20 = .ok (.iconst 0, 1) := dk_3 (dk_at dksX0_drought_0 20 rfl rfl)
theorem dX0_drought_21 : decode cX0_drought 21 = .ok (.istore_n 2, 1) := dk_61 (dk_at dksX0_drought_0 21 rfl rfl)
theorem dX0_drought_22 : decode cX0_drought 22 = .ok (.iconst 0, 1) := dk_3 (dk_at dksX0_drought_0 22 rfl rfl)
theorem dX0_drought_23 : decode cX0_drought 23 = .ok (.istore_n 3, 1) := dk_62 (dk_at dksX0_drought_0 23 rfl rfl)
theorem dX0_drought_24 : decode cX0_drought 24 = .ok (.iconst 0, 1) := dk_3 (dk_at dksX0_drought_1 0 rfl rfl)
theorem dX0_drought_25 : decode cX0_drought 25 = .ok (.istore 4, 2) := dk_54 4 (dk_at dksX0_drought_1 1 rfl rfl)
theorem dX0_drought_27 : decode cX0_drought 27 = .ok (.iload 4, 2) := dk_21 4 (dk_at dksX0_drought_1 3 rfl rfl)
theorem dX0_drought_29 : decode cX0_drought 29 = .ok (.bipush 60, 2) := dk_16 60 (dk_at dksX0_drought_1 5 rfl rfl)
theorem dX0_drought_31 : decode cX0_drought 31 = .ok (.if_icmp .gt 36, 3) := dk_163 0 36 (dk_at dksX0_drought_1 7 rfl rfl)
theorem dX0_drought_34 : decode cX0_drought 34 = .ok (.aload_n 0, 1) := dk_42 (dk_at dksX0_drought_1 10 rfl rfl)
theorem dX0_drought_35 : decode cX0_drought 35 = .ok (.getfield 68, 3) := dk_180 0 68 (dk_at dksX0_drought_1 11 rfl rfl)
theorem dX0_drought_38 : decode cX0_drought 38 = .ok (.iload_n 1, 1) := dk_27 (dk_at dksX0_drought_1 14 rfl rfl)
theorem dX0_drought_39 : decode cX0_drought 39 = .ok (.iload 4, 2) := dk_21 4 (dk_at dksX0_drought_1 15 rfl rfl)
theorem dX0_drought_41 : decode cX0_drought 41 = .ok (.invokevirtual 197, 3) := dk_182 0 197 (dk_at dksX0_drought_1 17 rfl rfl)
theorem dX0_drought_44 : decode cX0_drought 44 = .ok (.ifCond .eq 9, 3) := dk_153 0 9 (dk_at dksX0_drought_1 20 rfl rfl)
theorem dX0_drought_47 : decode cX0_drought 47 = .ok (.iload_n 3, 1) := dk_29 (dk_at dksX0_drought_1 23 rfl rfl)
theorem dX0_drought_48 : decode cX0_drought 48 = .ok (.iconst 1, 1) := dk_4 (dk_at dksX0_drought_2 0 rfl rfl)
theorem dX0_drought_49 : decode cX0_drought 49 = .ok (.iadd, 1) := dk_96 (dk_at dksX0_drought_2 1 rfl rfl)
theorem dX0_drought_50 : decode cX0_drought 50 = .ok (.goto 4, 3) := dk_167 0 4 (dk_at dksX0_drought_2 2 rfl rfl)
theorem dX0_drought_53 : decode cX0_drought 53 = .ok (.iconst 0, 1) := dk_3 (dk_at dksX0_drought_2 5 rfl rfl)
theorem dX0_drought_54 : decode cX0_drought 54 = .ok (.istore_n 3, 1) := dk_62 (dk_at dksX0_drought_2 6 rfl rfl)
theorem dX0_drought_55 : decode cX0_drought 55 = .ok (.iload_n 2, 1) := dk_28 (dk_at dksX0_drought_2 7 rfl rfl)
theorem dX0_drought_56 : decode cX0_drought 56 = .ok (.iload_n 3, 1) := dk_29 (dk_at dksX0_drought_2 8 rfl rfl)
theorem dX0_drought_57 : decode cX0_drought 57 = .ok (.invokestatic 254, 3) := dk_184 0 254 (dk_at dksX0_drought_2 9 rfl rfl)
theorem dX0_drought_60 : decode cX0_drought 60 = .ok (.istore_n 2, 1) := dk_61 (dk_at dksX0_drought_2 12 rfl rfl)
theorem dX0_drought_61 : decode cX0_drought 61 = .ok (.iinc 4 1, 3) := dk_132 4 1 (dk_at dksX0_drought_2 13 rfl rfl)
theorem dX0_drought_64 : decode cX0_drought 64 = .ok (.goto (-37), 3) := dk_167 255 219 (dk_at dksX0_drought_2 16 rfl rfl)
theorem dX0_drought_67 : decode cX0_drought 67 = .ok (.iload_n 2, 1) := dk_28 (dk_at dksX0_drought_2 19 rfl rfl)
theorem dX0_drought_68 : decode cX0_drought 68 = .ok (.ireturn, 1) := dk_172 (dk_at dksX0_drought_2 20 rfl rfl)
abbrev cX0_where : ByteArray := prog_1_method_50_code
def yX0_where : MethodName := ⟨RX0, "where", "(III)I"⟩
def dkwX0_where_2 : List UInt8 := [167, 0, 4, 2, 172]
abbrev dktX0_where_2 : List UInt8 := dkwX0_where_2 ++ []
def dkwX0_where_1 : List UInt8 := [172, 42, 27, 28, 182, 0, 203, 180, 0, 206, 29, 46, 54, 4, 21, 4, 16, 10, 162, 0, 8, 21, 4]
abbrev dktX0_where_1 : List UInt8 := dkwX0_where_1 ++ dktX0_where_2
def dkwX0_where_0 : List UInt8 := [42, 27, 28, 182, 0, 240, 153, 0, 16, 29, 133, 28, 133, 20, 0, 149, 184, 0, 11, 154, 0, 6, 16, 254]
abbrev dktX0_where_0 : List UInt8 := dkwX0_where_0 ++ dktX0_where_1
theorem dksX0_where_0 : cX0_where.data.toList.drop 0 = dktX0_where_0 := by decide +kernel
theorem dksX0_where_1 : cX0_where.data.toList.drop 24 = dktX0_where_1 := dk_seg dksX0_where_0 24 rfl rfl
theorem dksX0_where_2 : cX0_where.data.toList.drop 47 = dktX0_where_2 := dk_seg dksX0_where_1 23 rfl rfl
theorem dX0_where_0 : decode cX0_where 0 = .ok (.aload_n 0, 1) := dk_42 (dk_at dksX0_where_0 0 rfl rfl)
theorem dX0_where_1 : decode cX0_where 1 = .ok (.iload_n 1, 1) := dk_27 (dk_at dksX0_where_0 1 rfl rfl)
theorem dX0_where_2 : decode cX0_where 2 = .ok (.iload_n 2, 1) := dk_28 (dk_at dksX0_where_0 2 rfl rfl)
theorem dX0_where_3 : decode cX0_where 3 = .ok (.invokevirtual 240, 3) := dk_182 0 240 (dk_at dksX0_where_0 3 rfl rfl)
theorem dX0_where_6 : decode cX0_where 6 = .ok (.ifCond .eq 16, 3) := dk_153 0 16 (dk_at dksX0_where_0 6 rfl rfl)
theorem dX0_where_9 : decode cX0_where 9 = .ok (.iload_n 3, 1) := dk_29 (dk_at dksX0_where_0 9 rfl rfl)
theorem dX0_where_10 : decode cX0_where 10 = .ok (.i2l, 1) := dk_133 (dk_at dksX0_where_0 10 rfl rfl)
theorem dX0_where_11 : decode cX0_where 11 = .ok (.iload_n 2, 1) := dk_28 (dk_at dksX0_where_0 11 rfl rfl)
theorem dX0_where_12 : decode cX0_where 12 = .ok (.i2l, 1) := dk_133 (dk_at dksX0_where_0 12 rfl rfl)
theorem dX0_where_13 : decode cX0_where 13 = .ok (.ldc2_w 149, 3) := dk_20 0 149 (dk_at dksX0_where_0 13 rfl rfl)
theorem dX0_where_16 : decode cX0_where 16 = .ok (.invokestatic 11, 3) := dk_184 0 11 (dk_at dksX0_where_0 16 rfl rfl)
theorem dX0_where_19 : decode cX0_where 19 = .ok (.ifCond .ne 6, 3) := dk_154 0 6 (dk_at dksX0_where_0 19 rfl rfl)
theorem dX0_where_22 : decode cX0_where 22 = .ok (.bipush (-2), 2) := dk_16 254 (dk_at dksX0_where_0 22 rfl rfl)
theorem dX0_where_24 : decode cX0_where 24 = .ok (.ireturn, 1) := dk_172 (dk_at dksX0_where_1 0 rfl rfl)
theorem dX0_where_25 : decode cX0_where 25 = .ok (.aload_n 0, 1) := dk_42 (dk_at dksX0_where_1 1 rfl rfl)
theorem dX0_where_26 : decode cX0_where 26 = .ok (.iload_n 1, 1) := dk_27 (dk_at dksX0_where_1 2 rfl rfl)
theorem dX0_where_27 : decode cX0_where 27 = .ok (.iload_n 2, 1) := dk_28 (dk_at dksX0_where_1 3 rfl rfl)
theorem dX0_where_28 : decode cX0_where 28 = .ok (.invokevirtual 203, 3) := dk_182 0 203 (dk_at dksX0_where_1 4 rfl rfl)
theorem dX0_where_31 : decode cX0_where 31 = .ok (.getfield 206, 3) := dk_180 0 206 (dk_at dksX0_where_1 7 rfl rfl)
theorem dX0_where_34 : decode cX0_where 34 = .ok (.iload_n 3, 1) := dk_29 (dk_at dksX0_where_1 10 rfl rfl)
theorem dX0_where_35 : decode cX0_where 35 = .ok (.iaload, 1) := dk_46 (dk_at dksX0_where_1 11 rfl rfl)
theorem dX0_where_36 : decode cX0_where 36 = .ok (.istore 4, 2) := dk_54 4 (dk_at dksX0_where_1 12 rfl rfl)
theorem dX0_where_38 : decode cX0_where 38 = .ok (.iload 4, 2) := dk_21 4 (dk_at dksX0_where_1 14 rfl rfl)
theorem dX0_where_40 : decode cX0_where 40 = .ok (.bipush 10, 2) := dk_16 10 (dk_at dksX0_where_1 16 rfl rfl)
theorem dX0_where_42 : decode cX0_where 42 = .ok (.if_icmp .ge 8, 3) := dk_162 0 8 (dk_at dksX0_where_1 18 rfl rfl)
theorem dX0_where_45 : decode cX0_where 45 = .ok (.iload 4, 2) := dk_21 4 (dk_at dksX0_where_1 21 rfl rfl)
theorem dX0_where_47 : decode cX0_where 47 = .ok (.goto 4, 3) := dk_167 0 4 (dk_at dksX0_where_2 0 rfl rfl)
theorem dX0_where_50 : decode cX0_where 50 = .ok (.iconst (-1), 1) := dk_2 (dk_at dksX0_where_2 3 rfl rfl)
theorem dX0_where_51 : decode cX0_where 51 = .ok (.ireturn, 1) := dk_172 (dk_at dksX0_where_2 4 rfl rfl)
abbrev cX0_sea : ByteArray := prog_1_method_51_code
def yX0_sea : MethodName := ⟨RX0, "sea", "(II)I"⟩
def dkwX0_sea_1 : List UInt8 := [16, 254, 172]
abbrev dktX0_sea_1 : List UInt8 := dkwX0_sea_1 ++ []
def dkwX0_sea_0 : List UInt8 := [42, 27, 28, 182, 0, 240, 153, 0, 17, 42, 27, 28, 182, 0, 203, 16, 10, 182, 0, 251, 167, 0, 5]
abbrev dktX0_sea_0 : List UInt8 := dkwX0_sea_0 ++ dktX0_sea_1
theorem dksX0_sea_0 : cX0_sea.data.toList.drop 0 = dktX0_sea_0 := by decide +kernel
theorem dksX0_sea_1 : cX0_sea.data.toList.drop 23 = dktX0_sea_1 := dk_seg dksX0_sea_0 23 rfl rfl
theorem dX0_sea_0 : decode cX0_sea 0 = .ok (.aload_n 0, 1) := dk_42 (dk_at dksX0_sea_0 0 rfl rfl)
theorem dX0_sea_1 : decode cX0_sea 1 = .ok (.iload_n 1, 1) := dk_27 (dk_at dksX0_sea_0 1 rfl rfl)
theorem dX0_sea_2 : decode cX0_sea 2 = .ok (.iload_n 2, 1) := dk_28 (dk_at dksX0_sea_0 2 rfl rfl)
theorem dX0_sea_3 : decode cX0_sea 3 = .ok (.invokevirtual 240, 3) := dk_182 0 240 (dk_at dksX0_sea_0 3 rfl rfl)
theorem dX0_sea_6 : decode cX0_sea 6 = .ok (.ifCond .eq 17, 3) := dk_153 0 17 (dk_at dksX0_sea_0 6 rfl rfl)
theorem dX0_sea_9 : decode cX0_sea 9 = .ok (.aload_n 0, 1) := dk_42 (dk_at dksX0_sea_0 9 rfl rfl)
theorem dX0_sea_10 : decode cX0_sea 10 = .ok (.iload_n 1, 1) := dk_27 (dk_at dksX0_sea_0 10 rfl rfl)
theorem dX0_sea_11 : decode cX0_sea 11 = .ok (.iload_n 2, 1) := dk_28 (dk_at dksX0_sea_0 11 rfl rfl)
theorem dX0_sea_12 : decode cX0_sea 12 = .ok (.invokevirtual 203, 3) := dk_182 0 203 (dk_at dksX0_sea_0 12 rfl rfl)
theorem dX0_sea_15 : decode cX0_sea 15 = .ok (.bipush 10, 2) := dk_16 10 (dk_at dksX0_sea_0 15 rfl rfl)
theorem dX0_sea_17 : decode cX0_sea 17 = .ok (.invokevirtual 251, 3) := dk_182 0 251 (dk_at dksX0_sea_0 17 rfl rfl)
theorem dX0_sea_20 : decode cX0_sea 20 = .ok (.goto 5, 3) := dk_167 0 5 (dk_at dksX0_sea_0 20 rfl rfl)
theorem dX0_sea_23 : decode cX0_sea 23 = .ok (.bipush (-2), 2) := dk_16 254 (dk_at dksX0_sea_1 0 rfl rfl)
theorem dX0_sea_25 : decode cX0_sea 25 = .ok (.ireturn, 1) := dk_172 (dk_at dksX0_sea_1 2 rfl rfl)
abbrev cX0_comes : ByteArray := prog_1_method_52_code
def yX0_comes : MethodName := ⟨RX0, "comes", "(III)I"⟩
def dkwX0_comes_1 : List UInt8 := [29, 182, 0, 251, 167, 0, 5, 16, 254, 172]
abbrev dktX0_comes_1 : List UInt8 := dkwX0_comes_1 ++ []
def dkwX0_comes_0 : List UInt8 := [42, 27, 28, 182, 0, 240, 153, 0, 25, 42, 29, 133, 182, 0, 151, 153, 0, 16, 42, 27, 28, 182, 0, 203]
abbrev dktX0_comes_0 : List UInt8 := dkwX0_comes_0 ++ dktX0_comes_1
theorem dksX0_comes_0 : cX0_comes.data.toList.drop 0 = dktX0_comes_0 := by decide +kernel
theorem dksX0_comes_1 : cX0_comes.data.toList.drop 24 = dktX0_comes_1 := dk_seg dksX0_comes_0 24 rfl rfl
theorem dX0_comes_0 : decode cX0_comes 0 = .ok (.aload_n 0, 1) := dk_42 (dk_at dksX0_comes_0 0 rfl rfl)
theorem dX0_comes_1 : decode cX0_comes 1 = .ok (.iload_n 1, 1) := dk_27 (dk_at dksX0_comes_0 1 rfl rfl)
theorem dX0_comes_2 : decode cX0_comes 2 = .ok (.iload_n 2, 1) := dk_28 (dk_at dksX0_comes_0 2 rfl rfl)
theorem dX0_comes_3 : decode cX0_comes 3 = .ok (.invokevirtual 240, 3) := dk_182 0 240 (dk_at dksX0_comes_0 3 rfl rfl)
theorem dX0_comes_6 : decode cX0_comes 6 = .ok (.ifCond .eq 25, 3) := dk_153 0 25 (dk_at dksX0_comes_0 6 rfl rfl)
theorem dX0_comes_9 : decode cX0_comes 9 = .ok (.aload_n 0, 1) := dk_42 (dk_at dksX0_comes_0 9 rfl rfl)
theorem dX0_comes_10 : decode cX0_comes 10 = .ok (.iload_n 3, 1) := dk_29 (dk_at dksX0_comes_0 10 rfl rfl)
theorem dX0_comes_11 : decode cX0_comes 11 = .ok (.i2l, 1) := dk_133 (dk_at dksX0_comes_0 11 rfl rfl)
theorem dX0_comes_12 : decode cX0_comes 12 = .ok (.invokevirtual 151, 3) := dk_182 0 151 (dk_at dksX0_comes_0 12 rfl rfl)
theorem dX0_comes_15 : decode cX0_comes 15 = .ok (.ifCond .eq 16, 3) := dk_153 0 16 (dk_at dksX0_comes_0 15 rfl rfl)
theorem dX0_comes_18 : decode cX0_comes 18 = .ok (.aload_n 0, 1) := dk_42 (dk_at dksX0_comes_0 18 rfl rfl)
theorem dX0_comes_19 : decode cX0_comes 19 = .ok (.iload_n 1, 1) := dk_27 (dk_at dksX0_comes_0 19 rfl rfl)
theorem dX0_comes_20 : decode cX0_comes 20 = .ok (.iload_n 2, 1) := dk_28 (dk_at dksX0_comes_0 20 rfl rfl)
theorem dX0_comes_21 : decode cX0_comes 21 = .ok (.invokevirtual 203, 3) := dk_182 0 203 (dk_at dksX0_comes_0 21 rfl rfl)
theorem dX0_comes_24 : decode cX0_comes 24 = .ok (.iload_n 3, 1) := dk_29 (dk_at dksX0_comes_1 0 rfl rfl)
theorem dX0_comes_25 : decode cX0_comes 25 = .ok (.invokevirtual 251, 3) := dk_182 0 251 (dk_at dksX0_comes_1 1 rfl rfl)
theorem dX0_comes_28 : decode cX0_comes 28 = .ok (.goto 5, 3) := dk_167 0 5 (dk_at dksX0_comes_1 4 rfl rfl)
theorem dX0_comes_31 : decode cX0_comes 31 = .ok (.bipush (-2), 2) := dk_16 254 (dk_at dksX0_comes_1 7 rfl rfl)
theorem dX0_comes_33 : decode cX0_comes 33 = .ok (.ireturn, 1) := dk_172 (dk_at dksX0_comes_1 9 rfl rfl)
abbrev cX0_way : ByteArray := prog_1_method_53_code
def yX0_way : MethodName := ⟨RX0, "way", "(II)I"⟩
def dkwX0_way_0 : List UInt8 := [42, 27, 28, 182, 0, 240, 153, 0, 15, 42, 27, 28, 182, 0, 203, 182, 0, 248, 167, 0, 5, 16, 254, 172]
abbrev dktX0_way_0 : List UInt8 := dkwX0_way_0 ++ []
theorem dksX0_way_0 : cX0_way.data.toList.drop 0 = dktX0_way_0 := by decide +kernel
theorem dX0_way_0 : decode cX0_way 0 = .ok (.aload_n 0, 1) := dk_42 (dk_at dksX0_way_0 0 rfl rfl)
theorem dX0_way_1 : decode cX0_way 1 = .ok (.iload_n 1, 1) := dk_27 (dk_at dksX0_way_0 1 rfl rfl)
theorem dX0_way_2 : decode cX0_way 2 = .ok (.iload_n 2, 1) := dk_28 (dk_at dksX0_way_0 2 rfl rfl)
theorem dX0_way_3 : decode cX0_way 3 = .ok (.invokevirtual 240, 3) := dk_182 0 240 (dk_at dksX0_way_0 3 rfl rfl)
theorem dX0_way_6 : decode cX0_way 6 = .ok (.ifCond .eq 15, 3) := dk_153 0 15 (dk_at dksX0_way_0 6 rfl rfl)
theorem dX0_way_9 : decode cX0_way 9 = .ok (.aload_n 0, 1) := dk_42 (dk_at dksX0_way_0 9 rfl rfl)
theorem dX0_way_10 : decode cX0_way 10 = .ok (.iload_n 1, 1) := dk_27 (dk_at dksX0_way_0 10 rfl rfl)
theorem dX0_way_11 : decode cX0_way 11 = .ok (.iload_n 2, 1) := dk_28 (dk_at dksX0_way_0 11 rfl rfl)
theorem dX0_way_12 : decode cX0_way 12 = .ok (.invokevirtual 203, 3) := dk_182 0 203 (dk_at dksX0_way_0 12 rfl rfl)
theorem dX0_way_15 : decode cX0_way 15 = .ok (.invokevirtual 248, 3) := dk_182 0 248 (dk_at dksX0_way_0 15 rfl rfl)
theorem dX0_way_18 : decode cX0_way 18 = .ok (.goto 5, 3) := dk_167 0 5 (dk_at dksX0_way_0 18 rfl rfl)
theorem dX0_way_21 : decode cX0_way 21 = .ok (.bipush (-2), 2) := dk_16 254 (dk_at dksX0_way_0 21 rfl rfl)
theorem dX0_way_23 : decode cX0_way 23 = .ok (.ireturn, 1) := dk_172 (dk_at dksX0_way_0 23 rfl rfl)
abbrev cX0_leaves : ByteArray := prog_1_method_54_code
def yX0_leaves : MethodName := ⟨RX0, "leaves", "(II)I"⟩
def dkwX0_leaves_0 : List UInt8 := [42, 27, 28, 182, 0, 240, 153, 0, 15, 42, 27, 28, 182, 0, 203, 180, 1, 38, 167, 0, 5, 16, 254, 172]
abbrev dktX0_leaves_0 : List UInt8 := dkwX0_leaves_0 ++ []
theorem dksX0_leaves_0 : cX0_leaves.data.toList.drop 0 = dktX0_leaves_0 := by decide +kernel
theorem dX0_leaves_0 : decode cX0_leaves 0 = .ok (.aload_n 0, 1) := dk_42 (dk_at dksX0_leaves_0 0 rfl rfl)
theorem dX0_leaves_1 : decode cX0_leaves 1 = .ok (.iload_n 1, 1) := dk_27 (dk_at dksX0_leaves_0 1 rfl rfl)
theorem dX0_leaves_2 : decode cX0_leaves 2 = .ok (.iload_n 2, 1) := dk_28 (dk_at dksX0_leaves_0 2 rfl rfl)
theorem dX0_leaves_3 : decode cX0_leaves 3 = .ok (.invokevirtual 240, 3) := dk_182 0 240 (dk_at dksX0_leaves_0 3 rfl rfl)
theorem dX0_leaves_6 : decode cX0_leaves 6 = .ok (.ifCond .eq 15, 3) := dk_153 0 15 (dk_at dksX0_leaves_0 6 rfl rfl)
theorem dX0_leaves_9 : decode cX0_leaves 9 = .ok (.aload_n 0, 1) := dk_42 (dk_at dksX0_leaves_0 9 rfl rfl)
theorem dX0_leaves_10 : decode cX0_leaves 10 = .ok (.iload_n 1, 1) := dk_27 (dk_at dksX0_leaves_0 10 rfl rfl)
theorem dX0_leaves_11 : decode cX0_leaves 11 = .ok (.iload_n 2, 1) := dk_28 (dk_at dksX0_leaves_0 11 rfl rfl)
theorem dX0_leaves_12 : decode cX0_leaves 12 = .ok (.invokevirtual 203, 3) := dk_182 0 203 (dk_at dksX0_leaves_0 12 rfl rfl)
theorem dX0_leaves_15 : decode cX0_leaves 15 = .ok (.getfield 294, 3) := dk_180 1 38 (dk_at dksX0_leaves_0 15 rfl rfl)
theorem dX0_leaves_18 : decode cX0_leaves 18 = .ok (.goto 5, 3) := dk_167 0 5 (dk_at dksX0_leaves_0 18 rfl rfl)
theorem dX0_leaves_21 : decode cX0_leaves 21 = .ok (.bipush (-2), 2) := dk_16 254 (dk_at dksX0_leaves_0 21 rfl rfl)
theorem dX0_leaves_23 : decode cX0_leaves 23 = .ok (.ireturn, 1) := dk_172 (dk_at dksX0_leaves_0 23 rfl rfl)
abbrev cX0_waits : ByteArray := prog_1_method_55_code
def yX0_waits : MethodName := ⟨RX0, "waits", "(II)I"⟩
def dkwX0_waits_0 : List UInt8 := [42, 27, 28, 182, 0, 240, 153, 0, 15, 42, 27, 28, 182, 0, 203, 180, 1, 41, 167, 0, 5, 16, 254, 172]
abbrev dktX0_waits_0 : List UInt8 := dkwX0_waits_0 ++ []
theorem dksX0_waits_0 : cX0_waits.data.toList.drop 0 = dktX0_waits_0 := by decide +kernel
theorem dX0_waits_0 : decode cX0_waits 0 = .ok (.aload_n 0, 1) := dk_42 (dk_at dksX0_waits_0 0 rfl rfl)
theorem dX0_waits_1 : decode cX0_waits 1 = .ok (.iload_n 1, 1) := dk_27 (dk_at dksX0_waits_0 1 rfl rfl)
theorem dX0_waits_2 : decode cX0_waits 2 = .ok (.iload_n 2, 1) := dk_28 (dk_at dksX0_waits_0 2 rfl rfl)
theorem dX0_waits_3 : decode cX0_waits 3 = .ok (.invokevirtual 240, 3) := dk_182 0 240 (dk_at dksX0_waits_0 3 rfl rfl)
theorem dX0_waits_6 : decode cX0_waits 6 = .ok (.ifCond .eq 15, 3) := dk_153 0 15 (dk_at dksX0_waits_0 6 rfl rfl)
theorem dX0_waits_9 : decode cX0_waits 9 = .ok (.aload_n 0, 1) := dk_42 (dk_at dksX0_waits_0 9 rfl rfl)
theorem dX0_waits_10 : decode cX0_waits 10 = .ok (.iload_n 1, 1) := dk_27 (dk_at dksX0_waits_0 10 rfl rfl)
theorem dX0_waits_11 : decode cX0_waits 11 = .ok (.iload_n 2, 1) := dk_28 (dk_at dksX0_waits_0 11 rfl rfl)
theorem dX0_waits_12 : decode cX0_waits 12 = .ok (.invokevirtual 203, 3) := dk_182 0 203 (dk_at dksX0_waits_0 12 rfl rfl)
theorem dX0_waits_15 : decode cX0_waits 15 = .ok (.getfield 297, 3) := dk_180 1 41 (dk_at dksX0_waits_0 15 rfl rfl)
theorem dX0_waits_18 : decode cX0_waits 18 = .ok (.goto 5, 3) := dk_167 0 5 (dk_at dksX0_waits_0 18 rfl rfl)
theorem dX0_waits_21 : decode cX0_waits 21 = .ok (.bipush (-2), 2) := dk_16 254 (dk_at dksX0_waits_0 21 rfl rfl)
theorem dX0_waits_23 : decode cX0_waits 23 = .ok (.ireturn, 1) := dk_172 (dk_at dksX0_waits_0 23 rfl rfl)
abbrev cX0_jumps : ByteArray := prog_1_method_56_code
def yX0_jumps : MethodName := ⟨RX0, "jumps", "(II)I"⟩
def dkwX0_jumps_0 : List UInt8 := [42, 27, 28, 182, 0, 240, 153, 0, 15, 42, 27, 28, 182, 0, 203, 180, 1, 44, 167, 0, 5, 16, 254, 172]
abbrev dktX0_jumps_0 : List UInt8 := dkwX0_jumps_0 ++ []
theorem dksX0_jumps_0 : cX0_jumps.data.toList.drop 0 = dktX0_jumps_0 := by decide +kernel
theorem dX0_jumps_0 : decode cX0_jumps 0 = .ok (.aload_n 0, 1) := dk_42 (dk_at dksX0_jumps_0 0 rfl rfl)
theorem dX0_jumps_1 : decode cX0_jumps 1 = .ok (.iload_n 1, 1) := dk_27 (dk_at dksX0_jumps_0 1 rfl rfl)
theorem dX0_jumps_2 : decode cX0_jumps 2 = .ok (.iload_n 2, 1) := dk_28 (dk_at dksX0_jumps_0 2 rfl rfl)
theorem dX0_jumps_3 : decode cX0_jumps 3 = .ok (.invokevirtual 240, 3) := dk_182 0 240 (dk_at dksX0_jumps_0 3 rfl rfl)
theorem dX0_jumps_6 : decode cX0_jumps 6 = .ok (.ifCond .eq 15, 3) := dk_153 0 15 (dk_at dksX0_jumps_0 6 rfl rfl)
theorem dX0_jumps_9 : decode cX0_jumps 9 = .ok (.aload_n 0, 1) := dk_42 (dk_at dksX0_jumps_0 9 rfl rfl)
theorem dX0_jumps_10 : decode cX0_jumps 10 = .ok (.iload_n 1, 1) := dk_27 (dk_at dksX0_jumps_0 10 rfl rfl)
theorem dX0_jumps_11 : decode cX0_jumps 11 = .ok (.iload_n 2, 1) := dk_28 (dk_at dksX0_jumps_0 11 rfl rfl)
theorem dX0_jumps_12 : decode cX0_jumps 12 = .ok (.invokevirtual 203, 3) := dk_182 0 203 (dk_at dksX0_jumps_0 12 rfl rfl)
theorem dX0_jumps_15 : decode cX0_jumps 15 = .ok (.getfield 300, 3) := dk_180 1 44 (dk_at dksX0_jumps_0 15 rfl rfl)
theorem dX0_jumps_18 : decode cX0_jumps 18 = .ok (.goto 5, 3) := dk_167 0 5 (dk_at dksX0_jumps_0 18 rfl rfl)
theorem dX0_jumps_21 : decode cX0_jumps 21 = .ok (.bipush (-2), 2) := dk_16 254 (dk_at dksX0_jumps_0 21 rfl rfl)
theorem dX0_jumps_23 : decode cX0_jumps 23 = .ok (.ireturn, 1) := dk_172 (dk_at dksX0_jumps_0 23 rfl rfl)
abbrev cX0_finds : ByteArray := prog_1_method_57_code
def yX0_finds : MethodName := ⟨RX0, "finds", "(II)I"⟩
def dkwX0_finds_2 : List UInt8 := [182, 0, 251, 164, 0, 6, 21, 4, 62, 132, 4, 1, 167, 255, 221, 29, 172]
abbrev dktX0_finds_2 : List UInt8 := dkwX0_finds_2 ++ []
def dkwX0_finds_1 : List UInt8 := [21, 4, 42, 182, 0, 147, 162, 0, 32, 42, 180, 0, 75, 21, 4, 182, 0, 251, 42, 180, 0, 75, 29]
abbrev dktX0_finds_1 : List UInt8 := dkwX0_finds_1 ++ dktX0_finds_2
def dkwX0_finds_0 : List UInt8 := [42, 27, 28, 182, 0, 240, 154, 0, 6, 16, 254, 172, 42, 27, 28, 182, 0, 203, 87, 27, 62, 3, 54, 4]
abbrev dktX0_finds_0 : List UInt8 := dkwX0_finds_0 ++ dktX0_finds_1
theorem dksX0_finds_0 : cX0_finds.data.toList.drop 0 = dktX0_finds_0 := by decide +kernel
theorem dksX0_finds_1 : cX0_finds.data.toList.drop 24 = dktX0_finds_1 := dk_seg dksX0_finds_0 24 rfl rfl
theorem dksX0_finds_2 : cX0_finds.data.toList.drop 47 = dktX0_finds_2 := dk_seg dksX0_finds_1 23 rfl rfl
theorem dX0_finds_0 : decode cX0_finds 0 = .ok (.aload_n 0, 1) := dk_42 (dk_at dksX0_finds_0 0 rfl rfl)
theorem dX0_finds_1 : decode cX0_finds 1 = .ok (.iload_n 1, 1) := dk_27 (dk_at dksX0_finds_0 1 rfl rfl)
theorem dX0_finds_2 : decode cX0_finds 2 = .ok (.iload_n 2, 1) := dk_28 (dk_at dksX0_finds_0 2 rfl rfl)
theorem dX0_finds_3 : decode cX0_finds 3 = .ok (.invokevirtual 240, 3) := dk_182 0 240 (dk_at dksX0_finds_0 3 rfl rfl)
theorem dX0_finds_6 : decode cX0_finds 6 = .ok (.ifCond .ne 6, 3) := dk_154 0 6 (dk_at dksX0_finds_0 6 rfl rfl)
theorem dX0_finds_9 : decode cX0_finds 9 = .ok (.bipush (-2), 2) := dk_16 254 (dk_at dksX0_finds_0 9 rfl rfl)
theorem dX0_finds_11 : decode cX0_finds 11 = .ok (.ireturn, 1) := dk_172 (dk_at dksX0_finds_0 11 rfl rfl)
theorem dX0_finds_12 : decode cX0_finds 12 = .ok (.aload_n 0, 1) := dk_42 (dk_at dksX0_finds_0 12 rfl rfl)
theorem dX0_finds_13 : decode cX0_finds 13 = .ok (.iload_n 1, 1) := dk_27 (dk_at dksX0_finds_0 13 rfl rfl)
theorem dX0_finds_14 : decode cX0_finds 14 = .ok (.iload_n 2, 1) := dk_28 (dk_at dksX0_finds_0 14 rfl rfl)
theorem dX0_finds_15 : decode cX0_finds 15 = .ok (.invokevirtual 203, 3) := dk_182 0 203 (dk_at dksX0_finds_0 15 rfl rfl)
theorem dX0_finds_18 : decode cX0_finds 18 = .ok (.pop, 1) := dk_87 (dk_at dksX0_finds_0 18 rfl rfl)
theorem dX0_finds_19 : decode cX0_finds 19 = .ok (.iload_n 1, 1) := dk_27 (dk_at dksX0_finds_0 19 rfl rfl)
theorem dX0_finds_20 : decode cX0_finds 20 = .ok (.istore_n 3, 1) := dk_62 (dk_at dksX0_finds_0 20 rfl rfl)
theorem dX0_finds_21 : decode cX0_finds 21 = .ok (.iconst 0, 1) := dk_3 (dk_at dksX0_finds_0 21 rfl rfl)
theorem dX0_finds_22 : decode cX0_finds 22 = .ok (.istore 4, 2) := dk_54 4 (dk_at dksX0_finds_0 22 rfl rfl)
theorem dX0_finds_24 : decode cX0_finds 24 = .ok (.iload 4, 2) := dk_21 4 (dk_at dksX0_finds_1 0 rfl rfl)
theorem dX0_finds_26 : decode cX0_finds 26 = .ok (.aload_n 0, 1) := dk_42 (dk_at dksX0_finds_1 2 rfl rfl)
theorem dX0_finds_27 : decode cX0_finds 27 = .ok (.invokevirtual 147, 3) := dk_182 0 147 (dk_at dksX0_finds_1 3 rfl rfl)
theorem dX0_finds_30 : decode cX0_finds 30 = .ok (.if_icmp .ge 32, 3) := dk_162 0 32 (dk_at dksX0_finds_1 6 rfl rfl)
theorem dX0_finds_33 : decode cX0_finds 33 = .ok (.aload_n 0, 1) := dk_42 (dk_at dksX0_finds_1 9 rfl rfl)
theorem dX0_finds_34 : decode cX0_finds 34 = .ok (.getfield 75, 3) := dk_180 0 75 (dk_at dksX0_finds_1 10 rfl rfl)
theorem dX0_finds_37 : decode cX0_finds 37 = .ok (.iload 4, 2) := dk_21 4 (dk_at dksX0_finds_1 13 rfl rfl)
theorem dX0_finds_39 : decode cX0_finds 39 = .ok (.invokevirtual 251, 3) := dk_182 0 251 (dk_at dksX0_finds_1 15 rfl rfl)
theorem dX0_finds_42 : decode cX0_finds 42 = .ok (.aload_n 0, 1) := dk_42 (dk_at dksX0_finds_1 18 rfl rfl)
theorem dX0_finds_43 : decode cX0_finds 43 = .ok (.getfield 75, 3) := dk_180 0 75 (dk_at dksX0_finds_1 19 rfl rfl)
theorem dX0_finds_46 : decode cX0_finds 46 = .ok (.iload_n 3, 1) := dk_29 (dk_at dksX0_finds_1 22 rfl rfl)
theorem dX0_finds_47 : decode cX0_finds 47 = .ok (.invokevirtual 251, 3) := dk_182 0 251 (dk_at dksX0_finds_2 0 rfl rfl)
theorem dX0_finds_50 : decode cX0_finds 50 = .ok (.if_icmp .le 6, 3) := dk_164 0 6 (dk_at dksX0_finds_2 3 rfl rfl)
theorem dX0_finds_53 : decode cX0_finds 53 = .ok (.iload 4, 2) := dk_21 4 (dk_at dksX0_finds_2 6 rfl rfl)
theorem dX0_finds_55 : decode cX0_finds 55 = .ok (.istore_n 3, 1) := dk_62 (dk_at dksX0_finds_2 8 rfl rfl)
theorem dX0_finds_56 : decode cX0_finds 56 = .ok (.iinc 4 1, 3) := dk_132 4 1 (dk_at dksX0_finds_2 9 rfl rfl)
theorem dX0_finds_59 : decode cX0_finds 59 = .ok (.goto (-35), 3) := dk_167 255 221 (dk_at dksX0_finds_2 12 rfl rfl)
theorem dX0_finds_62 : decode cX0_finds 62 = .ok (.iload_n 3, 1) := dk_29 (dk_at dksX0_finds_2 15 rfl rfl)
theorem dX0_finds_63 : decode cX0_finds 63 = .ok (.ireturn, 1) := dk_172 (dk_at dksX0_finds_2 16 rfl rfl)
abbrev cX0_ends : ByteArray := prog_1_method_59_code
def yX0_ends : MethodName := ⟨RX0, "ends", "(I)I"⟩
def dkwX0_ends_2 : List UInt8 := [61, 132, 3, 1, 167, 255, 220, 28, 172]
abbrev dktX0_ends_2 : List UInt8 := dkwX0_ends_2 ++ []
def dkwX0_ends_1 : List UInt8 := [28, 42, 29, 27, 182, 0, 203, 16, 10, 182, 0, 251, 2, 159, 0, 9, 4, 29, 120, 167, 0, 4, 3, 128]
abbrev dktX0_ends_1 : List UInt8 := dkwX0_ends_1 ++ dktX0_ends_2
def dkwX0_ends_0 : List UInt8 := [42, 27, 133, 182, 0, 155, 154, 0, 6, 16, 254, 172, 3, 61, 3, 62, 29, 42, 182, 0, 147, 162, 0, 34]
abbrev dktX0_ends_0 : List UInt8 := dkwX0_ends_0 ++ dktX0_ends_1
theorem dksX0_ends_0 : cX0_ends.data.toList.drop 0 = dktX0_ends_0 := by decide +kernel
theorem dksX0_ends_1 : cX0_ends.data.toList.drop 24 = dktX0_ends_1 := dk_seg dksX0_ends_0 24 rfl rfl
theorem dksX0_ends_2 : cX0_ends.data.toList.drop 48 = dktX0_ends_2 := dk_seg dksX0_ends_1 24 rfl rfl
theorem dX0_ends_0 : decode cX0_ends 0 = .ok (.aload_n 0, 1) := dk_42 (dk_at dksX0_ends_0 0 rfl rfl)
theorem dX0_ends_1 : decode cX0_ends 1 = .ok (.iload_n 1, 1) := dk_27 (dk_at dksX0_ends_0 1 rfl rfl)
theorem dX0_ends_2 : decode cX0_ends 2 = .ok (.i2l, 1) := dk_133 (dk_at dksX0_ends_0 2 rfl rfl)
theorem dX0_ends_3 : decode cX0_ends 3 = .ok (.invokevirtual 155, 3) := dk_182 0 155 (dk_at dksX0_ends_0 3 rfl rfl)
theorem dX0_ends_6 : decode cX0_ends 6 = .ok (.ifCond .ne 6, 3) := dk_154 0 6 (dk_at dksX0_ends_0 6 rfl rfl)
theorem dX0_ends_9 : decode cX0_ends 9 = .ok (.bipush (-2), 2) := dk_16 254 (dk_at dksX0_ends_0 9 rfl rfl)
theorem dX0_ends_11 : decode cX0_ends 11 = .ok (.ireturn, 1) := dk_172 (dk_at dksX0_ends_0 11 rfl rfl)
theorem dX0_ends_12 : decode cX0_ends 12 = .ok (.iconst 0, 1) := dk_3 (dk_at dksX0_ends_0 12 rfl rfl)
theorem dX0_ends_13 : decode cX0_ends 13 = .ok (.istore_n 2, 1) := dk_61 (dk_at dksX0_ends_0 13 rfl rfl)
theorem dX0_ends_14 : decode cX0_ends 14 = .ok (.iconst 0, 1) := dk_3 (dk_at dksX0_ends_0 14 rfl rfl)
theorem dX0_ends_15 : decode cX0_ends 15 = .ok (.istore_n 3, 1) := dk_62 (dk_at dksX0_ends_0 15 rfl rfl)
theorem dX0_ends_16 : decode cX0_ends 16 = .ok (.iload_n 3, 1) := dk_29 (dk_at dksX0_ends_0 16 rfl rfl)
theorem dX0_ends_17 : decode cX0_ends 17 = .ok (.aload_n 0, 1) := dk_42 (dk_at dksX0_ends_0 17 rfl rfl)
theorem dX0_ends_18 : decode cX0_ends 18 = .ok (.invokevirtual 147, 3) := dk_182 0 147 (dk_at dksX0_ends_0 18 rfl rfl)
theorem dX0_ends_21 : decode cX0_ends 21 = .ok (.if_icmp .ge 34, 3) := dk_162 0 34 (dk_at dksX0_ends_0 21 rfl rfl)
theorem dX0_ends_24 : decode cX0_ends 24 = .ok (.iload_n 2, 1) := dk_28 (dk_at dksX0_ends_1 0 rfl rfl)
theorem dX0_ends_25 : decode cX0_ends 25 = .ok (.aload_n 0, 1) := dk_42 (dk_at dksX0_ends_1 1 rfl rfl)
theorem dX0_ends_26 : decode cX0_ends 26 = .ok (.iload_n 3, 1) := dk_29 (dk_at dksX0_ends_1 2 rfl rfl)
theorem dX0_ends_27 : decode cX0_ends 27 = .ok (.iload_n 1, 1) := dk_27 (dk_at dksX0_ends_1 3 rfl rfl)
theorem dX0_ends_28 : decode cX0_ends 28 = .ok (.invokevirtual 203, 3) := dk_182 0 203 (dk_at dksX0_ends_1 4 rfl rfl)
theorem dX0_ends_31 : decode cX0_ends 31 = .ok (.bipush 10, 2) := dk_16 10 (dk_at dksX0_ends_1 7 rfl rfl)
theorem dX0_ends_33 : decode cX0_ends 33 = .ok (.invokevirtual 251, 3) := dk_182 0 251 (dk_at dksX0_ends_1 9 rfl rfl)
theorem dX0_ends_36 : decode cX0_ends 36 = .ok (.iconst (-1), 1) := dk_2 (dk_at dksX0_ends_1 12 rfl rfl)
theorem dX0_ends_37 : decode cX0_ends 37 = .ok (.if_icmp .eq 9, 3) := dk_159 0 9 (dk_at dksX0_ends_1 13 rfl rfl)
theorem dX0_ends_40 : decode cX0_ends 40 = .ok (.iconst 1, 1) := dk_4 (dk_at dksX0_ends_1 16 rfl rfl)
theorem dX0_ends_41 : decode cX0_ends 41 = .ok (.iload_n 3, 1) := dk_29 (dk_at dksX0_ends_1 17 rfl rfl)
theorem dX0_ends_42 : decode cX0_ends 42 = .ok (.ishl, 1) := dk_120 (dk_at dksX0_ends_1 18 rfl rfl)
theorem dX0_ends_43 : decode cX0_ends 43 = .ok (.goto 4, 3) := dk_167 0 4 (dk_at dksX0_ends_1 19 rfl rfl)
theorem dX0_ends_46 : decode cX0_ends 46 = .ok (.iconst 0, 1) := dk_3 (dk_at dksX0_ends_1 22 rfl rfl)
theorem dX0_ends_47 : decode cX0_ends 47 = .ok (.ior, 1) := dk_128 (dk_at dksX0_ends_1 23 rfl rfl)
theorem dX0_ends_48 : decode cX0_ends 48 = .ok (.istore_n 2, 1) := dk_61 (dk_at dksX0_ends_2 0 rfl rfl)
theorem dX0_ends_49 : decode cX0_ends 49 = .ok (.iinc 3 1, 3) := dk_132 3 1 (dk_at dksX0_ends_2 1 rfl rfl)
theorem dX0_ends_52 : decode cX0_ends 52 = .ok (.goto (-36), 3) := dk_167 255 220 (dk_at dksX0_ends_2 4 rfl rfl)
theorem dX0_ends_55 : decode cX0_ends 55 = .ok (.iload_n 2, 1) := dk_28 (dk_at dksX0_ends_2 7 rfl rfl)
theorem dX0_ends_56 : decode cX0_ends 56 = .ok (.ireturn, 1) := dk_172 (dk_at dksX0_ends_2 8 rfl rfl)
abbrev cX0_meet : ByteArray := prog_1_method_60_code
def yX0_meet : MethodName := ⟨RX0, "meet", "(II)I"⟩
def dkwX0_meet_3 : List UInt8 := [29, 172, 132, 3, 1, 167, 255, 210, 2, 172]
abbrev dktX0_meet_3 : List UInt8 := dkwX0_meet_3 ++ []
def dkwX0_meet_2 : List UInt8 := [162, 0, 26, 42, 180, 0, 75, 180, 0, 206, 29, 46, 42, 180, 0, 79, 180, 0, 206, 29, 46, 160, 0, 5]
abbrev dktX0_meet_2 : List UInt8 := dkwX0_meet_2 ++ dktX0_meet_3
def dkwX0_meet_1 : List UInt8 := [3, 182, 0, 193, 87, 3, 62, 29, 16, 60, 163, 0, 46, 42, 180, 0, 75, 180, 0, 206, 29, 46, 16, 10]
abbrev dktX0_meet_1 : List UInt8 := dkwX0_meet_1 ++ dktX0_meet_2
def dkwX0_meet_0 : List UInt8 := [42, 27, 28, 182, 0, 200, 154, 0, 6, 16, 254, 172, 42, 27, 3, 182, 0, 203, 87, 42, 180, 0, 79, 28]
abbrev dktX0_meet_0 : List UInt8 := dkwX0_meet_0 ++ dktX0_meet_1
theorem dksX0_meet_0 : cX0_meet.data.toList.drop 0 = dktX0_meet_0 := by decide +kernel
theorem dksX0_meet_1 : cX0_meet.data.toList.drop 24 = dktX0_meet_1 := dk_seg dksX0_meet_0 24 rfl rfl
theorem dksX0_meet_2 : cX0_meet.data.toList.drop 48 = dktX0_meet_2 := dk_seg dksX0_meet_1 24 rfl rfl
theorem dksX0_meet_3 : cX0_meet.data.toList.drop 72 = dktX0_meet_3 := dk_seg dksX0_meet_2 24 rfl rfl
theorem dX0_meet_0 : decode cX0_meet 0 = .ok (.aload_n 0, 1) := dk_42 (dk_at dksX0_meet_0 0 rfl rfl)
theorem dX0_meet_1 : decode cX0_meet 1 = .ok (.iload_n 1, 1) := dk_27 (dk_at dksX0_meet_0 1 rfl rfl)
theorem dX0_meet_2 : decode cX0_meet 2 = .ok (.iload_n 2, 1) := dk_28 (dk_at dksX0_meet_0 2 rfl rfl)
theorem dX0_meet_3 : decode cX0_meet 3 = .ok (.invokevirtual 200, 3) := dk_182 0 200 (dk_at dksX0_meet_0 3 rfl rfl)
theorem dX0_meet_6 : decode cX0_meet 6 = .ok (.ifCond .ne 6, 3) := dk_154 0 6 (dk_at dksX0_meet_0 6 rfl rfl)
theorem dX0_meet_9 : decode cX0_meet 9 = .ok (.bipush (-2), 2) := dk_16 254 (dk_at dksX0_meet_0 9 rfl rfl)
theorem dX0_meet_11 : decode cX0_meet 11 = .ok (.ireturn, 1) := dk_172 (dk_at dksX0_meet_0 11 rfl rfl)
theorem dX0_meet_12 : decode cX0_meet 12 = .ok (.aload_n 0, 1) := dk_42 (dk_at dksX0_meet_0 12 rfl rfl)
theorem dX0_meet_13 : decode cX0_meet 13 = .ok (.iload_n 1, 1) := dk_27 (dk_at dksX0_meet_0 13 rfl rfl)
theorem dX0_meet_14 : decode cX0_meet 14 = .ok (.iconst 0, 1) := dk_3 (dk_at dksX0_meet_0 14 rfl rfl)
theorem dX0_meet_15 : decode cX0_meet 15 = .ok (.invokevirtual 203, 3) := dk_182 0 203 (dk_at dksX0_meet_0 15 rfl rfl)
theorem dX0_meet_18 : decode cX0_meet 18 = .ok (.pop, 1) := dk_87 (dk_at dksX0_meet_0 18 rfl rfl)
theorem dX0_meet_19 : decode cX0_meet 19 = .ok (.aload_n 0, 1) := dk_42 (dk_at dksX0_meet_0 19 rfl rfl)
theorem dX0_meet_20 : decode cX0_meet 20 = .ok (.getfield 79, 3) := dk_180 0 79 (dk_at dksX0_meet_0 20 rfl rfl)
theorem dX0_meet_23 : decode cX0_meet 23 = .ok (.iload_n 2, 1) := dk_28 (dk_at dksX0_meet_0 23 rfl rfl)
theorem dX0_meet_24 : decode cX0_meet 24 = .ok (.iconst 0, 1) := dk_3 (dk_at dksX0_meet_1 0 rfl rfl)
theorem dX0_meet_25 : decode cX0_meet 25 = .ok (.invokevirtual 193, 3) := dk_182 0 193 (dk_at dksX0_meet_1 1 rfl rfl)
theorem dX0_meet_28 : decode cX0_meet 28 = .ok (.pop, 1) := dk_87 (dk_at dksX0_meet_1 4 rfl rfl)
theorem dX0_meet_29 : decode cX0_meet 29 = .ok (.iconst 0, 1) := dk_3 (dk_at dksX0_meet_1 5 rfl rfl)
theorem dX0_meet_30 : decode cX0_meet 30 = .ok (.istore_n 3, 1) := dk_62 (dk_at dksX0_meet_1 6 rfl rfl)
theorem dX0_meet_31 : decode cX0_meet 31 = .ok (.iload_n 3, 1) := dk_29 (dk_at dksX0_meet_1 7 rfl rfl)
theorem dX0_meet_32 : decode cX0_meet 32 = .ok (.bipush 60, 2) := dk_16 60 (dk_at dksX0_meet_1 8 rfl rfl)
theorem dX0_meet_34 : decode cX0_meet 34 = .ok (.if_icmp .gt 46, 3) := dk_163 0 46 (dk_at dksX0_meet_1 10 rfl rfl)
theorem dX0_meet_37 : decode cX0_meet 37 = .ok (.aload_n 0, 1) := dk_42 (dk_at dksX0_meet_1 13 rfl rfl)
theorem dX0_meet_38 : decode cX0_meet 38 = .ok (.getfield 75, 3) := dk_180 0 75 (dk_at dksX0_meet_1 14 rfl rfl)
theorem dX0_meet_41 : decode cX0_meet 41 = .ok (.getfield 206, 3) := dk_180 0 206 (dk_at dksX0_meet_1 17 rfl rfl)
theorem dX0_meet_44 : decode cX0_meet 44 = .ok (.iload_n 3, 1) := dk_29 (dk_at dksX0_meet_1 20 rfl rfl)
theorem dX0_meet_45 : decode cX0_meet 45 = .ok (.iaload, 1) := dk_46 (dk_at dksX0_meet_1 21 rfl rfl)
theorem dX0_meet_46 : decode cX0_meet 46 = .ok (.bipush 10, 2) := dk_16 10 (dk_at dksX0_meet_1 22 rfl rfl)
theorem dX0_meet_48 : decode cX0_meet 48 = .ok (.if_icmp .ge 26, 3) := dk_162 0 26 (dk_at dksX0_meet_2 0 rfl rfl)
theorem dX0_meet_51 : decode cX0_meet 51 = .ok (.aload_n 0, 1) := dk_42 (dk_at dksX0_meet_2 3 rfl rfl)
theorem dX0_meet_52 : decode cX0_meet 52 = .ok (.getfield 75, 3) := dk_180 0 75 (dk_at dksX0_meet_2 4 rfl rfl)
theorem dX0_meet_55 : decode cX0_meet 55 = .ok (.getfield 206, 3) := dk_180 0 206 (dk_at dksX0_meet_2 7 rfl rfl)
theorem dX0_meet_58 : decode cX0_meet 58 = .ok (.iload_n 3, 1) := dk_29 (dk_at dksX0_meet_2 10 rfl rfl)
theorem dX0_meet_59 : decode cX0_meet 59 = .ok (.iaload, 1) := dk_46 (dk_at dksX0_meet_2 11 rfl rfl)
theorem dX0_meet_60 : decode cX0_meet 60 = .ok (.aload_n 0, 1) := dk_42 (dk_at dksX0_meet_2 12 rfl rfl)
theorem dX0_meet_61 : decode cX0_meet 61 = .ok (.getfield 79, 3) := dk_180 0 79 (dk_at dksX0_meet_2 13 rfl rfl)
theorem dX0_meet_64 : decode cX0_meet 64 = .ok (.getfield 206, 3) := dk_180 0 206 (dk_at dksX0_meet_2 16 rfl rfl)
theorem dX0_meet_67 : decode cX0_meet 67 = .ok (.iload_n 3, 1) := dk_29 (dk_at dksX0_meet_2 19 rfl rfl)
theorem dX0_meet_68 : decode cX0_meet 68 = .ok (.iaload, 1) := dk_46 (dk_at dksX0_meet_2 20 rfl rfl)
theorem dX0_meet_69 : decode cX0_meet 69 = .ok (.if_icmp .ne 5, 3) := dk_160 0 5 (dk_at dksX0_meet_2 21 rfl rfl)
theorem dX0_meet_72 : decode cX0_meet 72 = .ok (.iload_n 3, 1) := dk_29 (dk_at dksX0_meet_3 0 rfl rfl)
theorem dX0_meet_73 : decode cX0_meet 73 = .ok (.ireturn, 1) := dk_172 (dk_at dksX0_meet_3 1 rfl rfl)
theorem dX0_meet_74 : decode cX0_meet 74 = .ok (.iinc 3 1, 3) := dk_132 3 1 (dk_at dksX0_meet_3 2 rfl rfl)
theorem dX0_meet_77 : decode cX0_meet 77 = .ok (.goto (-46), 3) := dk_167 255 210 (dk_at dksX0_meet_3 5 rfl rfl)
theorem dX0_meet_80 : decode cX0_meet 80 = .ok (.iconst (-1), 1) := dk_2 (dk_at dksX0_meet_3 8 rfl rfl)
theorem dX0_meet_81 : decode cX0_meet 81 = .ok (.ireturn, 1) := dk_172 (dk_at dksX0_meet_3 9 rfl rfl)
abbrev cX0_soon : ByteArray := prog_1_method_61_code
def yX0_soon : MethodName := ⟨RX0, "soon", "(II)I"⟩
def dkwX0_soon_3 : List UInt8 := [172]
abbrev dktX0_soon_3 : List UInt8 := dkwX0_soon_3 ++ []
def dkwX0_soon_2 : List UInt8 := [21, 6, 21, 4, 164, 0, 6, 167, 0, 10, 21, 5, 62, 21, 6, 54, 4, 132, 5, 1, 167, 255, 210, 29]
abbrev dktX0_soon_2 : List UInt8 := dkwX0_soon_2 ++ dktX0_soon_3
def dkwX0_soon_1 : List UInt8 := [16, 60, 163, 0, 45, 42, 27, 21, 5, 182, 0, 203, 28, 182, 0, 251, 54, 6, 21, 6, 2, 159, 0, 20]
abbrev dktX0_soon_1 : List UInt8 := dkwX0_soon_1 ++ dktX0_soon_2
def dkwX0_soon_0 : List UInt8 := [42, 27, 28, 182, 0, 200, 154, 0, 6, 16, 254, 172, 2, 62, 17, 3, 232, 54, 4, 3, 54, 5, 21, 5]
abbrev dktX0_soon_0 : List UInt8 := dkwX0_soon_0 ++ dktX0_soon_1
theorem dksX0_soon_0 : cX0_soon.data.toList.drop 0 = dktX0_soon_0 := by decide +kernel
theorem dksX0_soon_1 : cX0_soon.data.toList.drop 24 = dktX0_soon_1 := dk_seg dksX0_soon_0 24 rfl rfl
theorem dksX0_soon_2 : cX0_soon.data.toList.drop 48 = dktX0_soon_2 := dk_seg dksX0_soon_1 24 rfl rfl
theorem dksX0_soon_3 : cX0_soon.data.toList.drop 72 = dktX0_soon_3 := dk_seg dksX0_soon_2 24 rfl rfl
theorem dX0_soon_0 : decode cX0_soon 0 = .ok (.aload_n 0, 1) := dk_42 (dk_at dksX0_soon_0 0 rfl rfl)
theorem dX0_soon_1 : decode cX0_soon 1 = .ok (.iload_n 1, 1) := dk_27 (dk_at dksX0_soon_0 1 rfl rfl)
theorem dX0_soon_2 : decode cX0_soon 2 = .ok (.iload_n 2, 1) := dk_28 (dk_at dksX0_soon_0 2 rfl rfl)
theorem dX0_soon_3 : decode cX0_soon 3 = .ok (.invokevirtual 200, 3) := dk_182 0 200 (dk_at dksX0_soon_0 3 rfl rfl)
theorem dX0_soon_6 : decode cX0_soon 6 = .ok (.ifCond .ne 6, 3) := dk_154 0 6 (dk_at dksX0_soon_0 6 rfl rfl)
theorem dX0_soon_9 : decode cX0_soon 9 = .ok (.bipush (-2), 2) := dk_16 254 (dk_at dksX0_soon_0 9 rfl rfl)
theorem dX0_soon_11 : decode cX0_soon 11 = .ok (.ireturn, 1) := dk_172 (dk_at dksX0_soon_0 11 rfl rfl)
theorem dX0_soon_12 : decode cX0_soon 12 = .ok (.iconst (-1), 1) := dk_2 (dk_at dksX0_soon_0 12 rfl rfl)
theorem dX0_soon_13 : decode cX0_soon 13 = .ok (.istore_n 3, 1) := dk_62 (dk_at dksX0_soon_0 13 rfl rfl)
theorem dX0_soon_14 : decode cX0_soon 14 = .ok (.sipush 1000, 3) := dk_17 3 232 (dk_at dksX0_soon_0 14 rfl rfl)
theorem dX0_soon_17 : decode cX0_soon 17 = .ok (.istore 4, 2) := dk_54 4 (dk_at dksX0_soon_0 17 rfl rfl)
theorem dX0_soon_19 : decode cX0_soon 19 = .ok (.iconst 0, 1) := dk_3 (dk_at dksX0_soon_0 19 rfl rfl)
theorem dX0_soon_20 : decode cX0_soon 20 = .ok (.istore 5, 2) := dk_54 5 (dk_at dksX0_soon_0 20 rfl rfl)
theorem dX0_soon_22 : decode cX0_soon 22 = .ok (.iload 5, 2) := dk_21 5 (dk_at dksX0_soon_0 22 rfl rfl)
theorem dX0_soon_24 : decode cX0_soon 24 = .ok (.bipush 60, 2) := dk_16 60 (dk_at dksX0_soon_1 0 rfl rfl)
theorem dX0_soon_26 : decode cX0_soon 26 = .ok (.if_icmp .gt 45, 3) := dk_163 0 45 (dk_at dksX0_soon_1 2 rfl rfl)
theorem dX0_soon_29 : decode cX0_soon 29 = .ok (.aload_n 0, 1) := dk_42 (dk_at dksX0_soon_1 5 rfl rfl)
theorem dX0_soon_30 : decode cX0_soon 30 = .ok (.iload_n 1, 1) := dk_27 (dk_at dksX0_soon_1 6 rfl rfl)
theorem dX0_soon_31 : decode cX0_soon 31 = .ok (.iload 5, 2) := dk_21 5 (dk_at dksX0_soon_1 7 rfl rfl)
theorem dX0_soon_33 : decode cX0_soon 33 = .ok (.invokevirtual 203, 3) := dk_182 0 203 (dk_at dksX0_soon_1 9 rfl rfl)
theorem dX0_soon_36 : decode cX0_soon 36 = .ok (.iload_n 2, 1) := dk_28 (dk_at dksX0_soon_1 12 rfl rfl)
theorem dX0_soon_37 : decode cX0_soon 37 = .ok (.invokevirtual 251, 3) := dk_182 0 251 (dk_at dksX0_soon_1 13 rfl rfl)
theorem dX0_soon_40 : decode cX0_soon 40 = .ok (.istore 6, 2) := dk_54 6 (dk_at dksX0_soon_1 16 rfl rfl)
theorem dX0_soon_42 : decode cX0_soon 42 = .ok (.iload 6, 2) := dk_21 6 (dk_at dksX0_soon_1 18 rfl rfl)
theorem dX0_soon_44 : decode cX0_soon 44 = .ok (.iconst (-1), 1) := dk_2 (dk_at dksX0_soon_1 20 rfl rfl)
theorem dX0_soon_45 : decode cX0_soon 45 = .ok (.if_icmp .eq 20, 3) := dk_159 0 20 (dk_at dksX0_soon_1 21 rfl rfl)
theorem dX0_soon_48 : decode cX0_soon 48 = .ok (.iload 6, 2) := dk_21 6 (dk_at dksX0_soon_2 0 rfl rfl)
theorem dX0_soon_50 : decode cX0_soon 50 = .ok (.iload 4, 2) := dk_21 4 (dk_at dksX0_soon_2 2 rfl rfl)
theorem dX0_soon_52 : decode cX0_soon 52 = .ok (.if_icmp .le 6, 3) := dk_164 0 6 (dk_at dksX0_soon_2 4 rfl rfl)
theorem dX0_soon_55 : decode cX0_soon 55 = .ok (.goto 10, 3) := dk_167 0 10 (dk_at dksX0_soon_2 7 rfl rfl)
theorem dX0_soon_58 : decode cX0_soon 58 = .ok (.iload 5, 2) := dk_21 5 (dk_at dksX0_soon_2 10 rfl rfl)
theorem dX0_soon_60 : decode cX0_soon 60 = .ok (.istore_n 3, 1) := dk_62 (dk_at dksX0_soon_2 12 rfl rfl)
theorem dX0_soon_61 : decode cX0_soon 61 = .ok (.iload 6, 2) := dk_21 6 (dk_at dksX0_soon_2 13 rfl rfl)
theorem dX0_soon_63 : decode cX0_soon 63 = .ok (.istore 4, 2) := dk_54 4 (dk_at dksX0_soon_2 15 rfl rfl)
theorem dX0_soon_65 : decode cX0_soon 65 = .ok (.iinc 5 1, 3) := dk_132 5 1 (dk_at dksX0_soon_2 17 rfl rfl)
theorem dX0_soon_68 : decode cX0_soon 68 = .ok (.goto (-46), 3) := dk_167 255 210 (dk_at dksX0_soon_2 20 rfl rfl)
theorem dX0_soon_71 : decode cX0_soon 71 = .ok (.iload_n 3, 1) := dk_29 (dk_at dksX0_soon_2 23 rfl rfl)
theorem dX0_soon_72 : decode cX0_soon 72 = .ok (.ireturn, 1) := dk_172 (dk_at dksX0_soon_3 0 rfl rfl)
abbrev cX0_quick : ByteArray := prog_1_method_63_code
def yX0_quick : MethodName := ⟨RX0, "quick", "(II)I"⟩
def dkwX0_quick_0 : List UInt8 := [42, 27, 28, 182, 0, 200, 153, 0, 12, 42, 27, 28, 182, 1, 50, 167, 0, 5, 16, 254, 172]
abbrev dktX0_quick_0 : List UInt8 := dkwX0_quick_0 ++ []
theorem dksX0_quick_0 : cX0_quick.data.toList.drop 0 = dktX0_quick_0 := by decide +kernel
theorem dX0_quick_0 : decode cX0_quick 0 = .ok (.aload_n 0, 1) := dk_42 (dk_at dksX0_quick_0 0 rfl rfl)
theorem dX0_quick_1 : decode cX0_quick 1 = .ok (.iload_n 1, 1) := dk_27 (dk_at dksX0_quick_0 1 rfl rfl)
theorem dX0_quick_2 : decode cX0_quick 2 = .ok (.iload_n 2, 1) := dk_28 (dk_at dksX0_quick_0 2 rfl rfl)
theorem dX0_quick_3 : decode cX0_quick 3 = .ok (.invokevirtual 200, 3) := dk_182 0 200 (dk_at dksX0_quick_0 3 rfl rfl)
theorem dX0_quick_6 : decode cX0_quick 6 = .ok (.ifCond .eq 12, 3) := dk_153 0 12 (dk_at dksX0_quick_0 6 rfl rfl)
theorem dX0_quick_9 : decode cX0_quick 9 = .ok (.aload_n 0, 1) := dk_42 (dk_at dksX0_quick_0 9 rfl rfl)
theorem dX0_quick_10 : decode cX0_quick 10 = .ok (.iload_n 1, 1) := dk_27 (dk_at dksX0_quick_0 10 rfl rfl)
theorem dX0_quick_11 : decode cX0_quick 11 = .ok (.iload_n 2, 1) := dk_28 (dk_at dksX0_quick_0 11 rfl rfl)
theorem dX0_quick_12 : decode cX0_quick 12 = .ok (.invokevirtual 306, 3) := dk_182 1 50 (dk_at dksX0_quick_0 12 rfl rfl)
theorem dX0_quick_15 : decode cX0_quick 15 = .ok (.goto 5, 3) := dk_167 0 5 (dk_at dksX0_quick_0 15 rfl rfl)
theorem dX0_quick_18 : decode cX0_quick 18 = .ok (.bipush (-2), 2) := dk_16 254 (dk_at dksX0_quick_0 18 rfl rfl)
theorem dX0_quick_20 : decode cX0_quick 20 = .ok (.ireturn, 1) := dk_172 (dk_at dksX0_quick_0 20 rfl rfl)
abbrev cX0_quickOf : ByteArray := prog_1_method_62_code
def yX0_quickOf : MethodName := ⟨RX0, "quickOf", "(II)I"⟩
def dkwX0_quickOf_3 : List UInt8 := [180, 1, 47, 2, 160, 0, 7, 2, 167, 0, 4, 29, 172]
abbrev dktX0_quickOf_3 : List UInt8 := dkwX0_quickOf_3 ++ []
def dkwX0_quickOf_2 : List UInt8 := [167, 0, 15, 42, 21, 4, 181, 1, 47, 21, 5, 21, 4, 100, 62, 132, 4, 1, 167, 255, 203, 42]
abbrev dktX0_quickOf_2 : List UInt8 := dkwX0_quickOf_2 ++ dktX0_quickOf_3
def dkwX0_quickOf_1 : List UInt8 := [182, 0, 203, 28, 182, 0, 251, 54, 5, 21, 5, 2, 159, 0, 27, 21, 5, 21, 4, 100, 29, 161, 0, 6]
abbrev dktX0_quickOf_1 : List UInt8 := dkwX0_quickOf_1 ++ dktX0_quickOf_2
def dkwX0_quickOf_0 : List UInt8 := [42, 2, 181, 1, 47, 17, 3, 232, 62, 3, 54, 4, 21, 4, 16, 60, 163, 0, 52, 42, 27, 21, 4]
abbrev dktX0_quickOf_0 : List UInt8 := dkwX0_quickOf_0 ++ dktX0_quickOf_1
theorem dksX0_quickOf_0 : cX0_quickOf.data.toList.drop 0 = dktX0_quickOf_0 := by decide +kernel
theorem dksX0_quickOf_1 : cX0_quickOf.data.toList.drop 23 = dktX0_quickOf_1 := dk_seg dksX0_quickOf_0 23 rfl rfl
theorem dksX0_quickOf_2 : cX0_quickOf.data.toList.drop 47 = dktX0_quickOf_2 := dk_seg dksX0_quickOf_1 24 rfl rfl
theorem dksX0_quickOf_3 : cX0_quickOf.data.toList.drop 69 = dktX0_quickOf_3 := dk_seg dksX0_quickOf_2 22 rfl rfl
theorem dX0_quickOf_0 : decode cX0_quickOf 0 = .ok (.aload_n 0, 1) := dk_42 (dk_at dksX0_quickOf_0 0 rfl rfl)
theorem dX0_quickOf_1 : decode cX0_quickOf 1 = .ok (.iconst (-1), 1) := dk_2 (dk_at dksX0_quickOf_0 1 rfl rfl)
theorem dX0_quickOf_2 : decode cX0_quickOf 2 = .ok (.putfield 303, 3) := dk_181 1 47 (dk_at dksX0_quickOf_0 2 rfl rfl)
theorem dX0_quickOf_5 : decode cX0_quickOf 5 = .ok (.sipush 1000, 3) := dk_17 3 232 (dk_at dksX0_quickOf_0 5 rfl rfl)
theorem dX0_quickOf_8 : decode cX0_quickOf 8 = .ok (.istore_n 3, 1) := dk_62 (dk_at dksX0_quickOf_0 8 rfl rfl)
theorem dX0_quickOf_9 : decode cX0_quickOf 9 = .ok (.iconst 0, 1) := dk_3 (dk_at dksX0_quickOf_0 9 rfl rfl)
theorem dX0_quickOf_10 : decode cX0_quickOf 10 = .ok (.istore 4, 2) := dk_54 4 (dk_at dksX0_quickOf_0 10 rfl rfl)
theorem dX0_quickOf_12 : decode cX0_quickOf 12 = .ok (.iload 4, 2) := dk_21 4 (dk_at dksX0_quickOf_0 12 rfl rfl)
theorem dX0_quickOf_14 : decode cX0_quickOf 14 = .ok (.bipush 60, 2) := dk_16 60 (dk_at dksX0_quickOf_0 14 rfl rfl)
theorem dX0_quickOf_16 : decode cX0_quickOf 16 = .ok (.if_icmp .gt 52, 3) := dk_163 0 52 (dk_at dksX0_quickOf_0 16 rfl rfl)
theorem dX0_quickOf_19 : decode cX0_quickOf 19 = .ok (.aload_n 0, 1) := dk_42 (dk_at dksX0_quickOf_0 19 rfl rfl)
theorem dX0_quickOf_20 : decode cX0_quickOf 20 = .ok (.iload_n 1, 1) := dk_27 (dk_at dksX0_quickOf_0 20 rfl rfl)
theorem dX0_quickOf_21 : decode cX0_quickOf 21 = .ok (.iload 4, 2) := dk_21 4 (dk_at dksX0_quickOf_0 21 rfl rfl)
theorem dX0_quickOf_23 : decode cX0_quickOf 23 = .ok (.invokevirtual 203, 3) := dk_182 0 203 (dk_at dksX0_quickOf_1 0 rfl rfl)
theorem dX0_quickOf_26 : decode cX0_quickOf 26 = .ok (.iload_n 2, 1) := dk_28 (dk_at dksX0_quickOf_1 3 rfl rfl)
theorem dX0_quickOf_27 : decode cX0_quickOf 27 = .ok (.invokevirtual 251, 3) := dk_182 0 251 (dk_at dksX0_quickOf_1 4 rfl rfl)
theorem dX0_quickOf_30 : decode cX0_quickOf 30 = .ok (.istore 5, 2) := dk_54 5 (dk_at dksX0_quickOf_1 7 rfl rfl)
theorem dX0_quickOf_32 : decode cX0_quickOf 32 = .ok (.iload 5, 2) := dk_21 5 (dk_at dksX0_quickOf_1 9 rfl rfl)
theorem dX0_quickOf_34 : decode cX0_quickOf 34 = .ok (.iconst (-1), 1) := dk_2 (dk_at dksX0_quickOf_1 11 rfl rfl)
theorem dX0_quickOf_35 : decode cX0_quickOf 35 = .ok (.if_icmp .eq 27, 3) := dk_159 0 27 (dk_at dksX0_quickOf_1 12 rfl rfl)
theorem dX0_quickOf_38 : decode cX0_quickOf 38 = .ok (.iload 5, 2) := dk_21 5 (dk_at dksX0_quickOf_1 15 rfl rfl)
theorem dX0_quickOf_40 : decode cX0_quickOf 40 = .ok (.iload 4, 2) := dk_21 4 (dk_at dksX0_quickOf_1 17 rfl rfl)
theorem dX0_quickOf_42 : decode cX0_quickOf 42 = .ok (.isub, 1) := dk_100 (dk_at dksX0_quickOf_1 19 rfl rfl)
theorem dX0_quickOf_43 : decode cX0_quickOf 43 = .ok (.iload_n 3, 1) := dk_29 (dk_at dksX0_quickOf_1 20 rfl rfl)
theorem dX0_quickOf_44 : decode cX0_quickOf 44 = .ok (.if_icmp .lt 6, 3) := dk_161 0 6 (dk_at dksX0_quickOf_1 21 rfl rfl)
theorem dX0_quickOf_47 : decode cX0_quickOf 47 = .ok (.goto 15, 3) := dk_167 0 15 (dk_at dksX0_quickOf_2 0 rfl rfl)
theorem dX0_quickOf_50 : decode cX0_quickOf 50 = .ok (.aload_n 0, 1) := dk_42 (dk_at dksX0_quickOf_2 3 rfl rfl)
theorem dX0_quickOf_51 : decode cX0_quickOf 51 = .ok (.iload 4, 2) := dk_21 4 (dk_at dksX0_quickOf_2 4 rfl rfl)
theorem dX0_quickOf_53 : decode cX0_quickOf 53 = .ok (.putfield 303, 3) := dk_181 1 47 (dk_at dksX0_quickOf_2 6 rfl rfl)
theorem dX0_quickOf_56 : decode cX0_quickOf 56 = .ok (.iload 5, 2) := dk_21 5 (dk_at dksX0_quickOf_2 9 rfl rfl)
theorem dX0_quickOf_58 : decode cX0_quickOf 58 = .ok (.iload 4, 2) := dk_21 4 (dk_at dksX0_quickOf_2 11 rfl rfl)
theorem dX0_quickOf_60 : decode cX0_quickOf 60 = .ok (.isub, 1) := dk_100 (dk_at dksX0_quickOf_2 13 rfl rfl)
theorem dX0_quickOf_61 : decode cX0_quickOf 61 = .ok (.istore_n 3, 1) := dk_62 (dk_at dksX0_quickOf_2 14 rfl rfl)
theorem dX0_quickOf_62 : decode cX0_quickOf 62 = .ok (.iinc 4 1, 3) := dk_132 4 1 (dk_at dksX0_quickOf_2 15 rfl rfl)
theorem dX0_quickOf_65 : decode cX0_quickOf 65 = .ok (.goto (-53), 3) := dk_167 255 203 (dk_at dksX0_quickOf_2 18 rfl rfl)
theorem dX0_quickOf_68 : decode cX0_quickOf 68 = .ok (.aload_n 0, 1) := dk_42 (dk_at dksX0_quickOf_2 21 rfl rfl)
theorem dX0_quickOf_69 : decode cX0_quickOf 69 = .ok (.getfield 303, 3) := dk_180 1 47 (dk_at dksX0_quickOf_3 0 rfl rfl)
theorem dX0_quickOf_72 : decode cX0_quickOf 72 = .ok (.iconst (-1), 1) := dk_2 (dk_at dksX0_quickOf_3 3 rfl rfl)
theorem dX0_quickOf_73 : decode cX0_quickOf 73 = .ok (.if_icmp .ne 7, 3) := dk_160 0 7 (dk_at dksX0_quickOf_3 4 rfl rfl)
theorem dX0_quickOf_76 : decode cX0_quickOf 76 = .ok (.iconst (-1), 1) := dk_2 (dk_at dksX0_quickOf_3 7 rfl rfl)
theorem dX0_quickOf_77 : decode cX0_quickOf 77 = .ok (.goto 4, 3) := dk_167 0 4 (dk_at dksX0_quickOf_3 8 rfl rfl)
theorem dX0_quickOf_80 : decode cX0_quickOf 80 = .ok (.iload_n 3, 1) := dk_29 (dk_at dksX0_quickOf_3 11 rfl rfl)
theorem dX0_quickOf_81 : decode cX0_quickOf 81 = .ok (.ireturn, 1) := dk_172 (dk_at dksX0_quickOf_3 12 rfl rfl)
abbrev cX0_quickly : ByteArray := prog_1_method_64_code
def yX0_quickly : MethodName := ⟨RX0, "quickly", "(II)I"⟩
def dkwX0_quickly_0 : List UInt8 := [42, 27, 28, 182, 0, 200, 154, 0, 6, 16, 254, 172, 42, 27, 28, 182, 1, 50, 87, 42, 180, 1, 47, 172]
abbrev dktX0_quickly_0 : List UInt8 := dkwX0_quickly_0 ++ []
theorem dksX0_quickly_0 : cX0_quickly.data.toList.drop 0 = dktX0_quickly_0 := by decide +kernel
theorem dX0_quickly_0 : decode cX0_quickly 0 = .ok (.aload_n 0, 1) := dk_42 (dk_at dksX0_quickly_0 0 rfl rfl)
theorem dX0_quickly_1 : decode cX0_quickly 1 = .ok (.iload_n 1, 1) := dk_27 (dk_at dksX0_quickly_0 1 rfl rfl)
theorem dX0_quickly_2 : decode cX0_quickly 2 = .ok (.iload_n 2, 1) := dk_28 (dk_at dksX0_quickly_0 2 rfl rfl)
theorem dX0_quickly_3 : decode cX0_quickly 3 = .ok (.invokevirtual 200, 3) := dk_182 0 200 (dk_at dksX0_quickly_0 3 rfl rfl)
theorem dX0_quickly_6 : decode cX0_quickly 6 = .ok (.ifCond .ne 6, 3) := dk_154 0 6 (dk_at dksX0_quickly_0 6 rfl rfl)
theorem dX0_quickly_9 : decode cX0_quickly 9 = .ok (.bipush (-2), 2) := dk_16 254 (dk_at dksX0_quickly_0 9 rfl rfl)
theorem dX0_quickly_11 : decode cX0_quickly 11 = .ok (.ireturn, 1) := dk_172 (dk_at dksX0_quickly_0 11 rfl rfl)
theorem dX0_quickly_12 : decode cX0_quickly 12 = .ok (.aload_n 0, 1) := dk_42 (dk_at dksX0_quickly_0 12 rfl rfl)
theorem dX0_quickly_13 : decode cX0_quickly 13 = .ok (.iload_n 1, 1) := dk_27 (dk_at dksX0_quickly_0 13 rfl rfl)
theorem dX0_quickly_14 : decode cX0_quickly 14 = .ok (.iload_n 2, 1) := dk_28 (dk_at dksX0_quickly_0 14 rfl rfl)
theorem dX0_quickly_15 : decode cX0_quickly 15 = .ok (.invokevirtual 306, 3) := dk_182 1 50 (dk_at dksX0_quickly_0 15 rfl rfl)
theorem dX0_quickly_18 : decode cX0_quickly 18 = .ok (.pop, 1) := dk_87 (dk_at dksX0_quickly_0 18 rfl rfl)
theorem dX0_quickly_19 : decode cX0_quickly 19 = .ok (.aload_n 0, 1) := dk_42 (dk_at dksX0_quickly_0 19 rfl rfl)
theorem dX0_quickly_20 : decode cX0_quickly 20 = .ok (.getfield 303, 3) := dk_180 1 47 (dk_at dksX0_quickly_0 20 rfl rfl)
theorem dX0_quickly_23 : decode cX0_quickly 23 = .ok (.ireturn, 1) := dk_172 (dk_at dksX0_quickly_0 23 rfl rfl)
abbrev cX0_late : ByteArray := prog_1_method_65_code
def yX0_late : MethodName := ⟨RX0, "late", "(III)I"⟩
def dkwX0_late_2 : List UInt8 := [132, 4, 255, 167, 255, 229, 2, 172]
abbrev dktX0_late_2 : List UInt8 := dkwX0_late_2 ++ []
def dkwX0_late_1 : List UInt8 := [21, 4, 155, 0, 28, 42, 27, 21, 4, 182, 0, 203, 180, 0, 206, 29, 46, 28, 160, 0, 6, 21, 4, 172]
abbrev dktX0_late_1 : List UInt8 := dkwX0_late_1 ++ dktX0_late_2
def dkwX0_late_0 : List UInt8 := [42, 27, 28, 182, 0, 200, 153, 0, 12, 42, 29, 133, 182, 0, 155, 154, 0, 6, 16, 254, 172, 29, 54, 4]
abbrev dktX0_late_0 : List UInt8 := dkwX0_late_0 ++ dktX0_late_1
theorem dksX0_late_0 : cX0_late.data.toList.drop 0 = dktX0_late_0 := by decide +kernel
theorem dksX0_late_1 : cX0_late.data.toList.drop 24 = dktX0_late_1 := dk_seg dksX0_late_0 24 rfl rfl
theorem dksX0_late_2 : cX0_late.data.toList.drop 48 = dktX0_late_2 := dk_seg dksX0_late_1 24 rfl rfl
theorem dX0_late_0 : decode cX0_late 0 = .ok (.aload_n 0, 1) := dk_42 (dk_at dksX0_late_0 0 rfl rfl)
theorem dX0_late_1 : decode cX0_late 1 = .ok (.iload_n 1, 1) := dk_27 (dk_at dksX0_late_0 1 rfl rfl)
theorem dX0_late_2 : decode cX0_late 2 = .ok (.iload_n 2, 1) := dk_28 (dk_at dksX0_late_0 2 rfl rfl)
theorem dX0_late_3 : decode cX0_late 3 = .ok (.invokevirtual 200, 3) := dk_182 0 200 (dk_at dksX0_late_0 3 rfl rfl)
theorem dX0_late_6 : decode cX0_late 6 = .ok (.ifCond .eq 12, 3) := dk_153 0 12 (dk_at dksX0_late_0 6 rfl rfl)
theorem dX0_late_9 : decode cX0_late 9 = .ok (.aload_n 0, 1) := dk_42 (dk_at dksX0_late_0 9 rfl rfl)
theorem dX0_late_10 : decode cX0_late 10 = .ok (.iload_n 3, 1) := dk_29 (dk_at dksX0_late_0 10 rfl rfl)
theorem dX0_late_11 : decode cX0_late 11 = .ok (.i2l, 1) := dk_133 (dk_at dksX0_late_0 11 rfl rfl)
theorem dX0_late_12 : decode cX0_late 12 = .ok (.invokevirtual 155, 3) := dk_182 0 155 (dk_at dksX0_late_0 12 rfl rfl)
theorem dX0_late_15 : decode cX0_late 15 = .ok (.ifCond .ne 6, 3) := dk_154 0 6 (dk_at dksX0_late_0 15 rfl rfl)
theorem dX0_late_18 : decode cX0_late 18 = .ok (.bipush (-2), 2) := dk_16 254 (dk_at dksX0_late_0 18 rfl rfl)
theorem dX0_late_20 : decode cX0_late 20 = .ok (.ireturn, 1) := dk_172 (dk_at dksX0_late_0 20 rfl rfl)
theorem dX0_late_21 : decode cX0_late 21 = .ok (.iload_n 3, 1) := dk_29 (dk_at dksX0_late_0 21 rfl rfl)
theorem dX0_late_22 : decode cX0_late 22 = .ok (.istore 4, 2) := dk_54 4 (dk_at dksX0_late_0 22 rfl rfl)
theorem dX0_late_24 : decode cX0_late 24 = .ok (.iload 4, 2) := dk_21 4 (dk_at dksX0_late_1 0 rfl rfl)
theorem dX0_late_26 : decode cX0_late 26 = .ok (.ifCond .lt 28, 3) := dk_155 0 28 (dk_at dksX0_late_1 2 rfl rfl)
theorem dX0_late_29 : decode cX0_late 29 = .ok (.aload_n 0, 1) := dk_42 (dk_at dksX0_late_1 5 rfl rfl)
theorem dX0_late_30 : decode cX0_late 30 = .ok (.iload_n 1, 1) := dk_27 (dk_at dksX0_late_1 6 rfl rfl)
theorem dX0_late_31 : decode cX0_late 31 = .ok (.iload 4, 2) := dk_21 4 (dk_at dksX0_late_1 7 rfl rfl)
theorem dX0_late_33 : decode cX0_late 33 = .ok (.invokevirtual 203, 3) := dk_182 0 203 (dk_at dksX0_late_1 9 rfl rfl)
theorem dX0_late_36 : decode cX0_late 36 = .ok (.getfield 206, 3) := dk_180 0 206 (dk_at dksX0_late_1 12 rfl rfl)
theorem dX0_late_39 : decode cX0_late 39 = .ok (.iload_n 3, 1) := dk_29 (dk_at dksX0_late_1 15 rfl rfl)
theorem dX0_late_40 : decode cX0_late 40 = .ok (.iaload, 1) := dk_46 (dk_at dksX0_late_1 16 rfl rfl)
theorem dX0_late_41 : decode cX0_late 41 = .ok (.iload_n 2, 1) := dk_28 (dk_at dksX0_late_1 17 rfl rfl)
theorem dX0_late_42 : decode cX0_late 42 = .ok (.if_icmp .ne 6, 3) := dk_160 0 6 (dk_at dksX0_late_1 18 rfl rfl)
theorem dX0_late_45 : decode cX0_late 45 = .ok (.iload 4, 2) := dk_21 4 (dk_at dksX0_late_1 21 rfl rfl)
theorem dX0_late_47 : decode cX0_late 47 = .ok (.ireturn, 1) := dk_172 (dk_at dksX0_late_1 23 rfl rfl)
theorem dX0_late_48 : decode cX0_late 48 = .ok (.iinc 4 (-1), 3) := dk_132 4 255 (dk_at dksX0_late_2 0 rfl rfl)
theorem dX0_late_51 : decode cX0_late 51 = .ok (.goto (-27), 3) := dk_167 255 229 (dk_at dksX0_late_2 3 rfl rfl)
theorem dX0_late_54 : decode cX0_late 54 = .ok (.iconst (-1), 1) := dk_2 (dk_at dksX0_late_2 6 rfl rfl)
theorem dX0_late_55 : decode cX0_late 55 = .ok (.ireturn, 1) := dk_172 (dk_at dksX0_late_2 7 rfl rfl)
abbrev cX0_often : ByteArray := prog_1_method_66_code
def yX0_often : MethodName := ⟨RX0, "often", "(II)I"⟩
def dkwX0_often_2 : List UInt8 := [132, 4, 1, 167, 255, 223, 29, 172]
abbrev dktX0_often_2 : List UInt8 := dkwX0_often_2 ++ []
def dkwX0_often_1 : List UInt8 := [29, 42, 27, 21, 4, 182, 0, 203, 28, 182, 0, 251, 2, 160, 0, 7, 3, 167, 0, 4, 4, 96, 62]
abbrev dktX0_often_1 : List UInt8 := dkwX0_often_1 ++ dktX0_often_2
def dkwX0_often_0 : List UInt8 := [42, 27, 28, 182, 0, 200, 154, 0, 6, 16, 254, 172, 3, 62, 3, 54, 4, 21, 4, 16, 60, 163, 0, 32]
abbrev dktX0_often_0 : List UInt8 := dkwX0_often_0 ++ dktX0_often_1
theorem dksX0_often_0 : cX0_often.data.toList.drop 0 = dktX0_often_0 := by decide +kernel
theorem dksX0_often_1 : cX0_often.data.toList.drop 24 = dktX0_often_1 := dk_seg dksX0_often_0 24 rfl rfl
theorem dksX0_often_2 : cX0_often.data.toList.drop 47 = dktX0_often_2 := dk_seg dksX0_often_1 23 rfl rfl
theorem dX0_often_0 : decode cX0_often 0 = .ok (.aload_n 0, 1) := dk_42 (dk_at dksX0_often_0 0 rfl rfl)
theorem dX0_often_1 : decode cX0_often 1 = .ok (.iload_n 1, 1) := dk_27 (dk_at dksX0_often_0 1 rfl rfl)
theorem dX0_often_2 : decode cX0_often 2 = .ok (.iload_n 2, 1) := dk_28 (dk_at dksX0_often_0 2 rfl rfl)
theorem dX0_often_3 : decode cX0_often 3 = .ok (.invokevirtual 200, 3) := dk_182 0 200 (dk_at dksX0_often_0 3 rfl rfl)
theorem dX0_often_6 : decode cX0_often 6 = .ok (.ifCond .ne 6, 3) := dk_154 0 6 (dk_at dksX0_often_0 6 rfl rfl)
theorem dX0_often_9 : decode cX0_often 9 = .ok (.bipush (-2), 2) := dk_16 254 (dk_at dksX0_often_0 9 rfl rfl)
theorem dX0_often_11 : decode cX0_often 11 = .ok (.ireturn, 1) := dk_172 (dk_at dksX0_often_0 11 rfl rfl)
theorem dX0_often_12 : decode cX0_often 12 = .ok (.iconst 0, 1) := dk_3 (dk_at dksX0_often_0 12 rfl rfl)
theorem dX0_often_13 : decode cX0_often 13 = .ok (.istore_n 3, 1) := dk_62 (dk_at dksX0_often_0 13 rfl rfl)
theorem dX0_often_14 : decode cX0_often 14 = .ok (.iconst 0, 1) := dk_3 (dk_at dksX0_often_0 14 rfl rfl)
theorem dX0_often_15 : decode cX0_often 15 = .ok (.istore 4, 2) := dk_54 4 (dk_at dksX0_often_0 15 rfl rfl)
theorem dX0_often_17 : decode cX0_often 17 = .ok (.iload 4, 2) := dk_21 4 (dk_at dksX0_often_0 17 rfl rfl)
theorem dX0_often_19 : decode cX0_often 19 = .ok (.bipush 60, 2) := dk_16 60 (dk_at dksX0_often_0 19 rfl rfl)
theorem dX0_often_21 : decode cX0_often 21 = .ok (.if_icmp .gt 32, 3) := dk_163 0 32 (dk_at dksX0_often_0 21 rfl rfl)
theorem dX0_often_24 : decode cX0_often 24 = .ok (.iload_n 3, 1) := dk_29 (dk_at dksX0_often_1 0 rfl rfl)
theorem dX0_often_25 : decode cX0_often 25 = .ok (.aload_n 0, 1) := dk_42 (dk_at dksX0_often_1 1 rfl rfl)
theorem dX0_often_26 : decode cX0_often 26 = .ok (.iload_n 1, 1) := dk_27 (dk_at dksX0_often_1 2 rfl rfl)
theorem dX0_often_27 : decode cX0_often 27 = .ok (.iload 4, 2) := dk_21 4 (dk_at dksX0_often_1 3 rfl rfl)
theorem dX0_often_29 : decode cX0_often 29 = .ok (.invokevirtual 203, 3) := dk_182 0 203 (dk_at dksX0_often_1 5 rfl rfl)
theorem dX0_often_32 : decode cX0_often 32 = .ok (.iload_n 2, 1) := dk_28 (dk_at dksX0_often_1 8 rfl rfl)
theorem dX0_often_33 : decode cX0_often 33 = .ok (.invokevirtual 251, 3) := dk_182 0 251 (dk_at dksX0_often_1 9 rfl rfl)
theorem dX0_often_36 : decode cX0_often 36 = .ok (.iconst (-1), 1) := dk_2 (dk_at dksX0_often_1 12 rfl rfl)
theorem dX0_often_37 : decode cX0_often 37 = .ok (.if_icmp .ne 7, 3) := dk_160 0 7 (dk_at dksX0_often_1 13 rfl rfl)
theorem dX0_often_40 : decode cX0_often 40 = .ok (.iconst 0, 1) := dk_3 (dk_at dksX0_often_1 16 rfl rfl)
theorem dX0_often_41 : decode cX0_often 41 = .ok (.goto 4, 3) := dk_167 0 4 (dk_at dksX0_often_1 17 rfl rfl)
theorem dX0_often_44 : decode cX0_often 44 = .ok (.iconst 1, 1) := dk_4 (dk_at dksX0_often_1 20 rfl rfl)
theorem dX0_often_45 : decode cX0_often 45 = .ok (.iadd, 1) := dk_96 (dk_at dksX0_often_1 21 rfl rfl)
theorem dX0_often_46 : decode cX0_often 46 = .ok (.istore_n 3, 1) := dk_62 (dk_at dksX0_often_1 22 rfl rfl)
theorem dX0_often_47 : decode cX0_often 47 = .ok (.iinc 4 1, 3) := dk_132 4 1 (dk_at dksX0_often_2 0 rfl rfl)
theorem dX0_often_50 : decode cX0_often 50 = .ok (.goto (-33), 3) := dk_167 255 223 (dk_at dksX0_often_2 3 rfl rfl)
theorem dX0_often_53 : decode cX0_often 53 = .ok (.iload_n 3, 1) := dk_29 (dk_at dksX0_often_2 6 rfl rfl)
theorem dX0_often_54 : decode cX0_often 54 = .ok (.ireturn, 1) := dk_172 (dk_at dksX0_often_2 7 rfl rfl)
abbrev cX0_stop : ByteArray := prog_1_method_69_code
def yX0_stop : MethodName := ⟨RX0, "stop", "(II)I"⟩
def dkwX0_stop_1 : List UInt8 := [2, 167, 0, 7, 29, 184, 0, 212, 172]
abbrev dktX0_stop_1 : List UInt8 := dkwX0_stop_1 ++ []
def dkwX0_stop_0 : List UInt8 := [42, 27, 28, 182, 0, 200, 154, 0, 6, 16, 254, 172, 42, 27, 28, 182, 1, 60, 62, 29, 2, 160, 0, 7]
abbrev dktX0_stop_0 : List UInt8 := dkwX0_stop_0 ++ dktX0_stop_1
theorem dksX0_stop_0 : cX0_stop.data.toList.drop 0 = dktX0_stop_0 := by decide +kernel
theorem dksX0_stop_1 : cX0_stop.data.toList.drop 24 = dktX0_stop_1 := dk_seg dksX0_stop_0 24 rfl rfl
theorem dX0_stop_0 : decode cX0_stop 0 = .ok (.aload_n 0, 1) := dk_42 (dk_at dksX0_stop_0 0 rfl rfl)
theorem dX0_stop_1 : decode cX0_stop 1 = .ok (.iload_n 1, 1) := dk_27 (dk_at dksX0_stop_0 1 rfl rfl)
theorem dX0_stop_2 : decode cX0_stop 2 = .ok (.iload_n 2, 1) := dk_28 (dk_at dksX0_stop_0 2 rfl rfl)
theorem dX0_stop_3 : decode cX0_stop 3 = .ok (.invokevirtual 200, 3) := dk_182 0 200 (dk_at dksX0_stop_0 3 rfl rfl)
theorem dX0_stop_6 : decode cX0_stop 6 = .ok (.ifCond .ne 6, 3) := dk_154 0 6 (dk_at dksX0_stop_0 6 rfl rfl)
theorem dX0_stop_9 : decode cX0_stop 9 = .ok (.bipush (-2), 2) := dk_16 254 (dk_at dksX0_stop_0 9 rfl rfl)
theorem dX0_stop_11 : decode cX0_stop 11 = .ok (.ireturn, 1) := dk_172 (dk_at dksX0_stop_0 11 rfl rfl)
theorem dX0_stop_12 : decode cX0_stop 12 = .ok (.aload_n 0, 1) := dk_42 (dk_at dksX0_stop_0 12 rfl rfl)
theorem dX0_stop_13 : decode cX0_stop 13 = .ok (.iload_n 1, 1) := dk_27 (dk_at dksX0_stop_0 13 rfl rfl)
theorem dX0_stop_14 : decode cX0_stop 14 = .ok (.iload_n 2, 1) := dk_28 (dk_at dksX0_stop_0 14 rfl rfl)
theorem dX0_stop_15 : decode cX0_stop 15 = .ok (.invokevirtual 316, 3) := dk_182 1 60 (dk_at dksX0_stop_0 15 rfl rfl)
theorem dX0_stop_18 : decode cX0_stop 18 = .ok (.istore_n 3, 1) := dk_62 (dk_at dksX0_stop_0 18 rfl rfl)
theorem dX0_stop_19 : decode cX0_stop 19 = .ok (.iload_n 3, 1) := dk_29 (dk_at dksX0_stop_0 19 rfl rfl)
theorem dX0_stop_20 : decode cX0_stop 20 = .ok (.iconst (-1), 1) := dk_2 (dk_at dksX0_stop_0 20 rfl rfl)
theorem dX0_stop_21 : decode cX0_stop 21 = .ok (.if_icmp .ne 7, 3) := dk_160 0 7 (dk_at dksX0_stop_0 21 rfl rfl)
theorem dX0_stop_24 : decode cX0_stop 24 = .ok (.iconst (-1), 1) := dk_2 (dk_at dksX0_stop_1 0 rfl rfl)
theorem dX0_stop_25 : decode cX0_stop 25 = .ok (.goto 7, 3) := dk_167 0 7 (dk_at dksX0_stop_1 1 rfl rfl)
theorem dX0_stop_28 : decode cX0_stop 28 = .ok (.iload_n 3, 1) := dk_29 (dk_at dksX0_stop_1 4 rfl rfl)
theorem dX0_stop_29 : decode cX0_stop 29 = .ok (.invokestatic 212, 3) := dk_184 0 212 (dk_at dksX0_stop_1 5 rfl rfl)
theorem dX0_stop_32 : decode cX0_stop 32 = .ok (.ireturn, 1) := dk_172 (dk_at dksX0_stop_1 8 rfl rfl)
abbrev cX0_stopsOf : ByteArray := prog_1_method_68_code
def yX0_stopsOf : MethodName := ⟨RX0, "stopsOf", "(II)I"⟩
def dkwX0_stopsOf_3 : List UInt8 := [132, 4, 1, 167, 255, 190, 29, 172]
abbrev dktX0_stopsOf_3 : List UInt8 := dkwX0_stopsOf_3 ++ []
def dkwX0_stopsOf_2 : List UInt8 := [184, 0, 212, 161, 0, 6, 167, 0, 17, 42, 21, 4, 27, 28, 182, 1, 56, 153, 0, 6, 21, 4, 62]
abbrev dktX0_stopsOf_2 : List UInt8 := dkwX0_stopsOf_2 ++ dktX0_stopsOf_3
def dkwX0_stopsOf_1 : List UInt8 := [154, 0, 46, 21, 4, 28, 184, 0, 237, 154, 0, 37, 29, 2, 159, 0, 18, 21, 4, 184, 0, 212, 29]
abbrev dktX0_stopsOf_1 : List UInt8 := dkwX0_stopsOf_1 ++ dktX0_stopsOf_2
def dkwX0_stopsOf_0 : List UInt8 := [2, 62, 3, 54, 4, 21, 4, 4, 42, 182, 0, 147, 120, 162, 0, 61, 21, 4, 27, 184, 0, 237]
abbrev dktX0_stopsOf_0 : List UInt8 := dkwX0_stopsOf_0 ++ dktX0_stopsOf_1
theorem dksX0_stopsOf_0 : cX0_stopsOf.data.toList.drop 0 = dktX0_stopsOf_0 := by decide +kernel
theorem dksX0_stopsOf_1 : cX0_stopsOf.data.toList.drop 22 = dktX0_stopsOf_1 := dk_seg dksX0_stopsOf_0 22 rfl rfl
theorem dksX0_stopsOf_2 : cX0_stopsOf.data.toList.drop 45 = dktX0_stopsOf_2 := dk_seg dksX0_stopsOf_1 23 rfl rfl
theorem dksX0_stopsOf_3 : cX0_stopsOf.data.toList.drop 68 = dktX0_stopsOf_3 := dk_seg dksX0_stopsOf_2 23 rfl rfl
theorem dX0_stopsOf_0 : decode cX0_stopsOf 0 = .ok (.iconst (-1), 1) := dk_2 (dk_at dksX0_stopsOf_0 0 rfl rfl)
theorem dX0_stopsOf_1 : decode cX0_stopsOf 1 = .ok (.istore_n 3, 1) := dk_62 (dk_at dksX0_stopsOf_0 1 rfl rfl)
theorem dX0_stopsOf_2 : decode cX0_stopsOf 2 = .ok (.iconst 0, 1) := dk_3 (dk_at dksX0_stopsOf_0 2 rfl rfl)
theorem dX0_stopsOf_3 : decode cX0_stopsOf 3 = .ok (.istore 4, 2) := dk_54 4 (dk_at dksX0_stopsOf_0 3 rfl rfl)
theorem dX0_stopsOf_5 : decode cX0_stopsOf 5 = .ok (.iload 4, 2) := dk_21 4 (dk_at dksX0_stopsOf_0 5 rfl rfl)
theorem dX0_stopsOf_7 : decode cX0_stopsOf 7 = .ok (.iconst 1, 1) := dk_4 (dk_at dksX0_stopsOf_0 7 rfl rfl)
theorem dX0_stopsOf_8 : decode cX0_stopsOf 8 = .ok (.aload_n 0, 1) := dk_42 (dk_at dksX0_stopsOf_0 8 rfl rfl)
theorem dX0_stopsOf_9 : decode cX0_stopsOf 9 = .ok (.invokevirtual 147, 3) := dk_182 0 147 (dk_at dksX0_stopsOf_0 9 rfl rfl)
theorem dX0_stopsOf_12 : decode cX0_stopsOf 12 = .ok (.ishl, 1) := dk_120 (dk_at dksX0_stopsOf_0 12 rfl rfl)
theorem dX0_stopsOf_13 : decode cX0_stopsOf 13 = .ok (.if_icmp .ge 61, 3) := dk_162 0 61 (dk_at dksX0_stopsOf_0 13 rfl rfl)
theorem dX0_stopsOf_16 : decode cX0_stopsOf 16 = .ok (.iload 4, 2) := dk_21 4 (dk_at dksX0_stopsOf_0 16 rfl rfl)
theorem dX0_stopsOf_18 : decode cX0_stopsOf 18 = .ok (.iload_n 1, 1) := dk_27 (dk_at dksX0_stopsOf_0 18 rfl rfl)
theorem dX0_stopsOf_19 : decode cX0_stopsOf 19 = .ok (.invokestatic 237, 3) := dk_184 0 237 (dk_at dksX0_stopsOf_0 19 rfl rfl)
theorem dX0_stopsOf_22 : decode cX0_stopsOf 22 = .ok (.ifCond .ne 46, 3) := dk_154 0 46 (dk_at dksX0_stopsOf_1 0 rfl rfl)
theorem dX0_stopsOf_25 : decode cX0_stopsOf 25 = .ok (.iload 4, 2) := dk_21 4 (dk_at dksX0_stopsOf_1 3 rfl rfl)
theorem dX0_stopsOf_27 : decode cX0_stopsOf 27 = .ok (.iload_n 2, 1) := dk_28 (dk_at dksX0_stopsOf_1 5 rfl rfl)
theorem dX0_stopsOf_28 : decode cX0_stopsOf 28 = .ok (.invokestatic 237, 3) := dk_184 0 237 (dk_at dksX0_stopsOf_1 6 rfl rfl)
theorem dX0_stopsOf_31 : decode cX0_stopsOf 31 = .ok (.ifCond .ne 37, 3) := dk_154 0 37 (dk_at dksX0_stopsOf_1 9 rfl rfl)
theorem dX0_stopsOf_34 : decode cX0_stopsOf 34 = .ok (.iload_n 3, 1) := dk_29 (dk_at dksX0_stopsOf_1 12 rfl rfl)
theorem dX0_stopsOf_35 : decode cX0_stopsOf 35 = .ok (.iconst (-1), 1) := dk_2 (dk_at dksX0_stopsOf_1 13 rfl rfl)
theorem dX0_stopsOf_36 : decode cX0_stopsOf 36 = .ok (.if_icmp .eq 18, 3) := dk_159 0 18 (dk_at dksX0_stopsOf_1 14 rfl rfl)
theorem dX0_stopsOf_39 : decode cX0_stopsOf 39 = .ok (.iload 4, 2) := dk_21 4 (dk_at dksX0_stopsOf_1 17 rfl rfl)
theorem dX0_stopsOf_41 : decode cX0_stopsOf 41 = .ok (.invokestatic 212, 3) := dk_184 0 212 (dk_at dksX0_stopsOf_1 19 rfl rfl)
theorem dX0_stopsOf_44 : decode cX0_stopsOf 44 = .ok (.iload_n 3, 1) := dk_29 (dk_at dksX0_stopsOf_1 22 rfl rfl)
theorem dX0_stopsOf_45 : decode cX0_stopsOf 45 = .ok (.invokestatic 212, 3) := dk_184 0 212 (dk_at dksX0_stopsOf_2 0 rfl rfl)
theorem dX0_stopsOf_48 : decode cX0_stopsOf 48 = .ok (.if_icmp .lt 6, 3) := dk_161 0 6 (dk_at dksX0_stopsOf_2 3 rfl rfl)
theorem dX0_stopsOf_51 : decode cX0_stopsOf 51 = .ok (.goto 17, 3) := dk_167 0 17 (dk_at dksX0_stopsOf_2 6 rfl rfl)
theorem dX0_stopsOf_54 : decode cX0_stopsOf 54 = .ok (.aload_n 0, 1) := dk_42 (dk_at dksX0_stopsOf_2 9 rfl rfl)
theorem dX0_stopsOf_55 : decode cX0_stopsOf 55 = .ok (.iload 4, 2) := dk_21 4 (dk_at dksX0_stopsOf_2 10 rfl rfl)
theorem dX0_stopsOf_57 : decode cX0_stopsOf 57 = .ok (.iload_n 1, 1) := dk_27 (dk_at dksX0_stopsOf_2 12 rfl rfl)
theorem dX0_stopsOf_58 : decode cX0_stopsOf 58 = .ok (.iload_n 2, 1) := dk_28 (dk_at dksX0_stopsOf_2 13 rfl rfl)
theorem dX0_stopsOf_59 : decode cX0_stopsOf 59 = .ok (.invokevirtual 312, 3) := dk_182 1 56 (dk_at dksX0_stopsOf_2 14 rfl rfl)
theorem dX0_stopsOf_62 : decode cX0_stopsOf 62 = .ok (.ifCond .eq 6, 3) := dk_153 0 6 (dk_at dksX0_stopsOf_2 17 rfl rfl)
theorem dX0_stopsOf_65 : decode cX0_stopsOf 65 = .ok (.iload 4, 2) := dk_21 4 (dk_at dksX0_stopsOf_2 20 rfl rfl)
theorem dX0_stopsOf_67 : decode cX0_stopsOf 67 = .ok (.istore_n 3, 1) := dk_62 (dk_at dksX0_stopsOf_2 22 rfl rfl)
theorem dX0_stopsOf_68 : decode cX0_stopsOf 68 = .ok (.iinc 4 1, 3) := dk_132 4 1 (dk_at dksX0_stopsOf_3 0 rfl rfl)
theorem dX0_stopsOf_71 : decode cX0_stopsOf 71 = .ok (.goto (-66), 3) := dk_167 255 190 (dk_at dksX0_stopsOf_3 3 rfl rfl)
theorem dX0_stopsOf_74 : decode cX0_stopsOf 74 = .ok (.iload_n 3, 1) := dk_29 (dk_at dksX0_stopsOf_3 6 rfl rfl)
theorem dX0_stopsOf_75 : decode cX0_stopsOf 75 = .ok (.ireturn, 1) := dk_172 (dk_at dksX0_stopsOf_3 7 rfl rfl)
abbrev cX0_isStopped : ByteArray := prog_1_method_67_code
def yX0_isStopped : MethodName := ⟨RX0, "isStopped", "(III)Z"⟩
def dkwX0_isStopped_2 : List UInt8 := [132, 4, 1, 167, 255, 226, 4, 172]
abbrev dktX0_isStopped_2 : List UInt8 := dkwX0_isStopped_2 ++ []
def dkwX0_isStopped_1 : List UInt8 := [163, 0, 29, 42, 180, 0, 75, 28, 21, 4, 182, 0, 193, 29, 182, 0, 251, 2, 159, 0, 5, 3, 172]
abbrev dktX0_isStopped_1 : List UInt8 := dkwX0_isStopped_1 ++ dktX0_isStopped_2
def dkwX0_isStopped_0 : List UInt8 := [42, 180, 0, 68, 182, 0, 190, 87, 42, 180, 0, 68, 27, 181, 1, 53, 3, 54, 4, 21, 4, 16, 60]
abbrev dktX0_isStopped_0 : List UInt8 := dkwX0_isStopped_0 ++ dktX0_isStopped_1
theorem dksX0_isStopped_0 : cX0_isStopped.data.toList.drop 0 = dktX0_isStopped_0 := by decide +kernel
theorem dksX0_isStopped_1 : cX0_isStopped.data.toList.drop 23 = dktX0_isStopped_1 := dk_seg dksX0_isStopped_0 23 rfl rfl
theorem dksX0_isStopped_2 : cX0_isStopped.data.toList.drop 46 = dktX0_isStopped_2 := dk_seg dksX0_isStopped_1 23 rfl rfl
theorem dX0_isStopped_0 : decode cX0_isStopped 0 = .ok (.aload_n 0, 1) := dk_42 (dk_at dksX0_isStopped_0 0 rfl rfl)
theorem dX0_isStopped_1 : decode cX0_isStopped 1 = .ok (.getfield 68, 3) := dk_180 0 68 (dk_at dksX0_isStopped_0 1 rfl rfl)
theorem dX0_isStopped_4 : decode cX0_isStopped 4 = .ok (.invokevirtual 190, 3) := dk_182 0 190 (dk_at dksX0_isStopped_0 4 rfl rfl)
theorem dX0_isStopped_7 : decode cX0_isStopped 7 = .ok (.pop, 1) := dk_87 (dk_at dksX0_isStopped_0 7 rfl rfl)
theorem dX0_isStopped_8 : decode cX0_isStopped 8 = .ok (.aload_n 0, 1) := dk_42 (dk_at dksX0_isStopped_0 8 rfl rfl)
theorem dX0_isStopped_9 : decode cX0_isStopped 9 = .ok (.getfield 68, 3) := dk_180 0 68 (dk_at dksX0_isStopped_0 9 rfl rfl)
theorem dX0_isStopped_12 : decode cX0_isStopped 12 = .ok (.iload_n 1, 1) := dk_27 (dk_at dksX0_isStopped_0 12 rfl rfl)
theorem dX0_isStopped_13 : decode cX0_isStopped 13 = .ok (.putfield 309, 3) := dk_181 1 53 (dk_at dksX0_isStopped_0 13 rfl rfl)
theorem dX0_isStopped_16 : decode cX0_isStopped 16 = .ok (.iconst 0, 1) := dk_3 (dk_at dksX0_isStopped_0 16 rfl rfl)
theorem dX0_isStopped_17 : decode cX0_isStopped 17 = .ok (.istore 4, 2) := dk_54 4 (dk_at dksX0_isStopped_0 17 rfl rfl)
theorem dX0_isStopped_19 : decode cX0_isStopped 19 = .ok (.iload 4, 2) := dk_21 4 (dk_at dksX0_isStopped_0 19 rfl rfl)
theorem dX0_isStopped_21 : decode cX0_isStopped 21 = .ok (.bipush 60, 2) := dk_16 60 (dk_at dksX0_isStopped_0 21 rfl rfl)
theorem dX0_isStopped_23 : decode cX0_isStopped 23 = .ok (.if_icmp .gt 29, 3) := dk_163 0 29 (dk_at dksX0_isStopped_1 0 rfl rfl)
theorem dX0_isStopped_26 : decode cX0_isStopped 26 = .ok (.aload_n 0, 1) := dk_42 (dk_at dksX0_isStopped_1 3 rfl rfl)
theorem dX0_isStopped_27 : decode cX0_isStopped 27 = .ok (.getfield 75, 3) := dk_180 0 75 (dk_at dksX0_isStopped_1 4 rfl rfl)
theorem dX0_isStopped_30 : decode cX0_isStopped 30 = .ok (.iload_n 2, 1) := dk_28 (dk_at dksX0_isStopped_1 7 rfl rfl)
theorem dX0_isStopped_31 : decode cX0_isStopped 31 = .ok (.iload 4, 2) := dk_21 4 (dk_at dksX0_isStopped_1 8 rfl rfl)
theorem dX0_isStopped_33 : decode cX0_isStopped 33 = .ok (.invokevirtual 193, 3) := dk_182 0 193 (dk_at dksX0_isStopped_1 10 rfl rfl)
theorem dX0_isStopped_36 : decode cX0_isStopped 36 = .ok (.iload_n 3, 1) := dk_29 (dk_at dksX0_isStopped_1 13 rfl rfl)
theorem dX0_isStopped_37 : decode cX0_isStopped 37 = .ok (.invokevirtual 251, 3) := dk_182 0 251 (dk_at dksX0_isStopped_1 14 rfl rfl)
theorem dX0_isStopped_40 : decode cX0_isStopped 40 = .ok (.iconst (-1), 1) := dk_2 (dk_at dksX0_isStopped_1 17 rfl rfl)
theorem dX0_isStopped_41 : decode cX0_isStopped 41 = .ok (.if_icmp .eq 5, 3) := dk_159 0 5 (dk_at dksX0_isStopped_1 18 rfl rfl)
theorem dX0_isStopped_44 : decode cX0_isStopped 44 = .ok (.iconst 0, 1) := dk_3 (dk_at dksX0_isStopped_1 21 rfl rfl)
theorem dX0_isStopped_45 : decode cX0_isStopped 45 = .ok (.ireturn, 1) := dk_172 (dk_at dksX0_isStopped_1 22 rfl rfl)
theorem dX0_isStopped_46 : decode cX0_isStopped 46 = .ok (.iinc 4 1, 3) := dk_132 4 1 (dk_at dksX0_isStopped_2 0 rfl rfl)
theorem dX0_isStopped_49 : decode cX0_isStopped 49 = .ok (.goto (-30), 3) := dk_167 255 226 (dk_at dksX0_isStopped_2 3 rfl rfl)
theorem dX0_isStopped_52 : decode cX0_isStopped 52 = .ok (.iconst 1, 1) := dk_4 (dk_at dksX0_isStopped_2 6 rfl rfl)
theorem dX0_isStopped_53 : decode cX0_isStopped 53 = .ok (.ireturn, 1) := dk_172 (dk_at dksX0_isStopped_2 7 rfl rfl)
abbrev cX0_stops : ByteArray := prog_1_method_70_code
def yX0_stops : MethodName := ⟨RX0, "stops", "(II)I"⟩
def dkwX0_stops_0 : List UInt8 := [42, 27, 28, 182, 0, 200, 153, 0, 12, 42, 27, 28, 182, 1, 60, 167, 0, 5, 16, 254, 172]
abbrev dktX0_stops_0 : List UInt8 := dkwX0_stops_0 ++ []
theorem dksX0_stops_0 : cX0_stops.data.toList.drop 0 = dktX0_stops_0 := by decide +kernel
theorem dX0_stops_0 : decode cX0_stops 0 = .ok (.aload_n 0, 1) := dk_42 (dk_at dksX0_stops_0 0 rfl rfl)
theorem dX0_stops_1 : decode cX0_stops 1 = .ok (.iload_n 1, 1) := dk_27 (dk_at dksX0_stops_0 1 rfl rfl)
theorem dX0_stops_2 : decode cX0_stops 2 = .ok (.iload_n 2, 1) := dk_28 (dk_at dksX0_stops_0 2 rfl rfl)
theorem dX0_stops_3 : decode cX0_stops 3 = .ok (.invokevirtual 200, 3) := dk_182 0 200 (dk_at dksX0_stops_0 3 rfl rfl)
theorem dX0_stops_6 : decode cX0_stops 6 = .ok (.ifCond .eq 12, 3) := dk_153 0 12 (dk_at dksX0_stops_0 6 rfl rfl)
theorem dX0_stops_9 : decode cX0_stops 9 = .ok (.aload_n 0, 1) := dk_42 (dk_at dksX0_stops_0 9 rfl rfl)
theorem dX0_stops_10 : decode cX0_stops 10 = .ok (.iload_n 1, 1) := dk_27 (dk_at dksX0_stops_0 10 rfl rfl)
theorem dX0_stops_11 : decode cX0_stops 11 = .ok (.iload_n 2, 1) := dk_28 (dk_at dksX0_stops_0 11 rfl rfl)
theorem dX0_stops_12 : decode cX0_stops 12 = .ok (.invokevirtual 316, 3) := dk_182 1 60 (dk_at dksX0_stops_0 12 rfl rfl)
theorem dX0_stops_15 : decode cX0_stops 15 = .ok (.goto 5, 3) := dk_167 0 5 (dk_at dksX0_stops_0 15 rfl rfl)
theorem dX0_stops_18 : decode cX0_stops 18 = .ok (.bipush (-2), 2) := dk_16 254 (dk_at dksX0_stops_0 18 rfl rfl)
theorem dX0_stops_20 : decode cX0_stops 20 = .ok (.ireturn, 1) := dk_172 (dk_at dksX0_stops_0 20 rfl rfl)
abbrev cX0_shut : ByteArray := prog_1_method_72_code
def yX0_shut : MethodName := ⟨RX0, "shut", "(II)I"⟩
def dkwX0_shut_5 : List UInt8 := [172]
abbrev dktX0_shut_5 : List UInt8 := dkwX0_shut_5 ++ []
def dkwX0_shut_4 : List UInt8 := [21, 7, 21, 4, 161, 0, 6, 167, 0, 10, 21, 6, 62, 21, 7, 54, 4, 132, 6, 1, 167, 255, 186, 29]
abbrev dktX0_shut_4 : List UInt8 := dkwX0_shut_4 ++ dktX0_shut_5
def dkwX0_shut_3 : List UInt8 := [128, 181, 0, 234, 42, 180, 0, 75, 27, 28, 182, 0, 193, 16, 10, 182, 0, 251, 184, 1, 63, 54, 7]
abbrev dktX0_shut_3 : List UInt8 := dkwX0_shut_3 ++ dktX0_shut_4
def dkwX0_shut_2 : List UInt8 := [180, 0, 47, 180, 0, 142, 185, 0, 130, 1, 0, 162, 0, 59, 42, 180, 0, 68, 21, 5, 4, 21, 6, 120]
abbrev dktX0_shut_2 : List UInt8 := dkwX0_shut_2 ++ dktX0_shut_3
def dkwX0_shut_1 : List UInt8 := [182, 0, 251, 184, 1, 63, 54, 4, 42, 180, 0, 68, 180, 0, 234, 54, 5, 3, 54, 6, 21, 6, 42]
abbrev dktX0_shut_1 : List UInt8 := dkwX0_shut_1 ++ dktX0_shut_2
def dkwX0_shut_0 : List UInt8 := [42, 27, 28, 182, 0, 240, 154, 0, 6, 16, 254, 172, 2, 62, 42, 27, 28, 182, 0, 203, 16, 10]
abbrev dktX0_shut_0 : List UInt8 := dkwX0_shut_0 ++ dktX0_shut_1
theorem dksX0_shut_0 : cX0_shut.data.toList.drop 0 = dktX0_shut_0 := by decide +kernel
theorem dksX0_shut_1 : cX0_shut.data.toList.drop 22 = dktX0_shut_1 := dk_seg dksX0_shut_0 22 rfl rfl
theorem dksX0_shut_2 : cX0_shut.data.toList.drop 45 = dktX0_shut_2 := dk_seg dksX0_shut_1 23 rfl rfl
theorem dksX0_shut_3 : cX0_shut.data.toList.drop 69 = dktX0_shut_3 := dk_seg dksX0_shut_2 24 rfl rfl
theorem dksX0_shut_4 : cX0_shut.data.toList.drop 92 = dktX0_shut_4 := dk_seg dksX0_shut_3 23 rfl rfl
theorem dksX0_shut_5 : cX0_shut.data.toList.drop 116 = dktX0_shut_5 := dk_seg dksX0_shut_4 24 rfl rfl
theorem dX0_shut_0 : decode cX0_shut 0 = .ok (.aload_n 0, 1) := dk_42 (dk_at dksX0_shut_0 0 rfl rfl)
theorem dX0_shut_1 : decode cX0_shut 1 = .ok (.iload_n 1, 1) := dk_27 (dk_at dksX0_shut_0 1 rfl rfl)
theorem dX0_shut_2 : decode cX0_shut 2 = .ok (.iload_n 2, 1) := dk_28 (dk_at dksX0_shut_0 2 rfl rfl)
theorem dX0_shut_3 : decode cX0_shut 3 = .ok (.invokevirtual 240, 3) := dk_182 0 240 (dk_at dksX0_shut_0 3 rfl rfl)
theorem dX0_shut_6 : decode cX0_shut 6 = .ok (.ifCond .ne 6, 3) := dk_154 0 6 (dk_at dksX0_shut_0 6 rfl rfl)
theorem dX0_shut_9 : decode cX0_shut 9 = .ok (.bipush (-2), 2) := dk_16 254 (dk_at dksX0_shut_0 9 rfl rfl)
theorem dX0_shut_11 : decode cX0_shut 11 = .ok (.ireturn, 1) := dk_172 (dk_at dksX0_shut_0 11 rfl rfl)
theorem dX0_shut_12 : decode cX0_shut 12 = .ok (.iconst (-1), 1) := dk_2 (dk_at dksX0_shut_0 12 rfl rfl)
theorem dX0_shut_13 : decode cX0_shut 13 = .ok (.istore_n 3, 1) := dk_62 (dk_at dksX0_shut_0 13 rfl rfl)
theorem dX0_shut_14 : decode cX0_shut 14 = .ok (.aload_n 0, 1) := dk_42 (dk_at dksX0_shut_0 14 rfl rfl)
theorem dX0_shut_15 : decode cX0_shut 15 = .ok (.iload_n 1, 1) := dk_27 (dk_at dksX0_shut_0 15 rfl rfl)
theorem dX0_shut_16 : decode cX0_shut 16 = .ok (.iload_n 2, 1) := dk_28 (dk_at dksX0_shut_0 16 rfl rfl)
theorem dX0_shut_17 : decode cX0_shut 17 = .ok (.invokevirtual 203, 3) := dk_182 0 203 (dk_at dksX0_shut_0 17 rfl rfl)
theorem dX0_shut_20 : decode cX0_shut 20 = .ok (.bipush 10, 2) := dk_16 10 (dk_at dksX0_shut_0 20 rfl rfl)
theorem dX0_shut_22 : decode cX0_shut 22 = .ok (.invokevirtual 251, 3) := dk_182 0 251 (dk_at dksX0_shut_1 0 rfl rfl)
theorem dX0_shut_25 : decode cX0_shut 25 = .ok (.invokestatic 319, 3) := dk_184 1 63 (dk_at dksX0_shut_1 3 rfl rfl)
theorem dX0_shut_28 : decode cX0_shut 28 = .ok (.istore 4, 2) := dk_54 4 (dk_at dksX0_shut_1 6 rfl rfl)
theorem dX0_shut_30 : decode cX0_shut 30 = .ok (.aload_n 0, 1) := dk_42 (dk_at dksX0_shut_1 8 rfl rfl)
theorem dX0_shut_31 : decode cX0_shut 31 = .ok (.getfield 68, 3) := dk_180 0 68 (dk_at dksX0_shut_1 9 rfl rfl)
theorem dX0_shut_34 : decode cX0_shut 34 = .ok (.getfield 234, 3) := dk_180 0 234 (dk_at dksX0_shut_1 12 rfl rfl)
theorem dX0_shut_37 : decode cX0_shut 37 = .ok (.istore 5, 2) := dk_54 5 (dk_at dksX0_shut_1 15 rfl rfl)
theorem dX0_shut_39 : decode cX0_shut 39 = .ok (.iconst 0, 1) := dk_3 (dk_at dksX0_shut_1 17 rfl rfl)
theorem dX0_shut_40 : decode cX0_shut 40 = .ok (.istore 6, 2) := dk_54 6 (dk_at dksX0_shut_1 18 rfl rfl)
theorem dX0_shut_42 : decode cX0_shut 42 = .ok (.iload 6, 2) := dk_21 6 (dk_at dksX0_shut_1 20 rfl rfl)
theorem dX0_shut_44 : decode cX0_shut 44 = .ok (.aload_n 0, 1) := dk_42 (dk_at dksX0_shut_1 22 rfl rfl)
theorem dX0_shut_45 : decode cX0_shut 45 = .ok (.getfield 47, 3) := dk_180 0 47 (dk_at dksX0_shut_2 0 rfl rfl)
theorem dX0_shut_48 : decode cX0_shut 48 = .ok (.getfield 142, 3) := dk_180 0 142 (dk_at dksX0_shut_2 3 rfl rfl)
theorem dX0_shut_51 : decode cX0_shut 51 = .ok (.invokeinterface 130 1, 5) := by decide +kernel
theorem dX0_shut_56 : decode cX0_shut 56 = .ok (.if_icmp .ge 59, 3) := dk_162 0 59 (dk_at dksX0_shut_2 11 rfl rfl)
theorem dX0_shut_59 : decode cX0_shut 59 = .ok (.aload_n 0, 1) := dk_42 (dk_at dksX0_shut_2 14 rfl rfl)
theorem dX0_shut_60 : decode cX0_shut 60 = .ok (.getfield 68, 3) := dk_180 0 68 (dk_at dksX0_shut_2 15 rfl rfl)
theorem dX0_shut_63 : decode cX0_shut 63 = .ok (.iload 5, 2) := dk_21 5 (dk_at dksX0_shut_2 18 rfl rfl)
theorem dX0_shut_65 : decode cX0_shut 65 = .ok (.iconst 1, 1) := dk_4 (dk_at dksX0_shut_2 20 rfl rfl)
theorem dX0_shut_66 : decode cX0_shut 66 = .ok (.iload 6, 2) := dk_21 6 (dk_at dksX0_shut_2 21 rfl rfl)
theorem dX0_shut_68 : decode cX0_shut 68 = .ok (.ishl, 1) := dk_120 (dk_at dksX0_shut_2 23 rfl rfl)
theorem dX0_shut_69 : decode cX0_shut 69 = .ok (.ior, 1) := dk_128 (dk_at dksX0_shut_3 0 rfl rfl)
theorem dX0_shut_70 : decode cX0_shut 70 = .ok (.putfield 234, 3) := dk_181 0 234 (dk_at dksX0_shut_3 1 rfl rfl)
theorem dX0_shut_73 : decode cX0_shut 73 = .ok (.aload_n 0, 1) := dk_42 (dk_at dksX0_shut_3 4 rfl rfl)
theorem dX0_shut_74 : decode cX0_shut 74 = .ok (.getfield 75, 3) := dk_180 0 75 (dk_at dksX0_shut_3 5 rfl rfl)
theorem dX0_shut_77 : decode cX0_shut 77 = .ok (.iload_n 1, 1) := dk_27 (dk_at dksX0_shut_3 8 rfl rfl)
theorem dX0_shut_78 : decode cX0_shut 78 = .ok (.iload_n 2, 1) := dk_28 (dk_at dksX0_shut_3 9 rfl rfl)
theorem dX0_shut_79 : decode cX0_shut 79 = .ok (.invokevirtual 193, 3) := dk_182 0 193 (dk_at dksX0_shut_3 10 rfl rfl)
theorem dX0_shut_82 : decode cX0_shut 82 = .ok (.bipush 10, 2) := dk_16 10 (dk_at dksX0_shut_3 13 rfl rfl)
theorem dX0_shut_84 : decode cX0_shut 84 = .ok (.invokevirtual 251, 3) := dk_182 0 251 (dk_at dksX0_shut_3 15 rfl rfl)
theorem dX0_shut_87 : decode cX0_shut 87 = .ok (.invokestatic 319, 3) := dk_184 1 63 (dk_at dksX0_shut_3 18 rfl rfl)
theorem dX0_shut_90 : decode cX0_shut 90 = .ok (.istore 7, 2) := dk_54 7 (dk_at dksX0_shut_3 21 rfl rfl)
theorem dX0_shut_92 : decode cX0_shut 92 = .ok (.iload 7, 2) := dk_21 7 (dk_at dksX0_shut_4 0 rfl rfl)
theorem dX0_shut_94 : decode cX0_shut 94 = .ok (.iload 4, 2) := dk_21 4 (dk_at dksX0_shut_4 2 rfl rfl)
theorem dX0_shut_96 : decode cX0_shut 96 = .ok (.if_icmp .lt 6, 3) := dk_161 0 6 (dk_at dksX0_shut_4 4 rfl rfl)
theorem dX0_shut_99 : decode cX0_shut 99 = .ok (.goto 10, 3) := dk_167 0 10 (dk_at dksX0_shut_4 7 rfl rfl)
theorem dX0_shut_102 : decode cX0_shut 102 = .ok (.iload 6, 2) := dk_21 6 (dk_at dksX0_shut_4 10 rfl rfl)
theorem dX0_shut_104 : decode cX0_shut 104 = .ok (.istore_n 3, 1) := dk_62 (dk_at dksX0_shut_4 12 rfl rfl)
theorem dX0_shut_105 : decode cX0_shut 105 = .ok (.iload 7, 2) := dk_21 7 (dk_at dksX0_shut_4 13 rfl rfl)
theorem dX0_shut_107 : decode cX0_shut 107 = .ok (.istore 4, 2) := dk_54 4 (dk_at dksX0_shut_4 15 rfl rfl)
theorem dX0_shut_109 : decode cX0_shut 109 = .ok (.iinc 6 1, 3) := dk_132 6 1 (dk_at dksX0_shut_4 17 rfl rfl)
theorem dX0_shut_112 : decode cX0_shut 112 = .ok (.goto (-70), 3) := dk_167 255 186 (dk_at dksX0_shut_4 20 rfl rfl)
theorem dX0_shut_115 : decode cX0_shut 115 = .ok (.iload_n 3, 1) := dk_29 (dk_at dksX0_shut_4 23 rfl rfl)
theorem dX0_shut_116 : decode cX0_shut 116 = .ok (.ireturn, 1) := dk_172 (dk_at dksX0_shut_5 0 rfl rfl)
abbrev cX0_orFar : ByteArray := prog_1_method_71_code
def yX0_orFar : MethodName := ⟨RX0, "orFar", "(I)I"⟩
def dkwX0_orFar_0 : List UInt8 := [26, 2, 160, 0, 9, 17, 3, 232, 167, 0, 4, 26, 172]
abbrev dktX0_orFar_0 : List UInt8 := dkwX0_orFar_0 ++ []
theorem dksX0_orFar_0 : cX0_orFar.data.toList.drop 0 = dktX0_orFar_0 := by decide +kernel
theorem dX0_orFar_0 : decode cX0_orFar 0 = .ok (.iload_n 0, 1) := dk_26 (dk_at dksX0_orFar_0 0 rfl rfl)
theorem dX0_orFar_1 : decode cX0_orFar 1 = .ok (.iconst (-1), 1) := dk_2 (dk_at dksX0_orFar_0 1 rfl rfl)
theorem dX0_orFar_2 : decode cX0_orFar 2 = .ok (.if_icmp .ne 9, 3) := dk_160 0 9 (dk_at dksX0_orFar_0 2 rfl rfl)
theorem dX0_orFar_5 : decode cX0_orFar 5 = .ok (.sipush 1000, 3) := dk_17 3 232 (dk_at dksX0_orFar_0 5 rfl rfl)
theorem dX0_orFar_8 : decode cX0_orFar 8 = .ok (.goto 4, 3) := dk_167 0 4 (dk_at dksX0_orFar_0 8 rfl rfl)
theorem dX0_orFar_11 : decode cX0_orFar 11 = .ok (.iload_n 0, 1) := dk_26 (dk_at dksX0_orFar_0 11 rfl rfl)
theorem dX0_orFar_12 : decode cX0_orFar 12 = .ok (.ireturn, 1) := dk_172 (dk_at dksX0_orFar_0 12 rfl rfl)
abbrev cX0_pour : ByteArray := prog_1_method_73_code
def yX0_pour : MethodName := ⟨RX0, "pour", "(III)I"⟩
def dkwX0_pour_3 : List UInt8 := [46, 4, 96, 79, 42, 180, 0, 68, 182, 1, 66, 87, 132, 4, 1, 167, 255, 204, 2, 172]
abbrev dktX0_pour_3 : List UInt8 := dkwX0_pour_3 ++ []
def dkwX0_pour_2 : List UInt8 := [182, 0, 193, 16, 10, 182, 0, 251, 2, 159, 0, 6, 21, 4, 172, 42, 180, 0, 68, 180, 0, 220, 29, 92]
abbrev dktX0_pour_2 : List UInt8 := dkwX0_pour_2 ++ dktX0_pour_3
def dkwX0_pour_1 : List UInt8 := [180, 0, 68, 182, 0, 190, 87, 3, 54, 4, 21, 4, 16, 60, 163, 0, 51, 42, 180, 0, 75, 27, 28]
abbrev dktX0_pour_1 : List UInt8 := dkwX0_pour_1 ++ dktX0_pour_2
def dkwX0_pour_0 : List UInt8 := [42, 27, 28, 182, 0, 240, 153, 0, 12, 42, 29, 133, 182, 0, 155, 154, 0, 6, 16, 254, 172, 42]
abbrev dktX0_pour_0 : List UInt8 := dkwX0_pour_0 ++ dktX0_pour_1
theorem dksX0_pour_0 : cX0_pour.data.toList.drop 0 = dktX0_pour_0 := by decide +kernel
theorem dksX0_pour_1 : cX0_pour.data.toList.drop 22 = dktX0_pour_1 := dk_seg dksX0_pour_0 22 rfl rfl
theorem dksX0_pour_2 : cX0_pour.data.toList.drop 45 = dktX0_pour_2 := dk_seg dksX0_pour_1 23 rfl rfl
theorem dksX0_pour_3 : cX0_pour.data.toList.drop 69 = dktX0_pour_3 := dk_seg dksX0_pour_2 24 rfl rfl
theorem dX0_pour_0 : decode cX0_pour 0 = .ok (.aload_n 0, 1) := dk_42 (dk_at dksX0_pour_0 0 rfl rfl)
theorem dX0_pour_1 : decode cX0_pour 1 = .ok (.iload_n 1, 1) := dk_27 (dk_at dksX0_pour_0 1 rfl rfl)
theorem dX0_pour_2 : decode cX0_pour 2 = .ok (.iload_n 2, 1) := dk_28 (dk_at dksX0_pour_0 2 rfl rfl)
theorem dX0_pour_3 : decode cX0_pour 3 = .ok (.invokevirtual 240, 3) := dk_182 0 240 (dk_at dksX0_pour_0 3 rfl rfl)
theorem dX0_pour_6 : decode cX0_pour 6 = .ok (.ifCond .eq 12, 3) := dk_153 0 12 (dk_at dksX0_pour_0 6 rfl rfl)
theorem dX0_pour_9 : decode cX0_pour 9 = .ok (.aload_n 0, 1) := dk_42 (dk_at dksX0_pour_0 9 rfl rfl)
theorem dX0_pour_10 : decode cX0_pour 10 = .ok (.iload_n 3, 1) := dk_29 (dk_at dksX0_pour_0 10 rfl rfl)
theorem dX0_pour_11 : decode cX0_pour 11 = .ok (.i2l, 1) := dk_133 (dk_at dksX0_pour_0 11 rfl rfl)
theorem dX0_pour_12 : decode cX0_pour 12 = .ok (.invokevirtual 155, 3) := dk_182 0 155 (dk_at dksX0_pour_0 12 rfl rfl)
theorem dX0_pour_15 : decode cX0_pour 15 = .ok (.ifCond .ne 6, 3) := dk_154 0 6 (dk_at dksX0_pour_0 15 rfl rfl)
theorem dX0_pour_18 : decode cX0_pour 18 = .ok (.bipush (-2), 2) := dk_16 254 (dk_at dksX0_pour_0 18 rfl rfl)
theorem dX0_pour_20 : decode cX0_pour 20 = .ok (.ireturn, 1) := dk_172 (dk_at dksX0_pour_0 20 rfl rfl)
theorem dX0_pour_21 : decode cX0_pour 21 = .ok (.aload_n 0, 1) := dk_42 (dk_at dksX0_pour_0 21 rfl rfl)
theorem dX0_pour_22 : decode cX0_pour 22 = .ok (.getfield 68, 3) := dk_180 0 68 (dk_at dksX0_pour_1 0 rfl rfl)
theorem dX0_pour_25 : decode cX0_pour 25 = .ok (.invokevirtual 190, 3) := dk_182 0 190 (dk_at dksX0_pour_1 3 rfl rfl)
theorem dX0_pour_28 : decode cX0_pour 28 = .ok (.pop, 1) := dk_87 (dk_at dksX0_pour_1 6 rfl rfl)
theorem dX0_pour_29 : decode cX0_pour 29 = .ok (.iconst 0, 1) := dk_3 (dk_at dksX0_pour_1 7 rfl rfl)
theorem dX0_pour_30 : decode cX0_pour 30 = .ok (.istore 4, 2) := dk_54 4 (dk_at dksX0_pour_1 8 rfl rfl)
theorem dX0_pour_32 : decode cX0_pour 32 = .ok (.iload 4, 2) := dk_21 4 (dk_at dksX0_pour_1 10 rfl rfl)
theorem dX0_pour_34 : decode cX0_pour 34 = .ok (.bipush 60, 2) := dk_16 60 (dk_at dksX0_pour_1 12 rfl rfl)
theorem dX0_pour_36 : decode cX0_pour 36 = .ok (.if_icmp .gt 51, 3) := dk_163 0 51 (dk_at dksX0_pour_1 14 rfl rfl)
theorem dX0_pour_39 : decode cX0_pour 39 = .ok (.aload_n 0, 1) := dk_42 (dk_at dksX0_pour_1 17 rfl rfl)
theorem dX0_pour_40 : decode cX0_pour 40 = .ok (.getfield 75, 3) := dk_180 0 75 (dk_at dksX0_pour_1 18 rfl rfl)
theorem dX0_pour_43 : decode cX0_pour 43 = .ok (.iload_n 1, 1) := dk_27 (dk_at dksX0_pour_1 21 rfl rfl)
theorem dX0_pour_44 : decode cX0_pour 44 = .ok (.iload_n 2, 1) := dk_28 (dk_at dksX0_pour_1 22 rfl rfl)
theorem dX0_pour_45 : decode cX0_pour 45 = .ok (.invokevirtual 193, 3) := dk_182 0 193 (dk_at dksX0_pour_2 0 rfl rfl)
theorem dX0_pour_48 : decode cX0_pour 48 = .ok (.bipush 10, 2) := dk_16 10 (dk_at dksX0_pour_2 3 rfl rfl)
theorem dX0_pour_50 : decode cX0_pour 50 = .ok (.invokevirtual 251, 3) := dk_182 0 251 (dk_at dksX0_pour_2 5 rfl rfl)
theorem dX0_pour_53 : decode cX0_pour 53 = .ok (.iconst (-1), 1) := dk_2 (dk_at dksX0_pour_2 8 rfl rfl)
theorem dX0_pour_54 : decode cX0_pour 54 = .ok (.if_icmp .eq 6, 3) := dk_159 0 6 (dk_at dksX0_pour_2 9 rfl rfl)
theorem dX0_pour_57 : decode cX0_pour 57 = .ok (.iload 4, 2) := dk_21 4 (dk_at dksX0_pour_2 12 rfl rfl)
theorem dX0_pour_59 : decode cX0_pour 59 = .ok (.ireturn, 1) := dk_172 (dk_at dksX0_pour_2 14 rfl rfl)
theorem dX0_pour_60 : decode cX0_pour 60 = .ok (.aload_n 0, 1) := dk_42 (dk_at dksX0_pour_2 15 rfl rfl)
theorem dX0_pour_61 : decode cX0_pour 61 = .ok (.getfield 68, 3) := dk_180 0 68 (dk_at dksX0_pour_2 16 rfl rfl)
theorem dX0_pour_64 : decode cX0_pour 64 = .ok (.getfield 220, 3) := dk_180 0 220 (dk_at dksX0_pour_2 19 rfl rfl)
theorem dX0_pour_67 : decode cX0_pour 67 = .ok (.iload_n 3, 1) := dk_29 (dk_at dksX0_pour_2 22 rfl rfl)
theorem dX0_pour_68 : decode cX0_pour 68 = .ok (.dup2, 1) := dk_92 (dk_at dksX0_pour_2 23 rfl rfl)
theorem dX0_pour_69 : decode cX0_pour 69 = .ok (.iaload, 1) := dk_46 (dk_at dksX0_pour_3 0 rfl rfl)
theorem dX0_pour_70 : decode cX0_pour 70 = .ok (.iconst 1, 1) := dk_4 (dk_at dksX0_pour_3 1 rfl rfl)
theorem dX0_pour_71 : decode cX0_pour 71 = .ok (.iadd, 1) := dk_96 (dk_at dksX0_pour_3 2 rfl rfl)
theorem dX0_pour_72 : decode cX0_pour 72 = .ok (.iastore, 1) := dk_79 (dk_at dksX0_pour_3 3 rfl rfl)
theorem dX0_pour_73 : decode cX0_pour 73 = .ok (.aload_n 0, 1) := dk_42 (dk_at dksX0_pour_3 4 rfl rfl)
theorem dX0_pour_74 : decode cX0_pour 74 = .ok (.getfield 68, 3) := dk_180 0 68 (dk_at dksX0_pour_3 5 rfl rfl)
theorem dX0_pour_77 : decode cX0_pour 77 = .ok (.invokevirtual 322, 3) := dk_182 1 66 (dk_at dksX0_pour_3 8 rfl rfl)
theorem dX0_pour_80 : decode cX0_pour 80 = .ok (.pop, 1) := dk_87 (dk_at dksX0_pour_3 11 rfl rfl)
theorem dX0_pour_81 : decode cX0_pour 81 = .ok (.iinc 4 1, 3) := dk_132 4 1 (dk_at dksX0_pour_3 12 rfl rfl)
theorem dX0_pour_84 : decode cX0_pour 84 = .ok (.goto (-52), 3) := dk_167 255 204 (dk_at dksX0_pour_3 15 rfl rfl)
theorem dX0_pour_87 : decode cX0_pour 87 = .ok (.iconst (-1), 1) := dk_2 (dk_at dksX0_pour_3 18 rfl rfl)
theorem dX0_pour_88 : decode cX0_pour 88 = .ok (.ireturn, 1) := dk_172 (dk_at dksX0_pour_3 19 rfl rfl)
abbrev cX0_fits : ByteArray := prog_1_method_76_code
def yX0_fits : MethodName := ⟨RX0, "fits", "(I)I"⟩
def dkwX0_fits_1 : List UInt8 := [182, 1, 83, 180, 1, 87, 172]
abbrev dktX0_fits_1 : List UInt8 := dkwX0_fits_1 ++ []
def dkwX0_fits_0 : List UInt8 := [42, 27, 182, 1, 80, 61, 28, 153, 0, 7, 28, 167, 0, 19, 42, 180, 0, 85, 42, 180, 0, 19, 27, 50]
abbrev dktX0_fits_0 : List UInt8 := dkwX0_fits_0 ++ dktX0_fits_1
theorem dksX0_fits_0 : cX0_fits.data.toList.drop 0 = dktX0_fits_0 := by decide +kernel
theorem dksX0_fits_1 : cX0_fits.data.toList.drop 24 = dktX0_fits_1 := dk_seg dksX0_fits_0 24 rfl rfl
theorem dX0_fits_0 : decode cX0_fits 0 = .ok (.aload_n 0, 1) := dk_42 (dk_at dksX0_fits_0 0 rfl rfl)
theorem dX0_fits_1 : decode cX0_fits 1 = .ok (.iload_n 1, 1) := dk_27 (dk_at dksX0_fits_0 1 rfl rfl)
theorem dX0_fits_2 : decode cX0_fits 2 = .ok (.invokevirtual 336, 3) := dk_182 1 80 (dk_at dksX0_fits_0 2 rfl rfl)
theorem dX0_fits_5 : decode cX0_fits 5 = .ok (.istore_n 2, 1) := dk_61 (dk_at dksX0_fits_0 5 rfl rfl)
theorem dX0_fits_6 : decode cX0_fits 6 = .ok (.iload_n 2, 1) := dk_28 (dk_at dksX0_fits_0 6 rfl rfl)
theorem dX0_fits_7 : decode cX0_fits 7 = .ok (.ifCond .eq 7, 3) := dk_153 0 7 (dk_at dksX0_fits_0 7 rfl rfl)
theorem dX0_fits_10 : decode cX0_fits 10 = .ok (.iload_n 2, 1) := dk_28 (dk_at dksX0_fits_0 10 rfl rfl)
theorem dX0_fits_11 : decode cX0_fits 11 = .ok (.goto 19, 3) := dk_167 0 19 (dk_at dksX0_fits_0 11 rfl rfl)
theorem dX0_fits_14 : decode cX0_fits 14 = .ok (.aload_n 0, 1) := dk_42 (dk_at dksX0_fits_0 14 rfl rfl)
theorem dX0_fits_15 : decode cX0_fits 15 = .ok (.getfield 85, 3) := dk_180 0 85 (dk_at dksX0_fits_0 15 rfl rfl)
theorem dX0_fits_18 : decode cX0_fits 18 = .ok (.aload_n 0, 1) := dk_42 (dk_at dksX0_fits_0 18 rfl rfl)
theorem dX0_fits_19 : decode cX0_fits 19 = .ok (.getfield 19, 3) := dk_180 0 19 (dk_at dksX0_fits_0 19 rfl rfl)
theorem dX0_fits_22 : decode cX0_fits 22 = .ok (.iload_n 1, 1) := dk_27 (dk_at dksX0_fits_0 22 rfl rfl)
theorem dX0_fits_23 : decode cX0_fits 23 = .ok (.aaload, 1) := dk_50 (dk_at dksX0_fits_0 23 rfl rfl)
theorem dX0_fits_24 : decode cX0_fits 24 = .ok (.invokevirtual 339, 3) := dk_182 1 83 (dk_at dksX0_fits_1 0 rfl rfl)
theorem dX0_fits_27 : decode cX0_fits 27 = .ok (.getfield 343, 3) := dk_180 1 87 (dk_at dksX0_fits_1 3 rfl rfl)
theorem dX0_fits_30 : decode cX0_fits 30 = .ok (.ireturn, 1) := dk_172 (dk_at dksX0_fits_1 6 rfl rfl)
abbrev cX0_whyNot : ByteArray := prog_1_method_74_code
def yX0_whyNot : MethodName := ⟨RX0, "whyNot", "(I)I"⟩
def dkwX0_whyNot_4 : List UInt8 := [167, 255, 213, 3, 172]
abbrev dktX0_whyNot_4 : List UInt8 := dkwX0_whyNot_4 ++ []
def dkwX0_whyNot_3 : List UInt8 := [153, 0, 17, 42, 44, 29, 4, 96, 182, 1, 76, 182, 0, 151, 154, 0, 6, 16, 254, 172, 132, 3, 2]
abbrev dktX0_whyNot_3 : List UInt8 := dkwX0_whyNot_3 ++ dktX0_whyNot_4
def dkwX0_whyNot_2 : List UInt8 := [172, 3, 62, 29, 44, 182, 1, 73, 162, 0, 41, 44, 29, 182, 1, 76, 9, 20, 0, 149, 184, 0, 11]
abbrev dktX0_whyNot_2 : List UInt8 := dkwX0_whyNot_2 ++ dktX0_whyNot_3
def dkwX0_whyNot_1 : List UInt8 := [27, 50, 77, 44, 180, 1, 69, 199, 0, 6, 16, 250, 172, 44, 182, 1, 73, 5, 112, 153, 0, 6, 16, 254]
abbrev dktX0_whyNot_1 : List UInt8 := dkwX0_whyNot_1 ++ dktX0_whyNot_2
def dkwX0_whyNot_0 : List UInt8 := [27, 184, 0, 15, 153, 0, 13, 42, 180, 0, 47, 182, 0, 108, 154, 0, 6, 16, 254, 172, 42, 180, 0, 19]
abbrev dktX0_whyNot_0 : List UInt8 := dkwX0_whyNot_0 ++ dktX0_whyNot_1
theorem dksX0_whyNot_0 : cX0_whyNot.data.toList.drop 0 = dktX0_whyNot_0 := by decide +kernel
theorem dksX0_whyNot_1 : cX0_whyNot.data.toList.drop 24 = dktX0_whyNot_1 := dk_seg dksX0_whyNot_0 24 rfl rfl
theorem dksX0_whyNot_2 : cX0_whyNot.data.toList.drop 48 = dktX0_whyNot_2 := dk_seg dksX0_whyNot_1 24 rfl rfl
theorem dksX0_whyNot_3 : cX0_whyNot.data.toList.drop 71 = dktX0_whyNot_3 := dk_seg dksX0_whyNot_2 23 rfl rfl
theorem dksX0_whyNot_4 : cX0_whyNot.data.toList.drop 94 = dktX0_whyNot_4 := dk_seg dksX0_whyNot_3 23 rfl rfl
theorem dX0_whyNot_0 : decode cX0_whyNot 0 = .ok (.iload_n 1, 1) := dk_27 (dk_at dksX0_whyNot_0 0 rfl rfl)
theorem dX0_whyNot_1 : decode cX0_whyNot 1 = .ok (.invokestatic 15, 3) := dk_184 0 15 (dk_at dksX0_whyNot_0 1 rfl rfl)
theorem dX0_whyNot_4 : decode cX0_whyNot 4 = .ok (.ifCond .eq 13, 3) := dk_153 0 13 (dk_at dksX0_whyNot_0 4 rfl rfl)
theorem dX0_whyNot_7 : decode cX0_whyNot 7 = .ok (.aload_n 0, 1) := dk_42 (dk_at dksX0_whyNot_0 7 rfl rfl)
theorem dX0_whyNot_8 : decode cX0_whyNot 8 = .ok (.getfield 47, 3) := dk_180 0 47 (dk_at dksX0_whyNot_0 8 rfl rfl)
theorem dX0_whyNot_11 : decode cX0_whyNot 11 = .ok (.invokevirtual 108, 3) := dk_182 0 108 (dk_at dksX0_whyNot_0 11 rfl rfl)
theorem dX0_whyNot_14 : decode cX0_whyNot 14 = .ok (.ifCond .ne 6, 3) := dk_154 0 6 (dk_at dksX0_whyNot_0 14 rfl rfl)
theorem dX0_whyNot_17 : decode cX0_whyNot 17 = .ok (.bipush (-2), 2) := dk_16 254 (dk_at dksX0_whyNot_0 17 rfl rfl)
theorem dX0_whyNot_19 : decode cX0_whyNot 19 = .ok (.ireturn, 1) := dk_172 (dk_at dksX0_whyNot_0 19 rfl rfl)
theorem dX0_whyNot_20 : decode cX0_whyNot 20 = .ok (.aload_n 0, 1) := dk_42 (dk_at dksX0_whyNot_0 20 rfl rfl)
theorem dX0_whyNot_21 : decode cX0_whyNot 21 = .ok (.getfield 19, 3) := dk_180 0 19 (dk_at dksX0_whyNot_0 21 rfl rfl)
theorem dX0_whyNot_24 : decode cX0_whyNot 24 = .ok (.iload_n 1, 1) := dk_27 (dk_at dksX0_whyNot_1 0 rfl rfl)
theorem dX0_whyNot_25 : decode cX0_whyNot 25 = .ok (.aaload, 1) := dk_50 (dk_at dksX0_whyNot_1 1 rfl rfl)
theorem dX0_whyNot_26 : decode cX0_whyNot 26 = .ok (.astore_n 2, 1) := dk_77 (dk_at dksX0_whyNot_1 2 rfl rfl)
theorem dX0_whyNot_27 : decode cX0_whyNot 27 = .ok (.aload_n 2, 1) := dk_44 (dk_at dksX0_whyNot_1 3 rfl rfl)
theorem dX0_whyNot_28 : decode cX0_whyNot 28 = .ok (.getfield 325, 3) := dk_180 1 69 (dk_at dksX0_whyNot_1 4 rfl rfl)
theorem dX0_whyNot_31 : decode cX0_whyNot 31 = .ok (.ifnonnull 6, 3) := dk_199 0 6 (dk_at dksX0_whyNot_1 7 rfl rfl)
theorem dX0_whyNot_34 : decode cX0_whyNot 34 = .ok (.bipush (-6), 2) := dk_16 250 (dk_at dksX0_whyNot_1 10 rfl rfl)
theorem dX0_whyNot_36 : decode cX0_whyNot 36 = .ok (.ireturn, 1) := dk_172 (dk_at dksX0_whyNot_1 12 rfl rfl)
theorem dX0_whyNot_37 : decode cX0_whyNot 37 = .ok (.aload_n 2, 1) := dk_44 (dk_at dksX0_whyNot_1 13 rfl rfl)
theorem dX0_whyNot_38 : decode cX0_whyNot 38 = .ok (.invokevirtual 329, 3) := dk_182 1 73 (dk_at dksX0_whyNot_1 14 rfl rfl)
theorem dX0_whyNot_41 : decode cX0_whyNot 41 = .ok (.iconst 2, 1) := dk_5 (dk_at dksX0_whyNot_1 17 rfl rfl)
theorem dX0_whyNot_42 : decode cX0_whyNot 42 = .ok (.irem, 1) := dk_112 (dk_at dksX0_whyNot_1 18 rfl rfl)
theorem dX0_whyNot_43 : decode cX0_whyNot 43 = .ok (.ifCond .eq 6, 3) := dk_153 0 6 (dk_at dksX0_whyNot_1 19 rfl rfl)
theorem dX0_whyNot_46 : decode cX0_whyNot 46 = .ok (.bipush (-2), 2) := dk_16 254 (dk_at dksX0_whyNot_1 22 rfl rfl)
theorem dX0_whyNot_48 : decode cX0_whyNot 48 = .ok (.ireturn, 1) := dk_172 (dk_at dksX0_whyNot_2 0 rfl rfl)
theorem dX0_whyNot_49 : decode cX0_whyNot 49 = .ok (.iconst 0, 1) := dk_3 (dk_at dksX0_whyNot_2 1 rfl rfl)
theorem dX0_whyNot_50 : decode cX0_whyNot 50 = .ok (.istore_n 3, 1) := dk_62 (dk_at dksX0_whyNot_2 2 rfl rfl)
theorem dX0_whyNot_51 : decode cX0_whyNot 51 = .ok (.iload_n 3, 1) := dk_29 (dk_at dksX0_whyNot_2 3 rfl rfl)
theorem dX0_whyNot_52 : decode cX0_whyNot 52 = .ok (.aload_n 2, 1) := dk_44 (dk_at dksX0_whyNot_2 4 rfl rfl)
theorem dX0_whyNot_53 : decode cX0_whyNot 53 = .ok (.invokevirtual 329, 3) := dk_182 1 73 (dk_at dksX0_whyNot_2 5 rfl rfl)
theorem dX0_whyNot_56 : decode cX0_whyNot 56 = .ok (.if_icmp .ge 41, 3) := dk_162 0 41 (dk_at dksX0_whyNot_2 8 rfl rfl)
theorem dX0_whyNot_59 : decode cX0_whyNot 59 = .ok (.aload_n 2, 1) := dk_44 (dk_at dksX0_whyNot_2 11 rfl rfl)
theorem dX0_whyNot_60 : decode cX0_whyNot 60 = .ok (.iload_n 3, 1) := dk_29 (dk_at dksX0_whyNot_2 12 rfl rfl)
theorem dX0_whyNot_61 : decode cX0_whyNot 61 = .ok (.invokevirtual 332, 3) := dk_182 1 76 (dk_at dksX0_whyNot_2 13 rfl rfl)
theorem dX0_whyNot_64 : decode cX0_whyNot 64 = .ok (.lconst 0, 1) := dk_9 (dk_at dksX0_whyNot_2 16 rfl rfl)
theorem dX0_whyNot_65 : decode cX0_whyNot 65 = .ok (.ldc2_w 149, 3) := dk_20 0 149 (dk_at dksX0_whyNot_2 17 rfl rfl)
theorem dX0_whyNot_68 : decode cX0_whyNot 68 = .ok (.invokestatic 11, 3) := dk_184 0 11 (dk_at dksX0_whyNot_2 20 rfl rfl)
theorem dX0_whyNot_71 : decode cX0_whyNot 71 = .ok (.ifCond .eq 17, 3) := dk_153 0 17 (dk_at dksX0_whyNot_3 0 rfl rfl)
theorem dX0_whyNot_74 : decode cX0_whyNot 74 = .ok (.aload_n 0, 1) := dk_42 (dk_at dksX0_whyNot_3 3 rfl rfl)
theorem dX0_whyNot_75 : decode cX0_whyNot 75 = .ok (.aload_n 2, 1) := dk_44 (dk_at dksX0_whyNot_3 4 rfl rfl)
theorem dX0_whyNot_76 : decode cX0_whyNot 76 = .ok (.iload_n 3, 1) := dk_29 (dk_at dksX0_whyNot_3 5 rfl rfl)
theorem dX0_whyNot_77 : decode cX0_whyNot 77 = .ok (.iconst 1, 1) := dk_4 (dk_at dksX0_whyNot_3 6 rfl rfl)
theorem dX0_whyNot_78 : decode cX0_whyNot 78 = .ok (.iadd, 1) := dk_96 (dk_at dksX0_whyNot_3 7 rfl rfl)
theorem dX0_whyNot_79 : decode cX0_whyNot 79 = .ok (.invokevirtual 332, 3) := dk_182 1 76 (dk_at dksX0_whyNot_3 8 rfl rfl)
theorem dX0_whyNot_82 : decode cX0_whyNot 82 = .ok (.invokevirtual 151, 3) := dk_182 0 151 (dk_at dksX0_whyNot_3 11 rfl rfl)
theorem dX0_whyNot_85 : decode cX0_whyNot 85 = .ok (.ifCond .ne 6, 3) := dk_154 0 6 (dk_at dksX0_whyNot_3 14 rfl rfl)
theorem dX0_whyNot_88 : decode cX0_whyNot 88 = .ok (.bipush (-2), 2) := dk_16 254 (dk_at dksX0_whyNot_3 17 rfl rfl)
theorem dX0_whyNot_90 : decode cX0_whyNot 90 = .ok (.ireturn, 1) := dk_172 (dk_at dksX0_whyNot_3 19 rfl rfl)
theorem dX0_whyNot_91 : decode cX0_whyNot 91 = .ok (.iinc 3 2, 3) := dk_132 3 2 (dk_at dksX0_whyNot_3 20 rfl rfl)
theorem dX0_whyNot_94 : decode cX0_whyNot 94 = .ok (.goto (-43), 3) := dk_167 255 213 (dk_at dksX0_whyNot_4 0 rfl rfl)
theorem dX0_whyNot_97 : decode cX0_whyNot 97 = .ok (.iconst 0, 1) := dk_3 (dk_at dksX0_whyNot_4 3 rfl rfl)
theorem dX0_whyNot_98 : decode cX0_whyNot 98 = .ok (.ireturn, 1) := dk_172 (dk_at dksX0_whyNot_4 4 rfl rfl)
abbrev cX0_isSeen : ByteArray := prog_1_method_75_code
def yX0_isSeen : MethodName := ⟨RX0, "isSeen", "(LQuotedRiver$Slot;)Z"⟩
def dkwX0_isSeen_1 : List UInt8 := [133, 43, 28, 4, 96, 182, 1, 76, 148, 153, 0, 5, 3, 172, 132, 2, 2, 167, 255, 217, 4, 172]
abbrev dktX0_isSeen_1 : List UInt8 := dkwX0_isSeen_1 ++ []
def dkwX0_isSeen_0 : List UInt8 := [3, 61, 28, 43, 182, 1, 73, 162, 0, 37, 42, 180, 0, 75, 180, 0, 206, 43, 28, 182, 1, 76, 136, 46]
abbrev dktX0_isSeen_0 : List UInt8 := dkwX0_isSeen_0 ++ dktX0_isSeen_1
theorem dksX0_isSeen_0 : cX0_isSeen.data.toList.drop 0 = dktX0_isSeen_0 := by decide +kernel
theorem dksX0_isSeen_1 : cX0_isSeen.data.toList.drop 24 = dktX0_isSeen_1 := dk_seg dksX0_isSeen_0 24 rfl rfl
theorem dX0_isSeen_0 : decode cX0_isSeen 0 = .ok (.iconst 0, 1) := dk_3 (dk_at dksX0_isSeen_0 0 rfl rfl)
theorem dX0_isSeen_1 : decode cX0_isSeen 1 = .ok (.istore_n 2, 1) := dk_61 (dk_at dksX0_isSeen_0 1 rfl rfl)
theorem dX0_isSeen_2 : decode cX0_isSeen 2 = .ok (.iload_n 2, 1) := dk_28 (dk_at dksX0_isSeen_0 2 rfl rfl)
theorem dX0_isSeen_3 : decode cX0_isSeen 3 = .ok (.aload_n 1, 1) := dk_43 (dk_at dksX0_isSeen_0 3 rfl rfl)
theorem dX0_isSeen_4 : decode cX0_isSeen 4 = .ok (.invokevirtual 329, 3) := dk_182 1 73 (dk_at dksX0_isSeen_0 4 rfl rfl)
theorem dX0_isSeen_7 : decode cX0_isSeen 7 = .ok (.if_icmp .ge 37, 3) := dk_162 0 37 (dk_at dksX0_isSeen_0 7 rfl rfl)
theorem dX0_isSeen_10 : decode cX0_isSeen 10 = .ok (.aload_n 0, 1) := dk_42 (dk_at dksX0_isSeen_0 10 rfl rfl)
theorem dX0_isSeen_11 : decode cX0_isSeen 11 = .ok (.getfield 75, 3) := dk_180 0 75 (dk_at dksX0_isSeen_0 11 rfl rfl)
theorem dX0_isSeen_14 : decode cX0_isSeen 14 = .ok (.getfield 206, 3) := dk_180 0 206 (dk_at dksX0_isSeen_0 14 rfl rfl)
theorem dX0_isSeen_17 : decode cX0_isSeen 17 = .ok (.aload_n 1, 1) := dk_43 (dk_at dksX0_isSeen_0 17 rfl rfl)
theorem dX0_isSeen_18 : decode cX0_isSeen 18 = .ok (.iload_n 2, 1) := dk_28 (dk_at dksX0_isSeen_0 18 rfl rfl)
theorem dX0_isSeen_19 : decode cX0_isSeen 19 = .ok (.invokevirtual 332, 3) := dk_182 1 76 (dk_at dksX0_isSeen_0 19 rfl rfl)
theorem dX0_isSeen_22 : decode cX0_isSeen 22 = .ok (.l2i, 1) := dk_136 (dk_at dksX0_isSeen_0 22 rfl rfl)
theorem dX0_isSeen_23 : decode cX0_isSeen 23 = .ok (.iaload, 1) := dk_46 (dk_at dksX0_isSeen_0 23 rfl rfl)
theorem dX0_isSeen_24 : decode cX0_isSeen 24 = .ok (.i2l, 1) := dk_133 (dk_at dksX0_isSeen_1 0 rfl rfl)
theorem dX0_isSeen_25 : decode cX0_isSeen 25 = .ok (.aload_n 1, 1) := dk_43 (dk_at dksX0_isSeen_1 1 rfl rfl)
theorem dX0_isSeen_26 : decode cX0_isSeen 26 = .ok (.iload_n 2, 1) := dk_28 (dk_at dksX0_isSeen_1 2 rfl rfl)
theorem dX0_isSeen_27 : decode cX0_isSeen 27 = .ok (.iconst 1, 1) := dk_4 (dk_at dksX0_isSeen_1 3 rfl rfl)
theorem dX0_isSeen_28 : decode cX0_isSeen 28 = .ok (.iadd, 1) := dk_96 (dk_at dksX0_isSeen_1 4 rfl rfl)
theorem dX0_isSeen_29 : decode cX0_isSeen 29 = .ok (.invokevirtual 332, 3) := dk_182 1 76 (dk_at dksX0_isSeen_1 5 rfl rfl)
theorem dX0_isSeen_32 : decode cX0_isSeen 32 = .ok (.lcmp, 1) := dk_148 (dk_at dksX0_isSeen_1 8 rfl rfl)
theorem dX0_isSeen_33 : decode cX0_isSeen 33 = .ok (.ifCond .eq 5, 3) := dk_153 0 5 (dk_at dksX0_isSeen_1 9 rfl rfl)
theorem dX0_isSeen_36 : decode cX0_isSeen 36 = .ok (.iconst 0, 1) := dk_3 (dk_at dksX0_isSeen_1 12 rfl rfl)
theorem dX0_isSeen_37 : decode cX0_isSeen 37 = .ok (.ireturn, 1) := dk_172 (dk_at dksX0_isSeen_1 13 rfl rfl)
theorem dX0_isSeen_38 : decode cX0_isSeen 38 = .ok (.iinc 2 2, 3) := dk_132 2 2 (dk_at dksX0_isSeen_1 14 rfl rfl)
theorem dX0_isSeen_41 : decode cX0_isSeen 41 = .ok (.goto (-39), 3) := dk_167 255 217 (dk_at dksX0_isSeen_1 17 rfl rfl)
theorem dX0_isSeen_44 : decode cX0_isSeen 44 = .ok (.iconst 1, 1) := dk_4 (dk_at dksX0_isSeen_1 20 rfl rfl)
theorem dX0_isSeen_45 : decode cX0_isSeen 45 = .ok (.ireturn, 1) := dk_172 (dk_at dksX0_isSeen_1 21 rfl rfl)
abbrev cX0_sources : ByteArray := prog_1_method_77_code
def yX0_sources : MethodName := ⟨RX0, "sources", "(I)I"⟩
def dkwX0_sources_1 : List UInt8 := [182, 1, 83, 180, 1, 89, 172]
abbrev dktX0_sources_1 : List UInt8 := dkwX0_sources_1 ++ []
def dkwX0_sources_0 : List UInt8 := [42, 27, 182, 1, 80, 61, 28, 153, 0, 7, 28, 167, 0, 19, 42, 180, 0, 85, 42, 180, 0, 19, 27, 50]
abbrev dktX0_sources_0 : List UInt8 := dkwX0_sources_0 ++ dktX0_sources_1
theorem dksX0_sources_0 : cX0_sources.data.toList.drop 0 = dktX0_sources_0 := by decide +kernel
theorem dksX0_sources_1 : cX0_sources.data.toList.drop 24 = dktX0_sources_1 := dk_seg dksX0_sources_0 24 rfl rfl
theorem dX0_sources_0 : decode cX0_sources 0 = .ok (.aload_n 0, 1) := dk_42 (dk_at dksX0_sources_0 0 rfl rfl)
theorem dX0_sources_1 : decode cX0_sources 1 = .ok (.iload_n 1, 1) := dk_27 (dk_at dksX0_sources_0 1 rfl rfl)
theorem dX0_sources_2 : decode cX0_sources 2 = .ok (.invokevirtual 336, 3) := dk_182 1 80 (dk_at dksX0_sources_0 2 rfl rfl)
theorem dX0_sources_5 : decode cX0_sources 5 = .ok (.istore_n 2, 1) := dk_61 (dk_at dksX0_sources_0 5 rfl rfl)
theorem dX0_sources_6 : decode cX0_sources 6 = .ok (.iload_n 2, 1) := dk_28 (dk_at dksX0_sources_0 6 rfl rfl)
theorem dX0_sources_7 : decode cX0_sources 7 = .ok (.ifCond .eq 7, 3) := dk_153 0 7 (dk_at dksX0_sources_0 7 rfl rfl)
theorem dX0_sources_10 : decode cX0_sources 10 = .ok (.iload_n 2, 1) := dk_28 (dk_at dksX0_sources_0 10 rfl rfl)
theorem dX0_sources_11 : decode cX0_sources 11 = .ok (.goto 19, 3) := dk_167 0 19 (dk_at dksX0_sources_0 11 rfl rfl)
theorem dX0_sources_14 : decode cX0_sources 14 = .ok (.aload_n 0, 1) := dk_42 (dk_at dksX0_sources_0 14 rfl rfl)
theorem dX0_sources_15 : decode cX0_sources 15 = .ok (.getfield 85, 3) := dk_180 0 85 (dk_at dksX0_sources_0 15 rfl rfl)
theorem dX0_sources_18 : decode cX0_sources 18 = .ok (.aload_n 0, 1) := dk_42 (dk_at dksX0_sources_0 18 rfl rfl)
theorem dX0_sources_19 : decode cX0_sources 19 = .ok (.getfield 19, 3) := dk_180 0 19 (dk_at dksX0_sources_0 19 rfl rfl)
theorem dX0_sources_22 : decode cX0_sources 22 = .ok (.iload_n 1, 1) := dk_27 (dk_at dksX0_sources_0 22 rfl rfl)
theorem dX0_sources_23 : decode cX0_sources 23 = .ok (.aaload, 1) := dk_50 (dk_at dksX0_sources_0 23 rfl rfl)
theorem dX0_sources_24 : decode cX0_sources 24 = .ok (.invokevirtual 339, 3) := dk_182 1 83 (dk_at dksX0_sources_1 0 rfl rfl)
theorem dX0_sources_27 : decode cX0_sources 27 = .ok (.getfield 345, 3) := dk_180 1 89 (dk_at dksX0_sources_1 3 rfl rfl)
theorem dX0_sources_30 : decode cX0_sources 30 = .ok (.ireturn, 1) := dk_172 (dk_at dksX0_sources_1 6 rfl rfl)
abbrev cX0_source : ByteArray := prog_1_method_78_code
def yX0_source : MethodName := ⟨RX0, "source", "(I)I"⟩
def dkwX0_source_1 : List UInt8 := [182, 1, 83, 180, 1, 91, 172]
abbrev dktX0_source_1 : List UInt8 := dkwX0_source_1 ++ []
def dkwX0_source_0 : List UInt8 := [42, 27, 182, 1, 80, 61, 28, 153, 0, 7, 28, 167, 0, 19, 42, 180, 0, 85, 42, 180, 0, 19, 27, 50]
abbrev dktX0_source_0 : List UInt8 := dkwX0_source_0 ++ dktX0_source_1
theorem dksX0_source_0 : cX0_source.data.toList.drop 0 = dktX0_source_0 := by decide +kernel
theorem dksX0_source_1 : cX0_source.data.toList.drop 24 = dktX0_source_1 := dk_seg dksX0_source_0 24 rfl rfl
theorem dX0_source_0 : decode cX0_source 0 = .ok (.aload_n 0, 1) := dk_42 (dk_at dksX0_source_0 0 rfl rfl)
theorem dX0_source_1 : decode cX0_source 1 = .ok (.iload_n 1, 1) := dk_27 (dk_at dksX0_source_0 1 rfl rfl)
theorem dX0_source_2 : decode cX0_source 2 = .ok (.invokevirtual 336, 3) := dk_182 1 80 (dk_at dksX0_source_0 2 rfl rfl)
theorem dX0_source_5 : decode cX0_source 5 = .ok (.istore_n 2, 1) := dk_61 (dk_at dksX0_source_0 5 rfl rfl)
theorem dX0_source_6 : decode cX0_source 6 = .ok (.iload_n 2, 1) := dk_28 (dk_at dksX0_source_0 6 rfl rfl)
theorem dX0_source_7 : decode cX0_source 7 = .ok (.ifCond .eq 7, 3) := dk_153 0 7 (dk_at dksX0_source_0 7 rfl rfl)
theorem dX0_source_10 : decode cX0_source 10 = .ok (.iload_n 2, 1) := dk_28 (dk_at dksX0_source_0 10 rfl rfl)
theorem dX0_source_11 : decode cX0_source 11 = .ok (.goto 19, 3) := dk_167 0 19 (dk_at dksX0_source_0 11 rfl rfl)
theorem dX0_source_14 : decode cX0_source 14 = .ok (.aload_n 0, 1) := dk_42 (dk_at dksX0_source_0 14 rfl rfl)
theorem dX0_source_15 : decode cX0_source 15 = .ok (.getfield 85, 3) := dk_180 0 85 (dk_at dksX0_source_0 15 rfl rfl)
theorem dX0_source_18 : decode cX0_source 18 = .ok (.aload_n 0, 1) := dk_42 (dk_at dksX0_source_0 18 rfl rfl)
theorem dX0_source_19 : decode cX0_source 19 = .ok (.getfield 19, 3) := dk_180 0 19 (dk_at dksX0_source_0 19 rfl rfl)
theorem dX0_source_22 : decode cX0_source 22 = .ok (.iload_n 1, 1) := dk_27 (dk_at dksX0_source_0 22 rfl rfl)
theorem dX0_source_23 : decode cX0_source 23 = .ok (.aaload, 1) := dk_50 (dk_at dksX0_source_0 23 rfl rfl)
theorem dX0_source_24 : decode cX0_source 24 = .ok (.invokevirtual 339, 3) := dk_182 1 83 (dk_at dksX0_source_1 0 rfl rfl)
theorem dX0_source_27 : decode cX0_source 27 = .ok (.getfield 347, 3) := dk_180 1 91 (dk_at dksX0_source_1 3 rfl rfl)
theorem dX0_source_30 : decode cX0_source 30 = .ok (.ireturn, 1) := dk_172 (dk_at dksX0_source_1 6 rfl rfl)
abbrev cX0_ask : ByteArray := prog_1_method_79_code
def yX0_ask : MethodName := ⟨RX0, "ask", "(I)I"⟩
def dkwX0_ask_1 : List UInt8 := [182, 1, 83, 180, 1, 93, 172]
abbrev dktX0_ask_1 : List UInt8 := dkwX0_ask_1 ++ []
def dkwX0_ask_0 : List UInt8 := [42, 27, 182, 1, 80, 61, 28, 153, 0, 7, 28, 167, 0, 19, 42, 180, 0, 85, 42, 180, 0, 19, 27, 50]
abbrev dktX0_ask_0 : List UInt8 := dkwX0_ask_0 ++ dktX0_ask_1
theorem dksX0_ask_0 : cX0_ask.data.toList.drop 0 = dktX0_ask_0 := by decide +kernel
theorem dksX0_ask_1 : cX0_ask.data.toList.drop 24 = dktX0_ask_1 := dk_seg dksX0_ask_0 24 rfl rfl
theorem dX0_ask_0 : decode cX0_ask 0 = .ok (.aload_n 0, 1) := dk_42 (dk_at dksX0_ask_0 0 rfl rfl)
theorem dX0_ask_1 : decode cX0_ask 1 = .ok (.iload_n 1, 1) := dk_27 (dk_at dksX0_ask_0 1 rfl rfl)
theorem dX0_ask_2 : decode cX0_ask 2 = .ok (.invokevirtual 336, 3) := dk_182 1 80 (dk_at dksX0_ask_0 2 rfl rfl)
theorem dX0_ask_5 : decode cX0_ask 5 = .ok (.istore_n 2, 1) := dk_61 (dk_at dksX0_ask_0 5 rfl rfl)
theorem dX0_ask_6 : decode cX0_ask 6 = .ok (.iload_n 2, 1) := dk_28 (dk_at dksX0_ask_0 6 rfl rfl)
theorem dX0_ask_7 : decode cX0_ask 7 = .ok (.ifCond .eq 7, 3) := dk_153 0 7 (dk_at dksX0_ask_0 7 rfl rfl)
theorem dX0_ask_10 : decode cX0_ask 10 = .ok (.iload_n 2, 1) := dk_28 (dk_at dksX0_ask_0 10 rfl rfl)
theorem dX0_ask_11 : decode cX0_ask 11 = .ok (.goto 19, 3) := dk_167 0 19 (dk_at dksX0_ask_0 11 rfl rfl)
theorem dX0_ask_14 : decode cX0_ask 14 = .ok (.aload_n 0, 1) := dk_42 (dk_at dksX0_ask_0 14 rfl rfl)
theorem dX0_ask_15 : decode cX0_ask 15 = .ok (.getfield 85, 3) := dk_180 0 85 (dk_at dksX0_ask_0 15 rfl rfl)
theorem dX0_ask_18 : decode cX0_ask 18 = .ok (.aload_n 0, 1) := dk_42 (dk_at dksX0_ask_0 18 rfl rfl)
theorem dX0_ask_19 : decode cX0_ask 19 = .ok (.getfield 19, 3) := dk_180 0 19 (dk_at dksX0_ask_0 19 rfl rfl)
theorem dX0_ask_22 : decode cX0_ask 22 = .ok (.iload_n 1, 1) := dk_27 (dk_at dksX0_ask_0 22 rfl rfl)
theorem dX0_ask_23 : decode cX0_ask 23 = .ok (.aaload, 1) := dk_50 (dk_at dksX0_ask_0 23 rfl rfl)
theorem dX0_ask_24 : decode cX0_ask 24 = .ok (.invokevirtual 339, 3) := dk_182 1 83 (dk_at dksX0_ask_1 0 rfl rfl)
theorem dX0_ask_27 : decode cX0_ask 27 = .ok (.getfield 349, 3) := dk_180 1 93 (dk_at dksX0_ask_1 3 rfl rfl)
theorem dX0_ask_30 : decode cX0_ask 30 = .ok (.ireturn, 1) := dk_172 (dk_at dksX0_ask_1 6 rfl rfl)
abbrev cX0_doubts : ByteArray := prog_1_method_80_code
def yX0_doubts : MethodName := ⟨RX0, "doubts", "(I)I"⟩
def dkwX0_doubts_1 : List UInt8 := [182, 1, 83, 180, 1, 96, 172]
abbrev dktX0_doubts_1 : List UInt8 := dkwX0_doubts_1 ++ []
def dkwX0_doubts_0 : List UInt8 := [42, 27, 182, 1, 80, 61, 28, 153, 0, 7, 28, 167, 0, 19, 42, 180, 0, 85, 42, 180, 0, 19, 27, 50]
abbrev dktX0_doubts_0 : List UInt8 := dkwX0_doubts_0 ++ dktX0_doubts_1
theorem dksX0_doubts_0 : cX0_doubts.data.toList.drop 0 = dktX0_doubts_0 := by decide +kernel
theorem dksX0_doubts_1 : cX0_doubts.data.toList.drop 24 = dktX0_doubts_1 := dk_seg dksX0_doubts_0 24 rfl rfl
theorem dX0_doubts_0 : decode cX0_doubts 0 = .ok (.aload_n 0, 1) := dk_42 (dk_at dksX0_doubts_0 0 rfl rfl)
theorem dX0_doubts_1 : decode cX0_doubts 1 = .ok (.iload_n 1, 1) := dk_27 (dk_at dksX0_doubts_0 1 rfl rfl)
theorem dX0_doubts_2 : decode cX0_doubts 2 = .ok (.invokevirtual 336, 3) := dk_182 1 80 (dk_at dksX0_doubts_0 2 rfl rfl)
theorem dX0_doubts_5 : decode cX0_doubts 5 = .ok (.istore_n 2, 1) := dk_61 (dk_at dksX0_doubts_0 5 rfl rfl)
theorem dX0_doubts_6 : decode cX0_doubts 6 = .ok (.iload_n 2, 1) := dk_28 (dk_at dksX0_doubts_0 6 rfl rfl)
theorem dX0_doubts_7 : decode cX0_doubts 7 = .ok (.ifCond .eq 7, 3) := dk_153 0 7 (dk_at dksX0_doubts_0 7 rfl rfl)
theorem dX0_doubts_10 : decode cX0_doubts 10 = .ok (.iload_n 2, 1) := dk_28 (dk_at dksX0_doubts_0 10 rfl rfl)
theorem dX0_doubts_11 : decode cX0_doubts 11 = .ok (.goto 19, 3) := dk_167 0 19 (dk_at dksX0_doubts_0 11 rfl rfl)
theorem dX0_doubts_14 : decode cX0_doubts 14 = .ok (.aload_n 0, 1) := dk_42 (dk_at dksX0_doubts_0 14 rfl rfl)
theorem dX0_doubts_15 : decode cX0_doubts 15 = .ok (.getfield 85, 3) := dk_180 0 85 (dk_at dksX0_doubts_0 15 rfl rfl)
theorem dX0_doubts_18 : decode cX0_doubts 18 = .ok (.aload_n 0, 1) := dk_42 (dk_at dksX0_doubts_0 18 rfl rfl)
theorem dX0_doubts_19 : decode cX0_doubts 19 = .ok (.getfield 19, 3) := dk_180 0 19 (dk_at dksX0_doubts_0 19 rfl rfl)
theorem dX0_doubts_22 : decode cX0_doubts 22 = .ok (.iload_n 1, 1) := dk_27 (dk_at dksX0_doubts_0 22 rfl rfl)
theorem dX0_doubts_23 : decode cX0_doubts 23 = .ok (.aaload, 1) := dk_50 (dk_at dksX0_doubts_0 23 rfl rfl)
theorem dX0_doubts_24 : decode cX0_doubts 24 = .ok (.invokevirtual 339, 3) := dk_182 1 83 (dk_at dksX0_doubts_1 0 rfl rfl)
theorem dX0_doubts_27 : decode cX0_doubts 27 = .ok (.getfield 352, 3) := dk_180 1 96 (dk_at dksX0_doubts_1 3 rfl rfl)
theorem dX0_doubts_30 : decode cX0_doubts 30 = .ok (.ireturn, 1) := dk_172 (dk_at dksX0_doubts_1 6 rfl rfl)
abbrev cX0_turn : ByteArray := prog_1_method_83_code
def yX0_turn : MethodName := ⟨RX0, "turn", "(III)I"⟩
def dkwX0_turn_1 : List UInt8 := [27, 50, 28, 29, 182, 1, 115, 172]
abbrev dktX0_turn_1 : List UInt8 := dkwX0_turn_1 ++ []
def dkwX0_turn_0 : List UInt8 := [42, 27, 28, 29, 182, 1, 111, 54, 4, 21, 4, 153, 0, 8, 21, 4, 167, 0, 15, 42, 42, 180, 0, 19]
abbrev dktX0_turn_0 : List UInt8 := dkwX0_turn_0 ++ dktX0_turn_1
theorem dksX0_turn_0 : cX0_turn.data.toList.drop 0 = dktX0_turn_0 := by decide +kernel
theorem dksX0_turn_1 : cX0_turn.data.toList.drop 24 = dktX0_turn_1 := dk_seg dksX0_turn_0 24 rfl rfl
theorem dX0_turn_0 : decode cX0_turn 0 = .ok (.aload_n 0, 1) := dk_42 (dk_at dksX0_turn_0 0 rfl rfl)
theorem dX0_turn_1 : decode cX0_turn 1 = .ok (.iload_n 1, 1) := dk_27 (dk_at dksX0_turn_0 1 rfl rfl)
theorem dX0_turn_2 : decode cX0_turn 2 = .ok (.iload_n 2, 1) := dk_28 (dk_at dksX0_turn_0 2 rfl rfl)
theorem dX0_turn_3 : decode cX0_turn 3 = .ok (.iload_n 3, 1) := dk_29 (dk_at dksX0_turn_0 3 rfl rfl)
theorem dX0_turn_4 : decode cX0_turn 4 = .ok (.invokevirtual 367, 3) := dk_182 1 111 (dk_at dksX0_turn_0 4 rfl rfl)
theorem dX0_turn_7 : decode cX0_turn 7 = .ok (.istore 4, 2) := dk_54 4 (dk_at dksX0_turn_0 7 rfl rfl)
theorem dX0_turn_9 : decode cX0_turn 9 = .ok (.iload 4, 2) := dk_21 4 (dk_at dksX0_turn_0 9 rfl rfl)
theorem dX0_turn_11 : decode cX0_turn 11 = .ok (.ifCond .eq 8, 3) := dk_153 0 8 (dk_at dksX0_turn_0 11 rfl rfl)
theorem dX0_turn_14 : decode cX0_turn 14 = .ok (.iload 4, 2) := dk_21 4 (dk_at dksX0_turn_0 14 rfl rfl)
theorem dX0_turn_16 : decode cX0_turn 16 = .ok (.goto 15, 3) := dk_167 0 15 (dk_at dksX0_turn_0 16 rfl rfl)
theorem dX0_turn_19 : decode cX0_turn 19 = .ok (.aload_n 0, 1) := dk_42 (dk_at dksX0_turn_0 19 rfl rfl)
theorem dX0_turn_20 : decode cX0_turn 20 = .ok (.aload_n 0, 1) := dk_42 (dk_at dksX0_turn_0 20 rfl rfl)
theorem dX0_turn_21 : decode cX0_turn 21 = .ok (.getfield 19, 3) := dk_180 0 19 (dk_at dksX0_turn_0 21 rfl rfl)
theorem dX0_turn_24 : decode cX0_turn 24 = .ok (.iload_n 1, 1) := dk_27 (dk_at dksX0_turn_1 0 rfl rfl)
theorem dX0_turn_25 : decode cX0_turn 25 = .ok (.aaload, 1) := dk_50 (dk_at dksX0_turn_1 1 rfl rfl)
theorem dX0_turn_26 : decode cX0_turn 26 = .ok (.iload_n 2, 1) := dk_28 (dk_at dksX0_turn_1 2 rfl rfl)
theorem dX0_turn_27 : decode cX0_turn 27 = .ok (.iload_n 3, 1) := dk_29 (dk_at dksX0_turn_1 3 rfl rfl)
theorem dX0_turn_28 : decode cX0_turn 28 = .ok (.invokevirtual 371, 3) := dk_182 1 115 (dk_at dksX0_turn_1 4 rfl rfl)
theorem dX0_turn_31 : decode cX0_turn 31 = .ok (.ireturn, 1) := dk_172 (dk_at dksX0_turn_1 7 rfl rfl)
abbrev cX0_whyNotTurn : ByteArray := prog_1_method_82_code
def yX0_whyNotTurn : MethodName := ⟨RX0, "whyNotTurn", "(III)I"⟩
def dkwX0_whyNotTurn_1 : List UInt8 := [167, 0, 5, 16, 254, 172]
abbrev dktX0_whyNotTurn_1 : List UInt8 := dkwX0_whyNotTurn_1 ++ []
def dkwX0_whyNotTurn_0 : List UInt8 := [42, 28, 182, 0, 173, 153, 0, 20, 42, 29, 133, 182, 0, 151, 153, 0, 11, 42, 27, 182, 1, 80]
abbrev dktX0_whyNotTurn_0 : List UInt8 := dkwX0_whyNotTurn_0 ++ dktX0_whyNotTurn_1
theorem dksX0_whyNotTurn_0 : cX0_whyNotTurn.data.toList.drop 0 = dktX0_whyNotTurn_0 := by decide +kernel
theorem dksX0_whyNotTurn_1 : cX0_whyNotTurn.data.toList.drop 22 = dktX0_whyNotTurn_1 := dk_seg dksX0_whyNotTurn_0 22 rfl rfl
theorem dX0_whyNotTurn_0 : decode cX0_whyNotTurn 0 = .ok (.aload_n 0, 1) := dk_42 (dk_at dksX0_whyNotTurn_0 0 rfl rfl)
theorem dX0_whyNotTurn_1 : decode cX0_whyNotTurn 1 = .ok (.iload_n 2, 1) := dk_28 (dk_at dksX0_whyNotTurn_0 1 rfl rfl)
theorem dX0_whyNotTurn_2 : decode cX0_whyNotTurn 2 = .ok (.invokevirtual 173, 3) := dk_182 0 173 (dk_at dksX0_whyNotTurn_0 2 rfl rfl)
theorem dX0_whyNotTurn_5 : decode cX0_whyNotTurn 5 = .ok (.ifCond .eq 20, 3) := dk_153 0 20 (dk_at dksX0_whyNotTurn_0 5 rfl rfl)
theorem dX0_whyNotTurn_8 : decode cX0_whyNotTurn 8 = .ok (.aload_n 0, 1) := dk_42 (dk_at dksX0_whyNotTurn_0 8 rfl rfl)
theorem dX0_whyNotTurn_9 : decode cX0_whyNotTurn 9 = .ok (.iload_n 3, 1) := dk_29 (dk_at dksX0_whyNotTurn_0 9 rfl rfl)
theorem dX0_whyNotTurn_10 : decode cX0_whyNotTurn 10 = .ok (.i2l, 1) := dk_133 (dk_at dksX0_whyNotTurn_0 10 rfl rfl)
theorem dX0_whyNotTurn_11 : decode cX0_whyNotTurn 11 = .ok (.invokevirtual 151, 3) := dk_182 0 151 (dk_at dksX0_whyNotTurn_0 11 rfl rfl)
theorem dX0_whyNotTurn_14 : decode cX0_whyNotTurn 14 = .ok (.ifCond .eq 11, 3) := dk_153 0 11 (dk_at dksX0_whyNotTurn_0 14 rfl rfl)
theorem dX0_whyNotTurn_17 : decode cX0_whyNotTurn 17 = .ok (.aload_n 0, 1) := dk_42 (dk_at dksX0_whyNotTurn_0 17 rfl rfl)
theorem dX0_whyNotTurn_18 : decode cX0_whyNotTurn 18 = .ok (.iload_n 1, 1) := dk_27 (dk_at dksX0_whyNotTurn_0 18 rfl rfl)
theorem dX0_whyNotTurn_19 : decode cX0_whyNotTurn 19 = .ok (.invokevirtual 336, 3) := dk_182 1 80 (dk_at dksX0_whyNotTurn_0 19 rfl rfl)
theorem dX0_whyNotTurn_22 : decode cX0_whyNotTurn 22 = .ok (.goto 5, 3) := dk_167 0 5 (dk_at dksX0_whyNotTurn_1 0 rfl rfl)
theorem dX0_whyNotTurn_25 : decode cX0_whyNotTurn 25 = .ok (.bipush (-2), 2) := dk_16 254 (dk_at dksX0_whyNotTurn_1 3 rfl rfl)
theorem dX0_whyNotTurn_27 : decode cX0_whyNotTurn 27 = .ok (.ireturn, 1) := dk_172 (dk_at dksX0_whyNotTurn_1 5 rfl rfl)
abbrev cX0_turnsOf : ByteArray := prog_1_method_81_code
def yX0_turnsOf : MethodName := ⟨RX0, "turnsOf", "(LQuotedRiver$Slot;II)I"⟩
def dkwX0_turnsOf_6 : List UInt8 := [167, 255, 168, 42, 180, 0, 68, 89, 180, 1, 105, 4, 96, 181, 1, 105, 167, 255, 132, 21, 4, 172]
abbrev dktX0_turnsOf_6 : List UInt8 := dkwX0_turnsOf_6 ++ []
def dkwX0_turnsOf_5 : List UInt8 := [42, 180, 1, 102, 181, 1, 102, 132, 4, 1, 42, 180, 0, 68, 89, 180, 1, 106, 4, 96, 181, 1, 106]
abbrev dktX0_turnsOf_5 : List UInt8 := dkwX0_turnsOf_5 ++ dktX0_turnsOf_6
def dkwX0_turnsOf_4 : List UInt8 := [154, 0, 24, 16, 10, 42, 180, 0, 68, 180, 1, 105, 104, 42, 180, 0, 68, 180, 1, 106, 96, 167, 0, 7]
abbrev dktX0_turnsOf_4 : List UInt8 := dkwX0_turnsOf_4 ++ dktX0_turnsOf_5
def dkwX0_turnsOf_3 : List UInt8 := [180, 0, 75, 29, 3, 182, 0, 193, 87, 42, 43, 182, 1, 107, 154, 0, 6, 167, 0, 40, 42, 21, 4]
abbrev dktX0_turnsOf_3 : List UInt8 := dkwX0_turnsOf_3 ++ dktX0_turnsOf_4
def dkwX0_turnsOf_2 : List UInt8 := [3, 181, 1, 106, 42, 180, 0, 68, 180, 1, 106, 42, 180, 0, 68, 180, 1, 105, 162, 0, 77, 42]
abbrev dktX0_turnsOf_2 : List UInt8 := dkwX0_turnsOf_2 ++ dktX0_turnsOf_3
def dkwX0_turnsOf_1 : List UInt8 := [42, 180, 0, 68, 4, 181, 1, 105, 42, 180, 0, 68, 180, 1, 105, 16, 9, 163, 0, 118, 42, 180, 0, 68]
abbrev dktX0_turnsOf_1 : List UInt8 := dkwX0_turnsOf_1 ++ dktX0_turnsOf_2
def dkwX0_turnsOf_0 : List UInt8 := [42, 180, 0, 68, 182, 0, 190, 87, 42, 180, 0, 68, 28, 181, 1, 99, 3, 54, 4, 42, 2, 181, 1, 102]
abbrev dktX0_turnsOf_0 : List UInt8 := dkwX0_turnsOf_0 ++ dktX0_turnsOf_1
theorem dksX0_turnsOf_0 : cX0_turnsOf.data.toList.drop 0 = dktX0_turnsOf_0 := by decide +kernel
theorem dksX0_turnsOf_1 : cX0_turnsOf.data.toList.drop 24 = dktX0_turnsOf_1 := dk_seg dksX0_turnsOf_0 24 rfl rfl
theorem dksX0_turnsOf_2 : cX0_turnsOf.data.toList.drop 48 = dktX0_turnsOf_2 := dk_seg dksX0_turnsOf_1 24 rfl rfl
theorem dksX0_turnsOf_3 : cX0_turnsOf.data.toList.drop 70 = dktX0_turnsOf_3 := dk_seg dksX0_turnsOf_2 22 rfl rfl
theorem dksX0_turnsOf_4 : cX0_turnsOf.data.toList.drop 93 = dktX0_turnsOf_4 := dk_seg dksX0_turnsOf_3 23 rfl rfl
theorem dksX0_turnsOf_5 : cX0_turnsOf.data.toList.drop 117 = dktX0_turnsOf_5 := dk_seg dksX0_turnsOf_4 24 rfl rfl
theorem dksX0_turnsOf_6 : cX0_turnsOf.data.toList.drop 140 = dktX0_turnsOf_6 := dk_seg dksX0_turnsOf_5 23 rfl rfl
theorem dX0_turnsOf_0 : decode cX0_turnsOf 0 = .ok (.aload_n 0, 1) := dk_42 (dk_at dksX0_turnsOf_0 0 rfl rfl)
theorem dX0_turnsOf_1 : decode cX0_turnsOf 1 = .ok (.getfield 68, 3) := dk_180 0 68 (dk_at dksX0_turnsOf_0 1 rfl rfl)
theorem dX0_turnsOf_4 : decode cX0_turnsOf 4 = .ok (.invokevirtual 190, 3) := dk_182 0 190 (dk_at dksX0_turnsOf_0 4 rfl rfl)
theorem dX0_turnsOf_7 : decode cX0_turnsOf 7 = .ok (.pop, 1) := dk_87 (dk_at dksX0_turnsOf_0 7 rfl rfl)
theorem dX0_turnsOf_8 : decode cX0_turnsOf 8 = .ok (.aload_n 0, 1) := dk_42 (dk_at dksX0_turnsOf_0 8 rfl rfl)
theorem dX0_turnsOf_9 : decode cX0_turnsOf 9 = .ok (.getfield 68, 3) := dk_180 0 68 (dk_at dksX0_turnsOf_0 9 rfl rfl)
theorem dX0_turnsOf_12 : decode cX0_turnsOf 12 = .ok (.iload_n 2, 1) := dk_28 (dk_at dksX0_turnsOf_0 12 rfl rfl)
theorem dX0_turnsOf_13 : decode cX0_turnsOf 13 = .ok (.putfield 355, 3) := dk_181 1 99 (dk_at dksX0_turnsOf_0 13 rfl rfl)
theorem dX0_turnsOf_16 : decode cX0_turnsOf 16 = .ok (.iconst 0, 1) := dk_3 (dk_at dksX0_turnsOf_0 16 rfl rfl)
theorem dX0_turnsOf_17 : decode cX0_turnsOf 17 = .ok (.istore 4, 2) := dk_54 4 (dk_at dksX0_turnsOf_0 17 rfl rfl)
theorem dX0_turnsOf_19 : decode cX0_turnsOf 19 = .ok (.aload_n 0, 1) := dk_42 (dk_at dksX0_turnsOf_0 19 rfl rfl)
theorem dX0_turnsOf_20 : decode cX0_turnsOf 20 = .ok (.iconst (-1), 1) := dk_2 (dk_at dksX0_turnsOf_0 20 rfl rfl)
theorem dX0_turnsOf_21 : decode cX0_turnsOf 21 = .ok (.putfield 358, 3) := dk_181 1 102 (dk_at dksX0_turnsOf_0 21 rfl rfl)
theorem dX0_turnsOf_24 : decode cX0_turnsOf 24 = .ok (.aload_n 0, 1) := dk_42 (dk_at dksX0_turnsOf_1 0 rfl rfl)
theorem dX0_turnsOf_25 : decode cX0_turnsOf 25 = .ok (.getfield 68, 3) := dk_180 0 68 (dk_at dksX0_turnsOf_1 1 rfl rfl)
theorem dX0_turnsOf_28 : decode cX0_turnsOf 28 = .ok (.iconst 1, 1) := dk_4 (dk_at dksX0_turnsOf_1 4 rfl rfl)
theorem dX0_turnsOf_29 : decode cX0_turnsOf 29 = .ok (.putfield 361, 3) := dk_181 1 105 (dk_at dksX0_turnsOf_1 5 rfl rfl)
theorem dX0_turnsOf_32 : decode cX0_turnsOf 32 = .ok (.aload_n 0, 1) := dk_42 (dk_at dksX0_turnsOf_1 8 rfl rfl)
theorem dX0_turnsOf_33 : decode cX0_turnsOf 33 = .ok (.getfield 68, 3) := dk_180 0 68 (dk_at dksX0_turnsOf_1 9 rfl rfl)
theorem dX0_turnsOf_36 : decode cX0_turnsOf 36 = .ok (.getfield 361, 3) := dk_180 1 105 (dk_at dksX0_turnsOf_1 12 rfl rfl)
theorem dX0_turnsOf_39 : decode cX0_turnsOf 39 = .ok (.bipush 9, 2) := dk_16 9 (dk_at dksX0_turnsOf_1 15 rfl rfl)
theorem dX0_turnsOf_41 : decode cX0_turnsOf 41 = .ok (.if_icmp .gt 118, 3) := dk_163 0 118 (dk_at dksX0_turnsOf_1 17 rfl rfl)
theorem dX0_turnsOf_44 : decode cX0_turnsOf 44 = .ok (.aload_n 0, 1) := dk_42 (dk_at dksX0_turnsOf_1 20 rfl rfl)
theorem dX0_turnsOf_45 : decode cX0_turnsOf 45 = .ok (.getfield 68, 3) := dk_180 0 68 (dk_at dksX0_turnsOf_1 21 rfl rfl)
theorem dX0_turnsOf_48 : decode cX0_turnsOf 48 = .ok (.iconst 0, 1) := dk_3 (dk_at dksX0_turnsOf_2 0 rfl rfl)
theorem dX0_turnsOf_49 : decode cX0_turnsOf 49 = .ok (.putfield 362, 3) := dk_181 1 106 (dk_at dksX0_turnsOf_2 1 rfl rfl)
theorem dX0_turnsOf_52 : decode cX0_turnsOf 52 = .ok (.aload_n 0, 1) := dk_42 (dk_at dksX0_turnsOf_2 4 rfl rfl)
theorem dX0_turnsOf_53 : decode cX0_turnsOf 53 = .ok (.getfield 68, 3) := dk_180 0 68 (dk_at dksX0_turnsOf_2 5 rfl rfl)
theorem dX0_turnsOf_56 : decode cX0_turnsOf 56 = .ok (.getfield 362, 3) := dk_180 1 106 (dk_at dksX0_turnsOf_2 8 rfl rfl)
theorem dX0_turnsOf_59 : decode cX0_turnsOf 59 = .ok (.aload_n 0, 1) := dk_42 (dk_at dksX0_turnsOf_2 11 rfl rfl)
theorem dX0_turnsOf_60 : decode cX0_turnsOf 60 = .ok (.getfield 68, 3) := dk_180 0 68 (dk_at dksX0_turnsOf_2 12 rfl rfl)
theorem dX0_turnsOf_63 : decode cX0_turnsOf 63 = .ok (.getfield 361, 3) := dk_180 1 105 (dk_at dksX0_turnsOf_2 15 rfl rfl)
theorem dX0_turnsOf_66 : decode cX0_turnsOf 66 = .ok (.if_icmp .ge 77, 3) := dk_162 0 77 (dk_at dksX0_turnsOf_2 18 rfl rfl)
theorem dX0_turnsOf_69 : decode cX0_turnsOf 69 = .ok (.aload_n 0, 1) := dk_42 (dk_at dksX0_turnsOf_2 21 rfl rfl)
theorem dX0_turnsOf_70 : decode cX0_turnsOf 70 = .ok (.getfield 75, 3) := dk_180 0 75 (dk_at dksX0_turnsOf_3 0 rfl rfl)
theorem dX0_turnsOf_73 : decode cX0_turnsOf 73 = .ok (.iload_n 3, 1) := dk_29 (dk_at dksX0_turnsOf_3 3 rfl rfl)
theorem dX0_turnsOf_74 : decode cX0_turnsOf 74 = .ok (.iconst 0, 1) := dk_3 (dk_at dksX0_turnsOf_3 4 rfl rfl)
theorem dX0_turnsOf_75 : decode cX0_turnsOf 75 = .ok (.invokevirtual 193, 3) := dk_182 0 193 (dk_at dksX0_turnsOf_3 5 rfl rfl)
theorem dX0_turnsOf_78 : decode cX0_turnsOf 78 = .ok (.pop, 1) := dk_87 (dk_at dksX0_turnsOf_3 8 rfl rfl)
theorem dX0_turnsOf_79 : decode cX0_turnsOf 79 = .ok (.aload_n 0, 1) := dk_42 (dk_at dksX0_turnsOf_3 9 rfl rfl)
theorem dX0_turnsOf_80 : decode cX0_turnsOf 80 = .ok (.aload_n 1, 1) := dk_43 (dk_at dksX0_turnsOf_3 10 rfl rfl)
theorem dX0_turnsOf_81 : decode cX0_turnsOf 81 = .ok (.invokevirtual 363, 3) := dk_182 1 107 (dk_at dksX0_turnsOf_3 11 rfl rfl)
theorem dX0_turnsOf_84 : decode cX0_turnsOf 84 = .ok (.ifCond .ne 6, 3) := dk_154 0 6 (dk_at dksX0_turnsOf_3 14 rfl rfl)
theorem dX0_turnsOf_87 : decode cX0_turnsOf 87 = .ok (.goto 40, 3) := dk_167 0 40 (dk_at dksX0_turnsOf_3 17 rfl rfl)
theorem dX0_turnsOf_90 : decode cX0_turnsOf 90 = .ok (.aload_n 0, 1) := dk_42 (dk_at dksX0_turnsOf_3 20 rfl rfl)
theorem dX0_turnsOf_91 : decode cX0_turnsOf 91 = .ok (.iload 4, 2) := dk_21 4 (dk_at dksX0_turnsOf_3 21 rfl rfl)
theorem dX0_turnsOf_93 : decode cX0_turnsOf 93 = .ok (.ifCond .ne 24, 3) := dk_154 0 24 (dk_at dksX0_turnsOf_4 0 rfl rfl)
theorem dX0_turnsOf_96 : decode cX0_turnsOf 96 = .ok (.bipush 10, 2) := dk_16 10 (dk_at dksX0_turnsOf_4 3 rfl rfl)
theorem dX0_turnsOf_98 : decode cX0_turnsOf 98 = .ok (.aload_n 0, 1) := dk_42 (dk_at dksX0_turnsOf_4 5 rfl rfl)
theorem dX0_turnsOf_99 : decode cX0_turnsOf 99 = .ok (.getfield 68, 3) := dk_180 0 68 (dk_at dksX0_turnsOf_4 6 rfl rfl)
theorem dX0_turnsOf_102 : decode cX0_turnsOf 102 = .ok (.getfield 361, 3) := dk_180 1 105 (dk_at dksX0_turnsOf_4 9 rfl rfl)
theorem dX0_turnsOf_105 : decode cX0_turnsOf 105 = .ok (.imul, 1) := dk_104 (dk_at dksX0_turnsOf_4 12 rfl rfl)
theorem dX0_turnsOf_106 : decode cX0_turnsOf 106 = .ok (.aload_n 0, 1) := dk_42 (dk_at dksX0_turnsOf_4 13 rfl rfl)
theorem dX0_turnsOf_107 : decode cX0_turnsOf 107 = .ok (.getfield 68, 3) := dk_180 0 68 (dk_at dksX0_turnsOf_4 14 rfl rfl)
theorem dX0_turnsOf_110 : decode cX0_turnsOf 110 = .ok (.getfield 362, 3) := dk_180 1 106 (dk_at dksX0_turnsOf_4 17 rfl rfl)
theorem dX0_turnsOf_113 : decode cX0_turnsOf 113 = .ok (.iadd, 1) := dk_96 (dk_at dksX0_turnsOf_4 20 rfl rfl)
theorem dX0_turnsOf_114 : decode cX0_turnsOf 114 = .ok (.goto 7, 3) := dk_167 0 7 (dk_at dksX0_turnsOf_4 21 rfl rfl)
theorem dX0_turnsOf_117 : decode cX0_turnsOf 117 = .ok (.aload_n 0, 1) := dk_42 (dk_at dksX0_turnsOf_5 0 rfl rfl)
theorem dX0_turnsOf_118 : decode cX0_turnsOf 118 = .ok (.getfield 358, 3) := dk_180 1 102 (dk_at dksX0_turnsOf_5 1 rfl rfl)
theorem dX0_turnsOf_121 : decode cX0_turnsOf 121 = .ok (.putfield 358, 3) := dk_181 1 102 (dk_at dksX0_turnsOf_5 4 rfl rfl)
theorem dX0_turnsOf_124 : decode cX0_turnsOf 124 = .ok (.iinc 4 1, 3) := dk_132 4 1 (dk_at dksX0_turnsOf_5 7 rfl rfl)
theorem dX0_turnsOf_127 : decode cX0_turnsOf 127 = .ok (.aload_n 0, 1) := dk_42 (dk_at dksX0_turnsOf_5 10 rfl rfl)
theorem dX0_turnsOf_128 : decode cX0_turnsOf 128 = .ok (.getfield 68, 3) := dk_180 0 68 (dk_at dksX0_turnsOf_5 11 rfl rfl)
theorem dX0_turnsOf_131 : decode cX0_turnsOf 131 = .ok (.dup, 1) := dk_89 (dk_at dksX0_turnsOf_5 14 rfl rfl)
theorem dX0_turnsOf_132 : decode cX0_turnsOf 132 = .ok (.getfield 362, 3) := dk_180 1 106 (dk_at dksX0_turnsOf_5 15 rfl rfl)
theorem dX0_turnsOf_135 : decode cX0_turnsOf 135 = .ok (.iconst 1, 1) := dk_4 (dk_at dksX0_turnsOf_5 18 rfl rfl)
theorem dX0_turnsOf_136 : decode cX0_turnsOf 136 = .ok (.iadd, 1) := dk_96 (dk_at dksX0_turnsOf_5 19 rfl rfl)
theorem dX0_turnsOf_137 : decode cX0_turnsOf 137 = .ok (.putfield 362, 3) := dk_181 1 106 (dk_at dksX0_turnsOf_5 20 rfl rfl)
theorem dX0_turnsOf_140 : decode cX0_turnsOf 140 = .ok (.goto (-88), 3) := dk_167 255 168 (dk_at dksX0_turnsOf_6 0 rfl rfl)
theorem dX0_turnsOf_143 : decode cX0_turnsOf 143 = .ok (.aload_n 0, 1) := dk_42 (dk_at dksX0_turnsOf_6 3 rfl rfl)
theorem dX0_turnsOf_144 : decode cX0_turnsOf 144 = .ok (.getfield 68, 3) := dk_180 0 68 (dk_at dksX0_turnsOf_6 4 rfl rfl)
theorem dX0_turnsOf_147 : decode cX0_turnsOf 147 = .ok (.dup, 1) := dk_89 (dk_at dksX0_turnsOf_6 7 rfl rfl)
theorem dX0_turnsOf_148 : decode cX0_turnsOf 148 = .ok (.getfield 361, 3) := dk_180 1 105 (dk_at dksX0_turnsOf_6 8 rfl rfl)
theorem dX0_turnsOf_151 : decode cX0_turnsOf 151 = .ok (.iconst 1, 1) := dk_4 (dk_at dksX0_turnsOf_6 11 rfl rfl)
theorem dX0_turnsOf_152 : decode cX0_turnsOf 152 = .ok (.iadd, 1) := dk_96 (dk_at dksX0_turnsOf_6 12 rfl rfl)
theorem dX0_turnsOf_153 : decode cX0_turnsOf 153 = .ok (.putfield 361, 3) := dk_181 1 105 (dk_at dksX0_turnsOf_6 13 rfl rfl)
theorem dX0_turnsOf_156 : decode cX0_turnsOf 156 = .ok (.goto (-124), 3) := dk_167 255 132 (dk_at dksX0_turnsOf_6 16 rfl rfl)
theorem dX0_turnsOf_159 : decode cX0_turnsOf 159 = .ok (.iload 4, 2) := dk_21 4 (dk_at dksX0_turnsOf_6 19 rfl rfl)
theorem dX0_turnsOf_161 : decode cX0_turnsOf 161 = .ok (.ireturn, 1) := dk_172 (dk_at dksX0_turnsOf_6 21 rfl rfl)
abbrev cX0_turned : ByteArray := prog_1_method_84_code
def yX0_turned : MethodName := ⟨RX0, "turned", "(III)I"⟩
def dkwX0_turned_1 : List UInt8 := [28, 29, 182, 1, 115, 87, 42, 180, 1, 102, 172]
abbrev dktX0_turned_1 : List UInt8 := dkwX0_turned_1 ++ []
def dkwX0_turned_0 : List UInt8 := [42, 27, 28, 29, 182, 1, 111, 54, 4, 21, 4, 153, 0, 6, 21, 4, 172, 42, 42, 180, 0, 19, 27, 50]
abbrev dktX0_turned_0 : List UInt8 := dkwX0_turned_0 ++ dktX0_turned_1
theorem dksX0_turned_0 : cX0_turned.data.toList.drop 0 = dktX0_turned_0 := by decide +kernel
theorem dksX0_turned_1 : cX0_turned.data.toList.drop 24 = dktX0_turned_1 := dk_seg dksX0_turned_0 24 rfl rfl
theorem dX0_turned_0 : decode cX0_turned 0 = .ok (.aload_n 0, 1) := dk_42 (dk_at dksX0_turned_0 0 rfl rfl)
theorem dX0_turned_1 : decode cX0_turned 1 = .ok (.iload_n 1, 1) := dk_27 (dk_at dksX0_turned_0 1 rfl rfl)
theorem dX0_turned_2 : decode cX0_turned 2 = .ok (.iload_n 2, 1) := dk_28 (dk_at dksX0_turned_0 2 rfl rfl)
theorem dX0_turned_3 : decode cX0_turned 3 = .ok (.iload_n 3, 1) := dk_29 (dk_at dksX0_turned_0 3 rfl rfl)
theorem dX0_turned_4 : decode cX0_turned 4 = .ok (.invokevirtual 367, 3) := dk_182 1 111 (dk_at dksX0_turned_0 4 rfl rfl)
theorem dX0_turned_7 : decode cX0_turned 7 = .ok (.istore 4, 2) := dk_54 4 (dk_at dksX0_turned_0 7 rfl rfl)
theorem dX0_turned_9 : decode cX0_turned 9 = .ok (.iload 4, 2) := dk_21 4 (dk_at dksX0_turned_0 9 rfl rfl)
theorem dX0_turned_11 : decode cX0_turned 11 = .ok (.ifCond .eq 6, 3) := dk_153 0 6 (dk_at dksX0_turned_0 11 rfl rfl)
theorem dX0_turned_14 : decode cX0_turned 14 = .ok (.iload 4, 2) := dk_21 4 (dk_at dksX0_turned_0 14 rfl rfl)
theorem dX0_turned_16 : decode cX0_turned 16 = .ok (.ireturn, 1) := dk_172 (dk_at dksX0_turned_0 16 rfl rfl)
theorem dX0_turned_17 : decode cX0_turned 17 = .ok (.aload_n 0, 1) := dk_42 (dk_at dksX0_turned_0 17 rfl rfl)
theorem dX0_turned_18 : decode cX0_turned 18 = .ok (.aload_n 0, 1) := dk_42 (dk_at dksX0_turned_0 18 rfl rfl)
theorem dX0_turned_19 : decode cX0_turned 19 = .ok (.getfield 19, 3) := dk_180 0 19 (dk_at dksX0_turned_0 19 rfl rfl)
theorem dX0_turned_22 : decode cX0_turned 22 = .ok (.iload_n 1, 1) := dk_27 (dk_at dksX0_turned_0 22 rfl rfl)
theorem dX0_turned_23 : decode cX0_turned 23 = .ok (.aaload, 1) := dk_50 (dk_at dksX0_turned_0 23 rfl rfl)
theorem dX0_turned_24 : decode cX0_turned 24 = .ok (.iload_n 2, 1) := dk_28 (dk_at dksX0_turned_1 0 rfl rfl)
theorem dX0_turned_25 : decode cX0_turned 25 = .ok (.iload_n 3, 1) := dk_29 (dk_at dksX0_turned_1 1 rfl rfl)
theorem dX0_turned_26 : decode cX0_turned 26 = .ok (.invokevirtual 371, 3) := dk_182 1 115 (dk_at dksX0_turned_1 2 rfl rfl)
theorem dX0_turned_29 : decode cX0_turned 29 = .ok (.pop, 1) := dk_87 (dk_at dksX0_turned_1 5 rfl rfl)
theorem dX0_turned_30 : decode cX0_turned 30 = .ok (.aload_n 0, 1) := dk_42 (dk_at dksX0_turned_1 6 rfl rfl)
theorem dX0_turned_31 : decode cX0_turned 31 = .ok (.getfield 358, 3) := dk_180 1 102 (dk_at dksX0_turned_1 7 rfl rfl)
theorem dX0_turned_34 : decode cX0_turned 34 = .ok (.ireturn, 1) := dk_172 (dk_at dksX0_turned_1 10 rfl rfl)
abbrev cX0_rests : ByteArray := prog_1_method_87_code
def yX0_rests : MethodName := ⟨RX0, "rests", "()I"⟩
def dkwX0_rests_1 : List UInt8 := [153, 0, 7, 4, 167, 0, 4, 3, 96, 60, 132, 3, 1, 167, 255, 232, 132, 2, 1, 167, 255, 219, 27, 172]
abbrev dktX0_rests_1 : List UInt8 := dkwX0_rests_1 ++ []
def dkwX0_rests_0 : List UInt8 := [3, 60, 3, 61, 28, 7, 163, 0, 38, 3, 62, 29, 7, 163, 0, 25, 27, 28, 29, 184, 1, 119]
abbrev dktX0_rests_0 : List UInt8 := dkwX0_rests_0 ++ dktX0_rests_1
theorem dksX0_rests_0 : cX0_rests.data.toList.drop 0 = dktX0_rests_0 := by decide +kernel
theorem dksX0_rests_1 : cX0_rests.data.toList.drop 22 = dktX0_rests_1 := dk_seg dksX0_rests_0 22 rfl rfl
theorem dX0_rests_0 : decode cX0_rests 0 = .ok (.iconst 0, 1) := dk_3 (dk_at dksX0_rests_0 0 rfl rfl)
theorem dX0_rests_1 : decode cX0_rests 1 = .ok (.istore_n 1, 1) := dk_60 (dk_at dksX0_rests_0 1 rfl rfl)
theorem dX0_rests_2 : decode cX0_rests 2 = .ok (.iconst 0, 1) := dk_3 (dk_at dksX0_rests_0 2 rfl rfl)
theorem dX0_rests_3 : decode cX0_rests 3 = .ok (.istore_n 2, 1) := dk_61 (dk_at dksX0_rests_0 3 rfl rfl)
theorem dX0_rests_4 : decode cX0_rests 4 = .ok (.iload_n 2, 1) := dk_28 (dk_at dksX0_rests_0 4 rfl rfl)
theorem dX0_rests_5 : decode cX0_rests 5 = .ok (.iconst 4, 1) := dk_7 (dk_at dksX0_rests_0 5 rfl rfl)
theorem dX0_rests_6 : decode cX0_rests 6 = .ok (.if_icmp .gt 38, 3) := dk_163 0 38 (dk_at dksX0_rests_0 6 rfl rfl)
theorem dX0_rests_9 : decode cX0_rests 9 = .ok (.iconst 0, 1) := dk_3 (dk_at dksX0_rests_0 9 rfl rfl)
theorem dX0_rests_10 : decode cX0_rests 10 = .ok (.istore_n 3, 1) := dk_62 (dk_at dksX0_rests_0 10 rfl rfl)
theorem dX0_rests_11 : decode cX0_rests 11 = .ok (.iload_n 3, 1) := dk_29 (dk_at dksX0_rests_0 11 rfl rfl)
theorem dX0_rests_12 : decode cX0_rests 12 = .ok (.iconst 4, 1) := dk_7 (dk_at dksX0_rests_0 12 rfl rfl)
theorem dX0_rests_13 : decode cX0_rests 13 = .ok (.if_icmp .gt 25, 3) := dk_163 0 25 (dk_at dksX0_rests_0 13 rfl rfl)
theorem dX0_rests_16 : decode cX0_rests 16 = .ok (.iload_n 1, 1) := dk_27 (dk_at dksX0_rests_0 16 rfl rfl)
theorem dX0_rests_17 : decode cX0_rests 17 = .ok (.iload_n 2, 1) := dk_28 (dk_at dksX0_rests_0 17 rfl rfl)
theorem dX0_rests_18 : decode cX0_rests 18 = .ok (.iload_n 3, 1) := dk_29 (dk_at dksX0_rests_0 18 rfl rfl)
theorem dX0_rests_19 : decode cX0_rests 19 = .ok (.invokestatic 375, 3) := dk_184 1 119 (dk_at dksX0_rests_0 19 rfl rfl)
theorem dX0_rests_22 : decode cX0_rests 22 = .ok (.ifCond .eq 7, 3) := dk_153 0 7 (dk_at dksX0_rests_1 0 rfl rfl)
theorem dX0_rests_25 : decode cX0_rests 25 = .ok (.iconst 1, 1) := dk_4 (dk_at dksX0_rests_1 3 rfl rfl)
theorem dX0_rests_26 : decode cX0_rests 26 = .ok (.goto 4, 3) := dk_167 0 4 (dk_at dksX0_rests_1 4 rfl rfl)
theorem dX0_rests_29 : decode cX0_rests 29 = .ok (.iconst 0, 1) := dk_3 (dk_at dksX0_rests_1 7 rfl rfl)
theorem dX0_rests_30 : decode cX0_rests 30 = .ok (.iadd, 1) := dk_96 (dk_at dksX0_rests_1 8 rfl rfl)
theorem dX0_rests_31 : decode cX0_rests 31 = .ok (.istore_n 1, 1) := dk_60 (dk_at dksX0_rests_1 9 rfl rfl)
theorem dX0_rests_32 : decode cX0_rests 32 = .ok (.iinc 3 1, 3) := dk_132 3 1 (dk_at dksX0_rests_1 10 rfl rfl)
theorem dX0_rests_35 : decode cX0_rests 35 = .ok (.goto (-24), 3) := dk_167 255 232 (dk_at dksX0_rests_1 13 rfl rfl)
theorem dX0_rests_38 : decode cX0_rests 38 = .ok (.iinc 2 1, 3) := dk_132 2 1 (dk_at dksX0_rests_1 16 rfl rfl)
theorem dX0_rests_41 : decode cX0_rests 41 = .ok (.goto (-37), 3) := dk_167 255 219 (dk_at dksX0_rests_1 19 rfl rfl)
theorem dX0_rests_44 : decode cX0_rests 44 = .ok (.iload_n 1, 1) := dk_27 (dk_at dksX0_rests_1 22 rfl rfl)
theorem dX0_rests_45 : decode cX0_rests 45 = .ok (.ireturn, 1) := dk_172 (dk_at dksX0_rests_1 23 rfl rfl)
abbrev cX0_isRest : ByteArray := prog_1_method_86_code
def yX0_isRest : MethodName := ⟨RX0, "isRest", "(II)Z"⟩
def dkwX0_isRest_1 : List UInt8 := [184, 1, 24, 27, 26, 184, 1, 24, 164, 0, 5, 3, 172, 132, 2, 1, 167, 255, 220, 4, 172]
abbrev dktX0_isRest_1 : List UInt8 := dkwX0_isRest_1 ++ []
def dkwX0_isRest_0 : List UInt8 := [3, 61, 28, 7, 163, 0, 37, 28, 27, 184, 1, 24, 26, 27, 184, 1, 24, 163, 0, 16, 28, 26]
abbrev dktX0_isRest_0 : List UInt8 := dkwX0_isRest_0 ++ dktX0_isRest_1
theorem dksX0_isRest_0 : cX0_isRest.data.toList.drop 0 = dktX0_isRest_0 := by decide +kernel
theorem dksX0_isRest_1 : cX0_isRest.data.toList.drop 22 = dktX0_isRest_1 := dk_seg dksX0_isRest_0 22 rfl rfl
theorem dX0_isRest_0 : decode cX0_isRest 0 = .ok (.iconst 0, 1) := dk_3 (dk_at dksX0_isRest_0 0 rfl rfl)
theorem dX0_isRest_1 : decode cX0_isRest 1 = .ok (.istore_n 2, 1) := dk_61 (dk_at dksX0_isRest_0 1 rfl rfl)
theorem dX0_isRest_2 : decode cX0_isRest 2 = .ok (.iload_n 2, 1) := dk_28 (dk_at dksX0_isRest_0 2 rfl rfl)
theorem dX0_isRest_3 : decode cX0_isRest 3 = .ok (.iconst 4, 1) := dk_7 (dk_at dksX0_isRest_0 3 rfl rfl)
theorem dX0_isRest_4 : decode cX0_isRest 4 = .ok (.if_icmp .gt 37, 3) := dk_163 0 37 (dk_at dksX0_isRest_0 4 rfl rfl)
theorem dX0_isRest_7 : decode cX0_isRest 7 = .ok (.iload_n 2, 1) := dk_28 (dk_at dksX0_isRest_0 7 rfl rfl)
theorem dX0_isRest_8 : decode cX0_isRest 8 = .ok (.iload_n 1, 1) := dk_27 (dk_at dksX0_isRest_0 8 rfl rfl)
theorem dX0_isRest_9 : decode cX0_isRest 9 = .ok (.invokestatic 280, 3) := dk_184 1 24 (dk_at dksX0_isRest_0 9 rfl rfl)
theorem dX0_isRest_12 : decode cX0_isRest 12 = .ok (.iload_n 0, 1) := dk_26 (dk_at dksX0_isRest_0 12 rfl rfl)
theorem dX0_isRest_13 : decode cX0_isRest 13 = .ok (.iload_n 1, 1) := dk_27 (dk_at dksX0_isRest_0 13 rfl rfl)
theorem dX0_isRest_14 : decode cX0_isRest 14 = .ok (.invokestatic 280, 3) := dk_184 1 24 (dk_at dksX0_isRest_0 14 rfl rfl)
theorem dX0_isRest_17 : decode cX0_isRest 17 = .ok (.if_icmp .gt 16, 3) := dk_163 0 16 (dk_at dksX0_isRest_0 17 rfl rfl)
theorem dX0_isRest_20 : decode cX0_isRest 20 = .ok (.iload_n 2, 1) := dk_28 (dk_at dksX0_isRest_0 20 rfl rfl)
theorem dX0_isRest_21 : decode cX0_isRest 21 = .ok (.iload_n 0, 1) := dk_26 (dk_at dksX0_isRest_0 21 rfl rfl)
theorem dX0_isRest_22 : decode cX0_isRest 22 = .ok (.invokestatic 280, 3) := dk_184 1 24 (dk_at dksX0_isRest_1 0 rfl rfl)
theorem dX0_isRest_25 : decode cX0_isRest 25 = .ok (.iload_n 1, 1) := dk_27 (dk_at dksX0_isRest_1 3 rfl rfl)
theorem dX0_isRest_26 : decode cX0_isRest 26 = .ok (.iload_n 0, 1) := dk_26 (dk_at dksX0_isRest_1 4 rfl rfl)
theorem dX0_isRest_27 : decode cX0_isRest 27 = .ok (.invokestatic 280, 3) := dk_184 1 24 (dk_at dksX0_isRest_1 5 rfl rfl)
theorem dX0_isRest_30 : decode cX0_isRest 30 = .ok (.if_icmp .le 5, 3) := dk_164 0 5 (dk_at dksX0_isRest_1 8 rfl rfl)
theorem dX0_isRest_33 : decode cX0_isRest 33 = .ok (.iconst 0, 1) := dk_3 (dk_at dksX0_isRest_1 11 rfl rfl)
theorem dX0_isRest_34 : decode cX0_isRest 34 = .ok (.ireturn, 1) := dk_172 (dk_at dksX0_isRest_1 12 rfl rfl)
theorem dX0_isRest_35 : decode cX0_isRest 35 = .ok (.iinc 2 1, 3) := dk_132 2 1 (dk_at dksX0_isRest_1 13 rfl rfl)
theorem dX0_isRest_38 : decode cX0_isRest 38 = .ok (.goto (-36), 3) := dk_167 255 220 (dk_at dksX0_isRest_1 16 rfl rfl)
theorem dX0_isRest_41 : decode cX0_isRest 41 = .ok (.iconst 1, 1) := dk_4 (dk_at dksX0_isRest_1 19 rfl rfl)
theorem dX0_isRest_42 : decode cX0_isRest 42 = .ok (.ireturn, 1) := dk_172 (dk_at dksX0_isRest_1 20 rfl rfl)
abbrev cX0_rest : ByteArray := prog_1_method_88_code
def yX0_rest : MethodName := ⟨RX0, "rest", "()I"⟩
def dkwX0_rest_1 : List UInt8 := [27, 104, 28, 96, 172, 132, 2, 1, 167, 255, 233, 132, 1, 1, 167, 255, 220, 2, 172]
abbrev dktX0_rest_1 : List UInt8 := dkwX0_rest_1 ++ []
def dkwX0_rest_0 : List UInt8 := [3, 60, 27, 7, 163, 0, 37, 3, 61, 28, 7, 163, 0, 24, 27, 28, 184, 1, 119, 153, 0, 10, 16, 10]
abbrev dktX0_rest_0 : List UInt8 := dkwX0_rest_0 ++ dktX0_rest_1
theorem dksX0_rest_0 : cX0_rest.data.toList.drop 0 = dktX0_rest_0 := by decide +kernel
theorem dksX0_rest_1 : cX0_rest.data.toList.drop 24 = dktX0_rest_1 := dk_seg dksX0_rest_0 24 rfl rfl
theorem dX0_rest_0 : decode cX0_rest 0 = .ok (.iconst 0, 1) := dk_3 (dk_at dksX0_rest_0 0 rfl rfl)
theorem dX0_rest_1 : decode cX0_rest 1 = .ok (.istore_n 1, 1) := dk_60 (dk_at dksX0_rest_0 1 rfl rfl)
theorem dX0_rest_2 : decode cX0_rest 2 = .ok (.iload_n 1, 1) := dk_27 (dk_at dksX0_rest_0 2 rfl rfl)
theorem dX0_rest_3 : decode cX0_rest 3 = .ok (.iconst 4, 1) := dk_7 (dk_at dksX0_rest_0 3 rfl rfl)
theorem dX0_rest_4 : decode cX0_rest 4 = .ok (.if_icmp .gt 37, 3) := dk_163 0 37 (dk_at dksX0_rest_0 4 rfl rfl)
theorem dX0_rest_7 : decode cX0_rest 7 = .ok (.iconst 0, 1) := dk_3 (dk_at dksX0_rest_0 7 rfl rfl)
theorem dX0_rest_8 : decode cX0_rest 8 = .ok (.istore_n 2, 1) := dk_61 (dk_at dksX0_rest_0 8 rfl rfl)
theorem dX0_rest_9 : decode cX0_rest 9 = .ok (.iload_n 2, 1) := dk_28 (dk_at dksX0_rest_0 9 rfl rfl)
theorem dX0_rest_10 : decode cX0_rest 10 = .ok (.iconst 4, 1) := dk_7 (dk_at dksX0_rest_0 10 rfl rfl)
theorem dX0_rest_11 : decode cX0_rest 11 = .ok (.if_icmp .gt 24, 3) := dk_163 0 24 (dk_at dksX0_rest_0 11 rfl rfl)
theorem dX0_rest_14 : decode cX0_rest 14 = .ok (.iload_n 1, 1) := dk_27 (dk_at dksX0_rest_0 14 rfl rfl)
theorem dX0_rest_15 : decode cX0_rest 15 = .ok (.iload_n 2, 1) := dk_28 (dk_at dksX0_rest_0 15 rfl rfl)
theorem dX0_rest_16 : decode cX0_rest 16 = .ok (.invokestatic 375, 3) := dk_184 1 119 (dk_at dksX0_rest_0 16 rfl rfl)
theorem dX0_rest_19 : decode cX0_rest 19 = .ok (.ifCond .eq 10, 3) := dk_153 0 10 (dk_at dksX0_rest_0 19 rfl rfl)
theorem dX0_rest_22 : decode cX0_rest 22 = .ok (.bipush 10, 2) := dk_16 10 (dk_at dksX0_rest_0 22 rfl rfl)
theorem dX0_rest_24 : decode cX0_rest 24 = .ok (.iload_n 1, 1) := dk_27 (dk_at dksX0_rest_1 0 rfl rfl)
theorem dX0_rest_25 : decode cX0_rest 25 = .ok (.imul, 1) := dk_104 (dk_at dksX0_rest_1 1 rfl rfl)
theorem dX0_rest_26 : decode cX0_rest 26 = .ok (.iload_n 2, 1) := dk_28 (dk_at dksX0_rest_1 2 rfl rfl)
theorem dX0_rest_27 : decode cX0_rest 27 = .ok (.iadd, 1) := dk_96 (dk_at dksX0_rest_1 3 rfl rfl)
theorem dX0_rest_28 : decode cX0_rest 28 = .ok (.ireturn, 1) := dk_172 (dk_at dksX0_rest_1 4 rfl rfl)
theorem dX0_rest_29 : decode cX0_rest 29 = .ok (.iinc 2 1, 3) := dk_132 2 1 (dk_at dksX0_rest_1 5 rfl rfl)
theorem dX0_rest_32 : decode cX0_rest 32 = .ok (.goto (-23), 3) := dk_167 255 233 (dk_at dksX0_rest_1 8 rfl rfl)
theorem dX0_rest_35 : decode cX0_rest 35 = .ok (.iinc 1 1, 3) := dk_132 1 1 (dk_at dksX0_rest_1 11 rfl rfl)
theorem dX0_rest_38 : decode cX0_rest 38 = .ok (.goto (-36), 3) := dk_167 255 220 (dk_at dksX0_rest_1 14 rfl rfl)
theorem dX0_rest_41 : decode cX0_rest 41 = .ok (.iconst (-1), 1) := dk_2 (dk_at dksX0_rest_1 17 rfl rfl)
theorem dX0_rest_42 : decode cX0_rest 42 = .ok (.ireturn, 1) := dk_172 (dk_at dksX0_rest_1 18 rfl rfl)
abbrev cX0_has : ByteArray := prog_1_method_89_code
def yX0_has : MethodName := ⟨RX0, "has", "(II)I"⟩
def dkwX0_has_1 : List UInt8 := [27, 28, 184, 1, 24, 167, 0, 6, 17, 252, 24, 172]
abbrev dktX0_has_1 : List UInt8 := dkwX0_has_1 ++ []
def dkwX0_has_0 : List UInt8 := [27, 133, 9, 20, 1, 22, 184, 0, 11, 153, 0, 23, 28, 133, 9, 20, 1, 22, 184, 0, 11, 153, 0, 11]
abbrev dktX0_has_0 : List UInt8 := dkwX0_has_0 ++ dktX0_has_1
theorem dksX0_has_0 : cX0_has.data.toList.drop 0 = dktX0_has_0 := by decide +kernel
theorem dksX0_has_1 : cX0_has.data.toList.drop 24 = dktX0_has_1 := dk_seg dksX0_has_0 24 rfl rfl
theorem dX0_has_0 : decode cX0_has 0 = .ok (.iload_n 1, 1) := dk_27 (dk_at dksX0_has_0 0 rfl rfl)
theorem dX0_has_1 : decode cX0_has 1 = .ok (.i2l, 1) := dk_133 (dk_at dksX0_has_0 1 rfl rfl)
theorem dX0_has_2 : decode cX0_has 2 = .ok (.lconst 0, 1) := dk_9 (dk_at dksX0_has_0 2 rfl rfl)
theorem dX0_has_3 : decode cX0_has 3 = .ok (.ldc2_w 278, 3) := dk_20 1 22 (dk_at dksX0_has_0 3 rfl rfl)
theorem dX0_has_6 : decode cX0_has 6 = .ok (.invokestatic 11, 3) := dk_184 0 11 (dk_at dksX0_has_0 6 rfl rfl)
theorem dX0_has_9 : decode cX0_has 9 = .ok (.ifCond .eq 23, 3) := dk_153 0 23 (dk_at dksX0_has_0 9 rfl rfl)
theorem dX0_has_12 : decode cX0_has 12 = .ok (.iload_n 2, 1) := dk_28 (dk_at dksX0_has_0 12 rfl rfl)
theorem dX0_has_13 : decode cX0_has 13 = .ok (.i2l, 1) := dk_133 (dk_at dksX0_has_0 13 rfl rfl)
theorem dX0_has_14 : decode cX0_has 14 = .ok (.lconst 0, 1) := dk_9 (dk_at dksX0_has_0 14 rfl rfl)
theorem dX0_has_15 : decode cX0_has 15 = .ok (.ldc2_w 278, 3) := dk_20 1 22 (dk_at dksX0_has_0 15 rfl rfl)
theorem dX0_has_18 : decode cX0_has 18 = .ok (.invokestatic 11, 3) := dk_184 0 11 (dk_at dksX0_has_0 18 rfl rfl)
theorem dX0_has_21 : decode cX0_has 21 = .ok (.ifCond .eq 11, 3) := dk_153 0 11 (dk_at dksX0_has_0 21 rfl rfl)
theorem dX0_has_24 : decode cX0_has 24 = .ok (.iload_n 1, 1) := dk_27 (dk_at dksX0_has_1 0 rfl rfl)
theorem dX0_has_25 : decode cX0_has 25 = .ok (.iload_n 2, 1) := dk_28 (dk_at dksX0_has_1 1 rfl rfl)
theorem dX0_has_26 : decode cX0_has 26 = .ok (.invokestatic 280, 3) := dk_184 1 24 (dk_at dksX0_has_1 2 rfl rfl)
theorem dX0_has_29 : decode cX0_has 29 = .ok (.goto 6, 3) := dk_167 0 6 (dk_at dksX0_has_1 5 rfl rfl)
theorem dX0_has_32 : decode cX0_has 32 = .ok (.sipush (-1000), 3) := dk_17 252 24 (dk_at dksX0_has_1 8 rfl rfl)
theorem dX0_has_35 : decode cX0_has 35 = .ok (.ireturn, 1) := dk_172 (dk_at dksX0_has_1 11 rfl rfl)
abbrev cX0_treaty : ByteArray := prog_1_method_90_code
def yX0_treaty : MethodName := ⟨RX0, "treaty", "()I"⟩
def dkwX0_treaty_1 : List UInt8 := [29, 28, 184, 1, 24, 96, 184, 0, 254, 60, 132, 3, 1, 167, 255, 232, 132, 2, 1, 167, 255, 219, 27, 172]
abbrev dktX0_treaty_1 : List UInt8 := dkwX0_treaty_1 ++ []
def dkwX0_treaty_0 : List UInt8 := [17, 252, 24, 60, 3, 61, 28, 7, 163, 0, 38, 3, 62, 29, 7, 163, 0, 25, 27, 28, 29, 184, 1, 24]
abbrev dktX0_treaty_0 : List UInt8 := dkwX0_treaty_0 ++ dktX0_treaty_1
theorem dksX0_treaty_0 : cX0_treaty.data.toList.drop 0 = dktX0_treaty_0 := by decide +kernel
theorem dksX0_treaty_1 : cX0_treaty.data.toList.drop 24 = dktX0_treaty_1 := dk_seg dksX0_treaty_0 24 rfl rfl
theorem dX0_treaty_0 : decode cX0_treaty 0 = .ok (.sipush (-1000), 3) := dk_17 252 24 (dk_at dksX0_treaty_0 0 rfl rfl)
theorem dX0_treaty_3 : decode cX0_treaty 3 = .ok (.istore_n 1, 1) := dk_60 (dk_at dksX0_treaty_0 3 rfl rfl)
theorem dX0_treaty_4 : decode cX0_treaty 4 = .ok (.iconst 0, 1) := dk_3 (dk_at dksX0_treaty_0 4 rfl rfl)
theorem dX0_treaty_5 : decode cX0_treaty 5 = .ok (.istore_n 2, 1) := dk_61 (dk_at dksX0_treaty_0 5 rfl rfl)
theorem dX0_treaty_6 : decode cX0_treaty 6 = .ok (.iload_n 2, 1) := dk_28 (dk_at dksX0_treaty_0 6 rfl rfl)
theorem dX0_treaty_7 : decode cX0_treaty 7 = .ok (.iconst 4, 1) := dk_7 (dk_at dksX0_treaty_0 7 rfl rfl)
theorem dX0_treaty_8 : decode cX0_treaty 8 = .ok (.if_icmp .gt 38, 3) := dk_163 0 38 (dk_at dksX0_treaty_0 8 rfl rfl)
theorem dX0_treaty_11 : decode cX0_treaty 11 = .ok (.iconst 0, 1) := dk_3 (dk_at dksX0_treaty_0 11 rfl rfl)
theorem dX0_treaty_12 : decode cX0_treaty 12 = .ok (.istore_n 3, 1) := dk_62 (dk_at dksX0_treaty_0 12 rfl rfl)
theorem dX0_treaty_13 : decode cX0_treaty 13 = .ok (.iload_n 3, 1) := dk_29 (dk_at dksX0_treaty_0 13 rfl rfl)
theorem dX0_treaty_14 : decode cX0_treaty 14 = .ok (.iconst 4, 1) := dk_7 (dk_at dksX0_treaty_0 14 rfl rfl)
theorem dX0_treaty_15 : decode cX0_treaty 15 = .ok (.if_icmp .gt 25, 3) := dk_163 0 25 (dk_at dksX0_treaty_0 15 rfl rfl)
theorem dX0_treaty_18 : decode cX0_treaty 18 = .ok (.iload_n 1, 1) := dk_27 (dk_at dksX0_treaty_0 18 rfl rfl)
theorem dX0_treaty_19 : decode cX0_treaty 19 = .ok (.iload_n 2, 1) := dk_28 (dk_at dksX0_treaty_0 19 rfl rfl)
theorem dX0_treaty_20 : decode cX0_treaty 20 = .ok (.iload_n 3, 1) := dk_29 (dk_at dksX0_treaty_0 20 rfl rfl)
theorem dX0_treaty_21 : decode cX0_treaty 21 = .ok (.invokestatic 280, 3) := dk_184 1 24 (dk_at dksX0_treaty_0 21 rfl rfl)
theorem dX0_treaty_24 : decode cX0_treaty 24 = .ok (.iload_n 3, 1) := dk_29 (dk_at dksX0_treaty_1 0 rfl rfl)
theorem dX0_treaty_25 : decode cX0_treaty 25 = .ok (.iload_n 2, 1) := dk_28 (dk_at dksX0_treaty_1 1 rfl rfl)
theorem dX0_treaty_26 : decode cX0_treaty 26 = .ok (.invokestatic 280, 3) := dk_184 1 24 (dk_at dksX0_treaty_1 2 rfl rfl)
theorem dX0_treaty_29 : decode cX0_treaty 29 = .ok (.iadd, 1) := dk_96 (dk_at dksX0_treaty_1 5 rfl rfl)
theorem dX0_treaty_30 : decode cX0_treaty 30 = .ok (.invokestatic 254, 3) := dk_184 0 254 (dk_at dksX0_treaty_1 6 rfl rfl)
theorem dX0_treaty_33 : decode cX0_treaty 33 = .ok (.istore_n 1, 1) := dk_60 (dk_at dksX0_treaty_1 9 rfl rfl)
theorem dX0_treaty_34 : decode cX0_treaty 34 = .ok (.iinc 3 1, 3) := dk_132 3 1 (dk_at dksX0_treaty_1 10 rfl rfl)
theorem dX0_treaty_37 : decode cX0_treaty 37 = .ok (.goto (-24), 3) := dk_167 255 232 (dk_at dksX0_treaty_1 13 rfl rfl)
theorem dX0_treaty_40 : decode cX0_treaty 40 = .ok (.iinc 2 1, 3) := dk_132 2 1 (dk_at dksX0_treaty_1 16 rfl rfl)
theorem dX0_treaty_43 : decode cX0_treaty 43 = .ok (.goto (-37), 3) := dk_167 255 219 (dk_at dksX0_treaty_1 19 rfl rfl)
theorem dX0_treaty_46 : decode cX0_treaty 46 = .ok (.iload_n 1, 1) := dk_27 (dk_at dksX0_treaty_1 22 rfl rfl)
theorem dX0_treaty_47 : decode cX0_treaty 47 = .ok (.ireturn, 1) := dk_172 (dk_at dksX0_treaty_1 23 rfl rfl)
abbrev cX0_chance : ByteArray := prog_1_method_95_code
def yX0_chance : MethodName := ⟨RX0, "chance", "(III)J"⟩
def dkwX0_chance_3 : List UInt8 := [22, 4, 167, 0, 5, 22, 6, 22, 4, 22, 6, 184, 1, 18, 109, 173]
abbrev dktX0_chance_3 : List UInt8 := dkwX0_chance_3 ++ []
def dkwX0_chance_2 : List UInt8 := [182, 1, 8, 42, 28, 182, 1, 142, 55, 4, 20, 1, 12, 27, 184, 1, 14, 55, 6, 29, 154, 0, 8]
abbrev dktX0_chance_2 : List UInt8 := dkwX0_chance_2 ++ dktX0_chance_3
def dkwX0_chance_1 : List UInt8 := [9, 20, 1, 140, 184, 0, 11, 153, 0, 10, 29, 184, 1, 3, 154, 0, 7, 20, 1, 6, 173, 42, 27]
abbrev dktX0_chance_1 : List UInt8 := dkwX0_chance_1 ++ dktX0_chance_2
def dkwX0_chance_0 : List UInt8 := [42, 180, 0, 47, 182, 0, 108, 153, 0, 34, 27, 133, 9, 20, 1, 1, 184, 0, 11, 153, 0, 22, 28, 133]
abbrev dktX0_chance_0 : List UInt8 := dkwX0_chance_0 ++ dktX0_chance_1
theorem dksX0_chance_0 : cX0_chance.data.toList.drop 0 = dktX0_chance_0 := by decide +kernel
theorem dksX0_chance_1 : cX0_chance.data.toList.drop 24 = dktX0_chance_1 := dk_seg dksX0_chance_0 24 rfl rfl
theorem dksX0_chance_2 : cX0_chance.data.toList.drop 47 = dktX0_chance_2 := dk_seg dksX0_chance_1 23 rfl rfl
theorem dksX0_chance_3 : cX0_chance.data.toList.drop 70 = dktX0_chance_3 := dk_seg dksX0_chance_2 23 rfl rfl
theorem dX0_chance_0 : decode cX0_chance 0 = .ok (.aload_n 0, 1) := dk_42 (dk_at dksX0_chance_0 0 rfl rfl)
theorem dX0_chance_1 : decode cX0_chance 1 = .ok (.getfield 47, 3) := dk_180 0 47 (dk_at dksX0_chance_0 1 rfl rfl)
theorem dX0_chance_4 : decode cX0_chance 4 = .ok (.invokevirtual 108, 3) := dk_182 0 108 (dk_at dksX0_chance_0 4 rfl rfl)
theorem dX0_chance_7 : decode cX0_chance 7 = .ok (.ifCond .eq 34, 3) := dk_153 0 34 (dk_at dksX0_chance_0 7 rfl rfl)
theorem dX0_chance_10 : decode cX0_chance 10 = .ok (.iload_n 1, 1) := dk_27 (dk_at dksX0_chance_0 10 rfl rfl)
theorem dX0_chance_11 : decode cX0_chance 11 = .ok (.i2l, 1) := dk_133 (dk_at dksX0_chance_0 11 rfl rfl)
theorem dX0_chance_12 : decode cX0_chance 12 = .ok (.lconst 0, 1) := dk_9 (dk_at dksX0_chance_0 12 rfl rfl)
theorem dX0_chance_13 : decode cX0_chance 13 = .ok (.ldc2_w 257, 3) := dk_20 1 1 (dk_at dksX0_chance_0 13 rfl rfl)
theorem dX0_chance_16 : decode cX0_chance 16 = .ok (.invokestatic 11, 3) := dk_184 0 11 (dk_at dksX0_chance_0 16 rfl rfl)
theorem dX0_chance_19 : decode cX0_chance 19 = .ok (.ifCond .eq 22, 3) := dk_153 0 22 (dk_at dksX0_chance_0 19 rfl rfl)
theorem dX0_chance_22 : decode cX0_chance 22 = .ok (.iload_n 2, 1) := dk_28 (dk_at dksX0_chance_0 22 rfl rfl)
theorem dX0_chance_23 : decode cX0_chance 23 = .ok (.i2l, 1) := dk_133 (dk_at dksX0_chance_0 23 rfl rfl)
theorem dX0_chance_24 : decode cX0_chance 24 = .ok (.lconst 0, 1) := dk_9 (dk_at dksX0_chance_1 0 rfl rfl)
theorem dX0_chance_25 : decode cX0_chance 25 = .ok (.ldc2_w 396, 3) := dk_20 1 140 (dk_at dksX0_chance_1 1 rfl rfl)
theorem dX0_chance_28 : decode cX0_chance 28 = .ok (.invokestatic 11, 3) := dk_184 0 11 (dk_at dksX0_chance_1 4 rfl rfl)
theorem dX0_chance_31 : decode cX0_chance 31 = .ok (.ifCond .eq 10, 3) := dk_153 0 10 (dk_at dksX0_chance_1 7 rfl rfl)
theorem dX0_chance_34 : decode cX0_chance 34 = .ok (.iload_n 3, 1) := dk_29 (dk_at dksX0_chance_1 10 rfl rfl)
theorem dX0_chance_35 : decode cX0_chance 35 = .ok (.invokestatic 259, 3) := dk_184 1 3 (dk_at dksX0_chance_1 11 rfl rfl)
theorem dX0_chance_38 : decode cX0_chance 38 = .ok (.ifCond .ne 7, 3) := dk_154 0 7 (dk_at dksX0_chance_1 14 rfl rfl)
theorem dX0_chance_41 : decode cX0_chance 41 = .ok (.ldc2_w 262, 3) := dk_20 1 6 (dk_at dksX0_chance_1 17 rfl rfl)
theorem dX0_chance_44 : decode cX0_chance 44 = .ok (.lreturn, 1) := dk_173 (dk_at dksX0_chance_1 20 rfl rfl)
theorem dX0_chance_45 : decode cX0_chance 45 = .ok (.aload_n 0, 1) := dk_42 (dk_at dksX0_chance_1 21 rfl rfl)
theorem dX0_chance_46 : decode cX0_chance 46 = .ok (.iload_n 1, 1) := dk_27 (dk_at dksX0_chance_1 22 rfl rfl)
theorem dX0_chance_47 : decode cX0_chance 47 = .ok (.invokevirtual 264, 3) := dk_182 1 8 (dk_at dksX0_chance_2 0 rfl rfl)
theorem dX0_chance_50 : decode cX0_chance 50 = .ok (.aload_n 0, 1) := dk_42 (dk_at dksX0_chance_2 3 rfl rfl)
theorem dX0_chance_51 : decode cX0_chance 51 = .ok (.iload_n 2, 1) := dk_28 (dk_at dksX0_chance_2 4 rfl rfl)
theorem dX0_chance_52 : decode cX0_chance 52 = .ok (.invokevirtual 398, 3) := dk_182 1 142 (dk_at dksX0_chance_2 5 rfl rfl)
theorem dX0_chance_55 : decode cX0_chance 55 = .ok (.lstore 4, 2) := dk_55 4 (dk_at dksX0_chance_2 8 rfl rfl)
theorem dX0_chance_57 : decode cX0_chance 57 = .ok (.ldc2_w 268, 3) := dk_20 1 12 (dk_at dksX0_chance_2 10 rfl rfl)
theorem dX0_chance_60 : decode cX0_chance 60 = .ok (.iload_n 1, 1) := dk_27 (dk_at dksX0_chance_2 13 rfl rfl)
theorem dX0_chance_61 : decode cX0_chance 61 = .ok (.invokestatic 270, 3) := dk_184 1 14 (dk_at dksX0_chance_2 14 rfl rfl)
theorem dX0_chance_64 : decode cX0_chance 64 = .ok (.lstore 6, 2) := dk_55 6 (dk_at dksX0_chance_2 17 rfl rfl)
theorem dX0_chance_66 : decode cX0_chance 66 = .ok (.iload_n 3, 1) := dk_29 (dk_at dksX0_chance_2 19 rfl rfl)
theorem dX0_chance_67 : decode cX0_chance 67 = .ok (.ifCond .ne 8, 3) := dk_154 0 8 (dk_at dksX0_chance_2 20 rfl rfl)
theorem dX0_chance_70 : decode cX0_chance 70 = .ok (.lload 4, 2) := dk_22 4 (dk_at dksX0_chance_3 0 rfl rfl)
theorem dX0_chance_72 : decode cX0_chance 72 = .ok (.goto 5, 3) := dk_167 0 5 (dk_at dksX0_chance_3 2 rfl rfl)
theorem dX0_chance_75 : decode cX0_chance 75 = .ok (.lload 6, 2) := dk_22 6 (dk_at dksX0_chance_3 5 rfl rfl)
theorem dX0_chance_77 : decode cX0_chance 77 = .ok (.lload 4, 2) := dk_22 4 (dk_at dksX0_chance_3 7 rfl rfl)
theorem dX0_chance_79 : decode cX0_chance 79 = .ok (.lload 6, 2) := dk_22 6 (dk_at dksX0_chance_3 9 rfl rfl)
theorem dX0_chance_81 : decode cX0_chance 81 = .ok (.invokestatic 274, 3) := dk_184 1 18 (dk_at dksX0_chance_3 11 rfl rfl)
theorem dX0_chance_84 : decode cX0_chance 84 = .ok (.ldiv, 1) := dk_109 (dk_at dksX0_chance_3 14 rfl rfl)
theorem dX0_chance_85 : decode cX0_chance 85 = .ok (.lreturn, 1) := dk_173 (dk_at dksX0_chance_3 15 rfl rfl)
abbrev cX0_weightFrom : ByteArray := prog_1_method_92_code
def yX0_weightFrom : MethodName := ⟨RX0, "weightFrom", "(I)J"⟩
def dkwX0_weightFrom_1 : List UInt8 := [132, 4, 1, 167, 255, 235, 32, 173]
abbrev dktX0_weightFrom_1 : List UInt8 := dkwX0_weightFrom_1 ++ []
def dkwX0_weightFrom_0 : List UInt8 := [9, 65, 27, 54, 4, 21, 4, 17, 7, 208, 162, 0, 19, 32, 42, 180, 0, 89, 21, 4, 47, 97, 65]
abbrev dktX0_weightFrom_0 : List UInt8 := dkwX0_weightFrom_0 ++ dktX0_weightFrom_1
theorem dksX0_weightFrom_0 : cX0_weightFrom.data.toList.drop 0 = dktX0_weightFrom_0 := by decide +kernel
theorem dksX0_weightFrom_1 : cX0_weightFrom.data.toList.drop 23 = dktX0_weightFrom_1 := dk_seg dksX0_weightFrom_0 23 rfl rfl
theorem dX0_weightFrom_0 : decode cX0_weightFrom 0 = .ok (.lconst 0, 1) := dk_9 (dk_at dksX0_weightFrom_0 0 rfl rfl)
theorem dX0_weightFrom_1 : decode cX0_weightFrom 1 = .ok (.lstore_n 2, 1) := dk_65 (dk_at dksX0_weightFrom_0 1 rfl rfl)
theorem dX0_weightFrom_2 : decode cX0_weightFrom 2 = .ok (.iload_n 1, 1) := dk_27 (dk_at dksX0_weightFrom_0 2 rfl rfl)
theorem dX0_weightFrom_3 : decode cX0_weightFrom 3 = .ok (.istore 4, 2) := dk_54 4 (dk_at dksX0_weightFrom_0 3 rfl rfl)
theorem dX0_weightFrom_5 : decode cX0_weightFrom 5 = .ok (.iload 4, 2) := dk_21 4 (dk_at dksX0_weightFrom_0 5 rfl rfl)
theorem dX0_weightFrom_7 : decode cX0_weightFrom 7 = .ok (.sipush 2000, 3) := dk_17 7 208 (dk_at dksX0_weightFrom_0 7 rfl rfl)
theorem dX0_weightFrom_10 : decode cX0_weightFrom 10 = .ok (.if_icmp .ge 19, 3) := dk_162 0 19 (dk_at dksX0_weightFrom_0 10 rfl rfl)
theorem dX0_weightFrom_13 : decode cX0_weightFrom 13 = .ok (.lload_n 2, 1) := dk_32 (dk_at dksX0_weightFrom_0 13 rfl rfl)
theorem dX0_weightFrom_14 : decode cX0_weightFrom 14 = .ok (.aload_n 0, 1) := dk_42 (dk_at dksX0_weightFrom_0 14 rfl rfl)
theorem dX0_weightFrom_15 : decode cX0_weightFrom 15 = .ok (.getfield 89, 3) := dk_180 0 89 (dk_at dksX0_weightFrom_0 15 rfl rfl)
theorem dX0_weightFrom_18 : decode cX0_weightFrom 18 = .ok (.iload 4, 2) := dk_21 4 (dk_at dksX0_weightFrom_0 18 rfl rfl)
theorem dX0_weightFrom_20 : decode cX0_weightFrom 20 = .ok (.laload, 1) := dk_47 (dk_at dksX0_weightFrom_0 20 rfl rfl)
theorem dX0_weightFrom_21 : decode cX0_weightFrom 21 = .ok (.ladd, 1) := dk_97 (dk_at dksX0_weightFrom_0 21 rfl rfl)
theorem dX0_weightFrom_22 : decode cX0_weightFrom 22 = .ok (.lstore_n 2, 1) := dk_65 (dk_at dksX0_weightFrom_0 22 rfl rfl)
theorem dX0_weightFrom_23 : decode cX0_weightFrom 23 = .ok (.iinc 4 1, 3) := dk_132 4 1 (dk_at dksX0_weightFrom_1 0 rfl rfl)
theorem dX0_weightFrom_26 : decode cX0_weightFrom 26 = .ok (.goto (-21), 3) := dk_167 255 235 (dk_at dksX0_weightFrom_1 3 rfl rfl)
theorem dX0_weightFrom_29 : decode cX0_weightFrom 29 = .ok (.lload_n 2, 1) := dk_32 (dk_at dksX0_weightFrom_1 6 rfl rfl)
theorem dX0_weightFrom_30 : decode cX0_weightFrom 30 = .ok (.lreturn, 1) := dk_173 (dk_at dksX0_weightFrom_1 7 rfl rfl)
abbrev cX0_risk : ByteArray := prog_1_method_96_code
def yX0_risk : MethodName := ⟨RX0, "risk", "(II)I"⟩
def dkwX0_risk_3 : List UInt8 := [148, 155, 0, 5, 29, 172, 132, 3, 1, 167, 255, 203, 2, 172]
abbrev dktX0_risk_3 : List UInt8 := dkwX0_risk_3 ++ []
def dkwX0_risk_2 : List UInt8 := [20, 1, 145, 22, 4, 42, 42, 27, 182, 0, 160, 180, 0, 170, 182, 1, 142, 101, 105, 28, 133, 22, 4, 105]
abbrev dktX0_risk_2 : List UInt8 := dkwX0_risk_2 ++ dktX0_risk_3
def dkwX0_risk_1 : List UInt8 := [3, 62, 29, 16, 14, 163, 0, 53, 42, 29, 182, 1, 8, 20, 1, 12, 29, 184, 1, 14, 55, 4]
abbrev dktX0_risk_1 : List UInt8 := dkwX0_risk_1 ++ dktX0_risk_2
def dkwX0_risk_0 : List UInt8 := [42, 27, 133, 182, 0, 151, 153, 0, 15, 28, 133, 9, 20, 1, 145, 184, 0, 11, 154, 0, 6, 16, 254, 172]
abbrev dktX0_risk_0 : List UInt8 := dkwX0_risk_0 ++ dktX0_risk_1
theorem dksX0_risk_0 : cX0_risk.data.toList.drop 0 = dktX0_risk_0 := by decide +kernel
theorem dksX0_risk_1 : cX0_risk.data.toList.drop 24 = dktX0_risk_1 := dk_seg dksX0_risk_0 24 rfl rfl
theorem dksX0_risk_2 : cX0_risk.data.toList.drop 46 = dktX0_risk_2 := dk_seg dksX0_risk_1 22 rfl rfl
theorem dksX0_risk_3 : cX0_risk.data.toList.drop 70 = dktX0_risk_3 := dk_seg dksX0_risk_2 24 rfl rfl
theorem dX0_risk_0 : decode cX0_risk 0 = .ok (.aload_n 0, 1) := dk_42 (dk_at dksX0_risk_0 0 rfl rfl)
theorem dX0_risk_1 : decode cX0_risk 1 = .ok (.iload_n 1, 1) := dk_27 (dk_at dksX0_risk_0 1 rfl rfl)
theorem dX0_risk_2 : decode cX0_risk 2 = .ok (.i2l, 1) := dk_133 (dk_at dksX0_risk_0 2 rfl rfl)
theorem dX0_risk_3 : decode cX0_risk 3 = .ok (.invokevirtual 151, 3) := dk_182 0 151 (dk_at dksX0_risk_0 3 rfl rfl)
theorem dX0_risk_6 : decode cX0_risk 6 = .ok (.ifCond .eq 15, 3) := dk_153 0 15 (dk_at dksX0_risk_0 6 rfl rfl)
theorem dX0_risk_9 : decode cX0_risk 9 = .ok (.iload_n 2, 1) := dk_28 (dk_at dksX0_risk_0 9 rfl rfl)
theorem dX0_risk_10 : decode cX0_risk 10 = .ok (.i2l, 1) := dk_133 (dk_at dksX0_risk_0 10 rfl rfl)
theorem dX0_risk_11 : decode cX0_risk 11 = .ok (.lconst 0, 1) := dk_9 (dk_at dksX0_risk_0 11 rfl rfl)
theorem dX0_risk_12 : decode cX0_risk 12 = .ok (.ldc2_w 401, 3) := dk_20 1 145 (dk_at dksX0_risk_0 12 rfl rfl)
theorem dX0_risk_15 : decode cX0_risk 15 = .ok (.invokestatic 11, 3) := dk_184 0 11 (dk_at dksX0_risk_0 15 rfl rfl)
theorem dX0_risk_18 : decode cX0_risk 18 = .ok (.ifCond .ne 6, 3) := dk_154 0 6 (dk_at dksX0_risk_0 18 rfl rfl)
theorem dX0_risk_21 : decode cX0_risk 21 = .ok (.bipush (-2), 2) := dk_16 254 (dk_at dksX0_risk_0 21 rfl rfl)
theorem dX0_risk_23 : decode cX0_risk 23 = .ok (.ireturn, 1) := dk_172 (dk_at dksX0_risk_0 23 rfl rfl)
theorem dX0_risk_24 : decode cX0_risk 24 = .ok (.iconst 0, 1) := dk_3 (dk_at dksX0_risk_1 0 rfl rfl)
theorem dX0_risk_25 : decode cX0_risk 25 = .ok (.istore_n 3, 1) := dk_62 (dk_at dksX0_risk_1 1 rfl rfl)
theorem dX0_risk_26 : decode cX0_risk 26 = .ok (.iload_n 3, 1) := dk_29 (dk_at dksX0_risk_1 2 rfl rfl)
theorem dX0_risk_27 : decode cX0_risk 27 = .ok (.bipush 14, 2) := dk_16 14 (dk_at dksX0_risk_1 3 rfl rfl)
theorem dX0_risk_29 : decode cX0_risk 29 = .ok (.if_icmp .gt 53, 3) := dk_163 0 53 (dk_at dksX0_risk_1 5 rfl rfl)
theorem dX0_risk_32 : decode cX0_risk 32 = .ok (.aload_n 0, 1) := dk_42 (dk_at dksX0_risk_1 8 rfl rfl)
theorem dX0_risk_33 : decode cX0_risk 33 = .ok (.iload_n 3, 1) := dk_29 (dk_at dksX0_risk_1 9 rfl rfl)
theorem dX0_risk_34 : decode cX0_risk 34 = .ok (.invokevirtual 264, 3) := dk_182 1 8 (dk_at dksX0_risk_1 10 rfl rfl)
theorem dX0_risk_37 : decode cX0_risk 37 = .ok (.ldc2_w 268, 3) := dk_20 1 12 (dk_at dksX0_risk_1 13 rfl rfl)
theorem dX0_risk_40 : decode cX0_risk 40 = .ok (.iload_n 3, 1) := dk_29 (dk_at dksX0_risk_1 16 rfl rfl)
theorem dX0_risk_41 : decode cX0_risk 41 = .ok (.invokestatic 270, 3) := dk_184 1 14 (dk_at dksX0_risk_1 17 rfl rfl)
theorem dX0_risk_44 : decode cX0_risk 44 = .ok (.lstore 4, 2) := dk_55 4 (dk_at dksX0_risk_1 20 rfl rfl)
theorem dX0_risk_46 : decode cX0_risk 46 = .ok (.ldc2_w 401, 3) := dk_20 1 145 (dk_at dksX0_risk_2 0 rfl rfl)
theorem dX0_risk_49 : decode cX0_risk 49 = .ok (.lload 4, 2) := dk_22 4 (dk_at dksX0_risk_2 3 rfl rfl)
theorem dX0_risk_51 : decode cX0_risk 51 = .ok (.aload_n 0, 1) := dk_42 (dk_at dksX0_risk_2 5 rfl rfl)
theorem dX0_risk_52 : decode cX0_risk 52 = .ok (.aload_n 0, 1) := dk_42 (dk_at dksX0_risk_2 6 rfl rfl)
theorem dX0_risk_53 : decode cX0_risk 53 = .ok (.iload_n 1, 1) := dk_27 (dk_at dksX0_risk_2 7 rfl rfl)
theorem dX0_risk_54 : decode cX0_risk 54 = .ok (.invokevirtual 160, 3) := dk_182 0 160 (dk_at dksX0_risk_2 8 rfl rfl)
theorem dX0_risk_57 : decode cX0_risk 57 = .ok (.getfield 170, 3) := dk_180 0 170 (dk_at dksX0_risk_2 11 rfl rfl)
theorem dX0_risk_60 : decode cX0_risk 60 = .ok (.invokevirtual 398, 3) := dk_182 1 142 (dk_at dksX0_risk_2 14 rfl rfl)
theorem dX0_risk_63 : decode cX0_risk 63 = .ok (.lsub, 1) := dk_101 (dk_at dksX0_risk_2 17 rfl rfl)
theorem dX0_risk_64 : decode cX0_risk 64 = .ok (.lmul, 1) := dk_105 (dk_at dksX0_risk_2 18 rfl rfl)
theorem dX0_risk_65 : decode cX0_risk 65 = .ok (.iload_n 2, 1) := dk_28 (dk_at dksX0_risk_2 19 rfl rfl)
theorem dX0_risk_66 : decode cX0_risk 66 = .ok (.i2l, 1) := dk_133 (dk_at dksX0_risk_2 20 rfl rfl)
theorem dX0_risk_67 : decode cX0_risk 67 = .ok (.lload 4, 2) := dk_22 4 (dk_at dksX0_risk_2 21 rfl rfl)
theorem dX0_risk_69 : decode cX0_risk 69 = .ok (.lmul, 1) := dk_105 (dk_at dksX0_risk_2 23 rfl rfl)
theorem dX0_risk_70 : decode cX0_risk 70 = .ok (.lcmp, 1) := dk_148 (dk_at dksX0_risk_3 0 rfl rfl)
theorem dX0_risk_71 : decode cX0_risk 71 = .ok (.ifCond .lt 5, 3) := dk_155 0 5 (dk_at dksX0_risk_3 1 rfl rfl)
theorem dX0_risk_74 : decode cX0_risk 74 = .ok (.iload_n 3, 1) := dk_29 (dk_at dksX0_risk_3 4 rfl rfl)
theorem dX0_risk_75 : decode cX0_risk 75 = .ok (.ireturn, 1) := dk_172 (dk_at dksX0_risk_3 5 rfl rfl)
theorem dX0_risk_76 : decode cX0_risk 76 = .ok (.iinc 3 1, 3) := dk_132 3 1 (dk_at dksX0_risk_3 6 rfl rfl)
theorem dX0_risk_79 : decode cX0_risk 79 = .ok (.goto (-53), 3) := dk_167 255 203 (dk_at dksX0_risk_3 9 rfl rfl)
theorem dX0_risk_82 : decode cX0_risk 82 = .ok (.iconst (-1), 1) := dk_2 (dk_at dksX0_risk_3 12 rfl rfl)
theorem dX0_risk_83 : decode cX0_risk 83 = .ok (.ireturn, 1) := dk_172 (dk_at dksX0_risk_3 13 rfl rfl)
abbrev cX0_close : ByteArray := prog_1_method_98_code
def yX0_close : MethodName := ⟨RX0, "close", "(II)I"⟩
def dkwX0_close_2 : List UInt8 := [16, 254, 172]
abbrev dktX0_close_2 : List UInt8 := dkwX0_close_2 ++ []
def dkwX0_close_1 : List UInt8 := [183, 1, 156, 42, 180, 0, 68, 182, 0, 190, 180, 0, 234, 27, 122, 4, 126, 182, 1, 159, 167, 0, 5]
abbrev dktX0_close_1 : List UInt8 := dkwX0_close_1 ++ dktX0_close_2
def dkwX0_close_0 : List UInt8 := [42, 27, 182, 0, 173, 153, 0, 41, 28, 184, 1, 3, 153, 0, 34, 42, 187, 1, 154, 89, 27, 28, 1]
abbrev dktX0_close_0 : List UInt8 := dkwX0_close_0 ++ dktX0_close_1
theorem dksX0_close_0 : cX0_close.data.toList.drop 0 = dktX0_close_0 := by decide +kernel
theorem dksX0_close_1 : cX0_close.data.toList.drop 23 = dktX0_close_1 := dk_seg dksX0_close_0 23 rfl rfl
theorem dksX0_close_2 : cX0_close.data.toList.drop 46 = dktX0_close_2 := dk_seg dksX0_close_1 23 rfl rfl
theorem dX0_close_0 : decode cX0_close 0 = .ok (.aload_n 0, 1) := dk_42 (dk_at dksX0_close_0 0 rfl rfl)
theorem dX0_close_1 : decode cX0_close 1 = .ok (.iload_n 1, 1) := dk_27 (dk_at dksX0_close_0 1 rfl rfl)
theorem dX0_close_2 : decode cX0_close 2 = .ok (.invokevirtual 173, 3) := dk_182 0 173 (dk_at dksX0_close_0 2 rfl rfl)
theorem dX0_close_5 : decode cX0_close 5 = .ok (.ifCond .eq 41, 3) := dk_153 0 41 (dk_at dksX0_close_0 5 rfl rfl)
theorem dX0_close_8 : decode cX0_close 8 = .ok (.iload_n 2, 1) := dk_28 (dk_at dksX0_close_0 8 rfl rfl)
theorem dX0_close_9 : decode cX0_close 9 = .ok (.invokestatic 259, 3) := dk_184 1 3 (dk_at dksX0_close_0 9 rfl rfl)
theorem dX0_close_12 : decode cX0_close 12 = .ok (.ifCond .eq 34, 3) := dk_153 0 34 (dk_at dksX0_close_0 12 rfl rfl)
theorem dX0_close_15 : decode cX0_close 15 = .ok (.aload_n 0, 1) := dk_42 (dk_at dksX0_close_0 15 rfl rfl)
theorem dX0_close_16 : decode cX0_close 16 = .ok (.new 410, 3) := dk_187 1 154 (dk_at dksX0_close_0 16 rfl rfl)
theorem dX0_close_19 : decode cX0_close 19 = .ok (.dup, 1) := dk_89 (dk_at dksX0_close_0 19 rfl rfl)
theorem dX0_close_20 : decode cX0_close 20 = .ok (.iload_n 1, 1) := dk_27 (dk_at dksX0_close_0 20 rfl rfl)
theorem dX0_close_21 : decode cX0_close 21 = .ok (.iload_n 2, 1) := dk_28 (dk_at dksX0_close_0 21 rfl rfl)
theorem dX0_close_22 : decode cX0_close 22 = .ok (.aconst_null, 1) := dk_1 (dk_at dksX0_close_0 22 rfl rfl)
theorem dX0_close_23 : decode cX0_close 23 = .ok (.invokespecial 412, 3) := dk_183 1 156 (dk_at dksX0_close_1 0 rfl rfl)
theorem dX0_close_26 : decode cX0_close 26 = .ok (.aload_n 0, 1) := dk_42 (dk_at dksX0_close_1 3 rfl rfl)
theorem dX0_close_27 : decode cX0_close 27 = .ok (.getfield 68, 3) := dk_180 0 68 (dk_at dksX0_close_1 4 rfl rfl)
theorem dX0_close_30 : decode cX0_close 30 = .ok (.invokevirtual 190, 3) := dk_182 0 190 (dk_at dksX0_close_1 7 rfl rfl)
theorem dX0_close_33 : decode cX0_close 33 = .ok (.getfield 234, 3) := dk_180 0 234 (dk_at dksX0_close_1 10 rfl rfl)
theorem dX0_close_36 : decode cX0_close 36 = .ok (.iload_n 1, 1) := dk_27 (dk_at dksX0_close_1 13 rfl rfl)
theorem dX0_close_37 : decode cX0_close 37 = .ok (.ishr, 1) := dk_122 (dk_at dksX0_close_1 14 rfl rfl)
theorem dX0_close_38 : decode cX0_close 38 = .ok (.iconst 1, 1) := dk_4 (dk_at dksX0_close_1 15 rfl rfl)
theorem dX0_close_39 : decode cX0_close 39 = .ok (.iand, 1) := dk_126 (dk_at dksX0_close_1 16 rfl rfl)
theorem dX0_close_40 : decode cX0_close 40 = .ok (.invokevirtual 415, 3) := dk_182 1 159 (dk_at dksX0_close_1 17 rfl rfl)
theorem dX0_close_43 : decode cX0_close 43 = .ok (.goto 5, 3) := dk_167 0 5 (dk_at dksX0_close_1 20 rfl rfl)
theorem dX0_close_46 : decode cX0_close 46 = .ok (.bipush (-2), 2) := dk_16 254 (dk_at dksX0_close_2 0 rfl rfl)
theorem dX0_close_48 : decode cX0_close 48 = .ok (.ireturn, 1) := dk_172 (dk_at dksX0_close_2 2 rfl rfl)
abbrev cX0_acts : ByteArray := prog_1_method_97_code
def yX0_acts : MethodName := ⟨RX0, "acts", "(LQuotedRiver$Act;I)I"⟩
def dkwX0_acts_1 : List UInt8 := [180, 1, 147, 43, 185, 1, 150, 2, 0, 87, 28, 172]
abbrev dktX0_acts_1 : List UInt8 := dkwX0_acts_1 ++ []
def dkwX0_acts_0 : List UInt8 := [42, 180, 0, 47, 180, 1, 147, 185, 0, 130, 1, 0, 16, 30, 160, 0, 6, 16, 251, 172, 42, 180, 0, 47]
abbrev dktX0_acts_0 : List UInt8 := dkwX0_acts_0 ++ dktX0_acts_1
theorem dksX0_acts_0 : cX0_acts.data.toList.drop 0 = dktX0_acts_0 := by decide +kernel
theorem dksX0_acts_1 : cX0_acts.data.toList.drop 24 = dktX0_acts_1 := dk_seg dksX0_acts_0 24 rfl rfl
theorem dX0_acts_0 : decode cX0_acts 0 = .ok (.aload_n 0, 1) := dk_42 (dk_at dksX0_acts_0 0 rfl rfl)
theorem dX0_acts_1 : decode cX0_acts 1 = .ok (.getfield 47, 3) := dk_180 0 47 (dk_at dksX0_acts_0 1 rfl rfl)
theorem dX0_acts_4 : decode cX0_acts 4 = .ok (.getfield 403, 3) := dk_180 1 147 (dk_at dksX0_acts_0 4 rfl rfl)
theorem dX0_acts_7 : decode cX0_acts 7 = .ok (.invokeinterface 130 1, 5) := by decide +kernel
theorem dX0_acts_12 : decode cX0_acts 12 = .ok (.bipush 30, 2) := dk_16 30 (dk_at dksX0_acts_0 12 rfl rfl)
theorem dX0_acts_14 : decode cX0_acts 14 = .ok (.if_icmp .ne 6, 3) := dk_160 0 6 (dk_at dksX0_acts_0 14 rfl rfl)
theorem dX0_acts_17 : decode cX0_acts 17 = .ok (.bipush (-5), 2) := dk_16 251 (dk_at dksX0_acts_0 17 rfl rfl)
theorem dX0_acts_19 : decode cX0_acts 19 = .ok (.ireturn, 1) := dk_172 (dk_at dksX0_acts_0 19 rfl rfl)
theorem dX0_acts_20 : decode cX0_acts 20 = .ok (.aload_n 0, 1) := dk_42 (dk_at dksX0_acts_0 20 rfl rfl)
theorem dX0_acts_21 : decode cX0_acts 21 = .ok (.getfield 47, 3) := dk_180 0 47 (dk_at dksX0_acts_0 21 rfl rfl)
theorem dX0_acts_24 : decode cX0_acts 24 = .ok (.getfield 403, 3) := dk_180 1 147 (dk_at dksX0_acts_1 0 rfl rfl)
theorem dX0_acts_27 : decode cX0_acts 27 = .ok (.aload_n 1, 1) := dk_43 (dk_at dksX0_acts_1 3 rfl rfl)
theorem dX0_acts_28 : decode cX0_acts 28 = .ok (.invokeinterface 406 2, 5) := by decide +kernel
theorem dX0_acts_33 : decode cX0_acts 33 = .ok (.pop, 1) := dk_87 (dk_at dksX0_acts_1 9 rfl rfl)
theorem dX0_acts_34 : decode cX0_acts 34 = .ok (.iload_n 2, 1) := dk_28 (dk_at dksX0_acts_1 10 rfl rfl)
theorem dX0_acts_35 : decode cX0_acts 35 = .ok (.ireturn, 1) := dk_172 (dk_at dksX0_acts_1 11 rfl rfl)
abbrev cX0_pours : ByteArray := prog_1_method_99_code
def yX0_pours : MethodName := ⟨RX0, "pours", "(II)I"⟩
def dkwX0_pours_2 : List UInt8 := [182, 0, 190, 180, 0, 223, 27, 46, 28, 96, 182, 1, 159, 167, 0, 5, 16, 254, 172]
abbrev dktX0_pours_2 : List UInt8 := dkwX0_pours_2 ++ []
def dkwX0_pours_1 : List UInt8 := [187, 1, 154, 89, 2, 2, 187, 1, 30, 89, 28, 27, 183, 1, 164, 183, 1, 156, 42, 180, 0, 68]
abbrev dktX0_pours_1 : List UInt8 := dkwX0_pours_1 ++ dktX0_pours_2
def dkwX0_pours_0 : List UInt8 := [42, 27, 133, 182, 0, 155, 153, 0, 54, 28, 133, 10, 20, 1, 162, 184, 0, 11, 153, 0, 42, 42]
abbrev dktX0_pours_0 : List UInt8 := dkwX0_pours_0 ++ dktX0_pours_1
theorem dksX0_pours_0 : cX0_pours.data.toList.drop 0 = dktX0_pours_0 := by decide +kernel
theorem dksX0_pours_1 : cX0_pours.data.toList.drop 22 = dktX0_pours_1 := dk_seg dksX0_pours_0 22 rfl rfl
theorem dksX0_pours_2 : cX0_pours.data.toList.drop 44 = dktX0_pours_2 := dk_seg dksX0_pours_1 22 rfl rfl
theorem dX0_pours_0 : decode cX0_pours 0 = .ok (.aload_n 0, 1) := dk_42 (dk_at dksX0_pours_0 0 rfl rfl)
theorem dX0_pours_1 : decode cX0_pours 1 = .ok (.iload_n 1, 1) := dk_27 (dk_at dksX0_pours_0 1 rfl rfl)
theorem dX0_pours_2 : decode cX0_pours 2 = .ok (.i2l, 1) := dk_133 (dk_at dksX0_pours_0 2 rfl rfl)
theorem dX0_pours_3 : decode cX0_pours 3 = .ok (.invokevirtual 155, 3) := dk_182 0 155 (dk_at dksX0_pours_0 3 rfl rfl)
theorem dX0_pours_6 : decode cX0_pours 6 = .ok (.ifCond .eq 54, 3) := dk_153 0 54 (dk_at dksX0_pours_0 6 rfl rfl)
theorem dX0_pours_9 : decode cX0_pours 9 = .ok (.iload_n 2, 1) := dk_28 (dk_at dksX0_pours_0 9 rfl rfl)
theorem dX0_pours_10 : decode cX0_pours 10 = .ok (.i2l, 1) := dk_133 (dk_at dksX0_pours_0 10 rfl rfl)
theorem dX0_pours_11 : decode cX0_pours 11 = .ok (.lconst 1, 1) := dk_10 (dk_at dksX0_pours_0 11 rfl rfl)
theorem dX0_pours_12 : decode cX0_pours 12 = .ok (.ldc2_w 418, 3) := dk_20 1 162 (dk_at dksX0_pours_0 12 rfl rfl)
theorem dX0_pours_15 : decode cX0_pours 15 = .ok (.invokestatic 11, 3) := dk_184 0 11 (dk_at dksX0_pours_0 15 rfl rfl)
theorem dX0_pours_18 : decode cX0_pours 18 = .ok (.ifCond .eq 42, 3) := dk_153 0 42 (dk_at dksX0_pours_0 18 rfl rfl)
theorem dX0_pours_21 : decode cX0_pours 21 = .ok (.aload_n 0, 1) := dk_42 (dk_at dksX0_pours_0 21 rfl rfl)
theorem dX0_pours_22 : decode cX0_pours 22 = .ok (.new 410, 3) := dk_187 1 154 (dk_at dksX0_pours_1 0 rfl rfl)
theorem dX0_pours_25 : decode cX0_pours 25 = .ok (.dup, 1) := dk_89 (dk_at dksX0_pours_1 3 rfl rfl)
theorem dX0_pours_26 : decode cX0_pours 26 = .ok (.iconst (-1), 1) := dk_2 (dk_at dksX0_pours_1 4 rfl rfl)
theorem dX0_pours_27 : decode cX0_pours 27 = .ok (.iconst (-1), 1) := dk_2 (dk_at dksX0_pours_1 5 rfl rfl)
theorem dX0_pours_28 : decode cX0_pours 28 = .ok (.new 286, 3) := dk_187 1 30 (dk_at dksX0_pours_1 6 rfl rfl)
theorem dX0_pours_31 : decode cX0_pours 31 = .ok (.dup, 1) := dk_89 (dk_at dksX0_pours_1 9 rfl rfl)
theorem dX0_pours_32 : decode cX0_pours 32 = .ok (.iload_n 2, 1) := dk_28 (dk_at dksX0_pours_1 10 rfl rfl)
theorem dX0_pours_33 : decode cX0_pours 33 = .ok (.iload_n 1, 1) := dk_27 (dk_at dksX0_pours_1 11 rfl rfl)
theorem dX0_pours_34 : decode cX0_pours 34 = .ok (.invokespecial 420, 3) := dk_183 1 164 (dk_at dksX0_pours_1 12 rfl rfl)
theorem dX0_pours_37 : decode cX0_pours 37 = .ok (.invokespecial 412, 3) := dk_183 1 156 (dk_at dksX0_pours_1 15 rfl rfl)
theorem dX0_pours_40 : decode cX0_pours 40 = .ok (.aload_n 0, 1) := dk_42 (dk_at dksX0_pours_1 18 rfl rfl)
theorem dX0_pours_41 : decode cX0_pours 41 = .ok (.getfield 68, 3) := dk_180 0 68 (dk_at dksX0_pours_1 19 rfl rfl)
theorem dX0_pours_44 : decode cX0_pours 44 = .ok (.invokevirtual 190, 3) := dk_182 0 190 (dk_at dksX0_pours_2 0 rfl rfl)
theorem dX0_pours_47 : decode cX0_pours 47 = .ok (.getfield 223, 3) := dk_180 0 223 (dk_at dksX0_pours_2 3 rfl rfl)
theorem dX0_pours_50 : decode cX0_pours 50 = .ok (.iload_n 1, 1) := dk_27 (dk_at dksX0_pours_2 6 rfl rfl)
theorem dX0_pours_51 : decode cX0_pours 51 = .ok (.iaload, 1) := dk_46 (dk_at dksX0_pours_2 7 rfl rfl)
theorem dX0_pours_52 : decode cX0_pours 52 = .ok (.iload_n 2, 1) := dk_28 (dk_at dksX0_pours_2 8 rfl rfl)
theorem dX0_pours_53 : decode cX0_pours 53 = .ok (.iadd, 1) := dk_96 (dk_at dksX0_pours_2 9 rfl rfl)
theorem dX0_pours_54 : decode cX0_pours 54 = .ok (.invokevirtual 415, 3) := dk_182 1 159 (dk_at dksX0_pours_2 10 rfl rfl)
theorem dX0_pours_57 : decode cX0_pours 57 = .ok (.goto 5, 3) := dk_167 0 5 (dk_at dksX0_pours_2 13 rfl rfl)
theorem dX0_pours_60 : decode cX0_pours 60 = .ok (.bipush (-2), 2) := dk_16 254 (dk_at dksX0_pours_2 16 rfl rfl)
theorem dX0_pours_62 : decode cX0_pours 62 = .ok (.ireturn, 1) := dk_172 (dk_at dksX0_pours_2 18 rfl rfl)
abbrev cX0_undo : ByteArray := prog_1_method_100_code
def yX0_undo : MethodName := ⟨RX0, "undo", "()I"⟩
def dkwX0_undo_3 : List UInt8 := [185, 0, 130, 1, 0, 172]
abbrev dktX0_undo_3 : List UInt8 := dkwX0_undo_3 ++ []
def dkwX0_undo_2 : List UInt8 := [180, 1, 147, 185, 0, 130, 1, 0, 4, 100, 185, 1, 170, 2, 0, 87, 42, 180, 0, 47, 180, 1, 147]
abbrev dktX0_undo_2 : List UInt8 := dkwX0_undo_2 ++ dktX0_undo_3
def dkwX0_undo_1 : List UInt8 := [185, 1, 167, 1, 0, 153, 0, 6, 16, 251, 172, 42, 180, 0, 47, 180, 1, 147, 42, 180, 0, 47]
abbrev dktX0_undo_1 : List UInt8 := dkwX0_undo_1 ++ dktX0_undo_2
def dkwX0_undo_0 : List UInt8 := [42, 180, 0, 47, 182, 0, 108, 154, 0, 6, 16, 254, 172, 42, 180, 0, 47, 180, 1, 147]
abbrev dktX0_undo_0 : List UInt8 := dkwX0_undo_0 ++ dktX0_undo_1
theorem dksX0_undo_0 : cX0_undo.data.toList.drop 0 = dktX0_undo_0 := by decide +kernel
theorem dksX0_undo_1 : cX0_undo.data.toList.drop 20 = dktX0_undo_1 := dk_seg dksX0_undo_0 20 rfl rfl
theorem dksX0_undo_2 : cX0_undo.data.toList.drop 42 = dktX0_undo_2 := dk_seg dksX0_undo_1 22 rfl rfl
theorem dksX0_undo_3 : cX0_undo.data.toList.drop 65 = dktX0_undo_3 := dk_seg dksX0_undo_2 23 rfl rfl
theorem dX0_undo_0 : decode cX0_undo 0 = .ok (.aload_n 0, 1) := dk_42 (dk_at dksX0_undo_0 0 rfl rfl)
theorem dX0_undo_1 : decode cX0_undo 1 = .ok (.getfield 47, 3) := dk_180 0 47 (dk_at dksX0_undo_0 1 rfl rfl)
theorem dX0_undo_4 : decode cX0_undo 4 = .ok (.invokevirtual 108, 3) := dk_182 0 108 (dk_at dksX0_undo_0 4 rfl rfl)
theorem dX0_undo_7 : decode cX0_undo 7 = .ok (.ifCond .ne 6, 3) := dk_154 0 6 (dk_at dksX0_undo_0 7 rfl rfl)
theorem dX0_undo_10 : decode cX0_undo 10 = .ok (.bipush (-2), 2) := dk_16 254 (dk_at dksX0_undo_0 10 rfl rfl)
theorem dX0_undo_12 : decode cX0_undo 12 = .ok (.ireturn, 1) := dk_172 (dk_at dksX0_undo_0 12 rfl rfl)
theorem dX0_undo_13 : decode cX0_undo 13 = .ok (.aload_n 0, 1) := dk_42 (dk_at dksX0_undo_0 13 rfl rfl)
theorem dX0_undo_14 : decode cX0_undo 14 = .ok (.getfield 47, 3) := dk_180 0 47 (dk_at dksX0_undo_0 14 rfl rfl)
theorem dX0_undo_17 : decode cX0_undo 17 = .ok (.getfield 403, 3) := dk_180 1 147 (dk_at dksX0_undo_0 17 rfl rfl)
theorem dX0_undo_20 : decode cX0_undo 20 = .ok (.invokeinterface 423 1, 5) := by decide +kernel
theorem dX0_undo_25 : decode cX0_undo 25 = .ok (.ifCond .eq 6, 3) := dk_153 0 6 (dk_at dksX0_undo_1 5 rfl rfl)
theorem dX0_undo_28 : decode cX0_undo 28 = .ok (.bipush (-5), 2) := dk_16 251 (dk_at dksX0_undo_1 8 rfl rfl)
theorem dX0_undo_30 : decode cX0_undo 30 = .ok (.ireturn, 1) := dk_172 (dk_at dksX0_undo_1 10 rfl rfl)
theorem dX0_undo_31 : decode cX0_undo 31 = .ok (.aload_n 0, 1) := dk_42 (dk_at dksX0_undo_1 11 rfl rfl)
theorem dX0_undo_32 : decode cX0_undo 32 = .ok (.getfield 47, 3) := dk_180 0 47 (dk_at dksX0_undo_1 12 rfl rfl)
theorem dX0_undo_35 : decode cX0_undo 35 = .ok (.getfield 403, 3) := dk_180 1 147 (dk_at dksX0_undo_1 15 rfl rfl)
theorem dX0_undo_38 : decode cX0_undo 38 = .ok (.aload_n 0, 1) := dk_42 (dk_at dksX0_undo_1 18 rfl rfl)
theorem dX0_undo_39 : decode cX0_undo 39 = .ok (.getfield 47, 3) := dk_180 0 47 (dk_at dksX0_undo_1 19 rfl rfl)
theorem dX0_undo_42 : decode cX0_undo 42 = .ok (.getfield 403, 3) := dk_180 1 147 (dk_at dksX0_undo_2 0 rfl rfl)
theorem dX0_undo_45 : decode cX0_undo 45 = .ok (.invokeinterface 130 1, 5) := by decide +kernel
theorem dX0_undo_50 : decode cX0_undo 50 = .ok (.iconst 1, 1) := dk_4 (dk_at dksX0_undo_2 8 rfl rfl)
theorem dX0_undo_51 : decode cX0_undo 51 = .ok (.isub, 1) := dk_100 (dk_at dksX0_undo_2 9 rfl rfl)
theorem dX0_undo_52 : decode cX0_undo 52 = .ok (.invokeinterface 426 2, 5) := by decide +kernel
theorem dX0_undo_57 : decode cX0_undo 57 = .ok (.pop, 1) := dk_87 (dk_at dksX0_undo_2 15 rfl rfl)
theorem dX0_undo_58 : decode cX0_undo 58 = .ok (.aload_n 0, 1) := dk_42 (dk_at dksX0_undo_2 16 rfl rfl)
theorem dX0_undo_59 : decode cX0_undo 59 = .ok (.getfield 47, 3) := dk_180 0 47 (dk_at dksX0_undo_2 17 rfl rfl)
theorem dX0_undo_62 : decode cX0_undo 62 = .ok (.getfield 403, 3) := dk_180 1 147 (dk_at dksX0_undo_2 20 rfl rfl)
theorem dX0_undo_65 : decode cX0_undo 65 = .ok (.invokeinterface 130 1, 5) := by decide +kernel
theorem dX0_undo_70 : decode cX0_undo 70 = .ok (.ireturn, 1) := dk_172 (dk_at dksX0_undo_3 5 rfl rfl)
abbrev cX0_anew : ByteArray := prog_1_method_101_code
def yX0_anew : MethodName := ⟨RX0, "anew", "()I"⟩
def dkwX0_anew_1 : List UInt8 := [185, 0, 130, 1, 0, 60, 42, 180, 0, 47, 180, 1, 147, 185, 1, 173, 1, 0, 27, 172]
abbrev dktX0_anew_1 : List UInt8 := dkwX0_anew_1 ++ []
def dkwX0_anew_0 : List UInt8 := [42, 180, 0, 47, 182, 0, 108, 154, 0, 6, 16, 254, 172, 42, 180, 0, 47, 180, 1, 147]
abbrev dktX0_anew_0 : List UInt8 := dkwX0_anew_0 ++ dktX0_anew_1
theorem dksX0_anew_0 : cX0_anew.data.toList.drop 0 = dktX0_anew_0 := by decide +kernel
theorem dksX0_anew_1 : cX0_anew.data.toList.drop 20 = dktX0_anew_1 := dk_seg dksX0_anew_0 20 rfl rfl
theorem dX0_anew_0 : decode cX0_anew 0 = .ok (.aload_n 0, 1) := dk_42 (dk_at dksX0_anew_0 0 rfl rfl)
theorem dX0_anew_1 : decode cX0_anew 1 = .ok (.getfield 47, 3) := dk_180 0 47 (dk_at dksX0_anew_0 1 rfl rfl)
theorem dX0_anew_4 : decode cX0_anew 4 = .ok (.invokevirtual 108, 3) := dk_182 0 108 (dk_at dksX0_anew_0 4 rfl rfl)
theorem dX0_anew_7 : decode cX0_anew 7 = .ok (.ifCond .ne 6, 3) := dk_154 0 6 (dk_at dksX0_anew_0 7 rfl rfl)
theorem dX0_anew_10 : decode cX0_anew 10 = .ok (.bipush (-2), 2) := dk_16 254 (dk_at dksX0_anew_0 10 rfl rfl)
theorem dX0_anew_12 : decode cX0_anew 12 = .ok (.ireturn, 1) := dk_172 (dk_at dksX0_anew_0 12 rfl rfl)
theorem dX0_anew_13 : decode cX0_anew 13 = .ok (.aload_n 0, 1) := dk_42 (dk_at dksX0_anew_0 13 rfl rfl)
theorem dX0_anew_14 : decode cX0_anew 14 = .ok (.getfield 47, 3) := dk_180 0 47 (dk_at dksX0_anew_0 14 rfl rfl)
theorem dX0_anew_17 : decode cX0_anew 17 = .ok (.getfield 403, 3) := dk_180 1 147 (dk_at dksX0_anew_0 17 rfl rfl)
theorem dX0_anew_20 : decode cX0_anew 20 = .ok (.invokeinterface 130 1, 5) := by decide +kernel
theorem dX0_anew_25 : decode cX0_anew 25 = .ok (.istore_n 1, 1) := dk_60 (dk_at dksX0_anew_1 5 rfl rfl)
theorem dX0_anew_26 : decode cX0_anew 26 = .ok (.aload_n 0, 1) := dk_42 (dk_at dksX0_anew_1 6 rfl rfl)
theorem dX0_anew_27 : decode cX0_anew 27 = .ok (.getfield 47, 3) := dk_180 0 47 (dk_at dksX0_anew_1 7 rfl rfl)
theorem dX0_anew_30 : decode cX0_anew 30 = .ok (.getfield 403, 3) := dk_180 1 147 (dk_at dksX0_anew_1 10 rfl rfl)
theorem dX0_anew_33 : decode cX0_anew 33 = .ok (.invokeinterface 429 1, 5) := by decide +kernel
theorem dX0_anew_38 : decode cX0_anew 38 = .ok (.iload_n 1, 1) := dk_27 (dk_at dksX0_anew_1 18 rfl rfl)
theorem dX0_anew_39 : decode cX0_anew 39 = .ok (.ireturn, 1) := dk_172 (dk_at dksX0_anew_1 19 rfl rfl)
abbrev cX0_drawn : ByteArray := prog_1_method_103_code
def yX0_drawn : MethodName := ⟨RX0, "drawn", "(II)I"⟩
def dkwX0_drawn_2 : List UInt8 := [16, 60, 46, 167, 0, 10, 42, 180, 0, 68, 180, 1, 185, 172]
abbrev dktX0_drawn_2 : List UInt8 := dkwX0_drawn_2 ++ []
def dkwX0_drawn_1 : List UInt8 := [16, 254, 172, 42, 180, 0, 68, 27, 133, 182, 1, 181, 87, 28, 154, 0, 16, 42, 180, 0, 68, 180, 0, 223]
abbrev dktX0_drawn_1 : List UInt8 := dkwX0_drawn_1 ++ dktX0_drawn_2
def dkwX0_drawn_0 : List UInt8 := [42, 180, 0, 47, 182, 0, 108, 153, 0, 17, 27, 184, 1, 178, 153, 0, 10, 28, 184, 1, 3, 154, 0, 6]
abbrev dktX0_drawn_0 : List UInt8 := dkwX0_drawn_0 ++ dktX0_drawn_1
theorem dksX0_drawn_0 : cX0_drawn.data.toList.drop 0 = dktX0_drawn_0 := by decide +kernel
theorem dksX0_drawn_1 : cX0_drawn.data.toList.drop 24 = dktX0_drawn_1 := dk_seg dksX0_drawn_0 24 rfl rfl
theorem dksX0_drawn_2 : cX0_drawn.data.toList.drop 48 = dktX0_drawn_2 := dk_seg dksX0_drawn_1 24 rfl rfl
theorem dX0_drawn_0 : decode cX0_drawn 0 = .ok (.aload_n 0, 1) := dk_42 (dk_at dksX0_drawn_0 0 rfl rfl)
theorem dX0_drawn_1 : decode cX0_drawn 1 = .ok (.getfield 47, 3) := dk_180 0 47 (dk_at dksX0_drawn_0 1 rfl rfl)
theorem dX0_drawn_4 : decode cX0_drawn 4 = .ok (.invokevirtual 108, 3) := dk_182 0 108 (dk_at dksX0_drawn_0 4 rfl rfl)
theorem dX0_drawn_7 : decode cX0_drawn 7 = .ok (.ifCond .eq 17, 3) := dk_153 0 17 (dk_at dksX0_drawn_0 7 rfl rfl)
theorem dX0_drawn_10 : decode cX0_drawn 10 = .ok (.iload_n 1, 1) := dk_27 (dk_at dksX0_drawn_0 10 rfl rfl)
theorem dX0_drawn_11 : decode cX0_drawn 11 = .ok (.invokestatic 434, 3) := dk_184 1 178 (dk_at dksX0_drawn_0 11 rfl rfl)
theorem dX0_drawn_14 : decode cX0_drawn 14 = .ok (.ifCond .eq 10, 3) := dk_153 0 10 (dk_at dksX0_drawn_0 14 rfl rfl)
theorem dX0_drawn_17 : decode cX0_drawn 17 = .ok (.iload_n 2, 1) := dk_28 (dk_at dksX0_drawn_0 17 rfl rfl)
theorem dX0_drawn_18 : decode cX0_drawn 18 = .ok (.invokestatic 259, 3) := dk_184 1 3 (dk_at dksX0_drawn_0 18 rfl rfl)
theorem dX0_drawn_21 : decode cX0_drawn 21 = .ok (.ifCond .ne 6, 3) := dk_154 0 6 (dk_at dksX0_drawn_0 21 rfl rfl)
theorem dX0_drawn_24 : decode cX0_drawn 24 = .ok (.bipush (-2), 2) := dk_16 254 (dk_at dksX0_drawn_1 0 rfl rfl)
theorem dX0_drawn_26 : decode cX0_drawn 26 = .ok (.ireturn, 1) := dk_172 (dk_at dksX0_drawn_1 2 rfl rfl)
theorem dX0_drawn_27 : decode cX0_drawn 27 = .ok (.aload_n 0, 1) := dk_42 (dk_at dksX0_drawn_1 3 rfl rfl)
theorem dX0_drawn_28 : decode cX0_drawn 28 = .ok (.getfield 68, 3) := dk_180 0 68 (dk_at dksX0_drawn_1 4 rfl rfl)
theorem dX0_drawn_31 : decode cX0_drawn 31 = .ok (.iload_n 1, 1) := dk_27 (dk_at dksX0_drawn_1 7 rfl rfl)
theorem dX0_drawn_32 : decode cX0_drawn 32 = .ok (.i2l, 1) := dk_133 (dk_at dksX0_drawn_1 8 rfl rfl)
theorem dX0_drawn_33 : decode cX0_drawn 33 = .ok (.invokevirtual 437, 3) := dk_182 1 181 (dk_at dksX0_drawn_1 9 rfl rfl)
theorem dX0_drawn_36 : decode cX0_drawn 36 = .ok (.pop, 1) := dk_87 (dk_at dksX0_drawn_1 12 rfl rfl)
theorem dX0_drawn_37 : decode cX0_drawn 37 = .ok (.iload_n 2, 1) := dk_28 (dk_at dksX0_drawn_1 13 rfl rfl)
theorem dX0_drawn_38 : decode cX0_drawn 38 = .ok (.ifCond .ne 16, 3) := dk_154 0 16 (dk_at dksX0_drawn_1 14 rfl rfl)
theorem dX0_drawn_41 : decode cX0_drawn 41 = .ok (.aload_n 0, 1) := dk_42 (dk_at dksX0_drawn_1 17 rfl rfl)
theorem dX0_drawn_42 : decode cX0_drawn 42 = .ok (.getfield 68, 3) := dk_180 0 68 (dk_at dksX0_drawn_1 18 rfl rfl)
theorem dX0_drawn_45 : decode cX0_drawn 45 = .ok (.getfield 223, 3) := dk_180 0 223 (dk_at dksX0_drawn_1 21 rfl rfl)
theorem dX0_drawn_48 : decode cX0_drawn 48 = .ok (.bipush 60, 2) := dk_16 60 (dk_at dksX0_drawn_2 0 rfl rfl)
theorem dX0_drawn_50 : decode cX0_drawn 50 = .ok (.iaload, 1) := dk_46 (dk_at dksX0_drawn_2 2 rfl rfl)
theorem dX0_drawn_51 : decode cX0_drawn 51 = .ok (.goto 10, 3) := dk_167 0 10 (dk_at dksX0_drawn_2 3 rfl rfl)
theorem dX0_drawn_54 : decode cX0_drawn 54 = .ok (.aload_n 0, 1) := dk_42 (dk_at dksX0_drawn_2 6 rfl rfl)
theorem dX0_drawn_55 : decode cX0_drawn 55 = .ok (.getfield 68, 3) := dk_180 0 68 (dk_at dksX0_drawn_2 7 rfl rfl)
theorem dX0_drawn_58 : decode cX0_drawn 58 = .ok (.getfield 441, 3) := dk_180 1 185 (dk_at dksX0_drawn_2 10 rfl rfl)
theorem dX0_drawn_61 : decode cX0_drawn 61 = .ok (.ireturn, 1) := dk_172 (dk_at dksX0_drawn_2 13 rfl rfl)
abbrev cX0_isSeed : ByteArray := prog_1_method_102_code
def yX0_isSeed : MethodName := ⟨RX0, "isSeed", "(I)Z"⟩
def dkwX0_isSeed_0 : List UInt8 := [26, 133, 9, 20, 1, 176, 184, 0, 11, 172]
abbrev dktX0_isSeed_0 : List UInt8 := dkwX0_isSeed_0 ++ []
theorem dksX0_isSeed_0 : cX0_isSeed.data.toList.drop 0 = dktX0_isSeed_0 := by decide +kernel
theorem dX0_isSeed_0 : decode cX0_isSeed 0 = .ok (.iload_n 0, 1) := dk_26 (dk_at dksX0_isSeed_0 0 rfl rfl)
theorem dX0_isSeed_1 : decode cX0_isSeed 1 = .ok (.i2l, 1) := dk_133 (dk_at dksX0_isSeed_0 1 rfl rfl)
theorem dX0_isSeed_2 : decode cX0_isSeed 2 = .ok (.lconst 0, 1) := dk_9 (dk_at dksX0_isSeed_0 2 rfl rfl)
theorem dX0_isSeed_3 : decode cX0_isSeed 3 = .ok (.ldc2_w 432, 3) := dk_20 1 176 (dk_at dksX0_isSeed_0 3 rfl rfl)
theorem dX0_isSeed_6 : decode cX0_isSeed 6 = .ok (.invokestatic 11, 3) := dk_184 0 11 (dk_at dksX0_isSeed_0 6 rfl rfl)
theorem dX0_isSeed_9 : decode cX0_isSeed 9 = .ok (.ireturn, 1) := dk_172 (dk_at dksX0_isSeed_0 9 rfl rfl)
abbrev cX0_luck : ByteArray := prog_1_method_104_code
def yX0_luck : MethodName := ⟨RX0, "luck", "(III)I"⟩
def dkwX0_luck_4 : List UInt8 := [21, 4, 172]
abbrev dktX0_luck_4 : List UInt8 := dkwX0_luck_4 ++ []
def dkwX0_luck_3 : List UInt8 := [16, 10, 182, 0, 251, 2, 160, 0, 7, 3, 167, 0, 4, 4, 96, 54, 4, 132, 5, 1, 167, 255, 205]
abbrev dktX0_luck_3 : List UInt8 := dkwX0_luck_3 ++ dktX0_luck_4
def dkwX0_luck_2 : List UInt8 := [180, 0, 68, 27, 133, 21, 5, 133, 97, 182, 1, 181, 87, 21, 4, 42, 180, 0, 75, 29, 3, 182, 0, 193]
abbrev dktX0_luck_2 : List UInt8 := dkwX0_luck_2 ++ dktX0_luck_3
def dkwX0_luck_1 : List UInt8 := [182, 0, 151, 154, 0, 6, 16, 254, 172, 3, 54, 4, 3, 54, 5, 21, 5, 28, 162, 0, 51, 42]
abbrev dktX0_luck_1 : List UInt8 := dkwX0_luck_1 ++ dktX0_luck_2
def dkwX0_luck_0 : List UInt8 := [27, 184, 1, 178, 153, 0, 24, 28, 133, 10, 20, 1, 188, 184, 0, 11, 153, 0, 12, 42, 29, 133]
abbrev dktX0_luck_0 : List UInt8 := dkwX0_luck_0 ++ dktX0_luck_1
theorem dksX0_luck_0 : cX0_luck.data.toList.drop 0 = dktX0_luck_0 := by decide +kernel
theorem dksX0_luck_1 : cX0_luck.data.toList.drop 22 = dktX0_luck_1 := dk_seg dksX0_luck_0 22 rfl rfl
theorem dksX0_luck_2 : cX0_luck.data.toList.drop 44 = dktX0_luck_2 := dk_seg dksX0_luck_1 22 rfl rfl
theorem dksX0_luck_3 : cX0_luck.data.toList.drop 68 = dktX0_luck_3 := dk_seg dksX0_luck_2 24 rfl rfl
theorem dksX0_luck_4 : cX0_luck.data.toList.drop 91 = dktX0_luck_4 := dk_seg dksX0_luck_3 23 rfl rfl
theorem dX0_luck_0 : decode cX0_luck 0 = .ok (.iload_n 1, 1) := dk_27 (dk_at dksX0_luck_0 0 rfl rfl)
theorem dX0_luck_1 : decode cX0_luck 1 = .ok (.invokestatic 434, 3) := dk_184 1 178 (dk_at dksX0_luck_0 1 rfl rfl)
theorem dX0_luck_4 : decode cX0_luck 4 = .ok (.ifCond .eq 24, 3) := dk_153 0 24 (dk_at dksX0_luck_0 4 rfl rfl)
theorem dX0_luck_7 : decode cX0_luck 7 = .ok (.iload_n 2, 1) := dk_28 (dk_at dksX0_luck_0 7 rfl rfl)
theorem dX0_luck_8 : decode cX0_luck 8 = .ok (.i2l, 1) := dk_133 (dk_at dksX0_luck_0 8 rfl rfl)
theorem dX0_luck_9 : decode cX0_luck 9 = .ok (.lconst 1, 1) := dk_10 (dk_at dksX0_luck_0 9 rfl rfl)
theorem dX0_luck_10 : decode cX0_luck 10 = .ok (.ldc2_w 444, 3) := dk_20 1 188 (dk_at dksX0_luck_0 10 rfl rfl)
theorem dX0_luck_13 : decode cX0_luck 13 = .ok (.invokestatic 11, 3) := dk_184 0 11 (dk_at dksX0_luck_0 13 rfl rfl)
theorem dX0_luck_16 : decode cX0_luck 16 = .ok (.ifCond .eq 12, 3) := dk_153 0 12 (dk_at dksX0_luck_0 16 rfl rfl)
theorem dX0_luck_19 : decode cX0_luck 19 = .ok (.aload_n 0, 1) := dk_42 (dk_at dksX0_luck_0 19 rfl rfl)
theorem dX0_luck_20 : decode cX0_luck 20 = .ok (.iload_n 3, 1) := dk_29 (dk_at dksX0_luck_0 20 rfl rfl)
theorem dX0_luck_21 : decode cX0_luck 21 = .ok (.i2l, 1) := dk_133 (dk_at dksX0_luck_0 21 rfl rfl)
theorem dX0_luck_22 : decode cX0_luck 22 = .ok (.invokevirtual 151, 3) := dk_182 0 151 (dk_at dksX0_luck_1 0 rfl rfl)
theorem dX0_luck_25 : decode cX0_luck 25 = .ok (.ifCond .ne 6, 3) := dk_154 0 6 (dk_at dksX0_luck_1 3 rfl rfl)
theorem dX0_luck_28 : decode cX0_luck 28 = .ok (.bipush (-2), 2) := dk_16 254 (dk_at dksX0_luck_1 6 rfl rfl)
theorem dX0_luck_30 : decode cX0_luck 30 = .ok (.ireturn, 1) := dk_172 (dk_at dksX0_luck_1 8 rfl rfl)
theorem dX0_luck_31 : decode cX0_luck 31 = .ok (.iconst 0, 1) := dk_3 (dk_at dksX0_luck_1 9 rfl rfl)
theorem dX0_luck_32 : decode cX0_luck 32 = .ok (.istore 4, 2) := dk_54 4 (dk_at dksX0_luck_1 10 rfl rfl)
theorem dX0_luck_34 : decode cX0_luck 34 = .ok (.iconst 0, 1) := dk_3 (dk_at dksX0_luck_1 12 rfl rfl)
theorem dX0_luck_35 : decode cX0_luck 35 = .ok (.istore 5, 2) := dk_54 5 (dk_at dksX0_luck_1 13 rfl rfl)
theorem dX0_luck_37 : decode cX0_luck 37 = .ok (.iload 5, 2) := dk_21 5 (dk_at dksX0_luck_1 15 rfl rfl)
theorem dX0_luck_39 : decode cX0_luck 39 = .ok (.iload_n 2, 1) := dk_28 (dk_at dksX0_luck_1 17 rfl rfl)
theorem dX0_luck_40 : decode cX0_luck 40 = .ok (.if_icmp .ge 51, 3) := dk_162 0 51 (dk_at dksX0_luck_1 18 rfl rfl)
theorem dX0_luck_43 : decode cX0_luck 43 = .ok (.aload_n 0, 1) := dk_42 (dk_at dksX0_luck_1 21 rfl rfl)
theorem dX0_luck_44 : decode cX0_luck 44 = .ok (.getfield 68, 3) := dk_180 0 68 (dk_at dksX0_luck_2 0 rfl rfl)
theorem dX0_luck_47 : decode cX0_luck 47 = .ok (.iload_n 1, 1) := dk_27 (dk_at dksX0_luck_2 3 rfl rfl)
theorem dX0_luck_48 : decode cX0_luck 48 = .ok (.i2l, 1) := dk_133 (dk_at dksX0_luck_2 4 rfl rfl)
theorem dX0_luck_49 : decode cX0_luck 49 = .ok (.iload 5, 2) := dk_21 5 (dk_at dksX0_luck_2 5 rfl rfl)
theorem dX0_luck_51 : decode cX0_luck 51 = .ok (.i2l, 1) := dk_133 (dk_at dksX0_luck_2 7 rfl rfl)
theorem dX0_luck_52 : decode cX0_luck 52 = .ok (.ladd, 1) := dk_97 (dk_at dksX0_luck_2 8 rfl rfl)
theorem dX0_luck_53 : decode cX0_luck 53 = .ok (.invokevirtual 437, 3) := dk_182 1 181 (dk_at dksX0_luck_2 9 rfl rfl)
theorem dX0_luck_56 : decode cX0_luck 56 = .ok (.pop, 1) := dk_87 (dk_at dksX0_luck_2 12 rfl rfl)
theorem dX0_luck_57 : decode cX0_luck 57 = .ok (.iload 4, 2) := dk_21 4 (dk_at dksX0_luck_2 13 rfl rfl)
theorem dX0_luck_59 : decode cX0_luck 59 = .ok (.aload_n 0, 1) := dk_42 (dk_at dksX0_luck_2 15 rfl rfl)
theorem dX0_luck_60 : decode cX0_luck 60 = .ok (.getfield 75, 3) := dk_180 0 75 (dk_at dksX0_luck_2 16 rfl rfl)
theorem dX0_luck_63 : decode cX0_luck 63 = .ok (.iload_n 3, 1) := dk_29 (dk_at dksX0_luck_2 19 rfl rfl)
theorem dX0_luck_64 : decode cX0_luck 64 = .ok (.iconst 0, 1) := dk_3 (dk_at dksX0_luck_2 20 rfl rfl)
theorem dX0_luck_65 : decode cX0_luck 65 = .ok (.invokevirtual 193, 3) := dk_182 0 193 (dk_at dksX0_luck_2 21 rfl rfl)
theorem dX0_luck_68 : decode cX0_luck 68 = .ok (.bipush 10, 2) := dk_16 10 (dk_at dksX0_luck_3 0 rfl rfl)
theorem dX0_luck_70 : decode cX0_luck 70 = .ok (.invokevirtual 251, 3) := dk_182 0 251 (dk_at dksX0_luck_3 2 rfl rfl)
theorem dX0_luck_73 : decode cX0_luck 73 = .ok (.iconst (-1), 1) := dk_2 (dk_at dksX0_luck_3 5 rfl rfl)
theorem dX0_luck_74 : decode cX0_luck 74 = .ok (.if_icmp .ne 7, 3) := dk_160 0 7 (dk_at dksX0_luck_3 6 rfl rfl)
theorem dX0_luck_77 : decode cX0_luck 77 = .ok (.iconst 0, 1) := dk_3 (dk_at dksX0_luck_3 9 rfl rfl)
theorem dX0_luck_78 : decode cX0_luck 78 = .ok (.goto 4, 3) := dk_167 0 4 (dk_at dksX0_luck_3 10 rfl rfl)
theorem dX0_luck_81 : decode cX0_luck 81 = .ok (.iconst 1, 1) := dk_4 (dk_at dksX0_luck_3 13 rfl rfl)
theorem dX0_luck_82 : decode cX0_luck 82 = .ok (.iadd, 1) := dk_96 (dk_at dksX0_luck_3 14 rfl rfl)
theorem dX0_luck_83 : decode cX0_luck 83 = .ok (.istore 4, 2) := dk_54 4 (dk_at dksX0_luck_3 15 rfl rfl)
theorem dX0_luck_85 : decode cX0_luck 85 = .ok (.iinc 5 1, 3) := dk_132 5 1 (dk_at dksX0_luck_3 17 rfl rfl)
theorem dX0_luck_88 : decode cX0_luck 88 = .ok (.goto (-51), 3) := dk_167 255 205 (dk_at dksX0_luck_3 20 rfl rfl)
theorem dX0_luck_91 : decode cX0_luck 91 = .ok (.iload 4, 2) := dk_21 4 (dk_at dksX0_luck_4 0 rfl rfl)
theorem dX0_luck_93 : decode cX0_luck 93 = .ok (.ireturn, 1) := dk_172 (dk_at dksX0_luck_4 2 rfl rfl)
abbrev cX0_deepen : ByteArray := prog_1_method_105_code
def yX0_deepen : MethodName := ⟨RX0, "deepen", "(II)I"⟩
def dkwX0_deepen_2 : List UInt8 := [180, 0, 170, 62, 42, 27, 182, 0, 160, 28, 181, 0, 170, 29, 172]
abbrev dktX0_deepen_2 : List UInt8 := dkwX0_deepen_2 ++ []
def dkwX0_deepen_1 : List UInt8 := [42, 180, 0, 47, 180, 1, 147, 185, 1, 167, 1, 0, 154, 0, 6, 16, 251, 172, 42, 27, 182, 0, 160]
abbrev dktX0_deepen_1 : List UInt8 := dkwX0_deepen_1 ++ dktX0_deepen_2
def dkwX0_deepen_0 : List UInt8 := [42, 27, 133, 182, 0, 151, 153, 0, 15, 28, 133, 9, 20, 1, 188, 184, 0, 11, 154, 0, 6, 16, 254, 172]
abbrev dktX0_deepen_0 : List UInt8 := dkwX0_deepen_0 ++ dktX0_deepen_1
theorem dksX0_deepen_0 : cX0_deepen.data.toList.drop 0 = dktX0_deepen_0 := by decide +kernel
theorem dksX0_deepen_1 : cX0_deepen.data.toList.drop 24 = dktX0_deepen_1 := dk_seg dksX0_deepen_0 24 rfl rfl
theorem dksX0_deepen_2 : cX0_deepen.data.toList.drop 47 = dktX0_deepen_2 := dk_seg dksX0_deepen_1 23 rfl rfl
theorem dX0_deepen_0 : decode cX0_deepen 0 = .ok (.aload_n 0, 1) := dk_42 (dk_at dksX0_deepen_0 0 rfl rfl)
theorem dX0_deepen_1 : decode cX0_deepen 1 = .ok (.iload_n 1, 1) := dk_27 (dk_at dksX0_deepen_0 1 rfl rfl)
theorem dX0_deepen_2 : decode cX0_deepen 2 = .ok (.i2l, 1) := dk_133 (dk_at dksX0_deepen_0 2 rfl rfl)
theorem dX0_deepen_3 : decode cX0_deepen 3 = .ok (.invokevirtual 151, 3) := dk_182 0 151 (dk_at dksX0_deepen_0 3 rfl rfl)
theorem dX0_deepen_6 : decode cX0_deepen 6 = .ok (.ifCond .eq 15, 3) := dk_153 0 15 (dk_at dksX0_deepen_0 6 rfl rfl)
theorem dX0_deepen_9 : decode cX0_deepen 9 = .ok (.iload_n 2, 1) := dk_28 (dk_at dksX0_deepen_0 9 rfl rfl)
theorem dX0_deepen_10 : decode cX0_deepen 10 = .ok (.i2l, 1) := dk_133 (dk_at dksX0_deepen_0 10 rfl rfl)
theorem dX0_deepen_11 : decode cX0_deepen 11 = .ok (.lconst 0, 1) := dk_9 (dk_at dksX0_deepen_0 11 rfl rfl)
theorem dX0_deepen_12 : decode cX0_deepen 12 = .ok (.ldc2_w 444, 3) := dk_20 1 188 (dk_at dksX0_deepen_0 12 rfl rfl)
theorem dX0_deepen_15 : decode cX0_deepen 15 = .ok (.invokestatic 11, 3) := dk_184 0 11 (dk_at dksX0_deepen_0 15 rfl rfl)
theorem dX0_deepen_18 : decode cX0_deepen 18 = .ok (.ifCond .ne 6, 3) := dk_154 0 6 (dk_at dksX0_deepen_0 18 rfl rfl)
theorem dX0_deepen_21 : decode cX0_deepen 21 = .ok (.bipush (-2), 2) := dk_16 254 (dk_at dksX0_deepen_0 21 rfl rfl)
theorem dX0_deepen_23 : decode cX0_deepen 23 = .ok (.ireturn, 1) := dk_172 (dk_at dksX0_deepen_0 23 rfl rfl)
theorem dX0_deepen_24 : decode cX0_deepen 24 = .ok (.aload_n 0, 1) := dk_42 (dk_at dksX0_deepen_1 0 rfl rfl)
theorem dX0_deepen_25 : decode cX0_deepen 25 = .ok (.getfield 47, 3) := dk_180 0 47 (dk_at dksX0_deepen_1 1 rfl rfl)
theorem dX0_deepen_28 : decode cX0_deepen 28 = .ok (.getfield 403, 3) := dk_180 1 147 (dk_at dksX0_deepen_1 4 rfl rfl)
theorem dX0_deepen_31 : decode cX0_deepen 31 = .ok (.invokeinterface 423 1, 5) := by decide +kernel
theorem dX0_deepen_36 : decode cX0_deepen 36 = .ok (.ifCond .ne 6, 3) := dk_154 0 6 (dk_at dksX0_deepen_1 12 rfl rfl)
theorem dX0_deepen_39 : decode cX0_deepen 39 = .ok (.bipush (-5), 2) := dk_16 251 (dk_at dksX0_deepen_1 15 rfl rfl)
theorem dX0_deepen_41 : decode cX0_deepen 41 = .ok (.ireturn, 1) := dk_172 (dk_at dksX0_deepen_1 17 rfl rfl)
theorem dX0_deepen_42 : decode cX0_deepen 42 = .ok (.aload_n 0, 1) := dk_42 (dk_at dksX0_deepen_1 18 rfl rfl)
theorem dX0_deepen_43 : decode cX0_deepen 43 = .ok (.iload_n 1, 1) := dk_27 (dk_at dksX0_deepen_1 19 rfl rfl)
theorem dX0_deepen_44 : decode cX0_deepen 44 = .ok (.invokevirtual 160, 3) := dk_182 0 160 (dk_at dksX0_deepen_1 20 rfl rfl)
theorem dX0_deepen_47 : decode cX0_deepen 47 = .ok (.getfield 170, 3) := dk_180 0 170 (dk_at dksX0_deepen_2 0 rfl rfl)
theorem dX0_deepen_50 : decode cX0_deepen 50 = .ok (.istore_n 3, 1) := dk_62 (dk_at dksX0_deepen_2 3 rfl rfl)
theorem dX0_deepen_51 : decode cX0_deepen 51 = .ok (.aload_n 0, 1) := dk_42 (dk_at dksX0_deepen_2 4 rfl rfl)
theorem dX0_deepen_52 : decode cX0_deepen 52 = .ok (.iload_n 1, 1) := dk_27 (dk_at dksX0_deepen_2 5 rfl rfl)
theorem dX0_deepen_53 : decode cX0_deepen 53 = .ok (.invokevirtual 160, 3) := dk_182 0 160 (dk_at dksX0_deepen_2 6 rfl rfl)
theorem dX0_deepen_56 : decode cX0_deepen 56 = .ok (.iload_n 2, 1) := dk_28 (dk_at dksX0_deepen_2 9 rfl rfl)
theorem dX0_deepen_57 : decode cX0_deepen 57 = .ok (.putfield 170, 3) := dk_181 0 170 (dk_at dksX0_deepen_2 10 rfl rfl)
theorem dX0_deepen_60 : decode cX0_deepen 60 = .ok (.iload_n 3, 1) := dk_29 (dk_at dksX0_deepen_2 13 rfl rfl)
theorem dX0_deepen_61 : decode cX0_deepen 61 = .ok (.ireturn, 1) := dk_172 (dk_at dksX0_deepen_2 14 rfl rfl)
abbrev cX0_count : ByteArray := prog_1_method_106_code
def yX0_count : MethodName := ⟨RX0, "count", "(I)I"⟩
def dkwX0_count_7 : List UInt8 := [3, 167, 0, 4, 4, 96, 61, 132, 5, 1, 167, 255, 224, 28, 172, 2, 172]
abbrev dktX0_count_7 : List UInt8 := dkwX0_count_7 ++ []
def dkwX0_count_6 : List UInt8 := [54, 5, 21, 5, 21, 4, 162, 0, 31, 45, 21, 5, 50, 58, 6, 28, 25, 6, 180, 1, 69, 199, 0, 7]
abbrev dktX0_count_6 : List UInt8 := dkwX0_count_6 ++ dktX0_count_7
def dkwX0_count_5 : List UInt8 := [180, 0, 47, 180, 0, 115, 172, 42, 180, 0, 96, 172, 3, 61, 42, 180, 0, 19, 78, 45, 190, 54, 4, 3]
abbrev dktX0_count_5 : List UInt8 := dkwX0_count_5 ++ dktX0_count_6
def dkwX0_count_4 : List UInt8 := [180, 1, 27, 185, 0, 130, 1, 0, 172, 42, 180, 0, 47, 180, 1, 147, 185, 0, 130, 1, 0, 172, 42]
abbrev dktX0_count_4 : List UInt8 := dkwX0_count_4 ++ dktX0_count_5
def dkwX0_count_3 : List UInt8 := [42, 182, 0, 147, 172, 42, 180, 0, 47, 180, 0, 142, 185, 0, 130, 1, 0, 172, 42, 180, 0, 47]
abbrev dktX0_count_3 : List UInt8 := dkwX0_count_3 ++ dktX0_count_4
def dkwX0_count_2 : List UInt8 := [42, 180, 0, 47, 180, 1, 190, 172, 42, 180, 0, 47, 180, 1, 128, 172, 42, 180, 0, 47, 180, 1, 131, 172]
abbrev dktX0_count_2 : List UInt8 := dkwX0_count_2 ++ dktX0_count_3
def dkwX0_count_1 : List UInt8 := [170, 0, 0, 0, 0, 0, 187, 0, 0, 0, 0, 0, 0, 0, 9, 0, 0, 0, 55, 0, 0, 0, 63, 0, 0, 0, 71, 0, 0, 0, 79, 0, 0, 0, 84, 0, 0, 0, 97, 0, 0, 0, 110, 0, 0, 0, 123, 0, 0, 0, 131, 0, 0, 0, 136]
abbrev dktX0_count_1 : List UInt8 := dkwX0_count_1 ++ dktX0_count_2
def dkwX0_count_0 : List UInt8 := [27]
abbrev dktX0_count_0 : List UInt8 := dkwX0_count_0 ++ dktX0_count_1
theorem dksX0_count_0 : cX0_count.data.toList.drop 0 = dktX0_count_0 := by decide +kernel
theorem dksX0_count_1 : cX0_count.data.toList.drop 1 = dktX0_count_1 := dk_seg dksX0_count_0 1 rfl rfl
theorem dksX0_count_2 : cX0_count.data.toList.drop 56 = dktX0_count_2 := dk_seg dksX0_count_1 55 rfl rfl
theorem dksX0_count_3 : cX0_count.data.toList.drop 80 = dktX0_count_3 := dk_seg dksX0_count_2 24 rfl rfl
theorem dksX0_count_4 : cX0_count.data.toList.drop 102 = dktX0_count_4 := dk_seg dksX0_count_3 22 rfl rfl
theorem dksX0_count_5 : cX0_count.data.toList.drop 125 = dktX0_count_5 := dk_seg dksX0_count_4 23 rfl rfl
theorem dksX0_count_6 : cX0_count.data.toList.drop 149 = dktX0_count_6 := dk_seg dksX0_count_5 24 rfl rfl
theorem dksX0_count_7 : cX0_count.data.toList.drop 173 = dktX0_count_7 := dk_seg dksX0_count_6 24 rfl rfl
theorem dX0_count_0 : decode cX0_count 0 = .ok (.iload_n 1, 1) := dk_27 (dk_at dksX0_count_0 0 rfl rfl)
theorem dX0_count_1 : decode cX0_count 1 = .ok (.tableswitch 187 0 9 #[55, 63, 71, 79, 84, 97, 110, 123, 131, 136], 55) := by decide +kernel
theorem dX0_count_56 : decode cX0_count 56 = .ok (.aload_n 0, 1) := dk_42 (dk_at dksX0_count_2 0 rfl rfl)
theorem dX0_count_57 : decode cX0_count 57 = .ok (.getfield 47, 3) := dk_180 0 47 (dk_at dksX0_count_2 1 rfl rfl)
theorem dX0_count_60 : decode cX0_count 60 = .ok (.getfield 446, 3) := dk_180 1 190 (dk_at dksX0_count_2 4 rfl rfl)
theorem dX0_count_63 : decode cX0_count 63 = .ok (.ireturn, 1) := dk_172 (dk_at dksX0_count_2 7 rfl rfl)
theorem dX0_count_64 : decode cX0_count 64 = .ok (.aload_n 0, 1) := dk_42 (dk_at dksX0_count_2 8 rfl rfl)
theorem dX0_count_65 : decode cX0_count 65 = .ok (.getfield 47, 3) := dk_180 0 47 (dk_at dksX0_count_2 9 rfl rfl)
theorem dX0_count_68 : decode cX0_count 68 = .ok (.getfield 384, 3) := dk_180 1 128 (dk_at dksX0_count_2 12 rfl rfl)
theorem dX0_count_71 : decode cX0_count 71 = .ok (.ireturn, 1) := dk_172 (dk_at dksX0_count_2 15 rfl rfl)
theorem dX0_count_72 : decode cX0_count 72 = .ok (.aload_n 0, 1) := dk_42 (dk_at dksX0_count_2 16 rfl rfl)
theorem dX0_count_73 : decode cX0_count 73 = .ok (.getfield 47, 3) := dk_180 0 47 (dk_at dksX0_count_2 17 rfl rfl)
theorem dX0_count_76 : decode cX0_count 76 = .ok (.getfield 387, 3) := dk_180 1 131 (dk_at dksX0_count_2 20 rfl rfl)
theorem dX0_count_79 : decode cX0_count 79 = .ok (.ireturn, 1) := dk_172 (dk_at dksX0_count_2 23 rfl rfl)
theorem dX0_count_80 : decode cX0_count 80 = .ok (.aload_n 0, 1) := dk_42 (dk_at dksX0_count_3 0 rfl rfl)
theorem dX0_count_81 : decode cX0_count 81 = .ok (.invokevirtual 147, 3) := dk_182 0 147 (dk_at dksX0_count_3 1 rfl rfl)
theorem dX0_count_84 : decode cX0_count 84 = .ok (.ireturn, 1) := dk_172 (dk_at dksX0_count_3 4 rfl rfl)
theorem dX0_count_85 : decode cX0_count 85 = .ok (.aload_n 0, 1) := dk_42 (dk_at dksX0_count_3 5 rfl rfl)
theorem dX0_count_86 : decode cX0_count 86 = .ok (.getfield 47, 3) := dk_180 0 47 (dk_at dksX0_count_3 6 rfl rfl)
theorem dX0_count_89 : decode cX0_count 89 = .ok (.getfield 142, 3) := dk_180 0 142 (dk_at dksX0_count_3 9 rfl rfl)
theorem dX0_count_92 : decode cX0_count 92 = .ok (.invokeinterface 130 1, 5) := by decide +kernel
theorem dX0_count_97 : decode cX0_count 97 = .ok (.ireturn, 1) := dk_172 (dk_at dksX0_count_3 17 rfl rfl)
theorem dX0_count_98 : decode cX0_count 98 = .ok (.aload_n 0, 1) := dk_42 (dk_at dksX0_count_3 18 rfl rfl)
theorem dX0_count_99 : decode cX0_count 99 = .ok (.getfield 47, 3) := dk_180 0 47 (dk_at dksX0_count_3 19 rfl rfl)
theorem dX0_count_102 : decode cX0_count 102 = .ok (.getfield 283, 3) := dk_180 1 27 (dk_at dksX0_count_4 0 rfl rfl)
theorem dX0_count_105 : decode cX0_count 105 = .ok (.invokeinterface 130 1, 5) := by decide +kernel
theorem dX0_count_110 : decode cX0_count 110 = .ok (.ireturn, 1) := dk_172 (dk_at dksX0_count_4 8 rfl rfl)
theorem dX0_count_111 : decode cX0_count 111 = .ok (.aload_n 0, 1) := dk_42 (dk_at dksX0_count_4 9 rfl rfl)
theorem dX0_count_112 : decode cX0_count 112 = .ok (.getfield 47, 3) := dk_180 0 47 (dk_at dksX0_count_4 10 rfl rfl)
theorem dX0_count_115 : decode cX0_count 115 = .ok (.getfield 403, 3) := dk_180 1 147 (dk_at dksX0_count_4 13 rfl rfl)
theorem dX0_count_118 : decode cX0_count 118 = .ok (.invokeinterface 130 1, 5) := by decide +kernel
theorem dX0_count_123 : decode cX0_count 123 = .ok (.ireturn, 1) := dk_172 (dk_at dksX0_count_4 21 rfl rfl)
theorem dX0_count_124 : decode cX0_count 124 = .ok (.aload_n 0, 1) := dk_42 (dk_at dksX0_count_4 22 rfl rfl)
theorem dX0_count_125 : decode cX0_count 125 = .ok (.getfield 47, 3) := dk_180 0 47 (dk_at dksX0_count_5 0 rfl rfl)
theorem dX0_count_128 : decode cX0_count 128 = .ok (.getfield 115, 3) := dk_180 0 115 (dk_at dksX0_count_5 3 rfl rfl)
theorem dX0_count_131 : decode cX0_count 131 = .ok (.ireturn, 1) := dk_172 (dk_at dksX0_count_5 6 rfl rfl)
theorem dX0_count_132 : decode cX0_count 132 = .ok (.aload_n 0, 1) := dk_42 (dk_at dksX0_count_5 7 rfl rfl)
theorem dX0_count_133 : decode cX0_count 133 = .ok (.getfield 96, 3) := dk_180 0 96 (dk_at dksX0_count_5 8 rfl rfl)
theorem dX0_count_136 : decode cX0_count 136 = .ok (.ireturn, 1) := dk_172 (dk_at dksX0_count_5 11 rfl rfl)
theorem dX0_count_137 : decode cX0_count 137 = .ok (.iconst 0, 1) := dk_3 (dk_at dksX0_count_5 12 rfl rfl)
theorem dX0_count_138 : decode cX0_count 138 = .ok (.istore_n 2, 1) := dk_61 (dk_at dksX0_count_5 13 rfl rfl)
theorem dX0_count_139 : decode cX0_count 139 = .ok (.aload_n 0, 1) := dk_42 (dk_at dksX0_count_5 14 rfl rfl)
theorem dX0_count_140 : decode cX0_count 140 = .ok (.getfield 19, 3) := dk_180 0 19 (dk_at dksX0_count_5 15 rfl rfl)
theorem dX0_count_143 : decode cX0_count 143 = .ok (.astore_n 3, 1) := dk_78 (dk_at dksX0_count_5 18 rfl rfl)
theorem dX0_count_144 : decode cX0_count 144 = .ok (.aload_n 3, 1) := dk_45 (dk_at dksX0_count_5 19 rfl rfl)
theorem dX0_count_145 : decode cX0_count 145 = .ok (.arraylength, 1) := dk_190 (dk_at dksX0_count_5 20 rfl rfl)
theorem dX0_count_146 : decode cX0_count 146 = .ok (.istore 4, 2) := dk_54 4 (dk_at dksX0_count_5 21 rfl rfl)
theorem dX0_count_148 : decode cX0_count 148 = .ok (.iconst 0, 1) := dk_3 (dk_at dksX0_count_5 23 rfl rfl)
theorem dX0_count_149 : decode cX0_count 149 = .ok (.istore 5, 2) := dk_54 5 (dk_at dksX0_count_6 0 rfl rfl)
theorem dX0_count_151 : decode cX0_count 151 = .ok (.iload 5, 2) := dk_21 5 (dk_at dksX0_count_6 2 rfl rfl)
theorem dX0_count_153 : decode cX0_count 153 = .ok (.iload 4, 2) := dk_21 4 (dk_at dksX0_count_6 4 rfl rfl)
theorem dX0_count_155 : decode cX0_count 155 = .ok (.if_icmp .ge 31, 3) := dk_162 0 31 (dk_at dksX0_count_6 6 rfl rfl)
theorem dX0_count_158 : decode cX0_count 158 = .ok (.aload_n 3, 1) := dk_45 (dk_at dksX0_count_6 9 rfl rfl)
theorem dX0_count_159 : decode cX0_count 159 = .ok (.iload 5, 2) := dk_21 5 (dk_at dksX0_count_6 10 rfl rfl)
theorem dX0_count_161 : decode cX0_count 161 = .ok (.aaload, 1) := dk_50 (dk_at dksX0_count_6 12 rfl rfl)
theorem dX0_count_162 : decode cX0_count 162 = .ok (.astore 6, 2) := dk_58 6 (dk_at dksX0_count_6 13 rfl rfl)
theorem dX0_count_164 : decode cX0_count 164 = .ok (.iload_n 2, 1) := dk_28 (dk_at dksX0_count_6 15 rfl rfl)
theorem dX0_count_165 : decode cX0_count 165 = .ok (.aload 6, 2) := dk_25 6 (dk_at dksX0_count_6 16 rfl rfl)
theorem dX0_count_167 : decode cX0_count 167 = .ok (.getfield 325, 3) := dk_180 1 69 (dk_at dksX0_count_6 18 rfl rfl)
theorem dX0_count_170 : decode cX0_count 170 = .ok (.ifnonnull 7, 3) := dk_199 0 7 (dk_at dksX0_count_6 21 rfl rfl)
theorem dX0_count_173 : decode cX0_count 173 = .ok (.iconst 0, 1) := dk_3 (dk_at dksX0_count_7 0 rfl rfl)
theorem dX0_count_174 : decode cX0_count 174 = .ok (.goto 4, 3) := dk_167 0 4 (dk_at dksX0_count_7 1 rfl rfl)
theorem dX0_count_177 : decode cX0_count 177 = .ok (.iconst 1, 1) := dk_4 (dk_at dksX0_count_7 4 rfl rfl)
theorem dX0_count_178 : decode cX0_count 178 = .ok (.iadd, 1) := dk_96 (dk_at dksX0_count_7 5 rfl rfl)
theorem dX0_count_179 : decode cX0_count 179 = .ok (.istore_n 2, 1) := dk_61 (dk_at dksX0_count_7 6 rfl rfl)
theorem dX0_count_180 : decode cX0_count 180 = .ok (.iinc 5 1, 3) := dk_132 5 1 (dk_at dksX0_count_7 7 rfl rfl)
theorem dX0_count_183 : decode cX0_count 183 = .ok (.goto (-32), 3) := dk_167 255 224 (dk_at dksX0_count_7 10 rfl rfl)
theorem dX0_count_186 : decode cX0_count 186 = .ok (.iload_n 2, 1) := dk_28 (dk_at dksX0_count_7 13 rfl rfl)
theorem dX0_count_187 : decode cX0_count 187 = .ok (.ireturn, 1) := dk_172 (dk_at dksX0_count_7 14 rfl rfl)
theorem dX0_count_188 : decode cX0_count 188 = .ok (.iconst (-1), 1) := dk_2 (dk_at dksX0_count_7 15 rfl rfl)
theorem dX0_count_189 : decode cX0_count 189 = .ok (.ireturn, 1) := dk_172 (dk_at dksX0_count_7 16 rfl rfl)
abbrev cX0_image : ByteArray := prog_1_method_107_code
def yX0_image : MethodName := ⟨RX0, "image", "(I)I"⟩
def dkwX0_image_1 : List UInt8 := [182, 1, 192, 83, 3, 172]
abbrev dktX0_image_1 : List UInt8 := dkwX0_image_1 ++ []
def dkwX0_image_0 : List UInt8 := [27, 133, 9, 20, 0, 158, 184, 0, 11, 154, 0, 6, 16, 254, 172, 42, 180, 0, 51, 27, 42, 180, 0, 47]
abbrev dktX0_image_0 : List UInt8 := dkwX0_image_0 ++ dktX0_image_1
theorem dksX0_image_0 : cX0_image.data.toList.drop 0 = dktX0_image_0 := by decide +kernel
theorem dksX0_image_1 : cX0_image.data.toList.drop 24 = dktX0_image_1 := dk_seg dksX0_image_0 24 rfl rfl
theorem dX0_image_0 : decode cX0_image 0 = .ok (.iload_n 1, 1) := dk_27 (dk_at dksX0_image_0 0 rfl rfl)
theorem dX0_image_1 : decode cX0_image 1 = .ok (.i2l, 1) := dk_133 (dk_at dksX0_image_0 1 rfl rfl)
theorem dX0_image_2 : decode cX0_image 2 = .ok (.lconst 0, 1) := dk_9 (dk_at dksX0_image_0 2 rfl rfl)
theorem dX0_image_3 : decode cX0_image 3 = .ok (.ldc2_w 158, 3) := dk_20 0 158 (dk_at dksX0_image_0 3 rfl rfl)
theorem dX0_image_6 : decode cX0_image 6 = .ok (.invokestatic 11, 3) := dk_184 0 11 (dk_at dksX0_image_0 6 rfl rfl)
theorem dX0_image_9 : decode cX0_image 9 = .ok (.ifCond .ne 6, 3) := dk_154 0 6 (dk_at dksX0_image_0 9 rfl rfl)
theorem dX0_image_12 : decode cX0_image 12 = .ok (.bipush (-2), 2) := dk_16 254 (dk_at dksX0_image_0 12 rfl rfl)
theorem dX0_image_14 : decode cX0_image 14 = .ok (.ireturn, 1) := dk_172 (dk_at dksX0_image_0 14 rfl rfl)
theorem dX0_image_15 : decode cX0_image 15 = .ok (.aload_n 0, 1) := dk_42 (dk_at dksX0_image_0 15 rfl rfl)
theorem dX0_image_16 : decode cX0_image 16 = .ok (.getfield 51, 3) := dk_180 0 51 (dk_at dksX0_image_0 16 rfl rfl)
theorem dX0_image_19 : decode cX0_image 19 = .ok (.iload_n 1, 1) := dk_27 (dk_at dksX0_image_0 19 rfl rfl)
theorem dX0_image_20 : decode cX0_image 20 = .ok (.aload_n 0, 1) := dk_42 (dk_at dksX0_image_0 20 rfl rfl)
theorem dX0_image_21 : decode cX0_image 21 = .ok (.getfield 47, 3) := dk_180 0 47 (dk_at dksX0_image_0 21 rfl rfl)
theorem dX0_image_24 : decode cX0_image 24 = .ok (.invokevirtual 448, 3) := dk_182 1 192 (dk_at dksX0_image_1 0 rfl rfl)
theorem dX0_image_27 : decode cX0_image 27 = .ok (.aastore, 1) := dk_83 (dk_at dksX0_image_1 3 rfl rfl)
theorem dX0_image_28 : decode cX0_image 28 = .ok (.iconst 0, 1) := dk_3 (dk_at dksX0_image_1 4 rfl rfl)
theorem dX0_image_29 : decode cX0_image 29 = .ok (.ireturn, 1) := dk_172 (dk_at dksX0_image_1 5 rfl rfl)
abbrev cX0_back : ByteArray := prog_1_method_108_code
def yX0_back : MethodName := ⟨RX0, "back", "(I)I"⟩
def dkwX0_back_1 : List UInt8 := [16, 250, 172, 42, 42, 180, 0, 51, 27, 50, 182, 1, 192, 181, 0, 47, 3, 172]
abbrev dktX0_back_1 : List UInt8 := dkwX0_back_1 ++ []
def dkwX0_back_0 : List UInt8 := [27, 133, 9, 20, 0, 158, 184, 0, 11, 154, 0, 6, 16, 254, 172, 42, 180, 0, 51, 27, 50, 199, 0, 6]
abbrev dktX0_back_0 : List UInt8 := dkwX0_back_0 ++ dktX0_back_1
theorem dksX0_back_0 : cX0_back.data.toList.drop 0 = dktX0_back_0 := by decide +kernel
theorem dksX0_back_1 : cX0_back.data.toList.drop 24 = dktX0_back_1 := dk_seg dksX0_back_0 24 rfl rfl
theorem dX0_back_0 : decode cX0_back 0 = .ok (.iload_n 1, 1) := dk_27 (dk_at dksX0_back_0 0 rfl rfl)
theorem dX0_back_1 : decode cX0_back 1 = .ok (.i2l, 1) := dk_133 (dk_at dksX0_back_0 1 rfl rfl)
theorem dX0_back_2 : decode cX0_back 2 = .ok (.lconst 0, 1) := dk_9 (dk_at dksX0_back_0 2 rfl rfl)
theorem dX0_back_3 : decode cX0_back 3 = .ok (.ldc2_w 158, 3) := dk_20 0 158 (dk_at dksX0_back_0 3 rfl rfl)
theorem dX0_back_6 : decode cX0_back 6 = .ok (.invokestatic 11, 3) := dk_184 0 11 (dk_at dksX0_back_0 6 rfl rfl)
theorem dX0_back_9 : decode cX0_back 9 = .ok (.ifCond .ne 6, 3) := dk_154 0 6 (dk_at dksX0_back_0 9 rfl rfl)
theorem dX0_back_12 : decode cX0_back 12 = .ok (.bipush (-2), 2) := dk_16 254 (dk_at dksX0_back_0 12 rfl rfl)
theorem dX0_back_14 : decode cX0_back 14 = .ok (.ireturn, 1) := dk_172 (dk_at dksX0_back_0 14 rfl rfl)
theorem dX0_back_15 : decode cX0_back 15 = .ok (.aload_n 0, 1) := dk_42 (dk_at dksX0_back_0 15 rfl rfl)
theorem dX0_back_16 : decode cX0_back 16 = .ok (.getfield 51, 3) := dk_180 0 51 (dk_at dksX0_back_0 16 rfl rfl)
theorem dX0_back_19 : decode cX0_back 19 = .ok (.iload_n 1, 1) := dk_27 (dk_at dksX0_back_0 19 rfl rfl)
theorem dX0_back_20 : decode cX0_back 20 = .ok (.aaload, 1) := dk_50 (dk_at dksX0_back_0 20 rfl rfl)
theorem dX0_back_21 : decode cX0_back 21 = .ok (.ifnonnull 6, 3) := dk_199 0 6 (dk_at dksX0_back_0 21 rfl rfl)
theorem dX0_back_24 : decode cX0_back 24 = .ok (.bipush (-6), 2) := dk_16 250 (dk_at dksX0_back_1 0 rfl rfl)
theorem dX0_back_26 : decode cX0_back 26 = .ok (.ireturn, 1) := dk_172 (dk_at dksX0_back_1 2 rfl rfl)
theorem dX0_back_27 : decode cX0_back 27 = .ok (.aload_n 0, 1) := dk_42 (dk_at dksX0_back_1 3 rfl rfl)
theorem dX0_back_28 : decode cX0_back 28 = .ok (.aload_n 0, 1) := dk_42 (dk_at dksX0_back_1 4 rfl rfl)
theorem dX0_back_29 : decode cX0_back 29 = .ok (.getfield 51, 3) := dk_180 0 51 (dk_at dksX0_back_1 5 rfl rfl)
theorem dX0_back_32 : decode cX0_back 32 = .ok (.iload_n 1, 1) := dk_27 (dk_at dksX0_back_1 8 rfl rfl)
theorem dX0_back_33 : decode cX0_back 33 = .ok (.aaload, 1) := dk_50 (dk_at dksX0_back_1 9 rfl rfl)
theorem dX0_back_34 : decode cX0_back 34 = .ok (.invokevirtual 448, 3) := dk_182 1 192 (dk_at dksX0_back_1 10 rfl rfl)
theorem dX0_back_37 : decode cX0_back 37 = .ok (.putfield 47, 3) := dk_181 0 47 (dk_at dksX0_back_1 13 rfl rfl)
theorem dX0_back_40 : decode cX0_back 40 = .ok (.iconst 0, 1) := dk_3 (dk_at dksX0_back_1 16 rfl rfl)
theorem dX0_back_41 : decode cX0_back 41 = .ok (.ireturn, 1) := dk_172 (dk_at dksX0_back_1 17 rfl rfl)

abbrev cX1_begins : ByteArray := prog_10_method_2_code
def yX1_begins : MethodName := ⟨RX1, "begins", "(II)Z"⟩
def dkwX1_begins_3 : List UInt8 := [181, 0, 9, 167, 0, 10, 42, 28, 188, 11, 181, 0, 9, 167, 0, 6, 78, 3, 172, 4, 172]
abbrev dktX1_begins_3 : List UInt8 := dkwX1_begins_3 ++ []
def dkwX1_begins_2 : List UInt8 := [42, 28, 188, 8, 181, 0, 9, 167, 0, 30, 42, 28, 188, 9, 181, 0, 9, 167, 0, 20, 42, 28, 188, 10]
abbrev dktX1_begins_2 : List UInt8 := dkwX1_begins_2 ++ dktX1_begins_3
def dkwX1_begins_1 : List UInt8 := [170, 0, 0, 0, 0, 0, 57, 0, 0, 0, 0, 0, 0, 0, 2, 0, 0, 0, 27, 0, 0, 0, 37, 0, 0, 0, 47]
abbrev dktX1_begins_1 : List UInt8 := dkwX1_begins_1 ++ dktX1_begins_2
def dkwX1_begins_0 : List UInt8 := [27]
abbrev dktX1_begins_0 : List UInt8 := dkwX1_begins_0 ++ dktX1_begins_1
theorem dksX1_begins_0 : cX1_begins.data.toList.drop 0 = dktX1_begins_0 := by decide +kernel
theorem dksX1_begins_1 : cX1_begins.data.toList.drop 1 = dktX1_begins_1 := dk_seg dksX1_begins_0 1 rfl rfl
theorem dksX1_begins_2 : cX1_begins.data.toList.drop 28 = dktX1_begins_2 := dk_seg dksX1_begins_1 27 rfl rfl
theorem dksX1_begins_3 : cX1_begins.data.toList.drop 52 = dktX1_begins_3 := dk_seg dksX1_begins_2 24 rfl rfl
theorem dX1_begins_0 : decode cX1_begins 0 = .ok (.iload_n 1, 1) := dk_27 (dk_at dksX1_begins_0 0 rfl rfl)
theorem dX1_begins_1 : decode cX1_begins 1 = .ok (.tableswitch 57 0 2 #[27, 37, 47], 27) := by decide +kernel
theorem dX1_begins_28 : decode cX1_begins 28 = .ok (.aload_n 0, 1) := dk_42 (dk_at dksX1_begins_2 0 rfl rfl)
theorem dX1_begins_29 : decode cX1_begins 29 = .ok (.iload_n 2, 1) := dk_28 (dk_at dksX1_begins_2 1 rfl rfl)
theorem dX1_begins_30 : decode cX1_begins 30 = .ok (.newarray .byte, 2) := dk_188_8 (dk_at dksX1_begins_2 2 rfl rfl)
theorem dX1_begins_32 : decode cX1_begins 32 = .ok (.putfield 9, 3) := dk_181 0 9 (dk_at dksX1_begins_2 4 rfl rfl)
theorem dX1_begins_35 : decode cX1_begins 35 = .ok (.goto 30, 3) := dk_167 0 30 (dk_at dksX1_begins_2 7 rfl rfl)
theorem dX1_begins_38 : decode cX1_begins 38 = .ok (.aload_n 0, 1) := dk_42 (dk_at dksX1_begins_2 10 rfl rfl)
theorem dX1_begins_39 : decode cX1_begins 39 = .ok (.iload_n 2, 1) := dk_28 (dk_at dksX1_begins_2 11 rfl rfl)
theorem dX1_begins_40 : decode cX1_begins 40 = .ok (.newarray .short, 2) := dk_188_9 (dk_at dksX1_begins_2 12 rfl rfl)
theorem dX1_begins_42 : decode cX1_begins 42 = .ok (.putfield 9, 3) := dk_181 0 9 (dk_at dksX1_begins_2 14 rfl rfl)
theorem dX1_begins_45 : decode cX1_begins 45 = .ok (.goto 20, 3) := dk_167 0 20 (dk_at dksX1_begins_2 17 rfl rfl)
theorem dX1_begins_48 : decode cX1_begins 48 = .ok (.aload_n 0, 1) := dk_42 (dk_at dksX1_begins_2 20 rfl rfl)
theorem dX1_begins_49 : decode cX1_begins 49 = .ok (.iload_n 2, 1) := dk_28 (dk_at dksX1_begins_2 21 rfl rfl)
theorem dX1_begins_50 : decode cX1_begins 50 = .ok (.newarray .int, 2) := dk_188_10 (dk_at dksX1_begins_2 22 rfl rfl)
theorem dX1_begins_52 : decode cX1_begins 52 = .ok (.putfield 9, 3) := dk_181 0 9 (dk_at dksX1_begins_3 0 rfl rfl)
theorem dX1_begins_55 : decode cX1_begins 55 = .ok (.goto 10, 3) := dk_167 0 10 (dk_at dksX1_begins_3 3 rfl rfl)
theorem dX1_begins_58 : decode cX1_begins 58 = .ok (.aload_n 0, 1) := dk_42 (dk_at dksX1_begins_3 6 rfl rfl)
theorem dX1_begins_59 : decode cX1_begins 59 = .ok (.iload_n 2, 1) := dk_28 (dk_at dksX1_begins_3 7 rfl rfl)
theorem dX1_begins_60 : decode cX1_begins 60 = .ok (.newarray .long, 2) := dk_188_11 (dk_at dksX1_begins_3 8 rfl rfl)
theorem dX1_begins_62 : decode cX1_begins 62 = .ok (.putfield 9, 3) := dk_181 0 9 (dk_at dksX1_begins_3 10 rfl rfl)
theorem dX1_begins_65 : decode cX1_begins 65 = .ok (.goto 6, 3) := dk_167 0 6 (dk_at dksX1_begins_3 13 rfl rfl)
theorem dX1_begins_68 : decode cX1_begins 68 = .ok (.astore_n 3, 1) := dk_78 (dk_at dksX1_begins_3 16 rfl rfl)
theorem dX1_begins_69 : decode cX1_begins 69 = .ok (.iconst 0, 1) := dk_3 (dk_at dksX1_begins_3 17 rfl rfl)
theorem dX1_begins_70 : decode cX1_begins 70 = .ok (.ireturn, 1) := dk_172 (dk_at dksX1_begins_3 18 rfl rfl)
theorem dX1_begins_71 : decode cX1_begins 71 = .ok (.iconst 1, 1) := dk_4 (dk_at dksX1_begins_3 19 rfl rfl)
theorem dX1_begins_72 : decode cX1_begins 72 = .ok (.ireturn, 1) := dk_172 (dk_at dksX1_begins_3 20 rfl rfl)
abbrev cX1_puts : ByteArray := prog_10_method_5_code
def yX1_puts : MethodName := ⟨RX1, "puts", "(IJ)I"⟩
def dkwX1_puts_0 : List UInt8 := [42, 27, 32, 182, 0, 25, 167, 0, 13, 58, 4, 16, 250, 172, 58, 4, 16, 249, 172, 3, 172]
abbrev dktX1_puts_0 : List UInt8 := dkwX1_puts_0 ++ []
theorem dksX1_puts_0 : cX1_puts.data.toList.drop 0 = dktX1_puts_0 := by decide +kernel
theorem dX1_puts_0 : decode cX1_puts 0 = .ok (.aload_n 0, 1) := dk_42 (dk_at dksX1_puts_0 0 rfl rfl)
theorem dX1_puts_1 : decode cX1_puts 1 = .ok (.iload_n 1, 1) := dk_27 (dk_at dksX1_puts_0 1 rfl rfl)
theorem dX1_puts_2 : decode cX1_puts 2 = .ok (.lload_n 2, 1) := dk_32 (dk_at dksX1_puts_0 2 rfl rfl)
theorem dX1_puts_3 : decode cX1_puts 3 = .ok (.invokevirtual 25, 3) := dk_182 0 25 (dk_at dksX1_puts_0 3 rfl rfl)
theorem dX1_puts_6 : decode cX1_puts 6 = .ok (.goto 13, 3) := dk_167 0 13 (dk_at dksX1_puts_0 6 rfl rfl)
theorem dX1_puts_9 : decode cX1_puts 9 = .ok (.astore 4, 2) := dk_58 4 (dk_at dksX1_puts_0 9 rfl rfl)
theorem dX1_puts_11 : decode cX1_puts 11 = .ok (.bipush (-6), 2) := dk_16 250 (dk_at dksX1_puts_0 11 rfl rfl)
theorem dX1_puts_13 : decode cX1_puts 13 = .ok (.ireturn, 1) := dk_172 (dk_at dksX1_puts_0 13 rfl rfl)
theorem dX1_puts_14 : decode cX1_puts 14 = .ok (.astore 4, 2) := dk_58 4 (dk_at dksX1_puts_0 14 rfl rfl)
theorem dX1_puts_16 : decode cX1_puts 16 = .ok (.bipush (-7), 2) := dk_16 249 (dk_at dksX1_puts_0 16 rfl rfl)
theorem dX1_puts_18 : decode cX1_puts 18 = .ok (.ireturn, 1) := dk_172 (dk_at dksX1_puts_0 18 rfl rfl)
theorem dX1_puts_19 : decode cX1_puts 19 = .ok (.iconst 0, 1) := dk_3 (dk_at dksX1_puts_0 19 rfl rfl)
theorem dX1_puts_20 : decode cX1_puts 20 = .ok (.ireturn, 1) := dk_172 (dk_at dksX1_puts_0 20 rfl rfl)
abbrev cX1_put : ByteArray := prog_10_method_6_code
def yX1_put : MethodName := ⟨RX1, "put", "(IJ)V"⟩
def dkwX1_put_2 : List UInt8 := [25, 4, 27, 32, 136, 147, 86, 167, 0, 9, 42, 27, 32, 182, 0, 33, 177]
abbrev dktX1_put_2 : List UInt8 := dkwX1_put_2 ++ []
def dkwX1_put_1 : List UInt8 := [145, 84, 167, 0, 38, 42, 180, 0, 9, 193, 0, 19, 153, 0, 22, 42, 180, 0, 9, 192, 0, 19, 58, 4]
abbrev dktX1_put_1 : List UInt8 := dkwX1_put_1 ++ dktX1_put_2
def dkwX1_put_0 : List UInt8 := [42, 180, 0, 9, 193, 0, 17, 153, 0, 22, 42, 180, 0, 9, 192, 0, 17, 58, 4, 25, 4, 27, 32, 136]
abbrev dktX1_put_0 : List UInt8 := dkwX1_put_0 ++ dktX1_put_1
theorem dksX1_put_0 : cX1_put.data.toList.drop 0 = dktX1_put_0 := by decide +kernel
theorem dksX1_put_1 : cX1_put.data.toList.drop 24 = dktX1_put_1 := dk_seg dksX1_put_0 24 rfl rfl
theorem dksX1_put_2 : cX1_put.data.toList.drop 48 = dktX1_put_2 := dk_seg dksX1_put_1 24 rfl rfl
theorem dX1_put_0 : decode cX1_put 0 = .ok (.aload_n 0, 1) := dk_42 (dk_at dksX1_put_0 0 rfl rfl)
theorem dX1_put_1 : decode cX1_put 1 = .ok (.getfield 9, 3) := dk_180 0 9 (dk_at dksX1_put_0 1 rfl rfl)
theorem dX1_put_4 : decode cX1_put 4 = .ok (.instanceof 17, 3) := dk_193 0 17 (dk_at dksX1_put_0 4 rfl rfl)
theorem dX1_put_7 : decode cX1_put 7 = .ok (.ifCond .eq 22, 3) := dk_153 0 22 (dk_at dksX1_put_0 7 rfl rfl)
theorem dX1_put_10 : decode cX1_put 10 = .ok (.aload_n 0, 1) := dk_42 (dk_at dksX1_put_0 10 rfl rfl)
theorem dX1_put_11 : decode cX1_put 11 = .ok (.getfield 9, 3) := dk_180 0 9 (dk_at dksX1_put_0 11 rfl rfl)
theorem dX1_put_14 : decode cX1_put 14 = .ok (.checkcast 17, 3) := dk_192 0 17 (dk_at dksX1_put_0 14 rfl rfl)
theorem dX1_put_17 : decode cX1_put 17 = .ok (.astore 4, 2) := dk_58 4 (dk_at dksX1_put_0 17 rfl rfl)
theorem dX1_put_19 : decode cX1_put 19 = .ok (.aload 4, 2) := dk_25 4 (dk_at dksX1_put_0 19 rfl rfl)
theorem dX1_put_21 : decode cX1_put 21 = .ok (.iload_n 1, 1) := dk_27 (dk_at dksX1_put_0 21 rfl rfl)
theorem dX1_put_22 : decode cX1_put 22 = .ok (.lload_n 2, 1) := dk_32 (dk_at dksX1_put_0 22 rfl rfl)
theorem dX1_put_23 : decode cX1_put 23 = .ok (.l2i, 1) := dk_136 (dk_at dksX1_put_0 23 rfl rfl)
theorem dX1_put_24 : decode cX1_put 24 = .ok (.i2b, 1) := dk_145 (dk_at dksX1_put_1 0 rfl rfl)
theorem dX1_put_25 : decode cX1_put 25 = .ok (.bastore, 1) := dk_84 (dk_at dksX1_put_1 1 rfl rfl)
theorem dX1_put_26 : decode cX1_put 26 = .ok (.goto 38, 3) := dk_167 0 38 (dk_at dksX1_put_1 2 rfl rfl)
theorem dX1_put_29 : decode cX1_put 29 = .ok (.aload_n 0, 1) := dk_42 (dk_at dksX1_put_1 5 rfl rfl)
theorem dX1_put_30 : decode cX1_put 30 = .ok (.getfield 9, 3) := dk_180 0 9 (dk_at dksX1_put_1 6 rfl rfl)
theorem dX1_put_33 : decode cX1_put 33 = .ok (.instanceof 19, 3) := dk_193 0 19 (dk_at dksX1_put_1 9 rfl rfl)
theorem dX1_put_36 : decode cX1_put 36 = .ok (.ifCond .eq 22, 3) := dk_153 0 22 (dk_at dksX1_put_1 12 rfl rfl)
theorem dX1_put_39 : decode cX1_put 39 = .ok (.aload_n 0, 1) := dk_42 (dk_at dksX1_put_1 15 rfl rfl)
theorem dX1_put_40 : decode cX1_put 40 = .ok (.getfield 9, 3) := dk_180 0 9 (dk_at dksX1_put_1 16 rfl rfl)
theorem dX1_put_43 : decode cX1_put 43 = .ok (.checkcast 19, 3) := dk_192 0 19 (dk_at dksX1_put_1 19 rfl rfl)
theorem dX1_put_46 : decode cX1_put 46 = .ok (.astore 4, 2) := dk_58 4 (dk_at dksX1_put_1 22 rfl rfl)
theorem dX1_put_48 : decode cX1_put 48 = .ok (.aload 4, 2) := dk_25 4 (dk_at dksX1_put_2 0 rfl rfl)
theorem dX1_put_50 : decode cX1_put 50 = .ok (.iload_n 1, 1) := dk_27 (dk_at dksX1_put_2 2 rfl rfl)
theorem dX1_put_51 : decode cX1_put 51 = .ok (.lload_n 2, 1) := dk_32 (dk_at dksX1_put_2 3 rfl rfl)
theorem dX1_put_52 : decode cX1_put 52 = .ok (.l2i, 1) := dk_136 (dk_at dksX1_put_2 4 rfl rfl)
theorem dX1_put_53 : decode cX1_put 53 = .ok (.i2s, 1) := dk_147 (dk_at dksX1_put_2 5 rfl rfl)
theorem dX1_put_54 : decode cX1_put 54 = .ok (.sastore, 1) := dk_86 (dk_at dksX1_put_2 6 rfl rfl)
theorem dX1_put_55 : decode cX1_put 55 = .ok (.goto 9, 3) := dk_167 0 9 (dk_at dksX1_put_2 7 rfl rfl)
theorem dX1_put_58 : decode cX1_put 58 = .ok (.aload_n 0, 1) := dk_42 (dk_at dksX1_put_2 10 rfl rfl)
theorem dX1_put_59 : decode cX1_put 59 = .ok (.iload_n 1, 1) := dk_27 (dk_at dksX1_put_2 11 rfl rfl)
theorem dX1_put_60 : decode cX1_put 60 = .ok (.lload_n 2, 1) := dk_32 (dk_at dksX1_put_2 12 rfl rfl)
theorem dX1_put_61 : decode cX1_put 61 = .ok (.invokevirtual 33, 3) := dk_182 0 33 (dk_at dksX1_put_2 13 rfl rfl)
theorem dX1_put_64 : decode cX1_put 64 = .ok (.return_, 1) := dk_177 (dk_at dksX1_put_2 16 rfl rfl)
abbrev cX1_putWider : ByteArray := prog_10_method_7_code
def yX1_putWider : MethodName := ⟨RX1, "putWider", "(IJ)V"⟩
def dkwX1_putWider_1 : List UInt8 := [192, 0, 23, 58, 5, 25, 5, 27, 32, 80, 177]
abbrev dktX1_putWider_1 : List UInt8 := dkwX1_putWider_1 ++ []
def dkwX1_putWider_0 : List UInt8 := [42, 180, 0, 9, 192, 0, 21, 58, 4, 25, 4, 27, 32, 136, 79, 167, 0, 19, 58, 4, 42, 180, 0, 9]
abbrev dktX1_putWider_0 : List UInt8 := dkwX1_putWider_0 ++ dktX1_putWider_1
theorem dksX1_putWider_0 : cX1_putWider.data.toList.drop 0 = dktX1_putWider_0 := by decide +kernel
theorem dksX1_putWider_1 : cX1_putWider.data.toList.drop 24 = dktX1_putWider_1 := dk_seg dksX1_putWider_0 24 rfl rfl
theorem dX1_putWider_0 : decode cX1_putWider 0 = .ok (.aload_n 0, 1) := dk_42 (dk_at dksX1_putWider_0 0 rfl rfl)
theorem dX1_putWider_1 : decode cX1_putWider 1 = .ok (.getfield 9, 3) := dk_180 0 9 (dk_at dksX1_putWider_0 1 rfl rfl)
theorem dX1_putWider_4 : decode cX1_putWider 4 = .ok (.checkcast 21, 3) := dk_192 0 21 (dk_at dksX1_putWider_0 4 rfl rfl)
theorem dX1_putWider_7 : decode cX1_putWider 7 = .ok (.astore 4, 2) := dk_58 4 (dk_at dksX1_putWider_0 7 rfl rfl)
theorem dX1_putWider_9 : decode cX1_putWider 9 = .ok (.aload 4, 2) := dk_25 4 (dk_at dksX1_putWider_0 9 rfl rfl)
theorem dX1_putWider_11 : decode cX1_putWider 11 = .ok (.iload_n 1, 1) := dk_27 (dk_at dksX1_putWider_0 11 rfl rfl)
theorem dX1_putWider_12 : decode cX1_putWider 12 = .ok (.lload_n 2, 1) := dk_32 (dk_at dksX1_putWider_0 12 rfl rfl)
theorem dX1_putWider_13 : decode cX1_putWider 13 = .ok (.l2i, 1) := dk_136 (dk_at dksX1_putWider_0 13 rfl rfl)
theorem dX1_putWider_14 : decode cX1_putWider 14 = .ok (.iastore, 1) := dk_79 (dk_at dksX1_putWider_0 14 rfl rfl)
theorem dX1_putWider_15 : decode cX1_putWider 15 = .ok (.goto 19, 3) := dk_167 0 19 (dk_at dksX1_putWider_0 15 rfl rfl)
theorem dX1_putWider_18 : decode cX1_putWider 18 = .ok (.astore 4, 2) := dk_58 4 (dk_at dksX1_putWider_0 18 rfl rfl)
theorem dX1_putWider_20 : decode cX1_putWider 20 = .ok (.aload_n 0, 1) := dk_42 (dk_at dksX1_putWider_0 20 rfl rfl)
theorem dX1_putWider_21 : decode cX1_putWider 21 = .ok (.getfield 9, 3) := dk_180 0 9 (dk_at dksX1_putWider_0 21 rfl rfl)
theorem dX1_putWider_24 : decode cX1_putWider 24 = .ok (.checkcast 23, 3) := dk_192 0 23 (dk_at dksX1_putWider_1 0 rfl rfl)
theorem dX1_putWider_27 : decode cX1_putWider 27 = .ok (.astore 5, 2) := dk_58 5 (dk_at dksX1_putWider_1 3 rfl rfl)
theorem dX1_putWider_29 : decode cX1_putWider 29 = .ok (.aload 5, 2) := dk_25 5 (dk_at dksX1_putWider_1 5 rfl rfl)
theorem dX1_putWider_31 : decode cX1_putWider 31 = .ok (.iload_n 1, 1) := dk_27 (dk_at dksX1_putWider_1 7 rfl rfl)
theorem dX1_putWider_32 : decode cX1_putWider 32 = .ok (.lload_n 2, 1) := dk_32 (dk_at dksX1_putWider_1 8 rfl rfl)
theorem dX1_putWider_33 : decode cX1_putWider 33 = .ok (.lastore, 1) := dk_80 (dk_at dksX1_putWider_1 9 rfl rfl)
theorem dX1_putWider_34 : decode cX1_putWider 34 = .ok (.return_, 1) := dk_177 (dk_at dksX1_putWider_1 10 rfl rfl)
abbrev cX1_pastes : ByteArray := prog_10_method_9_code
def yX1_pastes : MethodName := ⟨RX1, "pastes", "(ILQuotedRiver$Slot;II)I"⟩
def dkwX1_pastes_2 : List UInt8 := [167, 0, 8, 58, 5, 16, 249, 172, 3, 172]
abbrev dktX1_pastes_2 : List UInt8 := dkwX1_pastes_2 ++ []
def dkwX1_pastes_1 : List UInt8 := [182, 0, 38, 159, 0, 6, 16, 248, 172, 42, 180, 0, 9, 27, 44, 180, 0, 9, 29, 21, 4, 184, 0, 42]
abbrev dktX1_pastes_1 : List UInt8 := dkwX1_pastes_1 ++ dktX1_pastes_2
def dkwX1_pastes_0 : List UInt8 := [42, 180, 0, 9, 198, 0, 10, 44, 180, 0, 9, 199, 0, 6, 16, 250, 172, 42, 182, 0, 38, 44]
abbrev dktX1_pastes_0 : List UInt8 := dkwX1_pastes_0 ++ dktX1_pastes_1
theorem dksX1_pastes_0 : cX1_pastes.data.toList.drop 0 = dktX1_pastes_0 := by decide +kernel
theorem dksX1_pastes_1 : cX1_pastes.data.toList.drop 22 = dktX1_pastes_1 := dk_seg dksX1_pastes_0 22 rfl rfl
theorem dksX1_pastes_2 : cX1_pastes.data.toList.drop 46 = dktX1_pastes_2 := dk_seg dksX1_pastes_1 24 rfl rfl
theorem dX1_pastes_0 : decode cX1_pastes 0 = .ok (.aload_n 0, 1) := dk_42 (dk_at dksX1_pastes_0 0 rfl rfl)
theorem dX1_pastes_1 : decode cX1_pastes 1 = .ok (.getfield 9, 3) := dk_180 0 9 (dk_at dksX1_pastes_0 1 rfl rfl)
theorem dX1_pastes_4 : decode cX1_pastes 4 = .ok (.ifnull 10, 3) := dk_198 0 10 (dk_at dksX1_pastes_0 4 rfl rfl)
theorem dX1_pastes_7 : decode cX1_pastes 7 = .ok (.aload_n 2, 1) := dk_44 (dk_at dksX1_pastes_0 7 rfl rfl)
theorem dX1_pastes_8 : decode cX1_pastes 8 = .ok (.getfield 9, 3) := dk_180 0 9 (dk_at dksX1_pastes_0 8 rfl rfl)
theorem dX1_pastes_11 : decode cX1_pastes 11 = .ok (.ifnonnull 6, 3) := dk_199 0 6 (dk_at dksX1_pastes_0 11 rfl rfl)
theorem dX1_pastes_14 : decode cX1_pastes 14 = .ok (.bipush (-6), 2) := dk_16 250 (dk_at dksX1_pastes_0 14 rfl rfl)
theorem dX1_pastes_16 : decode cX1_pastes 16 = .ok (.ireturn, 1) := dk_172 (dk_at dksX1_pastes_0 16 rfl rfl)
theorem dX1_pastes_17 : decode cX1_pastes 17 = .ok (.aload_n 0, 1) := dk_42 (dk_at dksX1_pastes_0 17 rfl rfl)
theorem dX1_pastes_18 : decode cX1_pastes 18 = .ok (.invokevirtual 38, 3) := dk_182 0 38 (dk_at dksX1_pastes_0 18 rfl rfl)
theorem dX1_pastes_21 : decode cX1_pastes 21 = .ok (.aload_n 2, 1) := dk_44 (dk_at dksX1_pastes_0 21 rfl rfl)
theorem dX1_pastes_22 : decode cX1_pastes 22 = .ok (.invokevirtual 38, 3) := dk_182 0 38 (dk_at dksX1_pastes_1 0 rfl rfl)
theorem dX1_pastes_25 : decode cX1_pastes 25 = .ok (.if_icmp .eq 6, 3) := dk_159 0 6 (dk_at dksX1_pastes_1 3 rfl rfl)
theorem dX1_pastes_28 : decode cX1_pastes 28 = .ok (.bipush (-8), 2) := dk_16 248 (dk_at dksX1_pastes_1 6 rfl rfl)
theorem dX1_pastes_30 : decode cX1_pastes 30 = .ok (.ireturn, 1) := dk_172 (dk_at dksX1_pastes_1 8 rfl rfl)
theorem dX1_pastes_31 : decode cX1_pastes 31 = .ok (.aload_n 0, 1) := dk_42 (dk_at dksX1_pastes_1 9 rfl rfl)
theorem dX1_pastes_32 : decode cX1_pastes 32 = .ok (.getfield 9, 3) := dk_180 0 9 (dk_at dksX1_pastes_1 10 rfl rfl)
theorem dX1_pastes_35 : decode cX1_pastes 35 = .ok (.iload_n 1, 1) := dk_27 (dk_at dksX1_pastes_1 13 rfl rfl)
theorem dX1_pastes_36 : decode cX1_pastes 36 = .ok (.aload_n 2, 1) := dk_44 (dk_at dksX1_pastes_1 14 rfl rfl)
theorem dX1_pastes_37 : decode cX1_pastes 37 = .ok (.getfield 9, 3) := dk_180 0 9 (dk_at dksX1_pastes_1 15 rfl rfl)
theorem dX1_pastes_40 : decode cX1_pastes 40 = .ok (.iload_n 3, 1) := dk_29 (dk_at dksX1_pastes_1 18 rfl rfl)
theorem dX1_pastes_41 : decode cX1_pastes 41 = .ok (.iload 4, 2) := dk_21 4 (dk_at dksX1_pastes_1 19 rfl rfl)
theorem dX1_pastes_43 : decode cX1_pastes 43 = .ok (.invokestatic 42, 3) := dk_184 0 42 (dk_at dksX1_pastes_1 21 rfl rfl)
theorem dX1_pastes_46 : decode cX1_pastes 46 = .ok (.goto 8, 3) := dk_167 0 8 (dk_at dksX1_pastes_2 0 rfl rfl)
theorem dX1_pastes_49 : decode cX1_pastes 49 = .ok (.astore 5, 2) := dk_58 5 (dk_at dksX1_pastes_2 3 rfl rfl)
theorem dX1_pastes_51 : decode cX1_pastes 51 = .ok (.bipush (-7), 2) := dk_16 249 (dk_at dksX1_pastes_2 5 rfl rfl)
theorem dX1_pastes_53 : decode cX1_pastes 53 = .ok (.ireturn, 1) := dk_172 (dk_at dksX1_pastes_2 7 rfl rfl)
theorem dX1_pastes_54 : decode cX1_pastes 54 = .ok (.iconst 0, 1) := dk_3 (dk_at dksX1_pastes_2 8 rfl rfl)
theorem dX1_pastes_55 : decode cX1_pastes 55 = .ok (.ireturn, 1) := dk_172 (dk_at dksX1_pastes_2 9 rfl rfl)
abbrev cX1_width : ByteArray := prog_10_method_8_code
def yX1_width : MethodName := ⟨RX1, "width", "()I"⟩
def dkwX1_width_1 : List UInt8 := [4, 167, 0, 18, 42, 180, 0, 9, 193, 0, 21, 153, 0, 7, 5, 167, 0, 4, 6, 172]
abbrev dktX1_width_1 : List UInt8 := dkwX1_width_1 ++ []
def dkwX1_width_0 : List UInt8 := [42, 180, 0, 9, 193, 0, 17, 153, 0, 7, 3, 167, 0, 32, 42, 180, 0, 9, 193, 0, 19, 153, 0, 7]
abbrev dktX1_width_0 : List UInt8 := dkwX1_width_0 ++ dktX1_width_1
theorem dksX1_width_0 : cX1_width.data.toList.drop 0 = dktX1_width_0 := by decide +kernel
theorem dksX1_width_1 : cX1_width.data.toList.drop 24 = dktX1_width_1 := dk_seg dksX1_width_0 24 rfl rfl
theorem dX1_width_0 : decode cX1_width 0 = .ok (.aload_n 0, 1) := dk_42 (dk_at dksX1_width_0 0 rfl rfl)
theorem dX1_width_1 : decode cX1_width 1 = .ok (.getfield 9, 3) := dk_180 0 9 (dk_at dksX1_width_0 1 rfl rfl)
theorem dX1_width_4 : decode cX1_width 4 = .ok (.instanceof 17, 3) := dk_193 0 17 (dk_at dksX1_width_0 4 rfl rfl)
theorem dX1_width_7 : decode cX1_width 7 = .ok (.ifCond .eq 7, 3) := dk_153 0 7 (dk_at dksX1_width_0 7 rfl rfl)
theorem dX1_width_10 : decode cX1_width 10 = .ok (.iconst 0, 1) := dk_3 (dk_at dksX1_width_0 10 rfl rfl)
theorem dX1_width_11 : decode cX1_width 11 = .ok (.goto 32, 3) := dk_167 0 32 (dk_at dksX1_width_0 11 rfl rfl)
theorem dX1_width_14 : decode cX1_width 14 = .ok (.aload_n 0, 1) := dk_42 (dk_at dksX1_width_0 14 rfl rfl)
theorem dX1_width_15 : decode cX1_width 15 = .ok (.getfield 9, 3) := dk_180 0 9 (dk_at dksX1_width_0 15 rfl rfl)
theorem dX1_width_18 : decode cX1_width 18 = .ok (.instanceof 19, 3) := dk_193 0 19 (dk_at dksX1_width_0 18 rfl rfl)
theorem dX1_width_21 : decode cX1_width 21 = .ok (.ifCond .eq 7, 3) := dk_153 0 7 (dk_at dksX1_width_0 21 rfl rfl)
theorem dX1_width_24 : decode cX1_width 24 = .ok (.iconst 1, 1) := dk_4 (dk_at dksX1_width_1 0 rfl rfl)
theorem dX1_width_25 : decode cX1_width 25 = .ok (.goto 18, 3) := dk_167 0 18 (dk_at dksX1_width_1 1 rfl rfl)
theorem dX1_width_28 : decode cX1_width 28 = .ok (.aload_n 0, 1) := dk_42 (dk_at dksX1_width_1 4 rfl rfl)
theorem dX1_width_29 : decode cX1_width 29 = .ok (.getfield 9, 3) := dk_180 0 9 (dk_at dksX1_width_1 5 rfl rfl)
theorem dX1_width_32 : decode cX1_width 32 = .ok (.instanceof 21, 3) := dk_193 0 21 (dk_at dksX1_width_1 8 rfl rfl)
theorem dX1_width_35 : decode cX1_width 35 = .ok (.ifCond .eq 7, 3) := dk_153 0 7 (dk_at dksX1_width_1 11 rfl rfl)
theorem dX1_width_38 : decode cX1_width 38 = .ok (.iconst 2, 1) := dk_5 (dk_at dksX1_width_1 14 rfl rfl)
theorem dX1_width_39 : decode cX1_width 39 = .ok (.goto 4, 3) := dk_167 0 4 (dk_at dksX1_width_1 15 rfl rfl)
theorem dX1_width_42 : decode cX1_width 42 = .ok (.iconst 3, 1) := dk_6 (dk_at dksX1_width_1 18 rfl rfl)
theorem dX1_width_43 : decode cX1_width 43 = .ok (.ireturn, 1) := dk_172 (dk_at dksX1_width_1 19 rfl rfl)
abbrev cX1_init : ByteArray := prog_10_method_1_code
def yX1_init : MethodName := ⟨RX1, "<init>", "()V"⟩
theorem dX1_init_0 : decode cX1_init 0 = .ok (.aload_n 0, 1) := by decide +kernel
theorem dX1_init_1 : decode cX1_init 1 = .ok (.invokespecial 3, 3) := by decide +kernel
theorem dX1_init_4 : decode cX1_init 4 = .ok (.return_, 1) := by decide +kernel
abbrev cX1_many : ByteArray := prog_10_method_3_code
def yX1_many : MethodName := ⟨RX1, "many", "()I"⟩
def dkwX1_many_2 : List UInt8 := [153, 0, 14, 42, 180, 0, 9, 192, 0, 21, 190, 167, 0, 11, 42, 180, 0, 9, 192, 0, 23, 190, 172]
abbrev dktX1_many_2 : List UInt8 := dkwX1_many_2 ++ []
def dkwX1_many_1 : List UInt8 := [193, 0, 19, 153, 0, 12, 42, 180, 0, 9, 192, 0, 19, 190, 172, 42, 180, 0, 9, 193, 0, 21]
abbrev dktX1_many_1 : List UInt8 := dkwX1_many_1 ++ dktX1_many_2
def dkwX1_many_0 : List UInt8 := [42, 180, 0, 9, 193, 0, 17, 153, 0, 12, 42, 180, 0, 9, 192, 0, 17, 190, 172, 42, 180, 0, 9]
abbrev dktX1_many_0 : List UInt8 := dkwX1_many_0 ++ dktX1_many_1
theorem dksX1_many_0 : cX1_many.data.toList.drop 0 = dktX1_many_0 := by decide +kernel
theorem dksX1_many_1 : cX1_many.data.toList.drop 23 = dktX1_many_1 := dk_seg dksX1_many_0 23 rfl rfl
theorem dksX1_many_2 : cX1_many.data.toList.drop 45 = dktX1_many_2 := dk_seg dksX1_many_1 22 rfl rfl
theorem dX1_many_0 : decode cX1_many 0 = .ok (.aload_n 0, 1) := dk_42 (dk_at dksX1_many_0 0 rfl rfl)
theorem dX1_many_1 : decode cX1_many 1 = .ok (.getfield 9, 3) := dk_180 0 9 (dk_at dksX1_many_0 1 rfl rfl)
theorem dX1_many_4 : decode cX1_many 4 = .ok (.instanceof 17, 3) := dk_193 0 17 (dk_at dksX1_many_0 4 rfl rfl)
theorem dX1_many_7 : decode cX1_many 7 = .ok (.ifCond .eq 12, 3) := dk_153 0 12 (dk_at dksX1_many_0 7 rfl rfl)
theorem dX1_many_10 : decode cX1_many 10 = .ok (.aload_n 0, 1) := dk_42 (dk_at dksX1_many_0 10 rfl rfl)
theorem dX1_many_11 : decode cX1_many 11 = .ok (.getfield 9, 3) := dk_180 0 9 (dk_at dksX1_many_0 11 rfl rfl)
theorem dX1_many_14 : decode cX1_many 14 = .ok (.checkcast 17, 3) := dk_192 0 17 (dk_at dksX1_many_0 14 rfl rfl)
theorem dX1_many_17 : decode cX1_many 17 = .ok (.arraylength, 1) := dk_190 (dk_at dksX1_many_0 17 rfl rfl)
theorem dX1_many_18 : decode cX1_many 18 = .ok (.ireturn, 1) := dk_172 (dk_at dksX1_many_0 18 rfl rfl)
theorem dX1_many_19 : decode cX1_many 19 = .ok (.aload_n 0, 1) := dk_42 (dk_at dksX1_many_0 19 rfl rfl)
theorem dX1_many_20 : decode cX1_many 20 = .ok (.getfield 9, 3) := dk_180 0 9 (dk_at dksX1_many_0 20 rfl rfl)
theorem dX1_many_23 : decode cX1_many 23 = .ok (.instanceof 19, 3) := dk_193 0 19 (dk_at dksX1_many_1 0 rfl rfl)
theorem dX1_many_26 : decode cX1_many 26 = .ok (.ifCond .eq 12, 3) := dk_153 0 12 (dk_at dksX1_many_1 3 rfl rfl)
theorem dX1_many_29 : decode cX1_many 29 = .ok (.aload_n 0, 1) := dk_42 (dk_at dksX1_many_1 6 rfl rfl)
theorem dX1_many_30 : decode cX1_many 30 = .ok (.getfield 9, 3) := dk_180 0 9 (dk_at dksX1_many_1 7 rfl rfl)
theorem dX1_many_33 : decode cX1_many 33 = .ok (.checkcast 19, 3) := dk_192 0 19 (dk_at dksX1_many_1 10 rfl rfl)
theorem dX1_many_36 : decode cX1_many 36 = .ok (.arraylength, 1) := dk_190 (dk_at dksX1_many_1 13 rfl rfl)
theorem dX1_many_37 : decode cX1_many 37 = .ok (.ireturn, 1) := dk_172 (dk_at dksX1_many_1 14 rfl rfl)
theorem dX1_many_38 : decode cX1_many 38 = .ok (.aload_n 0, 1) := dk_42 (dk_at dksX1_many_1 15 rfl rfl)
theorem dX1_many_39 : decode cX1_many 39 = .ok (.getfield 9, 3) := dk_180 0 9 (dk_at dksX1_many_1 16 rfl rfl)
theorem dX1_many_42 : decode cX1_many 42 = .ok (.instanceof 21, 3) := dk_193 0 21 (dk_at dksX1_many_1 19 rfl rfl)
theorem dX1_many_45 : decode cX1_many 45 = .ok (.ifCond .eq 14, 3) := dk_153 0 14 (dk_at dksX1_many_2 0 rfl rfl)
theorem dX1_many_48 : decode cX1_many 48 = .ok (.aload_n 0, 1) := dk_42 (dk_at dksX1_many_2 3 rfl rfl)
theorem dX1_many_49 : decode cX1_many 49 = .ok (.getfield 9, 3) := dk_180 0 9 (dk_at dksX1_many_2 4 rfl rfl)
theorem dX1_many_52 : decode cX1_many 52 = .ok (.checkcast 21, 3) := dk_192 0 21 (dk_at dksX1_many_2 7 rfl rfl)
theorem dX1_many_55 : decode cX1_many 55 = .ok (.arraylength, 1) := dk_190 (dk_at dksX1_many_2 10 rfl rfl)
theorem dX1_many_56 : decode cX1_many 56 = .ok (.goto 11, 3) := dk_167 0 11 (dk_at dksX1_many_2 11 rfl rfl)
theorem dX1_many_59 : decode cX1_many 59 = .ok (.aload_n 0, 1) := dk_42 (dk_at dksX1_many_2 14 rfl rfl)
theorem dX1_many_60 : decode cX1_many 60 = .ok (.getfield 9, 3) := dk_180 0 9 (dk_at dksX1_many_2 15 rfl rfl)
theorem dX1_many_63 : decode cX1_many 63 = .ok (.checkcast 23, 3) := dk_192 0 23 (dk_at dksX1_many_2 18 rfl rfl)
theorem dX1_many_66 : decode cX1_many 66 = .ok (.arraylength, 1) := dk_190 (dk_at dksX1_many_2 21 rfl rfl)
theorem dX1_many_67 : decode cX1_many 67 = .ok (.ireturn, 1) := dk_172 (dk_at dksX1_many_2 22 rfl rfl)
abbrev cX1_number : ByteArray := prog_10_method_4_code
def yX1_number : MethodName := ⟨RX1, "number", "(I)J"⟩
def dkwX1_number_3 : List UInt8 := [192, 0, 23, 27, 47, 173]
abbrev dktX1_number_3 : List UInt8 := dkwX1_number_3 ++ []
def dkwX1_number_2 : List UInt8 := [193, 0, 21, 153, 0, 16, 42, 180, 0, 9, 192, 0, 21, 27, 46, 133, 167, 0, 12, 42, 180, 0, 9]
abbrev dktX1_number_2 : List UInt8 := dkwX1_number_2 ++ dktX1_number_3
def dkwX1_number_1 : List UInt8 := [180, 0, 9, 193, 0, 19, 153, 0, 14, 42, 180, 0, 9, 192, 0, 19, 27, 53, 133, 173, 42, 180, 0, 9]
abbrev dktX1_number_1 : List UInt8 := dkwX1_number_1 ++ dktX1_number_2
def dkwX1_number_0 : List UInt8 := [42, 180, 0, 9, 193, 0, 17, 153, 0, 14, 42, 180, 0, 9, 192, 0, 17, 27, 51, 133, 173, 42]
abbrev dktX1_number_0 : List UInt8 := dkwX1_number_0 ++ dktX1_number_1
theorem dksX1_number_0 : cX1_number.data.toList.drop 0 = dktX1_number_0 := by decide +kernel
theorem dksX1_number_1 : cX1_number.data.toList.drop 22 = dktX1_number_1 := dk_seg dksX1_number_0 22 rfl rfl
theorem dksX1_number_2 : cX1_number.data.toList.drop 46 = dktX1_number_2 := dk_seg dksX1_number_1 24 rfl rfl
theorem dksX1_number_3 : cX1_number.data.toList.drop 69 = dktX1_number_3 := dk_seg dksX1_number_2 23 rfl rfl
theorem dX1_number_0 : decode cX1_number 0 = .ok (.aload_n 0, 1) := dk_42 (dk_at dksX1_number_0 0 rfl rfl)
theorem dX1_number_1 : decode cX1_number 1 = .ok (.getfield 9, 3) := dk_180 0 9 (dk_at dksX1_number_0 1 rfl rfl)
theorem dX1_number_4 : decode cX1_number 4 = .ok (.instanceof 17, 3) := dk_193 0 17 (dk_at dksX1_number_0 4 rfl rfl)
theorem dX1_number_7 : decode cX1_number 7 = .ok (.ifCond .eq 14, 3) := dk_153 0 14 (dk_at dksX1_number_0 7 rfl rfl)
theorem dX1_number_10 : decode cX1_number 10 = .ok (.aload_n 0, 1) := dk_42 (dk_at dksX1_number_0 10 rfl rfl)
theorem dX1_number_11 : decode cX1_number 11 = .ok (.getfield 9, 3) := dk_180 0 9 (dk_at dksX1_number_0 11 rfl rfl)
theorem dX1_number_14 : decode cX1_number 14 = .ok (.checkcast 17, 3) := dk_192 0 17 (dk_at dksX1_number_0 14 rfl rfl)
theorem dX1_number_17 : decode cX1_number 17 = .ok (.iload_n 1, 1) := dk_27 (dk_at dksX1_number_0 17 rfl rfl)
theorem dX1_number_18 : decode cX1_number 18 = .ok (.baload, 1) := dk_51 (dk_at dksX1_number_0 18 rfl rfl)
theorem dX1_number_19 : decode cX1_number 19 = .ok (.i2l, 1) := dk_133 (dk_at dksX1_number_0 19 rfl rfl)
theorem dX1_number_20 : decode cX1_number 20 = .ok (.lreturn, 1) := dk_173 (dk_at dksX1_number_0 20 rfl rfl)
theorem dX1_number_21 : decode cX1_number 21 = .ok (.aload_n 0, 1) := dk_42 (dk_at dksX1_number_0 21 rfl rfl)
theorem dX1_number_22 : decode cX1_number 22 = .ok (.getfield 9, 3) := dk_180 0 9 (dk_at dksX1_number_1 0 rfl rfl)
theorem dX1_number_25 : decode cX1_number 25 = .ok (.instanceof 19, 3) := dk_193 0 19 (dk_at dksX1_number_1 3 rfl rfl)
theorem dX1_number_28 : decode cX1_number 28 = .ok (.ifCond .eq 14, 3) := dk_153 0 14 (dk_at dksX1_number_1 6 rfl rfl)
theorem dX1_number_31 : decode cX1_number 31 = .ok (.aload_n 0, 1) := dk_42 (dk_at dksX1_number_1 9 rfl rfl)
theorem dX1_number_32 : decode cX1_number 32 = .ok (.getfield 9, 3) := dk_180 0 9 (dk_at dksX1_number_1 10 rfl rfl)
theorem dX1_number_35 : decode cX1_number 35 = .ok (.checkcast 19, 3) := dk_192 0 19 (dk_at dksX1_number_1 13 rfl rfl)
theorem dX1_number_38 : decode cX1_number 38 = .ok (.iload_n 1, 1) := dk_27 (dk_at dksX1_number_1 16 rfl rfl)
theorem dX1_number_39 : decode cX1_number 39 = .ok (.saload, 1) := dk_53 (dk_at dksX1_number_1 17 rfl rfl)
theorem dX1_number_40 : decode cX1_number 40 = .ok (.i2l, 1) := dk_133 (dk_at dksX1_number_1 18 rfl rfl)
theorem dX1_number_41 : decode cX1_number 41 = .ok (.lreturn, 1) := dk_173 (dk_at dksX1_number_1 19 rfl rfl)
theorem dX1_number_42 : decode cX1_number 42 = .ok (.aload_n 0, 1) := dk_42 (dk_at dksX1_number_1 20 rfl rfl)
theorem dX1_number_43 : decode cX1_number 43 = .ok (.getfield 9, 3) := dk_180 0 9 (dk_at dksX1_number_1 21 rfl rfl)
theorem dX1_number_46 : decode cX1_number 46 = .ok (.instanceof 21, 3) := dk_193 0 21 (dk_at dksX1_number_2 0 rfl rfl)
theorem dX1_number_49 : decode cX1_number 49 = .ok (.ifCond .eq 16, 3) := dk_153 0 16 (dk_at dksX1_number_2 3 rfl rfl)
theorem dX1_number_52 : decode cX1_number 52 = .ok (.aload_n 0, 1) := dk_42 (dk_at dksX1_number_2 6 rfl rfl)
theorem dX1_number_53 : decode cX1_number 53 = .ok (.getfield 9, 3) := dk_180 0 9 (dk_at dksX1_number_2 7 rfl rfl)
theorem dX1_number_56 : decode cX1_number 56 = .ok (.checkcast 21, 3) := dk_192 0 21 (dk_at dksX1_number_2 10 rfl rfl)
theorem dX1_number_59 : decode cX1_number 59 = .ok (.iload_n 1, 1) := dk_27 (dk_at dksX1_number_2 13 rfl rfl)
theorem dX1_number_60 : decode cX1_number 60 = .ok (.iaload, 1) := dk_46 (dk_at dksX1_number_2 14 rfl rfl)
theorem dX1_number_61 : decode cX1_number 61 = .ok (.i2l, 1) := dk_133 (dk_at dksX1_number_2 15 rfl rfl)
theorem dX1_number_62 : decode cX1_number 62 = .ok (.goto 12, 3) := dk_167 0 12 (dk_at dksX1_number_2 16 rfl rfl)
theorem dX1_number_65 : decode cX1_number 65 = .ok (.aload_n 0, 1) := dk_42 (dk_at dksX1_number_2 19 rfl rfl)
theorem dX1_number_66 : decode cX1_number 66 = .ok (.getfield 9, 3) := dk_180 0 9 (dk_at dksX1_number_2 20 rfl rfl)
theorem dX1_number_69 : decode cX1_number 69 = .ok (.checkcast 23, 3) := dk_192 0 23 (dk_at dksX1_number_3 0 rfl rfl)
theorem dX1_number_72 : decode cX1_number 72 = .ok (.iload_n 1, 1) := dk_27 (dk_at dksX1_number_3 3 rfl rfl)
theorem dX1_number_73 : decode cX1_number 73 = .ok (.laload, 1) := dk_47 (dk_at dksX1_number_3 4 rfl rfl)
theorem dX1_number_74 : decode cX1_number 74 = .ok (.lreturn, 1) := dk_173 (dk_at dksX1_number_3 5 rfl rfl)

abbrev cX10_init : ByteArray := prog_4_method_1_code
def yX10_init : MethodName := ⟨RX10, "<init>", "()V"⟩
theorem dX10_init_0 : decode cX10_init 0 = .ok (.aload_n 0, 1) := by decide +kernel
theorem dX10_init_1 : decode cX10_init 1 = .ok (.invokespecial 1, 3) := by decide +kernel
theorem dX10_init_4 : decode cX10_init 4 = .ok (.return_, 1) := by decide +kernel

abbrev cX11_init : ByteArray := prog_5_method_1_code
def yX11_init : MethodName := ⟨RX11, "<init>", "(II)V"⟩
def dkwX11_init_0 : List UInt8 := [42, 183, 0, 1, 42, 27, 181, 0, 7, 42, 28, 181, 0, 13, 177]
abbrev dktX11_init_0 : List UInt8 := dkwX11_init_0 ++ []
theorem dksX11_init_0 : cX11_init.data.toList.drop 0 = dktX11_init_0 := by decide +kernel
theorem dX11_init_0 : decode cX11_init 0 = .ok (.aload_n 0, 1) := dk_42 (dk_at dksX11_init_0 0 rfl rfl)
theorem dX11_init_1 : decode cX11_init 1 = .ok (.invokespecial 1, 3) := dk_183 0 1 (dk_at dksX11_init_0 1 rfl rfl)
theorem dX11_init_4 : decode cX11_init 4 = .ok (.aload_n 0, 1) := dk_42 (dk_at dksX11_init_0 4 rfl rfl)
theorem dX11_init_5 : decode cX11_init 5 = .ok (.iload_n 1, 1) := dk_27 (dk_at dksX11_init_0 5 rfl rfl)
theorem dX11_init_6 : decode cX11_init 6 = .ok (.putfield 7, 3) := dk_181 0 7 (dk_at dksX11_init_0 6 rfl rfl)
theorem dX11_init_9 : decode cX11_init 9 = .ok (.aload_n 0, 1) := dk_42 (dk_at dksX11_init_0 9 rfl rfl)
theorem dX11_init_10 : decode cX11_init 10 = .ok (.iload_n 2, 1) := dk_28 (dk_at dksX11_init_0 10 rfl rfl)
theorem dX11_init_11 : decode cX11_init 11 = .ok (.putfield 13, 3) := dk_181 0 13 (dk_at dksX11_init_0 11 rfl rfl)
theorem dX11_init_14 : decode cX11_init 14 = .ok (.return_, 1) := dk_177 (dk_at dksX11_init_0 14 rfl rfl)

abbrev cX12_init : ByteArray := prog_2_method_1_code
def yX12_init : MethodName := ⟨RX12, "<init>", "(IILQuotedRiver$Rain;)V"⟩
def dkwX12_init_0 : List UInt8 := [42, 183, 0, 1, 42, 27, 181, 0, 7, 42, 28, 181, 0, 13, 42, 45, 181, 0, 16, 177]
abbrev dktX12_init_0 : List UInt8 := dkwX12_init_0 ++ []
theorem dksX12_init_0 : cX12_init.data.toList.drop 0 = dktX12_init_0 := by decide +kernel
theorem dX12_init_0 : decode cX12_init 0 = .ok (.aload_n 0, 1) := dk_42 (dk_at dksX12_init_0 0 rfl rfl)
theorem dX12_init_1 : decode cX12_init 1 = .ok (.invokespecial 1, 3) := dk_183 0 1 (dk_at dksX12_init_0 1 rfl rfl)
theorem dX12_init_4 : decode cX12_init 4 = .ok (.aload_n 0, 1) := dk_42 (dk_at dksX12_init_0 4 rfl rfl)
theorem dX12_init_5 : decode cX12_init 5 = .ok (.iload_n 1, 1) := dk_27 (dk_at dksX12_init_0 5 rfl rfl)
theorem dX12_init_6 : decode cX12_init 6 = .ok (.putfield 7, 3) := dk_181 0 7 (dk_at dksX12_init_0 6 rfl rfl)
theorem dX12_init_9 : decode cX12_init 9 = .ok (.aload_n 0, 1) := dk_42 (dk_at dksX12_init_0 9 rfl rfl)
theorem dX12_init_10 : decode cX12_init 10 = .ok (.iload_n 2, 1) := dk_28 (dk_at dksX12_init_0 10 rfl rfl)
theorem dX12_init_11 : decode cX12_init 11 = .ok (.putfield 13, 3) := dk_181 0 13 (dk_at dksX12_init_0 11 rfl rfl)
theorem dX12_init_14 : decode cX12_init 14 = .ok (.aload_n 0, 1) := dk_42 (dk_at dksX12_init_0 14 rfl rfl)
theorem dX12_init_15 : decode cX12_init 15 = .ok (.aload_n 3, 1) := dk_45 (dk_at dksX12_init_0 15 rfl rfl)
theorem dX12_init_16 : decode cX12_init 16 = .ok (.putfield 16, 3) := dk_181 0 16 (dk_at dksX12_init_0 16 rfl rfl)
theorem dX12_init_19 : decode cX12_init 19 = .ok (.return_, 1) := dk_177 (dk_at dksX12_init_0 19 rfl rfl)

abbrev cX2_init : ByteArray := prog_8_method_1_code
def yX2_init : MethodName := ⟨RX2, "<init>", "()V"⟩
def dkwX2_init_2 : List UInt8 := [183, 0, 26, 181, 0, 27, 177]
abbrev dktX2_init_2 : List UInt8 := dkwX2_init_2 ++ []
def dkwX2_init_1 : List UInt8 := [183, 0, 11, 181, 0, 20, 42, 187, 0, 9, 89, 8, 183, 0, 11, 181, 0, 23, 42, 187, 0, 9, 89]
abbrev dktX2_init_1 : List UInt8 := dkwX2_init_1 ++ dktX2_init_2
def dkwX2_init_0 : List UInt8 := [42, 183, 0, 3, 42, 187, 0, 9, 89, 16, 10, 183, 0, 11, 181, 0, 14, 42, 187, 0, 9, 89, 8]
abbrev dktX2_init_0 : List UInt8 := dkwX2_init_0 ++ dktX2_init_1
theorem dksX2_init_0 : cX2_init.data.toList.drop 0 = dktX2_init_0 := by decide +kernel
theorem dksX2_init_1 : cX2_init.data.toList.drop 23 = dktX2_init_1 := dk_seg dksX2_init_0 23 rfl rfl
theorem dksX2_init_2 : cX2_init.data.toList.drop 46 = dktX2_init_2 := dk_seg dksX2_init_1 23 rfl rfl
theorem dX2_init_0 : decode cX2_init 0 = .ok (.aload_n 0, 1) := dk_42 (dk_at dksX2_init_0 0 rfl rfl)
theorem dX2_init_1 : decode cX2_init 1 = .ok (.invokespecial 3, 3) := dk_183 0 3 (dk_at dksX2_init_0 1 rfl rfl)
theorem dX2_init_4 : decode cX2_init 4 = .ok (.aload_n 0, 1) := dk_42 (dk_at dksX2_init_0 4 rfl rfl)
theorem dX2_init_5 : decode cX2_init 5 = .ok (.new 9, 3) := dk_187 0 9 (dk_at dksX2_init_0 5 rfl rfl)
theorem dX2_init_8 : decode cX2_init 8 = .ok (.dup, 1) := dk_89 (dk_at dksX2_init_0 8 rfl rfl)
theorem dX2_init_9 : decode cX2_init 9 = .ok (.bipush 10, 2) := dk_16 10 (dk_at dksX2_init_0 9 rfl rfl)
theorem dX2_init_11 : decode cX2_init 11 = .ok (.invokespecial 11, 3) := dk_183 0 11 (dk_at dksX2_init_0 11 rfl rfl)
theorem dX2_init_14 : decode cX2_init 14 = .ok (.putfield 14, 3) := dk_181 0 14 (dk_at dksX2_init_0 14 rfl rfl)
theorem dX2_init_17 : decode cX2_init 17 = .ok (.aload_n 0, 1) := dk_42 (dk_at dksX2_init_0 17 rfl rfl)
theorem dX2_init_18 : decode cX2_init 18 = .ok (.new 9, 3) := dk_187 0 9 (dk_at dksX2_init_0 18 rfl rfl)
theorem dX2_init_21 : decode cX2_init 21 = .ok (.dup, 1) := dk_89 (dk_at dksX2_init_0 21 rfl rfl)
theorem dX2_init_22 : decode cX2_init 22 = .ok (.iconst 5, 1) := dk_8 (dk_at dksX2_init_0 22 rfl rfl)
theorem dX2_init_23 : decode cX2_init 23 = .ok (.invokespecial 11, 3) := dk_183 0 11 (dk_at dksX2_init_1 0 rfl rfl)
theorem dX2_init_26 : decode cX2_init 26 = .ok (.putfield 20, 3) := dk_181 0 20 (dk_at dksX2_init_1 3 rfl rfl)
theorem dX2_init_29 : decode cX2_init 29 = .ok (.aload_n 0, 1) := dk_42 (dk_at dksX2_init_1 6 rfl rfl)
theorem dX2_init_30 : decode cX2_init 30 = .ok (.new 9, 3) := dk_187 0 9 (dk_at dksX2_init_1 7 rfl rfl)
theorem dX2_init_33 : decode cX2_init 33 = .ok (.dup, 1) := dk_89 (dk_at dksX2_init_1 10 rfl rfl)
theorem dX2_init_34 : decode cX2_init 34 = .ok (.iconst 5, 1) := dk_8 (dk_at dksX2_init_1 11 rfl rfl)
theorem dX2_init_35 : decode cX2_init 35 = .ok (.invokespecial 11, 3) := dk_183 0 11 (dk_at dksX2_init_1 12 rfl rfl)
theorem dX2_init_38 : decode cX2_init 38 = .ok (.putfield 23, 3) := dk_181 0 23 (dk_at dksX2_init_1 15 rfl rfl)
theorem dX2_init_41 : decode cX2_init 41 = .ok (.aload_n 0, 1) := dk_42 (dk_at dksX2_init_1 18 rfl rfl)
theorem dX2_init_42 : decode cX2_init 42 = .ok (.new 9, 3) := dk_187 0 9 (dk_at dksX2_init_1 19 rfl rfl)
theorem dX2_init_45 : decode cX2_init 45 = .ok (.dup, 1) := dk_89 (dk_at dksX2_init_1 22 rfl rfl)
theorem dX2_init_46 : decode cX2_init 46 = .ok (.invokespecial 26, 3) := dk_183 0 26 (dk_at dksX2_init_2 0 rfl rfl)
theorem dX2_init_49 : decode cX2_init 49 = .ok (.putfield 27, 3) := dk_181 0 27 (dk_at dksX2_init_2 3 rfl rfl)
theorem dX2_init_52 : decode cX2_init 52 = .ok (.return_, 1) := dk_177 (dk_at dksX2_init_2 6 rfl rfl)
abbrev cX2_is : ByteArray := prog_8_method_2_code
def yX2_is : MethodName := ⟨RX2, "is", "()Z"⟩
def dkwX2_is_0 : List UInt8 := [42, 180, 0, 30, 158, 0, 7, 4, 167, 0, 4, 3, 172]
abbrev dktX2_is_0 : List UInt8 := dkwX2_is_0 ++ []
theorem dksX2_is_0 : cX2_is.data.toList.drop 0 = dktX2_is_0 := by decide +kernel
theorem dX2_is_0 : decode cX2_is 0 = .ok (.aload_n 0, 1) := dk_42 (dk_at dksX2_is_0 0 rfl rfl)
theorem dX2_is_1 : decode cX2_is 1 = .ok (.getfield 30, 3) := dk_180 0 30 (dk_at dksX2_is_0 1 rfl rfl)
theorem dX2_is_4 : decode cX2_is 4 = .ok (.ifCond .le 7, 3) := dk_158 0 7 (dk_at dksX2_is_0 4 rfl rfl)
theorem dX2_is_7 : decode cX2_is 7 = .ok (.iconst 1, 1) := dk_4 (dk_at dksX2_is_0 7 rfl rfl)
theorem dX2_is_8 : decode cX2_is 8 = .ok (.goto 4, 3) := dk_167 0 4 (dk_at dksX2_is_0 8 rfl rfl)
theorem dX2_is_11 : decode cX2_is 11 = .ok (.iconst 0, 1) := dk_3 (dk_at dksX2_is_0 11 rfl rfl)
theorem dX2_is_12 : decode cX2_is 12 = .ok (.ireturn, 1) := dk_172 (dk_at dksX2_is_0 12 rfl rfl)
abbrev cX2_same : ByteArray := prog_8_method_3_code
def yX2_same : MethodName := ⟨RX2, "same", "()LQuotedRiver$Rivers;"⟩
def dkwX2_same_5 : List UInt8 := [180, 0, 71, 181, 0, 71, 43, 42, 180, 0, 30, 181, 0, 30, 43, 176]
abbrev dktX2_same_5 : List UInt8 := dkwX2_same_5 ++ []
def dkwX2_same_4 : List UInt8 := [185, 0, 61, 2, 0, 87, 43, 42, 180, 0, 65, 181, 0, 65, 43, 42, 180, 0, 68, 181, 0, 68, 43, 42]
abbrev dktX2_same_4 : List UInt8 := dkwX2_same_4 ++ dktX2_same_5
def dkwX2_same_3 : List UInt8 := [180, 0, 23, 42, 180, 0, 23, 185, 0, 61, 2, 0, 87, 43, 180, 0, 27, 42, 180, 0, 27]
abbrev dktX2_same_3 : List UInt8 := dkwX2_same_3 ++ dktX2_same_4
def dkwX2_same_2 : List UInt8 := [185, 0, 57, 2, 0, 87, 167, 255, 223, 43, 180, 0, 20, 42, 180, 0, 20, 185, 0, 61, 2, 0, 87, 43]
abbrev dktX2_same_2 : List UInt8 := dkwX2_same_2 ++ dktX2_same_3
def dkwX2_same_1 : List UInt8 := [153, 0, 30, 44, 185, 0, 47, 1, 0, 192, 0, 51, 78, 43, 180, 0, 14, 45, 182, 0, 53]
abbrev dktX2_same_1 : List UInt8 := dkwX2_same_1 ++ dktX2_same_2
def dkwX2_same_0 : List UInt8 := [187, 0, 15, 89, 183, 0, 34, 76, 42, 180, 0, 14, 185, 0, 35, 1, 0, 77, 44, 185, 0, 41, 1, 0]
abbrev dktX2_same_0 : List UInt8 := dkwX2_same_0 ++ dktX2_same_1
theorem dksX2_same_0 : cX2_same.data.toList.drop 0 = dktX2_same_0 := by decide +kernel
theorem dksX2_same_1 : cX2_same.data.toList.drop 24 = dktX2_same_1 := dk_seg dksX2_same_0 24 rfl rfl
theorem dksX2_same_2 : cX2_same.data.toList.drop 45 = dktX2_same_2 := dk_seg dksX2_same_1 21 rfl rfl
theorem dksX2_same_3 : cX2_same.data.toList.drop 69 = dktX2_same_3 := dk_seg dksX2_same_2 24 rfl rfl
theorem dksX2_same_4 : cX2_same.data.toList.drop 90 = dktX2_same_4 := dk_seg dksX2_same_3 21 rfl rfl
theorem dksX2_same_5 : cX2_same.data.toList.drop 114 = dktX2_same_5 := dk_seg dksX2_same_4 24 rfl rfl
theorem dX2_same_0 : decode cX2_same 0 = .ok (.new 15, 3) := dk_187 0 15 (dk_at dksX2_same_0 0 rfl rfl)
theorem dX2_same_3 : decode cX2_same 3 = .ok (.dup, 1) := dk_89 (dk_at dksX2_same_0 3 rfl rfl)
theorem dX2_same_4 : decode cX2_same 4 = .ok (.invokespecial 34, 3) := dk_183 0 34 (dk_at dksX2_same_0 4 rfl rfl)
theorem dX2_same_7 : decode cX2_same 7 = .ok (.astore_n 1, 1) := dk_76 (dk_at dksX2_same_0 7 rfl rfl)
theorem dX2_same_8 : decode cX2_same 8 = .ok (.aload_n 0, 1) := dk_42 (dk_at dksX2_same_0 8 rfl rfl)
theorem dX2_same_9 : decode cX2_same 9 = .ok (.getfield 14, 3) := dk_180 0 14 (dk_at dksX2_same_0 9 rfl rfl)
theorem dX2_same_12 : decode cX2_same 12 = .ok (.invokeinterface 35 1, 5) := by decide +kernel
theorem dX2_same_17 : decode cX2_same 17 = .ok (.astore_n 2, 1) := dk_77 (dk_at dksX2_same_0 17 rfl rfl)
theorem dX2_same_18 : decode cX2_same 18 = .ok (.aload_n 2, 1) := dk_44 (dk_at dksX2_same_0 18 rfl rfl)
theorem dX2_same_19 : decode cX2_same 19 = .ok (.invokeinterface 41 1, 5) := by decide +kernel
theorem dX2_same_24 : decode cX2_same 24 = .ok (.ifCond .eq 30, 3) := dk_153 0 30 (dk_at dksX2_same_1 0 rfl rfl)
theorem dX2_same_27 : decode cX2_same 27 = .ok (.aload_n 2, 1) := dk_44 (dk_at dksX2_same_1 3 rfl rfl)
theorem dX2_same_28 : decode cX2_same 28 = .ok (.invokeinterface 47 1, 5) := by decide +kernel
theorem dX2_same_33 : decode cX2_same 33 = .ok (.checkcast 51, 3) := dk_192 0 51 (dk_at dksX2_same_1 9 rfl rfl)
theorem dX2_same_36 : decode cX2_same 36 = .ok (.astore_n 3, 1) := dk_78 (dk_at dksX2_same_1 12 rfl rfl)
theorem dX2_same_37 : decode cX2_same 37 = .ok (.aload_n 1, 1) := dk_43 (dk_at dksX2_same_1 13 rfl rfl)
theorem dX2_same_38 : decode cX2_same 38 = .ok (.getfield 14, 3) := dk_180 0 14 (dk_at dksX2_same_1 14 rfl rfl)
theorem dX2_same_41 : decode cX2_same 41 = .ok (.aload_n 3, 1) := dk_45 (dk_at dksX2_same_1 17 rfl rfl)
theorem dX2_same_42 : decode cX2_same 42 = .ok (.invokevirtual 53, 3) := dk_182 0 53 (dk_at dksX2_same_1 18 rfl rfl)
theorem dX2_same_45 : decode cX2_same 45 = .ok (.invokeinterface 57 2, 5) := by decide +kernel
theorem dX2_same_50 : decode cX2_same 50 = .ok (.pop, 1) := dk_87 (dk_at dksX2_same_2 5 rfl rfl)
theorem dX2_same_51 : decode cX2_same 51 = .ok (.goto (-33), 3) := dk_167 255 223 (dk_at dksX2_same_2 6 rfl rfl)
theorem dX2_same_54 : decode cX2_same 54 = .ok (.aload_n 1, 1) := dk_43 (dk_at dksX2_same_2 9 rfl rfl)
theorem dX2_same_55 : decode cX2_same 55 = .ok (.getfield 20, 3) := dk_180 0 20 (dk_at dksX2_same_2 10 rfl rfl)
theorem dX2_same_58 : decode cX2_same 58 = .ok (.aload_n 0, 1) := dk_42 (dk_at dksX2_same_2 13 rfl rfl)
theorem dX2_same_59 : decode cX2_same 59 = .ok (.getfield 20, 3) := dk_180 0 20 (dk_at dksX2_same_2 14 rfl rfl)
theorem dX2_same_62 : decode cX2_same 62 = .ok (.invokeinterface 61 2, 5) := by decide +kernel
theorem dX2_same_67 : decode cX2_same 67 = .ok (.pop, 1) := dk_87 (dk_at dksX2_same_2 22 rfl rfl)
theorem dX2_same_68 : decode cX2_same 68 = .ok (.aload_n 1, 1) := dk_43 (dk_at dksX2_same_2 23 rfl rfl)
theorem dX2_same_69 : decode cX2_same 69 = .ok (.getfield 23, 3) := dk_180 0 23 (dk_at dksX2_same_3 0 rfl rfl)
theorem dX2_same_72 : decode cX2_same 72 = .ok (.aload_n 0, 1) := dk_42 (dk_at dksX2_same_3 3 rfl rfl)
theorem dX2_same_73 : decode cX2_same 73 = .ok (.getfield 23, 3) := dk_180 0 23 (dk_at dksX2_same_3 4 rfl rfl)
theorem dX2_same_76 : decode cX2_same 76 = .ok (.invokeinterface 61 2, 5) := by decide +kernel
theorem dX2_same_81 : decode cX2_same 81 = .ok (.pop, 1) := dk_87 (dk_at dksX2_same_3 12 rfl rfl)
theorem dX2_same_82 : decode cX2_same 82 = .ok (.aload_n 1, 1) := dk_43 (dk_at dksX2_same_3 13 rfl rfl)
theorem dX2_same_83 : decode cX2_same 83 = .ok (.getfield 27, 3) := dk_180 0 27 (dk_at dksX2_same_3 14 rfl rfl)
theorem dX2_same_86 : decode cX2_same 86 = .ok (.aload_n 0, 1) := dk_42 (dk_at dksX2_same_3 17 rfl rfl)
theorem dX2_same_87 : decode cX2_same 87 = .ok (.getfield 27, 3) := dk_180 0 27 (dk_at dksX2_same_3 18 rfl rfl)
theorem dX2_same_90 : decode cX2_same 90 = .ok (.invokeinterface 61 2, 5) := by decide +kernel
theorem dX2_same_95 : decode cX2_same 95 = .ok (.pop, 1) := dk_87 (dk_at dksX2_same_4 5 rfl rfl)
theorem dX2_same_96 : decode cX2_same 96 = .ok (.aload_n 1, 1) := dk_43 (dk_at dksX2_same_4 6 rfl rfl)
theorem dX2_same_97 : decode cX2_same 97 = .ok (.aload_n 0, 1) := dk_42 (dk_at dksX2_same_4 7 rfl rfl)
theorem dX2_same_98 : decode cX2_same 98 = .ok (.getfield 65, 3) := dk_180 0 65 (dk_at dksX2_same_4 8 rfl rfl)
theorem dX2_same_101 : decode cX2_same 101 = .ok (.putfield 65, 3) := dk_181 0 65 (dk_at dksX2_same_4 11 rfl rfl)
theorem dX2_same_104 : decode cX2_same 104 = .ok (.aload_n 1, 1) := dk_43 (dk_at dksX2_same_4 14 rfl rfl)
theorem dX2_same_105 : decode cX2_same 105 = .ok (.aload_n 0, 1) := dk_42 (dk_at dksX2_same_4 15 rfl rfl)
theorem dX2_same_106 : decode cX2_same 106 = .ok (.getfield 68, 3) := dk_180 0 68 (dk_at dksX2_same_4 16 rfl rfl)
theorem dX2_same_109 : decode cX2_same 109 = .ok (.putfield 68, 3) := dk_181 0 68 (dk_at dksX2_same_4 19 rfl rfl)
theorem dX2_same_112 : decode cX2_same 112 = .ok (.aload_n 1, 1) := dk_43 (dk_at dksX2_same_4 22 rfl rfl)
theorem dX2_same_113 : decode cX2_same 113 = .ok (.aload_n 0, 1) := dk_42 (dk_at dksX2_same_4 23 rfl rfl)
theorem dX2_same_114 : decode cX2_same 114 = .ok (.getfield 71, 3) := dk_180 0 71 (dk_at dksX2_same_5 0 rfl rfl)
theorem dX2_same_117 : decode cX2_same 117 = .ok (.putfield 71, 3) := dk_181 0 71 (dk_at dksX2_same_5 3 rfl rfl)
theorem dX2_same_120 : decode cX2_same 120 = .ok (.aload_n 1, 1) := dk_43 (dk_at dksX2_same_5 6 rfl rfl)
theorem dX2_same_121 : decode cX2_same 121 = .ok (.aload_n 0, 1) := dk_42 (dk_at dksX2_same_5 7 rfl rfl)
theorem dX2_same_122 : decode cX2_same 122 = .ok (.getfield 30, 3) := dk_180 0 30 (dk_at dksX2_same_5 8 rfl rfl)
theorem dX2_same_125 : decode cX2_same 125 = .ok (.putfield 30, 3) := dk_181 0 30 (dk_at dksX2_same_5 11 rfl rfl)
theorem dX2_same_128 : decode cX2_same 128 = .ok (.aload_n 1, 1) := dk_43 (dk_at dksX2_same_5 14 rfl rfl)
theorem dX2_same_129 : decode cX2_same 129 = .ok (.areturn, 1) := dk_176 (dk_at dksX2_same_5 15 rfl rfl)

abbrev cX3_init : ByteArray := prog_12_method_1_code
def yX3_init : MethodName := ⟨RX3, "<init>", "(LQuotedRiver;)V"⟩
def dkwX3_init_1 : List UInt8 := [181, 0, 19, 177]
abbrev dktX3_init_1 : List UInt8 := dkwX3_init_1 ++ []
def dkwX3_init_0 : List UInt8 := [42, 43, 181, 0, 3, 42, 183, 0, 9, 42, 16, 61, 188, 10, 181, 0, 15, 42, 16, 61, 188, 10]
abbrev dktX3_init_0 : List UInt8 := dkwX3_init_0 ++ dktX3_init_1
theorem dksX3_init_0 : cX3_init.data.toList.drop 0 = dktX3_init_0 := by decide +kernel
theorem dksX3_init_1 : cX3_init.data.toList.drop 22 = dktX3_init_1 := dk_seg dksX3_init_0 22 rfl rfl
theorem dX3_init_0 : decode cX3_init 0 = .ok (.aload_n 0, 1) := dk_42 (dk_at dksX3_init_0 0 rfl rfl)
theorem dX3_init_1 : decode cX3_init 1 = .ok (.aload_n 1, 1) := dk_43 (dk_at dksX3_init_0 1 rfl rfl)
theorem dX3_init_2 : decode cX3_init 2 = .ok (.putfield 3, 3) := dk_181 0 3 (dk_at dksX3_init_0 2 rfl rfl)
theorem dX3_init_5 : decode cX3_init 5 = .ok (.aload_n 0, 1) := dk_42 (dk_at dksX3_init_0 5 rfl rfl)
theorem dX3_init_6 : decode cX3_init 6 = .ok (.invokespecial 9, 3) := dk_183 0 9 (dk_at dksX3_init_0 6 rfl rfl)
theorem dX3_init_9 : decode cX3_init 9 = .ok (.aload_n 0, 1) := dk_42 (dk_at dksX3_init_0 9 rfl rfl)
theorem dX3_init_10 : decode cX3_init 10 = .ok (.bipush 61, 2) := dk_16 61 (dk_at dksX3_init_0 10 rfl rfl)
theorem dX3_init_12 : decode cX3_init 12 = .ok (.newarray .int, 2) := dk_188_10 (dk_at dksX3_init_0 12 rfl rfl)
theorem dX3_init_14 : decode cX3_init 14 = .ok (.putfield 15, 3) := dk_181 0 15 (dk_at dksX3_init_0 14 rfl rfl)
theorem dX3_init_17 : decode cX3_init 17 = .ok (.aload_n 0, 1) := dk_42 (dk_at dksX3_init_0 17 rfl rfl)
theorem dX3_init_18 : decode cX3_init 18 = .ok (.bipush 61, 2) := dk_16 61 (dk_at dksX3_init_0 18 rfl rfl)
theorem dX3_init_20 : decode cX3_init 20 = .ok (.newarray .int, 2) := dk_188_10 (dk_at dksX3_init_0 20 rfl rfl)
theorem dX3_init_22 : decode cX3_init 22 = .ok (.putfield 19, 3) := dk_181 0 19 (dk_at dksX3_init_1 0 rfl rfl)
theorem dX3_init_25 : decode cX3_init 25 = .ok (.return_, 1) := dk_177 (dk_at dksX3_init_1 3 rfl rfl)
abbrev cX3_is : ByteArray := prog_12_method_2_code
def yX3_is : MethodName := ⟨RX3, "is", "()LQuotedRiver$Water;"⟩
def dkwX3_is_8 : List UInt8 := [182, 0, 82, 176]
abbrev dktX3_is_8 : List UInt8 := dkwX3_is_8 ++ []
def dkwX3_is_7 : List UInt8 := [180, 0, 28, 4, 44, 180, 0, 79, 120, 2, 130, 126, 181, 0, 28, 132, 1, 1, 167, 255, 157, 42]
abbrev dktX3_is_7 : List UInt8 := dkwX3_is_7 ++ dktX3_is_8
def dkwX3_is_6 : List UInt8 := [180, 0, 76, 4, 160, 0, 17, 42, 180, 0, 28, 4, 44, 180, 0, 79, 120, 128, 167, 0, 16, 42]
abbrev dktX3_is_6 : List UInt8 := dkwX3_is_6 ++ dktX3_is_7
def dkwX3_is_5 : List UInt8 := [192, 0, 70, 77, 44, 180, 0, 72, 198, 0, 14, 42, 44, 180, 0, 72, 182, 0, 63, 167, 0, 42, 42, 44]
abbrev dktX3_is_5 : List UInt8 := dkwX3_is_5 ++ dktX3_is_6
def dkwX3_is_4 : List UInt8 := [185, 0, 51, 1, 0, 162, 0, 86, 42, 180, 0, 3, 180, 0, 41, 180, 0, 67, 27, 185, 0, 57, 2, 0]
abbrev dktX3_is_4 : List UInt8 := dkwX3_is_4 ++ dktX3_is_5
def dkwX3_is_3 : List UInt8 := [182, 0, 63, 132, 1, 1, 167, 255, 211, 3, 60, 27, 42, 180, 0, 3, 180, 0, 41, 180, 0, 67]
abbrev dktX3_is_3 : List UInt8 := dkwX3_is_3 ++ dktX3_is_4
def dkwX3_is_2 : List UInt8 := [162, 0, 32, 42, 42, 180, 0, 3, 180, 0, 41, 180, 0, 45, 27, 185, 0, 57, 2, 0, 192, 0, 61]
abbrev dktX3_is_2 : List UInt8 := dkwX3_is_2 ++ dktX3_is_3
def dkwX3_is_1 : List UInt8 := [3, 181, 0, 38, 3, 60, 27, 42, 180, 0, 3, 180, 0, 41, 180, 0, 45, 185, 0, 51, 1, 0]
abbrev dktX3_is_1 : List UInt8 := dkwX3_is_1 ++ dktX3_is_2
def dkwX3_is_0 : List UInt8 := [42, 180, 0, 19, 3, 184, 0, 22, 42, 3, 181, 0, 28, 42, 3, 181, 0, 32, 42, 2, 181, 0, 35, 42]
abbrev dktX3_is_0 : List UInt8 := dkwX3_is_0 ++ dktX3_is_1
theorem dksX3_is_0 : cX3_is.data.toList.drop 0 = dktX3_is_0 := by decide +kernel
theorem dksX3_is_1 : cX3_is.data.toList.drop 24 = dktX3_is_1 := dk_seg dksX3_is_0 24 rfl rfl
theorem dksX3_is_2 : cX3_is.data.toList.drop 46 = dktX3_is_2 := dk_seg dksX3_is_1 22 rfl rfl
theorem dksX3_is_3 : cX3_is.data.toList.drop 69 = dktX3_is_3 := dk_seg dksX3_is_2 23 rfl rfl
theorem dksX3_is_4 : cX3_is.data.toList.drop 91 = dktX3_is_4 := dk_seg dksX3_is_3 22 rfl rfl
theorem dksX3_is_5 : cX3_is.data.toList.drop 115 = dktX3_is_5 := dk_seg dksX3_is_4 24 rfl rfl
theorem dksX3_is_6 : cX3_is.data.toList.drop 139 = dktX3_is_6 := dk_seg dksX3_is_5 24 rfl rfl
theorem dksX3_is_7 : cX3_is.data.toList.drop 161 = dktX3_is_7 := dk_seg dksX3_is_6 22 rfl rfl
theorem dksX3_is_8 : cX3_is.data.toList.drop 183 = dktX3_is_8 := dk_seg dksX3_is_7 22 rfl rfl
theorem dX3_is_0 : decode cX3_is 0 = .ok (.aload_n 0, 1) := dk_42 (dk_at dksX3_is_0 0 rfl rfl)
theorem dX3_is_1 : decode cX3_is 1 = .ok (.getfield 19, 3) := dk_180 0 19 (dk_at dksX3_is_0 1 rfl rfl)
theorem dX3_is_4 : decode cX3_is 4 = .ok (.iconst 0, 1) := dk_3 (dk_at dksX3_is_0 4 rfl rfl)
theorem dX3_is_5 : decode cX3_is 5 = .ok (.invokestatic 22, 3) := dk_184 0 22 (dk_at dksX3_is_0 5 rfl rfl)
theorem dX3_is_8 : decode cX3_is 8 = .ok (.aload_n 0, 1) := dk_42 (dk_at dksX3_is_0 8 rfl rfl)
theorem dX3_is_9 : decode cX3_is 9 = .ok (.iconst 0, 1) := dk_3 (dk_at dksX3_is_0 9 rfl rfl)
theorem dX3_is_10 : decode cX3_is 10 = .ok (.putfield 28, 3) := dk_181 0 28 (dk_at dksX3_is_0 10 rfl rfl)
theorem dX3_is_13 : decode cX3_is 13 = .ok (.aload_n 0, 1) := dk_42 (dk_at dksX3_is_0 13 rfl rfl)
theorem dX3_is_14 : decode cX3_is 14 = .ok (.iconst 0, 1) := dk_3 (dk_at dksX3_is_0 14 rfl rfl)
theorem dX3_is_15 : decode cX3_is 15 = .ok (.putfield 32, 3) := dk_181 0 32 (dk_at dksX3_is_0 15 rfl rfl)
theorem dX3_is_18 : decode cX3_is 18 = .ok (.aload_n 0, 1) := dk_42 (dk_at dksX3_is_0 18 rfl rfl)
theorem dX3_is_19 : decode cX3_is 19 = .ok (.iconst (-1), 1) := dk_2 (dk_at dksX3_is_0 19 rfl rfl)
theorem dX3_is_20 : decode cX3_is 20 = .ok (.putfield 35, 3) := dk_181 0 35 (dk_at dksX3_is_0 20 rfl rfl)
theorem dX3_is_23 : decode cX3_is 23 = .ok (.aload_n 0, 1) := dk_42 (dk_at dksX3_is_0 23 rfl rfl)
theorem dX3_is_24 : decode cX3_is 24 = .ok (.iconst 0, 1) := dk_3 (dk_at dksX3_is_1 0 rfl rfl)
theorem dX3_is_25 : decode cX3_is 25 = .ok (.putfield 38, 3) := dk_181 0 38 (dk_at dksX3_is_1 1 rfl rfl)
theorem dX3_is_28 : decode cX3_is 28 = .ok (.iconst 0, 1) := dk_3 (dk_at dksX3_is_1 4 rfl rfl)
theorem dX3_is_29 : decode cX3_is 29 = .ok (.istore_n 1, 1) := dk_60 (dk_at dksX3_is_1 5 rfl rfl)
theorem dX3_is_30 : decode cX3_is 30 = .ok (.iload_n 1, 1) := dk_27 (dk_at dksX3_is_1 6 rfl rfl)
theorem dX3_is_31 : decode cX3_is 31 = .ok (.aload_n 0, 1) := dk_42 (dk_at dksX3_is_1 7 rfl rfl)
theorem dX3_is_32 : decode cX3_is 32 = .ok (.getfield 3, 3) := dk_180 0 3 (dk_at dksX3_is_1 8 rfl rfl)
theorem dX3_is_35 : decode cX3_is 35 = .ok (.getfield 41, 3) := dk_180 0 41 (dk_at dksX3_is_1 11 rfl rfl)
theorem dX3_is_38 : decode cX3_is 38 = .ok (.getfield 45, 3) := dk_180 0 45 (dk_at dksX3_is_1 14 rfl rfl)
theorem dX3_is_41 : decode cX3_is 41 = .ok (.invokeinterface 51 1, 5) := by decide +kernel
theorem dX3_is_46 : decode cX3_is 46 = .ok (.if_icmp .ge 32, 3) := dk_162 0 32 (dk_at dksX3_is_2 0 rfl rfl)
theorem dX3_is_49 : decode cX3_is 49 = .ok (.aload_n 0, 1) := dk_42 (dk_at dksX3_is_2 3 rfl rfl)
theorem dX3_is_50 : decode cX3_is 50 = .ok (.aload_n 0, 1) := dk_42 (dk_at dksX3_is_2 4 rfl rfl)
theorem dX3_is_51 : decode cX3_is 51 = .ok (.getfield 3, 3) := dk_180 0 3 (dk_at dksX3_is_2 5 rfl rfl)
theorem dX3_is_54 : decode cX3_is 54 = .ok (.getfield 41, 3) := dk_180 0 41 (dk_at dksX3_is_2 8 rfl rfl)
theorem dX3_is_57 : decode cX3_is 57 = .ok (.getfield 45, 3) := dk_180 0 45 (dk_at dksX3_is_2 11 rfl rfl)
theorem dX3_is_60 : decode cX3_is 60 = .ok (.iload_n 1, 1) := dk_27 (dk_at dksX3_is_2 14 rfl rfl)
theorem dX3_is_61 : decode cX3_is 61 = .ok (.invokeinterface 57 2, 5) := by decide +kernel
theorem dX3_is_66 : decode cX3_is 66 = .ok (.checkcast 61, 3) := dk_192 0 61 (dk_at dksX3_is_2 20 rfl rfl)
theorem dX3_is_69 : decode cX3_is 69 = .ok (.invokevirtual 63, 3) := dk_182 0 63 (dk_at dksX3_is_3 0 rfl rfl)
theorem dX3_is_72 : decode cX3_is 72 = .ok (.iinc 1 1, 3) := dk_132 1 1 (dk_at dksX3_is_3 3 rfl rfl)
theorem dX3_is_75 : decode cX3_is 75 = .ok (.goto (-45), 3) := dk_167 255 211 (dk_at dksX3_is_3 6 rfl rfl)
theorem dX3_is_78 : decode cX3_is 78 = .ok (.iconst 0, 1) := dk_3 (dk_at dksX3_is_3 9 rfl rfl)
theorem dX3_is_79 : decode cX3_is 79 = .ok (.istore_n 1, 1) := dk_60 (dk_at dksX3_is_3 10 rfl rfl)
theorem dX3_is_80 : decode cX3_is 80 = .ok (.iload_n 1, 1) := dk_27 (dk_at dksX3_is_3 11 rfl rfl)
theorem dX3_is_81 : decode cX3_is 81 = .ok (.aload_n 0, 1) := dk_42 (dk_at dksX3_is_3 12 rfl rfl)
theorem dX3_is_82 : decode cX3_is 82 = .ok (.getfield 3, 3) := dk_180 0 3 (dk_at dksX3_is_3 13 rfl rfl)
theorem dX3_is_85 : decode cX3_is 85 = .ok (.getfield 41, 3) := dk_180 0 41 (dk_at dksX3_is_3 16 rfl rfl)
theorem dX3_is_88 : decode cX3_is 88 = .ok (.getfield 67, 3) := dk_180 0 67 (dk_at dksX3_is_3 19 rfl rfl)
theorem dX3_is_91 : decode cX3_is 91 = .ok (.invokeinterface 51 1, 5) := by decide +kernel
theorem dX3_is_96 : decode cX3_is 96 = .ok (.if_icmp .ge 86, 3) := dk_162 0 86 (dk_at dksX3_is_4 5 rfl rfl)
theorem dX3_is_99 : decode cX3_is 99 = .ok (.aload_n 0, 1) := dk_42 (dk_at dksX3_is_4 8 rfl rfl)
theorem dX3_is_100 : decode cX3_is 100 = .ok (.getfield 3, 3) := dk_180 0 3 (dk_at dksX3_is_4 9 rfl rfl)
theorem dX3_is_103 : decode cX3_is 103 = .ok (.getfield 41, 3) := dk_180 0 41 (dk_at dksX3_is_4 12 rfl rfl)
theorem dX3_is_106 : decode cX3_is 106 = .ok (.getfield 67, 3) := dk_180 0 67 (dk_at dksX3_is_4 15 rfl rfl)
theorem dX3_is_109 : decode cX3_is 109 = .ok (.iload_n 1, 1) := dk_27 (dk_at dksX3_is_4 18 rfl rfl)
theorem dX3_is_110 : decode cX3_is 110 = .ok (.invokeinterface 57 2, 5) := by decide +kernel
theorem dX3_is_115 : decode cX3_is 115 = .ok (.checkcast 70, 3) := dk_192 0 70 (dk_at dksX3_is_5 0 rfl rfl)
theorem dX3_is_118 : decode cX3_is 118 = .ok (.astore_n 2, 1) := dk_77 (dk_at dksX3_is_5 3 rfl rfl)
theorem dX3_is_119 : decode cX3_is 119 = .ok (.aload_n 2, 1) := dk_44 (dk_at dksX3_is_5 4 rfl rfl)
theorem dX3_is_120 : decode cX3_is 120 = .ok (.getfield 72, 3) := dk_180 0 72 (dk_at dksX3_is_5 5 rfl rfl)
theorem dX3_is_123 : decode cX3_is 123 = .ok (.ifnull 14, 3) := dk_198 0 14 (dk_at dksX3_is_5 8 rfl rfl)
theorem dX3_is_126 : decode cX3_is 126 = .ok (.aload_n 0, 1) := dk_42 (dk_at dksX3_is_5 11 rfl rfl)
theorem dX3_is_127 : decode cX3_is 127 = .ok (.aload_n 2, 1) := dk_44 (dk_at dksX3_is_5 12 rfl rfl)
theorem dX3_is_128 : decode cX3_is 128 = .ok (.getfield 72, 3) := dk_180 0 72 (dk_at dksX3_is_5 13 rfl rfl)
theorem dX3_is_131 : decode cX3_is 131 = .ok (.invokevirtual 63, 3) := dk_182 0 63 (dk_at dksX3_is_5 16 rfl rfl)
theorem dX3_is_134 : decode cX3_is 134 = .ok (.goto 42, 3) := dk_167 0 42 (dk_at dksX3_is_5 19 rfl rfl)
theorem dX3_is_137 : decode cX3_is 137 = .ok (.aload_n 0, 1) := dk_42 (dk_at dksX3_is_5 22 rfl rfl)
theorem dX3_is_138 : decode cX3_is 138 = .ok (.aload_n 2, 1) := dk_44 (dk_at dksX3_is_5 23 rfl rfl)
theorem dX3_is_139 : decode cX3_is 139 = .ok (.getfield 76, 3) := dk_180 0 76 (dk_at dksX3_is_6 0 rfl rfl)
theorem dX3_is_142 : decode cX3_is 142 = .ok (.iconst 1, 1) := dk_4 (dk_at dksX3_is_6 3 rfl rfl)
theorem dX3_is_143 : decode cX3_is 143 = .ok (.if_icmp .ne 17, 3) := dk_160 0 17 (dk_at dksX3_is_6 4 rfl rfl)
theorem dX3_is_146 : decode cX3_is 146 = .ok (.aload_n 0, 1) := dk_42 (dk_at dksX3_is_6 7 rfl rfl)
theorem dX3_is_147 : decode cX3_is 147 = .ok (.getfield 28, 3) := dk_180 0 28 (dk_at dksX3_is_6 8 rfl rfl)
theorem dX3_is_150 : decode cX3_is 150 = .ok (.iconst 1, 1) := dk_4 (dk_at dksX3_is_6 11 rfl rfl)
theorem dX3_is_151 : decode cX3_is 151 = .ok (.aload_n 2, 1) := dk_44 (dk_at dksX3_is_6 12 rfl rfl)
theorem dX3_is_152 : decode cX3_is 152 = .ok (.getfield 79, 3) := dk_180 0 79 (dk_at dksX3_is_6 13 rfl rfl)
theorem dX3_is_155 : decode cX3_is 155 = .ok (.ishl, 1) := dk_120 (dk_at dksX3_is_6 16 rfl rfl)
theorem dX3_is_156 : decode cX3_is 156 = .ok (.ior, 1) := dk_128 (dk_at dksX3_is_6 17 rfl rfl)
theorem dX3_is_157 : decode cX3_is 157 = .ok (.goto 16, 3) := dk_167 0 16 (dk_at dksX3_is_6 18 rfl rfl)
theorem dX3_is_160 : decode cX3_is 160 = .ok (.aload_n 0, 1) := dk_42 (dk_at dksX3_is_6 21 rfl rfl)
theorem dX3_is_161 : decode cX3_is 161 = .ok (.getfield 28, 3) := dk_180 0 28 (dk_at dksX3_is_7 0 rfl rfl)
theorem dX3_is_164 : decode cX3_is 164 = .ok (.iconst 1, 1) := dk_4 (dk_at dksX3_is_7 3 rfl rfl)
theorem dX3_is_165 : decode cX3_is 165 = .ok (.aload_n 2, 1) := dk_44 (dk_at dksX3_is_7 4 rfl rfl)
theorem dX3_is_166 : decode cX3_is 166 = .ok (.getfield 79, 3) := dk_180 0 79 (dk_at dksX3_is_7 5 rfl rfl)
theorem dX3_is_169 : decode cX3_is 169 = .ok (.ishl, 1) := dk_120 (dk_at dksX3_is_7 8 rfl rfl)
theorem dX3_is_170 : decode cX3_is 170 = .ok (.iconst (-1), 1) := dk_2 (dk_at dksX3_is_7 9 rfl rfl)
theorem dX3_is_171 : decode cX3_is 171 = .ok (.ixor, 1) := dk_130 (dk_at dksX3_is_7 10 rfl rfl)
theorem dX3_is_172 : decode cX3_is 172 = .ok (.iand, 1) := dk_126 (dk_at dksX3_is_7 11 rfl rfl)
theorem dX3_is_173 : decode cX3_is 173 = .ok (.putfield 28, 3) := dk_181 0 28 (dk_at dksX3_is_7 12 rfl rfl)
theorem dX3_is_176 : decode cX3_is 176 = .ok (.iinc 1 1, 3) := dk_132 1 1 (dk_at dksX3_is_7 15 rfl rfl)
theorem dX3_is_179 : decode cX3_is 179 = .ok (.goto (-99), 3) := dk_167 255 157 (dk_at dksX3_is_7 18 rfl rfl)
theorem dX3_is_182 : decode cX3_is 182 = .ok (.aload_n 0, 1) := dk_42 (dk_at dksX3_is_7 21 rfl rfl)
theorem dX3_is_183 : decode cX3_is 183 = .ok (.invokevirtual 82, 3) := dk_182 0 82 (dk_at dksX3_is_8 0 rfl rfl)
theorem dX3_is_186 : decode cX3_is 186 = .ok (.areturn, 1) := dk_176 (dk_at dksX3_is_8 3 rfl rfl)
abbrev cX3_pours : ByteArray := prog_12_method_3_code
def yX3_pours : MethodName := ⟨RX3, "pours", "(LQuotedRiver$Rain;)V"⟩
def dkwX3_pours_0 : List UInt8 := [42, 180, 0, 19, 43, 180, 0, 86, 92, 46, 43, 180, 0, 89, 96, 79, 177]
abbrev dktX3_pours_0 : List UInt8 := dkwX3_pours_0 ++ []
theorem dksX3_pours_0 : cX3_pours.data.toList.drop 0 = dktX3_pours_0 := by decide +kernel
theorem dX3_pours_0 : decode cX3_pours 0 = .ok (.aload_n 0, 1) := dk_42 (dk_at dksX3_pours_0 0 rfl rfl)
theorem dX3_pours_1 : decode cX3_pours 1 = .ok (.getfield 19, 3) := dk_180 0 19 (dk_at dksX3_pours_0 1 rfl rfl)
theorem dX3_pours_4 : decode cX3_pours 4 = .ok (.aload_n 1, 1) := dk_43 (dk_at dksX3_pours_0 4 rfl rfl)
theorem dX3_pours_5 : decode cX3_pours 5 = .ok (.getfield 86, 3) := dk_180 0 86 (dk_at dksX3_pours_0 5 rfl rfl)
theorem dX3_pours_8 : decode cX3_pours 8 = .ok (.dup2, 1) := dk_92 (dk_at dksX3_pours_0 8 rfl rfl)
theorem dX3_pours_9 : decode cX3_pours 9 = .ok (.iaload, 1) := dk_46 (dk_at dksX3_pours_0 9 rfl rfl)
theorem dX3_pours_10 : decode cX3_pours 10 = .ok (.aload_n 1, 1) := dk_43 (dk_at dksX3_pours_0 10 rfl rfl)
theorem dX3_pours_11 : decode cX3_pours 11 = .ok (.getfield 89, 3) := dk_180 0 89 (dk_at dksX3_pours_0 11 rfl rfl)
theorem dX3_pours_14 : decode cX3_pours 14 = .ok (.iadd, 1) := dk_96 (dk_at dksX3_pours_0 14 rfl rfl)
theorem dX3_pours_15 : decode cX3_pours 15 = .ok (.iastore, 1) := dk_79 (dk_at dksX3_pours_0 15 rfl rfl)
theorem dX3_pours_16 : decode cX3_pours 16 = .ok (.return_, 1) := dk_177 (dk_at dksX3_pours_0 16 rfl rfl)
abbrev cX3_flows : ByteArray := prog_12_method_4_code
def yX3_flows : MethodName := ⟨RX3, "flows", "()LQuotedRiver$Water;"⟩
def dkwX3_flows_2 : List UInt8 := [27, 46, 96, 79, 132, 1, 1, 167, 255, 203, 42, 176]
abbrev dktX3_flows_2 : List UInt8 := dkwX3_flows_2 ++ []
def dkwX3_flows_1 : List UInt8 := [180, 0, 92, 167, 0, 17, 3, 42, 180, 0, 15, 27, 4, 100, 46, 4, 100, 184, 0, 94, 42, 180, 0, 19]
abbrev dktX3_flows_1 : List UInt8 := dkwX3_flows_1 ++ dktX3_flows_2
def dkwX3_flows_0 : List UInt8 := [3, 60, 27, 16, 60, 163, 0, 53, 42, 180, 0, 15, 27, 27, 154, 0, 16, 42, 180, 0, 3, 180, 0, 41]
abbrev dktX3_flows_0 : List UInt8 := dkwX3_flows_0 ++ dktX3_flows_1
theorem dksX3_flows_0 : cX3_flows.data.toList.drop 0 = dktX3_flows_0 := by decide +kernel
theorem dksX3_flows_1 : cX3_flows.data.toList.drop 24 = dktX3_flows_1 := dk_seg dksX3_flows_0 24 rfl rfl
theorem dksX3_flows_2 : cX3_flows.data.toList.drop 48 = dktX3_flows_2 := dk_seg dksX3_flows_1 24 rfl rfl
theorem dX3_flows_0 : decode cX3_flows 0 = .ok (.iconst 0, 1) := dk_3 (dk_at dksX3_flows_0 0 rfl rfl)
theorem dX3_flows_1 : decode cX3_flows 1 = .ok (.istore_n 1, 1) := dk_60 (dk_at dksX3_flows_0 1 rfl rfl)
theorem dX3_flows_2 : decode cX3_flows 2 = .ok (.iload_n 1, 1) := dk_27 (dk_at dksX3_flows_0 2 rfl rfl)
theorem dX3_flows_3 : decode cX3_flows 3 = .ok (.bipush 60, 2) := dk_16 60 (dk_at dksX3_flows_0 3 rfl rfl)
theorem dX3_flows_5 : decode cX3_flows 5 = .ok (.if_icmp .gt 53, 3) := dk_163 0 53 (dk_at dksX3_flows_0 5 rfl rfl)
theorem dX3_flows_8 : decode cX3_flows 8 = .ok (.aload_n 0, 1) := dk_42 (dk_at dksX3_flows_0 8 rfl rfl)
theorem dX3_flows_9 : decode cX3_flows 9 = .ok (.getfield 15, 3) := dk_180 0 15 (dk_at dksX3_flows_0 9 rfl rfl)
theorem dX3_flows_12 : decode cX3_flows 12 = .ok (.iload_n 1, 1) := dk_27 (dk_at dksX3_flows_0 12 rfl rfl)
theorem dX3_flows_13 : decode cX3_flows 13 = .ok (.iload_n 1, 1) := dk_27 (dk_at dksX3_flows_0 13 rfl rfl)
theorem dX3_flows_14 : decode cX3_flows 14 = .ok (.ifCond .ne 16, 3) := dk_154 0 16 (dk_at dksX3_flows_0 14 rfl rfl)
theorem dX3_flows_17 : decode cX3_flows 17 = .ok (.aload_n 0, 1) := dk_42 (dk_at dksX3_flows_0 17 rfl rfl)
theorem dX3_flows_18 : decode cX3_flows 18 = .ok (.getfield 3, 3) := dk_180 0 3 (dk_at dksX3_flows_0 18 rfl rfl)
theorem dX3_flows_21 : decode cX3_flows 21 = .ok (.getfield 41, 3) := dk_180 0 41 (dk_at dksX3_flows_0 21 rfl rfl)
theorem dX3_flows_24 : decode cX3_flows 24 = .ok (.getfield 92, 3) := dk_180 0 92 (dk_at dksX3_flows_1 0 rfl rfl)
theorem dX3_flows_27 : decode cX3_flows 27 = .ok (.goto 17, 3) := dk_167 0 17 (dk_at dksX3_flows_1 3 rfl rfl)
theorem dX3_flows_30 : decode cX3_flows 30 = .ok (.iconst 0, 1) := dk_3 (dk_at dksX3_flows_1 6 rfl rfl)
theorem dX3_flows_31 : decode cX3_flows 31 = .ok (.aload_n 0, 1) := dk_42 (dk_at dksX3_flows_1 7 rfl rfl)
theorem dX3_flows_32 : decode cX3_flows 32 = .ok (.getfield 15, 3) := dk_180 0 15 (dk_at dksX3_flows_1 8 rfl rfl)
theorem dX3_flows_35 : decode cX3_flows 35 = .ok (.iload_n 1, 1) := dk_27 (dk_at dksX3_flows_1 11 rfl rfl)
theorem dX3_flows_36 : decode cX3_flows 36 = .ok (.iconst 1, 1) := dk_4 (dk_at dksX3_flows_1 12 rfl rfl)
theorem dX3_flows_37 : decode cX3_flows 37 = .ok (.isub, 1) := dk_100 (dk_at dksX3_flows_1 13 rfl rfl)
theorem dX3_flows_38 : decode cX3_flows 38 = .ok (.iaload, 1) := dk_46 (dk_at dksX3_flows_1 14 rfl rfl)
theorem dX3_flows_39 : decode cX3_flows 39 = .ok (.iconst 1, 1) := dk_4 (dk_at dksX3_flows_1 15 rfl rfl)
theorem dX3_flows_40 : decode cX3_flows 40 = .ok (.isub, 1) := dk_100 (dk_at dksX3_flows_1 16 rfl rfl)
theorem dX3_flows_41 : decode cX3_flows 41 = .ok (.invokestatic 94, 3) := dk_184 0 94 (dk_at dksX3_flows_1 17 rfl rfl)
theorem dX3_flows_44 : decode cX3_flows 44 = .ok (.aload_n 0, 1) := dk_42 (dk_at dksX3_flows_1 20 rfl rfl)
theorem dX3_flows_45 : decode cX3_flows 45 = .ok (.getfield 19, 3) := dk_180 0 19 (dk_at dksX3_flows_1 21 rfl rfl)
theorem dX3_flows_48 : decode cX3_flows 48 = .ok (.iload_n 1, 1) := dk_27 (dk_at dksX3_flows_2 0 rfl rfl)
theorem dX3_flows_49 : decode cX3_flows 49 = .ok (.iaload, 1) := dk_46 (dk_at dksX3_flows_2 1 rfl rfl)
theorem dX3_flows_50 : decode cX3_flows 50 = .ok (.iadd, 1) := dk_96 (dk_at dksX3_flows_2 2 rfl rfl)
theorem dX3_flows_51 : decode cX3_flows 51 = .ok (.iastore, 1) := dk_79 (dk_at dksX3_flows_2 3 rfl rfl)
theorem dX3_flows_52 : decode cX3_flows 52 = .ok (.iinc 1 1, 3) := dk_132 1 1 (dk_at dksX3_flows_2 4 rfl rfl)
theorem dX3_flows_55 : decode cX3_flows 55 = .ok (.goto (-53), 3) := dk_167 255 203 (dk_at dksX3_flows_2 7 rfl rfl)
theorem dX3_flows_58 : decode cX3_flows 58 = .ok (.aload_n 0, 1) := dk_42 (dk_at dksX3_flows_2 10 rfl rfl)
theorem dX3_flows_59 : decode cX3_flows 59 = .ok (.areturn, 1) := dk_176 (dk_at dksX3_flows_2 11 rfl rfl)
abbrev cX3_isStanding : ByteArray := prog_12_method_6_code
def yX3_isStanding : MethodName := ⟨RX3, "isStanding", "(II)Z"⟩
def dkwX3_isStanding_1 : List UInt8 := [3, 172]
abbrev dktX3_isStanding_1 : List UInt8 := dkwX3_isStanding_1 ++ []
def dkwX3_isStanding_0 : List UInt8 := [42, 180, 0, 15, 28, 46, 42, 180, 0, 3, 27, 182, 0, 119, 180, 0, 123, 162, 0, 7, 4, 167, 0, 4]
abbrev dktX3_isStanding_0 : List UInt8 := dkwX3_isStanding_0 ++ dktX3_isStanding_1
theorem dksX3_isStanding_0 : cX3_isStanding.data.toList.drop 0 = dktX3_isStanding_0 := by decide +kernel
theorem dksX3_isStanding_1 : cX3_isStanding.data.toList.drop 24 = dktX3_isStanding_1 := dk_seg dksX3_isStanding_0 24 rfl rfl
theorem dX3_isStanding_0 : decode cX3_isStanding 0 = .ok (.aload_n 0, 1) := dk_42 (dk_at dksX3_isStanding_0 0 rfl rfl)
theorem dX3_isStanding_1 : decode cX3_isStanding 1 = .ok (.getfield 15, 3) := dk_180 0 15 (dk_at dksX3_isStanding_0 1 rfl rfl)
theorem dX3_isStanding_4 : decode cX3_isStanding 4 = .ok (.iload_n 2, 1) := dk_28 (dk_at dksX3_isStanding_0 4 rfl rfl)
theorem dX3_isStanding_5 : decode cX3_isStanding 5 = .ok (.iaload, 1) := dk_46 (dk_at dksX3_isStanding_0 5 rfl rfl)
theorem dX3_isStanding_6 : decode cX3_isStanding 6 = .ok (.aload_n 0, 1) := dk_42 (dk_at dksX3_isStanding_0 6 rfl rfl)
theorem dX3_isStanding_7 : decode cX3_isStanding 7 = .ok (.getfield 3, 3) := dk_180 0 3 (dk_at dksX3_isStanding_0 7 rfl rfl)
theorem dX3_isStanding_10 : decode cX3_isStanding 10 = .ok (.iload_n 1, 1) := dk_27 (dk_at dksX3_isStanding_0 10 rfl rfl)
theorem dX3_isStanding_11 : decode cX3_isStanding 11 = .ok (.invokevirtual 119, 3) := dk_182 0 119 (dk_at dksX3_isStanding_0 11 rfl rfl)
theorem dX3_isStanding_14 : decode cX3_isStanding 14 = .ok (.getfield 123, 3) := dk_180 0 123 (dk_at dksX3_isStanding_0 14 rfl rfl)
theorem dX3_isStanding_17 : decode cX3_isStanding 17 = .ok (.if_icmp .ge 7, 3) := dk_162 0 7 (dk_at dksX3_isStanding_0 17 rfl rfl)
theorem dX3_isStanding_20 : decode cX3_isStanding 20 = .ok (.iconst 1, 1) := dk_4 (dk_at dksX3_isStanding_0 20 rfl rfl)
theorem dX3_isStanding_21 : decode cX3_isStanding 21 = .ok (.goto 4, 3) := dk_167 0 4 (dk_at dksX3_isStanding_0 21 rfl rfl)
theorem dX3_isStanding_24 : decode cX3_isStanding 24 = .ok (.iconst 0, 1) := dk_3 (dk_at dksX3_isStanding_1 0 rfl rfl)
theorem dX3_isStanding_25 : decode cX3_isStanding 25 = .ok (.ireturn, 1) := dk_172 (dk_at dksX3_isStanding_1 1 rfl rfl)
abbrev cX3_joinFrom : ByteArray := prog_12_method_7_code
def yX3_joinFrom : MethodName := ⟨RX3, "joinFrom", "(II)I"⟩
def dkwX3_joinFrom_5 : List UInt8 := [132, 3, 1, 167, 255, 142, 2, 172]
abbrev dktX3_joinFrom_5 : List UInt8 := dkwX3_joinFrom_5 ++ []
def dkwX3_joinFrom_4 : List UInt8 := [42, 180, 0, 148, 167, 0, 14, 42, 180, 0, 3, 29, 182, 0, 135, 180, 0, 151, 160, 0, 5, 29, 172]
abbrev dktX3_joinFrom_4 : List UInt8 := dkwX3_joinFrom_4 ++ dktX3_joinFrom_5
def dkwX3_joinFrom_3 : List UInt8 := [180, 0, 3, 29, 182, 0, 135, 180, 0, 147, 54, 4, 28, 21, 4, 112, 29, 42, 180, 0, 35, 160, 0, 10]
abbrev dktX3_joinFrom_3 : List UInt8 := dkwX3_joinFrom_3 ++ dktX3_joinFrom_4
def dkwX3_joinFrom_2 : List UInt8 := [159, 0, 6, 167, 0, 66, 29, 42, 180, 0, 35, 160, 0, 10, 42, 180, 0, 144, 167, 0, 14, 42]
abbrev dktX3_joinFrom_2 : List UInt8 := dkwX3_joinFrom_2 ++ dktX3_joinFrom_3
def dkwX3_joinFrom_1 : List UInt8 := [180, 0, 28, 29, 184, 0, 131, 154, 0, 84, 42, 180, 0, 3, 29, 182, 0, 135, 180, 0, 139, 27]
abbrev dktX3_joinFrom_1 : List UInt8 := dkwX3_joinFrom_1 ++ dktX3_joinFrom_2
def dkwX3_joinFrom_0 : List UInt8 := [3, 62, 29, 42, 180, 0, 3, 180, 0, 41, 180, 0, 128, 185, 0, 51, 1, 0, 162, 0, 101, 42]
abbrev dktX3_joinFrom_0 : List UInt8 := dkwX3_joinFrom_0 ++ dktX3_joinFrom_1
theorem dksX3_joinFrom_0 : cX3_joinFrom.data.toList.drop 0 = dktX3_joinFrom_0 := by decide +kernel
theorem dksX3_joinFrom_1 : cX3_joinFrom.data.toList.drop 22 = dktX3_joinFrom_1 := dk_seg dksX3_joinFrom_0 22 rfl rfl
theorem dksX3_joinFrom_2 : cX3_joinFrom.data.toList.drop 44 = dktX3_joinFrom_2 := dk_seg dksX3_joinFrom_1 22 rfl rfl
theorem dksX3_joinFrom_3 : cX3_joinFrom.data.toList.drop 66 = dktX3_joinFrom_3 := dk_seg dksX3_joinFrom_2 22 rfl rfl
theorem dksX3_joinFrom_4 : cX3_joinFrom.data.toList.drop 90 = dktX3_joinFrom_4 := dk_seg dksX3_joinFrom_3 24 rfl rfl
theorem dksX3_joinFrom_5 : cX3_joinFrom.data.toList.drop 113 = dktX3_joinFrom_5 := dk_seg dksX3_joinFrom_4 23 rfl rfl
theorem dX3_joinFrom_0 : decode cX3_joinFrom 0 = .ok (.iconst 0, 1) := dk_3 (dk_at dksX3_joinFrom_0 0 rfl rfl)
theorem dX3_joinFrom_1 : decode cX3_joinFrom 1 = .ok (.istore_n 3, 1) := dk_62 (dk_at dksX3_joinFrom_0 1 rfl rfl)
theorem dX3_joinFrom_2 : decode cX3_joinFrom 2 = .ok (.iload_n 3, 1) := dk_29 (dk_at dksX3_joinFrom_0 2 rfl rfl)
theorem dX3_joinFrom_3 : decode cX3_joinFrom 3 = .ok (.aload_n 0, 1) := dk_42 (dk_at dksX3_joinFrom_0 3 rfl rfl)
theorem dX3_joinFrom_4 : decode cX3_joinFrom 4 = .ok (.getfield 3, 3) := dk_180 0 3 (dk_at dksX3_joinFrom_0 4 rfl rfl)
theorem dX3_joinFrom_7 : decode cX3_joinFrom 7 = .ok (.getfield 41, 3) := dk_180 0 41 (dk_at dksX3_joinFrom_0 7 rfl rfl)
theorem dX3_joinFrom_10 : decode cX3_joinFrom 10 = .ok (.getfield 128, 3) := dk_180 0 128 (dk_at dksX3_joinFrom_0 10 rfl rfl)
theorem dX3_joinFrom_13 : decode cX3_joinFrom 13 = .ok (.invokeinterface 51 1, 5) := by decide +kernel
theorem dX3_joinFrom_18 : decode cX3_joinFrom 18 = .ok (.if_icmp .ge 101, 3) := dk_162 0 101 (dk_at dksX3_joinFrom_0 18 rfl rfl)
theorem dX3_joinFrom_21 : decode cX3_joinFrom 21 = .ok (.aload_n 0, 1) := dk_42 (dk_at dksX3_joinFrom_0 21 rfl rfl)
theorem dX3_joinFrom_22 : decode cX3_joinFrom 22 = .ok (.getfield 28, 3) := dk_180 0 28 (dk_at dksX3_joinFrom_1 0 rfl rfl)
theorem dX3_joinFrom_25 : decode cX3_joinFrom 25 = .ok (.iload_n 3, 1) := dk_29 (dk_at dksX3_joinFrom_1 3 rfl rfl)
theorem dX3_joinFrom_26 : decode cX3_joinFrom 26 = .ok (.invokestatic 131, 3) := dk_184 0 131 (dk_at dksX3_joinFrom_1 4 rfl rfl)
theorem dX3_joinFrom_29 : decode cX3_joinFrom 29 = .ok (.ifCond .ne 84, 3) := dk_154 0 84 (dk_at dksX3_joinFrom_1 7 rfl rfl)
theorem dX3_joinFrom_32 : decode cX3_joinFrom 32 = .ok (.aload_n 0, 1) := dk_42 (dk_at dksX3_joinFrom_1 10 rfl rfl)
theorem dX3_joinFrom_33 : decode cX3_joinFrom 33 = .ok (.getfield 3, 3) := dk_180 0 3 (dk_at dksX3_joinFrom_1 11 rfl rfl)
theorem dX3_joinFrom_36 : decode cX3_joinFrom 36 = .ok (.iload_n 3, 1) := dk_29 (dk_at dksX3_joinFrom_1 14 rfl rfl)
theorem dX3_joinFrom_37 : decode cX3_joinFrom 37 = .ok (.invokevirtual 135, 3) := dk_182 0 135 (dk_at dksX3_joinFrom_1 15 rfl rfl)
theorem dX3_joinFrom_40 : decode cX3_joinFrom 40 = .ok (.getfield 139, 3) := dk_180 0 139 (dk_at dksX3_joinFrom_1 18 rfl rfl)
theorem dX3_joinFrom_43 : decode cX3_joinFrom 43 = .ok (.iload_n 1, 1) := dk_27 (dk_at dksX3_joinFrom_1 21 rfl rfl)
theorem dX3_joinFrom_44 : decode cX3_joinFrom 44 = .ok (.if_icmp .eq 6, 3) := dk_159 0 6 (dk_at dksX3_joinFrom_2 0 rfl rfl)
theorem dX3_joinFrom_47 : decode cX3_joinFrom 47 = .ok (.goto 66, 3) := dk_167 0 66 (dk_at dksX3_joinFrom_2 3 rfl rfl)
theorem dX3_joinFrom_50 : decode cX3_joinFrom 50 = .ok (.iload_n 3, 1) := dk_29 (dk_at dksX3_joinFrom_2 6 rfl rfl)
theorem dX3_joinFrom_51 : decode cX3_joinFrom 51 = .ok (.aload_n 0, 1) := dk_42 (dk_at dksX3_joinFrom_2 7 rfl rfl)
theorem dX3_joinFrom_52 : decode cX3_joinFrom 52 = .ok (.getfield 35, 3) := dk_180 0 35 (dk_at dksX3_joinFrom_2 8 rfl rfl)
theorem dX3_joinFrom_55 : decode cX3_joinFrom 55 = .ok (.if_icmp .ne 10, 3) := dk_160 0 10 (dk_at dksX3_joinFrom_2 11 rfl rfl)
theorem dX3_joinFrom_58 : decode cX3_joinFrom 58 = .ok (.aload_n 0, 1) := dk_42 (dk_at dksX3_joinFrom_2 14 rfl rfl)
theorem dX3_joinFrom_59 : decode cX3_joinFrom 59 = .ok (.getfield 144, 3) := dk_180 0 144 (dk_at dksX3_joinFrom_2 15 rfl rfl)
theorem dX3_joinFrom_62 : decode cX3_joinFrom 62 = .ok (.goto 14, 3) := dk_167 0 14 (dk_at dksX3_joinFrom_2 18 rfl rfl)
theorem dX3_joinFrom_65 : decode cX3_joinFrom 65 = .ok (.aload_n 0, 1) := dk_42 (dk_at dksX3_joinFrom_2 21 rfl rfl)
theorem dX3_joinFrom_66 : decode cX3_joinFrom 66 = .ok (.getfield 3, 3) := dk_180 0 3 (dk_at dksX3_joinFrom_3 0 rfl rfl)
theorem dX3_joinFrom_69 : decode cX3_joinFrom 69 = .ok (.iload_n 3, 1) := dk_29 (dk_at dksX3_joinFrom_3 3 rfl rfl)
theorem dX3_joinFrom_70 : decode cX3_joinFrom 70 = .ok (.invokevirtual 135, 3) := dk_182 0 135 (dk_at dksX3_joinFrom_3 4 rfl rfl)
theorem dX3_joinFrom_73 : decode cX3_joinFrom 73 = .ok (.getfield 147, 3) := dk_180 0 147 (dk_at dksX3_joinFrom_3 7 rfl rfl)
theorem dX3_joinFrom_76 : decode cX3_joinFrom 76 = .ok (.istore 4, 2) := dk_54 4 (dk_at dksX3_joinFrom_3 10 rfl rfl)
theorem dX3_joinFrom_78 : decode cX3_joinFrom 78 = .ok (.iload_n 2, 1) := dk_28 (dk_at dksX3_joinFrom_3 12 rfl rfl)
theorem dX3_joinFrom_79 : decode cX3_joinFrom 79 = .ok (.iload 4, 2) := dk_21 4 (dk_at dksX3_joinFrom_3 13 rfl rfl)
theorem dX3_joinFrom_81 : decode cX3_joinFrom 81 = .ok (.irem, 1) := dk_112 (dk_at dksX3_joinFrom_3 15 rfl rfl)
theorem dX3_joinFrom_82 : decode cX3_joinFrom 82 = .ok (.iload_n 3, 1) := dk_29 (dk_at dksX3_joinFrom_3 16 rfl rfl)
theorem dX3_joinFrom_83 : decode cX3_joinFrom 83 = .ok (.aload_n 0, 1) := dk_42 (dk_at dksX3_joinFrom_3 17 rfl rfl)
theorem dX3_joinFrom_84 : decode cX3_joinFrom 84 = .ok (.getfield 35, 3) := dk_180 0 35 (dk_at dksX3_joinFrom_3 18 rfl rfl)
theorem dX3_joinFrom_87 : decode cX3_joinFrom 87 = .ok (.if_icmp .ne 10, 3) := dk_160 0 10 (dk_at dksX3_joinFrom_3 21 rfl rfl)
theorem dX3_joinFrom_90 : decode cX3_joinFrom 90 = .ok (.aload_n 0, 1) := dk_42 (dk_at dksX3_joinFrom_4 0 rfl rfl)
theorem dX3_joinFrom_91 : decode cX3_joinFrom 91 = .ok (.getfield 148, 3) := dk_180 0 148 (dk_at dksX3_joinFrom_4 1 rfl rfl)
theorem dX3_joinFrom_94 : decode cX3_joinFrom 94 = .ok (.goto 14, 3) := dk_167 0 14 (dk_at dksX3_joinFrom_4 4 rfl rfl)
theorem dX3_joinFrom_97 : decode cX3_joinFrom 97 = .ok (.aload_n 0, 1) := dk_42 (dk_at dksX3_joinFrom_4 7 rfl rfl)
theorem dX3_joinFrom_98 : decode cX3_joinFrom 98 = .ok (.getfield 3, 3) := dk_180 0 3 (dk_at dksX3_joinFrom_4 8 rfl rfl)
theorem dX3_joinFrom_101 : decode cX3_joinFrom 101 = .ok (.iload_n 3, 1) := dk_29 (dk_at dksX3_joinFrom_4 11 rfl rfl)
theorem dX3_joinFrom_102 : decode cX3_joinFrom 102 = .ok (.invokevirtual 135, 3) := dk_182 0 135 (dk_at dksX3_joinFrom_4 12 rfl rfl)
theorem dX3_joinFrom_105 : decode cX3_joinFrom 105 = .ok (.getfield 151, 3) := dk_180 0 151 (dk_at dksX3_joinFrom_4 15 rfl rfl)
theorem dX3_joinFrom_108 : decode cX3_joinFrom 108 = .ok (.if_icmp .ne 5, 3) := dk_160 0 5 (dk_at dksX3_joinFrom_4 18 rfl rfl)
theorem dX3_joinFrom_111 : decode cX3_joinFrom 111 = .ok (.iload_n 3, 1) := dk_29 (dk_at dksX3_joinFrom_4 21 rfl rfl)
theorem dX3_joinFrom_112 : decode cX3_joinFrom 112 = .ok (.ireturn, 1) := dk_172 (dk_at dksX3_joinFrom_4 22 rfl rfl)
theorem dX3_joinFrom_113 : decode cX3_joinFrom 113 = .ok (.iinc 3 1, 3) := dk_132 3 1 (dk_at dksX3_joinFrom_5 0 rfl rfl)
theorem dX3_joinFrom_116 : decode cX3_joinFrom 116 = .ok (.goto (-114), 3) := dk_167 255 142 (dk_at dksX3_joinFrom_5 3 rfl rfl)
theorem dX3_joinFrom_119 : decode cX3_joinFrom 119 = .ok (.iconst (-1), 1) := dk_2 (dk_at dksX3_joinFrom_5 6 rfl rfl)
theorem dX3_joinFrom_120 : decode cX3_joinFrom 120 = .ok (.ireturn, 1) := dk_172 (dk_at dksX3_joinFrom_5 7 rfl rfl)
abbrev cX3_draws : ByteArray := prog_12_method_5_code
def yX3_draws : MethodName := ⟨RX3, "draws", "(J)LQuotedRiver$Water;"⟩
def dkwX3_draws_4 : List UInt8 := [167, 255, 175, 42, 182, 0, 82, 176]
abbrev dktX3_draws_4 : List UInt8 := dkwX3_draws_4 ++ []
def dkwX3_draws_3 : List UInt8 := [180, 0, 3, 180, 0, 41, 180, 0, 116, 96, 79, 42, 89, 180, 0, 38, 4, 96, 181, 0, 38, 132, 5, 1]
abbrev dktX3_draws_3 : List UInt8 := dkwX3_draws_3 ++ dktX3_draws_4
def dkwX3_draws_2 : List UInt8 := [180, 0, 41, 180, 0, 113, 133, 148, 155, 0, 6, 167, 0, 33, 42, 180, 0, 19, 21, 5, 92, 46, 42]
abbrev dktX3_draws_2 : List UInt8 := dkwX3_draws_2 ++ dktX3_draws_3
def dkwX3_draws_1 : List UInt8 := [20, 0, 105, 97, 20, 0, 107, 113, 66, 33, 20, 0, 109, 109, 20, 0, 111, 113, 42, 180, 0, 3]
abbrev dktX3_draws_1 : List UInt8 := dkwX3_draws_1 ++ dktX3_draws_2
def dkwX3_draws_0 : List UInt8 := [42, 182, 0, 100, 87, 31, 66, 4, 54, 5, 21, 5, 16, 60, 163, 0, 80, 20, 0, 103, 33, 105]
abbrev dktX3_draws_0 : List UInt8 := dkwX3_draws_0 ++ dktX3_draws_1
theorem dksX3_draws_0 : cX3_draws.data.toList.drop 0 = dktX3_draws_0 := by decide +kernel
theorem dksX3_draws_1 : cX3_draws.data.toList.drop 22 = dktX3_draws_1 := dk_seg dksX3_draws_0 22 rfl rfl
theorem dksX3_draws_2 : cX3_draws.data.toList.drop 44 = dktX3_draws_2 := dk_seg dksX3_draws_1 22 rfl rfl
theorem dksX3_draws_3 : cX3_draws.data.toList.drop 67 = dktX3_draws_3 := dk_seg dksX3_draws_2 23 rfl rfl
theorem dksX3_draws_4 : cX3_draws.data.toList.drop 91 = dktX3_draws_4 := dk_seg dksX3_draws_3 24 rfl rfl
theorem dX3_draws_0 : decode cX3_draws 0 = .ok (.aload_n 0, 1) := dk_42 (dk_at dksX3_draws_0 0 rfl rfl)
theorem dX3_draws_1 : decode cX3_draws 1 = .ok (.invokevirtual 100, 3) := dk_182 0 100 (dk_at dksX3_draws_0 1 rfl rfl)
theorem dX3_draws_4 : decode cX3_draws 4 = .ok (.pop, 1) := dk_87 (dk_at dksX3_draws_0 4 rfl rfl)
theorem dX3_draws_5 : decode cX3_draws 5 = .ok (.lload_n 1, 1) := dk_31 (dk_at dksX3_draws_0 5 rfl rfl)
theorem dX3_draws_6 : decode cX3_draws 6 = .ok (.lstore_n 3, 1) := dk_66 (dk_at dksX3_draws_0 6 rfl rfl)
theorem dX3_draws_7 : decode cX3_draws 7 = .ok (.iconst 1, 1) := dk_4 (dk_at dksX3_draws_0 7 rfl rfl)
theorem dX3_draws_8 : decode cX3_draws 8 = .ok (.istore 5, 2) := dk_54 5 (dk_at dksX3_draws_0 8 rfl rfl)
theorem dX3_draws_10 : decode cX3_draws 10 = .ok (.iload 5, 2) := dk_21 5 (dk_at dksX3_draws_0 10 rfl rfl)
theorem dX3_draws_12 : decode cX3_draws 12 = .ok (.bipush 60, 2) := dk_16 60 (dk_at dksX3_draws_0 12 rfl rfl)
theorem dX3_draws_14 : decode cX3_draws 14 = .ok (.if_icmp .gt 80, 3) := dk_163 0 80 (dk_at dksX3_draws_0 14 rfl rfl)
theorem dX3_draws_17 : decode cX3_draws 17 = .ok (.ldc2_w 103, 3) := dk_20 0 103 (dk_at dksX3_draws_0 17 rfl rfl)
theorem dX3_draws_20 : decode cX3_draws 20 = .ok (.lload_n 3, 1) := dk_33 (dk_at dksX3_draws_0 20 rfl rfl)
theorem dX3_draws_21 : decode cX3_draws 21 = .ok (.lmul, 1) := dk_105 (dk_at dksX3_draws_0 21 rfl rfl)
theorem dX3_draws_22 : decode cX3_draws 22 = .ok (.ldc2_w 105, 3) := dk_20 0 105 (dk_at dksX3_draws_1 0 rfl rfl)
theorem dX3_draws_25 : decode cX3_draws 25 = .ok (.ladd, 1) := dk_97 (dk_at dksX3_draws_1 3 rfl rfl)
theorem dX3_draws_26 : decode cX3_draws 26 = .ok (.ldc2_w 107, 3) := dk_20 0 107 (dk_at dksX3_draws_1 4 rfl rfl)
theorem dX3_draws_29 : decode cX3_draws 29 = .ok (.lrem, 1) := dk_113 (dk_at dksX3_draws_1 7 rfl rfl)
theorem dX3_draws_30 : decode cX3_draws 30 = .ok (.lstore_n 3, 1) := dk_66 (dk_at dksX3_draws_1 8 rfl rfl)
theorem dX3_draws_31 : decode cX3_draws 31 = .ok (.lload_n 3, 1) := dk_33 (dk_at dksX3_draws_1 9 rfl rfl)
theorem dX3_draws_32 : decode cX3_draws 32 = .ok (.ldc2_w 109, 3) := dk_20 0 109 (dk_at dksX3_draws_1 10 rfl rfl)
theorem dX3_draws_35 : decode cX3_draws 35 = .ok (.ldiv, 1) := dk_109 (dk_at dksX3_draws_1 13 rfl rfl)
theorem dX3_draws_36 : decode cX3_draws 36 = .ok (.ldc2_w 111, 3) := dk_20 0 111 (dk_at dksX3_draws_1 14 rfl rfl)
theorem dX3_draws_39 : decode cX3_draws 39 = .ok (.lrem, 1) := dk_113 (dk_at dksX3_draws_1 17 rfl rfl)
theorem dX3_draws_40 : decode cX3_draws 40 = .ok (.aload_n 0, 1) := dk_42 (dk_at dksX3_draws_1 18 rfl rfl)
theorem dX3_draws_41 : decode cX3_draws 41 = .ok (.getfield 3, 3) := dk_180 0 3 (dk_at dksX3_draws_1 19 rfl rfl)
theorem dX3_draws_44 : decode cX3_draws 44 = .ok (.getfield 41, 3) := dk_180 0 41 (dk_at dksX3_draws_2 0 rfl rfl)
theorem dX3_draws_47 : decode cX3_draws 47 = .ok (.getfield 113, 3) := dk_180 0 113 (dk_at dksX3_draws_2 3 rfl rfl)
theorem dX3_draws_50 : decode cX3_draws 50 = .ok (.i2l, 1) := dk_133 (dk_at dksX3_draws_2 6 rfl rfl)
theorem dX3_draws_51 : decode cX3_draws 51 = .ok (.lcmp, 1) := dk_148 (dk_at dksX3_draws_2 7 rfl rfl)
theorem dX3_draws_52 : decode cX3_draws 52 = .ok (.ifCond .lt 6, 3) := dk_155 0 6 (dk_at dksX3_draws_2 8 rfl rfl)
theorem dX3_draws_55 : decode cX3_draws 55 = .ok (.goto 33, 3) := dk_167 0 33 (dk_at dksX3_draws_2 11 rfl rfl)
theorem dX3_draws_58 : decode cX3_draws 58 = .ok (.aload_n 0, 1) := dk_42 (dk_at dksX3_draws_2 14 rfl rfl)
theorem dX3_draws_59 : decode cX3_draws 59 = .ok (.getfield 19, 3) := dk_180 0 19 (dk_at dksX3_draws_2 15 rfl rfl)
theorem dX3_draws_62 : decode cX3_draws 62 = .ok (.iload 5, 2) := dk_21 5 (dk_at dksX3_draws_2 18 rfl rfl)
theorem dX3_draws_64 : decode cX3_draws 64 = .ok (.dup2, 1) := dk_92 (dk_at dksX3_draws_2 20 rfl rfl)
theorem dX3_draws_65 : decode cX3_draws 65 = .ok (.iaload, 1) := dk_46 (dk_at dksX3_draws_2 21 rfl rfl)
theorem dX3_draws_66 : decode cX3_draws 66 = .ok (.aload_n 0, 1) := dk_42 (dk_at dksX3_draws_2 22 rfl rfl)
theorem dX3_draws_67 : decode cX3_draws 67 = .ok (.getfield 3, 3) := dk_180 0 3 (dk_at dksX3_draws_3 0 rfl rfl)
theorem dX3_draws_70 : decode cX3_draws 70 = .ok (.getfield 41, 3) := dk_180 0 41 (dk_at dksX3_draws_3 3 rfl rfl)
theorem dX3_draws_73 : decode cX3_draws 73 = .ok (.getfield 116, 3) := dk_180 0 116 (dk_at dksX3_draws_3 6 rfl rfl)
theorem dX3_draws_76 : decode cX3_draws 76 = .ok (.iadd, 1) := dk_96 (dk_at dksX3_draws_3 9 rfl rfl)
theorem dX3_draws_77 : decode cX3_draws 77 = .ok (.iastore, 1) := dk_79 (dk_at dksX3_draws_3 10 rfl rfl)
theorem dX3_draws_78 : decode cX3_draws 78 = .ok (.aload_n 0, 1) := dk_42 (dk_at dksX3_draws_3 11 rfl rfl)
theorem dX3_draws_79 : decode cX3_draws 79 = .ok (.dup, 1) := dk_89 (dk_at dksX3_draws_3 12 rfl rfl)
theorem dX3_draws_80 : decode cX3_draws 80 = .ok (.getfield 38, 3) := dk_180 0 38 (dk_at dksX3_draws_3 13 rfl rfl)
theorem dX3_draws_83 : decode cX3_draws 83 = .ok (.iconst 1, 1) := dk_4 (dk_at dksX3_draws_3 16 rfl rfl)
theorem dX3_draws_84 : decode cX3_draws 84 = .ok (.iadd, 1) := dk_96 (dk_at dksX3_draws_3 17 rfl rfl)
theorem dX3_draws_85 : decode cX3_draws 85 = .ok (.putfield 38, 3) := dk_181 0 38 (dk_at dksX3_draws_3 18 rfl rfl)
theorem dX3_draws_88 : decode cX3_draws 88 = .ok (.iinc 5 1, 3) := dk_132 5 1 (dk_at dksX3_draws_3 21 rfl rfl)
theorem dX3_draws_91 : decode cX3_draws 91 = .ok (.goto (-81), 3) := dk_167 255 175 (dk_at dksX3_draws_4 0 rfl rfl)
theorem dX3_draws_94 : decode cX3_draws 94 = .ok (.aload_n 0, 1) := dk_42 (dk_at dksX3_draws_4 3 rfl rfl)
theorem dX3_draws_95 : decode cX3_draws 95 = .ok (.invokevirtual 82, 3) := dk_182 0 82 (dk_at dksX3_draws_4 4 rfl rfl)
theorem dX3_draws_98 : decode cX3_draws 98 = .ok (.areturn, 1) := dk_176 (dk_at dksX3_draws_4 7 rfl rfl)

abbrev cX4_init : ByteArray := prog_11_method_1_code
def yX4_init : MethodName := ⟨RX4, "<init>", "(LQuotedRiver;)V"⟩
def dkwX4_init_0 : List UInt8 := [42, 43, 181, 0, 3, 42, 183, 0, 9, 42, 16, 61, 188, 10, 181, 0, 15, 177]
abbrev dktX4_init_0 : List UInt8 := dkwX4_init_0 ++ []
theorem dksX4_init_0 : cX4_init.data.toList.drop 0 = dktX4_init_0 := by decide +kernel
theorem dX4_init_0 : decode cX4_init 0 = .ok (.aload_n 0, 1) := dk_42 (dk_at dksX4_init_0 0 rfl rfl)
theorem dX4_init_1 : decode cX4_init 1 = .ok (.aload_n 1, 1) := dk_43 (dk_at dksX4_init_0 1 rfl rfl)
theorem dX4_init_2 : decode cX4_init 2 = .ok (.putfield 3, 3) := dk_181 0 3 (dk_at dksX4_init_0 2 rfl rfl)
theorem dX4_init_5 : decode cX4_init 5 = .ok (.aload_n 0, 1) := dk_42 (dk_at dksX4_init_0 5 rfl rfl)
theorem dX4_init_6 : decode cX4_init 6 = .ok (.invokespecial 9, 3) := dk_183 0 9 (dk_at dksX4_init_0 6 rfl rfl)
theorem dX4_init_9 : decode cX4_init 9 = .ok (.aload_n 0, 1) := dk_42 (dk_at dksX4_init_0 9 rfl rfl)
theorem dX4_init_10 : decode cX4_init 10 = .ok (.bipush 61, 2) := dk_16 61 (dk_at dksX4_init_0 10 rfl rfl)
theorem dX4_init_12 : decode cX4_init 12 = .ok (.newarray .int, 2) := dk_188_10 (dk_at dksX4_init_0 12 rfl rfl)
theorem dX4_init_14 : decode cX4_init 14 = .ok (.putfield 15, 3) := dk_181 0 15 (dk_at dksX4_init_0 14 rfl rfl)
theorem dX4_init_17 : decode cX4_init 17 = .ok (.return_, 1) := dk_177 (dk_at dksX4_init_0 17 rfl rfl)
abbrev cX4_goes : ByteArray := prog_11_method_2_code
def yX4_goes : MethodName := ⟨RX4, "goes", "(II)LQuotedRiver$Stick;"⟩
def dkwX4_goes_15 : List UInt8 := [54, 5, 132, 6, 1, 167, 254, 238, 42, 176]
abbrev dktX4_goes_15 : List UInt8 := dkwX4_goes_15 ++ []
def dkwX4_goes_14 : List UInt8 := [180, 0, 44, 180, 0, 48, 21, 8, 184, 0, 53, 153, 0, 8, 16, 11, 167, 0, 5, 21, 8, 54, 4, 3]
abbrev dktX4_goes_14 : List UInt8 := dkwX4_goes_14 ++ dktX4_goes_15
def dkwX4_goes_13 : List UInt8 := [21, 6, 4, 96, 181, 0, 57, 21, 8, 2, 160, 0, 8, 16, 10, 167, 0, 28, 42, 180, 0, 3]
abbrev dktX4_goes_13 : List UInt8 := dkwX4_goes_13 ++ dktX4_goes_14
def dkwX4_goes_12 : List UInt8 := [89, 180, 0, 32, 21, 7, 2, 160, 0, 7, 3, 167, 0, 7, 4, 21, 7, 120, 128, 181, 0, 32, 42]
abbrev dktX4_goes_12 : List UInt8 := dkwX4_goes_12 ++ dktX4_goes_13
def dkwX4_goes_11 : List UInt8 := [181, 0, 23, 42, 89, 180, 0, 26, 21, 7, 2, 160, 0, 7, 3, 167, 0, 4, 4, 96, 181, 0, 26, 42]
abbrev dktX4_goes_11 : List UInt8 := dkwX4_goes_11 ++ dktX4_goes_12
def dkwX4_goes_10 : List UInt8 := [167, 0, 15, 42, 180, 0, 3, 21, 7, 182, 0, 83, 180, 0, 87, 54, 8, 42, 89, 180, 0, 23, 4, 96]
abbrev dktX4_goes_10 : List UInt8 := dkwX4_goes_10 ++ dktX4_goes_11
def dkwX4_goes_9 : List UInt8 := [182, 0, 76, 54, 7, 21, 7, 2, 160, 0, 18, 42, 180, 0, 3, 21, 4, 182, 0, 67, 180, 0, 80]
abbrev dktX4_goes_9 : List UInt8 := dkwX4_goes_9 ++ dktX4_goes_10
def dkwX4_goes_8 : List UInt8 := [182, 0, 67, 180, 0, 71, 162, 0, 6, 167, 0, 156, 42, 180, 0, 3, 180, 0, 44, 21, 4, 21, 6]
abbrev dktX4_goes_8 : List UInt8 := dkwX4_goes_8 ++ dktX4_goes_9
def dkwX4_goes_7 : List UInt8 := [180, 0, 29, 4, 96, 181, 0, 29, 167, 0, 179, 132, 5, 1, 21, 5, 42, 180, 0, 3, 21, 4]
abbrev dktX4_goes_7 : List UInt8 := dkwX4_goes_7 ++ dktX4_goes_8
def dkwX4_goes_6 : List UInt8 := [120, 128, 62, 42, 180, 0, 3, 180, 0, 44, 21, 4, 21, 6, 182, 0, 64, 153, 0, 16, 42, 89]
abbrev dktX4_goes_6 : List UInt8 := dkwX4_goes_6 ++ dktX4_goes_7
def dkwX4_goes_5 : List UInt8 := [184, 0, 53, 153, 0, 17, 42, 180, 0, 35, 2, 160, 0, 9, 42, 21, 6, 181, 0, 35, 29, 4, 21, 4]
abbrev dktX4_goes_5 : List UInt8 := dkwX4_goes_5 ++ dktX4_goes_6
def dkwX4_goes_4 : List UInt8 := [21, 4, 16, 10, 161, 0, 6, 167, 0, 248, 42, 21, 6, 182, 0, 60, 153, 0, 26, 29, 21, 4]
abbrev dktX4_goes_4 : List UInt8 := dkwX4_goes_4 ++ dktX4_goes_5
def dkwX4_goes_3 : List UInt8 := [42, 28, 181, 0, 57, 28, 54, 6, 21, 6, 16, 60, 163, 1, 17, 42, 180, 0, 15, 21, 6, 21, 4, 79]
abbrev dktX4_goes_3 : List UInt8 := dkwX4_goes_3 ++ dktX4_goes_4
def dkwX4_goes_2 : List UInt8 := [180, 0, 44, 180, 0, 48, 27, 184, 0, 53, 153, 0, 8, 16, 11, 167, 0, 4, 27, 54, 4, 3, 54, 5]
abbrev dktX4_goes_2 : List UInt8 := dkwX4_goes_2 ++ dktX4_goes_3
def dkwX4_goes_1 : List UInt8 := [181, 0, 32, 42, 2, 181, 0, 35, 3, 62, 42, 180, 0, 15, 16, 12, 184, 0, 38, 42, 180, 0, 3]
abbrev dktX4_goes_1 : List UInt8 := dkwX4_goes_1 ++ dktX4_goes_2
def dkwX4_goes_0 : List UInt8 := [42, 28, 181, 0, 19, 42, 3, 181, 0, 23, 42, 3, 181, 0, 26, 42, 3, 181, 0, 29, 42, 3]
abbrev dktX4_goes_0 : List UInt8 := dkwX4_goes_0 ++ dktX4_goes_1
theorem dksX4_goes_0 : cX4_goes.data.toList.drop 0 = dktX4_goes_0 := by decide +kernel
theorem dksX4_goes_1 : cX4_goes.data.toList.drop 22 = dktX4_goes_1 := dk_seg dksX4_goes_0 22 rfl rfl
theorem dksX4_goes_2 : cX4_goes.data.toList.drop 45 = dktX4_goes_2 := dk_seg dksX4_goes_1 23 rfl rfl
theorem dksX4_goes_3 : cX4_goes.data.toList.drop 69 = dktX4_goes_3 := dk_seg dksX4_goes_2 24 rfl rfl
theorem dksX4_goes_4 : cX4_goes.data.toList.drop 93 = dktX4_goes_4 := dk_seg dksX4_goes_3 24 rfl rfl
theorem dksX4_goes_5 : cX4_goes.data.toList.drop 115 = dktX4_goes_5 := dk_seg dksX4_goes_4 22 rfl rfl
theorem dksX4_goes_6 : cX4_goes.data.toList.drop 139 = dktX4_goes_6 := dk_seg dksX4_goes_5 24 rfl rfl
theorem dksX4_goes_7 : cX4_goes.data.toList.drop 161 = dktX4_goes_7 := dk_seg dksX4_goes_6 22 rfl rfl
theorem dksX4_goes_8 : cX4_goes.data.toList.drop 183 = dktX4_goes_8 := dk_seg dksX4_goes_7 22 rfl rfl
theorem dksX4_goes_9 : cX4_goes.data.toList.drop 206 = dktX4_goes_9 := dk_seg dksX4_goes_8 23 rfl rfl
theorem dksX4_goes_10 : cX4_goes.data.toList.drop 229 = dktX4_goes_10 := dk_seg dksX4_goes_9 23 rfl rfl
theorem dksX4_goes_11 : cX4_goes.data.toList.drop 253 = dktX4_goes_11 := dk_seg dksX4_goes_10 24 rfl rfl
theorem dksX4_goes_12 : cX4_goes.data.toList.drop 277 = dktX4_goes_12 := dk_seg dksX4_goes_11 24 rfl rfl
theorem dksX4_goes_13 : cX4_goes.data.toList.drop 300 = dktX4_goes_13 := dk_seg dksX4_goes_12 23 rfl rfl
theorem dksX4_goes_14 : cX4_goes.data.toList.drop 322 = dktX4_goes_14 := dk_seg dksX4_goes_13 22 rfl rfl
theorem dksX4_goes_15 : cX4_goes.data.toList.drop 346 = dktX4_goes_15 := dk_seg dksX4_goes_14 24 rfl rfl
theorem dX4_goes_0 : decode cX4_goes 0 = .ok (.aload_n 0, 1) := dk_42 (dk_at dksX4_goes_0 0 rfl rfl)
theorem dX4_goes_1 : decode cX4_goes 1 = .ok (.iload_n 2, 1) := dk_28 (dk_at dksX4_goes_0 1 rfl rfl)
theorem dX4_goes_2 : decode cX4_goes 2 = .ok (.putfield 19, 3) := dk_181 0 19 (dk_at dksX4_goes_0 2 rfl rfl)
theorem dX4_goes_5 : decode cX4_goes 5 = .ok (.aload_n 0, 1) := dk_42 (dk_at dksX4_goes_0 5 rfl rfl)
theorem dX4_goes_6 : decode cX4_goes 6 = .ok (.iconst 0, 1) := dk_3 (dk_at dksX4_goes_0 6 rfl rfl)
theorem dX4_goes_7 : decode cX4_goes 7 = .ok (.putfield 23, 3) := dk_181 0 23 (dk_at dksX4_goes_0 7 rfl rfl)
theorem dX4_goes_10 : decode cX4_goes 10 = .ok (.aload_n 0, 1) := dk_42 (dk_at dksX4_goes_0 10 rfl rfl)
theorem dX4_goes_11 : decode cX4_goes 11 = .ok (.iconst 0, 1) := dk_3 (dk_at dksX4_goes_0 11 rfl rfl)
theorem dX4_goes_12 : decode cX4_goes 12 = .ok (.putfield 26, 3) := dk_181 0 26 (dk_at dksX4_goes_0 12 rfl rfl)
theorem dX4_goes_15 : decode cX4_goes 15 = .ok (.aload_n 0, 1) := dk_42 (dk_at dksX4_goes_0 15 rfl rfl)
theorem dX4_goes_16 : decode cX4_goes 16 = .ok (.iconst 0, 1) := dk_3 (dk_at dksX4_goes_0 16 rfl rfl)
theorem dX4_goes_17 : decode cX4_goes 17 = .ok (.putfield 29, 3) := dk_181 0 29 (dk_at dksX4_goes_0 17 rfl rfl)
theorem dX4_goes_20 : decode cX4_goes 20 = .ok (.aload_n 0, 1) := dk_42 (dk_at dksX4_goes_0 20 rfl rfl)
theorem dX4_goes_21 : decode cX4_goes 21 = .ok (.iconst 0, 1) := dk_3 (dk_at dksX4_goes_0 21 rfl rfl)
theorem dX4_goes_22 : decode cX4_goes 22 = .ok (.putfield 32, 3) := dk_181 0 32 (dk_at dksX4_goes_1 0 rfl rfl)
theorem dX4_goes_25 : decode cX4_goes 25 = .ok (.aload_n 0, 1) := dk_42 (dk_at dksX4_goes_1 3 rfl rfl)
theorem dX4_goes_26 : decode cX4_goes 26 = .ok (.iconst (-1), 1) := dk_2 (dk_at dksX4_goes_1 4 rfl rfl)
theorem dX4_goes_27 : decode cX4_goes 27 = .ok (.putfield 35, 3) := dk_181 0 35 (dk_at dksX4_goes_1 5 rfl rfl)
theorem dX4_goes_30 : decode cX4_goes 30 = .ok (.iconst 0, 1) := dk_3 (dk_at dksX4_goes_1 8 rfl rfl)
theorem dX4_goes_31 : decode cX4_goes 31 = .ok (.istore_n 3, 1) := dk_62 (dk_at dksX4_goes_1 9 rfl rfl)
theorem dX4_goes_32 : decode cX4_goes 32 = .ok (.aload_n 0, 1) := dk_42 (dk_at dksX4_goes_1 10 rfl rfl)
theorem dX4_goes_33 : decode cX4_goes 33 = .ok (.getfield 15, 3) := dk_180 0 15 (dk_at dksX4_goes_1 11 rfl rfl)
theorem dX4_goes_36 : decode cX4_goes 36 = .ok (.bipush 12, 2) := dk_16 12 (dk_at dksX4_goes_1 14 rfl rfl)
theorem dX4_goes_38 : decode cX4_goes 38 = .ok (.invokestatic 38, 3) := dk_184 0 38 (dk_at dksX4_goes_1 16 rfl rfl)
theorem dX4_goes_41 : decode cX4_goes 41 = .ok (.aload_n 0, 1) := dk_42 (dk_at dksX4_goes_1 19 rfl rfl)
theorem dX4_goes_42 : decode cX4_goes 42 = .ok (.getfield 3, 3) := dk_180 0 3 (dk_at dksX4_goes_1 20 rfl rfl)
theorem dX4_goes_45 : decode cX4_goes 45 = .ok (.getfield 44, 3) := dk_180 0 44 (dk_at dksX4_goes_2 0 rfl rfl)
theorem dX4_goes_48 : decode cX4_goes 48 = .ok (.getfield 48, 3) := dk_180 0 48 (dk_at dksX4_goes_2 3 rfl rfl)
theorem dX4_goes_51 : decode cX4_goes 51 = .ok (.iload_n 1, 1) := dk_27 (dk_at dksX4_goes_2 6 rfl rfl)
theorem dX4_goes_52 : decode cX4_goes 52 = .ok (.invokestatic 53, 3) := dk_184 0 53 (dk_at dksX4_goes_2 7 rfl rfl)
theorem dX4_goes_55 : decode cX4_goes 55 = .ok (.ifCond .eq 8, 3) := dk_153 0 8 (dk_at dksX4_goes_2 10 rfl rfl)
theorem dX4_goes_58 : decode cX4_goes 58 = .ok (.bipush 11, 2) := dk_16 11 (dk_at dksX4_goes_2 13 rfl rfl)
theorem dX4_goes_60 : decode cX4_goes 60 = .ok (.goto 4, 3) := dk_167 0 4 (dk_at dksX4_goes_2 15 rfl rfl)
theorem dX4_goes_63 : decode cX4_goes 63 = .ok (.iload_n 1, 1) := dk_27 (dk_at dksX4_goes_2 18 rfl rfl)
theorem dX4_goes_64 : decode cX4_goes 64 = .ok (.istore 4, 2) := dk_54 4 (dk_at dksX4_goes_2 19 rfl rfl)
theorem dX4_goes_66 : decode cX4_goes 66 = .ok (.iconst 0, 1) := dk_3 (dk_at dksX4_goes_2 21 rfl rfl)
theorem dX4_goes_67 : decode cX4_goes 67 = .ok (.istore 5, 2) := dk_54 5 (dk_at dksX4_goes_2 22 rfl rfl)
theorem dX4_goes_69 : decode cX4_goes 69 = .ok (.aload_n 0, 1) := dk_42 (dk_at dksX4_goes_3 0 rfl rfl)
theorem dX4_goes_70 : decode cX4_goes 70 = .ok (.iload_n 2, 1) := dk_28 (dk_at dksX4_goes_3 1 rfl rfl)
theorem dX4_goes_71 : decode cX4_goes 71 = .ok (.putfield 57, 3) := dk_181 0 57 (dk_at dksX4_goes_3 2 rfl rfl)
theorem dX4_goes_74 : decode cX4_goes 74 = .ok (.iload_n 2, 1) := dk_28 (dk_at dksX4_goes_3 5 rfl rfl)
theorem dX4_goes_75 : decode cX4_goes 75 = .ok (.istore 6, 2) := dk_54 6 (dk_at dksX4_goes_3 6 rfl rfl)
theorem dX4_goes_77 : decode cX4_goes 77 = .ok (.iload 6, 2) := dk_21 6 (dk_at dksX4_goes_3 8 rfl rfl)
theorem dX4_goes_79 : decode cX4_goes 79 = .ok (.bipush 60, 2) := dk_16 60 (dk_at dksX4_goes_3 10 rfl rfl)
theorem dX4_goes_81 : decode cX4_goes 81 = .ok (.if_icmp .gt 273, 3) := dk_163 1 17 (dk_at dksX4_goes_3 12 rfl rfl)
theorem dX4_goes_84 : decode cX4_goes 84 = .ok (.aload_n 0, 1) := dk_42 (dk_at dksX4_goes_3 15 rfl rfl)
theorem dX4_goes_85 : decode cX4_goes 85 = .ok (.getfield 15, 3) := dk_180 0 15 (dk_at dksX4_goes_3 16 rfl rfl)
theorem dX4_goes_88 : decode cX4_goes 88 = .ok (.iload 6, 2) := dk_21 6 (dk_at dksX4_goes_3 19 rfl rfl)
theorem dX4_goes_90 : decode cX4_goes 90 = .ok (.iload 4, 2) := dk_21 4 (dk_at dksX4_goes_3 21 rfl rfl)
theorem dX4_goes_92 : decode cX4_goes 92 = .ok (.iastore, 1) := dk_79 (dk_at dksX4_goes_3 23 rfl rfl)
theorem dX4_goes_93 : decode cX4_goes 93 = .ok (.iload 4, 2) := dk_21 4 (dk_at dksX4_goes_4 0 rfl rfl)
theorem dX4_goes_95 : decode cX4_goes 95 = .ok (.bipush 10, 2) := dk_16 10 (dk_at dksX4_goes_4 2 rfl rfl)
theorem dX4_goes_97 : decode cX4_goes 97 = .ok (.if_icmp .lt 6, 3) := dk_161 0 6 (dk_at dksX4_goes_4 4 rfl rfl)
theorem dX4_goes_100 : decode cX4_goes 100 = .ok (.goto 248, 3) := dk_167 0 248 (dk_at dksX4_goes_4 7 rfl rfl)
theorem dX4_goes_103 : decode cX4_goes 103 = .ok (.aload_n 0, 1) := dk_42 (dk_at dksX4_goes_4 10 rfl rfl)
theorem dX4_goes_104 : decode cX4_goes 104 = .ok (.iload 6, 2) := dk_21 6 (dk_at dksX4_goes_4 11 rfl rfl)
theorem dX4_goes_106 : decode cX4_goes 106 = .ok (.invokevirtual 60, 3) := dk_182 0 60 (dk_at dksX4_goes_4 13 rfl rfl)
theorem dX4_goes_109 : decode cX4_goes 109 = .ok (.ifCond .eq 26, 3) := dk_153 0 26 (dk_at dksX4_goes_4 16 rfl rfl)
theorem dX4_goes_112 : decode cX4_goes 112 = .ok (.iload_n 3, 1) := dk_29 (dk_at dksX4_goes_4 19 rfl rfl)
theorem dX4_goes_113 : decode cX4_goes 113 = .ok (.iload 4, 2) := dk_21 4 (dk_at dksX4_goes_4 20 rfl rfl)
theorem dX4_goes_115 : decode cX4_goes 115 = .ok (.invokestatic 53, 3) := dk_184 0 53 (dk_at dksX4_goes_5 0 rfl rfl)
theorem dX4_goes_118 : decode cX4_goes 118 = .ok (.ifCond .eq 17, 3) := dk_153 0 17 (dk_at dksX4_goes_5 3 rfl rfl)
theorem dX4_goes_121 : decode cX4_goes 121 = .ok (.aload_n 0, 1) := dk_42 (dk_at dksX4_goes_5 6 rfl rfl)
theorem dX4_goes_122 : decode cX4_goes 122 = .ok (.getfield 35, 3) := dk_180 0 35 (dk_at dksX4_goes_5 7 rfl rfl)
theorem dX4_goes_125 : decode cX4_goes 125 = .ok (.iconst (-1), 1) := dk_2 (dk_at dksX4_goes_5 10 rfl rfl)
theorem dX4_goes_126 : decode cX4_goes 126 = .ok (.if_icmp .ne 9, 3) := dk_160 0 9 (dk_at dksX4_goes_5 11 rfl rfl)
theorem dX4_goes_129 : decode cX4_goes 129 = .ok (.aload_n 0, 1) := dk_42 (dk_at dksX4_goes_5 14 rfl rfl)
theorem dX4_goes_130 : decode cX4_goes 130 = .ok (.iload 6, 2) := dk_21 6 (dk_at dksX4_goes_5 15 rfl rfl)
theorem dX4_goes_132 : decode cX4_goes 132 = .ok (.putfield 35, 3) := dk_181 0 35 (dk_at dksX4_goes_5 17 rfl rfl)
theorem dX4_goes_135 : decode cX4_goes 135 = .ok (.iload_n 3, 1) := dk_29 (dk_at dksX4_goes_5 20 rfl rfl)
theorem dX4_goes_136 : decode cX4_goes 136 = .ok (.iconst 1, 1) := dk_4 (dk_at dksX4_goes_5 21 rfl rfl)
theorem dX4_goes_137 : decode cX4_goes 137 = .ok (.iload 4, 2) := dk_21 4 (dk_at dksX4_goes_5 22 rfl rfl)
theorem dX4_goes_139 : decode cX4_goes 139 = .ok (.ishl, 1) := dk_120 (dk_at dksX4_goes_6 0 rfl rfl)
theorem dX4_goes_140 : decode cX4_goes 140 = .ok (.ior, 1) := dk_128 (dk_at dksX4_goes_6 1 rfl rfl)
theorem dX4_goes_141 : decode cX4_goes 141 = .ok (.istore_n 3, 1) := dk_62 (dk_at dksX4_goes_6 2 rfl rfl)
theorem dX4_goes_142 : decode cX4_goes 142 = .ok (.aload_n 0, 1) := dk_42 (dk_at dksX4_goes_6 3 rfl rfl)
theorem dX4_goes_143 : decode cX4_goes 143 = .ok (.getfield 3, 3) := dk_180 0 3 (dk_at dksX4_goes_6 4 rfl rfl)
theorem dX4_goes_146 : decode cX4_goes 146 = .ok (.getfield 44, 3) := dk_180 0 44 (dk_at dksX4_goes_6 7 rfl rfl)
theorem dX4_goes_149 : decode cX4_goes 149 = .ok (.iload 4, 2) := dk_21 4 (dk_at dksX4_goes_6 10 rfl rfl)
theorem dX4_goes_151 : decode cX4_goes 151 = .ok (.iload 6, 2) := dk_21 6 (dk_at dksX4_goes_6 12 rfl rfl)
theorem dX4_goes_153 : decode cX4_goes 153 = .ok (.invokevirtual 64, 3) := dk_182 0 64 (dk_at dksX4_goes_6 14 rfl rfl)
theorem dX4_goes_156 : decode cX4_goes 156 = .ok (.ifCond .eq 16, 3) := dk_153 0 16 (dk_at dksX4_goes_6 17 rfl rfl)
theorem dX4_goes_159 : decode cX4_goes 159 = .ok (.aload_n 0, 1) := dk_42 (dk_at dksX4_goes_6 20 rfl rfl)
theorem dX4_goes_160 : decode cX4_goes 160 = .ok (.dup, 1) := dk_89 (dk_at dksX4_goes_6 21 rfl rfl)
theorem dX4_goes_161 : decode cX4_goes 161 = .ok (.getfield 29, 3) := dk_180 0 29 (dk_at dksX4_goes_7 0 rfl rfl)
theorem dX4_goes_164 : decode cX4_goes 164 = .ok (.iconst 1, 1) := dk_4 (dk_at dksX4_goes_7 3 rfl rfl)
theorem dX4_goes_165 : decode cX4_goes 165 = .ok (.iadd, 1) := dk_96 (dk_at dksX4_goes_7 4 rfl rfl)
theorem dX4_goes_166 : decode cX4_goes 166 = .ok (.putfield 29, 3) := dk_181 0 29 (dk_at dksX4_goes_7 5 rfl rfl)
theorem dX4_goes_169 : decode cX4_goes 169 = .ok (.goto 179, 3) := dk_167 0 179 (dk_at dksX4_goes_7 8 rfl rfl)
theorem dX4_goes_172 : decode cX4_goes 172 = .ok (.iinc 5 1, 3) := dk_132 5 1 (dk_at dksX4_goes_7 11 rfl rfl)
theorem dX4_goes_175 : decode cX4_goes 175 = .ok (.iload 5, 2) := dk_21 5 (dk_at dksX4_goes_7 14 rfl rfl)
theorem dX4_goes_177 : decode cX4_goes 177 = .ok (.aload_n 0, 1) := dk_42 (dk_at dksX4_goes_7 16 rfl rfl)
theorem dX4_goes_178 : decode cX4_goes 178 = .ok (.getfield 3, 3) := dk_180 0 3 (dk_at dksX4_goes_7 17 rfl rfl)
theorem dX4_goes_181 : decode cX4_goes 181 = .ok (.iload 4, 2) := dk_21 4 (dk_at dksX4_goes_7 20 rfl rfl)
theorem dX4_goes_183 : decode cX4_goes 183 = .ok (.invokevirtual 67, 3) := dk_182 0 67 (dk_at dksX4_goes_8 0 rfl rfl)
theorem dX4_goes_186 : decode cX4_goes 186 = .ok (.getfield 71, 3) := dk_180 0 71 (dk_at dksX4_goes_8 3 rfl rfl)
theorem dX4_goes_189 : decode cX4_goes 189 = .ok (.if_icmp .ge 6, 3) := dk_162 0 6 (dk_at dksX4_goes_8 6 rfl rfl)
theorem dX4_goes_192 : decode cX4_goes 192 = .ok (.goto 156, 3) := dk_167 0 156 (dk_at dksX4_goes_8 9 rfl rfl)
theorem dX4_goes_195 : decode cX4_goes 195 = .ok (.aload_n 0, 1) := dk_42 (dk_at dksX4_goes_8 12 rfl rfl)
theorem dX4_goes_196 : decode cX4_goes 196 = .ok (.getfield 3, 3) := dk_180 0 3 (dk_at dksX4_goes_8 13 rfl rfl)
theorem dX4_goes_199 : decode cX4_goes 199 = .ok (.getfield 44, 3) := dk_180 0 44 (dk_at dksX4_goes_8 16 rfl rfl)
theorem dX4_goes_202 : decode cX4_goes 202 = .ok (.iload 4, 2) := dk_21 4 (dk_at dksX4_goes_8 19 rfl rfl)
theorem dX4_goes_204 : decode cX4_goes 204 = .ok (.iload 6, 2) := dk_21 6 (dk_at dksX4_goes_8 21 rfl rfl)
theorem dX4_goes_206 : decode cX4_goes 206 = .ok (.invokevirtual 76, 3) := dk_182 0 76 (dk_at dksX4_goes_9 0 rfl rfl)
theorem dX4_goes_209 : decode cX4_goes 209 = .ok (.istore 7, 2) := dk_54 7 (dk_at dksX4_goes_9 3 rfl rfl)
theorem dX4_goes_211 : decode cX4_goes 211 = .ok (.iload 7, 2) := dk_21 7 (dk_at dksX4_goes_9 5 rfl rfl)
theorem dX4_goes_213 : decode cX4_goes 213 = .ok (.iconst (-1), 1) := dk_2 (dk_at dksX4_goes_9 7 rfl rfl)
theorem dX4_goes_214 : decode cX4_goes 214 = .ok (.if_icmp .ne 18, 3) := dk_160 0 18 (dk_at dksX4_goes_9 8 rfl rfl)
theorem dX4_goes_217 : decode cX4_goes 217 = .ok (.aload_n 0, 1) := dk_42 (dk_at dksX4_goes_9 11 rfl rfl)
theorem dX4_goes_218 : decode cX4_goes 218 = .ok (.getfield 3, 3) := dk_180 0 3 (dk_at dksX4_goes_9 12 rfl rfl)
theorem dX4_goes_221 : decode cX4_goes 221 = .ok (.iload 4, 2) := dk_21 4 (dk_at dksX4_goes_9 15 rfl rfl)
theorem dX4_goes_223 : decode cX4_goes 223 = .ok (.invokevirtual 67, 3) := dk_182 0 67 (dk_at dksX4_goes_9 17 rfl rfl)
theorem dX4_goes_226 : decode cX4_goes 226 = .ok (.getfield 80, 3) := dk_180 0 80 (dk_at dksX4_goes_9 20 rfl rfl)
theorem dX4_goes_229 : decode cX4_goes 229 = .ok (.goto 15, 3) := dk_167 0 15 (dk_at dksX4_goes_10 0 rfl rfl)
theorem dX4_goes_232 : decode cX4_goes 232 = .ok (.aload_n 0, 1) := dk_42 (dk_at dksX4_goes_10 3 rfl rfl)
theorem dX4_goes_233 : decode cX4_goes 233 = .ok (.getfield 3, 3) := dk_180 0 3 (dk_at dksX4_goes_10 4 rfl rfl)
theorem dX4_goes_236 : decode cX4_goes 236 = .ok (.iload 7, 2) := dk_21 7 (dk_at dksX4_goes_10 7 rfl rfl)
theorem dX4_goes_238 : decode cX4_goes 238 = .ok (.invokevirtual 83, 3) := dk_182 0 83 (dk_at dksX4_goes_10 9 rfl rfl)
theorem dX4_goes_241 : decode cX4_goes 241 = .ok (.getfield 87, 3) := dk_180 0 87 (dk_at dksX4_goes_10 12 rfl rfl)
theorem dX4_goes_244 : decode cX4_goes 244 = .ok (.istore 8, 2) := dk_54 8 (dk_at dksX4_goes_10 15 rfl rfl)
theorem dX4_goes_246 : decode cX4_goes 246 = .ok (.aload_n 0, 1) := dk_42 (dk_at dksX4_goes_10 17 rfl rfl)
theorem dX4_goes_247 : decode cX4_goes 247 = .ok (.dup, 1) := dk_89 (dk_at dksX4_goes_10 18 rfl rfl)
theorem dX4_goes_248 : decode cX4_goes 248 = .ok (.getfield 23, 3) := dk_180 0 23 (dk_at dksX4_goes_10 19 rfl rfl)
theorem dX4_goes_251 : decode cX4_goes 251 = .ok (.iconst 1, 1) := dk_4 (dk_at dksX4_goes_10 22 rfl rfl)
theorem dX4_goes_252 : decode cX4_goes 252 = .ok (.iadd, 1) := dk_96 (dk_at dksX4_goes_10 23 rfl rfl)
theorem dX4_goes_253 : decode cX4_goes 253 = .ok (.putfield 23, 3) := dk_181 0 23 (dk_at dksX4_goes_11 0 rfl rfl)
theorem dX4_goes_256 : decode cX4_goes 256 = .ok (.aload_n 0, 1) := dk_42 (dk_at dksX4_goes_11 3 rfl rfl)
theorem dX4_goes_257 : decode cX4_goes 257 = .ok (.dup, 1) := dk_89 (dk_at dksX4_goes_11 4 rfl rfl)
theorem dX4_goes_258 : decode cX4_goes 258 = .ok (.getfield 26, 3) := dk_180 0 26 (dk_at dksX4_goes_11 5 rfl rfl)
theorem dX4_goes_261 : decode cX4_goes 261 = .ok (.iload 7, 2) := dk_21 7 (dk_at dksX4_goes_11 8 rfl rfl)
theorem dX4_goes_263 : decode cX4_goes 263 = .ok (.iconst (-1), 1) := dk_2 (dk_at dksX4_goes_11 10 rfl rfl)
theorem dX4_goes_264 : decode cX4_goes 264 = .ok (.if_icmp .ne 7, 3) := dk_160 0 7 (dk_at dksX4_goes_11 11 rfl rfl)
theorem dX4_goes_267 : decode cX4_goes 267 = .ok (.iconst 0, 1) := dk_3 (dk_at dksX4_goes_11 14 rfl rfl)
theorem dX4_goes_268 : decode cX4_goes 268 = .ok (.goto 4, 3) := dk_167 0 4 (dk_at dksX4_goes_11 15 rfl rfl)
theorem dX4_goes_271 : decode cX4_goes 271 = .ok (.iconst 1, 1) := dk_4 (dk_at dksX4_goes_11 18 rfl rfl)
theorem dX4_goes_272 : decode cX4_goes 272 = .ok (.iadd, 1) := dk_96 (dk_at dksX4_goes_11 19 rfl rfl)
theorem dX4_goes_273 : decode cX4_goes 273 = .ok (.putfield 26, 3) := dk_181 0 26 (dk_at dksX4_goes_11 20 rfl rfl)
theorem dX4_goes_276 : decode cX4_goes 276 = .ok (.aload_n 0, 1) := dk_42 (dk_at dksX4_goes_11 23 rfl rfl)
theorem dX4_goes_277 : decode cX4_goes 277 = .ok (.dup, 1) := dk_89 (dk_at dksX4_goes_12 0 rfl rfl)
theorem dX4_goes_278 : decode cX4_goes 278 = .ok (.getfield 32, 3) := dk_180 0 32 (dk_at dksX4_goes_12 1 rfl rfl)
theorem dX4_goes_281 : decode cX4_goes 281 = .ok (.iload 7, 2) := dk_21 7 (dk_at dksX4_goes_12 4 rfl rfl)
theorem dX4_goes_283 : decode cX4_goes 283 = .ok (.iconst (-1), 1) := dk_2 (dk_at dksX4_goes_12 6 rfl rfl)
theorem dX4_goes_284 : decode cX4_goes 284 = .ok (.if_icmp .ne 7, 3) := dk_160 0 7 (dk_at dksX4_goes_12 7 rfl rfl)
theorem dX4_goes_287 : decode cX4_goes 287 = .ok (.iconst 0, 1) := dk_3 (dk_at dksX4_goes_12 10 rfl rfl)
theorem dX4_goes_288 : decode cX4_goes 288 = .ok (.goto 7, 3) := dk_167 0 7 (dk_at dksX4_goes_12 11 rfl rfl)
theorem dX4_goes_291 : decode cX4_goes 291 = .ok (.iconst 1, 1) := dk_4 (dk_at dksX4_goes_12 14 rfl rfl)
theorem dX4_goes_292 : decode cX4_goes 292 = .ok (.iload 7, 2) := dk_21 7 (dk_at dksX4_goes_12 15 rfl rfl)
theorem dX4_goes_294 : decode cX4_goes 294 = .ok (.ishl, 1) := dk_120 (dk_at dksX4_goes_12 17 rfl rfl)
theorem dX4_goes_295 : decode cX4_goes 295 = .ok (.ior, 1) := dk_128 (dk_at dksX4_goes_12 18 rfl rfl)
theorem dX4_goes_296 : decode cX4_goes 296 = .ok (.putfield 32, 3) := dk_181 0 32 (dk_at dksX4_goes_12 19 rfl rfl)
theorem dX4_goes_299 : decode cX4_goes 299 = .ok (.aload_n 0, 1) := dk_42 (dk_at dksX4_goes_12 22 rfl rfl)
theorem dX4_goes_300 : decode cX4_goes 300 = .ok (.iload 6, 2) := dk_21 6 (dk_at dksX4_goes_13 0 rfl rfl)
theorem dX4_goes_302 : decode cX4_goes 302 = .ok (.iconst 1, 1) := dk_4 (dk_at dksX4_goes_13 2 rfl rfl)
theorem dX4_goes_303 : decode cX4_goes 303 = .ok (.iadd, 1) := dk_96 (dk_at dksX4_goes_13 3 rfl rfl)
theorem dX4_goes_304 : decode cX4_goes 304 = .ok (.putfield 57, 3) := dk_181 0 57 (dk_at dksX4_goes_13 4 rfl rfl)
theorem dX4_goes_307 : decode cX4_goes 307 = .ok (.iload 8, 2) := dk_21 8 (dk_at dksX4_goes_13 7 rfl rfl)
theorem dX4_goes_309 : decode cX4_goes 309 = .ok (.iconst (-1), 1) := dk_2 (dk_at dksX4_goes_13 9 rfl rfl)
theorem dX4_goes_310 : decode cX4_goes 310 = .ok (.if_icmp .ne 8, 3) := dk_160 0 8 (dk_at dksX4_goes_13 10 rfl rfl)
theorem dX4_goes_313 : decode cX4_goes 313 = .ok (.bipush 10, 2) := dk_16 10 (dk_at dksX4_goes_13 13 rfl rfl)
theorem dX4_goes_315 : decode cX4_goes 315 = .ok (.goto 28, 3) := dk_167 0 28 (dk_at dksX4_goes_13 15 rfl rfl)
theorem dX4_goes_318 : decode cX4_goes 318 = .ok (.aload_n 0, 1) := dk_42 (dk_at dksX4_goes_13 18 rfl rfl)
theorem dX4_goes_319 : decode cX4_goes 319 = .ok (.getfield 3, 3) := dk_180 0 3 (dk_at dksX4_goes_13 19 rfl rfl)
theorem dX4_goes_322 : decode cX4_goes 322 = .ok (.getfield 44, 3) := dk_180 0 44 (dk_at dksX4_goes_14 0 rfl rfl)
theorem dX4_goes_325 : decode cX4_goes 325 = .ok (.getfield 48, 3) := dk_180 0 48 (dk_at dksX4_goes_14 3 rfl rfl)
theorem dX4_goes_328 : decode cX4_goes 328 = .ok (.iload 8, 2) := dk_21 8 (dk_at dksX4_goes_14 6 rfl rfl)
theorem dX4_goes_330 : decode cX4_goes 330 = .ok (.invokestatic 53, 3) := dk_184 0 53 (dk_at dksX4_goes_14 8 rfl rfl)
theorem dX4_goes_333 : decode cX4_goes 333 = .ok (.ifCond .eq 8, 3) := dk_153 0 8 (dk_at dksX4_goes_14 11 rfl rfl)
theorem dX4_goes_336 : decode cX4_goes 336 = .ok (.bipush 11, 2) := dk_16 11 (dk_at dksX4_goes_14 14 rfl rfl)
theorem dX4_goes_338 : decode cX4_goes 338 = .ok (.goto 5, 3) := dk_167 0 5 (dk_at dksX4_goes_14 16 rfl rfl)
theorem dX4_goes_341 : decode cX4_goes 341 = .ok (.iload 8, 2) := dk_21 8 (dk_at dksX4_goes_14 19 rfl rfl)
theorem dX4_goes_343 : decode cX4_goes 343 = .ok (.istore 4, 2) := dk_54 4 (dk_at dksX4_goes_14 21 rfl rfl)
theorem dX4_goes_345 : decode cX4_goes 345 = .ok (.iconst 0, 1) := dk_3 (dk_at dksX4_goes_14 23 rfl rfl)
theorem dX4_goes_346 : decode cX4_goes 346 = .ok (.istore 5, 2) := dk_54 5 (dk_at dksX4_goes_15 0 rfl rfl)
theorem dX4_goes_348 : decode cX4_goes 348 = .ok (.iinc 6 1, 3) := dk_132 6 1 (dk_at dksX4_goes_15 2 rfl rfl)
theorem dX4_goes_351 : decode cX4_goes 351 = .ok (.goto (-274), 3) := dk_167 254 238 (dk_at dksX4_goes_15 5 rfl rfl)
theorem dX4_goes_354 : decode cX4_goes 354 = .ok (.aload_n 0, 1) := dk_42 (dk_at dksX4_goes_15 8 rfl rfl)
theorem dX4_goes_355 : decode cX4_goes 355 = .ok (.areturn, 1) := dk_176 (dk_at dksX4_goes_15 9 rfl rfl)
abbrev cX4_isNew : ByteArray := prog_11_method_3_code
def yX4_isNew : MethodName := ⟨RX4, "isNew", "(I)Z"⟩
def dkwX4_isNew_0 : List UInt8 := [27, 42, 180, 0, 57, 160, 0, 7, 4, 167, 0, 4, 3, 172]
abbrev dktX4_isNew_0 : List UInt8 := dkwX4_isNew_0 ++ []
theorem dksX4_isNew_0 : cX4_isNew.data.toList.drop 0 = dktX4_isNew_0 := by decide +kernel
theorem dX4_isNew_0 : decode cX4_isNew 0 = .ok (.iload_n 1, 1) := dk_27 (dk_at dksX4_isNew_0 0 rfl rfl)
theorem dX4_isNew_1 : decode cX4_isNew 1 = .ok (.aload_n 0, 1) := dk_42 (dk_at dksX4_isNew_0 1 rfl rfl)
theorem dX4_isNew_2 : decode cX4_isNew 2 = .ok (.getfield 57, 3) := dk_180 0 57 (dk_at dksX4_isNew_0 2 rfl rfl)
theorem dX4_isNew_5 : decode cX4_isNew 5 = .ok (.if_icmp .ne 7, 3) := dk_160 0 7 (dk_at dksX4_isNew_0 5 rfl rfl)
theorem dX4_isNew_8 : decode cX4_isNew 8 = .ok (.iconst 1, 1) := dk_4 (dk_at dksX4_isNew_0 8 rfl rfl)
theorem dX4_isNew_9 : decode cX4_isNew 9 = .ok (.goto 4, 3) := dk_167 0 4 (dk_at dksX4_isNew_0 9 rfl rfl)
theorem dX4_isNew_12 : decode cX4_isNew 12 = .ok (.iconst 0, 1) := dk_3 (dk_at dksX4_isNew_0 12 rfl rfl)
theorem dX4_isNew_13 : decode cX4_isNew 13 = .ok (.ireturn, 1) := dk_172 (dk_at dksX4_isNew_0 13 rfl rfl)
abbrev cX4_way : ByteArray := prog_11_method_5_code
def yX4_way : MethodName := ⟨RX4, "way", "()I"⟩
def dkwX4_way_2 : List UInt8 := [172]
abbrev dktX4_way_2 : List UInt8 := dkwX4_way_2 ++ []
def dkwX4_way_1 : List UInt8 := [162, 0, 14, 4, 42, 180, 0, 15, 28, 46, 120, 167, 0, 4, 3, 128, 60, 132, 2, 1, 167, 255, 221, 27]
abbrev dktX4_way_1 : List UInt8 := dkwX4_way_1 ++ dktX4_way_2
def dkwX4_way_0 : List UInt8 := [3, 60, 42, 180, 0, 19, 61, 28, 16, 60, 163, 0, 35, 27, 42, 180, 0, 15, 28, 46, 16, 10]
abbrev dktX4_way_0 : List UInt8 := dkwX4_way_0 ++ dktX4_way_1
theorem dksX4_way_0 : cX4_way.data.toList.drop 0 = dktX4_way_0 := by decide +kernel
theorem dksX4_way_1 : cX4_way.data.toList.drop 22 = dktX4_way_1 := dk_seg dksX4_way_0 22 rfl rfl
theorem dksX4_way_2 : cX4_way.data.toList.drop 46 = dktX4_way_2 := dk_seg dksX4_way_1 24 rfl rfl
theorem dX4_way_0 : decode cX4_way 0 = .ok (.iconst 0, 1) := dk_3 (dk_at dksX4_way_0 0 rfl rfl)
theorem dX4_way_1 : decode cX4_way 1 = .ok (.istore_n 1, 1) := dk_60 (dk_at dksX4_way_0 1 rfl rfl)
theorem dX4_way_2 : decode cX4_way 2 = .ok (.aload_n 0, 1) := dk_42 (dk_at dksX4_way_0 2 rfl rfl)
theorem dX4_way_3 : decode cX4_way 3 = .ok (.getfield 19, 3) := dk_180 0 19 (dk_at dksX4_way_0 3 rfl rfl)
theorem dX4_way_6 : decode cX4_way 6 = .ok (.istore_n 2, 1) := dk_61 (dk_at dksX4_way_0 6 rfl rfl)
theorem dX4_way_7 : decode cX4_way 7 = .ok (.iload_n 2, 1) := dk_28 (dk_at dksX4_way_0 7 rfl rfl)
theorem dX4_way_8 : decode cX4_way 8 = .ok (.bipush 60, 2) := dk_16 60 (dk_at dksX4_way_0 8 rfl rfl)
theorem dX4_way_10 : decode cX4_way 10 = .ok (.if_icmp .gt 35, 3) := dk_163 0 35 (dk_at dksX4_way_0 10 rfl rfl)
theorem dX4_way_13 : decode cX4_way 13 = .ok (.iload_n 1, 1) := dk_27 (dk_at dksX4_way_0 13 rfl rfl)
theorem dX4_way_14 : decode cX4_way 14 = .ok (.aload_n 0, 1) := dk_42 (dk_at dksX4_way_0 14 rfl rfl)
theorem dX4_way_15 : decode cX4_way 15 = .ok (.getfield 15, 3) := dk_180 0 15 (dk_at dksX4_way_0 15 rfl rfl)
theorem dX4_way_18 : decode cX4_way 18 = .ok (.iload_n 2, 1) := dk_28 (dk_at dksX4_way_0 18 rfl rfl)
theorem dX4_way_19 : decode cX4_way 19 = .ok (.iaload, 1) := dk_46 (dk_at dksX4_way_0 19 rfl rfl)
theorem dX4_way_20 : decode cX4_way 20 = .ok (.bipush 10, 2) := dk_16 10 (dk_at dksX4_way_0 20 rfl rfl)
theorem dX4_way_22 : decode cX4_way 22 = .ok (.if_icmp .ge 14, 3) := dk_162 0 14 (dk_at dksX4_way_1 0 rfl rfl)
theorem dX4_way_25 : decode cX4_way 25 = .ok (.iconst 1, 1) := dk_4 (dk_at dksX4_way_1 3 rfl rfl)
theorem dX4_way_26 : decode cX4_way 26 = .ok (.aload_n 0, 1) := dk_42 (dk_at dksX4_way_1 4 rfl rfl)
theorem dX4_way_27 : decode cX4_way 27 = .ok (.getfield 15, 3) := dk_180 0 15 (dk_at dksX4_way_1 5 rfl rfl)
theorem dX4_way_30 : decode cX4_way 30 = .ok (.iload_n 2, 1) := dk_28 (dk_at dksX4_way_1 8 rfl rfl)
theorem dX4_way_31 : decode cX4_way 31 = .ok (.iaload, 1) := dk_46 (dk_at dksX4_way_1 9 rfl rfl)
theorem dX4_way_32 : decode cX4_way 32 = .ok (.ishl, 1) := dk_120 (dk_at dksX4_way_1 10 rfl rfl)
theorem dX4_way_33 : decode cX4_way 33 = .ok (.goto 4, 3) := dk_167 0 4 (dk_at dksX4_way_1 11 rfl rfl)
theorem dX4_way_36 : decode cX4_way 36 = .ok (.iconst 0, 1) := dk_3 (dk_at dksX4_way_1 14 rfl rfl)
theorem dX4_way_37 : decode cX4_way 37 = .ok (.ior, 1) := dk_128 (dk_at dksX4_way_1 15 rfl rfl)
theorem dX4_way_38 : decode cX4_way 38 = .ok (.istore_n 1, 1) := dk_60 (dk_at dksX4_way_1 16 rfl rfl)
theorem dX4_way_39 : decode cX4_way 39 = .ok (.iinc 2 1, 3) := dk_132 2 1 (dk_at dksX4_way_1 17 rfl rfl)
theorem dX4_way_42 : decode cX4_way 42 = .ok (.goto (-35), 3) := dk_167 255 221 (dk_at dksX4_way_1 20 rfl rfl)
theorem dX4_way_45 : decode cX4_way 45 = .ok (.iload_n 1, 1) := dk_27 (dk_at dksX4_way_1 23 rfl rfl)
theorem dX4_way_46 : decode cX4_way 46 = .ok (.ireturn, 1) := dk_172 (dk_at dksX4_way_2 0 rfl rfl)
abbrev cX4_first : ByteArray := prog_11_method_4_code
def yX4_first : MethodName := ⟨RX4, "first", "(I)I"⟩
def dkwX4_first_1 : List UInt8 := [132, 2, 1, 167, 255, 235, 2, 172]
abbrev dktX4_first_1 : List UInt8 := dkwX4_first_1 ++ []
def dkwX4_first_0 : List UInt8 := [42, 180, 0, 19, 61, 28, 16, 60, 163, 0, 21, 42, 180, 0, 15, 28, 46, 27, 160, 0, 5, 28, 172]
abbrev dktX4_first_0 : List UInt8 := dkwX4_first_0 ++ dktX4_first_1
theorem dksX4_first_0 : cX4_first.data.toList.drop 0 = dktX4_first_0 := by decide +kernel
theorem dksX4_first_1 : cX4_first.data.toList.drop 23 = dktX4_first_1 := dk_seg dksX4_first_0 23 rfl rfl
theorem dX4_first_0 : decode cX4_first 0 = .ok (.aload_n 0, 1) := dk_42 (dk_at dksX4_first_0 0 rfl rfl)
theorem dX4_first_1 : decode cX4_first 1 = .ok (.getfield 19, 3) := dk_180 0 19 (dk_at dksX4_first_0 1 rfl rfl)
theorem dX4_first_4 : decode cX4_first 4 = .ok (.istore_n 2, 1) := dk_61 (dk_at dksX4_first_0 4 rfl rfl)
theorem dX4_first_5 : decode cX4_first 5 = .ok (.iload_n 2, 1) := dk_28 (dk_at dksX4_first_0 5 rfl rfl)
theorem dX4_first_6 : decode cX4_first 6 = .ok (.bipush 60, 2) := dk_16 60 (dk_at dksX4_first_0 6 rfl rfl)
theorem dX4_first_8 : decode cX4_first 8 = .ok (.if_icmp .gt 21, 3) := dk_163 0 21 (dk_at dksX4_first_0 8 rfl rfl)
theorem dX4_first_11 : decode cX4_first 11 = .ok (.aload_n 0, 1) := dk_42 (dk_at dksX4_first_0 11 rfl rfl)
theorem dX4_first_12 : decode cX4_first 12 = .ok (.getfield 15, 3) := dk_180 0 15 (dk_at dksX4_first_0 12 rfl rfl)
theorem dX4_first_15 : decode cX4_first 15 = .ok (.iload_n 2, 1) := dk_28 (dk_at dksX4_first_0 15 rfl rfl)
theorem dX4_first_16 : decode cX4_first 16 = .ok (.iaload, 1) := dk_46 (dk_at dksX4_first_0 16 rfl rfl)
theorem dX4_first_17 : decode cX4_first 17 = .ok (.iload_n 1, 1) := dk_27 (dk_at dksX4_first_0 17 rfl rfl)
theorem dX4_first_18 : decode cX4_first 18 = .ok (.if_icmp .ne 5, 3) := dk_160 0 5 (dk_at dksX4_first_0 18 rfl rfl)
theorem dX4_first_21 : decode cX4_first 21 = .ok (.iload_n 2, 1) := dk_28 (dk_at dksX4_first_0 21 rfl rfl)
theorem dX4_first_22 : decode cX4_first 22 = .ok (.ireturn, 1) := dk_172 (dk_at dksX4_first_0 22 rfl rfl)
theorem dX4_first_23 : decode cX4_first 23 = .ok (.iinc 2 1, 3) := dk_132 2 1 (dk_at dksX4_first_1 0 rfl rfl)
theorem dX4_first_26 : decode cX4_first 26 = .ok (.goto (-21), 3) := dk_167 255 235 (dk_at dksX4_first_1 3 rfl rfl)
theorem dX4_first_29 : decode cX4_first 29 = .ok (.iconst (-1), 1) := dk_2 (dk_at dksX4_first_1 6 rfl rfl)
theorem dX4_first_30 : decode cX4_first 30 = .ok (.ireturn, 1) := dk_172 (dk_at dksX4_first_1 7 rfl rfl)

abbrev cX5_init : ByteArray := prog_9_method_1_code
def yX5_init : MethodName := ⟨RX5, "<init>", "(LQuotedRiver;)V"⟩
def dkwX5_init_0 : List UInt8 := [42, 43, 181, 0, 3, 42, 183, 0, 9, 42, 17, 3, 25, 188, 10, 181, 0, 15, 177]
abbrev dktX5_init_0 : List UInt8 := dkwX5_init_0 ++ []
theorem dksX5_init_0 : cX5_init.data.toList.drop 0 = dktX5_init_0 := by decide +kernel
theorem dX5_init_0 : decode cX5_init 0 = .ok (.aload_n 0, 1) := dk_42 (dk_at dksX5_init_0 0 rfl rfl)
theorem dX5_init_1 : decode cX5_init 1 = .ok (.aload_n 1, 1) := dk_43 (dk_at dksX5_init_0 1 rfl rfl)
theorem dX5_init_2 : decode cX5_init 2 = .ok (.putfield 3, 3) := dk_181 0 3 (dk_at dksX5_init_0 2 rfl rfl)
theorem dX5_init_5 : decode cX5_init 5 = .ok (.aload_n 0, 1) := dk_42 (dk_at dksX5_init_0 5 rfl rfl)
theorem dX5_init_6 : decode cX5_init 6 = .ok (.invokespecial 9, 3) := dk_183 0 9 (dk_at dksX5_init_0 6 rfl rfl)
theorem dX5_init_9 : decode cX5_init 9 = .ok (.aload_n 0, 1) := dk_42 (dk_at dksX5_init_0 9 rfl rfl)
theorem dX5_init_10 : decode cX5_init 10 = .ok (.sipush 793, 3) := dk_17 3 25 (dk_at dksX5_init_0 10 rfl rfl)
theorem dX5_init_13 : decode cX5_init 13 = .ok (.newarray .int, 2) := dk_188_10 (dk_at dksX5_init_0 13 rfl rfl)
theorem dX5_init_15 : decode cX5_init 15 = .ok (.putfield 15, 3) := dk_181 0 15 (dk_at dksX5_init_0 15 rfl rfl)
theorem dX5_init_18 : decode cX5_init 18 = .ok (.return_, 1) := dk_177 (dk_at dksX5_init_0 18 rfl rfl)
abbrev cX5_of : ByteArray := prog_9_method_2_code
def yX5_of : MethodName := ⟨RX5, "of", "(LQuotedRiver$Slot;)LQuotedRiver$Seen;"⟩
def dkwX5_of_4 : List UInt8 := [132, 2, 1, 167, 255, 196, 42, 182, 0, 66, 42, 176]
abbrev dktX5_of_4 : List UInt8 := dkwX5_of_4 ++ []
def dkwX5_of_3 : List UInt8 := [180, 0, 3, 43, 182, 0, 58, 153, 0, 9, 42, 28, 29, 182, 0, 62, 132, 3, 1, 167, 255, 215]
abbrev dktX5_of_3 : List UInt8 := dkwX5_of_3 ++ dktX5_of_4
def dkwX5_of_2 : List UInt8 := [3, 62, 29, 16, 60, 163, 0, 41, 42, 180, 0, 3, 180, 0, 48, 28, 29, 182, 0, 52, 198, 0, 20, 42]
abbrev dktX5_of_2 : List UInt8 := dkwX5_of_2 ++ dktX5_of_3
def dkwX5_of_1 : List UInt8 := [181, 0, 36, 42, 180, 0, 15, 3, 184, 0, 39, 3, 61, 28, 42, 180, 0, 3, 182, 0, 45, 162, 0, 55]
abbrev dktX5_of_1 : List UInt8 := dkwX5_of_1 ++ dktX5_of_2
def dkwX5_of_0 : List UInt8 := [42, 180, 0, 3, 180, 0, 19, 182, 0, 23, 87, 42, 3, 181, 0, 29, 42, 3, 181, 0, 33, 42, 2]
abbrev dktX5_of_0 : List UInt8 := dkwX5_of_0 ++ dktX5_of_1
theorem dksX5_of_0 : cX5_of.data.toList.drop 0 = dktX5_of_0 := by decide +kernel
theorem dksX5_of_1 : cX5_of.data.toList.drop 23 = dktX5_of_1 := dk_seg dksX5_of_0 23 rfl rfl
theorem dksX5_of_2 : cX5_of.data.toList.drop 47 = dktX5_of_2 := dk_seg dksX5_of_1 24 rfl rfl
theorem dksX5_of_3 : cX5_of.data.toList.drop 71 = dktX5_of_3 := dk_seg dksX5_of_2 24 rfl rfl
theorem dksX5_of_4 : cX5_of.data.toList.drop 93 = dktX5_of_4 := dk_seg dksX5_of_3 22 rfl rfl
theorem dX5_of_0 : decode cX5_of 0 = .ok (.aload_n 0, 1) := dk_42 (dk_at dksX5_of_0 0 rfl rfl)
theorem dX5_of_1 : decode cX5_of 1 = .ok (.getfield 3, 3) := dk_180 0 3 (dk_at dksX5_of_0 1 rfl rfl)
theorem dX5_of_4 : decode cX5_of 4 = .ok (.getfield 19, 3) := dk_180 0 19 (dk_at dksX5_of_0 4 rfl rfl)
theorem dX5_of_7 : decode cX5_of 7 = .ok (.invokevirtual 23, 3) := dk_182 0 23 (dk_at dksX5_of_0 7 rfl rfl)
theorem dX5_of_10 : decode cX5_of 10 = .ok (.pop, 1) := dk_87 (dk_at dksX5_of_0 10 rfl rfl)
theorem dX5_of_11 : decode cX5_of 11 = .ok (.aload_n 0, 1) := dk_42 (dk_at dksX5_of_0 11 rfl rfl)
theorem dX5_of_12 : decode cX5_of 12 = .ok (.iconst 0, 1) := dk_3 (dk_at dksX5_of_0 12 rfl rfl)
theorem dX5_of_13 : decode cX5_of 13 = .ok (.putfield 29, 3) := dk_181 0 29 (dk_at dksX5_of_0 13 rfl rfl)
theorem dX5_of_16 : decode cX5_of 16 = .ok (.aload_n 0, 1) := dk_42 (dk_at dksX5_of_0 16 rfl rfl)
theorem dX5_of_17 : decode cX5_of 17 = .ok (.iconst 0, 1) := dk_3 (dk_at dksX5_of_0 17 rfl rfl)
theorem dX5_of_18 : decode cX5_of 18 = .ok (.putfield 33, 3) := dk_181 0 33 (dk_at dksX5_of_0 18 rfl rfl)
theorem dX5_of_21 : decode cX5_of 21 = .ok (.aload_n 0, 1) := dk_42 (dk_at dksX5_of_0 21 rfl rfl)
theorem dX5_of_22 : decode cX5_of 22 = .ok (.iconst (-1), 1) := dk_2 (dk_at dksX5_of_0 22 rfl rfl)
theorem dX5_of_23 : decode cX5_of 23 = .ok (.putfield 36, 3) := dk_181 0 36 (dk_at dksX5_of_1 0 rfl rfl)
theorem dX5_of_26 : decode cX5_of 26 = .ok (.aload_n 0, 1) := dk_42 (dk_at dksX5_of_1 3 rfl rfl)
theorem dX5_of_27 : decode cX5_of 27 = .ok (.getfield 15, 3) := dk_180 0 15 (dk_at dksX5_of_1 4 rfl rfl)
theorem dX5_of_30 : decode cX5_of 30 = .ok (.iconst 0, 1) := dk_3 (dk_at dksX5_of_1 7 rfl rfl)
theorem dX5_of_31 : decode cX5_of 31 = .ok (.invokestatic 39, 3) := dk_184 0 39 (dk_at dksX5_of_1 8 rfl rfl)
theorem dX5_of_34 : decode cX5_of 34 = .ok (.iconst 0, 1) := dk_3 (dk_at dksX5_of_1 11 rfl rfl)
theorem dX5_of_35 : decode cX5_of 35 = .ok (.istore_n 2, 1) := dk_61 (dk_at dksX5_of_1 12 rfl rfl)
theorem dX5_of_36 : decode cX5_of 36 = .ok (.iload_n 2, 1) := dk_28 (dk_at dksX5_of_1 13 rfl rfl)
theorem dX5_of_37 : decode cX5_of 37 = .ok (.aload_n 0, 1) := dk_42 (dk_at dksX5_of_1 14 rfl rfl)
theorem dX5_of_38 : decode cX5_of 38 = .ok (.getfield 3, 3) := dk_180 0 3 (dk_at dksX5_of_1 15 rfl rfl)
theorem dX5_of_41 : decode cX5_of 41 = .ok (.invokevirtual 45, 3) := dk_182 0 45 (dk_at dksX5_of_1 18 rfl rfl)
theorem dX5_of_44 : decode cX5_of 44 = .ok (.if_icmp .ge 55, 3) := dk_162 0 55 (dk_at dksX5_of_1 21 rfl rfl)
theorem dX5_of_47 : decode cX5_of 47 = .ok (.iconst 0, 1) := dk_3 (dk_at dksX5_of_2 0 rfl rfl)
theorem dX5_of_48 : decode cX5_of 48 = .ok (.istore_n 3, 1) := dk_62 (dk_at dksX5_of_2 1 rfl rfl)
theorem dX5_of_49 : decode cX5_of 49 = .ok (.iload_n 3, 1) := dk_29 (dk_at dksX5_of_2 2 rfl rfl)
theorem dX5_of_50 : decode cX5_of 50 = .ok (.bipush 60, 2) := dk_16 60 (dk_at dksX5_of_2 3 rfl rfl)
theorem dX5_of_52 : decode cX5_of 52 = .ok (.if_icmp .gt 41, 3) := dk_163 0 41 (dk_at dksX5_of_2 5 rfl rfl)
theorem dX5_of_55 : decode cX5_of 55 = .ok (.aload_n 0, 1) := dk_42 (dk_at dksX5_of_2 8 rfl rfl)
theorem dX5_of_56 : decode cX5_of 56 = .ok (.getfield 3, 3) := dk_180 0 3 (dk_at dksX5_of_2 9 rfl rfl)
theorem dX5_of_59 : decode cX5_of 59 = .ok (.getfield 48, 3) := dk_180 0 48 (dk_at dksX5_of_2 12 rfl rfl)
theorem dX5_of_62 : decode cX5_of 62 = .ok (.iload_n 2, 1) := dk_28 (dk_at dksX5_of_2 15 rfl rfl)
theorem dX5_of_63 : decode cX5_of 63 = .ok (.iload_n 3, 1) := dk_29 (dk_at dksX5_of_2 16 rfl rfl)
theorem dX5_of_64 : decode cX5_of 64 = .ok (.invokevirtual 52, 3) := dk_182 0 52 (dk_at dksX5_of_2 17 rfl rfl)
theorem dX5_of_67 : decode cX5_of 67 = .ok (.ifnull 20, 3) := dk_198 0 20 (dk_at dksX5_of_2 20 rfl rfl)
theorem dX5_of_70 : decode cX5_of 70 = .ok (.aload_n 0, 1) := dk_42 (dk_at dksX5_of_2 23 rfl rfl)
theorem dX5_of_71 : decode cX5_of 71 = .ok (.getfield 3, 3) := dk_180 0 3 (dk_at dksX5_of_3 0 rfl rfl)
theorem dX5_of_74 : decode cX5_of 74 = .ok (.aload_n 1, 1) := dk_43 (dk_at dksX5_of_3 3 rfl rfl)
theorem dX5_of_75 : decode cX5_of 75 = .ok (.invokevirtual 58, 3) := dk_182 0 58 (dk_at dksX5_of_3 4 rfl rfl)
theorem dX5_of_78 : decode cX5_of 78 = .ok (.ifCond .eq 9, 3) := dk_153 0 9 (dk_at dksX5_of_3 7 rfl rfl)
theorem dX5_of_81 : decode cX5_of 81 = .ok (.aload_n 0, 1) := dk_42 (dk_at dksX5_of_3 10 rfl rfl)
theorem dX5_of_82 : decode cX5_of 82 = .ok (.iload_n 2, 1) := dk_28 (dk_at dksX5_of_3 11 rfl rfl)
theorem dX5_of_83 : decode cX5_of 83 = .ok (.iload_n 3, 1) := dk_29 (dk_at dksX5_of_3 12 rfl rfl)
theorem dX5_of_84 : decode cX5_of 84 = .ok (.invokevirtual 62, 3) := dk_182 0 62 (dk_at dksX5_of_3 13 rfl rfl)
theorem dX5_of_87 : decode cX5_of 87 = .ok (.iinc 3 1, 3) := dk_132 3 1 (dk_at dksX5_of_3 16 rfl rfl)
theorem dX5_of_90 : decode cX5_of 90 = .ok (.goto (-41), 3) := dk_167 255 215 (dk_at dksX5_of_3 19 rfl rfl)
theorem dX5_of_93 : decode cX5_of 93 = .ok (.iinc 2 1, 3) := dk_132 2 1 (dk_at dksX5_of_4 0 rfl rfl)
theorem dX5_of_96 : decode cX5_of 96 = .ok (.goto (-60), 3) := dk_167 255 196 (dk_at dksX5_of_4 3 rfl rfl)
theorem dX5_of_99 : decode cX5_of 99 = .ok (.aload_n 0, 1) := dk_42 (dk_at dksX5_of_4 6 rfl rfl)
theorem dX5_of_100 : decode cX5_of 100 = .ok (.invokevirtual 66, 3) := dk_182 0 66 (dk_at dksX5_of_4 7 rfl rfl)
theorem dX5_of_103 : decode cX5_of 103 = .ok (.aload_n 0, 1) := dk_42 (dk_at dksX5_of_4 10 rfl rfl)
theorem dX5_of_104 : decode cX5_of 104 = .ok (.areturn, 1) := dk_176 (dk_at dksX5_of_4 11 rfl rfl)
abbrev cX5_adds : ByteArray := prog_9_method_3_code
def yX5_adds : MethodName := ⟨RX5, "adds", "(II)V"⟩
def dkwX5_adds_3 : List UInt8 := [29, 46, 96, 92, 46, 4, 96, 79, 132, 3, 1, 167, 255, 221, 177]
abbrev dktX5_adds_3 : List UInt8 := dkwX5_adds_3 ++ []
def dkwX5_adds_2 : List UInt8 := [29, 16, 60, 163, 0, 35, 42, 180, 0, 15, 16, 13, 29, 104, 42, 180, 0, 3, 180, 0, 48, 180, 0, 69]
abbrev dktX5_adds_2 : List UInt8 := dkwX5_adds_2 ++ dktX5_adds_3
def dkwX5_adds_1 : List UInt8 := [42, 89, 180, 0, 29, 4, 96, 181, 0, 29, 42, 89, 180, 0, 33, 4, 27, 120, 128, 181, 0, 33, 3, 62]
abbrev dktX5_adds_1 : List UInt8 := dkwX5_adds_1 ++ dktX5_adds_2
def dkwX5_adds_0 : List UInt8 := [42, 42, 180, 0, 29, 154, 0, 12, 16, 100, 27, 104, 28, 96, 167, 0, 7, 42, 180, 0, 36, 181, 0, 36]
abbrev dktX5_adds_0 : List UInt8 := dkwX5_adds_0 ++ dktX5_adds_1
theorem dksX5_adds_0 : cX5_adds.data.toList.drop 0 = dktX5_adds_0 := by decide +kernel
theorem dksX5_adds_1 : cX5_adds.data.toList.drop 24 = dktX5_adds_1 := dk_seg dksX5_adds_0 24 rfl rfl
theorem dksX5_adds_2 : cX5_adds.data.toList.drop 48 = dktX5_adds_2 := dk_seg dksX5_adds_1 24 rfl rfl
theorem dksX5_adds_3 : cX5_adds.data.toList.drop 72 = dktX5_adds_3 := dk_seg dksX5_adds_2 24 rfl rfl
theorem dX5_adds_0 : decode cX5_adds 0 = .ok (.aload_n 0, 1) := dk_42 (dk_at dksX5_adds_0 0 rfl rfl)
theorem dX5_adds_1 : decode cX5_adds 1 = .ok (.aload_n 0, 1) := dk_42 (dk_at dksX5_adds_0 1 rfl rfl)
theorem dX5_adds_2 : decode cX5_adds 2 = .ok (.getfield 29, 3) := dk_180 0 29 (dk_at dksX5_adds_0 2 rfl rfl)
theorem dX5_adds_5 : decode cX5_adds 5 = .ok (.ifCond .ne 12, 3) := dk_154 0 12 (dk_at dksX5_adds_0 5 rfl rfl)
theorem dX5_adds_8 : decode cX5_adds 8 = .ok (.bipush 100, 2) := dk_16 100 (dk_at dksX5_adds_0 8 rfl rfl)
theorem dX5_adds_10 : decode cX5_adds 10 = .ok (.iload_n 1, 1) := dk_27 (dk_at dksX5_adds_0 10 rfl rfl)
theorem dX5_adds_11 : decode cX5_adds 11 = .ok (.imul, 1) := dk_104 (dk_at dksX5_adds_0 11 rfl rfl)
theorem dX5_adds_12 : decode cX5_adds 12 = .ok (.iload_n 2, 1) := dk_28 (dk_at dksX5_adds_0 12 rfl rfl)
theorem dX5_adds_13 : decode cX5_adds 13 = .ok (.iadd, 1) := dk_96 (dk_at dksX5_adds_0 13 rfl rfl)
theorem dX5_adds_14 : decode cX5_adds 14 = .ok (.goto 7, 3) := dk_167 0 7 (dk_at dksX5_adds_0 14 rfl rfl)
theorem dX5_adds_17 : decode cX5_adds 17 = .ok (.aload_n 0, 1) := dk_42 (dk_at dksX5_adds_0 17 rfl rfl)
theorem dX5_adds_18 : decode cX5_adds 18 = .ok (.getfield 36, 3) := dk_180 0 36 (dk_at dksX5_adds_0 18 rfl rfl)
theorem dX5_adds_21 : decode cX5_adds 21 = .ok (.putfield 36, 3) := dk_181 0 36 (dk_at dksX5_adds_0 21 rfl rfl)
theorem dX5_adds_24 : decode cX5_adds 24 = .ok (.aload_n 0, 1) := dk_42 (dk_at dksX5_adds_1 0 rfl rfl)
theorem dX5_adds_25 : decode cX5_adds 25 = .ok (.dup, 1) := dk_89 (dk_at dksX5_adds_1 1 rfl rfl)
theorem dX5_adds_26 : decode cX5_adds 26 = .ok (.getfield 29, 3) := dk_180 0 29 (dk_at dksX5_adds_1 2 rfl rfl)
theorem dX5_adds_29 : decode cX5_adds 29 = .ok (.iconst 1, 1) := dk_4 (dk_at dksX5_adds_1 5 rfl rfl)
theorem dX5_adds_30 : decode cX5_adds 30 = .ok (.iadd, 1) := dk_96 (dk_at dksX5_adds_1 6 rfl rfl)
theorem dX5_adds_31 : decode cX5_adds 31 = .ok (.putfield 29, 3) := dk_181 0 29 (dk_at dksX5_adds_1 7 rfl rfl)
theorem dX5_adds_34 : decode cX5_adds 34 = .ok (.aload_n 0, 1) := dk_42 (dk_at dksX5_adds_1 10 rfl rfl)
theorem dX5_adds_35 : decode cX5_adds 35 = .ok (.dup, 1) := dk_89 (dk_at dksX5_adds_1 11 rfl rfl)
theorem dX5_adds_36 : decode cX5_adds 36 = .ok (.getfield 33, 3) := dk_180 0 33 (dk_at dksX5_adds_1 12 rfl rfl)
theorem dX5_adds_39 : decode cX5_adds 39 = .ok (.iconst 1, 1) := dk_4 (dk_at dksX5_adds_1 15 rfl rfl)
theorem dX5_adds_40 : decode cX5_adds 40 = .ok (.iload_n 1, 1) := dk_27 (dk_at dksX5_adds_1 16 rfl rfl)
theorem dX5_adds_41 : decode cX5_adds 41 = .ok (.ishl, 1) := dk_120 (dk_at dksX5_adds_1 17 rfl rfl)
theorem dX5_adds_42 : decode cX5_adds 42 = .ok (.ior, 1) := dk_128 (dk_at dksX5_adds_1 18 rfl rfl)
theorem dX5_adds_43 : decode cX5_adds 43 = .ok (.putfield 33, 3) := dk_181 0 33 (dk_at dksX5_adds_1 19 rfl rfl)
theorem dX5_adds_46 : decode cX5_adds 46 = .ok (.iconst 0, 1) := dk_3 (dk_at dksX5_adds_1 22 rfl rfl)
theorem dX5_adds_47 : decode cX5_adds 47 = .ok (.istore_n 3, 1) := dk_62 (dk_at dksX5_adds_1 23 rfl rfl)
theorem dX5_adds_48 : decode cX5_adds 48 = .ok (.iload_n 3, 1) := dk_29 (dk_at dksX5_adds_2 0 rfl rfl)
theorem dX5_adds_49 : decode cX5_adds 49 = .ok (.bipush 60, 2) := dk_16 60 (dk_at dksX5_adds_2 1 rfl rfl)
theorem dX5_adds_51 : decode cX5_adds 51 = .ok (.if_icmp .gt 35, 3) := dk_163 0 35 (dk_at dksX5_adds_2 3 rfl rfl)
theorem dX5_adds_54 : decode cX5_adds 54 = .ok (.aload_n 0, 1) := dk_42 (dk_at dksX5_adds_2 6 rfl rfl)
theorem dX5_adds_55 : decode cX5_adds 55 = .ok (.getfield 15, 3) := dk_180 0 15 (dk_at dksX5_adds_2 7 rfl rfl)
theorem dX5_adds_58 : decode cX5_adds 58 = .ok (.bipush 13, 2) := dk_16 13 (dk_at dksX5_adds_2 10 rfl rfl)
theorem dX5_adds_60 : decode cX5_adds 60 = .ok (.iload_n 3, 1) := dk_29 (dk_at dksX5_adds_2 12 rfl rfl)
theorem dX5_adds_61 : decode cX5_adds 61 = .ok (.imul, 1) := dk_104 (dk_at dksX5_adds_2 13 rfl rfl)
theorem dX5_adds_62 : decode cX5_adds 62 = .ok (.aload_n 0, 1) := dk_42 (dk_at dksX5_adds_2 14 rfl rfl)
theorem dX5_adds_63 : decode cX5_adds 63 = .ok (.getfield 3, 3) := dk_180 0 3 (dk_at dksX5_adds_2 15 rfl rfl)
theorem dX5_adds_66 : decode cX5_adds 66 = .ok (.getfield 48, 3) := dk_180 0 48 (dk_at dksX5_adds_2 18 rfl rfl)
theorem dX5_adds_69 : decode cX5_adds 69 = .ok (.getfield 69, 3) := dk_180 0 69 (dk_at dksX5_adds_2 21 rfl rfl)
theorem dX5_adds_72 : decode cX5_adds 72 = .ok (.iload_n 3, 1) := dk_29 (dk_at dksX5_adds_3 0 rfl rfl)
theorem dX5_adds_73 : decode cX5_adds 73 = .ok (.iaload, 1) := dk_46 (dk_at dksX5_adds_3 1 rfl rfl)
theorem dX5_adds_74 : decode cX5_adds 74 = .ok (.iadd, 1) := dk_96 (dk_at dksX5_adds_3 2 rfl rfl)
theorem dX5_adds_75 : decode cX5_adds 75 = .ok (.dup2, 1) := dk_92 (dk_at dksX5_adds_3 3 rfl rfl)
theorem dX5_adds_76 : decode cX5_adds 76 = .ok (.iaload, 1) := dk_46 (dk_at dksX5_adds_3 4 rfl rfl)
theorem dX5_adds_77 : decode cX5_adds 77 = .ok (.iconst 1, 1) := dk_4 (dk_at dksX5_adds_3 5 rfl rfl)
theorem dX5_adds_78 : decode cX5_adds 78 = .ok (.iadd, 1) := dk_96 (dk_at dksX5_adds_3 6 rfl rfl)
theorem dX5_adds_79 : decode cX5_adds 79 = .ok (.iastore, 1) := dk_79 (dk_at dksX5_adds_3 7 rfl rfl)
theorem dX5_adds_80 : decode cX5_adds 80 = .ok (.iinc 3 1, 3) := dk_132 3 1 (dk_at dksX5_adds_3 8 rfl rfl)
theorem dX5_adds_83 : decode cX5_adds 83 = .ok (.goto (-35), 3) := dk_167 255 221 (dk_at dksX5_adds_3 11 rfl rfl)
theorem dX5_adds_86 : decode cX5_adds 86 = .ok (.return_, 1) := dk_177 (dk_at dksX5_adds_3 14 rfl rfl)
abbrev cX5_asks : ByteArray := prog_9_method_4_code
def yX5_asks : MethodName := ⟨RX5, "asks", "()V"⟩
def dkwX5_asks_3 : List UInt8 := [181, 0, 75, 132, 1, 1, 167, 255, 194, 177]
abbrev dktX5_asks_3 : List UInt8 := dkwX5_asks_3 ++ []
def dkwX5_asks_2 : List UInt8 := [132, 3, 1, 167, 255, 231, 28, 42, 180, 0, 75, 161, 0, 6, 167, 0, 13, 42, 27, 181, 0, 72, 42, 28]
abbrev dktX5_asks_2 : List UInt8 := dkwX5_asks_2 ++ dktX5_asks_3
def dkwX5_asks_1 : List UInt8 := [62, 29, 16, 13, 162, 0, 25, 28, 42, 180, 0, 15, 16, 13, 27, 104, 29, 96, 46, 184, 0, 78, 61]
abbrev dktX5_asks_1 : List UInt8 := dkwX5_asks_1 ++ dktX5_asks_2
def dkwX5_asks_0 : List UInt8 := [42, 2, 181, 0, 72, 42, 42, 180, 0, 29, 181, 0, 75, 3, 60, 27, 16, 60, 163, 0, 62, 3, 61, 3]
abbrev dktX5_asks_0 : List UInt8 := dkwX5_asks_0 ++ dktX5_asks_1
theorem dksX5_asks_0 : cX5_asks.data.toList.drop 0 = dktX5_asks_0 := by decide +kernel
theorem dksX5_asks_1 : cX5_asks.data.toList.drop 24 = dktX5_asks_1 := dk_seg dksX5_asks_0 24 rfl rfl
theorem dksX5_asks_2 : cX5_asks.data.toList.drop 47 = dktX5_asks_2 := dk_seg dksX5_asks_1 23 rfl rfl
theorem dksX5_asks_3 : cX5_asks.data.toList.drop 71 = dktX5_asks_3 := dk_seg dksX5_asks_2 24 rfl rfl
theorem dX5_asks_0 : decode cX5_asks 0 = .ok (.aload_n 0, 1) := dk_42 (dk_at dksX5_asks_0 0 rfl rfl)
theorem dX5_asks_1 : decode cX5_asks 1 = .ok (.iconst (-1), 1) := dk_2 (dk_at dksX5_asks_0 1 rfl rfl)
theorem dX5_asks_2 : decode cX5_asks 2 = .ok (.putfield 72, 3) := dk_181 0 72 (dk_at dksX5_asks_0 2 rfl rfl)
theorem dX5_asks_5 : decode cX5_asks 5 = .ok (.aload_n 0, 1) := dk_42 (dk_at dksX5_asks_0 5 rfl rfl)
theorem dX5_asks_6 : decode cX5_asks 6 = .ok (.aload_n 0, 1) := dk_42 (dk_at dksX5_asks_0 6 rfl rfl)
theorem dX5_asks_7 : decode cX5_asks 7 = .ok (.getfield 29, 3) := dk_180 0 29 (dk_at dksX5_asks_0 7 rfl rfl)
theorem dX5_asks_10 : decode cX5_asks 10 = .ok (.putfield 75, 3) := dk_181 0 75 (dk_at dksX5_asks_0 10 rfl rfl)
theorem dX5_asks_13 : decode cX5_asks 13 = .ok (.iconst 0, 1) := dk_3 (dk_at dksX5_asks_0 13 rfl rfl)
theorem dX5_asks_14 : decode cX5_asks 14 = .ok (.istore_n 1, 1) := dk_60 (dk_at dksX5_asks_0 14 rfl rfl)
theorem dX5_asks_15 : decode cX5_asks 15 = .ok (.iload_n 1, 1) := dk_27 (dk_at dksX5_asks_0 15 rfl rfl)
theorem dX5_asks_16 : decode cX5_asks 16 = .ok (.bipush 60, 2) := dk_16 60 (dk_at dksX5_asks_0 16 rfl rfl)
theorem dX5_asks_18 : decode cX5_asks 18 = .ok (.if_icmp .gt 62, 3) := dk_163 0 62 (dk_at dksX5_asks_0 18 rfl rfl)
theorem dX5_asks_21 : decode cX5_asks 21 = .ok (.iconst 0, 1) := dk_3 (dk_at dksX5_asks_0 21 rfl rfl)
theorem dX5_asks_22 : decode cX5_asks 22 = .ok (.istore_n 2, 1) := dk_61 (dk_at dksX5_asks_0 22 rfl rfl)
theorem dX5_asks_23 : decode cX5_asks 23 = .ok (.iconst 0, 1) := dk_3 (dk_at dksX5_asks_0 23 rfl rfl)
theorem dX5_asks_24 : decode cX5_asks 24 = .ok (.istore_n 3, 1) := dk_62 (dk_at dksX5_asks_1 0 rfl rfl)
theorem dX5_asks_25 : decode cX5_asks 25 = .ok (.iload_n 3, 1) := dk_29 (dk_at dksX5_asks_1 1 rfl rfl)
theorem dX5_asks_26 : decode cX5_asks 26 = .ok (.bipush 13, 2) := dk_16 13 (dk_at dksX5_asks_1 2 rfl rfl)
theorem dX5_asks_28 : decode cX5_asks 28 = .ok (.if_icmp .ge 25, 3) := dk_162 0 25 (dk_at dksX5_asks_1 4 rfl rfl)
theorem dX5_asks_31 : decode cX5_asks 31 = .ok (.iload_n 2, 1) := dk_28 (dk_at dksX5_asks_1 7 rfl rfl)
theorem dX5_asks_32 : decode cX5_asks 32 = .ok (.aload_n 0, 1) := dk_42 (dk_at dksX5_asks_1 8 rfl rfl)
theorem dX5_asks_33 : decode cX5_asks 33 = .ok (.getfield 15, 3) := dk_180 0 15 (dk_at dksX5_asks_1 9 rfl rfl)
theorem dX5_asks_36 : decode cX5_asks 36 = .ok (.bipush 13, 2) := dk_16 13 (dk_at dksX5_asks_1 12 rfl rfl)
theorem dX5_asks_38 : decode cX5_asks 38 = .ok (.iload_n 1, 1) := dk_27 (dk_at dksX5_asks_1 14 rfl rfl)
theorem dX5_asks_39 : decode cX5_asks 39 = .ok (.imul, 1) := dk_104 (dk_at dksX5_asks_1 15 rfl rfl)
theorem dX5_asks_40 : decode cX5_asks 40 = .ok (.iload_n 3, 1) := dk_29 (dk_at dksX5_asks_1 16 rfl rfl)
theorem dX5_asks_41 : decode cX5_asks 41 = .ok (.iadd, 1) := dk_96 (dk_at dksX5_asks_1 17 rfl rfl)
theorem dX5_asks_42 : decode cX5_asks 42 = .ok (.iaload, 1) := dk_46 (dk_at dksX5_asks_1 18 rfl rfl)
theorem dX5_asks_43 : decode cX5_asks 43 = .ok (.invokestatic 78, 3) := dk_184 0 78 (dk_at dksX5_asks_1 19 rfl rfl)
theorem dX5_asks_46 : decode cX5_asks 46 = .ok (.istore_n 2, 1) := dk_61 (dk_at dksX5_asks_1 22 rfl rfl)
theorem dX5_asks_47 : decode cX5_asks 47 = .ok (.iinc 3 1, 3) := dk_132 3 1 (dk_at dksX5_asks_2 0 rfl rfl)
theorem dX5_asks_50 : decode cX5_asks 50 = .ok (.goto (-25), 3) := dk_167 255 231 (dk_at dksX5_asks_2 3 rfl rfl)
theorem dX5_asks_53 : decode cX5_asks 53 = .ok (.iload_n 2, 1) := dk_28 (dk_at dksX5_asks_2 6 rfl rfl)
theorem dX5_asks_54 : decode cX5_asks 54 = .ok (.aload_n 0, 1) := dk_42 (dk_at dksX5_asks_2 7 rfl rfl)
theorem dX5_asks_55 : decode cX5_asks 55 = .ok (.getfield 75, 3) := dk_180 0 75 (dk_at dksX5_asks_2 8 rfl rfl)
theorem dX5_asks_58 : decode cX5_asks 58 = .ok (.if_icmp .lt 6, 3) := dk_161 0 6 (dk_at dksX5_asks_2 11 rfl rfl)
theorem dX5_asks_61 : decode cX5_asks 61 = .ok (.goto 13, 3) := dk_167 0 13 (dk_at dksX5_asks_2 14 rfl rfl)
theorem dX5_asks_64 : decode cX5_asks 64 = .ok (.aload_n 0, 1) := dk_42 (dk_at dksX5_asks_2 17 rfl rfl)
theorem dX5_asks_65 : decode cX5_asks 65 = .ok (.iload_n 1, 1) := dk_27 (dk_at dksX5_asks_2 18 rfl rfl)
theorem dX5_asks_66 : decode cX5_asks 66 = .ok (.putfield 72, 3) := dk_181 0 72 (dk_at dksX5_asks_2 19 rfl rfl)
theorem dX5_asks_69 : decode cX5_asks 69 = .ok (.aload_n 0, 1) := dk_42 (dk_at dksX5_asks_2 22 rfl rfl)
theorem dX5_asks_70 : decode cX5_asks 70 = .ok (.iload_n 2, 1) := dk_28 (dk_at dksX5_asks_2 23 rfl rfl)
theorem dX5_asks_71 : decode cX5_asks 71 = .ok (.putfield 75, 3) := dk_181 0 75 (dk_at dksX5_asks_3 0 rfl rfl)
theorem dX5_asks_74 : decode cX5_asks 74 = .ok (.iinc 1 1, 3) := dk_132 1 1 (dk_at dksX5_asks_3 3 rfl rfl)
theorem dX5_asks_77 : decode cX5_asks 77 = .ok (.goto (-62), 3) := dk_167 255 194 (dk_at dksX5_asks_3 6 rfl rfl)
theorem dX5_asks_80 : decode cX5_asks 80 = .ok (.return_, 1) := dk_177 (dk_at dksX5_asks_3 9 rfl rfl)

abbrev cX7_init : ByteArray := prog_7_method_1_code
def yX7_init : MethodName := ⟨RX7, "<init>", "([BI)V"⟩
def dkwX7_init_1 : List UInt8 := [181, 0, 22, 42, 182, 0, 26, 177]
abbrev dktX7_init_1 : List UInt8 := dkwX7_init_1 ++ []
def dkwX7_init_0 : List UInt8 := [42, 183, 0, 3, 42, 187, 0, 9, 89, 183, 0, 11, 181, 0, 12, 42, 43, 181, 0, 18, 42, 28]
abbrev dktX7_init_0 : List UInt8 := dkwX7_init_0 ++ dktX7_init_1
theorem dksX7_init_0 : cX7_init.data.toList.drop 0 = dktX7_init_0 := by decide +kernel
theorem dksX7_init_1 : cX7_init.data.toList.drop 22 = dktX7_init_1 := dk_seg dksX7_init_0 22 rfl rfl
theorem dX7_init_0 : decode cX7_init 0 = .ok (.aload_n 0, 1) := dk_42 (dk_at dksX7_init_0 0 rfl rfl)
theorem dX7_init_1 : decode cX7_init 1 = .ok (.invokespecial 3, 3) := dk_183 0 3 (dk_at dksX7_init_0 1 rfl rfl)
theorem dX7_init_4 : decode cX7_init 4 = .ok (.aload_n 0, 1) := dk_42 (dk_at dksX7_init_0 4 rfl rfl)
theorem dX7_init_5 : decode cX7_init 5 = .ok (.new 9, 3) := dk_187 0 9 (dk_at dksX7_init_0 5 rfl rfl)
theorem dX7_init_8 : decode cX7_init 8 = .ok (.dup, 1) := dk_89 (dk_at dksX7_init_0 8 rfl rfl)
theorem dX7_init_9 : decode cX7_init 9 = .ok (.invokespecial 11, 3) := dk_183 0 11 (dk_at dksX7_init_0 9 rfl rfl)
theorem dX7_init_12 : decode cX7_init 12 = .ok (.putfield 12, 3) := dk_181 0 12 (dk_at dksX7_init_0 12 rfl rfl)
theorem dX7_init_15 : decode cX7_init 15 = .ok (.aload_n 0, 1) := dk_42 (dk_at dksX7_init_0 15 rfl rfl)
theorem dX7_init_16 : decode cX7_init 16 = .ok (.aload_n 1, 1) := dk_43 (dk_at dksX7_init_0 16 rfl rfl)
theorem dX7_init_17 : decode cX7_init 17 = .ok (.putfield 18, 3) := dk_181 0 18 (dk_at dksX7_init_0 17 rfl rfl)
theorem dX7_init_20 : decode cX7_init 20 = .ok (.aload_n 0, 1) := dk_42 (dk_at dksX7_init_0 20 rfl rfl)
theorem dX7_init_21 : decode cX7_init 21 = .ok (.iload_n 2, 1) := dk_28 (dk_at dksX7_init_0 21 rfl rfl)
theorem dX7_init_22 : decode cX7_init 22 = .ok (.putfield 22, 3) := dk_181 0 22 (dk_at dksX7_init_1 0 rfl rfl)
theorem dX7_init_25 : decode cX7_init 25 = .ok (.aload_n 0, 1) := dk_42 (dk_at dksX7_init_1 3 rfl rfl)
theorem dX7_init_26 : decode cX7_init 26 = .ok (.invokevirtual 26, 3) := dk_182 0 26 (dk_at dksX7_init_1 4 rfl rfl)
theorem dX7_init_29 : decode cX7_init 29 = .ok (.return_, 1) := dk_177 (dk_at dksX7_init_1 7 rfl rfl)
abbrev cX7_next : ByteArray := prog_7_method_3_code
def yX7_next : MethodName := ⟨RX7, "next", "()V"⟩
def dkwX7_next_8 : List UInt8 := [7, 181, 0, 46, 42, 89, 180, 0, 29, 4, 96, 181, 0, 29, 177]
abbrev dktX7_next_8 : List UInt8 := dkwX7_next_8 ++ []
def dkwX7_next_7 : List UInt8 := [4, 96, 181, 0, 29, 167, 255, 206, 42, 42, 16, 59, 16, 59, 182, 0, 36, 153, 0, 7, 6, 167, 0, 4]
abbrev dktX7_next_7 : List UInt8 := dkwX7_next_7 ++ dktX7_next_8
def dkwX7_next_6 : List UInt8 := [42, 180, 0, 18, 42, 180, 0, 29, 51, 96, 16, 48, 100, 184, 0, 50, 181, 0, 43, 42, 89, 180, 0, 29]
abbrev dktX7_next_6 : List UInt8 := dkwX7_next_6 ++ dktX7_next_7
def dkwX7_next_5 : List UInt8 := [181, 0, 46, 42, 16, 48, 16, 57, 182, 0, 36, 153, 0, 75, 42, 18, 49, 16, 10, 42, 180, 0, 43, 104]
abbrev dktX7_next_5 : List UInt8 := dkwX7_next_5 ++ dktX7_next_6
def dkwX7_next_4 : List UInt8 := [180, 0, 29, 4, 96, 181, 0, 29, 167, 255, 235, 42, 16, 48, 16, 57, 182, 0, 36, 153, 0, 61, 42, 5]
abbrev dktX7_next_4 : List UInt8 := dkwX7_next_4 ++ dktX7_next_5
def dkwX7_next_3 : List UInt8 := [182, 0, 36, 153, 0, 32, 42, 4, 181, 0, 46, 42, 16, 97, 16, 122, 182, 0, 36, 153, 0, 115, 42, 89]
abbrev dktX7_next_3 : List UInt8 := dkwX7_next_3 ++ dktX7_next_4
def dkwX7_next_2 : List UInt8 := [42, 180, 0, 29, 42, 180, 0, 22, 160, 0, 11, 42, 3, 181, 0, 46, 167, 0, 142, 42, 16, 97, 16, 122]
abbrev dktX7_next_2 : List UInt8 := dkwX7_next_2 ++ dktX7_next_3
def dkwX7_next_1 : List UInt8 := [180, 0, 29, 4, 96, 181, 0, 29, 167, 255, 224, 42, 42, 180, 0, 29, 181, 0, 40, 42, 3, 181, 0, 43]
abbrev dktX7_next_1 : List UInt8 := dkwX7_next_1 ++ dktX7_next_2
def dkwX7_next_0 : List UInt8 := [42, 16, 32, 16, 32, 182, 0, 36, 154, 0, 14, 42, 16, 10, 16, 10, 182, 0, 36, 153, 0, 16, 42, 89]
abbrev dktX7_next_0 : List UInt8 := dkwX7_next_0 ++ dktX7_next_1
theorem dksX7_next_0 : cX7_next.data.toList.drop 0 = dktX7_next_0 := by decide +kernel
theorem dksX7_next_1 : cX7_next.data.toList.drop 24 = dktX7_next_1 := dk_seg dksX7_next_0 24 rfl rfl
theorem dksX7_next_2 : cX7_next.data.toList.drop 48 = dktX7_next_2 := dk_seg dksX7_next_1 24 rfl rfl
theorem dksX7_next_3 : cX7_next.data.toList.drop 72 = dktX7_next_3 := dk_seg dksX7_next_2 24 rfl rfl
theorem dksX7_next_4 : cX7_next.data.toList.drop 96 = dktX7_next_4 := dk_seg dksX7_next_3 24 rfl rfl
theorem dksX7_next_5 : cX7_next.data.toList.drop 120 = dktX7_next_5 := dk_seg dksX7_next_4 24 rfl rfl
theorem dksX7_next_6 : cX7_next.data.toList.drop 144 = dktX7_next_6 := dk_seg dksX7_next_5 24 rfl rfl
theorem dksX7_next_7 : cX7_next.data.toList.drop 168 = dktX7_next_7 := dk_seg dksX7_next_6 24 rfl rfl
theorem dksX7_next_8 : cX7_next.data.toList.drop 192 = dktX7_next_8 := dk_seg dksX7_next_7 24 rfl rfl
theorem dX7_next_0 : decode cX7_next 0 = .ok (.aload_n 0, 1) := dk_42 (dk_at dksX7_next_0 0 rfl rfl)
theorem dX7_next_1 : decode cX7_next 1 = .ok (.bipush 32, 2) := dk_16 32 (dk_at dksX7_next_0 1 rfl rfl)
theorem dX7_next_3 : decode cX7_next 3 = .ok (.bipush 32, 2) := dk_16 32 (dk_at dksX7_next_0 3 rfl rfl)
theorem dX7_next_5 : decode cX7_next 5 = .ok (.invokevirtual 36, 3) := dk_182 0 36 (dk_at dksX7_next_0 5 rfl rfl)
theorem dX7_next_8 : decode cX7_next 8 = .ok (.ifCond .ne 14, 3) := dk_154 0 14 (dk_at dksX7_next_0 8 rfl rfl)
theorem dX7_next_11 : decode cX7_next 11 = .ok (.aload_n 0, 1) := dk_42 (dk_at dksX7_next_0 11 rfl rfl)
theorem dX7_next_12 : decode cX7_next 12 = .ok (.bipush 10, 2) := dk_16 10 (dk_at dksX7_next_0 12 rfl rfl)
theorem dX7_next_14 : decode cX7_next 14 = .ok (.bipush 10, 2) := dk_16 10 (dk_at dksX7_next_0 14 rfl rfl)
theorem dX7_next_16 : decode cX7_next 16 = .ok (.invokevirtual 36, 3) := dk_182 0 36 (dk_at dksX7_next_0 16 rfl rfl)
theorem dX7_next_19 : decode cX7_next 19 = .ok (.ifCond .eq 16, 3) := dk_153 0 16 (dk_at dksX7_next_0 19 rfl rfl)
theorem dX7_next_22 : decode cX7_next 22 = .ok (.aload_n 0, 1) := dk_42 (dk_at dksX7_next_0 22 rfl rfl)
theorem dX7_next_23 : decode cX7_next 23 = .ok (.dup, 1) := dk_89 (dk_at dksX7_next_0 23 rfl rfl)
theorem dX7_next_24 : decode cX7_next 24 = .ok (.getfield 29, 3) := dk_180 0 29 (dk_at dksX7_next_1 0 rfl rfl)
theorem dX7_next_27 : decode cX7_next 27 = .ok (.iconst 1, 1) := dk_4 (dk_at dksX7_next_1 3 rfl rfl)
theorem dX7_next_28 : decode cX7_next 28 = .ok (.iadd, 1) := dk_96 (dk_at dksX7_next_1 4 rfl rfl)
theorem dX7_next_29 : decode cX7_next 29 = .ok (.putfield 29, 3) := dk_181 0 29 (dk_at dksX7_next_1 5 rfl rfl)
theorem dX7_next_32 : decode cX7_next 32 = .ok (.goto (-32), 3) := dk_167 255 224 (dk_at dksX7_next_1 8 rfl rfl)
theorem dX7_next_35 : decode cX7_next 35 = .ok (.aload_n 0, 1) := dk_42 (dk_at dksX7_next_1 11 rfl rfl)
theorem dX7_next_36 : decode cX7_next 36 = .ok (.aload_n 0, 1) := dk_42 (dk_at dksX7_next_1 12 rfl rfl)
theorem dX7_next_37 : decode cX7_next 37 = .ok (.getfield 29, 3) := dk_180 0 29 (dk_at dksX7_next_1 13 rfl rfl)
theorem dX7_next_40 : decode cX7_next 40 = .ok (.putfield 40, 3) := dk_181 0 40 (dk_at dksX7_next_1 16 rfl rfl)
theorem dX7_next_43 : decode cX7_next 43 = .ok (.aload_n 0, 1) := dk_42 (dk_at dksX7_next_1 19 rfl rfl)
theorem dX7_next_44 : decode cX7_next 44 = .ok (.iconst 0, 1) := dk_3 (dk_at dksX7_next_1 20 rfl rfl)
theorem dX7_next_45 : decode cX7_next 45 = .ok (.putfield 43, 3) := dk_181 0 43 (dk_at dksX7_next_1 21 rfl rfl)
theorem dX7_next_48 : decode cX7_next 48 = .ok (.aload_n 0, 1) := dk_42 (dk_at dksX7_next_2 0 rfl rfl)
theorem dX7_next_49 : decode cX7_next 49 = .ok (.getfield 29, 3) := dk_180 0 29 (dk_at dksX7_next_2 1 rfl rfl)
theorem dX7_next_52 : decode cX7_next 52 = .ok (.aload_n 0, 1) := dk_42 (dk_at dksX7_next_2 4 rfl rfl)
theorem dX7_next_53 : decode cX7_next 53 = .ok (.getfield 22, 3) := dk_180 0 22 (dk_at dksX7_next_2 5 rfl rfl)
theorem dX7_next_56 : decode cX7_next 56 = .ok (.if_icmp .ne 11, 3) := dk_160 0 11 (dk_at dksX7_next_2 8 rfl rfl)
theorem dX7_next_59 : decode cX7_next 59 = .ok (.aload_n 0, 1) := dk_42 (dk_at dksX7_next_2 11 rfl rfl)
theorem dX7_next_60 : decode cX7_next 60 = .ok (.iconst 0, 1) := dk_3 (dk_at dksX7_next_2 12 rfl rfl)
theorem dX7_next_61 : decode cX7_next 61 = .ok (.putfield 46, 3) := dk_181 0 46 (dk_at dksX7_next_2 13 rfl rfl)
theorem dX7_next_64 : decode cX7_next 64 = .ok (.goto 142, 3) := dk_167 0 142 (dk_at dksX7_next_2 16 rfl rfl)
theorem dX7_next_67 : decode cX7_next 67 = .ok (.aload_n 0, 1) := dk_42 (dk_at dksX7_next_2 19 rfl rfl)
theorem dX7_next_68 : decode cX7_next 68 = .ok (.bipush 97, 2) := dk_16 97 (dk_at dksX7_next_2 20 rfl rfl)
theorem dX7_next_70 : decode cX7_next 70 = .ok (.bipush 122, 2) := dk_16 122 (dk_at dksX7_next_2 22 rfl rfl)
theorem dX7_next_72 : decode cX7_next 72 = .ok (.invokevirtual 36, 3) := dk_182 0 36 (dk_at dksX7_next_3 0 rfl rfl)
theorem dX7_next_75 : decode cX7_next 75 = .ok (.ifCond .eq 32, 3) := dk_153 0 32 (dk_at dksX7_next_3 3 rfl rfl)
theorem dX7_next_78 : decode cX7_next 78 = .ok (.aload_n 0, 1) := dk_42 (dk_at dksX7_next_3 6 rfl rfl)
theorem dX7_next_79 : decode cX7_next 79 = .ok (.iconst 1, 1) := dk_4 (dk_at dksX7_next_3 7 rfl rfl)
theorem dX7_next_80 : decode cX7_next 80 = .ok (.putfield 46, 3) := dk_181 0 46 (dk_at dksX7_next_3 8 rfl rfl)
theorem dX7_next_83 : decode cX7_next 83 = .ok (.aload_n 0, 1) := dk_42 (dk_at dksX7_next_3 11 rfl rfl)
theorem dX7_next_84 : decode cX7_next 84 = .ok (.bipush 97, 2) := dk_16 97 (dk_at dksX7_next_3 12 rfl rfl)
theorem dX7_next_86 : decode cX7_next 86 = .ok (.bipush 122, 2) := dk_16 122 (dk_at dksX7_next_3 14 rfl rfl)
theorem dX7_next_88 : decode cX7_next 88 = .ok (.invokevirtual 36, 3) := dk_182 0 36 (dk_at dksX7_next_3 16 rfl rfl)
theorem dX7_next_91 : decode cX7_next 91 = .ok (.ifCond .eq 115, 3) := dk_153 0 115 (dk_at dksX7_next_3 19 rfl rfl)
theorem dX7_next_94 : decode cX7_next 94 = .ok (.aload_n 0, 1) := dk_42 (dk_at dksX7_next_3 22 rfl rfl)
theorem dX7_next_95 : decode cX7_next 95 = .ok (.dup, 1) := dk_89 (dk_at dksX7_next_3 23 rfl rfl)
theorem dX7_next_96 : decode cX7_next 96 = .ok (.getfield 29, 3) := dk_180 0 29 (dk_at dksX7_next_4 0 rfl rfl)
theorem dX7_next_99 : decode cX7_next 99 = .ok (.iconst 1, 1) := dk_4 (dk_at dksX7_next_4 3 rfl rfl)
theorem dX7_next_100 : decode cX7_next 100 = .ok (.iadd, 1) := dk_96 (dk_at dksX7_next_4 4 rfl rfl)
theorem dX7_next_101 : decode cX7_next 101 = .ok (.putfield 29, 3) := dk_181 0 29 (dk_at dksX7_next_4 5 rfl rfl)
theorem dX7_next_104 : decode cX7_next 104 = .ok (.goto (-21), 3) := dk_167 255 235 (dk_at dksX7_next_4 8 rfl rfl)
theorem dX7_next_107 : decode cX7_next 107 = .ok (.aload_n 0, 1) := dk_42 (dk_at dksX7_next_4 11 rfl rfl)
theorem dX7_next_108 : decode cX7_next 108 = .ok (.bipush 48, 2) := dk_16 48 (dk_at dksX7_next_4 12 rfl rfl)
theorem dX7_next_110 : decode cX7_next 110 = .ok (.bipush 57, 2) := dk_16 57 (dk_at dksX7_next_4 14 rfl rfl)
theorem dX7_next_112 : decode cX7_next 112 = .ok (.invokevirtual 36, 3) := dk_182 0 36 (dk_at dksX7_next_4 16 rfl rfl)
theorem dX7_next_115 : decode cX7_next 115 = .ok (.ifCond .eq 61, 3) := dk_153 0 61 (dk_at dksX7_next_4 19 rfl rfl)
theorem dX7_next_118 : decode cX7_next 118 = .ok (.aload_n 0, 1) := dk_42 (dk_at dksX7_next_4 22 rfl rfl)
theorem dX7_next_119 : decode cX7_next 119 = .ok (.iconst 2, 1) := dk_5 (dk_at dksX7_next_4 23 rfl rfl)
theorem dX7_next_120 : decode cX7_next 120 = .ok (.putfield 46, 3) := dk_181 0 46 (dk_at dksX7_next_5 0 rfl rfl)
theorem dX7_next_123 : decode cX7_next 123 = .ok (.aload_n 0, 1) := dk_42 (dk_at dksX7_next_5 3 rfl rfl)
theorem dX7_next_124 : decode cX7_next 124 = .ok (.bipush 48, 2) := dk_16 48 (dk_at dksX7_next_5 4 rfl rfl)
theorem dX7_next_126 : decode cX7_next 126 = .ok (.bipush 57, 2) := dk_16 57 (dk_at dksX7_next_5 6 rfl rfl)
theorem dX7_next_128 : decode cX7_next 128 = .ok (.invokevirtual 36, 3) := dk_182 0 36 (dk_at dksX7_next_5 8 rfl rfl)
theorem dX7_next_131 : decode cX7_next 131 = .ok (.ifCond .eq 75, 3) := dk_153 0 75 (dk_at dksX7_next_5 11 rfl rfl)
theorem dX7_next_134 : decode cX7_next 134 = .ok (.aload_n 0, 1) := dk_42 (dk_at dksX7_next_5 14 rfl rfl)
theorem dX7_next_135 : decode cX7_next 135 = .ok (.ldc 49, 2) := dk_18 49 (dk_at dksX7_next_5 15 rfl rfl)
theorem dX7_next_137 : decode cX7_next 137 = .ok (.bipush 10, 2) := dk_16 10 (dk_at dksX7_next_5 17 rfl rfl)
theorem dX7_next_139 : decode cX7_next 139 = .ok (.aload_n 0, 1) := dk_42 (dk_at dksX7_next_5 19 rfl rfl)
theorem dX7_next_140 : decode cX7_next 140 = .ok (.getfield 43, 3) := dk_180 0 43 (dk_at dksX7_next_5 20 rfl rfl)
theorem dX7_next_143 : decode cX7_next 143 = .ok (.imul, 1) := dk_104 (dk_at dksX7_next_5 23 rfl rfl)
theorem dX7_next_144 : decode cX7_next 144 = .ok (.aload_n 0, 1) := dk_42 (dk_at dksX7_next_6 0 rfl rfl)
theorem dX7_next_145 : decode cX7_next 145 = .ok (.getfield 18, 3) := dk_180 0 18 (dk_at dksX7_next_6 1 rfl rfl)
theorem dX7_next_148 : decode cX7_next 148 = .ok (.aload_n 0, 1) := dk_42 (dk_at dksX7_next_6 4 rfl rfl)
theorem dX7_next_149 : decode cX7_next 149 = .ok (.getfield 29, 3) := dk_180 0 29 (dk_at dksX7_next_6 5 rfl rfl)
theorem dX7_next_152 : decode cX7_next 152 = .ok (.baload, 1) := dk_51 (dk_at dksX7_next_6 8 rfl rfl)
theorem dX7_next_153 : decode cX7_next 153 = .ok (.iadd, 1) := dk_96 (dk_at dksX7_next_6 9 rfl rfl)
theorem dX7_next_154 : decode cX7_next 154 = .ok (.bipush 48, 2) := dk_16 48 (dk_at dksX7_next_6 10 rfl rfl)
theorem dX7_next_156 : decode cX7_next 156 = .ok (.isub, 1) := dk_100 (dk_at dksX7_next_6 12 rfl rfl)
theorem dX7_next_157 : decode cX7_next 157 = .ok (.invokestatic 50, 3) := dk_184 0 50 (dk_at dksX7_next_6 13 rfl rfl)
theorem dX7_next_160 : decode cX7_next 160 = .ok (.putfield 43, 3) := dk_181 0 43 (dk_at dksX7_next_6 16 rfl rfl)
theorem dX7_next_163 : decode cX7_next 163 = .ok (.aload_n 0, 1) := dk_42 (dk_at dksX7_next_6 19 rfl rfl)
theorem dX7_next_164 : decode cX7_next 164 = .ok (.dup, 1) := dk_89 (dk_at dksX7_next_6 20 rfl rfl)
theorem dX7_next_165 : decode cX7_next 165 = .ok (.getfield 29, 3) := dk_180 0 29 (dk_at dksX7_next_6 21 rfl rfl)
theorem dX7_next_168 : decode cX7_next 168 = .ok (.iconst 1, 1) := dk_4 (dk_at dksX7_next_7 0 rfl rfl)
theorem dX7_next_169 : decode cX7_next 169 = .ok (.iadd, 1) := dk_96 (dk_at dksX7_next_7 1 rfl rfl)
theorem dX7_next_170 : decode cX7_next 170 = .ok (.putfield 29, 3) := dk_181 0 29 (dk_at dksX7_next_7 2 rfl rfl)
theorem dX7_next_173 : decode cX7_next 173 = .ok (.goto (-50), 3) := dk_167 255 206 (dk_at dksX7_next_7 5 rfl rfl)
theorem dX7_next_176 : decode cX7_next 176 = .ok (.aload_n 0, 1) := dk_42 (dk_at dksX7_next_7 8 rfl rfl)
theorem dX7_next_177 : decode cX7_next 177 = .ok (.aload_n 0, 1) := dk_42 (dk_at dksX7_next_7 9 rfl rfl)
theorem dX7_next_178 : decode cX7_next 178 = .ok (.bipush 59, 2) := dk_16 59 (dk_at dksX7_next_7 10 rfl rfl)
theorem dX7_next_180 : decode cX7_next 180 = .ok (.bipush 59, 2) := dk_16 59 (dk_at dksX7_next_7 12 rfl rfl)
theorem dX7_next_182 : decode cX7_next 182 = .ok (.invokevirtual 36, 3) := dk_182 0 36 (dk_at dksX7_next_7 14 rfl rfl)
theorem dX7_next_185 : decode cX7_next 185 = .ok (.ifCond .eq 7, 3) := dk_153 0 7 (dk_at dksX7_next_7 17 rfl rfl)
theorem dX7_next_188 : decode cX7_next 188 = .ok (.iconst 3, 1) := dk_6 (dk_at dksX7_next_7 20 rfl rfl)
theorem dX7_next_189 : decode cX7_next 189 = .ok (.goto 4, 3) := dk_167 0 4 (dk_at dksX7_next_7 21 rfl rfl)
theorem dX7_next_192 : decode cX7_next 192 = .ok (.iconst 4, 1) := dk_7 (dk_at dksX7_next_8 0 rfl rfl)
theorem dX7_next_193 : decode cX7_next 193 = .ok (.putfield 46, 3) := dk_181 0 46 (dk_at dksX7_next_8 1 rfl rfl)
theorem dX7_next_196 : decode cX7_next 196 = .ok (.aload_n 0, 1) := dk_42 (dk_at dksX7_next_8 4 rfl rfl)
theorem dX7_next_197 : decode cX7_next 197 = .ok (.dup, 1) := dk_89 (dk_at dksX7_next_8 5 rfl rfl)
theorem dX7_next_198 : decode cX7_next 198 = .ok (.getfield 29, 3) := dk_180 0 29 (dk_at dksX7_next_8 6 rfl rfl)
theorem dX7_next_201 : decode cX7_next 201 = .ok (.iconst 1, 1) := dk_4 (dk_at dksX7_next_8 9 rfl rfl)
theorem dX7_next_202 : decode cX7_next 202 = .ok (.iadd, 1) := dk_96 (dk_at dksX7_next_8 10 rfl rfl)
theorem dX7_next_203 : decode cX7_next 203 = .ok (.putfield 29, 3) := dk_181 0 29 (dk_at dksX7_next_8 11 rfl rfl)
theorem dX7_next_206 : decode cX7_next 206 = .ok (.return_, 1) := dk_177 (dk_at dksX7_next_8 14 rfl rfl)
abbrev cX7_isAt : ByteArray := prog_7_method_2_code
def yX7_isAt : MethodName := ⟨RX7, "isAt", "(II)Z"⟩
def dkwX7_isAt_1 : List UInt8 := [133, 184, 0, 32, 153, 0, 7, 4, 167, 0, 4, 3, 172]
abbrev dktX7_isAt_1 : List UInt8 := dkwX7_isAt_1 ++ []
def dkwX7_isAt_0 : List UInt8 := [42, 180, 0, 29, 42, 180, 0, 22, 162, 0, 27, 42, 180, 0, 18, 42, 180, 0, 29, 51, 133, 27, 133, 28]
abbrev dktX7_isAt_0 : List UInt8 := dkwX7_isAt_0 ++ dktX7_isAt_1
theorem dksX7_isAt_0 : cX7_isAt.data.toList.drop 0 = dktX7_isAt_0 := by decide +kernel
theorem dksX7_isAt_1 : cX7_isAt.data.toList.drop 24 = dktX7_isAt_1 := dk_seg dksX7_isAt_0 24 rfl rfl
theorem dX7_isAt_0 : decode cX7_isAt 0 = .ok (.aload_n 0, 1) := dk_42 (dk_at dksX7_isAt_0 0 rfl rfl)
theorem dX7_isAt_1 : decode cX7_isAt 1 = .ok (.getfield 29, 3) := dk_180 0 29 (dk_at dksX7_isAt_0 1 rfl rfl)
theorem dX7_isAt_4 : decode cX7_isAt 4 = .ok (.aload_n 0, 1) := dk_42 (dk_at dksX7_isAt_0 4 rfl rfl)
theorem dX7_isAt_5 : decode cX7_isAt 5 = .ok (.getfield 22, 3) := dk_180 0 22 (dk_at dksX7_isAt_0 5 rfl rfl)
theorem dX7_isAt_8 : decode cX7_isAt 8 = .ok (.if_icmp .ge 27, 3) := dk_162 0 27 (dk_at dksX7_isAt_0 8 rfl rfl)
theorem dX7_isAt_11 : decode cX7_isAt 11 = .ok (.aload_n 0, 1) := dk_42 (dk_at dksX7_isAt_0 11 rfl rfl)
theorem dX7_isAt_12 : decode cX7_isAt 12 = .ok (.getfield 18, 3) := dk_180 0 18 (dk_at dksX7_isAt_0 12 rfl rfl)
theorem dX7_isAt_15 : decode cX7_isAt 15 = .ok (.aload_n 0, 1) := dk_42 (dk_at dksX7_isAt_0 15 rfl rfl)
theorem dX7_isAt_16 : decode cX7_isAt 16 = .ok (.getfield 29, 3) := dk_180 0 29 (dk_at dksX7_isAt_0 16 rfl rfl)
theorem dX7_isAt_19 : decode cX7_isAt 19 = .ok (.baload, 1) := dk_51 (dk_at dksX7_isAt_0 19 rfl rfl)
theorem dX7_isAt_20 : decode cX7_isAt 20 = .ok (.i2l, 1) := dk_133 (dk_at dksX7_isAt_0 20 rfl rfl)
theorem dX7_isAt_21 : decode cX7_isAt 21 = .ok (.iload_n 1, 1) := dk_27 (dk_at dksX7_isAt_0 21 rfl rfl)
theorem dX7_isAt_22 : decode cX7_isAt 22 = .ok (.i2l, 1) := dk_133 (dk_at dksX7_isAt_0 22 rfl rfl)
theorem dX7_isAt_23 : decode cX7_isAt 23 = .ok (.iload_n 2, 1) := dk_28 (dk_at dksX7_isAt_0 23 rfl rfl)
theorem dX7_isAt_24 : decode cX7_isAt 24 = .ok (.i2l, 1) := dk_133 (dk_at dksX7_isAt_1 0 rfl rfl)
theorem dX7_isAt_25 : decode cX7_isAt 25 = .ok (.invokestatic 32, 3) := dk_184 0 32 (dk_at dksX7_isAt_1 1 rfl rfl)
theorem dX7_isAt_28 : decode cX7_isAt 28 = .ok (.ifCond .eq 7, 3) := dk_153 0 7 (dk_at dksX7_isAt_1 4 rfl rfl)
theorem dX7_isAt_31 : decode cX7_isAt 31 = .ok (.iconst 1, 1) := dk_4 (dk_at dksX7_isAt_1 7 rfl rfl)
theorem dX7_isAt_32 : decode cX7_isAt 32 = .ok (.goto 4, 3) := dk_167 0 4 (dk_at dksX7_isAt_1 8 rfl rfl)
theorem dX7_isAt_35 : decode cX7_isAt 35 = .ok (.iconst 0, 1) := dk_3 (dk_at dksX7_isAt_1 11 rfl rfl)
theorem dX7_isAt_36 : decode cX7_isAt 36 = .ok (.ireturn, 1) := dk_172 (dk_at dksX7_isAt_1 12 rfl rfl)
abbrev cX7_reads : ByteArray := prog_7_method_16_code
def yX7_reads : MethodName := ⟨RX7, "reads", "()LQuotedRiver$Rivers;"⟩
def dkwX7_reads_5 : List UInt8 := [181, 0, 105, 167, 255, 213, 42, 180, 0, 12, 176]
abbrev dktX7_reads_5 : List UInt8 := dkwX7_reads_5 ++ []
def dkwX7_reads_4 : List UInt8 := [77, 44, 180, 0, 105, 42, 180, 0, 12, 180, 0, 94, 185, 0, 89, 1, 0, 161, 0, 8, 44, 2]
abbrev dktX7_reads_4 : List UInt8 := dkwX7_reads_4 ++ dktX7_reads_5
def dkwX7_reads_3 : List UInt8 := [185, 0, 184, 1, 0, 76, 43, 185, 0, 188, 1, 0, 153, 0, 40, 43, 185, 0, 194, 1, 0, 192, 0, 98]
abbrev dktX7_reads_3 : List UInt8 := dkwX7_reads_3 ++ dktX7_reads_4
def dkwX7_reads_2 : List UInt8 := [180, 0, 12, 89, 180, 0, 175, 4, 96, 181, 0, 175, 167, 255, 197, 42, 180, 0, 12, 180, 0, 94]
abbrev dktX7_reads_2 : List UInt8 := dkwX7_reads_2 ++ dktX7_reads_3
def dkwX7_reads_1 : List UInt8 := [42, 182, 0, 181, 42, 180, 0, 46, 6, 159, 0, 9, 42, 4, 182, 0, 78, 191, 42, 182, 0, 26, 42]
abbrev dktX7_reads_1 : List UInt8 := dkwX7_reads_1 ++ dktX7_reads_2
def dkwX7_reads_0 : List UInt8 := [42, 180, 0, 46, 153, 0, 58, 42, 180, 0, 12, 180, 0, 175, 154, 0, 10, 42, 182, 0, 178, 167, 0, 7]
abbrev dktX7_reads_0 : List UInt8 := dkwX7_reads_0 ++ dktX7_reads_1
theorem dksX7_reads_0 : cX7_reads.data.toList.drop 0 = dktX7_reads_0 := by decide +kernel
theorem dksX7_reads_1 : cX7_reads.data.toList.drop 24 = dktX7_reads_1 := dk_seg dksX7_reads_0 24 rfl rfl
theorem dksX7_reads_2 : cX7_reads.data.toList.drop 47 = dktX7_reads_2 := dk_seg dksX7_reads_1 23 rfl rfl
theorem dksX7_reads_3 : cX7_reads.data.toList.drop 69 = dktX7_reads_3 := dk_seg dksX7_reads_2 22 rfl rfl
theorem dksX7_reads_4 : cX7_reads.data.toList.drop 93 = dktX7_reads_4 := dk_seg dksX7_reads_3 24 rfl rfl
theorem dksX7_reads_5 : cX7_reads.data.toList.drop 115 = dktX7_reads_5 := dk_seg dksX7_reads_4 22 rfl rfl
theorem dX7_reads_0 : decode cX7_reads 0 = .ok (.aload_n 0, 1) := dk_42 (dk_at dksX7_reads_0 0 rfl rfl)
theorem dX7_reads_1 : decode cX7_reads 1 = .ok (.getfield 46, 3) := dk_180 0 46 (dk_at dksX7_reads_0 1 rfl rfl)
theorem dX7_reads_4 : decode cX7_reads 4 = .ok (.ifCond .eq 58, 3) := dk_153 0 58 (dk_at dksX7_reads_0 4 rfl rfl)
theorem dX7_reads_7 : decode cX7_reads 7 = .ok (.aload_n 0, 1) := dk_42 (dk_at dksX7_reads_0 7 rfl rfl)
theorem dX7_reads_8 : decode cX7_reads 8 = .ok (.getfield 12, 3) := dk_180 0 12 (dk_at dksX7_reads_0 8 rfl rfl)
theorem dX7_reads_11 : decode cX7_reads 11 = .ok (.getfield 175, 3) := dk_180 0 175 (dk_at dksX7_reads_0 11 rfl rfl)
theorem dX7_reads_14 : decode cX7_reads 14 = .ok (.ifCond .ne 10, 3) := dk_154 0 10 (dk_at dksX7_reads_0 14 rfl rfl)
theorem dX7_reads_17 : decode cX7_reads 17 = .ok (.aload_n 0, 1) := dk_42 (dk_at dksX7_reads_0 17 rfl rfl)
theorem dX7_reads_18 : decode cX7_reads 18 = .ok (.invokevirtual 178, 3) := dk_182 0 178 (dk_at dksX7_reads_0 18 rfl rfl)
theorem dX7_reads_21 : decode cX7_reads 21 = .ok (.goto 7, 3) := dk_167 0 7 (dk_at dksX7_reads_0 21 rfl rfl)
theorem dX7_reads_24 : decode cX7_reads 24 = .ok (.aload_n 0, 1) := dk_42 (dk_at dksX7_reads_1 0 rfl rfl)
theorem dX7_reads_25 : decode cX7_reads 25 = .ok (.invokevirtual 181, 3) := dk_182 0 181 (dk_at dksX7_reads_1 1 rfl rfl)
theorem dX7_reads_28 : decode cX7_reads 28 = .ok (.aload_n 0, 1) := dk_42 (dk_at dksX7_reads_1 4 rfl rfl)
theorem dX7_reads_29 : decode cX7_reads 29 = .ok (.getfield 46, 3) := dk_180 0 46 (dk_at dksX7_reads_1 5 rfl rfl)
theorem dX7_reads_32 : decode cX7_reads 32 = .ok (.iconst 3, 1) := dk_6 (dk_at dksX7_reads_1 8 rfl rfl)
theorem dX7_reads_33 : decode cX7_reads 33 = .ok (.if_icmp .eq 9, 3) := dk_159 0 9 (dk_at dksX7_reads_1 9 rfl rfl)
theorem dX7_reads_36 : decode cX7_reads 36 = .ok (.aload_n 0, 1) := dk_42 (dk_at dksX7_reads_1 12 rfl rfl)
theorem dX7_reads_37 : decode cX7_reads 37 = .ok (.iconst 1, 1) := dk_4 (dk_at dksX7_reads_1 13 rfl rfl)
theorem dX7_reads_38 : decode cX7_reads 38 = .ok (.invokevirtual 78, 3) := dk_182 0 78 (dk_at dksX7_reads_1 14 rfl rfl)
theorem dX7_reads_41 : decode cX7_reads 41 = .ok (.athrow, 1) := dk_191 (dk_at dksX7_reads_1 17 rfl rfl)
theorem dX7_reads_42 : decode cX7_reads 42 = .ok (.aload_n 0, 1) := dk_42 (dk_at dksX7_reads_1 18 rfl rfl)
theorem dX7_reads_43 : decode cX7_reads 43 = .ok (.invokevirtual 26, 3) := dk_182 0 26 (dk_at dksX7_reads_1 19 rfl rfl)
theorem dX7_reads_46 : decode cX7_reads 46 = .ok (.aload_n 0, 1) := dk_42 (dk_at dksX7_reads_1 22 rfl rfl)
theorem dX7_reads_47 : decode cX7_reads 47 = .ok (.getfield 12, 3) := dk_180 0 12 (dk_at dksX7_reads_2 0 rfl rfl)
theorem dX7_reads_50 : decode cX7_reads 50 = .ok (.dup, 1) := dk_89 (dk_at dksX7_reads_2 3 rfl rfl)
theorem dX7_reads_51 : decode cX7_reads 51 = .ok (.getfield 175, 3) := dk_180 0 175 (dk_at dksX7_reads_2 4 rfl rfl)
theorem dX7_reads_54 : decode cX7_reads 54 = .ok (.iconst 1, 1) := dk_4 (dk_at dksX7_reads_2 7 rfl rfl)
theorem dX7_reads_55 : decode cX7_reads 55 = .ok (.iadd, 1) := dk_96 (dk_at dksX7_reads_2 8 rfl rfl)
theorem dX7_reads_56 : decode cX7_reads 56 = .ok (.putfield 175, 3) := dk_181 0 175 (dk_at dksX7_reads_2 9 rfl rfl)
theorem dX7_reads_59 : decode cX7_reads 59 = .ok (.goto (-59), 3) := dk_167 255 197 (dk_at dksX7_reads_2 12 rfl rfl)
theorem dX7_reads_62 : decode cX7_reads 62 = .ok (.aload_n 0, 1) := dk_42 (dk_at dksX7_reads_2 15 rfl rfl)
theorem dX7_reads_63 : decode cX7_reads 63 = .ok (.getfield 12, 3) := dk_180 0 12 (dk_at dksX7_reads_2 16 rfl rfl)
theorem dX7_reads_66 : decode cX7_reads 66 = .ok (.getfield 94, 3) := dk_180 0 94 (dk_at dksX7_reads_2 19 rfl rfl)
theorem dX7_reads_69 : decode cX7_reads 69 = .ok (.invokeinterface 184 1, 5) := by decide +kernel
theorem dX7_reads_74 : decode cX7_reads 74 = .ok (.astore_n 1, 1) := dk_76 (dk_at dksX7_reads_3 5 rfl rfl)
theorem dX7_reads_75 : decode cX7_reads 75 = .ok (.aload_n 1, 1) := dk_43 (dk_at dksX7_reads_3 6 rfl rfl)
theorem dX7_reads_76 : decode cX7_reads 76 = .ok (.invokeinterface 188 1, 5) := by decide +kernel
theorem dX7_reads_81 : decode cX7_reads 81 = .ok (.ifCond .eq 40, 3) := dk_153 0 40 (dk_at dksX7_reads_3 12 rfl rfl)
theorem dX7_reads_84 : decode cX7_reads 84 = .ok (.aload_n 1, 1) := dk_43 (dk_at dksX7_reads_3 15 rfl rfl)
theorem dX7_reads_85 : decode cX7_reads 85 = .ok (.invokeinterface 194 1, 5) := by decide +kernel
theorem dX7_reads_90 : decode cX7_reads 90 = .ok (.checkcast 98, 3) := dk_192 0 98 (dk_at dksX7_reads_3 21 rfl rfl)
theorem dX7_reads_93 : decode cX7_reads 93 = .ok (.astore_n 2, 1) := dk_77 (dk_at dksX7_reads_4 0 rfl rfl)
theorem dX7_reads_94 : decode cX7_reads 94 = .ok (.aload_n 2, 1) := dk_44 (dk_at dksX7_reads_4 1 rfl rfl)
theorem dX7_reads_95 : decode cX7_reads 95 = .ok (.getfield 105, 3) := dk_180 0 105 (dk_at dksX7_reads_4 2 rfl rfl)
theorem dX7_reads_98 : decode cX7_reads 98 = .ok (.aload_n 0, 1) := dk_42 (dk_at dksX7_reads_4 5 rfl rfl)
theorem dX7_reads_99 : decode cX7_reads 99 = .ok (.getfield 12, 3) := dk_180 0 12 (dk_at dksX7_reads_4 6 rfl rfl)
theorem dX7_reads_102 : decode cX7_reads 102 = .ok (.getfield 94, 3) := dk_180 0 94 (dk_at dksX7_reads_4 9 rfl rfl)
theorem dX7_reads_105 : decode cX7_reads 105 = .ok (.invokeinterface 89 1, 5) := by decide +kernel
theorem dX7_reads_110 : decode cX7_reads 110 = .ok (.if_icmp .lt 8, 3) := dk_161 0 8 (dk_at dksX7_reads_4 17 rfl rfl)
theorem dX7_reads_113 : decode cX7_reads 113 = .ok (.aload_n 2, 1) := dk_44 (dk_at dksX7_reads_4 20 rfl rfl)
theorem dX7_reads_114 : decode cX7_reads 114 = .ok (.iconst (-1), 1) := dk_2 (dk_at dksX7_reads_4 21 rfl rfl)
theorem dX7_reads_115 : decode cX7_reads 115 = .ok (.putfield 105, 3) := dk_181 0 105 (dk_at dksX7_reads_5 0 rfl rfl)
theorem dX7_reads_118 : decode cX7_reads 118 = .ok (.goto (-43), 3) := dk_167 255 213 (dk_at dksX7_reads_5 3 rfl rfl)
theorem dX7_reads_121 : decode cX7_reads 121 = .ok (.aload_n 0, 1) := dk_42 (dk_at dksX7_reads_5 6 rfl rfl)
theorem dX7_reads_122 : decode cX7_reads 122 = .ok (.getfield 12, 3) := dk_180 0 12 (dk_at dksX7_reads_5 7 rfl rfl)
theorem dX7_reads_125 : decode cX7_reads 125 = .ok (.areturn, 1) := dk_176 (dk_at dksX7_reads_5 10 rfl rfl)
abbrev cX7_riversLine : ByteArray := prog_7_method_15_code
def yX7_riversLine : MethodName := ⟨RX7, "riversLine", "()V"⟩
def dkwX7_riversLine_2 : List UInt8 := [16, 9, 182, 0, 108, 181, 0, 173, 177]
abbrev dktX7_riversLine_2 : List UInt8 := dkwX7_riversLine_2 ++ []
def dkwX7_riversLine_1 : List UInt8 := [180, 0, 12, 42, 18, 167, 3, 16, 10, 182, 0, 108, 181, 0, 169, 42, 180, 0, 12, 42, 18, 171, 4]
abbrev dktX7_riversLine_1 : List UInt8 := dkwX7_riversLine_1 ++ dktX7_riversLine_2
def dkwX7_riversLine_0 : List UInt8 := [42, 18, 161, 182, 0, 82, 42, 180, 0, 12, 42, 18, 163, 3, 16, 60, 182, 0, 108, 181, 0, 165, 42]
abbrev dktX7_riversLine_0 : List UInt8 := dkwX7_riversLine_0 ++ dktX7_riversLine_1
theorem dksX7_riversLine_0 : cX7_riversLine.data.toList.drop 0 = dktX7_riversLine_0 := by decide +kernel
theorem dksX7_riversLine_1 : cX7_riversLine.data.toList.drop 23 = dktX7_riversLine_1 := dk_seg dksX7_riversLine_0 23 rfl rfl
theorem dksX7_riversLine_2 : cX7_riversLine.data.toList.drop 46 = dktX7_riversLine_2 := dk_seg dksX7_riversLine_1 23 rfl rfl
theorem dX7_riversLine_0 : decode cX7_riversLine 0 = .ok (.aload_n 0, 1) := dk_42 (dk_at dksX7_riversLine_0 0 rfl rfl)
theorem dX7_riversLine_1 : decode cX7_riversLine 1 = .ok (.ldc 161, 2) := dk_18 161 (dk_at dksX7_riversLine_0 1 rfl rfl)
theorem dX7_riversLine_3 : decode cX7_riversLine 3 = .ok (.invokevirtual 82, 3) := dk_182 0 82 (dk_at dksX7_riversLine_0 3 rfl rfl)
theorem dX7_riversLine_6 : decode cX7_riversLine 6 = .ok (.aload_n 0, 1) := dk_42 (dk_at dksX7_riversLine_0 6 rfl rfl)
theorem dX7_riversLine_7 : decode cX7_riversLine 7 = .ok (.getfield 12, 3) := dk_180 0 12 (dk_at dksX7_riversLine_0 7 rfl rfl)
theorem dX7_riversLine_10 : decode cX7_riversLine 10 = .ok (.aload_n 0, 1) := dk_42 (dk_at dksX7_riversLine_0 10 rfl rfl)
theorem dX7_riversLine_11 : decode cX7_riversLine 11 = .ok (.ldc 163, 2) := dk_18 163 (dk_at dksX7_riversLine_0 11 rfl rfl)
theorem dX7_riversLine_13 : decode cX7_riversLine 13 = .ok (.iconst 0, 1) := dk_3 (dk_at dksX7_riversLine_0 13 rfl rfl)
theorem dX7_riversLine_14 : decode cX7_riversLine 14 = .ok (.bipush 60, 2) := dk_16 60 (dk_at dksX7_riversLine_0 14 rfl rfl)
theorem dX7_riversLine_16 : decode cX7_riversLine 16 = .ok (.invokevirtual 108, 3) := dk_182 0 108 (dk_at dksX7_riversLine_0 16 rfl rfl)
theorem dX7_riversLine_19 : decode cX7_riversLine 19 = .ok (.putfield 165, 3) := dk_181 0 165 (dk_at dksX7_riversLine_0 19 rfl rfl)
theorem dX7_riversLine_22 : decode cX7_riversLine 22 = .ok (.aload_n 0, 1) := dk_42 (dk_at dksX7_riversLine_0 22 rfl rfl)
theorem dX7_riversLine_23 : decode cX7_riversLine 23 = .ok (.getfield 12, 3) := dk_180 0 12 (dk_at dksX7_riversLine_1 0 rfl rfl)
theorem dX7_riversLine_26 : decode cX7_riversLine 26 = .ok (.aload_n 0, 1) := dk_42 (dk_at dksX7_riversLine_1 3 rfl rfl)
theorem dX7_riversLine_27 : decode cX7_riversLine 27 = .ok (.ldc 167, 2) := dk_18 167 (dk_at dksX7_riversLine_1 4 rfl rfl)
theorem dX7_riversLine_29 : decode cX7_riversLine 29 = .ok (.iconst 0, 1) := dk_3 (dk_at dksX7_riversLine_1 6 rfl rfl)
theorem dX7_riversLine_30 : decode cX7_riversLine 30 = .ok (.bipush 10, 2) := dk_16 10 (dk_at dksX7_riversLine_1 7 rfl rfl)
theorem dX7_riversLine_32 : decode cX7_riversLine 32 = .ok (.invokevirtual 108, 3) := dk_182 0 108 (dk_at dksX7_riversLine_1 9 rfl rfl)
theorem dX7_riversLine_35 : decode cX7_riversLine 35 = .ok (.putfield 169, 3) := dk_181 0 169 (dk_at dksX7_riversLine_1 12 rfl rfl)
theorem dX7_riversLine_38 : decode cX7_riversLine 38 = .ok (.aload_n 0, 1) := dk_42 (dk_at dksX7_riversLine_1 15 rfl rfl)
theorem dX7_riversLine_39 : decode cX7_riversLine 39 = .ok (.getfield 12, 3) := dk_180 0 12 (dk_at dksX7_riversLine_1 16 rfl rfl)
theorem dX7_riversLine_42 : decode cX7_riversLine 42 = .ok (.aload_n 0, 1) := dk_42 (dk_at dksX7_riversLine_1 19 rfl rfl)
theorem dX7_riversLine_43 : decode cX7_riversLine 43 = .ok (.ldc 171, 2) := dk_18 171 (dk_at dksX7_riversLine_1 20 rfl rfl)
theorem dX7_riversLine_45 : decode cX7_riversLine 45 = .ok (.iconst 1, 1) := dk_4 (dk_at dksX7_riversLine_1 22 rfl rfl)
theorem dX7_riversLine_46 : decode cX7_riversLine 46 = .ok (.bipush 9, 2) := dk_16 9 (dk_at dksX7_riversLine_2 0 rfl rfl)
theorem dX7_riversLine_48 : decode cX7_riversLine 48 = .ok (.invokevirtual 108, 3) := dk_182 0 108 (dk_at dksX7_riversLine_2 2 rfl rfl)
theorem dX7_riversLine_51 : decode cX7_riversLine 51 = .ok (.putfield 173, 3) := dk_181 0 173 (dk_at dksX7_riversLine_2 5 rfl rfl)
theorem dX7_riversLine_54 : decode cX7_riversLine 54 = .ok (.return_, 1) := dk_177 (dk_at dksX7_riversLine_2 8 rfl rfl)
abbrev cX7_asks : ByteArray := prog_7_method_7_code
def yX7_asks : MethodName := ⟨RX7, "asks", "(Ljava/lang/String;)V"⟩
def dkwX7_asks_0 : List UInt8 := [42, 43, 182, 0, 75, 154, 0, 9, 42, 4, 182, 0, 78, 191, 177]
abbrev dktX7_asks_0 : List UInt8 := dkwX7_asks_0 ++ []
theorem dksX7_asks_0 : cX7_asks.data.toList.drop 0 = dktX7_asks_0 := by decide +kernel
theorem dX7_asks_0 : decode cX7_asks 0 = .ok (.aload_n 0, 1) := dk_42 (dk_at dksX7_asks_0 0 rfl rfl)
theorem dX7_asks_1 : decode cX7_asks 1 = .ok (.aload_n 1, 1) := dk_43 (dk_at dksX7_asks_0 1 rfl rfl)
theorem dX7_asks_2 : decode cX7_asks 2 = .ok (.invokevirtual 75, 3) := dk_182 0 75 (dk_at dksX7_asks_0 2 rfl rfl)
theorem dX7_asks_5 : decode cX7_asks 5 = .ok (.ifCond .ne 9, 3) := dk_154 0 9 (dk_at dksX7_asks_0 5 rfl rfl)
theorem dX7_asks_8 : decode cX7_asks 8 = .ok (.aload_n 0, 1) := dk_42 (dk_at dksX7_asks_0 8 rfl rfl)
theorem dX7_asks_9 : decode cX7_asks 9 = .ok (.iconst 1, 1) := dk_4 (dk_at dksX7_asks_0 9 rfl rfl)
theorem dX7_asks_10 : decode cX7_asks 10 = .ok (.invokevirtual 78, 3) := dk_182 0 78 (dk_at dksX7_asks_0 10 rfl rfl)
theorem dX7_asks_13 : decode cX7_asks 13 = .ok (.athrow, 1) := dk_191 (dk_at dksX7_asks_0 13 rfl rfl)
theorem dX7_asks_14 : decode cX7_asks 14 = .ok (.return_, 1) := dk_177 (dk_at dksX7_asks_0 14 rfl rfl)
abbrev cX7_takes : ByteArray := prog_7_method_6_code
def yX7_takes : MethodName := ⟨RX7, "takes", "(Ljava/lang/String;)Z"⟩
def dkwX7_takes_0 : List UInt8 := [42, 43, 182, 0, 71, 61, 28, 153, 0, 7, 42, 182, 0, 26, 28, 172]
abbrev dktX7_takes_0 : List UInt8 := dkwX7_takes_0 ++ []
theorem dksX7_takes_0 : cX7_takes.data.toList.drop 0 = dktX7_takes_0 := by decide +kernel
theorem dX7_takes_0 : decode cX7_takes 0 = .ok (.aload_n 0, 1) := dk_42 (dk_at dksX7_takes_0 0 rfl rfl)
theorem dX7_takes_1 : decode cX7_takes 1 = .ok (.aload_n 1, 1) := dk_43 (dk_at dksX7_takes_0 1 rfl rfl)
theorem dX7_takes_2 : decode cX7_takes 2 = .ok (.invokevirtual 71, 3) := dk_182 0 71 (dk_at dksX7_takes_0 2 rfl rfl)
theorem dX7_takes_5 : decode cX7_takes 5 = .ok (.istore_n 2, 1) := dk_61 (dk_at dksX7_takes_0 5 rfl rfl)
theorem dX7_takes_6 : decode cX7_takes 6 = .ok (.iload_n 2, 1) := dk_28 (dk_at dksX7_takes_0 6 rfl rfl)
theorem dX7_takes_7 : decode cX7_takes 7 = .ok (.ifCond .eq 7, 3) := dk_153 0 7 (dk_at dksX7_takes_0 7 rfl rfl)
theorem dX7_takes_10 : decode cX7_takes 10 = .ok (.aload_n 0, 1) := dk_42 (dk_at dksX7_takes_0 10 rfl rfl)
theorem dX7_takes_11 : decode cX7_takes 11 = .ok (.invokevirtual 26, 3) := dk_182 0 26 (dk_at dksX7_takes_0 11 rfl rfl)
theorem dX7_takes_14 : decode cX7_takes 14 = .ok (.iload_n 2, 1) := dk_28 (dk_at dksX7_takes_0 14 rfl rfl)
theorem dX7_takes_15 : decode cX7_takes 15 = .ok (.ireturn, 1) := dk_172 (dk_at dksX7_takes_0 15 rfl rfl)
abbrev cX7_is : ByteArray := prog_7_method_5_code
def yX7_is : MethodName := ⟨RX7, "is", "(Ljava/lang/String;)Z"⟩
def dkwX7_is_2 : List UInt8 := [28, 182, 0, 67, 159, 0, 5, 3, 172, 132, 2, 1, 167, 255, 224, 4, 172]
abbrev dktX7_is_2 : List UInt8 := dkwX7_is_2 ++ []
def dkwX7_is_1 : List UInt8 := [3, 172, 3, 61, 28, 43, 182, 0, 61, 162, 0, 30, 42, 180, 0, 18, 42, 180, 0, 40, 28, 96, 51, 43]
abbrev dktX7_is_1 : List UInt8 := dkwX7_is_1 ++ dktX7_is_2
def dkwX7_is_0 : List UInt8 := [42, 180, 0, 46, 4, 160, 0, 19, 42, 180, 0, 29, 42, 180, 0, 40, 100, 43, 182, 0, 61, 159, 0, 5]
abbrev dktX7_is_0 : List UInt8 := dkwX7_is_0 ++ dktX7_is_1
theorem dksX7_is_0 : cX7_is.data.toList.drop 0 = dktX7_is_0 := by decide +kernel
theorem dksX7_is_1 : cX7_is.data.toList.drop 24 = dktX7_is_1 := dk_seg dksX7_is_0 24 rfl rfl
theorem dksX7_is_2 : cX7_is.data.toList.drop 48 = dktX7_is_2 := dk_seg dksX7_is_1 24 rfl rfl
theorem dX7_is_0 : decode cX7_is 0 = .ok (.aload_n 0, 1) := dk_42 (dk_at dksX7_is_0 0 rfl rfl)
theorem dX7_is_1 : decode cX7_is 1 = .ok (.getfield 46, 3) := dk_180 0 46 (dk_at dksX7_is_0 1 rfl rfl)
theorem dX7_is_4 : decode cX7_is 4 = .ok (.iconst 1, 1) := dk_4 (dk_at dksX7_is_0 4 rfl rfl)
theorem dX7_is_5 : decode cX7_is 5 = .ok (.if_icmp .ne 19, 3) := dk_160 0 19 (dk_at dksX7_is_0 5 rfl rfl)
theorem dX7_is_8 : decode cX7_is 8 = .ok (.aload_n 0, 1) := dk_42 (dk_at dksX7_is_0 8 rfl rfl)
theorem dX7_is_9 : decode cX7_is 9 = .ok (.getfield 29, 3) := dk_180 0 29 (dk_at dksX7_is_0 9 rfl rfl)
theorem dX7_is_12 : decode cX7_is 12 = .ok (.aload_n 0, 1) := dk_42 (dk_at dksX7_is_0 12 rfl rfl)
theorem dX7_is_13 : decode cX7_is 13 = .ok (.getfield 40, 3) := dk_180 0 40 (dk_at dksX7_is_0 13 rfl rfl)
theorem dX7_is_16 : decode cX7_is 16 = .ok (.isub, 1) := dk_100 (dk_at dksX7_is_0 16 rfl rfl)
theorem dX7_is_17 : decode cX7_is 17 = .ok (.aload_n 1, 1) := dk_43 (dk_at dksX7_is_0 17 rfl rfl)
theorem dX7_is_18 : decode cX7_is 18 = .ok (.invokevirtual 61, 3) := dk_182 0 61 (dk_at dksX7_is_0 18 rfl rfl)
theorem dX7_is_21 : decode cX7_is 21 = .ok (.if_icmp .eq 5, 3) := dk_159 0 5 (dk_at dksX7_is_0 21 rfl rfl)
theorem dX7_is_24 : decode cX7_is 24 = .ok (.iconst 0, 1) := dk_3 (dk_at dksX7_is_1 0 rfl rfl)
theorem dX7_is_25 : decode cX7_is 25 = .ok (.ireturn, 1) := dk_172 (dk_at dksX7_is_1 1 rfl rfl)
theorem dX7_is_26 : decode cX7_is 26 = .ok (.iconst 0, 1) := dk_3 (dk_at dksX7_is_1 2 rfl rfl)
theorem dX7_is_27 : decode cX7_is 27 = .ok (.istore_n 2, 1) := dk_61 (dk_at dksX7_is_1 3 rfl rfl)
theorem dX7_is_28 : decode cX7_is 28 = .ok (.iload_n 2, 1) := dk_28 (dk_at dksX7_is_1 4 rfl rfl)
theorem dX7_is_29 : decode cX7_is 29 = .ok (.aload_n 1, 1) := dk_43 (dk_at dksX7_is_1 5 rfl rfl)
theorem dX7_is_30 : decode cX7_is 30 = .ok (.invokevirtual 61, 3) := dk_182 0 61 (dk_at dksX7_is_1 6 rfl rfl)
theorem dX7_is_33 : decode cX7_is 33 = .ok (.if_icmp .ge 30, 3) := dk_162 0 30 (dk_at dksX7_is_1 9 rfl rfl)
theorem dX7_is_36 : decode cX7_is 36 = .ok (.aload_n 0, 1) := dk_42 (dk_at dksX7_is_1 12 rfl rfl)
theorem dX7_is_37 : decode cX7_is 37 = .ok (.getfield 18, 3) := dk_180 0 18 (dk_at dksX7_is_1 13 rfl rfl)
theorem dX7_is_40 : decode cX7_is 40 = .ok (.aload_n 0, 1) := dk_42 (dk_at dksX7_is_1 16 rfl rfl)
theorem dX7_is_41 : decode cX7_is 41 = .ok (.getfield 40, 3) := dk_180 0 40 (dk_at dksX7_is_1 17 rfl rfl)
theorem dX7_is_44 : decode cX7_is 44 = .ok (.iload_n 2, 1) := dk_28 (dk_at dksX7_is_1 20 rfl rfl)
theorem dX7_is_45 : decode cX7_is 45 = .ok (.iadd, 1) := dk_96 (dk_at dksX7_is_1 21 rfl rfl)
theorem dX7_is_46 : decode cX7_is 46 = .ok (.baload, 1) := dk_51 (dk_at dksX7_is_1 22 rfl rfl)
theorem dX7_is_47 : decode cX7_is 47 = .ok (.aload_n 1, 1) := dk_43 (dk_at dksX7_is_1 23 rfl rfl)
theorem dX7_is_48 : decode cX7_is 48 = .ok (.iload_n 2, 1) := dk_28 (dk_at dksX7_is_2 0 rfl rfl)
theorem dX7_is_49 : decode cX7_is 49 = .ok (.invokevirtual 67, 3) := dk_182 0 67 (dk_at dksX7_is_2 1 rfl rfl)
theorem dX7_is_52 : decode cX7_is 52 = .ok (.if_icmp .eq 5, 3) := dk_159 0 5 (dk_at dksX7_is_2 4 rfl rfl)
theorem dX7_is_55 : decode cX7_is 55 = .ok (.iconst 0, 1) := dk_3 (dk_at dksX7_is_2 7 rfl rfl)
theorem dX7_is_56 : decode cX7_is 56 = .ok (.ireturn, 1) := dk_172 (dk_at dksX7_is_2 8 rfl rfl)
theorem dX7_is_57 : decode cX7_is 57 = .ok (.iinc 2 1, 3) := dk_132 2 1 (dk_at dksX7_is_2 9 rfl rfl)
theorem dX7_is_60 : decode cX7_is 60 = .ok (.goto (-32), 3) := dk_167 255 224 (dk_at dksX7_is_2 12 rfl rfl)
theorem dX7_is_63 : decode cX7_is 63 = .ok (.iconst 1, 1) := dk_4 (dk_at dksX7_is_2 15 rfl rfl)
theorem dX7_is_64 : decode cX7_is 64 = .ok (.ireturn, 1) := dk_172 (dk_at dksX7_is_2 16 rfl rfl)
abbrev cX7_fault : ByteArray := prog_7_method_4_code
def yX7_fault : MethodName := ⟨RX7, "fault", "(I)LQuotedRiver$Fault;"⟩
def dkwX7_fault_0 : List UInt8 := [187, 0, 56, 89, 27, 42, 180, 0, 40, 183, 0, 58, 176]
abbrev dktX7_fault_0 : List UInt8 := dkwX7_fault_0 ++ []
theorem dksX7_fault_0 : cX7_fault.data.toList.drop 0 = dktX7_fault_0 := by decide +kernel
theorem dX7_fault_0 : decode cX7_fault 0 = .ok (.new 56, 3) := dk_187 0 56 (dk_at dksX7_fault_0 0 rfl rfl)
theorem dX7_fault_3 : decode cX7_fault 3 = .ok (.dup, 1) := dk_89 (dk_at dksX7_fault_0 3 rfl rfl)
theorem dX7_fault_4 : decode cX7_fault 4 = .ok (.iload_n 1, 1) := dk_27 (dk_at dksX7_fault_0 4 rfl rfl)
theorem dX7_fault_5 : decode cX7_fault 5 = .ok (.aload_n 0, 1) := dk_42 (dk_at dksX7_fault_0 5 rfl rfl)
theorem dX7_fault_6 : decode cX7_fault 6 = .ok (.getfield 40, 3) := dk_180 0 40 (dk_at dksX7_fault_0 6 rfl rfl)
theorem dX7_fault_9 : decode cX7_fault 9 = .ok (.invokespecial 58, 3) := dk_183 0 58 (dk_at dksX7_fault_0 9 rfl rfl)
theorem dX7_fault_12 : decode cX7_fault 12 = .ok (.areturn, 1) := dk_176 (dk_at dksX7_fault_0 12 rfl rfl)
abbrev cX7_number : ByteArray := prog_7_method_9_code
def yX7_number : MethodName := ⟨RX7, "number", "(Ljava/lang/String;II)I"⟩
def dkwX7_number_0 : List UInt8 := [42, 43, 182, 0, 82, 42, 28, 29, 182, 0, 86, 172]
abbrev dktX7_number_0 : List UInt8 := dkwX7_number_0 ++ []
theorem dksX7_number_0 : cX7_number.data.toList.drop 0 = dktX7_number_0 := by decide +kernel
theorem dX7_number_0 : decode cX7_number 0 = .ok (.aload_n 0, 1) := dk_42 (dk_at dksX7_number_0 0 rfl rfl)
theorem dX7_number_1 : decode cX7_number 1 = .ok (.aload_n 1, 1) := dk_43 (dk_at dksX7_number_0 1 rfl rfl)
theorem dX7_number_2 : decode cX7_number 2 = .ok (.invokevirtual 82, 3) := dk_182 0 82 (dk_at dksX7_number_0 2 rfl rfl)
theorem dX7_number_5 : decode cX7_number 5 = .ok (.aload_n 0, 1) := dk_42 (dk_at dksX7_number_0 5 rfl rfl)
theorem dX7_number_6 : decode cX7_number 6 = .ok (.iload_n 2, 1) := dk_28 (dk_at dksX7_number_0 6 rfl rfl)
theorem dX7_number_7 : decode cX7_number 7 = .ok (.iload_n 3, 1) := dk_29 (dk_at dksX7_number_0 7 rfl rfl)
theorem dX7_number_8 : decode cX7_number 8 = .ok (.invokevirtual 86, 3) := dk_182 0 86 (dk_at dksX7_number_0 8 rfl rfl)
theorem dX7_number_11 : decode cX7_number 11 = .ok (.ireturn, 1) := dk_172 (dk_at dksX7_number_0 11 rfl rfl)
abbrev cX7_number_2 : ByteArray := prog_7_method_8_code
def yX7_number_2 : MethodName := ⟨RX7, "number", "(II)I"⟩
def dkwX7_number_2_1 : List UInt8 := [184, 0, 32, 154, 0, 9, 42, 5, 182, 0, 78, 191, 42, 180, 0, 43, 62, 42, 182, 0, 26, 29, 172]
abbrev dktX7_number_2_1 : List UInt8 := dkwX7_number_2_1 ++ []
def dkwX7_number_2_0 : List UInt8 := [42, 180, 0, 46, 5, 159, 0, 9, 42, 4, 182, 0, 78, 191, 42, 180, 0, 43, 133, 27, 133, 28, 133]
abbrev dktX7_number_2_0 : List UInt8 := dkwX7_number_2_0 ++ dktX7_number_2_1
theorem dksX7_number_2_0 : cX7_number_2.data.toList.drop 0 = dktX7_number_2_0 := by decide +kernel
theorem dksX7_number_2_1 : cX7_number_2.data.toList.drop 23 = dktX7_number_2_1 := dk_seg dksX7_number_2_0 23 rfl rfl
theorem dX7_number_2_0 : decode cX7_number_2 0 = .ok (.aload_n 0, 1) := dk_42 (dk_at dksX7_number_2_0 0 rfl rfl)
theorem dX7_number_2_1 : decode cX7_number_2 1 = .ok (.getfield 46, 3) := dk_180 0 46 (dk_at dksX7_number_2_0 1 rfl rfl)
theorem dX7_number_2_4 : decode cX7_number_2 4 = .ok (.iconst 2, 1) := dk_5 (dk_at dksX7_number_2_0 4 rfl rfl)
theorem dX7_number_2_5 : decode cX7_number_2 5 = .ok (.if_icmp .eq 9, 3) := dk_159 0 9 (dk_at dksX7_number_2_0 5 rfl rfl)
theorem dX7_number_2_8 : decode cX7_number_2 8 = .ok (.aload_n 0, 1) := dk_42 (dk_at dksX7_number_2_0 8 rfl rfl)
theorem dX7_number_2_9 : decode cX7_number_2 9 = .ok (.iconst 1, 1) := dk_4 (dk_at dksX7_number_2_0 9 rfl rfl)
theorem dX7_number_2_10 : decode cX7_number_2 10 = .ok (.invokevirtual 78, 3) := dk_182 0 78 (dk_at dksX7_number_2_0 10 rfl rfl)
theorem dX7_number_2_13 : decode cX7_number_2 13 = .ok (.athrow, 1) := dk_191 (dk_at dksX7_number_2_0 13 rfl rfl)
theorem dX7_number_2_14 : decode cX7_number_2 14 = .ok (.aload_n 0, 1) := dk_42 (dk_at dksX7_number_2_0 14 rfl rfl)
theorem dX7_number_2_15 : decode cX7_number_2 15 = .ok (.getfield 43, 3) := dk_180 0 43 (dk_at dksX7_number_2_0 15 rfl rfl)
theorem dX7_number_2_18 : decode cX7_number_2 18 = .ok (.i2l, 1) := dk_133 (dk_at dksX7_number_2_0 18 rfl rfl)
theorem dX7_number_2_19 : decode cX7_number_2 19 = .ok (.iload_n 1, 1) := dk_27 (dk_at dksX7_number_2_0 19 rfl rfl)
theorem dX7_number_2_20 : decode cX7_number_2 20 = .ok (.i2l, 1) := dk_133 (dk_at dksX7_number_2_0 20 rfl rfl)
theorem dX7_number_2_21 : decode cX7_number_2 21 = .ok (.iload_n 2, 1) := dk_28 (dk_at dksX7_number_2_0 21 rfl rfl)
theorem dX7_number_2_22 : decode cX7_number_2 22 = .ok (.i2l, 1) := dk_133 (dk_at dksX7_number_2_0 22 rfl rfl)
theorem dX7_number_2_23 : decode cX7_number_2 23 = .ok (.invokestatic 32, 3) := dk_184 0 32 (dk_at dksX7_number_2_1 0 rfl rfl)
theorem dX7_number_2_26 : decode cX7_number_2 26 = .ok (.ifCond .ne 9, 3) := dk_154 0 9 (dk_at dksX7_number_2_1 3 rfl rfl)
theorem dX7_number_2_29 : decode cX7_number_2 29 = .ok (.aload_n 0, 1) := dk_42 (dk_at dksX7_number_2_1 6 rfl rfl)
theorem dX7_number_2_30 : decode cX7_number_2 30 = .ok (.iconst 2, 1) := dk_5 (dk_at dksX7_number_2_1 7 rfl rfl)
theorem dX7_number_2_31 : decode cX7_number_2 31 = .ok (.invokevirtual 78, 3) := dk_182 0 78 (dk_at dksX7_number_2_1 8 rfl rfl)
theorem dX7_number_2_34 : decode cX7_number_2 34 = .ok (.athrow, 1) := dk_191 (dk_at dksX7_number_2_1 11 rfl rfl)
theorem dX7_number_2_35 : decode cX7_number_2 35 = .ok (.aload_n 0, 1) := dk_42 (dk_at dksX7_number_2_1 12 rfl rfl)
theorem dX7_number_2_36 : decode cX7_number_2 36 = .ok (.getfield 43, 3) := dk_180 0 43 (dk_at dksX7_number_2_1 13 rfl rfl)
theorem dX7_number_2_39 : decode cX7_number_2 39 = .ok (.istore_n 3, 1) := dk_62 (dk_at dksX7_number_2_1 16 rfl rfl)
theorem dX7_number_2_40 : decode cX7_number_2 40 = .ok (.aload_n 0, 1) := dk_42 (dk_at dksX7_number_2_1 17 rfl rfl)
theorem dX7_number_2_41 : decode cX7_number_2 41 = .ok (.invokevirtual 26, 3) := dk_182 0 26 (dk_at dksX7_number_2_1 18 rfl rfl)
theorem dX7_number_2_44 : decode cX7_number_2 44 = .ok (.iload_n 3, 1) := dk_29 (dk_at dksX7_number_2_1 21 rfl rfl)
theorem dX7_number_2_45 : decode cX7_number_2 45 = .ok (.ireturn, 1) := dk_172 (dk_at dksX7_number_2_1 22 rfl rfl)
abbrev cX7_told : ByteArray := prog_7_method_14_code
def yX7_told : MethodName := ⟨RX7, "told", "()V"⟩
def dkwX7_told_4 : List UInt8 := [42, 18, 135, 3, 16, 60, 182, 0, 108, 183, 0, 160, 185, 0, 117, 2, 0, 87, 177]
abbrev dktX7_told_4 : List UInt8 := dkwX7_told_4 ++ []
def dkwX7_told_3 : List UInt8 := [182, 0, 78, 191, 42, 4, 16, 30, 182, 0, 86, 60, 42, 180, 0, 12, 180, 0, 155, 187, 0, 158, 89, 27]
abbrev dktX7_told_3 : List UInt8 := dkwX7_told_3 ++ dktX7_told_4
def dkwX7_told_2 : List UInt8 := [167, 0, 64, 42, 18, 153, 42, 180, 0, 12, 180, 0, 155, 8, 182, 0, 141, 154, 0, 9, 42, 4]
abbrev dktX7_told_2 : List UInt8 := dkwX7_told_2 ++ dktX7_told_3
def dkwX7_told_1 : List UInt8 := [167, 0, 88, 42, 18, 148, 42, 180, 0, 12, 180, 0, 137, 8, 182, 0, 141, 153, 0, 10, 42, 182, 0, 150]
abbrev dktX7_told_1 : List UInt8 := dkwX7_told_1 ++ dktX7_told_2
def dkwX7_told_0 : List UInt8 := [42, 18, 140, 42, 180, 0, 12, 180, 0, 94, 16, 10, 182, 0, 141, 153, 0, 10, 42, 182, 0, 145]
abbrev dktX7_told_0 : List UInt8 := dkwX7_told_0 ++ dktX7_told_1
theorem dksX7_told_0 : cX7_told.data.toList.drop 0 = dktX7_told_0 := by decide +kernel
theorem dksX7_told_1 : cX7_told.data.toList.drop 22 = dktX7_told_1 := dk_seg dksX7_told_0 22 rfl rfl
theorem dksX7_told_2 : cX7_told.data.toList.drop 46 = dktX7_told_2 := dk_seg dksX7_told_1 24 rfl rfl
theorem dksX7_told_3 : cX7_told.data.toList.drop 68 = dktX7_told_3 := dk_seg dksX7_told_2 22 rfl rfl
theorem dksX7_told_4 : cX7_told.data.toList.drop 92 = dktX7_told_4 := dk_seg dksX7_told_3 24 rfl rfl
theorem dX7_told_0 : decode cX7_told 0 = .ok (.aload_n 0, 1) := dk_42 (dk_at dksX7_told_0 0 rfl rfl)
theorem dX7_told_1 : decode cX7_told 1 = .ok (.ldc 140, 2) := dk_18 140 (dk_at dksX7_told_0 1 rfl rfl)
theorem dX7_told_3 : decode cX7_told 3 = .ok (.aload_n 0, 1) := dk_42 (dk_at dksX7_told_0 3 rfl rfl)
theorem dX7_told_4 : decode cX7_told 4 = .ok (.getfield 12, 3) := dk_180 0 12 (dk_at dksX7_told_0 4 rfl rfl)
theorem dX7_told_7 : decode cX7_told 7 = .ok (.getfield 94, 3) := dk_180 0 94 (dk_at dksX7_told_0 7 rfl rfl)
theorem dX7_told_10 : decode cX7_told 10 = .ok (.bipush 10, 2) := dk_16 10 (dk_at dksX7_told_0 10 rfl rfl)
theorem dX7_told_12 : decode cX7_told 12 = .ok (.invokevirtual 141, 3) := dk_182 0 141 (dk_at dksX7_told_0 12 rfl rfl)
theorem dX7_told_15 : decode cX7_told 15 = .ok (.ifCond .eq 10, 3) := dk_153 0 10 (dk_at dksX7_told_0 15 rfl rfl)
theorem dX7_told_18 : decode cX7_told 18 = .ok (.aload_n 0, 1) := dk_42 (dk_at dksX7_told_0 18 rfl rfl)
theorem dX7_told_19 : decode cX7_told 19 = .ok (.invokevirtual 145, 3) := dk_182 0 145 (dk_at dksX7_told_0 19 rfl rfl)
theorem dX7_told_22 : decode cX7_told 22 = .ok (.goto 88, 3) := dk_167 0 88 (dk_at dksX7_told_1 0 rfl rfl)
theorem dX7_told_25 : decode cX7_told 25 = .ok (.aload_n 0, 1) := dk_42 (dk_at dksX7_told_1 3 rfl rfl)
theorem dX7_told_26 : decode cX7_told 26 = .ok (.ldc 148, 2) := dk_18 148 (dk_at dksX7_told_1 4 rfl rfl)
theorem dX7_told_28 : decode cX7_told 28 = .ok (.aload_n 0, 1) := dk_42 (dk_at dksX7_told_1 6 rfl rfl)
theorem dX7_told_29 : decode cX7_told 29 = .ok (.getfield 12, 3) := dk_180 0 12 (dk_at dksX7_told_1 7 rfl rfl)
theorem dX7_told_32 : decode cX7_told 32 = .ok (.getfield 137, 3) := dk_180 0 137 (dk_at dksX7_told_1 10 rfl rfl)
theorem dX7_told_35 : decode cX7_told 35 = .ok (.iconst 5, 1) := dk_8 (dk_at dksX7_told_1 13 rfl rfl)
theorem dX7_told_36 : decode cX7_told 36 = .ok (.invokevirtual 141, 3) := dk_182 0 141 (dk_at dksX7_told_1 14 rfl rfl)
theorem dX7_told_39 : decode cX7_told 39 = .ok (.ifCond .eq 10, 3) := dk_153 0 10 (dk_at dksX7_told_1 17 rfl rfl)
theorem dX7_told_42 : decode cX7_told 42 = .ok (.aload_n 0, 1) := dk_42 (dk_at dksX7_told_1 20 rfl rfl)
theorem dX7_told_43 : decode cX7_told 43 = .ok (.invokevirtual 150, 3) := dk_182 0 150 (dk_at dksX7_told_1 21 rfl rfl)
theorem dX7_told_46 : decode cX7_told 46 = .ok (.goto 64, 3) := dk_167 0 64 (dk_at dksX7_told_2 0 rfl rfl)
theorem dX7_told_49 : decode cX7_told 49 = .ok (.aload_n 0, 1) := dk_42 (dk_at dksX7_told_2 3 rfl rfl)
theorem dX7_told_50 : decode cX7_told 50 = .ok (.ldc 153, 2) := dk_18 153 (dk_at dksX7_told_2 4 rfl rfl)
theorem dX7_told_52 : decode cX7_told 52 = .ok (.aload_n 0, 1) := dk_42 (dk_at dksX7_told_2 6 rfl rfl)
theorem dX7_told_53 : decode cX7_told 53 = .ok (.getfield 12, 3) := dk_180 0 12 (dk_at dksX7_told_2 7 rfl rfl)
theorem dX7_told_56 : decode cX7_told 56 = .ok (.getfield 155, 3) := dk_180 0 155 (dk_at dksX7_told_2 10 rfl rfl)
theorem dX7_told_59 : decode cX7_told 59 = .ok (.iconst 5, 1) := dk_8 (dk_at dksX7_told_2 13 rfl rfl)
theorem dX7_told_60 : decode cX7_told 60 = .ok (.invokevirtual 141, 3) := dk_182 0 141 (dk_at dksX7_told_2 14 rfl rfl)
theorem dX7_told_63 : decode cX7_told 63 = .ok (.ifCond .ne 9, 3) := dk_154 0 9 (dk_at dksX7_told_2 17 rfl rfl)
theorem dX7_told_66 : decode cX7_told 66 = .ok (.aload_n 0, 1) := dk_42 (dk_at dksX7_told_2 20 rfl rfl)
theorem dX7_told_67 : decode cX7_told 67 = .ok (.iconst 1, 1) := dk_4 (dk_at dksX7_told_2 21 rfl rfl)
theorem dX7_told_68 : decode cX7_told 68 = .ok (.invokevirtual 78, 3) := dk_182 0 78 (dk_at dksX7_told_3 0 rfl rfl)
theorem dX7_told_71 : decode cX7_told 71 = .ok (.athrow, 1) := dk_191 (dk_at dksX7_told_3 3 rfl rfl)
theorem dX7_told_72 : decode cX7_told 72 = .ok (.aload_n 0, 1) := dk_42 (dk_at dksX7_told_3 4 rfl rfl)
theorem dX7_told_73 : decode cX7_told 73 = .ok (.iconst 1, 1) := dk_4 (dk_at dksX7_told_3 5 rfl rfl)
theorem dX7_told_74 : decode cX7_told 74 = .ok (.bipush 30, 2) := dk_16 30 (dk_at dksX7_told_3 6 rfl rfl)
theorem dX7_told_76 : decode cX7_told 76 = .ok (.invokevirtual 86, 3) := dk_182 0 86 (dk_at dksX7_told_3 8 rfl rfl)
theorem dX7_told_79 : decode cX7_told 79 = .ok (.istore_n 1, 1) := dk_60 (dk_at dksX7_told_3 11 rfl rfl)
theorem dX7_told_80 : decode cX7_told 80 = .ok (.aload_n 0, 1) := dk_42 (dk_at dksX7_told_3 12 rfl rfl)
theorem dX7_told_81 : decode cX7_told 81 = .ok (.getfield 12, 3) := dk_180 0 12 (dk_at dksX7_told_3 13 rfl rfl)
theorem dX7_told_84 : decode cX7_told 84 = .ok (.getfield 155, 3) := dk_180 0 155 (dk_at dksX7_told_3 16 rfl rfl)
theorem dX7_told_87 : decode cX7_told 87 = .ok (.new 158, 3) := dk_187 0 158 (dk_at dksX7_told_3 19 rfl rfl)
theorem dX7_told_90 : decode cX7_told 90 = .ok (.dup, 1) := dk_89 (dk_at dksX7_told_3 22 rfl rfl)
theorem dX7_told_91 : decode cX7_told 91 = .ok (.iload_n 1, 1) := dk_27 (dk_at dksX7_told_3 23 rfl rfl)
theorem dX7_told_92 : decode cX7_told 92 = .ok (.aload_n 0, 1) := dk_42 (dk_at dksX7_told_4 0 rfl rfl)
theorem dX7_told_93 : decode cX7_told 93 = .ok (.ldc 135, 2) := dk_18 135 (dk_at dksX7_told_4 1 rfl rfl)
theorem dX7_told_95 : decode cX7_told 95 = .ok (.iconst 0, 1) := dk_3 (dk_at dksX7_told_4 3 rfl rfl)
theorem dX7_told_96 : decode cX7_told 96 = .ok (.bipush 60, 2) := dk_16 60 (dk_at dksX7_told_4 4 rfl rfl)
theorem dX7_told_98 : decode cX7_told 98 = .ok (.invokevirtual 108, 3) := dk_182 0 108 (dk_at dksX7_told_4 6 rfl rfl)
theorem dX7_told_101 : decode cX7_told 101 = .ok (.invokespecial 160, 3) := dk_183 0 160 (dk_at dksX7_told_4 9 rfl rfl)
theorem dX7_told_104 : decode cX7_told 104 = .ok (.invokeinterface 117 2, 5) := by decide +kernel
theorem dX7_told_109 : decode cX7_told 109 = .ok (.pop, 1) := dk_87 (dk_at dksX7_told_4 17 rfl rfl)
theorem dX7_told_110 : decode cX7_told 110 = .ok (.return_, 1) := dk_177 (dk_at dksX7_told_4 18 rfl rfl)
abbrev cX7_line : ByteArray := prog_7_method_10_code
def yX7_line : MethodName := ⟨RX7, "line", "(Ljava/lang/String;Ljava/util/List;I)Z"⟩
def dkwX7_line_1 : List UInt8 := [182, 0, 78, 191, 42, 182, 0, 26, 4, 172]
abbrev dktX7_line_1 : List UInt8 := dkwX7_line_1 ++ []
def dkwX7_line_0 : List UInt8 := [42, 43, 182, 0, 71, 154, 0, 5, 3, 172, 44, 185, 0, 89, 1, 0, 29, 160, 0, 9, 42, 6]
abbrev dktX7_line_0 : List UInt8 := dkwX7_line_0 ++ dktX7_line_1
theorem dksX7_line_0 : cX7_line.data.toList.drop 0 = dktX7_line_0 := by decide +kernel
theorem dksX7_line_1 : cX7_line.data.toList.drop 22 = dktX7_line_1 := dk_seg dksX7_line_0 22 rfl rfl
theorem dX7_line_0 : decode cX7_line 0 = .ok (.aload_n 0, 1) := dk_42 (dk_at dksX7_line_0 0 rfl rfl)
theorem dX7_line_1 : decode cX7_line 1 = .ok (.aload_n 1, 1) := dk_43 (dk_at dksX7_line_0 1 rfl rfl)
theorem dX7_line_2 : decode cX7_line 2 = .ok (.invokevirtual 71, 3) := dk_182 0 71 (dk_at dksX7_line_0 2 rfl rfl)
theorem dX7_line_5 : decode cX7_line 5 = .ok (.ifCond .ne 5, 3) := dk_154 0 5 (dk_at dksX7_line_0 5 rfl rfl)
theorem dX7_line_8 : decode cX7_line 8 = .ok (.iconst 0, 1) := dk_3 (dk_at dksX7_line_0 8 rfl rfl)
theorem dX7_line_9 : decode cX7_line 9 = .ok (.ireturn, 1) := dk_172 (dk_at dksX7_line_0 9 rfl rfl)
theorem dX7_line_10 : decode cX7_line 10 = .ok (.aload_n 2, 1) := dk_44 (dk_at dksX7_line_0 10 rfl rfl)
theorem dX7_line_11 : decode cX7_line 11 = .ok (.invokeinterface 89 1, 5) := by decide +kernel
theorem dX7_line_16 : decode cX7_line 16 = .ok (.iload_n 3, 1) := dk_29 (dk_at dksX7_line_0 16 rfl rfl)
theorem dX7_line_17 : decode cX7_line 17 = .ok (.if_icmp .ne 9, 3) := dk_160 0 9 (dk_at dksX7_line_0 17 rfl rfl)
theorem dX7_line_20 : decode cX7_line 20 = .ok (.aload_n 0, 1) := dk_42 (dk_at dksX7_line_0 20 rfl rfl)
theorem dX7_line_21 : decode cX7_line 21 = .ok (.iconst 3, 1) := dk_6 (dk_at dksX7_line_0 21 rfl rfl)
theorem dX7_line_22 : decode cX7_line 22 = .ok (.invokevirtual 78, 3) := dk_182 0 78 (dk_at dksX7_line_1 0 rfl rfl)
theorem dX7_line_25 : decode cX7_line 25 = .ok (.athrow, 1) := dk_191 (dk_at dksX7_line_1 3 rfl rfl)
theorem dX7_line_26 : decode cX7_line 26 = .ok (.aload_n 0, 1) := dk_42 (dk_at dksX7_line_1 4 rfl rfl)
theorem dX7_line_27 : decode cX7_line 27 = .ok (.invokevirtual 26, 3) := dk_182 0 26 (dk_at dksX7_line_1 5 rfl rfl)
theorem dX7_line_30 : decode cX7_line 30 = .ok (.iconst 1, 1) := dk_4 (dk_at dksX7_line_1 8 rfl rfl)
theorem dX7_line_31 : decode cX7_line 31 = .ok (.ireturn, 1) := dk_172 (dk_at dksX7_line_1 9 rfl rfl)
abbrev cX7_reachLine : ByteArray := prog_7_method_12_code
def yX7_reachLine : MethodName := ⟨RX7, "reachLine", "()V"⟩
def dkwX7_reachLine_3 : List UInt8 := [185, 0, 117, 2, 0, 87, 177]
abbrev dktX7_reachLine_3 : List UInt8 := dkwX7_reachLine_3 ++ []
def dkwX7_reachLine_2 : List UInt8 := [181, 0, 111, 43, 42, 18, 113, 3, 16, 20, 182, 0, 108, 181, 0, 115, 42, 180, 0, 12, 180, 0, 94, 43]
abbrev dktX7_reachLine_2 : List UInt8 := dkwX7_reachLine_2 ++ dktX7_reachLine_3
def dkwX7_reachLine_1 : List UInt8 := [2, 167, 0, 10, 42, 3, 16, 9, 182, 0, 86, 181, 0, 105, 43, 42, 18, 107, 4, 8, 182, 0, 108]
abbrev dktX7_reachLine_1 : List UInt8 := dkwX7_reachLine_1 ++ dktX7_reachLine_2
def dkwX7_reachLine_0 : List UInt8 := [187, 0, 98, 89, 183, 0, 100, 76, 42, 18, 101, 182, 0, 82, 43, 42, 18, 103, 182, 0, 75, 153, 0, 7]
abbrev dktX7_reachLine_0 : List UInt8 := dkwX7_reachLine_0 ++ dktX7_reachLine_1
theorem dksX7_reachLine_0 : cX7_reachLine.data.toList.drop 0 = dktX7_reachLine_0 := by decide +kernel
theorem dksX7_reachLine_1 : cX7_reachLine.data.toList.drop 24 = dktX7_reachLine_1 := dk_seg dksX7_reachLine_0 24 rfl rfl
theorem dksX7_reachLine_2 : cX7_reachLine.data.toList.drop 47 = dktX7_reachLine_2 := dk_seg dksX7_reachLine_1 23 rfl rfl
theorem dksX7_reachLine_3 : cX7_reachLine.data.toList.drop 71 = dktX7_reachLine_3 := dk_seg dksX7_reachLine_2 24 rfl rfl
theorem dX7_reachLine_0 : decode cX7_reachLine 0 = .ok (.new 98, 3) := dk_187 0 98 (dk_at dksX7_reachLine_0 0 rfl rfl)
theorem dX7_reachLine_3 : decode cX7_reachLine 3 = .ok (.dup, 1) := dk_89 (dk_at dksX7_reachLine_0 3 rfl rfl)
theorem dX7_reachLine_4 : decode cX7_reachLine 4 = .ok (.invokespecial 100, 3) := dk_183 0 100 (dk_at dksX7_reachLine_0 4 rfl rfl)
theorem dX7_reachLine_7 : decode cX7_reachLine 7 = .ok (.astore_n 1, 1) := dk_76 (dk_at dksX7_reachLine_0 7 rfl rfl)
theorem dX7_reachLine_8 : decode cX7_reachLine 8 = .ok (.aload_n 0, 1) := dk_42 (dk_at dksX7_reachLine_0 8 rfl rfl)
theorem dX7_reachLine_9 : decode cX7_reachLine 9 = .ok (.ldc 101, 2) := dk_18 101 (dk_at dksX7_reachLine_0 9 rfl rfl)
theorem dX7_reachLine_11 : decode cX7_reachLine 11 = .ok (.invokevirtual 82, 3) := dk_182 0 82 (dk_at dksX7_reachLine_0 11 rfl rfl)
theorem dX7_reachLine_14 : decode cX7_reachLine 14 = .ok (.aload_n 1, 1) := dk_43 (dk_at dksX7_reachLine_0 14 rfl rfl)
theorem dX7_reachLine_15 : decode cX7_reachLine 15 = .ok (.aload_n 0, 1) := dk_42 (dk_at dksX7_reachLine_0 15 rfl rfl)
theorem dX7_reachLine_16 : decode cX7_reachLine 16 = .ok (.ldc 103, 2) := dk_18 103 (dk_at dksX7_reachLine_0 16 rfl rfl)
theorem dX7_reachLine_18 : decode cX7_reachLine 18 = .ok (.invokevirtual 75, 3) := dk_182 0 75 (dk_at dksX7_reachLine_0 18 rfl rfl)
theorem dX7_reachLine_21 : decode cX7_reachLine 21 = .ok (.ifCond .eq 7, 3) := dk_153 0 7 (dk_at dksX7_reachLine_0 21 rfl rfl)
theorem dX7_reachLine_24 : decode cX7_reachLine 24 = .ok (.iconst (-1), 1) := dk_2 (dk_at dksX7_reachLine_1 0 rfl rfl)
theorem dX7_reachLine_25 : decode cX7_reachLine 25 = .ok (.goto 10, 3) := dk_167 0 10 (dk_at dksX7_reachLine_1 1 rfl rfl)
theorem dX7_reachLine_28 : decode cX7_reachLine 28 = .ok (.aload_n 0, 1) := dk_42 (dk_at dksX7_reachLine_1 4 rfl rfl)
theorem dX7_reachLine_29 : decode cX7_reachLine 29 = .ok (.iconst 0, 1) := dk_3 (dk_at dksX7_reachLine_1 5 rfl rfl)
theorem dX7_reachLine_30 : decode cX7_reachLine 30 = .ok (.bipush 9, 2) := dk_16 9 (dk_at dksX7_reachLine_1 6 rfl rfl)
theorem dX7_reachLine_32 : decode cX7_reachLine 32 = .ok (.invokevirtual 86, 3) := dk_182 0 86 (dk_at dksX7_reachLine_1 8 rfl rfl)
theorem dX7_reachLine_35 : decode cX7_reachLine 35 = .ok (.putfield 105, 3) := dk_181 0 105 (dk_at dksX7_reachLine_1 11 rfl rfl)
theorem dX7_reachLine_38 : decode cX7_reachLine 38 = .ok (.aload_n 1, 1) := dk_43 (dk_at dksX7_reachLine_1 14 rfl rfl)
theorem dX7_reachLine_39 : decode cX7_reachLine 39 = .ok (.aload_n 0, 1) := dk_42 (dk_at dksX7_reachLine_1 15 rfl rfl)
theorem dX7_reachLine_40 : decode cX7_reachLine 40 = .ok (.ldc 107, 2) := dk_18 107 (dk_at dksX7_reachLine_1 16 rfl rfl)
theorem dX7_reachLine_42 : decode cX7_reachLine 42 = .ok (.iconst 1, 1) := dk_4 (dk_at dksX7_reachLine_1 18 rfl rfl)
theorem dX7_reachLine_43 : decode cX7_reachLine 43 = .ok (.iconst 5, 1) := dk_8 (dk_at dksX7_reachLine_1 19 rfl rfl)
theorem dX7_reachLine_44 : decode cX7_reachLine 44 = .ok (.invokevirtual 108, 3) := dk_182 0 108 (dk_at dksX7_reachLine_1 20 rfl rfl)
theorem dX7_reachLine_47 : decode cX7_reachLine 47 = .ok (.putfield 111, 3) := dk_181 0 111 (dk_at dksX7_reachLine_2 0 rfl rfl)
theorem dX7_reachLine_50 : decode cX7_reachLine 50 = .ok (.aload_n 1, 1) := dk_43 (dk_at dksX7_reachLine_2 3 rfl rfl)
theorem dX7_reachLine_51 : decode cX7_reachLine 51 = .ok (.aload_n 0, 1) := dk_42 (dk_at dksX7_reachLine_2 4 rfl rfl)
theorem dX7_reachLine_52 : decode cX7_reachLine 52 = .ok (.ldc 113, 2) := dk_18 113 (dk_at dksX7_reachLine_2 5 rfl rfl)
theorem dX7_reachLine_54 : decode cX7_reachLine 54 = .ok (.iconst 0, 1) := dk_3 (dk_at dksX7_reachLine_2 7 rfl rfl)
theorem dX7_reachLine_55 : decode cX7_reachLine 55 = .ok (.bipush 20, 2) := dk_16 20 (dk_at dksX7_reachLine_2 8 rfl rfl)
theorem dX7_reachLine_57 : decode cX7_reachLine 57 = .ok (.invokevirtual 108, 3) := dk_182 0 108 (dk_at dksX7_reachLine_2 10 rfl rfl)
theorem dX7_reachLine_60 : decode cX7_reachLine 60 = .ok (.putfield 115, 3) := dk_181 0 115 (dk_at dksX7_reachLine_2 13 rfl rfl)
theorem dX7_reachLine_63 : decode cX7_reachLine 63 = .ok (.aload_n 0, 1) := dk_42 (dk_at dksX7_reachLine_2 16 rfl rfl)
theorem dX7_reachLine_64 : decode cX7_reachLine 64 = .ok (.getfield 12, 3) := dk_180 0 12 (dk_at dksX7_reachLine_2 17 rfl rfl)
theorem dX7_reachLine_67 : decode cX7_reachLine 67 = .ok (.getfield 94, 3) := dk_180 0 94 (dk_at dksX7_reachLine_2 20 rfl rfl)
theorem dX7_reachLine_70 : decode cX7_reachLine 70 = .ok (.aload_n 1, 1) := dk_43 (dk_at dksX7_reachLine_2 23 rfl rfl)
theorem dX7_reachLine_71 : decode cX7_reachLine 71 = .ok (.invokeinterface 117 2, 5) := by decide +kernel
theorem dX7_reachLine_76 : decode cX7_reachLine 76 = .ok (.pop, 1) := dk_87 (dk_at dksX7_reachLine_3 5 rfl rfl)
theorem dX7_reachLine_77 : decode cX7_reachLine 77 = .ok (.return_, 1) := dk_177 (dk_at dksX7_reachLine_3 6 rfl rfl)
abbrev cX7_joinLine : ByteArray := prog_7_method_13_code
def yX7_joinLine : MethodName := ⟨RX7, "joinLine", "()V"⟩
def dkwX7_joinLine_3 : List UInt8 := [185, 0, 117, 2, 0, 87, 177]
abbrev dktX7_joinLine_3 : List UInt8 := dkwX7_joinLine_3 ++ []
def dkwX7_joinLine_2 : List UInt8 := [43, 180, 0, 133, 4, 100, 182, 0, 108, 181, 0, 136, 42, 180, 0, 12, 180, 0, 137, 43]
abbrev dktX7_joinLine_2 : List UInt8 := dkwX7_joinLine_2 ++ dktX7_joinLine_3
def dkwX7_joinLine_1 : List UInt8 := [182, 0, 124, 181, 0, 130, 43, 42, 18, 131, 4, 16, 9, 182, 0, 108, 181, 0, 133, 43, 42, 18, 135, 3]
abbrev dktX7_joinLine_1 : List UInt8 := dkwX7_joinLine_1 ++ dktX7_joinLine_2
def dkwX7_joinLine_0 : List UInt8 := [187, 0, 121, 89, 183, 0, 123, 76, 43, 42, 182, 0, 124, 181, 0, 127, 42, 18, 101, 182, 0, 82, 43, 42]
abbrev dktX7_joinLine_0 : List UInt8 := dkwX7_joinLine_0 ++ dktX7_joinLine_1
theorem dksX7_joinLine_0 : cX7_joinLine.data.toList.drop 0 = dktX7_joinLine_0 := by decide +kernel
theorem dksX7_joinLine_1 : cX7_joinLine.data.toList.drop 24 = dktX7_joinLine_1 := dk_seg dksX7_joinLine_0 24 rfl rfl
theorem dksX7_joinLine_2 : cX7_joinLine.data.toList.drop 48 = dktX7_joinLine_2 := dk_seg dksX7_joinLine_1 24 rfl rfl
theorem dksX7_joinLine_3 : cX7_joinLine.data.toList.drop 68 = dktX7_joinLine_3 := dk_seg dksX7_joinLine_2 20 rfl rfl
theorem dX7_joinLine_0 : decode cX7_joinLine 0 = .ok (.new 121, 3) := dk_187 0 121 (dk_at dksX7_joinLine_0 0 rfl rfl)
theorem dX7_joinLine_3 : decode cX7_joinLine 3 = .ok (.dup, 1) := dk_89 (dk_at dksX7_joinLine_0 3 rfl rfl)
theorem dX7_joinLine_4 : decode cX7_joinLine 4 = .ok (.invokespecial 123, 3) := dk_183 0 123 (dk_at dksX7_joinLine_0 4 rfl rfl)
theorem dX7_joinLine_7 : decode cX7_joinLine 7 = .ok (.astore_n 1, 1) := dk_76 (dk_at dksX7_joinLine_0 7 rfl rfl)
theorem dX7_joinLine_8 : decode cX7_joinLine 8 = .ok (.aload_n 1, 1) := dk_43 (dk_at dksX7_joinLine_0 8 rfl rfl)
theorem dX7_joinLine_9 : decode cX7_joinLine 9 = .ok (.aload_n 0, 1) := dk_42 (dk_at dksX7_joinLine_0 9 rfl rfl)
theorem dX7_joinLine_10 : decode cX7_joinLine 10 = .ok (.invokevirtual 124, 3) := dk_182 0 124 (dk_at dksX7_joinLine_0 10 rfl rfl)
theorem dX7_joinLine_13 : decode cX7_joinLine 13 = .ok (.putfield 127, 3) := dk_181 0 127 (dk_at dksX7_joinLine_0 13 rfl rfl)
theorem dX7_joinLine_16 : decode cX7_joinLine 16 = .ok (.aload_n 0, 1) := dk_42 (dk_at dksX7_joinLine_0 16 rfl rfl)
theorem dX7_joinLine_17 : decode cX7_joinLine 17 = .ok (.ldc 101, 2) := dk_18 101 (dk_at dksX7_joinLine_0 17 rfl rfl)
theorem dX7_joinLine_19 : decode cX7_joinLine 19 = .ok (.invokevirtual 82, 3) := dk_182 0 82 (dk_at dksX7_joinLine_0 19 rfl rfl)
theorem dX7_joinLine_22 : decode cX7_joinLine 22 = .ok (.aload_n 1, 1) := dk_43 (dk_at dksX7_joinLine_0 22 rfl rfl)
theorem dX7_joinLine_23 : decode cX7_joinLine 23 = .ok (.aload_n 0, 1) := dk_42 (dk_at dksX7_joinLine_0 23 rfl rfl)
theorem dX7_joinLine_24 : decode cX7_joinLine 24 = .ok (.invokevirtual 124, 3) := dk_182 0 124 (dk_at dksX7_joinLine_1 0 rfl rfl)
theorem dX7_joinLine_27 : decode cX7_joinLine 27 = .ok (.putfield 130, 3) := dk_181 0 130 (dk_at dksX7_joinLine_1 3 rfl rfl)
theorem dX7_joinLine_30 : decode cX7_joinLine 30 = .ok (.aload_n 1, 1) := dk_43 (dk_at dksX7_joinLine_1 6 rfl rfl)
theorem dX7_joinLine_31 : decode cX7_joinLine 31 = .ok (.aload_n 0, 1) := dk_42 (dk_at dksX7_joinLine_1 7 rfl rfl)
theorem dX7_joinLine_32 : decode cX7_joinLine 32 = .ok (.ldc 131, 2) := dk_18 131 (dk_at dksX7_joinLine_1 8 rfl rfl)
theorem dX7_joinLine_34 : decode cX7_joinLine 34 = .ok (.iconst 1, 1) := dk_4 (dk_at dksX7_joinLine_1 10 rfl rfl)
theorem dX7_joinLine_35 : decode cX7_joinLine 35 = .ok (.bipush 9, 2) := dk_16 9 (dk_at dksX7_joinLine_1 11 rfl rfl)
theorem dX7_joinLine_37 : decode cX7_joinLine 37 = .ok (.invokevirtual 108, 3) := dk_182 0 108 (dk_at dksX7_joinLine_1 13 rfl rfl)
theorem dX7_joinLine_40 : decode cX7_joinLine 40 = .ok (.putfield 133, 3) := dk_181 0 133 (dk_at dksX7_joinLine_1 16 rfl rfl)
theorem dX7_joinLine_43 : decode cX7_joinLine 43 = .ok (.aload_n 1, 1) := dk_43 (dk_at dksX7_joinLine_1 19 rfl rfl)
theorem dX7_joinLine_44 : decode cX7_joinLine 44 = .ok (.aload_n 0, 1) := dk_42 (dk_at dksX7_joinLine_1 20 rfl rfl)
theorem dX7_joinLine_45 : decode cX7_joinLine 45 = .ok (.ldc 135, 2) := dk_18 135 (dk_at dksX7_joinLine_1 21 rfl rfl)
theorem dX7_joinLine_47 : decode cX7_joinLine 47 = .ok (.iconst 0, 1) := dk_3 (dk_at dksX7_joinLine_1 23 rfl rfl)
theorem dX7_joinLine_48 : decode cX7_joinLine 48 = .ok (.aload_n 1, 1) := dk_43 (dk_at dksX7_joinLine_2 0 rfl rfl)
theorem dX7_joinLine_49 : decode cX7_joinLine 49 = .ok (.getfield 133, 3) := dk_180 0 133 (dk_at dksX7_joinLine_2 1 rfl rfl)
theorem dX7_joinLine_52 : decode cX7_joinLine 52 = .ok (.iconst 1, 1) := dk_4 (dk_at dksX7_joinLine_2 4 rfl rfl)
theorem dX7_joinLine_53 : decode cX7_joinLine 53 = .ok (.isub, 1) := dk_100 (dk_at dksX7_joinLine_2 5 rfl rfl)
theorem dX7_joinLine_54 : decode cX7_joinLine 54 = .ok (.invokevirtual 108, 3) := dk_182 0 108 (dk_at dksX7_joinLine_2 6 rfl rfl)
theorem dX7_joinLine_57 : decode cX7_joinLine 57 = .ok (.putfield 136, 3) := dk_181 0 136 (dk_at dksX7_joinLine_2 9 rfl rfl)
theorem dX7_joinLine_60 : decode cX7_joinLine 60 = .ok (.aload_n 0, 1) := dk_42 (dk_at dksX7_joinLine_2 12 rfl rfl)
theorem dX7_joinLine_61 : decode cX7_joinLine 61 = .ok (.getfield 12, 3) := dk_180 0 12 (dk_at dksX7_joinLine_2 13 rfl rfl)
theorem dX7_joinLine_64 : decode cX7_joinLine 64 = .ok (.getfield 137, 3) := dk_180 0 137 (dk_at dksX7_joinLine_2 16 rfl rfl)
theorem dX7_joinLine_67 : decode cX7_joinLine 67 = .ok (.aload_n 1, 1) := dk_43 (dk_at dksX7_joinLine_2 19 rfl rfl)
theorem dX7_joinLine_68 : decode cX7_joinLine 68 = .ok (.invokeinterface 117 2, 5) := by decide +kernel
theorem dX7_joinLine_73 : decode cX7_joinLine 73 = .ok (.pop, 1) := dk_87 (dk_at dksX7_joinLine_3 5 rfl rfl)
theorem dX7_joinLine_74 : decode cX7_joinLine 74 = .ok (.return_, 1) := dk_177 (dk_at dksX7_joinLine_3 6 rfl rfl)
abbrev cX7_reach : ByteArray := prog_7_method_11_code
def yX7_reach : MethodName := ⟨RX7, "reach", "()I"⟩
def dkwX7_reach_0 : List UInt8 := [42, 3, 42, 180, 0, 12, 180, 0, 94, 185, 0, 89, 1, 0, 4, 100, 182, 0, 86, 172]
abbrev dktX7_reach_0 : List UInt8 := dkwX7_reach_0 ++ []
theorem dksX7_reach_0 : cX7_reach.data.toList.drop 0 = dktX7_reach_0 := by decide +kernel
theorem dX7_reach_0 : decode cX7_reach 0 = .ok (.aload_n 0, 1) := dk_42 (dk_at dksX7_reach_0 0 rfl rfl)
theorem dX7_reach_1 : decode cX7_reach 1 = .ok (.iconst 0, 1) := dk_3 (dk_at dksX7_reach_0 1 rfl rfl)
theorem dX7_reach_2 : decode cX7_reach 2 = .ok (.aload_n 0, 1) := dk_42 (dk_at dksX7_reach_0 2 rfl rfl)
theorem dX7_reach_3 : decode cX7_reach 3 = .ok (.getfield 12, 3) := dk_180 0 12 (dk_at dksX7_reach_0 3 rfl rfl)
theorem dX7_reach_6 : decode cX7_reach 6 = .ok (.getfield 94, 3) := dk_180 0 94 (dk_at dksX7_reach_0 6 rfl rfl)
theorem dX7_reach_9 : decode cX7_reach 9 = .ok (.invokeinterface 89 1, 5) := by decide +kernel
theorem dX7_reach_14 : decode cX7_reach 14 = .ok (.iconst 1, 1) := dk_4 (dk_at dksX7_reach_0 14 rfl rfl)
theorem dX7_reach_15 : decode cX7_reach 15 = .ok (.isub, 1) := dk_100 (dk_at dksX7_reach_0 15 rfl rfl)
theorem dX7_reach_16 : decode cX7_reach 16 = .ok (.invokevirtual 86, 3) := dk_182 0 86 (dk_at dksX7_reach_0 16 rfl rfl)
theorem dX7_reach_19 : decode cX7_reach 19 = .ok (.ireturn, 1) := dk_172 (dk_at dksX7_reach_0 19 rfl rfl)

abbrev cX8_init : ByteArray := prog_3_method_1_code
def yX8_init : MethodName := ⟨RX8, "<init>", "(II)V"⟩
def dkwX8_init_0 : List UInt8 := [42, 1, 1, 3, 3, 183, 0, 1, 42, 27, 181, 0, 7, 42, 28, 181, 0, 13, 177]
abbrev dktX8_init_0 : List UInt8 := dkwX8_init_0 ++ []
theorem dksX8_init_0 : cX8_init.data.toList.drop 0 = dktX8_init_0 := by decide +kernel
theorem dX8_init_0 : decode cX8_init 0 = .ok (.aload_n 0, 1) := dk_42 (dk_at dksX8_init_0 0 rfl rfl)
theorem dX8_init_1 : decode cX8_init 1 = .ok (.aconst_null, 1) := dk_1 (dk_at dksX8_init_0 1 rfl rfl)
theorem dX8_init_2 : decode cX8_init 2 = .ok (.aconst_null, 1) := dk_1 (dk_at dksX8_init_0 2 rfl rfl)
theorem dX8_init_3 : decode cX8_init 3 = .ok (.iconst 0, 1) := dk_3 (dk_at dksX8_init_0 3 rfl rfl)
theorem dX8_init_4 : decode cX8_init 4 = .ok (.iconst 0, 1) := dk_3 (dk_at dksX8_init_0 4 rfl rfl)
theorem dX8_init_5 : decode cX8_init 5 = .ok (.invokespecial 1, 3) := dk_183 0 1 (dk_at dksX8_init_0 5 rfl rfl)
theorem dX8_init_8 : decode cX8_init 8 = .ok (.aload_n 0, 1) := dk_42 (dk_at dksX8_init_0 8 rfl rfl)
theorem dX8_init_9 : decode cX8_init 9 = .ok (.iload_n 1, 1) := dk_27 (dk_at dksX8_init_0 9 rfl rfl)
theorem dX8_init_10 : decode cX8_init 10 = .ok (.putfield 7, 3) := dk_181 0 7 (dk_at dksX8_init_0 10 rfl rfl)
theorem dX8_init_13 : decode cX8_init 13 = .ok (.aload_n 0, 1) := dk_42 (dk_at dksX8_init_0 13 rfl rfl)
theorem dX8_init_14 : decode cX8_init 14 = .ok (.iload_n 2, 1) := dk_28 (dk_at dksX8_init_0 14 rfl rfl)
theorem dX8_init_15 : decode cX8_init 15 = .ok (.putfield 13, 3) := dk_181 0 13 (dk_at dksX8_init_0 15 rfl rfl)
theorem dX8_init_18 : decode cX8_init 18 = .ok (.return_, 1) := dk_177 (dk_at dksX8_init_0 18 rfl rfl)

abbrev cX9_init : ByteArray := prog_6_method_1_code
def yX9_init : MethodName := ⟨RX9, "<init>", "()V"⟩
theorem dX9_init_0 : decode cX9_init 0 = .ok (.aload_n 0, 1) := by decide +kernel
theorem dX9_init_1 : decode cX9_init 1 = .ok (.invokespecial 1, 3) := by decide +kernel
theorem dX9_init_4 : decode cX9_init 4 = .ok (.return_, 1) := by decide +kernel
abbrev cX9_same : ByteArray := prog_6_method_2_code
def yX9_same : MethodName := ⟨RX9, "same", "()LQuotedRiver$Reach;"⟩
def dkwX9_same_1 : List UInt8 := [43, 42, 180, 0, 17, 181, 0, 17, 43, 176]
abbrev dktX9_same_1 : List UInt8 := dkwX9_same_1 ++ []
def dkwX9_same_0 : List UInt8 := [187, 0, 7, 89, 183, 0, 9, 76, 43, 42, 180, 0, 10, 181, 0, 10, 43, 42, 180, 0, 14, 181, 0, 14]
abbrev dktX9_same_0 : List UInt8 := dkwX9_same_0 ++ dktX9_same_1
theorem dksX9_same_0 : cX9_same.data.toList.drop 0 = dktX9_same_0 := by decide +kernel
theorem dksX9_same_1 : cX9_same.data.toList.drop 24 = dktX9_same_1 := dk_seg dksX9_same_0 24 rfl rfl
theorem dX9_same_0 : decode cX9_same 0 = .ok (.new 7, 3) := dk_187 0 7 (dk_at dksX9_same_0 0 rfl rfl)
theorem dX9_same_3 : decode cX9_same 3 = .ok (.dup, 1) := dk_89 (dk_at dksX9_same_0 3 rfl rfl)
theorem dX9_same_4 : decode cX9_same 4 = .ok (.invokespecial 9, 3) := dk_183 0 9 (dk_at dksX9_same_0 4 rfl rfl)
theorem dX9_same_7 : decode cX9_same 7 = .ok (.astore_n 1, 1) := dk_76 (dk_at dksX9_same_0 7 rfl rfl)
theorem dX9_same_8 : decode cX9_same 8 = .ok (.aload_n 1, 1) := dk_43 (dk_at dksX9_same_0 8 rfl rfl)
theorem dX9_same_9 : decode cX9_same 9 = .ok (.aload_n 0, 1) := dk_42 (dk_at dksX9_same_0 9 rfl rfl)
theorem dX9_same_10 : decode cX9_same 10 = .ok (.getfield 10, 3) := dk_180 0 10 (dk_at dksX9_same_0 10 rfl rfl)
theorem dX9_same_13 : decode cX9_same 13 = .ok (.putfield 10, 3) := dk_181 0 10 (dk_at dksX9_same_0 13 rfl rfl)
theorem dX9_same_16 : decode cX9_same 16 = .ok (.aload_n 1, 1) := dk_43 (dk_at dksX9_same_0 16 rfl rfl)
theorem dX9_same_17 : decode cX9_same 17 = .ok (.aload_n 0, 1) := dk_42 (dk_at dksX9_same_0 17 rfl rfl)
theorem dX9_same_18 : decode cX9_same 18 = .ok (.getfield 14, 3) := dk_180 0 14 (dk_at dksX9_same_0 18 rfl rfl)
theorem dX9_same_21 : decode cX9_same 21 = .ok (.putfield 14, 3) := dk_181 0 14 (dk_at dksX9_same_0 21 rfl rfl)
theorem dX9_same_24 : decode cX9_same 24 = .ok (.aload_n 1, 1) := dk_43 (dk_at dksX9_same_1 0 rfl rfl)
theorem dX9_same_25 : decode cX9_same 25 = .ok (.aload_n 0, 1) := dk_42 (dk_at dksX9_same_1 1 rfl rfl)
theorem dX9_same_26 : decode cX9_same 26 = .ok (.getfield 17, 3) := dk_180 0 17 (dk_at dksX9_same_1 2 rfl rfl)
theorem dX9_same_29 : decode cX9_same 29 = .ok (.putfield 17, 3) := dk_181 0 17 (dk_at dksX9_same_1 5 rfl rfl)
theorem dX9_same_32 : decode cX9_same 32 = .ok (.aload_n 1, 1) := dk_43 (dk_at dksX9_same_1 8 rfl rfl)
theorem dX9_same_33 : decode cX9_same 33 = .ok (.areturn, 1) := dk_176 (dk_at dksX9_same_1 9 rfl rfl)

