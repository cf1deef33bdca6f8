/-! java/lang/StringLatin1 -/
set_option maxRecDepth 100000
def RJ4 : String := "java/lang/StringLatin1"
abbrev cJ4_charAt : ByteArray := prog_37_method_2_code
def yJ4_charAt : MethodName := ⟨RJ4, "charAt", "([BI)C"⟩
def dkwJ4_charAt_0 : List UInt8 := [27, 42, 190, 184, 0, 9, 42, 27, 51, 17, 0, 255, 126, 146, 172]
abbrev dktJ4_charAt_0 : List UInt8 := dkwJ4_charAt_0 ++ []
theorem dksJ4_charAt_0 : cJ4_charAt.data.toList.drop 0 = dktJ4_charAt_0 := by decide +kernel
theorem dJ4_charAt_0 : decode cJ4_charAt 0 = .ok (.iload_n 1, 1) := dk_27 (dk_at dksJ4_charAt_0 0 rfl rfl)
theorem dJ4_charAt_1 : decode cJ4_charAt 1 = .ok (.aload_n 0, 1) := dk_42 (dk_at dksJ4_charAt_0 1 rfl rfl)
theorem dJ4_charAt_2 : decode cJ4_charAt 2 = .ok (.arraylength, 1) := dk_190 (dk_at dksJ4_charAt_0 2 rfl rfl)
theorem dJ4_charAt_3 : decode cJ4_charAt 3 = .ok (.invokestatic 9, 3) := dk_184 0 9 (dk_at dksJ4_charAt_0 3 rfl rfl)
theorem dJ4_charAt_6 : decode cJ4_charAt 6 = .ok (.aload_n 0, 1) := dk_42 (dk_at dksJ4_charAt_0 6 rfl rfl)
theorem dJ4_charAt_7 : decode cJ4_charAt 7 = .ok (.iload_n 1, 1) := dk_27 (dk_at dksJ4_charAt_0 7 rfl rfl)
theorem dJ4_charAt_8 : decode cJ4_charAt 8 = .ok (.baload, 1) := dk_51 (dk_at dksJ4_charAt_0 8 rfl rfl)
theorem dJ4_charAt_9 : decode cJ4_charAt 9 = .ok (.sipush 255, 3) := dk_17 0 255 (dk_at dksJ4_charAt_0 9 rfl rfl)
theorem dJ4_charAt_12 : decode cJ4_charAt 12 = .ok (.iand, 1) := dk_126 (dk_at dksJ4_charAt_0 12 rfl rfl)
theorem dJ4_charAt_13 : decode cJ4_charAt 13 = .ok (.i2c, 1) := dk_146 (dk_at dksJ4_charAt_0 13 rfl rfl)
theorem dJ4_charAt_14 : decode cJ4_charAt 14 = .ok (.ireturn, 1) := dk_172 (dk_at dksJ4_charAt_0 14 rfl rfl)
abbrev cJ4_canEncode : ByteArray := prog_37_method_3_code
def yJ4_canEncode : MethodName := ⟨RJ4, "canEncode", "(C)Z"⟩
def dkwJ4_canEncode_0 : List UInt8 := [26, 17, 0, 255, 163, 0, 7, 4, 167, 0, 4, 3, 172]
abbrev dktJ4_canEncode_0 : List UInt8 := dkwJ4_canEncode_0 ++ []
theorem dksJ4_canEncode_0 : cJ4_canEncode.data.toList.drop 0 = dktJ4_canEncode_0 := by decide +kernel
theorem dJ4_canEncode_0 : decode cJ4_canEncode 0 = .ok (.iload_n 0, 1) := dk_26 (dk_at dksJ4_canEncode_0 0 rfl rfl)
theorem dJ4_canEncode_1 : decode cJ4_canEncode 1 = .ok (.sipush 255, 3) := dk_17 0 255 (dk_at dksJ4_canEncode_0 1 rfl rfl)
theorem dJ4_canEncode_4 : decode cJ4_canEncode 4 = .ok (.if_icmp .gt 7, 3) := dk_163 0 7 (dk_at dksJ4_canEncode_0 4 rfl rfl)
theorem dJ4_canEncode_7 : decode cJ4_canEncode 7 = .ok (.iconst 1, 1) := dk_4 (dk_at dksJ4_canEncode_0 7 rfl rfl)
theorem dJ4_canEncode_8 : decode cJ4_canEncode 8 = .ok (.goto 4, 3) := dk_167 0 4 (dk_at dksJ4_canEncode_0 8 rfl rfl)
theorem dJ4_canEncode_11 : decode cJ4_canEncode 11 = .ok (.iconst 0, 1) := dk_3 (dk_at dksJ4_canEncode_0 11 rfl rfl)
theorem dJ4_canEncode_12 : decode cJ4_canEncode 12 = .ok (.ireturn, 1) := dk_172 (dk_at dksJ4_canEncode_0 12 rfl rfl)
abbrev cJ4_inflate : ByteArray := prog_37_method_50_code
def yJ4_inflate : MethodName := ⟨RJ4, "inflate", "([BI[BII)V"⟩
def dkwJ4_inflate_0 : List UInt8 := [42, 27, 44, 29, 21, 4, 184, 0, 240, 177]
abbrev dktJ4_inflate_0 : List UInt8 := dkwJ4_inflate_0 ++ []
theorem dksJ4_inflate_0 : cJ4_inflate.data.toList.drop 0 = dktJ4_inflate_0 := by decide +kernel
theorem dJ4_inflate_0 : decode cJ4_inflate 0 = .ok (.aload_n 0, 1) := dk_42 (dk_at dksJ4_inflate_0 0 rfl rfl)
theorem dJ4_inflate_1 : decode cJ4_inflate 1 = .ok (.iload_n 1, 1) := dk_27 (dk_at dksJ4_inflate_0 1 rfl rfl)
theorem dJ4_inflate_2 : decode cJ4_inflate 2 = .ok (.aload_n 2, 1) := dk_44 (dk_at dksJ4_inflate_0 2 rfl rfl)
theorem dJ4_inflate_3 : decode cJ4_inflate 3 = .ok (.iload_n 3, 1) := dk_29 (dk_at dksJ4_inflate_0 3 rfl rfl)
theorem dJ4_inflate_4 : decode cJ4_inflate 4 = .ok (.iload 4, 2) := dk_21 4 (dk_at dksJ4_inflate_0 4 rfl rfl)
theorem dJ4_inflate_6 : decode cJ4_inflate 6 = .ok (.invokestatic 240, 3) := dk_184 0 240 (dk_at dksJ4_inflate_0 6 rfl rfl)
theorem dJ4_inflate_9 : decode cJ4_inflate 9 = .ok (.return_, 1) := dk_177 (dk_at dksJ4_inflate_0 9 rfl rfl)
abbrev cJ4_indexOf : ByteArray := prog_37_method_22_code
def yJ4_indexOf : MethodName := ⟨RJ4, "indexOf", "([BIII)I"⟩
def dkwJ4_indexOf_1 : List UInt8 := [161, 0, 5, 2, 172, 42, 27, 28, 29, 184, 0, 95, 172]
abbrev dktJ4_indexOf_1 : List UInt8 := dkwJ4_indexOf_1 ++ []
def dkwJ4_indexOf_0 : List UInt8 := [27, 184, 0, 88, 154, 0, 5, 2, 172, 28, 3, 184, 0, 92, 61, 29, 42, 190, 184, 0, 38, 62, 28, 29]
abbrev dktJ4_indexOf_0 : List UInt8 := dkwJ4_indexOf_0 ++ dktJ4_indexOf_1
theorem dksJ4_indexOf_0 : cJ4_indexOf.data.toList.drop 0 = dktJ4_indexOf_0 := by decide +kernel
theorem dksJ4_indexOf_1 : cJ4_indexOf.data.toList.drop 24 = dktJ4_indexOf_1 := dk_seg dksJ4_indexOf_0 24 rfl rfl
theorem dJ4_indexOf_0 : decode cJ4_indexOf 0 = .ok (.iload_n 1, 1) := dk_27 (dk_at dksJ4_indexOf_0 0 rfl rfl)
theorem dJ4_indexOf_1 : decode cJ4_indexOf 1 = .ok (.invokestatic 88, 3) := dk_184 0 88 (dk_at dksJ4_indexOf_0 1 rfl rfl)
theorem dJ4_indexOf_4 : decode cJ4_indexOf 4 = .ok (.ifCond .ne 5, 3) := dk_154 0 5 (dk_at dksJ4_indexOf_0 4 rfl rfl)
theorem dJ4_indexOf_7 : decode cJ4_indexOf 7 = .ok (.iconst (-1), 1) := dk_2 (dk_at dksJ4_indexOf_0 7 rfl rfl)
theorem dJ4_indexOf_8 : decode cJ4_indexOf 8 = .ok (.ireturn, 1) := dk_172 (dk_at dksJ4_indexOf_0 8 rfl rfl)
theorem dJ4_indexOf_9 : decode cJ4_indexOf 9 = .ok (.iload_n 2, 1) := dk_28 (dk_at dksJ4_indexOf_0 9 rfl rfl)
theorem dJ4_indexOf_10 : decode cJ4_indexOf 10 = .ok (.iconst 0, 1) := dk_3 (dk_at dksJ4_indexOf_0 10 rfl rfl)
theorem dJ4_indexOf_11 : decode cJ4_indexOf 11 = .ok (.invokestatic 92, 3) := dk_184 0 92 (dk_at dksJ4_indexOf_0 11 rfl rfl)
theorem dJ4_indexOf_14 : decode cJ4_indexOf 14 = .ok (.istore_n 2, 1) := dk_61 (dk_at dksJ4_indexOf_0 14 rfl rfl)
theorem dJ4_indexOf_15 : decode cJ4_indexOf 15 = .ok (.iload_n 3, 1) := dk_29 (dk_at dksJ4_indexOf_0 15 rfl rfl)
theorem dJ4_indexOf_16 : decode cJ4_indexOf 16 = .ok (.aload_n 0, 1) := dk_42 (dk_at dksJ4_indexOf_0 16 rfl rfl)
theorem dJ4_indexOf_17 : decode cJ4_indexOf 17 = .ok (.arraylength, 1) := dk_190 (dk_at dksJ4_indexOf_0 17 rfl rfl)
theorem dJ4_indexOf_18 : decode cJ4_indexOf 18 = .ok (.invokestatic 38, 3) := dk_184 0 38 (dk_at dksJ4_indexOf_0 18 rfl rfl)
theorem dJ4_indexOf_21 : decode cJ4_indexOf 21 = .ok (.istore_n 3, 1) := dk_62 (dk_at dksJ4_indexOf_0 21 rfl rfl)
theorem dJ4_indexOf_22 : decode cJ4_indexOf 22 = .ok (.iload_n 2, 1) := dk_28 (dk_at dksJ4_indexOf_0 22 rfl rfl)
theorem dJ4_indexOf_23 : decode cJ4_indexOf 23 = .ok (.iload_n 3, 1) := dk_29 (dk_at dksJ4_indexOf_0 23 rfl rfl)
theorem dJ4_indexOf_24 : decode cJ4_indexOf 24 = .ok (.if_icmp .lt 5, 3) := dk_161 0 5 (dk_at dksJ4_indexOf_1 0 rfl rfl)
theorem dJ4_indexOf_27 : decode cJ4_indexOf 27 = .ok (.iconst (-1), 1) := dk_2 (dk_at dksJ4_indexOf_1 3 rfl rfl)
theorem dJ4_indexOf_28 : decode cJ4_indexOf 28 = .ok (.ireturn, 1) := dk_172 (dk_at dksJ4_indexOf_1 4 rfl rfl)
theorem dJ4_indexOf_29 : decode cJ4_indexOf 29 = .ok (.aload_n 0, 1) := dk_42 (dk_at dksJ4_indexOf_1 5 rfl rfl)
theorem dJ4_indexOf_30 : decode cJ4_indexOf 30 = .ok (.iload_n 1, 1) := dk_27 (dk_at dksJ4_indexOf_1 6 rfl rfl)
theorem dJ4_indexOf_31 : decode cJ4_indexOf 31 = .ok (.iload_n 2, 1) := dk_28 (dk_at dksJ4_indexOf_1 7 rfl rfl)
theorem dJ4_indexOf_32 : decode cJ4_indexOf 32 = .ok (.iload_n 3, 1) := dk_29 (dk_at dksJ4_indexOf_1 8 rfl rfl)
theorem dJ4_indexOf_33 : decode cJ4_indexOf 33 = .ok (.invokestatic 95, 3) := dk_184 0 95 (dk_at dksJ4_indexOf_1 9 rfl rfl)
theorem dJ4_indexOf_36 : decode cJ4_indexOf 36 = .ok (.ireturn, 1) := dk_172 (dk_at dksJ4_indexOf_1 12 rfl rfl)
abbrev cJ4_canEncode_2 : ByteArray := prog_37_method_4_code
def yJ4_canEncode_2 : MethodName := ⟨RJ4, "canEncode", "(I)Z"⟩
def dkwJ4_canEncode_2_0 : List UInt8 := [26, 155, 0, 14, 26, 17, 0, 255, 163, 0, 7, 4, 167, 0, 4, 3, 172]
abbrev dktJ4_canEncode_2_0 : List UInt8 := dkwJ4_canEncode_2_0 ++ []
theorem dksJ4_canEncode_2_0 : cJ4_canEncode_2.data.toList.drop 0 = dktJ4_canEncode_2_0 := by decide +kernel
theorem dJ4_canEncode_2_0 : decode cJ4_canEncode_2 0 = .ok (.iload_n 0, 1) := dk_26 (dk_at dksJ4_canEncode_2_0 0 rfl rfl)
theorem dJ4_canEncode_2_1 : decode cJ4_canEncode_2 1 = .ok (.ifCond .lt 14, 3) := dk_155 0 14 (dk_at dksJ4_canEncode_2_0 1 rfl rfl)
theorem dJ4_canEncode_2_4 : decode cJ4_canEncode_2 4 = .ok (.iload_n 0, 1) := dk_26 (dk_at dksJ4_canEncode_2_0 4 rfl rfl)
theorem dJ4_canEncode_2_5 : decode cJ4_canEncode_2 5 = .ok (.sipush 255, 3) := dk_17 0 255 (dk_at dksJ4_canEncode_2_0 5 rfl rfl)
theorem dJ4_canEncode_2_8 : decode cJ4_canEncode_2 8 = .ok (.if_icmp .gt 7, 3) := dk_163 0 7 (dk_at dksJ4_canEncode_2_0 8 rfl rfl)
theorem dJ4_canEncode_2_11 : decode cJ4_canEncode_2 11 = .ok (.iconst 1, 1) := dk_4 (dk_at dksJ4_canEncode_2_0 11 rfl rfl)
theorem dJ4_canEncode_2_12 : decode cJ4_canEncode_2 12 = .ok (.goto 4, 3) := dk_167 0 4 (dk_at dksJ4_canEncode_2_0 12 rfl rfl)
theorem dJ4_canEncode_2_15 : decode cJ4_canEncode_2 15 = .ok (.iconst 0, 1) := dk_3 (dk_at dksJ4_canEncode_2_0 15 rfl rfl)
theorem dJ4_canEncode_2_16 : decode cJ4_canEncode_2 16 = .ok (.ireturn, 1) := dk_172 (dk_at dksJ4_canEncode_2_0 16 rfl rfl)
abbrev cJ4_indexOfChar : ByteArray := prog_37_method_23_code
def yJ4_indexOfChar : MethodName := ⟨RJ4, "indexOfChar", "([BIII)I"⟩
def dkwJ4_indexOfChar_1 : List UInt8 := [172, 132, 5, 1, 167, 255, 235, 2, 172]
abbrev dktJ4_indexOfChar_1 : List UInt8 := dkwJ4_indexOfChar_1 ++ []
def dkwJ4_indexOfChar_0 : List UInt8 := [27, 145, 54, 4, 28, 54, 5, 21, 5, 29, 162, 0, 21, 42, 21, 5, 51, 21, 4, 160, 0, 6, 21, 5]
abbrev dktJ4_indexOfChar_0 : List UInt8 := dkwJ4_indexOfChar_0 ++ dktJ4_indexOfChar_1
theorem dksJ4_indexOfChar_0 : cJ4_indexOfChar.data.toList.drop 0 = dktJ4_indexOfChar_0 := by decide +kernel
theorem dksJ4_indexOfChar_1 : cJ4_indexOfChar.data.toList.drop 24 = dktJ4_indexOfChar_1 := dk_seg dksJ4_indexOfChar_0 24 rfl rfl
theorem dJ4_indexOfChar_0 : decode cJ4_indexOfChar 0 = .ok (.iload_n 1, 1) := dk_27 (dk_at dksJ4_indexOfChar_0 0 rfl rfl)
theorem dJ4_indexOfChar_1 : decode cJ4_indexOfChar 1 = .ok (.i2b, 1) := dk_145 (dk_at dksJ4_indexOfChar_0 1 rfl rfl)
theorem dJ4_indexOfChar_2 : decode cJ4_indexOfChar 2 = .ok (.istore 4, 2) := dk_54 4 (dk_at dksJ4_indexOfChar_0 2 rfl rfl)
theorem dJ4_indexOfChar_4 : decode cJ4_indexOfChar 4 = .ok (.iload_n 2, 1) := dk_28 (dk_at dksJ4_indexOfChar_0 4 rfl rfl)
theorem dJ4_indexOfChar_5 : decode cJ4_indexOfChar 5 = .ok (.istore 5, 2) := dk_54 5 (dk_at dksJ4_indexOfChar_0 5 rfl rfl)
theorem dJ4_indexOfChar_7 : decode cJ4_indexOfChar 7 = .ok (.iload 5, 2) := dk_21 5 (dk_at dksJ4_indexOfChar_0 7 rfl rfl)
theorem dJ4_indexOfChar_9 : decode cJ4_indexOfChar 9 = .ok (.iload_n 3, 1) := dk_29 (dk_at dksJ4_indexOfChar_0 9 rfl rfl)
theorem dJ4_indexOfChar_10 : decode cJ4_indexOfChar 10 = .ok (.if_icmp .ge 21, 3) := dk_162 0 21 (dk_at dksJ4_indexOfChar_0 10 rfl rfl)
theorem dJ4_indexOfChar_13 : decode cJ4_indexOfChar 13 = .ok (.aload_n 0, 1) := dk_42 (dk_at dksJ4_indexOfChar_0 13 rfl rfl)
theorem dJ4_indexOfChar_14 : decode cJ4_indexOfChar 14 = .ok (.iload 5, 2) := dk_21 5 (dk_at dksJ4_indexOfChar_0 14 rfl rfl)
theorem dJ4_indexOfChar_16 : decode cJ4_indexOfChar 16 = .ok (.baload, 1) := dk_51 (dk_at dksJ4_indexOfChar_0 16 rfl rfl)
theorem dJ4_indexOfChar_17 : decode cJ4_indexOfChar 17 = .ok (.iload 4, 2) := dk_21 4 (dk_at dksJ4_indexOfChar_0 17 rfl rfl)
theorem dJ4_indexOfChar_19 : decode cJ4_indexOfChar 19 = .ok (.if_icmp .ne 6, 3) := dk_160 0 6 (dk_at dksJ4_indexOfChar_0 19 rfl rfl)
theorem dJ4_indexOfChar_22 : decode cJ4_indexOfChar 22 = .ok (.iload 5, 2) := dk_21 5 (dk_at dksJ4_indexOfChar_0 22 rfl rfl)
theorem dJ4_indexOfChar_24 : decode cJ4_indexOfChar 24 = .ok (.ireturn, 1) := dk_172 (dk_at dksJ4_indexOfChar_1 0 rfl rfl)
theorem dJ4_indexOfChar_25 : decode cJ4_indexOfChar 25 = .ok (.iinc 5 1, 3) := dk_132 5 1 (dk_at dksJ4_indexOfChar_1 1 rfl rfl)
theorem dJ4_indexOfChar_28 : decode cJ4_indexOfChar 28 = .ok (.goto (-21), 3) := dk_167 255 235 (dk_at dksJ4_indexOfChar_1 4 rfl rfl)
theorem dJ4_indexOfChar_31 : decode cJ4_indexOfChar 31 = .ok (.iconst (-1), 1) := dk_2 (dk_at dksJ4_indexOfChar_1 7 rfl rfl)
theorem dJ4_indexOfChar_32 : decode cJ4_indexOfChar 32 = .ok (.ireturn, 1) := dk_172 (dk_at dksJ4_indexOfChar_1 8 rfl rfl)
abbrev cJ4_equals : ByteArray := prog_37_method_13_code
def yJ4_equals : MethodName := ⟨RJ4, "equals", "([B[B)Z"⟩
def dkwJ4_equals_1 : List UInt8 := [3, 172, 132, 2, 1, 167, 255, 236, 4, 172, 3, 172]
abbrev dktJ4_equals_1 : List UInt8 := dkwJ4_equals_1 ++ []
def dkwJ4_equals_0 : List UInt8 := [42, 190, 43, 190, 160, 0, 30, 3, 61, 28, 42, 190, 162, 0, 20, 42, 28, 51, 43, 28, 51, 159, 0, 5]
abbrev dktJ4_equals_0 : List UInt8 := dkwJ4_equals_0 ++ dktJ4_equals_1
theorem dksJ4_equals_0 : cJ4_equals.data.toList.drop 0 = dktJ4_equals_0 := by decide +kernel
theorem dksJ4_equals_1 : cJ4_equals.data.toList.drop 24 = dktJ4_equals_1 := dk_seg dksJ4_equals_0 24 rfl rfl
theorem dJ4_equals_0 : decode cJ4_equals 0 = .ok (.aload_n 0, 1) := dk_42 (dk_at dksJ4_equals_0 0 rfl rfl)
theorem dJ4_equals_1 : decode cJ4_equals 1 = .ok (.arraylength, 1) := dk_190 (dk_at dksJ4_equals_0 1 rfl rfl)
theorem dJ4_equals_2 : decode cJ4_equals 2 = .ok (.aload_n 1, 1) := dk_43 (dk_at dksJ4_equals_0 2 rfl rfl)
theorem dJ4_equals_3 : decode cJ4_equals 3 = .ok (.arraylength, 1) := dk_190 (dk_at dksJ4_equals_0 3 rfl rfl)
theorem dJ4_equals_4 : decode cJ4_equals 4 = .ok (.if_icmp .ne 30, 3) := dk_160 0 30 (dk_at dksJ4_equals_0 4 rfl rfl)
theorem dJ4_equals_7 : decode cJ4_equals 7 = .ok (.iconst 0, 1) := dk_3 (dk_at dksJ4_equals_0 7 rfl rfl)
theorem dJ4_equals_8 : decode cJ4_equals 8 = .ok (.istore_n 2, 1) := dk_61 (dk_at dksJ4_equals_0 8 rfl rfl)
theorem dJ4_equals_9 : decode cJ4_equals 9 = .ok (.iload_n 2, 1) := dk_28 (dk_at dksJ4_equals_0 9 rfl rfl)
theorem dJ4_equals_10 : decode cJ4_equals 10 = .ok (.aload_n 0, 1) := dk_42 (dk_at dksJ4_equals_0 10 rfl rfl)
theorem dJ4_equals_11 : decode cJ4_equals 11 = .ok (.arraylength, 1) := dk_190 (dk_at dksJ4_equals_0 11 rfl rfl)
theorem dJ4_equals_12 : decode cJ4_equals 12 = .ok (.if_icmp .ge 20, 3) := dk_162 0 20 (dk_at dksJ4_equals_0 12 rfl rfl)
theorem dJ4_equals_15 : decode cJ4_equals 15 = .ok (.aload_n 0, 1) := dk_42 (dk_at dksJ4_equals_0 15 rfl rfl)
theorem dJ4_equals_16 : decode cJ4_equals 16 = .ok (.iload_n 2, 1) := dk_28 (dk_at dksJ4_equals_0 16 rfl rfl)
theorem dJ4_equals_17 : decode cJ4_equals 17 = .ok (.baload, 1) := dk_51 (dk_at dksJ4_equals_0 17 rfl rfl)
theorem dJ4_equals_18 : decode cJ4_equals 18 = .ok (.aload_n 1, 1) := dk_43 (dk_at dksJ4_equals_0 18 rfl rfl)
theorem dJ4_equals_19 : decode cJ4_equals 19 = .ok (.iload_n 2, 1) := dk_28 (dk_at dksJ4_equals_0 19 rfl rfl)
theorem dJ4_equals_20 : decode cJ4_equals 20 = .ok (.baload, 1) := dk_51 (dk_at dksJ4_equals_0 20 rfl rfl)
theorem dJ4_equals_21 : decode cJ4_equals 21 = .ok (.if_icmp .eq 5, 3) := dk_159 0 5 (dk_at dksJ4_equals_0 21 rfl rfl)
theorem dJ4_equals_24 : decode cJ4_equals 24 = .ok (.iconst 0, 1) := dk_3 (dk_at dksJ4_equals_1 0 rfl rfl)
theorem dJ4_equals_25 : decode cJ4_equals 25 = .ok (.ireturn, 1) := dk_172 (dk_at dksJ4_equals_1 1 rfl rfl)
theorem dJ4_equals_26 : decode cJ4_equals 26 = .ok (.iinc 2 1, 3) := dk_132 2 1 (dk_at dksJ4_equals_1 2 rfl rfl)
theorem dJ4_equals_29 : decode cJ4_equals 29 = .ok (.goto (-20), 3) := dk_167 255 236 (dk_at dksJ4_equals_1 5 rfl rfl)
theorem dJ4_equals_32 : decode cJ4_equals 32 = .ok (.iconst 1, 1) := dk_4 (dk_at dksJ4_equals_1 8 rfl rfl)
theorem dJ4_equals_33 : decode cJ4_equals 33 = .ok (.ireturn, 1) := dk_172 (dk_at dksJ4_equals_1 9 rfl rfl)
theorem dJ4_equals_34 : decode cJ4_equals 34 = .ok (.iconst 0, 1) := dk_3 (dk_at dksJ4_equals_1 10 rfl rfl)
theorem dJ4_equals_35 : decode cJ4_equals 35 = .ok (.ireturn, 1) := dk_172 (dk_at dksJ4_equals_1 11 rfl rfl)
theorem q70 : (Jvm.Cond.initialized "java/lang/StringLatin1") ∈ lw_all := lw_g (lw_at lw_m1 7 rfl) rfl
theorem q184 : (Jvm.Cond.static ({ cls := "java/lang/StringLatin1", name := "charAt", desc := "([BI)C" } : Jvm.MethodName)) ∈ lw_all := lw_g (lw_at lw_m1 121 rfl) rfl
theorem q185 : (Jvm.Cond.code ({ cls := "java/lang/StringLatin1", name := "charAt", desc := "([BI)C" } : Jvm.MethodName) prog_37_method_2_code (2 : Nat) (Option.some Jvm.ClassFile.FieldType.char)) ∈ lw_all := lw_g (lw_at lw_m1 122 rfl) rfl
theorem q186 : (Jvm.Cond.methodLink "java/lang/StringLatin1" (9 : Nat) ({ cls := "java/lang/String", name := "checkIndex", desc := "(II)V" } : Jvm.MethodName)) ∈ lw_all := lw_g (lw_at lw_m1 123 rfl) rfl
theorem q350 : (Jvm.Cond.static ({ cls := "java/lang/StringLatin1", name := "canEncode", desc := "(C)Z" } : Jvm.MethodName)) ∈ lw_all := lw_g (lw_at lw_m2 47 rfl) rfl
theorem q351 : (Jvm.Cond.code ({ cls := "java/lang/StringLatin1", name := "canEncode", desc := "(C)Z" } : Jvm.MethodName) prog_37_method_3_code (1 : Nat) (Option.some Jvm.ClassFile.FieldType.boolean)) ∈ lw_all := lw_g (lw_at lw_m2 48 rfl) rfl
theorem q357 : (Jvm.Cond.static ({ cls := "java/lang/StringLatin1", name := "inflate", desc := "([BI[BII)V" } : Jvm.MethodName)) ∈ lw_all := lw_g (lw_at lw_m2 54 rfl) rfl
theorem q358 : (Jvm.Cond.code ({ cls := "java/lang/StringLatin1", name := "inflate", desc := "([BI[BII)V" } : Jvm.MethodName) prog_37_method_50_code (5 : Nat) (Option.none : Option Jvm.ClassFile.FieldType)) ∈ lw_all := lw_g (lw_at lw_m2 55 rfl) rfl
theorem q359 : (Jvm.Cond.methodLink "java/lang/StringLatin1" (240 : Nat) ({ cls := "java/lang/StringUTF16", name := "inflate", desc := "([BI[BII)V" } : Jvm.MethodName)) ∈ lw_all := lw_g (lw_at lw_m2 56 rfl) rfl
theorem q513 : (Jvm.Cond.static ({ cls := "java/lang/StringLatin1", name := "indexOf", desc := "([BIII)I" } : Jvm.MethodName)) ∈ lw_all := lw_g (lw_at lw_m2 210 rfl) rfl
theorem q514 : (Jvm.Cond.code ({ cls := "java/lang/StringLatin1", name := "indexOf", desc := "([BIII)I" } : Jvm.MethodName) prog_37_method_22_code (4 : Nat) (Option.some Jvm.ClassFile.FieldType.int)) ∈ lw_all := lw_g (lw_at lw_m2 211 rfl) rfl
theorem q515 : (Jvm.Cond.methodLink "java/lang/StringLatin1" (88 : Nat) ({ cls := "java/lang/StringLatin1", name := "canEncode", desc := "(I)Z" } : Jvm.MethodName)) ∈ lw_all := lw_g (lw_at lw_m2 212 rfl) rfl
theorem q516 : (Jvm.Cond.static ({ cls := "java/lang/StringLatin1", name := "canEncode", desc := "(I)Z" } : Jvm.MethodName)) ∈ lw_all := lw_g (lw_at lw_m2 213 rfl) rfl
theorem q517 : (Jvm.Cond.code ({ cls := "java/lang/StringLatin1", name := "canEncode", desc := "(I)Z" } : Jvm.MethodName) prog_37_method_4_code (1 : Nat) (Option.some Jvm.ClassFile.FieldType.boolean)) ∈ lw_all := lw_g (lw_at lw_m2 214 rfl) rfl
theorem q518 : (Jvm.Cond.methodLink "java/lang/StringLatin1" (92 : Nat) ({ cls := "java/lang/Math", name := "max", desc := "(II)I" } : Jvm.MethodName)) ∈ lw_all := lw_g (lw_at lw_m2 215 rfl) rfl
theorem q519 : (Jvm.Cond.methodLink "java/lang/StringLatin1" (38 : Nat) ({ cls := "java/lang/Math", name := "min", desc := "(II)I" } : Jvm.MethodName)) ∈ lw_all := lw_g (lw_at lw_m2 216 rfl) rfl
theorem q520 : (Jvm.Cond.methodLink "java/lang/StringLatin1" (95 : Nat) ({ cls := "java/lang/StringLatin1", name := "indexOfChar", desc := "([BIII)I" } : Jvm.MethodName)) ∈ lw_all := lw_g (lw_at lw_m2 217 rfl) rfl
theorem q521 : (Jvm.Cond.static ({ cls := "java/lang/StringLatin1", name := "indexOfChar", desc := "([BIII)I" } : Jvm.MethodName)) ∈ lw_all := lw_g (lw_at lw_m2 218 rfl) rfl
theorem q522 : (Jvm.Cond.code ({ cls := "java/lang/StringLatin1", name := "indexOfChar", desc := "([BIII)I" } : Jvm.MethodName) prog_37_method_23_code (6 : Nat) (Option.some Jvm.ClassFile.FieldType.int)) ∈ lw_all := lw_g (lw_at lw_m2 219 rfl) rfl
theorem q568 : (Jvm.Cond.static ({ cls := "java/lang/StringLatin1", name := "equals", desc := "([B[B)Z" } : Jvm.MethodName)) ∈ lw_all := lw_g (lw_at lw_m3 25 rfl) rfl
theorem q569 : (Jvm.Cond.code ({ cls := "java/lang/StringLatin1", name := "equals", desc := "([B[B)Z" } : Jvm.MethodName) prog_37_method_13_code (3 : Nat) (Option.some Jvm.ClassFile.FieldType.boolean)) ∈ lw_all := lw_g (lw_at lw_m3 26 rfl) rfl
