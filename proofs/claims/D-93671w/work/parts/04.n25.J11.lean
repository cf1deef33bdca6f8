/-! java/util/Arrays -/
set_option maxRecDepth 100000
def RJ11 : String := "java/util/Arrays"
abbrev cJ11_copyOf : ByteArray := prog_46_method_121_code
def yJ11_copyOf : MethodName := ⟨RJ11, "copyOf", "([BI)[B"⟩
def dkwJ11_copyOf_1 : List UInt8 := [27, 184, 1, 48, 184, 0, 150, 44, 176]
abbrev dktJ11_copyOf_1 : List UInt8 := dkwJ11_copyOf_1 ++ []
def dkwJ11_copyOf_0 : List UInt8 := [27, 42, 190, 160, 0, 11, 42, 182, 1, 54, 192, 1, 55, 176, 27, 188, 8, 77, 42, 3, 44, 3, 42, 190]
abbrev dktJ11_copyOf_0 : List UInt8 := dkwJ11_copyOf_0 ++ dktJ11_copyOf_1
theorem dksJ11_copyOf_0 : cJ11_copyOf.data.toList.drop 0 = dktJ11_copyOf_0 := by decide +kernel
theorem dksJ11_copyOf_1 : cJ11_copyOf.data.toList.drop 24 = dktJ11_copyOf_1 := dk_seg dksJ11_copyOf_0 24 rfl rfl
theorem dJ11_copyOf_0 : decode cJ11_copyOf 0 = .ok (.iload_n 1, 1) := dk_27 (dk_at dksJ11_copyOf_0 0 rfl rfl)
theorem dJ11_copyOf_1 : decode cJ11_copyOf 1 = .ok (.aload_n 0, 1) := dk_42 (dk_at dksJ11_copyOf_0 1 rfl rfl)
theorem dJ11_copyOf_2 : decode cJ11_copyOf 2 = .ok (.arraylength, 1) := dk_190 (dk_at dksJ11_copyOf_0 2 rfl rfl)
theorem dJ11_copyOf_3 : decode cJ11_copyOf 3 = .ok (.if_icmp .ne 11, 3) := dk_160 0 11 (dk_at dksJ11_copyOf_0 3 rfl rfl)
theorem dJ11_copyOf_6 : decode cJ11_copyOf 6 = .ok (.aload_n 0, 1) := dk_42 (dk_at dksJ11_copyOf_0 6 rfl rfl)
theorem dJ11_copyOf_7 : decode cJ11_copyOf 7 = .ok (.invokevirtual 310, 3) := dk_182 1 54 (dk_at dksJ11_copyOf_0 7 rfl rfl)
theorem dJ11_copyOf_10 : decode cJ11_copyOf 10 = .ok (.checkcast 311, 3) := dk_192 1 55 (dk_at dksJ11_copyOf_0 10 rfl rfl)
theorem dJ11_copyOf_13 : decode cJ11_copyOf 13 = .ok (.areturn, 1) := dk_176 (dk_at dksJ11_copyOf_0 13 rfl rfl)
theorem dJ11_copyOf_14 : decode cJ11_copyOf 14 = .ok (.iload_n 1, 1) := dk_27 (dk_at dksJ11_copyOf_0 14 rfl rfl)
theorem dJ11_copyOf_15 : decode cJ11_copyOf 15 = .ok (.newarray .byte, 2) := dk_188_8 (dk_at dksJ11_copyOf_0 15 rfl rfl)
theorem dJ11_copyOf_17 : decode cJ11_copyOf 17 = .ok (.astore_n 2, 1) := dk_77 (dk_at dksJ11_copyOf_0 17 rfl rfl)
theorem dJ11_copyOf_18 : decode cJ11_copyOf 18 = .ok (.aload_n 0, 1) := dk_42 (dk_at dksJ11_copyOf_0 18 rfl rfl)
theorem dJ11_copyOf_19 : decode cJ11_copyOf 19 = .ok (.iconst 0, 1) := dk_3 (dk_at dksJ11_copyOf_0 19 rfl rfl)
theorem dJ11_copyOf_20 : decode cJ11_copyOf 20 = .ok (.aload_n 2, 1) := dk_44 (dk_at dksJ11_copyOf_0 20 rfl rfl)
theorem dJ11_copyOf_21 : decode cJ11_copyOf 21 = .ok (.iconst 0, 1) := dk_3 (dk_at dksJ11_copyOf_0 21 rfl rfl)
theorem dJ11_copyOf_22 : decode cJ11_copyOf 22 = .ok (.aload_n 0, 1) := dk_42 (dk_at dksJ11_copyOf_0 22 rfl rfl)
theorem dJ11_copyOf_23 : decode cJ11_copyOf 23 = .ok (.arraylength, 1) := dk_190 (dk_at dksJ11_copyOf_0 23 rfl rfl)
theorem dJ11_copyOf_24 : decode cJ11_copyOf 24 = .ok (.iload_n 1, 1) := dk_27 (dk_at dksJ11_copyOf_1 0 rfl rfl)
theorem dJ11_copyOf_25 : decode cJ11_copyOf 25 = .ok (.invokestatic 304, 3) := dk_184 1 48 (dk_at dksJ11_copyOf_1 1 rfl rfl)
theorem dJ11_copyOf_28 : decode cJ11_copyOf 28 = .ok (.invokestatic 150, 3) := dk_184 0 150 (dk_at dksJ11_copyOf_1 4 rfl rfl)
theorem dJ11_copyOf_31 : decode cJ11_copyOf 31 = .ok (.aload_n 2, 1) := dk_44 (dk_at dksJ11_copyOf_1 7 rfl rfl)
theorem dJ11_copyOf_32 : decode cJ11_copyOf 32 = .ok (.areturn, 1) := dk_176 (dk_at dksJ11_copyOf_1 8 rfl rfl)
abbrev cJ11_copyOfRange : ByteArray := prog_46_method_132_code
def yJ11_copyOfRange : MethodName := ⟨RJ11, "copyOfRange", "([BII)[B"⟩
def dkwJ11_copyOfRange_1 : List UInt8 := [176]
abbrev dktJ11_copyOfRange_1 : List UInt8 := dkwJ11_copyOfRange_1 ++ []
def dkwJ11_copyOfRange_0 : List UInt8 := [27, 154, 0, 9, 28, 42, 190, 159, 0, 10, 42, 27, 28, 184, 1, 83, 176, 42, 182, 1, 54, 192, 1, 55]
abbrev dktJ11_copyOfRange_0 : List UInt8 := dkwJ11_copyOfRange_0 ++ dktJ11_copyOfRange_1
theorem dksJ11_copyOfRange_0 : cJ11_copyOfRange.data.toList.drop 0 = dktJ11_copyOfRange_0 := by decide +kernel
theorem dksJ11_copyOfRange_1 : cJ11_copyOfRange.data.toList.drop 24 = dktJ11_copyOfRange_1 := dk_seg dksJ11_copyOfRange_0 24 rfl rfl
theorem dJ11_copyOfRange_0 : decode cJ11_copyOfRange 0 = .ok (.iload_n 1, 1) := dk_27 (dk_at dksJ11_copyOfRange_0 0 rfl rfl)
theorem dJ11_copyOfRange_1 : decode cJ11_copyOfRange 1 = .ok (.ifCond .ne 9, 3) := dk_154 0 9 (dk_at dksJ11_copyOfRange_0 1 rfl rfl)
theorem dJ11_copyOfRange_4 : decode cJ11_copyOfRange 4 = .ok (.iload_n 2, 1) := dk_28 (dk_at dksJ11_copyOfRange_0 4 rfl rfl)
theorem dJ11_copyOfRange_5 : decode cJ11_copyOfRange 5 = .ok (.aload_n 0, 1) := dk_42 (dk_at dksJ11_copyOfRange_0 5 rfl rfl)
theorem dJ11_copyOfRange_6 : decode cJ11_copyOfRange 6 = .ok (.arraylength, 1) := dk_190 (dk_at dksJ11_copyOfRange_0 6 rfl rfl)
theorem dJ11_copyOfRange_7 : decode cJ11_copyOfRange 7 = .ok (.if_icmp .eq 10, 3) := dk_159 0 10 (dk_at dksJ11_copyOfRange_0 7 rfl rfl)
theorem dJ11_copyOfRange_10 : decode cJ11_copyOfRange 10 = .ok (.aload_n 0, 1) := dk_42 (dk_at dksJ11_copyOfRange_0 10 rfl rfl)
theorem dJ11_copyOfRange_11 : decode cJ11_copyOfRange 11 = .ok (.iload_n 1, 1) := dk_27 (dk_at dksJ11_copyOfRange_0 11 rfl rfl)
theorem dJ11_copyOfRange_12 : decode cJ11_copyOfRange 12 = .ok (.iload_n 2, 1) := dk_28 (dk_at dksJ11_copyOfRange_0 12 rfl rfl)
theorem dJ11_copyOfRange_13 : decode cJ11_copyOfRange 13 = .ok (.invokestatic 339, 3) := dk_184 1 83 (dk_at dksJ11_copyOfRange_0 13 rfl rfl)
theorem dJ11_copyOfRange_16 : decode cJ11_copyOfRange 16 = .ok (.areturn, 1) := dk_176 (dk_at dksJ11_copyOfRange_0 16 rfl rfl)
theorem dJ11_copyOfRange_17 : decode cJ11_copyOfRange 17 = .ok (.aload_n 0, 1) := dk_42 (dk_at dksJ11_copyOfRange_0 17 rfl rfl)
theorem dJ11_copyOfRange_18 : decode cJ11_copyOfRange 18 = .ok (.invokevirtual 310, 3) := dk_182 1 54 (dk_at dksJ11_copyOfRange_0 18 rfl rfl)
theorem dJ11_copyOfRange_21 : decode cJ11_copyOfRange 21 = .ok (.checkcast 311, 3) := dk_192 1 55 (dk_at dksJ11_copyOfRange_0 21 rfl rfl)
theorem dJ11_copyOfRange_24 : decode cJ11_copyOfRange 24 = .ok (.areturn, 1) := dk_176 (dk_at dksJ11_copyOfRange_1 0 rfl rfl)
abbrev cJ11_copyOfRangeByte : ByteArray := prog_46_method_133_code
def yJ11_copyOfRangeByte : MethodName := ⟨RJ11, "copyOfRangeByte", "([BII)[B"⟩
def dkwJ11_copyOfRangeByte_1 : List UInt8 := [184, 1, 48, 184, 0, 150, 25, 4, 176]
abbrev dktJ11_copyOfRangeByte_1 : List UInt8 := dkwJ11_copyOfRangeByte_1 ++ []
def dkwJ11_copyOfRangeByte_0 : List UInt8 := [27, 28, 184, 1, 87, 28, 27, 100, 62, 29, 188, 8, 58, 4, 42, 27, 25, 4, 3, 42, 190, 27, 100, 29]
abbrev dktJ11_copyOfRangeByte_0 : List UInt8 := dkwJ11_copyOfRangeByte_0 ++ dktJ11_copyOfRangeByte_1
theorem dksJ11_copyOfRangeByte_0 : cJ11_copyOfRangeByte.data.toList.drop 0 = dktJ11_copyOfRangeByte_0 := by decide +kernel
theorem dksJ11_copyOfRangeByte_1 : cJ11_copyOfRangeByte.data.toList.drop 24 = dktJ11_copyOfRangeByte_1 := dk_seg dksJ11_copyOfRangeByte_0 24 rfl rfl
theorem dJ11_copyOfRangeByte_0 : decode cJ11_copyOfRangeByte 0 = .ok (.iload_n 1, 1) := dk_27 (dk_at dksJ11_copyOfRangeByte_0 0 rfl rfl)
theorem dJ11_copyOfRangeByte_1 : decode cJ11_copyOfRangeByte 1 = .ok (.iload_n 2, 1) := dk_28 (dk_at dksJ11_copyOfRangeByte_0 1 rfl rfl)
theorem dJ11_copyOfRangeByte_2 : decode cJ11_copyOfRangeByte 2 = .ok (.invokestatic 343, 3) := dk_184 1 87 (dk_at dksJ11_copyOfRangeByte_0 2 rfl rfl)
theorem dJ11_copyOfRangeByte_5 : decode cJ11_copyOfRangeByte 5 = .ok (.iload_n 2, 1) := dk_28 (dk_at dksJ11_copyOfRangeByte_0 5 rfl rfl)
theorem dJ11_copyOfRangeByte_6 : decode cJ11_copyOfRangeByte 6 = .ok (.iload_n 1, 1) := dk_27 (dk_at dksJ11_copyOfRangeByte_0 6 rfl rfl)
theorem dJ11_copyOfRangeByte_7 : decode cJ11_copyOfRangeByte 7 = .ok (.isub, 1) := dk_100 (dk_at dksJ11_copyOfRangeByte_0 7 rfl rfl)
theorem dJ11_copyOfRangeByte_8 : decode cJ11_copyOfRangeByte 8 = .ok (.istore_n 3, 1) := dk_62 (dk_at dksJ11_copyOfRangeByte_0 8 rfl rfl)
theorem dJ11_copyOfRangeByte_9 : decode cJ11_copyOfRangeByte 9 = .ok (.iload_n 3, 1) := dk_29 (dk_at dksJ11_copyOfRangeByte_0 9 rfl rfl)
theorem dJ11_copyOfRangeByte_10 : decode cJ11_copyOfRangeByte 10 = .ok (.newarray .byte, 2) := dk_188_8 (dk_at dksJ11_copyOfRangeByte_0 10 rfl rfl)
theorem dJ11_copyOfRangeByte_12 : decode cJ11_copyOfRangeByte 12 = .ok (.astore 4, 2) := dk_58 4 (dk_at dksJ11_copyOfRangeByte_0 12 rfl rfl)
theorem dJ11_copyOfRangeByte_14 : decode cJ11_copyOfRangeByte 14 = .ok (.aload_n 0, 1) := dk_42 (dk_at dksJ11_copyOfRangeByte_0 14 rfl rfl)
theorem dJ11_copyOfRangeByte_15 : decode cJ11_copyOfRangeByte 15 = .ok (.iload_n 1, 1) := dk_27 (dk_at dksJ11_copyOfRangeByte_0 15 rfl rfl)
theorem dJ11_copyOfRangeByte_16 : decode cJ11_copyOfRangeByte 16 = .ok (.aload 4, 2) := dk_25 4 (dk_at dksJ11_copyOfRangeByte_0 16 rfl rfl)
theorem dJ11_copyOfRangeByte_18 : decode cJ11_copyOfRangeByte 18 = .ok (.iconst 0, 1) := dk_3 (dk_at dksJ11_copyOfRangeByte_0 18 rfl rfl)
theorem dJ11_copyOfRangeByte_19 : decode cJ11_copyOfRangeByte 19 = .ok (.aload_n 0, 1) := dk_42 (dk_at dksJ11_copyOfRangeByte_0 19 rfl rfl)
theorem dJ11_copyOfRangeByte_20 : decode cJ11_copyOfRangeByte 20 = .ok (.arraylength, 1) := dk_190 (dk_at dksJ11_copyOfRangeByte_0 20 rfl rfl)
theorem dJ11_copyOfRangeByte_21 : decode cJ11_copyOfRangeByte 21 = .ok (.iload_n 1, 1) := dk_27 (dk_at dksJ11_copyOfRangeByte_0 21 rfl rfl)
theorem dJ11_copyOfRangeByte_22 : decode cJ11_copyOfRangeByte 22 = .ok (.isub, 1) := dk_100 (dk_at dksJ11_copyOfRangeByte_0 22 rfl rfl)
theorem dJ11_copyOfRangeByte_23 : decode cJ11_copyOfRangeByte 23 = .ok (.iload_n 3, 1) := dk_29 (dk_at dksJ11_copyOfRangeByte_0 23 rfl rfl)
theorem dJ11_copyOfRangeByte_24 : decode cJ11_copyOfRangeByte 24 = .ok (.invokestatic 304, 3) := dk_184 1 48 (dk_at dksJ11_copyOfRangeByte_1 0 rfl rfl)
theorem dJ11_copyOfRangeByte_27 : decode cJ11_copyOfRangeByte 27 = .ok (.invokestatic 150, 3) := dk_184 0 150 (dk_at dksJ11_copyOfRangeByte_1 3 rfl rfl)
theorem dJ11_copyOfRangeByte_30 : decode cJ11_copyOfRangeByte 30 = .ok (.aload 4, 2) := dk_25 4 (dk_at dksJ11_copyOfRangeByte_1 6 rfl rfl)
theorem dJ11_copyOfRangeByte_32 : decode cJ11_copyOfRangeByte 32 = .ok (.areturn, 1) := dk_176 (dk_at dksJ11_copyOfRangeByte_1 8 rfl rfl)
abbrev cJ11_checkLength : ByteArray := prog_46_method_131_code
def yJ11_checkLength : MethodName := ⟨RJ11, "checkLength", "(II)V"⟩
def dkwJ11_checkLength_1 : List UInt8 := [182, 0, 50, 27, 182, 0, 54, 182, 0, 61, 183, 0, 65, 191, 177]
abbrev dktJ11_checkLength_1 : List UInt8 := dkwJ11_checkLength_1 ++ []
def dkwJ11_checkLength_0 : List UInt8 := [27, 26, 162, 0, 35, 187, 0, 43, 89, 187, 0, 45, 89, 183, 0, 47, 26, 182, 0, 54, 19, 1, 81]
abbrev dktJ11_checkLength_0 : List UInt8 := dkwJ11_checkLength_0 ++ dktJ11_checkLength_1
theorem dksJ11_checkLength_0 : cJ11_checkLength.data.toList.drop 0 = dktJ11_checkLength_0 := by decide +kernel
theorem dksJ11_checkLength_1 : cJ11_checkLength.data.toList.drop 23 = dktJ11_checkLength_1 := dk_seg dksJ11_checkLength_0 23 rfl rfl
theorem dJ11_checkLength_0 : decode cJ11_checkLength 0 = .ok (.iload_n 1, 1) := dk_27 (dk_at dksJ11_checkLength_0 0 rfl rfl)
theorem dJ11_checkLength_1 : decode cJ11_checkLength 1 = .ok (.iload_n 0, 1) := dk_26 (dk_at dksJ11_checkLength_0 1 rfl rfl)
theorem dJ11_checkLength_2 : decode cJ11_checkLength 2 = .ok (.if_icmp .ge 35, 3) := dk_162 0 35 (dk_at dksJ11_checkLength_0 2 rfl rfl)
theorem dJ11_checkLength_5 : decode cJ11_checkLength 5 = .ok (.new 43, 3) := dk_187 0 43 (dk_at dksJ11_checkLength_0 5 rfl rfl)
theorem dJ11_checkLength_8 : decode cJ11_checkLength 8 = .ok (.dup, 1) := dk_89 (dk_at dksJ11_checkLength_0 8 rfl rfl)
theorem dJ11_checkLength_9 : decode cJ11_checkLength 9 = .ok (.new 45, 3) := dk_187 0 45 (dk_at dksJ11_checkLength_0 9 rfl rfl)
theorem dJ11_checkLength_12 : decode cJ11_checkLength 12 = .ok (.dup, 1) := dk_89 (dk_at dksJ11_checkLength_0 12 rfl rfl)
theorem dJ11_checkLength_13 : decode cJ11_checkLength 13 = .ok (.invokespecial 47, 3) := dk_183 0 47 (dk_at dksJ11_checkLength_0 13 rfl rfl)
theorem dJ11_checkLength_16 : decode cJ11_checkLength 16 = .ok (.iload_n 0, 1) := dk_26 (dk_at dksJ11_checkLength_0 16 rfl rfl)
theorem dJ11_checkLength_17 : decode cJ11_checkLength 17 = .ok (.invokevirtual 54, 3) := dk_182 0 54 (dk_at dksJ11_checkLength_0 17 rfl rfl)
theorem dJ11_checkLength_20 : decode cJ11_checkLength 20 = .ok (.ldc_w 337, 3) := dk_19 1 81 (dk_at dksJ11_checkLength_0 20 rfl rfl)
theorem dJ11_checkLength_23 : decode cJ11_checkLength 23 = .ok (.invokevirtual 50, 3) := dk_182 0 50 (dk_at dksJ11_checkLength_1 0 rfl rfl)
theorem dJ11_checkLength_26 : decode cJ11_checkLength 26 = .ok (.iload_n 1, 1) := dk_27 (dk_at dksJ11_checkLength_1 3 rfl rfl)
theorem dJ11_checkLength_27 : decode cJ11_checkLength 27 = .ok (.invokevirtual 54, 3) := dk_182 0 54 (dk_at dksJ11_checkLength_1 4 rfl rfl)
theorem dJ11_checkLength_30 : decode cJ11_checkLength 30 = .ok (.invokevirtual 61, 3) := dk_182 0 61 (dk_at dksJ11_checkLength_1 7 rfl rfl)
theorem dJ11_checkLength_33 : decode cJ11_checkLength 33 = .ok (.invokespecial 65, 3) := dk_183 0 65 (dk_at dksJ11_checkLength_1 10 rfl rfl)
theorem dJ11_checkLength_36 : decode cJ11_checkLength 36 = .ok (.athrow, 1) := dk_191 (dk_at dksJ11_checkLength_1 13 rfl rfl)
theorem dJ11_checkLength_37 : decode cJ11_checkLength 37 = .ok (.return_, 1) := dk_177 (dk_at dksJ11_checkLength_1 14 rfl rfl)
abbrev cJ11_copyOf_2 : ByteArray := prog_46_method_119_code
def yJ11_copyOf_2 : MethodName := ⟨RJ11, "copyOf", "([Ljava/lang/Object;I)[Ljava/lang/Object;"⟩
def dkwJ11_copyOf_2_0 : List UInt8 := [42, 27, 42, 182, 0, 86, 184, 1, 44, 176]
abbrev dktJ11_copyOf_2_0 : List UInt8 := dkwJ11_copyOf_2_0 ++ []
theorem dksJ11_copyOf_2_0 : cJ11_copyOf_2.data.toList.drop 0 = dktJ11_copyOf_2_0 := by decide +kernel
theorem dJ11_copyOf_2_0 : decode cJ11_copyOf_2 0 = .ok (.aload_n 0, 1) := dk_42 (dk_at dksJ11_copyOf_2_0 0 rfl rfl)
theorem dJ11_copyOf_2_1 : decode cJ11_copyOf_2 1 = .ok (.iload_n 1, 1) := dk_27 (dk_at dksJ11_copyOf_2_0 1 rfl rfl)
theorem dJ11_copyOf_2_2 : decode cJ11_copyOf_2 2 = .ok (.aload_n 0, 1) := dk_42 (dk_at dksJ11_copyOf_2_0 2 rfl rfl)
theorem dJ11_copyOf_2_3 : decode cJ11_copyOf_2 3 = .ok (.invokevirtual 86, 3) := dk_182 0 86 (dk_at dksJ11_copyOf_2_0 3 rfl rfl)
theorem dJ11_copyOf_2_6 : decode cJ11_copyOf_2 6 = .ok (.invokestatic 300, 3) := dk_184 1 44 (dk_at dksJ11_copyOf_2_0 6 rfl rfl)
theorem dJ11_copyOf_2_9 : decode cJ11_copyOf_2 9 = .ok (.areturn, 1) := dk_176 (dk_at dksJ11_copyOf_2_0 9 rfl rfl)
abbrev cJ11_copyOf_3 : ByteArray := prog_46_method_120_code
def yJ11_copyOf_3 : MethodName := ⟨RJ11, "copyOf", "([Ljava/lang/Object;ILjava/lang/Class;)[Ljava/lang/Object;"⟩
def dkwJ11_copyOf_3_1 : List UInt8 := [78, 42, 3, 45, 3, 42, 190, 27, 184, 1, 48, 184, 0, 150, 45, 176]
abbrev dktJ11_copyOf_3_1 : List UInt8 := dkwJ11_copyOf_3_1 ++ []
def dkwJ11_copyOf_3_0 : List UInt8 := [44, 18, 110, 166, 0, 10, 27, 189, 0, 2, 167, 0, 14, 44, 182, 0, 90, 27, 184, 0, 95, 192, 0, 110]
abbrev dktJ11_copyOf_3_0 : List UInt8 := dkwJ11_copyOf_3_0 ++ dktJ11_copyOf_3_1
theorem dksJ11_copyOf_3_0 : cJ11_copyOf_3.data.toList.drop 0 = dktJ11_copyOf_3_0 := by decide +kernel
theorem dksJ11_copyOf_3_1 : cJ11_copyOf_3.data.toList.drop 24 = dktJ11_copyOf_3_1 := dk_seg dksJ11_copyOf_3_0 24 rfl rfl
theorem dJ11_copyOf_3_0 : decode cJ11_copyOf_3 0 = .ok (.aload_n 2, 1) := dk_44 (dk_at dksJ11_copyOf_3_0 0 rfl rfl)
theorem dJ11_copyOf_3_1 : decode cJ11_copyOf_3 1 = .ok (.ldc 110, 2) := dk_18 110 (dk_at dksJ11_copyOf_3_0 1 rfl rfl)
theorem dJ11_copyOf_3_3 : decode cJ11_copyOf_3 3 = .ok (.if_acmp .ne 10, 3) := dk_166 0 10 (dk_at dksJ11_copyOf_3_0 3 rfl rfl)
theorem dJ11_copyOf_3_6 : decode cJ11_copyOf_3 6 = .ok (.iload_n 1, 1) := dk_27 (dk_at dksJ11_copyOf_3_0 6 rfl rfl)
theorem dJ11_copyOf_3_7 : decode cJ11_copyOf_3 7 = .ok (.anewarray 2, 3) := dk_189 0 2 (dk_at dksJ11_copyOf_3_0 7 rfl rfl)
theorem dJ11_copyOf_3_10 : decode cJ11_copyOf_3 10 = .ok (.goto 14, 3) := dk_167 0 14 (dk_at dksJ11_copyOf_3_0 10 rfl rfl)
theorem dJ11_copyOf_3_13 : decode cJ11_copyOf_3 13 = .ok (.aload_n 2, 1) := dk_44 (dk_at dksJ11_copyOf_3_0 13 rfl rfl)
theorem dJ11_copyOf_3_14 : decode cJ11_copyOf_3 14 = .ok (.invokevirtual 90, 3) := dk_182 0 90 (dk_at dksJ11_copyOf_3_0 14 rfl rfl)
theorem dJ11_copyOf_3_17 : decode cJ11_copyOf_3 17 = .ok (.iload_n 1, 1) := dk_27 (dk_at dksJ11_copyOf_3_0 17 rfl rfl)
theorem dJ11_copyOf_3_18 : decode cJ11_copyOf_3 18 = .ok (.invokestatic 95, 3) := dk_184 0 95 (dk_at dksJ11_copyOf_3_0 18 rfl rfl)
theorem dJ11_copyOf_3_21 : decode cJ11_copyOf_3 21 = .ok (.checkcast 110, 3) := dk_192 0 110 (dk_at dksJ11_copyOf_3_0 21 rfl rfl)
theorem dJ11_copyOf_3_24 : decode cJ11_copyOf_3 24 = .ok (.astore_n 3, 1) := dk_78 (dk_at dksJ11_copyOf_3_1 0 rfl rfl)
theorem dJ11_copyOf_3_25 : decode cJ11_copyOf_3 25 = .ok (.aload_n 0, 1) := dk_42 (dk_at dksJ11_copyOf_3_1 1 rfl rfl)
theorem dJ11_copyOf_3_26 : decode cJ11_copyOf_3 26 = .ok (.iconst 0, 1) := dk_3 (dk_at dksJ11_copyOf_3_1 2 rfl rfl)
theorem dJ11_copyOf_3_27 : decode cJ11_copyOf_3 27 = .ok (.aload_n 3, 1) := dk_45 (dk_at dksJ11_copyOf_3_1 3 rfl rfl)
theorem dJ11_copyOf_3_28 : decode cJ11_copyOf_3 28 = .ok (.iconst 0, 1) := dk_3 (dk_at dksJ11_copyOf_3_1 4 rfl rfl)
theorem dJ11_copyOf_3_29 : decode cJ11_copyOf_3 29 = .ok (.aload_n 0, 1) := dk_42 (dk_at dksJ11_copyOf_3_1 5 rfl rfl)
theorem dJ11_copyOf_3_30 : decode cJ11_copyOf_3 30 = .ok (.arraylength, 1) := dk_190 (dk_at dksJ11_copyOf_3_1 6 rfl rfl)
theorem dJ11_copyOf_3_31 : decode cJ11_copyOf_3 31 = .ok (.iload_n 1, 1) := dk_27 (dk_at dksJ11_copyOf_3_1 7 rfl rfl)
theorem dJ11_copyOf_3_32 : decode cJ11_copyOf_3 32 = .ok (.invokestatic 304, 3) := dk_184 1 48 (dk_at dksJ11_copyOf_3_1 8 rfl rfl)
theorem dJ11_copyOf_3_35 : decode cJ11_copyOf_3 35 = .ok (.invokestatic 150, 3) := dk_184 0 150 (dk_at dksJ11_copyOf_3_1 11 rfl rfl)
theorem dJ11_copyOf_3_38 : decode cJ11_copyOf_3 38 = .ok (.aload_n 3, 1) := dk_45 (dk_at dksJ11_copyOf_3_1 14 rfl rfl)
theorem dJ11_copyOf_3_39 : decode cJ11_copyOf_3 39 = .ok (.areturn, 1) := dk_176 (dk_at dksJ11_copyOf_3_1 15 rfl rfl)
abbrev cJ11_fill : ByteArray := prog_46_method_103_code
def yJ11_fill : MethodName := ⟨RJ11, "fill", "([II)V"⟩
def dkwJ11_fill_0 : List UInt8 := [3, 61, 42, 190, 62, 28, 29, 162, 0, 13, 42, 28, 27, 79, 132, 2, 1, 167, 255, 244, 177]
abbrev dktJ11_fill_0 : List UInt8 := dkwJ11_fill_0 ++ []
theorem dksJ11_fill_0 : cJ11_fill.data.toList.drop 0 = dktJ11_fill_0 := by decide +kernel
theorem dJ11_fill_0 : decode cJ11_fill 0 = .ok (.iconst 0, 1) := dk_3 (dk_at dksJ11_fill_0 0 rfl rfl)
theorem dJ11_fill_1 : decode cJ11_fill 1 = .ok (.istore_n 2, 1) := dk_61 (dk_at dksJ11_fill_0 1 rfl rfl)
theorem dJ11_fill_2 : decode cJ11_fill 2 = .ok (.aload_n 0, 1) := dk_42 (dk_at dksJ11_fill_0 2 rfl rfl)
theorem dJ11_fill_3 : decode cJ11_fill 3 = .ok (.arraylength, 1) := dk_190 (dk_at dksJ11_fill_0 3 rfl rfl)
theorem dJ11_fill_4 : decode cJ11_fill 4 = .ok (.istore_n 3, 1) := dk_62 (dk_at dksJ11_fill_0 4 rfl rfl)
theorem dJ11_fill_5 : decode cJ11_fill 5 = .ok (.iload_n 2, 1) := dk_28 (dk_at dksJ11_fill_0 5 rfl rfl)
theorem dJ11_fill_6 : decode cJ11_fill 6 = .ok (.iload_n 3, 1) := dk_29 (dk_at dksJ11_fill_0 6 rfl rfl)
theorem dJ11_fill_7 : decode cJ11_fill 7 = .ok (.if_icmp .ge 13, 3) := dk_162 0 13 (dk_at dksJ11_fill_0 7 rfl rfl)
theorem dJ11_fill_10 : decode cJ11_fill 10 = .ok (.aload_n 0, 1) := dk_42 (dk_at dksJ11_fill_0 10 rfl rfl)
theorem dJ11_fill_11 : decode cJ11_fill 11 = .ok (.iload_n 2, 1) := dk_28 (dk_at dksJ11_fill_0 11 rfl rfl)
theorem dJ11_fill_12 : decode cJ11_fill 12 = .ok (.iload_n 1, 1) := dk_27 (dk_at dksJ11_fill_0 12 rfl rfl)
theorem dJ11_fill_13 : decode cJ11_fill 13 = .ok (.iastore, 1) := dk_79 (dk_at dksJ11_fill_0 13 rfl rfl)
theorem dJ11_fill_14 : decode cJ11_fill 14 = .ok (.iinc 2 1, 3) := dk_132 2 1 (dk_at dksJ11_fill_0 14 rfl rfl)
theorem dJ11_fill_17 : decode cJ11_fill 17 = .ok (.goto (-12), 3) := dk_167 255 244 (dk_at dksJ11_fill_0 17 rfl rfl)
theorem dJ11_fill_20 : decode cJ11_fill 20 = .ok (.return_, 1) := dk_177 (dk_at dksJ11_fill_0 20 rfl rfl)
theorem q78 : (Jvm.Cond.initialized "java/util/Arrays") ∈ lw_all := lw_g (lw_at lw_m1 15 rfl) rfl
theorem q329 : (Jvm.Cond.static ({ cls := "java/util/Arrays", name := "copyOf", desc := "([BI)[B" } : Jvm.MethodName)) ∈ lw_all := lw_g (lw_at lw_m2 26 rfl) rfl
theorem q330 : (Jvm.Cond.code ({ cls := "java/util/Arrays", name := "copyOf", desc := "([BI)[B" } : Jvm.MethodName) prog_46_method_121_code (3 : Nat) (Option.some (Jvm.ClassFile.FieldType.array Jvm.ClassFile.FieldType.byte))) ∈ lw_all := lw_g (lw_at lw_m2 27 rfl) rfl
theorem q331 : (Jvm.Cond.methodLink "java/util/Arrays" (310 : Nat) ({ cls := "[B", name := "clone", desc := "()Ljava/lang/Object;" } : Jvm.MethodName)) ∈ lw_all := lw_g (lw_at lw_m2 28 rfl) rfl
theorem q337 : (Jvm.Cond.classLink "java/util/Arrays" (311 : Nat) "[B") ∈ lw_all := lw_g (lw_at lw_m2 34 rfl) rfl
theorem q338 : (Jvm.Cond.methodLink "java/util/Arrays" (304 : Nat) ({ cls := "java/lang/Math", name := "min", desc := "(II)I" } : Jvm.MethodName)) ∈ lw_all := lw_g (lw_at lw_m2 35 rfl) rfl
theorem q341 : (Jvm.Cond.methodLink "java/util/Arrays" (150 : Nat) ({ cls := "java/lang/System", name := "arraycopy", desc := "(Ljava/lang/Object;ILjava/lang/Object;II)V" } : Jvm.MethodName)) ∈ lw_all := lw_g (lw_at lw_m2 38 rfl) rfl
theorem q398 : (Jvm.Cond.static ({ cls := "java/util/Arrays", name := "copyOfRange", desc := "([BII)[B" } : Jvm.MethodName)) ∈ lw_all := lw_g (lw_at lw_m2 95 rfl) rfl
theorem q399 : (Jvm.Cond.code ({ cls := "java/util/Arrays", name := "copyOfRange", desc := "([BII)[B" } : Jvm.MethodName) prog_46_method_132_code (3 : Nat) (Option.some (Jvm.ClassFile.FieldType.array Jvm.ClassFile.FieldType.byte))) ∈ lw_all := lw_g (lw_at lw_m2 96 rfl) rfl
theorem q400 : (Jvm.Cond.methodLink "java/util/Arrays" (339 : Nat) ({ cls := "java/util/Arrays", name := "copyOfRangeByte", desc := "([BII)[B" } : Jvm.MethodName)) ∈ lw_all := lw_g (lw_at lw_m2 97 rfl) rfl
theorem q401 : (Jvm.Cond.static ({ cls := "java/util/Arrays", name := "copyOfRangeByte", desc := "([BII)[B" } : Jvm.MethodName)) ∈ lw_all := lw_g (lw_at lw_m2 98 rfl) rfl
theorem q402 : (Jvm.Cond.code ({ cls := "java/util/Arrays", name := "copyOfRangeByte", desc := "([BII)[B" } : Jvm.MethodName) prog_46_method_133_code (5 : Nat) (Option.some (Jvm.ClassFile.FieldType.array Jvm.ClassFile.FieldType.byte))) ∈ lw_all := lw_g (lw_at lw_m2 99 rfl) rfl
theorem q403 : (Jvm.Cond.methodLink "java/util/Arrays" (343 : Nat) ({ cls := "java/util/Arrays", name := "checkLength", desc := "(II)V" } : Jvm.MethodName)) ∈ lw_all := lw_g (lw_at lw_m2 100 rfl) rfl
theorem q404 : (Jvm.Cond.static ({ cls := "java/util/Arrays", name := "checkLength", desc := "(II)V" } : Jvm.MethodName)) ∈ lw_all := lw_g (lw_at lw_m2 101 rfl) rfl
theorem q405 : (Jvm.Cond.code ({ cls := "java/util/Arrays", name := "checkLength", desc := "(II)V" } : Jvm.MethodName) prog_46_method_131_code (2 : Nat) (Option.none : Option Jvm.ClassFile.FieldType)) ∈ lw_all := lw_g (lw_at lw_m2 102 rfl) rfl
theorem q889 : (Jvm.Cond.static ({ cls := "java/util/Arrays", name := "copyOf", desc := "([Ljava/lang/Object;I)[Ljava/lang/Object;" } : Jvm.MethodName)) ∈ lw_all := lw_g (lw_at lw_m4 106 rfl) rfl
theorem q890 : (Jvm.Cond.code ({ cls := "java/util/Arrays", name := "copyOf", desc := "([Ljava/lang/Object;I)[Ljava/lang/Object;" } : Jvm.MethodName) prog_46_method_119_code (2 : Nat) (Option.some (Jvm.ClassFile.FieldType.array (Jvm.ClassFile.FieldType.object "java/lang/Object")))) ∈ lw_all := lw_g (lw_at lw_m4 107 rfl) rfl
theorem q891 : (Jvm.Cond.methodLink "java/util/Arrays" (86 : Nat) ({ cls := "java/lang/Object", name := "getClass", desc := "()Ljava/lang/Class;" } : Jvm.MethodName)) ∈ lw_all := lw_g (lw_at lw_m4 108 rfl) rfl
theorem q915 : (Jvm.Cond.methodLink "java/util/Arrays" (300 : Nat) ({ cls := "java/util/Arrays", name := "copyOf", desc := "([Ljava/lang/Object;ILjava/lang/Class;)[Ljava/lang/Object;" } : Jvm.MethodName)) ∈ lw_all := lw_g (lw_at lw_m4 132 rfl) rfl
theorem q916 : (Jvm.Cond.static ({ cls := "java/util/Arrays", name := "copyOf", desc := "([Ljava/lang/Object;ILjava/lang/Class;)[Ljava/lang/Object;" } : Jvm.MethodName)) ∈ lw_all := lw_g (lw_at lw_m4 133 rfl) rfl
theorem q917 : (Jvm.Cond.code ({ cls := "java/util/Arrays", name := "copyOf", desc := "([Ljava/lang/Object;ILjava/lang/Class;)[Ljava/lang/Object;" } : Jvm.MethodName) prog_46_method_120_code (4 : Nat) (Option.some (Jvm.ClassFile.FieldType.array (Jvm.ClassFile.FieldType.object "java/lang/Object")))) ∈ lw_all := lw_g (lw_at lw_m4 134 rfl) rfl
theorem q918 : (Jvm.Cond.classLink "java/util/Arrays" (110 : Nat) "[Ljava/lang/Object;") ∈ lw_all := lw_g (lw_at lw_m4 135 rfl) rfl
theorem q920 : (Jvm.Cond.classLink "java/util/Arrays" (2 : Nat) "java/lang/Object") ∈ lw_all := lw_g (lw_at lw_m4 137 rfl) rfl
theorem q1211 : (Jvm.Cond.static ({ cls := "java/util/Arrays", name := "fill", desc := "([II)V" } : Jvm.MethodName)) ∈ lw_all := lw_g (lw_at lw_m5 188 rfl) rfl
theorem q1212 : (Jvm.Cond.code ({ cls := "java/util/Arrays", name := "fill", desc := "([II)V" } : Jvm.MethodName) prog_46_method_103_code (4 : Nat) (Option.none : Option Jvm.ClassFile.FieldType)) ∈ lw_all := lw_g (lw_at lw_m5 189 rfl) rfl
