/-! java/lang/String -/
set_option maxRecDepth 100000
def RJ3 : String := "java/lang/String"
def TJ3 : u_T := fun k => match k with
  | 0 => ("java/lang/String", "value", "[B", true)
  | 1 => ("java/lang/String", "coder", "B", true)
  | 2 => ("java/lang/String", "hash", "I", false)
  | _ => ("java/lang/String", "hashIsZero", "Z", false)
def tyJ3 : Nat → FieldType := fun k => match k with
  | 0 => .array .byte
  | 1 => .byte
  | 2 => .int
  | _ => .boolean
abbrev wsJ30 : List Cond := u_ws RJ3 TJ3 4
theorem nmJ3 : ∀ a, a < 4 → ∀ b, b < 4 → a ≠ b → (TJ3 a).2.1 ≠ (TJ3 b).2.1 := by decide +kernel
theorem tyJ3_ok : ∀ k, k < 4 → parseFieldDescriptor (TJ3 k).2.2.1 = some (tyJ3 k) := by decide +kernel
abbrev cJ3_length : ByteArray := prog_35_method_54_code
def yJ3_length : MethodName := ⟨RJ3, "length", "()I"⟩
def dkwJ3_length_0 : List UInt8 := [42, 180, 0, 9, 190, 42, 182, 1, 79, 122, 172]
abbrev dktJ3_length_0 : List UInt8 := dkwJ3_length_0 ++ []
theorem dksJ3_length_0 : cJ3_length.data.toList.drop 0 = dktJ3_length_0 := by decide +kernel
theorem dJ3_length_0 : decode cJ3_length 0 = .ok (.aload_n 0, 1) := dk_42 (dk_at dksJ3_length_0 0 rfl rfl)
theorem dJ3_length_1 : decode cJ3_length 1 = .ok (.getfield 9, 3) := dk_180 0 9 (dk_at dksJ3_length_0 1 rfl rfl)
theorem dJ3_length_4 : decode cJ3_length 4 = .ok (.arraylength, 1) := dk_190 (dk_at dksJ3_length_0 4 rfl rfl)
theorem dJ3_length_5 : decode cJ3_length 5 = .ok (.aload_n 0, 1) := dk_42 (dk_at dksJ3_length_0 5 rfl rfl)
theorem dJ3_length_6 : decode cJ3_length 6 = .ok (.invokevirtual 335, 3) := dk_182 1 79 (dk_at dksJ3_length_0 6 rfl rfl)
theorem dJ3_length_9 : decode cJ3_length 9 = .ok (.ishr, 1) := dk_122 (dk_at dksJ3_length_0 9 rfl rfl)
theorem dJ3_length_10 : decode cJ3_length 10 = .ok (.ireturn, 1) := dk_172 (dk_at dksJ3_length_0 10 rfl rfl)
abbrev cJ3_coder : ByteArray := prog_35_method_152_code
def yJ3_coder : MethodName := ⟨RJ3, "coder", "()B"⟩
def dkwJ3_coder_0 : List UInt8 := [178, 0, 38, 153, 0, 10, 42, 180, 0, 15, 167, 0, 4, 4, 172]
abbrev dktJ3_coder_0 : List UInt8 := dkwJ3_coder_0 ++ []
theorem dksJ3_coder_0 : cJ3_coder.data.toList.drop 0 = dktJ3_coder_0 := by decide +kernel
theorem dJ3_coder_0 : decode cJ3_coder 0 = .ok (.getstatic 38, 3) := dk_178 0 38 (dk_at dksJ3_coder_0 0 rfl rfl)
theorem dJ3_coder_3 : decode cJ3_coder 3 = .ok (.ifCond .eq 10, 3) := dk_153 0 10 (dk_at dksJ3_coder_0 3 rfl rfl)
theorem dJ3_coder_6 : decode cJ3_coder 6 = .ok (.aload_n 0, 1) := dk_42 (dk_at dksJ3_coder_0 6 rfl rfl)
theorem dJ3_coder_7 : decode cJ3_coder 7 = .ok (.getfield 15, 3) := dk_180 0 15 (dk_at dksJ3_coder_0 7 rfl rfl)
theorem dJ3_coder_10 : decode cJ3_coder 10 = .ok (.goto 4, 3) := dk_167 0 4 (dk_at dksJ3_coder_0 10 rfl rfl)
theorem dJ3_coder_13 : decode cJ3_coder 13 = .ok (.iconst 1, 1) := dk_4 (dk_at dksJ3_coder_0 13 rfl rfl)
theorem dJ3_coder_14 : decode cJ3_coder 14 = .ok (.ireturn, 1) := dk_172 (dk_at dksJ3_coder_0 14 rfl rfl)
abbrev cJ3_charAt : ByteArray := prog_35_method_56_code
def yJ3_charAt : MethodName := ⟨RJ3, "charAt", "(I)C"⟩
def dkwJ3_charAt_1 : List UInt8 := [172]
abbrev dktJ3_charAt_1 : List UInt8 := dkwJ3_charAt_1 ++ []
def dkwJ3_charAt_0 : List UInt8 := [42, 182, 1, 236, 153, 0, 12, 42, 180, 0, 9, 27, 184, 1, 239, 172, 42, 180, 0, 9, 27, 184, 1, 242]
abbrev dktJ3_charAt_0 : List UInt8 := dkwJ3_charAt_0 ++ dktJ3_charAt_1
theorem dksJ3_charAt_0 : cJ3_charAt.data.toList.drop 0 = dktJ3_charAt_0 := by decide +kernel
theorem dksJ3_charAt_1 : cJ3_charAt.data.toList.drop 24 = dktJ3_charAt_1 := dk_seg dksJ3_charAt_0 24 rfl rfl
theorem dJ3_charAt_0 : decode cJ3_charAt 0 = .ok (.aload_n 0, 1) := dk_42 (dk_at dksJ3_charAt_0 0 rfl rfl)
theorem dJ3_charAt_1 : decode cJ3_charAt 1 = .ok (.invokevirtual 492, 3) := dk_182 1 236 (dk_at dksJ3_charAt_0 1 rfl rfl)
theorem dJ3_charAt_4 : decode cJ3_charAt 4 = .ok (.ifCond .eq 12, 3) := dk_153 0 12 (dk_at dksJ3_charAt_0 4 rfl rfl)
theorem dJ3_charAt_7 : decode cJ3_charAt 7 = .ok (.aload_n 0, 1) := dk_42 (dk_at dksJ3_charAt_0 7 rfl rfl)
theorem dJ3_charAt_8 : decode cJ3_charAt 8 = .ok (.getfield 9, 3) := dk_180 0 9 (dk_at dksJ3_charAt_0 8 rfl rfl)
theorem dJ3_charAt_11 : decode cJ3_charAt 11 = .ok (.iload_n 1, 1) := dk_27 (dk_at dksJ3_charAt_0 11 rfl rfl)
theorem dJ3_charAt_12 : decode cJ3_charAt 12 = .ok (.invokestatic 495, 3) := dk_184 1 239 (dk_at dksJ3_charAt_0 12 rfl rfl)
theorem dJ3_charAt_15 : decode cJ3_charAt 15 = .ok (.ireturn, 1) := dk_172 (dk_at dksJ3_charAt_0 15 rfl rfl)
theorem dJ3_charAt_16 : decode cJ3_charAt 16 = .ok (.aload_n 0, 1) := dk_42 (dk_at dksJ3_charAt_0 16 rfl rfl)
theorem dJ3_charAt_17 : decode cJ3_charAt 17 = .ok (.getfield 9, 3) := dk_180 0 9 (dk_at dksJ3_charAt_0 17 rfl rfl)
theorem dJ3_charAt_20 : decode cJ3_charAt 20 = .ok (.iload_n 1, 1) := dk_27 (dk_at dksJ3_charAt_0 20 rfl rfl)
theorem dJ3_charAt_21 : decode cJ3_charAt 21 = .ok (.invokestatic 498, 3) := dk_184 1 242 (dk_at dksJ3_charAt_0 21 rfl rfl)
theorem dJ3_charAt_24 : decode cJ3_charAt 24 = .ok (.ireturn, 1) := dk_172 (dk_at dksJ3_charAt_1 0 rfl rfl)
abbrev cJ3_isLatin1 : ByteArray := prog_35_method_154_code
def yJ3_isLatin1 : MethodName := ⟨RJ3, "isLatin1", "()Z"⟩
def dkwJ3_isLatin1_0 : List UInt8 := [178, 0, 38, 153, 0, 14, 42, 180, 0, 15, 154, 0, 7, 4, 167, 0, 4, 3, 172]
abbrev dktJ3_isLatin1_0 : List UInt8 := dkwJ3_isLatin1_0 ++ []
theorem dksJ3_isLatin1_0 : cJ3_isLatin1.data.toList.drop 0 = dktJ3_isLatin1_0 := by decide +kernel
theorem dJ3_isLatin1_0 : decode cJ3_isLatin1 0 = .ok (.getstatic 38, 3) := dk_178 0 38 (dk_at dksJ3_isLatin1_0 0 rfl rfl)
theorem dJ3_isLatin1_3 : decode cJ3_isLatin1 3 = .ok (.ifCond .eq 14, 3) := dk_153 0 14 (dk_at dksJ3_isLatin1_0 3 rfl rfl)
theorem dJ3_isLatin1_6 : decode cJ3_isLatin1 6 = .ok (.aload_n 0, 1) := dk_42 (dk_at dksJ3_isLatin1_0 6 rfl rfl)
theorem dJ3_isLatin1_7 : decode cJ3_isLatin1 7 = .ok (.getfield 15, 3) := dk_180 0 15 (dk_at dksJ3_isLatin1_0 7 rfl rfl)
theorem dJ3_isLatin1_10 : decode cJ3_isLatin1 10 = .ok (.ifCond .ne 7, 3) := dk_154 0 7 (dk_at dksJ3_isLatin1_0 10 rfl rfl)
theorem dJ3_isLatin1_13 : decode cJ3_isLatin1 13 = .ok (.iconst 1, 1) := dk_4 (dk_at dksJ3_isLatin1_0 13 rfl rfl)
theorem dJ3_isLatin1_14 : decode cJ3_isLatin1 14 = .ok (.goto 4, 3) := dk_167 0 4 (dk_at dksJ3_isLatin1_0 14 rfl rfl)
theorem dJ3_isLatin1_17 : decode cJ3_isLatin1 17 = .ok (.iconst 0, 1) := dk_3 (dk_at dksJ3_isLatin1_0 17 rfl rfl)
theorem dJ3_isLatin1_18 : decode cJ3_isLatin1 18 = .ok (.ireturn, 1) := dk_172 (dk_at dksJ3_isLatin1_0 18 rfl rfl)
abbrev cJ3_checkIndex : ByteArray := prog_35_method_155_code
def yJ3_checkIndex : MethodName := ⟨RJ3, "checkIndex", "(II)V"⟩
def dkwJ3_checkIndex_0 : List UInt8 := [26, 27, 178, 4, 29, 184, 4, 35, 87, 177]
abbrev dktJ3_checkIndex_0 : List UInt8 := dkwJ3_checkIndex_0 ++ []
theorem dksJ3_checkIndex_0 : cJ3_checkIndex.data.toList.drop 0 = dktJ3_checkIndex_0 := by decide +kernel
theorem dJ3_checkIndex_0 : decode cJ3_checkIndex 0 = .ok (.iload_n 0, 1) := dk_26 (dk_at dksJ3_checkIndex_0 0 rfl rfl)
theorem dJ3_checkIndex_1 : decode cJ3_checkIndex 1 = .ok (.iload_n 1, 1) := dk_27 (dk_at dksJ3_checkIndex_0 1 rfl rfl)
theorem dJ3_checkIndex_2 : decode cJ3_checkIndex 2 = .ok (.getstatic 1053, 3) := dk_178 4 29 (dk_at dksJ3_checkIndex_0 2 rfl rfl)
theorem dJ3_checkIndex_5 : decode cJ3_checkIndex 5 = .ok (.invokestatic 1059, 3) := dk_184 4 35 (dk_at dksJ3_checkIndex_0 5 rfl rfl)
theorem dJ3_checkIndex_8 : decode cJ3_checkIndex 8 = .ok (.pop, 1) := dk_87 (dk_at dksJ3_checkIndex_0 8 rfl rfl)
theorem dJ3_checkIndex_9 : decode cJ3_checkIndex 9 = .ok (.return_, 1) := dk_177 (dk_at dksJ3_checkIndex_0 9 rfl rfl)
abbrev cJ3_checkBoundsOffCount : ByteArray := prog_35_method_157_code
def yJ3_checkBoundsOffCount : MethodName := ⟨RJ3, "checkBoundsOffCount", "(III)I"⟩
def dkwJ3_checkBoundsOffCount_0 : List UInt8 := [26, 27, 28, 178, 4, 29, 184, 4, 41, 172]
abbrev dktJ3_checkBoundsOffCount_0 : List UInt8 := dkwJ3_checkBoundsOffCount_0 ++ []
theorem dksJ3_checkBoundsOffCount_0 : cJ3_checkBoundsOffCount.data.toList.drop 0 = dktJ3_checkBoundsOffCount_0 := by decide +kernel
theorem dJ3_checkBoundsOffCount_0 : decode cJ3_checkBoundsOffCount 0 = .ok (.iload_n 0, 1) := dk_26 (dk_at dksJ3_checkBoundsOffCount_0 0 rfl rfl)
theorem dJ3_checkBoundsOffCount_1 : decode cJ3_checkBoundsOffCount 1 = .ok (.iload_n 1, 1) := dk_27 (dk_at dksJ3_checkBoundsOffCount_0 1 rfl rfl)
theorem dJ3_checkBoundsOffCount_2 : decode cJ3_checkBoundsOffCount 2 = .ok (.iload_n 2, 1) := dk_28 (dk_at dksJ3_checkBoundsOffCount_0 2 rfl rfl)
theorem dJ3_checkBoundsOffCount_3 : decode cJ3_checkBoundsOffCount 3 = .ok (.getstatic 1053, 3) := dk_178 4 29 (dk_at dksJ3_checkBoundsOffCount_0 3 rfl rfl)
theorem dJ3_checkBoundsOffCount_6 : decode cJ3_checkBoundsOffCount 6 = .ok (.invokestatic 1065, 3) := dk_184 4 41 (dk_at dksJ3_checkBoundsOffCount_0 6 rfl rfl)
theorem dJ3_checkBoundsOffCount_9 : decode cJ3_checkBoundsOffCount 9 = .ok (.ireturn, 1) := dk_172 (dk_at dksJ3_checkBoundsOffCount_0 9 rfl rfl)
abbrev cJ3_init : ByteArray := prog_35_method_53_code
def yJ3_init : MethodName := ⟨RJ3, "<init>", "(Ljava/lang/StringBuilder;)V"⟩
def dkwJ3_init_0 : List UInt8 := [42, 43, 1, 183, 1, 233, 177]
abbrev dktJ3_init_0 : List UInt8 := dkwJ3_init_0 ++ []
theorem dksJ3_init_0 : cJ3_init.data.toList.drop 0 = dktJ3_init_0 := by decide +kernel
theorem dJ3_init_0 : decode cJ3_init 0 = .ok (.aload_n 0, 1) := dk_42 (dk_at dksJ3_init_0 0 rfl rfl)
theorem dJ3_init_1 : decode cJ3_init 1 = .ok (.aload_n 1, 1) := dk_43 (dk_at dksJ3_init_0 1 rfl rfl)
theorem dJ3_init_2 : decode cJ3_init 2 = .ok (.aconst_null, 1) := dk_1 (dk_at dksJ3_init_0 2 rfl rfl)
theorem dJ3_init_3 : decode cJ3_init 3 = .ok (.invokespecial 489, 3) := dk_183 1 233 (dk_at dksJ3_init_0 3 rfl rfl)
theorem dJ3_init_6 : decode cJ3_init 6 = .ok (.return_, 1) := dk_177 (dk_at dksJ3_init_0 6 rfl rfl)
abbrev cJ3_init_2 : ByteArray := prog_35_method_150_code
def yJ3_init_2 : MethodName := ⟨RJ3, "<init>", "(Ljava/lang/AbstractStringBuilder;Ljava/lang/Void;)V"⟩
def dkwJ3_init_2_4 : List UInt8 := [181, 0, 9, 177]
abbrev dktJ3_init_2_4 : List UInt8 := dkwJ3_init_2_4 ++ []
def dkwJ3_init_2_3 : List UInt8 := [184, 0, 47, 181, 0, 15, 177, 42, 4, 181, 0, 15, 42, 45, 3, 21, 4, 4, 120, 184, 0, 54]
abbrev dktJ3_init_2_3 : List UInt8 := dkwJ3_init_2_3 ++ dktJ3_init_2_4
def dkwJ3_init_2_2 : List UInt8 := [180, 4, 24, 153, 0, 28, 42, 45, 3, 21, 4, 184, 4, 27, 181, 0, 9, 42, 42, 180, 0, 9, 21, 4]
abbrev dktJ3_init_2_2 : List UInt8 := dkwJ3_init_2_2 ++ dktJ3_init_2_3
def dkwJ3_init_2_1 : List UInt8 := [181, 0, 15, 42, 45, 3, 21, 4, 184, 0, 54, 181, 0, 9, 167, 0, 59, 178, 0, 38, 153, 0, 35, 43]
abbrev dktJ3_init_2_1 : List UInt8 := dkwJ3_init_2_1 ++ dktJ3_init_2_2
def dkwJ3_init_2_0 : List UInt8 := [42, 183, 0, 1, 43, 182, 2, 40, 78, 43, 182, 2, 37, 54, 4, 43, 182, 4, 23, 153, 0, 22, 42, 3]
abbrev dktJ3_init_2_0 : List UInt8 := dkwJ3_init_2_0 ++ dktJ3_init_2_1
theorem dksJ3_init_2_0 : cJ3_init_2.data.toList.drop 0 = dktJ3_init_2_0 := by decide +kernel
theorem dksJ3_init_2_1 : cJ3_init_2.data.toList.drop 24 = dktJ3_init_2_1 := dk_seg dksJ3_init_2_0 24 rfl rfl
theorem dksJ3_init_2_2 : cJ3_init_2.data.toList.drop 48 = dktJ3_init_2_2 := dk_seg dksJ3_init_2_1 24 rfl rfl
theorem dksJ3_init_2_3 : cJ3_init_2.data.toList.drop 72 = dktJ3_init_2_3 := dk_seg dksJ3_init_2_2 24 rfl rfl
theorem dksJ3_init_2_4 : cJ3_init_2.data.toList.drop 94 = dktJ3_init_2_4 := dk_seg dksJ3_init_2_3 22 rfl rfl
theorem dJ3_init_2_0 : decode cJ3_init_2 0 = .ok (.aload_n 0, 1) := dk_42 (dk_at dksJ3_init_2_0 0 rfl rfl)
theorem dJ3_init_2_1 : decode cJ3_init_2 1 = .ok (.invokespecial 1, 3) := dk_183 0 1 (dk_at dksJ3_init_2_0 1 rfl rfl)
theorem dJ3_init_2_4 : decode cJ3_init_2 4 = .ok (.aload_n 1, 1) := dk_43 (dk_at dksJ3_init_2_0 4 rfl rfl)
theorem dJ3_init_2_5 : decode cJ3_init_2 5 = .ok (.invokevirtual 552, 3) := dk_182 2 40 (dk_at dksJ3_init_2_0 5 rfl rfl)
theorem dJ3_init_2_8 : decode cJ3_init_2 8 = .ok (.astore_n 3, 1) := dk_78 (dk_at dksJ3_init_2_0 8 rfl rfl)
theorem dJ3_init_2_9 : decode cJ3_init_2 9 = .ok (.aload_n 1, 1) := dk_43 (dk_at dksJ3_init_2_0 9 rfl rfl)
theorem dJ3_init_2_10 : decode cJ3_init_2 10 = .ok (.invokevirtual 549, 3) := dk_182 2 37 (dk_at dksJ3_init_2_0 10 rfl rfl)
theorem dJ3_init_2_13 : decode cJ3_init_2 13 = .ok (.istore 4, 2) := dk_54 4 (dk_at dksJ3_init_2_0 13 rfl rfl)
theorem dJ3_init_2_15 : decode cJ3_init_2 15 = .ok (.aload_n 1, 1) := dk_43 (dk_at dksJ3_init_2_0 15 rfl rfl)
theorem dJ3_init_2_16 : decode cJ3_init_2 16 = .ok (.invokevirtual 1047, 3) := dk_182 4 23 (dk_at dksJ3_init_2_0 16 rfl rfl)
theorem dJ3_init_2_19 : decode cJ3_init_2 19 = .ok (.ifCond .eq 22, 3) := dk_153 0 22 (dk_at dksJ3_init_2_0 19 rfl rfl)
theorem dJ3_init_2_22 : decode cJ3_init_2 22 = .ok (.aload_n 0, 1) := dk_42 (dk_at dksJ3_init_2_0 22 rfl rfl)
theorem dJ3_init_2_23 : decode cJ3_init_2 23 = .ok (.iconst 0, 1) := dk_3 (dk_at dksJ3_init_2_0 23 rfl rfl)
theorem dJ3_init_2_24 : decode cJ3_init_2 24 = .ok (.putfield 15, 3) := dk_181 0 15 (dk_at dksJ3_init_2_1 0 rfl rfl)
theorem dJ3_init_2_27 : decode cJ3_init_2 27 = .ok (.aload_n 0, 1) := dk_42 (dk_at dksJ3_init_2_1 3 rfl rfl)
theorem dJ3_init_2_28 : decode cJ3_init_2 28 = .ok (.aload_n 3, 1) := dk_45 (dk_at dksJ3_init_2_1 4 rfl rfl)
theorem dJ3_init_2_29 : decode cJ3_init_2 29 = .ok (.iconst 0, 1) := dk_3 (dk_at dksJ3_init_2_1 5 rfl rfl)
theorem dJ3_init_2_30 : decode cJ3_init_2 30 = .ok (.iload 4, 2) := dk_21 4 (dk_at dksJ3_init_2_1 6 rfl rfl)
theorem dJ3_init_2_32 : decode cJ3_init_2 32 = .ok (.invokestatic 54, 3) := dk_184 0 54 (dk_at dksJ3_init_2_1 8 rfl rfl)
theorem dJ3_init_2_35 : decode cJ3_init_2 35 = .ok (.putfield 9, 3) := dk_181 0 9 (dk_at dksJ3_init_2_1 11 rfl rfl)
theorem dJ3_init_2_38 : decode cJ3_init_2 38 = .ok (.goto 59, 3) := dk_167 0 59 (dk_at dksJ3_init_2_1 14 rfl rfl)
theorem dJ3_init_2_41 : decode cJ3_init_2 41 = .ok (.getstatic 38, 3) := dk_178 0 38 (dk_at dksJ3_init_2_1 17 rfl rfl)
theorem dJ3_init_2_44 : decode cJ3_init_2 44 = .ok (.ifCond .eq 35, 3) := dk_153 0 35 (dk_at dksJ3_init_2_1 20 rfl rfl)
theorem dJ3_init_2_47 : decode cJ3_init_2 47 = .ok (.aload_n 1, 1) := dk_43 (dk_at dksJ3_init_2_1 23 rfl rfl)
theorem dJ3_init_2_48 : decode cJ3_init_2 48 = .ok (.getfield 1048, 3) := dk_180 4 24 (dk_at dksJ3_init_2_2 0 rfl rfl)
theorem dJ3_init_2_51 : decode cJ3_init_2 51 = .ok (.ifCond .eq 28, 3) := dk_153 0 28 (dk_at dksJ3_init_2_2 3 rfl rfl)
theorem dJ3_init_2_54 : decode cJ3_init_2 54 = .ok (.aload_n 0, 1) := dk_42 (dk_at dksJ3_init_2_2 6 rfl rfl)
theorem dJ3_init_2_55 : decode cJ3_init_2 55 = .ok (.aload_n 3, 1) := dk_45 (dk_at dksJ3_init_2_2 7 rfl rfl)
theorem dJ3_init_2_56 : decode cJ3_init_2 56 = .ok (.iconst 0, 1) := dk_3 (dk_at dksJ3_init_2_2 8 rfl rfl)
theorem dJ3_init_2_57 : decode cJ3_init_2 57 = .ok (.iload 4, 2) := dk_21 4 (dk_at dksJ3_init_2_2 9 rfl rfl)
theorem dJ3_init_2_59 : decode cJ3_init_2 59 = .ok (.invokestatic 1051, 3) := dk_184 4 27 (dk_at dksJ3_init_2_2 11 rfl rfl)
theorem dJ3_init_2_62 : decode cJ3_init_2 62 = .ok (.putfield 9, 3) := dk_181 0 9 (dk_at dksJ3_init_2_2 14 rfl rfl)
theorem dJ3_init_2_65 : decode cJ3_init_2 65 = .ok (.aload_n 0, 1) := dk_42 (dk_at dksJ3_init_2_2 17 rfl rfl)
theorem dJ3_init_2_66 : decode cJ3_init_2 66 = .ok (.aload_n 0, 1) := dk_42 (dk_at dksJ3_init_2_2 18 rfl rfl)
theorem dJ3_init_2_67 : decode cJ3_init_2 67 = .ok (.getfield 9, 3) := dk_180 0 9 (dk_at dksJ3_init_2_2 19 rfl rfl)
theorem dJ3_init_2_70 : decode cJ3_init_2 70 = .ok (.iload 4, 2) := dk_21 4 (dk_at dksJ3_init_2_2 22 rfl rfl)
theorem dJ3_init_2_72 : decode cJ3_init_2 72 = .ok (.invokestatic 47, 3) := dk_184 0 47 (dk_at dksJ3_init_2_3 0 rfl rfl)
theorem dJ3_init_2_75 : decode cJ3_init_2 75 = .ok (.putfield 15, 3) := dk_181 0 15 (dk_at dksJ3_init_2_3 3 rfl rfl)
theorem dJ3_init_2_78 : decode cJ3_init_2 78 = .ok (.return_, 1) := dk_177 (dk_at dksJ3_init_2_3 6 rfl rfl)
theorem dJ3_init_2_79 : decode cJ3_init_2 79 = .ok (.aload_n 0, 1) := dk_42 (dk_at dksJ3_init_2_3 7 rfl rfl)
theorem dJ3_init_2_80 : decode cJ3_init_2 80 = .ok (.iconst 1, 1) := dk_4 (dk_at dksJ3_init_2_3 8 rfl rfl)
theorem dJ3_init_2_81 : decode cJ3_init_2 81 = .ok (.putfield 15, 3) := dk_181 0 15 (dk_at dksJ3_init_2_3 9 rfl rfl)
theorem dJ3_init_2_84 : decode cJ3_init_2 84 = .ok (.aload_n 0, 1) := dk_42 (dk_at dksJ3_init_2_3 12 rfl rfl)
theorem dJ3_init_2_85 : decode cJ3_init_2 85 = .ok (.aload_n 3, 1) := dk_45 (dk_at dksJ3_init_2_3 13 rfl rfl)
theorem dJ3_init_2_86 : decode cJ3_init_2 86 = .ok (.iconst 0, 1) := dk_3 (dk_at dksJ3_init_2_3 14 rfl rfl)
theorem dJ3_init_2_87 : decode cJ3_init_2 87 = .ok (.iload 4, 2) := dk_21 4 (dk_at dksJ3_init_2_3 15 rfl rfl)
theorem dJ3_init_2_89 : decode cJ3_init_2 89 = .ok (.iconst 1, 1) := dk_4 (dk_at dksJ3_init_2_3 17 rfl rfl)
theorem dJ3_init_2_90 : decode cJ3_init_2 90 = .ok (.ishl, 1) := dk_120 (dk_at dksJ3_init_2_3 18 rfl rfl)
theorem dJ3_init_2_91 : decode cJ3_init_2 91 = .ok (.invokestatic 54, 3) := dk_184 0 54 (dk_at dksJ3_init_2_3 19 rfl rfl)
theorem dJ3_init_2_94 : decode cJ3_init_2 94 = .ok (.putfield 9, 3) := dk_181 0 9 (dk_at dksJ3_init_2_4 0 rfl rfl)
theorem dJ3_init_2_97 : decode cJ3_init_2 97 = .ok (.return_, 1) := dk_177 (dk_at dksJ3_init_2_4 3 rfl rfl)
abbrev cJ3_indexOf : ByteArray := prog_35_method_79_code
def yJ3_indexOf : MethodName := ⟨RJ3, "indexOf", "(I)I"⟩
def dkwJ3_indexOf_0 : List UInt8 := [42, 27, 3, 182, 2, 121, 172]
abbrev dktJ3_indexOf_0 : List UInt8 := dkwJ3_indexOf_0 ++ []
theorem dksJ3_indexOf_0 : cJ3_indexOf.data.toList.drop 0 = dktJ3_indexOf_0 := by decide +kernel
theorem dJ3_indexOf_0 : decode cJ3_indexOf 0 = .ok (.aload_n 0, 1) := dk_42 (dk_at dksJ3_indexOf_0 0 rfl rfl)
theorem dJ3_indexOf_1 : decode cJ3_indexOf 1 = .ok (.iload_n 1, 1) := dk_27 (dk_at dksJ3_indexOf_0 1 rfl rfl)
theorem dJ3_indexOf_2 : decode cJ3_indexOf 2 = .ok (.iconst 0, 1) := dk_3 (dk_at dksJ3_indexOf_0 2 rfl rfl)
theorem dJ3_indexOf_3 : decode cJ3_indexOf 3 = .ok (.invokevirtual 633, 3) := dk_182 2 121 (dk_at dksJ3_indexOf_0 3 rfl rfl)
theorem dJ3_indexOf_6 : decode cJ3_indexOf 6 = .ok (.ireturn, 1) := dk_172 (dk_at dksJ3_indexOf_0 6 rfl rfl)
abbrev cJ3_indexOf_2 : ByteArray := prog_35_method_80_code
def yJ3_indexOf_2 : MethodName := ⟨RJ3, "indexOf", "(II)I"⟩
def dkwJ3_indexOf_2_1 : List UInt8 := [180, 0, 9, 27, 28, 42, 182, 1, 249, 184, 2, 128, 172]
abbrev dktJ3_indexOf_2_1 : List UInt8 := dkwJ3_indexOf_2_1 ++ []
def dkwJ3_indexOf_2_0 : List UInt8 := [42, 182, 1, 236, 153, 0, 19, 42, 180, 0, 9, 27, 28, 42, 182, 1, 249, 184, 2, 125, 167, 0, 16, 42]
abbrev dktJ3_indexOf_2_0 : List UInt8 := dkwJ3_indexOf_2_0 ++ dktJ3_indexOf_2_1
theorem dksJ3_indexOf_2_0 : cJ3_indexOf_2.data.toList.drop 0 = dktJ3_indexOf_2_0 := by decide +kernel
theorem dksJ3_indexOf_2_1 : cJ3_indexOf_2.data.toList.drop 24 = dktJ3_indexOf_2_1 := dk_seg dksJ3_indexOf_2_0 24 rfl rfl
theorem dJ3_indexOf_2_0 : decode cJ3_indexOf_2 0 = .ok (.aload_n 0, 1) := dk_42 (dk_at dksJ3_indexOf_2_0 0 rfl rfl)
theorem dJ3_indexOf_2_1 : decode cJ3_indexOf_2 1 = .ok (.invokevirtual 492, 3) := dk_182 1 236 (dk_at dksJ3_indexOf_2_0 1 rfl rfl)
theorem dJ3_indexOf_2_4 : decode cJ3_indexOf_2 4 = .ok (.ifCond .eq 19, 3) := dk_153 0 19 (dk_at dksJ3_indexOf_2_0 4 rfl rfl)
theorem dJ3_indexOf_2_7 : decode cJ3_indexOf_2 7 = .ok (.aload_n 0, 1) := dk_42 (dk_at dksJ3_indexOf_2_0 7 rfl rfl)
theorem dJ3_indexOf_2_8 : decode cJ3_indexOf_2 8 = .ok (.getfield 9, 3) := dk_180 0 9 (dk_at dksJ3_indexOf_2_0 8 rfl rfl)
theorem dJ3_indexOf_2_11 : decode cJ3_indexOf_2 11 = .ok (.iload_n 1, 1) := dk_27 (dk_at dksJ3_indexOf_2_0 11 rfl rfl)
theorem dJ3_indexOf_2_12 : decode cJ3_indexOf_2 12 = .ok (.iload_n 2, 1) := dk_28 (dk_at dksJ3_indexOf_2_0 12 rfl rfl)
theorem dJ3_indexOf_2_13 : decode cJ3_indexOf_2 13 = .ok (.aload_n 0, 1) := dk_42 (dk_at dksJ3_indexOf_2_0 13 rfl rfl)
theorem dJ3_indexOf_2_14 : decode cJ3_indexOf_2 14 = .ok (.invokevirtual 505, 3) := dk_182 1 249 (dk_at dksJ3_indexOf_2_0 14 rfl rfl)
theorem dJ3_indexOf_2_17 : decode cJ3_indexOf_2 17 = .ok (.invokestatic 637, 3) := dk_184 2 125 (dk_at dksJ3_indexOf_2_0 17 rfl rfl)
theorem dJ3_indexOf_2_20 : decode cJ3_indexOf_2 20 = .ok (.goto 16, 3) := dk_167 0 16 (dk_at dksJ3_indexOf_2_0 20 rfl rfl)
theorem dJ3_indexOf_2_23 : decode cJ3_indexOf_2 23 = .ok (.aload_n 0, 1) := dk_42 (dk_at dksJ3_indexOf_2_0 23 rfl rfl)
theorem dJ3_indexOf_2_24 : decode cJ3_indexOf_2 24 = .ok (.getfield 9, 3) := dk_180 0 9 (dk_at dksJ3_indexOf_2_1 0 rfl rfl)
theorem dJ3_indexOf_2_27 : decode cJ3_indexOf_2 27 = .ok (.iload_n 1, 1) := dk_27 (dk_at dksJ3_indexOf_2_1 3 rfl rfl)
theorem dJ3_indexOf_2_28 : decode cJ3_indexOf_2 28 = .ok (.iload_n 2, 1) := dk_28 (dk_at dksJ3_indexOf_2_1 4 rfl rfl)
theorem dJ3_indexOf_2_29 : decode cJ3_indexOf_2 29 = .ok (.aload_n 0, 1) := dk_42 (dk_at dksJ3_indexOf_2_1 5 rfl rfl)
theorem dJ3_indexOf_2_30 : decode cJ3_indexOf_2 30 = .ok (.invokevirtual 505, 3) := dk_182 1 249 (dk_at dksJ3_indexOf_2_1 6 rfl rfl)
theorem dJ3_indexOf_2_33 : decode cJ3_indexOf_2 33 = .ok (.invokestatic 640, 3) := dk_184 2 128 (dk_at dksJ3_indexOf_2_1 9 rfl rfl)
theorem dJ3_indexOf_2_36 : decode cJ3_indexOf_2 36 = .ok (.ireturn, 1) := dk_172 (dk_at dksJ3_indexOf_2_1 12 rfl rfl)
abbrev cJ3_checkBoundsBeginEnd : ByteArray := prog_35_method_158_code
def yJ3_checkBoundsBeginEnd : MethodName := ⟨RJ3, "checkBoundsBeginEnd", "(III)V"⟩
def dkwJ3_checkBoundsBeginEnd_0 : List UInt8 := [26, 27, 28, 178, 4, 29, 184, 4, 38, 87, 177]
abbrev dktJ3_checkBoundsBeginEnd_0 : List UInt8 := dkwJ3_checkBoundsBeginEnd_0 ++ []
theorem dksJ3_checkBoundsBeginEnd_0 : cJ3_checkBoundsBeginEnd.data.toList.drop 0 = dktJ3_checkBoundsBeginEnd_0 := by decide +kernel
theorem dJ3_checkBoundsBeginEnd_0 : decode cJ3_checkBoundsBeginEnd 0 = .ok (.iload_n 0, 1) := dk_26 (dk_at dksJ3_checkBoundsBeginEnd_0 0 rfl rfl)
theorem dJ3_checkBoundsBeginEnd_1 : decode cJ3_checkBoundsBeginEnd 1 = .ok (.iload_n 1, 1) := dk_27 (dk_at dksJ3_checkBoundsBeginEnd_0 1 rfl rfl)
theorem dJ3_checkBoundsBeginEnd_2 : decode cJ3_checkBoundsBeginEnd 2 = .ok (.iload_n 2, 1) := dk_28 (dk_at dksJ3_checkBoundsBeginEnd_0 2 rfl rfl)
theorem dJ3_checkBoundsBeginEnd_3 : decode cJ3_checkBoundsBeginEnd 3 = .ok (.getstatic 1053, 3) := dk_178 4 29 (dk_at dksJ3_checkBoundsBeginEnd_0 3 rfl rfl)
theorem dJ3_checkBoundsBeginEnd_6 : decode cJ3_checkBoundsBeginEnd 6 = .ok (.invokestatic 1062, 3) := dk_184 4 38 (dk_at dksJ3_checkBoundsBeginEnd_0 6 rfl rfl)
theorem dJ3_checkBoundsBeginEnd_9 : decode cJ3_checkBoundsBeginEnd 9 = .ok (.pop, 1) := dk_87 (dk_at dksJ3_checkBoundsBeginEnd_0 9 rfl rfl)
theorem dJ3_checkBoundsBeginEnd_10 : decode cJ3_checkBoundsBeginEnd 10 = .ok (.return_, 1) := dk_177 (dk_at dksJ3_checkBoundsBeginEnd_0 10 rfl rfl)
abbrev cJ3_equals : ByteArray := prog_35_method_66_code
def yJ3_equals : MethodName := ⟨RJ3, "equals", "(Ljava/lang/Object;)Z"⟩
def dkwJ3_equals_2 : List UInt8 := [184, 2, 29, 153, 0, 7, 4, 167, 0, 4, 3, 172]
abbrev dktJ3_equals_2 : List UInt8 := dkwJ3_equals_2 ++ []
def dkwJ3_equals_1 : List UInt8 := [153, 0, 14, 42, 180, 0, 15, 44, 180, 0, 15, 160, 0, 21, 42, 180, 0, 9, 44, 180, 0, 9]
abbrev dktJ3_equals_1 : List UInt8 := dkwJ3_equals_1 ++ dktJ3_equals_2
def dkwJ3_equals_0 : List UInt8 := [42, 43, 166, 0, 5, 4, 172, 43, 193, 0, 10, 153, 0, 43, 43, 192, 0, 10, 77, 178, 0, 38]
abbrev dktJ3_equals_0 : List UInt8 := dkwJ3_equals_0 ++ dktJ3_equals_1
theorem dksJ3_equals_0 : cJ3_equals.data.toList.drop 0 = dktJ3_equals_0 := by decide +kernel
theorem dksJ3_equals_1 : cJ3_equals.data.toList.drop 22 = dktJ3_equals_1 := dk_seg dksJ3_equals_0 22 rfl rfl
theorem dksJ3_equals_2 : cJ3_equals.data.toList.drop 44 = dktJ3_equals_2 := dk_seg dksJ3_equals_1 22 rfl rfl
theorem dJ3_equals_0 : decode cJ3_equals 0 = .ok (.aload_n 0, 1) := dk_42 (dk_at dksJ3_equals_0 0 rfl rfl)
theorem dJ3_equals_1 : decode cJ3_equals 1 = .ok (.aload_n 1, 1) := dk_43 (dk_at dksJ3_equals_0 1 rfl rfl)
theorem dJ3_equals_2 : decode cJ3_equals 2 = .ok (.if_acmp .ne 5, 3) := dk_166 0 5 (dk_at dksJ3_equals_0 2 rfl rfl)
theorem dJ3_equals_5 : decode cJ3_equals 5 = .ok (.iconst 1, 1) := dk_4 (dk_at dksJ3_equals_0 5 rfl rfl)
theorem dJ3_equals_6 : decode cJ3_equals 6 = .ok (.ireturn, 1) := dk_172 (dk_at dksJ3_equals_0 6 rfl rfl)
theorem dJ3_equals_7 : decode cJ3_equals 7 = .ok (.aload_n 1, 1) := dk_43 (dk_at dksJ3_equals_0 7 rfl rfl)
theorem dJ3_equals_8 : decode cJ3_equals 8 = .ok (.instanceof 10, 3) := dk_193 0 10 (dk_at dksJ3_equals_0 8 rfl rfl)
theorem dJ3_equals_11 : decode cJ3_equals 11 = .ok (.ifCond .eq 43, 3) := dk_153 0 43 (dk_at dksJ3_equals_0 11 rfl rfl)
theorem dJ3_equals_14 : decode cJ3_equals 14 = .ok (.aload_n 1, 1) := dk_43 (dk_at dksJ3_equals_0 14 rfl rfl)
theorem dJ3_equals_15 : decode cJ3_equals 15 = .ok (.checkcast 10, 3) := dk_192 0 10 (dk_at dksJ3_equals_0 15 rfl rfl)
theorem dJ3_equals_18 : decode cJ3_equals 18 = .ok (.astore_n 2, 1) := dk_77 (dk_at dksJ3_equals_0 18 rfl rfl)
theorem dJ3_equals_19 : decode cJ3_equals 19 = .ok (.getstatic 38, 3) := dk_178 0 38 (dk_at dksJ3_equals_0 19 rfl rfl)
theorem dJ3_equals_22 : decode cJ3_equals 22 = .ok (.ifCond .eq 14, 3) := dk_153 0 14 (dk_at dksJ3_equals_1 0 rfl rfl)
theorem dJ3_equals_25 : decode cJ3_equals 25 = .ok (.aload_n 0, 1) := dk_42 (dk_at dksJ3_equals_1 3 rfl rfl)
theorem dJ3_equals_26 : decode cJ3_equals 26 = .ok (.getfield 15, 3) := dk_180 0 15 (dk_at dksJ3_equals_1 4 rfl rfl)
theorem dJ3_equals_29 : decode cJ3_equals 29 = .ok (.aload_n 2, 1) := dk_44 (dk_at dksJ3_equals_1 7 rfl rfl)
theorem dJ3_equals_30 : decode cJ3_equals 30 = .ok (.getfield 15, 3) := dk_180 0 15 (dk_at dksJ3_equals_1 8 rfl rfl)
theorem dJ3_equals_33 : decode cJ3_equals 33 = .ok (.if_icmp .ne 21, 3) := dk_160 0 21 (dk_at dksJ3_equals_1 11 rfl rfl)
theorem dJ3_equals_36 : decode cJ3_equals 36 = .ok (.aload_n 0, 1) := dk_42 (dk_at dksJ3_equals_1 14 rfl rfl)
theorem dJ3_equals_37 : decode cJ3_equals 37 = .ok (.getfield 9, 3) := dk_180 0 9 (dk_at dksJ3_equals_1 15 rfl rfl)
theorem dJ3_equals_40 : decode cJ3_equals 40 = .ok (.aload_n 2, 1) := dk_44 (dk_at dksJ3_equals_1 18 rfl rfl)
theorem dJ3_equals_41 : decode cJ3_equals 41 = .ok (.getfield 9, 3) := dk_180 0 9 (dk_at dksJ3_equals_1 19 rfl rfl)
theorem dJ3_equals_44 : decode cJ3_equals 44 = .ok (.invokestatic 541, 3) := dk_184 2 29 (dk_at dksJ3_equals_2 0 rfl rfl)
theorem dJ3_equals_47 : decode cJ3_equals 47 = .ok (.ifCond .eq 7, 3) := dk_153 0 7 (dk_at dksJ3_equals_2 3 rfl rfl)
theorem dJ3_equals_50 : decode cJ3_equals 50 = .ok (.iconst 1, 1) := dk_4 (dk_at dksJ3_equals_2 6 rfl rfl)
theorem dJ3_equals_51 : decode cJ3_equals 51 = .ok (.goto 4, 3) := dk_167 0 4 (dk_at dksJ3_equals_2 7 rfl rfl)
theorem dJ3_equals_54 : decode cJ3_equals 54 = .ok (.iconst 0, 1) := dk_3 (dk_at dksJ3_equals_2 10 rfl rfl)
theorem dJ3_equals_55 : decode cJ3_equals 55 = .ok (.ireturn, 1) := dk_172 (dk_at dksJ3_equals_2 11 rfl rfl)
theorem q69 : (Jvm.Cond.initialized "java/lang/String") ∈ lw_all := lw_g (lw_at lw_m1 6 rfl) rfl
theorem q166 : (Jvm.Cond.instanceMethod ({ cls := "java/lang/String", name := "length", desc := "()I" } : Jvm.MethodName)) ∈ lw_all := lw_g (lw_at lw_m1 103 rfl) rfl
theorem q167 : (Jvm.Cond.selects "java/lang/String" ({ cls := "java/lang/String", name := "length", desc := "()I" } : Jvm.MethodName) ({ cls := "java/lang/String", name := "length", desc := "()I" } : Jvm.MethodName)) ∈ lw_all := lw_g (lw_at lw_m1 104 rfl) rfl
theorem q168 : (Jvm.Cond.code ({ cls := "java/lang/String", name := "length", desc := "()I" } : Jvm.MethodName) prog_35_method_54_code (1 : Nat) (Option.some Jvm.ClassFile.FieldType.int)) ∈ lw_all := lw_g (lw_at lw_m1 105 rfl) rfl
theorem q169 : (Jvm.Cond.methodLink "java/lang/String" (335 : Nat) ({ cls := "java/lang/String", name := "coder", desc := "()B" } : Jvm.MethodName)) ∈ lw_all := lw_g (lw_at lw_m1 106 rfl) rfl
theorem q170 : (Jvm.Cond.instanceMethod ({ cls := "java/lang/String", name := "coder", desc := "()B" } : Jvm.MethodName)) ∈ lw_all := lw_g (lw_at lw_m1 107 rfl) rfl
theorem q171 : (Jvm.Cond.selects "java/lang/String" ({ cls := "java/lang/String", name := "coder", desc := "()B" } : Jvm.MethodName) ({ cls := "java/lang/String", name := "coder", desc := "()B" } : Jvm.MethodName)) ∈ lw_all := lw_g (lw_at lw_m1 108 rfl) rfl
theorem q172 : (Jvm.Cond.code ({ cls := "java/lang/String", name := "coder", desc := "()B" } : Jvm.MethodName) prog_35_method_152_code (1 : Nat) (Option.some Jvm.ClassFile.FieldType.byte)) ∈ lw_all := lw_g (lw_at lw_m1 109 rfl) rfl
theorem q173 : (Jvm.Cond.fieldLink "java/lang/String" (38 : Nat) "java/lang/String" "COMPACT_STRINGS" "Z") ∈ lw_all := lw_g (lw_at lw_m1 110 rfl) rfl
theorem q174 : (Jvm.Cond.laysStatic "java/lang/String" "COMPACT_STRINGS" "Z") ∈ lw_tbl := lw_at lw_m1 111 rfl
theorem q176 : (Jvm.Cond.instanceMethod ({ cls := "java/lang/String", name := "charAt", desc := "(I)C" } : Jvm.MethodName)) ∈ lw_all := lw_g (lw_at lw_m1 113 rfl) rfl
theorem q177 : (Jvm.Cond.selects "java/lang/String" ({ cls := "java/lang/String", name := "charAt", desc := "(I)C" } : Jvm.MethodName) ({ cls := "java/lang/String", name := "charAt", desc := "(I)C" } : Jvm.MethodName)) ∈ lw_all := lw_g (lw_at lw_m1 114 rfl) rfl
theorem q178 : (Jvm.Cond.code ({ cls := "java/lang/String", name := "charAt", desc := "(I)C" } : Jvm.MethodName) prog_35_method_56_code (2 : Nat) (Option.some Jvm.ClassFile.FieldType.char)) ∈ lw_all := lw_g (lw_at lw_m1 115 rfl) rfl
theorem q179 : (Jvm.Cond.methodLink "java/lang/String" (492 : Nat) ({ cls := "java/lang/String", name := "isLatin1", desc := "()Z" } : Jvm.MethodName)) ∈ lw_all := lw_g (lw_at lw_m1 116 rfl) rfl
theorem q180 : (Jvm.Cond.instanceMethod ({ cls := "java/lang/String", name := "isLatin1", desc := "()Z" } : Jvm.MethodName)) ∈ lw_all := lw_g (lw_at lw_m1 117 rfl) rfl
theorem q181 : (Jvm.Cond.selects "java/lang/String" ({ cls := "java/lang/String", name := "isLatin1", desc := "()Z" } : Jvm.MethodName) ({ cls := "java/lang/String", name := "isLatin1", desc := "()Z" } : Jvm.MethodName)) ∈ lw_all := lw_g (lw_at lw_m1 118 rfl) rfl
theorem q182 : (Jvm.Cond.code ({ cls := "java/lang/String", name := "isLatin1", desc := "()Z" } : Jvm.MethodName) prog_35_method_154_code (1 : Nat) (Option.some Jvm.ClassFile.FieldType.boolean)) ∈ lw_all := lw_g (lw_at lw_m1 119 rfl) rfl
theorem q183 : (Jvm.Cond.methodLink "java/lang/String" (495 : Nat) ({ cls := "java/lang/StringLatin1", name := "charAt", desc := "([BI)C" } : Jvm.MethodName)) ∈ lw_all := lw_g (lw_at lw_m1 120 rfl) rfl
theorem q187 : (Jvm.Cond.static ({ cls := "java/lang/String", name := "checkIndex", desc := "(II)V" } : Jvm.MethodName)) ∈ lw_all := lw_g (lw_at lw_m1 124 rfl) rfl
theorem q188 : (Jvm.Cond.code ({ cls := "java/lang/String", name := "checkIndex", desc := "(II)V" } : Jvm.MethodName) prog_35_method_155_code (2 : Nat) (Option.none : Option Jvm.ClassFile.FieldType)) ∈ lw_all := lw_g (lw_at lw_m1 125 rfl) rfl
theorem q189 : (Jvm.Cond.fieldLink "java/lang/String" (1053 : Nat) "jdk/internal/util/Preconditions" "SIOOBE_FORMATTER" "Ljava/util/function/BiFunction;") ∈ lw_all := lw_g (lw_at lw_m1 126 rfl) rfl
theorem q191 : (Jvm.Cond.methodLink "java/lang/String" (1059 : Nat) ({ cls := "jdk/internal/util/Preconditions", name := "checkIndex", desc := "(IILjava/util/function/BiFunction;)I" } : Jvm.MethodName)) ∈ lw_all := lw_g (lw_at lw_m1 128 rfl) rfl
theorem q194 : (Jvm.Cond.methodLink "java/lang/String" (498 : Nat) ({ cls := "java/lang/StringUTF16", name := "charAt", desc := "([BI)C" } : Jvm.MethodName)) ∈ lw_all := lw_g (lw_at lw_m1 131 rfl) rfl
theorem q284 : (Jvm.Cond.fieldLink "java/lang/String" (1048 : Nat) "java/lang/AbstractStringBuilder" "maybeLatin1" "Z") ∈ lw_all := lw_g (lw_at lw_m1 221 rfl) rfl
theorem q366 : (Jvm.Cond.static ({ cls := "java/lang/String", name := "checkBoundsOffCount", desc := "(III)I" } : Jvm.MethodName)) ∈ lw_all := lw_g (lw_at lw_m2 63 rfl) rfl
theorem q367 : (Jvm.Cond.code ({ cls := "java/lang/String", name := "checkBoundsOffCount", desc := "(III)I" } : Jvm.MethodName) prog_35_method_157_code (3 : Nat) (Option.some Jvm.ClassFile.FieldType.int)) ∈ lw_all := lw_g (lw_at lw_m2 64 rfl) rfl
theorem q368 : (Jvm.Cond.methodLink "java/lang/String" (1065 : Nat) ({ cls := "jdk/internal/util/Preconditions", name := "checkFromIndexSize", desc := "(IIILjava/util/function/BiFunction;)I" } : Jvm.MethodName)) ∈ lw_all := lw_g (lw_at lw_m2 65 rfl) rfl
theorem q382 : (Jvm.Cond.instantiable "java/lang/String" (4 : Nat)) ∈ lw_all := lw_g (lw_at lw_m2 79 rfl) rfl
theorem q384 : (Jvm.Cond.instanceMethod ({ cls := "java/lang/String", name := "<init>", desc := "(Ljava/lang/StringBuilder;)V" } : Jvm.MethodName)) ∈ lw_all := lw_g (lw_at lw_m2 81 rfl) rfl
theorem q385 : (Jvm.Cond.code ({ cls := "java/lang/String", name := "<init>", desc := "(Ljava/lang/StringBuilder;)V" } : Jvm.MethodName) prog_35_method_53_code (2 : Nat) (Option.none : Option Jvm.ClassFile.FieldType)) ∈ lw_all := lw_g (lw_at lw_m2 82 rfl) rfl
theorem q386 : (Jvm.Cond.methodLink "java/lang/String" (489 : Nat) ({ cls := "java/lang/String", name := "<init>", desc := "(Ljava/lang/AbstractStringBuilder;Ljava/lang/Void;)V" } : Jvm.MethodName)) ∈ lw_all := lw_g (lw_at lw_m2 83 rfl) rfl
theorem q387 : (Jvm.Cond.instanceMethod ({ cls := "java/lang/String", name := "<init>", desc := "(Ljava/lang/AbstractStringBuilder;Ljava/lang/Void;)V" } : Jvm.MethodName)) ∈ lw_all := lw_g (lw_at lw_m2 84 rfl) rfl
theorem q388 : (Jvm.Cond.code ({ cls := "java/lang/String", name := "<init>", desc := "(Ljava/lang/AbstractStringBuilder;Ljava/lang/Void;)V" } : Jvm.MethodName) prog_35_method_150_code (5 : Nat) (Option.none : Option Jvm.ClassFile.FieldType)) ∈ lw_all := lw_g (lw_at lw_m2 85 rfl) rfl
theorem q389 : (Jvm.Cond.methodLink "java/lang/String" (1 : Nat) ({ cls := "java/lang/Object", name := "<init>", desc := "()V" } : Jvm.MethodName)) ∈ lw_all := lw_g (lw_at lw_m2 86 rfl) rfl
theorem q390 : (Jvm.Cond.methodLink "java/lang/String" (552 : Nat) ({ cls := "java/lang/AbstractStringBuilder", name := "getValue", desc := "()[B" } : Jvm.MethodName)) ∈ lw_all := lw_g (lw_at lw_m2 87 rfl) rfl
theorem q395 : (Jvm.Cond.methodLink "java/lang/String" (549 : Nat) ({ cls := "java/lang/AbstractStringBuilder", name := "length", desc := "()I" } : Jvm.MethodName)) ∈ lw_all := lw_g (lw_at lw_m2 92 rfl) rfl
theorem q396 : (Jvm.Cond.methodLink "java/lang/String" (1047 : Nat) ({ cls := "java/lang/AbstractStringBuilder", name := "isLatin1", desc := "()Z" } : Jvm.MethodName)) ∈ lw_all := lw_g (lw_at lw_m2 93 rfl) rfl
theorem q397 : (Jvm.Cond.methodLink "java/lang/String" (54 : Nat) ({ cls := "java/util/Arrays", name := "copyOfRange", desc := "([BII)[B" } : Jvm.MethodName)) ∈ lw_all := lw_g (lw_at lw_m2 94 rfl) rfl
theorem q406 : (Jvm.Cond.methodLink "java/lang/String" (1051 : Nat) ({ cls := "java/lang/StringUTF16", name := "compress", desc := "([BII)[B" } : Jvm.MethodName)) ∈ lw_all := lw_g (lw_at lw_m2 103 rfl) rfl
theorem q413 : (Jvm.Cond.methodLink "java/lang/String" (47 : Nat) ({ cls := "java/lang/StringUTF16", name := "coderFromArrayLen", desc := "([BI)B" } : Jvm.MethodName)) ∈ lw_all := lw_g (lw_at lw_m2 110 rfl) rfl
theorem q416 : (Jvm.Cond.fieldLink "java/lang/String" (9 : Nat) "java/lang/String" "value" "[B") ∈ lw_all := lw_g (lw_at lw_m2 113 rfl) rfl
theorem q417 : (Jvm.Cond.fieldLink "java/lang/String" (15 : Nat) "java/lang/String" "coder" "B") ∈ lw_all := lw_g (lw_at lw_m2 114 rfl) rfl
theorem q418 : (Jvm.Cond.laysFinal "java/lang/String" "java/lang/String" "value" "[B") ∈ lw_all := lw_g (lw_at lw_m2 115 rfl) rfl
theorem q419 : (Jvm.Cond.soleField "java/lang/String" "value") ∈ lw_all := lw_g (lw_at lw_m2 116 rfl) rfl
theorem q420 : (Jvm.Cond.laysFinal "java/lang/String" "java/lang/String" "coder" "B") ∈ lw_all := lw_g (lw_at lw_m2 117 rfl) rfl
theorem q421 : (Jvm.Cond.soleField "java/lang/String" "coder") ∈ lw_all := lw_g (lw_at lw_m2 118 rfl) rfl
theorem q422 : (Jvm.Cond.lays "java/lang/String" "java/lang/String" "hash" "I") ∈ lw_all := lw_g (lw_at lw_m2 119 rfl) rfl
theorem q423 : (Jvm.Cond.soleField "java/lang/String" "hash") ∈ lw_all := lw_g (lw_at lw_m2 120 rfl) rfl
theorem q424 : (Jvm.Cond.lays "java/lang/String" "java/lang/String" "hashIsZero" "Z") ∈ lw_all := lw_g (lw_at lw_m2 121 rfl) rfl
theorem q425 : (Jvm.Cond.soleField "java/lang/String" "hashIsZero") ∈ lw_all := lw_g (lw_at lw_m2 122 rfl) rfl
theorem q426 : (Jvm.Cond.superclass "java/lang/String" "java/lang/Object") ∈ lw_all := lw_g (lw_at lw_m2 123 rfl) rfl
theorem q504 : (Jvm.Cond.instanceMethod ({ cls := "java/lang/String", name := "indexOf", desc := "(I)I" } : Jvm.MethodName)) ∈ lw_all := lw_g (lw_at lw_m2 201 rfl) rfl
theorem q505 : (Jvm.Cond.selects "java/lang/String" ({ cls := "java/lang/String", name := "indexOf", desc := "(I)I" } : Jvm.MethodName) ({ cls := "java/lang/String", name := "indexOf", desc := "(I)I" } : Jvm.MethodName)) ∈ lw_all := lw_g (lw_at lw_m2 202 rfl) rfl
theorem q506 : (Jvm.Cond.code ({ cls := "java/lang/String", name := "indexOf", desc := "(I)I" } : Jvm.MethodName) prog_35_method_79_code (2 : Nat) (Option.some Jvm.ClassFile.FieldType.int)) ∈ lw_all := lw_g (lw_at lw_m2 203 rfl) rfl
theorem q507 : (Jvm.Cond.methodLink "java/lang/String" (633 : Nat) ({ cls := "java/lang/String", name := "indexOf", desc := "(II)I" } : Jvm.MethodName)) ∈ lw_all := lw_g (lw_at lw_m2 204 rfl) rfl
theorem q508 : (Jvm.Cond.instanceMethod ({ cls := "java/lang/String", name := "indexOf", desc := "(II)I" } : Jvm.MethodName)) ∈ lw_all := lw_g (lw_at lw_m2 205 rfl) rfl
theorem q509 : (Jvm.Cond.selects "java/lang/String" ({ cls := "java/lang/String", name := "indexOf", desc := "(II)I" } : Jvm.MethodName) ({ cls := "java/lang/String", name := "indexOf", desc := "(II)I" } : Jvm.MethodName)) ∈ lw_all := lw_g (lw_at lw_m2 206 rfl) rfl
theorem q510 : (Jvm.Cond.code ({ cls := "java/lang/String", name := "indexOf", desc := "(II)I" } : Jvm.MethodName) prog_35_method_80_code (3 : Nat) (Option.some Jvm.ClassFile.FieldType.int)) ∈ lw_all := lw_g (lw_at lw_m2 207 rfl) rfl
theorem q511 : (Jvm.Cond.methodLink "java/lang/String" (505 : Nat) ({ cls := "java/lang/String", name := "length", desc := "()I" } : Jvm.MethodName)) ∈ lw_all := lw_g (lw_at lw_m2 208 rfl) rfl
theorem q512 : (Jvm.Cond.methodLink "java/lang/String" (637 : Nat) ({ cls := "java/lang/StringLatin1", name := "indexOf", desc := "([BIII)I" } : Jvm.MethodName)) ∈ lw_all := lw_g (lw_at lw_m2 209 rfl) rfl
theorem q523 : (Jvm.Cond.methodLink "java/lang/String" (640 : Nat) ({ cls := "java/lang/StringUTF16", name := "indexOf", desc := "([BIII)I" } : Jvm.MethodName)) ∈ lw_all := lw_g (lw_at lw_m2 220 rfl) rfl
theorem q536 : (Jvm.Cond.static ({ cls := "java/lang/String", name := "checkBoundsBeginEnd", desc := "(III)V" } : Jvm.MethodName)) ∈ lw_all := lw_g (lw_at lw_m2 233 rfl) rfl
theorem q537 : (Jvm.Cond.code ({ cls := "java/lang/String", name := "checkBoundsBeginEnd", desc := "(III)V" } : Jvm.MethodName) prog_35_method_158_code (3 : Nat) (Option.none : Option Jvm.ClassFile.FieldType)) ∈ lw_all := lw_g (lw_at lw_m2 234 rfl) rfl
theorem q538 : (Jvm.Cond.methodLink "java/lang/String" (1062 : Nat) ({ cls := "jdk/internal/util/Preconditions", name := "checkFromToIndex", desc := "(IIILjava/util/function/BiFunction;)I" } : Jvm.MethodName)) ∈ lw_all := lw_g (lw_at lw_m2 235 rfl) rfl
theorem q563 : (Jvm.Cond.instanceMethod ({ cls := "java/lang/String", name := "equals", desc := "(Ljava/lang/Object;)Z" } : Jvm.MethodName)) ∈ lw_all := lw_g (lw_at lw_m3 20 rfl) rfl
theorem q564 : (Jvm.Cond.selects "java/lang/String" ({ cls := "java/lang/String", name := "equals", desc := "(Ljava/lang/Object;)Z" } : Jvm.MethodName) ({ cls := "java/lang/String", name := "equals", desc := "(Ljava/lang/Object;)Z" } : Jvm.MethodName)) ∈ lw_all := lw_g (lw_at lw_m3 21 rfl) rfl
theorem q565 : (Jvm.Cond.code ({ cls := "java/lang/String", name := "equals", desc := "(Ljava/lang/Object;)Z" } : Jvm.MethodName) prog_35_method_66_code (3 : Nat) (Option.some Jvm.ClassFile.FieldType.boolean)) ∈ lw_all := lw_g (lw_at lw_m3 22 rfl) rfl
theorem q566 : (Jvm.Cond.classLink "java/lang/String" (10 : Nat) "java/lang/String") ∈ lw_all := lw_g (lw_at lw_m3 23 rfl) rfl
theorem q567 : (Jvm.Cond.methodLink "java/lang/String" (541 : Nat) ({ cls := "java/lang/StringLatin1", name := "equals", desc := "([B[B)Z" } : Jvm.MethodName)) ∈ lw_all := lw_g (lw_at lw_m3 24 rfl) rfl
theorem q911 : (Jvm.Cond.selects "java/lang/String" ({ cls := "java/lang/Object", name := "getClass", desc := "()Ljava/lang/Class;" } : Jvm.MethodName) ({ cls := "java/lang/Object", name := "getClass", desc := "()Ljava/lang/Class;" } : Jvm.MethodName)) ∈ lw_all := lw_g (lw_at lw_m4 128 rfl) rfl
theorem q1783 : (Jvm.Cond.castable "java/lang/String" "java/lang/Object") ∈ lw_tbl := lw_at lw_m8 40 rfl
theorem in_J3 : ∀ w ∈ wsJ30, w ∈ lw_all := lw_in wsJ30 [418, 420, 422, 424] (by decide +kernel) (by decide +kernel)
