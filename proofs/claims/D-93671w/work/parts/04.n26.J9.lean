/-! jdk/internal/util/ArraysSupport -/
set_option maxRecDepth 100000
def RJ9 : String := "jdk/internal/util/ArraysSupport"
abbrev cJ9_newLength : ByteArray := prog_52_method_27_code
def yJ9_newLength : MethodName := ⟨RJ9, "newLength", "(III)I"⟩
def dkwJ9_newLength_1 : List UInt8 := [184, 0, 201, 172]
abbrev dktJ9_newLength_1 : List UInt8 := dkwJ9_newLength_1 ++ []
def dkwJ9_newLength_0 : List UInt8 := [26, 27, 28, 184, 0, 194, 96, 62, 3, 29, 162, 0, 11, 29, 18, 200, 163, 0, 5, 29, 172, 26, 27]
abbrev dktJ9_newLength_0 : List UInt8 := dkwJ9_newLength_0 ++ dktJ9_newLength_1
theorem dksJ9_newLength_0 : cJ9_newLength.data.toList.drop 0 = dktJ9_newLength_0 := by decide +kernel
theorem dksJ9_newLength_1 : cJ9_newLength.data.toList.drop 23 = dktJ9_newLength_1 := dk_seg dksJ9_newLength_0 23 rfl rfl
theorem dJ9_newLength_0 : decode cJ9_newLength 0 = .ok (.iload_n 0, 1) := dk_26 (dk_at dksJ9_newLength_0 0 rfl rfl)
theorem dJ9_newLength_1 : decode cJ9_newLength 1 = .ok (.iload_n 1, 1) := dk_27 (dk_at dksJ9_newLength_0 1 rfl rfl)
theorem dJ9_newLength_2 : decode cJ9_newLength 2 = .ok (.iload_n 2, 1) := dk_28 (dk_at dksJ9_newLength_0 2 rfl rfl)
theorem dJ9_newLength_3 : decode cJ9_newLength 3 = .ok (.invokestatic 194, 3) := dk_184 0 194 (dk_at dksJ9_newLength_0 3 rfl rfl)
theorem dJ9_newLength_6 : decode cJ9_newLength 6 = .ok (.iadd, 1) := dk_96 (dk_at dksJ9_newLength_0 6 rfl rfl)
theorem dJ9_newLength_7 : decode cJ9_newLength 7 = .ok (.istore_n 3, 1) := dk_62 (dk_at dksJ9_newLength_0 7 rfl rfl)
theorem dJ9_newLength_8 : decode cJ9_newLength 8 = .ok (.iconst 0, 1) := dk_3 (dk_at dksJ9_newLength_0 8 rfl rfl)
theorem dJ9_newLength_9 : decode cJ9_newLength 9 = .ok (.iload_n 3, 1) := dk_29 (dk_at dksJ9_newLength_0 9 rfl rfl)
theorem dJ9_newLength_10 : decode cJ9_newLength 10 = .ok (.if_icmp .ge 11, 3) := dk_162 0 11 (dk_at dksJ9_newLength_0 10 rfl rfl)
theorem dJ9_newLength_13 : decode cJ9_newLength 13 = .ok (.iload_n 3, 1) := dk_29 (dk_at dksJ9_newLength_0 13 rfl rfl)
theorem dJ9_newLength_14 : decode cJ9_newLength 14 = .ok (.ldc 200, 2) := dk_18 200 (dk_at dksJ9_newLength_0 14 rfl rfl)
theorem dJ9_newLength_16 : decode cJ9_newLength 16 = .ok (.if_icmp .gt 5, 3) := dk_163 0 5 (dk_at dksJ9_newLength_0 16 rfl rfl)
theorem dJ9_newLength_19 : decode cJ9_newLength 19 = .ok (.iload_n 3, 1) := dk_29 (dk_at dksJ9_newLength_0 19 rfl rfl)
theorem dJ9_newLength_20 : decode cJ9_newLength 20 = .ok (.ireturn, 1) := dk_172 (dk_at dksJ9_newLength_0 20 rfl rfl)
theorem dJ9_newLength_21 : decode cJ9_newLength 21 = .ok (.iload_n 0, 1) := dk_26 (dk_at dksJ9_newLength_0 21 rfl rfl)
theorem dJ9_newLength_22 : decode cJ9_newLength 22 = .ok (.iload_n 1, 1) := dk_27 (dk_at dksJ9_newLength_0 22 rfl rfl)
theorem dJ9_newLength_23 : decode cJ9_newLength 23 = .ok (.invokestatic 201, 3) := dk_184 0 201 (dk_at dksJ9_newLength_1 0 rfl rfl)
theorem dJ9_newLength_26 : decode cJ9_newLength 26 = .ok (.ireturn, 1) := dk_172 (dk_at dksJ9_newLength_1 3 rfl rfl)
abbrev cJ9_hugeLength : ByteArray := prog_52_method_28_code
def yJ9_hugeLength : MethodName := ⟨RJ9, "hugeLength", "(II)I"⟩
def dkwJ9_hugeLength_2 : List UInt8 := [191, 28, 18, 200, 163, 0, 6, 18, 200, 172, 28, 172]
abbrev dktJ9_hugeLength_2 : List UInt8 := dkwJ9_hugeLength_2 ++ []
def dkwJ9_hugeLength_1 : List UInt8 := [26, 182, 0, 98, 18, 208, 182, 0, 94, 27, 182, 0, 98, 18, 210, 182, 0, 94, 182, 0, 101, 183, 0, 212]
abbrev dktJ9_hugeLength_1 : List UInt8 := dkwJ9_hugeLength_1 ++ dktJ9_hugeLength_2
def dkwJ9_hugeLength_0 : List UInt8 := [26, 27, 96, 61, 28, 156, 0, 44, 187, 0, 204, 89, 187, 0, 89, 89, 183, 0, 91, 18, 206, 182, 0, 94]
abbrev dktJ9_hugeLength_0 : List UInt8 := dkwJ9_hugeLength_0 ++ dktJ9_hugeLength_1
theorem dksJ9_hugeLength_0 : cJ9_hugeLength.data.toList.drop 0 = dktJ9_hugeLength_0 := by decide +kernel
theorem dksJ9_hugeLength_1 : cJ9_hugeLength.data.toList.drop 24 = dktJ9_hugeLength_1 := dk_seg dksJ9_hugeLength_0 24 rfl rfl
theorem dksJ9_hugeLength_2 : cJ9_hugeLength.data.toList.drop 48 = dktJ9_hugeLength_2 := dk_seg dksJ9_hugeLength_1 24 rfl rfl
theorem dJ9_hugeLength_0 : decode cJ9_hugeLength 0 = .ok (.iload_n 0, 1) := dk_26 (dk_at dksJ9_hugeLength_0 0 rfl rfl)
theorem dJ9_hugeLength_1 : decode cJ9_hugeLength 1 = .ok (.iload_n 1, 1) := dk_27 (dk_at dksJ9_hugeLength_0 1 rfl rfl)
theorem dJ9_hugeLength_2 : decode cJ9_hugeLength 2 = .ok (.iadd, 1) := dk_96 (dk_at dksJ9_hugeLength_0 2 rfl rfl)
theorem dJ9_hugeLength_3 : decode cJ9_hugeLength 3 = .ok (.istore_n 2, 1) := dk_61 (dk_at dksJ9_hugeLength_0 3 rfl rfl)
theorem dJ9_hugeLength_4 : decode cJ9_hugeLength 4 = .ok (.iload_n 2, 1) := dk_28 (dk_at dksJ9_hugeLength_0 4 rfl rfl)
theorem dJ9_hugeLength_5 : decode cJ9_hugeLength 5 = .ok (.ifCond .ge 44, 3) := dk_156 0 44 (dk_at dksJ9_hugeLength_0 5 rfl rfl)
theorem dJ9_hugeLength_8 : decode cJ9_hugeLength 8 = .ok (.new 204, 3) := dk_187 0 204 (dk_at dksJ9_hugeLength_0 8 rfl rfl)
theorem dJ9_hugeLength_11 : decode cJ9_hugeLength 11 = .ok (.dup, 1) := dk_89 (dk_at dksJ9_hugeLength_0 11 rfl rfl)
theorem dJ9_hugeLength_12 : decode cJ9_hugeLength 12 = .ok (.new 89, 3) := dk_187 0 89 (dk_at dksJ9_hugeLength_0 12 rfl rfl)
theorem dJ9_hugeLength_15 : decode cJ9_hugeLength 15 = .ok (.dup, 1) := dk_89 (dk_at dksJ9_hugeLength_0 15 rfl rfl)
theorem dJ9_hugeLength_16 : decode cJ9_hugeLength 16 = .ok (.invokespecial 91, 3) := dk_183 0 91 (dk_at dksJ9_hugeLength_0 16 rfl rfl)
theorem dJ9_hugeLength_19 : decode cJ9_hugeLength 19 = .ok (.ldc 206, 2) := dk_18 206 (dk_at dksJ9_hugeLength_0 19 rfl rfl)
theorem dJ9_hugeLength_21 : decode cJ9_hugeLength 21 = .ok (.invokevirtual 94, 3) := dk_182 0 94 (dk_at dksJ9_hugeLength_0 21 rfl rfl)
theorem dJ9_hugeLength_24 : decode cJ9_hugeLength 24 = .ok (.iload_n 0, 1) := dk_26 (dk_at dksJ9_hugeLength_1 0 rfl rfl)
theorem dJ9_hugeLength_25 : decode cJ9_hugeLength 25 = .ok (.invokevirtual 98, 3) := dk_182 0 98 (dk_at dksJ9_hugeLength_1 1 rfl rfl)
theorem dJ9_hugeLength_28 : decode cJ9_hugeLength 28 = .ok (.ldc 208, 2) := dk_18 208 (dk_at dksJ9_hugeLength_1 4 rfl rfl)
theorem dJ9_hugeLength_30 : decode cJ9_hugeLength 30 = .ok (.invokevirtual 94, 3) := dk_182 0 94 (dk_at dksJ9_hugeLength_1 6 rfl rfl)
theorem dJ9_hugeLength_33 : decode cJ9_hugeLength 33 = .ok (.iload_n 1, 1) := dk_27 (dk_at dksJ9_hugeLength_1 9 rfl rfl)
theorem dJ9_hugeLength_34 : decode cJ9_hugeLength 34 = .ok (.invokevirtual 98, 3) := dk_182 0 98 (dk_at dksJ9_hugeLength_1 10 rfl rfl)
theorem dJ9_hugeLength_37 : decode cJ9_hugeLength 37 = .ok (.ldc 210, 2) := dk_18 210 (dk_at dksJ9_hugeLength_1 13 rfl rfl)
theorem dJ9_hugeLength_39 : decode cJ9_hugeLength 39 = .ok (.invokevirtual 94, 3) := dk_182 0 94 (dk_at dksJ9_hugeLength_1 15 rfl rfl)
theorem dJ9_hugeLength_42 : decode cJ9_hugeLength 42 = .ok (.invokevirtual 101, 3) := dk_182 0 101 (dk_at dksJ9_hugeLength_1 18 rfl rfl)
theorem dJ9_hugeLength_45 : decode cJ9_hugeLength 45 = .ok (.invokespecial 212, 3) := dk_183 0 212 (dk_at dksJ9_hugeLength_1 21 rfl rfl)
theorem dJ9_hugeLength_48 : decode cJ9_hugeLength 48 = .ok (.athrow, 1) := dk_191 (dk_at dksJ9_hugeLength_2 0 rfl rfl)
theorem dJ9_hugeLength_49 : decode cJ9_hugeLength 49 = .ok (.iload_n 2, 1) := dk_28 (dk_at dksJ9_hugeLength_2 1 rfl rfl)
theorem dJ9_hugeLength_50 : decode cJ9_hugeLength 50 = .ok (.ldc 200, 2) := dk_18 200 (dk_at dksJ9_hugeLength_2 2 rfl rfl)
theorem dJ9_hugeLength_52 : decode cJ9_hugeLength 52 = .ok (.if_icmp .gt 6, 3) := dk_163 0 6 (dk_at dksJ9_hugeLength_2 4 rfl rfl)
theorem dJ9_hugeLength_55 : decode cJ9_hugeLength 55 = .ok (.ldc 200, 2) := dk_18 200 (dk_at dksJ9_hugeLength_2 7 rfl rfl)
theorem dJ9_hugeLength_57 : decode cJ9_hugeLength 57 = .ok (.ireturn, 1) := dk_172 (dk_at dksJ9_hugeLength_2 9 rfl rfl)
theorem dJ9_hugeLength_58 : decode cJ9_hugeLength 58 = .ok (.iload_n 2, 1) := dk_28 (dk_at dksJ9_hugeLength_2 10 rfl rfl)
theorem dJ9_hugeLength_59 : decode cJ9_hugeLength 59 = .ok (.ireturn, 1) := dk_172 (dk_at dksJ9_hugeLength_2 11 rfl rfl)
theorem q76 : (Jvm.Cond.initialized "jdk/internal/util/ArraysSupport") ∈ lw_all := lw_g (lw_at lw_m1 13 rfl) rfl
theorem q318 : (Jvm.Cond.static ({ cls := "jdk/internal/util/ArraysSupport", name := "newLength", desc := "(III)I" } : Jvm.MethodName)) ∈ lw_all := lw_g (lw_at lw_m2 15 rfl) rfl
theorem q319 : (Jvm.Cond.code ({ cls := "jdk/internal/util/ArraysSupport", name := "newLength", desc := "(III)I" } : Jvm.MethodName) prog_52_method_27_code (4 : Nat) (Option.some Jvm.ClassFile.FieldType.int)) ∈ lw_all := lw_g (lw_at lw_m2 16 rfl) rfl
theorem q320 : (Jvm.Cond.methodLink "jdk/internal/util/ArraysSupport" (194 : Nat) ({ cls := "java/lang/Math", name := "max", desc := "(II)I" } : Jvm.MethodName)) ∈ lw_all := lw_g (lw_at lw_m2 17 rfl) rfl
theorem q323 : (Jvm.Cond.constant "jdk/internal/util/ArraysSupport" (200 : Nat) (2147483639 : Int32)) ∈ lw_all := lw_g (lw_at lw_m2 20 rfl) rfl
theorem q324 : (Jvm.Cond.methodLink "jdk/internal/util/ArraysSupport" (201 : Nat) ({ cls := "jdk/internal/util/ArraysSupport", name := "hugeLength", desc := "(II)I" } : Jvm.MethodName)) ∈ lw_all := lw_g (lw_at lw_m2 21 rfl) rfl
theorem q325 : (Jvm.Cond.static ({ cls := "jdk/internal/util/ArraysSupport", name := "hugeLength", desc := "(II)I" } : Jvm.MethodName)) ∈ lw_all := lw_g (lw_at lw_m2 22 rfl) rfl
theorem q326 : (Jvm.Cond.code ({ cls := "jdk/internal/util/ArraysSupport", name := "hugeLength", desc := "(II)I" } : Jvm.MethodName) prog_52_method_28_code (3 : Nat) (Option.some Jvm.ClassFile.FieldType.int)) ∈ lw_all := lw_g (lw_at lw_m2 23 rfl) rfl
