/-! jdk/internal/util/Preconditions -/
set_option maxRecDepth 100000
def RJ5 : String := "jdk/internal/util/Preconditions"
abbrev cJ5_checkIndex : ByteArray := prog_53_method_11_code
def yJ5_checkIndex : MethodName := ⟨RJ5, "checkIndex", "(IILjava/util/function/BiFunction;)I"⟩
def dkwJ5_checkIndex_0 : List UInt8 := [26, 155, 0, 8, 26, 27, 161, 0, 10, 44, 26, 27, 184, 0, 95, 191, 26, 172]
abbrev dktJ5_checkIndex_0 : List UInt8 := dkwJ5_checkIndex_0 ++ []
theorem dksJ5_checkIndex_0 : cJ5_checkIndex.data.toList.drop 0 = dktJ5_checkIndex_0 := by decide +kernel
theorem dJ5_checkIndex_0 : decode cJ5_checkIndex 0 = .ok (.iload_n 0, 1) := dk_26 (dk_at dksJ5_checkIndex_0 0 rfl rfl)
theorem dJ5_checkIndex_1 : decode cJ5_checkIndex 1 = .ok (.ifCond .lt 8, 3) := dk_155 0 8 (dk_at dksJ5_checkIndex_0 1 rfl rfl)
theorem dJ5_checkIndex_4 : decode cJ5_checkIndex 4 = .ok (.iload_n 0, 1) := dk_26 (dk_at dksJ5_checkIndex_0 4 rfl rfl)
theorem dJ5_checkIndex_5 : decode cJ5_checkIndex 5 = .ok (.iload_n 1, 1) := dk_27 (dk_at dksJ5_checkIndex_0 5 rfl rfl)
theorem dJ5_checkIndex_6 : decode cJ5_checkIndex 6 = .ok (.if_icmp .lt 10, 3) := dk_161 0 10 (dk_at dksJ5_checkIndex_0 6 rfl rfl)
theorem dJ5_checkIndex_9 : decode cJ5_checkIndex 9 = .ok (.aload_n 2, 1) := dk_44 (dk_at dksJ5_checkIndex_0 9 rfl rfl)
theorem dJ5_checkIndex_10 : decode cJ5_checkIndex 10 = .ok (.iload_n 0, 1) := dk_26 (dk_at dksJ5_checkIndex_0 10 rfl rfl)
theorem dJ5_checkIndex_11 : decode cJ5_checkIndex 11 = .ok (.iload_n 1, 1) := dk_27 (dk_at dksJ5_checkIndex_0 11 rfl rfl)
theorem dJ5_checkIndex_12 : decode cJ5_checkIndex 12 = .ok (.invokestatic 95, 3) := dk_184 0 95 (dk_at dksJ5_checkIndex_0 12 rfl rfl)
theorem dJ5_checkIndex_15 : decode cJ5_checkIndex 15 = .ok (.athrow, 1) := dk_191 (dk_at dksJ5_checkIndex_0 15 rfl rfl)
theorem dJ5_checkIndex_16 : decode cJ5_checkIndex 16 = .ok (.iload_n 0, 1) := dk_26 (dk_at dksJ5_checkIndex_0 16 rfl rfl)
theorem dJ5_checkIndex_17 : decode cJ5_checkIndex 17 = .ok (.ireturn, 1) := dk_172 (dk_at dksJ5_checkIndex_0 17 rfl rfl)
abbrev cJ5_checkFromIndexSize : ByteArray := prog_53_method_13_code
def yJ5_checkFromIndexSize : MethodName := ⟨RJ5, "checkFromIndexSize", "(IIILjava/util/function/BiFunction;)I"⟩
def dkwJ5_checkFromIndexSize_1 : List UInt8 := [172]
abbrev dktJ5_checkFromIndexSize_1 : List UInt8 := dkwJ5_checkFromIndexSize_1 ++ []
def dkwJ5_checkFromIndexSize_0 : List UInt8 := [28, 26, 128, 27, 128, 155, 0, 10, 27, 28, 26, 100, 164, 0, 11, 45, 26, 27, 28, 184, 0, 103, 191, 26]
abbrev dktJ5_checkFromIndexSize_0 : List UInt8 := dkwJ5_checkFromIndexSize_0 ++ dktJ5_checkFromIndexSize_1
theorem dksJ5_checkFromIndexSize_0 : cJ5_checkFromIndexSize.data.toList.drop 0 = dktJ5_checkFromIndexSize_0 := by decide +kernel
theorem dksJ5_checkFromIndexSize_1 : cJ5_checkFromIndexSize.data.toList.drop 24 = dktJ5_checkFromIndexSize_1 := dk_seg dksJ5_checkFromIndexSize_0 24 rfl rfl
theorem dJ5_checkFromIndexSize_0 : decode cJ5_checkFromIndexSize 0 = .ok (.iload_n 2, 1) := dk_28 (dk_at dksJ5_checkFromIndexSize_0 0 rfl rfl)
theorem dJ5_checkFromIndexSize_1 : decode cJ5_checkFromIndexSize 1 = .ok (.iload_n 0, 1) := dk_26 (dk_at dksJ5_checkFromIndexSize_0 1 rfl rfl)
theorem dJ5_checkFromIndexSize_2 : decode cJ5_checkFromIndexSize 2 = .ok (.ior, 1) := dk_128 (dk_at dksJ5_checkFromIndexSize_0 2 rfl rfl)
theorem dJ5_checkFromIndexSize_3 : decode cJ5_checkFromIndexSize 3 = .ok (.iload_n 1, 1) := dk_27 (dk_at dksJ5_checkFromIndexSize_0 3 rfl rfl)
theorem dJ5_checkFromIndexSize_4 : decode cJ5_checkFromIndexSize 4 = .ok (.ior, 1) := dk_128 (dk_at dksJ5_checkFromIndexSize_0 4 rfl rfl)
theorem dJ5_checkFromIndexSize_5 : decode cJ5_checkFromIndexSize 5 = .ok (.ifCond .lt 10, 3) := dk_155 0 10 (dk_at dksJ5_checkFromIndexSize_0 5 rfl rfl)
theorem dJ5_checkFromIndexSize_8 : decode cJ5_checkFromIndexSize 8 = .ok (.iload_n 1, 1) := dk_27 (dk_at dksJ5_checkFromIndexSize_0 8 rfl rfl)
theorem dJ5_checkFromIndexSize_9 : decode cJ5_checkFromIndexSize 9 = .ok (.iload_n 2, 1) := dk_28 (dk_at dksJ5_checkFromIndexSize_0 9 rfl rfl)
theorem dJ5_checkFromIndexSize_10 : decode cJ5_checkFromIndexSize 10 = .ok (.iload_n 0, 1) := dk_26 (dk_at dksJ5_checkFromIndexSize_0 10 rfl rfl)
theorem dJ5_checkFromIndexSize_11 : decode cJ5_checkFromIndexSize 11 = .ok (.isub, 1) := dk_100 (dk_at dksJ5_checkFromIndexSize_0 11 rfl rfl)
theorem dJ5_checkFromIndexSize_12 : decode cJ5_checkFromIndexSize 12 = .ok (.if_icmp .le 11, 3) := dk_164 0 11 (dk_at dksJ5_checkFromIndexSize_0 12 rfl rfl)
theorem dJ5_checkFromIndexSize_15 : decode cJ5_checkFromIndexSize 15 = .ok (.aload_n 3, 1) := dk_45 (dk_at dksJ5_checkFromIndexSize_0 15 rfl rfl)
theorem dJ5_checkFromIndexSize_16 : decode cJ5_checkFromIndexSize 16 = .ok (.iload_n 0, 1) := dk_26 (dk_at dksJ5_checkFromIndexSize_0 16 rfl rfl)
theorem dJ5_checkFromIndexSize_17 : decode cJ5_checkFromIndexSize 17 = .ok (.iload_n 1, 1) := dk_27 (dk_at dksJ5_checkFromIndexSize_0 17 rfl rfl)
theorem dJ5_checkFromIndexSize_18 : decode cJ5_checkFromIndexSize 18 = .ok (.iload_n 2, 1) := dk_28 (dk_at dksJ5_checkFromIndexSize_0 18 rfl rfl)
theorem dJ5_checkFromIndexSize_19 : decode cJ5_checkFromIndexSize 19 = .ok (.invokestatic 103, 3) := dk_184 0 103 (dk_at dksJ5_checkFromIndexSize_0 19 rfl rfl)
theorem dJ5_checkFromIndexSize_22 : decode cJ5_checkFromIndexSize 22 = .ok (.athrow, 1) := dk_191 (dk_at dksJ5_checkFromIndexSize_0 22 rfl rfl)
theorem dJ5_checkFromIndexSize_23 : decode cJ5_checkFromIndexSize 23 = .ok (.iload_n 0, 1) := dk_26 (dk_at dksJ5_checkFromIndexSize_0 23 rfl rfl)
theorem dJ5_checkFromIndexSize_24 : decode cJ5_checkFromIndexSize 24 = .ok (.ireturn, 1) := dk_172 (dk_at dksJ5_checkFromIndexSize_1 0 rfl rfl)
abbrev cJ5_checkFromToIndex : ByteArray := prog_53_method_12_code
def yJ5_checkFromToIndex : MethodName := ⟨RJ5, "checkFromToIndex", "(IIILjava/util/function/BiFunction;)I"⟩
def dkwJ5_checkFromToIndex_0 : List UInt8 := [26, 155, 0, 13, 26, 27, 163, 0, 8, 27, 28, 164, 0, 11, 45, 26, 27, 28, 184, 0, 99, 191, 26, 172]
abbrev dktJ5_checkFromToIndex_0 : List UInt8 := dkwJ5_checkFromToIndex_0 ++ []
theorem dksJ5_checkFromToIndex_0 : cJ5_checkFromToIndex.data.toList.drop 0 = dktJ5_checkFromToIndex_0 := by decide +kernel
theorem dJ5_checkFromToIndex_0 : decode cJ5_checkFromToIndex 0 = .ok (.iload_n 0, 1) := dk_26 (dk_at dksJ5_checkFromToIndex_0 0 rfl rfl)
theorem dJ5_checkFromToIndex_1 : decode cJ5_checkFromToIndex 1 = .ok (.ifCond .lt 13, 3) := dk_155 0 13 (dk_at dksJ5_checkFromToIndex_0 1 rfl rfl)
theorem dJ5_checkFromToIndex_4 : decode cJ5_checkFromToIndex 4 = .ok (.iload_n 0, 1) := dk_26 (dk_at dksJ5_checkFromToIndex_0 4 rfl rfl)
theorem dJ5_checkFromToIndex_5 : decode cJ5_checkFromToIndex 5 = .ok (.iload_n 1, 1) := dk_27 (dk_at dksJ5_checkFromToIndex_0 5 rfl rfl)
theorem dJ5_checkFromToIndex_6 : decode cJ5_checkFromToIndex 6 = .ok (.if_icmp .gt 8, 3) := dk_163 0 8 (dk_at dksJ5_checkFromToIndex_0 6 rfl rfl)
theorem dJ5_checkFromToIndex_9 : decode cJ5_checkFromToIndex 9 = .ok (.iload_n 1, 1) := dk_27 (dk_at dksJ5_checkFromToIndex_0 9 rfl rfl)
theorem dJ5_checkFromToIndex_10 : decode cJ5_checkFromToIndex 10 = .ok (.iload_n 2, 1) := dk_28 (dk_at dksJ5_checkFromToIndex_0 10 rfl rfl)
theorem dJ5_checkFromToIndex_11 : decode cJ5_checkFromToIndex 11 = .ok (.if_icmp .le 11, 3) := dk_164 0 11 (dk_at dksJ5_checkFromToIndex_0 11 rfl rfl)
theorem dJ5_checkFromToIndex_14 : decode cJ5_checkFromToIndex 14 = .ok (.aload_n 3, 1) := dk_45 (dk_at dksJ5_checkFromToIndex_0 14 rfl rfl)
theorem dJ5_checkFromToIndex_15 : decode cJ5_checkFromToIndex 15 = .ok (.iload_n 0, 1) := dk_26 (dk_at dksJ5_checkFromToIndex_0 15 rfl rfl)
theorem dJ5_checkFromToIndex_16 : decode cJ5_checkFromToIndex 16 = .ok (.iload_n 1, 1) := dk_27 (dk_at dksJ5_checkFromToIndex_0 16 rfl rfl)
theorem dJ5_checkFromToIndex_17 : decode cJ5_checkFromToIndex 17 = .ok (.iload_n 2, 1) := dk_28 (dk_at dksJ5_checkFromToIndex_0 17 rfl rfl)
theorem dJ5_checkFromToIndex_18 : decode cJ5_checkFromToIndex 18 = .ok (.invokestatic 99, 3) := dk_184 0 99 (dk_at dksJ5_checkFromToIndex_0 18 rfl rfl)
theorem dJ5_checkFromToIndex_21 : decode cJ5_checkFromToIndex 21 = .ok (.athrow, 1) := dk_191 (dk_at dksJ5_checkFromToIndex_0 21 rfl rfl)
theorem dJ5_checkFromToIndex_22 : decode cJ5_checkFromToIndex 22 = .ok (.iload_n 0, 1) := dk_26 (dk_at dksJ5_checkFromToIndex_0 22 rfl rfl)
theorem dJ5_checkFromToIndex_23 : decode cJ5_checkFromToIndex 23 = .ok (.ireturn, 1) := dk_172 (dk_at dksJ5_checkFromToIndex_0 23 rfl rfl)
theorem q71 : (Jvm.Cond.initialized "jdk/internal/util/Preconditions") ∈ lw_all := lw_g (lw_at lw_m1 8 rfl) rfl
theorem q190 : (Jvm.Cond.laysStatic "jdk/internal/util/Preconditions" "SIOOBE_FORMATTER" "Ljava/util/function/BiFunction;") ∈ lw_tbl := lw_at lw_m1 127 rfl
theorem q192 : (Jvm.Cond.static ({ cls := "jdk/internal/util/Preconditions", name := "checkIndex", desc := "(IILjava/util/function/BiFunction;)I" } : Jvm.MethodName)) ∈ lw_all := lw_g (lw_at lw_m1 129 rfl) rfl
theorem q193 : (Jvm.Cond.code ({ cls := "jdk/internal/util/Preconditions", name := "checkIndex", desc := "(IILjava/util/function/BiFunction;)I" } : Jvm.MethodName) prog_53_method_11_code (3 : Nat) (Option.some Jvm.ClassFile.FieldType.int)) ∈ lw_all := lw_g (lw_at lw_m1 130 rfl) rfl
theorem q369 : (Jvm.Cond.static ({ cls := "jdk/internal/util/Preconditions", name := "checkFromIndexSize", desc := "(IIILjava/util/function/BiFunction;)I" } : Jvm.MethodName)) ∈ lw_all := lw_g (lw_at lw_m2 66 rfl) rfl
theorem q370 : (Jvm.Cond.code ({ cls := "jdk/internal/util/Preconditions", name := "checkFromIndexSize", desc := "(IIILjava/util/function/BiFunction;)I" } : Jvm.MethodName) prog_53_method_13_code (4 : Nat) (Option.some Jvm.ClassFile.FieldType.int)) ∈ lw_all := lw_g (lw_at lw_m2 67 rfl) rfl
theorem q539 : (Jvm.Cond.static ({ cls := "jdk/internal/util/Preconditions", name := "checkFromToIndex", desc := "(IIILjava/util/function/BiFunction;)I" } : Jvm.MethodName)) ∈ lw_all := lw_g (lw_at lw_m2 236 rfl) rfl
theorem q540 : (Jvm.Cond.code ({ cls := "jdk/internal/util/Preconditions", name := "checkFromToIndex", desc := "(IIILjava/util/function/BiFunction;)I" } : Jvm.MethodName) prog_53_method_12_code (4 : Nat) (Option.some Jvm.ClassFile.FieldType.int)) ∈ lw_all := lw_g (lw_at lw_m2 237 rfl) rfl
