/-! java/lang/Math -/
set_option maxRecDepth 100000
def RJ10 : String := "java/lang/Math"
abbrev cJ10_max : ByteArray := prog_30_method_65_code
def yJ10_max : MethodName := ⟨RJ10, "max", "(II)I"⟩
def dkwJ10_max_0 : List UInt8 := [26, 27, 161, 0, 7, 26, 167, 0, 4, 27, 172]
abbrev dktJ10_max_0 : List UInt8 := dkwJ10_max_0 ++ []
theorem dksJ10_max_0 : cJ10_max.data.toList.drop 0 = dktJ10_max_0 := by decide +kernel
theorem dJ10_max_0 : decode cJ10_max 0 = .ok (.iload_n 0, 1) := dk_26 (dk_at dksJ10_max_0 0 rfl rfl)
theorem dJ10_max_1 : decode cJ10_max 1 = .ok (.iload_n 1, 1) := dk_27 (dk_at dksJ10_max_0 1 rfl rfl)
theorem dJ10_max_2 : decode cJ10_max 2 = .ok (.if_icmp .lt 7, 3) := dk_161 0 7 (dk_at dksJ10_max_0 2 rfl rfl)
theorem dJ10_max_5 : decode cJ10_max 5 = .ok (.iload_n 0, 1) := dk_26 (dk_at dksJ10_max_0 5 rfl rfl)
theorem dJ10_max_6 : decode cJ10_max 6 = .ok (.goto 4, 3) := dk_167 0 4 (dk_at dksJ10_max_0 6 rfl rfl)
theorem dJ10_max_9 : decode cJ10_max 9 = .ok (.iload_n 1, 1) := dk_27 (dk_at dksJ10_max_0 9 rfl rfl)
theorem dJ10_max_10 : decode cJ10_max 10 = .ok (.ireturn, 1) := dk_172 (dk_at dksJ10_max_0 10 rfl rfl)
abbrev cJ10_min : ByteArray := prog_30_method_69_code
def yJ10_min : MethodName := ⟨RJ10, "min", "(II)I"⟩
def dkwJ10_min_0 : List UInt8 := [26, 27, 163, 0, 7, 26, 167, 0, 4, 27, 172]
abbrev dktJ10_min_0 : List UInt8 := dkwJ10_min_0 ++ []
theorem dksJ10_min_0 : cJ10_min.data.toList.drop 0 = dktJ10_min_0 := by decide +kernel
theorem dJ10_min_0 : decode cJ10_min 0 = .ok (.iload_n 0, 1) := dk_26 (dk_at dksJ10_min_0 0 rfl rfl)
theorem dJ10_min_1 : decode cJ10_min 1 = .ok (.iload_n 1, 1) := dk_27 (dk_at dksJ10_min_0 1 rfl rfl)
theorem dJ10_min_2 : decode cJ10_min 2 = .ok (.if_icmp .gt 7, 3) := dk_163 0 7 (dk_at dksJ10_min_0 2 rfl rfl)
theorem dJ10_min_5 : decode cJ10_min 5 = .ok (.iload_n 0, 1) := dk_26 (dk_at dksJ10_min_0 5 rfl rfl)
theorem dJ10_min_6 : decode cJ10_min 6 = .ok (.goto 4, 3) := dk_167 0 4 (dk_at dksJ10_min_0 6 rfl rfl)
theorem dJ10_min_9 : decode cJ10_min 9 = .ok (.iload_n 1, 1) := dk_27 (dk_at dksJ10_min_0 9 rfl rfl)
theorem dJ10_min_10 : decode cJ10_min 10 = .ok (.ireturn, 1) := dk_172 (dk_at dksJ10_min_0 10 rfl rfl)
abbrev cJ10_abs : ByteArray := prog_30_method_61_code
def yJ10_abs : MethodName := ⟨RJ10, "abs", "(J)J"⟩
def dkwJ10_abs_0 : List UInt8 := [30, 9, 148, 156, 0, 8, 30, 117, 167, 0, 4, 30, 173]
abbrev dktJ10_abs_0 : List UInt8 := dkwJ10_abs_0 ++ []
theorem dksJ10_abs_0 : cJ10_abs.data.toList.drop 0 = dktJ10_abs_0 := by decide +kernel
theorem dJ10_abs_0 : decode cJ10_abs 0 = .ok (.lload_n 0, 1) := dk_30 (dk_at dksJ10_abs_0 0 rfl rfl)
theorem dJ10_abs_1 : decode cJ10_abs 1 = .ok (.lconst 0, 1) := dk_9 (dk_at dksJ10_abs_0 1 rfl rfl)
theorem dJ10_abs_2 : decode cJ10_abs 2 = .ok (.lcmp, 1) := dk_148 (dk_at dksJ10_abs_0 2 rfl rfl)
theorem dJ10_abs_3 : decode cJ10_abs 3 = .ok (.ifCond .ge 8, 3) := dk_156 0 8 (dk_at dksJ10_abs_0 3 rfl rfl)
theorem dJ10_abs_6 : decode cJ10_abs 6 = .ok (.lload_n 0, 1) := dk_30 (dk_at dksJ10_abs_0 6 rfl rfl)
theorem dJ10_abs_7 : decode cJ10_abs 7 = .ok (.lneg, 1) := dk_117 (dk_at dksJ10_abs_0 7 rfl rfl)
theorem dJ10_abs_8 : decode cJ10_abs 8 = .ok (.goto 4, 3) := dk_167 0 4 (dk_at dksJ10_abs_0 8 rfl rfl)
theorem dJ10_abs_11 : decode cJ10_abs 11 = .ok (.lload_n 0, 1) := dk_30 (dk_at dksJ10_abs_0 11 rfl rfl)
theorem dJ10_abs_12 : decode cJ10_abs 12 = .ok (.lreturn, 1) := dk_173 (dk_at dksJ10_abs_0 12 rfl rfl)
theorem q77 : (Jvm.Cond.initialized "java/lang/Math") ∈ lw_all := lw_g (lw_at lw_m1 14 rfl) rfl
theorem q321 : (Jvm.Cond.static ({ cls := "java/lang/Math", name := "max", desc := "(II)I" } : Jvm.MethodName)) ∈ lw_all := lw_g (lw_at lw_m2 18 rfl) rfl
theorem q322 : (Jvm.Cond.code ({ cls := "java/lang/Math", name := "max", desc := "(II)I" } : Jvm.MethodName) prog_30_method_65_code (2 : Nat) (Option.some Jvm.ClassFile.FieldType.int)) ∈ lw_all := lw_g (lw_at lw_m2 19 rfl) rfl
theorem q339 : (Jvm.Cond.static ({ cls := "java/lang/Math", name := "min", desc := "(II)I" } : Jvm.MethodName)) ∈ lw_all := lw_g (lw_at lw_m2 36 rfl) rfl
theorem q340 : (Jvm.Cond.code ({ cls := "java/lang/Math", name := "min", desc := "(II)I" } : Jvm.MethodName) prog_30_method_69_code (2 : Nat) (Option.some Jvm.ClassFile.FieldType.int)) ∈ lw_all := lw_g (lw_at lw_m2 37 rfl) rfl
theorem q1160 : (Jvm.Cond.static ({ cls := "java/lang/Math", name := "abs", desc := "(J)J" } : Jvm.MethodName)) ∈ lw_all := lw_g (lw_at lw_m5 137 rfl) rfl
theorem q1161 : (Jvm.Cond.code ({ cls := "java/lang/Math", name := "abs", desc := "(J)J" } : Jvm.MethodName) prog_30_method_61_code (2 : Nat) (Option.some Jvm.ClassFile.FieldType.long)) ∈ lw_all := lw_g (lw_at lw_m5 138 rfl) rfl
