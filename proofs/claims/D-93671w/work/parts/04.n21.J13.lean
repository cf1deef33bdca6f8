/-! java/lang/Exception -/
set_option maxRecDepth 100000
def RJ13 : String := "java/lang/Exception"
abbrev cJ13_init : ByteArray := prog_28_method_5_code
def yJ13_init : MethodName := ⟨RJ13, "<init>", "(Ljava/lang/String;Ljava/lang/Throwable;ZZ)V"⟩
def dkwJ13_init_0 : List UInt8 := [42, 43, 44, 29, 21, 4, 183, 0, 16, 177]
abbrev dktJ13_init_0 : List UInt8 := dkwJ13_init_0 ++ []
theorem dksJ13_init_0 : cJ13_init.data.toList.drop 0 = dktJ13_init_0 := by decide +kernel
theorem dJ13_init_0 : decode cJ13_init 0 = .ok (.aload_n 0, 1) := dk_42 (dk_at dksJ13_init_0 0 rfl rfl)
theorem dJ13_init_1 : decode cJ13_init 1 = .ok (.aload_n 1, 1) := dk_43 (dk_at dksJ13_init_0 1 rfl rfl)
theorem dJ13_init_2 : decode cJ13_init 2 = .ok (.aload_n 2, 1) := dk_44 (dk_at dksJ13_init_0 2 rfl rfl)
theorem dJ13_init_3 : decode cJ13_init 3 = .ok (.iload_n 3, 1) := dk_29 (dk_at dksJ13_init_0 3 rfl rfl)
theorem dJ13_init_4 : decode cJ13_init 4 = .ok (.iload 4, 2) := dk_21 4 (dk_at dksJ13_init_0 4 rfl rfl)
theorem dJ13_init_6 : decode cJ13_init 6 = .ok (.invokespecial 16, 3) := dk_183 0 16 (dk_at dksJ13_init_0 6 rfl rfl)
theorem dJ13_init_9 : decode cJ13_init 9 = .ok (.return_, 1) := dk_177 (dk_at dksJ13_init_0 9 rfl rfl)
theorem q81 : (Jvm.Cond.initialized "java/lang/Exception") ∈ lw_all := lw_g (lw_at lw_m1 18 rfl) rfl
theorem q438 : (Jvm.Cond.declares ({ cls := "java/lang/Exception", name := "<init>", desc := "()V" } : Jvm.MethodName)) ∈ lw_tbl := lw_at lw_m2 135 rfl
theorem q439 : (Jvm.Cond.declares ({ cls := "java/lang/Exception", name := "<init>", desc := "(Ljava/lang/String;)V" } : Jvm.MethodName)) ∈ lw_tbl := lw_at lw_m2 136 rfl
theorem q480 : (Jvm.Cond.instanceMethod ({ cls := "java/lang/Exception", name := "<init>", desc := "(Ljava/lang/String;Ljava/lang/Throwable;ZZ)V" } : Jvm.MethodName)) ∈ lw_all := lw_g (lw_at lw_m2 177 rfl) rfl
theorem q481 : (Jvm.Cond.code ({ cls := "java/lang/Exception", name := "<init>", desc := "(Ljava/lang/String;Ljava/lang/Throwable;ZZ)V" } : Jvm.MethodName) prog_28_method_5_code (5 : Nat) (Option.none : Option Jvm.ClassFile.FieldType)) ∈ lw_all := lw_g (lw_at lw_m2 178 rfl) rfl
theorem q482 : (Jvm.Cond.methodLink "java/lang/Exception" (16 : Nat) ({ cls := "java/lang/Throwable", name := "<init>", desc := "(Ljava/lang/String;Ljava/lang/Throwable;ZZ)V" } : Jvm.MethodName)) ∈ lw_all := lw_g (lw_at lw_m2 179 rfl) rfl
