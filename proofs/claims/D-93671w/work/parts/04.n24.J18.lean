/-! java/lang/Short -/
set_option maxRecDepth 100000
def RJ18 : String := "java/lang/Short"
def TJ18 : u_T := fun k => match k with
  | _ => ("java/lang/Short", "value", "S", true)
def tyJ18 : Nat → FieldType := fun k => match k with
  | _ => .short
abbrev wsJ180 : List Cond := u_ws RJ18 TJ18 1
theorem nmJ18 : ∀ a, a < 1 → ∀ b, b < 1 → a ≠ b → (TJ18 a).2.1 ≠ (TJ18 b).2.1 := by decide +kernel
theorem tyJ18_ok : ∀ k, k < 1 → parseFieldDescriptor (TJ18 k).2.2.1 = some (tyJ18 k) := by decide +kernel
abbrev cJ18_valueOf : ByteArray := prog_33_method_7_code
def yJ18_valueOf : MethodName := ⟨RJ18, "valueOf", "(S)Ljava/lang/Short;"⟩
def dkwJ18_valueOf_1 : List UInt8 := [17, 0, 128, 96, 50, 176, 187, 0, 1, 89, 26, 183, 0, 90, 176]
abbrev dktJ18_valueOf_1 : List UInt8 := dkwJ18_valueOf_1 ++ []
def dkwJ18_valueOf_0 : List UInt8 := [17, 0, 128, 60, 26, 61, 28, 16, 128, 161, 0, 19, 28, 16, 127, 163, 0, 13, 178, 0, 84, 28]
abbrev dktJ18_valueOf_0 : List UInt8 := dkwJ18_valueOf_0 ++ dktJ18_valueOf_1
theorem dksJ18_valueOf_0 : cJ18_valueOf.data.toList.drop 0 = dktJ18_valueOf_0 := by decide +kernel
theorem dksJ18_valueOf_1 : cJ18_valueOf.data.toList.drop 22 = dktJ18_valueOf_1 := dk_seg dksJ18_valueOf_0 22 rfl rfl
theorem dJ18_valueOf_0 : decode cJ18_valueOf 0 = .ok (.sipush 128, 3) := dk_17 0 128 (dk_at dksJ18_valueOf_0 0 rfl rfl)
theorem dJ18_valueOf_3 : decode cJ18_valueOf 3 = .ok (.istore_n 1, 1) := dk_60 (dk_at dksJ18_valueOf_0 3 rfl rfl)
theorem dJ18_valueOf_4 : decode cJ18_valueOf 4 = .ok (.iload_n 0, 1) := dk_26 (dk_at dksJ18_valueOf_0 4 rfl rfl)
theorem dJ18_valueOf_5 : decode cJ18_valueOf 5 = .ok (.istore_n 2, 1) := dk_61 (dk_at dksJ18_valueOf_0 5 rfl rfl)
theorem dJ18_valueOf_6 : decode cJ18_valueOf 6 = .ok (.iload_n 2, 1) := dk_28 (dk_at dksJ18_valueOf_0 6 rfl rfl)
theorem dJ18_valueOf_7 : decode cJ18_valueOf 7 = .ok (.bipush (-128), 2) := dk_16 128 (dk_at dksJ18_valueOf_0 7 rfl rfl)
theorem dJ18_valueOf_9 : decode cJ18_valueOf 9 = .ok (.if_icmp .lt 19, 3) := dk_161 0 19 (dk_at dksJ18_valueOf_0 9 rfl rfl)
theorem dJ18_valueOf_12 : decode cJ18_valueOf 12 = .ok (.iload_n 2, 1) := dk_28 (dk_at dksJ18_valueOf_0 12 rfl rfl)
theorem dJ18_valueOf_13 : decode cJ18_valueOf 13 = .ok (.bipush 127, 2) := dk_16 127 (dk_at dksJ18_valueOf_0 13 rfl rfl)
theorem dJ18_valueOf_15 : decode cJ18_valueOf 15 = .ok (.if_icmp .gt 13, 3) := dk_163 0 13 (dk_at dksJ18_valueOf_0 15 rfl rfl)
theorem dJ18_valueOf_18 : decode cJ18_valueOf 18 = .ok (.getstatic 84, 3) := dk_178 0 84 (dk_at dksJ18_valueOf_0 18 rfl rfl)
theorem dJ18_valueOf_21 : decode cJ18_valueOf 21 = .ok (.iload_n 2, 1) := dk_28 (dk_at dksJ18_valueOf_0 21 rfl rfl)
theorem dJ18_valueOf_22 : decode cJ18_valueOf 22 = .ok (.sipush 128, 3) := dk_17 0 128 (dk_at dksJ18_valueOf_1 0 rfl rfl)
theorem dJ18_valueOf_25 : decode cJ18_valueOf 25 = .ok (.iadd, 1) := dk_96 (dk_at dksJ18_valueOf_1 3 rfl rfl)
theorem dJ18_valueOf_26 : decode cJ18_valueOf 26 = .ok (.aaload, 1) := dk_50 (dk_at dksJ18_valueOf_1 4 rfl rfl)
theorem dJ18_valueOf_27 : decode cJ18_valueOf 27 = .ok (.areturn, 1) := dk_176 (dk_at dksJ18_valueOf_1 5 rfl rfl)
theorem dJ18_valueOf_28 : decode cJ18_valueOf 28 = .ok (.new 1, 3) := dk_187 0 1 (dk_at dksJ18_valueOf_1 6 rfl rfl)
theorem dJ18_valueOf_31 : decode cJ18_valueOf 31 = .ok (.dup, 1) := dk_89 (dk_at dksJ18_valueOf_1 9 rfl rfl)
theorem dJ18_valueOf_32 : decode cJ18_valueOf 32 = .ok (.iload_n 0, 1) := dk_26 (dk_at dksJ18_valueOf_1 10 rfl rfl)
theorem dJ18_valueOf_33 : decode cJ18_valueOf 33 = .ok (.invokespecial 90, 3) := dk_183 0 90 (dk_at dksJ18_valueOf_1 11 rfl rfl)
theorem dJ18_valueOf_36 : decode cJ18_valueOf 36 = .ok (.areturn, 1) := dk_176 (dk_at dksJ18_valueOf_1 14 rfl rfl)
abbrev cJ18_init : ByteArray := prog_33_method_9_code
def yJ18_init : MethodName := ⟨RJ18, "<init>", "(S)V"⟩
def dkwJ18_init_0 : List UInt8 := [42, 183, 0, 102, 42, 27, 181, 0, 105, 177]
abbrev dktJ18_init_0 : List UInt8 := dkwJ18_init_0 ++ []
theorem dksJ18_init_0 : cJ18_init.data.toList.drop 0 = dktJ18_init_0 := by decide +kernel
theorem dJ18_init_0 : decode cJ18_init 0 = .ok (.aload_n 0, 1) := dk_42 (dk_at dksJ18_init_0 0 rfl rfl)
theorem dJ18_init_1 : decode cJ18_init 1 = .ok (.invokespecial 102, 3) := dk_183 0 102 (dk_at dksJ18_init_0 1 rfl rfl)
theorem dJ18_init_4 : decode cJ18_init 4 = .ok (.aload_n 0, 1) := dk_42 (dk_at dksJ18_init_0 4 rfl rfl)
theorem dJ18_init_5 : decode cJ18_init 5 = .ok (.iload_n 1, 1) := dk_27 (dk_at dksJ18_init_0 5 rfl rfl)
theorem dJ18_init_6 : decode cJ18_init 6 = .ok (.putfield 105, 3) := dk_181 0 105 (dk_at dksJ18_init_0 6 rfl rfl)
theorem dJ18_init_9 : decode cJ18_init 9 = .ok (.return_, 1) := dk_177 (dk_at dksJ18_init_0 9 rfl rfl)
abbrev cJ18_shortValue : ByteArray := prog_33_method_12_code
def yJ18_shortValue : MethodName := ⟨RJ18, "shortValue", "()S"⟩
theorem dJ18_shortValue_0 : decode cJ18_shortValue 0 = .ok (.aload_n 0, 1) := by decide +kernel
theorem dJ18_shortValue_1 : decode cJ18_shortValue 1 = .ok (.getfield 105, 3) := by decide +kernel
theorem dJ18_shortValue_4 : decode cJ18_shortValue 4 = .ok (.ireturn, 1) := by decide +kernel
theorem q99 : (Jvm.Cond.initialized "java/lang/Short") ∈ lw_all := lw_g (lw_at lw_m1 36 rfl) rfl
theorem q910 : (Jvm.Cond.selects "java/lang/Short" ({ cls := "java/lang/Object", name := "getClass", desc := "()Ljava/lang/Class;" } : Jvm.MethodName) ({ cls := "java/lang/Object", name := "getClass", desc := "()Ljava/lang/Class;" } : Jvm.MethodName)) ∈ lw_all := lw_g (lw_at lw_m4 127 rfl) rfl
theorem q1268 : (Jvm.Cond.static ({ cls := "java/lang/Short", name := "valueOf", desc := "(S)Ljava/lang/Short;" } : Jvm.MethodName)) ∈ lw_all := lw_g (lw_at lw_m6 5 rfl) rfl
theorem q1269 : (Jvm.Cond.code ({ cls := "java/lang/Short", name := "valueOf", desc := "(S)Ljava/lang/Short;" } : Jvm.MethodName) prog_33_method_7_code (3 : Nat) (Option.some (Jvm.ClassFile.FieldType.object "java/lang/Short"))) ∈ lw_all := lw_g (lw_at lw_m6 6 rfl) rfl
theorem q1270 : (Jvm.Cond.fieldLink "java/lang/Short" (84 : Nat) "java/lang/Short$ShortCache" "cache" "[Ljava/lang/Short;") ∈ lw_all := lw_g (lw_at lw_m6 7 rfl) rfl
theorem q1272 : (Jvm.Cond.classLink "java/lang/Short" (1 : Nat) "java/lang/Short") ∈ lw_all := lw_g (lw_at lw_m6 9 rfl) rfl
theorem q1273 : (Jvm.Cond.instantiable "java/lang/Short" (1 : Nat)) ∈ lw_all := lw_g (lw_at lw_m6 10 rfl) rfl
theorem q1274 : (Jvm.Cond.methodLink "java/lang/Short" (90 : Nat) ({ cls := "java/lang/Short", name := "<init>", desc := "(S)V" } : Jvm.MethodName)) ∈ lw_all := lw_g (lw_at lw_m6 11 rfl) rfl
theorem q1275 : (Jvm.Cond.instanceMethod ({ cls := "java/lang/Short", name := "<init>", desc := "(S)V" } : Jvm.MethodName)) ∈ lw_all := lw_g (lw_at lw_m6 12 rfl) rfl
theorem q1276 : (Jvm.Cond.code ({ cls := "java/lang/Short", name := "<init>", desc := "(S)V" } : Jvm.MethodName) prog_33_method_9_code (2 : Nat) (Option.none : Option Jvm.ClassFile.FieldType)) ∈ lw_all := lw_g (lw_at lw_m6 13 rfl) rfl
theorem q1277 : (Jvm.Cond.methodLink "java/lang/Short" (102 : Nat) ({ cls := "java/lang/Number", name := "<init>", desc := "()V" } : Jvm.MethodName)) ∈ lw_all := lw_g (lw_at lw_m6 14 rfl) rfl
theorem q1281 : (Jvm.Cond.fieldLink "java/lang/Short" (105 : Nat) "java/lang/Short" "value" "S") ∈ lw_all := lw_g (lw_at lw_m6 18 rfl) rfl
theorem q1282 : (Jvm.Cond.laysFinal "java/lang/Short" "java/lang/Short" "value" "S") ∈ lw_all := lw_g (lw_at lw_m6 19 rfl) rfl
theorem q1283 : (Jvm.Cond.soleField "java/lang/Short" "value") ∈ lw_all := lw_g (lw_at lw_m6 20 rfl) rfl
theorem q1284 : (Jvm.Cond.superclass "java/lang/Short" "java/lang/Number") ∈ lw_all := lw_g (lw_at lw_m6 21 rfl) rfl
theorem q1299 : (Jvm.Cond.instanceMethod ({ cls := "java/lang/Short", name := "shortValue", desc := "()S" } : Jvm.MethodName)) ∈ lw_all := lw_g (lw_at lw_m6 36 rfl) rfl
theorem q1300 : (Jvm.Cond.selects "java/lang/Short" ({ cls := "java/lang/Short", name := "shortValue", desc := "()S" } : Jvm.MethodName) ({ cls := "java/lang/Short", name := "shortValue", desc := "()S" } : Jvm.MethodName)) ∈ lw_all := lw_g (lw_at lw_m6 37 rfl) rfl
theorem q1301 : (Jvm.Cond.code ({ cls := "java/lang/Short", name := "shortValue", desc := "()S" } : Jvm.MethodName) prog_33_method_12_code (1 : Nat) (Option.some Jvm.ClassFile.FieldType.short)) ∈ lw_all := lw_g (lw_at lw_m6 38 rfl) rfl
theorem q1800 : (Jvm.Cond.castable "java/lang/Short" "java/lang/Object") ∈ lw_tbl := lw_at lw_m8 57 rfl
theorem in_J18 : ∀ w ∈ wsJ180, w ∈ lw_all := lw_in wsJ180 [1282] (by decide +kernel) (by decide +kernel)
