/-! java/lang/StringBuilder -/
set_option maxRecDepth 100000
def RJ8 : String := "java/lang/StringBuilder"
def TJ8 : u_T := fun k => match k with
  | 0 => ("java/lang/AbstractStringBuilder", "value", "[B", false)
  | 1 => ("java/lang/AbstractStringBuilder", "coder", "B", false)
  | 2 => ("java/lang/AbstractStringBuilder", "maybeLatin1", "Z", false)
  | _ => ("java/lang/AbstractStringBuilder", "count", "I", false)
def tyJ8 : Nat → FieldType := fun k => match k with
  | 0 => .array .byte
  | 1 => .byte
  | 2 => .boolean
  | _ => .int
abbrev wsJ80 : List Cond := u_ws RJ8 TJ8 4
theorem nmJ8 : ∀ a, a < 4 → ∀ b, b < 4 → a ≠ b → (TJ8 a).2.1 ≠ (TJ8 b).2.1 := by decide +kernel
theorem tyJ8_ok : ∀ k, k < 4 → parseFieldDescriptor (TJ8 k).2.2.1 = some (tyJ8 k) := by decide +kernel
abbrev cJ8_init : ByteArray := prog_36_method_1_code
def yJ8_init : MethodName := ⟨RJ8, "<init>", "()V"⟩
def dkwJ8_init_0 : List UInt8 := [42, 16, 16, 183, 0, 1, 177]
abbrev dktJ8_init_0 : List UInt8 := dkwJ8_init_0 ++ []
theorem dksJ8_init_0 : cJ8_init.data.toList.drop 0 = dktJ8_init_0 := by decide +kernel
theorem dJ8_init_0 : decode cJ8_init 0 = .ok (.aload_n 0, 1) := dk_42 (dk_at dksJ8_init_0 0 rfl rfl)
theorem dJ8_init_1 : decode cJ8_init 1 = .ok (.bipush 16, 2) := dk_16 16 (dk_at dksJ8_init_0 1 rfl rfl)
theorem dJ8_init_3 : decode cJ8_init 3 = .ok (.invokespecial 1, 3) := dk_183 0 1 (dk_at dksJ8_init_0 3 rfl rfl)
theorem dJ8_init_6 : decode cJ8_init 6 = .ok (.return_, 1) := dk_177 (dk_at dksJ8_init_0 6 rfl rfl)
abbrev cJ8_length : ByteArray := prog_36_method_93_code
def yJ8_length : MethodName := ⟨RJ8, "length", "()I"⟩
theorem dJ8_length_0 : decode cJ8_length 0 = .ok (.aload_n 0, 1) := by decide +kernel
theorem dJ8_length_1 : decode cJ8_length 1 = .ok (.invokespecial 343, 3) := by decide +kernel
theorem dJ8_length_4 : decode cJ8_length 4 = .ok (.ireturn, 1) := by decide +kernel
abbrev cJ8_append : ByteArray := prog_36_method_14_code
def yJ8_append : MethodName := ⟨RJ8, "append", "(C)Ljava/lang/StringBuilder;"⟩
def dkwJ8_append_0 : List UInt8 := [42, 27, 183, 0, 50, 87, 42, 176]
abbrev dktJ8_append_0 : List UInt8 := dkwJ8_append_0 ++ []
theorem dksJ8_append_0 : cJ8_append.data.toList.drop 0 = dktJ8_append_0 := by decide +kernel
theorem dJ8_append_0 : decode cJ8_append 0 = .ok (.aload_n 0, 1) := dk_42 (dk_at dksJ8_append_0 0 rfl rfl)
theorem dJ8_append_1 : decode cJ8_append 1 = .ok (.iload_n 1, 1) := dk_27 (dk_at dksJ8_append_0 1 rfl rfl)
theorem dJ8_append_2 : decode cJ8_append 2 = .ok (.invokespecial 50, 3) := dk_183 0 50 (dk_at dksJ8_append_0 2 rfl rfl)
theorem dJ8_append_5 : decode cJ8_append 5 = .ok (.pop, 1) := dk_87 (dk_at dksJ8_append_0 5 rfl rfl)
theorem dJ8_append_6 : decode cJ8_append 6 = .ok (.aload_n 0, 1) := dk_42 (dk_at dksJ8_append_0 6 rfl rfl)
theorem dJ8_append_7 : decode cJ8_append 7 = .ok (.areturn, 1) := dk_176 (dk_at dksJ8_append_0 7 rfl rfl)
abbrev cJ8_toString : ByteArray := prog_36_method_42_code
def yJ8_toString : MethodName := ⟨RJ8, "toString", "()Ljava/lang/String;"⟩
def dkwJ8_toString_0 : List UInt8 := [187, 0, 18, 89, 42, 183, 0, 137, 176]
abbrev dktJ8_toString_0 : List UInt8 := dkwJ8_toString_0 ++ []
theorem dksJ8_toString_0 : cJ8_toString.data.toList.drop 0 = dktJ8_toString_0 := by decide +kernel
theorem dJ8_toString_0 : decode cJ8_toString 0 = .ok (.new 18, 3) := dk_187 0 18 (dk_at dksJ8_toString_0 0 rfl rfl)
theorem dJ8_toString_3 : decode cJ8_toString 3 = .ok (.dup, 1) := dk_89 (dk_at dksJ8_toString_0 3 rfl rfl)
theorem dJ8_toString_4 : decode cJ8_toString 4 = .ok (.aload_n 0, 1) := dk_42 (dk_at dksJ8_toString_0 4 rfl rfl)
theorem dJ8_toString_5 : decode cJ8_toString 5 = .ok (.invokespecial 137, 3) := dk_183 0 137 (dk_at dksJ8_toString_0 5 rfl rfl)
theorem dJ8_toString_8 : decode cJ8_toString 8 = .ok (.areturn, 1) := dk_176 (dk_at dksJ8_toString_0 8 rfl rfl)
theorem q75 : (Jvm.Cond.initialized "java/lang/StringBuilder") ∈ lw_all := lw_g (lw_at lw_m1 12 rfl) rfl
theorem q266 : (Jvm.Cond.instantiable "java/lang/StringBuilder" (4 : Nat)) ∈ lw_all := lw_g (lw_at lw_m1 203 rfl) rfl
theorem q268 : (Jvm.Cond.instanceMethod ({ cls := "java/lang/StringBuilder", name := "<init>", desc := "()V" } : Jvm.MethodName)) ∈ lw_all := lw_g (lw_at lw_m1 205 rfl) rfl
theorem q269 : (Jvm.Cond.code ({ cls := "java/lang/StringBuilder", name := "<init>", desc := "()V" } : Jvm.MethodName) prog_36_method_1_code (1 : Nat) (Option.none : Option Jvm.ClassFile.FieldType)) ∈ lw_all := lw_g (lw_at lw_m1 206 rfl) rfl
theorem q270 : (Jvm.Cond.methodLink "java/lang/StringBuilder" (1 : Nat) ({ cls := "java/lang/AbstractStringBuilder", name := "<init>", desc := "(I)V" } : Jvm.MethodName)) ∈ lw_all := lw_g (lw_at lw_m1 207 rfl) rfl
theorem q286 : (Jvm.Cond.lays "java/lang/StringBuilder" "java/lang/AbstractStringBuilder" "value" "[B") ∈ lw_all := lw_g (lw_at lw_m1 223 rfl) rfl
theorem q288 : (Jvm.Cond.lays "java/lang/StringBuilder" "java/lang/AbstractStringBuilder" "coder" "B") ∈ lw_all := lw_g (lw_at lw_m1 225 rfl) rfl
theorem q290 : (Jvm.Cond.lays "java/lang/StringBuilder" "java/lang/AbstractStringBuilder" "maybeLatin1" "Z") ∈ lw_all := lw_g (lw_at lw_m1 227 rfl) rfl
theorem q292 : (Jvm.Cond.lays "java/lang/StringBuilder" "java/lang/AbstractStringBuilder" "count" "I") ∈ lw_all := lw_g (lw_at lw_m1 229 rfl) rfl
theorem q294 : (Jvm.Cond.superclass "java/lang/StringBuilder" "java/lang/AbstractStringBuilder") ∈ lw_all := lw_g (lw_at lw_m1 231 rfl) rfl
theorem q296 : (Jvm.Cond.instanceMethod ({ cls := "java/lang/StringBuilder", name := "length", desc := "()I" } : Jvm.MethodName)) ∈ lw_all := lw_g (lw_at lw_m1 233 rfl) rfl
theorem q297 : (Jvm.Cond.selects "java/lang/StringBuilder" ({ cls := "java/lang/StringBuilder", name := "length", desc := "()I" } : Jvm.MethodName) ({ cls := "java/lang/StringBuilder", name := "length", desc := "()I" } : Jvm.MethodName)) ∈ lw_all := lw_g (lw_at lw_m1 234 rfl) rfl
theorem q298 : (Jvm.Cond.code ({ cls := "java/lang/StringBuilder", name := "length", desc := "()I" } : Jvm.MethodName) prog_36_method_93_code (1 : Nat) (Option.some Jvm.ClassFile.FieldType.int)) ∈ lw_all := lw_g (lw_at lw_m1 235 rfl) rfl
theorem q299 : (Jvm.Cond.methodLink "java/lang/StringBuilder" (343 : Nat) ({ cls := "java/lang/AbstractStringBuilder", name := "length", desc := "()I" } : Jvm.MethodName)) ∈ lw_all := lw_g (lw_at lw_m1 236 rfl) rfl
theorem q303 : (Jvm.Cond.instanceMethod ({ cls := "java/lang/StringBuilder", name := "append", desc := "(C)Ljava/lang/StringBuilder;" } : Jvm.MethodName)) ∈ lw_all := lw_g (lw_at lw_m2 0 rfl) rfl
theorem q304 : (Jvm.Cond.selects "java/lang/StringBuilder" ({ cls := "java/lang/StringBuilder", name := "append", desc := "(C)Ljava/lang/StringBuilder;" } : Jvm.MethodName) ({ cls := "java/lang/StringBuilder", name := "append", desc := "(C)Ljava/lang/StringBuilder;" } : Jvm.MethodName)) ∈ lw_all := lw_g (lw_at lw_m2 1 rfl) rfl
theorem q305 : (Jvm.Cond.code ({ cls := "java/lang/StringBuilder", name := "append", desc := "(C)Ljava/lang/StringBuilder;" } : Jvm.MethodName) prog_36_method_14_code (2 : Nat) (Option.some (Jvm.ClassFile.FieldType.object "java/lang/StringBuilder"))) ∈ lw_all := lw_g (lw_at lw_m2 2 rfl) rfl
theorem q306 : (Jvm.Cond.methodLink "java/lang/StringBuilder" (50 : Nat) ({ cls := "java/lang/AbstractStringBuilder", name := "append", desc := "(C)Ljava/lang/AbstractStringBuilder;" } : Jvm.MethodName)) ∈ lw_all := lw_g (lw_at lw_m2 3 rfl) rfl
theorem q347 : (Jvm.Cond.selects "java/lang/StringBuilder" ({ cls := "java/lang/AbstractStringBuilder", name := "isLatin1", desc := "()Z" } : Jvm.MethodName) ({ cls := "java/lang/AbstractStringBuilder", name := "isLatin1", desc := "()Z" } : Jvm.MethodName)) ∈ lw_all := lw_g (lw_at lw_m2 44 rfl) rfl
theorem q378 : (Jvm.Cond.instanceMethod ({ cls := "java/lang/StringBuilder", name := "toString", desc := "()Ljava/lang/String;" } : Jvm.MethodName)) ∈ lw_all := lw_g (lw_at lw_m2 75 rfl) rfl
theorem q379 : (Jvm.Cond.selects "java/lang/StringBuilder" ({ cls := "java/lang/StringBuilder", name := "toString", desc := "()Ljava/lang/String;" } : Jvm.MethodName) ({ cls := "java/lang/StringBuilder", name := "toString", desc := "()Ljava/lang/String;" } : Jvm.MethodName)) ∈ lw_all := lw_g (lw_at lw_m2 76 rfl) rfl
theorem q380 : (Jvm.Cond.code ({ cls := "java/lang/StringBuilder", name := "toString", desc := "()Ljava/lang/String;" } : Jvm.MethodName) prog_36_method_42_code (1 : Nat) (Option.some (Jvm.ClassFile.FieldType.object "java/lang/String"))) ∈ lw_all := lw_g (lw_at lw_m2 77 rfl) rfl
theorem q381 : (Jvm.Cond.classLink "java/lang/StringBuilder" (18 : Nat) "java/lang/String") ∈ lw_all := lw_g (lw_at lw_m2 78 rfl) rfl
theorem q383 : (Jvm.Cond.methodLink "java/lang/StringBuilder" (137 : Nat) ({ cls := "java/lang/String", name := "<init>", desc := "(Ljava/lang/StringBuilder;)V" } : Jvm.MethodName)) ∈ lw_all := lw_g (lw_at lw_m2 80 rfl) rfl
theorem q393 : (Jvm.Cond.selects "java/lang/StringBuilder" ({ cls := "java/lang/AbstractStringBuilder", name := "getValue", desc := "()[B" } : Jvm.MethodName) ({ cls := "java/lang/AbstractStringBuilder", name := "getValue", desc := "()[B" } : Jvm.MethodName)) ∈ lw_all := lw_g (lw_at lw_m2 90 rfl) rfl
theorem q912 : (Jvm.Cond.selects "java/lang/StringBuilder" ({ cls := "java/lang/Object", name := "getClass", desc := "()Ljava/lang/Class;" } : Jvm.MethodName) ({ cls := "java/lang/Object", name := "getClass", desc := "()Ljava/lang/Class;" } : Jvm.MethodName)) ∈ lw_all := lw_g (lw_at lw_m4 129 rfl) rfl
theorem q1767 : (Jvm.Cond.selects "java/lang/StringBuilder" ({ cls := "java/lang/AbstractStringBuilder", name := "length", desc := "()I" } : Jvm.MethodName) ({ cls := "java/lang/StringBuilder", name := "length", desc := "()I" } : Jvm.MethodName)) ∈ lw_all := lw_g (lw_at lw_m8 24 rfl) rfl
theorem q1787 : (Jvm.Cond.castable "java/lang/StringBuilder" "java/lang/Object") ∈ lw_tbl := lw_at lw_m8 44 rfl
theorem in_J8 : ∀ w ∈ wsJ80, w ∈ lw_all := lw_in wsJ80 [286, 288, 290, 292] (by decide +kernel) (by decide +kernel)
