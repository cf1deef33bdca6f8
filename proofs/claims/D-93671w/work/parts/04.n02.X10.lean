/-! GateRoad$Numbered -/
set_option maxRecDepth 100000
def RX10 : String := "GateRoad$Numbered"
def TX10 : u_T := fun k => match k with
  | 0 => ("GateRoad$Way", "number", "I", true)
  | 1 => ("GateRoad$Way", "choice", "[B", true)
  | _ => ("GateRoad$Way", "carts", "I", false)
def tyX10 : Nat → FieldType := fun k => match k with
  | 0 => .int
  | 1 => .array .byte
  | _ => .int
abbrev wsX100 : List Cond := u_ws RX10 TX10 3
theorem nmX10 : ∀ a, a < 3 → ∀ b, b < 3 → a ≠ b → (TX10 a).2.1 ≠ (TX10 b).2.1 := by decide +kernel
theorem tyX10_ok : ∀ k, k < 3 → parseFieldDescriptor (TX10 k).2.2.1 = some (tyX10 k) := by decide +kernel
abbrev cX10_init : ByteArray := prog_7_method_1_code
def yX10_init : MethodName := ⟨RX10, "<init>", "(I)V"⟩
def dkwX10_init_0 : List UInt8 := [42, 27, 183, 0, 1, 177]
abbrev dktX10_init_0 : List UInt8 := dkwX10_init_0 ++ []
theorem dksX10_init_0 : cX10_init.data.toList.drop 0 = dktX10_init_0 := by decide +kernel
theorem dX10_init_0 : decode cX10_init 0 = .ok (.aload_n 0, 1) := dk_42 (dk_at dksX10_init_0 0 rfl rfl)
theorem dX10_init_1 : decode cX10_init 1 = .ok (.iload_n 1, 1) := dk_27 (dk_at dksX10_init_0 1 rfl rfl)
theorem dX10_init_2 : decode cX10_init 2 = .ok (.invokespecial 1, 3) := dk_183 0 1 (dk_at dksX10_init_0 2 rfl rfl)
theorem dX10_init_5 : decode cX10_init 5 = .ok (.return_, 1) := dk_177 (dk_at dksX10_init_0 5 rfl rfl)
abbrev cX10_kind : ByteArray := prog_7_method_2_code
def yX10_kind : MethodName := ⟨RX10, "kind", "()I"⟩
theorem dX10_kind_0 : decode cX10_kind 0 = .ok (.iconst 2, 1) := by decide +kernel
theorem dX10_kind_1 : decode cX10_kind 1 = .ok (.ireturn, 1) := by decide +kernel
abbrev cX10_key : ByteArray := prog_7_method_3_code
def yX10_key : MethodName := ⟨RX10, "key", "(III)I"⟩
theorem dX10_key_0 : decode cX10_key 0 = .ok (.iload_n 1, 1) := by decide +kernel
theorem dX10_key_1 : decode cX10_key 1 = .ok (.ireturn, 1) := by decide +kernel
theorem q91 : (Jvm.Cond.initialized "GateRoad$Numbered") ∈ lw_all := lw_g (lw_at lw_m1 28 rfl) rfl
theorem q832 : (Jvm.Cond.instantiable "GateRoad$Numbered" (3 : Nat)) ∈ lw_all := lw_g (lw_at lw_m4 49 rfl) rfl
theorem q834 : (Jvm.Cond.instanceMethod ({ cls := "GateRoad$Numbered", name := "<init>", desc := "(I)V" } : Jvm.MethodName)) ∈ lw_all := lw_g (lw_at lw_m4 51 rfl) rfl
theorem q835 : (Jvm.Cond.code ({ cls := "GateRoad$Numbered", name := "<init>", desc := "(I)V" } : Jvm.MethodName) prog_7_method_1_code (2 : Nat) (Option.none : Option Jvm.ClassFile.FieldType)) ∈ lw_all := lw_g (lw_at lw_m4 52 rfl) rfl
theorem q836 : (Jvm.Cond.methodLink "GateRoad$Numbered" (1 : Nat) ({ cls := "GateRoad$Way", name := "<init>", desc := "(I)V" } : Jvm.MethodName)) ∈ lw_all := lw_g (lw_at lw_m4 53 rfl) rfl
theorem q837 : (Jvm.Cond.laysFinal "GateRoad$Numbered" "GateRoad$Way" "number" "I") ∈ lw_all := lw_g (lw_at lw_m4 54 rfl) rfl
theorem q838 : (Jvm.Cond.laysFinal "GateRoad$Numbered" "GateRoad$Way" "choice" "[B") ∈ lw_all := lw_g (lw_at lw_m4 55 rfl) rfl
theorem q839 : (Jvm.Cond.lays "GateRoad$Numbered" "GateRoad$Way" "carts" "I") ∈ lw_all := lw_g (lw_at lw_m4 56 rfl) rfl
theorem q840 : (Jvm.Cond.superclass "GateRoad$Numbered" "GateRoad$Way") ∈ lw_all := lw_g (lw_at lw_m4 57 rfl) rfl
theorem q899 : (Jvm.Cond.selects "GateRoad$Numbered" ({ cls := "java/lang/Object", name := "getClass", desc := "()Ljava/lang/Class;" } : Jvm.MethodName) ({ cls := "java/lang/Object", name := "getClass", desc := "()Ljava/lang/Class;" } : Jvm.MethodName)) ∈ lw_all := lw_g (lw_at lw_m4 116 rfl) rfl
theorem q951 : (Jvm.Cond.instanceMethod ({ cls := "GateRoad$Numbered", name := "kind", desc := "()I" } : Jvm.MethodName)) ∈ lw_all := lw_g (lw_at lw_m4 168 rfl) rfl
theorem q952 : (Jvm.Cond.code ({ cls := "GateRoad$Numbered", name := "kind", desc := "()I" } : Jvm.MethodName) prog_7_method_2_code (1 : Nat) (Option.some Jvm.ClassFile.FieldType.int)) ∈ lw_all := lw_g (lw_at lw_m4 169 rfl) rfl
theorem q956 : (Jvm.Cond.selects "GateRoad$Numbered" ({ cls := "GateRoad$Way", name := "kind", desc := "()I" } : Jvm.MethodName) ({ cls := "GateRoad$Numbered", name := "kind", desc := "()I" } : Jvm.MethodName)) ∈ lw_all := lw_g (lw_at lw_m4 173 rfl) rfl
theorem q997 : (Jvm.Cond.instanceMethod ({ cls := "GateRoad$Numbered", name := "key", desc := "(III)I" } : Jvm.MethodName)) ∈ lw_all := lw_g (lw_at lw_m4 214 rfl) rfl
theorem q998 : (Jvm.Cond.code ({ cls := "GateRoad$Numbered", name := "key", desc := "(III)I" } : Jvm.MethodName) prog_7_method_3_code (4 : Nat) (Option.some Jvm.ClassFile.FieldType.int)) ∈ lw_all := lw_g (lw_at lw_m4 215 rfl) rfl
theorem q1003 : (Jvm.Cond.selects "GateRoad$Numbered" ({ cls := "GateRoad$Way", name := "key", desc := "(III)I" } : Jvm.MethodName) ({ cls := "GateRoad$Numbered", name := "key", desc := "(III)I" } : Jvm.MethodName)) ∈ lw_all := lw_g (lw_at lw_m4 220 rfl) rfl
theorem q1035 : (Jvm.Cond.selects "GateRoad$Numbered" ({ cls := "GateRoad$Way", name := "pays", desc := "(I)I" } : Jvm.MethodName) ({ cls := "GateRoad$Way", name := "pays", desc := "(I)I" } : Jvm.MethodName)) ∈ lw_all := lw_g (lw_at lw_m5 12 rfl) rfl
theorem q1083 : (Jvm.Cond.selects "GateRoad$Numbered" ({ cls := "GateRoad$Way", name := "spares", desc := "(I)I" } : Jvm.MethodName) ({ cls := "GateRoad$Way", name := "spares", desc := "(I)I" } : Jvm.MethodName)) ∈ lw_all := lw_g (lw_at lw_m5 60 rfl) rfl
theorem q1140 : (Jvm.Cond.selects "GateRoad$Numbered" ({ cls := "GateRoad$Way", name := "be", desc := "(LGateRoad$Way;)V" } : Jvm.MethodName) ({ cls := "GateRoad$Way", name := "be", desc := "(LGateRoad$Way;)V" } : Jvm.MethodName)) ∈ lw_all := lw_g (lw_at lw_m5 117 rfl) rfl
theorem q1769 : (Jvm.Cond.sameMethod "GateRoad$Numbered" "GateRoad$Numbered" "kind" "()I") ∈ lw_all := lw_g (lw_at lw_m8 26 rfl) rfl
theorem q1771 : (Jvm.Cond.sameMethod "GateRoad$Numbered" "GateRoad$Numbered" "key" "(III)I") ∈ lw_all := lw_g (lw_at lw_m8 28 rfl) rfl
theorem q1775 : (Jvm.Cond.castable "GateRoad$Numbered" "GateRoad$Way") ∈ lw_tbl := lw_at lw_m8 32 rfl
theorem q1794 : (Jvm.Cond.castable "GateRoad$Numbered" "java/lang/Object") ∈ lw_tbl := lw_at lw_m8 51 rfl
theorem in_X10 : ∀ w ∈ wsX100, w ∈ lw_all := lw_in wsX100 [837, 838, 839] (by decide +kernel) (by decide +kernel)
