/-! GateRoad$Tolled -/
set_option maxRecDepth 100000
def RX9 : String := "GateRoad$Tolled"
def TX9 : u_T := fun k => match k with
  | 0 => ("GateRoad$Way", "number", "I", true)
  | 1 => ("GateRoad$Way", "choice", "[B", true)
  | _ => ("GateRoad$Way", "carts", "I", false)
def tyX9 : Nat → FieldType := fun k => match k with
  | 0 => .int
  | 1 => .array .byte
  | _ => .int
abbrev wsX90 : List Cond := u_ws RX9 TX9 3
theorem nmX9 : ∀ a, a < 3 → ∀ b, b < 3 → a ≠ b → (TX9 a).2.1 ≠ (TX9 b).2.1 := by decide +kernel
theorem tyX9_ok : ∀ k, k < 3 → parseFieldDescriptor (TX9 k).2.2.1 = some (tyX9 k) := by decide +kernel
abbrev cX9_init : ByteArray := prog_16_method_1_code
def yX9_init : MethodName := ⟨RX9, "<init>", "(I)V"⟩
def dkwX9_init_0 : List UInt8 := [42, 27, 183, 0, 1, 177]
abbrev dktX9_init_0 : List UInt8 := dkwX9_init_0 ++ []
theorem dksX9_init_0 : cX9_init.data.toList.drop 0 = dktX9_init_0 := by decide +kernel
theorem dX9_init_0 : decode cX9_init 0 = .ok (.aload_n 0, 1) := dk_42 (dk_at dksX9_init_0 0 rfl rfl)
theorem dX9_init_1 : decode cX9_init 1 = .ok (.iload_n 1, 1) := dk_27 (dk_at dksX9_init_0 1 rfl rfl)
theorem dX9_init_2 : decode cX9_init 2 = .ok (.invokespecial 1, 3) := dk_183 0 1 (dk_at dksX9_init_0 2 rfl rfl)
theorem dX9_init_5 : decode cX9_init 5 = .ok (.return_, 1) := dk_177 (dk_at dksX9_init_0 5 rfl rfl)
abbrev cX9_kind : ByteArray := prog_16_method_2_code
def yX9_kind : MethodName := ⟨RX9, "kind", "()I"⟩
theorem dX9_kind_0 : decode cX9_kind 0 = .ok (.iconst 1, 1) := by decide +kernel
theorem dX9_kind_1 : decode cX9_kind 1 = .ok (.ireturn, 1) := by decide +kernel
abbrev cX9_pays : ByteArray := prog_16_method_3_code
def yX9_pays : MethodName := ⟨RX9, "pays", "(I)I"⟩
theorem dX9_pays_0 : decode cX9_pays 0 = .ok (.iload_n 1, 1) := by decide +kernel
theorem dX9_pays_1 : decode cX9_pays 1 = .ok (.ireturn, 1) := by decide +kernel
theorem q90 : (Jvm.Cond.initialized "GateRoad$Tolled") ∈ lw_all := lw_g (lw_at lw_m1 27 rfl) rfl
theorem q822 : (Jvm.Cond.instantiable "GateRoad$Tolled" (3 : Nat)) ∈ lw_all := lw_g (lw_at lw_m4 39 rfl) rfl
theorem q824 : (Jvm.Cond.instanceMethod ({ cls := "GateRoad$Tolled", name := "<init>", desc := "(I)V" } : Jvm.MethodName)) ∈ lw_all := lw_g (lw_at lw_m4 41 rfl) rfl
theorem q825 : (Jvm.Cond.code ({ cls := "GateRoad$Tolled", name := "<init>", desc := "(I)V" } : Jvm.MethodName) prog_16_method_1_code (2 : Nat) (Option.none : Option Jvm.ClassFile.FieldType)) ∈ lw_all := lw_g (lw_at lw_m4 42 rfl) rfl
theorem q826 : (Jvm.Cond.methodLink "GateRoad$Tolled" (1 : Nat) ({ cls := "GateRoad$Way", name := "<init>", desc := "(I)V" } : Jvm.MethodName)) ∈ lw_all := lw_g (lw_at lw_m4 43 rfl) rfl
theorem q827 : (Jvm.Cond.laysFinal "GateRoad$Tolled" "GateRoad$Way" "number" "I") ∈ lw_all := lw_g (lw_at lw_m4 44 rfl) rfl
theorem q828 : (Jvm.Cond.laysFinal "GateRoad$Tolled" "GateRoad$Way" "choice" "[B") ∈ lw_all := lw_g (lw_at lw_m4 45 rfl) rfl
theorem q829 : (Jvm.Cond.lays "GateRoad$Tolled" "GateRoad$Way" "carts" "I") ∈ lw_all := lw_g (lw_at lw_m4 46 rfl) rfl
theorem q830 : (Jvm.Cond.superclass "GateRoad$Tolled" "GateRoad$Way") ∈ lw_all := lw_g (lw_at lw_m4 47 rfl) rfl
theorem q906 : (Jvm.Cond.selects "GateRoad$Tolled" ({ cls := "java/lang/Object", name := "getClass", desc := "()Ljava/lang/Class;" } : Jvm.MethodName) ({ cls := "java/lang/Object", name := "getClass", desc := "()Ljava/lang/Class;" } : Jvm.MethodName)) ∈ lw_all := lw_g (lw_at lw_m4 123 rfl) rfl
theorem q961 : (Jvm.Cond.instanceMethod ({ cls := "GateRoad$Tolled", name := "kind", desc := "()I" } : Jvm.MethodName)) ∈ lw_all := lw_g (lw_at lw_m4 178 rfl) rfl
theorem q962 : (Jvm.Cond.code ({ cls := "GateRoad$Tolled", name := "kind", desc := "()I" } : Jvm.MethodName) prog_16_method_2_code (1 : Nat) (Option.some Jvm.ClassFile.FieldType.int)) ∈ lw_all := lw_g (lw_at lw_m4 179 rfl) rfl
theorem q963 : (Jvm.Cond.selects "GateRoad$Tolled" ({ cls := "GateRoad$Way", name := "kind", desc := "()I" } : Jvm.MethodName) ({ cls := "GateRoad$Tolled", name := "kind", desc := "()I" } : Jvm.MethodName)) ∈ lw_all := lw_g (lw_at lw_m4 180 rfl) rfl
theorem q1008 : (Jvm.Cond.sameMethod "GateRoad$Tolled" "GateRoad$Way" "key" "(III)I") ∈ lw_all := lw_g (lw_at lw_m4 225 rfl) rfl
theorem q1010 : (Jvm.Cond.selects "GateRoad$Tolled" ({ cls := "GateRoad$Way", name := "key", desc := "(III)I" } : Jvm.MethodName) ({ cls := "GateRoad$Way", name := "key", desc := "(III)I" } : Jvm.MethodName)) ∈ lw_all := lw_g (lw_at lw_m4 227 rfl) rfl
theorem q1040 : (Jvm.Cond.instanceMethod ({ cls := "GateRoad$Tolled", name := "pays", desc := "(I)I" } : Jvm.MethodName)) ∈ lw_all := lw_g (lw_at lw_m5 17 rfl) rfl
theorem q1041 : (Jvm.Cond.code ({ cls := "GateRoad$Tolled", name := "pays", desc := "(I)I" } : Jvm.MethodName) prog_16_method_3_code (2 : Nat) (Option.some Jvm.ClassFile.FieldType.int)) ∈ lw_all := lw_g (lw_at lw_m5 18 rfl) rfl
theorem q1042 : (Jvm.Cond.selects "GateRoad$Tolled" ({ cls := "GateRoad$Way", name := "pays", desc := "(I)I" } : Jvm.MethodName) ({ cls := "GateRoad$Tolled", name := "pays", desc := "(I)I" } : Jvm.MethodName)) ∈ lw_all := lw_g (lw_at lw_m5 19 rfl) rfl
theorem q1085 : (Jvm.Cond.selects "GateRoad$Tolled" ({ cls := "GateRoad$Way", name := "spares", desc := "(I)I" } : Jvm.MethodName) ({ cls := "GateRoad$Way", name := "spares", desc := "(I)I" } : Jvm.MethodName)) ∈ lw_all := lw_g (lw_at lw_m5 62 rfl) rfl
theorem q1142 : (Jvm.Cond.selects "GateRoad$Tolled" ({ cls := "GateRoad$Way", name := "be", desc := "(LGateRoad$Way;)V" } : Jvm.MethodName) ({ cls := "GateRoad$Way", name := "be", desc := "(LGateRoad$Way;)V" } : Jvm.MethodName)) ∈ lw_all := lw_g (lw_at lw_m5 119 rfl) rfl
theorem q1770 : (Jvm.Cond.sameMethod "GateRoad$Tolled" "GateRoad$Tolled" "kind" "()I") ∈ lw_all := lw_g (lw_at lw_m8 27 rfl) rfl
theorem q1772 : (Jvm.Cond.sameMethod "GateRoad$Tolled" "GateRoad$Tolled" "pays" "(I)I") ∈ lw_all := lw_g (lw_at lw_m8 29 rfl) rfl
theorem q1777 : (Jvm.Cond.castable "GateRoad$Tolled" "GateRoad$Way") ∈ lw_tbl := lw_at lw_m8 34 rfl
theorem q1793 : (Jvm.Cond.castable "GateRoad$Tolled" "java/lang/Object") ∈ lw_tbl := lw_at lw_m8 50 rfl
theorem in_X9 : ∀ w ∈ wsX90, w ∈ lw_all := lw_in wsX90 [827, 828, 829] (by decide +kernel) (by decide +kernel)
