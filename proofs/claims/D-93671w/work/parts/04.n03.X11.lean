/-! GateRoad$Drawn -/
set_option maxRecDepth 100000
def RX11 : String := "GateRoad$Drawn"
def TX11 : u_T := fun k => match k with
  | 0 => ("GateRoad$Way", "number", "I", true)
  | 1 => ("GateRoad$Way", "choice", "[B", true)
  | _ => ("GateRoad$Way", "carts", "I", false)
def tyX11 : Nat → FieldType := fun k => match k with
  | 0 => .int
  | 1 => .array .byte
  | _ => .int
abbrev wsX110 : List Cond := u_ws RX11 TX11 3
theorem nmX11 : ∀ a, a < 3 → ∀ b, b < 3 → a ≠ b → (TX11 a).2.1 ≠ (TX11 b).2.1 := by decide +kernel
theorem tyX11_ok : ∀ k, k < 3 → parseFieldDescriptor (TX11 k).2.2.1 = some (tyX11 k) := by decide +kernel
abbrev cX11_init : ByteArray := prog_2_method_1_code
def yX11_init : MethodName := ⟨RX11, "<init>", "(I)V"⟩
def dkwX11_init_0 : List UInt8 := [42, 27, 183, 0, 1, 177]
abbrev dktX11_init_0 : List UInt8 := dkwX11_init_0 ++ []
theorem dksX11_init_0 : cX11_init.data.toList.drop 0 = dktX11_init_0 := by decide +kernel
theorem dX11_init_0 : decode cX11_init 0 = .ok (.aload_n 0, 1) := dk_42 (dk_at dksX11_init_0 0 rfl rfl)
theorem dX11_init_1 : decode cX11_init 1 = .ok (.iload_n 1, 1) := dk_27 (dk_at dksX11_init_0 1 rfl rfl)
theorem dX11_init_2 : decode cX11_init 2 = .ok (.invokespecial 1, 3) := dk_183 0 1 (dk_at dksX11_init_0 2 rfl rfl)
theorem dX11_init_5 : decode cX11_init 5 = .ok (.return_, 1) := dk_177 (dk_at dksX11_init_0 5 rfl rfl)
abbrev cX11_kind : ByteArray := prog_2_method_2_code
def yX11_kind : MethodName := ⟨RX11, "kind", "()I"⟩
def dkwX11_kind_0 : List UInt8 := [42, 183, 0, 7, 4, 96, 172]
abbrev dktX11_kind_0 : List UInt8 := dkwX11_kind_0 ++ []
theorem dksX11_kind_0 : cX11_kind.data.toList.drop 0 = dktX11_kind_0 := by decide +kernel
theorem dX11_kind_0 : decode cX11_kind 0 = .ok (.aload_n 0, 1) := dk_42 (dk_at dksX11_kind_0 0 rfl rfl)
theorem dX11_kind_1 : decode cX11_kind 1 = .ok (.invokespecial 7, 3) := dk_183 0 7 (dk_at dksX11_kind_0 1 rfl rfl)
theorem dX11_kind_4 : decode cX11_kind 4 = .ok (.iconst 1, 1) := dk_4 (dk_at dksX11_kind_0 4 rfl rfl)
theorem dX11_kind_5 : decode cX11_kind 5 = .ok (.iadd, 1) := dk_96 (dk_at dksX11_kind_0 5 rfl rfl)
theorem dX11_kind_6 : decode cX11_kind 6 = .ok (.ireturn, 1) := dk_172 (dk_at dksX11_kind_0 6 rfl rfl)
abbrev cX11_key : ByteArray := prog_2_method_3_code
def yX11_key : MethodName := ⟨RX11, "key", "(III)I"⟩
def dkwX11_key_0 : List UInt8 := [8, 42, 27, 28, 29, 183, 0, 11, 104, 6, 96, 16, 17, 112, 172]
abbrev dktX11_key_0 : List UInt8 := dkwX11_key_0 ++ []
theorem dksX11_key_0 : cX11_key.data.toList.drop 0 = dktX11_key_0 := by decide +kernel
theorem dX11_key_0 : decode cX11_key 0 = .ok (.iconst 5, 1) := dk_8 (dk_at dksX11_key_0 0 rfl rfl)
theorem dX11_key_1 : decode cX11_key 1 = .ok (.aload_n 0, 1) := dk_42 (dk_at dksX11_key_0 1 rfl rfl)
theorem dX11_key_2 : decode cX11_key 2 = .ok (.iload_n 1, 1) := dk_27 (dk_at dksX11_key_0 2 rfl rfl)
theorem dX11_key_3 : decode cX11_key 3 = .ok (.iload_n 2, 1) := dk_28 (dk_at dksX11_key_0 3 rfl rfl)
theorem dX11_key_4 : decode cX11_key 4 = .ok (.iload_n 3, 1) := dk_29 (dk_at dksX11_key_0 4 rfl rfl)
theorem dX11_key_5 : decode cX11_key 5 = .ok (.invokespecial 11, 3) := dk_183 0 11 (dk_at dksX11_key_0 5 rfl rfl)
theorem dX11_key_8 : decode cX11_key 8 = .ok (.imul, 1) := dk_104 (dk_at dksX11_key_0 8 rfl rfl)
theorem dX11_key_9 : decode cX11_key 9 = .ok (.iconst 3, 1) := dk_6 (dk_at dksX11_key_0 9 rfl rfl)
theorem dX11_key_10 : decode cX11_key 10 = .ok (.iadd, 1) := dk_96 (dk_at dksX11_key_0 10 rfl rfl)
theorem dX11_key_11 : decode cX11_key 11 = .ok (.bipush 17, 2) := dk_16 17 (dk_at dksX11_key_0 11 rfl rfl)
theorem dX11_key_13 : decode cX11_key 13 = .ok (.irem, 1) := dk_112 (dk_at dksX11_key_0 13 rfl rfl)
theorem dX11_key_14 : decode cX11_key 14 = .ok (.ireturn, 1) := dk_172 (dk_at dksX11_key_0 14 rfl rfl)
theorem q92 : (Jvm.Cond.initialized "GateRoad$Drawn") ∈ lw_all := lw_g (lw_at lw_m1 29 rfl) rfl
theorem q842 : (Jvm.Cond.instantiable "GateRoad$Drawn" (3 : Nat)) ∈ lw_all := lw_g (lw_at lw_m4 59 rfl) rfl
theorem q844 : (Jvm.Cond.instanceMethod ({ cls := "GateRoad$Drawn", name := "<init>", desc := "(I)V" } : Jvm.MethodName)) ∈ lw_all := lw_g (lw_at lw_m4 61 rfl) rfl
theorem q845 : (Jvm.Cond.code ({ cls := "GateRoad$Drawn", name := "<init>", desc := "(I)V" } : Jvm.MethodName) prog_2_method_1_code (2 : Nat) (Option.none : Option Jvm.ClassFile.FieldType)) ∈ lw_all := lw_g (lw_at lw_m4 62 rfl) rfl
theorem q846 : (Jvm.Cond.methodLink "GateRoad$Drawn" (1 : Nat) ({ cls := "GateRoad$Numbered", name := "<init>", desc := "(I)V" } : Jvm.MethodName)) ∈ lw_all := lw_g (lw_at lw_m4 63 rfl) rfl
theorem q847 : (Jvm.Cond.laysFinal "GateRoad$Drawn" "GateRoad$Way" "number" "I") ∈ lw_all := lw_g (lw_at lw_m4 64 rfl) rfl
theorem q848 : (Jvm.Cond.laysFinal "GateRoad$Drawn" "GateRoad$Way" "choice" "[B") ∈ lw_all := lw_g (lw_at lw_m4 65 rfl) rfl
theorem q849 : (Jvm.Cond.lays "GateRoad$Drawn" "GateRoad$Way" "carts" "I") ∈ lw_all := lw_g (lw_at lw_m4 66 rfl) rfl
theorem q850 : (Jvm.Cond.superclass "GateRoad$Drawn" "GateRoad$Numbered") ∈ lw_all := lw_g (lw_at lw_m4 67 rfl) rfl
theorem q895 : (Jvm.Cond.selects "GateRoad$Drawn" ({ cls := "java/lang/Object", name := "getClass", desc := "()Ljava/lang/Class;" } : Jvm.MethodName) ({ cls := "java/lang/Object", name := "getClass", desc := "()Ljava/lang/Class;" } : Jvm.MethodName)) ∈ lw_all := lw_g (lw_at lw_m4 112 rfl) rfl
theorem q947 : (Jvm.Cond.selects "GateRoad$Drawn" ({ cls := "GateRoad$Way", name := "kind", desc := "()I" } : Jvm.MethodName) ({ cls := "GateRoad$Drawn", name := "kind", desc := "()I" } : Jvm.MethodName)) ∈ lw_all := lw_g (lw_at lw_m4 164 rfl) rfl
theorem q948 : (Jvm.Cond.instanceMethod ({ cls := "GateRoad$Drawn", name := "kind", desc := "()I" } : Jvm.MethodName)) ∈ lw_all := lw_g (lw_at lw_m4 165 rfl) rfl
theorem q949 : (Jvm.Cond.code ({ cls := "GateRoad$Drawn", name := "kind", desc := "()I" } : Jvm.MethodName) prog_2_method_2_code (1 : Nat) (Option.some Jvm.ClassFile.FieldType.int)) ∈ lw_all := lw_g (lw_at lw_m4 166 rfl) rfl
theorem q950 : (Jvm.Cond.methodLink "GateRoad$Drawn" (7 : Nat) ({ cls := "GateRoad$Numbered", name := "kind", desc := "()I" } : Jvm.MethodName)) ∈ lw_all := lw_g (lw_at lw_m4 167 rfl) rfl
theorem q993 : (Jvm.Cond.selects "GateRoad$Drawn" ({ cls := "GateRoad$Way", name := "key", desc := "(III)I" } : Jvm.MethodName) ({ cls := "GateRoad$Drawn", name := "key", desc := "(III)I" } : Jvm.MethodName)) ∈ lw_all := lw_g (lw_at lw_m4 210 rfl) rfl
theorem q994 : (Jvm.Cond.instanceMethod ({ cls := "GateRoad$Drawn", name := "key", desc := "(III)I" } : Jvm.MethodName)) ∈ lw_all := lw_g (lw_at lw_m4 211 rfl) rfl
theorem q995 : (Jvm.Cond.code ({ cls := "GateRoad$Drawn", name := "key", desc := "(III)I" } : Jvm.MethodName) prog_2_method_3_code (4 : Nat) (Option.some Jvm.ClassFile.FieldType.int)) ∈ lw_all := lw_g (lw_at lw_m4 212 rfl) rfl
theorem q996 : (Jvm.Cond.methodLink "GateRoad$Drawn" (11 : Nat) ({ cls := "GateRoad$Numbered", name := "key", desc := "(III)I" } : Jvm.MethodName)) ∈ lw_all := lw_g (lw_at lw_m4 213 rfl) rfl
theorem q1033 : (Jvm.Cond.selects "GateRoad$Drawn" ({ cls := "GateRoad$Way", name := "pays", desc := "(I)I" } : Jvm.MethodName) ({ cls := "GateRoad$Way", name := "pays", desc := "(I)I" } : Jvm.MethodName)) ∈ lw_all := lw_g (lw_at lw_m5 10 rfl) rfl
theorem q1079 : (Jvm.Cond.selects "GateRoad$Drawn" ({ cls := "GateRoad$Way", name := "spares", desc := "(I)I" } : Jvm.MethodName) ({ cls := "GateRoad$Way", name := "spares", desc := "(I)I" } : Jvm.MethodName)) ∈ lw_all := lw_g (lw_at lw_m5 56 rfl) rfl
theorem q1138 : (Jvm.Cond.selects "GateRoad$Drawn" ({ cls := "GateRoad$Way", name := "be", desc := "(LGateRoad$Way;)V" } : Jvm.MethodName) ({ cls := "GateRoad$Way", name := "be", desc := "(LGateRoad$Way;)V" } : Jvm.MethodName)) ∈ lw_all := lw_g (lw_at lw_m5 115 rfl) rfl
theorem q1773 : (Jvm.Cond.castable "GateRoad$Drawn" "GateRoad$Way") ∈ lw_tbl := lw_at lw_m8 30 rfl
theorem q1779 : (Jvm.Cond.castable "GateRoad$Drawn" "GateRoad$Numbered") ∈ lw_tbl := lw_at lw_m8 36 rfl
theorem q1795 : (Jvm.Cond.castable "GateRoad$Drawn" "java/lang/Object") ∈ lw_tbl := lw_at lw_m8 52 rfl
theorem in_X11 : ∀ w ∈ wsX110, w ∈ lw_all := lw_in wsX110 [847, 848, 849] (by decide +kernel) (by decide +kernel)
