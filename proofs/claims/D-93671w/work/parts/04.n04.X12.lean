/-! GateRoad$Last -/
set_option maxRecDepth 100000
def RX12 : String := "GateRoad$Last"
def TX12 : u_T := fun k => match k with
  | 0 => ("GateRoad$Way", "number", "I", true)
  | 1 => ("GateRoad$Way", "choice", "[B", true)
  | _ => ("GateRoad$Way", "carts", "I", false)
def tyX12 : Nat → FieldType := fun k => match k with
  | 0 => .int
  | 1 => .array .byte
  | _ => .int
abbrev wsX120 : List Cond := u_ws RX12 TX12 3
theorem nmX12 : ∀ a, a < 3 → ∀ b, b < 3 → a ≠ b → (TX12 a).2.1 ≠ (TX12 b).2.1 := by decide +kernel
theorem tyX12_ok : ∀ k, k < 3 → parseFieldDescriptor (TX12 k).2.2.1 = some (tyX12 k) := by decide +kernel
abbrev cX12_init : ByteArray := prog_4_method_1_code
def yX12_init : MethodName := ⟨RX12, "<init>", "(I)V"⟩
def dkwX12_init_0 : List UInt8 := [42, 27, 183, 0, 1, 177]
abbrev dktX12_init_0 : List UInt8 := dkwX12_init_0 ++ []
theorem dksX12_init_0 : cX12_init.data.toList.drop 0 = dktX12_init_0 := by decide +kernel
theorem dX12_init_0 : decode cX12_init 0 = .ok (.aload_n 0, 1) := dk_42 (dk_at dksX12_init_0 0 rfl rfl)
theorem dX12_init_1 : decode cX12_init 1 = .ok (.iload_n 1, 1) := dk_27 (dk_at dksX12_init_0 1 rfl rfl)
theorem dX12_init_2 : decode cX12_init 2 = .ok (.invokespecial 1, 3) := dk_183 0 1 (dk_at dksX12_init_0 2 rfl rfl)
theorem dX12_init_5 : decode cX12_init 5 = .ok (.return_, 1) := dk_177 (dk_at dksX12_init_0 5 rfl rfl)
abbrev cX12_kind : ByteArray := prog_4_method_2_code
def yX12_kind : MethodName := ⟨RX12, "kind", "()I"⟩
theorem dX12_kind_0 : decode cX12_kind 0 = .ok (.iconst 4, 1) := by decide +kernel
theorem dX12_kind_1 : decode cX12_kind 1 = .ok (.ireturn, 1) := by decide +kernel
abbrev cX12_key : ByteArray := prog_4_method_3_code
def yX12_key : MethodName := ⟨RX12, "key", "(III)I"⟩
def dkwX12_key_0 : List UInt8 := [42, 27, 28, 29, 183, 0, 7, 116, 172]
abbrev dktX12_key_0 : List UInt8 := dkwX12_key_0 ++ []
theorem dksX12_key_0 : cX12_key.data.toList.drop 0 = dktX12_key_0 := by decide +kernel
theorem dX12_key_0 : decode cX12_key 0 = .ok (.aload_n 0, 1) := dk_42 (dk_at dksX12_key_0 0 rfl rfl)
theorem dX12_key_1 : decode cX12_key 1 = .ok (.iload_n 1, 1) := dk_27 (dk_at dksX12_key_0 1 rfl rfl)
theorem dX12_key_2 : decode cX12_key 2 = .ok (.iload_n 2, 1) := dk_28 (dk_at dksX12_key_0 2 rfl rfl)
theorem dX12_key_3 : decode cX12_key 3 = .ok (.iload_n 3, 1) := dk_29 (dk_at dksX12_key_0 3 rfl rfl)
theorem dX12_key_4 : decode cX12_key 4 = .ok (.invokespecial 7, 3) := dk_183 0 7 (dk_at dksX12_key_0 4 rfl rfl)
theorem dX12_key_7 : decode cX12_key 7 = .ok (.ineg, 1) := dk_116 (dk_at dksX12_key_0 7 rfl rfl)
theorem dX12_key_8 : decode cX12_key 8 = .ok (.ireturn, 1) := dk_172 (dk_at dksX12_key_0 8 rfl rfl)
abbrev cX12_spares : ByteArray := prog_4_method_4_code
def yX12_spares : MethodName := ⟨RX12, "spares", "(I)I"⟩
def dkwX12_spares_0 : List UInt8 := [27, 7, 164, 0, 7, 5, 167, 0, 4, 3, 172]
abbrev dktX12_spares_0 : List UInt8 := dkwX12_spares_0 ++ []
theorem dksX12_spares_0 : cX12_spares.data.toList.drop 0 = dktX12_spares_0 := by decide +kernel
theorem dX12_spares_0 : decode cX12_spares 0 = .ok (.iload_n 1, 1) := dk_27 (dk_at dksX12_spares_0 0 rfl rfl)
theorem dX12_spares_1 : decode cX12_spares 1 = .ok (.iconst 4, 1) := dk_7 (dk_at dksX12_spares_0 1 rfl rfl)
theorem dX12_spares_2 : decode cX12_spares 2 = .ok (.if_icmp .le 7, 3) := dk_164 0 7 (dk_at dksX12_spares_0 2 rfl rfl)
theorem dX12_spares_5 : decode cX12_spares 5 = .ok (.iconst 2, 1) := dk_5 (dk_at dksX12_spares_0 5 rfl rfl)
theorem dX12_spares_6 : decode cX12_spares 6 = .ok (.goto 4, 3) := dk_167 0 4 (dk_at dksX12_spares_0 6 rfl rfl)
theorem dX12_spares_9 : decode cX12_spares 9 = .ok (.iconst 0, 1) := dk_3 (dk_at dksX12_spares_0 9 rfl rfl)
theorem dX12_spares_10 : decode cX12_spares 10 = .ok (.ireturn, 1) := dk_172 (dk_at dksX12_spares_0 10 rfl rfl)
theorem q93 : (Jvm.Cond.initialized "GateRoad$Last") ∈ lw_all := lw_g (lw_at lw_m1 30 rfl) rfl
theorem q852 : (Jvm.Cond.instantiable "GateRoad$Last" (3 : Nat)) ∈ lw_all := lw_g (lw_at lw_m4 69 rfl) rfl
theorem q854 : (Jvm.Cond.instanceMethod ({ cls := "GateRoad$Last", name := "<init>", desc := "(I)V" } : Jvm.MethodName)) ∈ lw_all := lw_g (lw_at lw_m4 71 rfl) rfl
theorem q855 : (Jvm.Cond.code ({ cls := "GateRoad$Last", name := "<init>", desc := "(I)V" } : Jvm.MethodName) prog_4_method_1_code (2 : Nat) (Option.none : Option Jvm.ClassFile.FieldType)) ∈ lw_all := lw_g (lw_at lw_m4 72 rfl) rfl
theorem q856 : (Jvm.Cond.methodLink "GateRoad$Last" (1 : Nat) ({ cls := "GateRoad$Way", name := "<init>", desc := "(I)V" } : Jvm.MethodName)) ∈ lw_all := lw_g (lw_at lw_m4 73 rfl) rfl
theorem q857 : (Jvm.Cond.laysFinal "GateRoad$Last" "GateRoad$Way" "number" "I") ∈ lw_all := lw_g (lw_at lw_m4 74 rfl) rfl
theorem q858 : (Jvm.Cond.laysFinal "GateRoad$Last" "GateRoad$Way" "choice" "[B") ∈ lw_all := lw_g (lw_at lw_m4 75 rfl) rfl
theorem q859 : (Jvm.Cond.lays "GateRoad$Last" "GateRoad$Way" "carts" "I") ∈ lw_all := lw_g (lw_at lw_m4 76 rfl) rfl
theorem q860 : (Jvm.Cond.superclass "GateRoad$Last" "GateRoad$Way") ∈ lw_all := lw_g (lw_at lw_m4 77 rfl) rfl
theorem q897 : (Jvm.Cond.selects "GateRoad$Last" ({ cls := "java/lang/Object", name := "getClass", desc := "()Ljava/lang/Class;" } : Jvm.MethodName) ({ cls := "java/lang/Object", name := "getClass", desc := "()Ljava/lang/Class;" } : Jvm.MethodName)) ∈ lw_all := lw_g (lw_at lw_m4 114 rfl) rfl
theorem q953 : (Jvm.Cond.selects "GateRoad$Last" ({ cls := "GateRoad$Way", name := "kind", desc := "()I" } : Jvm.MethodName) ({ cls := "GateRoad$Last", name := "kind", desc := "()I" } : Jvm.MethodName)) ∈ lw_all := lw_g (lw_at lw_m4 170 rfl) rfl
theorem q954 : (Jvm.Cond.instanceMethod ({ cls := "GateRoad$Last", name := "kind", desc := "()I" } : Jvm.MethodName)) ∈ lw_all := lw_g (lw_at lw_m4 171 rfl) rfl
theorem q955 : (Jvm.Cond.code ({ cls := "GateRoad$Last", name := "kind", desc := "()I" } : Jvm.MethodName) prog_4_method_2_code (1 : Nat) (Option.some Jvm.ClassFile.FieldType.int)) ∈ lw_all := lw_g (lw_at lw_m4 172 rfl) rfl
theorem q999 : (Jvm.Cond.selects "GateRoad$Last" ({ cls := "GateRoad$Way", name := "key", desc := "(III)I" } : Jvm.MethodName) ({ cls := "GateRoad$Last", name := "key", desc := "(III)I" } : Jvm.MethodName)) ∈ lw_all := lw_g (lw_at lw_m4 216 rfl) rfl
theorem q1000 : (Jvm.Cond.instanceMethod ({ cls := "GateRoad$Last", name := "key", desc := "(III)I" } : Jvm.MethodName)) ∈ lw_all := lw_g (lw_at lw_m4 217 rfl) rfl
theorem q1001 : (Jvm.Cond.code ({ cls := "GateRoad$Last", name := "key", desc := "(III)I" } : Jvm.MethodName) prog_4_method_3_code (4 : Nat) (Option.some Jvm.ClassFile.FieldType.int)) ∈ lw_all := lw_g (lw_at lw_m4 218 rfl) rfl
theorem q1002 : (Jvm.Cond.methodLink "GateRoad$Last" (7 : Nat) ({ cls := "GateRoad$Way", name := "key", desc := "(III)I" } : Jvm.MethodName)) ∈ lw_all := lw_g (lw_at lw_m4 219 rfl) rfl
theorem q1034 : (Jvm.Cond.selects "GateRoad$Last" ({ cls := "GateRoad$Way", name := "pays", desc := "(I)I" } : Jvm.MethodName) ({ cls := "GateRoad$Way", name := "pays", desc := "(I)I" } : Jvm.MethodName)) ∈ lw_all := lw_g (lw_at lw_m5 11 rfl) rfl
theorem q1080 : (Jvm.Cond.selects "GateRoad$Last" ({ cls := "GateRoad$Way", name := "spares", desc := "(I)I" } : Jvm.MethodName) ({ cls := "GateRoad$Last", name := "spares", desc := "(I)I" } : Jvm.MethodName)) ∈ lw_all := lw_g (lw_at lw_m5 57 rfl) rfl
theorem q1081 : (Jvm.Cond.instanceMethod ({ cls := "GateRoad$Last", name := "spares", desc := "(I)I" } : Jvm.MethodName)) ∈ lw_all := lw_g (lw_at lw_m5 58 rfl) rfl
theorem q1082 : (Jvm.Cond.code ({ cls := "GateRoad$Last", name := "spares", desc := "(I)I" } : Jvm.MethodName) prog_4_method_4_code (2 : Nat) (Option.some Jvm.ClassFile.FieldType.int)) ∈ lw_all := lw_g (lw_at lw_m5 59 rfl) rfl
theorem q1139 : (Jvm.Cond.selects "GateRoad$Last" ({ cls := "GateRoad$Way", name := "be", desc := "(LGateRoad$Way;)V" } : Jvm.MethodName) ({ cls := "GateRoad$Way", name := "be", desc := "(LGateRoad$Way;)V" } : Jvm.MethodName)) ∈ lw_all := lw_g (lw_at lw_m5 116 rfl) rfl
theorem q1774 : (Jvm.Cond.castable "GateRoad$Last" "GateRoad$Way") ∈ lw_tbl := lw_at lw_m8 31 rfl
theorem q1796 : (Jvm.Cond.castable "GateRoad$Last" "java/lang/Object") ∈ lw_tbl := lw_at lw_m8 53 rfl
theorem in_X12 : ∀ w ∈ wsX120, w ∈ lw_all := lw_in wsX120 [857, 858, 859] (by decide +kernel) (by decide +kernel)
