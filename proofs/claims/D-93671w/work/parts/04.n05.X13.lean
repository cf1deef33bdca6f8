/-! GateRoad$Sorted -/
set_option maxRecDepth 100000
def RX13 : String := "GateRoad$Sorted"
def TX13 : u_T := fun k => match k with
  | 0 => ("GateRoad$Way", "number", "I", true)
  | 1 => ("GateRoad$Way", "choice", "[B", true)
  | _ => ("GateRoad$Way", "carts", "I", false)
def tyX13 : Nat → FieldType := fun k => match k with
  | 0 => .int
  | 1 => .array .byte
  | _ => .int
abbrev wsX130 : List Cond := u_ws RX13 TX13 3
theorem nmX13 : ∀ a, a < 3 → ∀ b, b < 3 → a ≠ b → (TX13 a).2.1 ≠ (TX13 b).2.1 := by decide +kernel
theorem tyX13_ok : ∀ k, k < 3 → parseFieldDescriptor (TX13 k).2.2.1 = some (tyX13 k) := by decide +kernel
abbrev cX13_init : ByteArray := prog_15_method_1_code
def yX13_init : MethodName := ⟨RX13, "<init>", "(I)V"⟩
def dkwX13_init_0 : List UInt8 := [42, 27, 183, 0, 1, 177]
abbrev dktX13_init_0 : List UInt8 := dkwX13_init_0 ++ []
theorem dksX13_init_0 : cX13_init.data.toList.drop 0 = dktX13_init_0 := by decide +kernel
theorem dX13_init_0 : decode cX13_init 0 = .ok (.aload_n 0, 1) := dk_42 (dk_at dksX13_init_0 0 rfl rfl)
theorem dX13_init_1 : decode cX13_init 1 = .ok (.iload_n 1, 1) := dk_27 (dk_at dksX13_init_0 1 rfl rfl)
theorem dX13_init_2 : decode cX13_init 2 = .ok (.invokespecial 1, 3) := dk_183 0 1 (dk_at dksX13_init_0 2 rfl rfl)
theorem dX13_init_5 : decode cX13_init 5 = .ok (.return_, 1) := dk_177 (dk_at dksX13_init_0 5 rfl rfl)
abbrev cX13_kind : ByteArray := prog_15_method_2_code
def yX13_kind : MethodName := ⟨RX13, "kind", "()I"⟩
def dkwX13_kind_0 : List UInt8 := [42, 183, 0, 7, 7, 96, 172]
abbrev dktX13_kind_0 : List UInt8 := dkwX13_kind_0 ++ []
theorem dksX13_kind_0 : cX13_kind.data.toList.drop 0 = dktX13_kind_0 := by decide +kernel
theorem dX13_kind_0 : decode cX13_kind 0 = .ok (.aload_n 0, 1) := dk_42 (dk_at dksX13_kind_0 0 rfl rfl)
theorem dX13_kind_1 : decode cX13_kind 1 = .ok (.invokespecial 7, 3) := dk_183 0 7 (dk_at dksX13_kind_0 1 rfl rfl)
theorem dX13_kind_4 : decode cX13_kind 4 = .ok (.iconst 4, 1) := dk_7 (dk_at dksX13_kind_0 4 rfl rfl)
theorem dX13_kind_5 : decode cX13_kind 5 = .ok (.iadd, 1) := dk_96 (dk_at dksX13_kind_0 5 rfl rfl)
theorem dX13_kind_6 : decode cX13_kind 6 = .ok (.ireturn, 1) := dk_172 (dk_at dksX13_kind_0 6 rfl rfl)
abbrev cX13_key : ByteArray := prog_15_method_3_code
def yX13_key : MethodName := ⟨RX13, "key", "(III)I"⟩
def dkwX13_key_0 : List UInt8 := [42, 27, 28, 29, 183, 0, 11, 6, 29, 104, 100, 172]
abbrev dktX13_key_0 : List UInt8 := dkwX13_key_0 ++ []
theorem dksX13_key_0 : cX13_key.data.toList.drop 0 = dktX13_key_0 := by decide +kernel
theorem dX13_key_0 : decode cX13_key 0 = .ok (.aload_n 0, 1) := dk_42 (dk_at dksX13_key_0 0 rfl rfl)
theorem dX13_key_1 : decode cX13_key 1 = .ok (.iload_n 1, 1) := dk_27 (dk_at dksX13_key_0 1 rfl rfl)
theorem dX13_key_2 : decode cX13_key 2 = .ok (.iload_n 2, 1) := dk_28 (dk_at dksX13_key_0 2 rfl rfl)
theorem dX13_key_3 : decode cX13_key 3 = .ok (.iload_n 3, 1) := dk_29 (dk_at dksX13_key_0 3 rfl rfl)
theorem dX13_key_4 : decode cX13_key 4 = .ok (.invokespecial 11, 3) := dk_183 0 11 (dk_at dksX13_key_0 4 rfl rfl)
theorem dX13_key_7 : decode cX13_key 7 = .ok (.iconst 3, 1) := dk_6 (dk_at dksX13_key_0 7 rfl rfl)
theorem dX13_key_8 : decode cX13_key 8 = .ok (.iload_n 3, 1) := dk_29 (dk_at dksX13_key_0 8 rfl rfl)
theorem dX13_key_9 : decode cX13_key 9 = .ok (.imul, 1) := dk_104 (dk_at dksX13_key_0 9 rfl rfl)
theorem dX13_key_10 : decode cX13_key 10 = .ok (.isub, 1) := dk_100 (dk_at dksX13_key_0 10 rfl rfl)
theorem dX13_key_11 : decode cX13_key 11 = .ok (.ireturn, 1) := dk_172 (dk_at dksX13_key_0 11 rfl rfl)
abbrev cX13_pays : ByteArray := prog_15_method_4_code
def yX13_pays : MethodName := ⟨RX13, "pays", "(I)I"⟩
def dkwX13_pays_0 : List UInt8 := [42, 27, 183, 0, 15, 5, 108, 172]
abbrev dktX13_pays_0 : List UInt8 := dkwX13_pays_0 ++ []
theorem dksX13_pays_0 : cX13_pays.data.toList.drop 0 = dktX13_pays_0 := by decide +kernel
theorem dX13_pays_0 : decode cX13_pays 0 = .ok (.aload_n 0, 1) := dk_42 (dk_at dksX13_pays_0 0 rfl rfl)
theorem dX13_pays_1 : decode cX13_pays 1 = .ok (.iload_n 1, 1) := dk_27 (dk_at dksX13_pays_0 1 rfl rfl)
theorem dX13_pays_2 : decode cX13_pays 2 = .ok (.invokespecial 15, 3) := dk_183 0 15 (dk_at dksX13_pays_0 2 rfl rfl)
theorem dX13_pays_5 : decode cX13_pays 5 = .ok (.iconst 2, 1) := dk_5 (dk_at dksX13_pays_0 5 rfl rfl)
theorem dX13_pays_6 : decode cX13_pays 6 = .ok (.idiv, 1) := dk_108 (dk_at dksX13_pays_0 6 rfl rfl)
theorem dX13_pays_7 : decode cX13_pays 7 = .ok (.ireturn, 1) := dk_172 (dk_at dksX13_pays_0 7 rfl rfl)
theorem q94 : (Jvm.Cond.initialized "GateRoad$Sorted") ∈ lw_all := lw_g (lw_at lw_m1 31 rfl) rfl
theorem q862 : (Jvm.Cond.instantiable "GateRoad$Sorted" (3 : Nat)) ∈ lw_all := lw_g (lw_at lw_m4 79 rfl) rfl
theorem q864 : (Jvm.Cond.instanceMethod ({ cls := "GateRoad$Sorted", name := "<init>", desc := "(I)V" } : Jvm.MethodName)) ∈ lw_all := lw_g (lw_at lw_m4 81 rfl) rfl
theorem q865 : (Jvm.Cond.code ({ cls := "GateRoad$Sorted", name := "<init>", desc := "(I)V" } : Jvm.MethodName) prog_15_method_1_code (2 : Nat) (Option.none : Option Jvm.ClassFile.FieldType)) ∈ lw_all := lw_g (lw_at lw_m4 82 rfl) rfl
theorem q866 : (Jvm.Cond.methodLink "GateRoad$Sorted" (1 : Nat) ({ cls := "GateRoad$Tolled", name := "<init>", desc := "(I)V" } : Jvm.MethodName)) ∈ lw_all := lw_g (lw_at lw_m4 83 rfl) rfl
theorem q867 : (Jvm.Cond.laysFinal "GateRoad$Sorted" "GateRoad$Way" "number" "I") ∈ lw_all := lw_g (lw_at lw_m4 84 rfl) rfl
theorem q868 : (Jvm.Cond.laysFinal "GateRoad$Sorted" "GateRoad$Way" "choice" "[B") ∈ lw_all := lw_g (lw_at lw_m4 85 rfl) rfl
theorem q869 : (Jvm.Cond.lays "GateRoad$Sorted" "GateRoad$Way" "carts" "I") ∈ lw_all := lw_g (lw_at lw_m4 86 rfl) rfl
theorem q870 : (Jvm.Cond.superclass "GateRoad$Sorted" "GateRoad$Tolled") ∈ lw_all := lw_g (lw_at lw_m4 87 rfl) rfl
theorem q905 : (Jvm.Cond.selects "GateRoad$Sorted" ({ cls := "java/lang/Object", name := "getClass", desc := "()Ljava/lang/Class;" } : Jvm.MethodName) ({ cls := "java/lang/Object", name := "getClass", desc := "()Ljava/lang/Class;" } : Jvm.MethodName)) ∈ lw_all := lw_g (lw_at lw_m4 122 rfl) rfl
theorem q957 : (Jvm.Cond.selects "GateRoad$Sorted" ({ cls := "GateRoad$Way", name := "kind", desc := "()I" } : Jvm.MethodName) ({ cls := "GateRoad$Sorted", name := "kind", desc := "()I" } : Jvm.MethodName)) ∈ lw_all := lw_g (lw_at lw_m4 174 rfl) rfl
theorem q958 : (Jvm.Cond.instanceMethod ({ cls := "GateRoad$Sorted", name := "kind", desc := "()I" } : Jvm.MethodName)) ∈ lw_all := lw_g (lw_at lw_m4 175 rfl) rfl
theorem q959 : (Jvm.Cond.code ({ cls := "GateRoad$Sorted", name := "kind", desc := "()I" } : Jvm.MethodName) prog_15_method_2_code (1 : Nat) (Option.some Jvm.ClassFile.FieldType.int)) ∈ lw_all := lw_g (lw_at lw_m4 176 rfl) rfl
theorem q960 : (Jvm.Cond.methodLink "GateRoad$Sorted" (7 : Nat) ({ cls := "GateRoad$Tolled", name := "kind", desc := "()I" } : Jvm.MethodName)) ∈ lw_all := lw_g (lw_at lw_m4 177 rfl) rfl
theorem q1004 : (Jvm.Cond.selects "GateRoad$Sorted" ({ cls := "GateRoad$Way", name := "key", desc := "(III)I" } : Jvm.MethodName) ({ cls := "GateRoad$Sorted", name := "key", desc := "(III)I" } : Jvm.MethodName)) ∈ lw_all := lw_g (lw_at lw_m4 221 rfl) rfl
theorem q1005 : (Jvm.Cond.instanceMethod ({ cls := "GateRoad$Sorted", name := "key", desc := "(III)I" } : Jvm.MethodName)) ∈ lw_all := lw_g (lw_at lw_m4 222 rfl) rfl
theorem q1006 : (Jvm.Cond.code ({ cls := "GateRoad$Sorted", name := "key", desc := "(III)I" } : Jvm.MethodName) prog_15_method_3_code (4 : Nat) (Option.some Jvm.ClassFile.FieldType.int)) ∈ lw_all := lw_g (lw_at lw_m4 223 rfl) rfl
theorem q1007 : (Jvm.Cond.methodLink "GateRoad$Sorted" (11 : Nat) ({ cls := "GateRoad$Tolled", name := "key", desc := "(III)I" } : Jvm.MethodName)) ∈ lw_all := lw_g (lw_at lw_m4 224 rfl) rfl
theorem q1036 : (Jvm.Cond.selects "GateRoad$Sorted" ({ cls := "GateRoad$Way", name := "pays", desc := "(I)I" } : Jvm.MethodName) ({ cls := "GateRoad$Sorted", name := "pays", desc := "(I)I" } : Jvm.MethodName)) ∈ lw_all := lw_g (lw_at lw_m5 13 rfl) rfl
theorem q1037 : (Jvm.Cond.instanceMethod ({ cls := "GateRoad$Sorted", name := "pays", desc := "(I)I" } : Jvm.MethodName)) ∈ lw_all := lw_g (lw_at lw_m5 14 rfl) rfl
theorem q1038 : (Jvm.Cond.code ({ cls := "GateRoad$Sorted", name := "pays", desc := "(I)I" } : Jvm.MethodName) prog_15_method_4_code (2 : Nat) (Option.some Jvm.ClassFile.FieldType.int)) ∈ lw_all := lw_g (lw_at lw_m5 15 rfl) rfl
theorem q1039 : (Jvm.Cond.methodLink "GateRoad$Sorted" (15 : Nat) ({ cls := "GateRoad$Tolled", name := "pays", desc := "(I)I" } : Jvm.MethodName)) ∈ lw_all := lw_g (lw_at lw_m5 16 rfl) rfl
theorem q1084 : (Jvm.Cond.selects "GateRoad$Sorted" ({ cls := "GateRoad$Way", name := "spares", desc := "(I)I" } : Jvm.MethodName) ({ cls := "GateRoad$Way", name := "spares", desc := "(I)I" } : Jvm.MethodName)) ∈ lw_all := lw_g (lw_at lw_m5 61 rfl) rfl
theorem q1141 : (Jvm.Cond.selects "GateRoad$Sorted" ({ cls := "GateRoad$Way", name := "be", desc := "(LGateRoad$Way;)V" } : Jvm.MethodName) ({ cls := "GateRoad$Way", name := "be", desc := "(LGateRoad$Way;)V" } : Jvm.MethodName)) ∈ lw_all := lw_g (lw_at lw_m5 118 rfl) rfl
theorem q1776 : (Jvm.Cond.castable "GateRoad$Sorted" "GateRoad$Way") ∈ lw_tbl := lw_at lw_m8 33 rfl
theorem q1778 : (Jvm.Cond.castable "GateRoad$Sorted" "GateRoad$Tolled") ∈ lw_tbl := lw_at lw_m8 35 rfl
theorem q1797 : (Jvm.Cond.castable "GateRoad$Sorted" "java/lang/Object") ∈ lw_tbl := lw_at lw_m8 54 rfl
theorem in_X13 : ∀ w ∈ wsX130, w ∈ lw_all := lw_in wsX130 [867, 868, 869] (by decide +kernel) (by decide +kernel)
