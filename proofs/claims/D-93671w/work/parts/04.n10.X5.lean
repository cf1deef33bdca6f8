/-! GateRoad$Leaf -/
set_option maxRecDepth 100000
def RX5 : String := "GateRoad$Leaf"
def TX5 : u_T := fun k => match k with
  | 0 => ("GateRoad$Leaf", "number", "I", true)
  | _ => ("GateRoad$Leaf", "name", "I", true)
def tyX5 : Nat → FieldType := fun k => match k with
  | 0 => .int
  | _ => .int
abbrev wsX50 : List Cond := u_ws RX5 TX5 2
theorem nmX5 : ∀ a, a < 2 → ∀ b, b < 2 → a ≠ b → (TX5 a).2.1 ≠ (TX5 b).2.1 := by decide +kernel
theorem tyX5_ok : ∀ k, k < 2 → parseFieldDescriptor (TX5 k).2.2.1 = some (tyX5 k) := by decide +kernel
abbrev cX5_init : ByteArray := prog_5_method_1_code
def yX5_init : MethodName := ⟨RX5, "<init>", "(II)V"⟩
def dkwX5_init_0 : List UInt8 := [42, 183, 0, 3, 42, 27, 181, 0, 9, 42, 28, 181, 0, 15, 177]
abbrev dktX5_init_0 : List UInt8 := dkwX5_init_0 ++ []
theorem dksX5_init_0 : cX5_init.data.toList.drop 0 = dktX5_init_0 := by decide +kernel
theorem dX5_init_0 : decode cX5_init 0 = .ok (.aload_n 0, 1) := dk_42 (dk_at dksX5_init_0 0 rfl rfl)
theorem dX5_init_1 : decode cX5_init 1 = .ok (.invokespecial 3, 3) := dk_183 0 3 (dk_at dksX5_init_0 1 rfl rfl)
theorem dX5_init_4 : decode cX5_init 4 = .ok (.aload_n 0, 1) := dk_42 (dk_at dksX5_init_0 4 rfl rfl)
theorem dX5_init_5 : decode cX5_init 5 = .ok (.iload_n 1, 1) := dk_27 (dk_at dksX5_init_0 5 rfl rfl)
theorem dX5_init_6 : decode cX5_init 6 = .ok (.putfield 9, 3) := dk_181 0 9 (dk_at dksX5_init_0 6 rfl rfl)
theorem dX5_init_9 : decode cX5_init 9 = .ok (.aload_n 0, 1) := dk_42 (dk_at dksX5_init_0 9 rfl rfl)
theorem dX5_init_10 : decode cX5_init 10 = .ok (.iload_n 2, 1) := dk_28 (dk_at dksX5_init_0 10 rfl rfl)
theorem dX5_init_11 : decode cX5_init 11 = .ok (.putfield 15, 3) := dk_181 0 15 (dk_at dksX5_init_0 11 rfl rfl)
theorem dX5_init_14 : decode cX5_init 14 = .ok (.return_, 1) := dk_177 (dk_at dksX5_init_0 14 rfl rfl)
abbrev cX5_worth : ByteArray := prog_5_method_2_code
def yX5_worth : MethodName := ⟨RX5, "worth", "([I)I"⟩
def dkwX5_worth_0 : List UInt8 := [42, 180, 0, 15, 2, 160, 0, 10, 42, 180, 0, 9, 167, 0, 9, 43, 42, 180, 0, 15, 46, 172]
abbrev dktX5_worth_0 : List UInt8 := dkwX5_worth_0 ++ []
theorem dksX5_worth_0 : cX5_worth.data.toList.drop 0 = dktX5_worth_0 := by decide +kernel
theorem dX5_worth_0 : decode cX5_worth 0 = .ok (.aload_n 0, 1) := dk_42 (dk_at dksX5_worth_0 0 rfl rfl)
theorem dX5_worth_1 : decode cX5_worth 1 = .ok (.getfield 15, 3) := dk_180 0 15 (dk_at dksX5_worth_0 1 rfl rfl)
theorem dX5_worth_4 : decode cX5_worth 4 = .ok (.iconst (-1), 1) := dk_2 (dk_at dksX5_worth_0 4 rfl rfl)
theorem dX5_worth_5 : decode cX5_worth 5 = .ok (.if_icmp .ne 10, 3) := dk_160 0 10 (dk_at dksX5_worth_0 5 rfl rfl)
theorem dX5_worth_8 : decode cX5_worth 8 = .ok (.aload_n 0, 1) := dk_42 (dk_at dksX5_worth_0 8 rfl rfl)
theorem dX5_worth_9 : decode cX5_worth 9 = .ok (.getfield 9, 3) := dk_180 0 9 (dk_at dksX5_worth_0 9 rfl rfl)
theorem dX5_worth_12 : decode cX5_worth 12 = .ok (.goto 9, 3) := dk_167 0 9 (dk_at dksX5_worth_0 12 rfl rfl)
theorem dX5_worth_15 : decode cX5_worth 15 = .ok (.aload_n 1, 1) := dk_43 (dk_at dksX5_worth_0 15 rfl rfl)
theorem dX5_worth_16 : decode cX5_worth 16 = .ok (.aload_n 0, 1) := dk_42 (dk_at dksX5_worth_0 16 rfl rfl)
theorem dX5_worth_17 : decode cX5_worth 17 = .ok (.getfield 15, 3) := dk_180 0 15 (dk_at dksX5_worth_0 17 rfl rfl)
theorem dX5_worth_20 : decode cX5_worth 20 = .ok (.iaload, 1) := dk_46 (dk_at dksX5_worth_0 20 rfl rfl)
theorem dX5_worth_21 : decode cX5_worth 21 = .ok (.ireturn, 1) := dk_172 (dk_at dksX5_worth_0 21 rfl rfl)
theorem q86 : (Jvm.Cond.initialized "GateRoad$Leaf") ∈ lw_all := lw_g (lw_at lw_m1 23 rfl) rfl
theorem q613 : (Jvm.Cond.instantiable "GateRoad$Leaf" (2 : Nat)) ∈ lw_all := lw_g (lw_at lw_m3 70 rfl) rfl
theorem q615 : (Jvm.Cond.instanceMethod ({ cls := "GateRoad$Leaf", name := "<init>", desc := "(II)V" } : Jvm.MethodName)) ∈ lw_all := lw_g (lw_at lw_m3 72 rfl) rfl
theorem q616 : (Jvm.Cond.code ({ cls := "GateRoad$Leaf", name := "<init>", desc := "(II)V" } : Jvm.MethodName) prog_5_method_1_code (3 : Nat) (Option.none : Option Jvm.ClassFile.FieldType)) ∈ lw_all := lw_g (lw_at lw_m3 73 rfl) rfl
theorem q617 : (Jvm.Cond.methodLink "GateRoad$Leaf" (3 : Nat) ({ cls := "java/lang/Object", name := "<init>", desc := "()V" } : Jvm.MethodName)) ∈ lw_all := lw_g (lw_at lw_m3 74 rfl) rfl
theorem q618 : (Jvm.Cond.fieldLink "GateRoad$Leaf" (9 : Nat) "GateRoad$Leaf" "number" "I") ∈ lw_all := lw_g (lw_at lw_m3 75 rfl) rfl
theorem q619 : (Jvm.Cond.fieldLink "GateRoad$Leaf" (15 : Nat) "GateRoad$Leaf" "name" "I") ∈ lw_all := lw_g (lw_at lw_m3 76 rfl) rfl
theorem q620 : (Jvm.Cond.laysFinal "GateRoad$Leaf" "GateRoad$Leaf" "number" "I") ∈ lw_all := lw_g (lw_at lw_m3 77 rfl) rfl
theorem q621 : (Jvm.Cond.soleField "GateRoad$Leaf" "number") ∈ lw_all := lw_g (lw_at lw_m3 78 rfl) rfl
theorem q622 : (Jvm.Cond.laysFinal "GateRoad$Leaf" "GateRoad$Leaf" "name" "I") ∈ lw_all := lw_g (lw_at lw_m3 79 rfl) rfl
theorem q623 : (Jvm.Cond.soleField "GateRoad$Leaf" "name") ∈ lw_all := lw_g (lw_at lw_m3 80 rfl) rfl
theorem q624 : (Jvm.Cond.superclass "GateRoad$Leaf" "java/lang/Object") ∈ lw_all := lw_g (lw_at lw_m3 81 rfl) rfl
theorem q898 : (Jvm.Cond.selects "GateRoad$Leaf" ({ cls := "java/lang/Object", name := "getClass", desc := "()Ljava/lang/Class;" } : Jvm.MethodName) ({ cls := "java/lang/Object", name := "getClass", desc := "()Ljava/lang/Class;" } : Jvm.MethodName)) ∈ lw_all := lw_g (lw_at lw_m4 115 rfl) rfl
theorem q1052 : (Jvm.Cond.castable "GateRoad$Leaf" "GateRoad$Node") ∈ lw_tbl := lw_at lw_m5 29 rfl
theorem q1053 : (Jvm.Cond.selects "GateRoad$Leaf" ({ cls := "GateRoad$Node", name := "worth", desc := "([I)I" } : Jvm.MethodName) ({ cls := "GateRoad$Leaf", name := "worth", desc := "([I)I" } : Jvm.MethodName)) ∈ lw_all := lw_g (lw_at lw_m5 30 rfl) rfl
theorem q1054 : (Jvm.Cond.unhidden "GateRoad$Leaf" "worth" "([I)I") ∈ lw_tbl := lw_at lw_m5 31 rfl
theorem q1055 : (Jvm.Cond.instanceMethod ({ cls := "GateRoad$Leaf", name := "worth", desc := "([I)I" } : Jvm.MethodName)) ∈ lw_all := lw_g (lw_at lw_m5 32 rfl) rfl
theorem q1056 : (Jvm.Cond.publicMethod ({ cls := "GateRoad$Leaf", name := "worth", desc := "([I)I" } : Jvm.MethodName)) ∈ lw_tbl := lw_at lw_m5 33 rfl
theorem q1057 : (Jvm.Cond.code ({ cls := "GateRoad$Leaf", name := "worth", desc := "([I)I" } : Jvm.MethodName) prog_5_method_2_code (2 : Nat) (Option.some Jvm.ClassFile.FieldType.int)) ∈ lw_all := lw_g (lw_at lw_m5 34 rfl) rfl
theorem q1790 : (Jvm.Cond.castable "GateRoad$Leaf" "java/lang/Object") ∈ lw_tbl := lw_at lw_m8 47 rfl
theorem in_X5 : ∀ w ∈ wsX50, w ∈ lw_all := lw_in wsX50 [620, 622] (by decide +kernel) (by decide +kernel)
