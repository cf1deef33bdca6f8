/-! GateRoad$One -/
set_option maxRecDepth 100000
def RX4 : String := "GateRoad$One"
def TX4 : u_T := fun k => match k with
  | 0 => ("GateRoad$One", "isNot", "Z", true)
  | _ => ("GateRoad$One", "a", "LGateRoad$Node;", true)
def tyX4 : Nat → FieldType := fun k => match k with
  | 0 => .boolean
  | _ => .object "GateRoad$Node"
abbrev wsX40 : List Cond := u_ws RX4 TX4 2
theorem nmX4 : ∀ a, a < 2 → ∀ b, b < 2 → a ≠ b → (TX4 a).2.1 ≠ (TX4 b).2.1 := by decide +kernel
theorem tyX4_ok : ∀ k, k < 2 → parseFieldDescriptor (TX4 k).2.2.1 = some (tyX4 k) := by decide +kernel
abbrev cX4_init : ByteArray := prog_9_method_1_code
def yX4_init : MethodName := ⟨RX4, "<init>", "(ZLGateRoad$Node;)V"⟩
def dkwX4_init_0 : List UInt8 := [42, 183, 0, 1, 42, 27, 181, 0, 7, 42, 44, 181, 0, 13, 177]
abbrev dktX4_init_0 : List UInt8 := dkwX4_init_0 ++ []
theorem dksX4_init_0 : cX4_init.data.toList.drop 0 = dktX4_init_0 := by decide +kernel
theorem dX4_init_0 : decode cX4_init 0 = .ok (.aload_n 0, 1) := dk_42 (dk_at dksX4_init_0 0 rfl rfl)
theorem dX4_init_1 : decode cX4_init 1 = .ok (.invokespecial 1, 3) := dk_183 0 1 (dk_at dksX4_init_0 1 rfl rfl)
theorem dX4_init_4 : decode cX4_init 4 = .ok (.aload_n 0, 1) := dk_42 (dk_at dksX4_init_0 4 rfl rfl)
theorem dX4_init_5 : decode cX4_init 5 = .ok (.iload_n 1, 1) := dk_27 (dk_at dksX4_init_0 5 rfl rfl)
theorem dX4_init_6 : decode cX4_init 6 = .ok (.putfield 7, 3) := dk_181 0 7 (dk_at dksX4_init_0 6 rfl rfl)
theorem dX4_init_9 : decode cX4_init 9 = .ok (.aload_n 0, 1) := dk_42 (dk_at dksX4_init_0 9 rfl rfl)
theorem dX4_init_10 : decode cX4_init 10 = .ok (.aload_n 2, 1) := dk_44 (dk_at dksX4_init_0 10 rfl rfl)
theorem dX4_init_11 : decode cX4_init 11 = .ok (.putfield 13, 3) := dk_181 0 13 (dk_at dksX4_init_0 11 rfl rfl)
theorem dX4_init_14 : decode cX4_init 14 = .ok (.return_, 1) := dk_177 (dk_at dksX4_init_0 14 rfl rfl)
abbrev cX4_worth : ByteArray := prog_9_method_2_code
def yX4_worth : MethodName := ⟨RX4, "worth", "([I)I"⟩
def dkwX4_worth_1 : List UInt8 := [154, 0, 7, 4, 167, 0, 4, 3, 172]
abbrev dktX4_worth_1 : List UInt8 := dkwX4_worth_1 ++ []
def dkwX4_worth_0 : List UInt8 := [42, 180, 0, 13, 43, 185, 0, 17, 2, 0, 61, 42, 180, 0, 7, 154, 0, 8, 28, 116, 167, 0, 12, 28]
abbrev dktX4_worth_0 : List UInt8 := dkwX4_worth_0 ++ dktX4_worth_1
theorem dksX4_worth_0 : cX4_worth.data.toList.drop 0 = dktX4_worth_0 := by decide +kernel
theorem dksX4_worth_1 : cX4_worth.data.toList.drop 24 = dktX4_worth_1 := dk_seg dksX4_worth_0 24 rfl rfl
theorem dX4_worth_0 : decode cX4_worth 0 = .ok (.aload_n 0, 1) := dk_42 (dk_at dksX4_worth_0 0 rfl rfl)
theorem dX4_worth_1 : decode cX4_worth 1 = .ok (.getfield 13, 3) := dk_180 0 13 (dk_at dksX4_worth_0 1 rfl rfl)
theorem dX4_worth_4 : decode cX4_worth 4 = .ok (.aload_n 1, 1) := dk_43 (dk_at dksX4_worth_0 4 rfl rfl)
theorem dX4_worth_5 : decode cX4_worth 5 = .ok (.invokeinterface 17 2, 5) := by decide +kernel
theorem dX4_worth_10 : decode cX4_worth 10 = .ok (.istore_n 2, 1) := dk_61 (dk_at dksX4_worth_0 10 rfl rfl)
theorem dX4_worth_11 : decode cX4_worth 11 = .ok (.aload_n 0, 1) := dk_42 (dk_at dksX4_worth_0 11 rfl rfl)
theorem dX4_worth_12 : decode cX4_worth 12 = .ok (.getfield 7, 3) := dk_180 0 7 (dk_at dksX4_worth_0 12 rfl rfl)
theorem dX4_worth_15 : decode cX4_worth 15 = .ok (.ifCond .ne 8, 3) := dk_154 0 8 (dk_at dksX4_worth_0 15 rfl rfl)
theorem dX4_worth_18 : decode cX4_worth 18 = .ok (.iload_n 2, 1) := dk_28 (dk_at dksX4_worth_0 18 rfl rfl)
theorem dX4_worth_19 : decode cX4_worth 19 = .ok (.ineg, 1) := dk_116 (dk_at dksX4_worth_0 19 rfl rfl)
theorem dX4_worth_20 : decode cX4_worth 20 = .ok (.goto 12, 3) := dk_167 0 12 (dk_at dksX4_worth_0 20 rfl rfl)
theorem dX4_worth_23 : decode cX4_worth 23 = .ok (.iload_n 2, 1) := dk_28 (dk_at dksX4_worth_0 23 rfl rfl)
theorem dX4_worth_24 : decode cX4_worth 24 = .ok (.ifCond .ne 7, 3) := dk_154 0 7 (dk_at dksX4_worth_1 0 rfl rfl)
theorem dX4_worth_27 : decode cX4_worth 27 = .ok (.iconst 1, 1) := dk_4 (dk_at dksX4_worth_1 3 rfl rfl)
theorem dX4_worth_28 : decode cX4_worth 28 = .ok (.goto 4, 3) := dk_167 0 4 (dk_at dksX4_worth_1 4 rfl rfl)
theorem dX4_worth_31 : decode cX4_worth 31 = .ok (.iconst 0, 1) := dk_3 (dk_at dksX4_worth_1 7 rfl rfl)
theorem dX4_worth_32 : decode cX4_worth 32 = .ok (.ireturn, 1) := dk_172 (dk_at dksX4_worth_1 8 rfl rfl)
theorem q85 : (Jvm.Cond.initialized "GateRoad$One") ∈ lw_all := lw_g (lw_at lw_m1 22 rfl) rfl
theorem q588 : (Jvm.Cond.instantiable "GateRoad$One" (2 : Nat)) ∈ lw_all := lw_g (lw_at lw_m3 45 rfl) rfl
theorem q590 : (Jvm.Cond.instanceMethod ({ cls := "GateRoad$One", name := "<init>", desc := "(ZLGateRoad$Node;)V" } : Jvm.MethodName)) ∈ lw_all := lw_g (lw_at lw_m3 47 rfl) rfl
theorem q591 : (Jvm.Cond.code ({ cls := "GateRoad$One", name := "<init>", desc := "(ZLGateRoad$Node;)V" } : Jvm.MethodName) prog_9_method_1_code (3 : Nat) (Option.none : Option Jvm.ClassFile.FieldType)) ∈ lw_all := lw_g (lw_at lw_m3 48 rfl) rfl
theorem q592 : (Jvm.Cond.methodLink "GateRoad$One" (1 : Nat) ({ cls := "java/lang/Object", name := "<init>", desc := "()V" } : Jvm.MethodName)) ∈ lw_all := lw_g (lw_at lw_m3 49 rfl) rfl
theorem q593 : (Jvm.Cond.fieldLink "GateRoad$One" (7 : Nat) "GateRoad$One" "isNot" "Z") ∈ lw_all := lw_g (lw_at lw_m3 50 rfl) rfl
theorem q594 : (Jvm.Cond.fieldLink "GateRoad$One" (13 : Nat) "GateRoad$One" "a" "LGateRoad$Node;") ∈ lw_all := lw_g (lw_at lw_m3 51 rfl) rfl
theorem q595 : (Jvm.Cond.laysFinal "GateRoad$One" "GateRoad$One" "isNot" "Z") ∈ lw_all := lw_g (lw_at lw_m3 52 rfl) rfl
theorem q596 : (Jvm.Cond.soleField "GateRoad$One" "isNot") ∈ lw_all := lw_g (lw_at lw_m3 53 rfl) rfl
theorem q597 : (Jvm.Cond.laysFinal "GateRoad$One" "GateRoad$One" "a" "LGateRoad$Node;") ∈ lw_all := lw_g (lw_at lw_m3 54 rfl) rfl
theorem q598 : (Jvm.Cond.soleField "GateRoad$One" "a") ∈ lw_all := lw_g (lw_at lw_m3 55 rfl) rfl
theorem q599 : (Jvm.Cond.superclass "GateRoad$One" "java/lang/Object") ∈ lw_all := lw_g (lw_at lw_m3 56 rfl) rfl
theorem q901 : (Jvm.Cond.selects "GateRoad$One" ({ cls := "java/lang/Object", name := "getClass", desc := "()Ljava/lang/Class;" } : Jvm.MethodName) ({ cls := "java/lang/Object", name := "getClass", desc := "()Ljava/lang/Class;" } : Jvm.MethodName)) ∈ lw_all := lw_g (lw_at lw_m4 118 rfl) rfl
theorem q1058 : (Jvm.Cond.castable "GateRoad$One" "GateRoad$Node") ∈ lw_tbl := lw_at lw_m5 35 rfl
theorem q1059 : (Jvm.Cond.selects "GateRoad$One" ({ cls := "GateRoad$Node", name := "worth", desc := "([I)I" } : Jvm.MethodName) ({ cls := "GateRoad$One", name := "worth", desc := "([I)I" } : Jvm.MethodName)) ∈ lw_all := lw_g (lw_at lw_m5 36 rfl) rfl
theorem q1060 : (Jvm.Cond.unhidden "GateRoad$One" "worth" "([I)I") ∈ lw_tbl := lw_at lw_m5 37 rfl
theorem q1061 : (Jvm.Cond.instanceMethod ({ cls := "GateRoad$One", name := "worth", desc := "([I)I" } : Jvm.MethodName)) ∈ lw_all := lw_g (lw_at lw_m5 38 rfl) rfl
theorem q1062 : (Jvm.Cond.publicMethod ({ cls := "GateRoad$One", name := "worth", desc := "([I)I" } : Jvm.MethodName)) ∈ lw_tbl := lw_at lw_m5 39 rfl
theorem q1063 : (Jvm.Cond.code ({ cls := "GateRoad$One", name := "worth", desc := "([I)I" } : Jvm.MethodName) prog_9_method_2_code (3 : Nat) (Option.some Jvm.ClassFile.FieldType.int)) ∈ lw_all := lw_g (lw_at lw_m5 40 rfl) rfl
theorem q1064 : (Jvm.Cond.interfaceEntry "GateRoad$One" (17 : Nat)) ∈ lw_tbl := lw_at lw_m5 41 rfl
theorem q1065 : (Jvm.Cond.methodLink "GateRoad$One" (17 : Nat) ({ cls := "GateRoad$Node", name := "worth", desc := "([I)I" } : Jvm.MethodName)) ∈ lw_all := lw_g (lw_at lw_m5 42 rfl) rfl
theorem q1789 : (Jvm.Cond.castable "GateRoad$One" "java/lang/Object") ∈ lw_tbl := lw_at lw_m8 46 rfl
theorem in_X4 : ∀ w ∈ wsX40, w ∈ lw_all := lw_in wsX40 [595, 597] (by decide +kernel) (by decide +kernel)
