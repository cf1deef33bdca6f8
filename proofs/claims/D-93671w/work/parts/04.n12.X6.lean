/-! GateRoad$Two -/
set_option maxRecDepth 100000
def RX6 : String := "GateRoad$Two"
def TX6 : u_T := fun k => match k with
  | 0 => ("GateRoad$Two", "sign", "I", true)
  | 1 => ("GateRoad$Two", "a", "LGateRoad$Node;", true)
  | _ => ("GateRoad$Two", "b", "LGateRoad$Node;", true)
def tyX6 : Nat → FieldType := fun k => match k with
  | 0 => .int
  | 1 => .object "GateRoad$Node"
  | _ => .object "GateRoad$Node"
abbrev wsX60 : List Cond := u_ws RX6 TX6 3
theorem nmX6 : ∀ a, a < 3 → ∀ b, b < 3 → a ≠ b → (TX6 a).2.1 ≠ (TX6 b).2.1 := by decide +kernel
theorem tyX6_ok : ∀ k, k < 3 → parseFieldDescriptor (TX6 k).2.2.1 = some (tyX6 k) := by decide +kernel
abbrev cX6_init : ByteArray := prog_17_method_1_code
def yX6_init : MethodName := ⟨RX6, "<init>", "(ILGateRoad$Node;LGateRoad$Node;)V"⟩
def dkwX6_init_0 : List UInt8 := [42, 183, 0, 1, 42, 27, 181, 0, 7, 42, 44, 181, 0, 13, 42, 45, 181, 0, 17, 177]
abbrev dktX6_init_0 : List UInt8 := dkwX6_init_0 ++ []
theorem dksX6_init_0 : cX6_init.data.toList.drop 0 = dktX6_init_0 := by decide +kernel
theorem dX6_init_0 : decode cX6_init 0 = .ok (.aload_n 0, 1) := dk_42 (dk_at dksX6_init_0 0 rfl rfl)
theorem dX6_init_1 : decode cX6_init 1 = .ok (.invokespecial 1, 3) := dk_183 0 1 (dk_at dksX6_init_0 1 rfl rfl)
theorem dX6_init_4 : decode cX6_init 4 = .ok (.aload_n 0, 1) := dk_42 (dk_at dksX6_init_0 4 rfl rfl)
theorem dX6_init_5 : decode cX6_init 5 = .ok (.iload_n 1, 1) := dk_27 (dk_at dksX6_init_0 5 rfl rfl)
theorem dX6_init_6 : decode cX6_init 6 = .ok (.putfield 7, 3) := dk_181 0 7 (dk_at dksX6_init_0 6 rfl rfl)
theorem dX6_init_9 : decode cX6_init 9 = .ok (.aload_n 0, 1) := dk_42 (dk_at dksX6_init_0 9 rfl rfl)
theorem dX6_init_10 : decode cX6_init 10 = .ok (.aload_n 2, 1) := dk_44 (dk_at dksX6_init_0 10 rfl rfl)
theorem dX6_init_11 : decode cX6_init 11 = .ok (.putfield 13, 3) := dk_181 0 13 (dk_at dksX6_init_0 11 rfl rfl)
theorem dX6_init_14 : decode cX6_init 14 = .ok (.aload_n 0, 1) := dk_42 (dk_at dksX6_init_0 14 rfl rfl)
theorem dX6_init_15 : decode cX6_init 15 = .ok (.aload_n 3, 1) := dk_45 (dk_at dksX6_init_0 15 rfl rfl)
theorem dX6_init_16 : decode cX6_init 16 = .ok (.putfield 17, 3) := dk_181 0 17 (dk_at dksX6_init_0 16 rfl rfl)
theorem dX6_init_19 : decode cX6_init 19 = .ok (.return_, 1) := dk_177 (dk_at dksX6_init_0 19 rfl rfl)
abbrev cX6_worth : ByteArray := prog_17_method_2_code
def yX6_worth : MethodName := ⟨RX6, "worth", "([I)I"⟩
def dkwX6_worth_5 : List UInt8 := [28, 154, 0, 7, 29, 153, 0, 7, 4, 167, 0, 4, 3, 172]
abbrev dktX6_worth_5 : List UInt8 := dkwX6_worth_5 ++ []
def dkwX6_worth_4 : List UInt8 := [29, 160, 0, 7, 4, 167, 0, 4, 3, 172, 28, 153, 0, 11, 29, 153, 0, 7, 4, 167, 0, 4, 3, 172]
abbrev dktX6_worth_4 : List UInt8 := dkwX6_worth_4 ++ dktX6_worth_5
def dkwX6_worth_3 : List UInt8 := [28, 29, 96, 172, 28, 29, 100, 172, 28, 29, 104, 172, 28, 29, 162, 0, 7, 4, 167, 0, 4, 3, 172, 28]
abbrev dktX6_worth_3 : List UInt8 := dkwX6_worth_3 ++ dktX6_worth_4
def dkwX6_worth_2 : List UInt8 := [171, 0, 0, 0, 0, 106, 0, 0, 0, 6, 0, 0, 0, 38, 0, 0, 0, 92, 0, 0, 0, 42, 0, 0, 0, 66, 0, 0, 0, 43, 0, 0, 0, 58, 0, 0, 0, 45, 0, 0, 0, 62, 0, 0, 0, 60, 0, 0, 0, 70, 0, 0, 0, 61, 0, 0, 0, 81]
abbrev dktX6_worth_2 : List UInt8 := dkwX6_worth_2 ++ dktX6_worth_3
def dkwX6_worth_1 : List UInt8 := [180, 0, 7]
abbrev dktX6_worth_1 : List UInt8 := dkwX6_worth_1 ++ dktX6_worth_2
def dkwX6_worth_0 : List UInt8 := [42, 180, 0, 13, 43, 185, 0, 20, 2, 0, 61, 42, 180, 0, 17, 43, 185, 0, 20, 2, 0, 62, 42]
abbrev dktX6_worth_0 : List UInt8 := dkwX6_worth_0 ++ dktX6_worth_1
theorem dksX6_worth_0 : cX6_worth.data.toList.drop 0 = dktX6_worth_0 := by decide +kernel
theorem dksX6_worth_1 : cX6_worth.data.toList.drop 23 = dktX6_worth_1 := dk_seg dksX6_worth_0 23 rfl rfl
theorem dksX6_worth_2 : cX6_worth.data.toList.drop 26 = dktX6_worth_2 := dk_seg dksX6_worth_1 3 rfl rfl
theorem dksX6_worth_3 : cX6_worth.data.toList.drop 84 = dktX6_worth_3 := dk_seg dksX6_worth_2 58 rfl rfl
theorem dksX6_worth_4 : cX6_worth.data.toList.drop 108 = dktX6_worth_4 := dk_seg dksX6_worth_3 24 rfl rfl
theorem dksX6_worth_5 : cX6_worth.data.toList.drop 132 = dktX6_worth_5 := dk_seg dksX6_worth_4 24 rfl rfl
theorem dX6_worth_0 : decode cX6_worth 0 = .ok (.aload_n 0, 1) := dk_42 (dk_at dksX6_worth_0 0 rfl rfl)
theorem dX6_worth_1 : decode cX6_worth 1 = .ok (.getfield 13, 3) := dk_180 0 13 (dk_at dksX6_worth_0 1 rfl rfl)
theorem dX6_worth_4 : decode cX6_worth 4 = .ok (.aload_n 1, 1) := dk_43 (dk_at dksX6_worth_0 4 rfl rfl)
theorem dX6_worth_5 : decode cX6_worth 5 = .ok (.invokeinterface 20 2, 5) := by decide +kernel
theorem dX6_worth_10 : decode cX6_worth 10 = .ok (.istore_n 2, 1) := dk_61 (dk_at dksX6_worth_0 10 rfl rfl)
theorem dX6_worth_11 : decode cX6_worth 11 = .ok (.aload_n 0, 1) := dk_42 (dk_at dksX6_worth_0 11 rfl rfl)
theorem dX6_worth_12 : decode cX6_worth 12 = .ok (.getfield 17, 3) := dk_180 0 17 (dk_at dksX6_worth_0 12 rfl rfl)
theorem dX6_worth_15 : decode cX6_worth 15 = .ok (.aload_n 1, 1) := dk_43 (dk_at dksX6_worth_0 15 rfl rfl)
theorem dX6_worth_16 : decode cX6_worth 16 = .ok (.invokeinterface 20 2, 5) := by decide +kernel
theorem dX6_worth_21 : decode cX6_worth 21 = .ok (.istore_n 3, 1) := dk_62 (dk_at dksX6_worth_0 21 rfl rfl)
theorem dX6_worth_22 : decode cX6_worth 22 = .ok (.aload_n 0, 1) := dk_42 (dk_at dksX6_worth_0 22 rfl rfl)
theorem dX6_worth_23 : decode cX6_worth 23 = .ok (.getfield 7, 3) := dk_180 0 7 (dk_at dksX6_worth_1 0 rfl rfl)
theorem dX6_worth_26 : decode cX6_worth 26 = .ok (.lookupswitch 106 #[(38, 92), (42, 66), (43, 58), (45, 62), (60, 70), (61, 81)], 58) := by decide +kernel
theorem dX6_worth_84 : decode cX6_worth 84 = .ok (.iload_n 2, 1) := dk_28 (dk_at dksX6_worth_3 0 rfl rfl)
theorem dX6_worth_85 : decode cX6_worth 85 = .ok (.iload_n 3, 1) := dk_29 (dk_at dksX6_worth_3 1 rfl rfl)
theorem dX6_worth_86 : decode cX6_worth 86 = .ok (.iadd, 1) := dk_96 (dk_at dksX6_worth_3 2 rfl rfl)
theorem dX6_worth_87 : decode cX6_worth 87 = .ok (.ireturn, 1) := dk_172 (dk_at dksX6_worth_3 3 rfl rfl)
theorem dX6_worth_88 : decode cX6_worth 88 = .ok (.iload_n 2, 1) := dk_28 (dk_at dksX6_worth_3 4 rfl rfl)
theorem dX6_worth_89 : decode cX6_worth 89 = .ok (.iload_n 3, 1) := dk_29 (dk_at dksX6_worth_3 5 rfl rfl)
theorem dX6_worth_90 : decode cX6_worth 90 = .ok (.isub, 1) := dk_100 (dk_at dksX6_worth_3 6 rfl rfl)
theorem dX6_worth_91 : decode cX6_worth 91 = .ok (.ireturn, 1) := dk_172 (dk_at dksX6_worth_3 7 rfl rfl)
theorem dX6_worth_92 : decode cX6_worth 92 = .ok (.iload_n 2, 1) := dk_28 (dk_at dksX6_worth_3 8 rfl rfl)
theorem dX6_worth_93 : decode cX6_worth 93 = .ok (.iload_n 3, 1) := dk_29 (dk_at dksX6_worth_3 9 rfl rfl)
theorem dX6_worth_94 : decode cX6_worth 94 = .ok (.imul, 1) := dk_104 (dk_at dksX6_worth_3 10 rfl rfl)
theorem dX6_worth_95 : decode cX6_worth 95 = .ok (.ireturn, 1) := dk_172 (dk_at dksX6_worth_3 11 rfl rfl)
theorem dX6_worth_96 : decode cX6_worth 96 = .ok (.iload_n 2, 1) := dk_28 (dk_at dksX6_worth_3 12 rfl rfl)
theorem dX6_worth_97 : decode cX6_worth 97 = .ok (.iload_n 3, 1) := dk_29 (dk_at dksX6_worth_3 13 rfl rfl)
theorem dX6_worth_98 : decode cX6_worth 98 = .ok (.if_icmp .ge 7, 3) := dk_162 0 7 (dk_at dksX6_worth_3 14 rfl rfl)
theorem dX6_worth_101 : decode cX6_worth 101 = .ok (.iconst 1, 1) := dk_4 (dk_at dksX6_worth_3 17 rfl rfl)
theorem dX6_worth_102 : decode cX6_worth 102 = .ok (.goto 4, 3) := dk_167 0 4 (dk_at dksX6_worth_3 18 rfl rfl)
theorem dX6_worth_105 : decode cX6_worth 105 = .ok (.iconst 0, 1) := dk_3 (dk_at dksX6_worth_3 21 rfl rfl)
theorem dX6_worth_106 : decode cX6_worth 106 = .ok (.ireturn, 1) := dk_172 (dk_at dksX6_worth_3 22 rfl rfl)
theorem dX6_worth_107 : decode cX6_worth 107 = .ok (.iload_n 2, 1) := dk_28 (dk_at dksX6_worth_3 23 rfl rfl)
theorem dX6_worth_108 : decode cX6_worth 108 = .ok (.iload_n 3, 1) := dk_29 (dk_at dksX6_worth_4 0 rfl rfl)
theorem dX6_worth_109 : decode cX6_worth 109 = .ok (.if_icmp .ne 7, 3) := dk_160 0 7 (dk_at dksX6_worth_4 1 rfl rfl)
theorem dX6_worth_112 : decode cX6_worth 112 = .ok (.iconst 1, 1) := dk_4 (dk_at dksX6_worth_4 4 rfl rfl)
theorem dX6_worth_113 : decode cX6_worth 113 = .ok (.goto 4, 3) := dk_167 0 4 (dk_at dksX6_worth_4 5 rfl rfl)
theorem dX6_worth_116 : decode cX6_worth 116 = .ok (.iconst 0, 1) := dk_3 (dk_at dksX6_worth_4 8 rfl rfl)
theorem dX6_worth_117 : decode cX6_worth 117 = .ok (.ireturn, 1) := dk_172 (dk_at dksX6_worth_4 9 rfl rfl)
theorem dX6_worth_118 : decode cX6_worth 118 = .ok (.iload_n 2, 1) := dk_28 (dk_at dksX6_worth_4 10 rfl rfl)
theorem dX6_worth_119 : decode cX6_worth 119 = .ok (.ifCond .eq 11, 3) := dk_153 0 11 (dk_at dksX6_worth_4 11 rfl rfl)
theorem dX6_worth_122 : decode cX6_worth 122 = .ok (.iload_n 3, 1) := dk_29 (dk_at dksX6_worth_4 14 rfl rfl)
theorem dX6_worth_123 : decode cX6_worth 123 = .ok (.ifCond .eq 7, 3) := dk_153 0 7 (dk_at dksX6_worth_4 15 rfl rfl)
theorem dX6_worth_126 : decode cX6_worth 126 = .ok (.iconst 1, 1) := dk_4 (dk_at dksX6_worth_4 18 rfl rfl)
theorem dX6_worth_127 : decode cX6_worth 127 = .ok (.goto 4, 3) := dk_167 0 4 (dk_at dksX6_worth_4 19 rfl rfl)
theorem dX6_worth_130 : decode cX6_worth 130 = .ok (.iconst 0, 1) := dk_3 (dk_at dksX6_worth_4 22 rfl rfl)
theorem dX6_worth_131 : decode cX6_worth 131 = .ok (.ireturn, 1) := dk_172 (dk_at dksX6_worth_4 23 rfl rfl)
theorem dX6_worth_132 : decode cX6_worth 132 = .ok (.iload_n 2, 1) := dk_28 (dk_at dksX6_worth_5 0 rfl rfl)
theorem dX6_worth_133 : decode cX6_worth 133 = .ok (.ifCond .ne 7, 3) := dk_154 0 7 (dk_at dksX6_worth_5 1 rfl rfl)
theorem dX6_worth_136 : decode cX6_worth 136 = .ok (.iload_n 3, 1) := dk_29 (dk_at dksX6_worth_5 4 rfl rfl)
theorem dX6_worth_137 : decode cX6_worth 137 = .ok (.ifCond .eq 7, 3) := dk_153 0 7 (dk_at dksX6_worth_5 5 rfl rfl)
theorem dX6_worth_140 : decode cX6_worth 140 = .ok (.iconst 1, 1) := dk_4 (dk_at dksX6_worth_5 8 rfl rfl)
theorem dX6_worth_141 : decode cX6_worth 141 = .ok (.goto 4, 3) := dk_167 0 4 (dk_at dksX6_worth_5 9 rfl rfl)
theorem dX6_worth_144 : decode cX6_worth 144 = .ok (.iconst 0, 1) := dk_3 (dk_at dksX6_worth_5 12 rfl rfl)
theorem dX6_worth_145 : decode cX6_worth 145 = .ok (.ireturn, 1) := dk_172 (dk_at dksX6_worth_5 13 rfl rfl)
theorem q87 : (Jvm.Cond.initialized "GateRoad$Two") ∈ lw_all := lw_g (lw_at lw_m1 24 rfl) rfl
theorem q632 : (Jvm.Cond.instantiable "GateRoad$Two" (3 : Nat)) ∈ lw_all := lw_g (lw_at lw_m3 89 rfl) rfl
theorem q634 : (Jvm.Cond.instanceMethod ({ cls := "GateRoad$Two", name := "<init>", desc := "(ILGateRoad$Node;LGateRoad$Node;)V" } : Jvm.MethodName)) ∈ lw_all := lw_g (lw_at lw_m3 91 rfl) rfl
theorem q635 : (Jvm.Cond.code ({ cls := "GateRoad$Two", name := "<init>", desc := "(ILGateRoad$Node;LGateRoad$Node;)V" } : Jvm.MethodName) prog_17_method_1_code (4 : Nat) (Option.none : Option Jvm.ClassFile.FieldType)) ∈ lw_all := lw_g (lw_at lw_m3 92 rfl) rfl
theorem q636 : (Jvm.Cond.methodLink "GateRoad$Two" (1 : Nat) ({ cls := "java/lang/Object", name := "<init>", desc := "()V" } : Jvm.MethodName)) ∈ lw_all := lw_g (lw_at lw_m3 93 rfl) rfl
theorem q637 : (Jvm.Cond.fieldLink "GateRoad$Two" (7 : Nat) "GateRoad$Two" "sign" "I") ∈ lw_all := lw_g (lw_at lw_m3 94 rfl) rfl
theorem q638 : (Jvm.Cond.fieldLink "GateRoad$Two" (13 : Nat) "GateRoad$Two" "a" "LGateRoad$Node;") ∈ lw_all := lw_g (lw_at lw_m3 95 rfl) rfl
theorem q639 : (Jvm.Cond.fieldLink "GateRoad$Two" (17 : Nat) "GateRoad$Two" "b" "LGateRoad$Node;") ∈ lw_all := lw_g (lw_at lw_m3 96 rfl) rfl
theorem q640 : (Jvm.Cond.laysFinal "GateRoad$Two" "GateRoad$Two" "sign" "I") ∈ lw_all := lw_g (lw_at lw_m3 97 rfl) rfl
theorem q641 : (Jvm.Cond.soleField "GateRoad$Two" "sign") ∈ lw_all := lw_g (lw_at lw_m3 98 rfl) rfl
theorem q642 : (Jvm.Cond.laysFinal "GateRoad$Two" "GateRoad$Two" "a" "LGateRoad$Node;") ∈ lw_all := lw_g (lw_at lw_m3 99 rfl) rfl
theorem q643 : (Jvm.Cond.soleField "GateRoad$Two" "a") ∈ lw_all := lw_g (lw_at lw_m3 100 rfl) rfl
theorem q644 : (Jvm.Cond.laysFinal "GateRoad$Two" "GateRoad$Two" "b" "LGateRoad$Node;") ∈ lw_all := lw_g (lw_at lw_m3 101 rfl) rfl
theorem q645 : (Jvm.Cond.soleField "GateRoad$Two" "b") ∈ lw_all := lw_g (lw_at lw_m3 102 rfl) rfl
theorem q646 : (Jvm.Cond.superclass "GateRoad$Two" "java/lang/Object") ∈ lw_all := lw_g (lw_at lw_m3 103 rfl) rfl
theorem q907 : (Jvm.Cond.selects "GateRoad$Two" ({ cls := "java/lang/Object", name := "getClass", desc := "()Ljava/lang/Class;" } : Jvm.MethodName) ({ cls := "java/lang/Object", name := "getClass", desc := "()Ljava/lang/Class;" } : Jvm.MethodName)) ∈ lw_all := lw_g (lw_at lw_m4 124 rfl) rfl
theorem q1066 : (Jvm.Cond.castable "GateRoad$Two" "GateRoad$Node") ∈ lw_tbl := lw_at lw_m5 43 rfl
theorem q1067 : (Jvm.Cond.selects "GateRoad$Two" ({ cls := "GateRoad$Node", name := "worth", desc := "([I)I" } : Jvm.MethodName) ({ cls := "GateRoad$Two", name := "worth", desc := "([I)I" } : Jvm.MethodName)) ∈ lw_all := lw_g (lw_at lw_m5 44 rfl) rfl
theorem q1068 : (Jvm.Cond.unhidden "GateRoad$Two" "worth" "([I)I") ∈ lw_tbl := lw_at lw_m5 45 rfl
theorem q1069 : (Jvm.Cond.instanceMethod ({ cls := "GateRoad$Two", name := "worth", desc := "([I)I" } : Jvm.MethodName)) ∈ lw_all := lw_g (lw_at lw_m5 46 rfl) rfl
theorem q1070 : (Jvm.Cond.publicMethod ({ cls := "GateRoad$Two", name := "worth", desc := "([I)I" } : Jvm.MethodName)) ∈ lw_tbl := lw_at lw_m5 47 rfl
theorem q1071 : (Jvm.Cond.code ({ cls := "GateRoad$Two", name := "worth", desc := "([I)I" } : Jvm.MethodName) prog_17_method_2_code (4 : Nat) (Option.some Jvm.ClassFile.FieldType.int)) ∈ lw_all := lw_g (lw_at lw_m5 48 rfl) rfl
theorem q1072 : (Jvm.Cond.interfaceEntry "GateRoad$Two" (20 : Nat)) ∈ lw_tbl := lw_at lw_m5 49 rfl
theorem q1073 : (Jvm.Cond.methodLink "GateRoad$Two" (20 : Nat) ({ cls := "GateRoad$Node", name := "worth", desc := "([I)I" } : Jvm.MethodName)) ∈ lw_all := lw_g (lw_at lw_m5 50 rfl) rfl
theorem q1791 : (Jvm.Cond.castable "GateRoad$Two" "java/lang/Object") ∈ lw_tbl := lw_at lw_m8 48 rfl
theorem in_X6 : ∀ w ∈ wsX60, w ∈ lw_all := lw_in wsX60 [640, 642, 644] (by decide +kernel) (by decide +kernel)
