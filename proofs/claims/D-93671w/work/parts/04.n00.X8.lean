/-! GateRoad$Way -/
set_option maxRecDepth 100000
def RX8 : String := "GateRoad$Way"
def TX8 : u_T := fun k => match k with
  | 0 => ("GateRoad$Way", "number", "I", true)
  | 1 => ("GateRoad$Way", "choice", "[B", true)
  | _ => ("GateRoad$Way", "carts", "I", false)
def tyX8 : Nat → FieldType := fun k => match k with
  | 0 => .int
  | 1 => .array .byte
  | _ => .int
abbrev wsX80 : List Cond := u_ws RX8 TX8 3
theorem nmX8 : ∀ a, a < 3 → ∀ b, b < 3 → a ≠ b → (TX8 a).2.1 ≠ (TX8 b).2.1 := by decide +kernel
theorem tyX8_ok : ∀ k, k < 3 → parseFieldDescriptor (TX8 k).2.2.1 = some (tyX8 k) := by decide +kernel
abbrev cX8_init : ByteArray := prog_18_method_1_code
def yX8_init : MethodName := ⟨RX8, "<init>", "(I)V"⟩
def dkwX8_init_0 : List UInt8 := [42, 183, 0, 3, 42, 16, 16, 188, 8, 181, 0, 9, 42, 27, 181, 0, 15, 177]
abbrev dktX8_init_0 : List UInt8 := dkwX8_init_0 ++ []
theorem dksX8_init_0 : cX8_init.data.toList.drop 0 = dktX8_init_0 := by decide +kernel
theorem dX8_init_0 : decode cX8_init 0 = .ok (.aload_n 0, 1) := dk_42 (dk_at dksX8_init_0 0 rfl rfl)
theorem dX8_init_1 : decode cX8_init 1 = .ok (.invokespecial 3, 3) := dk_183 0 3 (dk_at dksX8_init_0 1 rfl rfl)
theorem dX8_init_4 : decode cX8_init 4 = .ok (.aload_n 0, 1) := dk_42 (dk_at dksX8_init_0 4 rfl rfl)
theorem dX8_init_5 : decode cX8_init 5 = .ok (.bipush 16, 2) := dk_16 16 (dk_at dksX8_init_0 5 rfl rfl)
theorem dX8_init_7 : decode cX8_init 7 = .ok (.newarray .byte, 2) := dk_188_8 (dk_at dksX8_init_0 7 rfl rfl)
theorem dX8_init_9 : decode cX8_init 9 = .ok (.putfield 9, 3) := dk_181 0 9 (dk_at dksX8_init_0 9 rfl rfl)
theorem dX8_init_12 : decode cX8_init 12 = .ok (.aload_n 0, 1) := dk_42 (dk_at dksX8_init_0 12 rfl rfl)
theorem dX8_init_13 : decode cX8_init 13 = .ok (.iload_n 1, 1) := dk_27 (dk_at dksX8_init_0 13 rfl rfl)
theorem dX8_init_14 : decode cX8_init 14 = .ok (.putfield 15, 3) := dk_181 0 15 (dk_at dksX8_init_0 14 rfl rfl)
theorem dX8_init_17 : decode cX8_init 17 = .ok (.return_, 1) := dk_177 (dk_at dksX8_init_0 17 rfl rfl)
abbrev cX8_kind : ByteArray := prog_18_method_2_code
def yX8_kind : MethodName := ⟨RX8, "kind", "()I"⟩
theorem dX8_kind_0 : decode cX8_kind 0 = .ok (.iconst 0, 1) := by decide +kernel
theorem dX8_kind_1 : decode cX8_kind 1 = .ok (.ireturn, 1) := by decide +kernel
abbrev cX8_key : ByteArray := prog_18_method_3_code
def yX8_key : MethodName := ⟨RX8, "key", "(III)I"⟩
theorem dX8_key_0 : decode cX8_key 0 = .ok (.iload_n 2, 1) := by decide +kernel
theorem dX8_key_1 : decode cX8_key 1 = .ok (.ireturn, 1) := by decide +kernel
abbrev cX8_pays : ByteArray := prog_18_method_4_code
def yX8_pays : MethodName := ⟨RX8, "pays", "(I)I"⟩
theorem dX8_pays_0 : decode cX8_pays 0 = .ok (.iconst 0, 1) := by decide +kernel
theorem dX8_pays_1 : decode cX8_pays 1 = .ok (.ireturn, 1) := by decide +kernel
abbrev cX8_spares : ByteArray := prog_18_method_5_code
def yX8_spares : MethodName := ⟨RX8, "spares", "(I)I"⟩
theorem dX8_spares_0 : decode cX8_spares 0 = .ok (.iconst 0, 1) := by decide +kernel
theorem dX8_spares_1 : decode cX8_spares 1 = .ok (.ireturn, 1) := by decide +kernel
abbrev cX8_be : ByteArray := prog_18_method_6_code
def yX8_be : MethodName := ⟨RX8, "be", "(LGateRoad$Way;)V"⟩
def dkwX8_be_0 : List UInt8 := [42, 43, 180, 0, 19, 181, 0, 19, 43, 180, 0, 9, 3, 42, 180, 0, 9, 3, 16, 16, 184, 0, 22, 177]
abbrev dktX8_be_0 : List UInt8 := dkwX8_be_0 ++ []
theorem dksX8_be_0 : cX8_be.data.toList.drop 0 = dktX8_be_0 := by decide +kernel
theorem dX8_be_0 : decode cX8_be 0 = .ok (.aload_n 0, 1) := dk_42 (dk_at dksX8_be_0 0 rfl rfl)
theorem dX8_be_1 : decode cX8_be 1 = .ok (.aload_n 1, 1) := dk_43 (dk_at dksX8_be_0 1 rfl rfl)
theorem dX8_be_2 : decode cX8_be 2 = .ok (.getfield 19, 3) := dk_180 0 19 (dk_at dksX8_be_0 2 rfl rfl)
theorem dX8_be_5 : decode cX8_be 5 = .ok (.putfield 19, 3) := dk_181 0 19 (dk_at dksX8_be_0 5 rfl rfl)
theorem dX8_be_8 : decode cX8_be 8 = .ok (.aload_n 1, 1) := dk_43 (dk_at dksX8_be_0 8 rfl rfl)
theorem dX8_be_9 : decode cX8_be 9 = .ok (.getfield 9, 3) := dk_180 0 9 (dk_at dksX8_be_0 9 rfl rfl)
theorem dX8_be_12 : decode cX8_be 12 = .ok (.iconst 0, 1) := dk_3 (dk_at dksX8_be_0 12 rfl rfl)
theorem dX8_be_13 : decode cX8_be 13 = .ok (.aload_n 0, 1) := dk_42 (dk_at dksX8_be_0 13 rfl rfl)
theorem dX8_be_14 : decode cX8_be 14 = .ok (.getfield 9, 3) := dk_180 0 9 (dk_at dksX8_be_0 14 rfl rfl)
theorem dX8_be_17 : decode cX8_be 17 = .ok (.iconst 0, 1) := dk_3 (dk_at dksX8_be_0 17 rfl rfl)
theorem dX8_be_18 : decode cX8_be 18 = .ok (.bipush 16, 2) := dk_16 16 (dk_at dksX8_be_0 18 rfl rfl)
theorem dX8_be_20 : decode cX8_be 20 = .ok (.invokestatic 22, 3) := dk_184 0 22 (dk_at dksX8_be_0 20 rfl rfl)
theorem dX8_be_23 : decode cX8_be 23 = .ok (.return_, 1) := dk_177 (dk_at dksX8_be_0 23 rfl rfl)
theorem q89 : (Jvm.Cond.initialized "GateRoad$Way") ∈ lw_all := lw_g (lw_at lw_m1 26 rfl) rfl
theorem q803 : (Jvm.Cond.instantiable "GateRoad$Way" (3 : Nat)) ∈ lw_all := lw_g (lw_at lw_m4 20 rfl) rfl
theorem q805 : (Jvm.Cond.instanceMethod ({ cls := "GateRoad$Way", name := "<init>", desc := "(I)V" } : Jvm.MethodName)) ∈ lw_all := lw_g (lw_at lw_m4 22 rfl) rfl
theorem q806 : (Jvm.Cond.code ({ cls := "GateRoad$Way", name := "<init>", desc := "(I)V" } : Jvm.MethodName) prog_18_method_1_code (2 : Nat) (Option.none : Option Jvm.ClassFile.FieldType)) ∈ lw_all := lw_g (lw_at lw_m4 23 rfl) rfl
theorem q807 : (Jvm.Cond.methodLink "GateRoad$Way" (3 : Nat) ({ cls := "java/lang/Object", name := "<init>", desc := "()V" } : Jvm.MethodName)) ∈ lw_all := lw_g (lw_at lw_m4 24 rfl) rfl
theorem q808 : (Jvm.Cond.fieldLink "GateRoad$Way" (15 : Nat) "GateRoad$Way" "number" "I") ∈ lw_all := lw_g (lw_at lw_m4 25 rfl) rfl
theorem q810 : (Jvm.Cond.fieldLink "GateRoad$Way" (9 : Nat) "GateRoad$Way" "choice" "[B") ∈ lw_all := lw_g (lw_at lw_m4 27 rfl) rfl
theorem q812 : (Jvm.Cond.fieldLink "GateRoad$Way" (19 : Nat) "GateRoad$Way" "carts" "I") ∈ lw_all := lw_g (lw_at lw_m4 29 rfl) rfl
theorem q814 : (Jvm.Cond.laysFinal "GateRoad$Way" "GateRoad$Way" "number" "I") ∈ lw_all := lw_g (lw_at lw_m4 31 rfl) rfl
theorem q815 : (Jvm.Cond.soleField "GateRoad$Way" "number") ∈ lw_all := lw_g (lw_at lw_m4 32 rfl) rfl
theorem q816 : (Jvm.Cond.laysFinal "GateRoad$Way" "GateRoad$Way" "choice" "[B") ∈ lw_all := lw_g (lw_at lw_m4 33 rfl) rfl
theorem q817 : (Jvm.Cond.soleField "GateRoad$Way" "choice") ∈ lw_all := lw_g (lw_at lw_m4 34 rfl) rfl
theorem q818 : (Jvm.Cond.lays "GateRoad$Way" "GateRoad$Way" "carts" "I") ∈ lw_all := lw_g (lw_at lw_m4 35 rfl) rfl
theorem q819 : (Jvm.Cond.soleField "GateRoad$Way" "carts") ∈ lw_all := lw_g (lw_at lw_m4 36 rfl) rfl
theorem q820 : (Jvm.Cond.superclass "GateRoad$Way" "java/lang/Object") ∈ lw_all := lw_g (lw_at lw_m4 37 rfl) rfl
theorem q908 : (Jvm.Cond.selects "GateRoad$Way" ({ cls := "java/lang/Object", name := "getClass", desc := "()Ljava/lang/Class;" } : Jvm.MethodName) ({ cls := "java/lang/Object", name := "getClass", desc := "()Ljava/lang/Class;" } : Jvm.MethodName)) ∈ lw_all := lw_g (lw_at lw_m4 125 rfl) rfl
theorem q944 : (Jvm.Cond.instanceMethod ({ cls := "GateRoad$Way", name := "kind", desc := "()I" } : Jvm.MethodName)) ∈ lw_all := lw_g (lw_at lw_m4 161 rfl) rfl
theorem q945 : (Jvm.Cond.selects "GateRoad$Way" ({ cls := "GateRoad$Way", name := "kind", desc := "()I" } : Jvm.MethodName) ({ cls := "GateRoad$Way", name := "kind", desc := "()I" } : Jvm.MethodName)) ∈ lw_all := lw_g (lw_at lw_m4 162 rfl) rfl
theorem q946 : (Jvm.Cond.sameMethod "GateRoad$Way" "GateRoad$Way" "kind" "()I") ∈ lw_all := lw_g (lw_at lw_m4 163 rfl) rfl
theorem q964 : (Jvm.Cond.code ({ cls := "GateRoad$Way", name := "kind", desc := "()I" } : Jvm.MethodName) prog_18_method_2_code (1 : Nat) (Option.some Jvm.ClassFile.FieldType.int)) ∈ lw_all := lw_g (lw_at lw_m4 181 rfl) rfl
theorem q990 : (Jvm.Cond.instanceMethod ({ cls := "GateRoad$Way", name := "key", desc := "(III)I" } : Jvm.MethodName)) ∈ lw_all := lw_g (lw_at lw_m4 207 rfl) rfl
theorem q991 : (Jvm.Cond.selects "GateRoad$Way" ({ cls := "GateRoad$Way", name := "key", desc := "(III)I" } : Jvm.MethodName) ({ cls := "GateRoad$Way", name := "key", desc := "(III)I" } : Jvm.MethodName)) ∈ lw_all := lw_g (lw_at lw_m4 208 rfl) rfl
theorem q992 : (Jvm.Cond.sameMethod "GateRoad$Way" "GateRoad$Way" "key" "(III)I") ∈ lw_all := lw_g (lw_at lw_m4 209 rfl) rfl
theorem q1009 : (Jvm.Cond.declares ({ cls := "GateRoad$Way", name := "key", desc := "(III)I" } : Jvm.MethodName)) ∈ lw_tbl := lw_at lw_m4 226 rfl
theorem q1011 : (Jvm.Cond.code ({ cls := "GateRoad$Way", name := "key", desc := "(III)I" } : Jvm.MethodName) prog_18_method_3_code (4 : Nat) (Option.some Jvm.ClassFile.FieldType.int)) ∈ lw_all := lw_g (lw_at lw_m4 228 rfl) rfl
theorem q1030 : (Jvm.Cond.instanceMethod ({ cls := "GateRoad$Way", name := "pays", desc := "(I)I" } : Jvm.MethodName)) ∈ lw_all := lw_g (lw_at lw_m5 7 rfl) rfl
theorem q1031 : (Jvm.Cond.selects "GateRoad$Way" ({ cls := "GateRoad$Way", name := "pays", desc := "(I)I" } : Jvm.MethodName) ({ cls := "GateRoad$Way", name := "pays", desc := "(I)I" } : Jvm.MethodName)) ∈ lw_all := lw_g (lw_at lw_m5 8 rfl) rfl
theorem q1032 : (Jvm.Cond.sameMethod "GateRoad$Way" "GateRoad$Way" "pays" "(I)I") ∈ lw_all := lw_g (lw_at lw_m5 9 rfl) rfl
theorem q1043 : (Jvm.Cond.code ({ cls := "GateRoad$Way", name := "pays", desc := "(I)I" } : Jvm.MethodName) prog_18_method_4_code (2 : Nat) (Option.some Jvm.ClassFile.FieldType.int)) ∈ lw_all := lw_g (lw_at lw_m5 20 rfl) rfl
theorem q1076 : (Jvm.Cond.instanceMethod ({ cls := "GateRoad$Way", name := "spares", desc := "(I)I" } : Jvm.MethodName)) ∈ lw_all := lw_g (lw_at lw_m5 53 rfl) rfl
theorem q1077 : (Jvm.Cond.selects "GateRoad$Way" ({ cls := "GateRoad$Way", name := "spares", desc := "(I)I" } : Jvm.MethodName) ({ cls := "GateRoad$Way", name := "spares", desc := "(I)I" } : Jvm.MethodName)) ∈ lw_all := lw_g (lw_at lw_m5 54 rfl) rfl
theorem q1078 : (Jvm.Cond.sameMethod "GateRoad$Way" "GateRoad$Way" "spares" "(I)I") ∈ lw_all := lw_g (lw_at lw_m5 55 rfl) rfl
theorem q1086 : (Jvm.Cond.code ({ cls := "GateRoad$Way", name := "spares", desc := "(I)I" } : Jvm.MethodName) prog_18_method_5_code (2 : Nat) (Option.some Jvm.ClassFile.FieldType.int)) ∈ lw_all := lw_g (lw_at lw_m5 63 rfl) rfl
theorem q1135 : (Jvm.Cond.instanceMethod ({ cls := "GateRoad$Way", name := "be", desc := "(LGateRoad$Way;)V" } : Jvm.MethodName)) ∈ lw_all := lw_g (lw_at lw_m5 112 rfl) rfl
theorem q1136 : (Jvm.Cond.selects "GateRoad$Way" ({ cls := "GateRoad$Way", name := "be", desc := "(LGateRoad$Way;)V" } : Jvm.MethodName) ({ cls := "GateRoad$Way", name := "be", desc := "(LGateRoad$Way;)V" } : Jvm.MethodName)) ∈ lw_all := lw_g (lw_at lw_m5 113 rfl) rfl
theorem q1137 : (Jvm.Cond.sameMethod "GateRoad$Way" "GateRoad$Way" "be" "(LGateRoad$Way;)V") ∈ lw_all := lw_g (lw_at lw_m5 114 rfl) rfl
theorem q1143 : (Jvm.Cond.code ({ cls := "GateRoad$Way", name := "be", desc := "(LGateRoad$Way;)V" } : Jvm.MethodName) prog_18_method_6_code (2 : Nat) (Option.none : Option Jvm.ClassFile.FieldType)) ∈ lw_all := lw_g (lw_at lw_m5 120 rfl) rfl
theorem q1144 : (Jvm.Cond.methodLink "GateRoad$Way" (22 : Nat) ({ cls := "java/lang/System", name := "arraycopy", desc := "(Ljava/lang/Object;ILjava/lang/Object;II)V" } : Jvm.MethodName)) ∈ lw_all := lw_g (lw_at lw_m5 121 rfl) rfl
theorem q1780 : (Jvm.Cond.castable "GateRoad$Way" "java/lang/Object") ∈ lw_tbl := lw_at lw_m8 37 rfl
theorem in_X8 : ∀ w ∈ wsX80, w ∈ lw_all := lw_in wsX80 [814, 816, 818] (by decide +kernel) (by decide +kernel)
