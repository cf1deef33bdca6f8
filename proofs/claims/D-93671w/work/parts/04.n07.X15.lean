/-! GateRoad$Slot -/
set_option maxRecDepth 100000
def RX15 : String := "GateRoad$Slot"
def TX15 : u_T := fun k => match k with
  | _ => ("GateRoad$Slot", "thing", "Ljava/lang/Object;", true)
def tyX15 : Nat → FieldType := fun k => match k with
  | _ => .object "java/lang/Object"
abbrev wsX150 : List Cond := u_ws RX15 TX15 1
theorem nmX15 : ∀ a, a < 1 → ∀ b, b < 1 → a ≠ b → (TX15 a).2.1 ≠ (TX15 b).2.1 := by decide +kernel
theorem tyX15_ok : ∀ k, k < 1 → parseFieldDescriptor (TX15 k).2.2.1 = some (tyX15 k) := by decide +kernel
abbrev cX15_init : ByteArray := prog_14_method_1_code
def yX15_init : MethodName := ⟨RX15, "<init>", "(Ljava/lang/Object;)V"⟩
def dkwX15_init_0 : List UInt8 := [42, 183, 0, 1, 42, 43, 181, 0, 7, 177]
abbrev dktX15_init_0 : List UInt8 := dkwX15_init_0 ++ []
theorem dksX15_init_0 : cX15_init.data.toList.drop 0 = dktX15_init_0 := by decide +kernel
theorem dX15_init_0 : decode cX15_init 0 = .ok (.aload_n 0, 1) := dk_42 (dk_at dksX15_init_0 0 rfl rfl)
theorem dX15_init_1 : decode cX15_init 1 = .ok (.invokespecial 1, 3) := dk_183 0 1 (dk_at dksX15_init_0 1 rfl rfl)
theorem dX15_init_4 : decode cX15_init 4 = .ok (.aload_n 0, 1) := dk_42 (dk_at dksX15_init_0 4 rfl rfl)
theorem dX15_init_5 : decode cX15_init 5 = .ok (.aload_n 1, 1) := dk_43 (dk_at dksX15_init_0 5 rfl rfl)
theorem dX15_init_6 : decode cX15_init 6 = .ok (.putfield 7, 3) := dk_181 0 7 (dk_at dksX15_init_0 6 rfl rfl)
theorem dX15_init_9 : decode cX15_init 9 = .ok (.return_, 1) := dk_177 (dk_at dksX15_init_0 9 rfl rfl)
abbrev cX15_number : ByteArray := prog_14_method_3_code
def yX15_number : MethodName := ⟨RX15, "number", "()I"⟩
def dkwX15_number_1 : List UInt8 := [89, 16, 243, 183, 0, 17, 191]
abbrev dktX15_number_1 : List UInt8 := dkwX15_number_1 ++ []
def dkwX15_number_0 : List UInt8 := [42, 180, 0, 7, 193, 0, 20, 153, 0, 14, 42, 180, 0, 7, 192, 0, 20, 182, 0, 22, 172, 187, 0, 15]
abbrev dktX15_number_0 : List UInt8 := dkwX15_number_0 ++ dktX15_number_1
theorem dksX15_number_0 : cX15_number.data.toList.drop 0 = dktX15_number_0 := by decide +kernel
theorem dksX15_number_1 : cX15_number.data.toList.drop 24 = dktX15_number_1 := dk_seg dksX15_number_0 24 rfl rfl
theorem dX15_number_0 : decode cX15_number 0 = .ok (.aload_n 0, 1) := dk_42 (dk_at dksX15_number_0 0 rfl rfl)
theorem dX15_number_1 : decode cX15_number 1 = .ok (.getfield 7, 3) := dk_180 0 7 (dk_at dksX15_number_0 1 rfl rfl)
theorem dX15_number_4 : decode cX15_number 4 = .ok (.instanceof 20, 3) := dk_193 0 20 (dk_at dksX15_number_0 4 rfl rfl)
theorem dX15_number_7 : decode cX15_number 7 = .ok (.ifCond .eq 14, 3) := dk_153 0 14 (dk_at dksX15_number_0 7 rfl rfl)
theorem dX15_number_10 : decode cX15_number 10 = .ok (.aload_n 0, 1) := dk_42 (dk_at dksX15_number_0 10 rfl rfl)
theorem dX15_number_11 : decode cX15_number 11 = .ok (.getfield 7, 3) := dk_180 0 7 (dk_at dksX15_number_0 11 rfl rfl)
theorem dX15_number_14 : decode cX15_number 14 = .ok (.checkcast 20, 3) := dk_192 0 20 (dk_at dksX15_number_0 14 rfl rfl)
theorem dX15_number_17 : decode cX15_number 17 = .ok (.invokevirtual 22, 3) := dk_182 0 22 (dk_at dksX15_number_0 17 rfl rfl)
theorem dX15_number_20 : decode cX15_number 20 = .ok (.ireturn, 1) := dk_172 (dk_at dksX15_number_0 20 rfl rfl)
theorem dX15_number_21 : decode cX15_number 21 = .ok (.new 15, 3) := dk_187 0 15 (dk_at dksX15_number_0 21 rfl rfl)
theorem dX15_number_24 : decode cX15_number 24 = .ok (.dup, 1) := dk_89 (dk_at dksX15_number_1 0 rfl rfl)
theorem dX15_number_25 : decode cX15_number 25 = .ok (.bipush (-13), 2) := dk_16 243 (dk_at dksX15_number_1 1 rfl rfl)
theorem dX15_number_27 : decode cX15_number 27 = .ok (.invokespecial 17, 3) := dk_183 0 17 (dk_at dksX15_number_1 3 rfl rfl)
theorem dX15_number_30 : decode cX15_number 30 = .ok (.athrow, 1) := dk_191 (dk_at dksX15_number_1 6 rfl rfl)
abbrev cX15_way : ByteArray := prog_14_method_2_code
def yX15_way : MethodName := ⟨RX15, "way", "()LGateRoad$Way;"⟩
def dkwX15_way_1 : List UInt8 := [183, 0, 17, 191]
abbrev dktX15_way_1 : List UInt8 := dkwX15_way_1 ++ []
def dkwX15_way_0 : List UInt8 := [42, 180, 0, 7, 193, 0, 13, 153, 0, 11, 42, 180, 0, 7, 192, 0, 13, 176, 187, 0, 15, 89, 16, 243]
abbrev dktX15_way_0 : List UInt8 := dkwX15_way_0 ++ dktX15_way_1
theorem dksX15_way_0 : cX15_way.data.toList.drop 0 = dktX15_way_0 := by decide +kernel
theorem dksX15_way_1 : cX15_way.data.toList.drop 24 = dktX15_way_1 := dk_seg dksX15_way_0 24 rfl rfl
theorem dX15_way_0 : decode cX15_way 0 = .ok (.aload_n 0, 1) := dk_42 (dk_at dksX15_way_0 0 rfl rfl)
theorem dX15_way_1 : decode cX15_way 1 = .ok (.getfield 7, 3) := dk_180 0 7 (dk_at dksX15_way_0 1 rfl rfl)
theorem dX15_way_4 : decode cX15_way 4 = .ok (.instanceof 13, 3) := dk_193 0 13 (dk_at dksX15_way_0 4 rfl rfl)
theorem dX15_way_7 : decode cX15_way 7 = .ok (.ifCond .eq 11, 3) := dk_153 0 11 (dk_at dksX15_way_0 7 rfl rfl)
theorem dX15_way_10 : decode cX15_way 10 = .ok (.aload_n 0, 1) := dk_42 (dk_at dksX15_way_0 10 rfl rfl)
theorem dX15_way_11 : decode cX15_way 11 = .ok (.getfield 7, 3) := dk_180 0 7 (dk_at dksX15_way_0 11 rfl rfl)
theorem dX15_way_14 : decode cX15_way 14 = .ok (.checkcast 13, 3) := dk_192 0 13 (dk_at dksX15_way_0 14 rfl rfl)
theorem dX15_way_17 : decode cX15_way 17 = .ok (.areturn, 1) := dk_176 (dk_at dksX15_way_0 17 rfl rfl)
theorem dX15_way_18 : decode cX15_way 18 = .ok (.new 15, 3) := dk_187 0 15 (dk_at dksX15_way_0 18 rfl rfl)
theorem dX15_way_21 : decode cX15_way 21 = .ok (.dup, 1) := dk_89 (dk_at dksX15_way_0 21 rfl rfl)
theorem dX15_way_22 : decode cX15_way 22 = .ok (.bipush (-13), 2) := dk_16 243 (dk_at dksX15_way_0 22 rfl rfl)
theorem dX15_way_24 : decode cX15_way 24 = .ok (.invokespecial 17, 3) := dk_183 0 17 (dk_at dksX15_way_1 0 rfl rfl)
theorem dX15_way_27 : decode cX15_way 27 = .ok (.athrow, 1) := dk_191 (dk_at dksX15_way_1 3 rfl rfl)
theorem q97 : (Jvm.Cond.initialized "GateRoad$Slot") ∈ lw_all := lw_g (lw_at lw_m1 34 rfl) rfl
theorem q904 : (Jvm.Cond.selects "GateRoad$Slot" ({ cls := "java/lang/Object", name := "getClass", desc := "()Ljava/lang/Class;" } : Jvm.MethodName) ({ cls := "java/lang/Object", name := "getClass", desc := "()Ljava/lang/Class;" } : Jvm.MethodName)) ∈ lw_all := lw_g (lw_at lw_m4 121 rfl) rfl
theorem q1266 : (Jvm.Cond.instantiable "GateRoad$Slot" (1 : Nat)) ∈ lw_all := lw_g (lw_at lw_m6 3 rfl) rfl
theorem q1286 : (Jvm.Cond.instanceMethod ({ cls := "GateRoad$Slot", name := "<init>", desc := "(Ljava/lang/Object;)V" } : Jvm.MethodName)) ∈ lw_all := lw_g (lw_at lw_m6 23 rfl) rfl
theorem q1287 : (Jvm.Cond.code ({ cls := "GateRoad$Slot", name := "<init>", desc := "(Ljava/lang/Object;)V" } : Jvm.MethodName) prog_14_method_1_code (2 : Nat) (Option.none : Option Jvm.ClassFile.FieldType)) ∈ lw_all := lw_g (lw_at lw_m6 24 rfl) rfl
theorem q1288 : (Jvm.Cond.methodLink "GateRoad$Slot" (1 : Nat) ({ cls := "java/lang/Object", name := "<init>", desc := "()V" } : Jvm.MethodName)) ∈ lw_all := lw_g (lw_at lw_m6 25 rfl) rfl
theorem q1289 : (Jvm.Cond.fieldLink "GateRoad$Slot" (7 : Nat) "GateRoad$Slot" "thing" "Ljava/lang/Object;") ∈ lw_all := lw_g (lw_at lw_m6 26 rfl) rfl
theorem q1290 : (Jvm.Cond.laysFinal "GateRoad$Slot" "GateRoad$Slot" "thing" "Ljava/lang/Object;") ∈ lw_all := lw_g (lw_at lw_m6 27 rfl) rfl
theorem q1291 : (Jvm.Cond.soleField "GateRoad$Slot" "thing") ∈ lw_all := lw_g (lw_at lw_m6 28 rfl) rfl
theorem q1292 : (Jvm.Cond.superclass "GateRoad$Slot" "java/lang/Object") ∈ lw_all := lw_g (lw_at lw_m6 29 rfl) rfl
theorem q1294 : (Jvm.Cond.instanceMethod ({ cls := "GateRoad$Slot", name := "number", desc := "()I" } : Jvm.MethodName)) ∈ lw_all := lw_g (lw_at lw_m6 31 rfl) rfl
theorem q1295 : (Jvm.Cond.selects "GateRoad$Slot" ({ cls := "GateRoad$Slot", name := "number", desc := "()I" } : Jvm.MethodName) ({ cls := "GateRoad$Slot", name := "number", desc := "()I" } : Jvm.MethodName)) ∈ lw_all := lw_g (lw_at lw_m6 32 rfl) rfl
theorem q1296 : (Jvm.Cond.code ({ cls := "GateRoad$Slot", name := "number", desc := "()I" } : Jvm.MethodName) prog_14_method_3_code (1 : Nat) (Option.some Jvm.ClassFile.FieldType.int)) ∈ lw_all := lw_g (lw_at lw_m6 33 rfl) rfl
theorem q1297 : (Jvm.Cond.classLink "GateRoad$Slot" (20 : Nat) "java/lang/Short") ∈ lw_all := lw_g (lw_at lw_m6 34 rfl) rfl
theorem q1298 : (Jvm.Cond.methodLink "GateRoad$Slot" (22 : Nat) ({ cls := "java/lang/Short", name := "shortValue", desc := "()S" } : Jvm.MethodName)) ∈ lw_all := lw_g (lw_at lw_m6 35 rfl) rfl
theorem q1302 : (Jvm.Cond.classLink "GateRoad$Slot" (15 : Nat) "GateRoad$Odd") ∈ lw_all := lw_g (lw_at lw_m6 39 rfl) rfl
theorem q1303 : (Jvm.Cond.methodLink "GateRoad$Slot" (17 : Nat) ({ cls := "GateRoad$Odd", name := "<init>", desc := "(I)V" } : Jvm.MethodName)) ∈ lw_all := lw_g (lw_at lw_m6 40 rfl) rfl
theorem q1305 : (Jvm.Cond.instanceMethod ({ cls := "GateRoad$Slot", name := "way", desc := "()LGateRoad$Way;" } : Jvm.MethodName)) ∈ lw_all := lw_g (lw_at lw_m6 42 rfl) rfl
theorem q1306 : (Jvm.Cond.selects "GateRoad$Slot" ({ cls := "GateRoad$Slot", name := "way", desc := "()LGateRoad$Way;" } : Jvm.MethodName) ({ cls := "GateRoad$Slot", name := "way", desc := "()LGateRoad$Way;" } : Jvm.MethodName)) ∈ lw_all := lw_g (lw_at lw_m6 43 rfl) rfl
theorem q1307 : (Jvm.Cond.code ({ cls := "GateRoad$Slot", name := "way", desc := "()LGateRoad$Way;" } : Jvm.MethodName) prog_14_method_2_code (1 : Nat) (Option.some (Jvm.ClassFile.FieldType.object "GateRoad$Way"))) ∈ lw_all := lw_g (lw_at lw_m6 44 rfl) rfl
theorem q1308 : (Jvm.Cond.classLink "GateRoad$Slot" (13 : Nat) "GateRoad$Way") ∈ lw_all := lw_g (lw_at lw_m6 45 rfl) rfl
theorem q1799 : (Jvm.Cond.castable "GateRoad$Slot" "java/lang/Object") ∈ lw_tbl := lw_at lw_m8 56 rfl
theorem in_X15 : ∀ w ∈ wsX150, w ∈ lw_all := lw_in wsX150 [1290] (by decide +kernel) (by decide +kernel)
