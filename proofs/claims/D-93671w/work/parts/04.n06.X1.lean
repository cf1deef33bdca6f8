/-! GateRoad$Sheet -/
set_option maxRecDepth 100000
def RX1 : String := "GateRoad$Sheet"
def TX1 : u_T := fun k => match k with
  | 0 => ("GateRoad$Sheet", "sort", "I", false)
  | 1 => ("GateRoad$Sheet", "size", "I", false)
  | _ => ("GateRoad$Sheet", "cells", "[I", true)
def tyX1 : Nat → FieldType := fun k => match k with
  | 0 => .int
  | 1 => .int
  | _ => .array .int
abbrev wsX10 : List Cond := u_ws RX1 TX1 3
theorem nmX1 : ∀ a, a < 3 → ∀ b, b < 3 → a ≠ b → (TX1 a).2.1 ≠ (TX1 b).2.1 := by decide +kernel
theorem tyX1_ok : ∀ k, k < 3 → parseFieldDescriptor (TX1 k).2.2.1 = some (tyX1 k) := by decide +kernel
abbrev cX1_init : ByteArray := prog_13_method_1_code
def yX1_init : MethodName := ⟨RX1, "<init>", "()V"⟩
def dkwX1_init_0 : List UInt8 := [42, 183, 0, 3, 42, 2, 181, 0, 9, 42, 3, 181, 0, 15, 42, 16, 40, 188, 10, 181, 0, 18, 177]
abbrev dktX1_init_0 : List UInt8 := dkwX1_init_0 ++ []
theorem dksX1_init_0 : cX1_init.data.toList.drop 0 = dktX1_init_0 := by decide +kernel
theorem dX1_init_0 : decode cX1_init 0 = .ok (.aload_n 0, 1) := dk_42 (dk_at dksX1_init_0 0 rfl rfl)
theorem dX1_init_1 : decode cX1_init 1 = .ok (.invokespecial 3, 3) := dk_183 0 3 (dk_at dksX1_init_0 1 rfl rfl)
theorem dX1_init_4 : decode cX1_init 4 = .ok (.aload_n 0, 1) := dk_42 (dk_at dksX1_init_0 4 rfl rfl)
theorem dX1_init_5 : decode cX1_init 5 = .ok (.iconst (-1), 1) := dk_2 (dk_at dksX1_init_0 5 rfl rfl)
theorem dX1_init_6 : decode cX1_init 6 = .ok (.putfield 9, 3) := dk_181 0 9 (dk_at dksX1_init_0 6 rfl rfl)
theorem dX1_init_9 : decode cX1_init 9 = .ok (.aload_n 0, 1) := dk_42 (dk_at dksX1_init_0 9 rfl rfl)
theorem dX1_init_10 : decode cX1_init 10 = .ok (.iconst 0, 1) := dk_3 (dk_at dksX1_init_0 10 rfl rfl)
theorem dX1_init_11 : decode cX1_init 11 = .ok (.putfield 15, 3) := dk_181 0 15 (dk_at dksX1_init_0 11 rfl rfl)
theorem dX1_init_14 : decode cX1_init 14 = .ok (.aload_n 0, 1) := dk_42 (dk_at dksX1_init_0 14 rfl rfl)
theorem dX1_init_15 : decode cX1_init 15 = .ok (.bipush 40, 2) := dk_16 40 (dk_at dksX1_init_0 15 rfl rfl)
theorem dX1_init_17 : decode cX1_init 17 = .ok (.newarray .int, 2) := dk_188_10 (dk_at dksX1_init_0 17 rfl rfl)
theorem dX1_init_19 : decode cX1_init 19 = .ok (.putfield 18, 3) := dk_181 0 18 (dk_at dksX1_init_0 19 rfl rfl)
theorem dX1_init_22 : decode cX1_init 22 = .ok (.return_, 1) := dk_177 (dk_at dksX1_init_0 22 rfl rfl)
abbrev cX1_put : ByteArray := prog_13_method_2_code
def yX1_put : MethodName := ⟨RX1, "put", "(II)V"⟩
def dkwX1_put_1 : List UInt8 := [160, 0, 8, 28, 147, 167, 0, 4, 28, 79, 177]
abbrev dktX1_put_1 : List UInt8 := dkwX1_put_1 ++ []
def dkwX1_put_0 : List UInt8 := [42, 180, 0, 18, 27, 42, 180, 0, 9, 154, 0, 8, 28, 145, 167, 0, 17, 42, 180, 0, 9, 4]
abbrev dktX1_put_0 : List UInt8 := dkwX1_put_0 ++ dktX1_put_1
theorem dksX1_put_0 : cX1_put.data.toList.drop 0 = dktX1_put_0 := by decide +kernel
theorem dksX1_put_1 : cX1_put.data.toList.drop 22 = dktX1_put_1 := dk_seg dksX1_put_0 22 rfl rfl
theorem dX1_put_0 : decode cX1_put 0 = .ok (.aload_n 0, 1) := dk_42 (dk_at dksX1_put_0 0 rfl rfl)
theorem dX1_put_1 : decode cX1_put 1 = .ok (.getfield 18, 3) := dk_180 0 18 (dk_at dksX1_put_0 1 rfl rfl)
theorem dX1_put_4 : decode cX1_put 4 = .ok (.iload_n 1, 1) := dk_27 (dk_at dksX1_put_0 4 rfl rfl)
theorem dX1_put_5 : decode cX1_put 5 = .ok (.aload_n 0, 1) := dk_42 (dk_at dksX1_put_0 5 rfl rfl)
theorem dX1_put_6 : decode cX1_put 6 = .ok (.getfield 9, 3) := dk_180 0 9 (dk_at dksX1_put_0 6 rfl rfl)
theorem dX1_put_9 : decode cX1_put 9 = .ok (.ifCond .ne 8, 3) := dk_154 0 8 (dk_at dksX1_put_0 9 rfl rfl)
theorem dX1_put_12 : decode cX1_put 12 = .ok (.iload_n 2, 1) := dk_28 (dk_at dksX1_put_0 12 rfl rfl)
theorem dX1_put_13 : decode cX1_put 13 = .ok (.i2b, 1) := dk_145 (dk_at dksX1_put_0 13 rfl rfl)
theorem dX1_put_14 : decode cX1_put 14 = .ok (.goto 17, 3) := dk_167 0 17 (dk_at dksX1_put_0 14 rfl rfl)
theorem dX1_put_17 : decode cX1_put 17 = .ok (.aload_n 0, 1) := dk_42 (dk_at dksX1_put_0 17 rfl rfl)
theorem dX1_put_18 : decode cX1_put 18 = .ok (.getfield 9, 3) := dk_180 0 9 (dk_at dksX1_put_0 18 rfl rfl)
theorem dX1_put_21 : decode cX1_put 21 = .ok (.iconst 1, 1) := dk_4 (dk_at dksX1_put_0 21 rfl rfl)
theorem dX1_put_22 : decode cX1_put 22 = .ok (.if_icmp .ne 8, 3) := dk_160 0 8 (dk_at dksX1_put_1 0 rfl rfl)
theorem dX1_put_25 : decode cX1_put 25 = .ok (.iload_n 2, 1) := dk_28 (dk_at dksX1_put_1 3 rfl rfl)
theorem dX1_put_26 : decode cX1_put 26 = .ok (.i2s, 1) := dk_147 (dk_at dksX1_put_1 4 rfl rfl)
theorem dX1_put_27 : decode cX1_put 27 = .ok (.goto 4, 3) := dk_167 0 4 (dk_at dksX1_put_1 5 rfl rfl)
theorem dX1_put_30 : decode cX1_put 30 = .ok (.iload_n 2, 1) := dk_28 (dk_at dksX1_put_1 8 rfl rfl)
theorem dX1_put_31 : decode cX1_put 31 = .ok (.iastore, 1) := dk_79 (dk_at dksX1_put_1 9 rfl rfl)
theorem dX1_put_32 : decode cX1_put 32 = .ok (.return_, 1) := dk_177 (dk_at dksX1_put_1 10 rfl rfl)
theorem q68 : (Jvm.Cond.initialized "GateRoad$Sheet") ∈ lw_all := lw_g (lw_at lw_m1 5 rfl) rfl
theorem q142 : (Jvm.Cond.instantiable "GateRoad$Sheet" (3 : Nat)) ∈ lw_all := lw_g (lw_at lw_m1 79 rfl) rfl
theorem q144 : (Jvm.Cond.instanceMethod ({ cls := "GateRoad$Sheet", name := "<init>", desc := "()V" } : Jvm.MethodName)) ∈ lw_all := lw_g (lw_at lw_m1 81 rfl) rfl
theorem q145 : (Jvm.Cond.code ({ cls := "GateRoad$Sheet", name := "<init>", desc := "()V" } : Jvm.MethodName) prog_13_method_1_code (1 : Nat) (Option.none : Option Jvm.ClassFile.FieldType)) ∈ lw_all := lw_g (lw_at lw_m1 82 rfl) rfl
theorem q146 : (Jvm.Cond.methodLink "GateRoad$Sheet" (3 : Nat) ({ cls := "java/lang/Object", name := "<init>", desc := "()V" } : Jvm.MethodName)) ∈ lw_all := lw_g (lw_at lw_m1 83 rfl) rfl
theorem q147 : (Jvm.Cond.fieldLink "GateRoad$Sheet" (9 : Nat) "GateRoad$Sheet" "sort" "I") ∈ lw_all := lw_g (lw_at lw_m1 84 rfl) rfl
theorem q149 : (Jvm.Cond.fieldLink "GateRoad$Sheet" (15 : Nat) "GateRoad$Sheet" "size" "I") ∈ lw_all := lw_g (lw_at lw_m1 86 rfl) rfl
theorem q151 : (Jvm.Cond.fieldLink "GateRoad$Sheet" (18 : Nat) "GateRoad$Sheet" "cells" "[I") ∈ lw_all := lw_g (lw_at lw_m1 88 rfl) rfl
theorem q153 : (Jvm.Cond.lays "GateRoad$Sheet" "GateRoad$Sheet" "sort" "I") ∈ lw_all := lw_g (lw_at lw_m1 90 rfl) rfl
theorem q154 : (Jvm.Cond.soleField "GateRoad$Sheet" "sort") ∈ lw_all := lw_g (lw_at lw_m1 91 rfl) rfl
theorem q155 : (Jvm.Cond.lays "GateRoad$Sheet" "GateRoad$Sheet" "size" "I") ∈ lw_all := lw_g (lw_at lw_m1 92 rfl) rfl
theorem q156 : (Jvm.Cond.soleField "GateRoad$Sheet" "size") ∈ lw_all := lw_g (lw_at lw_m1 93 rfl) rfl
theorem q157 : (Jvm.Cond.laysFinal "GateRoad$Sheet" "GateRoad$Sheet" "cells" "[I") ∈ lw_all := lw_g (lw_at lw_m1 94 rfl) rfl
theorem q158 : (Jvm.Cond.soleField "GateRoad$Sheet" "cells") ∈ lw_all := lw_g (lw_at lw_m1 95 rfl) rfl
theorem q159 : (Jvm.Cond.superclass "GateRoad$Sheet" "java/lang/Object") ∈ lw_all := lw_g (lw_at lw_m1 96 rfl) rfl
theorem q903 : (Jvm.Cond.selects "GateRoad$Sheet" ({ cls := "java/lang/Object", name := "getClass", desc := "()Ljava/lang/Class;" } : Jvm.MethodName) ({ cls := "java/lang/Object", name := "getClass", desc := "()Ljava/lang/Class;" } : Jvm.MethodName)) ∈ lw_all := lw_g (lw_at lw_m4 120 rfl) rfl
theorem q1244 : (Jvm.Cond.instanceMethod ({ cls := "GateRoad$Sheet", name := "put", desc := "(II)V" } : Jvm.MethodName)) ∈ lw_all := lw_g (lw_at lw_m5 221 rfl) rfl
theorem q1245 : (Jvm.Cond.selects "GateRoad$Sheet" ({ cls := "GateRoad$Sheet", name := "put", desc := "(II)V" } : Jvm.MethodName) ({ cls := "GateRoad$Sheet", name := "put", desc := "(II)V" } : Jvm.MethodName)) ∈ lw_all := lw_g (lw_at lw_m5 222 rfl) rfl
theorem q1246 : (Jvm.Cond.code ({ cls := "GateRoad$Sheet", name := "put", desc := "(II)V" } : Jvm.MethodName) prog_13_method_2_code (3 : Nat) (Option.none : Option Jvm.ClassFile.FieldType)) ∈ lw_all := lw_g (lw_at lw_m5 223 rfl) rfl
theorem q1781 : (Jvm.Cond.castable "GateRoad$Sheet" "java/lang/Object") ∈ lw_tbl := lw_at lw_m8 38 rfl
theorem in_X1 : ∀ w ∈ wsX10, w ∈ lw_all := lw_in wsX10 [153, 155, 157] (by decide +kernel) (by decide +kernel)
