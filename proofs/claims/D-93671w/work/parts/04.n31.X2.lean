/-! GateRoad$Reader -/
set_option maxRecDepth 100000
def RX2 : String := "GateRoad$Reader"
def TX2 : u_T := fun k => match k with
  | 0 => ("GateRoad$Reader", "text", "[B", true)
  | 1 => ("GateRoad$Reader", "size", "I", true)
  | 2 => ("GateRoad$Reader", "at", "I", false)
  | 3 => ("GateRoad$Reader", "from", "I", false)
  | 4 => ("GateRoad$Reader", "open", "I", false)
  | 5 => ("GateRoad$Reader", "word", "Ljava/lang/String;", false)
  | 6 => ("GateRoad$Reader", "number", "I", false)
  | _ => ("GateRoad$Reader", "sign", "I", false)
def tyX2 : Nat → FieldType := fun k => match k with
  | 0 => .array .byte
  | 1 => .int
  | 2 => .int
  | 3 => .int
  | 4 => .int
  | 5 => .object "java/lang/String"
  | 6 => .int
  | _ => .int
abbrev wsX20 : List Cond := u_ws RX2 TX2 8
theorem nmX2 : ∀ a, a < 8 → ∀ b, b < 8 → a ≠ b → (TX2 a).2.1 ≠ (TX2 b).2.1 := by decide +kernel
theorem tyX2_ok : ∀ k, k < 8 → parseFieldDescriptor (TX2 k).2.2.1 = some (tyX2 k) := by decide +kernel
abbrev cX2_init : ByteArray := prog_12_method_1_code
def yX2_init : MethodName := ⟨RX2, "<init>", "([BI)V"⟩
def dkwX2_init_1 : List UInt8 := [42, 28, 181, 0, 25, 177]
abbrev dktX2_init_1 : List UInt8 := dkwX2_init_1 ++ []
def dkwX2_init_0 : List UInt8 := [42, 183, 0, 3, 42, 3, 181, 0, 9, 42, 3, 181, 0, 15, 42, 3, 181, 0, 18, 42, 43, 181, 0, 21]
abbrev dktX2_init_0 : List UInt8 := dkwX2_init_0 ++ dktX2_init_1
theorem dksX2_init_0 : cX2_init.data.toList.drop 0 = dktX2_init_0 := by decide +kernel
theorem dksX2_init_1 : cX2_init.data.toList.drop 24 = dktX2_init_1 := dk_seg dksX2_init_0 24 rfl rfl
theorem dX2_init_0 : decode cX2_init 0 = .ok (.aload_n 0, 1) := dk_42 (dk_at dksX2_init_0 0 rfl rfl)
theorem dX2_init_1 : decode cX2_init 1 = .ok (.invokespecial 3, 3) := dk_183 0 3 (dk_at dksX2_init_0 1 rfl rfl)
theorem dX2_init_4 : decode cX2_init 4 = .ok (.aload_n 0, 1) := dk_42 (dk_at dksX2_init_0 4 rfl rfl)
theorem dX2_init_5 : decode cX2_init 5 = .ok (.iconst 0, 1) := dk_3 (dk_at dksX2_init_0 5 rfl rfl)
theorem dX2_init_6 : decode cX2_init 6 = .ok (.putfield 9, 3) := dk_181 0 9 (dk_at dksX2_init_0 6 rfl rfl)
theorem dX2_init_9 : decode cX2_init 9 = .ok (.aload_n 0, 1) := dk_42 (dk_at dksX2_init_0 9 rfl rfl)
theorem dX2_init_10 : decode cX2_init 10 = .ok (.iconst 0, 1) := dk_3 (dk_at dksX2_init_0 10 rfl rfl)
theorem dX2_init_11 : decode cX2_init 11 = .ok (.putfield 15, 3) := dk_181 0 15 (dk_at dksX2_init_0 11 rfl rfl)
theorem dX2_init_14 : decode cX2_init 14 = .ok (.aload_n 0, 1) := dk_42 (dk_at dksX2_init_0 14 rfl rfl)
theorem dX2_init_15 : decode cX2_init 15 = .ok (.iconst 0, 1) := dk_3 (dk_at dksX2_init_0 15 rfl rfl)
theorem dX2_init_16 : decode cX2_init 16 = .ok (.putfield 18, 3) := dk_181 0 18 (dk_at dksX2_init_0 16 rfl rfl)
theorem dX2_init_19 : decode cX2_init 19 = .ok (.aload_n 0, 1) := dk_42 (dk_at dksX2_init_0 19 rfl rfl)
theorem dX2_init_20 : decode cX2_init 20 = .ok (.aload_n 1, 1) := dk_43 (dk_at dksX2_init_0 20 rfl rfl)
theorem dX2_init_21 : decode cX2_init 21 = .ok (.putfield 21, 3) := dk_181 0 21 (dk_at dksX2_init_0 21 rfl rfl)
theorem dX2_init_24 : decode cX2_init 24 = .ok (.aload_n 0, 1) := dk_42 (dk_at dksX2_init_1 0 rfl rfl)
theorem dX2_init_25 : decode cX2_init 25 = .ok (.iload_n 2, 1) := dk_28 (dk_at dksX2_init_1 1 rfl rfl)
theorem dX2_init_26 : decode cX2_init 26 = .ok (.putfield 25, 3) := dk_181 0 25 (dk_at dksX2_init_1 2 rfl rfl)
theorem dX2_init_29 : decode cX2_init 29 = .ok (.return_, 1) := dk_177 (dk_at dksX2_init_1 5 rfl rfl)
abbrev cX2_parts : ByteArray := prog_12_method_14_code
def yX2_parts : MethodName := ⟨RX2, "parts", "()[LGateRoad$Node;"⟩
def dkwX2_parts_4 : List UInt8 := [42, 180, 0, 41, 2, 160, 0, 11, 42, 180, 0, 44, 2, 159, 0, 8, 42, 182, 0, 73, 191, 43, 176]
abbrev dktX2_parts_4 : List UInt8 := dkwX2_parts_4 ++ []
def dkwX2_parts_3 : List UInt8 := [132, 2, 1, 167, 255, 199, 42, 180, 0, 9, 42, 180, 0, 25, 161, 0, 26, 42, 180, 0, 37, 199, 0, 19]
abbrev dktX2_parts_3 : List UInt8 := dkwX2_parts_3 ++ dktX2_parts_4
def dkwX2_parts_2 : List UInt8 := [182, 0, 104, 83, 42, 180, 0, 44, 16, 59, 159, 0, 8, 42, 182, 0, 73, 191, 42, 182, 0, 89]
abbrev dktX2_parts_2 : List UInt8 := dkwX2_parts_2 ++ dktX2_parts_3
def dkwX2_parts_1 : List UInt8 := [178, 0, 146, 28, 50, 182, 0, 116, 154, 0, 8, 42, 182, 0, 73, 191, 42, 182, 0, 89, 43, 28, 42]
abbrev dktX2_parts_1 : List UInt8 := dkwX2_parts_1 ++ dktX2_parts_2
def dkwX2_parts_0 : List UInt8 := [178, 0, 146, 190, 189, 0, 149, 76, 42, 182, 0, 89, 3, 61, 28, 178, 0, 146, 190, 162, 0, 55, 42]
abbrev dktX2_parts_0 : List UInt8 := dkwX2_parts_0 ++ dktX2_parts_1
theorem dksX2_parts_0 : cX2_parts.data.toList.drop 0 = dktX2_parts_0 := by decide +kernel
theorem dksX2_parts_1 : cX2_parts.data.toList.drop 23 = dktX2_parts_1 := dk_seg dksX2_parts_0 23 rfl rfl
theorem dksX2_parts_2 : cX2_parts.data.toList.drop 46 = dktX2_parts_2 := dk_seg dksX2_parts_1 23 rfl rfl
theorem dksX2_parts_3 : cX2_parts.data.toList.drop 68 = dktX2_parts_3 := dk_seg dksX2_parts_2 22 rfl rfl
theorem dksX2_parts_4 : cX2_parts.data.toList.drop 92 = dktX2_parts_4 := dk_seg dksX2_parts_3 24 rfl rfl
theorem dX2_parts_0 : decode cX2_parts 0 = .ok (.getstatic 146, 3) := dk_178 0 146 (dk_at dksX2_parts_0 0 rfl rfl)
theorem dX2_parts_3 : decode cX2_parts 3 = .ok (.arraylength, 1) := dk_190 (dk_at dksX2_parts_0 3 rfl rfl)
theorem dX2_parts_4 : decode cX2_parts 4 = .ok (.anewarray 149, 3) := dk_189 0 149 (dk_at dksX2_parts_0 4 rfl rfl)
theorem dX2_parts_7 : decode cX2_parts 7 = .ok (.astore_n 1, 1) := dk_76 (dk_at dksX2_parts_0 7 rfl rfl)
theorem dX2_parts_8 : decode cX2_parts 8 = .ok (.aload_n 0, 1) := dk_42 (dk_at dksX2_parts_0 8 rfl rfl)
theorem dX2_parts_9 : decode cX2_parts 9 = .ok (.invokevirtual 89, 3) := dk_182 0 89 (dk_at dksX2_parts_0 9 rfl rfl)
theorem dX2_parts_12 : decode cX2_parts 12 = .ok (.iconst 0, 1) := dk_3 (dk_at dksX2_parts_0 12 rfl rfl)
theorem dX2_parts_13 : decode cX2_parts 13 = .ok (.istore_n 2, 1) := dk_61 (dk_at dksX2_parts_0 13 rfl rfl)
theorem dX2_parts_14 : decode cX2_parts 14 = .ok (.iload_n 2, 1) := dk_28 (dk_at dksX2_parts_0 14 rfl rfl)
theorem dX2_parts_15 : decode cX2_parts 15 = .ok (.getstatic 146, 3) := dk_178 0 146 (dk_at dksX2_parts_0 15 rfl rfl)
theorem dX2_parts_18 : decode cX2_parts 18 = .ok (.arraylength, 1) := dk_190 (dk_at dksX2_parts_0 18 rfl rfl)
theorem dX2_parts_19 : decode cX2_parts 19 = .ok (.if_icmp .ge 55, 3) := dk_162 0 55 (dk_at dksX2_parts_0 19 rfl rfl)
theorem dX2_parts_22 : decode cX2_parts 22 = .ok (.aload_n 0, 1) := dk_42 (dk_at dksX2_parts_0 22 rfl rfl)
theorem dX2_parts_23 : decode cX2_parts 23 = .ok (.getstatic 146, 3) := dk_178 0 146 (dk_at dksX2_parts_1 0 rfl rfl)
theorem dX2_parts_26 : decode cX2_parts 26 = .ok (.iload_n 2, 1) := dk_28 (dk_at dksX2_parts_1 3 rfl rfl)
theorem dX2_parts_27 : decode cX2_parts 27 = .ok (.aaload, 1) := dk_50 (dk_at dksX2_parts_1 4 rfl rfl)
theorem dX2_parts_28 : decode cX2_parts 28 = .ok (.invokevirtual 116, 3) := dk_182 0 116 (dk_at dksX2_parts_1 5 rfl rfl)
theorem dX2_parts_31 : decode cX2_parts 31 = .ok (.ifCond .ne 8, 3) := dk_154 0 8 (dk_at dksX2_parts_1 8 rfl rfl)
theorem dX2_parts_34 : decode cX2_parts 34 = .ok (.aload_n 0, 1) := dk_42 (dk_at dksX2_parts_1 11 rfl rfl)
theorem dX2_parts_35 : decode cX2_parts 35 = .ok (.invokevirtual 73, 3) := dk_182 0 73 (dk_at dksX2_parts_1 12 rfl rfl)
theorem dX2_parts_38 : decode cX2_parts 38 = .ok (.athrow, 1) := dk_191 (dk_at dksX2_parts_1 15 rfl rfl)
theorem dX2_parts_39 : decode cX2_parts 39 = .ok (.aload_n 0, 1) := dk_42 (dk_at dksX2_parts_1 16 rfl rfl)
theorem dX2_parts_40 : decode cX2_parts 40 = .ok (.invokevirtual 89, 3) := dk_182 0 89 (dk_at dksX2_parts_1 17 rfl rfl)
theorem dX2_parts_43 : decode cX2_parts 43 = .ok (.aload_n 1, 1) := dk_43 (dk_at dksX2_parts_1 20 rfl rfl)
theorem dX2_parts_44 : decode cX2_parts 44 = .ok (.iload_n 2, 1) := dk_28 (dk_at dksX2_parts_1 21 rfl rfl)
theorem dX2_parts_45 : decode cX2_parts 45 = .ok (.aload_n 0, 1) := dk_42 (dk_at dksX2_parts_1 22 rfl rfl)
theorem dX2_parts_46 : decode cX2_parts 46 = .ok (.invokevirtual 104, 3) := dk_182 0 104 (dk_at dksX2_parts_2 0 rfl rfl)
theorem dX2_parts_49 : decode cX2_parts 49 = .ok (.aastore, 1) := dk_83 (dk_at dksX2_parts_2 3 rfl rfl)
theorem dX2_parts_50 : decode cX2_parts 50 = .ok (.aload_n 0, 1) := dk_42 (dk_at dksX2_parts_2 4 rfl rfl)
theorem dX2_parts_51 : decode cX2_parts 51 = .ok (.getfield 44, 3) := dk_180 0 44 (dk_at dksX2_parts_2 5 rfl rfl)
theorem dX2_parts_54 : decode cX2_parts 54 = .ok (.bipush 59, 2) := dk_16 59 (dk_at dksX2_parts_2 8 rfl rfl)
theorem dX2_parts_56 : decode cX2_parts 56 = .ok (.if_icmp .eq 8, 3) := dk_159 0 8 (dk_at dksX2_parts_2 10 rfl rfl)
theorem dX2_parts_59 : decode cX2_parts 59 = .ok (.aload_n 0, 1) := dk_42 (dk_at dksX2_parts_2 13 rfl rfl)
theorem dX2_parts_60 : decode cX2_parts 60 = .ok (.invokevirtual 73, 3) := dk_182 0 73 (dk_at dksX2_parts_2 14 rfl rfl)
theorem dX2_parts_63 : decode cX2_parts 63 = .ok (.athrow, 1) := dk_191 (dk_at dksX2_parts_2 17 rfl rfl)
theorem dX2_parts_64 : decode cX2_parts 64 = .ok (.aload_n 0, 1) := dk_42 (dk_at dksX2_parts_2 18 rfl rfl)
theorem dX2_parts_65 : decode cX2_parts 65 = .ok (.invokevirtual 89, 3) := dk_182 0 89 (dk_at dksX2_parts_2 19 rfl rfl)
theorem dX2_parts_68 : decode cX2_parts 68 = .ok (.iinc 2 1, 3) := dk_132 2 1 (dk_at dksX2_parts_3 0 rfl rfl)
theorem dX2_parts_71 : decode cX2_parts 71 = .ok (.goto (-57), 3) := dk_167 255 199 (dk_at dksX2_parts_3 3 rfl rfl)
theorem dX2_parts_74 : decode cX2_parts 74 = .ok (.aload_n 0, 1) := dk_42 (dk_at dksX2_parts_3 6 rfl rfl)
theorem dX2_parts_75 : decode cX2_parts 75 = .ok (.getfield 9, 3) := dk_180 0 9 (dk_at dksX2_parts_3 7 rfl rfl)
theorem dX2_parts_78 : decode cX2_parts 78 = .ok (.aload_n 0, 1) := dk_42 (dk_at dksX2_parts_3 10 rfl rfl)
theorem dX2_parts_79 : decode cX2_parts 79 = .ok (.getfield 25, 3) := dk_180 0 25 (dk_at dksX2_parts_3 11 rfl rfl)
theorem dX2_parts_82 : decode cX2_parts 82 = .ok (.if_icmp .lt 26, 3) := dk_161 0 26 (dk_at dksX2_parts_3 14 rfl rfl)
theorem dX2_parts_85 : decode cX2_parts 85 = .ok (.aload_n 0, 1) := dk_42 (dk_at dksX2_parts_3 17 rfl rfl)
theorem dX2_parts_86 : decode cX2_parts 86 = .ok (.getfield 37, 3) := dk_180 0 37 (dk_at dksX2_parts_3 18 rfl rfl)
theorem dX2_parts_89 : decode cX2_parts 89 = .ok (.ifnonnull 19, 3) := dk_199 0 19 (dk_at dksX2_parts_3 21 rfl rfl)
theorem dX2_parts_92 : decode cX2_parts 92 = .ok (.aload_n 0, 1) := dk_42 (dk_at dksX2_parts_4 0 rfl rfl)
theorem dX2_parts_93 : decode cX2_parts 93 = .ok (.getfield 41, 3) := dk_180 0 41 (dk_at dksX2_parts_4 1 rfl rfl)
theorem dX2_parts_96 : decode cX2_parts 96 = .ok (.iconst (-1), 1) := dk_2 (dk_at dksX2_parts_4 4 rfl rfl)
theorem dX2_parts_97 : decode cX2_parts 97 = .ok (.if_icmp .ne 11, 3) := dk_160 0 11 (dk_at dksX2_parts_4 5 rfl rfl)
theorem dX2_parts_100 : decode cX2_parts 100 = .ok (.aload_n 0, 1) := dk_42 (dk_at dksX2_parts_4 8 rfl rfl)
theorem dX2_parts_101 : decode cX2_parts 101 = .ok (.getfield 44, 3) := dk_180 0 44 (dk_at dksX2_parts_4 9 rfl rfl)
theorem dX2_parts_104 : decode cX2_parts 104 = .ok (.iconst (-1), 1) := dk_2 (dk_at dksX2_parts_4 12 rfl rfl)
theorem dX2_parts_105 : decode cX2_parts 105 = .ok (.if_icmp .eq 8, 3) := dk_159 0 8 (dk_at dksX2_parts_4 13 rfl rfl)
theorem dX2_parts_108 : decode cX2_parts 108 = .ok (.aload_n 0, 1) := dk_42 (dk_at dksX2_parts_4 16 rfl rfl)
theorem dX2_parts_109 : decode cX2_parts 109 = .ok (.invokevirtual 73, 3) := dk_182 0 73 (dk_at dksX2_parts_4 17 rfl rfl)
theorem dX2_parts_112 : decode cX2_parts 112 = .ok (.athrow, 1) := dk_191 (dk_at dksX2_parts_4 20 rfl rfl)
theorem dX2_parts_113 : decode cX2_parts 113 = .ok (.aload_n 1, 1) := dk_43 (dk_at dksX2_parts_4 21 rfl rfl)
theorem dX2_parts_114 : decode cX2_parts 114 = .ok (.areturn, 1) := dk_176 (dk_at dksX2_parts_4 22 rfl rfl)
abbrev cX2_next : ByteArray := prog_12_method_4_code
def yX2_next : MethodName := ⟨RX2, "next", "()V"⟩
def dkwX2_next_12 : List UInt8 := [180, 0, 9, 4, 96, 181, 0, 9, 177]
abbrev dktX2_next_12 : List UInt8 := dkwX2_next_12 ++ []
def dkwX2_next_11 : List UInt8 := [181, 0, 44, 18, 77, 42, 180, 0, 44, 182, 0, 79, 156, 0, 8, 42, 182, 0, 73, 191, 42, 89]
abbrev dktX2_next_11 : List UInt8 := dkwX2_next_11 ++ dktX2_next_12
def dkwX2_next_10 : List UInt8 := [182, 0, 73, 191, 167, 0, 49, 42, 180, 0, 9, 42, 180, 0, 25, 162, 0, 38, 42, 42, 182, 0, 33]
abbrev dktX2_next_10 : List UInt8 := dkwX2_next_10 ++ dktX2_next_11
def dkwX2_next_9 : List UInt8 := [132, 1, 1, 42, 89, 180, 0, 9, 4, 96, 181, 0, 9, 167, 255, 202, 27, 7, 164, 0, 8, 42]
abbrev dktX2_next_9 : List UInt8 := dkwX2_next_9 ++ dktX2_next_10
def dkwX2_next_8 : List UInt8 := [162, 0, 22, 42, 16, 10, 42, 180, 0, 41, 104, 42, 182, 0, 33, 96, 16, 48, 100, 181, 0, 41]
abbrev dktX2_next_8 : List UInt8 := dkwX2_next_8 ++ dktX2_next_9
def dkwX2_next_7 : List UInt8 := [181, 0, 41, 42, 182, 0, 33, 133, 20, 0, 69, 20, 0, 71, 184, 0, 51, 153, 0, 43, 27, 7]
abbrev dktX2_next_7 : List UInt8 := dkwX2_next_7 ++ dktX2_next_8
def dkwX2_next_6 : List UInt8 := [167, 0, 143, 42, 182, 0, 33, 133, 20, 0, 69, 20, 0, 71, 184, 0, 51, 153, 0, 80, 3, 60, 42, 3]
abbrev dktX2_next_6 : List UInt8 := dkwX2_next_6 ++ dktX2_next_7
def dkwX2_next_5 : List UInt8 := [87, 42, 89, 180, 0, 9, 4, 96, 181, 0, 9, 167, 255, 210, 42, 43, 182, 0, 65, 181, 0, 37]
abbrev dktX2_next_5 : List UInt8 := dkwX2_next_5 ++ dktX2_next_6
def dkwX2_next_4 : List UInt8 := [184, 0, 51, 153, 0, 35, 43, 182, 0, 58, 16, 9, 162, 0, 13, 43, 42, 182, 0, 33, 146, 182, 0, 61]
abbrev dktX2_next_4 : List UInt8 := dkwX2_next_4 ++ dktX2_next_5
def dkwX2_next_3 : List UInt8 := [153, 0, 71, 187, 0, 55, 89, 183, 0, 57, 76, 42, 182, 0, 33, 133, 20, 0, 47, 20, 0, 49]
abbrev dktX2_next_3 : List UInt8 := dkwX2_next_3 ++ dktX2_next_4
def dkwX2_next_2 : List UInt8 := [181, 0, 41, 42, 2, 181, 0, 44, 42, 182, 0, 33, 133, 20, 0, 47, 20, 0, 49, 184, 0, 51]
abbrev dktX2_next_2 : List UInt8 := dkwX2_next_2 ++ dktX2_next_3
def dkwX2_next_1 : List UInt8 := [96, 181, 0, 9, 167, 255, 228, 42, 42, 180, 0, 9, 181, 0, 15, 42, 1, 181, 0, 37, 42, 2]
abbrev dktX2_next_1 : List UInt8 := dkwX2_next_1 ++ dktX2_next_2
def dkwX2_next_0 : List UInt8 := [42, 182, 0, 33, 16, 32, 159, 0, 12, 42, 182, 0, 33, 16, 10, 160, 0, 16, 42, 89, 180, 0, 9, 4]
abbrev dktX2_next_0 : List UInt8 := dkwX2_next_0 ++ dktX2_next_1
theorem dksX2_next_0 : cX2_next.data.toList.drop 0 = dktX2_next_0 := by decide +kernel
theorem dksX2_next_1 : cX2_next.data.toList.drop 24 = dktX2_next_1 := dk_seg dksX2_next_0 24 rfl rfl
theorem dksX2_next_2 : cX2_next.data.toList.drop 46 = dktX2_next_2 := dk_seg dksX2_next_1 22 rfl rfl
theorem dksX2_next_3 : cX2_next.data.toList.drop 68 = dktX2_next_3 := dk_seg dksX2_next_2 22 rfl rfl
theorem dksX2_next_4 : cX2_next.data.toList.drop 90 = dktX2_next_4 := dk_seg dksX2_next_3 22 rfl rfl
theorem dksX2_next_5 : cX2_next.data.toList.drop 114 = dktX2_next_5 := dk_seg dksX2_next_4 24 rfl rfl
theorem dksX2_next_6 : cX2_next.data.toList.drop 136 = dktX2_next_6 := dk_seg dksX2_next_5 22 rfl rfl
theorem dksX2_next_7 : cX2_next.data.toList.drop 160 = dktX2_next_7 := dk_seg dksX2_next_6 24 rfl rfl
theorem dksX2_next_8 : cX2_next.data.toList.drop 182 = dktX2_next_8 := dk_seg dksX2_next_7 22 rfl rfl
theorem dksX2_next_9 : cX2_next.data.toList.drop 204 = dktX2_next_9 := dk_seg dksX2_next_8 22 rfl rfl
theorem dksX2_next_10 : cX2_next.data.toList.drop 226 = dktX2_next_10 := dk_seg dksX2_next_9 22 rfl rfl
theorem dksX2_next_11 : cX2_next.data.toList.drop 249 = dktX2_next_11 := dk_seg dksX2_next_10 23 rfl rfl
theorem dksX2_next_12 : cX2_next.data.toList.drop 271 = dktX2_next_12 := dk_seg dksX2_next_11 22 rfl rfl
theorem dX2_next_0 : decode cX2_next 0 = .ok (.aload_n 0, 1) := dk_42 (dk_at dksX2_next_0 0 rfl rfl)
theorem dX2_next_1 : decode cX2_next 1 = .ok (.invokevirtual 33, 3) := dk_182 0 33 (dk_at dksX2_next_0 1 rfl rfl)
theorem dX2_next_4 : decode cX2_next 4 = .ok (.bipush 32, 2) := dk_16 32 (dk_at dksX2_next_0 4 rfl rfl)
theorem dX2_next_6 : decode cX2_next 6 = .ok (.if_icmp .eq 12, 3) := dk_159 0 12 (dk_at dksX2_next_0 6 rfl rfl)
theorem dX2_next_9 : decode cX2_next 9 = .ok (.aload_n 0, 1) := dk_42 (dk_at dksX2_next_0 9 rfl rfl)
theorem dX2_next_10 : decode cX2_next 10 = .ok (.invokevirtual 33, 3) := dk_182 0 33 (dk_at dksX2_next_0 10 rfl rfl)
theorem dX2_next_13 : decode cX2_next 13 = .ok (.bipush 10, 2) := dk_16 10 (dk_at dksX2_next_0 13 rfl rfl)
theorem dX2_next_15 : decode cX2_next 15 = .ok (.if_icmp .ne 16, 3) := dk_160 0 16 (dk_at dksX2_next_0 15 rfl rfl)
theorem dX2_next_18 : decode cX2_next 18 = .ok (.aload_n 0, 1) := dk_42 (dk_at dksX2_next_0 18 rfl rfl)
theorem dX2_next_19 : decode cX2_next 19 = .ok (.dup, 1) := dk_89 (dk_at dksX2_next_0 19 rfl rfl)
theorem dX2_next_20 : decode cX2_next 20 = .ok (.getfield 9, 3) := dk_180 0 9 (dk_at dksX2_next_0 20 rfl rfl)
theorem dX2_next_23 : decode cX2_next 23 = .ok (.iconst 1, 1) := dk_4 (dk_at dksX2_next_0 23 rfl rfl)
theorem dX2_next_24 : decode cX2_next 24 = .ok (.iadd, 1) := dk_96 (dk_at dksX2_next_1 0 rfl rfl)
theorem dX2_next_25 : decode cX2_next 25 = .ok (.putfield 9, 3) := dk_181 0 9 (dk_at dksX2_next_1 1 rfl rfl)
theorem dX2_next_28 : decode cX2_next 28 = .ok (.goto (-28), 3) := dk_167 255 228 (dk_at dksX2_next_1 4 rfl rfl)
theorem dX2_next_31 : decode cX2_next 31 = .ok (.aload_n 0, 1) := dk_42 (dk_at dksX2_next_1 7 rfl rfl)
theorem dX2_next_32 : decode cX2_next 32 = .ok (.aload_n 0, 1) := dk_42 (dk_at dksX2_next_1 8 rfl rfl)
theorem dX2_next_33 : decode cX2_next 33 = .ok (.getfield 9, 3) := dk_180 0 9 (dk_at dksX2_next_1 9 rfl rfl)
theorem dX2_next_36 : decode cX2_next 36 = .ok (.putfield 15, 3) := dk_181 0 15 (dk_at dksX2_next_1 12 rfl rfl)
theorem dX2_next_39 : decode cX2_next 39 = .ok (.aload_n 0, 1) := dk_42 (dk_at dksX2_next_1 15 rfl rfl)
theorem dX2_next_40 : decode cX2_next 40 = .ok (.aconst_null, 1) := dk_1 (dk_at dksX2_next_1 16 rfl rfl)
theorem dX2_next_41 : decode cX2_next 41 = .ok (.putfield 37, 3) := dk_181 0 37 (dk_at dksX2_next_1 17 rfl rfl)
theorem dX2_next_44 : decode cX2_next 44 = .ok (.aload_n 0, 1) := dk_42 (dk_at dksX2_next_1 20 rfl rfl)
theorem dX2_next_45 : decode cX2_next 45 = .ok (.iconst (-1), 1) := dk_2 (dk_at dksX2_next_1 21 rfl rfl)
theorem dX2_next_46 : decode cX2_next 46 = .ok (.putfield 41, 3) := dk_181 0 41 (dk_at dksX2_next_2 0 rfl rfl)
theorem dX2_next_49 : decode cX2_next 49 = .ok (.aload_n 0, 1) := dk_42 (dk_at dksX2_next_2 3 rfl rfl)
theorem dX2_next_50 : decode cX2_next 50 = .ok (.iconst (-1), 1) := dk_2 (dk_at dksX2_next_2 4 rfl rfl)
theorem dX2_next_51 : decode cX2_next 51 = .ok (.putfield 44, 3) := dk_181 0 44 (dk_at dksX2_next_2 5 rfl rfl)
theorem dX2_next_54 : decode cX2_next 54 = .ok (.aload_n 0, 1) := dk_42 (dk_at dksX2_next_2 8 rfl rfl)
theorem dX2_next_55 : decode cX2_next 55 = .ok (.invokevirtual 33, 3) := dk_182 0 33 (dk_at dksX2_next_2 9 rfl rfl)
theorem dX2_next_58 : decode cX2_next 58 = .ok (.i2l, 1) := dk_133 (dk_at dksX2_next_2 12 rfl rfl)
theorem dX2_next_59 : decode cX2_next 59 = .ok (.ldc2_w 47, 3) := dk_20 0 47 (dk_at dksX2_next_2 13 rfl rfl)
theorem dX2_next_62 : decode cX2_next 62 = .ok (.ldc2_w 49, 3) := dk_20 0 49 (dk_at dksX2_next_2 16 rfl rfl)
theorem dX2_next_65 : decode cX2_next 65 = .ok (.invokestatic 51, 3) := dk_184 0 51 (dk_at dksX2_next_2 19 rfl rfl)
theorem dX2_next_68 : decode cX2_next 68 = .ok (.ifCond .eq 71, 3) := dk_153 0 71 (dk_at dksX2_next_3 0 rfl rfl)
theorem dX2_next_71 : decode cX2_next 71 = .ok (.new 55, 3) := dk_187 0 55 (dk_at dksX2_next_3 3 rfl rfl)
theorem dX2_next_74 : decode cX2_next 74 = .ok (.dup, 1) := dk_89 (dk_at dksX2_next_3 6 rfl rfl)
theorem dX2_next_75 : decode cX2_next 75 = .ok (.invokespecial 57, 3) := dk_183 0 57 (dk_at dksX2_next_3 7 rfl rfl)
theorem dX2_next_78 : decode cX2_next 78 = .ok (.astore_n 1, 1) := dk_76 (dk_at dksX2_next_3 10 rfl rfl)
theorem dX2_next_79 : decode cX2_next 79 = .ok (.aload_n 0, 1) := dk_42 (dk_at dksX2_next_3 11 rfl rfl)
theorem dX2_next_80 : decode cX2_next 80 = .ok (.invokevirtual 33, 3) := dk_182 0 33 (dk_at dksX2_next_3 12 rfl rfl)
theorem dX2_next_83 : decode cX2_next 83 = .ok (.i2l, 1) := dk_133 (dk_at dksX2_next_3 15 rfl rfl)
theorem dX2_next_84 : decode cX2_next 84 = .ok (.ldc2_w 47, 3) := dk_20 0 47 (dk_at dksX2_next_3 16 rfl rfl)
theorem dX2_next_87 : decode cX2_next 87 = .ok (.ldc2_w 49, 3) := dk_20 0 49 (dk_at dksX2_next_3 19 rfl rfl)
theorem dX2_next_90 : decode cX2_next 90 = .ok (.invokestatic 51, 3) := dk_184 0 51 (dk_at dksX2_next_4 0 rfl rfl)
theorem dX2_next_93 : decode cX2_next 93 = .ok (.ifCond .eq 35, 3) := dk_153 0 35 (dk_at dksX2_next_4 3 rfl rfl)
theorem dX2_next_96 : decode cX2_next 96 = .ok (.aload_n 1, 1) := dk_43 (dk_at dksX2_next_4 6 rfl rfl)
theorem dX2_next_97 : decode cX2_next 97 = .ok (.invokevirtual 58, 3) := dk_182 0 58 (dk_at dksX2_next_4 7 rfl rfl)
theorem dX2_next_100 : decode cX2_next 100 = .ok (.bipush 9, 2) := dk_16 9 (dk_at dksX2_next_4 10 rfl rfl)
theorem dX2_next_102 : decode cX2_next 102 = .ok (.if_icmp .ge 13, 3) := dk_162 0 13 (dk_at dksX2_next_4 12 rfl rfl)
theorem dX2_next_105 : decode cX2_next 105 = .ok (.aload_n 1, 1) := dk_43 (dk_at dksX2_next_4 15 rfl rfl)
theorem dX2_next_106 : decode cX2_next 106 = .ok (.aload_n 0, 1) := dk_42 (dk_at dksX2_next_4 16 rfl rfl)
theorem dX2_next_107 : decode cX2_next 107 = .ok (.invokevirtual 33, 3) := dk_182 0 33 (dk_at dksX2_next_4 17 rfl rfl)
theorem dX2_next_110 : decode cX2_next 110 = .ok (.i2c, 1) := dk_146 (dk_at dksX2_next_4 20 rfl rfl)
theorem dX2_next_111 : decode cX2_next 111 = .ok (.invokevirtual 61, 3) := dk_182 0 61 (dk_at dksX2_next_4 21 rfl rfl)
theorem dX2_next_114 : decode cX2_next 114 = .ok (.pop, 1) := dk_87 (dk_at dksX2_next_5 0 rfl rfl)
theorem dX2_next_115 : decode cX2_next 115 = .ok (.aload_n 0, 1) := dk_42 (dk_at dksX2_next_5 1 rfl rfl)
theorem dX2_next_116 : decode cX2_next 116 = .ok (.dup, 1) := dk_89 (dk_at dksX2_next_5 2 rfl rfl)
theorem dX2_next_117 : decode cX2_next 117 = .ok (.getfield 9, 3) := dk_180 0 9 (dk_at dksX2_next_5 3 rfl rfl)
theorem dX2_next_120 : decode cX2_next 120 = .ok (.iconst 1, 1) := dk_4 (dk_at dksX2_next_5 6 rfl rfl)
theorem dX2_next_121 : decode cX2_next 121 = .ok (.iadd, 1) := dk_96 (dk_at dksX2_next_5 7 rfl rfl)
theorem dX2_next_122 : decode cX2_next 122 = .ok (.putfield 9, 3) := dk_181 0 9 (dk_at dksX2_next_5 8 rfl rfl)
theorem dX2_next_125 : decode cX2_next 125 = .ok (.goto (-46), 3) := dk_167 255 210 (dk_at dksX2_next_5 11 rfl rfl)
theorem dX2_next_128 : decode cX2_next 128 = .ok (.aload_n 0, 1) := dk_42 (dk_at dksX2_next_5 14 rfl rfl)
theorem dX2_next_129 : decode cX2_next 129 = .ok (.aload_n 1, 1) := dk_43 (dk_at dksX2_next_5 15 rfl rfl)
theorem dX2_next_130 : decode cX2_next 130 = .ok (.invokevirtual 65, 3) := dk_182 0 65 (dk_at dksX2_next_5 16 rfl rfl)
theorem dX2_next_133 : decode cX2_next 133 = .ok (.putfield 37, 3) := dk_181 0 37 (dk_at dksX2_next_5 19 rfl rfl)
theorem dX2_next_136 : decode cX2_next 136 = .ok (.goto 143, 3) := dk_167 0 143 (dk_at dksX2_next_6 0 rfl rfl)
theorem dX2_next_139 : decode cX2_next 139 = .ok (.aload_n 0, 1) := dk_42 (dk_at dksX2_next_6 3 rfl rfl)
theorem dX2_next_140 : decode cX2_next 140 = .ok (.invokevirtual 33, 3) := dk_182 0 33 (dk_at dksX2_next_6 4 rfl rfl)
theorem dX2_next_143 : decode cX2_next 143 = .ok (.i2l, 1) := dk_133 (dk_at dksX2_next_6 7 rfl rfl)
theorem dX2_next_144 : decode cX2_next 144 = .ok (.ldc2_w 69, 3) := dk_20 0 69 (dk_at dksX2_next_6 8 rfl rfl)
theorem dX2_next_147 : decode cX2_next 147 = .ok (.ldc2_w 71, 3) := dk_20 0 71 (dk_at dksX2_next_6 11 rfl rfl)
theorem dX2_next_150 : decode cX2_next 150 = .ok (.invokestatic 51, 3) := dk_184 0 51 (dk_at dksX2_next_6 14 rfl rfl)
theorem dX2_next_153 : decode cX2_next 153 = .ok (.ifCond .eq 80, 3) := dk_153 0 80 (dk_at dksX2_next_6 17 rfl rfl)
theorem dX2_next_156 : decode cX2_next 156 = .ok (.iconst 0, 1) := dk_3 (dk_at dksX2_next_6 20 rfl rfl)
theorem dX2_next_157 : decode cX2_next 157 = .ok (.istore_n 1, 1) := dk_60 (dk_at dksX2_next_6 21 rfl rfl)
theorem dX2_next_158 : decode cX2_next 158 = .ok (.aload_n 0, 1) := dk_42 (dk_at dksX2_next_6 22 rfl rfl)
theorem dX2_next_159 : decode cX2_next 159 = .ok (.iconst 0, 1) := dk_3 (dk_at dksX2_next_6 23 rfl rfl)
theorem dX2_next_160 : decode cX2_next 160 = .ok (.putfield 41, 3) := dk_181 0 41 (dk_at dksX2_next_7 0 rfl rfl)
theorem dX2_next_163 : decode cX2_next 163 = .ok (.aload_n 0, 1) := dk_42 (dk_at dksX2_next_7 3 rfl rfl)
theorem dX2_next_164 : decode cX2_next 164 = .ok (.invokevirtual 33, 3) := dk_182 0 33 (dk_at dksX2_next_7 4 rfl rfl)
theorem dX2_next_167 : decode cX2_next 167 = .ok (.i2l, 1) := dk_133 (dk_at dksX2_next_7 7 rfl rfl)
theorem dX2_next_168 : decode cX2_next 168 = .ok (.ldc2_w 69, 3) := dk_20 0 69 (dk_at dksX2_next_7 8 rfl rfl)
theorem dX2_next_171 : decode cX2_next 171 = .ok (.ldc2_w 71, 3) := dk_20 0 71 (dk_at dksX2_next_7 11 rfl rfl)
theorem dX2_next_174 : decode cX2_next 174 = .ok (.invokestatic 51, 3) := dk_184 0 51 (dk_at dksX2_next_7 14 rfl rfl)
theorem dX2_next_177 : decode cX2_next 177 = .ok (.ifCond .eq 43, 3) := dk_153 0 43 (dk_at dksX2_next_7 17 rfl rfl)
theorem dX2_next_180 : decode cX2_next 180 = .ok (.iload_n 1, 1) := dk_27 (dk_at dksX2_next_7 20 rfl rfl)
theorem dX2_next_181 : decode cX2_next 181 = .ok (.iconst 4, 1) := dk_7 (dk_at dksX2_next_7 21 rfl rfl)
theorem dX2_next_182 : decode cX2_next 182 = .ok (.if_icmp .ge 22, 3) := dk_162 0 22 (dk_at dksX2_next_8 0 rfl rfl)
theorem dX2_next_185 : decode cX2_next 185 = .ok (.aload_n 0, 1) := dk_42 (dk_at dksX2_next_8 3 rfl rfl)
theorem dX2_next_186 : decode cX2_next 186 = .ok (.bipush 10, 2) := dk_16 10 (dk_at dksX2_next_8 4 rfl rfl)
theorem dX2_next_188 : decode cX2_next 188 = .ok (.aload_n 0, 1) := dk_42 (dk_at dksX2_next_8 6 rfl rfl)
theorem dX2_next_189 : decode cX2_next 189 = .ok (.getfield 41, 3) := dk_180 0 41 (dk_at dksX2_next_8 7 rfl rfl)
theorem dX2_next_192 : decode cX2_next 192 = .ok (.imul, 1) := dk_104 (dk_at dksX2_next_8 10 rfl rfl)
theorem dX2_next_193 : decode cX2_next 193 = .ok (.aload_n 0, 1) := dk_42 (dk_at dksX2_next_8 11 rfl rfl)
theorem dX2_next_194 : decode cX2_next 194 = .ok (.invokevirtual 33, 3) := dk_182 0 33 (dk_at dksX2_next_8 12 rfl rfl)
theorem dX2_next_197 : decode cX2_next 197 = .ok (.iadd, 1) := dk_96 (dk_at dksX2_next_8 15 rfl rfl)
theorem dX2_next_198 : decode cX2_next 198 = .ok (.bipush 48, 2) := dk_16 48 (dk_at dksX2_next_8 16 rfl rfl)
theorem dX2_next_200 : decode cX2_next 200 = .ok (.isub, 1) := dk_100 (dk_at dksX2_next_8 18 rfl rfl)
theorem dX2_next_201 : decode cX2_next 201 = .ok (.putfield 41, 3) := dk_181 0 41 (dk_at dksX2_next_8 19 rfl rfl)
theorem dX2_next_204 : decode cX2_next 204 = .ok (.iinc 1 1, 3) := dk_132 1 1 (dk_at dksX2_next_9 0 rfl rfl)
theorem dX2_next_207 : decode cX2_next 207 = .ok (.aload_n 0, 1) := dk_42 (dk_at dksX2_next_9 3 rfl rfl)
theorem dX2_next_208 : decode cX2_next 208 = .ok (.dup, 1) := dk_89 (dk_at dksX2_next_9 4 rfl rfl)
theorem dX2_next_209 : decode cX2_next 209 = .ok (.getfield 9, 3) := dk_180 0 9 (dk_at dksX2_next_9 5 rfl rfl)
theorem dX2_next_212 : decode cX2_next 212 = .ok (.iconst 1, 1) := dk_4 (dk_at dksX2_next_9 8 rfl rfl)
theorem dX2_next_213 : decode cX2_next 213 = .ok (.iadd, 1) := dk_96 (dk_at dksX2_next_9 9 rfl rfl)
theorem dX2_next_214 : decode cX2_next 214 = .ok (.putfield 9, 3) := dk_181 0 9 (dk_at dksX2_next_9 10 rfl rfl)
theorem dX2_next_217 : decode cX2_next 217 = .ok (.goto (-54), 3) := dk_167 255 202 (dk_at dksX2_next_9 13 rfl rfl)
theorem dX2_next_220 : decode cX2_next 220 = .ok (.iload_n 1, 1) := dk_27 (dk_at dksX2_next_9 16 rfl rfl)
theorem dX2_next_221 : decode cX2_next 221 = .ok (.iconst 4, 1) := dk_7 (dk_at dksX2_next_9 17 rfl rfl)
theorem dX2_next_222 : decode cX2_next 222 = .ok (.if_icmp .le 8, 3) := dk_164 0 8 (dk_at dksX2_next_9 18 rfl rfl)
theorem dX2_next_225 : decode cX2_next 225 = .ok (.aload_n 0, 1) := dk_42 (dk_at dksX2_next_9 21 rfl rfl)
theorem dX2_next_226 : decode cX2_next 226 = .ok (.invokevirtual 73, 3) := dk_182 0 73 (dk_at dksX2_next_10 0 rfl rfl)
theorem dX2_next_229 : decode cX2_next 229 = .ok (.athrow, 1) := dk_191 (dk_at dksX2_next_10 3 rfl rfl)
theorem dX2_next_230 : decode cX2_next 230 = .ok (.goto 49, 3) := dk_167 0 49 (dk_at dksX2_next_10 4 rfl rfl)
theorem dX2_next_233 : decode cX2_next 233 = .ok (.aload_n 0, 1) := dk_42 (dk_at dksX2_next_10 7 rfl rfl)
theorem dX2_next_234 : decode cX2_next 234 = .ok (.getfield 9, 3) := dk_180 0 9 (dk_at dksX2_next_10 8 rfl rfl)
theorem dX2_next_237 : decode cX2_next 237 = .ok (.aload_n 0, 1) := dk_42 (dk_at dksX2_next_10 11 rfl rfl)
theorem dX2_next_238 : decode cX2_next 238 = .ok (.getfield 25, 3) := dk_180 0 25 (dk_at dksX2_next_10 12 rfl rfl)
theorem dX2_next_241 : decode cX2_next 241 = .ok (.if_icmp .ge 38, 3) := dk_162 0 38 (dk_at dksX2_next_10 15 rfl rfl)
theorem dX2_next_244 : decode cX2_next 244 = .ok (.aload_n 0, 1) := dk_42 (dk_at dksX2_next_10 18 rfl rfl)
theorem dX2_next_245 : decode cX2_next 245 = .ok (.aload_n 0, 1) := dk_42 (dk_at dksX2_next_10 19 rfl rfl)
theorem dX2_next_246 : decode cX2_next 246 = .ok (.invokevirtual 33, 3) := dk_182 0 33 (dk_at dksX2_next_10 20 rfl rfl)
theorem dX2_next_249 : decode cX2_next 249 = .ok (.putfield 44, 3) := dk_181 0 44 (dk_at dksX2_next_11 0 rfl rfl)
theorem dX2_next_252 : decode cX2_next 252 = .ok (.ldc 77, 2) := dk_18 77 (dk_at dksX2_next_11 3 rfl rfl)
theorem dX2_next_254 : decode cX2_next 254 = .ok (.aload_n 0, 1) := dk_42 (dk_at dksX2_next_11 5 rfl rfl)
theorem dX2_next_255 : decode cX2_next 255 = .ok (.getfield 44, 3) := dk_180 0 44 (dk_at dksX2_next_11 6 rfl rfl)
theorem dX2_next_258 : decode cX2_next 258 = .ok (.invokevirtual 79, 3) := dk_182 0 79 (dk_at dksX2_next_11 9 rfl rfl)
theorem dX2_next_261 : decode cX2_next 261 = .ok (.ifCond .ge 8, 3) := dk_156 0 8 (dk_at dksX2_next_11 12 rfl rfl)
theorem dX2_next_264 : decode cX2_next 264 = .ok (.aload_n 0, 1) := dk_42 (dk_at dksX2_next_11 15 rfl rfl)
theorem dX2_next_265 : decode cX2_next 265 = .ok (.invokevirtual 73, 3) := dk_182 0 73 (dk_at dksX2_next_11 16 rfl rfl)
theorem dX2_next_268 : decode cX2_next 268 = .ok (.athrow, 1) := dk_191 (dk_at dksX2_next_11 19 rfl rfl)
theorem dX2_next_269 : decode cX2_next 269 = .ok (.aload_n 0, 1) := dk_42 (dk_at dksX2_next_11 20 rfl rfl)
theorem dX2_next_270 : decode cX2_next 270 = .ok (.dup, 1) := dk_89 (dk_at dksX2_next_11 21 rfl rfl)
theorem dX2_next_271 : decode cX2_next 271 = .ok (.getfield 9, 3) := dk_180 0 9 (dk_at dksX2_next_12 0 rfl rfl)
theorem dX2_next_274 : decode cX2_next 274 = .ok (.iconst 1, 1) := dk_4 (dk_at dksX2_next_12 3 rfl rfl)
theorem dX2_next_275 : decode cX2_next 275 = .ok (.iadd, 1) := dk_96 (dk_at dksX2_next_12 4 rfl rfl)
theorem dX2_next_276 : decode cX2_next 276 = .ok (.putfield 9, 3) := dk_181 0 9 (dk_at dksX2_next_12 5 rfl rfl)
theorem dX2_next_279 : decode cX2_next 279 = .ok (.return_, 1) := dk_177 (dk_at dksX2_next_12 8 rfl rfl)
abbrev cX2_here : ByteArray := prog_12_method_3_code
def yX2_here : MethodName := ⟨RX2, "here", "()I"⟩
def dkwX2_here_1 : List UInt8 := [167, 0, 4, 2, 172]
abbrev dktX2_here_1 : List UInt8 := dkwX2_here_1 ++ []
def dkwX2_here_0 : List UInt8 := [42, 180, 0, 9, 42, 180, 0, 25, 162, 0, 19, 42, 180, 0, 21, 42, 180, 0, 9, 51, 17, 0, 255, 126]
abbrev dktX2_here_0 : List UInt8 := dkwX2_here_0 ++ dktX2_here_1
theorem dksX2_here_0 : cX2_here.data.toList.drop 0 = dktX2_here_0 := by decide +kernel
theorem dksX2_here_1 : cX2_here.data.toList.drop 24 = dktX2_here_1 := dk_seg dksX2_here_0 24 rfl rfl
theorem dX2_here_0 : decode cX2_here 0 = .ok (.aload_n 0, 1) := dk_42 (dk_at dksX2_here_0 0 rfl rfl)
theorem dX2_here_1 : decode cX2_here 1 = .ok (.getfield 9, 3) := dk_180 0 9 (dk_at dksX2_here_0 1 rfl rfl)
theorem dX2_here_4 : decode cX2_here 4 = .ok (.aload_n 0, 1) := dk_42 (dk_at dksX2_here_0 4 rfl rfl)
theorem dX2_here_5 : decode cX2_here 5 = .ok (.getfield 25, 3) := dk_180 0 25 (dk_at dksX2_here_0 5 rfl rfl)
theorem dX2_here_8 : decode cX2_here 8 = .ok (.if_icmp .ge 19, 3) := dk_162 0 19 (dk_at dksX2_here_0 8 rfl rfl)
theorem dX2_here_11 : decode cX2_here 11 = .ok (.aload_n 0, 1) := dk_42 (dk_at dksX2_here_0 11 rfl rfl)
theorem dX2_here_12 : decode cX2_here 12 = .ok (.getfield 21, 3) := dk_180 0 21 (dk_at dksX2_here_0 12 rfl rfl)
theorem dX2_here_15 : decode cX2_here 15 = .ok (.aload_n 0, 1) := dk_42 (dk_at dksX2_here_0 15 rfl rfl)
theorem dX2_here_16 : decode cX2_here 16 = .ok (.getfield 9, 3) := dk_180 0 9 (dk_at dksX2_here_0 16 rfl rfl)
theorem dX2_here_19 : decode cX2_here 19 = .ok (.baload, 1) := dk_51 (dk_at dksX2_here_0 19 rfl rfl)
theorem dX2_here_20 : decode cX2_here 20 = .ok (.sipush 255, 3) := dk_17 0 255 (dk_at dksX2_here_0 20 rfl rfl)
theorem dX2_here_23 : decode cX2_here 23 = .ok (.iand, 1) := dk_126 (dk_at dksX2_here_0 23 rfl rfl)
theorem dX2_here_24 : decode cX2_here 24 = .ok (.goto 4, 3) := dk_167 0 4 (dk_at dksX2_here_1 0 rfl rfl)
theorem dX2_here_27 : decode cX2_here 27 = .ok (.iconst (-1), 1) := dk_2 (dk_at dksX2_here_1 3 rfl rfl)
theorem dX2_here_28 : decode cX2_here 28 = .ok (.ireturn, 1) := dk_172 (dk_at dksX2_here_1 4 rfl rfl)
abbrev cX2_fault : ByteArray := prog_12_method_2_code
def yX2_fault : MethodName := ⟨RX2, "fault", "()LGateRoad$Fault;"⟩
def dkwX2_fault_0 : List UInt8 := [187, 0, 28, 89, 42, 180, 0, 15, 183, 0, 30, 176]
abbrev dktX2_fault_0 : List UInt8 := dkwX2_fault_0 ++ []
theorem dksX2_fault_0 : cX2_fault.data.toList.drop 0 = dktX2_fault_0 := by decide +kernel
theorem dX2_fault_0 : decode cX2_fault 0 = .ok (.new 28, 3) := dk_187 0 28 (dk_at dksX2_fault_0 0 rfl rfl)
theorem dX2_fault_3 : decode cX2_fault 3 = .ok (.dup, 1) := dk_89 (dk_at dksX2_fault_0 3 rfl rfl)
theorem dX2_fault_4 : decode cX2_fault 4 = .ok (.aload_n 0, 1) := dk_42 (dk_at dksX2_fault_0 4 rfl rfl)
theorem dX2_fault_5 : decode cX2_fault 5 = .ok (.getfield 15, 3) := dk_180 0 15 (dk_at dksX2_fault_0 5 rfl rfl)
theorem dX2_fault_8 : decode cX2_fault 8 = .ok (.invokespecial 30, 3) := dk_183 0 30 (dk_at dksX2_fault_0 8 rfl rfl)
theorem dX2_fault_11 : decode cX2_fault 11 = .ok (.areturn, 1) := dk_176 (dk_at dksX2_fault_0 11 rfl rfl)
abbrev cX2_is : ByteArray := prog_12_method_5_code
def yX2_is : MethodName := ⟨RX2, "is", "(Ljava/lang/String;)Z"⟩
def dkwX2_is_0 : List UInt8 := [43, 42, 180, 0, 37, 182, 0, 85, 172]
abbrev dktX2_is_0 : List UInt8 := dkwX2_is_0 ++ []
theorem dksX2_is_0 : cX2_is.data.toList.drop 0 = dktX2_is_0 := by decide +kernel
theorem dX2_is_0 : decode cX2_is 0 = .ok (.aload_n 1, 1) := dk_43 (dk_at dksX2_is_0 0 rfl rfl)
theorem dX2_is_1 : decode cX2_is 1 = .ok (.aload_n 0, 1) := dk_42 (dk_at dksX2_is_0 1 rfl rfl)
theorem dX2_is_2 : decode cX2_is 2 = .ok (.getfield 37, 3) := dk_180 0 37 (dk_at dksX2_is_0 2 rfl rfl)
theorem dX2_is_5 : decode cX2_is 5 = .ok (.invokevirtual 85, 3) := dk_182 0 85 (dk_at dksX2_is_0 5 rfl rfl)
theorem dX2_is_8 : decode cX2_is 8 = .ok (.ireturn, 1) := dk_172 (dk_at dksX2_is_0 8 rfl rfl)
abbrev cX2_either : ByteArray := prog_12_method_13_code
def yX2_either : MethodName := ⟨RX2, "either", "()LGateRoad$Node;"⟩
def dkwX2_either_1 : List UInt8 := [43, 42, 182, 0, 141, 183, 0, 126, 76, 167, 255, 228, 43, 176]
abbrev dktX2_either_1 : List UInt8 := dkwX2_either_1 ++ []
def dkwX2_either_0 : List UInt8 := [42, 182, 0, 141, 76, 42, 18, 144, 182, 0, 116, 153, 0, 25, 42, 182, 0, 89, 187, 0, 124, 89, 16, 124]
abbrev dktX2_either_0 : List UInt8 := dkwX2_either_0 ++ dktX2_either_1
theorem dksX2_either_0 : cX2_either.data.toList.drop 0 = dktX2_either_0 := by decide +kernel
theorem dksX2_either_1 : cX2_either.data.toList.drop 24 = dktX2_either_1 := dk_seg dksX2_either_0 24 rfl rfl
theorem dX2_either_0 : decode cX2_either 0 = .ok (.aload_n 0, 1) := dk_42 (dk_at dksX2_either_0 0 rfl rfl)
theorem dX2_either_1 : decode cX2_either 1 = .ok (.invokevirtual 141, 3) := dk_182 0 141 (dk_at dksX2_either_0 1 rfl rfl)
theorem dX2_either_4 : decode cX2_either 4 = .ok (.astore_n 1, 1) := dk_76 (dk_at dksX2_either_0 4 rfl rfl)
theorem dX2_either_5 : decode cX2_either 5 = .ok (.aload_n 0, 1) := dk_42 (dk_at dksX2_either_0 5 rfl rfl)
theorem dX2_either_6 : decode cX2_either 6 = .ok (.ldc 144, 2) := dk_18 144 (dk_at dksX2_either_0 6 rfl rfl)
theorem dX2_either_8 : decode cX2_either 8 = .ok (.invokevirtual 116, 3) := dk_182 0 116 (dk_at dksX2_either_0 8 rfl rfl)
theorem dX2_either_11 : decode cX2_either 11 = .ok (.ifCond .eq 25, 3) := dk_153 0 25 (dk_at dksX2_either_0 11 rfl rfl)
theorem dX2_either_14 : decode cX2_either 14 = .ok (.aload_n 0, 1) := dk_42 (dk_at dksX2_either_0 14 rfl rfl)
theorem dX2_either_15 : decode cX2_either 15 = .ok (.invokevirtual 89, 3) := dk_182 0 89 (dk_at dksX2_either_0 15 rfl rfl)
theorem dX2_either_18 : decode cX2_either 18 = .ok (.new 124, 3) := dk_187 0 124 (dk_at dksX2_either_0 18 rfl rfl)
theorem dX2_either_21 : decode cX2_either 21 = .ok (.dup, 1) := dk_89 (dk_at dksX2_either_0 21 rfl rfl)
theorem dX2_either_22 : decode cX2_either 22 = .ok (.bipush 124, 2) := dk_16 124 (dk_at dksX2_either_0 22 rfl rfl)
theorem dX2_either_24 : decode cX2_either 24 = .ok (.aload_n 1, 1) := dk_43 (dk_at dksX2_either_1 0 rfl rfl)
theorem dX2_either_25 : decode cX2_either 25 = .ok (.aload_n 0, 1) := dk_42 (dk_at dksX2_either_1 1 rfl rfl)
theorem dX2_either_26 : decode cX2_either 26 = .ok (.invokevirtual 141, 3) := dk_182 0 141 (dk_at dksX2_either_1 2 rfl rfl)
theorem dX2_either_29 : decode cX2_either 29 = .ok (.invokespecial 126, 3) := dk_183 0 126 (dk_at dksX2_either_1 5 rfl rfl)
theorem dX2_either_32 : decode cX2_either 32 = .ok (.astore_n 1, 1) := dk_76 (dk_at dksX2_either_1 8 rfl rfl)
theorem dX2_either_33 : decode cX2_either 33 = .ok (.goto (-28), 3) := dk_167 255 228 (dk_at dksX2_either_1 9 rfl rfl)
theorem dX2_either_36 : decode cX2_either 36 = .ok (.aload_n 1, 1) := dk_43 (dk_at dksX2_either_1 12 rfl rfl)
theorem dX2_either_37 : decode cX2_either 37 = .ok (.areturn, 1) := dk_176 (dk_at dksX2_either_1 13 rfl rfl)
abbrev cX2_both : ByteArray := prog_12_method_12_code
def yX2_both : MethodName := ⟨RX2, "both", "()LGateRoad$Node;"⟩
def dkwX2_both_1 : List UInt8 := [43, 42, 182, 0, 134, 183, 0, 126, 76, 167, 255, 228, 43, 176]
abbrev dktX2_both_1 : List UInt8 := dkwX2_both_1 ++ []
def dkwX2_both_0 : List UInt8 := [42, 182, 0, 134, 76, 42, 18, 139, 182, 0, 116, 153, 0, 25, 42, 182, 0, 89, 187, 0, 124, 89, 16, 38]
abbrev dktX2_both_0 : List UInt8 := dkwX2_both_0 ++ dktX2_both_1
theorem dksX2_both_0 : cX2_both.data.toList.drop 0 = dktX2_both_0 := by decide +kernel
theorem dksX2_both_1 : cX2_both.data.toList.drop 24 = dktX2_both_1 := dk_seg dksX2_both_0 24 rfl rfl
theorem dX2_both_0 : decode cX2_both 0 = .ok (.aload_n 0, 1) := dk_42 (dk_at dksX2_both_0 0 rfl rfl)
theorem dX2_both_1 : decode cX2_both 1 = .ok (.invokevirtual 134, 3) := dk_182 0 134 (dk_at dksX2_both_0 1 rfl rfl)
theorem dX2_both_4 : decode cX2_both 4 = .ok (.astore_n 1, 1) := dk_76 (dk_at dksX2_both_0 4 rfl rfl)
theorem dX2_both_5 : decode cX2_both 5 = .ok (.aload_n 0, 1) := dk_42 (dk_at dksX2_both_0 5 rfl rfl)
theorem dX2_both_6 : decode cX2_both 6 = .ok (.ldc 139, 2) := dk_18 139 (dk_at dksX2_both_0 6 rfl rfl)
theorem dX2_both_8 : decode cX2_both 8 = .ok (.invokevirtual 116, 3) := dk_182 0 116 (dk_at dksX2_both_0 8 rfl rfl)
theorem dX2_both_11 : decode cX2_both 11 = .ok (.ifCond .eq 25, 3) := dk_153 0 25 (dk_at dksX2_both_0 11 rfl rfl)
theorem dX2_both_14 : decode cX2_both 14 = .ok (.aload_n 0, 1) := dk_42 (dk_at dksX2_both_0 14 rfl rfl)
theorem dX2_both_15 : decode cX2_both 15 = .ok (.invokevirtual 89, 3) := dk_182 0 89 (dk_at dksX2_both_0 15 rfl rfl)
theorem dX2_both_18 : decode cX2_both 18 = .ok (.new 124, 3) := dk_187 0 124 (dk_at dksX2_both_0 18 rfl rfl)
theorem dX2_both_21 : decode cX2_both 21 = .ok (.dup, 1) := dk_89 (dk_at dksX2_both_0 21 rfl rfl)
theorem dX2_both_22 : decode cX2_both 22 = .ok (.bipush 38, 2) := dk_16 38 (dk_at dksX2_both_0 22 rfl rfl)
theorem dX2_both_24 : decode cX2_both 24 = .ok (.aload_n 1, 1) := dk_43 (dk_at dksX2_both_1 0 rfl rfl)
theorem dX2_both_25 : decode cX2_both 25 = .ok (.aload_n 0, 1) := dk_42 (dk_at dksX2_both_1 1 rfl rfl)
theorem dX2_both_26 : decode cX2_both 26 = .ok (.invokevirtual 134, 3) := dk_182 0 134 (dk_at dksX2_both_1 2 rfl rfl)
theorem dX2_both_29 : decode cX2_both 29 = .ok (.invokespecial 126, 3) := dk_183 0 126 (dk_at dksX2_both_1 5 rfl rfl)
theorem dX2_both_32 : decode cX2_both 32 = .ok (.astore_n 1, 1) := dk_76 (dk_at dksX2_both_1 8 rfl rfl)
theorem dX2_both_33 : decode cX2_both 33 = .ok (.goto (-28), 3) := dk_167 255 228 (dk_at dksX2_both_1 9 rfl rfl)
theorem dX2_both_36 : decode cX2_both 36 = .ok (.aload_n 1, 1) := dk_43 (dk_at dksX2_both_1 12 rfl rfl)
theorem dX2_both_37 : decode cX2_both 37 = .ok (.areturn, 1) := dk_176 (dk_at dksX2_both_1 13 rfl rfl)
abbrev cX2_not : ByteArray := prog_12_method_11_code
def yX2_not : MethodName := ⟨RX2, "not", "()LGateRoad$Node;"⟩
def dkwX2_not_3 : List UInt8 := [182, 0, 89, 187, 0, 124, 89, 28, 43, 42, 182, 0, 136, 183, 0, 126, 176]
abbrev dktX2_not_3 : List UInt8 := dkwX2_not_3 ++ []
def dkwX2_not_2 : List UInt8 := [16, 60, 159, 0, 14, 42, 180, 0, 44, 16, 61, 159, 0, 5, 43, 176, 42, 180, 0, 44, 61, 42]
abbrev dktX2_not_2 : List UInt8 := dkwX2_not_2 ++ dktX2_not_3
def dkwX2_not_1 : List UInt8 := [100, 181, 0, 18, 187, 0, 99, 89, 4, 43, 183, 0, 101, 176, 42, 182, 0, 136, 76, 42, 180, 0, 44]
abbrev dktX2_not_1 : List UInt8 := dkwX2_not_1 ++ dktX2_not_2
def dkwX2_not_0 : List UInt8 := [42, 18, 132, 182, 0, 116, 153, 0, 32, 42, 182, 0, 92, 42, 182, 0, 134, 76, 42, 89, 180, 0, 18, 4]
abbrev dktX2_not_0 : List UInt8 := dkwX2_not_0 ++ dktX2_not_1
theorem dksX2_not_0 : cX2_not.data.toList.drop 0 = dktX2_not_0 := by decide +kernel
theorem dksX2_not_1 : cX2_not.data.toList.drop 24 = dktX2_not_1 := dk_seg dksX2_not_0 24 rfl rfl
theorem dksX2_not_2 : cX2_not.data.toList.drop 47 = dktX2_not_2 := dk_seg dksX2_not_1 23 rfl rfl
theorem dksX2_not_3 : cX2_not.data.toList.drop 69 = dktX2_not_3 := dk_seg dksX2_not_2 22 rfl rfl
theorem dX2_not_0 : decode cX2_not 0 = .ok (.aload_n 0, 1) := dk_42 (dk_at dksX2_not_0 0 rfl rfl)
theorem dX2_not_1 : decode cX2_not 1 = .ok (.ldc 132, 2) := dk_18 132 (dk_at dksX2_not_0 1 rfl rfl)
theorem dX2_not_3 : decode cX2_not 3 = .ok (.invokevirtual 116, 3) := dk_182 0 116 (dk_at dksX2_not_0 3 rfl rfl)
theorem dX2_not_6 : decode cX2_not 6 = .ok (.ifCond .eq 32, 3) := dk_153 0 32 (dk_at dksX2_not_0 6 rfl rfl)
theorem dX2_not_9 : decode cX2_not 9 = .ok (.aload_n 0, 1) := dk_42 (dk_at dksX2_not_0 9 rfl rfl)
theorem dX2_not_10 : decode cX2_not 10 = .ok (.invokevirtual 92, 3) := dk_182 0 92 (dk_at dksX2_not_0 10 rfl rfl)
theorem dX2_not_13 : decode cX2_not 13 = .ok (.aload_n 0, 1) := dk_42 (dk_at dksX2_not_0 13 rfl rfl)
theorem dX2_not_14 : decode cX2_not 14 = .ok (.invokevirtual 134, 3) := dk_182 0 134 (dk_at dksX2_not_0 14 rfl rfl)
theorem dX2_not_17 : decode cX2_not 17 = .ok (.astore_n 1, 1) := dk_76 (dk_at dksX2_not_0 17 rfl rfl)
theorem dX2_not_18 : decode cX2_not 18 = .ok (.aload_n 0, 1) := dk_42 (dk_at dksX2_not_0 18 rfl rfl)
theorem dX2_not_19 : decode cX2_not 19 = .ok (.dup, 1) := dk_89 (dk_at dksX2_not_0 19 rfl rfl)
theorem dX2_not_20 : decode cX2_not 20 = .ok (.getfield 18, 3) := dk_180 0 18 (dk_at dksX2_not_0 20 rfl rfl)
theorem dX2_not_23 : decode cX2_not 23 = .ok (.iconst 1, 1) := dk_4 (dk_at dksX2_not_0 23 rfl rfl)
theorem dX2_not_24 : decode cX2_not 24 = .ok (.isub, 1) := dk_100 (dk_at dksX2_not_1 0 rfl rfl)
theorem dX2_not_25 : decode cX2_not 25 = .ok (.putfield 18, 3) := dk_181 0 18 (dk_at dksX2_not_1 1 rfl rfl)
theorem dX2_not_28 : decode cX2_not 28 = .ok (.new 99, 3) := dk_187 0 99 (dk_at dksX2_not_1 4 rfl rfl)
theorem dX2_not_31 : decode cX2_not 31 = .ok (.dup, 1) := dk_89 (dk_at dksX2_not_1 7 rfl rfl)
theorem dX2_not_32 : decode cX2_not 32 = .ok (.iconst 1, 1) := dk_4 (dk_at dksX2_not_1 8 rfl rfl)
theorem dX2_not_33 : decode cX2_not 33 = .ok (.aload_n 1, 1) := dk_43 (dk_at dksX2_not_1 9 rfl rfl)
theorem dX2_not_34 : decode cX2_not 34 = .ok (.invokespecial 101, 3) := dk_183 0 101 (dk_at dksX2_not_1 10 rfl rfl)
theorem dX2_not_37 : decode cX2_not 37 = .ok (.areturn, 1) := dk_176 (dk_at dksX2_not_1 13 rfl rfl)
theorem dX2_not_38 : decode cX2_not 38 = .ok (.aload_n 0, 1) := dk_42 (dk_at dksX2_not_1 14 rfl rfl)
theorem dX2_not_39 : decode cX2_not 39 = .ok (.invokevirtual 136, 3) := dk_182 0 136 (dk_at dksX2_not_1 15 rfl rfl)
theorem dX2_not_42 : decode cX2_not 42 = .ok (.astore_n 1, 1) := dk_76 (dk_at dksX2_not_1 18 rfl rfl)
theorem dX2_not_43 : decode cX2_not 43 = .ok (.aload_n 0, 1) := dk_42 (dk_at dksX2_not_1 19 rfl rfl)
theorem dX2_not_44 : decode cX2_not 44 = .ok (.getfield 44, 3) := dk_180 0 44 (dk_at dksX2_not_1 20 rfl rfl)
theorem dX2_not_47 : decode cX2_not 47 = .ok (.bipush 60, 2) := dk_16 60 (dk_at dksX2_not_2 0 rfl rfl)
theorem dX2_not_49 : decode cX2_not 49 = .ok (.if_icmp .eq 14, 3) := dk_159 0 14 (dk_at dksX2_not_2 2 rfl rfl)
theorem dX2_not_52 : decode cX2_not 52 = .ok (.aload_n 0, 1) := dk_42 (dk_at dksX2_not_2 5 rfl rfl)
theorem dX2_not_53 : decode cX2_not 53 = .ok (.getfield 44, 3) := dk_180 0 44 (dk_at dksX2_not_2 6 rfl rfl)
theorem dX2_not_56 : decode cX2_not 56 = .ok (.bipush 61, 2) := dk_16 61 (dk_at dksX2_not_2 9 rfl rfl)
theorem dX2_not_58 : decode cX2_not 58 = .ok (.if_icmp .eq 5, 3) := dk_159 0 5 (dk_at dksX2_not_2 11 rfl rfl)
theorem dX2_not_61 : decode cX2_not 61 = .ok (.aload_n 1, 1) := dk_43 (dk_at dksX2_not_2 14 rfl rfl)
theorem dX2_not_62 : decode cX2_not 62 = .ok (.areturn, 1) := dk_176 (dk_at dksX2_not_2 15 rfl rfl)
theorem dX2_not_63 : decode cX2_not 63 = .ok (.aload_n 0, 1) := dk_42 (dk_at dksX2_not_2 16 rfl rfl)
theorem dX2_not_64 : decode cX2_not 64 = .ok (.getfield 44, 3) := dk_180 0 44 (dk_at dksX2_not_2 17 rfl rfl)
theorem dX2_not_67 : decode cX2_not 67 = .ok (.istore_n 2, 1) := dk_61 (dk_at dksX2_not_2 20 rfl rfl)
theorem dX2_not_68 : decode cX2_not 68 = .ok (.aload_n 0, 1) := dk_42 (dk_at dksX2_not_2 21 rfl rfl)
theorem dX2_not_69 : decode cX2_not 69 = .ok (.invokevirtual 89, 3) := dk_182 0 89 (dk_at dksX2_not_3 0 rfl rfl)
theorem dX2_not_72 : decode cX2_not 72 = .ok (.new 124, 3) := dk_187 0 124 (dk_at dksX2_not_3 3 rfl rfl)
theorem dX2_not_75 : decode cX2_not 75 = .ok (.dup, 1) := dk_89 (dk_at dksX2_not_3 6 rfl rfl)
theorem dX2_not_76 : decode cX2_not 76 = .ok (.iload_n 2, 1) := dk_28 (dk_at dksX2_not_3 7 rfl rfl)
theorem dX2_not_77 : decode cX2_not 77 = .ok (.aload_n 1, 1) := dk_43 (dk_at dksX2_not_3 8 rfl rfl)
theorem dX2_not_78 : decode cX2_not 78 = .ok (.aload_n 0, 1) := dk_42 (dk_at dksX2_not_3 9 rfl rfl)
theorem dX2_not_79 : decode cX2_not 79 = .ok (.invokevirtual 136, 3) := dk_182 0 136 (dk_at dksX2_not_3 10 rfl rfl)
theorem dX2_not_82 : decode cX2_not 82 = .ok (.invokespecial 126, 3) := dk_183 0 126 (dk_at dksX2_not_3 13 rfl rfl)
theorem dX2_not_85 : decode cX2_not 85 = .ok (.areturn, 1) := dk_176 (dk_at dksX2_not_3 16 rfl rfl)
abbrev cX2_opens : ByteArray := prog_12_method_7_code
def yX2_opens : MethodName := ⟨RX2, "opens", "()V"⟩
def dkwX2_opens_1 : List UInt8 := [182, 0, 89, 177]
abbrev dktX2_opens_1 : List UInt8 := dkwX2_opens_1 ++ []
def dkwX2_opens_0 : List UInt8 := [42, 180, 0, 18, 8, 160, 0, 8, 42, 182, 0, 73, 191, 42, 89, 180, 0, 18, 4, 96, 181, 0, 18, 42]
abbrev dktX2_opens_0 : List UInt8 := dkwX2_opens_0 ++ dktX2_opens_1
theorem dksX2_opens_0 : cX2_opens.data.toList.drop 0 = dktX2_opens_0 := by decide +kernel
theorem dksX2_opens_1 : cX2_opens.data.toList.drop 24 = dktX2_opens_1 := dk_seg dksX2_opens_0 24 rfl rfl
theorem dX2_opens_0 : decode cX2_opens 0 = .ok (.aload_n 0, 1) := dk_42 (dk_at dksX2_opens_0 0 rfl rfl)
theorem dX2_opens_1 : decode cX2_opens 1 = .ok (.getfield 18, 3) := dk_180 0 18 (dk_at dksX2_opens_0 1 rfl rfl)
theorem dX2_opens_4 : decode cX2_opens 4 = .ok (.iconst 5, 1) := dk_8 (dk_at dksX2_opens_0 4 rfl rfl)
theorem dX2_opens_5 : decode cX2_opens 5 = .ok (.if_icmp .ne 8, 3) := dk_160 0 8 (dk_at dksX2_opens_0 5 rfl rfl)
theorem dX2_opens_8 : decode cX2_opens 8 = .ok (.aload_n 0, 1) := dk_42 (dk_at dksX2_opens_0 8 rfl rfl)
theorem dX2_opens_9 : decode cX2_opens 9 = .ok (.invokevirtual 73, 3) := dk_182 0 73 (dk_at dksX2_opens_0 9 rfl rfl)
theorem dX2_opens_12 : decode cX2_opens 12 = .ok (.athrow, 1) := dk_191 (dk_at dksX2_opens_0 12 rfl rfl)
theorem dX2_opens_13 : decode cX2_opens 13 = .ok (.aload_n 0, 1) := dk_42 (dk_at dksX2_opens_0 13 rfl rfl)
theorem dX2_opens_14 : decode cX2_opens 14 = .ok (.dup, 1) := dk_89 (dk_at dksX2_opens_0 14 rfl rfl)
theorem dX2_opens_15 : decode cX2_opens 15 = .ok (.getfield 18, 3) := dk_180 0 18 (dk_at dksX2_opens_0 15 rfl rfl)
theorem dX2_opens_18 : decode cX2_opens 18 = .ok (.iconst 1, 1) := dk_4 (dk_at dksX2_opens_0 18 rfl rfl)
theorem dX2_opens_19 : decode cX2_opens 19 = .ok (.iadd, 1) := dk_96 (dk_at dksX2_opens_0 19 rfl rfl)
theorem dX2_opens_20 : decode cX2_opens 20 = .ok (.putfield 18, 3) := dk_181 0 18 (dk_at dksX2_opens_0 20 rfl rfl)
theorem dX2_opens_23 : decode cX2_opens 23 = .ok (.aload_n 0, 1) := dk_42 (dk_at dksX2_opens_0 23 rfl rfl)
theorem dX2_opens_24 : decode cX2_opens 24 = .ok (.invokevirtual 89, 3) := dk_182 0 89 (dk_at dksX2_opens_1 0 rfl rfl)
theorem dX2_opens_27 : decode cX2_opens 27 = .ok (.return_, 1) := dk_177 (dk_at dksX2_opens_1 3 rfl rfl)
abbrev cX2_sum : ByteArray := prog_12_method_10_code
def yX2_sum : MethodName := ⟨RX2, "sum", "()LGateRoad$Node;"⟩
def dkwX2_sum_2 : List UInt8 := [167, 255, 215, 43, 176]
abbrev dktX2_sum_2 : List UInt8 := dkwX2_sum_2 ++ []
def dkwX2_sum_1 : List UInt8 := [180, 0, 44, 61, 42, 182, 0, 89, 187, 0, 124, 89, 28, 43, 42, 182, 0, 129, 183, 0, 126, 76]
abbrev dktX2_sum_1 : List UInt8 := dkwX2_sum_1 ++ dktX2_sum_2
def dkwX2_sum_0 : List UInt8 := [42, 182, 0, 129, 76, 42, 180, 0, 44, 16, 43, 159, 0, 12, 42, 180, 0, 44, 16, 45, 160, 0, 29, 42]
abbrev dktX2_sum_0 : List UInt8 := dkwX2_sum_0 ++ dktX2_sum_1
theorem dksX2_sum_0 : cX2_sum.data.toList.drop 0 = dktX2_sum_0 := by decide +kernel
theorem dksX2_sum_1 : cX2_sum.data.toList.drop 24 = dktX2_sum_1 := dk_seg dksX2_sum_0 24 rfl rfl
theorem dksX2_sum_2 : cX2_sum.data.toList.drop 46 = dktX2_sum_2 := dk_seg dksX2_sum_1 22 rfl rfl
theorem dX2_sum_0 : decode cX2_sum 0 = .ok (.aload_n 0, 1) := dk_42 (dk_at dksX2_sum_0 0 rfl rfl)
theorem dX2_sum_1 : decode cX2_sum 1 = .ok (.invokevirtual 129, 3) := dk_182 0 129 (dk_at dksX2_sum_0 1 rfl rfl)
theorem dX2_sum_4 : decode cX2_sum 4 = .ok (.astore_n 1, 1) := dk_76 (dk_at dksX2_sum_0 4 rfl rfl)
theorem dX2_sum_5 : decode cX2_sum 5 = .ok (.aload_n 0, 1) := dk_42 (dk_at dksX2_sum_0 5 rfl rfl)
theorem dX2_sum_6 : decode cX2_sum 6 = .ok (.getfield 44, 3) := dk_180 0 44 (dk_at dksX2_sum_0 6 rfl rfl)
theorem dX2_sum_9 : decode cX2_sum 9 = .ok (.bipush 43, 2) := dk_16 43 (dk_at dksX2_sum_0 9 rfl rfl)
theorem dX2_sum_11 : decode cX2_sum 11 = .ok (.if_icmp .eq 12, 3) := dk_159 0 12 (dk_at dksX2_sum_0 11 rfl rfl)
theorem dX2_sum_14 : decode cX2_sum 14 = .ok (.aload_n 0, 1) := dk_42 (dk_at dksX2_sum_0 14 rfl rfl)
theorem dX2_sum_15 : decode cX2_sum 15 = .ok (.getfield 44, 3) := dk_180 0 44 (dk_at dksX2_sum_0 15 rfl rfl)
theorem dX2_sum_18 : decode cX2_sum 18 = .ok (.bipush 45, 2) := dk_16 45 (dk_at dksX2_sum_0 18 rfl rfl)
theorem dX2_sum_20 : decode cX2_sum 20 = .ok (.if_icmp .ne 29, 3) := dk_160 0 29 (dk_at dksX2_sum_0 20 rfl rfl)
theorem dX2_sum_23 : decode cX2_sum 23 = .ok (.aload_n 0, 1) := dk_42 (dk_at dksX2_sum_0 23 rfl rfl)
theorem dX2_sum_24 : decode cX2_sum 24 = .ok (.getfield 44, 3) := dk_180 0 44 (dk_at dksX2_sum_1 0 rfl rfl)
theorem dX2_sum_27 : decode cX2_sum 27 = .ok (.istore_n 2, 1) := dk_61 (dk_at dksX2_sum_1 3 rfl rfl)
theorem dX2_sum_28 : decode cX2_sum 28 = .ok (.aload_n 0, 1) := dk_42 (dk_at dksX2_sum_1 4 rfl rfl)
theorem dX2_sum_29 : decode cX2_sum 29 = .ok (.invokevirtual 89, 3) := dk_182 0 89 (dk_at dksX2_sum_1 5 rfl rfl)
theorem dX2_sum_32 : decode cX2_sum 32 = .ok (.new 124, 3) := dk_187 0 124 (dk_at dksX2_sum_1 8 rfl rfl)
theorem dX2_sum_35 : decode cX2_sum 35 = .ok (.dup, 1) := dk_89 (dk_at dksX2_sum_1 11 rfl rfl)
theorem dX2_sum_36 : decode cX2_sum 36 = .ok (.iload_n 2, 1) := dk_28 (dk_at dksX2_sum_1 12 rfl rfl)
theorem dX2_sum_37 : decode cX2_sum 37 = .ok (.aload_n 1, 1) := dk_43 (dk_at dksX2_sum_1 13 rfl rfl)
theorem dX2_sum_38 : decode cX2_sum 38 = .ok (.aload_n 0, 1) := dk_42 (dk_at dksX2_sum_1 14 rfl rfl)
theorem dX2_sum_39 : decode cX2_sum 39 = .ok (.invokevirtual 129, 3) := dk_182 0 129 (dk_at dksX2_sum_1 15 rfl rfl)
theorem dX2_sum_42 : decode cX2_sum 42 = .ok (.invokespecial 126, 3) := dk_183 0 126 (dk_at dksX2_sum_1 18 rfl rfl)
theorem dX2_sum_45 : decode cX2_sum 45 = .ok (.astore_n 1, 1) := dk_76 (dk_at dksX2_sum_1 21 rfl rfl)
theorem dX2_sum_46 : decode cX2_sum 46 = .ok (.goto (-41), 3) := dk_167 255 215 (dk_at dksX2_sum_2 0 rfl rfl)
theorem dX2_sum_49 : decode cX2_sum 49 = .ok (.aload_n 1, 1) := dk_43 (dk_at dksX2_sum_2 3 rfl rfl)
theorem dX2_sum_50 : decode cX2_sum 50 = .ok (.areturn, 1) := dk_176 (dk_at dksX2_sum_2 4 rfl rfl)
abbrev cX2_term : ByteArray := prog_12_method_9_code
def yX2_term : MethodName := ⟨RX2, "term", "()LGateRoad$Node;"⟩
def dkwX2_term_1 : List UInt8 := [182, 0, 95, 183, 0, 126, 76, 167, 255, 232, 43, 176]
abbrev dktX2_term_1 : List UInt8 := dkwX2_term_1 ++ []
def dkwX2_term_0 : List UInt8 := [42, 182, 0, 95, 76, 42, 16, 42, 182, 0, 120, 153, 0, 21, 187, 0, 124, 89, 16, 42, 43, 42]
abbrev dktX2_term_0 : List UInt8 := dkwX2_term_0 ++ dktX2_term_1
theorem dksX2_term_0 : cX2_term.data.toList.drop 0 = dktX2_term_0 := by decide +kernel
theorem dksX2_term_1 : cX2_term.data.toList.drop 22 = dktX2_term_1 := dk_seg dksX2_term_0 22 rfl rfl
theorem dX2_term_0 : decode cX2_term 0 = .ok (.aload_n 0, 1) := dk_42 (dk_at dksX2_term_0 0 rfl rfl)
theorem dX2_term_1 : decode cX2_term 1 = .ok (.invokevirtual 95, 3) := dk_182 0 95 (dk_at dksX2_term_0 1 rfl rfl)
theorem dX2_term_4 : decode cX2_term 4 = .ok (.astore_n 1, 1) := dk_76 (dk_at dksX2_term_0 4 rfl rfl)
theorem dX2_term_5 : decode cX2_term 5 = .ok (.aload_n 0, 1) := dk_42 (dk_at dksX2_term_0 5 rfl rfl)
theorem dX2_term_6 : decode cX2_term 6 = .ok (.bipush 42, 2) := dk_16 42 (dk_at dksX2_term_0 6 rfl rfl)
theorem dX2_term_8 : decode cX2_term 8 = .ok (.invokevirtual 120, 3) := dk_182 0 120 (dk_at dksX2_term_0 8 rfl rfl)
theorem dX2_term_11 : decode cX2_term 11 = .ok (.ifCond .eq 21, 3) := dk_153 0 21 (dk_at dksX2_term_0 11 rfl rfl)
theorem dX2_term_14 : decode cX2_term 14 = .ok (.new 124, 3) := dk_187 0 124 (dk_at dksX2_term_0 14 rfl rfl)
theorem dX2_term_17 : decode cX2_term 17 = .ok (.dup, 1) := dk_89 (dk_at dksX2_term_0 17 rfl rfl)
theorem dX2_term_18 : decode cX2_term 18 = .ok (.bipush 42, 2) := dk_16 42 (dk_at dksX2_term_0 18 rfl rfl)
theorem dX2_term_20 : decode cX2_term 20 = .ok (.aload_n 1, 1) := dk_43 (dk_at dksX2_term_0 20 rfl rfl)
theorem dX2_term_21 : decode cX2_term 21 = .ok (.aload_n 0, 1) := dk_42 (dk_at dksX2_term_0 21 rfl rfl)
theorem dX2_term_22 : decode cX2_term 22 = .ok (.invokevirtual 95, 3) := dk_182 0 95 (dk_at dksX2_term_1 0 rfl rfl)
theorem dX2_term_25 : decode cX2_term 25 = .ok (.invokespecial 126, 3) := dk_183 0 126 (dk_at dksX2_term_1 3 rfl rfl)
theorem dX2_term_28 : decode cX2_term 28 = .ok (.astore_n 1, 1) := dk_76 (dk_at dksX2_term_1 6 rfl rfl)
theorem dX2_term_29 : decode cX2_term 29 = .ok (.goto (-24), 3) := dk_167 255 232 (dk_at dksX2_term_1 7 rfl rfl)
theorem dX2_term_32 : decode cX2_term 32 = .ok (.aload_n 1, 1) := dk_43 (dk_at dksX2_term_1 10 rfl rfl)
theorem dX2_term_33 : decode cX2_term 33 = .ok (.areturn, 1) := dk_176 (dk_at dksX2_term_1 11 rfl rfl)
abbrev cX2_one : ByteArray := prog_12_method_8_code
def yX2_one : MethodName := ⟨RX2, "one", "()LGateRoad$Node;"⟩
def dkwX2_one_6 : List UInt8 := [187, 0, 107, 89, 3, 27, 183, 0, 109, 176, 132, 1, 1, 167, 255, 216, 42, 182, 0, 73, 191]
abbrev dktX2_one_6 : List UInt8 := dkwX2_one_6 ++ []
def dkwX2_one_5 : List UInt8 := [190, 162, 0, 38, 42, 178, 0, 112, 27, 50, 182, 0, 116, 154, 0, 6, 167, 0, 17, 42, 182, 0, 89]
abbrev dktX2_one_5 : List UInt8 := dkwX2_one_5 ++ dktX2_one_6
def dkwX2_one_4 : List UInt8 := [180, 0, 41, 60, 42, 182, 0, 89, 187, 0, 107, 89, 27, 2, 183, 0, 109, 176, 3, 60, 27, 178, 0, 112]
abbrev dktX2_one_4 : List UInt8 := dkwX2_one_4 ++ dktX2_one_5
def dkwX2_one_3 : List UInt8 := [180, 0, 18, 4, 100, 181, 0, 18, 42, 182, 0, 89, 43, 176, 42, 180, 0, 41, 2, 159, 0, 22, 42]
abbrev dktX2_one_3 : List UInt8 := dkwX2_one_3 ++ dktX2_one_4
def dkwX2_one_2 : List UInt8 := [182, 0, 92, 42, 182, 0, 104, 76, 42, 180, 0, 44, 16, 41, 159, 0, 8, 42, 182, 0, 73, 191, 42, 89]
abbrev dktX2_one_2 : List UInt8 := dkwX2_one_2 ++ dktX2_one_3
def dkwX2_one_1 : List UInt8 := [100, 181, 0, 18, 187, 0, 99, 89, 3, 43, 183, 0, 101, 176, 42, 180, 0, 44, 16, 40, 160, 0, 42, 42]
abbrev dktX2_one_1 : List UInt8 := dkwX2_one_1 ++ dktX2_one_2
def dkwX2_one_0 : List UInt8 := [42, 180, 0, 44, 16, 45, 160, 0, 32, 42, 182, 0, 92, 42, 182, 0, 95, 76, 42, 89, 180, 0, 18, 4]
abbrev dktX2_one_0 : List UInt8 := dkwX2_one_0 ++ dktX2_one_1
theorem dksX2_one_0 : cX2_one.data.toList.drop 0 = dktX2_one_0 := by decide +kernel
theorem dksX2_one_1 : cX2_one.data.toList.drop 24 = dktX2_one_1 := dk_seg dksX2_one_0 24 rfl rfl
theorem dksX2_one_2 : cX2_one.data.toList.drop 48 = dktX2_one_2 := dk_seg dksX2_one_1 24 rfl rfl
theorem dksX2_one_3 : cX2_one.data.toList.drop 72 = dktX2_one_3 := dk_seg dksX2_one_2 24 rfl rfl
theorem dksX2_one_4 : cX2_one.data.toList.drop 95 = dktX2_one_4 := dk_seg dksX2_one_3 23 rfl rfl
theorem dksX2_one_5 : cX2_one.data.toList.drop 119 = dktX2_one_5 := dk_seg dksX2_one_4 24 rfl rfl
theorem dksX2_one_6 : cX2_one.data.toList.drop 142 = dktX2_one_6 := dk_seg dksX2_one_5 23 rfl rfl
theorem dX2_one_0 : decode cX2_one 0 = .ok (.aload_n 0, 1) := dk_42 (dk_at dksX2_one_0 0 rfl rfl)
theorem dX2_one_1 : decode cX2_one 1 = .ok (.getfield 44, 3) := dk_180 0 44 (dk_at dksX2_one_0 1 rfl rfl)
theorem dX2_one_4 : decode cX2_one 4 = .ok (.bipush 45, 2) := dk_16 45 (dk_at dksX2_one_0 4 rfl rfl)
theorem dX2_one_6 : decode cX2_one 6 = .ok (.if_icmp .ne 32, 3) := dk_160 0 32 (dk_at dksX2_one_0 6 rfl rfl)
theorem dX2_one_9 : decode cX2_one 9 = .ok (.aload_n 0, 1) := dk_42 (dk_at dksX2_one_0 9 rfl rfl)
theorem dX2_one_10 : decode cX2_one 10 = .ok (.invokevirtual 92, 3) := dk_182 0 92 (dk_at dksX2_one_0 10 rfl rfl)
theorem dX2_one_13 : decode cX2_one 13 = .ok (.aload_n 0, 1) := dk_42 (dk_at dksX2_one_0 13 rfl rfl)
theorem dX2_one_14 : decode cX2_one 14 = .ok (.invokevirtual 95, 3) := dk_182 0 95 (dk_at dksX2_one_0 14 rfl rfl)
theorem dX2_one_17 : decode cX2_one 17 = .ok (.astore_n 1, 1) := dk_76 (dk_at dksX2_one_0 17 rfl rfl)
theorem dX2_one_18 : decode cX2_one 18 = .ok (.aload_n 0, 1) := dk_42 (dk_at dksX2_one_0 18 rfl rfl)
theorem dX2_one_19 : decode cX2_one 19 = .ok (.dup, 1) := dk_89 (dk_at dksX2_one_0 19 rfl rfl)
theorem dX2_one_20 : decode cX2_one 20 = .ok (.getfield 18, 3) := dk_180 0 18 (dk_at dksX2_one_0 20 rfl rfl)
theorem dX2_one_23 : decode cX2_one 23 = .ok (.iconst 1, 1) := dk_4 (dk_at dksX2_one_0 23 rfl rfl)
theorem dX2_one_24 : decode cX2_one 24 = .ok (.isub, 1) := dk_100 (dk_at dksX2_one_1 0 rfl rfl)
theorem dX2_one_25 : decode cX2_one 25 = .ok (.putfield 18, 3) := dk_181 0 18 (dk_at dksX2_one_1 1 rfl rfl)
theorem dX2_one_28 : decode cX2_one 28 = .ok (.new 99, 3) := dk_187 0 99 (dk_at dksX2_one_1 4 rfl rfl)
theorem dX2_one_31 : decode cX2_one 31 = .ok (.dup, 1) := dk_89 (dk_at dksX2_one_1 7 rfl rfl)
theorem dX2_one_32 : decode cX2_one 32 = .ok (.iconst 0, 1) := dk_3 (dk_at dksX2_one_1 8 rfl rfl)
theorem dX2_one_33 : decode cX2_one 33 = .ok (.aload_n 1, 1) := dk_43 (dk_at dksX2_one_1 9 rfl rfl)
theorem dX2_one_34 : decode cX2_one 34 = .ok (.invokespecial 101, 3) := dk_183 0 101 (dk_at dksX2_one_1 10 rfl rfl)
theorem dX2_one_37 : decode cX2_one 37 = .ok (.areturn, 1) := dk_176 (dk_at dksX2_one_1 13 rfl rfl)
theorem dX2_one_38 : decode cX2_one 38 = .ok (.aload_n 0, 1) := dk_42 (dk_at dksX2_one_1 14 rfl rfl)
theorem dX2_one_39 : decode cX2_one 39 = .ok (.getfield 44, 3) := dk_180 0 44 (dk_at dksX2_one_1 15 rfl rfl)
theorem dX2_one_42 : decode cX2_one 42 = .ok (.bipush 40, 2) := dk_16 40 (dk_at dksX2_one_1 18 rfl rfl)
theorem dX2_one_44 : decode cX2_one 44 = .ok (.if_icmp .ne 42, 3) := dk_160 0 42 (dk_at dksX2_one_1 20 rfl rfl)
theorem dX2_one_47 : decode cX2_one 47 = .ok (.aload_n 0, 1) := dk_42 (dk_at dksX2_one_1 23 rfl rfl)
theorem dX2_one_48 : decode cX2_one 48 = .ok (.invokevirtual 92, 3) := dk_182 0 92 (dk_at dksX2_one_2 0 rfl rfl)
theorem dX2_one_51 : decode cX2_one 51 = .ok (.aload_n 0, 1) := dk_42 (dk_at dksX2_one_2 3 rfl rfl)
theorem dX2_one_52 : decode cX2_one 52 = .ok (.invokevirtual 104, 3) := dk_182 0 104 (dk_at dksX2_one_2 4 rfl rfl)
theorem dX2_one_55 : decode cX2_one 55 = .ok (.astore_n 1, 1) := dk_76 (dk_at dksX2_one_2 7 rfl rfl)
theorem dX2_one_56 : decode cX2_one 56 = .ok (.aload_n 0, 1) := dk_42 (dk_at dksX2_one_2 8 rfl rfl)
theorem dX2_one_57 : decode cX2_one 57 = .ok (.getfield 44, 3) := dk_180 0 44 (dk_at dksX2_one_2 9 rfl rfl)
theorem dX2_one_60 : decode cX2_one 60 = .ok (.bipush 41, 2) := dk_16 41 (dk_at dksX2_one_2 12 rfl rfl)
theorem dX2_one_62 : decode cX2_one 62 = .ok (.if_icmp .eq 8, 3) := dk_159 0 8 (dk_at dksX2_one_2 14 rfl rfl)
theorem dX2_one_65 : decode cX2_one 65 = .ok (.aload_n 0, 1) := dk_42 (dk_at dksX2_one_2 17 rfl rfl)
theorem dX2_one_66 : decode cX2_one 66 = .ok (.invokevirtual 73, 3) := dk_182 0 73 (dk_at dksX2_one_2 18 rfl rfl)
theorem dX2_one_69 : decode cX2_one 69 = .ok (.athrow, 1) := dk_191 (dk_at dksX2_one_2 21 rfl rfl)
theorem dX2_one_70 : decode cX2_one 70 = .ok (.aload_n 0, 1) := dk_42 (dk_at dksX2_one_2 22 rfl rfl)
theorem dX2_one_71 : decode cX2_one 71 = .ok (.dup, 1) := dk_89 (dk_at dksX2_one_2 23 rfl rfl)
theorem dX2_one_72 : decode cX2_one 72 = .ok (.getfield 18, 3) := dk_180 0 18 (dk_at dksX2_one_3 0 rfl rfl)
theorem dX2_one_75 : decode cX2_one 75 = .ok (.iconst 1, 1) := dk_4 (dk_at dksX2_one_3 3 rfl rfl)
theorem dX2_one_76 : decode cX2_one 76 = .ok (.isub, 1) := dk_100 (dk_at dksX2_one_3 4 rfl rfl)
theorem dX2_one_77 : decode cX2_one 77 = .ok (.putfield 18, 3) := dk_181 0 18 (dk_at dksX2_one_3 5 rfl rfl)
theorem dX2_one_80 : decode cX2_one 80 = .ok (.aload_n 0, 1) := dk_42 (dk_at dksX2_one_3 8 rfl rfl)
theorem dX2_one_81 : decode cX2_one 81 = .ok (.invokevirtual 89, 3) := dk_182 0 89 (dk_at dksX2_one_3 9 rfl rfl)
theorem dX2_one_84 : decode cX2_one 84 = .ok (.aload_n 1, 1) := dk_43 (dk_at dksX2_one_3 12 rfl rfl)
theorem dX2_one_85 : decode cX2_one 85 = .ok (.areturn, 1) := dk_176 (dk_at dksX2_one_3 13 rfl rfl)
theorem dX2_one_86 : decode cX2_one 86 = .ok (.aload_n 0, 1) := dk_42 (dk_at dksX2_one_3 14 rfl rfl)
theorem dX2_one_87 : decode cX2_one 87 = .ok (.getfield 41, 3) := dk_180 0 41 (dk_at dksX2_one_3 15 rfl rfl)
theorem dX2_one_90 : decode cX2_one 90 = .ok (.iconst (-1), 1) := dk_2 (dk_at dksX2_one_3 18 rfl rfl)
theorem dX2_one_91 : decode cX2_one 91 = .ok (.if_icmp .eq 22, 3) := dk_159 0 22 (dk_at dksX2_one_3 19 rfl rfl)
theorem dX2_one_94 : decode cX2_one 94 = .ok (.aload_n 0, 1) := dk_42 (dk_at dksX2_one_3 22 rfl rfl)
theorem dX2_one_95 : decode cX2_one 95 = .ok (.getfield 41, 3) := dk_180 0 41 (dk_at dksX2_one_4 0 rfl rfl)
theorem dX2_one_98 : decode cX2_one 98 = .ok (.istore_n 1, 1) := dk_60 (dk_at dksX2_one_4 3 rfl rfl)
theorem dX2_one_99 : decode cX2_one 99 = .ok (.aload_n 0, 1) := dk_42 (dk_at dksX2_one_4 4 rfl rfl)
theorem dX2_one_100 : decode cX2_one 100 = .ok (.invokevirtual 89, 3) := dk_182 0 89 (dk_at dksX2_one_4 5 rfl rfl)
theorem dX2_one_103 : decode cX2_one 103 = .ok (.new 107, 3) := dk_187 0 107 (dk_at dksX2_one_4 8 rfl rfl)
theorem dX2_one_106 : decode cX2_one 106 = .ok (.dup, 1) := dk_89 (dk_at dksX2_one_4 11 rfl rfl)
theorem dX2_one_107 : decode cX2_one 107 = .ok (.iload_n 1, 1) := dk_27 (dk_at dksX2_one_4 12 rfl rfl)
theorem dX2_one_108 : decode cX2_one 108 = .ok (.iconst (-1), 1) := dk_2 (dk_at dksX2_one_4 13 rfl rfl)
theorem dX2_one_109 : decode cX2_one 109 = .ok (.invokespecial 109, 3) := dk_183 0 109 (dk_at dksX2_one_4 14 rfl rfl)
theorem dX2_one_112 : decode cX2_one 112 = .ok (.areturn, 1) := dk_176 (dk_at dksX2_one_4 17 rfl rfl)
theorem dX2_one_113 : decode cX2_one 113 = .ok (.iconst 0, 1) := dk_3 (dk_at dksX2_one_4 18 rfl rfl)
theorem dX2_one_114 : decode cX2_one 114 = .ok (.istore_n 1, 1) := dk_60 (dk_at dksX2_one_4 19 rfl rfl)
theorem dX2_one_115 : decode cX2_one 115 = .ok (.iload_n 1, 1) := dk_27 (dk_at dksX2_one_4 20 rfl rfl)
theorem dX2_one_116 : decode cX2_one 116 = .ok (.getstatic 112, 3) := dk_178 0 112 (dk_at dksX2_one_4 21 rfl rfl)
theorem dX2_one_119 : decode cX2_one 119 = .ok (.arraylength, 1) := dk_190 (dk_at dksX2_one_5 0 rfl rfl)
theorem dX2_one_120 : decode cX2_one 120 = .ok (.if_icmp .ge 38, 3) := dk_162 0 38 (dk_at dksX2_one_5 1 rfl rfl)
theorem dX2_one_123 : decode cX2_one 123 = .ok (.aload_n 0, 1) := dk_42 (dk_at dksX2_one_5 4 rfl rfl)
theorem dX2_one_124 : decode cX2_one 124 = .ok (.getstatic 112, 3) := dk_178 0 112 (dk_at dksX2_one_5 5 rfl rfl)
theorem dX2_one_127 : decode cX2_one 127 = .ok (.iload_n 1, 1) := dk_27 (dk_at dksX2_one_5 8 rfl rfl)
theorem dX2_one_128 : decode cX2_one 128 = .ok (.aaload, 1) := dk_50 (dk_at dksX2_one_5 9 rfl rfl)
theorem dX2_one_129 : decode cX2_one 129 = .ok (.invokevirtual 116, 3) := dk_182 0 116 (dk_at dksX2_one_5 10 rfl rfl)
theorem dX2_one_132 : decode cX2_one 132 = .ok (.ifCond .ne 6, 3) := dk_154 0 6 (dk_at dksX2_one_5 13 rfl rfl)
theorem dX2_one_135 : decode cX2_one 135 = .ok (.goto 17, 3) := dk_167 0 17 (dk_at dksX2_one_5 16 rfl rfl)
theorem dX2_one_138 : decode cX2_one 138 = .ok (.aload_n 0, 1) := dk_42 (dk_at dksX2_one_5 19 rfl rfl)
theorem dX2_one_139 : decode cX2_one 139 = .ok (.invokevirtual 89, 3) := dk_182 0 89 (dk_at dksX2_one_5 20 rfl rfl)
theorem dX2_one_142 : decode cX2_one 142 = .ok (.new 107, 3) := dk_187 0 107 (dk_at dksX2_one_6 0 rfl rfl)
theorem dX2_one_145 : decode cX2_one 145 = .ok (.dup, 1) := dk_89 (dk_at dksX2_one_6 3 rfl rfl)
theorem dX2_one_146 : decode cX2_one 146 = .ok (.iconst 0, 1) := dk_3 (dk_at dksX2_one_6 4 rfl rfl)
theorem dX2_one_147 : decode cX2_one 147 = .ok (.iload_n 1, 1) := dk_27 (dk_at dksX2_one_6 5 rfl rfl)
theorem dX2_one_148 : decode cX2_one 148 = .ok (.invokespecial 109, 3) := dk_183 0 109 (dk_at dksX2_one_6 6 rfl rfl)
theorem dX2_one_151 : decode cX2_one 151 = .ok (.areturn, 1) := dk_176 (dk_at dksX2_one_6 9 rfl rfl)
theorem dX2_one_152 : decode cX2_one 152 = .ok (.iinc 1 1, 3) := dk_132 1 1 (dk_at dksX2_one_6 10 rfl rfl)
theorem dX2_one_155 : decode cX2_one 155 = .ok (.goto (-40), 3) := dk_167 255 216 (dk_at dksX2_one_6 13 rfl rfl)
theorem dX2_one_158 : decode cX2_one 158 = .ok (.aload_n 0, 1) := dk_42 (dk_at dksX2_one_6 16 rfl rfl)
theorem dX2_one_159 : decode cX2_one 159 = .ok (.invokevirtual 73, 3) := dk_182 0 73 (dk_at dksX2_one_6 17 rfl rfl)
theorem dX2_one_162 : decode cX2_one 162 = .ok (.athrow, 1) := dk_191 (dk_at dksX2_one_6 20 rfl rfl)
abbrev cX2_takes : ByteArray := prog_12_method_6_code
def yX2_takes : MethodName := ⟨RX2, "takes", "(I)Z"⟩
def dkwX2_takes_0 : List UInt8 := [42, 180, 0, 44, 27, 159, 0, 5, 3, 172, 42, 182, 0, 89, 4, 172]
abbrev dktX2_takes_0 : List UInt8 := dkwX2_takes_0 ++ []
theorem dksX2_takes_0 : cX2_takes.data.toList.drop 0 = dktX2_takes_0 := by decide +kernel
theorem dX2_takes_0 : decode cX2_takes 0 = .ok (.aload_n 0, 1) := dk_42 (dk_at dksX2_takes_0 0 rfl rfl)
theorem dX2_takes_1 : decode cX2_takes 1 = .ok (.getfield 44, 3) := dk_180 0 44 (dk_at dksX2_takes_0 1 rfl rfl)
theorem dX2_takes_4 : decode cX2_takes 4 = .ok (.iload_n 1, 1) := dk_27 (dk_at dksX2_takes_0 4 rfl rfl)
theorem dX2_takes_5 : decode cX2_takes 5 = .ok (.if_icmp .eq 5, 3) := dk_159 0 5 (dk_at dksX2_takes_0 5 rfl rfl)
theorem dX2_takes_8 : decode cX2_takes 8 = .ok (.iconst 0, 1) := dk_3 (dk_at dksX2_takes_0 8 rfl rfl)
theorem dX2_takes_9 : decode cX2_takes 9 = .ok (.ireturn, 1) := dk_172 (dk_at dksX2_takes_0 9 rfl rfl)
theorem dX2_takes_10 : decode cX2_takes 10 = .ok (.aload_n 0, 1) := dk_42 (dk_at dksX2_takes_0 10 rfl rfl)
theorem dX2_takes_11 : decode cX2_takes 11 = .ok (.invokevirtual 89, 3) := dk_182 0 89 (dk_at dksX2_takes_0 11 rfl rfl)
theorem dX2_takes_14 : decode cX2_takes 14 = .ok (.iconst 1, 1) := dk_4 (dk_at dksX2_takes_0 14 rfl rfl)
theorem dX2_takes_15 : decode cX2_takes 15 = .ok (.ireturn, 1) := dk_172 (dk_at dksX2_takes_0 15 rfl rfl)
theorem q73 : (Jvm.Cond.initialized "GateRoad$Reader") ∈ lw_all := lw_g (lw_at lw_m1 10 rfl) rfl
theorem q214 : (Jvm.Cond.instantiable "GateRoad$Reader" (8 : Nat)) ∈ lw_all := lw_g (lw_at lw_m1 151 rfl) rfl
theorem q216 : (Jvm.Cond.instanceMethod ({ cls := "GateRoad$Reader", name := "<init>", desc := "([BI)V" } : Jvm.MethodName)) ∈ lw_all := lw_g (lw_at lw_m1 153 rfl) rfl
theorem q217 : (Jvm.Cond.code ({ cls := "GateRoad$Reader", name := "<init>", desc := "([BI)V" } : Jvm.MethodName) prog_12_method_1_code (3 : Nat) (Option.none : Option Jvm.ClassFile.FieldType)) ∈ lw_all := lw_g (lw_at lw_m1 154 rfl) rfl
theorem q218 : (Jvm.Cond.methodLink "GateRoad$Reader" (3 : Nat) ({ cls := "java/lang/Object", name := "<init>", desc := "()V" } : Jvm.MethodName)) ∈ lw_all := lw_g (lw_at lw_m1 155 rfl) rfl
theorem q219 : (Jvm.Cond.fieldLink "GateRoad$Reader" (21 : Nat) "GateRoad$Reader" "text" "[B") ∈ lw_all := lw_g (lw_at lw_m1 156 rfl) rfl
theorem q220 : (Jvm.Cond.fieldLink "GateRoad$Reader" (25 : Nat) "GateRoad$Reader" "size" "I") ∈ lw_all := lw_g (lw_at lw_m1 157 rfl) rfl
theorem q221 : (Jvm.Cond.fieldLink "GateRoad$Reader" (9 : Nat) "GateRoad$Reader" "at" "I") ∈ lw_all := lw_g (lw_at lw_m1 158 rfl) rfl
theorem q222 : (Jvm.Cond.fieldLink "GateRoad$Reader" (15 : Nat) "GateRoad$Reader" "from" "I") ∈ lw_all := lw_g (lw_at lw_m1 159 rfl) rfl
theorem q223 : (Jvm.Cond.fieldLink "GateRoad$Reader" (18 : Nat) "GateRoad$Reader" "open" "I") ∈ lw_all := lw_g (lw_at lw_m1 160 rfl) rfl
theorem q224 : (Jvm.Cond.fieldLink "GateRoad$Reader" (37 : Nat) "GateRoad$Reader" "word" "Ljava/lang/String;") ∈ lw_all := lw_g (lw_at lw_m1 161 rfl) rfl
theorem q225 : (Jvm.Cond.fieldLink "GateRoad$Reader" (41 : Nat) "GateRoad$Reader" "number" "I") ∈ lw_all := lw_g (lw_at lw_m1 162 rfl) rfl
theorem q226 : (Jvm.Cond.fieldLink "GateRoad$Reader" (44 : Nat) "GateRoad$Reader" "sign" "I") ∈ lw_all := lw_g (lw_at lw_m1 163 rfl) rfl
theorem q227 : (Jvm.Cond.laysFinal "GateRoad$Reader" "GateRoad$Reader" "text" "[B") ∈ lw_all := lw_g (lw_at lw_m1 164 rfl) rfl
theorem q228 : (Jvm.Cond.soleField "GateRoad$Reader" "text") ∈ lw_all := lw_g (lw_at lw_m1 165 rfl) rfl
theorem q229 : (Jvm.Cond.laysFinal "GateRoad$Reader" "GateRoad$Reader" "size" "I") ∈ lw_all := lw_g (lw_at lw_m1 166 rfl) rfl
theorem q230 : (Jvm.Cond.soleField "GateRoad$Reader" "size") ∈ lw_all := lw_g (lw_at lw_m1 167 rfl) rfl
theorem q231 : (Jvm.Cond.lays "GateRoad$Reader" "GateRoad$Reader" "at" "I") ∈ lw_all := lw_g (lw_at lw_m1 168 rfl) rfl
theorem q232 : (Jvm.Cond.soleField "GateRoad$Reader" "at") ∈ lw_all := lw_g (lw_at lw_m1 169 rfl) rfl
theorem q233 : (Jvm.Cond.lays "GateRoad$Reader" "GateRoad$Reader" "from" "I") ∈ lw_all := lw_g (lw_at lw_m1 170 rfl) rfl
theorem q234 : (Jvm.Cond.soleField "GateRoad$Reader" "from") ∈ lw_all := lw_g (lw_at lw_m1 171 rfl) rfl
theorem q235 : (Jvm.Cond.lays "GateRoad$Reader" "GateRoad$Reader" "open" "I") ∈ lw_all := lw_g (lw_at lw_m1 172 rfl) rfl
theorem q236 : (Jvm.Cond.soleField "GateRoad$Reader" "open") ∈ lw_all := lw_g (lw_at lw_m1 173 rfl) rfl
theorem q237 : (Jvm.Cond.lays "GateRoad$Reader" "GateRoad$Reader" "word" "Ljava/lang/String;") ∈ lw_all := lw_g (lw_at lw_m1 174 rfl) rfl
theorem q238 : (Jvm.Cond.soleField "GateRoad$Reader" "word") ∈ lw_all := lw_g (lw_at lw_m1 175 rfl) rfl
theorem q239 : (Jvm.Cond.lays "GateRoad$Reader" "GateRoad$Reader" "number" "I") ∈ lw_all := lw_g (lw_at lw_m1 176 rfl) rfl
theorem q240 : (Jvm.Cond.soleField "GateRoad$Reader" "number") ∈ lw_all := lw_g (lw_at lw_m1 177 rfl) rfl
theorem q241 : (Jvm.Cond.lays "GateRoad$Reader" "GateRoad$Reader" "sign" "I") ∈ lw_all := lw_g (lw_at lw_m1 178 rfl) rfl
theorem q242 : (Jvm.Cond.soleField "GateRoad$Reader" "sign") ∈ lw_all := lw_g (lw_at lw_m1 179 rfl) rfl
theorem q243 : (Jvm.Cond.superclass "GateRoad$Reader" "java/lang/Object") ∈ lw_all := lw_g (lw_at lw_m1 180 rfl) rfl
theorem q245 : (Jvm.Cond.instanceMethod ({ cls := "GateRoad$Reader", name := "parts", desc := "()[LGateRoad$Node;" } : Jvm.MethodName)) ∈ lw_all := lw_g (lw_at lw_m1 182 rfl) rfl
theorem q246 : (Jvm.Cond.selects "GateRoad$Reader" ({ cls := "GateRoad$Reader", name := "parts", desc := "()[LGateRoad$Node;" } : Jvm.MethodName) ({ cls := "GateRoad$Reader", name := "parts", desc := "()[LGateRoad$Node;" } : Jvm.MethodName)) ∈ lw_all := lw_g (lw_at lw_m1 183 rfl) rfl
theorem q247 : (Jvm.Cond.code ({ cls := "GateRoad$Reader", name := "parts", desc := "()[LGateRoad$Node;" } : Jvm.MethodName) prog_12_method_14_code (3 : Nat) (Option.some (Jvm.ClassFile.FieldType.array (Jvm.ClassFile.FieldType.object "GateRoad$Node")))) ∈ lw_all := lw_g (lw_at lw_m1 184 rfl) rfl
theorem q248 : (Jvm.Cond.fieldLinkNest "GateRoad$Reader" (146 : Nat) "GateRoad" "KEYS" "[Ljava/lang/String;" "GateRoad") ∈ lw_tbl := lw_at lw_m1 185 rfl
theorem q250 : (Jvm.Cond.classLink "GateRoad$Reader" (149 : Nat) "GateRoad$Node") ∈ lw_all := lw_g (lw_at lw_m1 187 rfl) rfl
theorem q252 : (Jvm.Cond.methodLink "GateRoad$Reader" (89 : Nat) ({ cls := "GateRoad$Reader", name := "next", desc := "()V" } : Jvm.MethodName)) ∈ lw_all := lw_g (lw_at lw_m1 189 rfl) rfl
theorem q253 : (Jvm.Cond.privateMethod ({ cls := "GateRoad$Reader", name := "next", desc := "()V" } : Jvm.MethodName)) ∈ lw_tbl := lw_at lw_m1 190 rfl
theorem q254 : (Jvm.Cond.instanceMethod ({ cls := "GateRoad$Reader", name := "next", desc := "()V" } : Jvm.MethodName)) ∈ lw_all := lw_g (lw_at lw_m1 191 rfl) rfl
theorem q255 : (Jvm.Cond.code ({ cls := "GateRoad$Reader", name := "next", desc := "()V" } : Jvm.MethodName) prog_12_method_4_code (2 : Nat) (Option.none : Option Jvm.ClassFile.FieldType)) ∈ lw_all := lw_g (lw_at lw_m1 192 rfl) rfl
theorem q256 : (Jvm.Cond.methodLink "GateRoad$Reader" (33 : Nat) ({ cls := "GateRoad$Reader", name := "here", desc := "()I" } : Jvm.MethodName)) ∈ lw_all := lw_g (lw_at lw_m1 193 rfl) rfl
theorem q257 : (Jvm.Cond.privateMethod ({ cls := "GateRoad$Reader", name := "here", desc := "()I" } : Jvm.MethodName)) ∈ lw_tbl := lw_at lw_m1 194 rfl
theorem q258 : (Jvm.Cond.instanceMethod ({ cls := "GateRoad$Reader", name := "here", desc := "()I" } : Jvm.MethodName)) ∈ lw_all := lw_g (lw_at lw_m1 195 rfl) rfl
theorem q259 : (Jvm.Cond.code ({ cls := "GateRoad$Reader", name := "here", desc := "()I" } : Jvm.MethodName) prog_12_method_3_code (1 : Nat) (Option.some Jvm.ClassFile.FieldType.int)) ∈ lw_all := lw_g (lw_at lw_m1 196 rfl) rfl
theorem q260 : (Jvm.Cond.constantLong "GateRoad$Reader" (47 : Nat) (97 : Int64)) ∈ lw_all := lw_g (lw_at lw_m1 197 rfl) rfl
theorem q261 : (Jvm.Cond.constantLong "GateRoad$Reader" (49 : Nat) (122 : Int64)) ∈ lw_all := lw_g (lw_at lw_m1 198 rfl) rfl
theorem q262 : (Jvm.Cond.methodLinkNest "GateRoad$Reader" (51 : Nat) ({ cls := "GateRoad", name := "in", desc := "(JJJ)Z" } : Jvm.MethodName) "GateRoad") ∈ lw_tbl := lw_at lw_m1 199 rfl
theorem q265 : (Jvm.Cond.classLink "GateRoad$Reader" (55 : Nat) "java/lang/StringBuilder") ∈ lw_all := lw_g (lw_at lw_m1 202 rfl) rfl
theorem q267 : (Jvm.Cond.methodLink "GateRoad$Reader" (57 : Nat) ({ cls := "java/lang/StringBuilder", name := "<init>", desc := "()V" } : Jvm.MethodName)) ∈ lw_all := lw_g (lw_at lw_m1 204 rfl) rfl
theorem q295 : (Jvm.Cond.methodLink "GateRoad$Reader" (58 : Nat) ({ cls := "java/lang/StringBuilder", name := "length", desc := "()I" } : Jvm.MethodName)) ∈ lw_all := lw_g (lw_at lw_m1 232 rfl) rfl
theorem q302 : (Jvm.Cond.methodLink "GateRoad$Reader" (61 : Nat) ({ cls := "java/lang/StringBuilder", name := "append", desc := "(C)Ljava/lang/StringBuilder;" } : Jvm.MethodName)) ∈ lw_all := lw_g (lw_at lw_m1 239 rfl) rfl
theorem q377 : (Jvm.Cond.methodLink "GateRoad$Reader" (65 : Nat) ({ cls := "java/lang/StringBuilder", name := "toString", desc := "()Ljava/lang/String;" } : Jvm.MethodName)) ∈ lw_all := lw_g (lw_at lw_m2 74 rfl) rfl
theorem q427 : (Jvm.Cond.constantLong "GateRoad$Reader" (69 : Nat) (48 : Int64)) ∈ lw_all := lw_g (lw_at lw_m2 124 rfl) rfl
theorem q428 : (Jvm.Cond.constantLong "GateRoad$Reader" (71 : Nat) (57 : Int64)) ∈ lw_all := lw_g (lw_at lw_m2 125 rfl) rfl
theorem q429 : (Jvm.Cond.methodLink "GateRoad$Reader" (73 : Nat) ({ cls := "GateRoad$Reader", name := "fault", desc := "()LGateRoad$Fault;" } : Jvm.MethodName)) ∈ lw_all := lw_g (lw_at lw_m2 126 rfl) rfl
theorem q430 : (Jvm.Cond.privateMethod ({ cls := "GateRoad$Reader", name := "fault", desc := "()LGateRoad$Fault;" } : Jvm.MethodName)) ∈ lw_tbl := lw_at lw_m2 127 rfl
theorem q431 : (Jvm.Cond.instanceMethod ({ cls := "GateRoad$Reader", name := "fault", desc := "()LGateRoad$Fault;" } : Jvm.MethodName)) ∈ lw_all := lw_g (lw_at lw_m2 128 rfl) rfl
theorem q432 : (Jvm.Cond.code ({ cls := "GateRoad$Reader", name := "fault", desc := "()LGateRoad$Fault;" } : Jvm.MethodName) prog_12_method_2_code (1 : Nat) (Option.some (Jvm.ClassFile.FieldType.object "GateRoad$Fault"))) ∈ lw_all := lw_g (lw_at lw_m2 129 rfl) rfl
theorem q433 : (Jvm.Cond.classLink "GateRoad$Reader" (28 : Nat) "GateRoad$Fault") ∈ lw_all := lw_g (lw_at lw_m2 130 rfl) rfl
theorem q473 : (Jvm.Cond.methodLink "GateRoad$Reader" (30 : Nat) ({ cls := "GateRoad$Fault", name := "<init>", desc := "(I)V" } : Jvm.MethodName)) ∈ lw_all := lw_g (lw_at lw_m2 170 rfl) rfl
theorem q502 : (Jvm.Cond.stringRef "GateRoad$Reader" (77 : Nat) "();+-*<=") ∈ lw_tbl := lw_at lw_m2 199 rfl
theorem q503 : (Jvm.Cond.methodLink "GateRoad$Reader" (79 : Nat) ({ cls := "java/lang/String", name := "indexOf", desc := "(I)I" } : Jvm.MethodName)) ∈ lw_all := lw_g (lw_at lw_m2 200 rfl) rfl
theorem q558 : (Jvm.Cond.methodLink "GateRoad$Reader" (116 : Nat) ({ cls := "GateRoad$Reader", name := "is", desc := "(Ljava/lang/String;)Z" } : Jvm.MethodName)) ∈ lw_all := lw_g (lw_at lw_m3 15 rfl) rfl
theorem q559 : (Jvm.Cond.privateMethod ({ cls := "GateRoad$Reader", name := "is", desc := "(Ljava/lang/String;)Z" } : Jvm.MethodName)) ∈ lw_tbl := lw_at lw_m3 16 rfl
theorem q560 : (Jvm.Cond.instanceMethod ({ cls := "GateRoad$Reader", name := "is", desc := "(Ljava/lang/String;)Z" } : Jvm.MethodName)) ∈ lw_all := lw_g (lw_at lw_m3 17 rfl) rfl
theorem q561 : (Jvm.Cond.code ({ cls := "GateRoad$Reader", name := "is", desc := "(Ljava/lang/String;)Z" } : Jvm.MethodName) prog_12_method_5_code (2 : Nat) (Option.some Jvm.ClassFile.FieldType.boolean)) ∈ lw_all := lw_g (lw_at lw_m3 18 rfl) rfl
theorem q562 : (Jvm.Cond.methodLink "GateRoad$Reader" (85 : Nat) ({ cls := "java/lang/String", name := "equals", desc := "(Ljava/lang/Object;)Z" } : Jvm.MethodName)) ∈ lw_all := lw_g (lw_at lw_m3 19 rfl) rfl
theorem q570 : (Jvm.Cond.methodLink "GateRoad$Reader" (104 : Nat) ({ cls := "GateRoad$Reader", name := "either", desc := "()LGateRoad$Node;" } : Jvm.MethodName)) ∈ lw_all := lw_g (lw_at lw_m3 27 rfl) rfl
theorem q571 : (Jvm.Cond.privateMethod ({ cls := "GateRoad$Reader", name := "either", desc := "()LGateRoad$Node;" } : Jvm.MethodName)) ∈ lw_tbl := lw_at lw_m3 28 rfl
theorem q572 : (Jvm.Cond.instanceMethod ({ cls := "GateRoad$Reader", name := "either", desc := "()LGateRoad$Node;" } : Jvm.MethodName)) ∈ lw_all := lw_g (lw_at lw_m3 29 rfl) rfl
theorem q573 : (Jvm.Cond.code ({ cls := "GateRoad$Reader", name := "either", desc := "()LGateRoad$Node;" } : Jvm.MethodName) prog_12_method_13_code (2 : Nat) (Option.some (Jvm.ClassFile.FieldType.object "GateRoad$Node"))) ∈ lw_all := lw_g (lw_at lw_m3 30 rfl) rfl
theorem q574 : (Jvm.Cond.methodLink "GateRoad$Reader" (141 : Nat) ({ cls := "GateRoad$Reader", name := "both", desc := "()LGateRoad$Node;" } : Jvm.MethodName)) ∈ lw_all := lw_g (lw_at lw_m3 31 rfl) rfl
theorem q575 : (Jvm.Cond.privateMethod ({ cls := "GateRoad$Reader", name := "both", desc := "()LGateRoad$Node;" } : Jvm.MethodName)) ∈ lw_tbl := lw_at lw_m3 32 rfl
theorem q576 : (Jvm.Cond.instanceMethod ({ cls := "GateRoad$Reader", name := "both", desc := "()LGateRoad$Node;" } : Jvm.MethodName)) ∈ lw_all := lw_g (lw_at lw_m3 33 rfl) rfl
theorem q577 : (Jvm.Cond.code ({ cls := "GateRoad$Reader", name := "both", desc := "()LGateRoad$Node;" } : Jvm.MethodName) prog_12_method_12_code (2 : Nat) (Option.some (Jvm.ClassFile.FieldType.object "GateRoad$Node"))) ∈ lw_all := lw_g (lw_at lw_m3 34 rfl) rfl
theorem q578 : (Jvm.Cond.methodLink "GateRoad$Reader" (134 : Nat) ({ cls := "GateRoad$Reader", name := "not", desc := "()LGateRoad$Node;" } : Jvm.MethodName)) ∈ lw_all := lw_g (lw_at lw_m3 35 rfl) rfl
theorem q579 : (Jvm.Cond.privateMethod ({ cls := "GateRoad$Reader", name := "not", desc := "()LGateRoad$Node;" } : Jvm.MethodName)) ∈ lw_tbl := lw_at lw_m3 36 rfl
theorem q580 : (Jvm.Cond.instanceMethod ({ cls := "GateRoad$Reader", name := "not", desc := "()LGateRoad$Node;" } : Jvm.MethodName)) ∈ lw_all := lw_g (lw_at lw_m3 37 rfl) rfl
theorem q581 : (Jvm.Cond.code ({ cls := "GateRoad$Reader", name := "not", desc := "()LGateRoad$Node;" } : Jvm.MethodName) prog_12_method_11_code (3 : Nat) (Option.some (Jvm.ClassFile.FieldType.object "GateRoad$Node"))) ∈ lw_all := lw_g (lw_at lw_m3 38 rfl) rfl
theorem q582 : (Jvm.Cond.stringRef "GateRoad$Reader" (132 : Nat) "not") ∈ lw_tbl := lw_at lw_m3 39 rfl
theorem q583 : (Jvm.Cond.methodLink "GateRoad$Reader" (92 : Nat) ({ cls := "GateRoad$Reader", name := "opens", desc := "()V" } : Jvm.MethodName)) ∈ lw_all := lw_g (lw_at lw_m3 40 rfl) rfl
theorem q584 : (Jvm.Cond.privateMethod ({ cls := "GateRoad$Reader", name := "opens", desc := "()V" } : Jvm.MethodName)) ∈ lw_tbl := lw_at lw_m3 41 rfl
theorem q585 : (Jvm.Cond.instanceMethod ({ cls := "GateRoad$Reader", name := "opens", desc := "()V" } : Jvm.MethodName)) ∈ lw_all := lw_g (lw_at lw_m3 42 rfl) rfl
theorem q586 : (Jvm.Cond.code ({ cls := "GateRoad$Reader", name := "opens", desc := "()V" } : Jvm.MethodName) prog_12_method_7_code (1 : Nat) (Option.none : Option Jvm.ClassFile.FieldType)) ∈ lw_all := lw_g (lw_at lw_m3 43 rfl) rfl
theorem q587 : (Jvm.Cond.classLink "GateRoad$Reader" (99 : Nat) "GateRoad$One") ∈ lw_all := lw_g (lw_at lw_m3 44 rfl) rfl
theorem q589 : (Jvm.Cond.methodLink "GateRoad$Reader" (101 : Nat) ({ cls := "GateRoad$One", name := "<init>", desc := "(ZLGateRoad$Node;)V" } : Jvm.MethodName)) ∈ lw_all := lw_g (lw_at lw_m3 46 rfl) rfl
theorem q600 : (Jvm.Cond.methodLink "GateRoad$Reader" (136 : Nat) ({ cls := "GateRoad$Reader", name := "sum", desc := "()LGateRoad$Node;" } : Jvm.MethodName)) ∈ lw_all := lw_g (lw_at lw_m3 57 rfl) rfl
theorem q601 : (Jvm.Cond.privateMethod ({ cls := "GateRoad$Reader", name := "sum", desc := "()LGateRoad$Node;" } : Jvm.MethodName)) ∈ lw_tbl := lw_at lw_m3 58 rfl
theorem q602 : (Jvm.Cond.instanceMethod ({ cls := "GateRoad$Reader", name := "sum", desc := "()LGateRoad$Node;" } : Jvm.MethodName)) ∈ lw_all := lw_g (lw_at lw_m3 59 rfl) rfl
theorem q603 : (Jvm.Cond.code ({ cls := "GateRoad$Reader", name := "sum", desc := "()LGateRoad$Node;" } : Jvm.MethodName) prog_12_method_10_code (3 : Nat) (Option.some (Jvm.ClassFile.FieldType.object "GateRoad$Node"))) ∈ lw_all := lw_g (lw_at lw_m3 60 rfl) rfl
theorem q604 : (Jvm.Cond.methodLink "GateRoad$Reader" (129 : Nat) ({ cls := "GateRoad$Reader", name := "term", desc := "()LGateRoad$Node;" } : Jvm.MethodName)) ∈ lw_all := lw_g (lw_at lw_m3 61 rfl) rfl
theorem q605 : (Jvm.Cond.privateMethod ({ cls := "GateRoad$Reader", name := "term", desc := "()LGateRoad$Node;" } : Jvm.MethodName)) ∈ lw_tbl := lw_at lw_m3 62 rfl
theorem q606 : (Jvm.Cond.instanceMethod ({ cls := "GateRoad$Reader", name := "term", desc := "()LGateRoad$Node;" } : Jvm.MethodName)) ∈ lw_all := lw_g (lw_at lw_m3 63 rfl) rfl
theorem q607 : (Jvm.Cond.code ({ cls := "GateRoad$Reader", name := "term", desc := "()LGateRoad$Node;" } : Jvm.MethodName) prog_12_method_9_code (2 : Nat) (Option.some (Jvm.ClassFile.FieldType.object "GateRoad$Node"))) ∈ lw_all := lw_g (lw_at lw_m3 64 rfl) rfl
theorem q608 : (Jvm.Cond.methodLink "GateRoad$Reader" (95 : Nat) ({ cls := "GateRoad$Reader", name := "one", desc := "()LGateRoad$Node;" } : Jvm.MethodName)) ∈ lw_all := lw_g (lw_at lw_m3 65 rfl) rfl
theorem q609 : (Jvm.Cond.privateMethod ({ cls := "GateRoad$Reader", name := "one", desc := "()LGateRoad$Node;" } : Jvm.MethodName)) ∈ lw_tbl := lw_at lw_m3 66 rfl
theorem q610 : (Jvm.Cond.instanceMethod ({ cls := "GateRoad$Reader", name := "one", desc := "()LGateRoad$Node;" } : Jvm.MethodName)) ∈ lw_all := lw_g (lw_at lw_m3 67 rfl) rfl
theorem q611 : (Jvm.Cond.code ({ cls := "GateRoad$Reader", name := "one", desc := "()LGateRoad$Node;" } : Jvm.MethodName) prog_12_method_8_code (2 : Nat) (Option.some (Jvm.ClassFile.FieldType.object "GateRoad$Node"))) ∈ lw_all := lw_g (lw_at lw_m3 68 rfl) rfl
theorem q612 : (Jvm.Cond.classLink "GateRoad$Reader" (107 : Nat) "GateRoad$Leaf") ∈ lw_all := lw_g (lw_at lw_m3 69 rfl) rfl
theorem q614 : (Jvm.Cond.methodLink "GateRoad$Reader" (109 : Nat) ({ cls := "GateRoad$Leaf", name := "<init>", desc := "(II)V" } : Jvm.MethodName)) ∈ lw_all := lw_g (lw_at lw_m3 71 rfl) rfl
theorem q625 : (Jvm.Cond.fieldLinkNest "GateRoad$Reader" (112 : Nat) "GateRoad" "NAMES" "[Ljava/lang/String;" "GateRoad") ∈ lw_tbl := lw_at lw_m3 82 rfl
theorem q627 : (Jvm.Cond.methodLink "GateRoad$Reader" (120 : Nat) ({ cls := "GateRoad$Reader", name := "takes", desc := "(I)Z" } : Jvm.MethodName)) ∈ lw_all := lw_g (lw_at lw_m3 84 rfl) rfl
theorem q628 : (Jvm.Cond.privateMethod ({ cls := "GateRoad$Reader", name := "takes", desc := "(I)Z" } : Jvm.MethodName)) ∈ lw_tbl := lw_at lw_m3 85 rfl
theorem q629 : (Jvm.Cond.instanceMethod ({ cls := "GateRoad$Reader", name := "takes", desc := "(I)Z" } : Jvm.MethodName)) ∈ lw_all := lw_g (lw_at lw_m3 86 rfl) rfl
theorem q630 : (Jvm.Cond.code ({ cls := "GateRoad$Reader", name := "takes", desc := "(I)Z" } : Jvm.MethodName) prog_12_method_6_code (2 : Nat) (Option.some Jvm.ClassFile.FieldType.boolean)) ∈ lw_all := lw_g (lw_at lw_m3 87 rfl) rfl
theorem q631 : (Jvm.Cond.classLink "GateRoad$Reader" (124 : Nat) "GateRoad$Two") ∈ lw_all := lw_g (lw_at lw_m3 88 rfl) rfl
theorem q633 : (Jvm.Cond.methodLink "GateRoad$Reader" (126 : Nat) ({ cls := "GateRoad$Two", name := "<init>", desc := "(ILGateRoad$Node;LGateRoad$Node;)V" } : Jvm.MethodName)) ∈ lw_all := lw_g (lw_at lw_m3 90 rfl) rfl
theorem q647 : (Jvm.Cond.stringRef "GateRoad$Reader" (139 : Nat) "and") ∈ lw_tbl := lw_at lw_m3 104 rfl
theorem q648 : (Jvm.Cond.stringRef "GateRoad$Reader" (144 : Nat) "or") ∈ lw_tbl := lw_at lw_m3 105 rfl
theorem q902 : (Jvm.Cond.selects "GateRoad$Reader" ({ cls := "java/lang/Object", name := "getClass", desc := "()Ljava/lang/Class;" } : Jvm.MethodName) ({ cls := "java/lang/Object", name := "getClass", desc := "()Ljava/lang/Class;" } : Jvm.MethodName)) ∈ lw_all := lw_g (lw_at lw_m4 119 rfl) rfl
theorem q1786 : (Jvm.Cond.castable "GateRoad$Reader" "java/lang/Object") ∈ lw_tbl := lw_at lw_m8 43 rfl
theorem in_X2 : ∀ w ∈ wsX20, w ∈ lw_all := lw_in wsX20 [227, 229, 231, 233, 235, 237, 239, 241] (by decide +kernel) (by decide +kernel)
