/-! GateRoad -/
set_option maxRecDepth 100000
def RX0 : String := "GateRoad"
def TX0 : u_T := fun k => match k with
  | 0 => ("GateRoad", "rate", "[I", true)
  | 1 => ("GateRoad", "toll", "[I", true)
  | 2 => ("GateRoad", "wish", "[I", true)
  | 3 => ("GateRoad", "stay", "[I", true)
  | 4 => ("GateRoad", "road", "[I", true)
  | 5 => ("GateRoad", "sortOf", "[I", true)
  | 6 => ("GateRoad", "sorts", "I", false)
  | 7 => ("GateRoad", "carts", "I", false)
  | 8 => ("GateRoad", "ways", "Ljava/util/ArrayList;", true)
  | 9 => ("GateRoad", "names", "[I", true)
  | 10 => ("GateRoad", "rule", "I", false)
  | 11 => ("GateRoad", "came", "[I", true)
  | 12 => ("GateRoad", "passed", "[I", true)
  | 13 => ("GateRoad", "line", "[I", true)
  | 14 => ("GateRoad", "passing", "[I", true)
  | 15 => ("GateRoad", "passings", "I", false)
  | 16 => ("GateRoad", "betterChoice", "I", false)
  | 17 => ("GateRoad", "betterBy", "I", false)
  | 18 => ("GateRoad", "trials", "[LGateRoad$Way;", true)
  | 19 => ("GateRoad", "keptWish", "[I", true)
  | 20 => ("GateRoad", "imageRate", "[I", true)
  | 21 => ("GateRoad", "imageToll", "[I", true)
  | 22 => ("GateRoad", "imageWish", "[I", true)
  | 23 => ("GateRoad", "imageChoice", "[B", true)
  | 24 => ("GateRoad", "imageWays", "I", false)
  | 25 => ("GateRoad", "imageRule", "I", false)
  | 26 => ("GateRoad", "imageSorts", "I", false)
  | 27 => ("GateRoad", "texts", "[[LGateRoad$Node;", true)
  | 28 => ("GateRoad", "textCount", "I", false)
  | 29 => ("GateRoad", "tape", "[B", true)
  | 30 => ("GateRoad", "taped", "I", false)
  | _ => ("GateRoad", "sheets", "[LGateRoad$Sheet;", true)
def tyX0 : Nat → FieldType := fun k => match k with
  | 0 => .array .int
  | 1 => .array .int
  | 2 => .array .int
  | 3 => .array .int
  | 4 => .array .int
  | 5 => .array .int
  | 6 => .int
  | 7 => .int
  | 8 => .object "java/util/ArrayList"
  | 9 => .array .int
  | 10 => .int
  | 11 => .array .int
  | 12 => .array .int
  | 13 => .array .int
  | 14 => .array .int
  | 15 => .int
  | 16 => .int
  | 17 => .int
  | 18 => .array (.object "GateRoad$Way")
  | 19 => .array .int
  | 20 => .array .int
  | 21 => .array .int
  | 22 => .array .int
  | 23 => .array .byte
  | 24 => .int
  | 25 => .int
  | 26 => .int
  | 27 => .array (.array (.object "GateRoad$Node"))
  | 28 => .int
  | 29 => .array .byte
  | 30 => .int
  | _ => .array (.object "GateRoad$Sheet")
abbrev wsX00 : List Cond := u_ws RX0 TX0 32
set_option maxRecDepth 100000 in
theorem nmX0 : ∀ a, a < 32 → ∀ b, b < 32 → a ≠ b → (TX0 a).2.1 ≠ (TX0 b).2.1 := by decide +kernel
set_option maxRecDepth 100000 in
theorem tyX0_ok : ∀ k, k < 32 → parseFieldDescriptor (TX0 k).2.2.1 = some (tyX0 k) := by decide +kernel
abbrev cX0_init : ByteArray := prog_1_method_4_code
def yX0_init : MethodName := ⟨RX0, "<init>", "()V"⟩
def dkwX0_init_10 : List UInt8 := [132, 1, 1, 167, 255, 240, 42, 180, 0, 96, 3, 18, 110, 184, 0, 112, 83, 42, 4, 181, 0, 116, 177]
abbrev dktX0_init_10 : List UInt8 := dkwX0_init_10 ++ []
def dkwX0_init_9 : List UInt8 := [89, 183, 0, 105, 83, 181, 0, 106, 3, 60, 27, 16, 48, 162, 0, 16, 42, 180, 0, 29, 27, 4, 79]
abbrev dktX0_init_9 : List UInt8 := dkwX0_init_9 ++ dktX0_init_10
def dkwX0_init_8 : List UInt8 := [4, 187, 0, 103, 89, 183, 0, 105, 83, 89, 5, 187, 0, 103, 89, 183, 0, 105, 83, 89, 6, 187, 0, 103]
abbrev dktX0_init_8 : List UInt8 := dkwX0_init_8 ++ dktX0_init_9
def dkwX0_init_7 : List UInt8 := [17, 0, 160, 188, 8, 181, 0, 100, 42, 7, 189, 0, 103, 89, 3, 187, 0, 103, 89, 183, 0, 105, 83, 89]
abbrev dktX0_init_7 : List UInt8 := dkwX0_init_7 ++ dktX0_init_8
def dkwX0_init_6 : List UInt8 := [17, 0, 128, 188, 8, 181, 0, 86, 42, 2, 181, 0, 90, 42, 16, 6, 189, 0, 94, 181, 0, 96, 42]
abbrev dktX0_init_6 : List UInt8 := dkwX0_init_6 ++ dktX0_init_7
def dkwX0_init_5 : List UInt8 := [16, 48, 188, 10, 181, 0, 77, 42, 16, 48, 188, 10, 181, 0, 80, 42, 7, 188, 10, 181, 0, 83, 42]
abbrev dktX0_init_5 : List UInt8 := dkwX0_init_5 ++ dktX0_init_6
def dkwX0_init_4 : List UInt8 := [16, 16, 188, 10, 181, 0, 67, 42, 16, 6, 189, 0, 3, 181, 0, 70, 42, 7, 188, 10, 181, 0, 74, 42]
abbrev dktX0_init_4 : List UInt8 := dkwX0_init_4 ++ dktX0_init_5
def dkwX0_init_3 : List UInt8 := [16, 16, 188, 10, 181, 0, 58, 42, 16, 16, 188, 10, 181, 0, 61, 42, 16, 48, 188, 10, 181, 0, 64, 42]
abbrev dktX0_init_3 : List UInt8 := dkwX0_init_3 ++ dktX0_init_4
def dkwX0_init_2 : List UInt8 := [181, 0, 45, 42, 187, 0, 48, 89, 183, 0, 50, 181, 0, 51, 42, 16, 6, 188, 10, 181, 0, 55, 42]
abbrev dktX0_init_2 : List UInt8 := dkwX0_init_2 ++ dktX0_init_3
def dkwX0_init_1 : List UInt8 := [181, 0, 36, 42, 7, 188, 10, 181, 0, 39, 42, 16, 8, 188, 10, 181, 0, 42, 42, 16, 16, 188, 10]
abbrev dktX0_init_1 : List UInt8 := dkwX0_init_1 ++ dktX0_init_2
def dkwX0_init_0 : List UInt8 := [42, 183, 0, 24, 42, 16, 48, 188, 10, 181, 0, 29, 42, 16, 48, 188, 10, 181, 0, 33, 42, 7, 188, 10]
abbrev dktX0_init_0 : List UInt8 := dkwX0_init_0 ++ dktX0_init_1
theorem dksX0_init_0 : cX0_init.data.toList.drop 0 = dktX0_init_0 := by decide +kernel
theorem dksX0_init_1 : cX0_init.data.toList.drop 24 = dktX0_init_1 := dk_seg dksX0_init_0 24 rfl rfl
theorem dksX0_init_2 : cX0_init.data.toList.drop 47 = dktX0_init_2 := dk_seg dksX0_init_1 23 rfl rfl
theorem dksX0_init_3 : cX0_init.data.toList.drop 70 = dktX0_init_3 := dk_seg dksX0_init_2 23 rfl rfl
theorem dksX0_init_4 : cX0_init.data.toList.drop 94 = dktX0_init_4 := dk_seg dksX0_init_3 24 rfl rfl
theorem dksX0_init_5 : cX0_init.data.toList.drop 118 = dktX0_init_5 := dk_seg dksX0_init_4 24 rfl rfl
theorem dksX0_init_6 : cX0_init.data.toList.drop 141 = dktX0_init_6 := dk_seg dksX0_init_5 23 rfl rfl
theorem dksX0_init_7 : cX0_init.data.toList.drop 164 = dktX0_init_7 := dk_seg dksX0_init_6 23 rfl rfl
theorem dksX0_init_8 : cX0_init.data.toList.drop 188 = dktX0_init_8 := dk_seg dksX0_init_7 24 rfl rfl
theorem dksX0_init_9 : cX0_init.data.toList.drop 212 = dktX0_init_9 := dk_seg dksX0_init_8 24 rfl rfl
theorem dksX0_init_10 : cX0_init.data.toList.drop 235 = dktX0_init_10 := dk_seg dksX0_init_9 23 rfl rfl
theorem dX0_init_0 : decode cX0_init 0 = .ok (.aload_n 0, 1) := dk_42 (dk_at dksX0_init_0 0 rfl rfl)
theorem dX0_init_1 : decode cX0_init 1 = .ok (.invokespecial 24, 3) := dk_183 0 24 (dk_at dksX0_init_0 1 rfl rfl)
theorem dX0_init_4 : decode cX0_init 4 = .ok (.aload_n 0, 1) := dk_42 (dk_at dksX0_init_0 4 rfl rfl)
theorem dX0_init_5 : decode cX0_init 5 = .ok (.bipush 48, 2) := dk_16 48 (dk_at dksX0_init_0 5 rfl rfl)
theorem dX0_init_7 : decode cX0_init 7 = .ok (.newarray .int, 2) := dk_188_10 (dk_at dksX0_init_0 7 rfl rfl)
theorem dX0_init_9 : decode cX0_init 9 = .ok (.putfield 29, 3) := dk_181 0 29 (dk_at dksX0_init_0 9 rfl rfl)
theorem dX0_init_12 : decode cX0_init 12 = .ok (.aload_n 0, 1) := dk_42 (dk_at dksX0_init_0 12 rfl rfl)
theorem dX0_init_13 : decode cX0_init 13 = .ok (.bipush 48, 2) := dk_16 48 (dk_at dksX0_init_0 13 rfl rfl)
theorem dX0_init_15 : decode cX0_init 15 = .ok (.newarray .int, 2) := dk_188_10 (dk_at dksX0_init_0 15 rfl rfl)
theorem dX0_init_17 : decode cX0_init 17 = .ok (.putfield 33, 3) := dk_181 0 33 (dk_at dksX0_init_0 17 rfl rfl)
theorem dX0_init_20 : decode cX0_init 20 = .ok (.aload_n 0, 1) := dk_42 (dk_at dksX0_init_0 20 rfl rfl)
theorem dX0_init_21 : decode cX0_init 21 = .ok (.iconst 4, 1) := dk_7 (dk_at dksX0_init_0 21 rfl rfl)
theorem dX0_init_22 : decode cX0_init 22 = .ok (.newarray .int, 2) := dk_188_10 (dk_at dksX0_init_0 22 rfl rfl)
theorem dX0_init_24 : decode cX0_init 24 = .ok (.putfield 36, 3) := dk_181 0 36 (dk_at dksX0_init_1 0 rfl rfl)
theorem dX0_init_27 : decode cX0_init 27 = .ok (.aload_n 0, 1) := dk_42 (dk_at dksX0_init_1 3 rfl rfl)
theorem dX0_init_28 : decode cX0_init 28 = .ok (.iconst 4, 1) := dk_7 (dk_at dksX0_init_1 4 rfl rfl)
theorem dX0_init_29 : decode cX0_init 29 = .ok (.newarray .int, 2) := dk_188_10 (dk_at dksX0_init_1 5 rfl rfl)
theorem dX0_init_31 : decode cX0_init 31 = .ok (.putfield 39, 3) := dk_181 0 39 (dk_at dksX0_init_1 7 rfl rfl)
theorem dX0_init_34 : decode cX0_init 34 = .ok (.aload_n 0, 1) := dk_42 (dk_at dksX0_init_1 10 rfl rfl)
theorem dX0_init_35 : decode cX0_init 35 = .ok (.bipush 8, 2) := dk_16 8 (dk_at dksX0_init_1 11 rfl rfl)
theorem dX0_init_37 : decode cX0_init 37 = .ok (.newarray .int, 2) := dk_188_10 (dk_at dksX0_init_1 13 rfl rfl)
theorem dX0_init_39 : decode cX0_init 39 = .ok (.putfield 42, 3) := dk_181 0 42 (dk_at dksX0_init_1 15 rfl rfl)
theorem dX0_init_42 : decode cX0_init 42 = .ok (.aload_n 0, 1) := dk_42 (dk_at dksX0_init_1 18 rfl rfl)
theorem dX0_init_43 : decode cX0_init 43 = .ok (.bipush 16, 2) := dk_16 16 (dk_at dksX0_init_1 19 rfl rfl)
theorem dX0_init_45 : decode cX0_init 45 = .ok (.newarray .int, 2) := dk_188_10 (dk_at dksX0_init_1 21 rfl rfl)
theorem dX0_init_47 : decode cX0_init 47 = .ok (.putfield 45, 3) := dk_181 0 45 (dk_at dksX0_init_2 0 rfl rfl)
theorem dX0_init_50 : decode cX0_init 50 = .ok (.aload_n 0, 1) := dk_42 (dk_at dksX0_init_2 3 rfl rfl)
theorem dX0_init_51 : decode cX0_init 51 = .ok (.new 48, 3) := dk_187 0 48 (dk_at dksX0_init_2 4 rfl rfl)
theorem dX0_init_54 : decode cX0_init 54 = .ok (.dup, 1) := dk_89 (dk_at dksX0_init_2 7 rfl rfl)
theorem dX0_init_55 : decode cX0_init 55 = .ok (.invokespecial 50, 3) := dk_183 0 50 (dk_at dksX0_init_2 8 rfl rfl)
theorem dX0_init_58 : decode cX0_init 58 = .ok (.putfield 51, 3) := dk_181 0 51 (dk_at dksX0_init_2 11 rfl rfl)
theorem dX0_init_61 : decode cX0_init 61 = .ok (.aload_n 0, 1) := dk_42 (dk_at dksX0_init_2 14 rfl rfl)
theorem dX0_init_62 : decode cX0_init 62 = .ok (.bipush 6, 2) := dk_16 6 (dk_at dksX0_init_2 15 rfl rfl)
theorem dX0_init_64 : decode cX0_init 64 = .ok (.newarray .int, 2) := dk_188_10 (dk_at dksX0_init_2 17 rfl rfl)
theorem dX0_init_66 : decode cX0_init 66 = .ok (.putfield 55, 3) := dk_181 0 55 (dk_at dksX0_init_2 19 rfl rfl)
theorem dX0_init_69 : decode cX0_init 69 = .ok (.aload_n 0, 1) := dk_42 (dk_at dksX0_init_2 22 rfl rfl)
theorem dX0_init_70 : decode cX0_init 70 = .ok (.bipush 16, 2) := dk_16 16 (dk_at dksX0_init_3 0 rfl rfl)
theorem dX0_init_72 : decode cX0_init 72 = .ok (.newarray .int, 2) := dk_188_10 (dk_at dksX0_init_3 2 rfl rfl)
theorem dX0_init_74 : decode cX0_init 74 = .ok (.putfield 58, 3) := dk_181 0 58 (dk_at dksX0_init_3 4 rfl rfl)
theorem dX0_init_77 : decode cX0_init 77 = .ok (.aload_n 0, 1) := dk_42 (dk_at dksX0_init_3 7 rfl rfl)
theorem dX0_init_78 : decode cX0_init 78 = .ok (.bipush 16, 2) := dk_16 16 (dk_at dksX0_init_3 8 rfl rfl)
theorem dX0_init_80 : decode cX0_init 80 = .ok (.newarray .int, 2) := dk_188_10 (dk_at dksX0_init_3 10 rfl rfl)
theorem dX0_init_82 : decode cX0_init 82 = .ok (.putfield 61, 3) := dk_181 0 61 (dk_at dksX0_init_3 12 rfl rfl)
theorem dX0_init_85 : decode cX0_init 85 = .ok (.aload_n 0, 1) := dk_42 (dk_at dksX0_init_3 15 rfl rfl)
theorem dX0_init_86 : decode cX0_init 86 = .ok (.bipush 48, 2) := dk_16 48 (dk_at dksX0_init_3 16 rfl rfl)
theorem dX0_init_88 : decode cX0_init 88 = .ok (.newarray .int, 2) := dk_188_10 (dk_at dksX0_init_3 18 rfl rfl)
theorem dX0_init_90 : decode cX0_init 90 = .ok (.putfield 64, 3) := dk_181 0 64 (dk_at dksX0_init_3 20 rfl rfl)
theorem dX0_init_93 : decode cX0_init 93 = .ok (.aload_n 0, 1) := dk_42 (dk_at dksX0_init_3 23 rfl rfl)
theorem dX0_init_94 : decode cX0_init 94 = .ok (.bipush 16, 2) := dk_16 16 (dk_at dksX0_init_4 0 rfl rfl)
theorem dX0_init_96 : decode cX0_init 96 = .ok (.newarray .int, 2) := dk_188_10 (dk_at dksX0_init_4 2 rfl rfl)
theorem dX0_init_98 : decode cX0_init 98 = .ok (.putfield 67, 3) := dk_181 0 67 (dk_at dksX0_init_4 4 rfl rfl)
theorem dX0_init_101 : decode cX0_init 101 = .ok (.aload_n 0, 1) := dk_42 (dk_at dksX0_init_4 7 rfl rfl)
theorem dX0_init_102 : decode cX0_init 102 = .ok (.bipush 6, 2) := dk_16 6 (dk_at dksX0_init_4 8 rfl rfl)
theorem dX0_init_104 : decode cX0_init 104 = .ok (.anewarray 3, 3) := dk_189 0 3 (dk_at dksX0_init_4 10 rfl rfl)
theorem dX0_init_107 : decode cX0_init 107 = .ok (.putfield 70, 3) := dk_181 0 70 (dk_at dksX0_init_4 13 rfl rfl)
theorem dX0_init_110 : decode cX0_init 110 = .ok (.aload_n 0, 1) := dk_42 (dk_at dksX0_init_4 16 rfl rfl)
theorem dX0_init_111 : decode cX0_init 111 = .ok (.iconst 4, 1) := dk_7 (dk_at dksX0_init_4 17 rfl rfl)
theorem dX0_init_112 : decode cX0_init 112 = .ok (.newarray .int, 2) := dk_188_10 (dk_at dksX0_init_4 18 rfl rfl)
theorem dX0_init_114 : decode cX0_init 114 = .ok (.putfield 74, 3) := dk_181 0 74 (dk_at dksX0_init_4 20 rfl rfl)
theorem dX0_init_117 : decode cX0_init 117 = .ok (.aload_n 0, 1) := dk_42 (dk_at dksX0_init_4 23 rfl rfl)
theorem dX0_init_118 : decode cX0_init 118 = .ok (.bipush 48, 2) := dk_16 48 (dk_at dksX0_init_5 0 rfl rfl)
theorem dX0_init_120 : decode cX0_init 120 = .ok (.newarray .int, 2) := dk_188_10 (dk_at dksX0_init_5 2 rfl rfl)
theorem dX0_init_122 : decode cX0_init 122 = .ok (.putfield 77, 3) := dk_181 0 77 (dk_at dksX0_init_5 4 rfl rfl)
theorem dX0_init_125 : decode cX0_init 125 = .ok (.aload_n 0, 1) := dk_42 (dk_at dksX0_init_5 7 rfl rfl)
theorem dX0_init_126 : decode cX0_init 126 = .ok (.bipush 48, 2) := dk_16 48 (dk_at dksX0_init_5 8 rfl rfl)
theorem dX0_init_128 : decode cX0_init 128 = .ok (.newarray .int, 2) := dk_188_10 (dk_at dksX0_init_5 10 rfl rfl)
theorem dX0_init_130 : decode cX0_init 130 = .ok (.putfield 80, 3) := dk_181 0 80 (dk_at dksX0_init_5 12 rfl rfl)
theorem dX0_init_133 : decode cX0_init 133 = .ok (.aload_n 0, 1) := dk_42 (dk_at dksX0_init_5 15 rfl rfl)
theorem dX0_init_134 : decode cX0_init 134 = .ok (.iconst 4, 1) := dk_7 (dk_at dksX0_init_5 16 rfl rfl)
theorem dX0_init_135 : decode cX0_init 135 = .ok (.newarray .int, 2) := dk_188_10 (dk_at dksX0_init_5 17 rfl rfl)
theorem dX0_init_137 : decode cX0_init 137 = .ok (.putfield 83, 3) := dk_181 0 83 (dk_at dksX0_init_5 19 rfl rfl)
theorem dX0_init_140 : decode cX0_init 140 = .ok (.aload_n 0, 1) := dk_42 (dk_at dksX0_init_5 22 rfl rfl)
theorem dX0_init_141 : decode cX0_init 141 = .ok (.sipush 128, 3) := dk_17 0 128 (dk_at dksX0_init_6 0 rfl rfl)
theorem dX0_init_144 : decode cX0_init 144 = .ok (.newarray .byte, 2) := dk_188_8 (dk_at dksX0_init_6 3 rfl rfl)
theorem dX0_init_146 : decode cX0_init 146 = .ok (.putfield 86, 3) := dk_181 0 86 (dk_at dksX0_init_6 5 rfl rfl)
theorem dX0_init_149 : decode cX0_init 149 = .ok (.aload_n 0, 1) := dk_42 (dk_at dksX0_init_6 8 rfl rfl)
theorem dX0_init_150 : decode cX0_init 150 = .ok (.iconst (-1), 1) := dk_2 (dk_at dksX0_init_6 9 rfl rfl)
theorem dX0_init_151 : decode cX0_init 151 = .ok (.putfield 90, 3) := dk_181 0 90 (dk_at dksX0_init_6 10 rfl rfl)
theorem dX0_init_154 : decode cX0_init 154 = .ok (.aload_n 0, 1) := dk_42 (dk_at dksX0_init_6 13 rfl rfl)
theorem dX0_init_155 : decode cX0_init 155 = .ok (.bipush 6, 2) := dk_16 6 (dk_at dksX0_init_6 14 rfl rfl)
theorem dX0_init_157 : decode cX0_init 157 = .ok (.anewarray 94, 3) := dk_189 0 94 (dk_at dksX0_init_6 16 rfl rfl)
theorem dX0_init_160 : decode cX0_init 160 = .ok (.putfield 96, 3) := dk_181 0 96 (dk_at dksX0_init_6 19 rfl rfl)
theorem dX0_init_163 : decode cX0_init 163 = .ok (.aload_n 0, 1) := dk_42 (dk_at dksX0_init_6 22 rfl rfl)
theorem dX0_init_164 : decode cX0_init 164 = .ok (.sipush 160, 3) := dk_17 0 160 (dk_at dksX0_init_7 0 rfl rfl)
theorem dX0_init_167 : decode cX0_init 167 = .ok (.newarray .byte, 2) := dk_188_8 (dk_at dksX0_init_7 3 rfl rfl)
theorem dX0_init_169 : decode cX0_init 169 = .ok (.putfield 100, 3) := dk_181 0 100 (dk_at dksX0_init_7 5 rfl rfl)
theorem dX0_init_172 : decode cX0_init 172 = .ok (.aload_n 0, 1) := dk_42 (dk_at dksX0_init_7 8 rfl rfl)
theorem dX0_init_173 : decode cX0_init 173 = .ok (.iconst 4, 1) := dk_7 (dk_at dksX0_init_7 9 rfl rfl)
theorem dX0_init_174 : decode cX0_init 174 = .ok (.anewarray 103, 3) := dk_189 0 103 (dk_at dksX0_init_7 10 rfl rfl)
theorem dX0_init_177 : decode cX0_init 177 = .ok (.dup, 1) := dk_89 (dk_at dksX0_init_7 13 rfl rfl)
theorem dX0_init_178 : decode cX0_init 178 = .ok (.iconst 0, 1) := dk_3 (dk_at dksX0_init_7 14 rfl rfl)
theorem dX0_init_179 : decode cX0_init 179 = .ok (.new 103, 3) := dk_187 0 103 (dk_at dksX0_init_7 15 rfl rfl)
theorem dX0_init_182 : decode cX0_init 182 = .ok (.dup, 1) := dk_89 (dk_at dksX0_init_7 18 rfl rfl)
theorem dX0_init_183 : decode cX0_init 183 = .ok (.invokespecial 105, 3) := dk_183 0 105 (dk_at dksX0_init_7 19 rfl rfl)
theorem dX0_init_186 : decode cX0_init 186 = .ok (.aastore, 1) := dk_83 (dk_at dksX0_init_7 22 rfl rfl)
theorem dX0_init_187 : decode cX0_init 187 = .ok (.dup, 1) := dk_89 (dk_at dksX0_init_7 23 rfl rfl)
theorem dX0_init_188 : decode cX0_init 188 = .ok (.iconst 1, 1) := dk_4 (dk_at dksX0_init_8 0 rfl rfl)
theorem dX0_init_189 : decode cX0_init 189 = .ok (.new 103, 3) := dk_187 0 103 (dk_at dksX0_init_8 1 rfl rfl)
theorem dX0_init_192 : decode cX0_init 192 = .ok (.dup, 1) := dk_89 (dk_at dksX0_init_8 4 rfl rfl)
theorem dX0_init_193 : decode cX0_init 193 = .ok (.invokespecial 105, 3) := dk_183 0 105 (dk_at dksX0_init_8 5 rfl rfl)
theorem dX0_init_196 : decode cX0_init 196 = .ok (.aastore, 1) := dk_83 (dk_at dksX0_init_8 8 rfl rfl)
theorem dX0_init_197 : decode cX0_init 197 = .ok (.dup, 1) := dk_89 (dk_at dksX0_init_8 9 rfl rfl)
theorem dX0_init_198 : decode cX0_init 198 = .ok (.iconst 2, 1) := dk_5 (dk_at dksX0_init_8 10 rfl rfl)
theorem dX0_init_199 : decode cX0_init 199 = .ok (.new 103, 3) := dk_187 0 103 (dk_at dksX0_init_8 11 rfl rfl)
theorem dX0_init_202 : decode cX0_init 202 = .ok (.dup, 1) := dk_89 (dk_at dksX0_init_8 14 rfl rfl)
theorem dX0_init_203 : decode cX0_init 203 = .ok (.invokespecial 105, 3) := dk_183 0 105 (dk_at dksX0_init_8 15 rfl rfl)
theorem dX0_init_206 : decode cX0_init 206 = .ok (.aastore, 1) := dk_83 (dk_at dksX0_init_8 18 rfl rfl)
theorem dX0_init_207 : decode cX0_init 207 = .ok (.dup, 1) := dk_89 (dk_at dksX0_init_8 19 rfl rfl)
theorem dX0_init_208 : decode cX0_init 208 = .ok (.iconst 3, 1) := dk_6 (dk_at dksX0_init_8 20 rfl rfl)
theorem dX0_init_209 : decode cX0_init 209 = .ok (.new 103, 3) := dk_187 0 103 (dk_at dksX0_init_8 21 rfl rfl)
theorem dX0_init_212 : decode cX0_init 212 = .ok (.dup, 1) := dk_89 (dk_at dksX0_init_9 0 rfl rfl)
theorem dX0_init_213 : decode cX0_init 213 = .ok (.invokespecial 105, 3) := dk_183 0 105 (dk_at dksX0_init_9 1 rfl rfl)
theorem dX0_init_216 : decode cX0_init 216 = .ok (.aastore, 1) := dk_83 (dk_at dksX0_init_9 4 rfl rfl)
theorem dX0_init_217 : decode cX0_init 217 = .ok (.putfield 106, 3) := dk_181 0 106 (dk_at dksX0_init_9 5 rfl rfl)
theorem dX0_init_220 : decode cX0_init 220 = .ok (.iconst 0, 1) := dk_3 (dk_at dksX0_init_9 8 rfl rfl)
theorem dX0_init_221 : decode cX0_init 221 = .ok (.istore_n 1, 1) := dk_60 (dk_at dksX0_init_9 9 rfl rfl)
theorem dX0_init_222 : decode cX0_init 222 = .ok (.iload_n 1, 1) := dk_27 (dk_at dksX0_init_9 10 rfl rfl)
theorem dX0_init_223 : decode cX0_init 223 = .ok (.bipush 48, 2) := dk_16 48 (dk_at dksX0_init_9 11 rfl rfl)
theorem dX0_init_225 : decode cX0_init 225 = .ok (.if_icmp .ge 16, 3) := dk_162 0 16 (dk_at dksX0_init_9 13 rfl rfl)
theorem dX0_init_228 : decode cX0_init 228 = .ok (.aload_n 0, 1) := dk_42 (dk_at dksX0_init_9 16 rfl rfl)
theorem dX0_init_229 : decode cX0_init 229 = .ok (.getfield 29, 3) := dk_180 0 29 (dk_at dksX0_init_9 17 rfl rfl)
theorem dX0_init_232 : decode cX0_init 232 = .ok (.iload_n 1, 1) := dk_27 (dk_at dksX0_init_9 20 rfl rfl)
theorem dX0_init_233 : decode cX0_init 233 = .ok (.iconst 1, 1) := dk_4 (dk_at dksX0_init_9 21 rfl rfl)
theorem dX0_init_234 : decode cX0_init 234 = .ok (.iastore, 1) := dk_79 (dk_at dksX0_init_9 22 rfl rfl)
theorem dX0_init_235 : decode cX0_init 235 = .ok (.iinc 1 1, 3) := dk_132 1 1 (dk_at dksX0_init_10 0 rfl rfl)
theorem dX0_init_238 : decode cX0_init 238 = .ok (.goto (-16), 3) := dk_167 255 240 (dk_at dksX0_init_10 3 rfl rfl)
theorem dX0_init_241 : decode cX0_init 241 = .ok (.aload_n 0, 1) := dk_42 (dk_at dksX0_init_10 6 rfl rfl)
theorem dX0_init_242 : decode cX0_init 242 = .ok (.getfield 96, 3) := dk_180 0 96 (dk_at dksX0_init_10 7 rfl rfl)
theorem dX0_init_245 : decode cX0_init 245 = .ok (.iconst 0, 1) := dk_3 (dk_at dksX0_init_10 10 rfl rfl)
theorem dX0_init_246 : decode cX0_init 246 = .ok (.ldc 110, 2) := dk_18 110 (dk_at dksX0_init_10 11 rfl rfl)
theorem dX0_init_248 : decode cX0_init 248 = .ok (.invokestatic 112, 3) := dk_184 0 112 (dk_at dksX0_init_10 13 rfl rfl)
theorem dX0_init_251 : decode cX0_init 251 = .ok (.aastore, 1) := dk_83 (dk_at dksX0_init_10 16 rfl rfl)
theorem dX0_init_252 : decode cX0_init 252 = .ok (.aload_n 0, 1) := dk_42 (dk_at dksX0_init_10 17 rfl rfl)
theorem dX0_init_253 : decode cX0_init 253 = .ok (.iconst 1, 1) := dk_4 (dk_at dksX0_init_10 18 rfl rfl)
theorem dX0_init_254 : decode cX0_init 254 = .ok (.putfield 116, 3) := dk_181 0 116 (dk_at dksX0_init_10 19 rfl rfl)
theorem dX0_init_257 : decode cX0_init 257 = .ok (.return_, 1) := dk_177 (dk_at dksX0_init_10 22 rfl rfl)
abbrev cX0_read : ByteArray := prog_1_method_50_code
def yX0_read : MethodName := ⟨RX0, "read", "(Ljava/lang/String;)[LGateRoad$Node;"⟩
def dkwX0_read_1 : List UInt8 := [132, 2, 1, 167, 255, 238, 187, 1, 73, 89, 43, 43, 190, 183, 1, 75, 182, 1, 78, 176]
abbrev dktX0_read_1 : List UInt8 := dkwX0_read_1 ++ []
def dkwX0_read_0 : List UInt8 := [42, 182, 1, 64, 188, 8, 76, 3, 61, 28, 43, 190, 162, 0, 18, 43, 28, 42, 28, 182, 1, 69, 145, 84]
abbrev dktX0_read_0 : List UInt8 := dkwX0_read_0 ++ dktX0_read_1
theorem dksX0_read_0 : cX0_read.data.toList.drop 0 = dktX0_read_0 := by decide +kernel
theorem dksX0_read_1 : cX0_read.data.toList.drop 24 = dktX0_read_1 := dk_seg dksX0_read_0 24 rfl rfl
theorem dX0_read_0 : decode cX0_read 0 = .ok (.aload_n 0, 1) := dk_42 (dk_at dksX0_read_0 0 rfl rfl)
theorem dX0_read_1 : decode cX0_read 1 = .ok (.invokevirtual 320, 3) := dk_182 1 64 (dk_at dksX0_read_0 1 rfl rfl)
theorem dX0_read_4 : decode cX0_read 4 = .ok (.newarray .byte, 2) := dk_188_8 (dk_at dksX0_read_0 4 rfl rfl)
theorem dX0_read_6 : decode cX0_read 6 = .ok (.astore_n 1, 1) := dk_76 (dk_at dksX0_read_0 6 rfl rfl)
theorem dX0_read_7 : decode cX0_read 7 = .ok (.iconst 0, 1) := dk_3 (dk_at dksX0_read_0 7 rfl rfl)
theorem dX0_read_8 : decode cX0_read 8 = .ok (.istore_n 2, 1) := dk_61 (dk_at dksX0_read_0 8 rfl rfl)
theorem dX0_read_9 : decode cX0_read 9 = .ok (.iload_n 2, 1) := dk_28 (dk_at dksX0_read_0 9 rfl rfl)
theorem dX0_read_10 : decode cX0_read 10 = .ok (.aload_n 1, 1) := dk_43 (dk_at dksX0_read_0 10 rfl rfl)
theorem dX0_read_11 : decode cX0_read 11 = .ok (.arraylength, 1) := dk_190 (dk_at dksX0_read_0 11 rfl rfl)
theorem dX0_read_12 : decode cX0_read 12 = .ok (.if_icmp .ge 18, 3) := dk_162 0 18 (dk_at dksX0_read_0 12 rfl rfl)
theorem dX0_read_15 : decode cX0_read 15 = .ok (.aload_n 1, 1) := dk_43 (dk_at dksX0_read_0 15 rfl rfl)
theorem dX0_read_16 : decode cX0_read 16 = .ok (.iload_n 2, 1) := dk_28 (dk_at dksX0_read_0 16 rfl rfl)
theorem dX0_read_17 : decode cX0_read 17 = .ok (.aload_n 0, 1) := dk_42 (dk_at dksX0_read_0 17 rfl rfl)
theorem dX0_read_18 : decode cX0_read 18 = .ok (.iload_n 2, 1) := dk_28 (dk_at dksX0_read_0 18 rfl rfl)
theorem dX0_read_19 : decode cX0_read 19 = .ok (.invokevirtual 325, 3) := dk_182 1 69 (dk_at dksX0_read_0 19 rfl rfl)
theorem dX0_read_22 : decode cX0_read 22 = .ok (.i2b, 1) := dk_145 (dk_at dksX0_read_0 22 rfl rfl)
theorem dX0_read_23 : decode cX0_read 23 = .ok (.bastore, 1) := dk_84 (dk_at dksX0_read_0 23 rfl rfl)
theorem dX0_read_24 : decode cX0_read 24 = .ok (.iinc 2 1, 3) := dk_132 2 1 (dk_at dksX0_read_1 0 rfl rfl)
theorem dX0_read_27 : decode cX0_read 27 = .ok (.goto (-18), 3) := dk_167 255 238 (dk_at dksX0_read_1 3 rfl rfl)
theorem dX0_read_30 : decode cX0_read 30 = .ok (.new 329, 3) := dk_187 1 73 (dk_at dksX0_read_1 6 rfl rfl)
theorem dX0_read_33 : decode cX0_read 33 = .ok (.dup, 1) := dk_89 (dk_at dksX0_read_1 9 rfl rfl)
theorem dX0_read_34 : decode cX0_read 34 = .ok (.aload_n 1, 1) := dk_43 (dk_at dksX0_read_1 10 rfl rfl)
theorem dX0_read_35 : decode cX0_read 35 = .ok (.aload_n 1, 1) := dk_43 (dk_at dksX0_read_1 11 rfl rfl)
theorem dX0_read_36 : decode cX0_read 36 = .ok (.arraylength, 1) := dk_190 (dk_at dksX0_read_1 12 rfl rfl)
theorem dX0_read_37 : decode cX0_read 37 = .ok (.invokespecial 331, 3) := dk_183 1 75 (dk_at dksX0_read_1 13 rfl rfl)
theorem dX0_read_40 : decode cX0_read 40 = .ok (.invokevirtual 334, 3) := dk_182 1 78 (dk_at dksX0_read_1 16 rfl rfl)
theorem dX0_read_43 : decode cX0_read 43 = .ok (.areturn, 1) := dk_176 (dk_at dksX0_read_1 19 rfl rfl)
abbrev cX0_in : ByteArray := prog_1_method_1_code
def yX0_in : MethodName := ⟨RX0, "in", "(JJJ)Z"⟩
def dkwX0_in_0 : List UInt8 := [30, 32, 148, 155, 0, 14, 30, 22, 4, 148, 157, 0, 7, 4, 167, 0, 4, 3, 172]
abbrev dktX0_in_0 : List UInt8 := dkwX0_in_0 ++ []
theorem dksX0_in_0 : cX0_in.data.toList.drop 0 = dktX0_in_0 := by decide +kernel
theorem dX0_in_0 : decode cX0_in 0 = .ok (.lload_n 0, 1) := dk_30 (dk_at dksX0_in_0 0 rfl rfl)
theorem dX0_in_1 : decode cX0_in 1 = .ok (.lload_n 2, 1) := dk_32 (dk_at dksX0_in_0 1 rfl rfl)
theorem dX0_in_2 : decode cX0_in 2 = .ok (.lcmp, 1) := dk_148 (dk_at dksX0_in_0 2 rfl rfl)
theorem dX0_in_3 : decode cX0_in 3 = .ok (.ifCond .lt 14, 3) := dk_155 0 14 (dk_at dksX0_in_0 3 rfl rfl)
theorem dX0_in_6 : decode cX0_in 6 = .ok (.lload_n 0, 1) := dk_30 (dk_at dksX0_in_0 6 rfl rfl)
theorem dX0_in_7 : decode cX0_in 7 = .ok (.lload 4, 2) := dk_22 4 (dk_at dksX0_in_0 7 rfl rfl)
theorem dX0_in_9 : decode cX0_in 9 = .ok (.lcmp, 1) := dk_148 (dk_at dksX0_in_0 9 rfl rfl)
theorem dX0_in_10 : decode cX0_in 10 = .ok (.ifCond .gt 7, 3) := dk_157 0 7 (dk_at dksX0_in_0 10 rfl rfl)
theorem dX0_in_13 : decode cX0_in 13 = .ok (.iconst 1, 1) := dk_4 (dk_at dksX0_in_0 13 rfl rfl)
theorem dX0_in_14 : decode cX0_in 14 = .ok (.goto 4, 3) := dk_167 0 4 (dk_at dksX0_in_0 14 rfl rfl)
theorem dX0_in_17 : decode cX0_in 17 = .ok (.iconst 0, 1) := dk_3 (dk_at dksX0_in_0 17 rfl rfl)
theorem dX0_in_18 : decode cX0_in 18 = .ok (.ireturn, 1) := dk_172 (dk_at dksX0_in_0 18 rfl rfl)
abbrev cX0_rate : ByteArray := prog_1_method_10_code
def yX0_rate : MethodName := ⟨RX0, "rate", "(IIII)I"⟩
def dkwX0_rate_3 : List UInt8 := [180, 0, 29, 16, 24, 27, 104, 21, 6, 96, 21, 4, 79, 132, 6, 1, 167, 255, 233, 21, 5, 172]
abbrev dktX0_rate_3 : List UInt8 := dkwX0_rate_3 ++ []
def dkwX0_rate_2 : List UInt8 := [172, 42, 180, 0, 29, 16, 24, 27, 104, 28, 96, 46, 54, 5, 28, 54, 6, 21, 6, 29, 162, 0, 23, 42]
abbrev dktX0_rate_2 : List UInt8 := dkwX0_rate_2 ++ dktX0_rate_3
def dkwX0_rate_1 : List UInt8 := [20, 0, 142, 184, 0, 119, 153, 0, 16, 21, 4, 133, 9, 20, 0, 144, 184, 0, 119, 154, 0, 6, 16, 254]
abbrev dktX0_rate_1 : List UInt8 := dkwX0_rate_1 ++ dktX0_rate_2
def dkwX0_rate_0 : List UInt8 := [27, 184, 0, 135, 153, 0, 10, 28, 184, 0, 139, 154, 0, 5, 2, 172, 29, 133, 28, 133, 10, 97]
abbrev dktX0_rate_0 : List UInt8 := dkwX0_rate_0 ++ dktX0_rate_1
theorem dksX0_rate_0 : cX0_rate.data.toList.drop 0 = dktX0_rate_0 := by decide +kernel
theorem dksX0_rate_1 : cX0_rate.data.toList.drop 22 = dktX0_rate_1 := dk_seg dksX0_rate_0 22 rfl rfl
theorem dksX0_rate_2 : cX0_rate.data.toList.drop 46 = dktX0_rate_2 := dk_seg dksX0_rate_1 24 rfl rfl
theorem dksX0_rate_3 : cX0_rate.data.toList.drop 70 = dktX0_rate_3 := dk_seg dksX0_rate_2 24 rfl rfl
theorem dX0_rate_0 : decode cX0_rate 0 = .ok (.iload_n 1, 1) := dk_27 (dk_at dksX0_rate_0 0 rfl rfl)
theorem dX0_rate_1 : decode cX0_rate 1 = .ok (.invokestatic 135, 3) := dk_184 0 135 (dk_at dksX0_rate_0 1 rfl rfl)
theorem dX0_rate_4 : decode cX0_rate 4 = .ok (.ifCond .eq 10, 3) := dk_153 0 10 (dk_at dksX0_rate_0 4 rfl rfl)
theorem dX0_rate_7 : decode cX0_rate 7 = .ok (.iload_n 2, 1) := dk_28 (dk_at dksX0_rate_0 7 rfl rfl)
theorem dX0_rate_8 : decode cX0_rate 8 = .ok (.invokestatic 139, 3) := dk_184 0 139 (dk_at dksX0_rate_0 8 rfl rfl)
theorem dX0_rate_11 : decode cX0_rate 11 = .ok (.ifCond .ne 5, 3) := dk_154 0 5 (dk_at dksX0_rate_0 11 rfl rfl)
theorem dX0_rate_14 : decode cX0_rate 14 = .ok (.iconst (-1), 1) := dk_2 (dk_at dksX0_rate_0 14 rfl rfl)
theorem dX0_rate_15 : decode cX0_rate 15 = .ok (.ireturn, 1) := dk_172 (dk_at dksX0_rate_0 15 rfl rfl)
theorem dX0_rate_16 : decode cX0_rate 16 = .ok (.iload_n 3, 1) := dk_29 (dk_at dksX0_rate_0 16 rfl rfl)
theorem dX0_rate_17 : decode cX0_rate 17 = .ok (.i2l, 1) := dk_133 (dk_at dksX0_rate_0 17 rfl rfl)
theorem dX0_rate_18 : decode cX0_rate 18 = .ok (.iload_n 2, 1) := dk_28 (dk_at dksX0_rate_0 18 rfl rfl)
theorem dX0_rate_19 : decode cX0_rate 19 = .ok (.i2l, 1) := dk_133 (dk_at dksX0_rate_0 19 rfl rfl)
theorem dX0_rate_20 : decode cX0_rate 20 = .ok (.lconst 1, 1) := dk_10 (dk_at dksX0_rate_0 20 rfl rfl)
theorem dX0_rate_21 : decode cX0_rate 21 = .ok (.ladd, 1) := dk_97 (dk_at dksX0_rate_0 21 rfl rfl)
theorem dX0_rate_22 : decode cX0_rate 22 = .ok (.ldc2_w 142, 3) := dk_20 0 142 (dk_at dksX0_rate_1 0 rfl rfl)
theorem dX0_rate_25 : decode cX0_rate 25 = .ok (.invokestatic 119, 3) := dk_184 0 119 (dk_at dksX0_rate_1 3 rfl rfl)
theorem dX0_rate_28 : decode cX0_rate 28 = .ok (.ifCond .eq 16, 3) := dk_153 0 16 (dk_at dksX0_rate_1 6 rfl rfl)
theorem dX0_rate_31 : decode cX0_rate 31 = .ok (.iload 4, 2) := dk_21 4 (dk_at dksX0_rate_1 9 rfl rfl)
theorem dX0_rate_33 : decode cX0_rate 33 = .ok (.i2l, 1) := dk_133 (dk_at dksX0_rate_1 11 rfl rfl)
theorem dX0_rate_34 : decode cX0_rate 34 = .ok (.lconst 0, 1) := dk_9 (dk_at dksX0_rate_1 12 rfl rfl)
theorem dX0_rate_35 : decode cX0_rate 35 = .ok (.ldc2_w 144, 3) := dk_20 0 144 (dk_at dksX0_rate_1 13 rfl rfl)
theorem dX0_rate_38 : decode cX0_rate 38 = .ok (.invokestatic 119, 3) := dk_184 0 119 (dk_at dksX0_rate_1 16 rfl rfl)
theorem dX0_rate_41 : decode cX0_rate 41 = .ok (.ifCond .ne 6, 3) := dk_154 0 6 (dk_at dksX0_rate_1 19 rfl rfl)
theorem dX0_rate_44 : decode cX0_rate 44 = .ok (.bipush (-2), 2) := dk_16 254 (dk_at dksX0_rate_1 22 rfl rfl)
theorem dX0_rate_46 : decode cX0_rate 46 = .ok (.ireturn, 1) := dk_172 (dk_at dksX0_rate_2 0 rfl rfl)
theorem dX0_rate_47 : decode cX0_rate 47 = .ok (.aload_n 0, 1) := dk_42 (dk_at dksX0_rate_2 1 rfl rfl)
theorem dX0_rate_48 : decode cX0_rate 48 = .ok (.getfield 29, 3) := dk_180 0 29 (dk_at dksX0_rate_2 2 rfl rfl)
theorem dX0_rate_51 : decode cX0_rate 51 = .ok (.bipush 24, 2) := dk_16 24 (dk_at dksX0_rate_2 5 rfl rfl)
theorem dX0_rate_53 : decode cX0_rate 53 = .ok (.iload_n 1, 1) := dk_27 (dk_at dksX0_rate_2 7 rfl rfl)
theorem dX0_rate_54 : decode cX0_rate 54 = .ok (.imul, 1) := dk_104 (dk_at dksX0_rate_2 8 rfl rfl)
theorem dX0_rate_55 : decode cX0_rate 55 = .ok (.iload_n 2, 1) := dk_28 (dk_at dksX0_rate_2 9 rfl rfl)
theorem dX0_rate_56 : decode cX0_rate 56 = .ok (.iadd, 1) := dk_96 (dk_at dksX0_rate_2 10 rfl rfl)
theorem dX0_rate_57 : decode cX0_rate 57 = .ok (.iaload, 1) := dk_46 (dk_at dksX0_rate_2 11 rfl rfl)
theorem dX0_rate_58 : decode cX0_rate 58 = .ok (.istore 5, 2) := dk_54 5 (dk_at dksX0_rate_2 12 rfl rfl)
theorem dX0_rate_60 : decode cX0_rate 60 = .ok (.iload_n 2, 1) := dk_28 (dk_at dksX0_rate_2 14 rfl rfl)
theorem dX0_rate_61 : decode cX0_rate 61 = .ok (.istore 6, 2) := dk_54 6 (dk_at dksX0_rate_2 15 rfl rfl)
theorem dX0_rate_63 : decode cX0_rate 63 = .ok (.iload 6, 2) := dk_21 6 (dk_at dksX0_rate_2 17 rfl rfl)
theorem dX0_rate_65 : decode cX0_rate 65 = .ok (.iload_n 3, 1) := dk_29 (dk_at dksX0_rate_2 19 rfl rfl)
theorem dX0_rate_66 : decode cX0_rate 66 = .ok (.if_icmp .ge 23, 3) := dk_162 0 23 (dk_at dksX0_rate_2 20 rfl rfl)
theorem dX0_rate_69 : decode cX0_rate 69 = .ok (.aload_n 0, 1) := dk_42 (dk_at dksX0_rate_2 23 rfl rfl)
theorem dX0_rate_70 : decode cX0_rate 70 = .ok (.getfield 29, 3) := dk_180 0 29 (dk_at dksX0_rate_3 0 rfl rfl)
theorem dX0_rate_73 : decode cX0_rate 73 = .ok (.bipush 24, 2) := dk_16 24 (dk_at dksX0_rate_3 3 rfl rfl)
theorem dX0_rate_75 : decode cX0_rate 75 = .ok (.iload_n 1, 1) := dk_27 (dk_at dksX0_rate_3 5 rfl rfl)
theorem dX0_rate_76 : decode cX0_rate 76 = .ok (.imul, 1) := dk_104 (dk_at dksX0_rate_3 6 rfl rfl)
theorem dX0_rate_77 : decode cX0_rate 77 = .ok (.iload 6, 2) := dk_21 6 (dk_at dksX0_rate_3 7 rfl rfl)
theorem dX0_rate_79 : decode cX0_rate 79 = .ok (.iadd, 1) := dk_96 (dk_at dksX0_rate_3 9 rfl rfl)
theorem dX0_rate_80 : decode cX0_rate 80 = .ok (.iload 4, 2) := dk_21 4 (dk_at dksX0_rate_3 10 rfl rfl)
theorem dX0_rate_82 : decode cX0_rate 82 = .ok (.iastore, 1) := dk_79 (dk_at dksX0_rate_3 12 rfl rfl)
theorem dX0_rate_83 : decode cX0_rate 83 = .ok (.iinc 6 1, 3) := dk_132 6 1 (dk_at dksX0_rate_3 13 rfl rfl)
theorem dX0_rate_86 : decode cX0_rate 86 = .ok (.goto (-23), 3) := dk_167 255 233 (dk_at dksX0_rate_3 16 rfl rfl)
theorem dX0_rate_89 : decode cX0_rate 89 = .ok (.iload 5, 2) := dk_21 5 (dk_at dksX0_rate_3 19 rfl rfl)
theorem dX0_rate_91 : decode cX0_rate 91 = .ok (.ireturn, 1) := dk_172 (dk_at dksX0_rate_3 21 rfl rfl)
abbrev cX0_isGate : ByteArray := prog_1_method_5_code
def yX0_isGate : MethodName := ⟨RX0, "isGate", "(I)Z"⟩
def dkwX0_isGate_0 : List UInt8 := [26, 133, 9, 10, 184, 0, 119, 172]
abbrev dktX0_isGate_0 : List UInt8 := dkwX0_isGate_0 ++ []
theorem dksX0_isGate_0 : cX0_isGate.data.toList.drop 0 = dktX0_isGate_0 := by decide +kernel
theorem dX0_isGate_0 : decode cX0_isGate 0 = .ok (.iload_n 0, 1) := dk_26 (dk_at dksX0_isGate_0 0 rfl rfl)
theorem dX0_isGate_1 : decode cX0_isGate 1 = .ok (.i2l, 1) := dk_133 (dk_at dksX0_isGate_0 1 rfl rfl)
theorem dX0_isGate_2 : decode cX0_isGate 2 = .ok (.lconst 0, 1) := dk_9 (dk_at dksX0_isGate_0 2 rfl rfl)
theorem dX0_isGate_3 : decode cX0_isGate 3 = .ok (.lconst 1, 1) := dk_10 (dk_at dksX0_isGate_0 3 rfl rfl)
theorem dX0_isGate_4 : decode cX0_isGate 4 = .ok (.invokestatic 119, 3) := dk_184 0 119 (dk_at dksX0_isGate_0 4 rfl rfl)
theorem dX0_isGate_7 : decode cX0_isGate 7 = .ok (.ireturn, 1) := dk_172 (dk_at dksX0_isGate_0 7 rfl rfl)
abbrev cX0_isMinute : ByteArray := prog_1_method_6_code
def yX0_isMinute : MethodName := ⟨RX0, "isMinute", "(I)Z"⟩
def dkwX0_isMinute_0 : List UInt8 := [26, 133, 9, 20, 0, 123, 184, 0, 119, 172]
abbrev dktX0_isMinute_0 : List UInt8 := dkwX0_isMinute_0 ++ []
theorem dksX0_isMinute_0 : cX0_isMinute.data.toList.drop 0 = dktX0_isMinute_0 := by decide +kernel
theorem dX0_isMinute_0 : decode cX0_isMinute 0 = .ok (.iload_n 0, 1) := dk_26 (dk_at dksX0_isMinute_0 0 rfl rfl)
theorem dX0_isMinute_1 : decode cX0_isMinute 1 = .ok (.i2l, 1) := dk_133 (dk_at dksX0_isMinute_0 1 rfl rfl)
theorem dX0_isMinute_2 : decode cX0_isMinute 2 = .ok (.lconst 0, 1) := dk_9 (dk_at dksX0_isMinute_0 2 rfl rfl)
theorem dX0_isMinute_3 : decode cX0_isMinute 3 = .ok (.ldc2_w 123, 3) := dk_20 0 123 (dk_at dksX0_isMinute_0 3 rfl rfl)
theorem dX0_isMinute_6 : decode cX0_isMinute 6 = .ok (.invokestatic 119, 3) := dk_184 0 119 (dk_at dksX0_isMinute_0 6 rfl rfl)
theorem dX0_isMinute_9 : decode cX0_isMinute 9 = .ok (.ireturn, 1) := dk_172 (dk_at dksX0_isMinute_0 9 rfl rfl)
abbrev cX0_toll : ByteArray := prog_1_method_11_code
def yX0_toll : MethodName := ⟨RX0, "toll", "(III)I"⟩
def dkwX0_toll_2 : List UInt8 := [180, 0, 33, 16, 24, 27, 104, 28, 96, 29, 79, 21, 4, 172]
abbrev dktX0_toll_2 : List UInt8 := dkwX0_toll_2 ++ []
def dkwX0_toll_1 : List UInt8 := [184, 0, 119, 154, 0, 6, 16, 254, 172, 42, 180, 0, 33, 16, 24, 27, 104, 28, 96, 46, 54, 4, 42]
abbrev dktX0_toll_1 : List UInt8 := dkwX0_toll_1 ++ dktX0_toll_2
def dkwX0_toll_0 : List UInt8 := [27, 184, 0, 135, 153, 0, 10, 28, 184, 0, 139, 154, 0, 5, 2, 172, 29, 133, 9, 20, 0, 146]
abbrev dktX0_toll_0 : List UInt8 := dkwX0_toll_0 ++ dktX0_toll_1
theorem dksX0_toll_0 : cX0_toll.data.toList.drop 0 = dktX0_toll_0 := by decide +kernel
theorem dksX0_toll_1 : cX0_toll.data.toList.drop 22 = dktX0_toll_1 := dk_seg dksX0_toll_0 22 rfl rfl
theorem dksX0_toll_2 : cX0_toll.data.toList.drop 45 = dktX0_toll_2 := dk_seg dksX0_toll_1 23 rfl rfl
theorem dX0_toll_0 : decode cX0_toll 0 = .ok (.iload_n 1, 1) := dk_27 (dk_at dksX0_toll_0 0 rfl rfl)
theorem dX0_toll_1 : decode cX0_toll 1 = .ok (.invokestatic 135, 3) := dk_184 0 135 (dk_at dksX0_toll_0 1 rfl rfl)
theorem dX0_toll_4 : decode cX0_toll 4 = .ok (.ifCond .eq 10, 3) := dk_153 0 10 (dk_at dksX0_toll_0 4 rfl rfl)
theorem dX0_toll_7 : decode cX0_toll 7 = .ok (.iload_n 2, 1) := dk_28 (dk_at dksX0_toll_0 7 rfl rfl)
theorem dX0_toll_8 : decode cX0_toll 8 = .ok (.invokestatic 139, 3) := dk_184 0 139 (dk_at dksX0_toll_0 8 rfl rfl)
theorem dX0_toll_11 : decode cX0_toll 11 = .ok (.ifCond .ne 5, 3) := dk_154 0 5 (dk_at dksX0_toll_0 11 rfl rfl)
theorem dX0_toll_14 : decode cX0_toll 14 = .ok (.iconst (-1), 1) := dk_2 (dk_at dksX0_toll_0 14 rfl rfl)
theorem dX0_toll_15 : decode cX0_toll 15 = .ok (.ireturn, 1) := dk_172 (dk_at dksX0_toll_0 15 rfl rfl)
theorem dX0_toll_16 : decode cX0_toll 16 = .ok (.iload_n 3, 1) := dk_29 (dk_at dksX0_toll_0 16 rfl rfl)
theorem dX0_toll_17 : decode cX0_toll 17 = .ok (.i2l, 1) := dk_133 (dk_at dksX0_toll_0 17 rfl rfl)
theorem dX0_toll_18 : decode cX0_toll 18 = .ok (.lconst 0, 1) := dk_9 (dk_at dksX0_toll_0 18 rfl rfl)
theorem dX0_toll_19 : decode cX0_toll 19 = .ok (.ldc2_w 146, 3) := dk_20 0 146 (dk_at dksX0_toll_0 19 rfl rfl)
theorem dX0_toll_22 : decode cX0_toll 22 = .ok (.invokestatic 119, 3) := dk_184 0 119 (dk_at dksX0_toll_1 0 rfl rfl)
theorem dX0_toll_25 : decode cX0_toll 25 = .ok (.ifCond .ne 6, 3) := dk_154 0 6 (dk_at dksX0_toll_1 3 rfl rfl)
theorem dX0_toll_28 : decode cX0_toll 28 = .ok (.bipush (-2), 2) := dk_16 254 (dk_at dksX0_toll_1 6 rfl rfl)
theorem dX0_toll_30 : decode cX0_toll 30 = .ok (.ireturn, 1) := dk_172 (dk_at dksX0_toll_1 8 rfl rfl)
theorem dX0_toll_31 : decode cX0_toll 31 = .ok (.aload_n 0, 1) := dk_42 (dk_at dksX0_toll_1 9 rfl rfl)
theorem dX0_toll_32 : decode cX0_toll 32 = .ok (.getfield 33, 3) := dk_180 0 33 (dk_at dksX0_toll_1 10 rfl rfl)
theorem dX0_toll_35 : decode cX0_toll 35 = .ok (.bipush 24, 2) := dk_16 24 (dk_at dksX0_toll_1 13 rfl rfl)
theorem dX0_toll_37 : decode cX0_toll 37 = .ok (.iload_n 1, 1) := dk_27 (dk_at dksX0_toll_1 15 rfl rfl)
theorem dX0_toll_38 : decode cX0_toll 38 = .ok (.imul, 1) := dk_104 (dk_at dksX0_toll_1 16 rfl rfl)
theorem dX0_toll_39 : decode cX0_toll 39 = .ok (.iload_n 2, 1) := dk_28 (dk_at dksX0_toll_1 17 rfl rfl)
theorem dX0_toll_40 : decode cX0_toll 40 = .ok (.iadd, 1) := dk_96 (dk_at dksX0_toll_1 18 rfl rfl)
theorem dX0_toll_41 : decode cX0_toll 41 = .ok (.iaload, 1) := dk_46 (dk_at dksX0_toll_1 19 rfl rfl)
theorem dX0_toll_42 : decode cX0_toll 42 = .ok (.istore 4, 2) := dk_54 4 (dk_at dksX0_toll_1 20 rfl rfl)
theorem dX0_toll_44 : decode cX0_toll 44 = .ok (.aload_n 0, 1) := dk_42 (dk_at dksX0_toll_1 22 rfl rfl)
theorem dX0_toll_45 : decode cX0_toll 45 = .ok (.getfield 33, 3) := dk_180 0 33 (dk_at dksX0_toll_2 0 rfl rfl)
theorem dX0_toll_48 : decode cX0_toll 48 = .ok (.bipush 24, 2) := dk_16 24 (dk_at dksX0_toll_2 3 rfl rfl)
theorem dX0_toll_50 : decode cX0_toll 50 = .ok (.iload_n 1, 1) := dk_27 (dk_at dksX0_toll_2 5 rfl rfl)
theorem dX0_toll_51 : decode cX0_toll 51 = .ok (.imul, 1) := dk_104 (dk_at dksX0_toll_2 6 rfl rfl)
theorem dX0_toll_52 : decode cX0_toll 52 = .ok (.iload_n 2, 1) := dk_28 (dk_at dksX0_toll_2 7 rfl rfl)
theorem dX0_toll_53 : decode cX0_toll 53 = .ok (.iadd, 1) := dk_96 (dk_at dksX0_toll_2 8 rfl rfl)
theorem dX0_toll_54 : decode cX0_toll 54 = .ok (.iload_n 3, 1) := dk_29 (dk_at dksX0_toll_2 9 rfl rfl)
theorem dX0_toll_55 : decode cX0_toll 55 = .ok (.iastore, 1) := dk_79 (dk_at dksX0_toll_2 10 rfl rfl)
theorem dX0_toll_56 : decode cX0_toll 56 = .ok (.iload 4, 2) := dk_21 4 (dk_at dksX0_toll_2 11 rfl rfl)
theorem dX0_toll_58 : decode cX0_toll 58 = .ok (.ireturn, 1) := dk_172 (dk_at dksX0_toll_2 13 rfl rfl)
abbrev cX0_sort : ByteArray := prog_1_method_12_code
def yX0_sort : MethodName := ⟨RX0, "sort", "(IIII)I"⟩
def dkwX0_sort_5 : List UInt8 := [42, 180, 0, 125, 4, 100, 172]
abbrev dktX0_sort_5 : List UInt8 := dkwX0_sort_5 ++ []
def dkwX0_sort_4 : List UInt8 := [180, 0, 42, 5, 42, 180, 0, 125, 104, 4, 96, 21, 4, 79, 42, 89, 180, 0, 125, 4, 96, 181, 0, 125]
abbrev dktX0_sort_4 : List UInt8 := dkwX0_sort_4 ++ dktX0_sort_5
def dkwX0_sort_3 : List UInt8 := [180, 0, 39, 42, 180, 0, 125, 28, 79, 42, 180, 0, 42, 5, 42, 180, 0, 125, 104, 29, 79, 42]
abbrev dktX0_sort_3 : List UInt8 := dkwX0_sort_3 ++ dktX0_sort_4
def dkwX0_sort_2 : List UInt8 := [172, 42, 180, 0, 125, 7, 160, 0, 6, 16, 252, 172, 42, 180, 0, 36, 42, 180, 0, 125, 27, 79, 42]
abbrev dktX0_sort_2 : List UInt8 := dkwX0_sort_2 ++ dktX0_sort_3
def dkwX0_sort_1 : List UInt8 := [20, 0, 144, 184, 0, 119, 153, 0, 16, 21, 4, 133, 9, 20, 0, 144, 184, 0, 119, 154, 0, 6, 16, 254]
abbrev dktX0_sort_1 : List UInt8 := dkwX0_sort_1 ++ dktX0_sort_2
def dkwX0_sort_0 : List UInt8 := [27, 184, 0, 139, 153, 0, 40, 28, 133, 9, 20, 0, 148, 184, 0, 119, 153, 0, 28, 29, 133, 9]
abbrev dktX0_sort_0 : List UInt8 := dkwX0_sort_0 ++ dktX0_sort_1
theorem dksX0_sort_0 : cX0_sort.data.toList.drop 0 = dktX0_sort_0 := by decide +kernel
theorem dksX0_sort_1 : cX0_sort.data.toList.drop 22 = dktX0_sort_1 := dk_seg dksX0_sort_0 22 rfl rfl
theorem dksX0_sort_2 : cX0_sort.data.toList.drop 46 = dktX0_sort_2 := dk_seg dksX0_sort_1 24 rfl rfl
theorem dksX0_sort_3 : cX0_sort.data.toList.drop 69 = dktX0_sort_3 := dk_seg dksX0_sort_2 23 rfl rfl
theorem dksX0_sort_4 : cX0_sort.data.toList.drop 91 = dktX0_sort_4 := dk_seg dksX0_sort_3 22 rfl rfl
theorem dksX0_sort_5 : cX0_sort.data.toList.drop 115 = dktX0_sort_5 := dk_seg dksX0_sort_4 24 rfl rfl
theorem dX0_sort_0 : decode cX0_sort 0 = .ok (.iload_n 1, 1) := dk_27 (dk_at dksX0_sort_0 0 rfl rfl)
theorem dX0_sort_1 : decode cX0_sort 1 = .ok (.invokestatic 139, 3) := dk_184 0 139 (dk_at dksX0_sort_0 1 rfl rfl)
theorem dX0_sort_4 : decode cX0_sort 4 = .ok (.ifCond .eq 40, 3) := dk_153 0 40 (dk_at dksX0_sort_0 4 rfl rfl)
theorem dX0_sort_7 : decode cX0_sort 7 = .ok (.iload_n 2, 1) := dk_28 (dk_at dksX0_sort_0 7 rfl rfl)
theorem dX0_sort_8 : decode cX0_sort 8 = .ok (.i2l, 1) := dk_133 (dk_at dksX0_sort_0 8 rfl rfl)
theorem dX0_sort_9 : decode cX0_sort 9 = .ok (.lconst 0, 1) := dk_9 (dk_at dksX0_sort_0 9 rfl rfl)
theorem dX0_sort_10 : decode cX0_sort 10 = .ok (.ldc2_w 148, 3) := dk_20 0 148 (dk_at dksX0_sort_0 10 rfl rfl)
theorem dX0_sort_13 : decode cX0_sort 13 = .ok (.invokestatic 119, 3) := dk_184 0 119 (dk_at dksX0_sort_0 13 rfl rfl)
theorem dX0_sort_16 : decode cX0_sort 16 = .ok (.ifCond .eq 28, 3) := dk_153 0 28 (dk_at dksX0_sort_0 16 rfl rfl)
theorem dX0_sort_19 : decode cX0_sort 19 = .ok (.iload_n 3, 1) := dk_29 (dk_at dksX0_sort_0 19 rfl rfl)
theorem dX0_sort_20 : decode cX0_sort 20 = .ok (.i2l, 1) := dk_133 (dk_at dksX0_sort_0 20 rfl rfl)
theorem dX0_sort_21 : decode cX0_sort 21 = .ok (.lconst 0, 1) := dk_9 (dk_at dksX0_sort_0 21 rfl rfl)
theorem dX0_sort_22 : decode cX0_sort 22 = .ok (.ldc2_w 144, 3) := dk_20 0 144 (dk_at dksX0_sort_1 0 rfl rfl)
theorem dX0_sort_25 : decode cX0_sort 25 = .ok (.invokestatic 119, 3) := dk_184 0 119 (dk_at dksX0_sort_1 3 rfl rfl)
theorem dX0_sort_28 : decode cX0_sort 28 = .ok (.ifCond .eq 16, 3) := dk_153 0 16 (dk_at dksX0_sort_1 6 rfl rfl)
theorem dX0_sort_31 : decode cX0_sort 31 = .ok (.iload 4, 2) := dk_21 4 (dk_at dksX0_sort_1 9 rfl rfl)
theorem dX0_sort_33 : decode cX0_sort 33 = .ok (.i2l, 1) := dk_133 (dk_at dksX0_sort_1 11 rfl rfl)
theorem dX0_sort_34 : decode cX0_sort 34 = .ok (.lconst 0, 1) := dk_9 (dk_at dksX0_sort_1 12 rfl rfl)
theorem dX0_sort_35 : decode cX0_sort 35 = .ok (.ldc2_w 144, 3) := dk_20 0 144 (dk_at dksX0_sort_1 13 rfl rfl)
theorem dX0_sort_38 : decode cX0_sort 38 = .ok (.invokestatic 119, 3) := dk_184 0 119 (dk_at dksX0_sort_1 16 rfl rfl)
theorem dX0_sort_41 : decode cX0_sort 41 = .ok (.ifCond .ne 6, 3) := dk_154 0 6 (dk_at dksX0_sort_1 19 rfl rfl)
theorem dX0_sort_44 : decode cX0_sort 44 = .ok (.bipush (-2), 2) := dk_16 254 (dk_at dksX0_sort_1 22 rfl rfl)
theorem dX0_sort_46 : decode cX0_sort 46 = .ok (.ireturn, 1) := dk_172 (dk_at dksX0_sort_2 0 rfl rfl)
theorem dX0_sort_47 : decode cX0_sort 47 = .ok (.aload_n 0, 1) := dk_42 (dk_at dksX0_sort_2 1 rfl rfl)
theorem dX0_sort_48 : decode cX0_sort 48 = .ok (.getfield 125, 3) := dk_180 0 125 (dk_at dksX0_sort_2 2 rfl rfl)
theorem dX0_sort_51 : decode cX0_sort 51 = .ok (.iconst 4, 1) := dk_7 (dk_at dksX0_sort_2 5 rfl rfl)
theorem dX0_sort_52 : decode cX0_sort 52 = .ok (.if_icmp .ne 6, 3) := dk_160 0 6 (dk_at dksX0_sort_2 6 rfl rfl)
theorem dX0_sort_55 : decode cX0_sort 55 = .ok (.bipush (-4), 2) := dk_16 252 (dk_at dksX0_sort_2 9 rfl rfl)
theorem dX0_sort_57 : decode cX0_sort 57 = .ok (.ireturn, 1) := dk_172 (dk_at dksX0_sort_2 11 rfl rfl)
theorem dX0_sort_58 : decode cX0_sort 58 = .ok (.aload_n 0, 1) := dk_42 (dk_at dksX0_sort_2 12 rfl rfl)
theorem dX0_sort_59 : decode cX0_sort 59 = .ok (.getfield 36, 3) := dk_180 0 36 (dk_at dksX0_sort_2 13 rfl rfl)
theorem dX0_sort_62 : decode cX0_sort 62 = .ok (.aload_n 0, 1) := dk_42 (dk_at dksX0_sort_2 16 rfl rfl)
theorem dX0_sort_63 : decode cX0_sort 63 = .ok (.getfield 125, 3) := dk_180 0 125 (dk_at dksX0_sort_2 17 rfl rfl)
theorem dX0_sort_66 : decode cX0_sort 66 = .ok (.iload_n 1, 1) := dk_27 (dk_at dksX0_sort_2 20 rfl rfl)
theorem dX0_sort_67 : decode cX0_sort 67 = .ok (.iastore, 1) := dk_79 (dk_at dksX0_sort_2 21 rfl rfl)
theorem dX0_sort_68 : decode cX0_sort 68 = .ok (.aload_n 0, 1) := dk_42 (dk_at dksX0_sort_2 22 rfl rfl)
theorem dX0_sort_69 : decode cX0_sort 69 = .ok (.getfield 39, 3) := dk_180 0 39 (dk_at dksX0_sort_3 0 rfl rfl)
theorem dX0_sort_72 : decode cX0_sort 72 = .ok (.aload_n 0, 1) := dk_42 (dk_at dksX0_sort_3 3 rfl rfl)
theorem dX0_sort_73 : decode cX0_sort 73 = .ok (.getfield 125, 3) := dk_180 0 125 (dk_at dksX0_sort_3 4 rfl rfl)
theorem dX0_sort_76 : decode cX0_sort 76 = .ok (.iload_n 2, 1) := dk_28 (dk_at dksX0_sort_3 7 rfl rfl)
theorem dX0_sort_77 : decode cX0_sort 77 = .ok (.iastore, 1) := dk_79 (dk_at dksX0_sort_3 8 rfl rfl)
theorem dX0_sort_78 : decode cX0_sort 78 = .ok (.aload_n 0, 1) := dk_42 (dk_at dksX0_sort_3 9 rfl rfl)
theorem dX0_sort_79 : decode cX0_sort 79 = .ok (.getfield 42, 3) := dk_180 0 42 (dk_at dksX0_sort_3 10 rfl rfl)
theorem dX0_sort_82 : decode cX0_sort 82 = .ok (.iconst 2, 1) := dk_5 (dk_at dksX0_sort_3 13 rfl rfl)
theorem dX0_sort_83 : decode cX0_sort 83 = .ok (.aload_n 0, 1) := dk_42 (dk_at dksX0_sort_3 14 rfl rfl)
theorem dX0_sort_84 : decode cX0_sort 84 = .ok (.getfield 125, 3) := dk_180 0 125 (dk_at dksX0_sort_3 15 rfl rfl)
theorem dX0_sort_87 : decode cX0_sort 87 = .ok (.imul, 1) := dk_104 (dk_at dksX0_sort_3 18 rfl rfl)
theorem dX0_sort_88 : decode cX0_sort 88 = .ok (.iload_n 3, 1) := dk_29 (dk_at dksX0_sort_3 19 rfl rfl)
theorem dX0_sort_89 : decode cX0_sort 89 = .ok (.iastore, 1) := dk_79 (dk_at dksX0_sort_3 20 rfl rfl)
theorem dX0_sort_90 : decode cX0_sort 90 = .ok (.aload_n 0, 1) := dk_42 (dk_at dksX0_sort_3 21 rfl rfl)
theorem dX0_sort_91 : decode cX0_sort 91 = .ok (.getfield 42, 3) := dk_180 0 42 (dk_at dksX0_sort_4 0 rfl rfl)
theorem dX0_sort_94 : decode cX0_sort 94 = .ok (.iconst 2, 1) := dk_5 (dk_at dksX0_sort_4 3 rfl rfl)
theorem dX0_sort_95 : decode cX0_sort 95 = .ok (.aload_n 0, 1) := dk_42 (dk_at dksX0_sort_4 4 rfl rfl)
theorem dX0_sort_96 : decode cX0_sort 96 = .ok (.getfield 125, 3) := dk_180 0 125 (dk_at dksX0_sort_4 5 rfl rfl)
theorem dX0_sort_99 : decode cX0_sort 99 = .ok (.imul, 1) := dk_104 (dk_at dksX0_sort_4 8 rfl rfl)
theorem dX0_sort_100 : decode cX0_sort 100 = .ok (.iconst 1, 1) := dk_4 (dk_at dksX0_sort_4 9 rfl rfl)
theorem dX0_sort_101 : decode cX0_sort 101 = .ok (.iadd, 1) := dk_96 (dk_at dksX0_sort_4 10 rfl rfl)
theorem dX0_sort_102 : decode cX0_sort 102 = .ok (.iload 4, 2) := dk_21 4 (dk_at dksX0_sort_4 11 rfl rfl)
theorem dX0_sort_104 : decode cX0_sort 104 = .ok (.iastore, 1) := dk_79 (dk_at dksX0_sort_4 13 rfl rfl)
theorem dX0_sort_105 : decode cX0_sort 105 = .ok (.aload_n 0, 1) := dk_42 (dk_at dksX0_sort_4 14 rfl rfl)
theorem dX0_sort_106 : decode cX0_sort 106 = .ok (.dup, 1) := dk_89 (dk_at dksX0_sort_4 15 rfl rfl)
theorem dX0_sort_107 : decode cX0_sort 107 = .ok (.getfield 125, 3) := dk_180 0 125 (dk_at dksX0_sort_4 16 rfl rfl)
theorem dX0_sort_110 : decode cX0_sort 110 = .ok (.iconst 1, 1) := dk_4 (dk_at dksX0_sort_4 19 rfl rfl)
theorem dX0_sort_111 : decode cX0_sort 111 = .ok (.iadd, 1) := dk_96 (dk_at dksX0_sort_4 20 rfl rfl)
theorem dX0_sort_112 : decode cX0_sort 112 = .ok (.putfield 125, 3) := dk_181 0 125 (dk_at dksX0_sort_4 21 rfl rfl)
theorem dX0_sort_115 : decode cX0_sort 115 = .ok (.aload_n 0, 1) := dk_42 (dk_at dksX0_sort_5 0 rfl rfl)
theorem dX0_sort_116 : decode cX0_sort 116 = .ok (.getfield 125, 3) := dk_180 0 125 (dk_at dksX0_sort_5 1 rfl rfl)
theorem dX0_sort_119 : decode cX0_sort 119 = .ok (.iconst 1, 1) := dk_4 (dk_at dksX0_sort_5 4 rfl rfl)
theorem dX0_sort_120 : decode cX0_sort 120 = .ok (.isub, 1) := dk_100 (dk_at dksX0_sort_5 5 rfl rfl)
theorem dX0_sort_121 : decode cX0_sort 121 = .ok (.ireturn, 1) := dk_172 (dk_at dksX0_sort_5 6 rfl rfl)
abbrev cX0_cart : ByteArray := prog_1_method_13_code
def yX0_cart : MethodName := ⟨RX0, "cart", "(I)I"⟩
def dkwX0_cart_2 : List UInt8 := [100, 172]
abbrev dktX0_cart_2 : List UInt8 := dkwX0_cart_2 ++ []
def dkwX0_cart_1 : List UInt8 := [180, 0, 45, 42, 180, 0, 128, 27, 79, 42, 89, 180, 0, 128, 4, 96, 181, 0, 128, 42, 180, 0, 128, 4]
abbrev dktX0_cart_1 : List UInt8 := dkwX0_cart_1 ++ dktX0_cart_2
def dkwX0_cart_0 : List UInt8 := [42, 27, 182, 0, 150, 154, 0, 5, 2, 172, 42, 180, 0, 128, 16, 16, 160, 0, 6, 16, 252, 172, 42]
abbrev dktX0_cart_0 : List UInt8 := dkwX0_cart_0 ++ dktX0_cart_1
theorem dksX0_cart_0 : cX0_cart.data.toList.drop 0 = dktX0_cart_0 := by decide +kernel
theorem dksX0_cart_1 : cX0_cart.data.toList.drop 23 = dktX0_cart_1 := dk_seg dksX0_cart_0 23 rfl rfl
theorem dksX0_cart_2 : cX0_cart.data.toList.drop 47 = dktX0_cart_2 := dk_seg dksX0_cart_1 24 rfl rfl
theorem dX0_cart_0 : decode cX0_cart 0 = .ok (.aload_n 0, 1) := dk_42 (dk_at dksX0_cart_0 0 rfl rfl)
theorem dX0_cart_1 : decode cX0_cart 1 = .ok (.iload_n 1, 1) := dk_27 (dk_at dksX0_cart_0 1 rfl rfl)
theorem dX0_cart_2 : decode cX0_cart 2 = .ok (.invokevirtual 150, 3) := dk_182 0 150 (dk_at dksX0_cart_0 2 rfl rfl)
theorem dX0_cart_5 : decode cX0_cart 5 = .ok (.ifCond .ne 5, 3) := dk_154 0 5 (dk_at dksX0_cart_0 5 rfl rfl)
theorem dX0_cart_8 : decode cX0_cart 8 = .ok (.iconst (-1), 1) := dk_2 (dk_at dksX0_cart_0 8 rfl rfl)
theorem dX0_cart_9 : decode cX0_cart 9 = .ok (.ireturn, 1) := dk_172 (dk_at dksX0_cart_0 9 rfl rfl)
theorem dX0_cart_10 : decode cX0_cart 10 = .ok (.aload_n 0, 1) := dk_42 (dk_at dksX0_cart_0 10 rfl rfl)
theorem dX0_cart_11 : decode cX0_cart 11 = .ok (.getfield 128, 3) := dk_180 0 128 (dk_at dksX0_cart_0 11 rfl rfl)
theorem dX0_cart_14 : decode cX0_cart 14 = .ok (.bipush 16, 2) := dk_16 16 (dk_at dksX0_cart_0 14 rfl rfl)
theorem dX0_cart_16 : decode cX0_cart 16 = .ok (.if_icmp .ne 6, 3) := dk_160 0 6 (dk_at dksX0_cart_0 16 rfl rfl)
theorem dX0_cart_19 : decode cX0_cart 19 = .ok (.bipush (-4), 2) := dk_16 252 (dk_at dksX0_cart_0 19 rfl rfl)
theorem dX0_cart_21 : decode cX0_cart 21 = .ok (.ireturn, 1) := dk_172 (dk_at dksX0_cart_0 21 rfl rfl)
theorem dX0_cart_22 : decode cX0_cart 22 = .ok (.aload_n 0, 1) := dk_42 (dk_at dksX0_cart_0 22 rfl rfl)
theorem dX0_cart_23 : decode cX0_cart 23 = .ok (.getfield 45, 3) := dk_180 0 45 (dk_at dksX0_cart_1 0 rfl rfl)
theorem dX0_cart_26 : decode cX0_cart 26 = .ok (.aload_n 0, 1) := dk_42 (dk_at dksX0_cart_1 3 rfl rfl)
theorem dX0_cart_27 : decode cX0_cart 27 = .ok (.getfield 128, 3) := dk_180 0 128 (dk_at dksX0_cart_1 4 rfl rfl)
theorem dX0_cart_30 : decode cX0_cart 30 = .ok (.iload_n 1, 1) := dk_27 (dk_at dksX0_cart_1 7 rfl rfl)
theorem dX0_cart_31 : decode cX0_cart 31 = .ok (.iastore, 1) := dk_79 (dk_at dksX0_cart_1 8 rfl rfl)
theorem dX0_cart_32 : decode cX0_cart 32 = .ok (.aload_n 0, 1) := dk_42 (dk_at dksX0_cart_1 9 rfl rfl)
theorem dX0_cart_33 : decode cX0_cart 33 = .ok (.dup, 1) := dk_89 (dk_at dksX0_cart_1 10 rfl rfl)
theorem dX0_cart_34 : decode cX0_cart 34 = .ok (.getfield 128, 3) := dk_180 0 128 (dk_at dksX0_cart_1 11 rfl rfl)
theorem dX0_cart_37 : decode cX0_cart 37 = .ok (.iconst 1, 1) := dk_4 (dk_at dksX0_cart_1 14 rfl rfl)
theorem dX0_cart_38 : decode cX0_cart 38 = .ok (.iadd, 1) := dk_96 (dk_at dksX0_cart_1 15 rfl rfl)
theorem dX0_cart_39 : decode cX0_cart 39 = .ok (.putfield 128, 3) := dk_181 0 128 (dk_at dksX0_cart_1 16 rfl rfl)
theorem dX0_cart_42 : decode cX0_cart 42 = .ok (.aload_n 0, 1) := dk_42 (dk_at dksX0_cart_1 19 rfl rfl)
theorem dX0_cart_43 : decode cX0_cart 43 = .ok (.getfield 128, 3) := dk_180 0 128 (dk_at dksX0_cart_1 20 rfl rfl)
theorem dX0_cart_46 : decode cX0_cart 46 = .ok (.iconst 1, 1) := dk_4 (dk_at dksX0_cart_1 23 rfl rfl)
theorem dX0_cart_47 : decode cX0_cart 47 = .ok (.isub, 1) := dk_100 (dk_at dksX0_cart_2 0 rfl rfl)
theorem dX0_cart_48 : decode cX0_cart 48 = .ok (.ireturn, 1) := dk_172 (dk_at dksX0_cart_2 1 rfl rfl)
abbrev cX0_isSort : ByteArray := prog_1_method_7_code
def yX0_isSort : MethodName := ⟨RX0, "isSort", "(I)Z"⟩
def dkwX0_isSort_0 : List UInt8 := [27, 133, 9, 42, 180, 0, 125, 133, 10, 101, 184, 0, 119, 172]
abbrev dktX0_isSort_0 : List UInt8 := dkwX0_isSort_0 ++ []
theorem dksX0_isSort_0 : cX0_isSort.data.toList.drop 0 = dktX0_isSort_0 := by decide +kernel
theorem dX0_isSort_0 : decode cX0_isSort 0 = .ok (.iload_n 1, 1) := dk_27 (dk_at dksX0_isSort_0 0 rfl rfl)
theorem dX0_isSort_1 : decode cX0_isSort 1 = .ok (.i2l, 1) := dk_133 (dk_at dksX0_isSort_0 1 rfl rfl)
theorem dX0_isSort_2 : decode cX0_isSort 2 = .ok (.lconst 0, 1) := dk_9 (dk_at dksX0_isSort_0 2 rfl rfl)
theorem dX0_isSort_3 : decode cX0_isSort 3 = .ok (.aload_n 0, 1) := dk_42 (dk_at dksX0_isSort_0 3 rfl rfl)
theorem dX0_isSort_4 : decode cX0_isSort 4 = .ok (.getfield 125, 3) := dk_180 0 125 (dk_at dksX0_isSort_0 4 rfl rfl)
theorem dX0_isSort_7 : decode cX0_isSort 7 = .ok (.i2l, 1) := dk_133 (dk_at dksX0_isSort_0 7 rfl rfl)
theorem dX0_isSort_8 : decode cX0_isSort 8 = .ok (.lconst 1, 1) := dk_10 (dk_at dksX0_isSort_0 8 rfl rfl)
theorem dX0_isSort_9 : decode cX0_isSort 9 = .ok (.lsub, 1) := dk_101 (dk_at dksX0_isSort_0 9 rfl rfl)
theorem dX0_isSort_10 : decode cX0_isSort 10 = .ok (.invokestatic 119, 3) := dk_184 0 119 (dk_at dksX0_isSort_0 10 rfl rfl)
theorem dX0_isSort_13 : decode cX0_isSort 13 = .ok (.ireturn, 1) := dk_172 (dk_at dksX0_isSort_0 13 rfl rfl)
abbrev cX0_gateTold : ByteArray := prog_1_method_14_code
def yX0_gateTold : MethodName := ⟨RX0, "gateTold", "(III)I"⟩
def dkwX0_gateTold_3 : List UInt8 := [16, 249, 172]
abbrev dktX0_gateTold_3 : List UInt8 := dkwX0_gateTold_3 ++ []
def dkwX0_gateTold_2 : List UInt8 := [42, 180, 0, 29, 16, 24, 27, 104, 28, 96, 46, 172, 42, 180, 0, 33, 16, 24, 27, 104, 28, 96, 46, 172]
abbrev dktX0_gateTold_2 : List UInt8 := dkwX0_gateTold_2 ++ dktX0_gateTold_3
def dkwX0_gateTold_1 : List UInt8 := [171, 0, 0, 0, 0, 50, 0, 0, 0, 2, 0, 0, 0, 0, 0, 0, 0, 26, 0, 0, 0, 1, 0, 0, 0, 38]
abbrev dktX0_gateTold_1 : List UInt8 := dkwX0_gateTold_1 ++ dktX0_gateTold_2
def dkwX0_gateTold_0 : List UInt8 := [27, 184, 0, 135, 153, 0, 10, 28, 184, 0, 139, 154, 0, 6, 16, 251, 172, 29]
abbrev dktX0_gateTold_0 : List UInt8 := dkwX0_gateTold_0 ++ dktX0_gateTold_1
theorem dksX0_gateTold_0 : cX0_gateTold.data.toList.drop 0 = dktX0_gateTold_0 := by decide +kernel
theorem dksX0_gateTold_1 : cX0_gateTold.data.toList.drop 18 = dktX0_gateTold_1 := dk_seg dksX0_gateTold_0 18 rfl rfl
theorem dksX0_gateTold_2 : cX0_gateTold.data.toList.drop 44 = dktX0_gateTold_2 := dk_seg dksX0_gateTold_1 26 rfl rfl
theorem dksX0_gateTold_3 : cX0_gateTold.data.toList.drop 68 = dktX0_gateTold_3 := dk_seg dksX0_gateTold_2 24 rfl rfl
theorem dX0_gateTold_0 : decode cX0_gateTold 0 = .ok (.iload_n 1, 1) := dk_27 (dk_at dksX0_gateTold_0 0 rfl rfl)
theorem dX0_gateTold_1 : decode cX0_gateTold 1 = .ok (.invokestatic 135, 3) := dk_184 0 135 (dk_at dksX0_gateTold_0 1 rfl rfl)
theorem dX0_gateTold_4 : decode cX0_gateTold 4 = .ok (.ifCond .eq 10, 3) := dk_153 0 10 (dk_at dksX0_gateTold_0 4 rfl rfl)
theorem dX0_gateTold_7 : decode cX0_gateTold 7 = .ok (.iload_n 2, 1) := dk_28 (dk_at dksX0_gateTold_0 7 rfl rfl)
theorem dX0_gateTold_8 : decode cX0_gateTold 8 = .ok (.invokestatic 139, 3) := dk_184 0 139 (dk_at dksX0_gateTold_0 8 rfl rfl)
theorem dX0_gateTold_11 : decode cX0_gateTold 11 = .ok (.ifCond .ne 6, 3) := dk_154 0 6 (dk_at dksX0_gateTold_0 11 rfl rfl)
theorem dX0_gateTold_14 : decode cX0_gateTold 14 = .ok (.bipush (-5), 2) := dk_16 251 (dk_at dksX0_gateTold_0 14 rfl rfl)
theorem dX0_gateTold_16 : decode cX0_gateTold 16 = .ok (.ireturn, 1) := dk_172 (dk_at dksX0_gateTold_0 16 rfl rfl)
theorem dX0_gateTold_17 : decode cX0_gateTold 17 = .ok (.iload_n 3, 1) := dk_29 (dk_at dksX0_gateTold_0 17 rfl rfl)
theorem dX0_gateTold_18 : decode cX0_gateTold 18 = .ok (.lookupswitch 50 #[(0, 26), (1, 38)], 26) := by decide +kernel
theorem dX0_gateTold_44 : decode cX0_gateTold 44 = .ok (.aload_n 0, 1) := dk_42 (dk_at dksX0_gateTold_2 0 rfl rfl)
theorem dX0_gateTold_45 : decode cX0_gateTold 45 = .ok (.getfield 29, 3) := dk_180 0 29 (dk_at dksX0_gateTold_2 1 rfl rfl)
theorem dX0_gateTold_48 : decode cX0_gateTold 48 = .ok (.bipush 24, 2) := dk_16 24 (dk_at dksX0_gateTold_2 4 rfl rfl)
theorem dX0_gateTold_50 : decode cX0_gateTold 50 = .ok (.iload_n 1, 1) := dk_27 (dk_at dksX0_gateTold_2 6 rfl rfl)
theorem dX0_gateTold_51 : decode cX0_gateTold 51 = .ok (.imul, 1) := dk_104 (dk_at dksX0_gateTold_2 7 rfl rfl)
theorem dX0_gateTold_52 : decode cX0_gateTold 52 = .ok (.iload_n 2, 1) := dk_28 (dk_at dksX0_gateTold_2 8 rfl rfl)
theorem dX0_gateTold_53 : decode cX0_gateTold 53 = .ok (.iadd, 1) := dk_96 (dk_at dksX0_gateTold_2 9 rfl rfl)
theorem dX0_gateTold_54 : decode cX0_gateTold 54 = .ok (.iaload, 1) := dk_46 (dk_at dksX0_gateTold_2 10 rfl rfl)
theorem dX0_gateTold_55 : decode cX0_gateTold 55 = .ok (.ireturn, 1) := dk_172 (dk_at dksX0_gateTold_2 11 rfl rfl)
theorem dX0_gateTold_56 : decode cX0_gateTold 56 = .ok (.aload_n 0, 1) := dk_42 (dk_at dksX0_gateTold_2 12 rfl rfl)
theorem dX0_gateTold_57 : decode cX0_gateTold 57 = .ok (.getfield 33, 3) := dk_180 0 33 (dk_at dksX0_gateTold_2 13 rfl rfl)
theorem dX0_gateTold_60 : decode cX0_gateTold 60 = .ok (.bipush 24, 2) := dk_16 24 (dk_at dksX0_gateTold_2 16 rfl rfl)
theorem dX0_gateTold_62 : decode cX0_gateTold 62 = .ok (.iload_n 1, 1) := dk_27 (dk_at dksX0_gateTold_2 18 rfl rfl)
theorem dX0_gateTold_63 : decode cX0_gateTold 63 = .ok (.imul, 1) := dk_104 (dk_at dksX0_gateTold_2 19 rfl rfl)
theorem dX0_gateTold_64 : decode cX0_gateTold 64 = .ok (.iload_n 2, 1) := dk_28 (dk_at dksX0_gateTold_2 20 rfl rfl)
theorem dX0_gateTold_65 : decode cX0_gateTold 65 = .ok (.iadd, 1) := dk_96 (dk_at dksX0_gateTold_2 21 rfl rfl)
theorem dX0_gateTold_66 : decode cX0_gateTold 66 = .ok (.iaload, 1) := dk_46 (dk_at dksX0_gateTold_2 22 rfl rfl)
theorem dX0_gateTold_67 : decode cX0_gateTold 67 = .ok (.ireturn, 1) := dk_172 (dk_at dksX0_gateTold_2 23 rfl rfl)
theorem dX0_gateTold_68 : decode cX0_gateTold 68 = .ok (.bipush (-7), 2) := dk_16 249 (dk_at dksX0_gateTold_3 0 rfl rfl)
theorem dX0_gateTold_70 : decode cX0_gateTold 70 = .ok (.ireturn, 1) := dk_172 (dk_at dksX0_gateTold_3 2 rfl rfl)
abbrev cX0_sortTold : ByteArray := prog_1_method_15_code
def yX0_sortTold : MethodName := ⟨RX0, "sortTold", "(II)I"⟩
def dkwX0_sortTold_3 : List UInt8 := [180, 0, 42, 5, 27, 104, 4, 96, 46, 172, 16, 249, 172]
abbrev dktX0_sortTold_3 : List UInt8 := dkwX0_sortTold_3 ++ []
def dkwX0_sortTold_2 : List UInt8 := [42, 180, 0, 36, 27, 46, 172, 42, 180, 0, 39, 27, 46, 172, 42, 180, 0, 42, 5, 27, 104, 46, 172, 42]
abbrev dktX0_sortTold_2 : List UInt8 := dkwX0_sortTold_2 ++ dktX0_sortTold_3
def dkwX0_sortTold_1 : List UInt8 := [170, 0, 0, 0, 0, 0, 0, 66, 0, 0, 0, 0, 0, 0, 0, 3, 0, 0, 0, 32, 0, 0, 0, 39, 0, 0, 0, 46, 0, 0, 0, 55]
abbrev dktX0_sortTold_1 : List UInt8 := dkwX0_sortTold_1 ++ dktX0_sortTold_2
def dkwX0_sortTold_0 : List UInt8 := [42, 27, 182, 0, 150, 154, 0, 6, 16, 251, 172, 28]
abbrev dktX0_sortTold_0 : List UInt8 := dkwX0_sortTold_0 ++ dktX0_sortTold_1
theorem dksX0_sortTold_0 : cX0_sortTold.data.toList.drop 0 = dktX0_sortTold_0 := by decide +kernel
theorem dksX0_sortTold_1 : cX0_sortTold.data.toList.drop 12 = dktX0_sortTold_1 := dk_seg dksX0_sortTold_0 12 rfl rfl
theorem dksX0_sortTold_2 : cX0_sortTold.data.toList.drop 44 = dktX0_sortTold_2 := dk_seg dksX0_sortTold_1 32 rfl rfl
theorem dksX0_sortTold_3 : cX0_sortTold.data.toList.drop 68 = dktX0_sortTold_3 := dk_seg dksX0_sortTold_2 24 rfl rfl
theorem dX0_sortTold_0 : decode cX0_sortTold 0 = .ok (.aload_n 0, 1) := dk_42 (dk_at dksX0_sortTold_0 0 rfl rfl)
theorem dX0_sortTold_1 : decode cX0_sortTold 1 = .ok (.iload_n 1, 1) := dk_27 (dk_at dksX0_sortTold_0 1 rfl rfl)
theorem dX0_sortTold_2 : decode cX0_sortTold 2 = .ok (.invokevirtual 150, 3) := dk_182 0 150 (dk_at dksX0_sortTold_0 2 rfl rfl)
theorem dX0_sortTold_5 : decode cX0_sortTold 5 = .ok (.ifCond .ne 6, 3) := dk_154 0 6 (dk_at dksX0_sortTold_0 5 rfl rfl)
theorem dX0_sortTold_8 : decode cX0_sortTold 8 = .ok (.bipush (-5), 2) := dk_16 251 (dk_at dksX0_sortTold_0 8 rfl rfl)
theorem dX0_sortTold_10 : decode cX0_sortTold 10 = .ok (.ireturn, 1) := dk_172 (dk_at dksX0_sortTold_0 10 rfl rfl)
theorem dX0_sortTold_11 : decode cX0_sortTold 11 = .ok (.iload_n 2, 1) := dk_28 (dk_at dksX0_sortTold_0 11 rfl rfl)
theorem dX0_sortTold_12 : decode cX0_sortTold 12 = .ok (.tableswitch 66 0 3 #[32, 39, 46, 55], 32) := by decide +kernel
theorem dX0_sortTold_44 : decode cX0_sortTold 44 = .ok (.aload_n 0, 1) := dk_42 (dk_at dksX0_sortTold_2 0 rfl rfl)
theorem dX0_sortTold_45 : decode cX0_sortTold 45 = .ok (.getfield 36, 3) := dk_180 0 36 (dk_at dksX0_sortTold_2 1 rfl rfl)
theorem dX0_sortTold_48 : decode cX0_sortTold 48 = .ok (.iload_n 1, 1) := dk_27 (dk_at dksX0_sortTold_2 4 rfl rfl)
theorem dX0_sortTold_49 : decode cX0_sortTold 49 = .ok (.iaload, 1) := dk_46 (dk_at dksX0_sortTold_2 5 rfl rfl)
theorem dX0_sortTold_50 : decode cX0_sortTold 50 = .ok (.ireturn, 1) := dk_172 (dk_at dksX0_sortTold_2 6 rfl rfl)
theorem dX0_sortTold_51 : decode cX0_sortTold 51 = .ok (.aload_n 0, 1) := dk_42 (dk_at dksX0_sortTold_2 7 rfl rfl)
theorem dX0_sortTold_52 : decode cX0_sortTold 52 = .ok (.getfield 39, 3) := dk_180 0 39 (dk_at dksX0_sortTold_2 8 rfl rfl)
theorem dX0_sortTold_55 : decode cX0_sortTold 55 = .ok (.iload_n 1, 1) := dk_27 (dk_at dksX0_sortTold_2 11 rfl rfl)
theorem dX0_sortTold_56 : decode cX0_sortTold 56 = .ok (.iaload, 1) := dk_46 (dk_at dksX0_sortTold_2 12 rfl rfl)
theorem dX0_sortTold_57 : decode cX0_sortTold 57 = .ok (.ireturn, 1) := dk_172 (dk_at dksX0_sortTold_2 13 rfl rfl)
theorem dX0_sortTold_58 : decode cX0_sortTold 58 = .ok (.aload_n 0, 1) := dk_42 (dk_at dksX0_sortTold_2 14 rfl rfl)
theorem dX0_sortTold_59 : decode cX0_sortTold 59 = .ok (.getfield 42, 3) := dk_180 0 42 (dk_at dksX0_sortTold_2 15 rfl rfl)
theorem dX0_sortTold_62 : decode cX0_sortTold 62 = .ok (.iconst 2, 1) := dk_5 (dk_at dksX0_sortTold_2 18 rfl rfl)
theorem dX0_sortTold_63 : decode cX0_sortTold 63 = .ok (.iload_n 1, 1) := dk_27 (dk_at dksX0_sortTold_2 19 rfl rfl)
theorem dX0_sortTold_64 : decode cX0_sortTold 64 = .ok (.imul, 1) := dk_104 (dk_at dksX0_sortTold_2 20 rfl rfl)
theorem dX0_sortTold_65 : decode cX0_sortTold 65 = .ok (.iaload, 1) := dk_46 (dk_at dksX0_sortTold_2 21 rfl rfl)
theorem dX0_sortTold_66 : decode cX0_sortTold 66 = .ok (.ireturn, 1) := dk_172 (dk_at dksX0_sortTold_2 22 rfl rfl)
theorem dX0_sortTold_67 : decode cX0_sortTold 67 = .ok (.aload_n 0, 1) := dk_42 (dk_at dksX0_sortTold_2 23 rfl rfl)
theorem dX0_sortTold_68 : decode cX0_sortTold 68 = .ok (.getfield 42, 3) := dk_180 0 42 (dk_at dksX0_sortTold_3 0 rfl rfl)
theorem dX0_sortTold_71 : decode cX0_sortTold 71 = .ok (.iconst 2, 1) := dk_5 (dk_at dksX0_sortTold_3 3 rfl rfl)
theorem dX0_sortTold_72 : decode cX0_sortTold 72 = .ok (.iload_n 1, 1) := dk_27 (dk_at dksX0_sortTold_3 4 rfl rfl)
theorem dX0_sortTold_73 : decode cX0_sortTold 73 = .ok (.imul, 1) := dk_104 (dk_at dksX0_sortTold_3 5 rfl rfl)
theorem dX0_sortTold_74 : decode cX0_sortTold 74 = .ok (.iconst 1, 1) := dk_4 (dk_at dksX0_sortTold_3 6 rfl rfl)
theorem dX0_sortTold_75 : decode cX0_sortTold 75 = .ok (.iadd, 1) := dk_96 (dk_at dksX0_sortTold_3 7 rfl rfl)
theorem dX0_sortTold_76 : decode cX0_sortTold 76 = .ok (.iaload, 1) := dk_46 (dk_at dksX0_sortTold_3 8 rfl rfl)
theorem dX0_sortTold_77 : decode cX0_sortTold 77 = .ok (.ireturn, 1) := dk_172 (dk_at dksX0_sortTold_3 9 rfl rfl)
theorem dX0_sortTold_78 : decode cX0_sortTold 78 = .ok (.bipush (-7), 2) := dk_16 249 (dk_at dksX0_sortTold_3 10 rfl rfl)
theorem dX0_sortTold_80 : decode cX0_sortTold 80 = .ok (.ireturn, 1) := dk_172 (dk_at dksX0_sortTold_3 12 rfl rfl)
abbrev cX0_way : ByteArray := prog_1_method_26_code
def yX0_way : MethodName := ⟨RX0, "way", "(II)I"⟩
def dkwX0_way_7 : List UInt8 := [167, 255, 228, 42, 180, 0, 51, 25, 4, 182, 0, 236, 87, 25, 4, 180, 0, 240, 172]
abbrev dktX0_way_7 : List UInt8 := dkwX0_way_7 ++ []
def dkwX0_way_6 : List UInt8 := [162, 0, 25, 25, 4, 180, 0, 175, 21, 5, 45, 180, 0, 227, 21, 5, 46, 145, 84, 132, 5, 1]
abbrev dktX0_way_6 : List UInt8 := dkwX0_way_6 ++ dktX0_way_7
def dkwX0_way_5 : List UInt8 := [184, 0, 232, 58, 4, 25, 4, 42, 180, 0, 128, 181, 0, 174, 3, 54, 5, 21, 5, 42, 180, 0, 128]
abbrev dktX0_way_5 : List UInt8 := dkwX0_way_5 ++ dktX0_way_6
def dkwX0_way_4 : List UInt8 := [180, 0, 51, 182, 0, 131, 16, 8, 160, 0, 6, 16, 252, 172, 27, 42, 180, 0, 51, 182, 0, 131]
abbrev dktX0_way_4 : List UInt8 := dkwX0_way_4 ++ dktX0_way_5
def dkwX0_way_3 : List UInt8 := [46, 133, 9, 20, 0, 230, 184, 0, 119, 154, 0, 6, 16, 254, 172, 132, 4, 1, 167, 255, 223, 42]
abbrev dktX0_way_3 : List UInt8 := dkwX0_way_3 ++ dktX0_way_4
def dkwX0_way_2 : List UInt8 := [159, 0, 6, 16, 254, 172, 3, 54, 4, 21, 4, 42, 180, 0, 128, 162, 0, 30, 45, 180, 0, 227, 21, 4]
abbrev dktX0_way_2 : List UInt8 := dkwX0_way_2 ++ dktX0_way_3
def dkwX0_way_1 : List UInt8 := [180, 0, 106, 28, 50, 78, 45, 180, 0, 222, 156, 0, 6, 16, 245, 172, 45, 180, 0, 225, 42, 180, 0, 128]
abbrev dktX0_way_1 : List UInt8 := dkwX0_way_1 ++ dktX0_way_2
def dkwX0_way_0 : List UInt8 := [27, 133, 9, 20, 0, 217, 184, 0, 119, 153, 0, 10, 28, 184, 0, 219, 154, 0, 6, 16, 254, 172, 42]
abbrev dktX0_way_0 : List UInt8 := dkwX0_way_0 ++ dktX0_way_1
theorem dksX0_way_0 : cX0_way.data.toList.drop 0 = dktX0_way_0 := by decide +kernel
theorem dksX0_way_1 : cX0_way.data.toList.drop 23 = dktX0_way_1 := dk_seg dksX0_way_0 23 rfl rfl
theorem dksX0_way_2 : cX0_way.data.toList.drop 47 = dktX0_way_2 := dk_seg dksX0_way_1 24 rfl rfl
theorem dksX0_way_3 : cX0_way.data.toList.drop 71 = dktX0_way_3 := dk_seg dksX0_way_2 24 rfl rfl
theorem dksX0_way_4 : cX0_way.data.toList.drop 93 = dktX0_way_4 := dk_seg dksX0_way_3 22 rfl rfl
theorem dksX0_way_5 : cX0_way.data.toList.drop 115 = dktX0_way_5 := dk_seg dksX0_way_4 22 rfl rfl
theorem dksX0_way_6 : cX0_way.data.toList.drop 138 = dktX0_way_6 := dk_seg dksX0_way_5 23 rfl rfl
theorem dksX0_way_7 : cX0_way.data.toList.drop 160 = dktX0_way_7 := dk_seg dksX0_way_6 22 rfl rfl
theorem dX0_way_0 : decode cX0_way 0 = .ok (.iload_n 1, 1) := dk_27 (dk_at dksX0_way_0 0 rfl rfl)
theorem dX0_way_1 : decode cX0_way 1 = .ok (.i2l, 1) := dk_133 (dk_at dksX0_way_0 1 rfl rfl)
theorem dX0_way_2 : decode cX0_way 2 = .ok (.lconst 0, 1) := dk_9 (dk_at dksX0_way_0 2 rfl rfl)
theorem dX0_way_3 : decode cX0_way 3 = .ok (.ldc2_w 217, 3) := dk_20 0 217 (dk_at dksX0_way_0 3 rfl rfl)
theorem dX0_way_6 : decode cX0_way 6 = .ok (.invokestatic 119, 3) := dk_184 0 119 (dk_at dksX0_way_0 6 rfl rfl)
theorem dX0_way_9 : decode cX0_way 9 = .ok (.ifCond .eq 10, 3) := dk_153 0 10 (dk_at dksX0_way_0 9 rfl rfl)
theorem dX0_way_12 : decode cX0_way 12 = .ok (.iload_n 2, 1) := dk_28 (dk_at dksX0_way_0 12 rfl rfl)
theorem dX0_way_13 : decode cX0_way 13 = .ok (.invokestatic 219, 3) := dk_184 0 219 (dk_at dksX0_way_0 13 rfl rfl)
theorem dX0_way_16 : decode cX0_way 16 = .ok (.ifCond .ne 6, 3) := dk_154 0 6 (dk_at dksX0_way_0 16 rfl rfl)
theorem dX0_way_19 : decode cX0_way 19 = .ok (.bipush (-2), 2) := dk_16 254 (dk_at dksX0_way_0 19 rfl rfl)
theorem dX0_way_21 : decode cX0_way 21 = .ok (.ireturn, 1) := dk_172 (dk_at dksX0_way_0 21 rfl rfl)
theorem dX0_way_22 : decode cX0_way 22 = .ok (.aload_n 0, 1) := dk_42 (dk_at dksX0_way_0 22 rfl rfl)
theorem dX0_way_23 : decode cX0_way 23 = .ok (.getfield 106, 3) := dk_180 0 106 (dk_at dksX0_way_1 0 rfl rfl)
theorem dX0_way_26 : decode cX0_way 26 = .ok (.iload_n 2, 1) := dk_28 (dk_at dksX0_way_1 3 rfl rfl)
theorem dX0_way_27 : decode cX0_way 27 = .ok (.aaload, 1) := dk_50 (dk_at dksX0_way_1 4 rfl rfl)
theorem dX0_way_28 : decode cX0_way 28 = .ok (.astore_n 3, 1) := dk_78 (dk_at dksX0_way_1 5 rfl rfl)
theorem dX0_way_29 : decode cX0_way 29 = .ok (.aload_n 3, 1) := dk_45 (dk_at dksX0_way_1 6 rfl rfl)
theorem dX0_way_30 : decode cX0_way 30 = .ok (.getfield 222, 3) := dk_180 0 222 (dk_at dksX0_way_1 7 rfl rfl)
theorem dX0_way_33 : decode cX0_way 33 = .ok (.ifCond .ge 6, 3) := dk_156 0 6 (dk_at dksX0_way_1 10 rfl rfl)
theorem dX0_way_36 : decode cX0_way 36 = .ok (.bipush (-11), 2) := dk_16 245 (dk_at dksX0_way_1 13 rfl rfl)
theorem dX0_way_38 : decode cX0_way 38 = .ok (.ireturn, 1) := dk_172 (dk_at dksX0_way_1 15 rfl rfl)
theorem dX0_way_39 : decode cX0_way 39 = .ok (.aload_n 3, 1) := dk_45 (dk_at dksX0_way_1 16 rfl rfl)
theorem dX0_way_40 : decode cX0_way 40 = .ok (.getfield 225, 3) := dk_180 0 225 (dk_at dksX0_way_1 17 rfl rfl)
theorem dX0_way_43 : decode cX0_way 43 = .ok (.aload_n 0, 1) := dk_42 (dk_at dksX0_way_1 20 rfl rfl)
theorem dX0_way_44 : decode cX0_way 44 = .ok (.getfield 128, 3) := dk_180 0 128 (dk_at dksX0_way_1 21 rfl rfl)
theorem dX0_way_47 : decode cX0_way 47 = .ok (.if_icmp .eq 6, 3) := dk_159 0 6 (dk_at dksX0_way_2 0 rfl rfl)
theorem dX0_way_50 : decode cX0_way 50 = .ok (.bipush (-2), 2) := dk_16 254 (dk_at dksX0_way_2 3 rfl rfl)
theorem dX0_way_52 : decode cX0_way 52 = .ok (.ireturn, 1) := dk_172 (dk_at dksX0_way_2 5 rfl rfl)
theorem dX0_way_53 : decode cX0_way 53 = .ok (.iconst 0, 1) := dk_3 (dk_at dksX0_way_2 6 rfl rfl)
theorem dX0_way_54 : decode cX0_way 54 = .ok (.istore 4, 2) := dk_54 4 (dk_at dksX0_way_2 7 rfl rfl)
theorem dX0_way_56 : decode cX0_way 56 = .ok (.iload 4, 2) := dk_21 4 (dk_at dksX0_way_2 9 rfl rfl)
theorem dX0_way_58 : decode cX0_way 58 = .ok (.aload_n 0, 1) := dk_42 (dk_at dksX0_way_2 11 rfl rfl)
theorem dX0_way_59 : decode cX0_way 59 = .ok (.getfield 128, 3) := dk_180 0 128 (dk_at dksX0_way_2 12 rfl rfl)
theorem dX0_way_62 : decode cX0_way 62 = .ok (.if_icmp .ge 30, 3) := dk_162 0 30 (dk_at dksX0_way_2 15 rfl rfl)
theorem dX0_way_65 : decode cX0_way 65 = .ok (.aload_n 3, 1) := dk_45 (dk_at dksX0_way_2 18 rfl rfl)
theorem dX0_way_66 : decode cX0_way 66 = .ok (.getfield 227, 3) := dk_180 0 227 (dk_at dksX0_way_2 19 rfl rfl)
theorem dX0_way_69 : decode cX0_way 69 = .ok (.iload 4, 2) := dk_21 4 (dk_at dksX0_way_2 22 rfl rfl)
theorem dX0_way_71 : decode cX0_way 71 = .ok (.iaload, 1) := dk_46 (dk_at dksX0_way_3 0 rfl rfl)
theorem dX0_way_72 : decode cX0_way 72 = .ok (.i2l, 1) := dk_133 (dk_at dksX0_way_3 1 rfl rfl)
theorem dX0_way_73 : decode cX0_way 73 = .ok (.lconst 0, 1) := dk_9 (dk_at dksX0_way_3 2 rfl rfl)
theorem dX0_way_74 : decode cX0_way 74 = .ok (.ldc2_w 230, 3) := dk_20 0 230 (dk_at dksX0_way_3 3 rfl rfl)
theorem dX0_way_77 : decode cX0_way 77 = .ok (.invokestatic 119, 3) := dk_184 0 119 (dk_at dksX0_way_3 6 rfl rfl)
theorem dX0_way_80 : decode cX0_way 80 = .ok (.ifCond .ne 6, 3) := dk_154 0 6 (dk_at dksX0_way_3 9 rfl rfl)
theorem dX0_way_83 : decode cX0_way 83 = .ok (.bipush (-2), 2) := dk_16 254 (dk_at dksX0_way_3 12 rfl rfl)
theorem dX0_way_85 : decode cX0_way 85 = .ok (.ireturn, 1) := dk_172 (dk_at dksX0_way_3 14 rfl rfl)
theorem dX0_way_86 : decode cX0_way 86 = .ok (.iinc 4 1, 3) := dk_132 4 1 (dk_at dksX0_way_3 15 rfl rfl)
theorem dX0_way_89 : decode cX0_way 89 = .ok (.goto (-33), 3) := dk_167 255 223 (dk_at dksX0_way_3 18 rfl rfl)
theorem dX0_way_92 : decode cX0_way 92 = .ok (.aload_n 0, 1) := dk_42 (dk_at dksX0_way_3 21 rfl rfl)
theorem dX0_way_93 : decode cX0_way 93 = .ok (.getfield 51, 3) := dk_180 0 51 (dk_at dksX0_way_4 0 rfl rfl)
theorem dX0_way_96 : decode cX0_way 96 = .ok (.invokevirtual 131, 3) := dk_182 0 131 (dk_at dksX0_way_4 3 rfl rfl)
theorem dX0_way_99 : decode cX0_way 99 = .ok (.bipush 8, 2) := dk_16 8 (dk_at dksX0_way_4 6 rfl rfl)
theorem dX0_way_101 : decode cX0_way 101 = .ok (.if_icmp .ne 6, 3) := dk_160 0 6 (dk_at dksX0_way_4 8 rfl rfl)
theorem dX0_way_104 : decode cX0_way 104 = .ok (.bipush (-4), 2) := dk_16 252 (dk_at dksX0_way_4 11 rfl rfl)
theorem dX0_way_106 : decode cX0_way 106 = .ok (.ireturn, 1) := dk_172 (dk_at dksX0_way_4 13 rfl rfl)
theorem dX0_way_107 : decode cX0_way 107 = .ok (.iload_n 1, 1) := dk_27 (dk_at dksX0_way_4 14 rfl rfl)
theorem dX0_way_108 : decode cX0_way 108 = .ok (.aload_n 0, 1) := dk_42 (dk_at dksX0_way_4 15 rfl rfl)
theorem dX0_way_109 : decode cX0_way 109 = .ok (.getfield 51, 3) := dk_180 0 51 (dk_at dksX0_way_4 16 rfl rfl)
theorem dX0_way_112 : decode cX0_way 112 = .ok (.invokevirtual 131, 3) := dk_182 0 131 (dk_at dksX0_way_4 19 rfl rfl)
theorem dX0_way_115 : decode cX0_way 115 = .ok (.invokestatic 232, 3) := dk_184 0 232 (dk_at dksX0_way_5 0 rfl rfl)
theorem dX0_way_118 : decode cX0_way 118 = .ok (.astore 4, 2) := dk_58 4 (dk_at dksX0_way_5 3 rfl rfl)
theorem dX0_way_120 : decode cX0_way 120 = .ok (.aload 4, 2) := dk_25 4 (dk_at dksX0_way_5 5 rfl rfl)
theorem dX0_way_122 : decode cX0_way 122 = .ok (.aload_n 0, 1) := dk_42 (dk_at dksX0_way_5 7 rfl rfl)
theorem dX0_way_123 : decode cX0_way 123 = .ok (.getfield 128, 3) := dk_180 0 128 (dk_at dksX0_way_5 8 rfl rfl)
theorem dX0_way_126 : decode cX0_way 126 = .ok (.putfield 174, 3) := dk_181 0 174 (dk_at dksX0_way_5 11 rfl rfl)
theorem dX0_way_129 : decode cX0_way 129 = .ok (.iconst 0, 1) := dk_3 (dk_at dksX0_way_5 14 rfl rfl)
theorem dX0_way_130 : decode cX0_way 130 = .ok (.istore 5, 2) := dk_54 5 (dk_at dksX0_way_5 15 rfl rfl)
theorem dX0_way_132 : decode cX0_way 132 = .ok (.iload 5, 2) := dk_21 5 (dk_at dksX0_way_5 17 rfl rfl)
theorem dX0_way_134 : decode cX0_way 134 = .ok (.aload_n 0, 1) := dk_42 (dk_at dksX0_way_5 19 rfl rfl)
theorem dX0_way_135 : decode cX0_way 135 = .ok (.getfield 128, 3) := dk_180 0 128 (dk_at dksX0_way_5 20 rfl rfl)
theorem dX0_way_138 : decode cX0_way 138 = .ok (.if_icmp .ge 25, 3) := dk_162 0 25 (dk_at dksX0_way_6 0 rfl rfl)
theorem dX0_way_141 : decode cX0_way 141 = .ok (.aload 4, 2) := dk_25 4 (dk_at dksX0_way_6 3 rfl rfl)
theorem dX0_way_143 : decode cX0_way 143 = .ok (.getfield 175, 3) := dk_180 0 175 (dk_at dksX0_way_6 5 rfl rfl)
theorem dX0_way_146 : decode cX0_way 146 = .ok (.iload 5, 2) := dk_21 5 (dk_at dksX0_way_6 8 rfl rfl)
theorem dX0_way_148 : decode cX0_way 148 = .ok (.aload_n 3, 1) := dk_45 (dk_at dksX0_way_6 10 rfl rfl)
theorem dX0_way_149 : decode cX0_way 149 = .ok (.getfield 227, 3) := dk_180 0 227 (dk_at dksX0_way_6 11 rfl rfl)
theorem dX0_way_152 : decode cX0_way 152 = .ok (.iload 5, 2) := dk_21 5 (dk_at dksX0_way_6 14 rfl rfl)
theorem dX0_way_154 : decode cX0_way 154 = .ok (.iaload, 1) := dk_46 (dk_at dksX0_way_6 16 rfl rfl)
theorem dX0_way_155 : decode cX0_way 155 = .ok (.i2b, 1) := dk_145 (dk_at dksX0_way_6 17 rfl rfl)
theorem dX0_way_156 : decode cX0_way 156 = .ok (.bastore, 1) := dk_84 (dk_at dksX0_way_6 18 rfl rfl)
theorem dX0_way_157 : decode cX0_way 157 = .ok (.iinc 5 1, 3) := dk_132 5 1 (dk_at dksX0_way_6 19 rfl rfl)
theorem dX0_way_160 : decode cX0_way 160 = .ok (.goto (-28), 3) := dk_167 255 228 (dk_at dksX0_way_7 0 rfl rfl)
theorem dX0_way_163 : decode cX0_way 163 = .ok (.aload_n 0, 1) := dk_42 (dk_at dksX0_way_7 3 rfl rfl)
theorem dX0_way_164 : decode cX0_way 164 = .ok (.getfield 51, 3) := dk_180 0 51 (dk_at dksX0_way_7 4 rfl rfl)
theorem dX0_way_167 : decode cX0_way 167 = .ok (.aload 4, 2) := dk_25 4 (dk_at dksX0_way_7 7 rfl rfl)
theorem dX0_way_169 : decode cX0_way 169 = .ok (.invokevirtual 236, 3) := dk_182 0 236 (dk_at dksX0_way_7 9 rfl rfl)
theorem dX0_way_172 : decode cX0_way 172 = .ok (.pop, 1) := dk_87 (dk_at dksX0_way_7 12 rfl rfl)
theorem dX0_way_173 : decode cX0_way 173 = .ok (.aload 4, 2) := dk_25 4 (dk_at dksX0_way_7 13 rfl rfl)
theorem dX0_way_175 : decode cX0_way 175 = .ok (.getfield 240, 3) := dk_180 0 240 (dk_at dksX0_way_7 15 rfl rfl)
theorem dX0_way_178 : decode cX0_way 178 = .ok (.ireturn, 1) := dk_172 (dk_at dksX0_way_7 18 rfl rfl)
abbrev cX0_isSheet : ByteArray := prog_1_method_54_code
def yX0_isSheet : MethodName := ⟨RX0, "isSheet", "(I)Z"⟩
def dkwX0_isSheet_0 : List UInt8 := [26, 133, 9, 20, 1, 1, 184, 0, 119, 172]
abbrev dktX0_isSheet_0 : List UInt8 := dkwX0_isSheet_0 ++ []
theorem dksX0_isSheet_0 : cX0_isSheet.data.toList.drop 0 = dktX0_isSheet_0 := by decide +kernel
theorem dX0_isSheet_0 : decode cX0_isSheet 0 = .ok (.iload_n 0, 1) := dk_26 (dk_at dksX0_isSheet_0 0 rfl rfl)
theorem dX0_isSheet_1 : decode cX0_isSheet 1 = .ok (.i2l, 1) := dk_133 (dk_at dksX0_isSheet_0 1 rfl rfl)
theorem dX0_isSheet_2 : decode cX0_isSheet 2 = .ok (.lconst 0, 1) := dk_9 (dk_at dksX0_isSheet_0 2 rfl rfl)
theorem dX0_isSheet_3 : decode cX0_isSheet 3 = .ok (.ldc2_w 257, 3) := dk_20 1 1 (dk_at dksX0_isSheet_0 3 rfl rfl)
theorem dX0_isSheet_6 : decode cX0_isSheet 6 = .ok (.invokestatic 119, 3) := dk_184 0 119 (dk_at dksX0_isSheet_0 6 rfl rfl)
theorem dX0_isSheet_9 : decode cX0_isSheet 9 = .ok (.ireturn, 1) := dk_172 (dk_at dksX0_isSheet_0 9 rfl rfl)
abbrev cX0_made : ByteArray := prog_1_method_2_code
def yX0_made : MethodName := ⟨RX0, "made", "(II)LGateRoad$Way;"⟩
def dkwX0_made_4 : List UInt8 := [187, 0, 21, 89, 27, 183, 0, 23, 176]
abbrev dktX0_made_4 : List UInt8 := dkwX0_made_4 ++ []
def dkwX0_made_3 : List UInt8 := [183, 0, 14, 176, 187, 0, 15, 89, 27, 183, 0, 17, 176, 187, 0, 18, 89, 27, 183, 0, 20, 176]
abbrev dktX0_made_3 : List UInt8 := dkwX0_made_3 ++ dktX0_made_4
def dkwX0_made_2 : List UInt8 := [187, 0, 3, 89, 27, 183, 0, 5, 176, 187, 0, 9, 89, 27, 183, 0, 11, 176, 187, 0, 12, 89, 27]
abbrev dktX0_made_2 : List UInt8 := dkwX0_made_2 ++ dktX0_made_3
def dkwX0_made_1 : List UInt8 := [170, 0, 0, 0, 0, 0, 80, 0, 0, 0, 0, 0, 0, 0, 4, 0, 0, 0, 35, 0, 0, 0, 44, 0, 0, 0, 53, 0, 0, 0, 62, 0, 0, 0, 71]
abbrev dktX0_made_1 : List UInt8 := dkwX0_made_1 ++ dktX0_made_2
def dkwX0_made_0 : List UInt8 := [26]
abbrev dktX0_made_0 : List UInt8 := dkwX0_made_0 ++ dktX0_made_1
theorem dksX0_made_0 : cX0_made.data.toList.drop 0 = dktX0_made_0 := by decide +kernel
theorem dksX0_made_1 : cX0_made.data.toList.drop 1 = dktX0_made_1 := dk_seg dksX0_made_0 1 rfl rfl
theorem dksX0_made_2 : cX0_made.data.toList.drop 36 = dktX0_made_2 := dk_seg dksX0_made_1 35 rfl rfl
theorem dksX0_made_3 : cX0_made.data.toList.drop 59 = dktX0_made_3 := dk_seg dksX0_made_2 23 rfl rfl
theorem dksX0_made_4 : cX0_made.data.toList.drop 81 = dktX0_made_4 := dk_seg dksX0_made_3 22 rfl rfl
theorem dX0_made_0 : decode cX0_made 0 = .ok (.iload_n 0, 1) := dk_26 (dk_at dksX0_made_0 0 rfl rfl)
theorem dX0_made_1 : decode cX0_made 1 = .ok (.tableswitch 80 0 4 #[35, 44, 53, 62, 71], 35) := by decide +kernel
theorem dX0_made_36 : decode cX0_made 36 = .ok (.new 3, 3) := dk_187 0 3 (dk_at dksX0_made_2 0 rfl rfl)
theorem dX0_made_39 : decode cX0_made 39 = .ok (.dup, 1) := dk_89 (dk_at dksX0_made_2 3 rfl rfl)
theorem dX0_made_40 : decode cX0_made 40 = .ok (.iload_n 1, 1) := dk_27 (dk_at dksX0_made_2 4 rfl rfl)
theorem dX0_made_41 : decode cX0_made 41 = .ok (.invokespecial 5, 3) := dk_183 0 5 (dk_at dksX0_made_2 5 rfl rfl)
theorem dX0_made_44 : decode cX0_made 44 = .ok (.areturn, 1) := dk_176 (dk_at dksX0_made_2 8 rfl rfl)
theorem dX0_made_45 : decode cX0_made 45 = .ok (.new 9, 3) := dk_187 0 9 (dk_at dksX0_made_2 9 rfl rfl)
theorem dX0_made_48 : decode cX0_made 48 = .ok (.dup, 1) := dk_89 (dk_at dksX0_made_2 12 rfl rfl)
theorem dX0_made_49 : decode cX0_made 49 = .ok (.iload_n 1, 1) := dk_27 (dk_at dksX0_made_2 13 rfl rfl)
theorem dX0_made_50 : decode cX0_made 50 = .ok (.invokespecial 11, 3) := dk_183 0 11 (dk_at dksX0_made_2 14 rfl rfl)
theorem dX0_made_53 : decode cX0_made 53 = .ok (.areturn, 1) := dk_176 (dk_at dksX0_made_2 17 rfl rfl)
theorem dX0_made_54 : decode cX0_made 54 = .ok (.new 12, 3) := dk_187 0 12 (dk_at dksX0_made_2 18 rfl rfl)
theorem dX0_made_57 : decode cX0_made 57 = .ok (.dup, 1) := dk_89 (dk_at dksX0_made_2 21 rfl rfl)
theorem dX0_made_58 : decode cX0_made 58 = .ok (.iload_n 1, 1) := dk_27 (dk_at dksX0_made_2 22 rfl rfl)
theorem dX0_made_59 : decode cX0_made 59 = .ok (.invokespecial 14, 3) := dk_183 0 14 (dk_at dksX0_made_3 0 rfl rfl)
theorem dX0_made_62 : decode cX0_made 62 = .ok (.areturn, 1) := dk_176 (dk_at dksX0_made_3 3 rfl rfl)
theorem dX0_made_63 : decode cX0_made 63 = .ok (.new 15, 3) := dk_187 0 15 (dk_at dksX0_made_3 4 rfl rfl)
theorem dX0_made_66 : decode cX0_made 66 = .ok (.dup, 1) := dk_89 (dk_at dksX0_made_3 7 rfl rfl)
theorem dX0_made_67 : decode cX0_made 67 = .ok (.iload_n 1, 1) := dk_27 (dk_at dksX0_made_3 8 rfl rfl)
theorem dX0_made_68 : decode cX0_made 68 = .ok (.invokespecial 17, 3) := dk_183 0 17 (dk_at dksX0_made_3 9 rfl rfl)
theorem dX0_made_71 : decode cX0_made 71 = .ok (.areturn, 1) := dk_176 (dk_at dksX0_made_3 12 rfl rfl)
theorem dX0_made_72 : decode cX0_made 72 = .ok (.new 18, 3) := dk_187 0 18 (dk_at dksX0_made_3 13 rfl rfl)
theorem dX0_made_75 : decode cX0_made 75 = .ok (.dup, 1) := dk_89 (dk_at dksX0_made_3 16 rfl rfl)
theorem dX0_made_76 : decode cX0_made 76 = .ok (.iload_n 1, 1) := dk_27 (dk_at dksX0_made_3 17 rfl rfl)
theorem dX0_made_77 : decode cX0_made 77 = .ok (.invokespecial 20, 3) := dk_183 0 20 (dk_at dksX0_made_3 18 rfl rfl)
theorem dX0_made_80 : decode cX0_made 80 = .ok (.areturn, 1) := dk_176 (dk_at dksX0_made_3 21 rfl rfl)
theorem dX0_made_81 : decode cX0_made 81 = .ok (.new 21, 3) := dk_187 0 21 (dk_at dksX0_made_4 0 rfl rfl)
theorem dX0_made_84 : decode cX0_made 84 = .ok (.dup, 1) := dk_89 (dk_at dksX0_made_4 3 rfl rfl)
theorem dX0_made_85 : decode cX0_made 85 = .ok (.iload_n 1, 1) := dk_27 (dk_at dksX0_made_4 4 rfl rfl)
theorem dX0_made_86 : decode cX0_made 86 = .ok (.invokespecial 23, 3) := dk_183 0 23 (dk_at dksX0_made_4 5 rfl rfl)
theorem dX0_made_89 : decode cX0_made 89 = .ok (.areturn, 1) := dk_176 (dk_at dksX0_made_4 8 rfl rfl)
abbrev cX0_wayTold : ByteArray := prog_1_method_27_code
def yX0_wayTold : MethodName := ⟨RX0, "wayTold", "(II)I"⟩
def dkwX0_wayTold_2 : List UInt8 := [180, 0, 174, 133, 10, 101, 184, 0, 119, 153, 0, 12, 45, 180, 0, 175, 28, 51, 167, 0, 5, 16, 249, 172]
abbrev dktX0_wayTold_2 : List UInt8 := dkwX0_wayTold_2 ++ []
def dkwX0_wayTold_1 : List UInt8 := [2, 160, 0, 8, 45, 182, 0, 250, 172, 28, 16, 254, 160, 0, 8, 45, 180, 0, 174, 172, 28, 133, 9, 45]
abbrev dktX0_wayTold_1 : List UInt8 := dkwX0_wayTold_1 ++ dktX0_wayTold_2
def dkwX0_wayTold_0 : List UInt8 := [42, 27, 182, 0, 243, 154, 0, 6, 16, 251, 172, 42, 180, 0, 51, 27, 182, 0, 246, 192, 0, 3, 78, 28]
abbrev dktX0_wayTold_0 : List UInt8 := dkwX0_wayTold_0 ++ dktX0_wayTold_1
theorem dksX0_wayTold_0 : cX0_wayTold.data.toList.drop 0 = dktX0_wayTold_0 := by decide +kernel
theorem dksX0_wayTold_1 : cX0_wayTold.data.toList.drop 24 = dktX0_wayTold_1 := dk_seg dksX0_wayTold_0 24 rfl rfl
theorem dksX0_wayTold_2 : cX0_wayTold.data.toList.drop 48 = dktX0_wayTold_2 := dk_seg dksX0_wayTold_1 24 rfl rfl
theorem dX0_wayTold_0 : decode cX0_wayTold 0 = .ok (.aload_n 0, 1) := dk_42 (dk_at dksX0_wayTold_0 0 rfl rfl)
theorem dX0_wayTold_1 : decode cX0_wayTold 1 = .ok (.iload_n 1, 1) := dk_27 (dk_at dksX0_wayTold_0 1 rfl rfl)
theorem dX0_wayTold_2 : decode cX0_wayTold 2 = .ok (.invokevirtual 243, 3) := dk_182 0 243 (dk_at dksX0_wayTold_0 2 rfl rfl)
theorem dX0_wayTold_5 : decode cX0_wayTold 5 = .ok (.ifCond .ne 6, 3) := dk_154 0 6 (dk_at dksX0_wayTold_0 5 rfl rfl)
theorem dX0_wayTold_8 : decode cX0_wayTold 8 = .ok (.bipush (-5), 2) := dk_16 251 (dk_at dksX0_wayTold_0 8 rfl rfl)
theorem dX0_wayTold_10 : decode cX0_wayTold 10 = .ok (.ireturn, 1) := dk_172 (dk_at dksX0_wayTold_0 10 rfl rfl)
theorem dX0_wayTold_11 : decode cX0_wayTold 11 = .ok (.aload_n 0, 1) := dk_42 (dk_at dksX0_wayTold_0 11 rfl rfl)
theorem dX0_wayTold_12 : decode cX0_wayTold 12 = .ok (.getfield 51, 3) := dk_180 0 51 (dk_at dksX0_wayTold_0 12 rfl rfl)
theorem dX0_wayTold_15 : decode cX0_wayTold 15 = .ok (.iload_n 1, 1) := dk_27 (dk_at dksX0_wayTold_0 15 rfl rfl)
theorem dX0_wayTold_16 : decode cX0_wayTold 16 = .ok (.invokevirtual 246, 3) := dk_182 0 246 (dk_at dksX0_wayTold_0 16 rfl rfl)
theorem dX0_wayTold_19 : decode cX0_wayTold 19 = .ok (.checkcast 3, 3) := dk_192 0 3 (dk_at dksX0_wayTold_0 19 rfl rfl)
theorem dX0_wayTold_22 : decode cX0_wayTold 22 = .ok (.astore_n 3, 1) := dk_78 (dk_at dksX0_wayTold_0 22 rfl rfl)
theorem dX0_wayTold_23 : decode cX0_wayTold 23 = .ok (.iload_n 2, 1) := dk_28 (dk_at dksX0_wayTold_0 23 rfl rfl)
theorem dX0_wayTold_24 : decode cX0_wayTold 24 = .ok (.iconst (-1), 1) := dk_2 (dk_at dksX0_wayTold_1 0 rfl rfl)
theorem dX0_wayTold_25 : decode cX0_wayTold 25 = .ok (.if_icmp .ne 8, 3) := dk_160 0 8 (dk_at dksX0_wayTold_1 1 rfl rfl)
theorem dX0_wayTold_28 : decode cX0_wayTold 28 = .ok (.aload_n 3, 1) := dk_45 (dk_at dksX0_wayTold_1 4 rfl rfl)
theorem dX0_wayTold_29 : decode cX0_wayTold 29 = .ok (.invokevirtual 250, 3) := dk_182 0 250 (dk_at dksX0_wayTold_1 5 rfl rfl)
theorem dX0_wayTold_32 : decode cX0_wayTold 32 = .ok (.ireturn, 1) := dk_172 (dk_at dksX0_wayTold_1 8 rfl rfl)
theorem dX0_wayTold_33 : decode cX0_wayTold 33 = .ok (.iload_n 2, 1) := dk_28 (dk_at dksX0_wayTold_1 9 rfl rfl)
theorem dX0_wayTold_34 : decode cX0_wayTold 34 = .ok (.bipush (-2), 2) := dk_16 254 (dk_at dksX0_wayTold_1 10 rfl rfl)
theorem dX0_wayTold_36 : decode cX0_wayTold 36 = .ok (.if_icmp .ne 8, 3) := dk_160 0 8 (dk_at dksX0_wayTold_1 12 rfl rfl)
theorem dX0_wayTold_39 : decode cX0_wayTold 39 = .ok (.aload_n 3, 1) := dk_45 (dk_at dksX0_wayTold_1 15 rfl rfl)
theorem dX0_wayTold_40 : decode cX0_wayTold 40 = .ok (.getfield 174, 3) := dk_180 0 174 (dk_at dksX0_wayTold_1 16 rfl rfl)
theorem dX0_wayTold_43 : decode cX0_wayTold 43 = .ok (.ireturn, 1) := dk_172 (dk_at dksX0_wayTold_1 19 rfl rfl)
theorem dX0_wayTold_44 : decode cX0_wayTold 44 = .ok (.iload_n 2, 1) := dk_28 (dk_at dksX0_wayTold_1 20 rfl rfl)
theorem dX0_wayTold_45 : decode cX0_wayTold 45 = .ok (.i2l, 1) := dk_133 (dk_at dksX0_wayTold_1 21 rfl rfl)
theorem dX0_wayTold_46 : decode cX0_wayTold 46 = .ok (.lconst 0, 1) := dk_9 (dk_at dksX0_wayTold_1 22 rfl rfl)
theorem dX0_wayTold_47 : decode cX0_wayTold 47 = .ok (.aload_n 3, 1) := dk_45 (dk_at dksX0_wayTold_1 23 rfl rfl)
theorem dX0_wayTold_48 : decode cX0_wayTold 48 = .ok (.getfield 174, 3) := dk_180 0 174 (dk_at dksX0_wayTold_2 0 rfl rfl)
theorem dX0_wayTold_51 : decode cX0_wayTold 51 = .ok (.i2l, 1) := dk_133 (dk_at dksX0_wayTold_2 3 rfl rfl)
theorem dX0_wayTold_52 : decode cX0_wayTold 52 = .ok (.lconst 1, 1) := dk_10 (dk_at dksX0_wayTold_2 4 rfl rfl)
theorem dX0_wayTold_53 : decode cX0_wayTold 53 = .ok (.lsub, 1) := dk_101 (dk_at dksX0_wayTold_2 5 rfl rfl)
theorem dX0_wayTold_54 : decode cX0_wayTold 54 = .ok (.invokestatic 119, 3) := dk_184 0 119 (dk_at dksX0_wayTold_2 6 rfl rfl)
theorem dX0_wayTold_57 : decode cX0_wayTold 57 = .ok (.ifCond .eq 12, 3) := dk_153 0 12 (dk_at dksX0_wayTold_2 9 rfl rfl)
theorem dX0_wayTold_60 : decode cX0_wayTold 60 = .ok (.aload_n 3, 1) := dk_45 (dk_at dksX0_wayTold_2 12 rfl rfl)
theorem dX0_wayTold_61 : decode cX0_wayTold 61 = .ok (.getfield 175, 3) := dk_180 0 175 (dk_at dksX0_wayTold_2 13 rfl rfl)
theorem dX0_wayTold_64 : decode cX0_wayTold 64 = .ok (.iload_n 2, 1) := dk_28 (dk_at dksX0_wayTold_2 16 rfl rfl)
theorem dX0_wayTold_65 : decode cX0_wayTold 65 = .ok (.baload, 1) := dk_51 (dk_at dksX0_wayTold_2 17 rfl rfl)
theorem dX0_wayTold_66 : decode cX0_wayTold 66 = .ok (.goto 5, 3) := dk_167 0 5 (dk_at dksX0_wayTold_2 18 rfl rfl)
theorem dX0_wayTold_69 : decode cX0_wayTold 69 = .ok (.bipush (-7), 2) := dk_16 249 (dk_at dksX0_wayTold_2 21 rfl rfl)
theorem dX0_wayTold_71 : decode cX0_wayTold 71 = .ok (.ireturn, 1) := dk_172 (dk_at dksX0_wayTold_2 23 rfl rfl)
abbrev cX0_isWay : ByteArray := prog_1_method_9_code
def yX0_isWay : MethodName := ⟨RX0, "isWay", "(I)Z"⟩
def dkwX0_isWay_0 : List UInt8 := [27, 133, 9, 42, 180, 0, 51, 182, 0, 131, 133, 10, 101, 184, 0, 119, 172]
abbrev dktX0_isWay_0 : List UInt8 := dkwX0_isWay_0 ++ []
theorem dksX0_isWay_0 : cX0_isWay.data.toList.drop 0 = dktX0_isWay_0 := by decide +kernel
theorem dX0_isWay_0 : decode cX0_isWay 0 = .ok (.iload_n 1, 1) := dk_27 (dk_at dksX0_isWay_0 0 rfl rfl)
theorem dX0_isWay_1 : decode cX0_isWay 1 = .ok (.i2l, 1) := dk_133 (dk_at dksX0_isWay_0 1 rfl rfl)
theorem dX0_isWay_2 : decode cX0_isWay 2 = .ok (.lconst 0, 1) := dk_9 (dk_at dksX0_isWay_0 2 rfl rfl)
theorem dX0_isWay_3 : decode cX0_isWay 3 = .ok (.aload_n 0, 1) := dk_42 (dk_at dksX0_isWay_0 3 rfl rfl)
theorem dX0_isWay_4 : decode cX0_isWay 4 = .ok (.getfield 51, 3) := dk_180 0 51 (dk_at dksX0_isWay_0 4 rfl rfl)
theorem dX0_isWay_7 : decode cX0_isWay 7 = .ok (.invokevirtual 131, 3) := dk_182 0 131 (dk_at dksX0_isWay_0 7 rfl rfl)
theorem dX0_isWay_10 : decode cX0_isWay 10 = .ok (.i2l, 1) := dk_133 (dk_at dksX0_isWay_0 10 rfl rfl)
theorem dX0_isWay_11 : decode cX0_isWay 11 = .ok (.lconst 1, 1) := dk_10 (dk_at dksX0_isWay_0 11 rfl rfl)
theorem dX0_isWay_12 : decode cX0_isWay 12 = .ok (.lsub, 1) := dk_101 (dk_at dksX0_isWay_0 12 rfl rfl)
theorem dX0_isWay_13 : decode cX0_isWay 13 = .ok (.invokestatic 119, 3) := dk_184 0 119 (dk_at dksX0_isWay_0 13 rfl rfl)
theorem dX0_isWay_16 : decode cX0_isWay 16 = .ok (.ireturn, 1) := dk_172 (dk_at dksX0_isWay_0 16 rfl rfl)
abbrev cX0_set : ByteArray := prog_1_method_28_code
def yX0_set : MethodName := ⟨RX0, "set", "(III)I"⟩
def dkwX0_set_3 : List UInt8 := [42, 180, 0, 51, 27, 182, 0, 246, 192, 0, 3, 180, 0, 175, 28, 29, 145, 84, 21, 4, 172]
abbrev dktX0_set_3 : List UInt8 := dkwX0_set_3 ++ []
def dkwX0_set_2 : List UInt8 := [154, 0, 6, 16, 249, 172, 42, 180, 0, 51, 27, 182, 0, 246, 192, 0, 3, 180, 0, 175, 28, 51, 54, 4]
abbrev dktX0_set_2 : List UInt8 := dkwX0_set_2 ++ dktX0_set_3
def dkwX0_set_1 : List UInt8 := [180, 0, 174, 133, 10, 101, 184, 0, 119, 154, 0, 6, 16, 251, 172, 29, 133, 9, 20, 0, 230, 184, 0, 119]
abbrev dktX0_set_1 : List UInt8 := dkwX0_set_1 ++ dktX0_set_2
def dkwX0_set_0 : List UInt8 := [42, 27, 182, 0, 243, 153, 0, 29, 28, 133, 9, 42, 180, 0, 51, 27, 182, 0, 246, 192, 0, 3]
abbrev dktX0_set_0 : List UInt8 := dkwX0_set_0 ++ dktX0_set_1
theorem dksX0_set_0 : cX0_set.data.toList.drop 0 = dktX0_set_0 := by decide +kernel
theorem dksX0_set_1 : cX0_set.data.toList.drop 22 = dktX0_set_1 := dk_seg dksX0_set_0 22 rfl rfl
theorem dksX0_set_2 : cX0_set.data.toList.drop 46 = dktX0_set_2 := dk_seg dksX0_set_1 24 rfl rfl
theorem dksX0_set_3 : cX0_set.data.toList.drop 70 = dktX0_set_3 := dk_seg dksX0_set_2 24 rfl rfl
theorem dX0_set_0 : decode cX0_set 0 = .ok (.aload_n 0, 1) := dk_42 (dk_at dksX0_set_0 0 rfl rfl)
theorem dX0_set_1 : decode cX0_set 1 = .ok (.iload_n 1, 1) := dk_27 (dk_at dksX0_set_0 1 rfl rfl)
theorem dX0_set_2 : decode cX0_set 2 = .ok (.invokevirtual 243, 3) := dk_182 0 243 (dk_at dksX0_set_0 2 rfl rfl)
theorem dX0_set_5 : decode cX0_set 5 = .ok (.ifCond .eq 29, 3) := dk_153 0 29 (dk_at dksX0_set_0 5 rfl rfl)
theorem dX0_set_8 : decode cX0_set 8 = .ok (.iload_n 2, 1) := dk_28 (dk_at dksX0_set_0 8 rfl rfl)
theorem dX0_set_9 : decode cX0_set 9 = .ok (.i2l, 1) := dk_133 (dk_at dksX0_set_0 9 rfl rfl)
theorem dX0_set_10 : decode cX0_set 10 = .ok (.lconst 0, 1) := dk_9 (dk_at dksX0_set_0 10 rfl rfl)
theorem dX0_set_11 : decode cX0_set 11 = .ok (.aload_n 0, 1) := dk_42 (dk_at dksX0_set_0 11 rfl rfl)
theorem dX0_set_12 : decode cX0_set 12 = .ok (.getfield 51, 3) := dk_180 0 51 (dk_at dksX0_set_0 12 rfl rfl)
theorem dX0_set_15 : decode cX0_set 15 = .ok (.iload_n 1, 1) := dk_27 (dk_at dksX0_set_0 15 rfl rfl)
theorem dX0_set_16 : decode cX0_set 16 = .ok (.invokevirtual 246, 3) := dk_182 0 246 (dk_at dksX0_set_0 16 rfl rfl)
theorem dX0_set_19 : decode cX0_set 19 = .ok (.checkcast 3, 3) := dk_192 0 3 (dk_at dksX0_set_0 19 rfl rfl)
theorem dX0_set_22 : decode cX0_set 22 = .ok (.getfield 174, 3) := dk_180 0 174 (dk_at dksX0_set_1 0 rfl rfl)
theorem dX0_set_25 : decode cX0_set 25 = .ok (.i2l, 1) := dk_133 (dk_at dksX0_set_1 3 rfl rfl)
theorem dX0_set_26 : decode cX0_set 26 = .ok (.lconst 1, 1) := dk_10 (dk_at dksX0_set_1 4 rfl rfl)
theorem dX0_set_27 : decode cX0_set 27 = .ok (.lsub, 1) := dk_101 (dk_at dksX0_set_1 5 rfl rfl)
theorem dX0_set_28 : decode cX0_set 28 = .ok (.invokestatic 119, 3) := dk_184 0 119 (dk_at dksX0_set_1 6 rfl rfl)
theorem dX0_set_31 : decode cX0_set 31 = .ok (.ifCond .ne 6, 3) := dk_154 0 6 (dk_at dksX0_set_1 9 rfl rfl)
theorem dX0_set_34 : decode cX0_set 34 = .ok (.bipush (-5), 2) := dk_16 251 (dk_at dksX0_set_1 12 rfl rfl)
theorem dX0_set_36 : decode cX0_set 36 = .ok (.ireturn, 1) := dk_172 (dk_at dksX0_set_1 14 rfl rfl)
theorem dX0_set_37 : decode cX0_set 37 = .ok (.iload_n 3, 1) := dk_29 (dk_at dksX0_set_1 15 rfl rfl)
theorem dX0_set_38 : decode cX0_set 38 = .ok (.i2l, 1) := dk_133 (dk_at dksX0_set_1 16 rfl rfl)
theorem dX0_set_39 : decode cX0_set 39 = .ok (.lconst 0, 1) := dk_9 (dk_at dksX0_set_1 17 rfl rfl)
theorem dX0_set_40 : decode cX0_set 40 = .ok (.ldc2_w 230, 3) := dk_20 0 230 (dk_at dksX0_set_1 18 rfl rfl)
theorem dX0_set_43 : decode cX0_set 43 = .ok (.invokestatic 119, 3) := dk_184 0 119 (dk_at dksX0_set_1 21 rfl rfl)
theorem dX0_set_46 : decode cX0_set 46 = .ok (.ifCond .ne 6, 3) := dk_154 0 6 (dk_at dksX0_set_2 0 rfl rfl)
theorem dX0_set_49 : decode cX0_set 49 = .ok (.bipush (-7), 2) := dk_16 249 (dk_at dksX0_set_2 3 rfl rfl)
theorem dX0_set_51 : decode cX0_set 51 = .ok (.ireturn, 1) := dk_172 (dk_at dksX0_set_2 5 rfl rfl)
theorem dX0_set_52 : decode cX0_set 52 = .ok (.aload_n 0, 1) := dk_42 (dk_at dksX0_set_2 6 rfl rfl)
theorem dX0_set_53 : decode cX0_set 53 = .ok (.getfield 51, 3) := dk_180 0 51 (dk_at dksX0_set_2 7 rfl rfl)
theorem dX0_set_56 : decode cX0_set 56 = .ok (.iload_n 1, 1) := dk_27 (dk_at dksX0_set_2 10 rfl rfl)
theorem dX0_set_57 : decode cX0_set 57 = .ok (.invokevirtual 246, 3) := dk_182 0 246 (dk_at dksX0_set_2 11 rfl rfl)
theorem dX0_set_60 : decode cX0_set 60 = .ok (.checkcast 3, 3) := dk_192 0 3 (dk_at dksX0_set_2 14 rfl rfl)
theorem dX0_set_63 : decode cX0_set 63 = .ok (.getfield 175, 3) := dk_180 0 175 (dk_at dksX0_set_2 17 rfl rfl)
theorem dX0_set_66 : decode cX0_set 66 = .ok (.iload_n 2, 1) := dk_28 (dk_at dksX0_set_2 20 rfl rfl)
theorem dX0_set_67 : decode cX0_set 67 = .ok (.baload, 1) := dk_51 (dk_at dksX0_set_2 21 rfl rfl)
theorem dX0_set_68 : decode cX0_set 68 = .ok (.istore 4, 2) := dk_54 4 (dk_at dksX0_set_2 22 rfl rfl)
theorem dX0_set_70 : decode cX0_set 70 = .ok (.aload_n 0, 1) := dk_42 (dk_at dksX0_set_3 0 rfl rfl)
theorem dX0_set_71 : decode cX0_set 71 = .ok (.getfield 51, 3) := dk_180 0 51 (dk_at dksX0_set_3 1 rfl rfl)
theorem dX0_set_74 : decode cX0_set 74 = .ok (.iload_n 1, 1) := dk_27 (dk_at dksX0_set_3 4 rfl rfl)
theorem dX0_set_75 : decode cX0_set 75 = .ok (.invokevirtual 246, 3) := dk_182 0 246 (dk_at dksX0_set_3 5 rfl rfl)
theorem dX0_set_78 : decode cX0_set 78 = .ok (.checkcast 3, 3) := dk_192 0 3 (dk_at dksX0_set_3 8 rfl rfl)
theorem dX0_set_81 : decode cX0_set 81 = .ok (.getfield 175, 3) := dk_180 0 175 (dk_at dksX0_set_3 11 rfl rfl)
theorem dX0_set_84 : decode cX0_set 84 = .ok (.iload_n 2, 1) := dk_28 (dk_at dksX0_set_3 14 rfl rfl)
theorem dX0_set_85 : decode cX0_set 85 = .ok (.iload_n 3, 1) := dk_29 (dk_at dksX0_set_3 15 rfl rfl)
theorem dX0_set_86 : decode cX0_set 86 = .ok (.i2b, 1) := dk_145 (dk_at dksX0_set_3 16 rfl rfl)
theorem dX0_set_87 : decode cX0_set 87 = .ok (.bastore, 1) := dk_84 (dk_at dksX0_set_3 17 rfl rfl)
theorem dX0_set_88 : decode cX0_set 88 = .ok (.iload 4, 2) := dk_21 4 (dk_at dksX0_set_3 18 rfl rfl)
theorem dX0_set_90 : decode cX0_set 90 = .ok (.ireturn, 1) := dk_172 (dk_at dksX0_set_3 20 rfl rfl)
abbrev cX0_of : ByteArray := prog_1_method_29_code
def yX0_of : MethodName := ⟨RX0, "of", "(III)I"⟩
def dkwX0_of_6 : List UInt8 := [28, 4, 182, 0, 208, 172, 17, 216, 239, 172]
abbrev dktX0_of_6 : List UInt8 := dkwX0_of_6 ++ []
def dkwX0_of_5 : List UInt8 := [25, 4, 28, 182, 0, 201, 172, 42, 180, 0, 61, 28, 46, 2, 160, 0, 7, 3, 167, 0, 11, 42, 25, 4]
abbrev dktX0_of_5 : List UInt8 := dkwX0_of_5 ++ dktX0_of_6
def dkwX0_of_4 : List UInt8 := [42, 180, 0, 58, 28, 46, 172, 42, 180, 0, 61, 28, 46, 172, 42, 25, 4, 28, 182, 0, 214, 172, 42]
abbrev dktX0_of_4 : List UInt8 := dkwX0_of_4 ++ dktX0_of_5
def dkwX0_of_3 : List UInt8 := [170, 0, 0, 0, 0, 87, 0, 0, 0, 0, 0, 0, 0, 4, 0, 0, 0, 34, 0, 0, 0, 41, 0, 0, 0, 48, 0, 0, 0, 56, 0, 0, 0, 64]
abbrev dktX0_of_3 : List UInt8 := dkwX0_of_3 ++ dktX0_of_4
def dkwX0_of_2 : List UInt8 := [192, 0, 3, 58, 4, 42, 25, 4, 182, 0, 253, 29]
abbrev dktX0_of_2 : List UInt8 := dkwX0_of_2 ++ dktX0_of_3
def dkwX0_of_1 : List UInt8 := [180, 0, 174, 133, 10, 101, 184, 0, 119, 154, 0, 7, 17, 216, 240, 172, 42, 180, 0, 51, 27, 182, 0, 246]
abbrev dktX0_of_1 : List UInt8 := dkwX0_of_1 ++ dktX0_of_2
def dkwX0_of_0 : List UInt8 := [42, 27, 182, 0, 243, 153, 0, 29, 28, 133, 9, 42, 180, 0, 51, 27, 182, 0, 246, 192, 0, 3]
abbrev dktX0_of_0 : List UInt8 := dkwX0_of_0 ++ dktX0_of_1
theorem dksX0_of_0 : cX0_of.data.toList.drop 0 = dktX0_of_0 := by decide +kernel
theorem dksX0_of_1 : cX0_of.data.toList.drop 22 = dktX0_of_1 := dk_seg dksX0_of_0 22 rfl rfl
theorem dksX0_of_2 : cX0_of.data.toList.drop 46 = dktX0_of_2 := dk_seg dksX0_of_1 24 rfl rfl
theorem dksX0_of_3 : cX0_of.data.toList.drop 58 = dktX0_of_3 := dk_seg dksX0_of_2 12 rfl rfl
theorem dksX0_of_4 : cX0_of.data.toList.drop 92 = dktX0_of_4 := dk_seg dksX0_of_3 34 rfl rfl
theorem dksX0_of_5 : cX0_of.data.toList.drop 115 = dktX0_of_5 := dk_seg dksX0_of_4 23 rfl rfl
theorem dksX0_of_6 : cX0_of.data.toList.drop 139 = dktX0_of_6 := dk_seg dksX0_of_5 24 rfl rfl
theorem dX0_of_0 : decode cX0_of 0 = .ok (.aload_n 0, 1) := dk_42 (dk_at dksX0_of_0 0 rfl rfl)
theorem dX0_of_1 : decode cX0_of 1 = .ok (.iload_n 1, 1) := dk_27 (dk_at dksX0_of_0 1 rfl rfl)
theorem dX0_of_2 : decode cX0_of 2 = .ok (.invokevirtual 243, 3) := dk_182 0 243 (dk_at dksX0_of_0 2 rfl rfl)
theorem dX0_of_5 : decode cX0_of 5 = .ok (.ifCond .eq 29, 3) := dk_153 0 29 (dk_at dksX0_of_0 5 rfl rfl)
theorem dX0_of_8 : decode cX0_of 8 = .ok (.iload_n 2, 1) := dk_28 (dk_at dksX0_of_0 8 rfl rfl)
theorem dX0_of_9 : decode cX0_of 9 = .ok (.i2l, 1) := dk_133 (dk_at dksX0_of_0 9 rfl rfl)
theorem dX0_of_10 : decode cX0_of 10 = .ok (.lconst 0, 1) := dk_9 (dk_at dksX0_of_0 10 rfl rfl)
theorem dX0_of_11 : decode cX0_of 11 = .ok (.aload_n 0, 1) := dk_42 (dk_at dksX0_of_0 11 rfl rfl)
theorem dX0_of_12 : decode cX0_of 12 = .ok (.getfield 51, 3) := dk_180 0 51 (dk_at dksX0_of_0 12 rfl rfl)
theorem dX0_of_15 : decode cX0_of 15 = .ok (.iload_n 1, 1) := dk_27 (dk_at dksX0_of_0 15 rfl rfl)
theorem dX0_of_16 : decode cX0_of 16 = .ok (.invokevirtual 246, 3) := dk_182 0 246 (dk_at dksX0_of_0 16 rfl rfl)
theorem dX0_of_19 : decode cX0_of 19 = .ok (.checkcast 3, 3) := dk_192 0 3 (dk_at dksX0_of_0 19 rfl rfl)
theorem dX0_of_22 : decode cX0_of 22 = .ok (.getfield 174, 3) := dk_180 0 174 (dk_at dksX0_of_1 0 rfl rfl)
theorem dX0_of_25 : decode cX0_of 25 = .ok (.i2l, 1) := dk_133 (dk_at dksX0_of_1 3 rfl rfl)
theorem dX0_of_26 : decode cX0_of 26 = .ok (.lconst 1, 1) := dk_10 (dk_at dksX0_of_1 4 rfl rfl)
theorem dX0_of_27 : decode cX0_of 27 = .ok (.lsub, 1) := dk_101 (dk_at dksX0_of_1 5 rfl rfl)
theorem dX0_of_28 : decode cX0_of 28 = .ok (.invokestatic 119, 3) := dk_184 0 119 (dk_at dksX0_of_1 6 rfl rfl)
theorem dX0_of_31 : decode cX0_of 31 = .ok (.ifCond .ne 7, 3) := dk_154 0 7 (dk_at dksX0_of_1 9 rfl rfl)
theorem dX0_of_34 : decode cX0_of 34 = .ok (.sipush (-10000), 3) := dk_17 216 240 (dk_at dksX0_of_1 12 rfl rfl)
theorem dX0_of_37 : decode cX0_of 37 = .ok (.ireturn, 1) := dk_172 (dk_at dksX0_of_1 15 rfl rfl)
theorem dX0_of_38 : decode cX0_of 38 = .ok (.aload_n 0, 1) := dk_42 (dk_at dksX0_of_1 16 rfl rfl)
theorem dX0_of_39 : decode cX0_of 39 = .ok (.getfield 51, 3) := dk_180 0 51 (dk_at dksX0_of_1 17 rfl rfl)
theorem dX0_of_42 : decode cX0_of 42 = .ok (.iload_n 1, 1) := dk_27 (dk_at dksX0_of_1 20 rfl rfl)
theorem dX0_of_43 : decode cX0_of 43 = .ok (.invokevirtual 246, 3) := dk_182 0 246 (dk_at dksX0_of_1 21 rfl rfl)
theorem dX0_of_46 : decode cX0_of 46 = .ok (.checkcast 3, 3) := dk_192 0 3 (dk_at dksX0_of_2 0 rfl rfl)
theorem dX0_of_49 : decode cX0_of 49 = .ok (.astore 4, 2) := dk_58 4 (dk_at dksX0_of_2 3 rfl rfl)
theorem dX0_of_51 : decode cX0_of 51 = .ok (.aload_n 0, 1) := dk_42 (dk_at dksX0_of_2 5 rfl rfl)
theorem dX0_of_52 : decode cX0_of 52 = .ok (.aload 4, 2) := dk_25 4 (dk_at dksX0_of_2 6 rfl rfl)
theorem dX0_of_54 : decode cX0_of 54 = .ok (.invokevirtual 253, 3) := dk_182 0 253 (dk_at dksX0_of_2 8 rfl rfl)
theorem dX0_of_57 : decode cX0_of 57 = .ok (.iload_n 3, 1) := dk_29 (dk_at dksX0_of_2 11 rfl rfl)
theorem dX0_of_58 : decode cX0_of 58 = .ok (.tableswitch 87 0 4 #[34, 41, 48, 56, 64], 34) := by decide +kernel
theorem dX0_of_92 : decode cX0_of 92 = .ok (.aload_n 0, 1) := dk_42 (dk_at dksX0_of_4 0 rfl rfl)
theorem dX0_of_93 : decode cX0_of 93 = .ok (.getfield 58, 3) := dk_180 0 58 (dk_at dksX0_of_4 1 rfl rfl)
theorem dX0_of_96 : decode cX0_of 96 = .ok (.iload_n 2, 1) := dk_28 (dk_at dksX0_of_4 4 rfl rfl)
theorem dX0_of_97 : decode cX0_of 97 = .ok (.iaload, 1) := dk_46 (dk_at dksX0_of_4 5 rfl rfl)
theorem dX0_of_98 : decode cX0_of 98 = .ok (.ireturn, 1) := dk_172 (dk_at dksX0_of_4 6 rfl rfl)
theorem dX0_of_99 : decode cX0_of 99 = .ok (.aload_n 0, 1) := dk_42 (dk_at dksX0_of_4 7 rfl rfl)
theorem dX0_of_100 : decode cX0_of 100 = .ok (.getfield 61, 3) := dk_180 0 61 (dk_at dksX0_of_4 8 rfl rfl)
theorem dX0_of_103 : decode cX0_of 103 = .ok (.iload_n 2, 1) := dk_28 (dk_at dksX0_of_4 11 rfl rfl)
theorem dX0_of_104 : decode cX0_of 104 = .ok (.iaload, 1) := dk_46 (dk_at dksX0_of_4 12 rfl rfl)
theorem dX0_of_105 : decode cX0_of 105 = .ok (.ireturn, 1) := dk_172 (dk_at dksX0_of_4 13 rfl rfl)
theorem dX0_of_106 : decode cX0_of 106 = .ok (.aload_n 0, 1) := dk_42 (dk_at dksX0_of_4 14 rfl rfl)
theorem dX0_of_107 : decode cX0_of 107 = .ok (.aload 4, 2) := dk_25 4 (dk_at dksX0_of_4 15 rfl rfl)
theorem dX0_of_109 : decode cX0_of 109 = .ok (.iload_n 2, 1) := dk_28 (dk_at dksX0_of_4 17 rfl rfl)
theorem dX0_of_110 : decode cX0_of 110 = .ok (.invokevirtual 214, 3) := dk_182 0 214 (dk_at dksX0_of_4 18 rfl rfl)
theorem dX0_of_113 : decode cX0_of 113 = .ok (.ireturn, 1) := dk_172 (dk_at dksX0_of_4 21 rfl rfl)
theorem dX0_of_114 : decode cX0_of 114 = .ok (.aload_n 0, 1) := dk_42 (dk_at dksX0_of_4 22 rfl rfl)
theorem dX0_of_115 : decode cX0_of 115 = .ok (.aload 4, 2) := dk_25 4 (dk_at dksX0_of_5 0 rfl rfl)
theorem dX0_of_117 : decode cX0_of 117 = .ok (.iload_n 2, 1) := dk_28 (dk_at dksX0_of_5 2 rfl rfl)
theorem dX0_of_118 : decode cX0_of 118 = .ok (.invokevirtual 201, 3) := dk_182 0 201 (dk_at dksX0_of_5 3 rfl rfl)
theorem dX0_of_121 : decode cX0_of 121 = .ok (.ireturn, 1) := dk_172 (dk_at dksX0_of_5 6 rfl rfl)
theorem dX0_of_122 : decode cX0_of 122 = .ok (.aload_n 0, 1) := dk_42 (dk_at dksX0_of_5 7 rfl rfl)
theorem dX0_of_123 : decode cX0_of 123 = .ok (.getfield 61, 3) := dk_180 0 61 (dk_at dksX0_of_5 8 rfl rfl)
theorem dX0_of_126 : decode cX0_of 126 = .ok (.iload_n 2, 1) := dk_28 (dk_at dksX0_of_5 11 rfl rfl)
theorem dX0_of_127 : decode cX0_of 127 = .ok (.iaload, 1) := dk_46 (dk_at dksX0_of_5 12 rfl rfl)
theorem dX0_of_128 : decode cX0_of 128 = .ok (.iconst (-1), 1) := dk_2 (dk_at dksX0_of_5 13 rfl rfl)
theorem dX0_of_129 : decode cX0_of 129 = .ok (.if_icmp .ne 7, 3) := dk_160 0 7 (dk_at dksX0_of_5 14 rfl rfl)
theorem dX0_of_132 : decode cX0_of 132 = .ok (.iconst 0, 1) := dk_3 (dk_at dksX0_of_5 17 rfl rfl)
theorem dX0_of_133 : decode cX0_of 133 = .ok (.goto 11, 3) := dk_167 0 11 (dk_at dksX0_of_5 18 rfl rfl)
theorem dX0_of_136 : decode cX0_of 136 = .ok (.aload_n 0, 1) := dk_42 (dk_at dksX0_of_5 21 rfl rfl)
theorem dX0_of_137 : decode cX0_of 137 = .ok (.aload 4, 2) := dk_25 4 (dk_at dksX0_of_5 22 rfl rfl)
theorem dX0_of_139 : decode cX0_of 139 = .ok (.iload_n 2, 1) := dk_28 (dk_at dksX0_of_6 0 rfl rfl)
theorem dX0_of_140 : decode cX0_of 140 = .ok (.iconst 1, 1) := dk_4 (dk_at dksX0_of_6 1 rfl rfl)
theorem dX0_of_141 : decode cX0_of 141 = .ok (.invokevirtual 208, 3) := dk_182 0 208 (dk_at dksX0_of_6 2 rfl rfl)
theorem dX0_of_144 : decode cX0_of 144 = .ok (.ireturn, 1) := dk_172 (dk_at dksX0_of_6 5 rfl rfl)
theorem dX0_of_145 : decode cX0_of 145 = .ok (.sipush (-10001), 3) := dk_17 216 239 (dk_at dksX0_of_6 6 rfl rfl)
theorem dX0_of_148 : decode cX0_of 148 = .ok (.ireturn, 1) := dk_172 (dk_at dksX0_of_6 9 rfl rfl)
abbrev cX0_runs : ByteArray := prog_1_method_17_code
def yX0_runs : MethodName := ⟨RX0, "runs", "(LGateRoad$Way;)V"⟩
def dkwX0_runs_9 : List UInt8 := [167, 255, 144, 177]
abbrev dktX0_runs_9 : List UInt8 := dkwX0_runs_9 ++ []
def dkwX0_runs_8 : List UInt8 := [16, 24, 29, 104, 28, 96, 42, 43, 29, 28, 182, 0, 182, 79, 132, 3, 1, 167, 255, 158, 132, 2, 1]
abbrev dktX0_runs_8 : List UInt8 := dkwX0_runs_8 ++ dktX0_runs_9
def dkwX0_runs_7 : List UInt8 := [21, 5, 79, 42, 89, 180, 0, 171, 4, 96, 181, 0, 171, 132, 4, 1, 167, 255, 190, 42, 180, 0, 64]
abbrev dktX0_runs_7 : List UInt8 := dkwX0_runs_7 ++ dktX0_runs_8
def dkwX0_runs_6 : List UInt8 := [2, 160, 0, 6, 167, 0, 38, 42, 180, 0, 61, 21, 5, 28, 79, 42, 180, 0, 67, 42, 180, 0, 171]
abbrev dktX0_runs_6 : List UInt8 := dkwX0_runs_6 ++ dktX0_runs_7
def dkwX0_runs_5 : List UInt8 := [180, 0, 29, 16, 24, 29, 104, 28, 96, 46, 162, 0, 56, 42, 43, 29, 28, 182, 0, 178, 54, 5, 21, 5]
abbrev dktX0_runs_5 : List UInt8 := dkwX0_runs_5 ++ dktX0_runs_6
def dkwX0_runs_4 : List UInt8 := [167, 255, 170, 3, 61, 28, 16, 24, 162, 0, 112, 3, 62, 29, 5, 162, 0, 99, 3, 54, 4, 21, 4, 42]
abbrev dktX0_runs_4 : List UInt8 := dkwX0_runs_4 ++ dktX0_runs_5
def dkwX0_runs_3 : List UInt8 := [16, 24, 108, 96, 46, 96, 62, 29, 16, 24, 162, 0, 10, 42, 180, 0, 58, 28, 29, 79, 132, 2, 1]
abbrev dktX0_runs_3 : List UInt8 := dkwX0_runs_3 ++ dktX0_runs_4
def dkwX0_runs_2 : List UInt8 := [28, 51, 16, 24, 112, 42, 180, 0, 42, 5, 42, 180, 0, 45, 28, 46, 104, 43, 180, 0, 175, 28, 51]
abbrev dktX0_runs_2 : List UInt8 := dkwX0_runs_2 ++ dktX0_runs_3
def dkwX0_runs_1 : List UInt8 := [180, 0, 58, 28, 2, 79, 43, 180, 0, 175, 28, 51, 16, 48, 160, 0, 6, 167, 0, 50, 43, 180, 0, 175]
abbrev dktX0_runs_1 : List UInt8 := dkwX0_runs_1 ++ dktX0_runs_2
def dkwX0_runs_0 : List UInt8 := [42, 3, 181, 0, 171, 3, 61, 28, 43, 180, 0, 174, 162, 0, 84, 42, 180, 0, 61, 28, 2, 79, 42]
abbrev dktX0_runs_0 : List UInt8 := dkwX0_runs_0 ++ dktX0_runs_1
theorem dksX0_runs_0 : cX0_runs.data.toList.drop 0 = dktX0_runs_0 := by decide +kernel
theorem dksX0_runs_1 : cX0_runs.data.toList.drop 23 = dktX0_runs_1 := dk_seg dksX0_runs_0 23 rfl rfl
theorem dksX0_runs_2 : cX0_runs.data.toList.drop 47 = dktX0_runs_2 := dk_seg dksX0_runs_1 24 rfl rfl
theorem dksX0_runs_3 : cX0_runs.data.toList.drop 70 = dktX0_runs_3 := dk_seg dksX0_runs_2 23 rfl rfl
theorem dksX0_runs_4 : cX0_runs.data.toList.drop 93 = dktX0_runs_4 := dk_seg dksX0_runs_3 23 rfl rfl
theorem dksX0_runs_5 : cX0_runs.data.toList.drop 117 = dktX0_runs_5 := dk_seg dksX0_runs_4 24 rfl rfl
theorem dksX0_runs_6 : cX0_runs.data.toList.drop 141 = dktX0_runs_6 := dk_seg dksX0_runs_5 24 rfl rfl
theorem dksX0_runs_7 : cX0_runs.data.toList.drop 164 = dktX0_runs_7 := dk_seg dksX0_runs_6 23 rfl rfl
theorem dksX0_runs_8 : cX0_runs.data.toList.drop 187 = dktX0_runs_8 := dk_seg dksX0_runs_7 23 rfl rfl
theorem dksX0_runs_9 : cX0_runs.data.toList.drop 210 = dktX0_runs_9 := dk_seg dksX0_runs_8 23 rfl rfl
theorem dX0_runs_0 : decode cX0_runs 0 = .ok (.aload_n 0, 1) := dk_42 (dk_at dksX0_runs_0 0 rfl rfl)
theorem dX0_runs_1 : decode cX0_runs 1 = .ok (.iconst 0, 1) := dk_3 (dk_at dksX0_runs_0 1 rfl rfl)
theorem dX0_runs_2 : decode cX0_runs 2 = .ok (.putfield 171, 3) := dk_181 0 171 (dk_at dksX0_runs_0 2 rfl rfl)
theorem dX0_runs_5 : decode cX0_runs 5 = .ok (.iconst 0, 1) := dk_3 (dk_at dksX0_runs_0 5 rfl rfl)
theorem dX0_runs_6 : decode cX0_runs 6 = .ok (.istore_n 2, 1) := dk_61 (dk_at dksX0_runs_0 6 rfl rfl)
theorem dX0_runs_7 : decode cX0_runs 7 = .ok (.iload_n 2, 1) := dk_28 (dk_at dksX0_runs_0 7 rfl rfl)
theorem dX0_runs_8 : decode cX0_runs 8 = .ok (.aload_n 1, 1) := dk_43 (dk_at dksX0_runs_0 8 rfl rfl)
theorem dX0_runs_9 : decode cX0_runs 9 = .ok (.getfield 174, 3) := dk_180 0 174 (dk_at dksX0_runs_0 9 rfl rfl)
theorem dX0_runs_12 : decode cX0_runs 12 = .ok (.if_icmp .ge 84, 3) := dk_162 0 84 (dk_at dksX0_runs_0 12 rfl rfl)
theorem dX0_runs_15 : decode cX0_runs 15 = .ok (.aload_n 0, 1) := dk_42 (dk_at dksX0_runs_0 15 rfl rfl)
theorem dX0_runs_16 : decode cX0_runs 16 = .ok (.getfield 61, 3) := dk_180 0 61 (dk_at dksX0_runs_0 16 rfl rfl)
theorem dX0_runs_19 : decode cX0_runs 19 = .ok (.iload_n 2, 1) := dk_28 (dk_at dksX0_runs_0 19 rfl rfl)
theorem dX0_runs_20 : decode cX0_runs 20 = .ok (.iconst (-1), 1) := dk_2 (dk_at dksX0_runs_0 20 rfl rfl)
theorem dX0_runs_21 : decode cX0_runs 21 = .ok (.iastore, 1) := dk_79 (dk_at dksX0_runs_0 21 rfl rfl)
theorem dX0_runs_22 : decode cX0_runs 22 = .ok (.aload_n 0, 1) := dk_42 (dk_at dksX0_runs_0 22 rfl rfl)
theorem dX0_runs_23 : decode cX0_runs 23 = .ok (.getfield 58, 3) := dk_180 0 58 (dk_at dksX0_runs_1 0 rfl rfl)
theorem dX0_runs_26 : decode cX0_runs 26 = .ok (.iload_n 2, 1) := dk_28 (dk_at dksX0_runs_1 3 rfl rfl)
theorem dX0_runs_27 : decode cX0_runs 27 = .ok (.iconst (-1), 1) := dk_2 (dk_at dksX0_runs_1 4 rfl rfl)
theorem dX0_runs_28 : decode cX0_runs 28 = .ok (.iastore, 1) := dk_79 (dk_at dksX0_runs_1 5 rfl rfl)
theorem dX0_runs_29 : decode cX0_runs 29 = .ok (.aload_n 1, 1) := dk_43 (dk_at dksX0_runs_1 6 rfl rfl)
theorem dX0_runs_30 : decode cX0_runs 30 = .ok (.getfield 175, 3) := dk_180 0 175 (dk_at dksX0_runs_1 7 rfl rfl)
theorem dX0_runs_33 : decode cX0_runs 33 = .ok (.iload_n 2, 1) := dk_28 (dk_at dksX0_runs_1 10 rfl rfl)
theorem dX0_runs_34 : decode cX0_runs 34 = .ok (.baload, 1) := dk_51 (dk_at dksX0_runs_1 11 rfl rfl)
theorem dX0_runs_35 : decode cX0_runs 35 = .ok (.bipush 48, 2) := dk_16 48 (dk_at dksX0_runs_1 12 rfl rfl)
theorem dX0_runs_37 : decode cX0_runs 37 = .ok (.if_icmp .ne 6, 3) := dk_160 0 6 (dk_at dksX0_runs_1 14 rfl rfl)
theorem dX0_runs_40 : decode cX0_runs 40 = .ok (.goto 50, 3) := dk_167 0 50 (dk_at dksX0_runs_1 17 rfl rfl)
theorem dX0_runs_43 : decode cX0_runs 43 = .ok (.aload_n 1, 1) := dk_43 (dk_at dksX0_runs_1 20 rfl rfl)
theorem dX0_runs_44 : decode cX0_runs 44 = .ok (.getfield 175, 3) := dk_180 0 175 (dk_at dksX0_runs_1 21 rfl rfl)
theorem dX0_runs_47 : decode cX0_runs 47 = .ok (.iload_n 2, 1) := dk_28 (dk_at dksX0_runs_2 0 rfl rfl)
theorem dX0_runs_48 : decode cX0_runs 48 = .ok (.baload, 1) := dk_51 (dk_at dksX0_runs_2 1 rfl rfl)
theorem dX0_runs_49 : decode cX0_runs 49 = .ok (.bipush 24, 2) := dk_16 24 (dk_at dksX0_runs_2 2 rfl rfl)
theorem dX0_runs_51 : decode cX0_runs 51 = .ok (.irem, 1) := dk_112 (dk_at dksX0_runs_2 4 rfl rfl)
theorem dX0_runs_52 : decode cX0_runs 52 = .ok (.aload_n 0, 1) := dk_42 (dk_at dksX0_runs_2 5 rfl rfl)
theorem dX0_runs_53 : decode cX0_runs 53 = .ok (.getfield 42, 3) := dk_180 0 42 (dk_at dksX0_runs_2 6 rfl rfl)
theorem dX0_runs_56 : decode cX0_runs 56 = .ok (.iconst 2, 1) := dk_5 (dk_at dksX0_runs_2 9 rfl rfl)
theorem dX0_runs_57 : decode cX0_runs 57 = .ok (.aload_n 0, 1) := dk_42 (dk_at dksX0_runs_2 10 rfl rfl)
theorem dX0_runs_58 : decode cX0_runs 58 = .ok (.getfield 45, 3) := dk_180 0 45 (dk_at dksX0_runs_2 11 rfl rfl)
theorem dX0_runs_61 : decode cX0_runs 61 = .ok (.iload_n 2, 1) := dk_28 (dk_at dksX0_runs_2 14 rfl rfl)
theorem dX0_runs_62 : decode cX0_runs 62 = .ok (.iaload, 1) := dk_46 (dk_at dksX0_runs_2 15 rfl rfl)
theorem dX0_runs_63 : decode cX0_runs 63 = .ok (.imul, 1) := dk_104 (dk_at dksX0_runs_2 16 rfl rfl)
theorem dX0_runs_64 : decode cX0_runs 64 = .ok (.aload_n 1, 1) := dk_43 (dk_at dksX0_runs_2 17 rfl rfl)
theorem dX0_runs_65 : decode cX0_runs 65 = .ok (.getfield 175, 3) := dk_180 0 175 (dk_at dksX0_runs_2 18 rfl rfl)
theorem dX0_runs_68 : decode cX0_runs 68 = .ok (.iload_n 2, 1) := dk_28 (dk_at dksX0_runs_2 21 rfl rfl)
theorem dX0_runs_69 : decode cX0_runs 69 = .ok (.baload, 1) := dk_51 (dk_at dksX0_runs_2 22 rfl rfl)
theorem dX0_runs_70 : decode cX0_runs 70 = .ok (.bipush 24, 2) := dk_16 24 (dk_at dksX0_runs_3 0 rfl rfl)
theorem dX0_runs_72 : decode cX0_runs 72 = .ok (.idiv, 1) := dk_108 (dk_at dksX0_runs_3 2 rfl rfl)
theorem dX0_runs_73 : decode cX0_runs 73 = .ok (.iadd, 1) := dk_96 (dk_at dksX0_runs_3 3 rfl rfl)
theorem dX0_runs_74 : decode cX0_runs 74 = .ok (.iaload, 1) := dk_46 (dk_at dksX0_runs_3 4 rfl rfl)
theorem dX0_runs_75 : decode cX0_runs 75 = .ok (.iadd, 1) := dk_96 (dk_at dksX0_runs_3 5 rfl rfl)
theorem dX0_runs_76 : decode cX0_runs 76 = .ok (.istore_n 3, 1) := dk_62 (dk_at dksX0_runs_3 6 rfl rfl)
theorem dX0_runs_77 : decode cX0_runs 77 = .ok (.iload_n 3, 1) := dk_29 (dk_at dksX0_runs_3 7 rfl rfl)
theorem dX0_runs_78 : decode cX0_runs 78 = .ok (.bipush 24, 2) := dk_16 24 (dk_at dksX0_runs_3 8 rfl rfl)
theorem dX0_runs_80 : decode cX0_runs 80 = .ok (.if_icmp .ge 10, 3) := dk_162 0 10 (dk_at dksX0_runs_3 10 rfl rfl)
theorem dX0_runs_83 : decode cX0_runs 83 = .ok (.aload_n 0, 1) := dk_42 (dk_at dksX0_runs_3 13 rfl rfl)
theorem dX0_runs_84 : decode cX0_runs 84 = .ok (.getfield 58, 3) := dk_180 0 58 (dk_at dksX0_runs_3 14 rfl rfl)
theorem dX0_runs_87 : decode cX0_runs 87 = .ok (.iload_n 2, 1) := dk_28 (dk_at dksX0_runs_3 17 rfl rfl)
theorem dX0_runs_88 : decode cX0_runs 88 = .ok (.iload_n 3, 1) := dk_29 (dk_at dksX0_runs_3 18 rfl rfl)
theorem dX0_runs_89 : decode cX0_runs 89 = .ok (.iastore, 1) := dk_79 (dk_at dksX0_runs_3 19 rfl rfl)
theorem dX0_runs_90 : decode cX0_runs 90 = .ok (.iinc 2 1, 3) := dk_132 2 1 (dk_at dksX0_runs_3 20 rfl rfl)
theorem dX0_runs_93 : decode cX0_runs 93 = .ok (.goto (-86), 3) := dk_167 255 170 (dk_at dksX0_runs_4 0 rfl rfl)
theorem dX0_runs_96 : decode cX0_runs 96 = .ok (.iconst 0, 1) := dk_3 (dk_at dksX0_runs_4 3 rfl rfl)
theorem dX0_runs_97 : decode cX0_runs 97 = .ok (.istore_n 2, 1) := dk_61 (dk_at dksX0_runs_4 4 rfl rfl)
theorem dX0_runs_98 : decode cX0_runs 98 = .ok (.iload_n 2, 1) := dk_28 (dk_at dksX0_runs_4 5 rfl rfl)
theorem dX0_runs_99 : decode cX0_runs 99 = .ok (.bipush 24, 2) := dk_16 24 (dk_at dksX0_runs_4 6 rfl rfl)
theorem dX0_runs_101 : decode cX0_runs 101 = .ok (.if_icmp .ge 112, 3) := dk_162 0 112 (dk_at dksX0_runs_4 8 rfl rfl)
theorem dX0_runs_104 : decode cX0_runs 104 = .ok (.iconst 0, 1) := dk_3 (dk_at dksX0_runs_4 11 rfl rfl)
theorem dX0_runs_105 : decode cX0_runs 105 = .ok (.istore_n 3, 1) := dk_62 (dk_at dksX0_runs_4 12 rfl rfl)
theorem dX0_runs_106 : decode cX0_runs 106 = .ok (.iload_n 3, 1) := dk_29 (dk_at dksX0_runs_4 13 rfl rfl)
theorem dX0_runs_107 : decode cX0_runs 107 = .ok (.iconst 2, 1) := dk_5 (dk_at dksX0_runs_4 14 rfl rfl)
theorem dX0_runs_108 : decode cX0_runs 108 = .ok (.if_icmp .ge 99, 3) := dk_162 0 99 (dk_at dksX0_runs_4 15 rfl rfl)
theorem dX0_runs_111 : decode cX0_runs 111 = .ok (.iconst 0, 1) := dk_3 (dk_at dksX0_runs_4 18 rfl rfl)
theorem dX0_runs_112 : decode cX0_runs 112 = .ok (.istore 4, 2) := dk_54 4 (dk_at dksX0_runs_4 19 rfl rfl)
theorem dX0_runs_114 : decode cX0_runs 114 = .ok (.iload 4, 2) := dk_21 4 (dk_at dksX0_runs_4 21 rfl rfl)
theorem dX0_runs_116 : decode cX0_runs 116 = .ok (.aload_n 0, 1) := dk_42 (dk_at dksX0_runs_4 23 rfl rfl)
theorem dX0_runs_117 : decode cX0_runs 117 = .ok (.getfield 29, 3) := dk_180 0 29 (dk_at dksX0_runs_5 0 rfl rfl)
theorem dX0_runs_120 : decode cX0_runs 120 = .ok (.bipush 24, 2) := dk_16 24 (dk_at dksX0_runs_5 3 rfl rfl)
theorem dX0_runs_122 : decode cX0_runs 122 = .ok (.iload_n 3, 1) := dk_29 (dk_at dksX0_runs_5 5 rfl rfl)
theorem dX0_runs_123 : decode cX0_runs 123 = .ok (.imul, 1) := dk_104 (dk_at dksX0_runs_5 6 rfl rfl)
theorem dX0_runs_124 : decode cX0_runs 124 = .ok (.iload_n 2, 1) := dk_28 (dk_at dksX0_runs_5 7 rfl rfl)
theorem dX0_runs_125 : decode cX0_runs 125 = .ok (.iadd, 1) := dk_96 (dk_at dksX0_runs_5 8 rfl rfl)
theorem dX0_runs_126 : decode cX0_runs 126 = .ok (.iaload, 1) := dk_46 (dk_at dksX0_runs_5 9 rfl rfl)
theorem dX0_runs_127 : decode cX0_runs 127 = .ok (.if_icmp .ge 56, 3) := dk_162 0 56 (dk_at dksX0_runs_5 10 rfl rfl)
theorem dX0_runs_130 : decode cX0_runs 130 = .ok (.aload_n 0, 1) := dk_42 (dk_at dksX0_runs_5 13 rfl rfl)
theorem dX0_runs_131 : decode cX0_runs 131 = .ok (.aload_n 1, 1) := dk_43 (dk_at dksX0_runs_5 14 rfl rfl)
theorem dX0_runs_132 : decode cX0_runs 132 = .ok (.iload_n 3, 1) := dk_29 (dk_at dksX0_runs_5 15 rfl rfl)
theorem dX0_runs_133 : decode cX0_runs 133 = .ok (.iload_n 2, 1) := dk_28 (dk_at dksX0_runs_5 16 rfl rfl)
theorem dX0_runs_134 : decode cX0_runs 134 = .ok (.invokevirtual 178, 3) := dk_182 0 178 (dk_at dksX0_runs_5 17 rfl rfl)
theorem dX0_runs_137 : decode cX0_runs 137 = .ok (.istore 5, 2) := dk_54 5 (dk_at dksX0_runs_5 20 rfl rfl)
theorem dX0_runs_139 : decode cX0_runs 139 = .ok (.iload 5, 2) := dk_21 5 (dk_at dksX0_runs_5 22 rfl rfl)
theorem dX0_runs_141 : decode cX0_runs 141 = .ok (.iconst (-1), 1) := dk_2 (dk_at dksX0_runs_6 0 rfl rfl)
theorem dX0_runs_142 : decode cX0_runs 142 = .ok (.if_icmp .ne 6, 3) := dk_160 0 6 (dk_at dksX0_runs_6 1 rfl rfl)
theorem dX0_runs_145 : decode cX0_runs 145 = .ok (.goto 38, 3) := dk_167 0 38 (dk_at dksX0_runs_6 4 rfl rfl)
theorem dX0_runs_148 : decode cX0_runs 148 = .ok (.aload_n 0, 1) := dk_42 (dk_at dksX0_runs_6 7 rfl rfl)
theorem dX0_runs_149 : decode cX0_runs 149 = .ok (.getfield 61, 3) := dk_180 0 61 (dk_at dksX0_runs_6 8 rfl rfl)
theorem dX0_runs_152 : decode cX0_runs 152 = .ok (.iload 5, 2) := dk_21 5 (dk_at dksX0_runs_6 11 rfl rfl)
theorem dX0_runs_154 : decode cX0_runs 154 = .ok (.iload_n 2, 1) := dk_28 (dk_at dksX0_runs_6 13 rfl rfl)
theorem dX0_runs_155 : decode cX0_runs 155 = .ok (.iastore, 1) := dk_79 (dk_at dksX0_runs_6 14 rfl rfl)
theorem dX0_runs_156 : decode cX0_runs 156 = .ok (.aload_n 0, 1) := dk_42 (dk_at dksX0_runs_6 15 rfl rfl)
theorem dX0_runs_157 : decode cX0_runs 157 = .ok (.getfield 67, 3) := dk_180 0 67 (dk_at dksX0_runs_6 16 rfl rfl)
theorem dX0_runs_160 : decode cX0_runs 160 = .ok (.aload_n 0, 1) := dk_42 (dk_at dksX0_runs_6 19 rfl rfl)
theorem dX0_runs_161 : decode cX0_runs 161 = .ok (.getfield 171, 3) := dk_180 0 171 (dk_at dksX0_runs_6 20 rfl rfl)
theorem dX0_runs_164 : decode cX0_runs 164 = .ok (.iload 5, 2) := dk_21 5 (dk_at dksX0_runs_7 0 rfl rfl)
theorem dX0_runs_166 : decode cX0_runs 166 = .ok (.iastore, 1) := dk_79 (dk_at dksX0_runs_7 2 rfl rfl)
theorem dX0_runs_167 : decode cX0_runs 167 = .ok (.aload_n 0, 1) := dk_42 (dk_at dksX0_runs_7 3 rfl rfl)
theorem dX0_runs_168 : decode cX0_runs 168 = .ok (.dup, 1) := dk_89 (dk_at dksX0_runs_7 4 rfl rfl)
theorem dX0_runs_169 : decode cX0_runs 169 = .ok (.getfield 171, 3) := dk_180 0 171 (dk_at dksX0_runs_7 5 rfl rfl)
theorem dX0_runs_172 : decode cX0_runs 172 = .ok (.iconst 1, 1) := dk_4 (dk_at dksX0_runs_7 8 rfl rfl)
theorem dX0_runs_173 : decode cX0_runs 173 = .ok (.iadd, 1) := dk_96 (dk_at dksX0_runs_7 9 rfl rfl)
theorem dX0_runs_174 : decode cX0_runs 174 = .ok (.putfield 171, 3) := dk_181 0 171 (dk_at dksX0_runs_7 10 rfl rfl)
theorem dX0_runs_177 : decode cX0_runs 177 = .ok (.iinc 4 1, 3) := dk_132 4 1 (dk_at dksX0_runs_7 13 rfl rfl)
theorem dX0_runs_180 : decode cX0_runs 180 = .ok (.goto (-66), 3) := dk_167 255 190 (dk_at dksX0_runs_7 16 rfl rfl)
theorem dX0_runs_183 : decode cX0_runs 183 = .ok (.aload_n 0, 1) := dk_42 (dk_at dksX0_runs_7 19 rfl rfl)
theorem dX0_runs_184 : decode cX0_runs 184 = .ok (.getfield 64, 3) := dk_180 0 64 (dk_at dksX0_runs_7 20 rfl rfl)
theorem dX0_runs_187 : decode cX0_runs 187 = .ok (.bipush 24, 2) := dk_16 24 (dk_at dksX0_runs_8 0 rfl rfl)
theorem dX0_runs_189 : decode cX0_runs 189 = .ok (.iload_n 3, 1) := dk_29 (dk_at dksX0_runs_8 2 rfl rfl)
theorem dX0_runs_190 : decode cX0_runs 190 = .ok (.imul, 1) := dk_104 (dk_at dksX0_runs_8 3 rfl rfl)
theorem dX0_runs_191 : decode cX0_runs 191 = .ok (.iload_n 2, 1) := dk_28 (dk_at dksX0_runs_8 4 rfl rfl)
theorem dX0_runs_192 : decode cX0_runs 192 = .ok (.iadd, 1) := dk_96 (dk_at dksX0_runs_8 5 rfl rfl)
theorem dX0_runs_193 : decode cX0_runs 193 = .ok (.aload_n 0, 1) := dk_42 (dk_at dksX0_runs_8 6 rfl rfl)
theorem dX0_runs_194 : decode cX0_runs 194 = .ok (.aload_n 1, 1) := dk_43 (dk_at dksX0_runs_8 7 rfl rfl)
theorem dX0_runs_195 : decode cX0_runs 195 = .ok (.iload_n 3, 1) := dk_29 (dk_at dksX0_runs_8 8 rfl rfl)
theorem dX0_runs_196 : decode cX0_runs 196 = .ok (.iload_n 2, 1) := dk_28 (dk_at dksX0_runs_8 9 rfl rfl)
theorem dX0_runs_197 : decode cX0_runs 197 = .ok (.invokevirtual 182, 3) := dk_182 0 182 (dk_at dksX0_runs_8 10 rfl rfl)
theorem dX0_runs_200 : decode cX0_runs 200 = .ok (.iastore, 1) := dk_79 (dk_at dksX0_runs_8 13 rfl rfl)
theorem dX0_runs_201 : decode cX0_runs 201 = .ok (.iinc 3 1, 3) := dk_132 3 1 (dk_at dksX0_runs_8 14 rfl rfl)
theorem dX0_runs_204 : decode cX0_runs 204 = .ok (.goto (-98), 3) := dk_167 255 158 (dk_at dksX0_runs_8 17 rfl rfl)
theorem dX0_runs_207 : decode cX0_runs 207 = .ok (.iinc 2 1, 3) := dk_132 2 1 (dk_at dksX0_runs_8 20 rfl rfl)
theorem dX0_runs_210 : decode cX0_runs 210 = .ok (.goto (-112), 3) := dk_167 255 144 (dk_at dksX0_runs_9 0 rfl rfl)
theorem dX0_runs_213 : decode cX0_runs 213 = .ok (.return_, 1) := dk_177 (dk_at dksX0_runs_9 3 rfl rfl)
abbrev cX0_first : ByteArray := prog_1_method_19_code
def yX0_first : MethodName := ⟨RX0, "first", "(LGateRoad$Way;II)I"⟩
def dkwX0_first_2 : List UInt8 := [162, 0, 7, 21, 5, 54, 4, 132, 5, 1, 167, 255, 205, 21, 4, 172]
abbrev dktX0_first_2 : List UInt8 := dkwX0_first_2 ++ []
def dkwX0_first_1 : List UInt8 := [153, 0, 30, 21, 4, 2, 159, 0, 20, 42, 43, 21, 5, 182, 0, 189, 42, 43, 21, 4, 182, 0, 189]
abbrev dktX0_first_1 : List UInt8 := dkwX0_first_1 ++ dktX0_first_2
def dkwX0_first_0 : List UInt8 := [2, 54, 4, 3, 54, 5, 21, 5, 43, 180, 0, 174, 162, 0, 48, 42, 43, 21, 5, 28, 29, 182, 0, 185]
abbrev dktX0_first_0 : List UInt8 := dkwX0_first_0 ++ dktX0_first_1
theorem dksX0_first_0 : cX0_first.data.toList.drop 0 = dktX0_first_0 := by decide +kernel
theorem dksX0_first_1 : cX0_first.data.toList.drop 24 = dktX0_first_1 := dk_seg dksX0_first_0 24 rfl rfl
theorem dksX0_first_2 : cX0_first.data.toList.drop 47 = dktX0_first_2 := dk_seg dksX0_first_1 23 rfl rfl
theorem dX0_first_0 : decode cX0_first 0 = .ok (.iconst (-1), 1) := dk_2 (dk_at dksX0_first_0 0 rfl rfl)
theorem dX0_first_1 : decode cX0_first 1 = .ok (.istore 4, 2) := dk_54 4 (dk_at dksX0_first_0 1 rfl rfl)
theorem dX0_first_3 : decode cX0_first 3 = .ok (.iconst 0, 1) := dk_3 (dk_at dksX0_first_0 3 rfl rfl)
theorem dX0_first_4 : decode cX0_first 4 = .ok (.istore 5, 2) := dk_54 5 (dk_at dksX0_first_0 4 rfl rfl)
theorem dX0_first_6 : decode cX0_first 6 = .ok (.iload 5, 2) := dk_21 5 (dk_at dksX0_first_0 6 rfl rfl)
theorem dX0_first_8 : decode cX0_first 8 = .ok (.aload_n 1, 1) := dk_43 (dk_at dksX0_first_0 8 rfl rfl)
theorem dX0_first_9 : decode cX0_first 9 = .ok (.getfield 174, 3) := dk_180 0 174 (dk_at dksX0_first_0 9 rfl rfl)
theorem dX0_first_12 : decode cX0_first 12 = .ok (.if_icmp .ge 48, 3) := dk_162 0 48 (dk_at dksX0_first_0 12 rfl rfl)
theorem dX0_first_15 : decode cX0_first 15 = .ok (.aload_n 0, 1) := dk_42 (dk_at dksX0_first_0 15 rfl rfl)
theorem dX0_first_16 : decode cX0_first 16 = .ok (.aload_n 1, 1) := dk_43 (dk_at dksX0_first_0 16 rfl rfl)
theorem dX0_first_17 : decode cX0_first 17 = .ok (.iload 5, 2) := dk_21 5 (dk_at dksX0_first_0 17 rfl rfl)
theorem dX0_first_19 : decode cX0_first 19 = .ok (.iload_n 2, 1) := dk_28 (dk_at dksX0_first_0 19 rfl rfl)
theorem dX0_first_20 : decode cX0_first 20 = .ok (.iload_n 3, 1) := dk_29 (dk_at dksX0_first_0 20 rfl rfl)
theorem dX0_first_21 : decode cX0_first 21 = .ok (.invokevirtual 185, 3) := dk_182 0 185 (dk_at dksX0_first_0 21 rfl rfl)
theorem dX0_first_24 : decode cX0_first 24 = .ok (.ifCond .eq 30, 3) := dk_153 0 30 (dk_at dksX0_first_1 0 rfl rfl)
theorem dX0_first_27 : decode cX0_first 27 = .ok (.iload 4, 2) := dk_21 4 (dk_at dksX0_first_1 3 rfl rfl)
theorem dX0_first_29 : decode cX0_first 29 = .ok (.iconst (-1), 1) := dk_2 (dk_at dksX0_first_1 5 rfl rfl)
theorem dX0_first_30 : decode cX0_first 30 = .ok (.if_icmp .eq 20, 3) := dk_159 0 20 (dk_at dksX0_first_1 6 rfl rfl)
theorem dX0_first_33 : decode cX0_first 33 = .ok (.aload_n 0, 1) := dk_42 (dk_at dksX0_first_1 9 rfl rfl)
theorem dX0_first_34 : decode cX0_first 34 = .ok (.aload_n 1, 1) := dk_43 (dk_at dksX0_first_1 10 rfl rfl)
theorem dX0_first_35 : decode cX0_first 35 = .ok (.iload 5, 2) := dk_21 5 (dk_at dksX0_first_1 11 rfl rfl)
theorem dX0_first_37 : decode cX0_first 37 = .ok (.invokevirtual 189, 3) := dk_182 0 189 (dk_at dksX0_first_1 13 rfl rfl)
theorem dX0_first_40 : decode cX0_first 40 = .ok (.aload_n 0, 1) := dk_42 (dk_at dksX0_first_1 16 rfl rfl)
theorem dX0_first_41 : decode cX0_first 41 = .ok (.aload_n 1, 1) := dk_43 (dk_at dksX0_first_1 17 rfl rfl)
theorem dX0_first_42 : decode cX0_first 42 = .ok (.iload 4, 2) := dk_21 4 (dk_at dksX0_first_1 18 rfl rfl)
theorem dX0_first_44 : decode cX0_first 44 = .ok (.invokevirtual 189, 3) := dk_182 0 189 (dk_at dksX0_first_1 20 rfl rfl)
theorem dX0_first_47 : decode cX0_first 47 = .ok (.if_icmp .ge 7, 3) := dk_162 0 7 (dk_at dksX0_first_2 0 rfl rfl)
theorem dX0_first_50 : decode cX0_first 50 = .ok (.iload 5, 2) := dk_21 5 (dk_at dksX0_first_2 3 rfl rfl)
theorem dX0_first_52 : decode cX0_first 52 = .ok (.istore 4, 2) := dk_54 4 (dk_at dksX0_first_2 5 rfl rfl)
theorem dX0_first_54 : decode cX0_first 54 = .ok (.iinc 5 1, 3) := dk_132 5 1 (dk_at dksX0_first_2 7 rfl rfl)
theorem dX0_first_57 : decode cX0_first 57 = .ok (.goto (-51), 3) := dk_167 255 205 (dk_at dksX0_first_2 10 rfl rfl)
theorem dX0_first_60 : decode cX0_first 60 = .ok (.iload 4, 2) := dk_21 4 (dk_at dksX0_first_2 13 rfl rfl)
theorem dX0_first_62 : decode cX0_first 62 = .ok (.ireturn, 1) := dk_172 (dk_at dksX0_first_2 15 rfl rfl)
abbrev cX0_waits : ByteArray := prog_1_method_18_code
def yX0_waits : MethodName := ⟨RX0, "waits", "(LGateRoad$Way;III)Z"⟩
def dkwX0_waits_2 : List UInt8 := [167, 0, 4, 3, 172]
abbrev dktX0_waits_2 : List UInt8 := dkwX0_waits_2 ++ []
def dkwX0_waits_1 : List UInt8 := [180, 0, 61, 28, 46, 2, 160, 0, 20, 43, 180, 0, 175, 28, 51, 16, 24, 108, 29, 160, 0, 7, 4]
abbrev dktX0_waits_1 : List UInt8 := dkwX0_waits_1 ++ dktX0_waits_2
def dkwX0_waits_0 : List UInt8 := [42, 180, 0, 58, 28, 46, 2, 159, 0, 41, 42, 180, 0, 58, 28, 46, 21, 4, 163, 0, 30, 42]
abbrev dktX0_waits_0 : List UInt8 := dkwX0_waits_0 ++ dktX0_waits_1
theorem dksX0_waits_0 : cX0_waits.data.toList.drop 0 = dktX0_waits_0 := by decide +kernel
theorem dksX0_waits_1 : cX0_waits.data.toList.drop 22 = dktX0_waits_1 := dk_seg dksX0_waits_0 22 rfl rfl
theorem dksX0_waits_2 : cX0_waits.data.toList.drop 45 = dktX0_waits_2 := dk_seg dksX0_waits_1 23 rfl rfl
theorem dX0_waits_0 : decode cX0_waits 0 = .ok (.aload_n 0, 1) := dk_42 (dk_at dksX0_waits_0 0 rfl rfl)
theorem dX0_waits_1 : decode cX0_waits 1 = .ok (.getfield 58, 3) := dk_180 0 58 (dk_at dksX0_waits_0 1 rfl rfl)
theorem dX0_waits_4 : decode cX0_waits 4 = .ok (.iload_n 2, 1) := dk_28 (dk_at dksX0_waits_0 4 rfl rfl)
theorem dX0_waits_5 : decode cX0_waits 5 = .ok (.iaload, 1) := dk_46 (dk_at dksX0_waits_0 5 rfl rfl)
theorem dX0_waits_6 : decode cX0_waits 6 = .ok (.iconst (-1), 1) := dk_2 (dk_at dksX0_waits_0 6 rfl rfl)
theorem dX0_waits_7 : decode cX0_waits 7 = .ok (.if_icmp .eq 41, 3) := dk_159 0 41 (dk_at dksX0_waits_0 7 rfl rfl)
theorem dX0_waits_10 : decode cX0_waits 10 = .ok (.aload_n 0, 1) := dk_42 (dk_at dksX0_waits_0 10 rfl rfl)
theorem dX0_waits_11 : decode cX0_waits 11 = .ok (.getfield 58, 3) := dk_180 0 58 (dk_at dksX0_waits_0 11 rfl rfl)
theorem dX0_waits_14 : decode cX0_waits 14 = .ok (.iload_n 2, 1) := dk_28 (dk_at dksX0_waits_0 14 rfl rfl)
theorem dX0_waits_15 : decode cX0_waits 15 = .ok (.iaload, 1) := dk_46 (dk_at dksX0_waits_0 15 rfl rfl)
theorem dX0_waits_16 : decode cX0_waits 16 = .ok (.iload 4, 2) := dk_21 4 (dk_at dksX0_waits_0 16 rfl rfl)
theorem dX0_waits_18 : decode cX0_waits 18 = .ok (.if_icmp .gt 30, 3) := dk_163 0 30 (dk_at dksX0_waits_0 18 rfl rfl)
theorem dX0_waits_21 : decode cX0_waits 21 = .ok (.aload_n 0, 1) := dk_42 (dk_at dksX0_waits_0 21 rfl rfl)
theorem dX0_waits_22 : decode cX0_waits 22 = .ok (.getfield 61, 3) := dk_180 0 61 (dk_at dksX0_waits_1 0 rfl rfl)
theorem dX0_waits_25 : decode cX0_waits 25 = .ok (.iload_n 2, 1) := dk_28 (dk_at dksX0_waits_1 3 rfl rfl)
theorem dX0_waits_26 : decode cX0_waits 26 = .ok (.iaload, 1) := dk_46 (dk_at dksX0_waits_1 4 rfl rfl)
theorem dX0_waits_27 : decode cX0_waits 27 = .ok (.iconst (-1), 1) := dk_2 (dk_at dksX0_waits_1 5 rfl rfl)
theorem dX0_waits_28 : decode cX0_waits 28 = .ok (.if_icmp .ne 20, 3) := dk_160 0 20 (dk_at dksX0_waits_1 6 rfl rfl)
theorem dX0_waits_31 : decode cX0_waits 31 = .ok (.aload_n 1, 1) := dk_43 (dk_at dksX0_waits_1 9 rfl rfl)
theorem dX0_waits_32 : decode cX0_waits 32 = .ok (.getfield 175, 3) := dk_180 0 175 (dk_at dksX0_waits_1 10 rfl rfl)
theorem dX0_waits_35 : decode cX0_waits 35 = .ok (.iload_n 2, 1) := dk_28 (dk_at dksX0_waits_1 13 rfl rfl)
theorem dX0_waits_36 : decode cX0_waits 36 = .ok (.baload, 1) := dk_51 (dk_at dksX0_waits_1 14 rfl rfl)
theorem dX0_waits_37 : decode cX0_waits 37 = .ok (.bipush 24, 2) := dk_16 24 (dk_at dksX0_waits_1 15 rfl rfl)
theorem dX0_waits_39 : decode cX0_waits 39 = .ok (.idiv, 1) := dk_108 (dk_at dksX0_waits_1 17 rfl rfl)
theorem dX0_waits_40 : decode cX0_waits 40 = .ok (.iload_n 3, 1) := dk_29 (dk_at dksX0_waits_1 18 rfl rfl)
theorem dX0_waits_41 : decode cX0_waits 41 = .ok (.if_icmp .ne 7, 3) := dk_160 0 7 (dk_at dksX0_waits_1 19 rfl rfl)
theorem dX0_waits_44 : decode cX0_waits 44 = .ok (.iconst 1, 1) := dk_4 (dk_at dksX0_waits_1 22 rfl rfl)
theorem dX0_waits_45 : decode cX0_waits 45 = .ok (.goto 4, 3) := dk_167 0 4 (dk_at dksX0_waits_2 0 rfl rfl)
theorem dX0_waits_48 : decode cX0_waits 48 = .ok (.iconst 0, 1) := dk_3 (dk_at dksX0_waits_2 3 rfl rfl)
theorem dX0_waits_49 : decode cX0_waits 49 = .ok (.ireturn, 1) := dk_172 (dk_at dksX0_waits_2 4 rfl rfl)
abbrev cX0_keyOf : ByteArray := prog_1_method_20_code
def yX0_keyOf : MethodName := ⟨RX0, "keyOf", "(LGateRoad$Way;I)I"⟩
def dkwX0_keyOf_0 : List UInt8 := [43, 28, 42, 180, 0, 58, 28, 46, 42, 180, 0, 45, 28, 46, 182, 0, 193, 172]
abbrev dktX0_keyOf_0 : List UInt8 := dkwX0_keyOf_0 ++ []
theorem dksX0_keyOf_0 : cX0_keyOf.data.toList.drop 0 = dktX0_keyOf_0 := by decide +kernel
theorem dX0_keyOf_0 : decode cX0_keyOf 0 = .ok (.aload_n 1, 1) := dk_43 (dk_at dksX0_keyOf_0 0 rfl rfl)
theorem dX0_keyOf_1 : decode cX0_keyOf 1 = .ok (.iload_n 2, 1) := dk_28 (dk_at dksX0_keyOf_0 1 rfl rfl)
theorem dX0_keyOf_2 : decode cX0_keyOf 2 = .ok (.aload_n 0, 1) := dk_42 (dk_at dksX0_keyOf_0 2 rfl rfl)
theorem dX0_keyOf_3 : decode cX0_keyOf 3 = .ok (.getfield 58, 3) := dk_180 0 58 (dk_at dksX0_keyOf_0 3 rfl rfl)
theorem dX0_keyOf_6 : decode cX0_keyOf 6 = .ok (.iload_n 2, 1) := dk_28 (dk_at dksX0_keyOf_0 6 rfl rfl)
theorem dX0_keyOf_7 : decode cX0_keyOf 7 = .ok (.iaload, 1) := dk_46 (dk_at dksX0_keyOf_0 7 rfl rfl)
theorem dX0_keyOf_8 : decode cX0_keyOf 8 = .ok (.aload_n 0, 1) := dk_42 (dk_at dksX0_keyOf_0 8 rfl rfl)
theorem dX0_keyOf_9 : decode cX0_keyOf 9 = .ok (.getfield 45, 3) := dk_180 0 45 (dk_at dksX0_keyOf_0 9 rfl rfl)
theorem dX0_keyOf_12 : decode cX0_keyOf 12 = .ok (.iload_n 2, 1) := dk_28 (dk_at dksX0_keyOf_0 12 rfl rfl)
theorem dX0_keyOf_13 : decode cX0_keyOf 13 = .ok (.iaload, 1) := dk_46 (dk_at dksX0_keyOf_0 13 rfl rfl)
theorem dX0_keyOf_14 : decode cX0_keyOf 14 = .ok (.invokevirtual 193, 3) := dk_182 0 193 (dk_at dksX0_keyOf_0 14 rfl rfl)
theorem dX0_keyOf_17 : decode cX0_keyOf 17 = .ok (.ireturn, 1) := dk_172 (dk_at dksX0_keyOf_0 17 rfl rfl)
abbrev cX0_waiting : ByteArray := prog_1_method_21_code
def yX0_waiting : MethodName := ⟨RX0, "waiting", "(LGateRoad$Way;II)I"⟩
def dkwX0_waiting_1 : List UInt8 := [153, 0, 6, 132, 4, 1, 132, 5, 1, 167, 255, 229, 21, 4, 172]
abbrev dktX0_waiting_1 : List UInt8 := dkwX0_waiting_1 ++ []
def dkwX0_waiting_0 : List UInt8 := [3, 54, 4, 3, 54, 5, 21, 5, 43, 180, 0, 174, 162, 0, 24, 42, 43, 21, 5, 28, 29, 182, 0, 185]
abbrev dktX0_waiting_0 : List UInt8 := dkwX0_waiting_0 ++ dktX0_waiting_1
theorem dksX0_waiting_0 : cX0_waiting.data.toList.drop 0 = dktX0_waiting_0 := by decide +kernel
theorem dksX0_waiting_1 : cX0_waiting.data.toList.drop 24 = dktX0_waiting_1 := dk_seg dksX0_waiting_0 24 rfl rfl
theorem dX0_waiting_0 : decode cX0_waiting 0 = .ok (.iconst 0, 1) := dk_3 (dk_at dksX0_waiting_0 0 rfl rfl)
theorem dX0_waiting_1 : decode cX0_waiting 1 = .ok (.istore 4, 2) := dk_54 4 (dk_at dksX0_waiting_0 1 rfl rfl)
theorem dX0_waiting_3 : decode cX0_waiting 3 = .ok (.iconst 0, 1) := dk_3 (dk_at dksX0_waiting_0 3 rfl rfl)
theorem dX0_waiting_4 : decode cX0_waiting 4 = .ok (.istore 5, 2) := dk_54 5 (dk_at dksX0_waiting_0 4 rfl rfl)
theorem dX0_waiting_6 : decode cX0_waiting 6 = .ok (.iload 5, 2) := dk_21 5 (dk_at dksX0_waiting_0 6 rfl rfl)
theorem dX0_waiting_8 : decode cX0_waiting 8 = .ok (.aload_n 1, 1) := dk_43 (dk_at dksX0_waiting_0 8 rfl rfl)
theorem dX0_waiting_9 : decode cX0_waiting 9 = .ok (.getfield 174, 3) := dk_180 0 174 (dk_at dksX0_waiting_0 9 rfl rfl)
theorem dX0_waiting_12 : decode cX0_waiting 12 = .ok (.if_icmp .ge 24, 3) := dk_162 0 24 (dk_at dksX0_waiting_0 12 rfl rfl)
theorem dX0_waiting_15 : decode cX0_waiting 15 = .ok (.aload_n 0, 1) := dk_42 (dk_at dksX0_waiting_0 15 rfl rfl)
theorem dX0_waiting_16 : decode cX0_waiting 16 = .ok (.aload_n 1, 1) := dk_43 (dk_at dksX0_waiting_0 16 rfl rfl)
theorem dX0_waiting_17 : decode cX0_waiting 17 = .ok (.iload 5, 2) := dk_21 5 (dk_at dksX0_waiting_0 17 rfl rfl)
theorem dX0_waiting_19 : decode cX0_waiting 19 = .ok (.iload_n 2, 1) := dk_28 (dk_at dksX0_waiting_0 19 rfl rfl)
theorem dX0_waiting_20 : decode cX0_waiting 20 = .ok (.iload_n 3, 1) := dk_29 (dk_at dksX0_waiting_0 20 rfl rfl)
theorem dX0_waiting_21 : decode cX0_waiting 21 = .ok (.invokevirtual 185, 3) := dk_182 0 185 (dk_at dksX0_waiting_0 21 rfl rfl)
theorem dX0_waiting_24 : decode cX0_waiting 24 = .ok (.ifCond .eq 6, 3) := dk_153 0 6 (dk_at dksX0_waiting_1 0 rfl rfl)
theorem dX0_waiting_27 : decode cX0_waiting 27 = .ok (.iinc 4 1, 3) := dk_132 4 1 (dk_at dksX0_waiting_1 3 rfl rfl)
theorem dX0_waiting_30 : decode cX0_waiting 30 = .ok (.iinc 5 1, 3) := dk_132 5 1 (dk_at dksX0_waiting_1 6 rfl rfl)
theorem dX0_waiting_33 : decode cX0_waiting 33 = .ok (.goto (-27), 3) := dk_167 255 229 (dk_at dksX0_waiting_1 9 rfl rfl)
theorem dX0_waiting_36 : decode cX0_waiting 36 = .ok (.iload 4, 2) := dk_21 4 (dk_at dksX0_waiting_1 12 rfl rfl)
theorem dX0_waiting_38 : decode cX0_waiting 38 = .ok (.ireturn, 1) := dk_172 (dk_at dksX0_waiting_1 14 rfl rfl)
abbrev cX0_cost : ByteArray := prog_1_method_24_code
def yX0_cost : MethodName := ⟨RX0, "cost", "(LGateRoad$Way;I)I"⟩
def dkwX0_cost_2 : List UInt8 := [180, 0, 61, 28, 46, 42, 180, 0, 58, 28, 46, 100, 182, 0, 211, 100, 172]
abbrev dktX0_cost_2 : List UInt8 := dkwX0_cost_2 ++ []
def dkwX0_cost_1 : List UInt8 := [180, 0, 61, 28, 46, 2, 160, 0, 7, 17, 19, 136, 172, 42, 43, 28, 3, 182, 0, 208, 43, 42]
abbrev dktX0_cost_1 : List UInt8 := dkwX0_cost_1 ++ dktX0_cost_2
def dkwX0_cost_0 : List UInt8 := [43, 180, 0, 175, 28, 51, 16, 48, 160, 0, 15, 42, 180, 0, 39, 42, 180, 0, 45, 28, 46, 46, 172, 42]
abbrev dktX0_cost_0 : List UInt8 := dkwX0_cost_0 ++ dktX0_cost_1
theorem dksX0_cost_0 : cX0_cost.data.toList.drop 0 = dktX0_cost_0 := by decide +kernel
theorem dksX0_cost_1 : cX0_cost.data.toList.drop 24 = dktX0_cost_1 := dk_seg dksX0_cost_0 24 rfl rfl
theorem dksX0_cost_2 : cX0_cost.data.toList.drop 46 = dktX0_cost_2 := dk_seg dksX0_cost_1 22 rfl rfl
theorem dX0_cost_0 : decode cX0_cost 0 = .ok (.aload_n 1, 1) := dk_43 (dk_at dksX0_cost_0 0 rfl rfl)
theorem dX0_cost_1 : decode cX0_cost 1 = .ok (.getfield 175, 3) := dk_180 0 175 (dk_at dksX0_cost_0 1 rfl rfl)
theorem dX0_cost_4 : decode cX0_cost 4 = .ok (.iload_n 2, 1) := dk_28 (dk_at dksX0_cost_0 4 rfl rfl)
theorem dX0_cost_5 : decode cX0_cost 5 = .ok (.baload, 1) := dk_51 (dk_at dksX0_cost_0 5 rfl rfl)
theorem dX0_cost_6 : decode cX0_cost 6 = .ok (.bipush 48, 2) := dk_16 48 (dk_at dksX0_cost_0 6 rfl rfl)
theorem dX0_cost_8 : decode cX0_cost 8 = .ok (.if_icmp .ne 15, 3) := dk_160 0 15 (dk_at dksX0_cost_0 8 rfl rfl)
theorem dX0_cost_11 : decode cX0_cost 11 = .ok (.aload_n 0, 1) := dk_42 (dk_at dksX0_cost_0 11 rfl rfl)
theorem dX0_cost_12 : decode cX0_cost 12 = .ok (.getfield 39, 3) := dk_180 0 39 (dk_at dksX0_cost_0 12 rfl rfl)
theorem dX0_cost_15 : decode cX0_cost 15 = .ok (.aload_n 0, 1) := dk_42 (dk_at dksX0_cost_0 15 rfl rfl)
theorem dX0_cost_16 : decode cX0_cost 16 = .ok (.getfield 45, 3) := dk_180 0 45 (dk_at dksX0_cost_0 16 rfl rfl)
theorem dX0_cost_19 : decode cX0_cost 19 = .ok (.iload_n 2, 1) := dk_28 (dk_at dksX0_cost_0 19 rfl rfl)
theorem dX0_cost_20 : decode cX0_cost 20 = .ok (.iaload, 1) := dk_46 (dk_at dksX0_cost_0 20 rfl rfl)
theorem dX0_cost_21 : decode cX0_cost 21 = .ok (.iaload, 1) := dk_46 (dk_at dksX0_cost_0 21 rfl rfl)
theorem dX0_cost_22 : decode cX0_cost 22 = .ok (.ireturn, 1) := dk_172 (dk_at dksX0_cost_0 22 rfl rfl)
theorem dX0_cost_23 : decode cX0_cost 23 = .ok (.aload_n 0, 1) := dk_42 (dk_at dksX0_cost_0 23 rfl rfl)
theorem dX0_cost_24 : decode cX0_cost 24 = .ok (.getfield 61, 3) := dk_180 0 61 (dk_at dksX0_cost_1 0 rfl rfl)
theorem dX0_cost_27 : decode cX0_cost 27 = .ok (.iload_n 2, 1) := dk_28 (dk_at dksX0_cost_1 3 rfl rfl)
theorem dX0_cost_28 : decode cX0_cost 28 = .ok (.iaload, 1) := dk_46 (dk_at dksX0_cost_1 4 rfl rfl)
theorem dX0_cost_29 : decode cX0_cost 29 = .ok (.iconst (-1), 1) := dk_2 (dk_at dksX0_cost_1 5 rfl rfl)
theorem dX0_cost_30 : decode cX0_cost 30 = .ok (.if_icmp .ne 7, 3) := dk_160 0 7 (dk_at dksX0_cost_1 6 rfl rfl)
theorem dX0_cost_33 : decode cX0_cost 33 = .ok (.sipush 5000, 3) := dk_17 19 136 (dk_at dksX0_cost_1 9 rfl rfl)
theorem dX0_cost_36 : decode cX0_cost 36 = .ok (.ireturn, 1) := dk_172 (dk_at dksX0_cost_1 12 rfl rfl)
theorem dX0_cost_37 : decode cX0_cost 37 = .ok (.aload_n 0, 1) := dk_42 (dk_at dksX0_cost_1 13 rfl rfl)
theorem dX0_cost_38 : decode cX0_cost 38 = .ok (.aload_n 1, 1) := dk_43 (dk_at dksX0_cost_1 14 rfl rfl)
theorem dX0_cost_39 : decode cX0_cost 39 = .ok (.iload_n 2, 1) := dk_28 (dk_at dksX0_cost_1 15 rfl rfl)
theorem dX0_cost_40 : decode cX0_cost 40 = .ok (.iconst 0, 1) := dk_3 (dk_at dksX0_cost_1 16 rfl rfl)
theorem dX0_cost_41 : decode cX0_cost 41 = .ok (.invokevirtual 208, 3) := dk_182 0 208 (dk_at dksX0_cost_1 17 rfl rfl)
theorem dX0_cost_44 : decode cX0_cost 44 = .ok (.aload_n 1, 1) := dk_43 (dk_at dksX0_cost_1 20 rfl rfl)
theorem dX0_cost_45 : decode cX0_cost 45 = .ok (.aload_n 0, 1) := dk_42 (dk_at dksX0_cost_1 21 rfl rfl)
theorem dX0_cost_46 : decode cX0_cost 46 = .ok (.getfield 61, 3) := dk_180 0 61 (dk_at dksX0_cost_2 0 rfl rfl)
theorem dX0_cost_49 : decode cX0_cost 49 = .ok (.iload_n 2, 1) := dk_28 (dk_at dksX0_cost_2 3 rfl rfl)
theorem dX0_cost_50 : decode cX0_cost 50 = .ok (.iaload, 1) := dk_46 (dk_at dksX0_cost_2 4 rfl rfl)
theorem dX0_cost_51 : decode cX0_cost 51 = .ok (.aload_n 0, 1) := dk_42 (dk_at dksX0_cost_2 5 rfl rfl)
theorem dX0_cost_52 : decode cX0_cost 52 = .ok (.getfield 58, 3) := dk_180 0 58 (dk_at dksX0_cost_2 6 rfl rfl)
theorem dX0_cost_55 : decode cX0_cost 55 = .ok (.iload_n 2, 1) := dk_28 (dk_at dksX0_cost_2 9 rfl rfl)
theorem dX0_cost_56 : decode cX0_cost 56 = .ok (.iaload, 1) := dk_46 (dk_at dksX0_cost_2 10 rfl rfl)
theorem dX0_cost_57 : decode cX0_cost 57 = .ok (.isub, 1) := dk_100 (dk_at dksX0_cost_2 11 rfl rfl)
theorem dX0_cost_58 : decode cX0_cost 58 = .ok (.invokevirtual 211, 3) := dk_182 0 211 (dk_at dksX0_cost_2 12 rfl rfl)
theorem dX0_cost_61 : decode cX0_cost 61 = .ok (.isub, 1) := dk_100 (dk_at dksX0_cost_2 15 rfl rfl)
theorem dX0_cost_62 : decode cX0_cost 62 = .ok (.ireturn, 1) := dk_172 (dk_at dksX0_cost_2 16 rfl rfl)
abbrev cX0_asks : ByteArray := prog_1_method_23_code
def yX0_asks : MethodName := ⟨RX0, "asks", "(LGateRoad$Way;II)I"⟩
def dkwX0_asks_3 : List UInt8 := [42, 43, 28, 182, 0, 201, 182, 0, 204, 172]
abbrev dktX0_asks_3 : List UInt8 := dkwX0_asks_3 ++ []
def dkwX0_asks_2 : List UInt8 := [180, 0, 61, 28, 46, 42, 180, 0, 36, 21, 4, 46, 100, 184, 0, 168, 42, 180, 0, 61, 28, 46, 21, 4]
abbrev dktX0_asks_2 : List UInt8 := dkwX0_asks_2 ++ dktX0_asks_3
def dkwX0_asks_1 : List UInt8 := [29, 21, 5, 3, 42, 180, 0, 36, 21, 4, 46, 42, 180, 0, 61, 28, 46, 100, 184, 0, 168, 3, 42]
abbrev dktX0_asks_1 : List UInt8 := dkwX0_asks_1 ++ dktX0_asks_2
def dkwX0_asks_0 : List UInt8 := [42, 180, 0, 45, 28, 46, 54, 4, 42, 180, 0, 61, 28, 46, 42, 180, 0, 58, 28, 46, 100, 54, 5, 42]
abbrev dktX0_asks_0 : List UInt8 := dkwX0_asks_0 ++ dktX0_asks_1
theorem dksX0_asks_0 : cX0_asks.data.toList.drop 0 = dktX0_asks_0 := by decide +kernel
theorem dksX0_asks_1 : cX0_asks.data.toList.drop 24 = dktX0_asks_1 := dk_seg dksX0_asks_0 24 rfl rfl
theorem dksX0_asks_2 : cX0_asks.data.toList.drop 47 = dktX0_asks_2 := dk_seg dksX0_asks_1 23 rfl rfl
theorem dksX0_asks_3 : cX0_asks.data.toList.drop 71 = dktX0_asks_3 := dk_seg dksX0_asks_2 24 rfl rfl
theorem dX0_asks_0 : decode cX0_asks 0 = .ok (.aload_n 0, 1) := dk_42 (dk_at dksX0_asks_0 0 rfl rfl)
theorem dX0_asks_1 : decode cX0_asks 1 = .ok (.getfield 45, 3) := dk_180 0 45 (dk_at dksX0_asks_0 1 rfl rfl)
theorem dX0_asks_4 : decode cX0_asks 4 = .ok (.iload_n 2, 1) := dk_28 (dk_at dksX0_asks_0 4 rfl rfl)
theorem dX0_asks_5 : decode cX0_asks 5 = .ok (.iaload, 1) := dk_46 (dk_at dksX0_asks_0 5 rfl rfl)
theorem dX0_asks_6 : decode cX0_asks 6 = .ok (.istore 4, 2) := dk_54 4 (dk_at dksX0_asks_0 6 rfl rfl)
theorem dX0_asks_8 : decode cX0_asks 8 = .ok (.aload_n 0, 1) := dk_42 (dk_at dksX0_asks_0 8 rfl rfl)
theorem dX0_asks_9 : decode cX0_asks 9 = .ok (.getfield 61, 3) := dk_180 0 61 (dk_at dksX0_asks_0 9 rfl rfl)
theorem dX0_asks_12 : decode cX0_asks 12 = .ok (.iload_n 2, 1) := dk_28 (dk_at dksX0_asks_0 12 rfl rfl)
theorem dX0_asks_13 : decode cX0_asks 13 = .ok (.iaload, 1) := dk_46 (dk_at dksX0_asks_0 13 rfl rfl)
theorem dX0_asks_14 : decode cX0_asks 14 = .ok (.aload_n 0, 1) := dk_42 (dk_at dksX0_asks_0 14 rfl rfl)
theorem dX0_asks_15 : decode cX0_asks 15 = .ok (.getfield 58, 3) := dk_180 0 58 (dk_at dksX0_asks_0 15 rfl rfl)
theorem dX0_asks_18 : decode cX0_asks 18 = .ok (.iload_n 2, 1) := dk_28 (dk_at dksX0_asks_0 18 rfl rfl)
theorem dX0_asks_19 : decode cX0_asks 19 = .ok (.iaload, 1) := dk_46 (dk_at dksX0_asks_0 19 rfl rfl)
theorem dX0_asks_20 : decode cX0_asks 20 = .ok (.isub, 1) := dk_100 (dk_at dksX0_asks_0 20 rfl rfl)
theorem dX0_asks_21 : decode cX0_asks 21 = .ok (.istore 5, 2) := dk_54 5 (dk_at dksX0_asks_0 21 rfl rfl)
theorem dX0_asks_23 : decode cX0_asks 23 = .ok (.aload_n 0, 1) := dk_42 (dk_at dksX0_asks_0 23 rfl rfl)
theorem dX0_asks_24 : decode cX0_asks 24 = .ok (.iload_n 3, 1) := dk_29 (dk_at dksX0_asks_1 0 rfl rfl)
theorem dX0_asks_25 : decode cX0_asks 25 = .ok (.iload 5, 2) := dk_21 5 (dk_at dksX0_asks_1 1 rfl rfl)
theorem dX0_asks_27 : decode cX0_asks 27 = .ok (.iconst 0, 1) := dk_3 (dk_at dksX0_asks_1 3 rfl rfl)
theorem dX0_asks_28 : decode cX0_asks 28 = .ok (.aload_n 0, 1) := dk_42 (dk_at dksX0_asks_1 4 rfl rfl)
theorem dX0_asks_29 : decode cX0_asks 29 = .ok (.getfield 36, 3) := dk_180 0 36 (dk_at dksX0_asks_1 5 rfl rfl)
theorem dX0_asks_32 : decode cX0_asks 32 = .ok (.iload 4, 2) := dk_21 4 (dk_at dksX0_asks_1 8 rfl rfl)
theorem dX0_asks_34 : decode cX0_asks 34 = .ok (.iaload, 1) := dk_46 (dk_at dksX0_asks_1 10 rfl rfl)
theorem dX0_asks_35 : decode cX0_asks 35 = .ok (.aload_n 0, 1) := dk_42 (dk_at dksX0_asks_1 11 rfl rfl)
theorem dX0_asks_36 : decode cX0_asks 36 = .ok (.getfield 61, 3) := dk_180 0 61 (dk_at dksX0_asks_1 12 rfl rfl)
theorem dX0_asks_39 : decode cX0_asks 39 = .ok (.iload_n 2, 1) := dk_28 (dk_at dksX0_asks_1 15 rfl rfl)
theorem dX0_asks_40 : decode cX0_asks 40 = .ok (.iaload, 1) := dk_46 (dk_at dksX0_asks_1 16 rfl rfl)
theorem dX0_asks_41 : decode cX0_asks 41 = .ok (.isub, 1) := dk_100 (dk_at dksX0_asks_1 17 rfl rfl)
theorem dX0_asks_42 : decode cX0_asks 42 = .ok (.invokestatic 168, 3) := dk_184 0 168 (dk_at dksX0_asks_1 18 rfl rfl)
theorem dX0_asks_45 : decode cX0_asks 45 = .ok (.iconst 0, 1) := dk_3 (dk_at dksX0_asks_1 21 rfl rfl)
theorem dX0_asks_46 : decode cX0_asks 46 = .ok (.aload_n 0, 1) := dk_42 (dk_at dksX0_asks_1 22 rfl rfl)
theorem dX0_asks_47 : decode cX0_asks 47 = .ok (.getfield 61, 3) := dk_180 0 61 (dk_at dksX0_asks_2 0 rfl rfl)
theorem dX0_asks_50 : decode cX0_asks 50 = .ok (.iload_n 2, 1) := dk_28 (dk_at dksX0_asks_2 3 rfl rfl)
theorem dX0_asks_51 : decode cX0_asks 51 = .ok (.iaload, 1) := dk_46 (dk_at dksX0_asks_2 4 rfl rfl)
theorem dX0_asks_52 : decode cX0_asks 52 = .ok (.aload_n 0, 1) := dk_42 (dk_at dksX0_asks_2 5 rfl rfl)
theorem dX0_asks_53 : decode cX0_asks 53 = .ok (.getfield 36, 3) := dk_180 0 36 (dk_at dksX0_asks_2 6 rfl rfl)
theorem dX0_asks_56 : decode cX0_asks 56 = .ok (.iload 4, 2) := dk_21 4 (dk_at dksX0_asks_2 9 rfl rfl)
theorem dX0_asks_58 : decode cX0_asks 58 = .ok (.iaload, 1) := dk_46 (dk_at dksX0_asks_2 11 rfl rfl)
theorem dX0_asks_59 : decode cX0_asks 59 = .ok (.isub, 1) := dk_100 (dk_at dksX0_asks_2 12 rfl rfl)
theorem dX0_asks_60 : decode cX0_asks 60 = .ok (.invokestatic 168, 3) := dk_184 0 168 (dk_at dksX0_asks_2 13 rfl rfl)
theorem dX0_asks_63 : decode cX0_asks 63 = .ok (.aload_n 0, 1) := dk_42 (dk_at dksX0_asks_2 16 rfl rfl)
theorem dX0_asks_64 : decode cX0_asks 64 = .ok (.getfield 61, 3) := dk_180 0 61 (dk_at dksX0_asks_2 17 rfl rfl)
theorem dX0_asks_67 : decode cX0_asks 67 = .ok (.iload_n 2, 1) := dk_28 (dk_at dksX0_asks_2 20 rfl rfl)
theorem dX0_asks_68 : decode cX0_asks 68 = .ok (.iaload, 1) := dk_46 (dk_at dksX0_asks_2 21 rfl rfl)
theorem dX0_asks_69 : decode cX0_asks 69 = .ok (.iload 4, 2) := dk_21 4 (dk_at dksX0_asks_2 22 rfl rfl)
theorem dX0_asks_71 : decode cX0_asks 71 = .ok (.aload_n 0, 1) := dk_42 (dk_at dksX0_asks_3 0 rfl rfl)
theorem dX0_asks_72 : decode cX0_asks 72 = .ok (.aload_n 1, 1) := dk_43 (dk_at dksX0_asks_3 1 rfl rfl)
theorem dX0_asks_73 : decode cX0_asks 73 = .ok (.iload_n 2, 1) := dk_28 (dk_at dksX0_asks_3 2 rfl rfl)
theorem dX0_asks_74 : decode cX0_asks 74 = .ok (.invokevirtual 201, 3) := dk_182 0 201 (dk_at dksX0_asks_3 3 rfl rfl)
theorem dX0_asks_77 : decode cX0_asks 77 = .ok (.invokevirtual 204, 3) := dk_182 0 204 (dk_at dksX0_asks_3 6 rfl rfl)
theorem dX0_asks_80 : decode cX0_asks 80 = .ok (.ireturn, 1) := dk_172 (dk_at dksX0_asks_3 9 rfl rfl)
abbrev cX0_paid : ByteArray := prog_1_method_22_code
def yX0_paid : MethodName := ⟨RX0, "paid", "(LGateRoad$Way;I)I"⟩
def dkwX0_paid_1 : List UInt8 := [180, 0, 175, 28, 51, 16, 24, 108, 104, 42, 180, 0, 61, 28, 46, 96, 46, 182, 0, 197, 172]
abbrev dktX0_paid_1 : List UInt8 := dkwX0_paid_1 ++ []
def dkwX0_paid_0 : List UInt8 := [42, 180, 0, 61, 28, 46, 2, 160, 0, 7, 3, 167, 0, 31, 43, 42, 180, 0, 33, 16, 24, 43]
abbrev dktX0_paid_0 : List UInt8 := dkwX0_paid_0 ++ dktX0_paid_1
theorem dksX0_paid_0 : cX0_paid.data.toList.drop 0 = dktX0_paid_0 := by decide +kernel
theorem dksX0_paid_1 : cX0_paid.data.toList.drop 22 = dktX0_paid_1 := dk_seg dksX0_paid_0 22 rfl rfl
theorem dX0_paid_0 : decode cX0_paid 0 = .ok (.aload_n 0, 1) := dk_42 (dk_at dksX0_paid_0 0 rfl rfl)
theorem dX0_paid_1 : decode cX0_paid 1 = .ok (.getfield 61, 3) := dk_180 0 61 (dk_at dksX0_paid_0 1 rfl rfl)
theorem dX0_paid_4 : decode cX0_paid 4 = .ok (.iload_n 2, 1) := dk_28 (dk_at dksX0_paid_0 4 rfl rfl)
theorem dX0_paid_5 : decode cX0_paid 5 = .ok (.iaload, 1) := dk_46 (dk_at dksX0_paid_0 5 rfl rfl)
theorem dX0_paid_6 : decode cX0_paid 6 = .ok (.iconst (-1), 1) := dk_2 (dk_at dksX0_paid_0 6 rfl rfl)
theorem dX0_paid_7 : decode cX0_paid 7 = .ok (.if_icmp .ne 7, 3) := dk_160 0 7 (dk_at dksX0_paid_0 7 rfl rfl)
theorem dX0_paid_10 : decode cX0_paid 10 = .ok (.iconst 0, 1) := dk_3 (dk_at dksX0_paid_0 10 rfl rfl)
theorem dX0_paid_11 : decode cX0_paid 11 = .ok (.goto 31, 3) := dk_167 0 31 (dk_at dksX0_paid_0 11 rfl rfl)
theorem dX0_paid_14 : decode cX0_paid 14 = .ok (.aload_n 1, 1) := dk_43 (dk_at dksX0_paid_0 14 rfl rfl)
theorem dX0_paid_15 : decode cX0_paid 15 = .ok (.aload_n 0, 1) := dk_42 (dk_at dksX0_paid_0 15 rfl rfl)
theorem dX0_paid_16 : decode cX0_paid 16 = .ok (.getfield 33, 3) := dk_180 0 33 (dk_at dksX0_paid_0 16 rfl rfl)
theorem dX0_paid_19 : decode cX0_paid 19 = .ok (.bipush 24, 2) := dk_16 24 (dk_at dksX0_paid_0 19 rfl rfl)
theorem dX0_paid_21 : decode cX0_paid 21 = .ok (.aload_n 1, 1) := dk_43 (dk_at dksX0_paid_0 21 rfl rfl)
theorem dX0_paid_22 : decode cX0_paid 22 = .ok (.getfield 175, 3) := dk_180 0 175 (dk_at dksX0_paid_1 0 rfl rfl)
theorem dX0_paid_25 : decode cX0_paid 25 = .ok (.iload_n 2, 1) := dk_28 (dk_at dksX0_paid_1 3 rfl rfl)
theorem dX0_paid_26 : decode cX0_paid 26 = .ok (.baload, 1) := dk_51 (dk_at dksX0_paid_1 4 rfl rfl)
theorem dX0_paid_27 : decode cX0_paid 27 = .ok (.bipush 24, 2) := dk_16 24 (dk_at dksX0_paid_1 5 rfl rfl)
theorem dX0_paid_29 : decode cX0_paid 29 = .ok (.idiv, 1) := dk_108 (dk_at dksX0_paid_1 7 rfl rfl)
theorem dX0_paid_30 : decode cX0_paid 30 = .ok (.imul, 1) := dk_104 (dk_at dksX0_paid_1 8 rfl rfl)
theorem dX0_paid_31 : decode cX0_paid 31 = .ok (.aload_n 0, 1) := dk_42 (dk_at dksX0_paid_1 9 rfl rfl)
theorem dX0_paid_32 : decode cX0_paid 32 = .ok (.getfield 61, 3) := dk_180 0 61 (dk_at dksX0_paid_1 10 rfl rfl)
theorem dX0_paid_35 : decode cX0_paid 35 = .ok (.iload_n 2, 1) := dk_28 (dk_at dksX0_paid_1 13 rfl rfl)
theorem dX0_paid_36 : decode cX0_paid 36 = .ok (.iaload, 1) := dk_46 (dk_at dksX0_paid_1 14 rfl rfl)
theorem dX0_paid_37 : decode cX0_paid 37 = .ok (.iadd, 1) := dk_96 (dk_at dksX0_paid_1 15 rfl rfl)
theorem dX0_paid_38 : decode cX0_paid 38 = .ok (.iaload, 1) := dk_46 (dk_at dksX0_paid_1 16 rfl rfl)
theorem dX0_paid_39 : decode cX0_paid 39 = .ok (.invokevirtual 197, 3) := dk_182 0 197 (dk_at dksX0_paid_1 17 rfl rfl)
theorem dX0_paid_42 : decode cX0_paid 42 = .ok (.ireturn, 1) := dk_172 (dk_at dksX0_paid_1 20 rfl rfl)
abbrev cX0_says : ByteArray := prog_1_method_16_code
def yX0_says : MethodName := ⟨RX0, "says", "(IIIIIII)I"⟩
def dkwX0_says_3 : List UInt8 := [17, 39, 15, 21, 8, 184, 0, 162, 184, 0, 168, 172]
abbrev dktX0_says_3 : List UInt8 := dkwX0_says_3 ++ []
def dkwX0_says_2 : List UInt8 := [180, 0, 96, 42, 180, 0, 153, 50, 27, 50, 42, 180, 0, 55, 185, 0, 156, 2, 0, 54, 8, 17, 216, 241]
abbrev dktX0_says_2 : List UInt8 := dkwX0_says_2 ++ dktX0_says_3
def dkwX0_says_1 : List UInt8 := [180, 0, 55, 6, 21, 5, 79, 42, 180, 0, 55, 7, 21, 6, 79, 42, 180, 0, 55, 8, 21, 7, 79, 42]
abbrev dktX0_says_1 : List UInt8 := dkwX0_says_1 ++ dktX0_says_2
def dkwX0_says_0 : List UInt8 := [42, 180, 0, 55, 3, 28, 79, 42, 180, 0, 55, 4, 29, 79, 42, 180, 0, 55, 5, 21, 4, 79, 42]
abbrev dktX0_says_0 : List UInt8 := dkwX0_says_0 ++ dktX0_says_1
theorem dksX0_says_0 : cX0_says.data.toList.drop 0 = dktX0_says_0 := by decide +kernel
theorem dksX0_says_1 : cX0_says.data.toList.drop 23 = dktX0_says_1 := dk_seg dksX0_says_0 23 rfl rfl
theorem dksX0_says_2 : cX0_says.data.toList.drop 47 = dktX0_says_2 := dk_seg dksX0_says_1 24 rfl rfl
theorem dksX0_says_3 : cX0_says.data.toList.drop 71 = dktX0_says_3 := dk_seg dksX0_says_2 24 rfl rfl
theorem dX0_says_0 : decode cX0_says 0 = .ok (.aload_n 0, 1) := dk_42 (dk_at dksX0_says_0 0 rfl rfl)
theorem dX0_says_1 : decode cX0_says 1 = .ok (.getfield 55, 3) := dk_180 0 55 (dk_at dksX0_says_0 1 rfl rfl)
theorem dX0_says_4 : decode cX0_says 4 = .ok (.iconst 0, 1) := dk_3 (dk_at dksX0_says_0 4 rfl rfl)
theorem dX0_says_5 : decode cX0_says 5 = .ok (.iload_n 2, 1) := dk_28 (dk_at dksX0_says_0 5 rfl rfl)
theorem dX0_says_6 : decode cX0_says 6 = .ok (.iastore, 1) := dk_79 (dk_at dksX0_says_0 6 rfl rfl)
theorem dX0_says_7 : decode cX0_says 7 = .ok (.aload_n 0, 1) := dk_42 (dk_at dksX0_says_0 7 rfl rfl)
theorem dX0_says_8 : decode cX0_says 8 = .ok (.getfield 55, 3) := dk_180 0 55 (dk_at dksX0_says_0 8 rfl rfl)
theorem dX0_says_11 : decode cX0_says 11 = .ok (.iconst 1, 1) := dk_4 (dk_at dksX0_says_0 11 rfl rfl)
theorem dX0_says_12 : decode cX0_says 12 = .ok (.iload_n 3, 1) := dk_29 (dk_at dksX0_says_0 12 rfl rfl)
theorem dX0_says_13 : decode cX0_says 13 = .ok (.iastore, 1) := dk_79 (dk_at dksX0_says_0 13 rfl rfl)
theorem dX0_says_14 : decode cX0_says 14 = .ok (.aload_n 0, 1) := dk_42 (dk_at dksX0_says_0 14 rfl rfl)
theorem dX0_says_15 : decode cX0_says 15 = .ok (.getfield 55, 3) := dk_180 0 55 (dk_at dksX0_says_0 15 rfl rfl)
theorem dX0_says_18 : decode cX0_says 18 = .ok (.iconst 2, 1) := dk_5 (dk_at dksX0_says_0 18 rfl rfl)
theorem dX0_says_19 : decode cX0_says 19 = .ok (.iload 4, 2) := dk_21 4 (dk_at dksX0_says_0 19 rfl rfl)
theorem dX0_says_21 : decode cX0_says 21 = .ok (.iastore, 1) := dk_79 (dk_at dksX0_says_0 21 rfl rfl)
theorem dX0_says_22 : decode cX0_says 22 = .ok (.aload_n 0, 1) := dk_42 (dk_at dksX0_says_0 22 rfl rfl)
theorem dX0_says_23 : decode cX0_says 23 = .ok (.getfield 55, 3) := dk_180 0 55 (dk_at dksX0_says_1 0 rfl rfl)
theorem dX0_says_26 : decode cX0_says 26 = .ok (.iconst 3, 1) := dk_6 (dk_at dksX0_says_1 3 rfl rfl)
theorem dX0_says_27 : decode cX0_says 27 = .ok (.iload 5, 2) := dk_21 5 (dk_at dksX0_says_1 4 rfl rfl)
theorem dX0_says_29 : decode cX0_says 29 = .ok (.iastore, 1) := dk_79 (dk_at dksX0_says_1 6 rfl rfl)
theorem dX0_says_30 : decode cX0_says 30 = .ok (.aload_n 0, 1) := dk_42 (dk_at dksX0_says_1 7 rfl rfl)
theorem dX0_says_31 : decode cX0_says 31 = .ok (.getfield 55, 3) := dk_180 0 55 (dk_at dksX0_says_1 8 rfl rfl)
theorem dX0_says_34 : decode cX0_says 34 = .ok (.iconst 4, 1) := dk_7 (dk_at dksX0_says_1 11 rfl rfl)
theorem dX0_says_35 : decode cX0_says 35 = .ok (.iload 6, 2) := dk_21 6 (dk_at dksX0_says_1 12 rfl rfl)
theorem dX0_says_37 : decode cX0_says 37 = .ok (.iastore, 1) := dk_79 (dk_at dksX0_says_1 14 rfl rfl)
theorem dX0_says_38 : decode cX0_says 38 = .ok (.aload_n 0, 1) := dk_42 (dk_at dksX0_says_1 15 rfl rfl)
theorem dX0_says_39 : decode cX0_says 39 = .ok (.getfield 55, 3) := dk_180 0 55 (dk_at dksX0_says_1 16 rfl rfl)
theorem dX0_says_42 : decode cX0_says 42 = .ok (.iconst 5, 1) := dk_8 (dk_at dksX0_says_1 19 rfl rfl)
theorem dX0_says_43 : decode cX0_says 43 = .ok (.iload 7, 2) := dk_21 7 (dk_at dksX0_says_1 20 rfl rfl)
theorem dX0_says_45 : decode cX0_says 45 = .ok (.iastore, 1) := dk_79 (dk_at dksX0_says_1 22 rfl rfl)
theorem dX0_says_46 : decode cX0_says 46 = .ok (.aload_n 0, 1) := dk_42 (dk_at dksX0_says_1 23 rfl rfl)
theorem dX0_says_47 : decode cX0_says 47 = .ok (.getfield 96, 3) := dk_180 0 96 (dk_at dksX0_says_2 0 rfl rfl)
theorem dX0_says_50 : decode cX0_says 50 = .ok (.aload_n 0, 1) := dk_42 (dk_at dksX0_says_2 3 rfl rfl)
theorem dX0_says_51 : decode cX0_says 51 = .ok (.getfield 153, 3) := dk_180 0 153 (dk_at dksX0_says_2 4 rfl rfl)
theorem dX0_says_54 : decode cX0_says 54 = .ok (.aaload, 1) := dk_50 (dk_at dksX0_says_2 7 rfl rfl)
theorem dX0_says_55 : decode cX0_says 55 = .ok (.iload_n 1, 1) := dk_27 (dk_at dksX0_says_2 8 rfl rfl)
theorem dX0_says_56 : decode cX0_says 56 = .ok (.aaload, 1) := dk_50 (dk_at dksX0_says_2 9 rfl rfl)
theorem dX0_says_57 : decode cX0_says 57 = .ok (.aload_n 0, 1) := dk_42 (dk_at dksX0_says_2 10 rfl rfl)
theorem dX0_says_58 : decode cX0_says 58 = .ok (.getfield 55, 3) := dk_180 0 55 (dk_at dksX0_says_2 11 rfl rfl)
theorem dX0_says_61 : decode cX0_says 61 = .ok (.invokeinterface 156 2, 5) := by decide +kernel
theorem dX0_says_66 : decode cX0_says 66 = .ok (.istore 8, 2) := dk_54 8 (dk_at dksX0_says_2 19 rfl rfl)
theorem dX0_says_68 : decode cX0_says 68 = .ok (.sipush (-9999), 3) := dk_17 216 241 (dk_at dksX0_says_2 21 rfl rfl)
theorem dX0_says_71 : decode cX0_says 71 = .ok (.sipush 9999, 3) := dk_17 39 15 (dk_at dksX0_says_3 0 rfl rfl)
theorem dX0_says_74 : decode cX0_says 74 = .ok (.iload 8, 2) := dk_21 8 (dk_at dksX0_says_3 3 rfl rfl)
theorem dX0_says_76 : decode cX0_says 76 = .ok (.invokestatic 162, 3) := dk_184 0 162 (dk_at dksX0_says_3 5 rfl rfl)
theorem dX0_says_79 : decode cX0_says 79 = .ok (.invokestatic 168, 3) := dk_184 0 168 (dk_at dksX0_says_3 8 rfl rfl)
theorem dX0_says_82 : decode cX0_says 82 = .ok (.ireturn, 1) := dk_172 (dk_at dksX0_says_3 11 rfl rfl)
abbrev cX0_line : ByteArray := prog_1_method_30_code
def yX0_line : MethodName := ⟨RX0, "line", "(III)I"⟩
def dkwX0_line_2 : List UInt8 := [29, 96, 46, 172]
abbrev dktX0_line_2 : List UInt8 := dkwX0_line_2 ++ []
def dkwX0_line_1 : List UInt8 := [172, 42, 42, 180, 0, 51, 27, 182, 0, 246, 192, 0, 3, 182, 0, 253, 42, 180, 0, 64, 16, 24, 28, 104]
abbrev dktX0_line_1 : List UInt8 := dkwX0_line_1 ++ dktX0_line_2
def dkwX0_line_0 : List UInt8 := [42, 27, 182, 0, 243, 153, 0, 17, 28, 184, 0, 135, 153, 0, 10, 29, 184, 0, 139, 154, 0, 6, 16, 251]
abbrev dktX0_line_0 : List UInt8 := dkwX0_line_0 ++ dktX0_line_1
theorem dksX0_line_0 : cX0_line.data.toList.drop 0 = dktX0_line_0 := by decide +kernel
theorem dksX0_line_1 : cX0_line.data.toList.drop 24 = dktX0_line_1 := dk_seg dksX0_line_0 24 rfl rfl
theorem dksX0_line_2 : cX0_line.data.toList.drop 48 = dktX0_line_2 := dk_seg dksX0_line_1 24 rfl rfl
theorem dX0_line_0 : decode cX0_line 0 = .ok (.aload_n 0, 1) := dk_42 (dk_at dksX0_line_0 0 rfl rfl)
theorem dX0_line_1 : decode cX0_line 1 = .ok (.iload_n 1, 1) := dk_27 (dk_at dksX0_line_0 1 rfl rfl)
theorem dX0_line_2 : decode cX0_line 2 = .ok (.invokevirtual 243, 3) := dk_182 0 243 (dk_at dksX0_line_0 2 rfl rfl)
theorem dX0_line_5 : decode cX0_line 5 = .ok (.ifCond .eq 17, 3) := dk_153 0 17 (dk_at dksX0_line_0 5 rfl rfl)
theorem dX0_line_8 : decode cX0_line 8 = .ok (.iload_n 2, 1) := dk_28 (dk_at dksX0_line_0 8 rfl rfl)
theorem dX0_line_9 : decode cX0_line 9 = .ok (.invokestatic 135, 3) := dk_184 0 135 (dk_at dksX0_line_0 9 rfl rfl)
theorem dX0_line_12 : decode cX0_line 12 = .ok (.ifCond .eq 10, 3) := dk_153 0 10 (dk_at dksX0_line_0 12 rfl rfl)
theorem dX0_line_15 : decode cX0_line 15 = .ok (.iload_n 3, 1) := dk_29 (dk_at dksX0_line_0 15 rfl rfl)
theorem dX0_line_16 : decode cX0_line 16 = .ok (.invokestatic 139, 3) := dk_184 0 139 (dk_at dksX0_line_0 16 rfl rfl)
theorem dX0_line_19 : decode cX0_line 19 = .ok (.ifCond .ne 6, 3) := dk_154 0 6 (dk_at dksX0_line_0 19 rfl rfl)
theorem dX0_line_22 : decode cX0_line 22 = .ok (.bipush (-5), 2) := dk_16 251 (dk_at dksX0_line_0 22 rfl rfl)
theorem dX0_line_24 : decode cX0_line 24 = .ok (.ireturn, 1) := dk_172 (dk_at dksX0_line_1 0 rfl rfl)
theorem dX0_line_25 : decode cX0_line 25 = .ok (.aload_n 0, 1) := dk_42 (dk_at dksX0_line_1 1 rfl rfl)
theorem dX0_line_26 : decode cX0_line 26 = .ok (.aload_n 0, 1) := dk_42 (dk_at dksX0_line_1 2 rfl rfl)
theorem dX0_line_27 : decode cX0_line 27 = .ok (.getfield 51, 3) := dk_180 0 51 (dk_at dksX0_line_1 3 rfl rfl)
theorem dX0_line_30 : decode cX0_line 30 = .ok (.iload_n 1, 1) := dk_27 (dk_at dksX0_line_1 6 rfl rfl)
theorem dX0_line_31 : decode cX0_line 31 = .ok (.invokevirtual 246, 3) := dk_182 0 246 (dk_at dksX0_line_1 7 rfl rfl)
theorem dX0_line_34 : decode cX0_line 34 = .ok (.checkcast 3, 3) := dk_192 0 3 (dk_at dksX0_line_1 10 rfl rfl)
theorem dX0_line_37 : decode cX0_line 37 = .ok (.invokevirtual 253, 3) := dk_182 0 253 (dk_at dksX0_line_1 13 rfl rfl)
theorem dX0_line_40 : decode cX0_line 40 = .ok (.aload_n 0, 1) := dk_42 (dk_at dksX0_line_1 16 rfl rfl)
theorem dX0_line_41 : decode cX0_line 41 = .ok (.getfield 64, 3) := dk_180 0 64 (dk_at dksX0_line_1 17 rfl rfl)
theorem dX0_line_44 : decode cX0_line 44 = .ok (.bipush 24, 2) := dk_16 24 (dk_at dksX0_line_1 20 rfl rfl)
theorem dX0_line_46 : decode cX0_line 46 = .ok (.iload_n 2, 1) := dk_28 (dk_at dksX0_line_1 22 rfl rfl)
theorem dX0_line_47 : decode cX0_line 47 = .ok (.imul, 1) := dk_104 (dk_at dksX0_line_1 23 rfl rfl)
theorem dX0_line_48 : decode cX0_line 48 = .ok (.iload_n 3, 1) := dk_29 (dk_at dksX0_line_2 0 rfl rfl)
theorem dX0_line_49 : decode cX0_line 49 = .ok (.iadd, 1) := dk_96 (dk_at dksX0_line_2 1 rfl rfl)
theorem dX0_line_50 : decode cX0_line 50 = .ok (.iaload, 1) := dk_46 (dk_at dksX0_line_2 2 rfl rfl)
theorem dX0_line_51 : decode cX0_line 51 = .ok (.ireturn, 1) := dk_172 (dk_at dksX0_line_2 3 rfl rfl)
abbrev cX0_passes : ByteArray := prog_1_method_31_code
def yX0_passes : MethodName := ⟨RX0, "passes", "(II)I"⟩
def dkwX0_passes_2 : List UInt8 := [184, 0, 119, 153, 0, 12, 42, 180, 0, 67, 28, 46, 167, 0, 4, 2, 172]
abbrev dktX0_passes_2 : List UInt8 := dkwX0_passes_2 ++ []
def dkwX0_passes_1 : List UInt8 := [182, 0, 253, 28, 2, 160, 0, 8, 42, 180, 0, 171, 172, 28, 133, 9, 42, 180, 0, 171, 133, 10, 101]
abbrev dktX0_passes_1 : List UInt8 := dkwX0_passes_1 ++ dktX0_passes_2
def dkwX0_passes_0 : List UInt8 := [42, 27, 182, 0, 243, 154, 0, 6, 16, 251, 172, 42, 42, 180, 0, 51, 27, 182, 0, 246, 192, 0, 3]
abbrev dktX0_passes_0 : List UInt8 := dkwX0_passes_0 ++ dktX0_passes_1
theorem dksX0_passes_0 : cX0_passes.data.toList.drop 0 = dktX0_passes_0 := by decide +kernel
theorem dksX0_passes_1 : cX0_passes.data.toList.drop 23 = dktX0_passes_1 := dk_seg dksX0_passes_0 23 rfl rfl
theorem dksX0_passes_2 : cX0_passes.data.toList.drop 46 = dktX0_passes_2 := dk_seg dksX0_passes_1 23 rfl rfl
theorem dX0_passes_0 : decode cX0_passes 0 = .ok (.aload_n 0, 1) := dk_42 (dk_at dksX0_passes_0 0 rfl rfl)
theorem dX0_passes_1 : decode cX0_passes 1 = .ok (.iload_n 1, 1) := dk_27 (dk_at dksX0_passes_0 1 rfl rfl)
theorem dX0_passes_2 : decode cX0_passes 2 = .ok (.invokevirtual 243, 3) := dk_182 0 243 (dk_at dksX0_passes_0 2 rfl rfl)
theorem dX0_passes_5 : decode cX0_passes 5 = .ok (.ifCond .ne 6, 3) := dk_154 0 6 (dk_at dksX0_passes_0 5 rfl rfl)
theorem dX0_passes_8 : decode cX0_passes 8 = .ok (.bipush (-5), 2) := dk_16 251 (dk_at dksX0_passes_0 8 rfl rfl)
theorem dX0_passes_10 : decode cX0_passes 10 = .ok (.ireturn, 1) := dk_172 (dk_at dksX0_passes_0 10 rfl rfl)
theorem dX0_passes_11 : decode cX0_passes 11 = .ok (.aload_n 0, 1) := dk_42 (dk_at dksX0_passes_0 11 rfl rfl)
theorem dX0_passes_12 : decode cX0_passes 12 = .ok (.aload_n 0, 1) := dk_42 (dk_at dksX0_passes_0 12 rfl rfl)
theorem dX0_passes_13 : decode cX0_passes 13 = .ok (.getfield 51, 3) := dk_180 0 51 (dk_at dksX0_passes_0 13 rfl rfl)
theorem dX0_passes_16 : decode cX0_passes 16 = .ok (.iload_n 1, 1) := dk_27 (dk_at dksX0_passes_0 16 rfl rfl)
theorem dX0_passes_17 : decode cX0_passes 17 = .ok (.invokevirtual 246, 3) := dk_182 0 246 (dk_at dksX0_passes_0 17 rfl rfl)
theorem dX0_passes_20 : decode cX0_passes 20 = .ok (.checkcast 3, 3) := dk_192 0 3 (dk_at dksX0_passes_0 20 rfl rfl)
theorem dX0_passes_23 : decode cX0_passes 23 = .ok (.invokevirtual 253, 3) := dk_182 0 253 (dk_at dksX0_passes_1 0 rfl rfl)
theorem dX0_passes_26 : decode cX0_passes 26 = .ok (.iload_n 2, 1) := dk_28 (dk_at dksX0_passes_1 3 rfl rfl)
theorem dX0_passes_27 : decode cX0_passes 27 = .ok (.iconst (-1), 1) := dk_2 (dk_at dksX0_passes_1 4 rfl rfl)
theorem dX0_passes_28 : decode cX0_passes 28 = .ok (.if_icmp .ne 8, 3) := dk_160 0 8 (dk_at dksX0_passes_1 5 rfl rfl)
theorem dX0_passes_31 : decode cX0_passes 31 = .ok (.aload_n 0, 1) := dk_42 (dk_at dksX0_passes_1 8 rfl rfl)
theorem dX0_passes_32 : decode cX0_passes 32 = .ok (.getfield 171, 3) := dk_180 0 171 (dk_at dksX0_passes_1 9 rfl rfl)
theorem dX0_passes_35 : decode cX0_passes 35 = .ok (.ireturn, 1) := dk_172 (dk_at dksX0_passes_1 12 rfl rfl)
theorem dX0_passes_36 : decode cX0_passes 36 = .ok (.iload_n 2, 1) := dk_28 (dk_at dksX0_passes_1 13 rfl rfl)
theorem dX0_passes_37 : decode cX0_passes 37 = .ok (.i2l, 1) := dk_133 (dk_at dksX0_passes_1 14 rfl rfl)
theorem dX0_passes_38 : decode cX0_passes 38 = .ok (.lconst 0, 1) := dk_9 (dk_at dksX0_passes_1 15 rfl rfl)
theorem dX0_passes_39 : decode cX0_passes 39 = .ok (.aload_n 0, 1) := dk_42 (dk_at dksX0_passes_1 16 rfl rfl)
theorem dX0_passes_40 : decode cX0_passes 40 = .ok (.getfield 171, 3) := dk_180 0 171 (dk_at dksX0_passes_1 17 rfl rfl)
theorem dX0_passes_43 : decode cX0_passes 43 = .ok (.i2l, 1) := dk_133 (dk_at dksX0_passes_1 20 rfl rfl)
theorem dX0_passes_44 : decode cX0_passes 44 = .ok (.lconst 1, 1) := dk_10 (dk_at dksX0_passes_1 21 rfl rfl)
theorem dX0_passes_45 : decode cX0_passes 45 = .ok (.lsub, 1) := dk_101 (dk_at dksX0_passes_1 22 rfl rfl)
theorem dX0_passes_46 : decode cX0_passes 46 = .ok (.invokestatic 119, 3) := dk_184 0 119 (dk_at dksX0_passes_2 0 rfl rfl)
theorem dX0_passes_49 : decode cX0_passes 49 = .ok (.ifCond .eq 12, 3) := dk_153 0 12 (dk_at dksX0_passes_2 3 rfl rfl)
theorem dX0_passes_52 : decode cX0_passes 52 = .ok (.aload_n 0, 1) := dk_42 (dk_at dksX0_passes_2 6 rfl rfl)
theorem dX0_passes_53 : decode cX0_passes 53 = .ok (.getfield 67, 3) := dk_180 0 67 (dk_at dksX0_passes_2 7 rfl rfl)
theorem dX0_passes_56 : decode cX0_passes 56 = .ok (.iload_n 2, 1) := dk_28 (dk_at dksX0_passes_2 10 rfl rfl)
theorem dX0_passes_57 : decode cX0_passes 57 = .ok (.iaload, 1) := dk_46 (dk_at dksX0_passes_2 11 rfl rfl)
theorem dX0_passes_58 : decode cX0_passes 58 = .ok (.goto 4, 3) := dk_167 0 4 (dk_at dksX0_passes_2 12 rfl rfl)
theorem dX0_passes_61 : decode cX0_passes 61 = .ok (.iconst (-1), 1) := dk_2 (dk_at dksX0_passes_2 15 rfl rfl)
theorem dX0_passes_62 : decode cX0_passes 62 = .ok (.ireturn, 1) := dk_172 (dk_at dksX0_passes_2 16 rfl rfl)
abbrev cX0_sum : ByteArray := prog_1_method_32_code
def yX0_sum : MethodName := ⟨RX0, "sum", "(II)J"⟩
def dkwX0_sum_6 : List UInt8 := [22, 4, 173]
abbrev dktX0_sum_6 : List UInt8 := dkwX0_sum_6 ++ []
def dkwX0_sum_5 : List UInt8 := [180, 0, 61, 21, 6, 46, 42, 180, 0, 58, 21, 6, 46, 100, 133, 97, 55, 4, 132, 6, 1, 167, 255, 176]
abbrev dktX0_sum_5 : List UInt8 := dkwX0_sum_5 ++ dktX0_sum_6
def dkwX0_sum_4 : List UInt8 := [182, 0, 208, 133, 167, 0, 35, 28, 5, 160, 0, 14, 42, 45, 21, 6, 182, 0, 201, 133, 167, 0, 19, 42]
abbrev dktX0_sum_4 : List UInt8 := dkwX0_sum_4 ++ dktX0_sum_5
def dkwX0_sum_3 : List UInt8 := [21, 6, 46, 2, 160, 0, 6, 167, 0, 57, 22, 4, 28, 4, 160, 0, 15, 42, 45, 21, 6, 4]
abbrev dktX0_sum_3 : List UInt8 := dkwX0_sum_3 ++ dktX0_sum_4
def dkwX0_sum_2 : List UInt8 := [182, 1, 5, 173, 9, 55, 4, 3, 54, 6, 21, 6, 45, 180, 0, 174, 162, 0, 77, 42, 180, 0, 61]
abbrev dktX0_sum_2 : List UInt8 := dkwX0_sum_2 ++ dktX0_sum_3
def dkwX0_sum_1 : List UInt8 := [42, 180, 0, 51, 27, 182, 0, 246, 192, 0, 3, 78, 42, 45, 182, 0, 253, 28, 154, 0, 9, 42, 45]
abbrev dktX0_sum_1 : List UInt8 := dkwX0_sum_1 ++ dktX0_sum_2
def dkwX0_sum_0 : List UInt8 := [42, 27, 182, 0, 243, 153, 0, 15, 28, 133, 9, 20, 1, 1, 184, 0, 119, 154, 0, 7, 20, 1, 3, 173]
abbrev dktX0_sum_0 : List UInt8 := dkwX0_sum_0 ++ dktX0_sum_1
theorem dksX0_sum_0 : cX0_sum.data.toList.drop 0 = dktX0_sum_0 := by decide +kernel
theorem dksX0_sum_1 : cX0_sum.data.toList.drop 24 = dktX0_sum_1 := dk_seg dksX0_sum_0 24 rfl rfl
theorem dksX0_sum_2 : cX0_sum.data.toList.drop 47 = dktX0_sum_2 := dk_seg dksX0_sum_1 23 rfl rfl
theorem dksX0_sum_3 : cX0_sum.data.toList.drop 70 = dktX0_sum_3 := dk_seg dksX0_sum_2 23 rfl rfl
theorem dksX0_sum_4 : cX0_sum.data.toList.drop 92 = dktX0_sum_4 := dk_seg dksX0_sum_3 22 rfl rfl
theorem dksX0_sum_5 : cX0_sum.data.toList.drop 116 = dktX0_sum_5 := dk_seg dksX0_sum_4 24 rfl rfl
theorem dksX0_sum_6 : cX0_sum.data.toList.drop 140 = dktX0_sum_6 := dk_seg dksX0_sum_5 24 rfl rfl
theorem dX0_sum_0 : decode cX0_sum 0 = .ok (.aload_n 0, 1) := dk_42 (dk_at dksX0_sum_0 0 rfl rfl)
theorem dX0_sum_1 : decode cX0_sum 1 = .ok (.iload_n 1, 1) := dk_27 (dk_at dksX0_sum_0 1 rfl rfl)
theorem dX0_sum_2 : decode cX0_sum 2 = .ok (.invokevirtual 243, 3) := dk_182 0 243 (dk_at dksX0_sum_0 2 rfl rfl)
theorem dX0_sum_5 : decode cX0_sum 5 = .ok (.ifCond .eq 15, 3) := dk_153 0 15 (dk_at dksX0_sum_0 5 rfl rfl)
theorem dX0_sum_8 : decode cX0_sum 8 = .ok (.iload_n 2, 1) := dk_28 (dk_at dksX0_sum_0 8 rfl rfl)
theorem dX0_sum_9 : decode cX0_sum 9 = .ok (.i2l, 1) := dk_133 (dk_at dksX0_sum_0 9 rfl rfl)
theorem dX0_sum_10 : decode cX0_sum 10 = .ok (.lconst 0, 1) := dk_9 (dk_at dksX0_sum_0 10 rfl rfl)
theorem dX0_sum_11 : decode cX0_sum 11 = .ok (.ldc2_w 257, 3) := dk_20 1 1 (dk_at dksX0_sum_0 11 rfl rfl)
theorem dX0_sum_14 : decode cX0_sum 14 = .ok (.invokestatic 119, 3) := dk_184 0 119 (dk_at dksX0_sum_0 14 rfl rfl)
theorem dX0_sum_17 : decode cX0_sum 17 = .ok (.ifCond .ne 7, 3) := dk_154 0 7 (dk_at dksX0_sum_0 17 rfl rfl)
theorem dX0_sum_20 : decode cX0_sum 20 = .ok (.ldc2_w 259, 3) := dk_20 1 3 (dk_at dksX0_sum_0 20 rfl rfl)
theorem dX0_sum_23 : decode cX0_sum 23 = .ok (.lreturn, 1) := dk_173 (dk_at dksX0_sum_0 23 rfl rfl)
theorem dX0_sum_24 : decode cX0_sum 24 = .ok (.aload_n 0, 1) := dk_42 (dk_at dksX0_sum_1 0 rfl rfl)
theorem dX0_sum_25 : decode cX0_sum 25 = .ok (.getfield 51, 3) := dk_180 0 51 (dk_at dksX0_sum_1 1 rfl rfl)
theorem dX0_sum_28 : decode cX0_sum 28 = .ok (.iload_n 1, 1) := dk_27 (dk_at dksX0_sum_1 4 rfl rfl)
theorem dX0_sum_29 : decode cX0_sum 29 = .ok (.invokevirtual 246, 3) := dk_182 0 246 (dk_at dksX0_sum_1 5 rfl rfl)
theorem dX0_sum_32 : decode cX0_sum 32 = .ok (.checkcast 3, 3) := dk_192 0 3 (dk_at dksX0_sum_1 8 rfl rfl)
theorem dX0_sum_35 : decode cX0_sum 35 = .ok (.astore_n 3, 1) := dk_78 (dk_at dksX0_sum_1 11 rfl rfl)
theorem dX0_sum_36 : decode cX0_sum 36 = .ok (.aload_n 0, 1) := dk_42 (dk_at dksX0_sum_1 12 rfl rfl)
theorem dX0_sum_37 : decode cX0_sum 37 = .ok (.aload_n 3, 1) := dk_45 (dk_at dksX0_sum_1 13 rfl rfl)
theorem dX0_sum_38 : decode cX0_sum 38 = .ok (.invokevirtual 253, 3) := dk_182 0 253 (dk_at dksX0_sum_1 14 rfl rfl)
theorem dX0_sum_41 : decode cX0_sum 41 = .ok (.iload_n 2, 1) := dk_28 (dk_at dksX0_sum_1 17 rfl rfl)
theorem dX0_sum_42 : decode cX0_sum 42 = .ok (.ifCond .ne 9, 3) := dk_154 0 9 (dk_at dksX0_sum_1 18 rfl rfl)
theorem dX0_sum_45 : decode cX0_sum 45 = .ok (.aload_n 0, 1) := dk_42 (dk_at dksX0_sum_1 21 rfl rfl)
theorem dX0_sum_46 : decode cX0_sum 46 = .ok (.aload_n 3, 1) := dk_45 (dk_at dksX0_sum_1 22 rfl rfl)
theorem dX0_sum_47 : decode cX0_sum 47 = .ok (.invokevirtual 261, 3) := dk_182 1 5 (dk_at dksX0_sum_2 0 rfl rfl)
theorem dX0_sum_50 : decode cX0_sum 50 = .ok (.lreturn, 1) := dk_173 (dk_at dksX0_sum_2 3 rfl rfl)
theorem dX0_sum_51 : decode cX0_sum 51 = .ok (.lconst 0, 1) := dk_9 (dk_at dksX0_sum_2 4 rfl rfl)
theorem dX0_sum_52 : decode cX0_sum 52 = .ok (.lstore 4, 2) := dk_55 4 (dk_at dksX0_sum_2 5 rfl rfl)
theorem dX0_sum_54 : decode cX0_sum 54 = .ok (.iconst 0, 1) := dk_3 (dk_at dksX0_sum_2 7 rfl rfl)
theorem dX0_sum_55 : decode cX0_sum 55 = .ok (.istore 6, 2) := dk_54 6 (dk_at dksX0_sum_2 8 rfl rfl)
theorem dX0_sum_57 : decode cX0_sum 57 = .ok (.iload 6, 2) := dk_21 6 (dk_at dksX0_sum_2 10 rfl rfl)
theorem dX0_sum_59 : decode cX0_sum 59 = .ok (.aload_n 3, 1) := dk_45 (dk_at dksX0_sum_2 12 rfl rfl)
theorem dX0_sum_60 : decode cX0_sum 60 = .ok (.getfield 174, 3) := dk_180 0 174 (dk_at dksX0_sum_2 13 rfl rfl)
theorem dX0_sum_63 : decode cX0_sum 63 = .ok (.if_icmp .ge 77, 3) := dk_162 0 77 (dk_at dksX0_sum_2 16 rfl rfl)
theorem dX0_sum_66 : decode cX0_sum 66 = .ok (.aload_n 0, 1) := dk_42 (dk_at dksX0_sum_2 19 rfl rfl)
theorem dX0_sum_67 : decode cX0_sum 67 = .ok (.getfield 61, 3) := dk_180 0 61 (dk_at dksX0_sum_2 20 rfl rfl)
theorem dX0_sum_70 : decode cX0_sum 70 = .ok (.iload 6, 2) := dk_21 6 (dk_at dksX0_sum_3 0 rfl rfl)
theorem dX0_sum_72 : decode cX0_sum 72 = .ok (.iaload, 1) := dk_46 (dk_at dksX0_sum_3 2 rfl rfl)
theorem dX0_sum_73 : decode cX0_sum 73 = .ok (.iconst (-1), 1) := dk_2 (dk_at dksX0_sum_3 3 rfl rfl)
theorem dX0_sum_74 : decode cX0_sum 74 = .ok (.if_icmp .ne 6, 3) := dk_160 0 6 (dk_at dksX0_sum_3 4 rfl rfl)
theorem dX0_sum_77 : decode cX0_sum 77 = .ok (.goto 57, 3) := dk_167 0 57 (dk_at dksX0_sum_3 7 rfl rfl)
theorem dX0_sum_80 : decode cX0_sum 80 = .ok (.lload 4, 2) := dk_22 4 (dk_at dksX0_sum_3 10 rfl rfl)
theorem dX0_sum_82 : decode cX0_sum 82 = .ok (.iload_n 2, 1) := dk_28 (dk_at dksX0_sum_3 12 rfl rfl)
theorem dX0_sum_83 : decode cX0_sum 83 = .ok (.iconst 1, 1) := dk_4 (dk_at dksX0_sum_3 13 rfl rfl)
theorem dX0_sum_84 : decode cX0_sum 84 = .ok (.if_icmp .ne 15, 3) := dk_160 0 15 (dk_at dksX0_sum_3 14 rfl rfl)
theorem dX0_sum_87 : decode cX0_sum 87 = .ok (.aload_n 0, 1) := dk_42 (dk_at dksX0_sum_3 17 rfl rfl)
theorem dX0_sum_88 : decode cX0_sum 88 = .ok (.aload_n 3, 1) := dk_45 (dk_at dksX0_sum_3 18 rfl rfl)
theorem dX0_sum_89 : decode cX0_sum 89 = .ok (.iload 6, 2) := dk_21 6 (dk_at dksX0_sum_3 19 rfl rfl)
theorem dX0_sum_91 : decode cX0_sum 91 = .ok (.iconst 1, 1) := dk_4 (dk_at dksX0_sum_3 21 rfl rfl)
theorem dX0_sum_92 : decode cX0_sum 92 = .ok (.invokevirtual 208, 3) := dk_182 0 208 (dk_at dksX0_sum_4 0 rfl rfl)
theorem dX0_sum_95 : decode cX0_sum 95 = .ok (.i2l, 1) := dk_133 (dk_at dksX0_sum_4 3 rfl rfl)
theorem dX0_sum_96 : decode cX0_sum 96 = .ok (.goto 35, 3) := dk_167 0 35 (dk_at dksX0_sum_4 4 rfl rfl)
theorem dX0_sum_99 : decode cX0_sum 99 = .ok (.iload_n 2, 1) := dk_28 (dk_at dksX0_sum_4 7 rfl rfl)
theorem dX0_sum_100 : decode cX0_sum 100 = .ok (.iconst 2, 1) := dk_5 (dk_at dksX0_sum_4 8 rfl rfl)
theorem dX0_sum_101 : decode cX0_sum 101 = .ok (.if_icmp .ne 14, 3) := dk_160 0 14 (dk_at dksX0_sum_4 9 rfl rfl)
theorem dX0_sum_104 : decode cX0_sum 104 = .ok (.aload_n 0, 1) := dk_42 (dk_at dksX0_sum_4 12 rfl rfl)
theorem dX0_sum_105 : decode cX0_sum 105 = .ok (.aload_n 3, 1) := dk_45 (dk_at dksX0_sum_4 13 rfl rfl)
theorem dX0_sum_106 : decode cX0_sum 106 = .ok (.iload 6, 2) := dk_21 6 (dk_at dksX0_sum_4 14 rfl rfl)
theorem dX0_sum_108 : decode cX0_sum 108 = .ok (.invokevirtual 201, 3) := dk_182 0 201 (dk_at dksX0_sum_4 16 rfl rfl)
theorem dX0_sum_111 : decode cX0_sum 111 = .ok (.i2l, 1) := dk_133 (dk_at dksX0_sum_4 19 rfl rfl)
theorem dX0_sum_112 : decode cX0_sum 112 = .ok (.goto 19, 3) := dk_167 0 19 (dk_at dksX0_sum_4 20 rfl rfl)
theorem dX0_sum_115 : decode cX0_sum 115 = .ok (.aload_n 0, 1) := dk_42 (dk_at dksX0_sum_4 23 rfl rfl)
theorem dX0_sum_116 : decode cX0_sum 116 = .ok (.getfield 61, 3) := dk_180 0 61 (dk_at dksX0_sum_5 0 rfl rfl)
theorem dX0_sum_119 : decode cX0_sum 119 = .ok (.iload 6, 2) := dk_21 6 (dk_at dksX0_sum_5 3 rfl rfl)
theorem dX0_sum_121 : decode cX0_sum 121 = .ok (.iaload, 1) := dk_46 (dk_at dksX0_sum_5 5 rfl rfl)
theorem dX0_sum_122 : decode cX0_sum 122 = .ok (.aload_n 0, 1) := dk_42 (dk_at dksX0_sum_5 6 rfl rfl)
theorem dX0_sum_123 : decode cX0_sum 123 = .ok (.getfield 58, 3) := dk_180 0 58 (dk_at dksX0_sum_5 7 rfl rfl)
theorem dX0_sum_126 : decode cX0_sum 126 = .ok (.iload 6, 2) := dk_21 6 (dk_at dksX0_sum_5 10 rfl rfl)
theorem dX0_sum_128 : decode cX0_sum 128 = .ok (.iaload, 1) := dk_46 (dk_at dksX0_sum_5 12 rfl rfl)
theorem dX0_sum_129 : decode cX0_sum 129 = .ok (.isub, 1) := dk_100 (dk_at dksX0_sum_5 13 rfl rfl)
theorem dX0_sum_130 : decode cX0_sum 130 = .ok (.i2l, 1) := dk_133 (dk_at dksX0_sum_5 14 rfl rfl)
theorem dX0_sum_131 : decode cX0_sum 131 = .ok (.ladd, 1) := dk_97 (dk_at dksX0_sum_5 15 rfl rfl)
theorem dX0_sum_132 : decode cX0_sum 132 = .ok (.lstore 4, 2) := dk_55 4 (dk_at dksX0_sum_5 16 rfl rfl)
theorem dX0_sum_134 : decode cX0_sum 134 = .ok (.iinc 6 1, 3) := dk_132 6 1 (dk_at dksX0_sum_5 18 rfl rfl)
theorem dX0_sum_137 : decode cX0_sum 137 = .ok (.goto (-80), 3) := dk_167 255 176 (dk_at dksX0_sum_5 21 rfl rfl)
theorem dX0_sum_140 : decode cX0_sum 140 = .ok (.lload 4, 2) := dk_22 4 (dk_at dksX0_sum_6 0 rfl rfl)
theorem dX0_sum_142 : decode cX0_sum 142 = .ok (.lreturn, 1) := dk_173 (dk_at dksX0_sum_6 2 rfl rfl)
abbrev cX0_whole : ByteArray := prog_1_method_25_code
def yX0_whole : MethodName := ⟨RX0, "whole", "(LGateRoad$Way;)J"⟩
def dkwX0_whole_1 : List UInt8 := [65, 132, 4, 1, 167, 255, 233, 32, 173]
abbrev dktX0_whole_1 : List UInt8 := dkwX0_whole_1 ++ []
def dkwX0_whole_0 : List UInt8 := [9, 65, 3, 54, 4, 21, 4, 43, 180, 0, 174, 162, 0, 20, 32, 42, 43, 21, 4, 182, 0, 214, 133, 97]
abbrev dktX0_whole_0 : List UInt8 := dkwX0_whole_0 ++ dktX0_whole_1
theorem dksX0_whole_0 : cX0_whole.data.toList.drop 0 = dktX0_whole_0 := by decide +kernel
theorem dksX0_whole_1 : cX0_whole.data.toList.drop 24 = dktX0_whole_1 := dk_seg dksX0_whole_0 24 rfl rfl
theorem dX0_whole_0 : decode cX0_whole 0 = .ok (.lconst 0, 1) := dk_9 (dk_at dksX0_whole_0 0 rfl rfl)
theorem dX0_whole_1 : decode cX0_whole 1 = .ok (.lstore_n 2, 1) := dk_65 (dk_at dksX0_whole_0 1 rfl rfl)
theorem dX0_whole_2 : decode cX0_whole 2 = .ok (.iconst 0, 1) := dk_3 (dk_at dksX0_whole_0 2 rfl rfl)
theorem dX0_whole_3 : decode cX0_whole 3 = .ok (.istore 4, 2) := dk_54 4 (dk_at dksX0_whole_0 3 rfl rfl)
theorem dX0_whole_5 : decode cX0_whole 5 = .ok (.iload 4, 2) := dk_21 4 (dk_at dksX0_whole_0 5 rfl rfl)
theorem dX0_whole_7 : decode cX0_whole 7 = .ok (.aload_n 1, 1) := dk_43 (dk_at dksX0_whole_0 7 rfl rfl)
theorem dX0_whole_8 : decode cX0_whole 8 = .ok (.getfield 174, 3) := dk_180 0 174 (dk_at dksX0_whole_0 8 rfl rfl)
theorem dX0_whole_11 : decode cX0_whole 11 = .ok (.if_icmp .ge 20, 3) := dk_162 0 20 (dk_at dksX0_whole_0 11 rfl rfl)
theorem dX0_whole_14 : decode cX0_whole 14 = .ok (.lload_n 2, 1) := dk_32 (dk_at dksX0_whole_0 14 rfl rfl)
theorem dX0_whole_15 : decode cX0_whole 15 = .ok (.aload_n 0, 1) := dk_42 (dk_at dksX0_whole_0 15 rfl rfl)
theorem dX0_whole_16 : decode cX0_whole 16 = .ok (.aload_n 1, 1) := dk_43 (dk_at dksX0_whole_0 16 rfl rfl)
theorem dX0_whole_17 : decode cX0_whole 17 = .ok (.iload 4, 2) := dk_21 4 (dk_at dksX0_whole_0 17 rfl rfl)
theorem dX0_whole_19 : decode cX0_whole 19 = .ok (.invokevirtual 214, 3) := dk_182 0 214 (dk_at dksX0_whole_0 19 rfl rfl)
theorem dX0_whole_22 : decode cX0_whole 22 = .ok (.i2l, 1) := dk_133 (dk_at dksX0_whole_0 22 rfl rfl)
theorem dX0_whole_23 : decode cX0_whole 23 = .ok (.ladd, 1) := dk_97 (dk_at dksX0_whole_0 23 rfl rfl)
theorem dX0_whole_24 : decode cX0_whole 24 = .ok (.lstore_n 2, 1) := dk_65 (dk_at dksX0_whole_1 0 rfl rfl)
theorem dX0_whole_25 : decode cX0_whole 25 = .ok (.iinc 4 1, 3) := dk_132 4 1 (dk_at dksX0_whole_1 1 rfl rfl)
theorem dX0_whole_28 : decode cX0_whole 28 = .ok (.goto (-23), 3) := dk_167 255 233 (dk_at dksX0_whole_1 4 rfl rfl)
theorem dX0_whole_31 : decode cX0_whole 31 = .ok (.lload_n 2, 1) := dk_32 (dk_at dksX0_whole_1 7 rfl rfl)
theorem dX0_whole_32 : decode cX0_whole 32 = .ok (.lreturn, 1) := dk_173 (dk_at dksX0_whole_1 8 rfl rfl)
abbrev cX0_judge : ByteArray := prog_1_method_35_code
def yX0_judge : MethodName := ⟨RX0, "judge", "(II)I"⟩
def dkwX0_judge_3 : List UInt8 := [42, 180, 1, 12, 172]
abbrev dktX0_judge_3 : List UInt8 := dkwX0_judge_3 ++ []
def dkwX0_judge_2 : List UInt8 := [2, 167, 0, 27, 28, 154, 0, 7, 29, 167, 0, 19, 28, 4, 160, 0, 10, 42, 180, 1, 9, 167, 0, 7]
abbrev dktX0_judge_2 : List UInt8 := dkwX0_judge_2 ++ dktX0_judge_3
def dkwX0_judge_1 : List UInt8 := [16, 249, 172, 42, 42, 180, 0, 51, 27, 182, 0, 246, 192, 0, 3, 182, 1, 21, 62, 29, 2, 160, 0, 7]
abbrev dktX0_judge_1 : List UInt8 := dkwX0_judge_1 ++ dktX0_judge_2
def dkwX0_judge_0 : List UInt8 := [42, 27, 182, 0, 243, 154, 0, 6, 16, 251, 172, 28, 133, 9, 20, 1, 19, 184, 0, 119, 154, 0, 6]
abbrev dktX0_judge_0 : List UInt8 := dkwX0_judge_0 ++ dktX0_judge_1
theorem dksX0_judge_0 : cX0_judge.data.toList.drop 0 = dktX0_judge_0 := by decide +kernel
theorem dksX0_judge_1 : cX0_judge.data.toList.drop 23 = dktX0_judge_1 := dk_seg dksX0_judge_0 23 rfl rfl
theorem dksX0_judge_2 : cX0_judge.data.toList.drop 47 = dktX0_judge_2 := dk_seg dksX0_judge_1 24 rfl rfl
theorem dksX0_judge_3 : cX0_judge.data.toList.drop 71 = dktX0_judge_3 := dk_seg dksX0_judge_2 24 rfl rfl
theorem dX0_judge_0 : decode cX0_judge 0 = .ok (.aload_n 0, 1) := dk_42 (dk_at dksX0_judge_0 0 rfl rfl)
theorem dX0_judge_1 : decode cX0_judge 1 = .ok (.iload_n 1, 1) := dk_27 (dk_at dksX0_judge_0 1 rfl rfl)
theorem dX0_judge_2 : decode cX0_judge 2 = .ok (.invokevirtual 243, 3) := dk_182 0 243 (dk_at dksX0_judge_0 2 rfl rfl)
theorem dX0_judge_5 : decode cX0_judge 5 = .ok (.ifCond .ne 6, 3) := dk_154 0 6 (dk_at dksX0_judge_0 5 rfl rfl)
theorem dX0_judge_8 : decode cX0_judge 8 = .ok (.bipush (-5), 2) := dk_16 251 (dk_at dksX0_judge_0 8 rfl rfl)
theorem dX0_judge_10 : decode cX0_judge 10 = .ok (.ireturn, 1) := dk_172 (dk_at dksX0_judge_0 10 rfl rfl)
theorem dX0_judge_11 : decode cX0_judge 11 = .ok (.iload_n 2, 1) := dk_28 (dk_at dksX0_judge_0 11 rfl rfl)
theorem dX0_judge_12 : decode cX0_judge 12 = .ok (.i2l, 1) := dk_133 (dk_at dksX0_judge_0 12 rfl rfl)
theorem dX0_judge_13 : decode cX0_judge 13 = .ok (.lconst 0, 1) := dk_9 (dk_at dksX0_judge_0 13 rfl rfl)
theorem dX0_judge_14 : decode cX0_judge 14 = .ok (.ldc2_w 275, 3) := dk_20 1 19 (dk_at dksX0_judge_0 14 rfl rfl)
theorem dX0_judge_17 : decode cX0_judge 17 = .ok (.invokestatic 119, 3) := dk_184 0 119 (dk_at dksX0_judge_0 17 rfl rfl)
theorem dX0_judge_20 : decode cX0_judge 20 = .ok (.ifCond .ne 6, 3) := dk_154 0 6 (dk_at dksX0_judge_0 20 rfl rfl)
theorem dX0_judge_23 : decode cX0_judge 23 = .ok (.bipush (-7), 2) := dk_16 249 (dk_at dksX0_judge_1 0 rfl rfl)
theorem dX0_judge_25 : decode cX0_judge 25 = .ok (.ireturn, 1) := dk_172 (dk_at dksX0_judge_1 2 rfl rfl)
theorem dX0_judge_26 : decode cX0_judge 26 = .ok (.aload_n 0, 1) := dk_42 (dk_at dksX0_judge_1 3 rfl rfl)
theorem dX0_judge_27 : decode cX0_judge 27 = .ok (.aload_n 0, 1) := dk_42 (dk_at dksX0_judge_1 4 rfl rfl)
theorem dX0_judge_28 : decode cX0_judge 28 = .ok (.getfield 51, 3) := dk_180 0 51 (dk_at dksX0_judge_1 5 rfl rfl)
theorem dX0_judge_31 : decode cX0_judge 31 = .ok (.iload_n 1, 1) := dk_27 (dk_at dksX0_judge_1 8 rfl rfl)
theorem dX0_judge_32 : decode cX0_judge 32 = .ok (.invokevirtual 246, 3) := dk_182 0 246 (dk_at dksX0_judge_1 9 rfl rfl)
theorem dX0_judge_35 : decode cX0_judge 35 = .ok (.checkcast 3, 3) := dk_192 0 3 (dk_at dksX0_judge_1 12 rfl rfl)
theorem dX0_judge_38 : decode cX0_judge 38 = .ok (.invokevirtual 277, 3) := dk_182 1 21 (dk_at dksX0_judge_1 15 rfl rfl)
theorem dX0_judge_41 : decode cX0_judge 41 = .ok (.istore_n 3, 1) := dk_62 (dk_at dksX0_judge_1 18 rfl rfl)
theorem dX0_judge_42 : decode cX0_judge 42 = .ok (.iload_n 3, 1) := dk_29 (dk_at dksX0_judge_1 19 rfl rfl)
theorem dX0_judge_43 : decode cX0_judge 43 = .ok (.iconst (-1), 1) := dk_2 (dk_at dksX0_judge_1 20 rfl rfl)
theorem dX0_judge_44 : decode cX0_judge 44 = .ok (.if_icmp .ne 7, 3) := dk_160 0 7 (dk_at dksX0_judge_1 21 rfl rfl)
theorem dX0_judge_47 : decode cX0_judge 47 = .ok (.iconst (-1), 1) := dk_2 (dk_at dksX0_judge_2 0 rfl rfl)
theorem dX0_judge_48 : decode cX0_judge 48 = .ok (.goto 27, 3) := dk_167 0 27 (dk_at dksX0_judge_2 1 rfl rfl)
theorem dX0_judge_51 : decode cX0_judge 51 = .ok (.iload_n 2, 1) := dk_28 (dk_at dksX0_judge_2 4 rfl rfl)
theorem dX0_judge_52 : decode cX0_judge 52 = .ok (.ifCond .ne 7, 3) := dk_154 0 7 (dk_at dksX0_judge_2 5 rfl rfl)
theorem dX0_judge_55 : decode cX0_judge 55 = .ok (.iload_n 3, 1) := dk_29 (dk_at dksX0_judge_2 8 rfl rfl)
theorem dX0_judge_56 : decode cX0_judge 56 = .ok (.goto 19, 3) := dk_167 0 19 (dk_at dksX0_judge_2 9 rfl rfl)
theorem dX0_judge_59 : decode cX0_judge 59 = .ok (.iload_n 2, 1) := dk_28 (dk_at dksX0_judge_2 12 rfl rfl)
theorem dX0_judge_60 : decode cX0_judge 60 = .ok (.iconst 1, 1) := dk_4 (dk_at dksX0_judge_2 13 rfl rfl)
theorem dX0_judge_61 : decode cX0_judge 61 = .ok (.if_icmp .ne 10, 3) := dk_160 0 10 (dk_at dksX0_judge_2 14 rfl rfl)
theorem dX0_judge_64 : decode cX0_judge 64 = .ok (.aload_n 0, 1) := dk_42 (dk_at dksX0_judge_2 17 rfl rfl)
theorem dX0_judge_65 : decode cX0_judge 65 = .ok (.getfield 265, 3) := dk_180 1 9 (dk_at dksX0_judge_2 18 rfl rfl)
theorem dX0_judge_68 : decode cX0_judge 68 = .ok (.goto 7, 3) := dk_167 0 7 (dk_at dksX0_judge_2 21 rfl rfl)
theorem dX0_judge_71 : decode cX0_judge 71 = .ok (.aload_n 0, 1) := dk_42 (dk_at dksX0_judge_3 0 rfl rfl)
theorem dX0_judge_72 : decode cX0_judge 72 = .ok (.getfield 268, 3) := dk_180 1 12 (dk_at dksX0_judge_3 1 rfl rfl)
theorem dX0_judge_75 : decode cX0_judge 75 = .ok (.ireturn, 1) := dk_172 (dk_at dksX0_judge_3 4 rfl rfl)
abbrev cX0_restless : ByteArray := prog_1_method_34_code
def yX0_restless : MethodName := ⟨RX0, "restless", "(LGateRoad$Way;)I"⟩
def dkwX0_restless_1 : List UInt8 := [167, 255, 234, 2, 172]
abbrev dktX0_restless_1 : List UInt8 := dkwX0_restless_1 ++ []
def dkwX0_restless_0 : List UInt8 := [3, 61, 28, 43, 180, 0, 174, 162, 0, 20, 42, 43, 28, 182, 1, 15, 153, 0, 5, 28, 172, 132, 2, 1]
abbrev dktX0_restless_0 : List UInt8 := dkwX0_restless_0 ++ dktX0_restless_1
theorem dksX0_restless_0 : cX0_restless.data.toList.drop 0 = dktX0_restless_0 := by decide +kernel
theorem dksX0_restless_1 : cX0_restless.data.toList.drop 24 = dktX0_restless_1 := dk_seg dksX0_restless_0 24 rfl rfl
theorem dX0_restless_0 : decode cX0_restless 0 = .ok (.iconst 0, 1) := dk_3 (dk_at dksX0_restless_0 0 rfl rfl)
theorem dX0_restless_1 : decode cX0_restless 1 = .ok (.istore_n 2, 1) := dk_61 (dk_at dksX0_restless_0 1 rfl rfl)
theorem dX0_restless_2 : decode cX0_restless 2 = .ok (.iload_n 2, 1) := dk_28 (dk_at dksX0_restless_0 2 rfl rfl)
theorem dX0_restless_3 : decode cX0_restless 3 = .ok (.aload_n 1, 1) := dk_43 (dk_at dksX0_restless_0 3 rfl rfl)
theorem dX0_restless_4 : decode cX0_restless 4 = .ok (.getfield 174, 3) := dk_180 0 174 (dk_at dksX0_restless_0 4 rfl rfl)
theorem dX0_restless_7 : decode cX0_restless 7 = .ok (.if_icmp .ge 20, 3) := dk_162 0 20 (dk_at dksX0_restless_0 7 rfl rfl)
theorem dX0_restless_10 : decode cX0_restless 10 = .ok (.aload_n 0, 1) := dk_42 (dk_at dksX0_restless_0 10 rfl rfl)
theorem dX0_restless_11 : decode cX0_restless 11 = .ok (.aload_n 1, 1) := dk_43 (dk_at dksX0_restless_0 11 rfl rfl)
theorem dX0_restless_12 : decode cX0_restless 12 = .ok (.iload_n 2, 1) := dk_28 (dk_at dksX0_restless_0 12 rfl rfl)
theorem dX0_restless_13 : decode cX0_restless 13 = .ok (.invokevirtual 271, 3) := dk_182 1 15 (dk_at dksX0_restless_0 13 rfl rfl)
theorem dX0_restless_16 : decode cX0_restless 16 = .ok (.ifCond .eq 5, 3) := dk_153 0 5 (dk_at dksX0_restless_0 16 rfl rfl)
theorem dX0_restless_19 : decode cX0_restless 19 = .ok (.iload_n 2, 1) := dk_28 (dk_at dksX0_restless_0 19 rfl rfl)
theorem dX0_restless_20 : decode cX0_restless 20 = .ok (.ireturn, 1) := dk_172 (dk_at dksX0_restless_0 20 rfl rfl)
theorem dX0_restless_21 : decode cX0_restless 21 = .ok (.iinc 2 1, 3) := dk_132 2 1 (dk_at dksX0_restless_0 21 rfl rfl)
theorem dX0_restless_24 : decode cX0_restless 24 = .ok (.goto (-22), 3) := dk_167 255 234 (dk_at dksX0_restless_1 0 rfl rfl)
theorem dX0_restless_27 : decode cX0_restless 27 = .ok (.iconst (-1), 1) := dk_2 (dk_at dksX0_restless_1 3 rfl rfl)
theorem dX0_restless_28 : decode cX0_restless 28 = .ok (.ireturn, 1) := dk_172 (dk_at dksX0_restless_1 4 rfl rfl)
abbrev cX0_betters : ByteArray := prog_1_method_33_code
def yX0_betters : MethodName := ⟨RX0, "betters", "(LGateRoad$Way;I)Z"⟩
def dkwX0_betters_5 : List UInt8 := [42, 21, 4, 21, 5, 100, 181, 1, 12, 42, 180, 1, 12, 158, 0, 7, 4, 167, 0, 4, 3, 172]
abbrev dktX0_betters_5 : List UInt8 := dkwX0_betters_5 ++ []
def dkwX0_betters_4 : List UInt8 := [43, 180, 0, 175, 28, 29, 145, 84, 167, 0, 16, 58, 8, 43, 180, 0, 175, 28, 29, 145, 84, 25, 8, 191]
abbrev dktX0_betters_4 : List UInt8 := dkwX0_betters_4 ++ dktX0_betters_5
def dkwX0_betters_3 : List UInt8 := [21, 5, 161, 0, 6, 167, 0, 13, 21, 7, 54, 5, 42, 21, 6, 181, 1, 9, 132, 6, 1, 167, 255, 195]
abbrev dktX0_betters_3 : List UInt8 := dkwX0_betters_3 ++ dktX0_betters_4
def dkwX0_betters_2 : List UInt8 := [43, 180, 0, 175, 28, 21, 6, 145, 84, 42, 43, 182, 0, 253, 42, 43, 28, 182, 0, 214, 54, 7, 21, 7]
abbrev dktX0_betters_2 : List UInt8 := dkwX0_betters_2 ++ dktX0_betters_3
def dkwX0_betters_1 : List UInt8 := [42, 29, 181, 1, 9, 3, 54, 6, 21, 6, 16, 48, 163, 0, 60, 21, 6, 29, 160, 0, 6, 167, 0, 45]
abbrev dktX0_betters_1 : List UInt8 := dkwX0_betters_1 ++ dktX0_betters_2
def dkwX0_betters_0 : List UInt8 := [43, 180, 0, 175, 28, 51, 62, 42, 43, 182, 0, 253, 42, 43, 28, 182, 0, 214, 54, 4, 21, 4, 54, 5]
abbrev dktX0_betters_0 : List UInt8 := dkwX0_betters_0 ++ dktX0_betters_1
theorem dksX0_betters_0 : cX0_betters.data.toList.drop 0 = dktX0_betters_0 := by decide +kernel
theorem dksX0_betters_1 : cX0_betters.data.toList.drop 24 = dktX0_betters_1 := dk_seg dksX0_betters_0 24 rfl rfl
theorem dksX0_betters_2 : cX0_betters.data.toList.drop 48 = dktX0_betters_2 := dk_seg dksX0_betters_1 24 rfl rfl
theorem dksX0_betters_3 : cX0_betters.data.toList.drop 72 = dktX0_betters_3 := dk_seg dksX0_betters_2 24 rfl rfl
theorem dksX0_betters_4 : cX0_betters.data.toList.drop 96 = dktX0_betters_4 := dk_seg dksX0_betters_3 24 rfl rfl
theorem dksX0_betters_5 : cX0_betters.data.toList.drop 120 = dktX0_betters_5 := dk_seg dksX0_betters_4 24 rfl rfl
theorem dX0_betters_0 : decode cX0_betters 0 = .ok (.aload_n 1, 1) := dk_43 (dk_at dksX0_betters_0 0 rfl rfl)
theorem dX0_betters_1 : decode cX0_betters 1 = .ok (.getfield 175, 3) := dk_180 0 175 (dk_at dksX0_betters_0 1 rfl rfl)
theorem dX0_betters_4 : decode cX0_betters 4 = .ok (.iload_n 2, 1) := dk_28 (dk_at dksX0_betters_0 4 rfl rfl)
theorem dX0_betters_5 : decode cX0_betters 5 = .ok (.baload, 1) := dk_51 (dk_at dksX0_betters_0 5 rfl rfl)
theorem dX0_betters_6 : decode cX0_betters 6 = .ok (.istore_n 3, 1) := dk_62 (dk_at dksX0_betters_0 6 rfl rfl)
theorem dX0_betters_7 : decode cX0_betters 7 = .ok (.aload_n 0, 1) := dk_42 (dk_at dksX0_betters_0 7 rfl rfl)
theorem dX0_betters_8 : decode cX0_betters 8 = .ok (.aload_n 1, 1) := dk_43 (dk_at dksX0_betters_0 8 rfl rfl)
theorem dX0_betters_9 : decode cX0_betters 9 = .ok (.invokevirtual 253, 3) := dk_182 0 253 (dk_at dksX0_betters_0 9 rfl rfl)
theorem dX0_betters_12 : decode cX0_betters 12 = .ok (.aload_n 0, 1) := dk_42 (dk_at dksX0_betters_0 12 rfl rfl)
theorem dX0_betters_13 : decode cX0_betters 13 = .ok (.aload_n 1, 1) := dk_43 (dk_at dksX0_betters_0 13 rfl rfl)
theorem dX0_betters_14 : decode cX0_betters 14 = .ok (.iload_n 2, 1) := dk_28 (dk_at dksX0_betters_0 14 rfl rfl)
theorem dX0_betters_15 : decode cX0_betters 15 = .ok (.invokevirtual 214, 3) := dk_182 0 214 (dk_at dksX0_betters_0 15 rfl rfl)
theorem dX0_betters_18 : decode cX0_betters 18 = .ok (.istore 4, 2) := dk_54 4 (dk_at dksX0_betters_0 18 rfl rfl)
theorem dX0_betters_20 : decode cX0_betters 20 = .ok (.iload 4, 2) := dk_21 4 (dk_at dksX0_betters_0 20 rfl rfl)
theorem dX0_betters_22 : decode cX0_betters 22 = .ok (.istore 5, 2) := dk_54 5 (dk_at dksX0_betters_0 22 rfl rfl)
theorem dX0_betters_24 : decode cX0_betters 24 = .ok (.aload_n 0, 1) := dk_42 (dk_at dksX0_betters_1 0 rfl rfl)
theorem dX0_betters_25 : decode cX0_betters 25 = .ok (.iload_n 3, 1) := dk_29 (dk_at dksX0_betters_1 1 rfl rfl)
theorem dX0_betters_26 : decode cX0_betters 26 = .ok (.putfield 265, 3) := dk_181 1 9 (dk_at dksX0_betters_1 2 rfl rfl)
theorem dX0_betters_29 : decode cX0_betters 29 = .ok (.iconst 0, 1) := dk_3 (dk_at dksX0_betters_1 5 rfl rfl)
theorem dX0_betters_30 : decode cX0_betters 30 = .ok (.istore 6, 2) := dk_54 6 (dk_at dksX0_betters_1 6 rfl rfl)
theorem dX0_betters_32 : decode cX0_betters 32 = .ok (.iload 6, 2) := dk_21 6 (dk_at dksX0_betters_1 8 rfl rfl)
theorem dX0_betters_34 : decode cX0_betters 34 = .ok (.bipush 48, 2) := dk_16 48 (dk_at dksX0_betters_1 10 rfl rfl)
theorem dX0_betters_36 : decode cX0_betters 36 = .ok (.if_icmp .gt 60, 3) := dk_163 0 60 (dk_at dksX0_betters_1 12 rfl rfl)
theorem dX0_betters_39 : decode cX0_betters 39 = .ok (.iload 6, 2) := dk_21 6 (dk_at dksX0_betters_1 15 rfl rfl)
theorem dX0_betters_41 : decode cX0_betters 41 = .ok (.iload_n 3, 1) := dk_29 (dk_at dksX0_betters_1 17 rfl rfl)
theorem dX0_betters_42 : decode cX0_betters 42 = .ok (.if_icmp .ne 6, 3) := dk_160 0 6 (dk_at dksX0_betters_1 18 rfl rfl)
theorem dX0_betters_45 : decode cX0_betters 45 = .ok (.goto 45, 3) := dk_167 0 45 (dk_at dksX0_betters_1 21 rfl rfl)
theorem dX0_betters_48 : decode cX0_betters 48 = .ok (.aload_n 1, 1) := dk_43 (dk_at dksX0_betters_2 0 rfl rfl)
theorem dX0_betters_49 : decode cX0_betters 49 = .ok (.getfield 175, 3) := dk_180 0 175 (dk_at dksX0_betters_2 1 rfl rfl)
theorem dX0_betters_52 : decode cX0_betters 52 = .ok (.iload_n 2, 1) := dk_28 (dk_at dksX0_betters_2 4 rfl rfl)
theorem dX0_betters_53 : decode cX0_betters 53 = .ok (.iload 6, 2) := dk_21 6 (dk_at dksX0_betters_2 5 rfl rfl)
theorem dX0_betters_55 : decode cX0_betters 55 = .ok (.i2b, 1) := dk_145 (dk_at dksX0_betters_2 7 rfl rfl)
theorem dX0_betters_56 : decode cX0_betters 56 = .ok (.bastore, 1) := dk_84 (dk_at dksX0_betters_2 8 rfl rfl)
theorem dX0_betters_57 : decode cX0_betters 57 = .ok (.aload_n 0, 1) := dk_42 (dk_at dksX0_betters_2 9 rfl rfl)
theorem dX0_betters_58 : decode cX0_betters 58 = .ok (.aload_n 1, 1) := dk_43 (dk_at dksX0_betters_2 10 rfl rfl)
theorem dX0_betters_59 : decode cX0_betters 59 = .ok (.invokevirtual 253, 3) := dk_182 0 253 (dk_at dksX0_betters_2 11 rfl rfl)
theorem dX0_betters_62 : decode cX0_betters 62 = .ok (.aload_n 0, 1) := dk_42 (dk_at dksX0_betters_2 14 rfl rfl)
theorem dX0_betters_63 : decode cX0_betters 63 = .ok (.aload_n 1, 1) := dk_43 (dk_at dksX0_betters_2 15 rfl rfl)
theorem dX0_betters_64 : decode cX0_betters 64 = .ok (.iload_n 2, 1) := dk_28 (dk_at dksX0_betters_2 16 rfl rfl)
theorem dX0_betters_65 : decode cX0_betters 65 = .ok (.invokevirtual 214, 3) := dk_182 0 214 (dk_at dksX0_betters_2 17 rfl rfl)
theorem dX0_betters_68 : decode cX0_betters 68 = .ok (.istore 7, 2) := dk_54 7 (dk_at dksX0_betters_2 20 rfl rfl)
theorem dX0_betters_70 : decode cX0_betters 70 = .ok (.iload 7, 2) := dk_21 7 (dk_at dksX0_betters_2 22 rfl rfl)
theorem dX0_betters_72 : decode cX0_betters 72 = .ok (.iload 5, 2) := dk_21 5 (dk_at dksX0_betters_3 0 rfl rfl)
theorem dX0_betters_74 : decode cX0_betters 74 = .ok (.if_icmp .lt 6, 3) := dk_161 0 6 (dk_at dksX0_betters_3 2 rfl rfl)
theorem dX0_betters_77 : decode cX0_betters 77 = .ok (.goto 13, 3) := dk_167 0 13 (dk_at dksX0_betters_3 5 rfl rfl)
theorem dX0_betters_80 : decode cX0_betters 80 = .ok (.iload 7, 2) := dk_21 7 (dk_at dksX0_betters_3 8 rfl rfl)
theorem dX0_betters_82 : decode cX0_betters 82 = .ok (.istore 5, 2) := dk_54 5 (dk_at dksX0_betters_3 10 rfl rfl)
theorem dX0_betters_84 : decode cX0_betters 84 = .ok (.aload_n 0, 1) := dk_42 (dk_at dksX0_betters_3 12 rfl rfl)
theorem dX0_betters_85 : decode cX0_betters 85 = .ok (.iload 6, 2) := dk_21 6 (dk_at dksX0_betters_3 13 rfl rfl)
theorem dX0_betters_87 : decode cX0_betters 87 = .ok (.putfield 265, 3) := dk_181 1 9 (dk_at dksX0_betters_3 15 rfl rfl)
theorem dX0_betters_90 : decode cX0_betters 90 = .ok (.iinc 6 1, 3) := dk_132 6 1 (dk_at dksX0_betters_3 18 rfl rfl)
theorem dX0_betters_93 : decode cX0_betters 93 = .ok (.goto (-61), 3) := dk_167 255 195 (dk_at dksX0_betters_3 21 rfl rfl)
theorem dX0_betters_96 : decode cX0_betters 96 = .ok (.aload_n 1, 1) := dk_43 (dk_at dksX0_betters_4 0 rfl rfl)
theorem dX0_betters_97 : decode cX0_betters 97 = .ok (.getfield 175, 3) := dk_180 0 175 (dk_at dksX0_betters_4 1 rfl rfl)
theorem dX0_betters_100 : decode cX0_betters 100 = .ok (.iload_n 2, 1) := dk_28 (dk_at dksX0_betters_4 4 rfl rfl)
theorem dX0_betters_101 : decode cX0_betters 101 = .ok (.iload_n 3, 1) := dk_29 (dk_at dksX0_betters_4 5 rfl rfl)
theorem dX0_betters_102 : decode cX0_betters 102 = .ok (.i2b, 1) := dk_145 (dk_at dksX0_betters_4 6 rfl rfl)
theorem dX0_betters_103 : decode cX0_betters 103 = .ok (.bastore, 1) := dk_84 (dk_at dksX0_betters_4 7 rfl rfl)
theorem dX0_betters_104 : decode cX0_betters 104 = .ok (.goto 16, 3) := dk_167 0 16 (dk_at dksX0_betters_4 8 rfl rfl)
theorem dX0_betters_107 : decode cX0_betters 107 = .ok (.astore 8, 2) := dk_58 8 (dk_at dksX0_betters_4 11 rfl rfl)
theorem dX0_betters_109 : decode cX0_betters 109 = .ok (.aload_n 1, 1) := dk_43 (dk_at dksX0_betters_4 13 rfl rfl)
theorem dX0_betters_110 : decode cX0_betters 110 = .ok (.getfield 175, 3) := dk_180 0 175 (dk_at dksX0_betters_4 14 rfl rfl)
theorem dX0_betters_113 : decode cX0_betters 113 = .ok (.iload_n 2, 1) := dk_28 (dk_at dksX0_betters_4 17 rfl rfl)
theorem dX0_betters_114 : decode cX0_betters 114 = .ok (.iload_n 3, 1) := dk_29 (dk_at dksX0_betters_4 18 rfl rfl)
theorem dX0_betters_115 : decode cX0_betters 115 = .ok (.i2b, 1) := dk_145 (dk_at dksX0_betters_4 19 rfl rfl)
theorem dX0_betters_116 : decode cX0_betters 116 = .ok (.bastore, 1) := dk_84 (dk_at dksX0_betters_4 20 rfl rfl)
theorem dX0_betters_117 : decode cX0_betters 117 = .ok (.aload 8, 2) := dk_25 8 (dk_at dksX0_betters_4 21 rfl rfl)
theorem dX0_betters_119 : decode cX0_betters 119 = .ok (.athrow, 1) := dk_191 (dk_at dksX0_betters_4 23 rfl rfl)
theorem dX0_betters_120 : decode cX0_betters 120 = .ok (.aload_n 0, 1) := dk_42 (dk_at dksX0_betters_5 0 rfl rfl)
theorem dX0_betters_121 : decode cX0_betters 121 = .ok (.iload 4, 2) := dk_21 4 (dk_at dksX0_betters_5 1 rfl rfl)
theorem dX0_betters_123 : decode cX0_betters 123 = .ok (.iload 5, 2) := dk_21 5 (dk_at dksX0_betters_5 3 rfl rfl)
theorem dX0_betters_125 : decode cX0_betters 125 = .ok (.isub, 1) := dk_100 (dk_at dksX0_betters_5 5 rfl rfl)
theorem dX0_betters_126 : decode cX0_betters 126 = .ok (.putfield 268, 3) := dk_181 1 12 (dk_at dksX0_betters_5 6 rfl rfl)
theorem dX0_betters_129 : decode cX0_betters 129 = .ok (.aload_n 0, 1) := dk_42 (dk_at dksX0_betters_5 9 rfl rfl)
theorem dX0_betters_130 : decode cX0_betters 130 = .ok (.getfield 268, 3) := dk_180 1 12 (dk_at dksX0_betters_5 10 rfl rfl)
theorem dX0_betters_133 : decode cX0_betters 133 = .ok (.ifCond .le 7, 3) := dk_158 0 7 (dk_at dksX0_betters_5 13 rfl rfl)
theorem dX0_betters_136 : decode cX0_betters 136 = .ok (.iconst 1, 1) := dk_4 (dk_at dksX0_betters_5 16 rfl rfl)
theorem dX0_betters_137 : decode cX0_betters 137 = .ok (.goto 4, 3) := dk_167 0 4 (dk_at dksX0_betters_5 17 rfl rfl)
theorem dX0_betters_140 : decode cX0_betters 140 = .ok (.iconst 0, 1) := dk_3 (dk_at dksX0_betters_5 20 rfl rfl)
theorem dX0_betters_141 : decode cX0_betters 141 = .ok (.ireturn, 1) := dk_172 (dk_at dksX0_betters_5 21 rfl rfl)
abbrev cX0_rest : ByteArray := prog_1_method_37_code
def yX0_rest : MethodName := ⟨RX0, "rest", "(II)I"⟩
def dkwX0_rest_1 : List UInt8 := [16, 249, 172, 42, 42, 180, 0, 51, 27, 182, 0, 246, 192, 0, 3, 28, 182, 1, 27, 172]
abbrev dktX0_rest_1 : List UInt8 := dkwX0_rest_1 ++ []
def dkwX0_rest_0 : List UInt8 := [42, 27, 182, 0, 243, 154, 0, 6, 16, 251, 172, 28, 133, 9, 20, 1, 25, 184, 0, 119, 154, 0, 6]
abbrev dktX0_rest_0 : List UInt8 := dkwX0_rest_0 ++ dktX0_rest_1
theorem dksX0_rest_0 : cX0_rest.data.toList.drop 0 = dktX0_rest_0 := by decide +kernel
theorem dksX0_rest_1 : cX0_rest.data.toList.drop 23 = dktX0_rest_1 := dk_seg dksX0_rest_0 23 rfl rfl
theorem dX0_rest_0 : decode cX0_rest 0 = .ok (.aload_n 0, 1) := dk_42 (dk_at dksX0_rest_0 0 rfl rfl)
theorem dX0_rest_1 : decode cX0_rest 1 = .ok (.iload_n 1, 1) := dk_27 (dk_at dksX0_rest_0 1 rfl rfl)
theorem dX0_rest_2 : decode cX0_rest 2 = .ok (.invokevirtual 243, 3) := dk_182 0 243 (dk_at dksX0_rest_0 2 rfl rfl)
theorem dX0_rest_5 : decode cX0_rest 5 = .ok (.ifCond .ne 6, 3) := dk_154 0 6 (dk_at dksX0_rest_0 5 rfl rfl)
theorem dX0_rest_8 : decode cX0_rest 8 = .ok (.bipush (-5), 2) := dk_16 251 (dk_at dksX0_rest_0 8 rfl rfl)
theorem dX0_rest_10 : decode cX0_rest 10 = .ok (.ireturn, 1) := dk_172 (dk_at dksX0_rest_0 10 rfl rfl)
theorem dX0_rest_11 : decode cX0_rest 11 = .ok (.iload_n 2, 1) := dk_28 (dk_at dksX0_rest_0 11 rfl rfl)
theorem dX0_rest_12 : decode cX0_rest 12 = .ok (.i2l, 1) := dk_133 (dk_at dksX0_rest_0 12 rfl rfl)
theorem dX0_rest_13 : decode cX0_rest 13 = .ok (.lconst 0, 1) := dk_9 (dk_at dksX0_rest_0 13 rfl rfl)
theorem dX0_rest_14 : decode cX0_rest 14 = .ok (.ldc2_w 281, 3) := dk_20 1 25 (dk_at dksX0_rest_0 14 rfl rfl)
theorem dX0_rest_17 : decode cX0_rest 17 = .ok (.invokestatic 119, 3) := dk_184 0 119 (dk_at dksX0_rest_0 17 rfl rfl)
theorem dX0_rest_20 : decode cX0_rest 20 = .ok (.ifCond .ne 6, 3) := dk_154 0 6 (dk_at dksX0_rest_0 20 rfl rfl)
theorem dX0_rest_23 : decode cX0_rest 23 = .ok (.bipush (-7), 2) := dk_16 249 (dk_at dksX0_rest_1 0 rfl rfl)
theorem dX0_rest_25 : decode cX0_rest 25 = .ok (.ireturn, 1) := dk_172 (dk_at dksX0_rest_1 2 rfl rfl)
theorem dX0_rest_26 : decode cX0_rest 26 = .ok (.aload_n 0, 1) := dk_42 (dk_at dksX0_rest_1 3 rfl rfl)
theorem dX0_rest_27 : decode cX0_rest 27 = .ok (.aload_n 0, 1) := dk_42 (dk_at dksX0_rest_1 4 rfl rfl)
theorem dX0_rest_28 : decode cX0_rest 28 = .ok (.getfield 51, 3) := dk_180 0 51 (dk_at dksX0_rest_1 5 rfl rfl)
theorem dX0_rest_31 : decode cX0_rest 31 = .ok (.iload_n 1, 1) := dk_27 (dk_at dksX0_rest_1 8 rfl rfl)
theorem dX0_rest_32 : decode cX0_rest 32 = .ok (.invokevirtual 246, 3) := dk_182 0 246 (dk_at dksX0_rest_1 9 rfl rfl)
theorem dX0_rest_35 : decode cX0_rest 35 = .ok (.checkcast 3, 3) := dk_192 0 3 (dk_at dksX0_rest_1 12 rfl rfl)
theorem dX0_rest_38 : decode cX0_rest 38 = .ok (.iload_n 2, 1) := dk_28 (dk_at dksX0_rest_1 15 rfl rfl)
theorem dX0_rest_39 : decode cX0_rest 39 = .ok (.invokevirtual 283, 3) := dk_182 1 27 (dk_at dksX0_rest_1 16 rfl rfl)
theorem dX0_rest_42 : decode cX0_rest 42 = .ok (.ireturn, 1) := dk_172 (dk_at dksX0_rest_1 19 rfl rfl)
abbrev cX0_moves : ByteArray := prog_1_method_36_code
def yX0_moves : MethodName := ⟨RX0, "moves", "(LGateRoad$Way;I)I"⟩
def dkwX0_moves_1 : List UInt8 := [180, 0, 175, 21, 4, 42, 180, 1, 9, 145, 84, 132, 3, 1, 167, 255, 221, 28, 172]
abbrev dktX0_moves_1 : List UInt8 := dkwX0_moves_1 ++ []
def dkwX0_moves_0 : List UInt8 := [3, 62, 29, 28, 162, 0, 36, 42, 43, 182, 1, 21, 54, 4, 21, 4, 2, 160, 0, 5, 29, 172, 43]
abbrev dktX0_moves_0 : List UInt8 := dkwX0_moves_0 ++ dktX0_moves_1
theorem dksX0_moves_0 : cX0_moves.data.toList.drop 0 = dktX0_moves_0 := by decide +kernel
theorem dksX0_moves_1 : cX0_moves.data.toList.drop 23 = dktX0_moves_1 := dk_seg dksX0_moves_0 23 rfl rfl
theorem dX0_moves_0 : decode cX0_moves 0 = .ok (.iconst 0, 1) := dk_3 (dk_at dksX0_moves_0 0 rfl rfl)
theorem dX0_moves_1 : decode cX0_moves 1 = .ok (.istore_n 3, 1) := dk_62 (dk_at dksX0_moves_0 1 rfl rfl)
theorem dX0_moves_2 : decode cX0_moves 2 = .ok (.iload_n 3, 1) := dk_29 (dk_at dksX0_moves_0 2 rfl rfl)
theorem dX0_moves_3 : decode cX0_moves 3 = .ok (.iload_n 2, 1) := dk_28 (dk_at dksX0_moves_0 3 rfl rfl)
theorem dX0_moves_4 : decode cX0_moves 4 = .ok (.if_icmp .ge 36, 3) := dk_162 0 36 (dk_at dksX0_moves_0 4 rfl rfl)
theorem dX0_moves_7 : decode cX0_moves 7 = .ok (.aload_n 0, 1) := dk_42 (dk_at dksX0_moves_0 7 rfl rfl)
theorem dX0_moves_8 : decode cX0_moves 8 = .ok (.aload_n 1, 1) := dk_43 (dk_at dksX0_moves_0 8 rfl rfl)
theorem dX0_moves_9 : decode cX0_moves 9 = .ok (.invokevirtual 277, 3) := dk_182 1 21 (dk_at dksX0_moves_0 9 rfl rfl)
theorem dX0_moves_12 : decode cX0_moves 12 = .ok (.istore 4, 2) := dk_54 4 (dk_at dksX0_moves_0 12 rfl rfl)
theorem dX0_moves_14 : decode cX0_moves 14 = .ok (.iload 4, 2) := dk_21 4 (dk_at dksX0_moves_0 14 rfl rfl)
theorem dX0_moves_16 : decode cX0_moves 16 = .ok (.iconst (-1), 1) := dk_2 (dk_at dksX0_moves_0 16 rfl rfl)
theorem dX0_moves_17 : decode cX0_moves 17 = .ok (.if_icmp .ne 5, 3) := dk_160 0 5 (dk_at dksX0_moves_0 17 rfl rfl)
theorem dX0_moves_20 : decode cX0_moves 20 = .ok (.iload_n 3, 1) := dk_29 (dk_at dksX0_moves_0 20 rfl rfl)
theorem dX0_moves_21 : decode cX0_moves 21 = .ok (.ireturn, 1) := dk_172 (dk_at dksX0_moves_0 21 rfl rfl)
theorem dX0_moves_22 : decode cX0_moves 22 = .ok (.aload_n 1, 1) := dk_43 (dk_at dksX0_moves_0 22 rfl rfl)
theorem dX0_moves_23 : decode cX0_moves 23 = .ok (.getfield 175, 3) := dk_180 0 175 (dk_at dksX0_moves_1 0 rfl rfl)
theorem dX0_moves_26 : decode cX0_moves 26 = .ok (.iload 4, 2) := dk_21 4 (dk_at dksX0_moves_1 3 rfl rfl)
theorem dX0_moves_28 : decode cX0_moves 28 = .ok (.aload_n 0, 1) := dk_42 (dk_at dksX0_moves_1 5 rfl rfl)
theorem dX0_moves_29 : decode cX0_moves 29 = .ok (.getfield 265, 3) := dk_180 1 9 (dk_at dksX0_moves_1 6 rfl rfl)
theorem dX0_moves_32 : decode cX0_moves 32 = .ok (.i2b, 1) := dk_145 (dk_at dksX0_moves_1 9 rfl rfl)
theorem dX0_moves_33 : decode cX0_moves 33 = .ok (.bastore, 1) := dk_84 (dk_at dksX0_moves_1 10 rfl rfl)
theorem dX0_moves_34 : decode cX0_moves 34 = .ok (.iinc 3 1, 3) := dk_132 3 1 (dk_at dksX0_moves_1 11 rfl rfl)
theorem dX0_moves_37 : decode cX0_moves 37 = .ok (.goto (-35), 3) := dk_167 255 221 (dk_at dksX0_moves_1 14 rfl rfl)
theorem dX0_moves_40 : decode cX0_moves 40 = .ok (.iload_n 2, 1) := dk_28 (dk_at dksX0_moves_1 17 rfl rfl)
theorem dX0_moves_41 : decode cX0_moves 41 = .ok (.ireturn, 1) := dk_172 (dk_at dksX0_moves_1 18 rfl rfl)
abbrev cX0_other : ByteArray := prog_1_method_38_code
def yX0_other : MethodName := ⟨RX0, "other", "(III)I"⟩
def dkwX0_other_3 : List UInt8 := [180, 0, 175, 28, 29, 145, 84, 42, 25, 4, 182, 0, 253, 42, 25, 4, 28, 182, 0, 214, 172]
abbrev dktX0_other_3 : List UInt8 := dkwX0_other_3 ++ []
def dkwX0_other_2 : List UInt8 := [17, 216, 240, 172, 42, 42, 180, 0, 51, 27, 182, 0, 246, 192, 0, 3, 182, 1, 30, 58, 4, 25, 4]
abbrev dktX0_other_2 : List UInt8 := dkwX0_other_2 ++ dktX0_other_3
def dkwX0_other_1 : List UInt8 := [180, 0, 174, 133, 10, 101, 184, 0, 119, 153, 0, 15, 29, 133, 9, 20, 0, 230, 184, 0, 119, 154, 0, 7]
abbrev dktX0_other_1 : List UInt8 := dkwX0_other_1 ++ dktX0_other_2
def dkwX0_other_0 : List UInt8 := [42, 27, 182, 0, 243, 153, 0, 41, 28, 133, 9, 42, 180, 0, 51, 27, 182, 0, 246, 192, 0, 3]
abbrev dktX0_other_0 : List UInt8 := dkwX0_other_0 ++ dktX0_other_1
theorem dksX0_other_0 : cX0_other.data.toList.drop 0 = dktX0_other_0 := by decide +kernel
theorem dksX0_other_1 : cX0_other.data.toList.drop 22 = dktX0_other_1 := dk_seg dksX0_other_0 22 rfl rfl
theorem dksX0_other_2 : cX0_other.data.toList.drop 46 = dktX0_other_2 := dk_seg dksX0_other_1 24 rfl rfl
theorem dksX0_other_3 : cX0_other.data.toList.drop 69 = dktX0_other_3 := dk_seg dksX0_other_2 23 rfl rfl
theorem dX0_other_0 : decode cX0_other 0 = .ok (.aload_n 0, 1) := dk_42 (dk_at dksX0_other_0 0 rfl rfl)
theorem dX0_other_1 : decode cX0_other 1 = .ok (.iload_n 1, 1) := dk_27 (dk_at dksX0_other_0 1 rfl rfl)
theorem dX0_other_2 : decode cX0_other 2 = .ok (.invokevirtual 243, 3) := dk_182 0 243 (dk_at dksX0_other_0 2 rfl rfl)
theorem dX0_other_5 : decode cX0_other 5 = .ok (.ifCond .eq 41, 3) := dk_153 0 41 (dk_at dksX0_other_0 5 rfl rfl)
theorem dX0_other_8 : decode cX0_other 8 = .ok (.iload_n 2, 1) := dk_28 (dk_at dksX0_other_0 8 rfl rfl)
theorem dX0_other_9 : decode cX0_other 9 = .ok (.i2l, 1) := dk_133 (dk_at dksX0_other_0 9 rfl rfl)
theorem dX0_other_10 : decode cX0_other 10 = .ok (.lconst 0, 1) := dk_9 (dk_at dksX0_other_0 10 rfl rfl)
theorem dX0_other_11 : decode cX0_other 11 = .ok (.aload_n 0, 1) := dk_42 (dk_at dksX0_other_0 11 rfl rfl)
theorem dX0_other_12 : decode cX0_other 12 = .ok (.getfield 51, 3) := dk_180 0 51 (dk_at dksX0_other_0 12 rfl rfl)
theorem dX0_other_15 : decode cX0_other 15 = .ok (.iload_n 1, 1) := dk_27 (dk_at dksX0_other_0 15 rfl rfl)
theorem dX0_other_16 : decode cX0_other 16 = .ok (.invokevirtual 246, 3) := dk_182 0 246 (dk_at dksX0_other_0 16 rfl rfl)
theorem dX0_other_19 : decode cX0_other 19 = .ok (.checkcast 3, 3) := dk_192 0 3 (dk_at dksX0_other_0 19 rfl rfl)
theorem dX0_other_22 : decode cX0_other 22 = .ok (.getfield 174, 3) := dk_180 0 174 (dk_at dksX0_other_1 0 rfl rfl)
theorem dX0_other_25 : decode cX0_other 25 = .ok (.i2l, 1) := dk_133 (dk_at dksX0_other_1 3 rfl rfl)
theorem dX0_other_26 : decode cX0_other 26 = .ok (.lconst 1, 1) := dk_10 (dk_at dksX0_other_1 4 rfl rfl)
theorem dX0_other_27 : decode cX0_other 27 = .ok (.lsub, 1) := dk_101 (dk_at dksX0_other_1 5 rfl rfl)
theorem dX0_other_28 : decode cX0_other 28 = .ok (.invokestatic 119, 3) := dk_184 0 119 (dk_at dksX0_other_1 6 rfl rfl)
theorem dX0_other_31 : decode cX0_other 31 = .ok (.ifCond .eq 15, 3) := dk_153 0 15 (dk_at dksX0_other_1 9 rfl rfl)
theorem dX0_other_34 : decode cX0_other 34 = .ok (.iload_n 3, 1) := dk_29 (dk_at dksX0_other_1 12 rfl rfl)
theorem dX0_other_35 : decode cX0_other 35 = .ok (.i2l, 1) := dk_133 (dk_at dksX0_other_1 13 rfl rfl)
theorem dX0_other_36 : decode cX0_other 36 = .ok (.lconst 0, 1) := dk_9 (dk_at dksX0_other_1 14 rfl rfl)
theorem dX0_other_37 : decode cX0_other 37 = .ok (.ldc2_w 230, 3) := dk_20 0 230 (dk_at dksX0_other_1 15 rfl rfl)
theorem dX0_other_40 : decode cX0_other 40 = .ok (.invokestatic 119, 3) := dk_184 0 119 (dk_at dksX0_other_1 18 rfl rfl)
theorem dX0_other_43 : decode cX0_other 43 = .ok (.ifCond .ne 7, 3) := dk_154 0 7 (dk_at dksX0_other_1 21 rfl rfl)
theorem dX0_other_46 : decode cX0_other 46 = .ok (.sipush (-10000), 3) := dk_17 216 240 (dk_at dksX0_other_2 0 rfl rfl)
theorem dX0_other_49 : decode cX0_other 49 = .ok (.ireturn, 1) := dk_172 (dk_at dksX0_other_2 3 rfl rfl)
theorem dX0_other_50 : decode cX0_other 50 = .ok (.aload_n 0, 1) := dk_42 (dk_at dksX0_other_2 4 rfl rfl)
theorem dX0_other_51 : decode cX0_other 51 = .ok (.aload_n 0, 1) := dk_42 (dk_at dksX0_other_2 5 rfl rfl)
theorem dX0_other_52 : decode cX0_other 52 = .ok (.getfield 51, 3) := dk_180 0 51 (dk_at dksX0_other_2 6 rfl rfl)
theorem dX0_other_55 : decode cX0_other 55 = .ok (.iload_n 1, 1) := dk_27 (dk_at dksX0_other_2 9 rfl rfl)
theorem dX0_other_56 : decode cX0_other 56 = .ok (.invokevirtual 246, 3) := dk_182 0 246 (dk_at dksX0_other_2 10 rfl rfl)
theorem dX0_other_59 : decode cX0_other 59 = .ok (.checkcast 3, 3) := dk_192 0 3 (dk_at dksX0_other_2 13 rfl rfl)
theorem dX0_other_62 : decode cX0_other 62 = .ok (.invokevirtual 286, 3) := dk_182 1 30 (dk_at dksX0_other_2 16 rfl rfl)
theorem dX0_other_65 : decode cX0_other 65 = .ok (.astore 4, 2) := dk_58 4 (dk_at dksX0_other_2 19 rfl rfl)
theorem dX0_other_67 : decode cX0_other 67 = .ok (.aload 4, 2) := dk_25 4 (dk_at dksX0_other_2 21 rfl rfl)
theorem dX0_other_69 : decode cX0_other 69 = .ok (.getfield 175, 3) := dk_180 0 175 (dk_at dksX0_other_3 0 rfl rfl)
theorem dX0_other_72 : decode cX0_other 72 = .ok (.iload_n 2, 1) := dk_28 (dk_at dksX0_other_3 3 rfl rfl)
theorem dX0_other_73 : decode cX0_other 73 = .ok (.iload_n 3, 1) := dk_29 (dk_at dksX0_other_3 4 rfl rfl)
theorem dX0_other_74 : decode cX0_other 74 = .ok (.i2b, 1) := dk_145 (dk_at dksX0_other_3 5 rfl rfl)
theorem dX0_other_75 : decode cX0_other 75 = .ok (.bastore, 1) := dk_84 (dk_at dksX0_other_3 6 rfl rfl)
theorem dX0_other_76 : decode cX0_other 76 = .ok (.aload_n 0, 1) := dk_42 (dk_at dksX0_other_3 7 rfl rfl)
theorem dX0_other_77 : decode cX0_other 77 = .ok (.aload 4, 2) := dk_25 4 (dk_at dksX0_other_3 8 rfl rfl)
theorem dX0_other_79 : decode cX0_other 79 = .ok (.invokevirtual 253, 3) := dk_182 0 253 (dk_at dksX0_other_3 10 rfl rfl)
theorem dX0_other_82 : decode cX0_other 82 = .ok (.aload_n 0, 1) := dk_42 (dk_at dksX0_other_3 13 rfl rfl)
theorem dX0_other_83 : decode cX0_other 83 = .ok (.aload 4, 2) := dk_25 4 (dk_at dksX0_other_3 14 rfl rfl)
theorem dX0_other_85 : decode cX0_other 85 = .ok (.iload_n 2, 1) := dk_28 (dk_at dksX0_other_3 16 rfl rfl)
theorem dX0_other_86 : decode cX0_other 86 = .ok (.invokevirtual 214, 3) := dk_182 0 214 (dk_at dksX0_other_3 17 rfl rfl)
theorem dX0_other_89 : decode cX0_other 89 = .ok (.ireturn, 1) := dk_172 (dk_at dksX0_other_3 20 rfl rfl)
abbrev cX0_trial : ByteArray := prog_1_method_39_code
def yX0_trial : MethodName := ⟨RX0, "trial", "(LGateRoad$Way;)LGateRoad$Way;"⟩
def dkwX0_trial_1 : List UInt8 := [83, 42, 180, 0, 70, 28, 50, 43, 182, 1, 34, 42, 180, 0, 70, 28, 50, 176]
abbrev dktX0_trial_1 : List UInt8 := dkwX0_trial_1 ++ []
def dkwX0_trial_0 : List UInt8 := [43, 182, 0, 250, 61, 42, 180, 0, 70, 28, 50, 199, 0, 14, 42, 180, 0, 70, 28, 28, 2, 184, 0, 232]
abbrev dktX0_trial_0 : List UInt8 := dkwX0_trial_0 ++ dktX0_trial_1
theorem dksX0_trial_0 : cX0_trial.data.toList.drop 0 = dktX0_trial_0 := by decide +kernel
theorem dksX0_trial_1 : cX0_trial.data.toList.drop 24 = dktX0_trial_1 := dk_seg dksX0_trial_0 24 rfl rfl
theorem dX0_trial_0 : decode cX0_trial 0 = .ok (.aload_n 1, 1) := dk_43 (dk_at dksX0_trial_0 0 rfl rfl)
theorem dX0_trial_1 : decode cX0_trial 1 = .ok (.invokevirtual 250, 3) := dk_182 0 250 (dk_at dksX0_trial_0 1 rfl rfl)
theorem dX0_trial_4 : decode cX0_trial 4 = .ok (.istore_n 2, 1) := dk_61 (dk_at dksX0_trial_0 4 rfl rfl)
theorem dX0_trial_5 : decode cX0_trial 5 = .ok (.aload_n 0, 1) := dk_42 (dk_at dksX0_trial_0 5 rfl rfl)
theorem dX0_trial_6 : decode cX0_trial 6 = .ok (.getfield 70, 3) := dk_180 0 70 (dk_at dksX0_trial_0 6 rfl rfl)
theorem dX0_trial_9 : decode cX0_trial 9 = .ok (.iload_n 2, 1) := dk_28 (dk_at dksX0_trial_0 9 rfl rfl)
theorem dX0_trial_10 : decode cX0_trial 10 = .ok (.aaload, 1) := dk_50 (dk_at dksX0_trial_0 10 rfl rfl)
theorem dX0_trial_11 : decode cX0_trial 11 = .ok (.ifnonnull 14, 3) := dk_199 0 14 (dk_at dksX0_trial_0 11 rfl rfl)
theorem dX0_trial_14 : decode cX0_trial 14 = .ok (.aload_n 0, 1) := dk_42 (dk_at dksX0_trial_0 14 rfl rfl)
theorem dX0_trial_15 : decode cX0_trial 15 = .ok (.getfield 70, 3) := dk_180 0 70 (dk_at dksX0_trial_0 15 rfl rfl)
theorem dX0_trial_18 : decode cX0_trial 18 = .ok (.iload_n 2, 1) := dk_28 (dk_at dksX0_trial_0 18 rfl rfl)
theorem dX0_trial_19 : decode cX0_trial 19 = .ok (.iload_n 2, 1) := dk_28 (dk_at dksX0_trial_0 19 rfl rfl)
theorem dX0_trial_20 : decode cX0_trial 20 = .ok (.iconst (-1), 1) := dk_2 (dk_at dksX0_trial_0 20 rfl rfl)
theorem dX0_trial_21 : decode cX0_trial 21 = .ok (.invokestatic 232, 3) := dk_184 0 232 (dk_at dksX0_trial_0 21 rfl rfl)
theorem dX0_trial_24 : decode cX0_trial 24 = .ok (.aastore, 1) := dk_83 (dk_at dksX0_trial_1 0 rfl rfl)
theorem dX0_trial_25 : decode cX0_trial 25 = .ok (.aload_n 0, 1) := dk_42 (dk_at dksX0_trial_1 1 rfl rfl)
theorem dX0_trial_26 : decode cX0_trial 26 = .ok (.getfield 70, 3) := dk_180 0 70 (dk_at dksX0_trial_1 2 rfl rfl)
theorem dX0_trial_29 : decode cX0_trial 29 = .ok (.iload_n 2, 1) := dk_28 (dk_at dksX0_trial_1 5 rfl rfl)
theorem dX0_trial_30 : decode cX0_trial 30 = .ok (.aaload, 1) := dk_50 (dk_at dksX0_trial_1 6 rfl rfl)
theorem dX0_trial_31 : decode cX0_trial 31 = .ok (.aload_n 1, 1) := dk_43 (dk_at dksX0_trial_1 7 rfl rfl)
theorem dX0_trial_32 : decode cX0_trial 32 = .ok (.invokevirtual 290, 3) := dk_182 1 34 (dk_at dksX0_trial_1 8 rfl rfl)
theorem dX0_trial_35 : decode cX0_trial 35 = .ok (.aload_n 0, 1) := dk_42 (dk_at dksX0_trial_1 11 rfl rfl)
theorem dX0_trial_36 : decode cX0_trial 36 = .ok (.getfield 70, 3) := dk_180 0 70 (dk_at dksX0_trial_1 12 rfl rfl)
theorem dX0_trial_39 : decode cX0_trial 39 = .ok (.iload_n 2, 1) := dk_28 (dk_at dksX0_trial_1 15 rfl rfl)
theorem dX0_trial_40 : decode cX0_trial 40 = .ok (.aaload, 1) := dk_50 (dk_at dksX0_trial_1 16 rfl rfl)
theorem dX0_trial_41 : decode cX0_trial 41 = .ok (.areturn, 1) := dk_176 (dk_at dksX0_trial_1 17 rfl rfl)
abbrev cX0_swap : ByteArray := prog_1_method_40_code
def yX0_swap : MethodName := ⟨RX0, "swap", "(III)I"⟩
def dkwX0_swap_7 : List UInt8 := [42, 25, 7, 29, 182, 0, 214, 21, 6, 161, 0, 5, 3, 172, 25, 4, 25, 7, 182, 1, 34, 4, 172]
abbrev dktX0_swap_7 : List UInt8 := dkwX0_swap_7 ++ []
def dkwX0_swap_6 : List UInt8 := [180, 0, 175, 28, 51, 84, 42, 25, 7, 182, 0, 253, 42, 25, 7, 28, 182, 0, 214, 21, 5, 162, 0, 15]
abbrev dktX0_swap_6 : List UInt8 := dkwX0_swap_6 ++ dktX0_swap_7
def dkwX0_swap_5 : List UInt8 := [58, 7, 25, 7, 180, 0, 175, 28, 25, 4, 180, 0, 175, 29, 51, 84, 25, 7, 180, 0, 175, 29, 25, 4]
abbrev dktX0_swap_5 : List UInt8 := dkwX0_swap_5 ++ dktX0_swap_6
def dkwX0_swap_4 : List UInt8 := [25, 4, 28, 182, 0, 214, 54, 5, 42, 25, 4, 29, 182, 0, 214, 54, 6, 42, 25, 4, 182, 1, 30]
abbrev dktX0_swap_4 : List UInt8 := dkwX0_swap_4 ++ dktX0_swap_5
def dkwX0_swap_3 : List UInt8 := [16, 249, 172, 42, 180, 0, 51, 27, 182, 0, 246, 192, 0, 3, 58, 4, 42, 25, 4, 182, 0, 253, 42]
abbrev dktX0_swap_3 : List UInt8 := dkwX0_swap_3 ++ dktX0_swap_4
def dkwX0_swap_2 : List UInt8 := [192, 0, 3, 180, 0, 174, 133, 10, 101, 184, 0, 119, 154, 0, 6, 16, 251, 172, 28, 29, 160, 0, 6]
abbrev dktX0_swap_2 : List UInt8 := dkwX0_swap_2 ++ dktX0_swap_3
def dkwX0_swap_1 : List UInt8 := [180, 0, 174, 133, 10, 101, 184, 0, 119, 153, 0, 29, 29, 133, 9, 42, 180, 0, 51, 27, 182, 0, 246]
abbrev dktX0_swap_1 : List UInt8 := dkwX0_swap_1 ++ dktX0_swap_2
def dkwX0_swap_0 : List UInt8 := [42, 27, 182, 0, 243, 153, 0, 55, 28, 133, 9, 42, 180, 0, 51, 27, 182, 0, 246, 192, 0, 3]
abbrev dktX0_swap_0 : List UInt8 := dkwX0_swap_0 ++ dktX0_swap_1
theorem dksX0_swap_0 : cX0_swap.data.toList.drop 0 = dktX0_swap_0 := by decide +kernel
theorem dksX0_swap_1 : cX0_swap.data.toList.drop 22 = dktX0_swap_1 := dk_seg dksX0_swap_0 22 rfl rfl
theorem dksX0_swap_2 : cX0_swap.data.toList.drop 45 = dktX0_swap_2 := dk_seg dksX0_swap_1 23 rfl rfl
theorem dksX0_swap_3 : cX0_swap.data.toList.drop 68 = dktX0_swap_3 := dk_seg dksX0_swap_2 23 rfl rfl
theorem dksX0_swap_4 : cX0_swap.data.toList.drop 91 = dktX0_swap_4 := dk_seg dksX0_swap_3 23 rfl rfl
theorem dksX0_swap_5 : cX0_swap.data.toList.drop 114 = dktX0_swap_5 := dk_seg dksX0_swap_4 23 rfl rfl
theorem dksX0_swap_6 : cX0_swap.data.toList.drop 138 = dktX0_swap_6 := dk_seg dksX0_swap_5 24 rfl rfl
theorem dksX0_swap_7 : cX0_swap.data.toList.drop 162 = dktX0_swap_7 := dk_seg dksX0_swap_6 24 rfl rfl
theorem dX0_swap_0 : decode cX0_swap 0 = .ok (.aload_n 0, 1) := dk_42 (dk_at dksX0_swap_0 0 rfl rfl)
theorem dX0_swap_1 : decode cX0_swap 1 = .ok (.iload_n 1, 1) := dk_27 (dk_at dksX0_swap_0 1 rfl rfl)
theorem dX0_swap_2 : decode cX0_swap 2 = .ok (.invokevirtual 243, 3) := dk_182 0 243 (dk_at dksX0_swap_0 2 rfl rfl)
theorem dX0_swap_5 : decode cX0_swap 5 = .ok (.ifCond .eq 55, 3) := dk_153 0 55 (dk_at dksX0_swap_0 5 rfl rfl)
theorem dX0_swap_8 : decode cX0_swap 8 = .ok (.iload_n 2, 1) := dk_28 (dk_at dksX0_swap_0 8 rfl rfl)
theorem dX0_swap_9 : decode cX0_swap 9 = .ok (.i2l, 1) := dk_133 (dk_at dksX0_swap_0 9 rfl rfl)
theorem dX0_swap_10 : decode cX0_swap 10 = .ok (.lconst 0, 1) := dk_9 (dk_at dksX0_swap_0 10 rfl rfl)
theorem dX0_swap_11 : decode cX0_swap 11 = .ok (.aload_n 0, 1) := dk_42 (dk_at dksX0_swap_0 11 rfl rfl)
theorem dX0_swap_12 : decode cX0_swap 12 = .ok (.getfield 51, 3) := dk_180 0 51 (dk_at dksX0_swap_0 12 rfl rfl)
theorem dX0_swap_15 : decode cX0_swap 15 = .ok (.iload_n 1, 1) := dk_27 (dk_at dksX0_swap_0 15 rfl rfl)
theorem dX0_swap_16 : decode cX0_swap 16 = .ok (.invokevirtual 246, 3) := dk_182 0 246 (dk_at dksX0_swap_0 16 rfl rfl)
theorem dX0_swap_19 : decode cX0_swap 19 = .ok (.checkcast 3, 3) := dk_192 0 3 (dk_at dksX0_swap_0 19 rfl rfl)
theorem dX0_swap_22 : decode cX0_swap 22 = .ok (.getfield 174, 3) := dk_180 0 174 (dk_at dksX0_swap_1 0 rfl rfl)
theorem dX0_swap_25 : decode cX0_swap 25 = .ok (.i2l, 1) := dk_133 (dk_at dksX0_swap_1 3 rfl rfl)
theorem dX0_swap_26 : decode cX0_swap 26 = .ok (.lconst 1, 1) := dk_10 (dk_at dksX0_swap_1 4 rfl rfl)
theorem dX0_swap_27 : decode cX0_swap 27 = .ok (.lsub, 1) := dk_101 (dk_at dksX0_swap_1 5 rfl rfl)
theorem dX0_swap_28 : decode cX0_swap 28 = .ok (.invokestatic 119, 3) := dk_184 0 119 (dk_at dksX0_swap_1 6 rfl rfl)
theorem dX0_swap_31 : decode cX0_swap 31 = .ok (.ifCond .eq 29, 3) := dk_153 0 29 (dk_at dksX0_swap_1 9 rfl rfl)
theorem dX0_swap_34 : decode cX0_swap 34 = .ok (.iload_n 3, 1) := dk_29 (dk_at dksX0_swap_1 12 rfl rfl)
theorem dX0_swap_35 : decode cX0_swap 35 = .ok (.i2l, 1) := dk_133 (dk_at dksX0_swap_1 13 rfl rfl)
theorem dX0_swap_36 : decode cX0_swap 36 = .ok (.lconst 0, 1) := dk_9 (dk_at dksX0_swap_1 14 rfl rfl)
theorem dX0_swap_37 : decode cX0_swap 37 = .ok (.aload_n 0, 1) := dk_42 (dk_at dksX0_swap_1 15 rfl rfl)
theorem dX0_swap_38 : decode cX0_swap 38 = .ok (.getfield 51, 3) := dk_180 0 51 (dk_at dksX0_swap_1 16 rfl rfl)
theorem dX0_swap_41 : decode cX0_swap 41 = .ok (.iload_n 1, 1) := dk_27 (dk_at dksX0_swap_1 19 rfl rfl)
theorem dX0_swap_42 : decode cX0_swap 42 = .ok (.invokevirtual 246, 3) := dk_182 0 246 (dk_at dksX0_swap_1 20 rfl rfl)
theorem dX0_swap_45 : decode cX0_swap 45 = .ok (.checkcast 3, 3) := dk_192 0 3 (dk_at dksX0_swap_2 0 rfl rfl)
theorem dX0_swap_48 : decode cX0_swap 48 = .ok (.getfield 174, 3) := dk_180 0 174 (dk_at dksX0_swap_2 3 rfl rfl)
theorem dX0_swap_51 : decode cX0_swap 51 = .ok (.i2l, 1) := dk_133 (dk_at dksX0_swap_2 6 rfl rfl)
theorem dX0_swap_52 : decode cX0_swap 52 = .ok (.lconst 1, 1) := dk_10 (dk_at dksX0_swap_2 7 rfl rfl)
theorem dX0_swap_53 : decode cX0_swap 53 = .ok (.lsub, 1) := dk_101 (dk_at dksX0_swap_2 8 rfl rfl)
theorem dX0_swap_54 : decode cX0_swap 54 = .ok (.invokestatic 119, 3) := dk_184 0 119 (dk_at dksX0_swap_2 9 rfl rfl)
theorem dX0_swap_57 : decode cX0_swap 57 = .ok (.ifCond .ne 6, 3) := dk_154 0 6 (dk_at dksX0_swap_2 12 rfl rfl)
theorem dX0_swap_60 : decode cX0_swap 60 = .ok (.bipush (-5), 2) := dk_16 251 (dk_at dksX0_swap_2 15 rfl rfl)
theorem dX0_swap_62 : decode cX0_swap 62 = .ok (.ireturn, 1) := dk_172 (dk_at dksX0_swap_2 17 rfl rfl)
theorem dX0_swap_63 : decode cX0_swap 63 = .ok (.iload_n 2, 1) := dk_28 (dk_at dksX0_swap_2 18 rfl rfl)
theorem dX0_swap_64 : decode cX0_swap 64 = .ok (.iload_n 3, 1) := dk_29 (dk_at dksX0_swap_2 19 rfl rfl)
theorem dX0_swap_65 : decode cX0_swap 65 = .ok (.if_icmp .ne 6, 3) := dk_160 0 6 (dk_at dksX0_swap_2 20 rfl rfl)
theorem dX0_swap_68 : decode cX0_swap 68 = .ok (.bipush (-7), 2) := dk_16 249 (dk_at dksX0_swap_3 0 rfl rfl)
theorem dX0_swap_70 : decode cX0_swap 70 = .ok (.ireturn, 1) := dk_172 (dk_at dksX0_swap_3 2 rfl rfl)
theorem dX0_swap_71 : decode cX0_swap 71 = .ok (.aload_n 0, 1) := dk_42 (dk_at dksX0_swap_3 3 rfl rfl)
theorem dX0_swap_72 : decode cX0_swap 72 = .ok (.getfield 51, 3) := dk_180 0 51 (dk_at dksX0_swap_3 4 rfl rfl)
theorem dX0_swap_75 : decode cX0_swap 75 = .ok (.iload_n 1, 1) := dk_27 (dk_at dksX0_swap_3 7 rfl rfl)
theorem dX0_swap_76 : decode cX0_swap 76 = .ok (.invokevirtual 246, 3) := dk_182 0 246 (dk_at dksX0_swap_3 8 rfl rfl)
theorem dX0_swap_79 : decode cX0_swap 79 = .ok (.checkcast 3, 3) := dk_192 0 3 (dk_at dksX0_swap_3 11 rfl rfl)
theorem dX0_swap_82 : decode cX0_swap 82 = .ok (.astore 4, 2) := dk_58 4 (dk_at dksX0_swap_3 14 rfl rfl)
theorem dX0_swap_84 : decode cX0_swap 84 = .ok (.aload_n 0, 1) := dk_42 (dk_at dksX0_swap_3 16 rfl rfl)
theorem dX0_swap_85 : decode cX0_swap 85 = .ok (.aload 4, 2) := dk_25 4 (dk_at dksX0_swap_3 17 rfl rfl)
theorem dX0_swap_87 : decode cX0_swap 87 = .ok (.invokevirtual 253, 3) := dk_182 0 253 (dk_at dksX0_swap_3 19 rfl rfl)
theorem dX0_swap_90 : decode cX0_swap 90 = .ok (.aload_n 0, 1) := dk_42 (dk_at dksX0_swap_3 22 rfl rfl)
theorem dX0_swap_91 : decode cX0_swap 91 = .ok (.aload 4, 2) := dk_25 4 (dk_at dksX0_swap_4 0 rfl rfl)
theorem dX0_swap_93 : decode cX0_swap 93 = .ok (.iload_n 2, 1) := dk_28 (dk_at dksX0_swap_4 2 rfl rfl)
theorem dX0_swap_94 : decode cX0_swap 94 = .ok (.invokevirtual 214, 3) := dk_182 0 214 (dk_at dksX0_swap_4 3 rfl rfl)
theorem dX0_swap_97 : decode cX0_swap 97 = .ok (.istore 5, 2) := dk_54 5 (dk_at dksX0_swap_4 6 rfl rfl)
theorem dX0_swap_99 : decode cX0_swap 99 = .ok (.aload_n 0, 1) := dk_42 (dk_at dksX0_swap_4 8 rfl rfl)
theorem dX0_swap_100 : decode cX0_swap 100 = .ok (.aload 4, 2) := dk_25 4 (dk_at dksX0_swap_4 9 rfl rfl)
theorem dX0_swap_102 : decode cX0_swap 102 = .ok (.iload_n 3, 1) := dk_29 (dk_at dksX0_swap_4 11 rfl rfl)
theorem dX0_swap_103 : decode cX0_swap 103 = .ok (.invokevirtual 214, 3) := dk_182 0 214 (dk_at dksX0_swap_4 12 rfl rfl)
theorem dX0_swap_106 : decode cX0_swap 106 = .ok (.istore 6, 2) := dk_54 6 (dk_at dksX0_swap_4 15 rfl rfl)
theorem dX0_swap_108 : decode cX0_swap 108 = .ok (.aload_n 0, 1) := dk_42 (dk_at dksX0_swap_4 17 rfl rfl)
theorem dX0_swap_109 : decode cX0_swap 109 = .ok (.aload 4, 2) := dk_25 4 (dk_at dksX0_swap_4 18 rfl rfl)
theorem dX0_swap_111 : decode cX0_swap 111 = .ok (.invokevirtual 286, 3) := dk_182 1 30 (dk_at dksX0_swap_4 20 rfl rfl)
theorem dX0_swap_114 : decode cX0_swap 114 = .ok (.astore 7, 2) := dk_58 7 (dk_at dksX0_swap_5 0 rfl rfl)
theorem dX0_swap_116 : decode cX0_swap 116 = .ok (.aload 7, 2) := dk_25 7 (dk_at dksX0_swap_5 2 rfl rfl)
theorem dX0_swap_118 : decode cX0_swap 118 = .ok (.getfield 175, 3) := dk_180 0 175 (dk_at dksX0_swap_5 4 rfl rfl)
theorem dX0_swap_121 : decode cX0_swap 121 = .ok (.iload_n 2, 1) := dk_28 (dk_at dksX0_swap_5 7 rfl rfl)
theorem dX0_swap_122 : decode cX0_swap 122 = .ok (.aload 4, 2) := dk_25 4 (dk_at dksX0_swap_5 8 rfl rfl)
theorem dX0_swap_124 : decode cX0_swap 124 = .ok (.getfield 175, 3) := dk_180 0 175 (dk_at dksX0_swap_5 10 rfl rfl)
theorem dX0_swap_127 : decode cX0_swap 127 = .ok (.iload_n 3, 1) := dk_29 (dk_at dksX0_swap_5 13 rfl rfl)
theorem dX0_swap_128 : decode cX0_swap 128 = .ok (.baload, 1) := dk_51 (dk_at dksX0_swap_5 14 rfl rfl)
theorem dX0_swap_129 : decode cX0_swap 129 = .ok (.bastore, 1) := dk_84 (dk_at dksX0_swap_5 15 rfl rfl)
theorem dX0_swap_130 : decode cX0_swap 130 = .ok (.aload 7, 2) := dk_25 7 (dk_at dksX0_swap_5 16 rfl rfl)
theorem dX0_swap_132 : decode cX0_swap 132 = .ok (.getfield 175, 3) := dk_180 0 175 (dk_at dksX0_swap_5 18 rfl rfl)
theorem dX0_swap_135 : decode cX0_swap 135 = .ok (.iload_n 3, 1) := dk_29 (dk_at dksX0_swap_5 21 rfl rfl)
theorem dX0_swap_136 : decode cX0_swap 136 = .ok (.aload 4, 2) := dk_25 4 (dk_at dksX0_swap_5 22 rfl rfl)
theorem dX0_swap_138 : decode cX0_swap 138 = .ok (.getfield 175, 3) := dk_180 0 175 (dk_at dksX0_swap_6 0 rfl rfl)
theorem dX0_swap_141 : decode cX0_swap 141 = .ok (.iload_n 2, 1) := dk_28 (dk_at dksX0_swap_6 3 rfl rfl)
theorem dX0_swap_142 : decode cX0_swap 142 = .ok (.baload, 1) := dk_51 (dk_at dksX0_swap_6 4 rfl rfl)
theorem dX0_swap_143 : decode cX0_swap 143 = .ok (.bastore, 1) := dk_84 (dk_at dksX0_swap_6 5 rfl rfl)
theorem dX0_swap_144 : decode cX0_swap 144 = .ok (.aload_n 0, 1) := dk_42 (dk_at dksX0_swap_6 6 rfl rfl)
theorem dX0_swap_145 : decode cX0_swap 145 = .ok (.aload 7, 2) := dk_25 7 (dk_at dksX0_swap_6 7 rfl rfl)
theorem dX0_swap_147 : decode cX0_swap 147 = .ok (.invokevirtual 253, 3) := dk_182 0 253 (dk_at dksX0_swap_6 9 rfl rfl)
theorem dX0_swap_150 : decode cX0_swap 150 = .ok (.aload_n 0, 1) := dk_42 (dk_at dksX0_swap_6 12 rfl rfl)
theorem dX0_swap_151 : decode cX0_swap 151 = .ok (.aload 7, 2) := dk_25 7 (dk_at dksX0_swap_6 13 rfl rfl)
theorem dX0_swap_153 : decode cX0_swap 153 = .ok (.iload_n 2, 1) := dk_28 (dk_at dksX0_swap_6 15 rfl rfl)
theorem dX0_swap_154 : decode cX0_swap 154 = .ok (.invokevirtual 214, 3) := dk_182 0 214 (dk_at dksX0_swap_6 16 rfl rfl)
theorem dX0_swap_157 : decode cX0_swap 157 = .ok (.iload 5, 2) := dk_21 5 (dk_at dksX0_swap_6 19 rfl rfl)
theorem dX0_swap_159 : decode cX0_swap 159 = .ok (.if_icmp .ge 15, 3) := dk_162 0 15 (dk_at dksX0_swap_6 21 rfl rfl)
theorem dX0_swap_162 : decode cX0_swap 162 = .ok (.aload_n 0, 1) := dk_42 (dk_at dksX0_swap_7 0 rfl rfl)
theorem dX0_swap_163 : decode cX0_swap 163 = .ok (.aload 7, 2) := dk_25 7 (dk_at dksX0_swap_7 1 rfl rfl)
theorem dX0_swap_165 : decode cX0_swap 165 = .ok (.iload_n 3, 1) := dk_29 (dk_at dksX0_swap_7 3 rfl rfl)
theorem dX0_swap_166 : decode cX0_swap 166 = .ok (.invokevirtual 214, 3) := dk_182 0 214 (dk_at dksX0_swap_7 4 rfl rfl)
theorem dX0_swap_169 : decode cX0_swap 169 = .ok (.iload 6, 2) := dk_21 6 (dk_at dksX0_swap_7 7 rfl rfl)
theorem dX0_swap_171 : decode cX0_swap 171 = .ok (.if_icmp .lt 5, 3) := dk_161 0 5 (dk_at dksX0_swap_7 9 rfl rfl)
theorem dX0_swap_174 : decode cX0_swap 174 = .ok (.iconst 0, 1) := dk_3 (dk_at dksX0_swap_7 12 rfl rfl)
theorem dX0_swap_175 : decode cX0_swap 175 = .ok (.ireturn, 1) := dk_172 (dk_at dksX0_swap_7 13 rfl rfl)
theorem dX0_swap_176 : decode cX0_swap 176 = .ok (.aload 4, 2) := dk_25 4 (dk_at dksX0_swap_7 14 rfl rfl)
theorem dX0_swap_178 : decode cX0_swap 178 = .ok (.aload 7, 2) := dk_25 7 (dk_at dksX0_swap_7 16 rfl rfl)
theorem dX0_swap_180 : decode cX0_swap 180 = .ok (.invokevirtual 290, 3) := dk_182 1 34 (dk_at dksX0_swap_7 18 rfl rfl)
theorem dX0_swap_183 : decode cX0_swap 183 = .ok (.iconst 1, 1) := dk_4 (dk_at dksX0_swap_7 21 rfl rfl)
theorem dX0_swap_184 : decode cX0_swap 184 = .ok (.ireturn, 1) := dk_172 (dk_at dksX0_swap_7 22 rfl rfl)
abbrev cX0_beside : ByteArray := prog_1_method_41_code
def yX0_beside : MethodName := ⟨RX0, "beside", "(IIII)J"⟩
def dkwX0_beside_6 : List UInt8 := [25, 11, 191]
abbrev dktX0_beside_6 : List UInt8 := dkwX0_beside_6 ++ []
def dkwX0_beside_5 : List UInt8 := [29, 96, 21, 8, 79, 22, 9, 173, 58, 11, 42, 180, 0, 29, 16, 24, 28, 104, 29, 96, 21, 8, 79]
abbrev dktX0_beside_5 : List UInt8 := dkwX0_beside_5 ++ dktX0_beside_6
def dkwX0_beside_4 : List UInt8 := [25, 5, 182, 0, 253, 42, 25, 5, 182, 1, 5, 22, 6, 101, 55, 9, 42, 180, 0, 29, 16, 24, 28, 104]
abbrev dktX0_beside_4 : List UInt8 := dkwX0_beside_4 ++ dktX0_beside_5
def dkwX0_beside_3 : List UInt8 := [16, 24, 28, 104, 29, 96, 46, 54, 8, 42, 180, 0, 29, 16, 24, 28, 104, 29, 96, 21, 4, 79, 42]
abbrev dktX0_beside_3 : List UInt8 := dkwX0_beside_3 ++ dktX0_beside_4
def dkwX0_beside_2 : List UInt8 := [192, 0, 3, 58, 5, 42, 25, 5, 182, 0, 253, 42, 25, 5, 182, 1, 5, 55, 6, 42, 180, 0, 29]
abbrev dktX0_beside_2 : List UInt8 := dkwX0_beside_2 ++ dktX0_beside_3
def dkwX0_beside_1 : List UInt8 := [133, 9, 20, 0, 144, 184, 0, 119, 154, 0, 7, 20, 1, 3, 173, 42, 180, 0, 51, 27, 182, 0, 246]
abbrev dktX0_beside_1 : List UInt8 := dkwX0_beside_1 ++ dktX0_beside_2
def dkwX0_beside_0 : List UInt8 := [42, 27, 182, 0, 243, 153, 0, 30, 28, 184, 0, 135, 153, 0, 23, 29, 184, 0, 139, 153, 0, 16, 21, 4]
abbrev dktX0_beside_0 : List UInt8 := dkwX0_beside_0 ++ dktX0_beside_1
theorem dksX0_beside_0 : cX0_beside.data.toList.drop 0 = dktX0_beside_0 := by decide +kernel
theorem dksX0_beside_1 : cX0_beside.data.toList.drop 24 = dktX0_beside_1 := dk_seg dksX0_beside_0 24 rfl rfl
theorem dksX0_beside_2 : cX0_beside.data.toList.drop 47 = dktX0_beside_2 := dk_seg dksX0_beside_1 23 rfl rfl
theorem dksX0_beside_3 : cX0_beside.data.toList.drop 70 = dktX0_beside_3 := dk_seg dksX0_beside_2 23 rfl rfl
theorem dksX0_beside_4 : cX0_beside.data.toList.drop 93 = dktX0_beside_4 := dk_seg dksX0_beside_3 23 rfl rfl
theorem dksX0_beside_5 : cX0_beside.data.toList.drop 117 = dktX0_beside_5 := dk_seg dksX0_beside_4 24 rfl rfl
theorem dksX0_beside_6 : cX0_beside.data.toList.drop 140 = dktX0_beside_6 := dk_seg dksX0_beside_5 23 rfl rfl
theorem dX0_beside_0 : decode cX0_beside 0 = .ok (.aload_n 0, 1) := dk_42 (dk_at dksX0_beside_0 0 rfl rfl)
theorem dX0_beside_1 : decode cX0_beside 1 = .ok (.iload_n 1, 1) := dk_27 (dk_at dksX0_beside_0 1 rfl rfl)
theorem dX0_beside_2 : decode cX0_beside 2 = .ok (.invokevirtual 243, 3) := dk_182 0 243 (dk_at dksX0_beside_0 2 rfl rfl)
theorem dX0_beside_5 : decode cX0_beside 5 = .ok (.ifCond .eq 30, 3) := dk_153 0 30 (dk_at dksX0_beside_0 5 rfl rfl)
theorem dX0_beside_8 : decode cX0_beside 8 = .ok (.iload_n 2, 1) := dk_28 (dk_at dksX0_beside_0 8 rfl rfl)
theorem dX0_beside_9 : decode cX0_beside 9 = .ok (.invokestatic 135, 3) := dk_184 0 135 (dk_at dksX0_beside_0 9 rfl rfl)
theorem dX0_beside_12 : decode cX0_beside 12 = .ok (.ifCond .eq 23, 3) := dk_153 0 23 (dk_at dksX0_beside_0 12 rfl rfl)
theorem dX0_beside_15 : decode cX0_beside 15 = .ok (.iload_n 3, 1) := dk_29 (dk_at dksX0_beside_0 15 rfl rfl)
theorem dX0_beside_16 : decode cX0_beside 16 = .ok (.invokestatic 139, 3) := dk_184 0 139 (dk_at dksX0_beside_0 16 rfl rfl)
theorem dX0_beside_19 : decode cX0_beside 19 = .ok (.ifCond .eq 16, 3) := dk_153 0 16 (dk_at dksX0_beside_0 19 rfl rfl)
theorem dX0_beside_22 : decode cX0_beside 22 = .ok (.iload 4, 2) := dk_21 4 (dk_at dksX0_beside_0 22 rfl rfl)
theorem dX0_beside_24 : decode cX0_beside 24 = .ok (.i2l, 1) := dk_133 (dk_at dksX0_beside_1 0 rfl rfl)
theorem dX0_beside_25 : decode cX0_beside 25 = .ok (.lconst 0, 1) := dk_9 (dk_at dksX0_beside_1 1 rfl rfl)
theorem dX0_beside_26 : decode cX0_beside 26 = .ok (.ldc2_w 144, 3) := dk_20 0 144 (dk_at dksX0_beside_1 2 rfl rfl)
theorem dX0_beside_29 : decode cX0_beside 29 = .ok (.invokestatic 119, 3) := dk_184 0 119 (dk_at dksX0_beside_1 5 rfl rfl)
theorem dX0_beside_32 : decode cX0_beside 32 = .ok (.ifCond .ne 7, 3) := dk_154 0 7 (dk_at dksX0_beside_1 8 rfl rfl)
theorem dX0_beside_35 : decode cX0_beside 35 = .ok (.ldc2_w 259, 3) := dk_20 1 3 (dk_at dksX0_beside_1 11 rfl rfl)
theorem dX0_beside_38 : decode cX0_beside 38 = .ok (.lreturn, 1) := dk_173 (dk_at dksX0_beside_1 14 rfl rfl)
theorem dX0_beside_39 : decode cX0_beside 39 = .ok (.aload_n 0, 1) := dk_42 (dk_at dksX0_beside_1 15 rfl rfl)
theorem dX0_beside_40 : decode cX0_beside 40 = .ok (.getfield 51, 3) := dk_180 0 51 (dk_at dksX0_beside_1 16 rfl rfl)
theorem dX0_beside_43 : decode cX0_beside 43 = .ok (.iload_n 1, 1) := dk_27 (dk_at dksX0_beside_1 19 rfl rfl)
theorem dX0_beside_44 : decode cX0_beside 44 = .ok (.invokevirtual 246, 3) := dk_182 0 246 (dk_at dksX0_beside_1 20 rfl rfl)
theorem dX0_beside_47 : decode cX0_beside 47 = .ok (.checkcast 3, 3) := dk_192 0 3 (dk_at dksX0_beside_2 0 rfl rfl)
theorem dX0_beside_50 : decode cX0_beside 50 = .ok (.astore 5, 2) := dk_58 5 (dk_at dksX0_beside_2 3 rfl rfl)
theorem dX0_beside_52 : decode cX0_beside 52 = .ok (.aload_n 0, 1) := dk_42 (dk_at dksX0_beside_2 5 rfl rfl)
theorem dX0_beside_53 : decode cX0_beside 53 = .ok (.aload 5, 2) := dk_25 5 (dk_at dksX0_beside_2 6 rfl rfl)
theorem dX0_beside_55 : decode cX0_beside 55 = .ok (.invokevirtual 253, 3) := dk_182 0 253 (dk_at dksX0_beside_2 8 rfl rfl)
theorem dX0_beside_58 : decode cX0_beside 58 = .ok (.aload_n 0, 1) := dk_42 (dk_at dksX0_beside_2 11 rfl rfl)
theorem dX0_beside_59 : decode cX0_beside 59 = .ok (.aload 5, 2) := dk_25 5 (dk_at dksX0_beside_2 12 rfl rfl)
theorem dX0_beside_61 : decode cX0_beside 61 = .ok (.invokevirtual 261, 3) := dk_182 1 5 (dk_at dksX0_beside_2 14 rfl rfl)
theorem dX0_beside_64 : decode cX0_beside 64 = .ok (.lstore 6, 2) := dk_55 6 (dk_at dksX0_beside_2 17 rfl rfl)
theorem dX0_beside_66 : decode cX0_beside 66 = .ok (.aload_n 0, 1) := dk_42 (dk_at dksX0_beside_2 19 rfl rfl)
theorem dX0_beside_67 : decode cX0_beside 67 = .ok (.getfield 29, 3) := dk_180 0 29 (dk_at dksX0_beside_2 20 rfl rfl)
theorem dX0_beside_70 : decode cX0_beside 70 = .ok (.bipush 24, 2) := dk_16 24 (dk_at dksX0_beside_3 0 rfl rfl)
theorem dX0_beside_72 : decode cX0_beside 72 = .ok (.iload_n 2, 1) := dk_28 (dk_at dksX0_beside_3 2 rfl rfl)
theorem dX0_beside_73 : decode cX0_beside 73 = .ok (.imul, 1) := dk_104 (dk_at dksX0_beside_3 3 rfl rfl)
theorem dX0_beside_74 : decode cX0_beside 74 = .ok (.iload_n 3, 1) := dk_29 (dk_at dksX0_beside_3 4 rfl rfl)
theorem dX0_beside_75 : decode cX0_beside 75 = .ok (.iadd, 1) := dk_96 (dk_at dksX0_beside_3 5 rfl rfl)
theorem dX0_beside_76 : decode cX0_beside 76 = .ok (.iaload, 1) := dk_46 (dk_at dksX0_beside_3 6 rfl rfl)
theorem dX0_beside_77 : decode cX0_beside 77 = .ok (.istore 8, 2) := dk_54 8 (dk_at dksX0_beside_3 7 rfl rfl)
theorem dX0_beside_79 : decode cX0_beside 79 = .ok (.aload_n 0, 1) := dk_42 (dk_at dksX0_beside_3 9 rfl rfl)
theorem dX0_beside_80 : decode cX0_beside 80 = .ok (.getfield 29, 3) := dk_180 0 29 (dk_at dksX0_beside_3 10 rfl rfl)
theorem dX0_beside_83 : decode cX0_beside 83 = .ok (.bipush 24, 2) := dk_16 24 (dk_at dksX0_beside_3 13 rfl rfl)
theorem dX0_beside_85 : decode cX0_beside 85 = .ok (.iload_n 2, 1) := dk_28 (dk_at dksX0_beside_3 15 rfl rfl)
theorem dX0_beside_86 : decode cX0_beside 86 = .ok (.imul, 1) := dk_104 (dk_at dksX0_beside_3 16 rfl rfl)
theorem dX0_beside_87 : decode cX0_beside 87 = .ok (.iload_n 3, 1) := dk_29 (dk_at dksX0_beside_3 17 rfl rfl)
theorem dX0_beside_88 : decode cX0_beside 88 = .ok (.iadd, 1) := dk_96 (dk_at dksX0_beside_3 18 rfl rfl)
theorem dX0_beside_89 : decode cX0_beside 89 = .ok (.iload 4, 2) := dk_21 4 (dk_at dksX0_beside_3 19 rfl rfl)
theorem dX0_beside_91 : decode cX0_beside 91 = .ok (.iastore, 1) := dk_79 (dk_at dksX0_beside_3 21 rfl rfl)
theorem dX0_beside_92 : decode cX0_beside 92 = .ok (.aload_n 0, 1) := dk_42 (dk_at dksX0_beside_3 22 rfl rfl)
theorem dX0_beside_93 : decode cX0_beside 93 = .ok (.aload 5, 2) := dk_25 5 (dk_at dksX0_beside_4 0 rfl rfl)
theorem dX0_beside_95 : decode cX0_beside 95 = .ok (.invokevirtual 253, 3) := dk_182 0 253 (dk_at dksX0_beside_4 2 rfl rfl)
theorem dX0_beside_98 : decode cX0_beside 98 = .ok (.aload_n 0, 1) := dk_42 (dk_at dksX0_beside_4 5 rfl rfl)
theorem dX0_beside_99 : decode cX0_beside 99 = .ok (.aload 5, 2) := dk_25 5 (dk_at dksX0_beside_4 6 rfl rfl)
theorem dX0_beside_101 : decode cX0_beside 101 = .ok (.invokevirtual 261, 3) := dk_182 1 5 (dk_at dksX0_beside_4 8 rfl rfl)
theorem dX0_beside_104 : decode cX0_beside 104 = .ok (.lload 6, 2) := dk_22 6 (dk_at dksX0_beside_4 11 rfl rfl)
theorem dX0_beside_106 : decode cX0_beside 106 = .ok (.lsub, 1) := dk_101 (dk_at dksX0_beside_4 13 rfl rfl)
theorem dX0_beside_107 : decode cX0_beside 107 = .ok (.lstore 9, 2) := dk_55 9 (dk_at dksX0_beside_4 14 rfl rfl)
theorem dX0_beside_109 : decode cX0_beside 109 = .ok (.aload_n 0, 1) := dk_42 (dk_at dksX0_beside_4 16 rfl rfl)
theorem dX0_beside_110 : decode cX0_beside 110 = .ok (.getfield 29, 3) := dk_180 0 29 (dk_at dksX0_beside_4 17 rfl rfl)
theorem dX0_beside_113 : decode cX0_beside 113 = .ok (.bipush 24, 2) := dk_16 24 (dk_at dksX0_beside_4 20 rfl rfl)
theorem dX0_beside_115 : decode cX0_beside 115 = .ok (.iload_n 2, 1) := dk_28 (dk_at dksX0_beside_4 22 rfl rfl)
theorem dX0_beside_116 : decode cX0_beside 116 = .ok (.imul, 1) := dk_104 (dk_at dksX0_beside_4 23 rfl rfl)
theorem dX0_beside_117 : decode cX0_beside 117 = .ok (.iload_n 3, 1) := dk_29 (dk_at dksX0_beside_5 0 rfl rfl)
theorem dX0_beside_118 : decode cX0_beside 118 = .ok (.iadd, 1) := dk_96 (dk_at dksX0_beside_5 1 rfl rfl)
theorem dX0_beside_119 : decode cX0_beside 119 = .ok (.iload 8, 2) := dk_21 8 (dk_at dksX0_beside_5 2 rfl rfl)
theorem dX0_beside_121 : decode cX0_beside 121 = .ok (.iastore, 1) := dk_79 (dk_at dksX0_beside_5 4 rfl rfl)
theorem dX0_beside_122 : decode cX0_beside 122 = .ok (.lload 9, 2) := dk_22 9 (dk_at dksX0_beside_5 5 rfl rfl)
theorem dX0_beside_124 : decode cX0_beside 124 = .ok (.lreturn, 1) := dk_173 (dk_at dksX0_beside_5 7 rfl rfl)
theorem dX0_beside_125 : decode cX0_beside 125 = .ok (.astore 11, 2) := dk_58 11 (dk_at dksX0_beside_5 8 rfl rfl)
theorem dX0_beside_127 : decode cX0_beside 127 = .ok (.aload_n 0, 1) := dk_42 (dk_at dksX0_beside_5 10 rfl rfl)
theorem dX0_beside_128 : decode cX0_beside 128 = .ok (.getfield 29, 3) := dk_180 0 29 (dk_at dksX0_beside_5 11 rfl rfl)
theorem dX0_beside_131 : decode cX0_beside 131 = .ok (.bipush 24, 2) := dk_16 24 (dk_at dksX0_beside_5 14 rfl rfl)
theorem dX0_beside_133 : decode cX0_beside 133 = .ok (.iload_n 2, 1) := dk_28 (dk_at dksX0_beside_5 16 rfl rfl)
theorem dX0_beside_134 : decode cX0_beside 134 = .ok (.imul, 1) := dk_104 (dk_at dksX0_beside_5 17 rfl rfl)
theorem dX0_beside_135 : decode cX0_beside 135 = .ok (.iload_n 3, 1) := dk_29 (dk_at dksX0_beside_5 18 rfl rfl)
theorem dX0_beside_136 : decode cX0_beside 136 = .ok (.iadd, 1) := dk_96 (dk_at dksX0_beside_5 19 rfl rfl)
theorem dX0_beside_137 : decode cX0_beside 137 = .ok (.iload 8, 2) := dk_21 8 (dk_at dksX0_beside_5 20 rfl rfl)
theorem dX0_beside_139 : decode cX0_beside 139 = .ok (.iastore, 1) := dk_79 (dk_at dksX0_beside_5 22 rfl rfl)
theorem dX0_beside_140 : decode cX0_beside 140 = .ok (.aload 11, 2) := dk_25 11 (dk_at dksX0_beside_6 0 rfl rfl)
theorem dX0_beside_142 : decode cX0_beside 142 = .ok (.athrow, 1) := dk_191 (dk_at dksX0_beside_6 2 rfl rfl)
abbrev cX0_sticks : ByteArray := prog_1_method_42_code
def yX0_sticks : MethodName := ⟨RX0, "sticks", "(IIIII)J"⟩
def dkwX0_sticks_6 : List UInt8 := [20, 1, 37, 22, 10, 109, 173]
abbrev dktX0_sticks_6 : List UInt8 := dkwX0_sticks_6 ++ []
def dkwX0_sticks_5 : List UInt8 := [55, 14, 22, 12, 55, 10, 22, 14, 55, 12, 167, 255, 234, 21, 5, 154, 0, 8, 22, 8, 167, 0, 6]
abbrev dktX0_sticks_5 : List UInt8 := dkwX0_sticks_5 ++ dktX0_sticks_6
def dkwX0_sticks_4 : List UInt8 := [22, 8, 184, 1, 43, 55, 10, 20, 1, 37, 55, 12, 22, 12, 9, 148, 153, 0, 21, 22, 10, 22, 12, 113]
abbrev dktX0_sticks_4 : List UInt8 := dkwX0_sticks_4 ++ dktX0_sticks_5
def dkwX0_sticks_3 : List UInt8 := [180, 0, 51, 27, 182, 0, 246, 192, 0, 3, 182, 1, 5, 105, 21, 4, 133, 22, 6, 105, 97, 55, 8]
abbrev dktX0_sticks_3 : List UInt8 := dkwX0_sticks_3 ++ dktX0_sticks_4
def dkwX0_sticks_2 : List UInt8 := [20, 1, 3, 173, 42, 42, 180, 0, 51, 27, 182, 0, 246, 192, 0, 3, 182, 0, 253, 20, 1, 37, 42, 42]
abbrev dktX0_sticks_2 : List UInt8 := dkwX0_sticks_2 ++ dktX0_sticks_3
def dkwX0_sticks_1 : List UInt8 := [20, 1, 3, 173, 42, 27, 28, 29, 3, 182, 1, 39, 55, 6, 22, 6, 20, 1, 3, 148, 154, 0, 7]
abbrev dktX0_sticks_1 : List UInt8 := dkwX0_sticks_1 ++ dktX0_sticks_2
def dkwX0_sticks_0 : List UInt8 := [21, 4, 133, 9, 20, 1, 37, 184, 0, 119, 153, 0, 14, 21, 5, 133, 9, 10, 184, 0, 119, 154, 0, 7]
abbrev dktX0_sticks_0 : List UInt8 := dkwX0_sticks_0 ++ dktX0_sticks_1
theorem dksX0_sticks_0 : cX0_sticks.data.toList.drop 0 = dktX0_sticks_0 := by decide +kernel
theorem dksX0_sticks_1 : cX0_sticks.data.toList.drop 24 = dktX0_sticks_1 := dk_seg dksX0_sticks_0 24 rfl rfl
theorem dksX0_sticks_2 : cX0_sticks.data.toList.drop 47 = dktX0_sticks_2 := dk_seg dksX0_sticks_1 23 rfl rfl
theorem dksX0_sticks_3 : cX0_sticks.data.toList.drop 71 = dktX0_sticks_3 := dk_seg dksX0_sticks_2 24 rfl rfl
theorem dksX0_sticks_4 : cX0_sticks.data.toList.drop 94 = dktX0_sticks_4 := dk_seg dksX0_sticks_3 23 rfl rfl
theorem dksX0_sticks_5 : cX0_sticks.data.toList.drop 118 = dktX0_sticks_5 := dk_seg dksX0_sticks_4 24 rfl rfl
theorem dksX0_sticks_6 : cX0_sticks.data.toList.drop 141 = dktX0_sticks_6 := dk_seg dksX0_sticks_5 23 rfl rfl
theorem dX0_sticks_0 : decode cX0_sticks 0 = .ok (.iload 4, 2) := dk_21 4 (dk_at dksX0_sticks_0 0 rfl rfl)
theorem dX0_sticks_2 : decode cX0_sticks 2 = .ok (.i2l, 1) := dk_133 (dk_at dksX0_sticks_0 2 rfl rfl)
theorem dX0_sticks_3 : decode cX0_sticks 3 = .ok (.lconst 0, 1) := dk_9 (dk_at dksX0_sticks_0 3 rfl rfl)
theorem dX0_sticks_4 : decode cX0_sticks 4 = .ok (.ldc2_w 293, 3) := dk_20 1 37 (dk_at dksX0_sticks_0 4 rfl rfl)
theorem dX0_sticks_7 : decode cX0_sticks 7 = .ok (.invokestatic 119, 3) := dk_184 0 119 (dk_at dksX0_sticks_0 7 rfl rfl)
theorem dX0_sticks_10 : decode cX0_sticks 10 = .ok (.ifCond .eq 14, 3) := dk_153 0 14 (dk_at dksX0_sticks_0 10 rfl rfl)
theorem dX0_sticks_13 : decode cX0_sticks 13 = .ok (.iload 5, 2) := dk_21 5 (dk_at dksX0_sticks_0 13 rfl rfl)
theorem dX0_sticks_15 : decode cX0_sticks 15 = .ok (.i2l, 1) := dk_133 (dk_at dksX0_sticks_0 15 rfl rfl)
theorem dX0_sticks_16 : decode cX0_sticks 16 = .ok (.lconst 0, 1) := dk_9 (dk_at dksX0_sticks_0 16 rfl rfl)
theorem dX0_sticks_17 : decode cX0_sticks 17 = .ok (.lconst 1, 1) := dk_10 (dk_at dksX0_sticks_0 17 rfl rfl)
theorem dX0_sticks_18 : decode cX0_sticks 18 = .ok (.invokestatic 119, 3) := dk_184 0 119 (dk_at dksX0_sticks_0 18 rfl rfl)
theorem dX0_sticks_21 : decode cX0_sticks 21 = .ok (.ifCond .ne 7, 3) := dk_154 0 7 (dk_at dksX0_sticks_0 21 rfl rfl)
theorem dX0_sticks_24 : decode cX0_sticks 24 = .ok (.ldc2_w 259, 3) := dk_20 1 3 (dk_at dksX0_sticks_1 0 rfl rfl)
theorem dX0_sticks_27 : decode cX0_sticks 27 = .ok (.lreturn, 1) := dk_173 (dk_at dksX0_sticks_1 3 rfl rfl)
theorem dX0_sticks_28 : decode cX0_sticks 28 = .ok (.aload_n 0, 1) := dk_42 (dk_at dksX0_sticks_1 4 rfl rfl)
theorem dX0_sticks_29 : decode cX0_sticks 29 = .ok (.iload_n 1, 1) := dk_27 (dk_at dksX0_sticks_1 5 rfl rfl)
theorem dX0_sticks_30 : decode cX0_sticks 30 = .ok (.iload_n 2, 1) := dk_28 (dk_at dksX0_sticks_1 6 rfl rfl)
theorem dX0_sticks_31 : decode cX0_sticks 31 = .ok (.iload_n 3, 1) := dk_29 (dk_at dksX0_sticks_1 7 rfl rfl)
theorem dX0_sticks_32 : decode cX0_sticks 32 = .ok (.iconst 0, 1) := dk_3 (dk_at dksX0_sticks_1 8 rfl rfl)
theorem dX0_sticks_33 : decode cX0_sticks 33 = .ok (.invokevirtual 295, 3) := dk_182 1 39 (dk_at dksX0_sticks_1 9 rfl rfl)
theorem dX0_sticks_36 : decode cX0_sticks 36 = .ok (.lstore 6, 2) := dk_55 6 (dk_at dksX0_sticks_1 12 rfl rfl)
theorem dX0_sticks_38 : decode cX0_sticks 38 = .ok (.lload 6, 2) := dk_22 6 (dk_at dksX0_sticks_1 14 rfl rfl)
theorem dX0_sticks_40 : decode cX0_sticks 40 = .ok (.ldc2_w 259, 3) := dk_20 1 3 (dk_at dksX0_sticks_1 16 rfl rfl)
theorem dX0_sticks_43 : decode cX0_sticks 43 = .ok (.lcmp, 1) := dk_148 (dk_at dksX0_sticks_1 19 rfl rfl)
theorem dX0_sticks_44 : decode cX0_sticks 44 = .ok (.ifCond .ne 7, 3) := dk_154 0 7 (dk_at dksX0_sticks_1 20 rfl rfl)
theorem dX0_sticks_47 : decode cX0_sticks 47 = .ok (.ldc2_w 259, 3) := dk_20 1 3 (dk_at dksX0_sticks_2 0 rfl rfl)
theorem dX0_sticks_50 : decode cX0_sticks 50 = .ok (.lreturn, 1) := dk_173 (dk_at dksX0_sticks_2 3 rfl rfl)
theorem dX0_sticks_51 : decode cX0_sticks 51 = .ok (.aload_n 0, 1) := dk_42 (dk_at dksX0_sticks_2 4 rfl rfl)
theorem dX0_sticks_52 : decode cX0_sticks 52 = .ok (.aload_n 0, 1) := dk_42 (dk_at dksX0_sticks_2 5 rfl rfl)
theorem dX0_sticks_53 : decode cX0_sticks 53 = .ok (.getfield 51, 3) := dk_180 0 51 (dk_at dksX0_sticks_2 6 rfl rfl)
theorem dX0_sticks_56 : decode cX0_sticks 56 = .ok (.iload_n 1, 1) := dk_27 (dk_at dksX0_sticks_2 9 rfl rfl)
theorem dX0_sticks_57 : decode cX0_sticks 57 = .ok (.invokevirtual 246, 3) := dk_182 0 246 (dk_at dksX0_sticks_2 10 rfl rfl)
theorem dX0_sticks_60 : decode cX0_sticks 60 = .ok (.checkcast 3, 3) := dk_192 0 3 (dk_at dksX0_sticks_2 13 rfl rfl)
theorem dX0_sticks_63 : decode cX0_sticks 63 = .ok (.invokevirtual 253, 3) := dk_182 0 253 (dk_at dksX0_sticks_2 16 rfl rfl)
theorem dX0_sticks_66 : decode cX0_sticks 66 = .ok (.ldc2_w 293, 3) := dk_20 1 37 (dk_at dksX0_sticks_2 19 rfl rfl)
theorem dX0_sticks_69 : decode cX0_sticks 69 = .ok (.aload_n 0, 1) := dk_42 (dk_at dksX0_sticks_2 22 rfl rfl)
theorem dX0_sticks_70 : decode cX0_sticks 70 = .ok (.aload_n 0, 1) := dk_42 (dk_at dksX0_sticks_2 23 rfl rfl)
theorem dX0_sticks_71 : decode cX0_sticks 71 = .ok (.getfield 51, 3) := dk_180 0 51 (dk_at dksX0_sticks_3 0 rfl rfl)
theorem dX0_sticks_74 : decode cX0_sticks 74 = .ok (.iload_n 1, 1) := dk_27 (dk_at dksX0_sticks_3 3 rfl rfl)
theorem dX0_sticks_75 : decode cX0_sticks 75 = .ok (.invokevirtual 246, 3) := dk_182 0 246 (dk_at dksX0_sticks_3 4 rfl rfl)
theorem dX0_sticks_78 : decode cX0_sticks 78 = .ok (.checkcast 3, 3) := dk_192 0 3 (dk_at dksX0_sticks_3 7 rfl rfl)
theorem dX0_sticks_81 : decode cX0_sticks 81 = .ok (.invokevirtual 261, 3) := dk_182 1 5 (dk_at dksX0_sticks_3 10 rfl rfl)
theorem dX0_sticks_84 : decode cX0_sticks 84 = .ok (.lmul, 1) := dk_105 (dk_at dksX0_sticks_3 13 rfl rfl)
theorem dX0_sticks_85 : decode cX0_sticks 85 = .ok (.iload 4, 2) := dk_21 4 (dk_at dksX0_sticks_3 14 rfl rfl)
theorem dX0_sticks_87 : decode cX0_sticks 87 = .ok (.i2l, 1) := dk_133 (dk_at dksX0_sticks_3 16 rfl rfl)
theorem dX0_sticks_88 : decode cX0_sticks 88 = .ok (.lload 6, 2) := dk_22 6 (dk_at dksX0_sticks_3 17 rfl rfl)
theorem dX0_sticks_90 : decode cX0_sticks 90 = .ok (.lmul, 1) := dk_105 (dk_at dksX0_sticks_3 19 rfl rfl)
theorem dX0_sticks_91 : decode cX0_sticks 91 = .ok (.ladd, 1) := dk_97 (dk_at dksX0_sticks_3 20 rfl rfl)
theorem dX0_sticks_92 : decode cX0_sticks 92 = .ok (.lstore 8, 2) := dk_55 8 (dk_at dksX0_sticks_3 21 rfl rfl)
theorem dX0_sticks_94 : decode cX0_sticks 94 = .ok (.lload 8, 2) := dk_22 8 (dk_at dksX0_sticks_4 0 rfl rfl)
theorem dX0_sticks_96 : decode cX0_sticks 96 = .ok (.invokestatic 299, 3) := dk_184 1 43 (dk_at dksX0_sticks_4 2 rfl rfl)
theorem dX0_sticks_99 : decode cX0_sticks 99 = .ok (.lstore 10, 2) := dk_55 10 (dk_at dksX0_sticks_4 5 rfl rfl)
theorem dX0_sticks_101 : decode cX0_sticks 101 = .ok (.ldc2_w 293, 3) := dk_20 1 37 (dk_at dksX0_sticks_4 7 rfl rfl)
theorem dX0_sticks_104 : decode cX0_sticks 104 = .ok (.lstore 12, 2) := dk_55 12 (dk_at dksX0_sticks_4 10 rfl rfl)
theorem dX0_sticks_106 : decode cX0_sticks 106 = .ok (.lload 12, 2) := dk_22 12 (dk_at dksX0_sticks_4 12 rfl rfl)
theorem dX0_sticks_108 : decode cX0_sticks 108 = .ok (.lconst 0, 1) := dk_9 (dk_at dksX0_sticks_4 14 rfl rfl)
theorem dX0_sticks_109 : decode cX0_sticks 109 = .ok (.lcmp, 1) := dk_148 (dk_at dksX0_sticks_4 15 rfl rfl)
theorem dX0_sticks_110 : decode cX0_sticks 110 = .ok (.ifCond .eq 21, 3) := dk_153 0 21 (dk_at dksX0_sticks_4 16 rfl rfl)
theorem dX0_sticks_113 : decode cX0_sticks 113 = .ok (.lload 10, 2) := dk_22 10 (dk_at dksX0_sticks_4 19 rfl rfl)
theorem dX0_sticks_115 : decode cX0_sticks 115 = .ok (.lload 12, 2) := dk_22 12 (dk_at dksX0_sticks_4 21 rfl rfl)
theorem dX0_sticks_117 : decode cX0_sticks 117 = .ok (.lrem, 1) := dk_113 (dk_at dksX0_sticks_4 23 rfl rfl)
theorem dX0_sticks_118 : decode cX0_sticks 118 = .ok (.lstore 14, 2) := dk_55 14 (dk_at dksX0_sticks_5 0 rfl rfl)
theorem dX0_sticks_120 : decode cX0_sticks 120 = .ok (.lload 12, 2) := dk_22 12 (dk_at dksX0_sticks_5 2 rfl rfl)
theorem dX0_sticks_122 : decode cX0_sticks 122 = .ok (.lstore 10, 2) := dk_55 10 (dk_at dksX0_sticks_5 4 rfl rfl)
theorem dX0_sticks_124 : decode cX0_sticks 124 = .ok (.lload 14, 2) := dk_22 14 (dk_at dksX0_sticks_5 6 rfl rfl)
theorem dX0_sticks_126 : decode cX0_sticks 126 = .ok (.lstore 12, 2) := dk_55 12 (dk_at dksX0_sticks_5 8 rfl rfl)
theorem dX0_sticks_128 : decode cX0_sticks 128 = .ok (.goto (-22), 3) := dk_167 255 234 (dk_at dksX0_sticks_5 10 rfl rfl)
theorem dX0_sticks_131 : decode cX0_sticks 131 = .ok (.iload 5, 2) := dk_21 5 (dk_at dksX0_sticks_5 13 rfl rfl)
theorem dX0_sticks_133 : decode cX0_sticks 133 = .ok (.ifCond .ne 8, 3) := dk_154 0 8 (dk_at dksX0_sticks_5 15 rfl rfl)
theorem dX0_sticks_136 : decode cX0_sticks 136 = .ok (.lload 8, 2) := dk_22 8 (dk_at dksX0_sticks_5 18 rfl rfl)
theorem dX0_sticks_138 : decode cX0_sticks 138 = .ok (.goto 6, 3) := dk_167 0 6 (dk_at dksX0_sticks_5 20 rfl rfl)
theorem dX0_sticks_141 : decode cX0_sticks 141 = .ok (.ldc2_w 293, 3) := dk_20 1 37 (dk_at dksX0_sticks_6 0 rfl rfl)
theorem dX0_sticks_144 : decode cX0_sticks 144 = .ok (.lload 10, 2) := dk_22 10 (dk_at dksX0_sticks_6 3 rfl rfl)
theorem dX0_sticks_146 : decode cX0_sticks 146 = .ok (.ldiv, 1) := dk_109 (dk_at dksX0_sticks_6 5 rfl rfl)
theorem dX0_sticks_147 : decode cX0_sticks 147 = .ok (.lreturn, 1) := dk_173 (dk_at dksX0_sticks_6 6 rfl rfl)
abbrev cX0_shift : ByteArray := prog_1_method_43_code
def yX0_shift : MethodName := ⟨RX0, "shift", "(II)J"⟩
def dkwX0_shift_6 : List UInt8 := [3, 7, 184, 1, 49, 25, 6, 191]
abbrev dktX0_shift_6 : List UInt8 := dkwX0_shift_6 ++ []
def dkwX0_shift_5 : List UInt8 := [55, 4, 45, 3, 42, 180, 0, 36, 3, 7, 184, 1, 49, 22, 4, 173, 58, 6, 45, 3, 42, 180, 0, 36]
abbrev dktX0_shift_5 : List UInt8 := dkwX0_shift_5 ++ dktX0_shift_6
def dkwX0_shift_4 : List UInt8 := [182, 0, 246, 192, 0, 3, 182, 0, 253, 42, 42, 180, 0, 51, 27, 182, 0, 246, 192, 0, 3, 182, 1, 5]
abbrev dktX0_shift_4 : List UInt8 := dkwX0_shift_4 ++ dktX0_shift_5
def dkwX0_shift_3 : List UInt8 := [46, 28, 96, 184, 0, 162, 184, 0, 168, 79, 132, 4, 1, 167, 255, 219, 42, 42, 180, 0, 51, 27]
abbrev dktX0_shift_3 : List UInt8 := dkwX0_shift_3 ++ dktX0_shift_4
def dkwX0_shift_2 : List UInt8 := [21, 4, 42, 180, 0, 125, 162, 0, 34, 42, 180, 0, 36, 21, 4, 3, 16, 23, 42, 180, 0, 36, 21, 4]
abbrev dktX0_shift_2 : List UInt8 := dkwX0_shift_2 ++ dktX0_shift_3
def dkwX0_shift_1 : List UInt8 := [20, 1, 3, 173, 42, 180, 0, 74, 78, 42, 180, 0, 36, 3, 45, 3, 7, 184, 1, 49, 3, 54, 4]
abbrev dktX0_shift_1 : List UInt8 := dkwX0_shift_1 ++ dktX0_shift_2
def dkwX0_shift_0 : List UInt8 := [42, 27, 182, 0, 243, 153, 0, 17, 28, 133, 20, 1, 47, 20, 0, 123, 184, 0, 119, 154, 0, 7]
abbrev dktX0_shift_0 : List UInt8 := dkwX0_shift_0 ++ dktX0_shift_1
theorem dksX0_shift_0 : cX0_shift.data.toList.drop 0 = dktX0_shift_0 := by decide +kernel
theorem dksX0_shift_1 : cX0_shift.data.toList.drop 22 = dktX0_shift_1 := dk_seg dksX0_shift_0 22 rfl rfl
theorem dksX0_shift_2 : cX0_shift.data.toList.drop 45 = dktX0_shift_2 := dk_seg dksX0_shift_1 23 rfl rfl
theorem dksX0_shift_3 : cX0_shift.data.toList.drop 69 = dktX0_shift_3 := dk_seg dksX0_shift_2 24 rfl rfl
theorem dksX0_shift_4 : cX0_shift.data.toList.drop 91 = dktX0_shift_4 := dk_seg dksX0_shift_3 22 rfl rfl
theorem dksX0_shift_5 : cX0_shift.data.toList.drop 115 = dktX0_shift_5 := dk_seg dksX0_shift_4 24 rfl rfl
theorem dksX0_shift_6 : cX0_shift.data.toList.drop 139 = dktX0_shift_6 := dk_seg dksX0_shift_5 24 rfl rfl
theorem dX0_shift_0 : decode cX0_shift 0 = .ok (.aload_n 0, 1) := dk_42 (dk_at dksX0_shift_0 0 rfl rfl)
theorem dX0_shift_1 : decode cX0_shift 1 = .ok (.iload_n 1, 1) := dk_27 (dk_at dksX0_shift_0 1 rfl rfl)
theorem dX0_shift_2 : decode cX0_shift 2 = .ok (.invokevirtual 243, 3) := dk_182 0 243 (dk_at dksX0_shift_0 2 rfl rfl)
theorem dX0_shift_5 : decode cX0_shift 5 = .ok (.ifCond .eq 17, 3) := dk_153 0 17 (dk_at dksX0_shift_0 5 rfl rfl)
theorem dX0_shift_8 : decode cX0_shift 8 = .ok (.iload_n 2, 1) := dk_28 (dk_at dksX0_shift_0 8 rfl rfl)
theorem dX0_shift_9 : decode cX0_shift 9 = .ok (.i2l, 1) := dk_133 (dk_at dksX0_shift_0 9 rfl rfl)
theorem dX0_shift_10 : decode cX0_shift 10 = .ok (.ldc2_w 303, 3) := dk_20 1 47 (dk_at dksX0_shift_0 10 rfl rfl)
theorem dX0_shift_13 : decode cX0_shift 13 = .ok (.ldc2_w 123, 3) := dk_20 0 123 (dk_at dksX0_shift_0 13 rfl rfl)
theorem dX0_shift_16 : decode cX0_shift 16 = .ok (.invokestatic 119, 3) := dk_184 0 119 (dk_at dksX0_shift_0 16 rfl rfl)
theorem dX0_shift_19 : decode cX0_shift 19 = .ok (.ifCond .ne 7, 3) := dk_154 0 7 (dk_at dksX0_shift_0 19 rfl rfl)
theorem dX0_shift_22 : decode cX0_shift 22 = .ok (.ldc2_w 259, 3) := dk_20 1 3 (dk_at dksX0_shift_1 0 rfl rfl)
theorem dX0_shift_25 : decode cX0_shift 25 = .ok (.lreturn, 1) := dk_173 (dk_at dksX0_shift_1 3 rfl rfl)
theorem dX0_shift_26 : decode cX0_shift 26 = .ok (.aload_n 0, 1) := dk_42 (dk_at dksX0_shift_1 4 rfl rfl)
theorem dX0_shift_27 : decode cX0_shift 27 = .ok (.getfield 74, 3) := dk_180 0 74 (dk_at dksX0_shift_1 5 rfl rfl)
theorem dX0_shift_30 : decode cX0_shift 30 = .ok (.astore_n 3, 1) := dk_78 (dk_at dksX0_shift_1 8 rfl rfl)
theorem dX0_shift_31 : decode cX0_shift 31 = .ok (.aload_n 0, 1) := dk_42 (dk_at dksX0_shift_1 9 rfl rfl)
theorem dX0_shift_32 : decode cX0_shift 32 = .ok (.getfield 36, 3) := dk_180 0 36 (dk_at dksX0_shift_1 10 rfl rfl)
theorem dX0_shift_35 : decode cX0_shift 35 = .ok (.iconst 0, 1) := dk_3 (dk_at dksX0_shift_1 13 rfl rfl)
theorem dX0_shift_36 : decode cX0_shift 36 = .ok (.aload_n 3, 1) := dk_45 (dk_at dksX0_shift_1 14 rfl rfl)
theorem dX0_shift_37 : decode cX0_shift 37 = .ok (.iconst 0, 1) := dk_3 (dk_at dksX0_shift_1 15 rfl rfl)
theorem dX0_shift_38 : decode cX0_shift 38 = .ok (.iconst 4, 1) := dk_7 (dk_at dksX0_shift_1 16 rfl rfl)
theorem dX0_shift_39 : decode cX0_shift 39 = .ok (.invokestatic 305, 3) := dk_184 1 49 (dk_at dksX0_shift_1 17 rfl rfl)
theorem dX0_shift_42 : decode cX0_shift 42 = .ok (.iconst 0, 1) := dk_3 (dk_at dksX0_shift_1 20 rfl rfl)
theorem dX0_shift_43 : decode cX0_shift 43 = .ok (.istore 4, 2) := dk_54 4 (dk_at dksX0_shift_1 21 rfl rfl)
theorem dX0_shift_45 : decode cX0_shift 45 = .ok (.iload 4, 2) := dk_21 4 (dk_at dksX0_shift_2 0 rfl rfl)
theorem dX0_shift_47 : decode cX0_shift 47 = .ok (.aload_n 0, 1) := dk_42 (dk_at dksX0_shift_2 2 rfl rfl)
theorem dX0_shift_48 : decode cX0_shift 48 = .ok (.getfield 125, 3) := dk_180 0 125 (dk_at dksX0_shift_2 3 rfl rfl)
theorem dX0_shift_51 : decode cX0_shift 51 = .ok (.if_icmp .ge 34, 3) := dk_162 0 34 (dk_at dksX0_shift_2 6 rfl rfl)
theorem dX0_shift_54 : decode cX0_shift 54 = .ok (.aload_n 0, 1) := dk_42 (dk_at dksX0_shift_2 9 rfl rfl)
theorem dX0_shift_55 : decode cX0_shift 55 = .ok (.getfield 36, 3) := dk_180 0 36 (dk_at dksX0_shift_2 10 rfl rfl)
theorem dX0_shift_58 : decode cX0_shift 58 = .ok (.iload 4, 2) := dk_21 4 (dk_at dksX0_shift_2 13 rfl rfl)
theorem dX0_shift_60 : decode cX0_shift 60 = .ok (.iconst 0, 1) := dk_3 (dk_at dksX0_shift_2 15 rfl rfl)
theorem dX0_shift_61 : decode cX0_shift 61 = .ok (.bipush 23, 2) := dk_16 23 (dk_at dksX0_shift_2 16 rfl rfl)
theorem dX0_shift_63 : decode cX0_shift 63 = .ok (.aload_n 0, 1) := dk_42 (dk_at dksX0_shift_2 18 rfl rfl)
theorem dX0_shift_64 : decode cX0_shift 64 = .ok (.getfield 36, 3) := dk_180 0 36 (dk_at dksX0_shift_2 19 rfl rfl)
theorem dX0_shift_67 : decode cX0_shift 67 = .ok (.iload 4, 2) := dk_21 4 (dk_at dksX0_shift_2 22 rfl rfl)
theorem dX0_shift_69 : decode cX0_shift 69 = .ok (.iaload, 1) := dk_46 (dk_at dksX0_shift_3 0 rfl rfl)
theorem dX0_shift_70 : decode cX0_shift 70 = .ok (.iload_n 2, 1) := dk_28 (dk_at dksX0_shift_3 1 rfl rfl)
theorem dX0_shift_71 : decode cX0_shift 71 = .ok (.iadd, 1) := dk_96 (dk_at dksX0_shift_3 2 rfl rfl)
theorem dX0_shift_72 : decode cX0_shift 72 = .ok (.invokestatic 162, 3) := dk_184 0 162 (dk_at dksX0_shift_3 3 rfl rfl)
theorem dX0_shift_75 : decode cX0_shift 75 = .ok (.invokestatic 168, 3) := dk_184 0 168 (dk_at dksX0_shift_3 6 rfl rfl)
theorem dX0_shift_78 : decode cX0_shift 78 = .ok (.iastore, 1) := dk_79 (dk_at dksX0_shift_3 9 rfl rfl)
theorem dX0_shift_79 : decode cX0_shift 79 = .ok (.iinc 4 1, 3) := dk_132 4 1 (dk_at dksX0_shift_3 10 rfl rfl)
theorem dX0_shift_82 : decode cX0_shift 82 = .ok (.goto (-37), 3) := dk_167 255 219 (dk_at dksX0_shift_3 13 rfl rfl)
theorem dX0_shift_85 : decode cX0_shift 85 = .ok (.aload_n 0, 1) := dk_42 (dk_at dksX0_shift_3 16 rfl rfl)
theorem dX0_shift_86 : decode cX0_shift 86 = .ok (.aload_n 0, 1) := dk_42 (dk_at dksX0_shift_3 17 rfl rfl)
theorem dX0_shift_87 : decode cX0_shift 87 = .ok (.getfield 51, 3) := dk_180 0 51 (dk_at dksX0_shift_3 18 rfl rfl)
theorem dX0_shift_90 : decode cX0_shift 90 = .ok (.iload_n 1, 1) := dk_27 (dk_at dksX0_shift_3 21 rfl rfl)
theorem dX0_shift_91 : decode cX0_shift 91 = .ok (.invokevirtual 246, 3) := dk_182 0 246 (dk_at dksX0_shift_4 0 rfl rfl)
theorem dX0_shift_94 : decode cX0_shift 94 = .ok (.checkcast 3, 3) := dk_192 0 3 (dk_at dksX0_shift_4 3 rfl rfl)
theorem dX0_shift_97 : decode cX0_shift 97 = .ok (.invokevirtual 253, 3) := dk_182 0 253 (dk_at dksX0_shift_4 6 rfl rfl)
theorem dX0_shift_100 : decode cX0_shift 100 = .ok (.aload_n 0, 1) := dk_42 (dk_at dksX0_shift_4 9 rfl rfl)
theorem dX0_shift_101 : decode cX0_shift 101 = .ok (.aload_n 0, 1) := dk_42 (dk_at dksX0_shift_4 10 rfl rfl)
theorem dX0_shift_102 : decode cX0_shift 102 = .ok (.getfield 51, 3) := dk_180 0 51 (dk_at dksX0_shift_4 11 rfl rfl)
theorem dX0_shift_105 : decode cX0_shift 105 = .ok (.iload_n 1, 1) := dk_27 (dk_at dksX0_shift_4 14 rfl rfl)
theorem dX0_shift_106 : decode cX0_shift 106 = .ok (.invokevirtual 246, 3) := dk_182 0 246 (dk_at dksX0_shift_4 15 rfl rfl)
theorem dX0_shift_109 : decode cX0_shift 109 = .ok (.checkcast 3, 3) := dk_192 0 3 (dk_at dksX0_shift_4 18 rfl rfl)
theorem dX0_shift_112 : decode cX0_shift 112 = .ok (.invokevirtual 261, 3) := dk_182 1 5 (dk_at dksX0_shift_4 21 rfl rfl)
theorem dX0_shift_115 : decode cX0_shift 115 = .ok (.lstore 4, 2) := dk_55 4 (dk_at dksX0_shift_5 0 rfl rfl)
theorem dX0_shift_117 : decode cX0_shift 117 = .ok (.aload_n 3, 1) := dk_45 (dk_at dksX0_shift_5 2 rfl rfl)
theorem dX0_shift_118 : decode cX0_shift 118 = .ok (.iconst 0, 1) := dk_3 (dk_at dksX0_shift_5 3 rfl rfl)
theorem dX0_shift_119 : decode cX0_shift 119 = .ok (.aload_n 0, 1) := dk_42 (dk_at dksX0_shift_5 4 rfl rfl)
theorem dX0_shift_120 : decode cX0_shift 120 = .ok (.getfield 36, 3) := dk_180 0 36 (dk_at dksX0_shift_5 5 rfl rfl)
theorem dX0_shift_123 : decode cX0_shift 123 = .ok (.iconst 0, 1) := dk_3 (dk_at dksX0_shift_5 8 rfl rfl)
theorem dX0_shift_124 : decode cX0_shift 124 = .ok (.iconst 4, 1) := dk_7 (dk_at dksX0_shift_5 9 rfl rfl)
theorem dX0_shift_125 : decode cX0_shift 125 = .ok (.invokestatic 305, 3) := dk_184 1 49 (dk_at dksX0_shift_5 10 rfl rfl)
theorem dX0_shift_128 : decode cX0_shift 128 = .ok (.lload 4, 2) := dk_22 4 (dk_at dksX0_shift_5 13 rfl rfl)
theorem dX0_shift_130 : decode cX0_shift 130 = .ok (.lreturn, 1) := dk_173 (dk_at dksX0_shift_5 15 rfl rfl)
theorem dX0_shift_131 : decode cX0_shift 131 = .ok (.astore 6, 2) := dk_58 6 (dk_at dksX0_shift_5 16 rfl rfl)
theorem dX0_shift_133 : decode cX0_shift 133 = .ok (.aload_n 3, 1) := dk_45 (dk_at dksX0_shift_5 18 rfl rfl)
theorem dX0_shift_134 : decode cX0_shift 134 = .ok (.iconst 0, 1) := dk_3 (dk_at dksX0_shift_5 19 rfl rfl)
theorem dX0_shift_135 : decode cX0_shift 135 = .ok (.aload_n 0, 1) := dk_42 (dk_at dksX0_shift_5 20 rfl rfl)
theorem dX0_shift_136 : decode cX0_shift 136 = .ok (.getfield 36, 3) := dk_180 0 36 (dk_at dksX0_shift_5 21 rfl rfl)
theorem dX0_shift_139 : decode cX0_shift 139 = .ok (.iconst 0, 1) := dk_3 (dk_at dksX0_shift_6 0 rfl rfl)
theorem dX0_shift_140 : decode cX0_shift 140 = .ok (.iconst 4, 1) := dk_7 (dk_at dksX0_shift_6 1 rfl rfl)
theorem dX0_shift_141 : decode cX0_shift 141 = .ok (.invokestatic 305, 3) := dk_184 1 49 (dk_at dksX0_shift_6 2 rfl rfl)
theorem dX0_shift_144 : decode cX0_shift 144 = .ok (.aload 6, 2) := dk_25 6 (dk_at dksX0_shift_6 5 rfl rfl)
theorem dX0_shift_146 : decode cX0_shift 146 = .ok (.athrow, 1) := dk_191 (dk_at dksX0_shift_6 7 rfl rfl)
abbrev cX0_finest : ByteArray := prog_1_method_44_code
def yX0_finest : MethodName := ⟨RX0, "finest", "(IIII)I"⟩
def dkwX0_finest_10 : List UInt8 := [42, 180, 0, 33, 16, 24, 28, 104, 29, 96, 21, 5, 79, 25, 15, 191, 21, 6, 172]
abbrev dktX0_finest_10 : List UInt8 := dkwX0_finest_10 ++ []
def dkwX0_finest_9 : List UInt8 := [132, 9, 1, 167, 255, 100, 42, 180, 0, 33, 16, 24, 28, 104, 29, 96, 21, 5, 79, 167, 0, 21, 58, 15]
abbrev dktX0_finest_9 : List UInt8 := dkwX0_finest_9 ++ dktX0_finest_10
def dkwX0_finest_8 : List UInt8 := [159, 0, 14, 22, 12, 22, 7, 148, 155, 0, 6, 167, 0, 11, 21, 9, 54, 6, 22, 12, 55, 7]
abbrev dktX0_finest_8 : List UInt8 := dkwX0_finest_8 ++ dktX0_finest_9
def dkwX0_finest_7 : List UInt8 := [21, 14, 46, 42, 180, 0, 58, 21, 14, 46, 100, 133, 97, 55, 12, 132, 14, 1, 167, 255, 190, 21, 6, 2]
abbrev dktX0_finest_7 : List UInt8 := dkwX0_finest_7 ++ dktX0_finest_8
def dkwX0_finest_6 : List UInt8 := [180, 0, 58, 21, 14, 46, 2, 160, 0, 7, 9, 167, 0, 25, 20, 0, 142, 167, 0, 19, 42, 180, 0, 61]
abbrev dktX0_finest_6 : List UInt8 := dkwX0_finest_6 ++ dktX0_finest_7
def dkwX0_finest_5 : List UInt8 := [21, 14, 25, 10, 180, 0, 174, 162, 0, 62, 22, 12, 42, 180, 0, 61, 21, 14, 46, 2, 160, 0, 24, 42]
abbrev dktX0_finest_5 : List UInt8 := dkwX0_finest_5 ++ dktX0_finest_6
def dkwX0_finest_4 : List UInt8 := [58, 10, 42, 25, 10, 21, 4, 182, 1, 27, 54, 11, 42, 25, 10, 182, 0, 253, 9, 55, 12, 3, 54, 14]
abbrev dktX0_finest_4 : List UInt8 := dkwX0_finest_4 ++ dktX0_finest_5
def dkwX0_finest_3 : List UInt8 := [16, 24, 28, 104, 29, 96, 21, 9, 79, 42, 42, 180, 0, 51, 27, 182, 0, 246, 192, 0, 3, 182, 1, 30]
abbrev dktX0_finest_3 : List UInt8 := dkwX0_finest_3 ++ dktX0_finest_4
def dkwX0_finest_2 : List UInt8 := [96, 46, 54, 5, 2, 54, 6, 9, 55, 7, 3, 54, 9, 21, 9, 16, 8, 162, 0, 155, 42, 180, 0, 33]
abbrev dktX0_finest_2 : List UInt8 := dkwX0_finest_2 ++ dktX0_finest_3
def dkwX0_finest_1 : List UInt8 := [172, 21, 4, 133, 9, 10, 184, 0, 119, 154, 0, 6, 16, 249, 172, 42, 180, 0, 33, 16, 24, 28, 104, 29]
abbrev dktX0_finest_1 : List UInt8 := dkwX0_finest_1 ++ dktX0_finest_2
def dkwX0_finest_0 : List UInt8 := [42, 27, 182, 0, 243, 153, 0, 17, 28, 184, 0, 135, 153, 0, 10, 29, 184, 0, 139, 154, 0, 6, 16, 251]
abbrev dktX0_finest_0 : List UInt8 := dkwX0_finest_0 ++ dktX0_finest_1
theorem dksX0_finest_0 : cX0_finest.data.toList.drop 0 = dktX0_finest_0 := by decide +kernel
theorem dksX0_finest_1 : cX0_finest.data.toList.drop 24 = dktX0_finest_1 := dk_seg dksX0_finest_0 24 rfl rfl
theorem dksX0_finest_2 : cX0_finest.data.toList.drop 48 = dktX0_finest_2 := dk_seg dksX0_finest_1 24 rfl rfl
theorem dksX0_finest_3 : cX0_finest.data.toList.drop 72 = dktX0_finest_3 := dk_seg dksX0_finest_2 24 rfl rfl
theorem dksX0_finest_4 : cX0_finest.data.toList.drop 96 = dktX0_finest_4 := dk_seg dksX0_finest_3 24 rfl rfl
theorem dksX0_finest_5 : cX0_finest.data.toList.drop 120 = dktX0_finest_5 := dk_seg dksX0_finest_4 24 rfl rfl
theorem dksX0_finest_6 : cX0_finest.data.toList.drop 144 = dktX0_finest_6 := dk_seg dksX0_finest_5 24 rfl rfl
theorem dksX0_finest_7 : cX0_finest.data.toList.drop 168 = dktX0_finest_7 := dk_seg dksX0_finest_6 24 rfl rfl
theorem dksX0_finest_8 : cX0_finest.data.toList.drop 192 = dktX0_finest_8 := dk_seg dksX0_finest_7 24 rfl rfl
theorem dksX0_finest_9 : cX0_finest.data.toList.drop 214 = dktX0_finest_9 := dk_seg dksX0_finest_8 22 rfl rfl
theorem dksX0_finest_10 : cX0_finest.data.toList.drop 238 = dktX0_finest_10 := dk_seg dksX0_finest_9 24 rfl rfl
theorem dX0_finest_0 : decode cX0_finest 0 = .ok (.aload_n 0, 1) := dk_42 (dk_at dksX0_finest_0 0 rfl rfl)
theorem dX0_finest_1 : decode cX0_finest 1 = .ok (.iload_n 1, 1) := dk_27 (dk_at dksX0_finest_0 1 rfl rfl)
theorem dX0_finest_2 : decode cX0_finest 2 = .ok (.invokevirtual 243, 3) := dk_182 0 243 (dk_at dksX0_finest_0 2 rfl rfl)
theorem dX0_finest_5 : decode cX0_finest 5 = .ok (.ifCond .eq 17, 3) := dk_153 0 17 (dk_at dksX0_finest_0 5 rfl rfl)
theorem dX0_finest_8 : decode cX0_finest 8 = .ok (.iload_n 2, 1) := dk_28 (dk_at dksX0_finest_0 8 rfl rfl)
theorem dX0_finest_9 : decode cX0_finest 9 = .ok (.invokestatic 135, 3) := dk_184 0 135 (dk_at dksX0_finest_0 9 rfl rfl)
theorem dX0_finest_12 : decode cX0_finest 12 = .ok (.ifCond .eq 10, 3) := dk_153 0 10 (dk_at dksX0_finest_0 12 rfl rfl)
theorem dX0_finest_15 : decode cX0_finest 15 = .ok (.iload_n 3, 1) := dk_29 (dk_at dksX0_finest_0 15 rfl rfl)
theorem dX0_finest_16 : decode cX0_finest 16 = .ok (.invokestatic 139, 3) := dk_184 0 139 (dk_at dksX0_finest_0 16 rfl rfl)
theorem dX0_finest_19 : decode cX0_finest 19 = .ok (.ifCond .ne 6, 3) := dk_154 0 6 (dk_at dksX0_finest_0 19 rfl rfl)
theorem dX0_finest_22 : decode cX0_finest 22 = .ok (.bipush (-5), 2) := dk_16 251 (dk_at dksX0_finest_0 22 rfl rfl)
theorem dX0_finest_24 : decode cX0_finest 24 = .ok (.ireturn, 1) := dk_172 (dk_at dksX0_finest_1 0 rfl rfl)
theorem dX0_finest_25 : decode cX0_finest 25 = .ok (.iload 4, 2) := dk_21 4 (dk_at dksX0_finest_1 1 rfl rfl)
theorem dX0_finest_27 : decode cX0_finest 27 = .ok (.i2l, 1) := dk_133 (dk_at dksX0_finest_1 3 rfl rfl)
theorem dX0_finest_28 : decode cX0_finest 28 = .ok (.lconst 0, 1) := dk_9 (dk_at dksX0_finest_1 4 rfl rfl)
theorem dX0_finest_29 : decode cX0_finest 29 = .ok (.lconst 1, 1) := dk_10 (dk_at dksX0_finest_1 5 rfl rfl)
theorem dX0_finest_30 : decode cX0_finest 30 = .ok (.invokestatic 119, 3) := dk_184 0 119 (dk_at dksX0_finest_1 6 rfl rfl)
theorem dX0_finest_33 : decode cX0_finest 33 = .ok (.ifCond .ne 6, 3) := dk_154 0 6 (dk_at dksX0_finest_1 9 rfl rfl)
theorem dX0_finest_36 : decode cX0_finest 36 = .ok (.bipush (-7), 2) := dk_16 249 (dk_at dksX0_finest_1 12 rfl rfl)
theorem dX0_finest_38 : decode cX0_finest 38 = .ok (.ireturn, 1) := dk_172 (dk_at dksX0_finest_1 14 rfl rfl)
theorem dX0_finest_39 : decode cX0_finest 39 = .ok (.aload_n 0, 1) := dk_42 (dk_at dksX0_finest_1 15 rfl rfl)
theorem dX0_finest_40 : decode cX0_finest 40 = .ok (.getfield 33, 3) := dk_180 0 33 (dk_at dksX0_finest_1 16 rfl rfl)
theorem dX0_finest_43 : decode cX0_finest 43 = .ok (.bipush 24, 2) := dk_16 24 (dk_at dksX0_finest_1 19 rfl rfl)
theorem dX0_finest_45 : decode cX0_finest 45 = .ok (.iload_n 2, 1) := dk_28 (dk_at dksX0_finest_1 21 rfl rfl)
theorem dX0_finest_46 : decode cX0_finest 46 = .ok (.imul, 1) := dk_104 (dk_at dksX0_finest_1 22 rfl rfl)
theorem dX0_finest_47 : decode cX0_finest 47 = .ok (.iload_n 3, 1) := dk_29 (dk_at dksX0_finest_1 23 rfl rfl)
theorem dX0_finest_48 : decode cX0_finest 48 = .ok (.iadd, 1) := dk_96 (dk_at dksX0_finest_2 0 rfl rfl)
theorem dX0_finest_49 : decode cX0_finest 49 = .ok (.iaload, 1) := dk_46 (dk_at dksX0_finest_2 1 rfl rfl)
theorem dX0_finest_50 : decode cX0_finest 50 = .ok (.istore 5, 2) := dk_54 5 (dk_at dksX0_finest_2 2 rfl rfl)
theorem dX0_finest_52 : decode cX0_finest 52 = .ok (.iconst (-1), 1) := dk_2 (dk_at dksX0_finest_2 4 rfl rfl)
theorem dX0_finest_53 : decode cX0_finest 53 = .ok (.istore 6, 2) := dk_54 6 (dk_at dksX0_finest_2 5 rfl rfl)
theorem dX0_finest_55 : decode cX0_finest 55 = .ok (.lconst 0, 1) := dk_9 (dk_at dksX0_finest_2 7 rfl rfl)
theorem dX0_finest_56 : decode cX0_finest 56 = .ok (.lstore 7, 2) := dk_55 7 (dk_at dksX0_finest_2 8 rfl rfl)
theorem dX0_finest_58 : decode cX0_finest 58 = .ok (.iconst 0, 1) := dk_3 (dk_at dksX0_finest_2 10 rfl rfl)
theorem dX0_finest_59 : decode cX0_finest 59 = .ok (.istore 9, 2) := dk_54 9 (dk_at dksX0_finest_2 11 rfl rfl)
theorem dX0_finest_61 : decode cX0_finest 61 = .ok (.iload 9, 2) := dk_21 9 (dk_at dksX0_finest_2 13 rfl rfl)
theorem dX0_finest_63 : decode cX0_finest 63 = .ok (.bipush 8, 2) := dk_16 8 (dk_at dksX0_finest_2 15 rfl rfl)
theorem dX0_finest_65 : decode cX0_finest 65 = .ok (.if_icmp .ge 155, 3) := dk_162 0 155 (dk_at dksX0_finest_2 17 rfl rfl)
theorem dX0_finest_68 : decode cX0_finest 68 = .ok (.aload_n 0, 1) := dk_42 (dk_at dksX0_finest_2 20 rfl rfl)
theorem dX0_finest_69 : decode cX0_finest 69 = .ok (.getfield 33, 3) := dk_180 0 33 (dk_at dksX0_finest_2 21 rfl rfl)
theorem dX0_finest_72 : decode cX0_finest 72 = .ok (.bipush 24, 2) := dk_16 24 (dk_at dksX0_finest_3 0 rfl rfl)
theorem dX0_finest_74 : decode cX0_finest 74 = .ok (.iload_n 2, 1) := dk_28 (dk_at dksX0_finest_3 2 rfl rfl)
theorem dX0_finest_75 : decode cX0_finest 75 = .ok (.imul, 1) := dk_104 (dk_at dksX0_finest_3 3 rfl rfl)
theorem dX0_finest_76 : decode cX0_finest 76 = .ok (.iload_n 3, 1) := dk_29 (dk_at dksX0_finest_3 4 rfl rfl)
theorem dX0_finest_77 : decode cX0_finest 77 = .ok (.iadd, 1) := dk_96 (dk_at dksX0_finest_3 5 rfl rfl)
theorem dX0_finest_78 : decode cX0_finest 78 = .ok (.iload 9, 2) := dk_21 9 (dk_at dksX0_finest_3 6 rfl rfl)
theorem dX0_finest_80 : decode cX0_finest 80 = .ok (.iastore, 1) := dk_79 (dk_at dksX0_finest_3 8 rfl rfl)
theorem dX0_finest_81 : decode cX0_finest 81 = .ok (.aload_n 0, 1) := dk_42 (dk_at dksX0_finest_3 9 rfl rfl)
theorem dX0_finest_82 : decode cX0_finest 82 = .ok (.aload_n 0, 1) := dk_42 (dk_at dksX0_finest_3 10 rfl rfl)
theorem dX0_finest_83 : decode cX0_finest 83 = .ok (.getfield 51, 3) := dk_180 0 51 (dk_at dksX0_finest_3 11 rfl rfl)
theorem dX0_finest_86 : decode cX0_finest 86 = .ok (.iload_n 1, 1) := dk_27 (dk_at dksX0_finest_3 14 rfl rfl)
theorem dX0_finest_87 : decode cX0_finest 87 = .ok (.invokevirtual 246, 3) := dk_182 0 246 (dk_at dksX0_finest_3 15 rfl rfl)
theorem dX0_finest_90 : decode cX0_finest 90 = .ok (.checkcast 3, 3) := dk_192 0 3 (dk_at dksX0_finest_3 18 rfl rfl)
theorem dX0_finest_93 : decode cX0_finest 93 = .ok (.invokevirtual 286, 3) := dk_182 1 30 (dk_at dksX0_finest_3 21 rfl rfl)
theorem dX0_finest_96 : decode cX0_finest 96 = .ok (.astore 10, 2) := dk_58 10 (dk_at dksX0_finest_4 0 rfl rfl)
theorem dX0_finest_98 : decode cX0_finest 98 = .ok (.aload_n 0, 1) := dk_42 (dk_at dksX0_finest_4 2 rfl rfl)
theorem dX0_finest_99 : decode cX0_finest 99 = .ok (.aload 10, 2) := dk_25 10 (dk_at dksX0_finest_4 3 rfl rfl)
theorem dX0_finest_101 : decode cX0_finest 101 = .ok (.iload 4, 2) := dk_21 4 (dk_at dksX0_finest_4 5 rfl rfl)
theorem dX0_finest_103 : decode cX0_finest 103 = .ok (.invokevirtual 283, 3) := dk_182 1 27 (dk_at dksX0_finest_4 7 rfl rfl)
theorem dX0_finest_106 : decode cX0_finest 106 = .ok (.istore 11, 2) := dk_54 11 (dk_at dksX0_finest_4 10 rfl rfl)
theorem dX0_finest_108 : decode cX0_finest 108 = .ok (.aload_n 0, 1) := dk_42 (dk_at dksX0_finest_4 12 rfl rfl)
theorem dX0_finest_109 : decode cX0_finest 109 = .ok (.aload 10, 2) := dk_25 10 (dk_at dksX0_finest_4 13 rfl rfl)
theorem dX0_finest_111 : decode cX0_finest 111 = .ok (.invokevirtual 253, 3) := dk_182 0 253 (dk_at dksX0_finest_4 15 rfl rfl)
theorem dX0_finest_114 : decode cX0_finest 114 = .ok (.lconst 0, 1) := dk_9 (dk_at dksX0_finest_4 18 rfl rfl)
theorem dX0_finest_115 : decode cX0_finest 115 = .ok (.lstore 12, 2) := dk_55 12 (dk_at dksX0_finest_4 19 rfl rfl)
theorem dX0_finest_117 : decode cX0_finest 117 = .ok (.iconst 0, 1) := dk_3 (dk_at dksX0_finest_4 21 rfl rfl)
theorem dX0_finest_118 : decode cX0_finest 118 = .ok (.istore 14, 2) := dk_54 14 (dk_at dksX0_finest_4 22 rfl rfl)
theorem dX0_finest_120 : decode cX0_finest 120 = .ok (.iload 14, 2) := dk_21 14 (dk_at dksX0_finest_5 0 rfl rfl)
theorem dX0_finest_122 : decode cX0_finest 122 = .ok (.aload 10, 2) := dk_25 10 (dk_at dksX0_finest_5 2 rfl rfl)
theorem dX0_finest_124 : decode cX0_finest 124 = .ok (.getfield 174, 3) := dk_180 0 174 (dk_at dksX0_finest_5 4 rfl rfl)
theorem dX0_finest_127 : decode cX0_finest 127 = .ok (.if_icmp .ge 62, 3) := dk_162 0 62 (dk_at dksX0_finest_5 7 rfl rfl)
theorem dX0_finest_130 : decode cX0_finest 130 = .ok (.lload 12, 2) := dk_22 12 (dk_at dksX0_finest_5 10 rfl rfl)
theorem dX0_finest_132 : decode cX0_finest 132 = .ok (.aload_n 0, 1) := dk_42 (dk_at dksX0_finest_5 12 rfl rfl)
theorem dX0_finest_133 : decode cX0_finest 133 = .ok (.getfield 61, 3) := dk_180 0 61 (dk_at dksX0_finest_5 13 rfl rfl)
theorem dX0_finest_136 : decode cX0_finest 136 = .ok (.iload 14, 2) := dk_21 14 (dk_at dksX0_finest_5 16 rfl rfl)
theorem dX0_finest_138 : decode cX0_finest 138 = .ok (.iaload, 1) := dk_46 (dk_at dksX0_finest_5 18 rfl rfl)
theorem dX0_finest_139 : decode cX0_finest 139 = .ok (.iconst (-1), 1) := dk_2 (dk_at dksX0_finest_5 19 rfl rfl)
theorem dX0_finest_140 : decode cX0_finest 140 = .ok (.if_icmp .ne 24, 3) := dk_160 0 24 (dk_at dksX0_finest_5 20 rfl rfl)
theorem dX0_finest_143 : decode cX0_finest 143 = .ok (.aload_n 0, 1) := dk_42 (dk_at dksX0_finest_5 23 rfl rfl)
theorem dX0_finest_144 : decode cX0_finest 144 = .ok (.getfield 58, 3) := dk_180 0 58 (dk_at dksX0_finest_6 0 rfl rfl)
theorem dX0_finest_147 : decode cX0_finest 147 = .ok (.iload 14, 2) := dk_21 14 (dk_at dksX0_finest_6 3 rfl rfl)
theorem dX0_finest_149 : decode cX0_finest 149 = .ok (.iaload, 1) := dk_46 (dk_at dksX0_finest_6 5 rfl rfl)
theorem dX0_finest_150 : decode cX0_finest 150 = .ok (.iconst (-1), 1) := dk_2 (dk_at dksX0_finest_6 6 rfl rfl)
theorem dX0_finest_151 : decode cX0_finest 151 = .ok (.if_icmp .ne 7, 3) := dk_160 0 7 (dk_at dksX0_finest_6 7 rfl rfl)
theorem dX0_finest_154 : decode cX0_finest 154 = .ok (.lconst 0, 1) := dk_9 (dk_at dksX0_finest_6 10 rfl rfl)
theorem dX0_finest_155 : decode cX0_finest 155 = .ok (.goto 25, 3) := dk_167 0 25 (dk_at dksX0_finest_6 11 rfl rfl)
theorem dX0_finest_158 : decode cX0_finest 158 = .ok (.ldc2_w 142, 3) := dk_20 0 142 (dk_at dksX0_finest_6 14 rfl rfl)
theorem dX0_finest_161 : decode cX0_finest 161 = .ok (.goto 19, 3) := dk_167 0 19 (dk_at dksX0_finest_6 17 rfl rfl)
theorem dX0_finest_164 : decode cX0_finest 164 = .ok (.aload_n 0, 1) := dk_42 (dk_at dksX0_finest_6 20 rfl rfl)
theorem dX0_finest_165 : decode cX0_finest 165 = .ok (.getfield 61, 3) := dk_180 0 61 (dk_at dksX0_finest_6 21 rfl rfl)
theorem dX0_finest_168 : decode cX0_finest 168 = .ok (.iload 14, 2) := dk_21 14 (dk_at dksX0_finest_7 0 rfl rfl)
theorem dX0_finest_170 : decode cX0_finest 170 = .ok (.iaload, 1) := dk_46 (dk_at dksX0_finest_7 2 rfl rfl)
theorem dX0_finest_171 : decode cX0_finest 171 = .ok (.aload_n 0, 1) := dk_42 (dk_at dksX0_finest_7 3 rfl rfl)
theorem dX0_finest_172 : decode cX0_finest 172 = .ok (.getfield 58, 3) := dk_180 0 58 (dk_at dksX0_finest_7 4 rfl rfl)
theorem dX0_finest_175 : decode cX0_finest 175 = .ok (.iload 14, 2) := dk_21 14 (dk_at dksX0_finest_7 7 rfl rfl)
theorem dX0_finest_177 : decode cX0_finest 177 = .ok (.iaload, 1) := dk_46 (dk_at dksX0_finest_7 9 rfl rfl)
theorem dX0_finest_178 : decode cX0_finest 178 = .ok (.isub, 1) := dk_100 (dk_at dksX0_finest_7 10 rfl rfl)
theorem dX0_finest_179 : decode cX0_finest 179 = .ok (.i2l, 1) := dk_133 (dk_at dksX0_finest_7 11 rfl rfl)
theorem dX0_finest_180 : decode cX0_finest 180 = .ok (.ladd, 1) := dk_97 (dk_at dksX0_finest_7 12 rfl rfl)
theorem dX0_finest_181 : decode cX0_finest 181 = .ok (.lstore 12, 2) := dk_55 12 (dk_at dksX0_finest_7 13 rfl rfl)
theorem dX0_finest_183 : decode cX0_finest 183 = .ok (.iinc 14 1, 3) := dk_132 14 1 (dk_at dksX0_finest_7 15 rfl rfl)
theorem dX0_finest_186 : decode cX0_finest 186 = .ok (.goto (-66), 3) := dk_167 255 190 (dk_at dksX0_finest_7 18 rfl rfl)
theorem dX0_finest_189 : decode cX0_finest 189 = .ok (.iload 6, 2) := dk_21 6 (dk_at dksX0_finest_7 21 rfl rfl)
theorem dX0_finest_191 : decode cX0_finest 191 = .ok (.iconst (-1), 1) := dk_2 (dk_at dksX0_finest_7 23 rfl rfl)
theorem dX0_finest_192 : decode cX0_finest 192 = .ok (.if_icmp .eq 14, 3) := dk_159 0 14 (dk_at dksX0_finest_8 0 rfl rfl)
theorem dX0_finest_195 : decode cX0_finest 195 = .ok (.lload 12, 2) := dk_22 12 (dk_at dksX0_finest_8 3 rfl rfl)
theorem dX0_finest_197 : decode cX0_finest 197 = .ok (.lload 7, 2) := dk_22 7 (dk_at dksX0_finest_8 5 rfl rfl)
theorem dX0_finest_199 : decode cX0_finest 199 = .ok (.lcmp, 1) := dk_148 (dk_at dksX0_finest_8 7 rfl rfl)
theorem dX0_finest_200 : decode cX0_finest 200 = .ok (.ifCond .lt 6, 3) := dk_155 0 6 (dk_at dksX0_finest_8 8 rfl rfl)
theorem dX0_finest_203 : decode cX0_finest 203 = .ok (.goto 11, 3) := dk_167 0 11 (dk_at dksX0_finest_8 11 rfl rfl)
theorem dX0_finest_206 : decode cX0_finest 206 = .ok (.iload 9, 2) := dk_21 9 (dk_at dksX0_finest_8 14 rfl rfl)
theorem dX0_finest_208 : decode cX0_finest 208 = .ok (.istore 6, 2) := dk_54 6 (dk_at dksX0_finest_8 16 rfl rfl)
theorem dX0_finest_210 : decode cX0_finest 210 = .ok (.lload 12, 2) := dk_22 12 (dk_at dksX0_finest_8 18 rfl rfl)
theorem dX0_finest_212 : decode cX0_finest 212 = .ok (.lstore 7, 2) := dk_55 7 (dk_at dksX0_finest_8 20 rfl rfl)
theorem dX0_finest_214 : decode cX0_finest 214 = .ok (.iinc 9 1, 3) := dk_132 9 1 (dk_at dksX0_finest_9 0 rfl rfl)
theorem dX0_finest_217 : decode cX0_finest 217 = .ok (.goto (-156), 3) := dk_167 255 100 (dk_at dksX0_finest_9 3 rfl rfl)
theorem dX0_finest_220 : decode cX0_finest 220 = .ok (.aload_n 0, 1) := dk_42 (dk_at dksX0_finest_9 6 rfl rfl)
theorem dX0_finest_221 : decode cX0_finest 221 = .ok (.getfield 33, 3) := dk_180 0 33 (dk_at dksX0_finest_9 7 rfl rfl)
theorem dX0_finest_224 : decode cX0_finest 224 = .ok (.bipush 24, 2) := dk_16 24 (dk_at dksX0_finest_9 10 rfl rfl)
theorem dX0_finest_226 : decode cX0_finest 226 = .ok (.iload_n 2, 1) := dk_28 (dk_at dksX0_finest_9 12 rfl rfl)
theorem dX0_finest_227 : decode cX0_finest 227 = .ok (.imul, 1) := dk_104 (dk_at dksX0_finest_9 13 rfl rfl)
theorem dX0_finest_228 : decode cX0_finest 228 = .ok (.iload_n 3, 1) := dk_29 (dk_at dksX0_finest_9 14 rfl rfl)
theorem dX0_finest_229 : decode cX0_finest 229 = .ok (.iadd, 1) := dk_96 (dk_at dksX0_finest_9 15 rfl rfl)
theorem dX0_finest_230 : decode cX0_finest 230 = .ok (.iload 5, 2) := dk_21 5 (dk_at dksX0_finest_9 16 rfl rfl)
theorem dX0_finest_232 : decode cX0_finest 232 = .ok (.iastore, 1) := dk_79 (dk_at dksX0_finest_9 18 rfl rfl)
theorem dX0_finest_233 : decode cX0_finest 233 = .ok (.goto 21, 3) := dk_167 0 21 (dk_at dksX0_finest_9 19 rfl rfl)
theorem dX0_finest_236 : decode cX0_finest 236 = .ok (.astore 15, 2) := dk_58 15 (dk_at dksX0_finest_9 22 rfl rfl)
theorem dX0_finest_238 : decode cX0_finest 238 = .ok (.aload_n 0, 1) := dk_42 (dk_at dksX0_finest_10 0 rfl rfl)
theorem dX0_finest_239 : decode cX0_finest 239 = .ok (.getfield 33, 3) := dk_180 0 33 (dk_at dksX0_finest_10 1 rfl rfl)
theorem dX0_finest_242 : decode cX0_finest 242 = .ok (.bipush 24, 2) := dk_16 24 (dk_at dksX0_finest_10 4 rfl rfl)
theorem dX0_finest_244 : decode cX0_finest 244 = .ok (.iload_n 2, 1) := dk_28 (dk_at dksX0_finest_10 6 rfl rfl)
theorem dX0_finest_245 : decode cX0_finest 245 = .ok (.imul, 1) := dk_104 (dk_at dksX0_finest_10 7 rfl rfl)
theorem dX0_finest_246 : decode cX0_finest 246 = .ok (.iload_n 3, 1) := dk_29 (dk_at dksX0_finest_10 8 rfl rfl)
theorem dX0_finest_247 : decode cX0_finest 247 = .ok (.iadd, 1) := dk_96 (dk_at dksX0_finest_10 9 rfl rfl)
theorem dX0_finest_248 : decode cX0_finest 248 = .ok (.iload 5, 2) := dk_21 5 (dk_at dksX0_finest_10 10 rfl rfl)
theorem dX0_finest_250 : decode cX0_finest 250 = .ok (.iastore, 1) := dk_79 (dk_at dksX0_finest_10 12 rfl rfl)
theorem dX0_finest_251 : decode cX0_finest 251 = .ok (.aload 15, 2) := dk_25 15 (dk_at dksX0_finest_10 13 rfl rfl)
theorem dX0_finest_253 : decode cX0_finest 253 = .ok (.athrow, 1) := dk_191 (dk_at dksX0_finest_10 15 rfl rfl)
theorem dX0_finest_254 : decode cX0_finest 254 = .ok (.iload 6, 2) := dk_21 6 (dk_at dksX0_finest_10 16 rfl rfl)
theorem dX0_finest_256 : decode cX0_finest 256 = .ok (.ireturn, 1) := dk_172 (dk_at dksX0_finest_10 18 rfl rfl)
abbrev cX0_split : ByteArray := prog_1_method_45_code
def yX0_split : MethodName := ⟨RX0, "split", "(IIII)J"⟩
def dkwX0_split_7 : List UInt8 := [132, 9, 1, 167, 255, 164, 21, 4, 154, 0, 9, 21, 8, 133, 167, 0, 5, 22, 6, 173]
abbrev dktX0_split_7 : List UInt8 := dkwX0_split_7 ++ []
def dkwX0_split_6 : List UInt8 := [159, 0, 14, 22, 10, 22, 6, 148, 155, 0, 6, 167, 0, 11, 21, 9, 54, 8, 22, 10, 55, 6]
abbrev dktX0_split_6 : List UInt8 := dkwX0_split_6 ++ dktX0_split_7
def dkwX0_split_5 : List UInt8 := [132, 10, 1, 167, 255, 222, 42, 25, 5, 182, 0, 253, 42, 25, 5, 182, 1, 5, 55, 10, 21, 8, 2]
abbrev dktX0_split_5 : List UInt8 := dkwX0_split_5 ++ dktX0_split_6
def dkwX0_split_4 : List UInt8 := [162, 0, 30, 25, 5, 180, 0, 175, 21, 10, 21, 10, 21, 9, 162, 0, 7, 28, 167, 0, 4, 29, 145, 84]
abbrev dktX0_split_4 : List UInt8 := dkwX0_split_4 ++ dktX0_split_5
def dkwX0_split_3 : List UInt8 := [54, 9, 21, 9, 25, 5, 180, 0, 174, 163, 0, 88, 3, 54, 10, 21, 10, 25, 5, 180, 0, 174]
abbrev dktX0_split_3 : List UInt8 := dkwX0_split_3 ++ dktX0_split_4
def dkwX0_split_2 : List UInt8 := [42, 42, 180, 0, 51, 27, 182, 0, 246, 192, 0, 3, 182, 1, 30, 58, 5, 9, 55, 6, 2, 54, 8, 3]
abbrev dktX0_split_2 : List UInt8 := dkwX0_split_2 ++ dktX0_split_3
def dkwX0_split_1 : List UInt8 := [20, 0, 230, 184, 0, 119, 153, 0, 14, 21, 4, 133, 9, 10, 184, 0, 119, 154, 0, 7, 20, 1, 3, 173]
abbrev dktX0_split_1 : List UInt8 := dkwX0_split_1 ++ dktX0_split_2
def dkwX0_split_0 : List UInt8 := [42, 27, 182, 0, 243, 153, 0, 38, 28, 133, 9, 20, 0, 230, 184, 0, 119, 153, 0, 26, 29, 133, 9]
abbrev dktX0_split_0 : List UInt8 := dkwX0_split_0 ++ dktX0_split_1
theorem dksX0_split_0 : cX0_split.data.toList.drop 0 = dktX0_split_0 := by decide +kernel
theorem dksX0_split_1 : cX0_split.data.toList.drop 23 = dktX0_split_1 := dk_seg dksX0_split_0 23 rfl rfl
theorem dksX0_split_2 : cX0_split.data.toList.drop 47 = dktX0_split_2 := dk_seg dksX0_split_1 24 rfl rfl
theorem dksX0_split_3 : cX0_split.data.toList.drop 71 = dktX0_split_3 := dk_seg dksX0_split_2 24 rfl rfl
theorem dksX0_split_4 : cX0_split.data.toList.drop 93 = dktX0_split_4 := dk_seg dksX0_split_3 22 rfl rfl
theorem dksX0_split_5 : cX0_split.data.toList.drop 117 = dktX0_split_5 := dk_seg dksX0_split_4 24 rfl rfl
theorem dksX0_split_6 : cX0_split.data.toList.drop 140 = dktX0_split_6 := dk_seg dksX0_split_5 23 rfl rfl
theorem dksX0_split_7 : cX0_split.data.toList.drop 162 = dktX0_split_7 := dk_seg dksX0_split_6 22 rfl rfl
theorem dX0_split_0 : decode cX0_split 0 = .ok (.aload_n 0, 1) := dk_42 (dk_at dksX0_split_0 0 rfl rfl)
theorem dX0_split_1 : decode cX0_split 1 = .ok (.iload_n 1, 1) := dk_27 (dk_at dksX0_split_0 1 rfl rfl)
theorem dX0_split_2 : decode cX0_split 2 = .ok (.invokevirtual 243, 3) := dk_182 0 243 (dk_at dksX0_split_0 2 rfl rfl)
theorem dX0_split_5 : decode cX0_split 5 = .ok (.ifCond .eq 38, 3) := dk_153 0 38 (dk_at dksX0_split_0 5 rfl rfl)
theorem dX0_split_8 : decode cX0_split 8 = .ok (.iload_n 2, 1) := dk_28 (dk_at dksX0_split_0 8 rfl rfl)
theorem dX0_split_9 : decode cX0_split 9 = .ok (.i2l, 1) := dk_133 (dk_at dksX0_split_0 9 rfl rfl)
theorem dX0_split_10 : decode cX0_split 10 = .ok (.lconst 0, 1) := dk_9 (dk_at dksX0_split_0 10 rfl rfl)
theorem dX0_split_11 : decode cX0_split 11 = .ok (.ldc2_w 230, 3) := dk_20 0 230 (dk_at dksX0_split_0 11 rfl rfl)
theorem dX0_split_14 : decode cX0_split 14 = .ok (.invokestatic 119, 3) := dk_184 0 119 (dk_at dksX0_split_0 14 rfl rfl)
theorem dX0_split_17 : decode cX0_split 17 = .ok (.ifCond .eq 26, 3) := dk_153 0 26 (dk_at dksX0_split_0 17 rfl rfl)
theorem dX0_split_20 : decode cX0_split 20 = .ok (.iload_n 3, 1) := dk_29 (dk_at dksX0_split_0 20 rfl rfl)
theorem dX0_split_21 : decode cX0_split 21 = .ok (.i2l, 1) := dk_133 (dk_at dksX0_split_0 21 rfl rfl)
theorem dX0_split_22 : decode cX0_split 22 = .ok (.lconst 0, 1) := dk_9 (dk_at dksX0_split_0 22 rfl rfl)
theorem dX0_split_23 : decode cX0_split 23 = .ok (.ldc2_w 230, 3) := dk_20 0 230 (dk_at dksX0_split_1 0 rfl rfl)
theorem dX0_split_26 : decode cX0_split 26 = .ok (.invokestatic 119, 3) := dk_184 0 119 (dk_at dksX0_split_1 3 rfl rfl)
theorem dX0_split_29 : decode cX0_split 29 = .ok (.ifCond .eq 14, 3) := dk_153 0 14 (dk_at dksX0_split_1 6 rfl rfl)
theorem dX0_split_32 : decode cX0_split 32 = .ok (.iload 4, 2) := dk_21 4 (dk_at dksX0_split_1 9 rfl rfl)
theorem dX0_split_34 : decode cX0_split 34 = .ok (.i2l, 1) := dk_133 (dk_at dksX0_split_1 11 rfl rfl)
theorem dX0_split_35 : decode cX0_split 35 = .ok (.lconst 0, 1) := dk_9 (dk_at dksX0_split_1 12 rfl rfl)
theorem dX0_split_36 : decode cX0_split 36 = .ok (.lconst 1, 1) := dk_10 (dk_at dksX0_split_1 13 rfl rfl)
theorem dX0_split_37 : decode cX0_split 37 = .ok (.invokestatic 119, 3) := dk_184 0 119 (dk_at dksX0_split_1 14 rfl rfl)
theorem dX0_split_40 : decode cX0_split 40 = .ok (.ifCond .ne 7, 3) := dk_154 0 7 (dk_at dksX0_split_1 17 rfl rfl)
theorem dX0_split_43 : decode cX0_split 43 = .ok (.ldc2_w 259, 3) := dk_20 1 3 (dk_at dksX0_split_1 20 rfl rfl)
theorem dX0_split_46 : decode cX0_split 46 = .ok (.lreturn, 1) := dk_173 (dk_at dksX0_split_1 23 rfl rfl)
theorem dX0_split_47 : decode cX0_split 47 = .ok (.aload_n 0, 1) := dk_42 (dk_at dksX0_split_2 0 rfl rfl)
theorem dX0_split_48 : decode cX0_split 48 = .ok (.aload_n 0, 1) := dk_42 (dk_at dksX0_split_2 1 rfl rfl)
theorem dX0_split_49 : decode cX0_split 49 = .ok (.getfield 51, 3) := dk_180 0 51 (dk_at dksX0_split_2 2 rfl rfl)
theorem dX0_split_52 : decode cX0_split 52 = .ok (.iload_n 1, 1) := dk_27 (dk_at dksX0_split_2 5 rfl rfl)
theorem dX0_split_53 : decode cX0_split 53 = .ok (.invokevirtual 246, 3) := dk_182 0 246 (dk_at dksX0_split_2 6 rfl rfl)
theorem dX0_split_56 : decode cX0_split 56 = .ok (.checkcast 3, 3) := dk_192 0 3 (dk_at dksX0_split_2 9 rfl rfl)
theorem dX0_split_59 : decode cX0_split 59 = .ok (.invokevirtual 286, 3) := dk_182 1 30 (dk_at dksX0_split_2 12 rfl rfl)
theorem dX0_split_62 : decode cX0_split 62 = .ok (.astore 5, 2) := dk_58 5 (dk_at dksX0_split_2 15 rfl rfl)
theorem dX0_split_64 : decode cX0_split 64 = .ok (.lconst 0, 1) := dk_9 (dk_at dksX0_split_2 17 rfl rfl)
theorem dX0_split_65 : decode cX0_split 65 = .ok (.lstore 6, 2) := dk_55 6 (dk_at dksX0_split_2 18 rfl rfl)
theorem dX0_split_67 : decode cX0_split 67 = .ok (.iconst (-1), 1) := dk_2 (dk_at dksX0_split_2 20 rfl rfl)
theorem dX0_split_68 : decode cX0_split 68 = .ok (.istore 8, 2) := dk_54 8 (dk_at dksX0_split_2 21 rfl rfl)
theorem dX0_split_70 : decode cX0_split 70 = .ok (.iconst 0, 1) := dk_3 (dk_at dksX0_split_2 23 rfl rfl)
theorem dX0_split_71 : decode cX0_split 71 = .ok (.istore 9, 2) := dk_54 9 (dk_at dksX0_split_3 0 rfl rfl)
theorem dX0_split_73 : decode cX0_split 73 = .ok (.iload 9, 2) := dk_21 9 (dk_at dksX0_split_3 2 rfl rfl)
theorem dX0_split_75 : decode cX0_split 75 = .ok (.aload 5, 2) := dk_25 5 (dk_at dksX0_split_3 4 rfl rfl)
theorem dX0_split_77 : decode cX0_split 77 = .ok (.getfield 174, 3) := dk_180 0 174 (dk_at dksX0_split_3 6 rfl rfl)
theorem dX0_split_80 : decode cX0_split 80 = .ok (.if_icmp .gt 88, 3) := dk_163 0 88 (dk_at dksX0_split_3 9 rfl rfl)
theorem dX0_split_83 : decode cX0_split 83 = .ok (.iconst 0, 1) := dk_3 (dk_at dksX0_split_3 12 rfl rfl)
theorem dX0_split_84 : decode cX0_split 84 = .ok (.istore 10, 2) := dk_54 10 (dk_at dksX0_split_3 13 rfl rfl)
theorem dX0_split_86 : decode cX0_split 86 = .ok (.iload 10, 2) := dk_21 10 (dk_at dksX0_split_3 15 rfl rfl)
theorem dX0_split_88 : decode cX0_split 88 = .ok (.aload 5, 2) := dk_25 5 (dk_at dksX0_split_3 17 rfl rfl)
theorem dX0_split_90 : decode cX0_split 90 = .ok (.getfield 174, 3) := dk_180 0 174 (dk_at dksX0_split_3 19 rfl rfl)
theorem dX0_split_93 : decode cX0_split 93 = .ok (.if_icmp .ge 30, 3) := dk_162 0 30 (dk_at dksX0_split_4 0 rfl rfl)
theorem dX0_split_96 : decode cX0_split 96 = .ok (.aload 5, 2) := dk_25 5 (dk_at dksX0_split_4 3 rfl rfl)
theorem dX0_split_98 : decode cX0_split 98 = .ok (.getfield 175, 3) := dk_180 0 175 (dk_at dksX0_split_4 5 rfl rfl)
theorem dX0_split_101 : decode cX0_split 101 = .ok (.iload 10, 2) := dk_21 10 (dk_at dksX0_split_4 8 rfl rfl)
theorem dX0_split_103 : decode cX0_split 103 = .ok (.iload 10, 2) := dk_21 10 (dk_at dksX0_split_4 10 rfl rfl)
theorem dX0_split_105 : decode cX0_split 105 = .ok (.iload 9, 2) := dk_21 9 (dk_at dksX0_split_4 12 rfl rfl)
theorem dX0_split_107 : decode cX0_split 107 = .ok (.if_icmp .ge 7, 3) := dk_162 0 7 (dk_at dksX0_split_4 14 rfl rfl)
theorem dX0_split_110 : decode cX0_split 110 = .ok (.iload_n 2, 1) := dk_28 (dk_at dksX0_split_4 17 rfl rfl)
theorem dX0_split_111 : decode cX0_split 111 = .ok (.goto 4, 3) := dk_167 0 4 (dk_at dksX0_split_4 18 rfl rfl)
theorem dX0_split_114 : decode cX0_split 114 = .ok (.iload_n 3, 1) := dk_29 (dk_at dksX0_split_4 21 rfl rfl)
theorem dX0_split_115 : decode cX0_split 115 = .ok (.i2b, 1) := dk_145 (dk_at dksX0_split_4 22 rfl rfl)
theorem dX0_split_116 : decode cX0_split 116 = .ok (.bastore, 1) := dk_84 (dk_at dksX0_split_4 23 rfl rfl)
theorem dX0_split_117 : decode cX0_split 117 = .ok (.iinc 10 1, 3) := dk_132 10 1 (dk_at dksX0_split_5 0 rfl rfl)
theorem dX0_split_120 : decode cX0_split 120 = .ok (.goto (-34), 3) := dk_167 255 222 (dk_at dksX0_split_5 3 rfl rfl)
theorem dX0_split_123 : decode cX0_split 123 = .ok (.aload_n 0, 1) := dk_42 (dk_at dksX0_split_5 6 rfl rfl)
theorem dX0_split_124 : decode cX0_split 124 = .ok (.aload 5, 2) := dk_25 5 (dk_at dksX0_split_5 7 rfl rfl)
theorem dX0_split_126 : decode cX0_split 126 = .ok (.invokevirtual 253, 3) := dk_182 0 253 (dk_at dksX0_split_5 9 rfl rfl)
theorem dX0_split_129 : decode cX0_split 129 = .ok (.aload_n 0, 1) := dk_42 (dk_at dksX0_split_5 12 rfl rfl)
theorem dX0_split_130 : decode cX0_split 130 = .ok (.aload 5, 2) := dk_25 5 (dk_at dksX0_split_5 13 rfl rfl)
theorem dX0_split_132 : decode cX0_split 132 = .ok (.invokevirtual 261, 3) := dk_182 1 5 (dk_at dksX0_split_5 15 rfl rfl)
theorem dX0_split_135 : decode cX0_split 135 = .ok (.lstore 10, 2) := dk_55 10 (dk_at dksX0_split_5 18 rfl rfl)
theorem dX0_split_137 : decode cX0_split 137 = .ok (.iload 8, 2) := dk_21 8 (dk_at dksX0_split_5 20 rfl rfl)
theorem dX0_split_139 : decode cX0_split 139 = .ok (.iconst (-1), 1) := dk_2 (dk_at dksX0_split_5 22 rfl rfl)
theorem dX0_split_140 : decode cX0_split 140 = .ok (.if_icmp .eq 14, 3) := dk_159 0 14 (dk_at dksX0_split_6 0 rfl rfl)
theorem dX0_split_143 : decode cX0_split 143 = .ok (.lload 10, 2) := dk_22 10 (dk_at dksX0_split_6 3 rfl rfl)
theorem dX0_split_145 : decode cX0_split 145 = .ok (.lload 6, 2) := dk_22 6 (dk_at dksX0_split_6 5 rfl rfl)
theorem dX0_split_147 : decode cX0_split 147 = .ok (.lcmp, 1) := dk_148 (dk_at dksX0_split_6 7 rfl rfl)
theorem dX0_split_148 : decode cX0_split 148 = .ok (.ifCond .lt 6, 3) := dk_155 0 6 (dk_at dksX0_split_6 8 rfl rfl)
theorem dX0_split_151 : decode cX0_split 151 = .ok (.goto 11, 3) := dk_167 0 11 (dk_at dksX0_split_6 11 rfl rfl)
theorem dX0_split_154 : decode cX0_split 154 = .ok (.iload 9, 2) := dk_21 9 (dk_at dksX0_split_6 14 rfl rfl)
theorem dX0_split_156 : decode cX0_split 156 = .ok (.istore 8, 2) := dk_54 8 (dk_at dksX0_split_6 16 rfl rfl)
theorem dX0_split_158 : decode cX0_split 158 = .ok (.lload 10, 2) := dk_22 10 (dk_at dksX0_split_6 18 rfl rfl)
theorem dX0_split_160 : decode cX0_split 160 = .ok (.lstore 6, 2) := dk_55 6 (dk_at dksX0_split_6 20 rfl rfl)
theorem dX0_split_162 : decode cX0_split 162 = .ok (.iinc 9 1, 3) := dk_132 9 1 (dk_at dksX0_split_7 0 rfl rfl)
theorem dX0_split_165 : decode cX0_split 165 = .ok (.goto (-92), 3) := dk_167 255 164 (dk_at dksX0_split_7 3 rfl rfl)
theorem dX0_split_168 : decode cX0_split 168 = .ok (.iload 4, 2) := dk_21 4 (dk_at dksX0_split_7 6 rfl rfl)
theorem dX0_split_170 : decode cX0_split 170 = .ok (.ifCond .ne 9, 3) := dk_154 0 9 (dk_at dksX0_split_7 8 rfl rfl)
theorem dX0_split_173 : decode cX0_split 173 = .ok (.iload 8, 2) := dk_21 8 (dk_at dksX0_split_7 11 rfl rfl)
theorem dX0_split_175 : decode cX0_split 175 = .ok (.i2l, 1) := dk_133 (dk_at dksX0_split_7 13 rfl rfl)
theorem dX0_split_176 : decode cX0_split 176 = .ok (.goto 5, 3) := dk_167 0 5 (dk_at dksX0_split_7 14 rfl rfl)
theorem dX0_split_179 : decode cX0_split 179 = .ok (.lload 6, 2) := dk_22 6 (dk_at dksX0_split_7 17 rfl rfl)
theorem dX0_split_181 : decode cX0_split 181 = .ok (.lreturn, 1) := dk_173 (dk_at dksX0_split_7 19 rfl rfl)
abbrev cX0_count : ByteArray := prog_1_method_46_code
def yX0_count : MethodName := ⟨RX0, "count", "(I)I"⟩
def dkwX0_count_3 : List UInt8 := [180, 0, 153, 172, 42, 180, 1, 55, 172, 16, 254, 172]
abbrev dktX0_count_3 : List UInt8 := dkwX0_count_3 ++ []
def dkwX0_count_2 : List UInt8 := [42, 180, 0, 125, 172, 42, 180, 0, 128, 172, 42, 180, 0, 51, 182, 0, 131, 172, 42, 180, 0, 116, 172, 42]
abbrev dktX0_count_2 : List UInt8 := dkwX0_count_2 ++ dktX0_count_3
def dkwX0_count_1 : List UInt8 := [170, 0, 0, 0, 0, 0, 72, 0, 0, 0, 0, 0, 0, 0, 5, 0, 0, 0, 39, 0, 0, 0, 44, 0, 0, 0, 49, 0, 0, 0, 57, 0, 0, 0, 62, 0, 0, 0, 67]
abbrev dktX0_count_1 : List UInt8 := dkwX0_count_1 ++ dktX0_count_2
def dkwX0_count_0 : List UInt8 := [27]
abbrev dktX0_count_0 : List UInt8 := dkwX0_count_0 ++ dktX0_count_1
theorem dksX0_count_0 : cX0_count.data.toList.drop 0 = dktX0_count_0 := by decide +kernel
theorem dksX0_count_1 : cX0_count.data.toList.drop 1 = dktX0_count_1 := dk_seg dksX0_count_0 1 rfl rfl
theorem dksX0_count_2 : cX0_count.data.toList.drop 40 = dktX0_count_2 := dk_seg dksX0_count_1 39 rfl rfl
theorem dksX0_count_3 : cX0_count.data.toList.drop 64 = dktX0_count_3 := dk_seg dksX0_count_2 24 rfl rfl
theorem dX0_count_0 : decode cX0_count 0 = .ok (.iload_n 1, 1) := dk_27 (dk_at dksX0_count_0 0 rfl rfl)
theorem dX0_count_1 : decode cX0_count 1 = .ok (.tableswitch 72 0 5 #[39, 44, 49, 57, 62, 67], 39) := by decide +kernel
theorem dX0_count_40 : decode cX0_count 40 = .ok (.aload_n 0, 1) := dk_42 (dk_at dksX0_count_2 0 rfl rfl)
theorem dX0_count_41 : decode cX0_count 41 = .ok (.getfield 125, 3) := dk_180 0 125 (dk_at dksX0_count_2 1 rfl rfl)
theorem dX0_count_44 : decode cX0_count 44 = .ok (.ireturn, 1) := dk_172 (dk_at dksX0_count_2 4 rfl rfl)
theorem dX0_count_45 : decode cX0_count 45 = .ok (.aload_n 0, 1) := dk_42 (dk_at dksX0_count_2 5 rfl rfl)
theorem dX0_count_46 : decode cX0_count 46 = .ok (.getfield 128, 3) := dk_180 0 128 (dk_at dksX0_count_2 6 rfl rfl)
theorem dX0_count_49 : decode cX0_count 49 = .ok (.ireturn, 1) := dk_172 (dk_at dksX0_count_2 9 rfl rfl)
theorem dX0_count_50 : decode cX0_count 50 = .ok (.aload_n 0, 1) := dk_42 (dk_at dksX0_count_2 10 rfl rfl)
theorem dX0_count_51 : decode cX0_count 51 = .ok (.getfield 51, 3) := dk_180 0 51 (dk_at dksX0_count_2 11 rfl rfl)
theorem dX0_count_54 : decode cX0_count 54 = .ok (.invokevirtual 131, 3) := dk_182 0 131 (dk_at dksX0_count_2 14 rfl rfl)
theorem dX0_count_57 : decode cX0_count 57 = .ok (.ireturn, 1) := dk_172 (dk_at dksX0_count_2 17 rfl rfl)
theorem dX0_count_58 : decode cX0_count 58 = .ok (.aload_n 0, 1) := dk_42 (dk_at dksX0_count_2 18 rfl rfl)
theorem dX0_count_59 : decode cX0_count 59 = .ok (.getfield 116, 3) := dk_180 0 116 (dk_at dksX0_count_2 19 rfl rfl)
theorem dX0_count_62 : decode cX0_count 62 = .ok (.ireturn, 1) := dk_172 (dk_at dksX0_count_2 22 rfl rfl)
theorem dX0_count_63 : decode cX0_count 63 = .ok (.aload_n 0, 1) := dk_42 (dk_at dksX0_count_2 23 rfl rfl)
theorem dX0_count_64 : decode cX0_count 64 = .ok (.getfield 153, 3) := dk_180 0 153 (dk_at dksX0_count_3 0 rfl rfl)
theorem dX0_count_67 : decode cX0_count 67 = .ok (.ireturn, 1) := dk_172 (dk_at dksX0_count_3 3 rfl rfl)
theorem dX0_count_68 : decode cX0_count 68 = .ok (.aload_n 0, 1) := dk_42 (dk_at dksX0_count_3 4 rfl rfl)
theorem dX0_count_69 : decode cX0_count 69 = .ok (.getfield 311, 3) := dk_180 1 55 (dk_at dksX0_count_3 5 rfl rfl)
theorem dX0_count_72 : decode cX0_count 72 = .ok (.ireturn, 1) := dk_172 (dk_at dksX0_count_3 8 rfl rfl)
theorem dX0_count_73 : decode cX0_count 73 = .ok (.bipush (-2), 2) := dk_16 254 (dk_at dksX0_count_3 9 rfl rfl)
theorem dX0_count_75 : decode cX0_count 75 = .ok (.ireturn, 1) := dk_172 (dk_at dksX0_count_3 11 rfl rfl)
abbrev cX0_wishes : ByteArray := prog_1_method_47_code
def yX0_wishes : MethodName := ⟨RX0, "wishes", "(II)I"⟩
def dkwX0_wishes_1 : List UInt8 := [180, 0, 36, 27, 46, 62, 42, 180, 0, 36, 27, 28, 79, 29, 172]
abbrev dktX0_wishes_1 : List UInt8 := dkwX0_wishes_1 ++ []
def dkwX0_wishes_0 : List UInt8 := [42, 27, 182, 0, 150, 154, 0, 6, 16, 251, 172, 28, 184, 0, 139, 154, 0, 6, 16, 249, 172, 42]
abbrev dktX0_wishes_0 : List UInt8 := dkwX0_wishes_0 ++ dktX0_wishes_1
theorem dksX0_wishes_0 : cX0_wishes.data.toList.drop 0 = dktX0_wishes_0 := by decide +kernel
theorem dksX0_wishes_1 : cX0_wishes.data.toList.drop 22 = dktX0_wishes_1 := dk_seg dksX0_wishes_0 22 rfl rfl
theorem dX0_wishes_0 : decode cX0_wishes 0 = .ok (.aload_n 0, 1) := dk_42 (dk_at dksX0_wishes_0 0 rfl rfl)
theorem dX0_wishes_1 : decode cX0_wishes 1 = .ok (.iload_n 1, 1) := dk_27 (dk_at dksX0_wishes_0 1 rfl rfl)
theorem dX0_wishes_2 : decode cX0_wishes 2 = .ok (.invokevirtual 150, 3) := dk_182 0 150 (dk_at dksX0_wishes_0 2 rfl rfl)
theorem dX0_wishes_5 : decode cX0_wishes 5 = .ok (.ifCond .ne 6, 3) := dk_154 0 6 (dk_at dksX0_wishes_0 5 rfl rfl)
theorem dX0_wishes_8 : decode cX0_wishes 8 = .ok (.bipush (-5), 2) := dk_16 251 (dk_at dksX0_wishes_0 8 rfl rfl)
theorem dX0_wishes_10 : decode cX0_wishes 10 = .ok (.ireturn, 1) := dk_172 (dk_at dksX0_wishes_0 10 rfl rfl)
theorem dX0_wishes_11 : decode cX0_wishes 11 = .ok (.iload_n 2, 1) := dk_28 (dk_at dksX0_wishes_0 11 rfl rfl)
theorem dX0_wishes_12 : decode cX0_wishes 12 = .ok (.invokestatic 139, 3) := dk_184 0 139 (dk_at dksX0_wishes_0 12 rfl rfl)
theorem dX0_wishes_15 : decode cX0_wishes 15 = .ok (.ifCond .ne 6, 3) := dk_154 0 6 (dk_at dksX0_wishes_0 15 rfl rfl)
theorem dX0_wishes_18 : decode cX0_wishes 18 = .ok (.bipush (-7), 2) := dk_16 249 (dk_at dksX0_wishes_0 18 rfl rfl)
theorem dX0_wishes_20 : decode cX0_wishes 20 = .ok (.ireturn, 1) := dk_172 (dk_at dksX0_wishes_0 20 rfl rfl)
theorem dX0_wishes_21 : decode cX0_wishes 21 = .ok (.aload_n 0, 1) := dk_42 (dk_at dksX0_wishes_0 21 rfl rfl)
theorem dX0_wishes_22 : decode cX0_wishes 22 = .ok (.getfield 36, 3) := dk_180 0 36 (dk_at dksX0_wishes_1 0 rfl rfl)
theorem dX0_wishes_25 : decode cX0_wishes 25 = .ok (.iload_n 1, 1) := dk_27 (dk_at dksX0_wishes_1 3 rfl rfl)
theorem dX0_wishes_26 : decode cX0_wishes 26 = .ok (.iaload, 1) := dk_46 (dk_at dksX0_wishes_1 4 rfl rfl)
theorem dX0_wishes_27 : decode cX0_wishes 27 = .ok (.istore_n 3, 1) := dk_62 (dk_at dksX0_wishes_1 5 rfl rfl)
theorem dX0_wishes_28 : decode cX0_wishes 28 = .ok (.aload_n 0, 1) := dk_42 (dk_at dksX0_wishes_1 6 rfl rfl)
theorem dX0_wishes_29 : decode cX0_wishes 29 = .ok (.getfield 36, 3) := dk_180 0 36 (dk_at dksX0_wishes_1 7 rfl rfl)
theorem dX0_wishes_32 : decode cX0_wishes 32 = .ok (.iload_n 1, 1) := dk_27 (dk_at dksX0_wishes_1 10 rfl rfl)
theorem dX0_wishes_33 : decode cX0_wishes 33 = .ok (.iload_n 2, 1) := dk_28 (dk_at dksX0_wishes_1 11 rfl rfl)
theorem dX0_wishes_34 : decode cX0_wishes 34 = .ok (.iastore, 1) := dk_79 (dk_at dksX0_wishes_1 12 rfl rfl)
theorem dX0_wishes_35 : decode cX0_wishes 35 = .ok (.iload_n 3, 1) := dk_29 (dk_at dksX0_wishes_1 13 rfl rfl)
theorem dX0_wishes_36 : decode cX0_wishes 36 = .ok (.ireturn, 1) := dk_172 (dk_at dksX0_wishes_1 14 rfl rfl)
abbrev cX0_image : ByteArray := prog_1_method_48_code
def yX0_image : MethodName := ⟨RX0, "image", "()I"⟩
def dkwX0_image_5 : List UInt8 := [180, 0, 90, 172]
abbrev dktX0_image_5 : List UInt8 := dkwX0_image_5 ++ []
def dkwX0_image_4 : List UInt8 := [182, 0, 131, 181, 0, 90, 42, 42, 180, 0, 125, 181, 1, 58, 42, 42, 180, 0, 153, 181, 1, 61, 42]
abbrev dktX0_image_4 : List UInt8 := dkwX0_image_4 ++ dktX0_image_5
def dkwX0_image_3 : List UInt8 := [42, 180, 0, 86, 16, 16, 27, 104, 16, 16, 184, 1, 49, 132, 1, 1, 167, 255, 214, 42, 42, 180, 0, 51]
abbrev dktX0_image_3 : List UInt8 := dkwX0_image_3 ++ dktX0_image_4
def dkwX0_image_2 : List UInt8 := [180, 0, 51, 182, 0, 131, 162, 0, 37, 42, 180, 0, 51, 27, 182, 0, 246, 192, 0, 3, 180, 0, 175, 3]
abbrev dktX0_image_2 : List UInt8 := dkwX0_image_2 ++ dktX0_image_3
def dkwX0_image_1 : List UInt8 := [3, 16, 48, 184, 1, 49, 42, 180, 0, 36, 3, 42, 180, 0, 83, 3, 7, 184, 1, 49, 3, 60, 27, 42]
abbrev dktX0_image_1 : List UInt8 := dkwX0_image_1 ++ dktX0_image_2
def dkwX0_image_0 : List UInt8 := [42, 180, 0, 29, 3, 42, 180, 0, 77, 3, 16, 48, 184, 1, 49, 42, 180, 0, 33, 3, 42, 180, 0, 80]
abbrev dktX0_image_0 : List UInt8 := dkwX0_image_0 ++ dktX0_image_1
theorem dksX0_image_0 : cX0_image.data.toList.drop 0 = dktX0_image_0 := by decide +kernel
theorem dksX0_image_1 : cX0_image.data.toList.drop 24 = dktX0_image_1 := dk_seg dksX0_image_0 24 rfl rfl
theorem dksX0_image_2 : cX0_image.data.toList.drop 48 = dktX0_image_2 := dk_seg dksX0_image_1 24 rfl rfl
theorem dksX0_image_3 : cX0_image.data.toList.drop 72 = dktX0_image_3 := dk_seg dksX0_image_2 24 rfl rfl
theorem dksX0_image_4 : cX0_image.data.toList.drop 96 = dktX0_image_4 := dk_seg dksX0_image_3 24 rfl rfl
theorem dksX0_image_5 : cX0_image.data.toList.drop 119 = dktX0_image_5 := dk_seg dksX0_image_4 23 rfl rfl
theorem dX0_image_0 : decode cX0_image 0 = .ok (.aload_n 0, 1) := dk_42 (dk_at dksX0_image_0 0 rfl rfl)
theorem dX0_image_1 : decode cX0_image 1 = .ok (.getfield 29, 3) := dk_180 0 29 (dk_at dksX0_image_0 1 rfl rfl)
theorem dX0_image_4 : decode cX0_image 4 = .ok (.iconst 0, 1) := dk_3 (dk_at dksX0_image_0 4 rfl rfl)
theorem dX0_image_5 : decode cX0_image 5 = .ok (.aload_n 0, 1) := dk_42 (dk_at dksX0_image_0 5 rfl rfl)
theorem dX0_image_6 : decode cX0_image 6 = .ok (.getfield 77, 3) := dk_180 0 77 (dk_at dksX0_image_0 6 rfl rfl)
theorem dX0_image_9 : decode cX0_image 9 = .ok (.iconst 0, 1) := dk_3 (dk_at dksX0_image_0 9 rfl rfl)
theorem dX0_image_10 : decode cX0_image 10 = .ok (.bipush 48, 2) := dk_16 48 (dk_at dksX0_image_0 10 rfl rfl)
theorem dX0_image_12 : decode cX0_image 12 = .ok (.invokestatic 305, 3) := dk_184 1 49 (dk_at dksX0_image_0 12 rfl rfl)
theorem dX0_image_15 : decode cX0_image 15 = .ok (.aload_n 0, 1) := dk_42 (dk_at dksX0_image_0 15 rfl rfl)
theorem dX0_image_16 : decode cX0_image 16 = .ok (.getfield 33, 3) := dk_180 0 33 (dk_at dksX0_image_0 16 rfl rfl)
theorem dX0_image_19 : decode cX0_image 19 = .ok (.iconst 0, 1) := dk_3 (dk_at dksX0_image_0 19 rfl rfl)
theorem dX0_image_20 : decode cX0_image 20 = .ok (.aload_n 0, 1) := dk_42 (dk_at dksX0_image_0 20 rfl rfl)
theorem dX0_image_21 : decode cX0_image 21 = .ok (.getfield 80, 3) := dk_180 0 80 (dk_at dksX0_image_0 21 rfl rfl)
theorem dX0_image_24 : decode cX0_image 24 = .ok (.iconst 0, 1) := dk_3 (dk_at dksX0_image_1 0 rfl rfl)
theorem dX0_image_25 : decode cX0_image 25 = .ok (.bipush 48, 2) := dk_16 48 (dk_at dksX0_image_1 1 rfl rfl)
theorem dX0_image_27 : decode cX0_image 27 = .ok (.invokestatic 305, 3) := dk_184 1 49 (dk_at dksX0_image_1 3 rfl rfl)
theorem dX0_image_30 : decode cX0_image 30 = .ok (.aload_n 0, 1) := dk_42 (dk_at dksX0_image_1 6 rfl rfl)
theorem dX0_image_31 : decode cX0_image 31 = .ok (.getfield 36, 3) := dk_180 0 36 (dk_at dksX0_image_1 7 rfl rfl)
theorem dX0_image_34 : decode cX0_image 34 = .ok (.iconst 0, 1) := dk_3 (dk_at dksX0_image_1 10 rfl rfl)
theorem dX0_image_35 : decode cX0_image 35 = .ok (.aload_n 0, 1) := dk_42 (dk_at dksX0_image_1 11 rfl rfl)
theorem dX0_image_36 : decode cX0_image 36 = .ok (.getfield 83, 3) := dk_180 0 83 (dk_at dksX0_image_1 12 rfl rfl)
theorem dX0_image_39 : decode cX0_image 39 = .ok (.iconst 0, 1) := dk_3 (dk_at dksX0_image_1 15 rfl rfl)
theorem dX0_image_40 : decode cX0_image 40 = .ok (.iconst 4, 1) := dk_7 (dk_at dksX0_image_1 16 rfl rfl)
theorem dX0_image_41 : decode cX0_image 41 = .ok (.invokestatic 305, 3) := dk_184 1 49 (dk_at dksX0_image_1 17 rfl rfl)
theorem dX0_image_44 : decode cX0_image 44 = .ok (.iconst 0, 1) := dk_3 (dk_at dksX0_image_1 20 rfl rfl)
theorem dX0_image_45 : decode cX0_image 45 = .ok (.istore_n 1, 1) := dk_60 (dk_at dksX0_image_1 21 rfl rfl)
theorem dX0_image_46 : decode cX0_image 46 = .ok (.iload_n 1, 1) := dk_27 (dk_at dksX0_image_1 22 rfl rfl)
theorem dX0_image_47 : decode cX0_image 47 = .ok (.aload_n 0, 1) := dk_42 (dk_at dksX0_image_1 23 rfl rfl)
theorem dX0_image_48 : decode cX0_image 48 = .ok (.getfield 51, 3) := dk_180 0 51 (dk_at dksX0_image_2 0 rfl rfl)
theorem dX0_image_51 : decode cX0_image 51 = .ok (.invokevirtual 131, 3) := dk_182 0 131 (dk_at dksX0_image_2 3 rfl rfl)
theorem dX0_image_54 : decode cX0_image 54 = .ok (.if_icmp .ge 37, 3) := dk_162 0 37 (dk_at dksX0_image_2 6 rfl rfl)
theorem dX0_image_57 : decode cX0_image 57 = .ok (.aload_n 0, 1) := dk_42 (dk_at dksX0_image_2 9 rfl rfl)
theorem dX0_image_58 : decode cX0_image 58 = .ok (.getfield 51, 3) := dk_180 0 51 (dk_at dksX0_image_2 10 rfl rfl)
theorem dX0_image_61 : decode cX0_image 61 = .ok (.iload_n 1, 1) := dk_27 (dk_at dksX0_image_2 13 rfl rfl)
theorem dX0_image_62 : decode cX0_image 62 = .ok (.invokevirtual 246, 3) := dk_182 0 246 (dk_at dksX0_image_2 14 rfl rfl)
theorem dX0_image_65 : decode cX0_image 65 = .ok (.checkcast 3, 3) := dk_192 0 3 (dk_at dksX0_image_2 17 rfl rfl)
theorem dX0_image_68 : decode cX0_image 68 = .ok (.getfield 175, 3) := dk_180 0 175 (dk_at dksX0_image_2 20 rfl rfl)
theorem dX0_image_71 : decode cX0_image 71 = .ok (.iconst 0, 1) := dk_3 (dk_at dksX0_image_2 23 rfl rfl)
theorem dX0_image_72 : decode cX0_image 72 = .ok (.aload_n 0, 1) := dk_42 (dk_at dksX0_image_3 0 rfl rfl)
theorem dX0_image_73 : decode cX0_image 73 = .ok (.getfield 86, 3) := dk_180 0 86 (dk_at dksX0_image_3 1 rfl rfl)
theorem dX0_image_76 : decode cX0_image 76 = .ok (.bipush 16, 2) := dk_16 16 (dk_at dksX0_image_3 4 rfl rfl)
theorem dX0_image_78 : decode cX0_image 78 = .ok (.iload_n 1, 1) := dk_27 (dk_at dksX0_image_3 6 rfl rfl)
theorem dX0_image_79 : decode cX0_image 79 = .ok (.imul, 1) := dk_104 (dk_at dksX0_image_3 7 rfl rfl)
theorem dX0_image_80 : decode cX0_image 80 = .ok (.bipush 16, 2) := dk_16 16 (dk_at dksX0_image_3 8 rfl rfl)
theorem dX0_image_82 : decode cX0_image 82 = .ok (.invokestatic 305, 3) := dk_184 1 49 (dk_at dksX0_image_3 10 rfl rfl)
theorem dX0_image_85 : decode cX0_image 85 = .ok (.iinc 1 1, 3) := dk_132 1 1 (dk_at dksX0_image_3 13 rfl rfl)
theorem dX0_image_88 : decode cX0_image 88 = .ok (.goto (-42), 3) := dk_167 255 214 (dk_at dksX0_image_3 16 rfl rfl)
theorem dX0_image_91 : decode cX0_image 91 = .ok (.aload_n 0, 1) := dk_42 (dk_at dksX0_image_3 19 rfl rfl)
theorem dX0_image_92 : decode cX0_image 92 = .ok (.aload_n 0, 1) := dk_42 (dk_at dksX0_image_3 20 rfl rfl)
theorem dX0_image_93 : decode cX0_image 93 = .ok (.getfield 51, 3) := dk_180 0 51 (dk_at dksX0_image_3 21 rfl rfl)
theorem dX0_image_96 : decode cX0_image 96 = .ok (.invokevirtual 131, 3) := dk_182 0 131 (dk_at dksX0_image_4 0 rfl rfl)
theorem dX0_image_99 : decode cX0_image 99 = .ok (.putfield 90, 3) := dk_181 0 90 (dk_at dksX0_image_4 3 rfl rfl)
theorem dX0_image_102 : decode cX0_image 102 = .ok (.aload_n 0, 1) := dk_42 (dk_at dksX0_image_4 6 rfl rfl)
theorem dX0_image_103 : decode cX0_image 103 = .ok (.aload_n 0, 1) := dk_42 (dk_at dksX0_image_4 7 rfl rfl)
theorem dX0_image_104 : decode cX0_image 104 = .ok (.getfield 125, 3) := dk_180 0 125 (dk_at dksX0_image_4 8 rfl rfl)
theorem dX0_image_107 : decode cX0_image 107 = .ok (.putfield 314, 3) := dk_181 1 58 (dk_at dksX0_image_4 11 rfl rfl)
theorem dX0_image_110 : decode cX0_image 110 = .ok (.aload_n 0, 1) := dk_42 (dk_at dksX0_image_4 14 rfl rfl)
theorem dX0_image_111 : decode cX0_image 111 = .ok (.aload_n 0, 1) := dk_42 (dk_at dksX0_image_4 15 rfl rfl)
theorem dX0_image_112 : decode cX0_image 112 = .ok (.getfield 153, 3) := dk_180 0 153 (dk_at dksX0_image_4 16 rfl rfl)
theorem dX0_image_115 : decode cX0_image 115 = .ok (.putfield 317, 3) := dk_181 1 61 (dk_at dksX0_image_4 19 rfl rfl)
theorem dX0_image_118 : decode cX0_image 118 = .ok (.aload_n 0, 1) := dk_42 (dk_at dksX0_image_4 22 rfl rfl)
theorem dX0_image_119 : decode cX0_image 119 = .ok (.getfield 90, 3) := dk_180 0 90 (dk_at dksX0_image_5 0 rfl rfl)
theorem dX0_image_122 : decode cX0_image 122 = .ok (.ireturn, 1) := dk_172 (dk_at dksX0_image_5 3 rfl rfl)
abbrev cX0_back : ByteArray := prog_1_method_49_code
def yX0_back : MethodName := ⟨RX0, "back", "()I"⟩
def dkwX0_back_5 : List UInt8 := [172]
abbrev dktX0_back_5 : List UInt8 := dkwX0_back_5 ++ []
def dkwX0_back_4 : List UInt8 := [184, 1, 49, 132, 1, 1, 167, 255, 217, 42, 42, 180, 1, 61, 181, 0, 153, 42, 180, 0, 51, 182, 0, 131]
abbrev dktX0_back_4 : List UInt8 := dkwX0_back_4 ++ dktX0_back_5
def dkwX0_back_3 : List UInt8 := [180, 0, 86, 16, 16, 27, 104, 42, 180, 0, 51, 27, 182, 0, 246, 192, 0, 3, 180, 0, 175, 3, 16, 16]
abbrev dktX0_back_3 : List UInt8 := dkwX0_back_3 ++ dktX0_back_4
def dkwX0_back_2 : List UInt8 := [180, 0, 36, 3, 42, 180, 1, 58, 184, 1, 49, 3, 60, 27, 42, 180, 0, 90, 162, 0, 37, 42]
abbrev dktX0_back_2 : List UInt8 := dkwX0_back_2 ++ dktX0_back_3
def dkwX0_back_1 : List UInt8 := [184, 1, 49, 42, 180, 0, 80, 3, 42, 180, 0, 33, 3, 16, 48, 184, 1, 49, 42, 180, 0, 83, 3, 42]
abbrev dktX0_back_1 : List UInt8 := dkwX0_back_1 ++ dktX0_back_2
def dkwX0_back_0 : List UInt8 := [42, 180, 0, 90, 2, 160, 0, 6, 16, 253, 172, 42, 180, 0, 77, 3, 42, 180, 0, 29, 3, 16, 48]
abbrev dktX0_back_0 : List UInt8 := dkwX0_back_0 ++ dktX0_back_1
theorem dksX0_back_0 : cX0_back.data.toList.drop 0 = dktX0_back_0 := by decide +kernel
theorem dksX0_back_1 : cX0_back.data.toList.drop 23 = dktX0_back_1 := dk_seg dksX0_back_0 23 rfl rfl
theorem dksX0_back_2 : cX0_back.data.toList.drop 47 = dktX0_back_2 := dk_seg dksX0_back_1 24 rfl rfl
theorem dksX0_back_3 : cX0_back.data.toList.drop 69 = dktX0_back_3 := dk_seg dksX0_back_2 22 rfl rfl
theorem dksX0_back_4 : cX0_back.data.toList.drop 93 = dktX0_back_4 := dk_seg dksX0_back_3 24 rfl rfl
theorem dksX0_back_5 : cX0_back.data.toList.drop 117 = dktX0_back_5 := dk_seg dksX0_back_4 24 rfl rfl
theorem dX0_back_0 : decode cX0_back 0 = .ok (.aload_n 0, 1) := dk_42 (dk_at dksX0_back_0 0 rfl rfl)
theorem dX0_back_1 : decode cX0_back 1 = .ok (.getfield 90, 3) := dk_180 0 90 (dk_at dksX0_back_0 1 rfl rfl)
theorem dX0_back_4 : decode cX0_back 4 = .ok (.iconst (-1), 1) := dk_2 (dk_at dksX0_back_0 4 rfl rfl)
theorem dX0_back_5 : decode cX0_back 5 = .ok (.if_icmp .ne 6, 3) := dk_160 0 6 (dk_at dksX0_back_0 5 rfl rfl)
theorem dX0_back_8 : decode cX0_back 8 = .ok (.bipush (-3), 2) := dk_16 253 (dk_at dksX0_back_0 8 rfl rfl)
theorem dX0_back_10 : decode cX0_back 10 = .ok (.ireturn, 1) := dk_172 (dk_at dksX0_back_0 10 rfl rfl)
theorem dX0_back_11 : decode cX0_back 11 = .ok (.aload_n 0, 1) := dk_42 (dk_at dksX0_back_0 11 rfl rfl)
theorem dX0_back_12 : decode cX0_back 12 = .ok (.getfield 77, 3) := dk_180 0 77 (dk_at dksX0_back_0 12 rfl rfl)
theorem dX0_back_15 : decode cX0_back 15 = .ok (.iconst 0, 1) := dk_3 (dk_at dksX0_back_0 15 rfl rfl)
theorem dX0_back_16 : decode cX0_back 16 = .ok (.aload_n 0, 1) := dk_42 (dk_at dksX0_back_0 16 rfl rfl)
theorem dX0_back_17 : decode cX0_back 17 = .ok (.getfield 29, 3) := dk_180 0 29 (dk_at dksX0_back_0 17 rfl rfl)
theorem dX0_back_20 : decode cX0_back 20 = .ok (.iconst 0, 1) := dk_3 (dk_at dksX0_back_0 20 rfl rfl)
theorem dX0_back_21 : decode cX0_back 21 = .ok (.bipush 48, 2) := dk_16 48 (dk_at dksX0_back_0 21 rfl rfl)
theorem dX0_back_23 : decode cX0_back 23 = .ok (.invokestatic 305, 3) := dk_184 1 49 (dk_at dksX0_back_1 0 rfl rfl)
theorem dX0_back_26 : decode cX0_back 26 = .ok (.aload_n 0, 1) := dk_42 (dk_at dksX0_back_1 3 rfl rfl)
theorem dX0_back_27 : decode cX0_back 27 = .ok (.getfield 80, 3) := dk_180 0 80 (dk_at dksX0_back_1 4 rfl rfl)
theorem dX0_back_30 : decode cX0_back 30 = .ok (.iconst 0, 1) := dk_3 (dk_at dksX0_back_1 7 rfl rfl)
theorem dX0_back_31 : decode cX0_back 31 = .ok (.aload_n 0, 1) := dk_42 (dk_at dksX0_back_1 8 rfl rfl)
theorem dX0_back_32 : decode cX0_back 32 = .ok (.getfield 33, 3) := dk_180 0 33 (dk_at dksX0_back_1 9 rfl rfl)
theorem dX0_back_35 : decode cX0_back 35 = .ok (.iconst 0, 1) := dk_3 (dk_at dksX0_back_1 12 rfl rfl)
theorem dX0_back_36 : decode cX0_back 36 = .ok (.bipush 48, 2) := dk_16 48 (dk_at dksX0_back_1 13 rfl rfl)
theorem dX0_back_38 : decode cX0_back 38 = .ok (.invokestatic 305, 3) := dk_184 1 49 (dk_at dksX0_back_1 15 rfl rfl)
theorem dX0_back_41 : decode cX0_back 41 = .ok (.aload_n 0, 1) := dk_42 (dk_at dksX0_back_1 18 rfl rfl)
theorem dX0_back_42 : decode cX0_back 42 = .ok (.getfield 83, 3) := dk_180 0 83 (dk_at dksX0_back_1 19 rfl rfl)
theorem dX0_back_45 : decode cX0_back 45 = .ok (.iconst 0, 1) := dk_3 (dk_at dksX0_back_1 22 rfl rfl)
theorem dX0_back_46 : decode cX0_back 46 = .ok (.aload_n 0, 1) := dk_42 (dk_at dksX0_back_1 23 rfl rfl)
theorem dX0_back_47 : decode cX0_back 47 = .ok (.getfield 36, 3) := dk_180 0 36 (dk_at dksX0_back_2 0 rfl rfl)
theorem dX0_back_50 : decode cX0_back 50 = .ok (.iconst 0, 1) := dk_3 (dk_at dksX0_back_2 3 rfl rfl)
theorem dX0_back_51 : decode cX0_back 51 = .ok (.aload_n 0, 1) := dk_42 (dk_at dksX0_back_2 4 rfl rfl)
theorem dX0_back_52 : decode cX0_back 52 = .ok (.getfield 314, 3) := dk_180 1 58 (dk_at dksX0_back_2 5 rfl rfl)
theorem dX0_back_55 : decode cX0_back 55 = .ok (.invokestatic 305, 3) := dk_184 1 49 (dk_at dksX0_back_2 8 rfl rfl)
theorem dX0_back_58 : decode cX0_back 58 = .ok (.iconst 0, 1) := dk_3 (dk_at dksX0_back_2 11 rfl rfl)
theorem dX0_back_59 : decode cX0_back 59 = .ok (.istore_n 1, 1) := dk_60 (dk_at dksX0_back_2 12 rfl rfl)
theorem dX0_back_60 : decode cX0_back 60 = .ok (.iload_n 1, 1) := dk_27 (dk_at dksX0_back_2 13 rfl rfl)
theorem dX0_back_61 : decode cX0_back 61 = .ok (.aload_n 0, 1) := dk_42 (dk_at dksX0_back_2 14 rfl rfl)
theorem dX0_back_62 : decode cX0_back 62 = .ok (.getfield 90, 3) := dk_180 0 90 (dk_at dksX0_back_2 15 rfl rfl)
theorem dX0_back_65 : decode cX0_back 65 = .ok (.if_icmp .ge 37, 3) := dk_162 0 37 (dk_at dksX0_back_2 18 rfl rfl)
theorem dX0_back_68 : decode cX0_back 68 = .ok (.aload_n 0, 1) := dk_42 (dk_at dksX0_back_2 21 rfl rfl)
theorem dX0_back_69 : decode cX0_back 69 = .ok (.getfield 86, 3) := dk_180 0 86 (dk_at dksX0_back_3 0 rfl rfl)
theorem dX0_back_72 : decode cX0_back 72 = .ok (.bipush 16, 2) := dk_16 16 (dk_at dksX0_back_3 3 rfl rfl)
theorem dX0_back_74 : decode cX0_back 74 = .ok (.iload_n 1, 1) := dk_27 (dk_at dksX0_back_3 5 rfl rfl)
theorem dX0_back_75 : decode cX0_back 75 = .ok (.imul, 1) := dk_104 (dk_at dksX0_back_3 6 rfl rfl)
theorem dX0_back_76 : decode cX0_back 76 = .ok (.aload_n 0, 1) := dk_42 (dk_at dksX0_back_3 7 rfl rfl)
theorem dX0_back_77 : decode cX0_back 77 = .ok (.getfield 51, 3) := dk_180 0 51 (dk_at dksX0_back_3 8 rfl rfl)
theorem dX0_back_80 : decode cX0_back 80 = .ok (.iload_n 1, 1) := dk_27 (dk_at dksX0_back_3 11 rfl rfl)
theorem dX0_back_81 : decode cX0_back 81 = .ok (.invokevirtual 246, 3) := dk_182 0 246 (dk_at dksX0_back_3 12 rfl rfl)
theorem dX0_back_84 : decode cX0_back 84 = .ok (.checkcast 3, 3) := dk_192 0 3 (dk_at dksX0_back_3 15 rfl rfl)
theorem dX0_back_87 : decode cX0_back 87 = .ok (.getfield 175, 3) := dk_180 0 175 (dk_at dksX0_back_3 18 rfl rfl)
theorem dX0_back_90 : decode cX0_back 90 = .ok (.iconst 0, 1) := dk_3 (dk_at dksX0_back_3 21 rfl rfl)
theorem dX0_back_91 : decode cX0_back 91 = .ok (.bipush 16, 2) := dk_16 16 (dk_at dksX0_back_3 22 rfl rfl)
theorem dX0_back_93 : decode cX0_back 93 = .ok (.invokestatic 305, 3) := dk_184 1 49 (dk_at dksX0_back_4 0 rfl rfl)
theorem dX0_back_96 : decode cX0_back 96 = .ok (.iinc 1 1, 3) := dk_132 1 1 (dk_at dksX0_back_4 3 rfl rfl)
theorem dX0_back_99 : decode cX0_back 99 = .ok (.goto (-39), 3) := dk_167 255 217 (dk_at dksX0_back_4 6 rfl rfl)
theorem dX0_back_102 : decode cX0_back 102 = .ok (.aload_n 0, 1) := dk_42 (dk_at dksX0_back_4 9 rfl rfl)
theorem dX0_back_103 : decode cX0_back 103 = .ok (.aload_n 0, 1) := dk_42 (dk_at dksX0_back_4 10 rfl rfl)
theorem dX0_back_104 : decode cX0_back 104 = .ok (.getfield 317, 3) := dk_180 1 61 (dk_at dksX0_back_4 11 rfl rfl)
theorem dX0_back_107 : decode cX0_back 107 = .ok (.putfield 153, 3) := dk_181 0 153 (dk_at dksX0_back_4 14 rfl rfl)
theorem dX0_back_110 : decode cX0_back 110 = .ok (.aload_n 0, 1) := dk_42 (dk_at dksX0_back_4 17 rfl rfl)
theorem dX0_back_111 : decode cX0_back 111 = .ok (.getfield 51, 3) := dk_180 0 51 (dk_at dksX0_back_4 18 rfl rfl)
theorem dX0_back_114 : decode cX0_back 114 = .ok (.invokevirtual 131, 3) := dk_182 0 131 (dk_at dksX0_back_4 21 rfl rfl)
theorem dX0_back_117 : decode cX0_back 117 = .ok (.ireturn, 1) := dk_172 (dk_at dksX0_back_5 0 rfl rfl)
abbrev cX0_feed : ByteArray := prog_1_method_51_code
def yX0_feed : MethodName := ⟨RX0, "feed", "(JI)I"⟩
def dkwX0_feed_3 : List UInt8 := [167, 255, 220, 42, 180, 1, 55, 172]
abbrev dktX0_feed_3 : List UInt8 := dkwX0_feed_3 ++ []
def dkwX0_feed_2 : List UInt8 := [31, 16, 8, 21, 4, 104, 123, 136, 145, 84, 42, 89, 180, 1, 55, 4, 96, 181, 1, 55, 132, 4, 255]
abbrev dktX0_feed_2 : List UInt8 := dkwX0_feed_2 ++ dktX0_feed_3
def dkwX0_feed_1 : List UInt8 := [164, 0, 6, 16, 252, 172, 29, 4, 100, 54, 4, 21, 4, 155, 0, 37, 42, 180, 0, 100, 42, 180, 1, 55]
abbrev dktX0_feed_1 : List UInt8 := dkwX0_feed_1 ++ dktX0_feed_2
def dkwX0_feed_0 : List UInt8 := [29, 133, 10, 20, 1, 25, 184, 0, 119, 154, 0, 6, 16, 254, 172, 42, 180, 1, 55, 29, 96, 17, 0, 160]
abbrev dktX0_feed_0 : List UInt8 := dkwX0_feed_0 ++ dktX0_feed_1
theorem dksX0_feed_0 : cX0_feed.data.toList.drop 0 = dktX0_feed_0 := by decide +kernel
theorem dksX0_feed_1 : cX0_feed.data.toList.drop 24 = dktX0_feed_1 := dk_seg dksX0_feed_0 24 rfl rfl
theorem dksX0_feed_2 : cX0_feed.data.toList.drop 48 = dktX0_feed_2 := dk_seg dksX0_feed_1 24 rfl rfl
theorem dksX0_feed_3 : cX0_feed.data.toList.drop 71 = dktX0_feed_3 := dk_seg dksX0_feed_2 23 rfl rfl
theorem dX0_feed_0 : decode cX0_feed 0 = .ok (.iload_n 3, 1) := dk_29 (dk_at dksX0_feed_0 0 rfl rfl)
theorem dX0_feed_1 : decode cX0_feed 1 = .ok (.i2l, 1) := dk_133 (dk_at dksX0_feed_0 1 rfl rfl)
theorem dX0_feed_2 : decode cX0_feed 2 = .ok (.lconst 1, 1) := dk_10 (dk_at dksX0_feed_0 2 rfl rfl)
theorem dX0_feed_3 : decode cX0_feed 3 = .ok (.ldc2_w 281, 3) := dk_20 1 25 (dk_at dksX0_feed_0 3 rfl rfl)
theorem dX0_feed_6 : decode cX0_feed 6 = .ok (.invokestatic 119, 3) := dk_184 0 119 (dk_at dksX0_feed_0 6 rfl rfl)
theorem dX0_feed_9 : decode cX0_feed 9 = .ok (.ifCond .ne 6, 3) := dk_154 0 6 (dk_at dksX0_feed_0 9 rfl rfl)
theorem dX0_feed_12 : decode cX0_feed 12 = .ok (.bipush (-2), 2) := dk_16 254 (dk_at dksX0_feed_0 12 rfl rfl)
theorem dX0_feed_14 : decode cX0_feed 14 = .ok (.ireturn, 1) := dk_172 (dk_at dksX0_feed_0 14 rfl rfl)
theorem dX0_feed_15 : decode cX0_feed 15 = .ok (.aload_n 0, 1) := dk_42 (dk_at dksX0_feed_0 15 rfl rfl)
theorem dX0_feed_16 : decode cX0_feed 16 = .ok (.getfield 311, 3) := dk_180 1 55 (dk_at dksX0_feed_0 16 rfl rfl)
theorem dX0_feed_19 : decode cX0_feed 19 = .ok (.iload_n 3, 1) := dk_29 (dk_at dksX0_feed_0 19 rfl rfl)
theorem dX0_feed_20 : decode cX0_feed 20 = .ok (.iadd, 1) := dk_96 (dk_at dksX0_feed_0 20 rfl rfl)
theorem dX0_feed_21 : decode cX0_feed 21 = .ok (.sipush 160, 3) := dk_17 0 160 (dk_at dksX0_feed_0 21 rfl rfl)
theorem dX0_feed_24 : decode cX0_feed 24 = .ok (.if_icmp .le 6, 3) := dk_164 0 6 (dk_at dksX0_feed_1 0 rfl rfl)
theorem dX0_feed_27 : decode cX0_feed 27 = .ok (.bipush (-4), 2) := dk_16 252 (dk_at dksX0_feed_1 3 rfl rfl)
theorem dX0_feed_29 : decode cX0_feed 29 = .ok (.ireturn, 1) := dk_172 (dk_at dksX0_feed_1 5 rfl rfl)
theorem dX0_feed_30 : decode cX0_feed 30 = .ok (.iload_n 3, 1) := dk_29 (dk_at dksX0_feed_1 6 rfl rfl)
theorem dX0_feed_31 : decode cX0_feed 31 = .ok (.iconst 1, 1) := dk_4 (dk_at dksX0_feed_1 7 rfl rfl)
theorem dX0_feed_32 : decode cX0_feed 32 = .ok (.isub, 1) := dk_100 (dk_at dksX0_feed_1 8 rfl rfl)
theorem dX0_feed_33 : decode cX0_feed 33 = .ok (.istore 4, 2) := dk_54 4 (dk_at dksX0_feed_1 9 rfl rfl)
theorem dX0_feed_35 : decode cX0_feed 35 = .ok (.iload 4, 2) := dk_21 4 (dk_at dksX0_feed_1 11 rfl rfl)
theorem dX0_feed_37 : decode cX0_feed 37 = .ok (.ifCond .lt 37, 3) := dk_155 0 37 (dk_at dksX0_feed_1 13 rfl rfl)
theorem dX0_feed_40 : decode cX0_feed 40 = .ok (.aload_n 0, 1) := dk_42 (dk_at dksX0_feed_1 16 rfl rfl)
theorem dX0_feed_41 : decode cX0_feed 41 = .ok (.getfield 100, 3) := dk_180 0 100 (dk_at dksX0_feed_1 17 rfl rfl)
theorem dX0_feed_44 : decode cX0_feed 44 = .ok (.aload_n 0, 1) := dk_42 (dk_at dksX0_feed_1 20 rfl rfl)
theorem dX0_feed_45 : decode cX0_feed 45 = .ok (.getfield 311, 3) := dk_180 1 55 (dk_at dksX0_feed_1 21 rfl rfl)
theorem dX0_feed_48 : decode cX0_feed 48 = .ok (.lload_n 1, 1) := dk_31 (dk_at dksX0_feed_2 0 rfl rfl)
theorem dX0_feed_49 : decode cX0_feed 49 = .ok (.bipush 8, 2) := dk_16 8 (dk_at dksX0_feed_2 1 rfl rfl)
theorem dX0_feed_51 : decode cX0_feed 51 = .ok (.iload 4, 2) := dk_21 4 (dk_at dksX0_feed_2 3 rfl rfl)
theorem dX0_feed_53 : decode cX0_feed 53 = .ok (.imul, 1) := dk_104 (dk_at dksX0_feed_2 5 rfl rfl)
theorem dX0_feed_54 : decode cX0_feed 54 = .ok (.lshr, 1) := dk_123 (dk_at dksX0_feed_2 6 rfl rfl)
theorem dX0_feed_55 : decode cX0_feed 55 = .ok (.l2i, 1) := dk_136 (dk_at dksX0_feed_2 7 rfl rfl)
theorem dX0_feed_56 : decode cX0_feed 56 = .ok (.i2b, 1) := dk_145 (dk_at dksX0_feed_2 8 rfl rfl)
theorem dX0_feed_57 : decode cX0_feed 57 = .ok (.bastore, 1) := dk_84 (dk_at dksX0_feed_2 9 rfl rfl)
theorem dX0_feed_58 : decode cX0_feed 58 = .ok (.aload_n 0, 1) := dk_42 (dk_at dksX0_feed_2 10 rfl rfl)
theorem dX0_feed_59 : decode cX0_feed 59 = .ok (.dup, 1) := dk_89 (dk_at dksX0_feed_2 11 rfl rfl)
theorem dX0_feed_60 : decode cX0_feed 60 = .ok (.getfield 311, 3) := dk_180 1 55 (dk_at dksX0_feed_2 12 rfl rfl)
theorem dX0_feed_63 : decode cX0_feed 63 = .ok (.iconst 1, 1) := dk_4 (dk_at dksX0_feed_2 15 rfl rfl)
theorem dX0_feed_64 : decode cX0_feed 64 = .ok (.iadd, 1) := dk_96 (dk_at dksX0_feed_2 16 rfl rfl)
theorem dX0_feed_65 : decode cX0_feed 65 = .ok (.putfield 311, 3) := dk_181 1 55 (dk_at dksX0_feed_2 17 rfl rfl)
theorem dX0_feed_68 : decode cX0_feed 68 = .ok (.iinc 4 (-1), 3) := dk_132 4 255 (dk_at dksX0_feed_2 20 rfl rfl)
theorem dX0_feed_71 : decode cX0_feed 71 = .ok (.goto (-36), 3) := dk_167 255 220 (dk_at dksX0_feed_3 0 rfl rfl)
theorem dX0_feed_74 : decode cX0_feed 74 = .ok (.aload_n 0, 1) := dk_42 (dk_at dksX0_feed_3 3 rfl rfl)
theorem dX0_feed_75 : decode cX0_feed 75 = .ok (.getfield 311, 3) := dk_180 1 55 (dk_at dksX0_feed_3 4 rfl rfl)
theorem dX0_feed_78 : decode cX0_feed 78 = .ok (.ireturn, 1) := dk_172 (dk_at dksX0_feed_3 7 rfl rfl)
abbrev cX0_text : ByteArray := prog_1_method_52_code
def yX0_text : MethodName := ⟨RX0, "text", "()I"⟩
def dkwX0_text_3 : List UInt8 := [89, 180, 0, 116, 4, 96, 181, 0, 116, 42, 180, 0, 116, 4, 100, 172]
abbrev dktX0_text_3 : List UInt8 := dkwX0_text_3 ++ []
def dkwX0_text_2 : List UInt8 := [16, 156, 43, 180, 1, 84, 100, 61, 42, 3, 181, 1, 55, 28, 172, 78, 42, 3, 181, 1, 55, 45, 191, 42]
abbrev dktX0_text_2 : List UInt8 := dkwX0_text_2 ++ dktX0_text_3
def dkwX0_text_1 : List UInt8 := [42, 180, 0, 100, 42, 180, 1, 55, 183, 1, 75, 182, 1, 78, 83, 42, 3, 181, 1, 55, 167, 0, 27, 76]
abbrev dktX0_text_1 : List UInt8 := dkwX0_text_1 ++ dktX0_text_2
def dkwX0_text_0 : List UInt8 := [42, 180, 0, 116, 16, 6, 160, 0, 6, 16, 252, 172, 42, 180, 0, 96, 42, 180, 0, 116, 187, 1, 73, 89]
abbrev dktX0_text_0 : List UInt8 := dkwX0_text_0 ++ dktX0_text_1
theorem dksX0_text_0 : cX0_text.data.toList.drop 0 = dktX0_text_0 := by decide +kernel
theorem dksX0_text_1 : cX0_text.data.toList.drop 24 = dktX0_text_1 := dk_seg dksX0_text_0 24 rfl rfl
theorem dksX0_text_2 : cX0_text.data.toList.drop 48 = dktX0_text_2 := dk_seg dksX0_text_1 24 rfl rfl
theorem dksX0_text_3 : cX0_text.data.toList.drop 72 = dktX0_text_3 := dk_seg dksX0_text_2 24 rfl rfl
theorem dX0_text_0 : decode cX0_text 0 = .ok (.aload_n 0, 1) := dk_42 (dk_at dksX0_text_0 0 rfl rfl)
theorem dX0_text_1 : decode cX0_text 1 = .ok (.getfield 116, 3) := dk_180 0 116 (dk_at dksX0_text_0 1 rfl rfl)
theorem dX0_text_4 : decode cX0_text 4 = .ok (.bipush 6, 2) := dk_16 6 (dk_at dksX0_text_0 4 rfl rfl)
theorem dX0_text_6 : decode cX0_text 6 = .ok (.if_icmp .ne 6, 3) := dk_160 0 6 (dk_at dksX0_text_0 6 rfl rfl)
theorem dX0_text_9 : decode cX0_text 9 = .ok (.bipush (-4), 2) := dk_16 252 (dk_at dksX0_text_0 9 rfl rfl)
theorem dX0_text_11 : decode cX0_text 11 = .ok (.ireturn, 1) := dk_172 (dk_at dksX0_text_0 11 rfl rfl)
theorem dX0_text_12 : decode cX0_text 12 = .ok (.aload_n 0, 1) := dk_42 (dk_at dksX0_text_0 12 rfl rfl)
theorem dX0_text_13 : decode cX0_text 13 = .ok (.getfield 96, 3) := dk_180 0 96 (dk_at dksX0_text_0 13 rfl rfl)
theorem dX0_text_16 : decode cX0_text 16 = .ok (.aload_n 0, 1) := dk_42 (dk_at dksX0_text_0 16 rfl rfl)
theorem dX0_text_17 : decode cX0_text 17 = .ok (.getfield 116, 3) := dk_180 0 116 (dk_at dksX0_text_0 17 rfl rfl)
theorem dX0_text_20 : decode cX0_text 20 = .ok (.new 329, 3) := dk_187 1 73 (dk_at dksX0_text_0 20 rfl rfl)
theorem dX0_text_23 : decode cX0_text 23 = .ok (.dup, 1) := dk_89 (dk_at dksX0_text_0 23 rfl rfl)
theorem dX0_text_24 : decode cX0_text 24 = .ok (.aload_n 0, 1) := dk_42 (dk_at dksX0_text_1 0 rfl rfl)
theorem dX0_text_25 : decode cX0_text 25 = .ok (.getfield 100, 3) := dk_180 0 100 (dk_at dksX0_text_1 1 rfl rfl)
theorem dX0_text_28 : decode cX0_text 28 = .ok (.aload_n 0, 1) := dk_42 (dk_at dksX0_text_1 4 rfl rfl)
theorem dX0_text_29 : decode cX0_text 29 = .ok (.getfield 311, 3) := dk_180 1 55 (dk_at dksX0_text_1 5 rfl rfl)
theorem dX0_text_32 : decode cX0_text 32 = .ok (.invokespecial 331, 3) := dk_183 1 75 (dk_at dksX0_text_1 8 rfl rfl)
theorem dX0_text_35 : decode cX0_text 35 = .ok (.invokevirtual 334, 3) := dk_182 1 78 (dk_at dksX0_text_1 11 rfl rfl)
theorem dX0_text_38 : decode cX0_text 38 = .ok (.aastore, 1) := dk_83 (dk_at dksX0_text_1 14 rfl rfl)
theorem dX0_text_39 : decode cX0_text 39 = .ok (.aload_n 0, 1) := dk_42 (dk_at dksX0_text_1 15 rfl rfl)
theorem dX0_text_40 : decode cX0_text 40 = .ok (.iconst 0, 1) := dk_3 (dk_at dksX0_text_1 16 rfl rfl)
theorem dX0_text_41 : decode cX0_text 41 = .ok (.putfield 311, 3) := dk_181 1 55 (dk_at dksX0_text_1 17 rfl rfl)
theorem dX0_text_44 : decode cX0_text 44 = .ok (.goto 27, 3) := dk_167 0 27 (dk_at dksX0_text_1 20 rfl rfl)
theorem dX0_text_47 : decode cX0_text 47 = .ok (.astore_n 1, 1) := dk_76 (dk_at dksX0_text_1 23 rfl rfl)
theorem dX0_text_48 : decode cX0_text 48 = .ok (.bipush (-100), 2) := dk_16 156 (dk_at dksX0_text_2 0 rfl rfl)
theorem dX0_text_50 : decode cX0_text 50 = .ok (.aload_n 1, 1) := dk_43 (dk_at dksX0_text_2 2 rfl rfl)
theorem dX0_text_51 : decode cX0_text 51 = .ok (.getfield 340, 3) := dk_180 1 84 (dk_at dksX0_text_2 3 rfl rfl)
theorem dX0_text_54 : decode cX0_text 54 = .ok (.isub, 1) := dk_100 (dk_at dksX0_text_2 6 rfl rfl)
theorem dX0_text_55 : decode cX0_text 55 = .ok (.istore_n 2, 1) := dk_61 (dk_at dksX0_text_2 7 rfl rfl)
theorem dX0_text_56 : decode cX0_text 56 = .ok (.aload_n 0, 1) := dk_42 (dk_at dksX0_text_2 8 rfl rfl)
theorem dX0_text_57 : decode cX0_text 57 = .ok (.iconst 0, 1) := dk_3 (dk_at dksX0_text_2 9 rfl rfl)
theorem dX0_text_58 : decode cX0_text 58 = .ok (.putfield 311, 3) := dk_181 1 55 (dk_at dksX0_text_2 10 rfl rfl)
theorem dX0_text_61 : decode cX0_text 61 = .ok (.iload_n 2, 1) := dk_28 (dk_at dksX0_text_2 13 rfl rfl)
theorem dX0_text_62 : decode cX0_text 62 = .ok (.ireturn, 1) := dk_172 (dk_at dksX0_text_2 14 rfl rfl)
theorem dX0_text_63 : decode cX0_text 63 = .ok (.astore_n 3, 1) := dk_78 (dk_at dksX0_text_2 15 rfl rfl)
theorem dX0_text_64 : decode cX0_text 64 = .ok (.aload_n 0, 1) := dk_42 (dk_at dksX0_text_2 16 rfl rfl)
theorem dX0_text_65 : decode cX0_text 65 = .ok (.iconst 0, 1) := dk_3 (dk_at dksX0_text_2 17 rfl rfl)
theorem dX0_text_66 : decode cX0_text 66 = .ok (.putfield 311, 3) := dk_181 1 55 (dk_at dksX0_text_2 18 rfl rfl)
theorem dX0_text_69 : decode cX0_text 69 = .ok (.aload_n 3, 1) := dk_45 (dk_at dksX0_text_2 21 rfl rfl)
theorem dX0_text_70 : decode cX0_text 70 = .ok (.athrow, 1) := dk_191 (dk_at dksX0_text_2 22 rfl rfl)
theorem dX0_text_71 : decode cX0_text 71 = .ok (.aload_n 0, 1) := dk_42 (dk_at dksX0_text_2 23 rfl rfl)
theorem dX0_text_72 : decode cX0_text 72 = .ok (.dup, 1) := dk_89 (dk_at dksX0_text_3 0 rfl rfl)
theorem dX0_text_73 : decode cX0_text 73 = .ok (.getfield 116, 3) := dk_180 0 116 (dk_at dksX0_text_3 1 rfl rfl)
theorem dX0_text_76 : decode cX0_text 76 = .ok (.iconst 1, 1) := dk_4 (dk_at dksX0_text_3 4 rfl rfl)
theorem dX0_text_77 : decode cX0_text 77 = .ok (.iadd, 1) := dk_96 (dk_at dksX0_text_3 5 rfl rfl)
theorem dX0_text_78 : decode cX0_text 78 = .ok (.putfield 116, 3) := dk_181 0 116 (dk_at dksX0_text_3 6 rfl rfl)
theorem dX0_text_81 : decode cX0_text 81 = .ok (.aload_n 0, 1) := dk_42 (dk_at dksX0_text_3 9 rfl rfl)
theorem dX0_text_82 : decode cX0_text 82 = .ok (.getfield 116, 3) := dk_180 0 116 (dk_at dksX0_text_3 10 rfl rfl)
theorem dX0_text_85 : decode cX0_text 85 = .ok (.iconst 1, 1) := dk_4 (dk_at dksX0_text_3 13 rfl rfl)
theorem dX0_text_86 : decode cX0_text 86 = .ok (.isub, 1) := dk_100 (dk_at dksX0_text_3 14 rfl rfl)
theorem dX0_text_87 : decode cX0_text 87 = .ok (.ireturn, 1) := dk_172 (dk_at dksX0_text_3 15 rfl rfl)
abbrev cX0_force : ByteArray := prog_1_method_53_code
def yX0_force : MethodName := ⟨RX0, "force", "(I)I"⟩
def dkwX0_force_1 : List UInt8 := [42, 27, 181, 0, 153, 28, 172]
abbrev dktX0_force_1 : List UInt8 := dkwX0_force_1 ++ []
def dkwX0_force_0 : List UInt8 := [27, 133, 9, 42, 180, 0, 116, 133, 10, 101, 184, 0, 119, 154, 0, 6, 16, 254, 172, 42, 180, 0, 153, 61]
abbrev dktX0_force_0 : List UInt8 := dkwX0_force_0 ++ dktX0_force_1
theorem dksX0_force_0 : cX0_force.data.toList.drop 0 = dktX0_force_0 := by decide +kernel
theorem dksX0_force_1 : cX0_force.data.toList.drop 24 = dktX0_force_1 := dk_seg dksX0_force_0 24 rfl rfl
theorem dX0_force_0 : decode cX0_force 0 = .ok (.iload_n 1, 1) := dk_27 (dk_at dksX0_force_0 0 rfl rfl)
theorem dX0_force_1 : decode cX0_force 1 = .ok (.i2l, 1) := dk_133 (dk_at dksX0_force_0 1 rfl rfl)
theorem dX0_force_2 : decode cX0_force 2 = .ok (.lconst 0, 1) := dk_9 (dk_at dksX0_force_0 2 rfl rfl)
theorem dX0_force_3 : decode cX0_force 3 = .ok (.aload_n 0, 1) := dk_42 (dk_at dksX0_force_0 3 rfl rfl)
theorem dX0_force_4 : decode cX0_force 4 = .ok (.getfield 116, 3) := dk_180 0 116 (dk_at dksX0_force_0 4 rfl rfl)
theorem dX0_force_7 : decode cX0_force 7 = .ok (.i2l, 1) := dk_133 (dk_at dksX0_force_0 7 rfl rfl)
theorem dX0_force_8 : decode cX0_force 8 = .ok (.lconst 1, 1) := dk_10 (dk_at dksX0_force_0 8 rfl rfl)
theorem dX0_force_9 : decode cX0_force 9 = .ok (.lsub, 1) := dk_101 (dk_at dksX0_force_0 9 rfl rfl)
theorem dX0_force_10 : decode cX0_force 10 = .ok (.invokestatic 119, 3) := dk_184 0 119 (dk_at dksX0_force_0 10 rfl rfl)
theorem dX0_force_13 : decode cX0_force 13 = .ok (.ifCond .ne 6, 3) := dk_154 0 6 (dk_at dksX0_force_0 13 rfl rfl)
theorem dX0_force_16 : decode cX0_force 16 = .ok (.bipush (-2), 2) := dk_16 254 (dk_at dksX0_force_0 16 rfl rfl)
theorem dX0_force_18 : decode cX0_force 18 = .ok (.ireturn, 1) := dk_172 (dk_at dksX0_force_0 18 rfl rfl)
theorem dX0_force_19 : decode cX0_force 19 = .ok (.aload_n 0, 1) := dk_42 (dk_at dksX0_force_0 19 rfl rfl)
theorem dX0_force_20 : decode cX0_force 20 = .ok (.getfield 153, 3) := dk_180 0 153 (dk_at dksX0_force_0 20 rfl rfl)
theorem dX0_force_23 : decode cX0_force 23 = .ok (.istore_n 2, 1) := dk_61 (dk_at dksX0_force_0 23 rfl rfl)
theorem dX0_force_24 : decode cX0_force 24 = .ok (.aload_n 0, 1) := dk_42 (dk_at dksX0_force_1 0 rfl rfl)
theorem dX0_force_25 : decode cX0_force 25 = .ok (.iload_n 1, 1) := dk_27 (dk_at dksX0_force_1 1 rfl rfl)
theorem dX0_force_26 : decode cX0_force 26 = .ok (.putfield 153, 3) := dk_181 0 153 (dk_at dksX0_force_1 2 rfl rfl)
theorem dX0_force_29 : decode cX0_force 29 = .ok (.iload_n 2, 1) := dk_28 (dk_at dksX0_force_1 5 rfl rfl)
theorem dX0_force_30 : decode cX0_force 30 = .ok (.ireturn, 1) := dk_172 (dk_at dksX0_force_1 6 rfl rfl)
abbrev cX0_sheet : ByteArray := prog_1_method_57_code
def yX0_sheet : MethodName := ⟨RX0, "sheet", "(III)I"⟩
def dkwX0_sheet_3 : List UInt8 := [181, 0, 225, 42, 180, 0, 106, 27, 50, 180, 0, 227, 3, 184, 1, 92, 4, 172]
abbrev dktX0_sheet_3 : List UInt8 := dkwX0_sheet_3 ++ []
def dkwX0_sheet_2 : List UInt8 := [180, 0, 106, 27, 50, 28, 181, 0, 222, 42, 180, 0, 106, 27, 50, 28, 156, 0, 7, 3, 167, 0, 4, 29]
abbrev dktX0_sheet_2 : List UInt8 := dkwX0_sheet_2 ++ dktX0_sheet_3
def dkwX0_sheet_1 : List UInt8 := [155, 0, 12, 29, 16, 40, 164, 0, 6, 16, 254, 172, 28, 155, 0, 10, 29, 156, 0, 6, 16, 242, 172, 42]
abbrev dktX0_sheet_1 : List UInt8 := dkwX0_sheet_1 ++ dktX0_sheet_2
def dkwX0_sheet_0 : List UInt8 := [27, 184, 0, 219, 153, 0, 27, 28, 133, 20, 1, 90, 20, 1, 19, 184, 0, 119, 153, 0, 13, 28]
abbrev dktX0_sheet_0 : List UInt8 := dkwX0_sheet_0 ++ dktX0_sheet_1
theorem dksX0_sheet_0 : cX0_sheet.data.toList.drop 0 = dktX0_sheet_0 := by decide +kernel
theorem dksX0_sheet_1 : cX0_sheet.data.toList.drop 22 = dktX0_sheet_1 := dk_seg dksX0_sheet_0 22 rfl rfl
theorem dksX0_sheet_2 : cX0_sheet.data.toList.drop 46 = dktX0_sheet_2 := dk_seg dksX0_sheet_1 24 rfl rfl
theorem dksX0_sheet_3 : cX0_sheet.data.toList.drop 70 = dktX0_sheet_3 := dk_seg dksX0_sheet_2 24 rfl rfl
theorem dX0_sheet_0 : decode cX0_sheet 0 = .ok (.iload_n 1, 1) := dk_27 (dk_at dksX0_sheet_0 0 rfl rfl)
theorem dX0_sheet_1 : decode cX0_sheet 1 = .ok (.invokestatic 219, 3) := dk_184 0 219 (dk_at dksX0_sheet_0 1 rfl rfl)
theorem dX0_sheet_4 : decode cX0_sheet 4 = .ok (.ifCond .eq 27, 3) := dk_153 0 27 (dk_at dksX0_sheet_0 4 rfl rfl)
theorem dX0_sheet_7 : decode cX0_sheet 7 = .ok (.iload_n 2, 1) := dk_28 (dk_at dksX0_sheet_0 7 rfl rfl)
theorem dX0_sheet_8 : decode cX0_sheet 8 = .ok (.i2l, 1) := dk_133 (dk_at dksX0_sheet_0 8 rfl rfl)
theorem dX0_sheet_9 : decode cX0_sheet 9 = .ok (.ldc2_w 346, 3) := dk_20 1 90 (dk_at dksX0_sheet_0 9 rfl rfl)
theorem dX0_sheet_12 : decode cX0_sheet 12 = .ok (.ldc2_w 275, 3) := dk_20 1 19 (dk_at dksX0_sheet_0 12 rfl rfl)
theorem dX0_sheet_15 : decode cX0_sheet 15 = .ok (.invokestatic 119, 3) := dk_184 0 119 (dk_at dksX0_sheet_0 15 rfl rfl)
theorem dX0_sheet_18 : decode cX0_sheet 18 = .ok (.ifCond .eq 13, 3) := dk_153 0 13 (dk_at dksX0_sheet_0 18 rfl rfl)
theorem dX0_sheet_21 : decode cX0_sheet 21 = .ok (.iload_n 2, 1) := dk_28 (dk_at dksX0_sheet_0 21 rfl rfl)
theorem dX0_sheet_22 : decode cX0_sheet 22 = .ok (.ifCond .lt 12, 3) := dk_155 0 12 (dk_at dksX0_sheet_1 0 rfl rfl)
theorem dX0_sheet_25 : decode cX0_sheet 25 = .ok (.iload_n 3, 1) := dk_29 (dk_at dksX0_sheet_1 3 rfl rfl)
theorem dX0_sheet_26 : decode cX0_sheet 26 = .ok (.bipush 40, 2) := dk_16 40 (dk_at dksX0_sheet_1 4 rfl rfl)
theorem dX0_sheet_28 : decode cX0_sheet 28 = .ok (.if_icmp .le 6, 3) := dk_164 0 6 (dk_at dksX0_sheet_1 6 rfl rfl)
theorem dX0_sheet_31 : decode cX0_sheet 31 = .ok (.bipush (-2), 2) := dk_16 254 (dk_at dksX0_sheet_1 9 rfl rfl)
theorem dX0_sheet_33 : decode cX0_sheet 33 = .ok (.ireturn, 1) := dk_172 (dk_at dksX0_sheet_1 11 rfl rfl)
theorem dX0_sheet_34 : decode cX0_sheet 34 = .ok (.iload_n 2, 1) := dk_28 (dk_at dksX0_sheet_1 12 rfl rfl)
theorem dX0_sheet_35 : decode cX0_sheet 35 = .ok (.ifCond .lt 10, 3) := dk_155 0 10 (dk_at dksX0_sheet_1 13 rfl rfl)
theorem dX0_sheet_38 : decode cX0_sheet 38 = .ok (.iload_n 3, 1) := dk_29 (dk_at dksX0_sheet_1 16 rfl rfl)
theorem dX0_sheet_39 : decode cX0_sheet 39 = .ok (.ifCond .ge 6, 3) := dk_156 0 6 (dk_at dksX0_sheet_1 17 rfl rfl)
theorem dX0_sheet_42 : decode cX0_sheet 42 = .ok (.bipush (-14), 2) := dk_16 242 (dk_at dksX0_sheet_1 20 rfl rfl)
theorem dX0_sheet_44 : decode cX0_sheet 44 = .ok (.ireturn, 1) := dk_172 (dk_at dksX0_sheet_1 22 rfl rfl)
theorem dX0_sheet_45 : decode cX0_sheet 45 = .ok (.aload_n 0, 1) := dk_42 (dk_at dksX0_sheet_1 23 rfl rfl)
theorem dX0_sheet_46 : decode cX0_sheet 46 = .ok (.getfield 106, 3) := dk_180 0 106 (dk_at dksX0_sheet_2 0 rfl rfl)
theorem dX0_sheet_49 : decode cX0_sheet 49 = .ok (.iload_n 1, 1) := dk_27 (dk_at dksX0_sheet_2 3 rfl rfl)
theorem dX0_sheet_50 : decode cX0_sheet 50 = .ok (.aaload, 1) := dk_50 (dk_at dksX0_sheet_2 4 rfl rfl)
theorem dX0_sheet_51 : decode cX0_sheet 51 = .ok (.iload_n 2, 1) := dk_28 (dk_at dksX0_sheet_2 5 rfl rfl)
theorem dX0_sheet_52 : decode cX0_sheet 52 = .ok (.putfield 222, 3) := dk_181 0 222 (dk_at dksX0_sheet_2 6 rfl rfl)
theorem dX0_sheet_55 : decode cX0_sheet 55 = .ok (.aload_n 0, 1) := dk_42 (dk_at dksX0_sheet_2 9 rfl rfl)
theorem dX0_sheet_56 : decode cX0_sheet 56 = .ok (.getfield 106, 3) := dk_180 0 106 (dk_at dksX0_sheet_2 10 rfl rfl)
theorem dX0_sheet_59 : decode cX0_sheet 59 = .ok (.iload_n 1, 1) := dk_27 (dk_at dksX0_sheet_2 13 rfl rfl)
theorem dX0_sheet_60 : decode cX0_sheet 60 = .ok (.aaload, 1) := dk_50 (dk_at dksX0_sheet_2 14 rfl rfl)
theorem dX0_sheet_61 : decode cX0_sheet 61 = .ok (.iload_n 2, 1) := dk_28 (dk_at dksX0_sheet_2 15 rfl rfl)
theorem dX0_sheet_62 : decode cX0_sheet 62 = .ok (.ifCond .ge 7, 3) := dk_156 0 7 (dk_at dksX0_sheet_2 16 rfl rfl)
theorem dX0_sheet_65 : decode cX0_sheet 65 = .ok (.iconst 0, 1) := dk_3 (dk_at dksX0_sheet_2 19 rfl rfl)
theorem dX0_sheet_66 : decode cX0_sheet 66 = .ok (.goto 4, 3) := dk_167 0 4 (dk_at dksX0_sheet_2 20 rfl rfl)
theorem dX0_sheet_69 : decode cX0_sheet 69 = .ok (.iload_n 3, 1) := dk_29 (dk_at dksX0_sheet_2 23 rfl rfl)
theorem dX0_sheet_70 : decode cX0_sheet 70 = .ok (.putfield 225, 3) := dk_181 0 225 (dk_at dksX0_sheet_3 0 rfl rfl)
theorem dX0_sheet_73 : decode cX0_sheet 73 = .ok (.aload_n 0, 1) := dk_42 (dk_at dksX0_sheet_3 3 rfl rfl)
theorem dX0_sheet_74 : decode cX0_sheet 74 = .ok (.getfield 106, 3) := dk_180 0 106 (dk_at dksX0_sheet_3 4 rfl rfl)
theorem dX0_sheet_77 : decode cX0_sheet 77 = .ok (.iload_n 1, 1) := dk_27 (dk_at dksX0_sheet_3 7 rfl rfl)
theorem dX0_sheet_78 : decode cX0_sheet 78 = .ok (.aaload, 1) := dk_50 (dk_at dksX0_sheet_3 8 rfl rfl)
theorem dX0_sheet_79 : decode cX0_sheet 79 = .ok (.getfield 227, 3) := dk_180 0 227 (dk_at dksX0_sheet_3 9 rfl rfl)
theorem dX0_sheet_82 : decode cX0_sheet 82 = .ok (.iconst 0, 1) := dk_3 (dk_at dksX0_sheet_3 12 rfl rfl)
theorem dX0_sheet_83 : decode cX0_sheet 83 = .ok (.invokestatic 348, 3) := dk_184 1 92 (dk_at dksX0_sheet_3 13 rfl rfl)
theorem dX0_sheet_86 : decode cX0_sheet 86 = .ok (.iconst 1, 1) := dk_4 (dk_at dksX0_sheet_3 16 rfl rfl)
theorem dX0_sheet_87 : decode cX0_sheet 87 = .ok (.ireturn, 1) := dk_172 (dk_at dksX0_sheet_3 17 rfl rfl)
abbrev cX0_cell : ByteArray := prog_1_method_58_code
def yX0_cell : MethodName := ⟨RX0, "cell", "(III)I"⟩
def dkwX0_cell_2 : List UInt8 := [58, 4, 25, 4, 180, 1, 110, 172]
abbrev dktX0_cell_2 : List UInt8 := dkwX0_cell_2 ++ []
def dkwX0_cell_1 : List UInt8 := [180, 0, 225, 133, 10, 101, 184, 0, 119, 16, 244, 184, 1, 102, 25, 4, 28, 29, 182, 1, 106, 4, 172]
abbrev dktX0_cell_1 : List UInt8 := dkwX0_cell_1 ++ dktX0_cell_2
def dkwX0_cell_0 : List UInt8 := [27, 184, 0, 219, 154, 0, 6, 16, 254, 172, 42, 27, 182, 1, 98, 58, 4, 28, 133, 9, 25, 4]
abbrev dktX0_cell_0 : List UInt8 := dkwX0_cell_0 ++ dktX0_cell_1
theorem dksX0_cell_0 : cX0_cell.data.toList.drop 0 = dktX0_cell_0 := by decide +kernel
theorem dksX0_cell_1 : cX0_cell.data.toList.drop 22 = dktX0_cell_1 := dk_seg dksX0_cell_0 22 rfl rfl
theorem dksX0_cell_2 : cX0_cell.data.toList.drop 45 = dktX0_cell_2 := dk_seg dksX0_cell_1 23 rfl rfl
theorem dX0_cell_0 : decode cX0_cell 0 = .ok (.iload_n 1, 1) := dk_27 (dk_at dksX0_cell_0 0 rfl rfl)
theorem dX0_cell_1 : decode cX0_cell 1 = .ok (.invokestatic 219, 3) := dk_184 0 219 (dk_at dksX0_cell_0 1 rfl rfl)
theorem dX0_cell_4 : decode cX0_cell 4 = .ok (.ifCond .ne 6, 3) := dk_154 0 6 (dk_at dksX0_cell_0 4 rfl rfl)
theorem dX0_cell_7 : decode cX0_cell 7 = .ok (.bipush (-2), 2) := dk_16 254 (dk_at dksX0_cell_0 7 rfl rfl)
theorem dX0_cell_9 : decode cX0_cell 9 = .ok (.ireturn, 1) := dk_172 (dk_at dksX0_cell_0 9 rfl rfl)
theorem dX0_cell_10 : decode cX0_cell 10 = .ok (.aload_n 0, 1) := dk_42 (dk_at dksX0_cell_0 10 rfl rfl)
theorem dX0_cell_11 : decode cX0_cell 11 = .ok (.iload_n 1, 1) := dk_27 (dk_at dksX0_cell_0 11 rfl rfl)
theorem dX0_cell_12 : decode cX0_cell 12 = .ok (.invokevirtual 354, 3) := dk_182 1 98 (dk_at dksX0_cell_0 12 rfl rfl)
theorem dX0_cell_15 : decode cX0_cell 15 = .ok (.astore 4, 2) := dk_58 4 (dk_at dksX0_cell_0 15 rfl rfl)
theorem dX0_cell_17 : decode cX0_cell 17 = .ok (.iload_n 2, 1) := dk_28 (dk_at dksX0_cell_0 17 rfl rfl)
theorem dX0_cell_18 : decode cX0_cell 18 = .ok (.i2l, 1) := dk_133 (dk_at dksX0_cell_0 18 rfl rfl)
theorem dX0_cell_19 : decode cX0_cell 19 = .ok (.lconst 0, 1) := dk_9 (dk_at dksX0_cell_0 19 rfl rfl)
theorem dX0_cell_20 : decode cX0_cell 20 = .ok (.aload 4, 2) := dk_25 4 (dk_at dksX0_cell_0 20 rfl rfl)
theorem dX0_cell_22 : decode cX0_cell 22 = .ok (.getfield 225, 3) := dk_180 0 225 (dk_at dksX0_cell_1 0 rfl rfl)
theorem dX0_cell_25 : decode cX0_cell 25 = .ok (.i2l, 1) := dk_133 (dk_at dksX0_cell_1 3 rfl rfl)
theorem dX0_cell_26 : decode cX0_cell 26 = .ok (.lconst 1, 1) := dk_10 (dk_at dksX0_cell_1 4 rfl rfl)
theorem dX0_cell_27 : decode cX0_cell 27 = .ok (.lsub, 1) := dk_101 (dk_at dksX0_cell_1 5 rfl rfl)
theorem dX0_cell_28 : decode cX0_cell 28 = .ok (.invokestatic 119, 3) := dk_184 0 119 (dk_at dksX0_cell_1 6 rfl rfl)
theorem dX0_cell_31 : decode cX0_cell 31 = .ok (.bipush (-12), 2) := dk_16 244 (dk_at dksX0_cell_1 9 rfl rfl)
theorem dX0_cell_33 : decode cX0_cell 33 = .ok (.invokestatic 358, 3) := dk_184 1 102 (dk_at dksX0_cell_1 11 rfl rfl)
theorem dX0_cell_36 : decode cX0_cell 36 = .ok (.aload 4, 2) := dk_25 4 (dk_at dksX0_cell_1 14 rfl rfl)
theorem dX0_cell_38 : decode cX0_cell 38 = .ok (.iload_n 2, 1) := dk_28 (dk_at dksX0_cell_1 16 rfl rfl)
theorem dX0_cell_39 : decode cX0_cell 39 = .ok (.iload_n 3, 1) := dk_29 (dk_at dksX0_cell_1 17 rfl rfl)
theorem dX0_cell_40 : decode cX0_cell 40 = .ok (.invokevirtual 362, 3) := dk_182 1 106 (dk_at dksX0_cell_1 18 rfl rfl)
theorem dX0_cell_43 : decode cX0_cell 43 = .ok (.iconst 1, 1) := dk_4 (dk_at dksX0_cell_1 21 rfl rfl)
theorem dX0_cell_44 : decode cX0_cell 44 = .ok (.ireturn, 1) := dk_172 (dk_at dksX0_cell_1 22 rfl rfl)
theorem dX0_cell_45 : decode cX0_cell 45 = .ok (.astore 4, 2) := dk_58 4 (dk_at dksX0_cell_2 0 rfl rfl)
theorem dX0_cell_47 : decode cX0_cell 47 = .ok (.aload 4, 2) := dk_25 4 (dk_at dksX0_cell_2 2 rfl rfl)
theorem dX0_cell_49 : decode cX0_cell 49 = .ok (.getfield 366, 3) := dk_180 1 110 (dk_at dksX0_cell_2 4 rfl rfl)
theorem dX0_cell_52 : decode cX0_cell 52 = .ok (.ireturn, 1) := dk_172 (dk_at dksX0_cell_2 7 rfl rfl)
abbrev cX0_there : ByteArray := prog_1_method_55_code
def yX0_there : MethodName := ⟨RX0, "there", "(I)LGateRoad$Sheet;"⟩
def dkwX0_there_1 : List UInt8 := [180, 0, 106, 27, 50, 176]
abbrev dktX0_there_1 : List UInt8 := dkwX0_there_1 ++ []
def dkwX0_there_0 : List UInt8 := [42, 180, 0, 106, 27, 50, 180, 0, 222, 156, 0, 13, 187, 1, 87, 89, 16, 245, 183, 1, 89, 191, 42]
abbrev dktX0_there_0 : List UInt8 := dkwX0_there_0 ++ dktX0_there_1
theorem dksX0_there_0 : cX0_there.data.toList.drop 0 = dktX0_there_0 := by decide +kernel
theorem dksX0_there_1 : cX0_there.data.toList.drop 23 = dktX0_there_1 := dk_seg dksX0_there_0 23 rfl rfl
theorem dX0_there_0 : decode cX0_there 0 = .ok (.aload_n 0, 1) := dk_42 (dk_at dksX0_there_0 0 rfl rfl)
theorem dX0_there_1 : decode cX0_there 1 = .ok (.getfield 106, 3) := dk_180 0 106 (dk_at dksX0_there_0 1 rfl rfl)
theorem dX0_there_4 : decode cX0_there 4 = .ok (.iload_n 1, 1) := dk_27 (dk_at dksX0_there_0 4 rfl rfl)
theorem dX0_there_5 : decode cX0_there 5 = .ok (.aaload, 1) := dk_50 (dk_at dksX0_there_0 5 rfl rfl)
theorem dX0_there_6 : decode cX0_there 6 = .ok (.getfield 222, 3) := dk_180 0 222 (dk_at dksX0_there_0 6 rfl rfl)
theorem dX0_there_9 : decode cX0_there 9 = .ok (.ifCond .ge 13, 3) := dk_156 0 13 (dk_at dksX0_there_0 9 rfl rfl)
theorem dX0_there_12 : decode cX0_there 12 = .ok (.new 343, 3) := dk_187 1 87 (dk_at dksX0_there_0 12 rfl rfl)
theorem dX0_there_15 : decode cX0_there 15 = .ok (.dup, 1) := dk_89 (dk_at dksX0_there_0 15 rfl rfl)
theorem dX0_there_16 : decode cX0_there 16 = .ok (.bipush (-11), 2) := dk_16 245 (dk_at dksX0_there_0 16 rfl rfl)
theorem dX0_there_18 : decode cX0_there 18 = .ok (.invokespecial 345, 3) := dk_183 1 89 (dk_at dksX0_there_0 18 rfl rfl)
theorem dX0_there_21 : decode cX0_there 21 = .ok (.athrow, 1) := dk_191 (dk_at dksX0_there_0 21 rfl rfl)
theorem dX0_there_22 : decode cX0_there 22 = .ok (.aload_n 0, 1) := dk_42 (dk_at dksX0_there_0 22 rfl rfl)
theorem dX0_there_23 : decode cX0_there 23 = .ok (.getfield 106, 3) := dk_180 0 106 (dk_at dksX0_there_1 0 rfl rfl)
theorem dX0_there_26 : decode cX0_there 26 = .ok (.iload_n 1, 1) := dk_27 (dk_at dksX0_there_1 3 rfl rfl)
theorem dX0_there_27 : decode cX0_there 27 = .ok (.aaload, 1) := dk_50 (dk_at dksX0_there_1 4 rfl rfl)
theorem dX0_there_28 : decode cX0_there 28 = .ok (.areturn, 1) := dk_176 (dk_at dksX0_there_1 5 rfl rfl)
abbrev cX0_need : ByteArray := prog_1_method_56_code
def yX0_need : MethodName := ⟨RX0, "need", "(ZI)V"⟩
def dkwX0_need_0 : List UInt8 := [26, 154, 0, 12, 187, 1, 87, 89, 27, 183, 1, 89, 191, 177]
abbrev dktX0_need_0 : List UInt8 := dkwX0_need_0 ++ []
theorem dksX0_need_0 : cX0_need.data.toList.drop 0 = dktX0_need_0 := by decide +kernel
theorem dX0_need_0 : decode cX0_need 0 = .ok (.iload_n 0, 1) := dk_26 (dk_at dksX0_need_0 0 rfl rfl)
theorem dX0_need_1 : decode cX0_need 1 = .ok (.ifCond .ne 12, 3) := dk_154 0 12 (dk_at dksX0_need_0 1 rfl rfl)
theorem dX0_need_4 : decode cX0_need 4 = .ok (.new 343, 3) := dk_187 1 87 (dk_at dksX0_need_0 4 rfl rfl)
theorem dX0_need_7 : decode cX0_need 7 = .ok (.dup, 1) := dk_89 (dk_at dksX0_need_0 7 rfl rfl)
theorem dX0_need_8 : decode cX0_need 8 = .ok (.iload_n 1, 1) := dk_27 (dk_at dksX0_need_0 8 rfl rfl)
theorem dX0_need_9 : decode cX0_need 9 = .ok (.invokespecial 345, 3) := dk_183 1 89 (dk_at dksX0_need_0 9 rfl rfl)
theorem dX0_need_12 : decode cX0_need 12 = .ok (.athrow, 1) := dk_191 (dk_at dksX0_need_0 12 rfl rfl)
theorem dX0_need_13 : decode cX0_need 13 = .ok (.return_, 1) := dk_177 (dk_at dksX0_need_0 13 rfl rfl)
abbrev cX0_copy : ByteArray := prog_1_method_59_code
def yX0_copy : MethodName := ⟨RX0, "copy", "(IIIII)I"⟩
def dkwX0_copy_5 : List UInt8 := [184, 1, 49, 21, 5, 172, 58, 6, 25, 6, 180, 1, 110, 172]
abbrev dktX0_copy_5 : List UInt8 := dkwX0_copy_5 ++ []
def dkwX0_copy_4 : List UInt8 := [167, 0, 4, 3, 16, 244, 184, 1, 102, 25, 6, 180, 0, 227, 28, 25, 7, 180, 0, 227, 21, 4, 21, 5]
abbrev dktX0_copy_4 : List UInt8 := dkwX0_copy_4 ++ dktX0_copy_5
def dkwX0_copy_3 : List UInt8 := [180, 0, 225, 21, 5, 100, 163, 0, 20, 21, 4, 25, 7, 180, 0, 225, 21, 5, 100, 163, 0, 7, 4]
abbrev dktX0_copy_3 : List UInt8 := dkwX0_copy_3 ++ dktX0_copy_4
def dkwX0_copy_2 : List UInt8 := [3, 16, 243, 184, 1, 102, 21, 5, 155, 0, 41, 28, 155, 0, 37, 21, 4, 155, 0, 32, 28, 25, 6]
abbrev dktX0_copy_2 : List UInt8 := dkwX0_copy_2 ++ dktX0_copy_3
def dkwX0_copy_1 : List UInt8 := [42, 29, 182, 1, 98, 58, 7, 25, 6, 180, 0, 222, 25, 7, 180, 0, 222, 160, 0, 7, 4, 167, 0, 4]
abbrev dktX0_copy_1 : List UInt8 := dkwX0_copy_1 ++ dktX0_copy_2
def dkwX0_copy_0 : List UInt8 := [27, 184, 0, 219, 153, 0, 10, 29, 184, 0, 219, 154, 0, 6, 16, 254, 172, 42, 27, 182, 1, 98, 58, 6]
abbrev dktX0_copy_0 : List UInt8 := dkwX0_copy_0 ++ dktX0_copy_1
theorem dksX0_copy_0 : cX0_copy.data.toList.drop 0 = dktX0_copy_0 := by decide +kernel
theorem dksX0_copy_1 : cX0_copy.data.toList.drop 24 = dktX0_copy_1 := dk_seg dksX0_copy_0 24 rfl rfl
theorem dksX0_copy_2 : cX0_copy.data.toList.drop 48 = dktX0_copy_2 := dk_seg dksX0_copy_1 24 rfl rfl
theorem dksX0_copy_3 : cX0_copy.data.toList.drop 71 = dktX0_copy_3 := dk_seg dksX0_copy_2 23 rfl rfl
theorem dksX0_copy_4 : cX0_copy.data.toList.drop 94 = dktX0_copy_4 := dk_seg dksX0_copy_3 23 rfl rfl
theorem dksX0_copy_5 : cX0_copy.data.toList.drop 118 = dktX0_copy_5 := dk_seg dksX0_copy_4 24 rfl rfl
theorem dX0_copy_0 : decode cX0_copy 0 = .ok (.iload_n 1, 1) := dk_27 (dk_at dksX0_copy_0 0 rfl rfl)
theorem dX0_copy_1 : decode cX0_copy 1 = .ok (.invokestatic 219, 3) := dk_184 0 219 (dk_at dksX0_copy_0 1 rfl rfl)
theorem dX0_copy_4 : decode cX0_copy 4 = .ok (.ifCond .eq 10, 3) := dk_153 0 10 (dk_at dksX0_copy_0 4 rfl rfl)
theorem dX0_copy_7 : decode cX0_copy 7 = .ok (.iload_n 3, 1) := dk_29 (dk_at dksX0_copy_0 7 rfl rfl)
theorem dX0_copy_8 : decode cX0_copy 8 = .ok (.invokestatic 219, 3) := dk_184 0 219 (dk_at dksX0_copy_0 8 rfl rfl)
theorem dX0_copy_11 : decode cX0_copy 11 = .ok (.ifCond .ne 6, 3) := dk_154 0 6 (dk_at dksX0_copy_0 11 rfl rfl)
theorem dX0_copy_14 : decode cX0_copy 14 = .ok (.bipush (-2), 2) := dk_16 254 (dk_at dksX0_copy_0 14 rfl rfl)
theorem dX0_copy_16 : decode cX0_copy 16 = .ok (.ireturn, 1) := dk_172 (dk_at dksX0_copy_0 16 rfl rfl)
theorem dX0_copy_17 : decode cX0_copy 17 = .ok (.aload_n 0, 1) := dk_42 (dk_at dksX0_copy_0 17 rfl rfl)
theorem dX0_copy_18 : decode cX0_copy 18 = .ok (.iload_n 1, 1) := dk_27 (dk_at dksX0_copy_0 18 rfl rfl)
theorem dX0_copy_19 : decode cX0_copy 19 = .ok (.invokevirtual 354, 3) := dk_182 1 98 (dk_at dksX0_copy_0 19 rfl rfl)
theorem dX0_copy_22 : decode cX0_copy 22 = .ok (.astore 6, 2) := dk_58 6 (dk_at dksX0_copy_0 22 rfl rfl)
theorem dX0_copy_24 : decode cX0_copy 24 = .ok (.aload_n 0, 1) := dk_42 (dk_at dksX0_copy_1 0 rfl rfl)
theorem dX0_copy_25 : decode cX0_copy 25 = .ok (.iload_n 3, 1) := dk_29 (dk_at dksX0_copy_1 1 rfl rfl)
theorem dX0_copy_26 : decode cX0_copy 26 = .ok (.invokevirtual 354, 3) := dk_182 1 98 (dk_at dksX0_copy_1 2 rfl rfl)
theorem dX0_copy_29 : decode cX0_copy 29 = .ok (.astore 7, 2) := dk_58 7 (dk_at dksX0_copy_1 5 rfl rfl)
theorem dX0_copy_31 : decode cX0_copy 31 = .ok (.aload 6, 2) := dk_25 6 (dk_at dksX0_copy_1 7 rfl rfl)
theorem dX0_copy_33 : decode cX0_copy 33 = .ok (.getfield 222, 3) := dk_180 0 222 (dk_at dksX0_copy_1 9 rfl rfl)
theorem dX0_copy_36 : decode cX0_copy 36 = .ok (.aload 7, 2) := dk_25 7 (dk_at dksX0_copy_1 12 rfl rfl)
theorem dX0_copy_38 : decode cX0_copy 38 = .ok (.getfield 222, 3) := dk_180 0 222 (dk_at dksX0_copy_1 14 rfl rfl)
theorem dX0_copy_41 : decode cX0_copy 41 = .ok (.if_icmp .ne 7, 3) := dk_160 0 7 (dk_at dksX0_copy_1 17 rfl rfl)
theorem dX0_copy_44 : decode cX0_copy 44 = .ok (.iconst 1, 1) := dk_4 (dk_at dksX0_copy_1 20 rfl rfl)
theorem dX0_copy_45 : decode cX0_copy 45 = .ok (.goto 4, 3) := dk_167 0 4 (dk_at dksX0_copy_1 21 rfl rfl)
theorem dX0_copy_48 : decode cX0_copy 48 = .ok (.iconst 0, 1) := dk_3 (dk_at dksX0_copy_2 0 rfl rfl)
theorem dX0_copy_49 : decode cX0_copy 49 = .ok (.bipush (-13), 2) := dk_16 243 (dk_at dksX0_copy_2 1 rfl rfl)
theorem dX0_copy_51 : decode cX0_copy 51 = .ok (.invokestatic 358, 3) := dk_184 1 102 (dk_at dksX0_copy_2 3 rfl rfl)
theorem dX0_copy_54 : decode cX0_copy 54 = .ok (.iload 5, 2) := dk_21 5 (dk_at dksX0_copy_2 6 rfl rfl)
theorem dX0_copy_56 : decode cX0_copy 56 = .ok (.ifCond .lt 41, 3) := dk_155 0 41 (dk_at dksX0_copy_2 8 rfl rfl)
theorem dX0_copy_59 : decode cX0_copy 59 = .ok (.iload_n 2, 1) := dk_28 (dk_at dksX0_copy_2 11 rfl rfl)
theorem dX0_copy_60 : decode cX0_copy 60 = .ok (.ifCond .lt 37, 3) := dk_155 0 37 (dk_at dksX0_copy_2 12 rfl rfl)
theorem dX0_copy_63 : decode cX0_copy 63 = .ok (.iload 4, 2) := dk_21 4 (dk_at dksX0_copy_2 15 rfl rfl)
theorem dX0_copy_65 : decode cX0_copy 65 = .ok (.ifCond .lt 32, 3) := dk_155 0 32 (dk_at dksX0_copy_2 17 rfl rfl)
theorem dX0_copy_68 : decode cX0_copy 68 = .ok (.iload_n 2, 1) := dk_28 (dk_at dksX0_copy_2 20 rfl rfl)
theorem dX0_copy_69 : decode cX0_copy 69 = .ok (.aload 6, 2) := dk_25 6 (dk_at dksX0_copy_2 21 rfl rfl)
theorem dX0_copy_71 : decode cX0_copy 71 = .ok (.getfield 225, 3) := dk_180 0 225 (dk_at dksX0_copy_3 0 rfl rfl)
theorem dX0_copy_74 : decode cX0_copy 74 = .ok (.iload 5, 2) := dk_21 5 (dk_at dksX0_copy_3 3 rfl rfl)
theorem dX0_copy_76 : decode cX0_copy 76 = .ok (.isub, 1) := dk_100 (dk_at dksX0_copy_3 5 rfl rfl)
theorem dX0_copy_77 : decode cX0_copy 77 = .ok (.if_icmp .gt 20, 3) := dk_163 0 20 (dk_at dksX0_copy_3 6 rfl rfl)
theorem dX0_copy_80 : decode cX0_copy 80 = .ok (.iload 4, 2) := dk_21 4 (dk_at dksX0_copy_3 9 rfl rfl)
theorem dX0_copy_82 : decode cX0_copy 82 = .ok (.aload 7, 2) := dk_25 7 (dk_at dksX0_copy_3 11 rfl rfl)
theorem dX0_copy_84 : decode cX0_copy 84 = .ok (.getfield 225, 3) := dk_180 0 225 (dk_at dksX0_copy_3 13 rfl rfl)
theorem dX0_copy_87 : decode cX0_copy 87 = .ok (.iload 5, 2) := dk_21 5 (dk_at dksX0_copy_3 16 rfl rfl)
theorem dX0_copy_89 : decode cX0_copy 89 = .ok (.isub, 1) := dk_100 (dk_at dksX0_copy_3 18 rfl rfl)
theorem dX0_copy_90 : decode cX0_copy 90 = .ok (.if_icmp .gt 7, 3) := dk_163 0 7 (dk_at dksX0_copy_3 19 rfl rfl)
theorem dX0_copy_93 : decode cX0_copy 93 = .ok (.iconst 1, 1) := dk_4 (dk_at dksX0_copy_3 22 rfl rfl)
theorem dX0_copy_94 : decode cX0_copy 94 = .ok (.goto 4, 3) := dk_167 0 4 (dk_at dksX0_copy_4 0 rfl rfl)
theorem dX0_copy_97 : decode cX0_copy 97 = .ok (.iconst 0, 1) := dk_3 (dk_at dksX0_copy_4 3 rfl rfl)
theorem dX0_copy_98 : decode cX0_copy 98 = .ok (.bipush (-12), 2) := dk_16 244 (dk_at dksX0_copy_4 4 rfl rfl)
theorem dX0_copy_100 : decode cX0_copy 100 = .ok (.invokestatic 358, 3) := dk_184 1 102 (dk_at dksX0_copy_4 6 rfl rfl)
theorem dX0_copy_103 : decode cX0_copy 103 = .ok (.aload 6, 2) := dk_25 6 (dk_at dksX0_copy_4 9 rfl rfl)
theorem dX0_copy_105 : decode cX0_copy 105 = .ok (.getfield 227, 3) := dk_180 0 227 (dk_at dksX0_copy_4 11 rfl rfl)
theorem dX0_copy_108 : decode cX0_copy 108 = .ok (.iload_n 2, 1) := dk_28 (dk_at dksX0_copy_4 14 rfl rfl)
theorem dX0_copy_109 : decode cX0_copy 109 = .ok (.aload 7, 2) := dk_25 7 (dk_at dksX0_copy_4 15 rfl rfl)
theorem dX0_copy_111 : decode cX0_copy 111 = .ok (.getfield 227, 3) := dk_180 0 227 (dk_at dksX0_copy_4 17 rfl rfl)
theorem dX0_copy_114 : decode cX0_copy 114 = .ok (.iload 4, 2) := dk_21 4 (dk_at dksX0_copy_4 20 rfl rfl)
theorem dX0_copy_116 : decode cX0_copy 116 = .ok (.iload 5, 2) := dk_21 5 (dk_at dksX0_copy_4 22 rfl rfl)
theorem dX0_copy_118 : decode cX0_copy 118 = .ok (.invokestatic 305, 3) := dk_184 1 49 (dk_at dksX0_copy_5 0 rfl rfl)
theorem dX0_copy_121 : decode cX0_copy 121 = .ok (.iload 5, 2) := dk_21 5 (dk_at dksX0_copy_5 3 rfl rfl)
theorem dX0_copy_123 : decode cX0_copy 123 = .ok (.ireturn, 1) := dk_172 (dk_at dksX0_copy_5 5 rfl rfl)
theorem dX0_copy_124 : decode cX0_copy 124 = .ok (.astore 6, 2) := dk_58 6 (dk_at dksX0_copy_5 6 rfl rfl)
theorem dX0_copy_126 : decode cX0_copy 126 = .ok (.aload 6, 2) := dk_25 6 (dk_at dksX0_copy_5 8 rfl rfl)
theorem dX0_copy_128 : decode cX0_copy 128 = .ok (.getfield 366, 3) := dk_180 1 110 (dk_at dksX0_copy_5 10 rfl rfl)
theorem dX0_copy_131 : decode cX0_copy 131 = .ok (.ireturn, 1) := dk_172 (dk_at dksX0_copy_5 13 rfl rfl)
abbrev cX0_rates : ByteArray := prog_1_method_60_code
def yX0_rates : MethodName := ⟨RX0, "rates", "(IIII)I"⟩
def dkwX0_rates_7 : List UInt8 := [167, 255, 160, 21, 5, 172, 58, 6, 25, 6, 180, 1, 110, 172]
abbrev dktX0_rates_7 : List UInt8 := dkwX0_rates_7 ++ []
def dkwX0_rates_6 : List UInt8 := [25, 6, 180, 0, 227, 21, 8, 6, 96, 46, 182, 1, 113, 155, 0, 6, 132, 5, 1, 132, 7, 1]
abbrev dktX0_rates_6 : List UInt8 := dkwX0_rates_6 ++ dktX0_rates_7
def dkwX0_rates_5 : List UInt8 := [21, 8, 46, 25, 6, 180, 0, 227, 21, 8, 4, 96, 46, 25, 6, 180, 0, 227, 21, 8, 5, 96, 46]
abbrev dktX0_rates_5 : List UInt8 := dkwX0_rates_5 ++ dktX0_rates_6
def dkwX0_rates_4 : List UInt8 := [167, 0, 4, 3, 16, 244, 184, 1, 102, 29, 7, 21, 7, 104, 96, 54, 8, 42, 25, 6, 180, 0, 227]
abbrev dktX0_rates_4 : List UInt8 := dkwX0_rates_4 ++ dktX0_rates_5
def dkwX0_rates_3 : List UInt8 := [162, 0, 95, 29, 155, 0, 23, 29, 25, 6, 180, 0, 225, 7, 21, 7, 104, 100, 7, 100, 163, 0, 7, 4]
abbrev dktX0_rates_3 : List UInt8 := dkwX0_rates_3 ++ dktX0_rates_4
def dkwX0_rates_2 : List UInt8 := [180, 0, 222, 28, 160, 0, 7, 4, 167, 0, 4, 3, 16, 243, 184, 1, 102, 3, 54, 7, 21, 7, 21, 4]
abbrev dktX0_rates_2 : List UInt8 := dkwX0_rates_2 ++ dktX0_rates_3
def dkwX0_rates_1 : List UInt8 := [20, 1, 37, 184, 0, 119, 154, 0, 6, 16, 254, 172, 3, 54, 5, 42, 27, 182, 1, 98, 58, 6, 25, 6]
abbrev dktX0_rates_1 : List UInt8 := dkwX0_rates_1 ++ dktX0_rates_2
def dkwX0_rates_0 : List UInt8 := [27, 184, 0, 219, 153, 0, 28, 28, 133, 9, 20, 1, 19, 184, 0, 119, 153, 0, 16, 21, 4, 133, 9]
abbrev dktX0_rates_0 : List UInt8 := dkwX0_rates_0 ++ dktX0_rates_1
theorem dksX0_rates_0 : cX0_rates.data.toList.drop 0 = dktX0_rates_0 := by decide +kernel
theorem dksX0_rates_1 : cX0_rates.data.toList.drop 23 = dktX0_rates_1 := dk_seg dksX0_rates_0 23 rfl rfl
theorem dksX0_rates_2 : cX0_rates.data.toList.drop 47 = dktX0_rates_2 := dk_seg dksX0_rates_1 24 rfl rfl
theorem dksX0_rates_3 : cX0_rates.data.toList.drop 71 = dktX0_rates_3 := dk_seg dksX0_rates_2 24 rfl rfl
theorem dksX0_rates_4 : cX0_rates.data.toList.drop 95 = dktX0_rates_4 := dk_seg dksX0_rates_3 24 rfl rfl
theorem dksX0_rates_5 : cX0_rates.data.toList.drop 118 = dktX0_rates_5 := dk_seg dksX0_rates_4 23 rfl rfl
theorem dksX0_rates_6 : cX0_rates.data.toList.drop 141 = dktX0_rates_6 := dk_seg dksX0_rates_5 23 rfl rfl
theorem dksX0_rates_7 : cX0_rates.data.toList.drop 163 = dktX0_rates_7 := dk_seg dksX0_rates_6 22 rfl rfl
theorem dX0_rates_0 : decode cX0_rates 0 = .ok (.iload_n 1, 1) := dk_27 (dk_at dksX0_rates_0 0 rfl rfl)
theorem dX0_rates_1 : decode cX0_rates 1 = .ok (.invokestatic 219, 3) := dk_184 0 219 (dk_at dksX0_rates_0 1 rfl rfl)
theorem dX0_rates_4 : decode cX0_rates 4 = .ok (.ifCond .eq 28, 3) := dk_153 0 28 (dk_at dksX0_rates_0 4 rfl rfl)
theorem dX0_rates_7 : decode cX0_rates 7 = .ok (.iload_n 2, 1) := dk_28 (dk_at dksX0_rates_0 7 rfl rfl)
theorem dX0_rates_8 : decode cX0_rates 8 = .ok (.i2l, 1) := dk_133 (dk_at dksX0_rates_0 8 rfl rfl)
theorem dX0_rates_9 : decode cX0_rates 9 = .ok (.lconst 0, 1) := dk_9 (dk_at dksX0_rates_0 9 rfl rfl)
theorem dX0_rates_10 : decode cX0_rates 10 = .ok (.ldc2_w 275, 3) := dk_20 1 19 (dk_at dksX0_rates_0 10 rfl rfl)
theorem dX0_rates_13 : decode cX0_rates 13 = .ok (.invokestatic 119, 3) := dk_184 0 119 (dk_at dksX0_rates_0 13 rfl rfl)
theorem dX0_rates_16 : decode cX0_rates 16 = .ok (.ifCond .eq 16, 3) := dk_153 0 16 (dk_at dksX0_rates_0 16 rfl rfl)
theorem dX0_rates_19 : decode cX0_rates 19 = .ok (.iload 4, 2) := dk_21 4 (dk_at dksX0_rates_0 19 rfl rfl)
theorem dX0_rates_21 : decode cX0_rates 21 = .ok (.i2l, 1) := dk_133 (dk_at dksX0_rates_0 21 rfl rfl)
theorem dX0_rates_22 : decode cX0_rates 22 = .ok (.lconst 0, 1) := dk_9 (dk_at dksX0_rates_0 22 rfl rfl)
theorem dX0_rates_23 : decode cX0_rates 23 = .ok (.ldc2_w 293, 3) := dk_20 1 37 (dk_at dksX0_rates_1 0 rfl rfl)
theorem dX0_rates_26 : decode cX0_rates 26 = .ok (.invokestatic 119, 3) := dk_184 0 119 (dk_at dksX0_rates_1 3 rfl rfl)
theorem dX0_rates_29 : decode cX0_rates 29 = .ok (.ifCond .ne 6, 3) := dk_154 0 6 (dk_at dksX0_rates_1 6 rfl rfl)
theorem dX0_rates_32 : decode cX0_rates 32 = .ok (.bipush (-2), 2) := dk_16 254 (dk_at dksX0_rates_1 9 rfl rfl)
theorem dX0_rates_34 : decode cX0_rates 34 = .ok (.ireturn, 1) := dk_172 (dk_at dksX0_rates_1 11 rfl rfl)
theorem dX0_rates_35 : decode cX0_rates 35 = .ok (.iconst 0, 1) := dk_3 (dk_at dksX0_rates_1 12 rfl rfl)
theorem dX0_rates_36 : decode cX0_rates 36 = .ok (.istore 5, 2) := dk_54 5 (dk_at dksX0_rates_1 13 rfl rfl)
theorem dX0_rates_38 : decode cX0_rates 38 = .ok (.aload_n 0, 1) := dk_42 (dk_at dksX0_rates_1 15 rfl rfl)
theorem dX0_rates_39 : decode cX0_rates 39 = .ok (.iload_n 1, 1) := dk_27 (dk_at dksX0_rates_1 16 rfl rfl)
theorem dX0_rates_40 : decode cX0_rates 40 = .ok (.invokevirtual 354, 3) := dk_182 1 98 (dk_at dksX0_rates_1 17 rfl rfl)
theorem dX0_rates_43 : decode cX0_rates 43 = .ok (.astore 6, 2) := dk_58 6 (dk_at dksX0_rates_1 20 rfl rfl)
theorem dX0_rates_45 : decode cX0_rates 45 = .ok (.aload 6, 2) := dk_25 6 (dk_at dksX0_rates_1 22 rfl rfl)
theorem dX0_rates_47 : decode cX0_rates 47 = .ok (.getfield 222, 3) := dk_180 0 222 (dk_at dksX0_rates_2 0 rfl rfl)
theorem dX0_rates_50 : decode cX0_rates 50 = .ok (.iload_n 2, 1) := dk_28 (dk_at dksX0_rates_2 3 rfl rfl)
theorem dX0_rates_51 : decode cX0_rates 51 = .ok (.if_icmp .ne 7, 3) := dk_160 0 7 (dk_at dksX0_rates_2 4 rfl rfl)
theorem dX0_rates_54 : decode cX0_rates 54 = .ok (.iconst 1, 1) := dk_4 (dk_at dksX0_rates_2 7 rfl rfl)
theorem dX0_rates_55 : decode cX0_rates 55 = .ok (.goto 4, 3) := dk_167 0 4 (dk_at dksX0_rates_2 8 rfl rfl)
theorem dX0_rates_58 : decode cX0_rates 58 = .ok (.iconst 0, 1) := dk_3 (dk_at dksX0_rates_2 11 rfl rfl)
theorem dX0_rates_59 : decode cX0_rates 59 = .ok (.bipush (-13), 2) := dk_16 243 (dk_at dksX0_rates_2 12 rfl rfl)
theorem dX0_rates_61 : decode cX0_rates 61 = .ok (.invokestatic 358, 3) := dk_184 1 102 (dk_at dksX0_rates_2 14 rfl rfl)
theorem dX0_rates_64 : decode cX0_rates 64 = .ok (.iconst 0, 1) := dk_3 (dk_at dksX0_rates_2 17 rfl rfl)
theorem dX0_rates_65 : decode cX0_rates 65 = .ok (.istore 7, 2) := dk_54 7 (dk_at dksX0_rates_2 18 rfl rfl)
theorem dX0_rates_67 : decode cX0_rates 67 = .ok (.iload 7, 2) := dk_21 7 (dk_at dksX0_rates_2 20 rfl rfl)
theorem dX0_rates_69 : decode cX0_rates 69 = .ok (.iload 4, 2) := dk_21 4 (dk_at dksX0_rates_2 22 rfl rfl)
theorem dX0_rates_71 : decode cX0_rates 71 = .ok (.if_icmp .ge 95, 3) := dk_162 0 95 (dk_at dksX0_rates_3 0 rfl rfl)
theorem dX0_rates_74 : decode cX0_rates 74 = .ok (.iload_n 3, 1) := dk_29 (dk_at dksX0_rates_3 3 rfl rfl)
theorem dX0_rates_75 : decode cX0_rates 75 = .ok (.ifCond .lt 23, 3) := dk_155 0 23 (dk_at dksX0_rates_3 4 rfl rfl)
theorem dX0_rates_78 : decode cX0_rates 78 = .ok (.iload_n 3, 1) := dk_29 (dk_at dksX0_rates_3 7 rfl rfl)
theorem dX0_rates_79 : decode cX0_rates 79 = .ok (.aload 6, 2) := dk_25 6 (dk_at dksX0_rates_3 8 rfl rfl)
theorem dX0_rates_81 : decode cX0_rates 81 = .ok (.getfield 225, 3) := dk_180 0 225 (dk_at dksX0_rates_3 10 rfl rfl)
theorem dX0_rates_84 : decode cX0_rates 84 = .ok (.iconst 4, 1) := dk_7 (dk_at dksX0_rates_3 13 rfl rfl)
theorem dX0_rates_85 : decode cX0_rates 85 = .ok (.iload 7, 2) := dk_21 7 (dk_at dksX0_rates_3 14 rfl rfl)
theorem dX0_rates_87 : decode cX0_rates 87 = .ok (.imul, 1) := dk_104 (dk_at dksX0_rates_3 16 rfl rfl)
theorem dX0_rates_88 : decode cX0_rates 88 = .ok (.isub, 1) := dk_100 (dk_at dksX0_rates_3 17 rfl rfl)
theorem dX0_rates_89 : decode cX0_rates 89 = .ok (.iconst 4, 1) := dk_7 (dk_at dksX0_rates_3 18 rfl rfl)
theorem dX0_rates_90 : decode cX0_rates 90 = .ok (.isub, 1) := dk_100 (dk_at dksX0_rates_3 19 rfl rfl)
theorem dX0_rates_91 : decode cX0_rates 91 = .ok (.if_icmp .gt 7, 3) := dk_163 0 7 (dk_at dksX0_rates_3 20 rfl rfl)
theorem dX0_rates_94 : decode cX0_rates 94 = .ok (.iconst 1, 1) := dk_4 (dk_at dksX0_rates_3 23 rfl rfl)
theorem dX0_rates_95 : decode cX0_rates 95 = .ok (.goto 4, 3) := dk_167 0 4 (dk_at dksX0_rates_4 0 rfl rfl)
theorem dX0_rates_98 : decode cX0_rates 98 = .ok (.iconst 0, 1) := dk_3 (dk_at dksX0_rates_4 3 rfl rfl)
theorem dX0_rates_99 : decode cX0_rates 99 = .ok (.bipush (-12), 2) := dk_16 244 (dk_at dksX0_rates_4 4 rfl rfl)
theorem dX0_rates_101 : decode cX0_rates 101 = .ok (.invokestatic 358, 3) := dk_184 1 102 (dk_at dksX0_rates_4 6 rfl rfl)
theorem dX0_rates_104 : decode cX0_rates 104 = .ok (.iload_n 3, 1) := dk_29 (dk_at dksX0_rates_4 9 rfl rfl)
theorem dX0_rates_105 : decode cX0_rates 105 = .ok (.iconst 4, 1) := dk_7 (dk_at dksX0_rates_4 10 rfl rfl)
theorem dX0_rates_106 : decode cX0_rates 106 = .ok (.iload 7, 2) := dk_21 7 (dk_at dksX0_rates_4 11 rfl rfl)
theorem dX0_rates_108 : decode cX0_rates 108 = .ok (.imul, 1) := dk_104 (dk_at dksX0_rates_4 13 rfl rfl)
theorem dX0_rates_109 : decode cX0_rates 109 = .ok (.iadd, 1) := dk_96 (dk_at dksX0_rates_4 14 rfl rfl)
theorem dX0_rates_110 : decode cX0_rates 110 = .ok (.istore 8, 2) := dk_54 8 (dk_at dksX0_rates_4 15 rfl rfl)
theorem dX0_rates_112 : decode cX0_rates 112 = .ok (.aload_n 0, 1) := dk_42 (dk_at dksX0_rates_4 17 rfl rfl)
theorem dX0_rates_113 : decode cX0_rates 113 = .ok (.aload 6, 2) := dk_25 6 (dk_at dksX0_rates_4 18 rfl rfl)
theorem dX0_rates_115 : decode cX0_rates 115 = .ok (.getfield 227, 3) := dk_180 0 227 (dk_at dksX0_rates_4 20 rfl rfl)
theorem dX0_rates_118 : decode cX0_rates 118 = .ok (.iload 8, 2) := dk_21 8 (dk_at dksX0_rates_5 0 rfl rfl)
theorem dX0_rates_120 : decode cX0_rates 120 = .ok (.iaload, 1) := dk_46 (dk_at dksX0_rates_5 2 rfl rfl)
theorem dX0_rates_121 : decode cX0_rates 121 = .ok (.aload 6, 2) := dk_25 6 (dk_at dksX0_rates_5 3 rfl rfl)
theorem dX0_rates_123 : decode cX0_rates 123 = .ok (.getfield 227, 3) := dk_180 0 227 (dk_at dksX0_rates_5 5 rfl rfl)
theorem dX0_rates_126 : decode cX0_rates 126 = .ok (.iload 8, 2) := dk_21 8 (dk_at dksX0_rates_5 8 rfl rfl)
theorem dX0_rates_128 : decode cX0_rates 128 = .ok (.iconst 1, 1) := dk_4 (dk_at dksX0_rates_5 10 rfl rfl)
theorem dX0_rates_129 : decode cX0_rates 129 = .ok (.iadd, 1) := dk_96 (dk_at dksX0_rates_5 11 rfl rfl)
theorem dX0_rates_130 : decode cX0_rates 130 = .ok (.iaload, 1) := dk_46 (dk_at dksX0_rates_5 12 rfl rfl)
theorem dX0_rates_131 : decode cX0_rates 131 = .ok (.aload 6, 2) := dk_25 6 (dk_at dksX0_rates_5 13 rfl rfl)
theorem dX0_rates_133 : decode cX0_rates 133 = .ok (.getfield 227, 3) := dk_180 0 227 (dk_at dksX0_rates_5 15 rfl rfl)
theorem dX0_rates_136 : decode cX0_rates 136 = .ok (.iload 8, 2) := dk_21 8 (dk_at dksX0_rates_5 18 rfl rfl)
theorem dX0_rates_138 : decode cX0_rates 138 = .ok (.iconst 2, 1) := dk_5 (dk_at dksX0_rates_5 20 rfl rfl)
theorem dX0_rates_139 : decode cX0_rates 139 = .ok (.iadd, 1) := dk_96 (dk_at dksX0_rates_5 21 rfl rfl)
theorem dX0_rates_140 : decode cX0_rates 140 = .ok (.iaload, 1) := dk_46 (dk_at dksX0_rates_5 22 rfl rfl)
theorem dX0_rates_141 : decode cX0_rates 141 = .ok (.aload 6, 2) := dk_25 6 (dk_at dksX0_rates_6 0 rfl rfl)
theorem dX0_rates_143 : decode cX0_rates 143 = .ok (.getfield 227, 3) := dk_180 0 227 (dk_at dksX0_rates_6 2 rfl rfl)
theorem dX0_rates_146 : decode cX0_rates 146 = .ok (.iload 8, 2) := dk_21 8 (dk_at dksX0_rates_6 5 rfl rfl)
theorem dX0_rates_148 : decode cX0_rates 148 = .ok (.iconst 3, 1) := dk_6 (dk_at dksX0_rates_6 7 rfl rfl)
theorem dX0_rates_149 : decode cX0_rates 149 = .ok (.iadd, 1) := dk_96 (dk_at dksX0_rates_6 8 rfl rfl)
theorem dX0_rates_150 : decode cX0_rates 150 = .ok (.iaload, 1) := dk_46 (dk_at dksX0_rates_6 9 rfl rfl)
theorem dX0_rates_151 : decode cX0_rates 151 = .ok (.invokevirtual 369, 3) := dk_182 1 113 (dk_at dksX0_rates_6 10 rfl rfl)
theorem dX0_rates_154 : decode cX0_rates 154 = .ok (.ifCond .lt 6, 3) := dk_155 0 6 (dk_at dksX0_rates_6 13 rfl rfl)
theorem dX0_rates_157 : decode cX0_rates 157 = .ok (.iinc 5 1, 3) := dk_132 5 1 (dk_at dksX0_rates_6 16 rfl rfl)
theorem dX0_rates_160 : decode cX0_rates 160 = .ok (.iinc 7 1, 3) := dk_132 7 1 (dk_at dksX0_rates_6 19 rfl rfl)
theorem dX0_rates_163 : decode cX0_rates 163 = .ok (.goto (-96), 3) := dk_167 255 160 (dk_at dksX0_rates_7 0 rfl rfl)
theorem dX0_rates_166 : decode cX0_rates 166 = .ok (.iload 5, 2) := dk_21 5 (dk_at dksX0_rates_7 3 rfl rfl)
theorem dX0_rates_168 : decode cX0_rates 168 = .ok (.ireturn, 1) := dk_172 (dk_at dksX0_rates_7 5 rfl rfl)
theorem dX0_rates_169 : decode cX0_rates 169 = .ok (.astore 6, 2) := dk_58 6 (dk_at dksX0_rates_7 6 rfl rfl)
theorem dX0_rates_171 : decode cX0_rates 171 = .ok (.aload 6, 2) := dk_25 6 (dk_at dksX0_rates_7 8 rfl rfl)
theorem dX0_rates_173 : decode cX0_rates 173 = .ok (.getfield 366, 3) := dk_180 1 110 (dk_at dksX0_rates_7 10 rfl rfl)
theorem dX0_rates_176 : decode cX0_rates 176 = .ok (.ireturn, 1) := dk_172 (dk_at dksX0_rates_7 13 rfl rfl)
abbrev cX0_taken : ByteArray := prog_1_method_61_code
def yX0_taken : MethodName := ⟨RX0, "taken", "(II)I"⟩
def dkwX0_taken_5 : List UInt8 := [184, 1, 102, 25, 4, 180, 0, 240, 172, 78, 45, 180, 1, 110, 172]
abbrev dktX0_taken_5 : List UInt8 := dkwX0_taken_5 ++ []
def dkwX0_taken_4 : List UInt8 := [16, 6, 160, 0, 8, 45, 182, 1, 132, 172, 45, 182, 1, 134, 58, 4, 25, 4, 28, 184, 1, 138, 16, 243]
abbrev dktX0_taken_4 : List UInt8 := dkwX0_taken_4 ++ dktX0_taken_5
def dkwX0_taken_3 : List UInt8 := [147, 184, 1, 123, 167, 0, 14, 42, 180, 0, 51, 27, 16, 16, 100, 182, 0, 246, 183, 1, 129, 78, 28]
abbrev dktX0_taken_3 : List UInt8 := dkwX0_taken_3 ++ dktX0_taken_4
def dkwX0_taken_2 : List UInt8 := [182, 0, 243, 16, 245, 184, 1, 102, 187, 1, 121, 89, 27, 16, 16, 162, 0, 16, 42, 180, 0, 45, 27, 46]
abbrev dktX0_taken_2 : List UInt8 := dkwX0_taken_2 ++ dktX0_taken_3
def dkwX0_taken_1 : List UInt8 := [16, 244, 184, 1, 102, 27, 16, 16, 162, 0, 11, 42, 27, 182, 1, 118, 167, 0, 11, 42, 27, 16, 16, 100]
abbrev dktX0_taken_1 : List UInt8 := dkwX0_taken_1 ++ dktX0_taken_2
def dkwX0_taken_0 : List UInt8 := [28, 133, 9, 20, 1, 116, 184, 0, 119, 154, 0, 6, 16, 254, 172, 27, 133, 9, 20, 0, 123, 184, 0, 119]
abbrev dktX0_taken_0 : List UInt8 := dkwX0_taken_0 ++ dktX0_taken_1
theorem dksX0_taken_0 : cX0_taken.data.toList.drop 0 = dktX0_taken_0 := by decide +kernel
theorem dksX0_taken_1 : cX0_taken.data.toList.drop 24 = dktX0_taken_1 := dk_seg dksX0_taken_0 24 rfl rfl
theorem dksX0_taken_2 : cX0_taken.data.toList.drop 48 = dktX0_taken_2 := dk_seg dksX0_taken_1 24 rfl rfl
theorem dksX0_taken_3 : cX0_taken.data.toList.drop 72 = dktX0_taken_3 := dk_seg dksX0_taken_2 24 rfl rfl
theorem dksX0_taken_4 : cX0_taken.data.toList.drop 95 = dktX0_taken_4 := dk_seg dksX0_taken_3 23 rfl rfl
theorem dksX0_taken_5 : cX0_taken.data.toList.drop 119 = dktX0_taken_5 := dk_seg dksX0_taken_4 24 rfl rfl
theorem dX0_taken_0 : decode cX0_taken 0 = .ok (.iload_n 2, 1) := dk_28 (dk_at dksX0_taken_0 0 rfl rfl)
theorem dX0_taken_1 : decode cX0_taken 1 = .ok (.i2l, 1) := dk_133 (dk_at dksX0_taken_0 1 rfl rfl)
theorem dX0_taken_2 : decode cX0_taken 2 = .ok (.lconst 0, 1) := dk_9 (dk_at dksX0_taken_0 2 rfl rfl)
theorem dX0_taken_3 : decode cX0_taken 3 = .ok (.ldc2_w 372, 3) := dk_20 1 116 (dk_at dksX0_taken_0 3 rfl rfl)
theorem dX0_taken_6 : decode cX0_taken 6 = .ok (.invokestatic 119, 3) := dk_184 0 119 (dk_at dksX0_taken_0 6 rfl rfl)
theorem dX0_taken_9 : decode cX0_taken 9 = .ok (.ifCond .ne 6, 3) := dk_154 0 6 (dk_at dksX0_taken_0 9 rfl rfl)
theorem dX0_taken_12 : decode cX0_taken 12 = .ok (.bipush (-2), 2) := dk_16 254 (dk_at dksX0_taken_0 12 rfl rfl)
theorem dX0_taken_14 : decode cX0_taken 14 = .ok (.ireturn, 1) := dk_172 (dk_at dksX0_taken_0 14 rfl rfl)
theorem dX0_taken_15 : decode cX0_taken 15 = .ok (.iload_n 1, 1) := dk_27 (dk_at dksX0_taken_0 15 rfl rfl)
theorem dX0_taken_16 : decode cX0_taken 16 = .ok (.i2l, 1) := dk_133 (dk_at dksX0_taken_0 16 rfl rfl)
theorem dX0_taken_17 : decode cX0_taken 17 = .ok (.lconst 0, 1) := dk_9 (dk_at dksX0_taken_0 17 rfl rfl)
theorem dX0_taken_18 : decode cX0_taken 18 = .ok (.ldc2_w 123, 3) := dk_20 0 123 (dk_at dksX0_taken_0 18 rfl rfl)
theorem dX0_taken_21 : decode cX0_taken 21 = .ok (.invokestatic 119, 3) := dk_184 0 119 (dk_at dksX0_taken_0 21 rfl rfl)
theorem dX0_taken_24 : decode cX0_taken 24 = .ok (.bipush (-12), 2) := dk_16 244 (dk_at dksX0_taken_1 0 rfl rfl)
theorem dX0_taken_26 : decode cX0_taken 26 = .ok (.invokestatic 358, 3) := dk_184 1 102 (dk_at dksX0_taken_1 2 rfl rfl)
theorem dX0_taken_29 : decode cX0_taken 29 = .ok (.iload_n 1, 1) := dk_27 (dk_at dksX0_taken_1 5 rfl rfl)
theorem dX0_taken_30 : decode cX0_taken 30 = .ok (.bipush 16, 2) := dk_16 16 (dk_at dksX0_taken_1 6 rfl rfl)
theorem dX0_taken_32 : decode cX0_taken 32 = .ok (.if_icmp .ge 11, 3) := dk_162 0 11 (dk_at dksX0_taken_1 8 rfl rfl)
theorem dX0_taken_35 : decode cX0_taken 35 = .ok (.aload_n 0, 1) := dk_42 (dk_at dksX0_taken_1 11 rfl rfl)
theorem dX0_taken_36 : decode cX0_taken 36 = .ok (.iload_n 1, 1) := dk_27 (dk_at dksX0_taken_1 12 rfl rfl)
theorem dX0_taken_37 : decode cX0_taken 37 = .ok (.invokevirtual 374, 3) := dk_182 1 118 (dk_at dksX0_taken_1 13 rfl rfl)
theorem dX0_taken_40 : decode cX0_taken 40 = .ok (.goto 11, 3) := dk_167 0 11 (dk_at dksX0_taken_1 16 rfl rfl)
theorem dX0_taken_43 : decode cX0_taken 43 = .ok (.aload_n 0, 1) := dk_42 (dk_at dksX0_taken_1 19 rfl rfl)
theorem dX0_taken_44 : decode cX0_taken 44 = .ok (.iload_n 1, 1) := dk_27 (dk_at dksX0_taken_1 20 rfl rfl)
theorem dX0_taken_45 : decode cX0_taken 45 = .ok (.bipush 16, 2) := dk_16 16 (dk_at dksX0_taken_1 21 rfl rfl)
theorem dX0_taken_47 : decode cX0_taken 47 = .ok (.isub, 1) := dk_100 (dk_at dksX0_taken_1 23 rfl rfl)
theorem dX0_taken_48 : decode cX0_taken 48 = .ok (.invokevirtual 243, 3) := dk_182 0 243 (dk_at dksX0_taken_2 0 rfl rfl)
theorem dX0_taken_51 : decode cX0_taken 51 = .ok (.bipush (-11), 2) := dk_16 245 (dk_at dksX0_taken_2 3 rfl rfl)
theorem dX0_taken_53 : decode cX0_taken 53 = .ok (.invokestatic 358, 3) := dk_184 1 102 (dk_at dksX0_taken_2 5 rfl rfl)
theorem dX0_taken_56 : decode cX0_taken 56 = .ok (.new 377, 3) := dk_187 1 121 (dk_at dksX0_taken_2 8 rfl rfl)
theorem dX0_taken_59 : decode cX0_taken 59 = .ok (.dup, 1) := dk_89 (dk_at dksX0_taken_2 11 rfl rfl)
theorem dX0_taken_60 : decode cX0_taken 60 = .ok (.iload_n 1, 1) := dk_27 (dk_at dksX0_taken_2 12 rfl rfl)
theorem dX0_taken_61 : decode cX0_taken 61 = .ok (.bipush 16, 2) := dk_16 16 (dk_at dksX0_taken_2 13 rfl rfl)
theorem dX0_taken_63 : decode cX0_taken 63 = .ok (.if_icmp .ge 16, 3) := dk_162 0 16 (dk_at dksX0_taken_2 15 rfl rfl)
theorem dX0_taken_66 : decode cX0_taken 66 = .ok (.aload_n 0, 1) := dk_42 (dk_at dksX0_taken_2 18 rfl rfl)
theorem dX0_taken_67 : decode cX0_taken 67 = .ok (.getfield 45, 3) := dk_180 0 45 (dk_at dksX0_taken_2 19 rfl rfl)
theorem dX0_taken_70 : decode cX0_taken 70 = .ok (.iload_n 1, 1) := dk_27 (dk_at dksX0_taken_2 22 rfl rfl)
theorem dX0_taken_71 : decode cX0_taken 71 = .ok (.iaload, 1) := dk_46 (dk_at dksX0_taken_2 23 rfl rfl)
theorem dX0_taken_72 : decode cX0_taken 72 = .ok (.i2s, 1) := dk_147 (dk_at dksX0_taken_3 0 rfl rfl)
theorem dX0_taken_73 : decode cX0_taken 73 = .ok (.invokestatic 379, 3) := dk_184 1 123 (dk_at dksX0_taken_3 1 rfl rfl)
theorem dX0_taken_76 : decode cX0_taken 76 = .ok (.goto 14, 3) := dk_167 0 14 (dk_at dksX0_taken_3 4 rfl rfl)
theorem dX0_taken_79 : decode cX0_taken 79 = .ok (.aload_n 0, 1) := dk_42 (dk_at dksX0_taken_3 7 rfl rfl)
theorem dX0_taken_80 : decode cX0_taken 80 = .ok (.getfield 51, 3) := dk_180 0 51 (dk_at dksX0_taken_3 8 rfl rfl)
theorem dX0_taken_83 : decode cX0_taken 83 = .ok (.iload_n 1, 1) := dk_27 (dk_at dksX0_taken_3 11 rfl rfl)
theorem dX0_taken_84 : decode cX0_taken 84 = .ok (.bipush 16, 2) := dk_16 16 (dk_at dksX0_taken_3 12 rfl rfl)
theorem dX0_taken_86 : decode cX0_taken 86 = .ok (.isub, 1) := dk_100 (dk_at dksX0_taken_3 14 rfl rfl)
theorem dX0_taken_87 : decode cX0_taken 87 = .ok (.invokevirtual 246, 3) := dk_182 0 246 (dk_at dksX0_taken_3 15 rfl rfl)
theorem dX0_taken_90 : decode cX0_taken 90 = .ok (.invokespecial 385, 3) := dk_183 1 129 (dk_at dksX0_taken_3 18 rfl rfl)
theorem dX0_taken_93 : decode cX0_taken 93 = .ok (.astore_n 3, 1) := dk_78 (dk_at dksX0_taken_3 21 rfl rfl)
theorem dX0_taken_94 : decode cX0_taken 94 = .ok (.iload_n 2, 1) := dk_28 (dk_at dksX0_taken_3 22 rfl rfl)
theorem dX0_taken_95 : decode cX0_taken 95 = .ok (.bipush 6, 2) := dk_16 6 (dk_at dksX0_taken_4 0 rfl rfl)
theorem dX0_taken_97 : decode cX0_taken 97 = .ok (.if_icmp .ne 8, 3) := dk_160 0 8 (dk_at dksX0_taken_4 2 rfl rfl)
theorem dX0_taken_100 : decode cX0_taken 100 = .ok (.aload_n 3, 1) := dk_45 (dk_at dksX0_taken_4 5 rfl rfl)
theorem dX0_taken_101 : decode cX0_taken 101 = .ok (.invokevirtual 388, 3) := dk_182 1 132 (dk_at dksX0_taken_4 6 rfl rfl)
theorem dX0_taken_104 : decode cX0_taken 104 = .ok (.ireturn, 1) := dk_172 (dk_at dksX0_taken_4 9 rfl rfl)
theorem dX0_taken_105 : decode cX0_taken 105 = .ok (.aload_n 3, 1) := dk_45 (dk_at dksX0_taken_4 10 rfl rfl)
theorem dX0_taken_106 : decode cX0_taken 106 = .ok (.invokevirtual 390, 3) := dk_182 1 134 (dk_at dksX0_taken_4 11 rfl rfl)
theorem dX0_taken_109 : decode cX0_taken 109 = .ok (.astore 4, 2) := dk_58 4 (dk_at dksX0_taken_4 14 rfl rfl)
theorem dX0_taken_111 : decode cX0_taken 111 = .ok (.aload 4, 2) := dk_25 4 (dk_at dksX0_taken_4 16 rfl rfl)
theorem dX0_taken_113 : decode cX0_taken 113 = .ok (.iload_n 2, 1) := dk_28 (dk_at dksX0_taken_4 18 rfl rfl)
theorem dX0_taken_114 : decode cX0_taken 114 = .ok (.invokestatic 394, 3) := dk_184 1 138 (dk_at dksX0_taken_4 19 rfl rfl)
theorem dX0_taken_117 : decode cX0_taken 117 = .ok (.bipush (-13), 2) := dk_16 243 (dk_at dksX0_taken_4 22 rfl rfl)
theorem dX0_taken_119 : decode cX0_taken 119 = .ok (.invokestatic 358, 3) := dk_184 1 102 (dk_at dksX0_taken_5 0 rfl rfl)
theorem dX0_taken_122 : decode cX0_taken 122 = .ok (.aload 4, 2) := dk_25 4 (dk_at dksX0_taken_5 3 rfl rfl)
theorem dX0_taken_124 : decode cX0_taken 124 = .ok (.getfield 240, 3) := dk_180 0 240 (dk_at dksX0_taken_5 5 rfl rfl)
theorem dX0_taken_127 : decode cX0_taken 127 = .ok (.ireturn, 1) := dk_172 (dk_at dksX0_taken_5 8 rfl rfl)
theorem dX0_taken_128 : decode cX0_taken 128 = .ok (.astore_n 3, 1) := dk_78 (dk_at dksX0_taken_5 9 rfl rfl)
theorem dX0_taken_129 : decode cX0_taken 129 = .ok (.aload_n 3, 1) := dk_45 (dk_at dksX0_taken_5 10 rfl rfl)
theorem dX0_taken_130 : decode cX0_taken 130 = .ok (.getfield 366, 3) := dk_180 1 110 (dk_at dksX0_taken_5 11 rfl rfl)
theorem dX0_taken_133 : decode cX0_taken 133 = .ok (.ireturn, 1) := dk_172 (dk_at dksX0_taken_5 14 rfl rfl)
abbrev cX0_isCart : ByteArray := prog_1_method_8_code
def yX0_isCart : MethodName := ⟨RX0, "isCart", "(I)Z"⟩
def dkwX0_isCart_0 : List UInt8 := [27, 133, 9, 42, 180, 0, 128, 133, 10, 101, 184, 0, 119, 172]
abbrev dktX0_isCart_0 : List UInt8 := dkwX0_isCart_0 ++ []
theorem dksX0_isCart_0 : cX0_isCart.data.toList.drop 0 = dktX0_isCart_0 := by decide +kernel
theorem dX0_isCart_0 : decode cX0_isCart 0 = .ok (.iload_n 1, 1) := dk_27 (dk_at dksX0_isCart_0 0 rfl rfl)
theorem dX0_isCart_1 : decode cX0_isCart 1 = .ok (.i2l, 1) := dk_133 (dk_at dksX0_isCart_0 1 rfl rfl)
theorem dX0_isCart_2 : decode cX0_isCart 2 = .ok (.lconst 0, 1) := dk_9 (dk_at dksX0_isCart_0 2 rfl rfl)
theorem dX0_isCart_3 : decode cX0_isCart 3 = .ok (.aload_n 0, 1) := dk_42 (dk_at dksX0_isCart_0 3 rfl rfl)
theorem dX0_isCart_4 : decode cX0_isCart 4 = .ok (.getfield 128, 3) := dk_180 0 128 (dk_at dksX0_isCart_0 4 rfl rfl)
theorem dX0_isCart_7 : decode cX0_isCart 7 = .ok (.i2l, 1) := dk_133 (dk_at dksX0_isCart_0 7 rfl rfl)
theorem dX0_isCart_8 : decode cX0_isCart 8 = .ok (.lconst 1, 1) := dk_10 (dk_at dksX0_isCart_0 8 rfl rfl)
theorem dX0_isCart_9 : decode cX0_isCart 9 = .ok (.lsub, 1) := dk_101 (dk_at dksX0_isCart_0 9 rfl rfl)
theorem dX0_isCart_10 : decode cX0_isCart 10 = .ok (.invokestatic 119, 3) := dk_184 0 119 (dk_at dksX0_isCart_0 10 rfl rfl)
theorem dX0_isCart_13 : decode cX0_isCart 13 = .ok (.ireturn, 1) := dk_172 (dk_at dksX0_isCart_0 13 rfl rfl)
abbrev cX0_isUnder : ByteArray := prog_1_method_3_code
def yX0_isUnder : MethodName := ⟨RX0, "isUnder", "(LGateRoad$Way;I)Z"⟩
def dkwX0_isUnder_3 : List UInt8 := [193, 0, 21, 172]
abbrev dktX0_isUnder_3 : List UInt8 := dkwX0_isUnder_3 ++ []
def dkwX0_isUnder_2 : List UInt8 := [4, 172, 42, 193, 0, 9, 172, 42, 193, 0, 12, 172, 42, 193, 0, 15, 172, 42, 193, 0, 18, 172, 42]
abbrev dktX0_isUnder_2 : List UInt8 := dkwX0_isUnder_2 ++ dktX0_isUnder_3
def dkwX0_isUnder_1 : List UInt8 := [170, 0, 0, 0, 0, 0, 57, 0, 0, 0, 0, 0, 0, 0, 4, 0, 0, 0, 35, 0, 0, 0, 37, 0, 0, 0, 42, 0, 0, 0, 47, 0, 0, 0, 52]
abbrev dktX0_isUnder_1 : List UInt8 := dkwX0_isUnder_1 ++ dktX0_isUnder_2
def dkwX0_isUnder_0 : List UInt8 := [27]
abbrev dktX0_isUnder_0 : List UInt8 := dkwX0_isUnder_0 ++ dktX0_isUnder_1
theorem dksX0_isUnder_0 : cX0_isUnder.data.toList.drop 0 = dktX0_isUnder_0 := by decide +kernel
theorem dksX0_isUnder_1 : cX0_isUnder.data.toList.drop 1 = dktX0_isUnder_1 := dk_seg dksX0_isUnder_0 1 rfl rfl
theorem dksX0_isUnder_2 : cX0_isUnder.data.toList.drop 36 = dktX0_isUnder_2 := dk_seg dksX0_isUnder_1 35 rfl rfl
theorem dksX0_isUnder_3 : cX0_isUnder.data.toList.drop 59 = dktX0_isUnder_3 := dk_seg dksX0_isUnder_2 23 rfl rfl
theorem dX0_isUnder_0 : decode cX0_isUnder 0 = .ok (.iload_n 1, 1) := dk_27 (dk_at dksX0_isUnder_0 0 rfl rfl)
theorem dX0_isUnder_1 : decode cX0_isUnder 1 = .ok (.tableswitch 57 0 4 #[35, 37, 42, 47, 52], 35) := by decide +kernel
theorem dX0_isUnder_36 : decode cX0_isUnder 36 = .ok (.iconst 1, 1) := dk_4 (dk_at dksX0_isUnder_2 0 rfl rfl)
theorem dX0_isUnder_37 : decode cX0_isUnder 37 = .ok (.ireturn, 1) := dk_172 (dk_at dksX0_isUnder_2 1 rfl rfl)
theorem dX0_isUnder_38 : decode cX0_isUnder 38 = .ok (.aload_n 0, 1) := dk_42 (dk_at dksX0_isUnder_2 2 rfl rfl)
theorem dX0_isUnder_39 : decode cX0_isUnder 39 = .ok (.instanceof 9, 3) := dk_193 0 9 (dk_at dksX0_isUnder_2 3 rfl rfl)
theorem dX0_isUnder_42 : decode cX0_isUnder 42 = .ok (.ireturn, 1) := dk_172 (dk_at dksX0_isUnder_2 6 rfl rfl)
theorem dX0_isUnder_43 : decode cX0_isUnder 43 = .ok (.aload_n 0, 1) := dk_42 (dk_at dksX0_isUnder_2 7 rfl rfl)
theorem dX0_isUnder_44 : decode cX0_isUnder 44 = .ok (.instanceof 12, 3) := dk_193 0 12 (dk_at dksX0_isUnder_2 8 rfl rfl)
theorem dX0_isUnder_47 : decode cX0_isUnder 47 = .ok (.ireturn, 1) := dk_172 (dk_at dksX0_isUnder_2 11 rfl rfl)
theorem dX0_isUnder_48 : decode cX0_isUnder 48 = .ok (.aload_n 0, 1) := dk_42 (dk_at dksX0_isUnder_2 12 rfl rfl)
theorem dX0_isUnder_49 : decode cX0_isUnder 49 = .ok (.instanceof 15, 3) := dk_193 0 15 (dk_at dksX0_isUnder_2 13 rfl rfl)
theorem dX0_isUnder_52 : decode cX0_isUnder 52 = .ok (.ireturn, 1) := dk_172 (dk_at dksX0_isUnder_2 16 rfl rfl)
theorem dX0_isUnder_53 : decode cX0_isUnder 53 = .ok (.aload_n 0, 1) := dk_42 (dk_at dksX0_isUnder_2 17 rfl rfl)
theorem dX0_isUnder_54 : decode cX0_isUnder 54 = .ok (.instanceof 18, 3) := dk_193 0 18 (dk_at dksX0_isUnder_2 18 rfl rfl)
theorem dX0_isUnder_57 : decode cX0_isUnder 57 = .ok (.ireturn, 1) := dk_172 (dk_at dksX0_isUnder_2 21 rfl rfl)
theorem dX0_isUnder_58 : decode cX0_isUnder 58 = .ok (.aload_n 0, 1) := dk_42 (dk_at dksX0_isUnder_2 22 rfl rfl)
theorem dX0_isUnder_59 : decode cX0_isUnder 59 = .ok (.instanceof 21, 3) := dk_193 0 21 (dk_at dksX0_isUnder_3 0 rfl rfl)
theorem dX0_isUnder_62 : decode cX0_isUnder 62 = .ok (.ireturn, 1) := dk_172 (dk_at dksX0_isUnder_3 3 rfl rfl)
theorem q64 : (Jvm.Cond.initialized "GateRoad") ∈ lw_all := lw_g (lw_at lw_m1 1 rfl) rfl
theorem q102 : (Jvm.Cond.instantiable "GateRoad" (32 : Nat)) ∈ lw_all := lw_g (lw_at lw_m1 39 rfl) rfl
theorem q104 : (Jvm.Cond.instanceMethod ({ cls := "GateRoad", name := "<init>", desc := "()V" } : Jvm.MethodName)) ∈ lw_all := lw_g (lw_at lw_m1 41 rfl) rfl
theorem q105 : (Jvm.Cond.code ({ cls := "GateRoad", name := "<init>", desc := "()V" } : Jvm.MethodName) prog_1_method_4_code (2 : Nat) (Option.none : Option Jvm.ClassFile.FieldType)) ∈ lw_all := lw_g (lw_at lw_m1 42 rfl) rfl
theorem q106 : (Jvm.Cond.methodLink "GateRoad" (24 : Nat) ({ cls := "java/lang/Object", name := "<init>", desc := "()V" } : Jvm.MethodName)) ∈ lw_all := lw_g (lw_at lw_m1 43 rfl) rfl
theorem q109 : (Jvm.Cond.classLink "GateRoad" (48 : Nat) "java/util/ArrayList") ∈ lw_all := lw_g (lw_at lw_m1 46 rfl) rfl
theorem q111 : (Jvm.Cond.methodLink "GateRoad" (50 : Nat) ({ cls := "java/util/ArrayList", name := "<init>", desc := "()V" } : Jvm.MethodName)) ∈ lw_all := lw_g (lw_at lw_m1 48 rfl) rfl
theorem q136 : (Jvm.Cond.classLink "GateRoad" (3 : Nat) "GateRoad$Way") ∈ lw_all := lw_g (lw_at lw_m1 73 rfl) rfl
theorem q138 : (Jvm.Cond.classLink "GateRoad" (94 : Nat) "[LGateRoad$Node;") ∈ lw_all := lw_g (lw_at lw_m1 75 rfl) rfl
theorem q140 : (Jvm.Cond.classLink "GateRoad" (103 : Nat) "GateRoad$Sheet") ∈ lw_all := lw_g (lw_at lw_m1 77 rfl) rfl
theorem q143 : (Jvm.Cond.methodLinkNest "GateRoad" (105 : Nat) ({ cls := "GateRoad$Sheet", name := "<init>", desc := "()V" } : Jvm.MethodName) "GateRoad") ∈ lw_tbl := lw_at lw_m1 80 rfl
theorem q148 : (Jvm.Cond.fieldLink "GateRoad" (222 : Nat) "GateRoad$Sheet" "sort" "I") ∈ lw_all := lw_g (lw_at lw_m1 85 rfl) rfl
theorem q150 : (Jvm.Cond.fieldLink "GateRoad" (225 : Nat) "GateRoad$Sheet" "size" "I") ∈ lw_all := lw_g (lw_at lw_m1 87 rfl) rfl
theorem q152 : (Jvm.Cond.fieldLink "GateRoad" (227 : Nat) "GateRoad$Sheet" "cells" "[I") ∈ lw_all := lw_g (lw_at lw_m1 89 rfl) rfl
theorem q161 : (Jvm.Cond.stringRef "GateRoad" (110 : Nat) "cost wait * 2 + early + late * 3 + toll ; lost wait ;") ∈ lw_tbl := lw_at lw_m1 98 rfl
theorem q162 : (Jvm.Cond.methodLink "GateRoad" (112 : Nat) ({ cls := "GateRoad", name := "read", desc := "(Ljava/lang/String;)[LGateRoad$Node;" } : Jvm.MethodName)) ∈ lw_all := lw_g (lw_at lw_m1 99 rfl) rfl
theorem q163 : (Jvm.Cond.static ({ cls := "GateRoad", name := "read", desc := "(Ljava/lang/String;)[LGateRoad$Node;" } : Jvm.MethodName)) ∈ lw_all := lw_g (lw_at lw_m1 100 rfl) rfl
theorem q164 : (Jvm.Cond.code ({ cls := "GateRoad", name := "read", desc := "(Ljava/lang/String;)[LGateRoad$Node;" } : Jvm.MethodName) prog_1_method_50_code (3 : Nat) (Option.some (Jvm.ClassFile.FieldType.array (Jvm.ClassFile.FieldType.object "GateRoad$Node")))) ∈ lw_all := lw_g (lw_at lw_m1 101 rfl) rfl
theorem q165 : (Jvm.Cond.methodLink "GateRoad" (320 : Nat) ({ cls := "java/lang/String", name := "length", desc := "()I" } : Jvm.MethodName)) ∈ lw_all := lw_g (lw_at lw_m1 102 rfl) rfl
theorem q175 : (Jvm.Cond.methodLink "GateRoad" (325 : Nat) ({ cls := "java/lang/String", name := "charAt", desc := "(I)C" } : Jvm.MethodName)) ∈ lw_all := lw_g (lw_at lw_m1 112 rfl) rfl
theorem q213 : (Jvm.Cond.classLink "GateRoad" (329 : Nat) "GateRoad$Reader") ∈ lw_all := lw_g (lw_at lw_m1 150 rfl) rfl
theorem q215 : (Jvm.Cond.methodLink "GateRoad" (331 : Nat) ({ cls := "GateRoad$Reader", name := "<init>", desc := "([BI)V" } : Jvm.MethodName)) ∈ lw_all := lw_g (lw_at lw_m1 152 rfl) rfl
theorem q244 : (Jvm.Cond.methodLink "GateRoad" (334 : Nat) ({ cls := "GateRoad$Reader", name := "parts", desc := "()[LGateRoad$Node;" } : Jvm.MethodName)) ∈ lw_all := lw_g (lw_at lw_m1 181 rfl) rfl
theorem q249 : (Jvm.Cond.laysStatic "GateRoad" "KEYS" "[Ljava/lang/String;") ∈ lw_tbl := lw_at lw_m1 186 rfl
theorem q263 : (Jvm.Cond.static ({ cls := "GateRoad", name := "in", desc := "(JJJ)Z" } : Jvm.MethodName)) ∈ lw_all := lw_g (lw_at lw_m1 200 rfl) rfl
theorem q264 : (Jvm.Cond.code ({ cls := "GateRoad", name := "in", desc := "(JJJ)Z" } : Jvm.MethodName) prog_1_method_1_code (6 : Nat) (Option.some Jvm.ClassFile.FieldType.boolean)) ∈ lw_all := lw_g (lw_at lw_m1 201 rfl) rfl
theorem q486 : (Jvm.Cond.fieldLink "GateRoad" (340 : Nat) "GateRoad$Fault" "place" "I") ∈ lw_all := lw_g (lw_at lw_m2 183 rfl) rfl
theorem q626 : (Jvm.Cond.laysStatic "GateRoad" "NAMES" "[Ljava/lang/String;") ∈ lw_tbl := lw_at lw_m3 83 rfl
theorem q649 : (Jvm.Cond.fieldLink "GateRoad" (29 : Nat) "GateRoad" "rate" "[I") ∈ lw_all := lw_g (lw_at lw_m3 106 rfl) rfl
theorem q650 : (Jvm.Cond.fieldLink "GateRoad" (33 : Nat) "GateRoad" "toll" "[I") ∈ lw_all := lw_g (lw_at lw_m3 107 rfl) rfl
theorem q651 : (Jvm.Cond.fieldLink "GateRoad" (36 : Nat) "GateRoad" "wish" "[I") ∈ lw_all := lw_g (lw_at lw_m3 108 rfl) rfl
theorem q652 : (Jvm.Cond.fieldLink "GateRoad" (39 : Nat) "GateRoad" "stay" "[I") ∈ lw_all := lw_g (lw_at lw_m3 109 rfl) rfl
theorem q653 : (Jvm.Cond.fieldLink "GateRoad" (42 : Nat) "GateRoad" "road" "[I") ∈ lw_all := lw_g (lw_at lw_m3 110 rfl) rfl
theorem q654 : (Jvm.Cond.fieldLink "GateRoad" (45 : Nat) "GateRoad" "sortOf" "[I") ∈ lw_all := lw_g (lw_at lw_m3 111 rfl) rfl
theorem q655 : (Jvm.Cond.fieldLink "GateRoad" (125 : Nat) "GateRoad" "sorts" "I") ∈ lw_all := lw_g (lw_at lw_m3 112 rfl) rfl
theorem q656 : (Jvm.Cond.fieldLink "GateRoad" (128 : Nat) "GateRoad" "carts" "I") ∈ lw_all := lw_g (lw_at lw_m3 113 rfl) rfl
theorem q657 : (Jvm.Cond.fieldLink "GateRoad" (51 : Nat) "GateRoad" "ways" "Ljava/util/ArrayList;") ∈ lw_all := lw_g (lw_at lw_m3 114 rfl) rfl
theorem q658 : (Jvm.Cond.fieldLink "GateRoad" (55 : Nat) "GateRoad" "names" "[I") ∈ lw_all := lw_g (lw_at lw_m3 115 rfl) rfl
theorem q659 : (Jvm.Cond.fieldLink "GateRoad" (153 : Nat) "GateRoad" "rule" "I") ∈ lw_all := lw_g (lw_at lw_m3 116 rfl) rfl
theorem q660 : (Jvm.Cond.fieldLink "GateRoad" (58 : Nat) "GateRoad" "came" "[I") ∈ lw_all := lw_g (lw_at lw_m3 117 rfl) rfl
theorem q661 : (Jvm.Cond.fieldLink "GateRoad" (61 : Nat) "GateRoad" "passed" "[I") ∈ lw_all := lw_g (lw_at lw_m3 118 rfl) rfl
theorem q662 : (Jvm.Cond.fieldLink "GateRoad" (64 : Nat) "GateRoad" "line" "[I") ∈ lw_all := lw_g (lw_at lw_m3 119 rfl) rfl
theorem q663 : (Jvm.Cond.fieldLink "GateRoad" (67 : Nat) "GateRoad" "passing" "[I") ∈ lw_all := lw_g (lw_at lw_m3 120 rfl) rfl
theorem q664 : (Jvm.Cond.fieldLink "GateRoad" (171 : Nat) "GateRoad" "passings" "I") ∈ lw_all := lw_g (lw_at lw_m3 121 rfl) rfl
theorem q665 : (Jvm.Cond.fieldLink "GateRoad" (265 : Nat) "GateRoad" "betterChoice" "I") ∈ lw_all := lw_g (lw_at lw_m3 122 rfl) rfl
theorem q666 : (Jvm.Cond.fieldLink "GateRoad" (268 : Nat) "GateRoad" "betterBy" "I") ∈ lw_all := lw_g (lw_at lw_m3 123 rfl) rfl
theorem q667 : (Jvm.Cond.fieldLink "GateRoad" (70 : Nat) "GateRoad" "trials" "[LGateRoad$Way;") ∈ lw_all := lw_g (lw_at lw_m3 124 rfl) rfl
theorem q668 : (Jvm.Cond.fieldLink "GateRoad" (74 : Nat) "GateRoad" "keptWish" "[I") ∈ lw_all := lw_g (lw_at lw_m3 125 rfl) rfl
theorem q669 : (Jvm.Cond.fieldLink "GateRoad" (77 : Nat) "GateRoad" "imageRate" "[I") ∈ lw_all := lw_g (lw_at lw_m3 126 rfl) rfl
theorem q670 : (Jvm.Cond.fieldLink "GateRoad" (80 : Nat) "GateRoad" "imageToll" "[I") ∈ lw_all := lw_g (lw_at lw_m3 127 rfl) rfl
theorem q671 : (Jvm.Cond.fieldLink "GateRoad" (83 : Nat) "GateRoad" "imageWish" "[I") ∈ lw_all := lw_g (lw_at lw_m3 128 rfl) rfl
theorem q672 : (Jvm.Cond.fieldLink "GateRoad" (86 : Nat) "GateRoad" "imageChoice" "[B") ∈ lw_all := lw_g (lw_at lw_m3 129 rfl) rfl
theorem q673 : (Jvm.Cond.fieldLink "GateRoad" (90 : Nat) "GateRoad" "imageWays" "I") ∈ lw_all := lw_g (lw_at lw_m3 130 rfl) rfl
theorem q674 : (Jvm.Cond.fieldLink "GateRoad" (317 : Nat) "GateRoad" "imageRule" "I") ∈ lw_all := lw_g (lw_at lw_m3 131 rfl) rfl
theorem q675 : (Jvm.Cond.fieldLink "GateRoad" (314 : Nat) "GateRoad" "imageSorts" "I") ∈ lw_all := lw_g (lw_at lw_m3 132 rfl) rfl
theorem q676 : (Jvm.Cond.fieldLink "GateRoad" (96 : Nat) "GateRoad" "texts" "[[LGateRoad$Node;") ∈ lw_all := lw_g (lw_at lw_m3 133 rfl) rfl
theorem q677 : (Jvm.Cond.fieldLink "GateRoad" (116 : Nat) "GateRoad" "textCount" "I") ∈ lw_all := lw_g (lw_at lw_m3 134 rfl) rfl
theorem q678 : (Jvm.Cond.fieldLink "GateRoad" (100 : Nat) "GateRoad" "tape" "[B") ∈ lw_all := lw_g (lw_at lw_m3 135 rfl) rfl
theorem q679 : (Jvm.Cond.fieldLink "GateRoad" (311 : Nat) "GateRoad" "taped" "I") ∈ lw_all := lw_g (lw_at lw_m3 136 rfl) rfl
theorem q680 : (Jvm.Cond.fieldLink "GateRoad" (106 : Nat) "GateRoad" "sheets" "[LGateRoad$Sheet;") ∈ lw_all := lw_g (lw_at lw_m3 137 rfl) rfl
theorem q681 : (Jvm.Cond.laysFinal "GateRoad" "GateRoad" "rate" "[I") ∈ lw_all := lw_g (lw_at lw_m3 138 rfl) rfl
theorem q682 : (Jvm.Cond.soleField "GateRoad" "rate") ∈ lw_all := lw_g (lw_at lw_m3 139 rfl) rfl
theorem q683 : (Jvm.Cond.laysFinal "GateRoad" "GateRoad" "toll" "[I") ∈ lw_all := lw_g (lw_at lw_m3 140 rfl) rfl
theorem q684 : (Jvm.Cond.soleField "GateRoad" "toll") ∈ lw_all := lw_g (lw_at lw_m3 141 rfl) rfl
theorem q685 : (Jvm.Cond.laysFinal "GateRoad" "GateRoad" "wish" "[I") ∈ lw_all := lw_g (lw_at lw_m3 142 rfl) rfl
theorem q686 : (Jvm.Cond.soleField "GateRoad" "wish") ∈ lw_all := lw_g (lw_at lw_m3 143 rfl) rfl
theorem q687 : (Jvm.Cond.laysFinal "GateRoad" "GateRoad" "stay" "[I") ∈ lw_all := lw_g (lw_at lw_m3 144 rfl) rfl
theorem q688 : (Jvm.Cond.soleField "GateRoad" "stay") ∈ lw_all := lw_g (lw_at lw_m3 145 rfl) rfl
theorem q689 : (Jvm.Cond.laysFinal "GateRoad" "GateRoad" "road" "[I") ∈ lw_all := lw_g (lw_at lw_m3 146 rfl) rfl
theorem q690 : (Jvm.Cond.soleField "GateRoad" "road") ∈ lw_all := lw_g (lw_at lw_m3 147 rfl) rfl
theorem q691 : (Jvm.Cond.laysFinal "GateRoad" "GateRoad" "sortOf" "[I") ∈ lw_all := lw_g (lw_at lw_m3 148 rfl) rfl
theorem q692 : (Jvm.Cond.soleField "GateRoad" "sortOf") ∈ lw_all := lw_g (lw_at lw_m3 149 rfl) rfl
theorem q693 : (Jvm.Cond.lays "GateRoad" "GateRoad" "sorts" "I") ∈ lw_all := lw_g (lw_at lw_m3 150 rfl) rfl
theorem q694 : (Jvm.Cond.soleField "GateRoad" "sorts") ∈ lw_all := lw_g (lw_at lw_m3 151 rfl) rfl
theorem q695 : (Jvm.Cond.lays "GateRoad" "GateRoad" "carts" "I") ∈ lw_all := lw_g (lw_at lw_m3 152 rfl) rfl
theorem q696 : (Jvm.Cond.soleField "GateRoad" "carts") ∈ lw_all := lw_g (lw_at lw_m3 153 rfl) rfl
theorem q697 : (Jvm.Cond.laysFinal "GateRoad" "GateRoad" "ways" "Ljava/util/ArrayList;") ∈ lw_all := lw_g (lw_at lw_m3 154 rfl) rfl
theorem q698 : (Jvm.Cond.soleField "GateRoad" "ways") ∈ lw_all := lw_g (lw_at lw_m3 155 rfl) rfl
theorem q699 : (Jvm.Cond.laysFinal "GateRoad" "GateRoad" "names" "[I") ∈ lw_all := lw_g (lw_at lw_m3 156 rfl) rfl
theorem q700 : (Jvm.Cond.soleField "GateRoad" "names") ∈ lw_all := lw_g (lw_at lw_m3 157 rfl) rfl
theorem q701 : (Jvm.Cond.lays "GateRoad" "GateRoad" "rule" "I") ∈ lw_all := lw_g (lw_at lw_m3 158 rfl) rfl
theorem q702 : (Jvm.Cond.soleField "GateRoad" "rule") ∈ lw_all := lw_g (lw_at lw_m3 159 rfl) rfl
theorem q703 : (Jvm.Cond.laysFinal "GateRoad" "GateRoad" "came" "[I") ∈ lw_all := lw_g (lw_at lw_m3 160 rfl) rfl
theorem q704 : (Jvm.Cond.soleField "GateRoad" "came") ∈ lw_all := lw_g (lw_at lw_m3 161 rfl) rfl
theorem q705 : (Jvm.Cond.laysFinal "GateRoad" "GateRoad" "passed" "[I") ∈ lw_all := lw_g (lw_at lw_m3 162 rfl) rfl
theorem q706 : (Jvm.Cond.soleField "GateRoad" "passed") ∈ lw_all := lw_g (lw_at lw_m3 163 rfl) rfl
theorem q707 : (Jvm.Cond.laysFinal "GateRoad" "GateRoad" "line" "[I") ∈ lw_all := lw_g (lw_at lw_m3 164 rfl) rfl
theorem q708 : (Jvm.Cond.soleField "GateRoad" "line") ∈ lw_all := lw_g (lw_at lw_m3 165 rfl) rfl
theorem q709 : (Jvm.Cond.laysFinal "GateRoad" "GateRoad" "passing" "[I") ∈ lw_all := lw_g (lw_at lw_m3 166 rfl) rfl
theorem q710 : (Jvm.Cond.soleField "GateRoad" "passing") ∈ lw_all := lw_g (lw_at lw_m3 167 rfl) rfl
theorem q711 : (Jvm.Cond.lays "GateRoad" "GateRoad" "passings" "I") ∈ lw_all := lw_g (lw_at lw_m3 168 rfl) rfl
theorem q712 : (Jvm.Cond.soleField "GateRoad" "passings") ∈ lw_all := lw_g (lw_at lw_m3 169 rfl) rfl
theorem q713 : (Jvm.Cond.lays "GateRoad" "GateRoad" "betterChoice" "I") ∈ lw_all := lw_g (lw_at lw_m3 170 rfl) rfl
theorem q714 : (Jvm.Cond.soleField "GateRoad" "betterChoice") ∈ lw_all := lw_g (lw_at lw_m3 171 rfl) rfl
theorem q715 : (Jvm.Cond.lays "GateRoad" "GateRoad" "betterBy" "I") ∈ lw_all := lw_g (lw_at lw_m3 172 rfl) rfl
theorem q716 : (Jvm.Cond.soleField "GateRoad" "betterBy") ∈ lw_all := lw_g (lw_at lw_m3 173 rfl) rfl
theorem q717 : (Jvm.Cond.laysFinal "GateRoad" "GateRoad" "trials" "[LGateRoad$Way;") ∈ lw_all := lw_g (lw_at lw_m3 174 rfl) rfl
theorem q718 : (Jvm.Cond.soleField "GateRoad" "trials") ∈ lw_all := lw_g (lw_at lw_m3 175 rfl) rfl
theorem q719 : (Jvm.Cond.laysFinal "GateRoad" "GateRoad" "keptWish" "[I") ∈ lw_all := lw_g (lw_at lw_m3 176 rfl) rfl
theorem q720 : (Jvm.Cond.soleField "GateRoad" "keptWish") ∈ lw_all := lw_g (lw_at lw_m3 177 rfl) rfl
theorem q721 : (Jvm.Cond.laysFinal "GateRoad" "GateRoad" "imageRate" "[I") ∈ lw_all := lw_g (lw_at lw_m3 178 rfl) rfl
theorem q722 : (Jvm.Cond.soleField "GateRoad" "imageRate") ∈ lw_all := lw_g (lw_at lw_m3 179 rfl) rfl
theorem q723 : (Jvm.Cond.laysFinal "GateRoad" "GateRoad" "imageToll" "[I") ∈ lw_all := lw_g (lw_at lw_m3 180 rfl) rfl
theorem q724 : (Jvm.Cond.soleField "GateRoad" "imageToll") ∈ lw_all := lw_g (lw_at lw_m3 181 rfl) rfl
theorem q725 : (Jvm.Cond.laysFinal "GateRoad" "GateRoad" "imageWish" "[I") ∈ lw_all := lw_g (lw_at lw_m3 182 rfl) rfl
theorem q726 : (Jvm.Cond.soleField "GateRoad" "imageWish") ∈ lw_all := lw_g (lw_at lw_m3 183 rfl) rfl
theorem q727 : (Jvm.Cond.laysFinal "GateRoad" "GateRoad" "imageChoice" "[B") ∈ lw_all := lw_g (lw_at lw_m3 184 rfl) rfl
theorem q728 : (Jvm.Cond.soleField "GateRoad" "imageChoice") ∈ lw_all := lw_g (lw_at lw_m3 185 rfl) rfl
theorem q729 : (Jvm.Cond.lays "GateRoad" "GateRoad" "imageWays" "I") ∈ lw_all := lw_g (lw_at lw_m3 186 rfl) rfl
theorem q730 : (Jvm.Cond.soleField "GateRoad" "imageWays") ∈ lw_all := lw_g (lw_at lw_m3 187 rfl) rfl
theorem q731 : (Jvm.Cond.lays "GateRoad" "GateRoad" "imageRule" "I") ∈ lw_all := lw_g (lw_at lw_m3 188 rfl) rfl
theorem q732 : (Jvm.Cond.soleField "GateRoad" "imageRule") ∈ lw_all := lw_g (lw_at lw_m3 189 rfl) rfl
theorem q733 : (Jvm.Cond.lays "GateRoad" "GateRoad" "imageSorts" "I") ∈ lw_all := lw_g (lw_at lw_m3 190 rfl) rfl
theorem q734 : (Jvm.Cond.soleField "GateRoad" "imageSorts") ∈ lw_all := lw_g (lw_at lw_m3 191 rfl) rfl
theorem q735 : (Jvm.Cond.laysFinal "GateRoad" "GateRoad" "texts" "[[LGateRoad$Node;") ∈ lw_all := lw_g (lw_at lw_m3 192 rfl) rfl
theorem q736 : (Jvm.Cond.soleField "GateRoad" "texts") ∈ lw_all := lw_g (lw_at lw_m3 193 rfl) rfl
theorem q737 : (Jvm.Cond.lays "GateRoad" "GateRoad" "textCount" "I") ∈ lw_all := lw_g (lw_at lw_m3 194 rfl) rfl
theorem q738 : (Jvm.Cond.soleField "GateRoad" "textCount") ∈ lw_all := lw_g (lw_at lw_m3 195 rfl) rfl
theorem q739 : (Jvm.Cond.laysFinal "GateRoad" "GateRoad" "tape" "[B") ∈ lw_all := lw_g (lw_at lw_m3 196 rfl) rfl
theorem q740 : (Jvm.Cond.soleField "GateRoad" "tape") ∈ lw_all := lw_g (lw_at lw_m3 197 rfl) rfl
theorem q741 : (Jvm.Cond.lays "GateRoad" "GateRoad" "taped" "I") ∈ lw_all := lw_g (lw_at lw_m3 198 rfl) rfl
theorem q742 : (Jvm.Cond.soleField "GateRoad" "taped") ∈ lw_all := lw_g (lw_at lw_m3 199 rfl) rfl
theorem q743 : (Jvm.Cond.laysFinal "GateRoad" "GateRoad" "sheets" "[LGateRoad$Sheet;") ∈ lw_all := lw_g (lw_at lw_m3 200 rfl) rfl
theorem q744 : (Jvm.Cond.soleField "GateRoad" "sheets") ∈ lw_all := lw_g (lw_at lw_m3 201 rfl) rfl
theorem q745 : (Jvm.Cond.superclass "GateRoad" "java/lang/Object") ∈ lw_all := lw_g (lw_at lw_m3 202 rfl) rfl
theorem q747 : (Jvm.Cond.instanceMethod ({ cls := "GateRoad", name := "rate", desc := "(IIII)I" } : Jvm.MethodName)) ∈ lw_all := lw_g (lw_at lw_m3 204 rfl) rfl
theorem q748 : (Jvm.Cond.selects "GateRoad" ({ cls := "GateRoad", name := "rate", desc := "(IIII)I" } : Jvm.MethodName) ({ cls := "GateRoad", name := "rate", desc := "(IIII)I" } : Jvm.MethodName)) ∈ lw_all := lw_g (lw_at lw_m3 205 rfl) rfl
theorem q749 : (Jvm.Cond.code ({ cls := "GateRoad", name := "rate", desc := "(IIII)I" } : Jvm.MethodName) prog_1_method_10_code (7 : Nat) (Option.some Jvm.ClassFile.FieldType.int)) ∈ lw_all := lw_g (lw_at lw_m3 206 rfl) rfl
theorem q750 : (Jvm.Cond.methodLink "GateRoad" (135 : Nat) ({ cls := "GateRoad", name := "isGate", desc := "(I)Z" } : Jvm.MethodName)) ∈ lw_all := lw_g (lw_at lw_m3 207 rfl) rfl
theorem q751 : (Jvm.Cond.static ({ cls := "GateRoad", name := "isGate", desc := "(I)Z" } : Jvm.MethodName)) ∈ lw_all := lw_g (lw_at lw_m3 208 rfl) rfl
theorem q752 : (Jvm.Cond.code ({ cls := "GateRoad", name := "isGate", desc := "(I)Z" } : Jvm.MethodName) prog_1_method_5_code (1 : Nat) (Option.some Jvm.ClassFile.FieldType.boolean)) ∈ lw_all := lw_g (lw_at lw_m3 209 rfl) rfl
theorem q753 : (Jvm.Cond.methodLink "GateRoad" (119 : Nat) ({ cls := "GateRoad", name := "in", desc := "(JJJ)Z" } : Jvm.MethodName)) ∈ lw_all := lw_g (lw_at lw_m3 210 rfl) rfl
theorem q754 : (Jvm.Cond.methodLink "GateRoad" (139 : Nat) ({ cls := "GateRoad", name := "isMinute", desc := "(I)Z" } : Jvm.MethodName)) ∈ lw_all := lw_g (lw_at lw_m3 211 rfl) rfl
theorem q755 : (Jvm.Cond.static ({ cls := "GateRoad", name := "isMinute", desc := "(I)Z" } : Jvm.MethodName)) ∈ lw_all := lw_g (lw_at lw_m3 212 rfl) rfl
theorem q756 : (Jvm.Cond.code ({ cls := "GateRoad", name := "isMinute", desc := "(I)Z" } : Jvm.MethodName) prog_1_method_6_code (1 : Nat) (Option.some Jvm.ClassFile.FieldType.boolean)) ∈ lw_all := lw_g (lw_at lw_m3 213 rfl) rfl
theorem q757 : (Jvm.Cond.constantLong "GateRoad" (123 : Nat) (23 : Int64)) ∈ lw_all := lw_g (lw_at lw_m3 214 rfl) rfl
theorem q758 : (Jvm.Cond.constantLong "GateRoad" (142 : Nat) (24 : Int64)) ∈ lw_all := lw_g (lw_at lw_m3 215 rfl) rfl
theorem q759 : (Jvm.Cond.constantLong "GateRoad" (144 : Nat) (9 : Int64)) ∈ lw_all := lw_g (lw_at lw_m3 216 rfl) rfl
theorem q761 : (Jvm.Cond.instanceMethod ({ cls := "GateRoad", name := "toll", desc := "(III)I" } : Jvm.MethodName)) ∈ lw_all := lw_g (lw_at lw_m3 218 rfl) rfl
theorem q762 : (Jvm.Cond.selects "GateRoad" ({ cls := "GateRoad", name := "toll", desc := "(III)I" } : Jvm.MethodName) ({ cls := "GateRoad", name := "toll", desc := "(III)I" } : Jvm.MethodName)) ∈ lw_all := lw_g (lw_at lw_m3 219 rfl) rfl
theorem q763 : (Jvm.Cond.code ({ cls := "GateRoad", name := "toll", desc := "(III)I" } : Jvm.MethodName) prog_1_method_11_code (5 : Nat) (Option.some Jvm.ClassFile.FieldType.int)) ∈ lw_all := lw_g (lw_at lw_m3 220 rfl) rfl
theorem q764 : (Jvm.Cond.constantLong "GateRoad" (146 : Nat) (99 : Int64)) ∈ lw_all := lw_g (lw_at lw_m3 221 rfl) rfl
theorem q766 : (Jvm.Cond.instanceMethod ({ cls := "GateRoad", name := "sort", desc := "(IIII)I" } : Jvm.MethodName)) ∈ lw_all := lw_g (lw_at lw_m3 223 rfl) rfl
theorem q767 : (Jvm.Cond.selects "GateRoad" ({ cls := "GateRoad", name := "sort", desc := "(IIII)I" } : Jvm.MethodName) ({ cls := "GateRoad", name := "sort", desc := "(IIII)I" } : Jvm.MethodName)) ∈ lw_all := lw_g (lw_at lw_m3 224 rfl) rfl
theorem q768 : (Jvm.Cond.code ({ cls := "GateRoad", name := "sort", desc := "(IIII)I" } : Jvm.MethodName) prog_1_method_12_code (5 : Nat) (Option.some Jvm.ClassFile.FieldType.int)) ∈ lw_all := lw_g (lw_at lw_m3 225 rfl) rfl
theorem q769 : (Jvm.Cond.constantLong "GateRoad" (148 : Nat) (999 : Int64)) ∈ lw_all := lw_g (lw_at lw_m3 226 rfl) rfl
theorem q771 : (Jvm.Cond.instanceMethod ({ cls := "GateRoad", name := "cart", desc := "(I)I" } : Jvm.MethodName)) ∈ lw_all := lw_g (lw_at lw_m3 228 rfl) rfl
theorem q772 : (Jvm.Cond.selects "GateRoad" ({ cls := "GateRoad", name := "cart", desc := "(I)I" } : Jvm.MethodName) ({ cls := "GateRoad", name := "cart", desc := "(I)I" } : Jvm.MethodName)) ∈ lw_all := lw_g (lw_at lw_m3 229 rfl) rfl
theorem q773 : (Jvm.Cond.code ({ cls := "GateRoad", name := "cart", desc := "(I)I" } : Jvm.MethodName) prog_1_method_13_code (2 : Nat) (Option.some Jvm.ClassFile.FieldType.int)) ∈ lw_all := lw_g (lw_at lw_m3 230 rfl) rfl
theorem q774 : (Jvm.Cond.methodLink "GateRoad" (150 : Nat) ({ cls := "GateRoad", name := "isSort", desc := "(I)Z" } : Jvm.MethodName)) ∈ lw_all := lw_g (lw_at lw_m3 231 rfl) rfl
theorem q775 : (Jvm.Cond.privateMethod ({ cls := "GateRoad", name := "isSort", desc := "(I)Z" } : Jvm.MethodName)) ∈ lw_tbl := lw_at lw_m3 232 rfl
theorem q776 : (Jvm.Cond.instanceMethod ({ cls := "GateRoad", name := "isSort", desc := "(I)Z" } : Jvm.MethodName)) ∈ lw_all := lw_g (lw_at lw_m3 233 rfl) rfl
theorem q777 : (Jvm.Cond.code ({ cls := "GateRoad", name := "isSort", desc := "(I)Z" } : Jvm.MethodName) prog_1_method_7_code (2 : Nat) (Option.some Jvm.ClassFile.FieldType.boolean)) ∈ lw_all := lw_g (lw_at lw_m3 234 rfl) rfl
theorem q779 : (Jvm.Cond.instanceMethod ({ cls := "GateRoad", name := "gateTold", desc := "(III)I" } : Jvm.MethodName)) ∈ lw_all := lw_g (lw_at lw_m3 236 rfl) rfl
theorem q780 : (Jvm.Cond.selects "GateRoad" ({ cls := "GateRoad", name := "gateTold", desc := "(III)I" } : Jvm.MethodName) ({ cls := "GateRoad", name := "gateTold", desc := "(III)I" } : Jvm.MethodName)) ∈ lw_all := lw_g (lw_at lw_m3 237 rfl) rfl
theorem q781 : (Jvm.Cond.code ({ cls := "GateRoad", name := "gateTold", desc := "(III)I" } : Jvm.MethodName) prog_1_method_14_code (4 : Nat) (Option.some Jvm.ClassFile.FieldType.int)) ∈ lw_all := lw_g (lw_at lw_m3 238 rfl) rfl
theorem q783 : (Jvm.Cond.instanceMethod ({ cls := "GateRoad", name := "sortTold", desc := "(II)I" } : Jvm.MethodName)) ∈ lw_all := lw_g (lw_at lw_m4 0 rfl) rfl
theorem q784 : (Jvm.Cond.selects "GateRoad" ({ cls := "GateRoad", name := "sortTold", desc := "(II)I" } : Jvm.MethodName) ({ cls := "GateRoad", name := "sortTold", desc := "(II)I" } : Jvm.MethodName)) ∈ lw_all := lw_g (lw_at lw_m4 1 rfl) rfl
theorem q785 : (Jvm.Cond.code ({ cls := "GateRoad", name := "sortTold", desc := "(II)I" } : Jvm.MethodName) prog_1_method_15_code (3 : Nat) (Option.some Jvm.ClassFile.FieldType.int)) ∈ lw_all := lw_g (lw_at lw_m4 2 rfl) rfl
theorem q787 : (Jvm.Cond.instanceMethod ({ cls := "GateRoad", name := "way", desc := "(II)I" } : Jvm.MethodName)) ∈ lw_all := lw_g (lw_at lw_m4 4 rfl) rfl
theorem q788 : (Jvm.Cond.selects "GateRoad" ({ cls := "GateRoad", name := "way", desc := "(II)I" } : Jvm.MethodName) ({ cls := "GateRoad", name := "way", desc := "(II)I" } : Jvm.MethodName)) ∈ lw_all := lw_g (lw_at lw_m4 5 rfl) rfl
theorem q789 : (Jvm.Cond.code ({ cls := "GateRoad", name := "way", desc := "(II)I" } : Jvm.MethodName) prog_1_method_26_code (6 : Nat) (Option.some Jvm.ClassFile.FieldType.int)) ∈ lw_all := lw_g (lw_at lw_m4 6 rfl) rfl
theorem q790 : (Jvm.Cond.constantLong "GateRoad" (217 : Nat) (5 : Int64)) ∈ lw_all := lw_g (lw_at lw_m4 7 rfl) rfl
theorem q791 : (Jvm.Cond.methodLink "GateRoad" (219 : Nat) ({ cls := "GateRoad", name := "isSheet", desc := "(I)Z" } : Jvm.MethodName)) ∈ lw_all := lw_g (lw_at lw_m4 8 rfl) rfl
theorem q792 : (Jvm.Cond.static ({ cls := "GateRoad", name := "isSheet", desc := "(I)Z" } : Jvm.MethodName)) ∈ lw_all := lw_g (lw_at lw_m4 9 rfl) rfl
theorem q793 : (Jvm.Cond.code ({ cls := "GateRoad", name := "isSheet", desc := "(I)Z" } : Jvm.MethodName) prog_1_method_54_code (1 : Nat) (Option.some Jvm.ClassFile.FieldType.boolean)) ∈ lw_all := lw_g (lw_at lw_m4 10 rfl) rfl
theorem q794 : (Jvm.Cond.constantLong "GateRoad" (257 : Nat) (3 : Int64)) ∈ lw_all := lw_g (lw_at lw_m4 11 rfl) rfl
theorem q795 : (Jvm.Cond.constantLong "GateRoad" (230 : Nat) (48 : Int64)) ∈ lw_all := lw_g (lw_at lw_m4 12 rfl) rfl
theorem q796 : (Jvm.Cond.methodLink "GateRoad" (131 : Nat) ({ cls := "java/util/ArrayList", name := "size", desc := "()I" } : Jvm.MethodName)) ∈ lw_all := lw_g (lw_at lw_m4 13 rfl) rfl
theorem q800 : (Jvm.Cond.methodLink "GateRoad" (232 : Nat) ({ cls := "GateRoad", name := "made", desc := "(II)LGateRoad$Way;" } : Jvm.MethodName)) ∈ lw_all := lw_g (lw_at lw_m4 17 rfl) rfl
theorem q801 : (Jvm.Cond.static ({ cls := "GateRoad", name := "made", desc := "(II)LGateRoad$Way;" } : Jvm.MethodName)) ∈ lw_all := lw_g (lw_at lw_m4 18 rfl) rfl
theorem q802 : (Jvm.Cond.code ({ cls := "GateRoad", name := "made", desc := "(II)LGateRoad$Way;" } : Jvm.MethodName) prog_1_method_2_code (2 : Nat) (Option.some (Jvm.ClassFile.FieldType.object "GateRoad$Way"))) ∈ lw_all := lw_g (lw_at lw_m4 19 rfl) rfl
theorem q804 : (Jvm.Cond.methodLink "GateRoad" (5 : Nat) ({ cls := "GateRoad$Way", name := "<init>", desc := "(I)V" } : Jvm.MethodName)) ∈ lw_all := lw_g (lw_at lw_m4 21 rfl) rfl
theorem q809 : (Jvm.Cond.fieldLink "GateRoad" (240 : Nat) "GateRoad$Way" "number" "I") ∈ lw_all := lw_g (lw_at lw_m4 26 rfl) rfl
theorem q811 : (Jvm.Cond.fieldLink "GateRoad" (175 : Nat) "GateRoad$Way" "choice" "[B") ∈ lw_all := lw_g (lw_at lw_m4 28 rfl) rfl
theorem q813 : (Jvm.Cond.fieldLink "GateRoad" (174 : Nat) "GateRoad$Way" "carts" "I") ∈ lw_all := lw_g (lw_at lw_m4 30 rfl) rfl
theorem q821 : (Jvm.Cond.classLink "GateRoad" (9 : Nat) "GateRoad$Tolled") ∈ lw_all := lw_g (lw_at lw_m4 38 rfl) rfl
theorem q823 : (Jvm.Cond.methodLink "GateRoad" (11 : Nat) ({ cls := "GateRoad$Tolled", name := "<init>", desc := "(I)V" } : Jvm.MethodName)) ∈ lw_all := lw_g (lw_at lw_m4 40 rfl) rfl
theorem q831 : (Jvm.Cond.classLink "GateRoad" (12 : Nat) "GateRoad$Numbered") ∈ lw_all := lw_g (lw_at lw_m4 48 rfl) rfl
theorem q833 : (Jvm.Cond.methodLink "GateRoad" (14 : Nat) ({ cls := "GateRoad$Numbered", name := "<init>", desc := "(I)V" } : Jvm.MethodName)) ∈ lw_all := lw_g (lw_at lw_m4 50 rfl) rfl
theorem q841 : (Jvm.Cond.classLink "GateRoad" (15 : Nat) "GateRoad$Drawn") ∈ lw_all := lw_g (lw_at lw_m4 58 rfl) rfl
theorem q843 : (Jvm.Cond.methodLink "GateRoad" (17 : Nat) ({ cls := "GateRoad$Drawn", name := "<init>", desc := "(I)V" } : Jvm.MethodName)) ∈ lw_all := lw_g (lw_at lw_m4 60 rfl) rfl
theorem q851 : (Jvm.Cond.classLink "GateRoad" (18 : Nat) "GateRoad$Last") ∈ lw_all := lw_g (lw_at lw_m4 68 rfl) rfl
theorem q853 : (Jvm.Cond.methodLink "GateRoad" (20 : Nat) ({ cls := "GateRoad$Last", name := "<init>", desc := "(I)V" } : Jvm.MethodName)) ∈ lw_all := lw_g (lw_at lw_m4 70 rfl) rfl
theorem q861 : (Jvm.Cond.classLink "GateRoad" (21 : Nat) "GateRoad$Sorted") ∈ lw_all := lw_g (lw_at lw_m4 78 rfl) rfl
theorem q863 : (Jvm.Cond.methodLink "GateRoad" (23 : Nat) ({ cls := "GateRoad$Sorted", name := "<init>", desc := "(I)V" } : Jvm.MethodName)) ∈ lw_all := lw_g (lw_at lw_m4 80 rfl) rfl
theorem q871 : (Jvm.Cond.methodLink "GateRoad" (236 : Nat) ({ cls := "java/util/ArrayList", name := "add", desc := "(Ljava/lang/Object;)Z" } : Jvm.MethodName)) ∈ lw_all := lw_g (lw_at lw_m4 88 rfl) rfl
theorem q894 : (Jvm.Cond.selects "GateRoad" ({ cls := "java/lang/Object", name := "getClass", desc := "()Ljava/lang/Class;" } : Jvm.MethodName) ({ cls := "java/lang/Object", name := "getClass", desc := "()Ljava/lang/Class;" } : Jvm.MethodName)) ∈ lw_all := lw_g (lw_at lw_m4 111 rfl) rfl
theorem q924 : (Jvm.Cond.instanceMethod ({ cls := "GateRoad", name := "wayTold", desc := "(II)I" } : Jvm.MethodName)) ∈ lw_all := lw_g (lw_at lw_m4 141 rfl) rfl
theorem q925 : (Jvm.Cond.selects "GateRoad" ({ cls := "GateRoad", name := "wayTold", desc := "(II)I" } : Jvm.MethodName) ({ cls := "GateRoad", name := "wayTold", desc := "(II)I" } : Jvm.MethodName)) ∈ lw_all := lw_g (lw_at lw_m4 142 rfl) rfl
theorem q926 : (Jvm.Cond.code ({ cls := "GateRoad", name := "wayTold", desc := "(II)I" } : Jvm.MethodName) prog_1_method_27_code (4 : Nat) (Option.some Jvm.ClassFile.FieldType.int)) ∈ lw_all := lw_g (lw_at lw_m4 143 rfl) rfl
theorem q927 : (Jvm.Cond.methodLink "GateRoad" (243 : Nat) ({ cls := "GateRoad", name := "isWay", desc := "(I)Z" } : Jvm.MethodName)) ∈ lw_all := lw_g (lw_at lw_m4 144 rfl) rfl
theorem q928 : (Jvm.Cond.privateMethod ({ cls := "GateRoad", name := "isWay", desc := "(I)Z" } : Jvm.MethodName)) ∈ lw_tbl := lw_at lw_m4 145 rfl
theorem q929 : (Jvm.Cond.instanceMethod ({ cls := "GateRoad", name := "isWay", desc := "(I)Z" } : Jvm.MethodName)) ∈ lw_all := lw_g (lw_at lw_m4 146 rfl) rfl
theorem q930 : (Jvm.Cond.code ({ cls := "GateRoad", name := "isWay", desc := "(I)Z" } : Jvm.MethodName) prog_1_method_9_code (2 : Nat) (Option.some Jvm.ClassFile.FieldType.boolean)) ∈ lw_all := lw_g (lw_at lw_m4 147 rfl) rfl
theorem q931 : (Jvm.Cond.methodLink "GateRoad" (246 : Nat) ({ cls := "java/util/ArrayList", name := "get", desc := "(I)Ljava/lang/Object;" } : Jvm.MethodName)) ∈ lw_all := lw_g (lw_at lw_m4 148 rfl) rfl
theorem q943 : (Jvm.Cond.methodLink "GateRoad" (250 : Nat) ({ cls := "GateRoad$Way", name := "kind", desc := "()I" } : Jvm.MethodName)) ∈ lw_all := lw_g (lw_at lw_m4 160 rfl) rfl
theorem q966 : (Jvm.Cond.instanceMethod ({ cls := "GateRoad", name := "set", desc := "(III)I" } : Jvm.MethodName)) ∈ lw_all := lw_g (lw_at lw_m4 183 rfl) rfl
theorem q967 : (Jvm.Cond.selects "GateRoad" ({ cls := "GateRoad", name := "set", desc := "(III)I" } : Jvm.MethodName) ({ cls := "GateRoad", name := "set", desc := "(III)I" } : Jvm.MethodName)) ∈ lw_all := lw_g (lw_at lw_m4 184 rfl) rfl
theorem q968 : (Jvm.Cond.code ({ cls := "GateRoad", name := "set", desc := "(III)I" } : Jvm.MethodName) prog_1_method_28_code (5 : Nat) (Option.some Jvm.ClassFile.FieldType.int)) ∈ lw_all := lw_g (lw_at lw_m4 185 rfl) rfl
theorem q970 : (Jvm.Cond.instanceMethod ({ cls := "GateRoad", name := "of", desc := "(III)I" } : Jvm.MethodName)) ∈ lw_all := lw_g (lw_at lw_m4 187 rfl) rfl
theorem q971 : (Jvm.Cond.selects "GateRoad" ({ cls := "GateRoad", name := "of", desc := "(III)I" } : Jvm.MethodName) ({ cls := "GateRoad", name := "of", desc := "(III)I" } : Jvm.MethodName)) ∈ lw_all := lw_g (lw_at lw_m4 188 rfl) rfl
theorem q972 : (Jvm.Cond.code ({ cls := "GateRoad", name := "of", desc := "(III)I" } : Jvm.MethodName) prog_1_method_29_code (5 : Nat) (Option.some Jvm.ClassFile.FieldType.int)) ∈ lw_all := lw_g (lw_at lw_m4 189 rfl) rfl
theorem q973 : (Jvm.Cond.methodLink "GateRoad" (253 : Nat) ({ cls := "GateRoad", name := "runs", desc := "(LGateRoad$Way;)V" } : Jvm.MethodName)) ∈ lw_all := lw_g (lw_at lw_m4 190 rfl) rfl
theorem q974 : (Jvm.Cond.privateMethod ({ cls := "GateRoad", name := "runs", desc := "(LGateRoad$Way;)V" } : Jvm.MethodName)) ∈ lw_tbl := lw_at lw_m4 191 rfl
theorem q975 : (Jvm.Cond.instanceMethod ({ cls := "GateRoad", name := "runs", desc := "(LGateRoad$Way;)V" } : Jvm.MethodName)) ∈ lw_all := lw_g (lw_at lw_m4 192 rfl) rfl
theorem q976 : (Jvm.Cond.code ({ cls := "GateRoad", name := "runs", desc := "(LGateRoad$Way;)V" } : Jvm.MethodName) prog_1_method_17_code (6 : Nat) (Option.none : Option Jvm.ClassFile.FieldType)) ∈ lw_all := lw_g (lw_at lw_m4 193 rfl) rfl
theorem q977 : (Jvm.Cond.methodLink "GateRoad" (178 : Nat) ({ cls := "GateRoad", name := "first", desc := "(LGateRoad$Way;II)I" } : Jvm.MethodName)) ∈ lw_all := lw_g (lw_at lw_m4 194 rfl) rfl
theorem q978 : (Jvm.Cond.privateMethod ({ cls := "GateRoad", name := "first", desc := "(LGateRoad$Way;II)I" } : Jvm.MethodName)) ∈ lw_tbl := lw_at lw_m4 195 rfl
theorem q979 : (Jvm.Cond.instanceMethod ({ cls := "GateRoad", name := "first", desc := "(LGateRoad$Way;II)I" } : Jvm.MethodName)) ∈ lw_all := lw_g (lw_at lw_m4 196 rfl) rfl
theorem q980 : (Jvm.Cond.code ({ cls := "GateRoad", name := "first", desc := "(LGateRoad$Way;II)I" } : Jvm.MethodName) prog_1_method_19_code (6 : Nat) (Option.some Jvm.ClassFile.FieldType.int)) ∈ lw_all := lw_g (lw_at lw_m4 197 rfl) rfl
theorem q981 : (Jvm.Cond.methodLink "GateRoad" (185 : Nat) ({ cls := "GateRoad", name := "waits", desc := "(LGateRoad$Way;III)Z" } : Jvm.MethodName)) ∈ lw_all := lw_g (lw_at lw_m4 198 rfl) rfl
theorem q982 : (Jvm.Cond.privateMethod ({ cls := "GateRoad", name := "waits", desc := "(LGateRoad$Way;III)Z" } : Jvm.MethodName)) ∈ lw_tbl := lw_at lw_m4 199 rfl
theorem q983 : (Jvm.Cond.instanceMethod ({ cls := "GateRoad", name := "waits", desc := "(LGateRoad$Way;III)Z" } : Jvm.MethodName)) ∈ lw_all := lw_g (lw_at lw_m4 200 rfl) rfl
theorem q984 : (Jvm.Cond.code ({ cls := "GateRoad", name := "waits", desc := "(LGateRoad$Way;III)Z" } : Jvm.MethodName) prog_1_method_18_code (5 : Nat) (Option.some Jvm.ClassFile.FieldType.boolean)) ∈ lw_all := lw_g (lw_at lw_m4 201 rfl) rfl
theorem q985 : (Jvm.Cond.methodLink "GateRoad" (189 : Nat) ({ cls := "GateRoad", name := "keyOf", desc := "(LGateRoad$Way;I)I" } : Jvm.MethodName)) ∈ lw_all := lw_g (lw_at lw_m4 202 rfl) rfl
theorem q986 : (Jvm.Cond.privateMethod ({ cls := "GateRoad", name := "keyOf", desc := "(LGateRoad$Way;I)I" } : Jvm.MethodName)) ∈ lw_tbl := lw_at lw_m4 203 rfl
theorem q987 : (Jvm.Cond.instanceMethod ({ cls := "GateRoad", name := "keyOf", desc := "(LGateRoad$Way;I)I" } : Jvm.MethodName)) ∈ lw_all := lw_g (lw_at lw_m4 204 rfl) rfl
theorem q988 : (Jvm.Cond.code ({ cls := "GateRoad", name := "keyOf", desc := "(LGateRoad$Way;I)I" } : Jvm.MethodName) prog_1_method_20_code (3 : Nat) (Option.some Jvm.ClassFile.FieldType.int)) ∈ lw_all := lw_g (lw_at lw_m4 205 rfl) rfl
theorem q989 : (Jvm.Cond.methodLink "GateRoad" (193 : Nat) ({ cls := "GateRoad$Way", name := "key", desc := "(III)I" } : Jvm.MethodName)) ∈ lw_all := lw_g (lw_at lw_m4 206 rfl) rfl
theorem q1012 : (Jvm.Cond.methodLink "GateRoad" (182 : Nat) ({ cls := "GateRoad", name := "waiting", desc := "(LGateRoad$Way;II)I" } : Jvm.MethodName)) ∈ lw_all := lw_g (lw_at lw_m4 229 rfl) rfl
theorem q1013 : (Jvm.Cond.privateMethod ({ cls := "GateRoad", name := "waiting", desc := "(LGateRoad$Way;II)I" } : Jvm.MethodName)) ∈ lw_tbl := lw_at lw_m4 230 rfl
theorem q1014 : (Jvm.Cond.instanceMethod ({ cls := "GateRoad", name := "waiting", desc := "(LGateRoad$Way;II)I" } : Jvm.MethodName)) ∈ lw_all := lw_g (lw_at lw_m4 231 rfl) rfl
theorem q1015 : (Jvm.Cond.code ({ cls := "GateRoad", name := "waiting", desc := "(LGateRoad$Way;II)I" } : Jvm.MethodName) prog_1_method_21_code (6 : Nat) (Option.some Jvm.ClassFile.FieldType.int)) ∈ lw_all := lw_g (lw_at lw_m4 232 rfl) rfl
theorem q1016 : (Jvm.Cond.methodLink "GateRoad" (214 : Nat) ({ cls := "GateRoad", name := "cost", desc := "(LGateRoad$Way;I)I" } : Jvm.MethodName)) ∈ lw_all := lw_g (lw_at lw_m4 233 rfl) rfl
theorem q1017 : (Jvm.Cond.privateMethod ({ cls := "GateRoad", name := "cost", desc := "(LGateRoad$Way;I)I" } : Jvm.MethodName)) ∈ lw_tbl := lw_at lw_m4 234 rfl
theorem q1018 : (Jvm.Cond.instanceMethod ({ cls := "GateRoad", name := "cost", desc := "(LGateRoad$Way;I)I" } : Jvm.MethodName)) ∈ lw_all := lw_g (lw_at lw_m4 235 rfl) rfl
theorem q1019 : (Jvm.Cond.code ({ cls := "GateRoad", name := "cost", desc := "(LGateRoad$Way;I)I" } : Jvm.MethodName) prog_1_method_24_code (3 : Nat) (Option.some Jvm.ClassFile.FieldType.int)) ∈ lw_all := lw_g (lw_at lw_m4 236 rfl) rfl
theorem q1020 : (Jvm.Cond.methodLink "GateRoad" (208 : Nat) ({ cls := "GateRoad", name := "asks", desc := "(LGateRoad$Way;II)I" } : Jvm.MethodName)) ∈ lw_all := lw_g (lw_at lw_m4 237 rfl) rfl
theorem q1021 : (Jvm.Cond.privateMethod ({ cls := "GateRoad", name := "asks", desc := "(LGateRoad$Way;II)I" } : Jvm.MethodName)) ∈ lw_tbl := lw_at lw_m4 238 rfl
theorem q1022 : (Jvm.Cond.instanceMethod ({ cls := "GateRoad", name := "asks", desc := "(LGateRoad$Way;II)I" } : Jvm.MethodName)) ∈ lw_all := lw_g (lw_at lw_m4 239 rfl) rfl
theorem q1023 : (Jvm.Cond.code ({ cls := "GateRoad", name := "asks", desc := "(LGateRoad$Way;II)I" } : Jvm.MethodName) prog_1_method_23_code (6 : Nat) (Option.some Jvm.ClassFile.FieldType.int)) ∈ lw_all := lw_g (lw_at lw_m5 0 rfl) rfl
theorem q1024 : (Jvm.Cond.methodLink "GateRoad" (168 : Nat) ({ cls := "java/lang/Math", name := "max", desc := "(II)I" } : Jvm.MethodName)) ∈ lw_all := lw_g (lw_at lw_m5 1 rfl) rfl
theorem q1025 : (Jvm.Cond.methodLink "GateRoad" (201 : Nat) ({ cls := "GateRoad", name := "paid", desc := "(LGateRoad$Way;I)I" } : Jvm.MethodName)) ∈ lw_all := lw_g (lw_at lw_m5 2 rfl) rfl
theorem q1026 : (Jvm.Cond.privateMethod ({ cls := "GateRoad", name := "paid", desc := "(LGateRoad$Way;I)I" } : Jvm.MethodName)) ∈ lw_tbl := lw_at lw_m5 3 rfl
theorem q1027 : (Jvm.Cond.instanceMethod ({ cls := "GateRoad", name := "paid", desc := "(LGateRoad$Way;I)I" } : Jvm.MethodName)) ∈ lw_all := lw_g (lw_at lw_m5 4 rfl) rfl
theorem q1028 : (Jvm.Cond.code ({ cls := "GateRoad", name := "paid", desc := "(LGateRoad$Way;I)I" } : Jvm.MethodName) prog_1_method_22_code (3 : Nat) (Option.some Jvm.ClassFile.FieldType.int)) ∈ lw_all := lw_g (lw_at lw_m5 5 rfl) rfl
theorem q1029 : (Jvm.Cond.methodLink "GateRoad" (197 : Nat) ({ cls := "GateRoad$Way", name := "pays", desc := "(I)I" } : Jvm.MethodName)) ∈ lw_all := lw_g (lw_at lw_m5 6 rfl) rfl
theorem q1044 : (Jvm.Cond.methodLink "GateRoad" (204 : Nat) ({ cls := "GateRoad", name := "says", desc := "(IIIIIII)I" } : Jvm.MethodName)) ∈ lw_all := lw_g (lw_at lw_m5 21 rfl) rfl
theorem q1045 : (Jvm.Cond.privateMethod ({ cls := "GateRoad", name := "says", desc := "(IIIIIII)I" } : Jvm.MethodName)) ∈ lw_tbl := lw_at lw_m5 22 rfl
theorem q1046 : (Jvm.Cond.instanceMethod ({ cls := "GateRoad", name := "says", desc := "(IIIIIII)I" } : Jvm.MethodName)) ∈ lw_all := lw_g (lw_at lw_m5 23 rfl) rfl
theorem q1047 : (Jvm.Cond.code ({ cls := "GateRoad", name := "says", desc := "(IIIIIII)I" } : Jvm.MethodName) prog_1_method_16_code (9 : Nat) (Option.some Jvm.ClassFile.FieldType.int)) ∈ lw_all := lw_g (lw_at lw_m5 24 rfl) rfl
theorem q1048 : (Jvm.Cond.interfaceEntry "GateRoad" (156 : Nat)) ∈ lw_tbl := lw_at lw_m5 25 rfl
theorem q1049 : (Jvm.Cond.methodLink "GateRoad" (156 : Nat) ({ cls := "GateRoad$Node", name := "worth", desc := "([I)I" } : Jvm.MethodName)) ∈ lw_all := lw_g (lw_at lw_m5 26 rfl) rfl
theorem q1074 : (Jvm.Cond.methodLink "GateRoad" (162 : Nat) ({ cls := "java/lang/Math", name := "min", desc := "(II)I" } : Jvm.MethodName)) ∈ lw_all := lw_g (lw_at lw_m5 51 rfl) rfl
theorem q1075 : (Jvm.Cond.methodLink "GateRoad" (211 : Nat) ({ cls := "GateRoad$Way", name := "spares", desc := "(I)I" } : Jvm.MethodName)) ∈ lw_all := lw_g (lw_at lw_m5 52 rfl) rfl
theorem q1088 : (Jvm.Cond.instanceMethod ({ cls := "GateRoad", name := "line", desc := "(III)I" } : Jvm.MethodName)) ∈ lw_all := lw_g (lw_at lw_m5 65 rfl) rfl
theorem q1089 : (Jvm.Cond.selects "GateRoad" ({ cls := "GateRoad", name := "line", desc := "(III)I" } : Jvm.MethodName) ({ cls := "GateRoad", name := "line", desc := "(III)I" } : Jvm.MethodName)) ∈ lw_all := lw_g (lw_at lw_m5 66 rfl) rfl
theorem q1090 : (Jvm.Cond.code ({ cls := "GateRoad", name := "line", desc := "(III)I" } : Jvm.MethodName) prog_1_method_30_code (4 : Nat) (Option.some Jvm.ClassFile.FieldType.int)) ∈ lw_all := lw_g (lw_at lw_m5 67 rfl) rfl
theorem q1092 : (Jvm.Cond.instanceMethod ({ cls := "GateRoad", name := "passes", desc := "(II)I" } : Jvm.MethodName)) ∈ lw_all := lw_g (lw_at lw_m5 69 rfl) rfl
theorem q1093 : (Jvm.Cond.selects "GateRoad" ({ cls := "GateRoad", name := "passes", desc := "(II)I" } : Jvm.MethodName) ({ cls := "GateRoad", name := "passes", desc := "(II)I" } : Jvm.MethodName)) ∈ lw_all := lw_g (lw_at lw_m5 70 rfl) rfl
theorem q1094 : (Jvm.Cond.code ({ cls := "GateRoad", name := "passes", desc := "(II)I" } : Jvm.MethodName) prog_1_method_31_code (3 : Nat) (Option.some Jvm.ClassFile.FieldType.int)) ∈ lw_all := lw_g (lw_at lw_m5 71 rfl) rfl
theorem q1096 : (Jvm.Cond.instanceMethod ({ cls := "GateRoad", name := "sum", desc := "(II)J" } : Jvm.MethodName)) ∈ lw_all := lw_g (lw_at lw_m5 73 rfl) rfl
theorem q1097 : (Jvm.Cond.selects "GateRoad" ({ cls := "GateRoad", name := "sum", desc := "(II)J" } : Jvm.MethodName) ({ cls := "GateRoad", name := "sum", desc := "(II)J" } : Jvm.MethodName)) ∈ lw_all := lw_g (lw_at lw_m5 74 rfl) rfl
theorem q1098 : (Jvm.Cond.code ({ cls := "GateRoad", name := "sum", desc := "(II)J" } : Jvm.MethodName) prog_1_method_32_code (7 : Nat) (Option.some Jvm.ClassFile.FieldType.long)) ∈ lw_all := lw_g (lw_at lw_m5 75 rfl) rfl
theorem q1099 : (Jvm.Cond.constantLong "GateRoad" (259 : Nat) (-4611686018427387904 : Int64)) ∈ lw_all := lw_g (lw_at lw_m5 76 rfl) rfl
theorem q1100 : (Jvm.Cond.methodLink "GateRoad" (261 : Nat) ({ cls := "GateRoad", name := "whole", desc := "(LGateRoad$Way;)J" } : Jvm.MethodName)) ∈ lw_all := lw_g (lw_at lw_m5 77 rfl) rfl
theorem q1101 : (Jvm.Cond.privateMethod ({ cls := "GateRoad", name := "whole", desc := "(LGateRoad$Way;)J" } : Jvm.MethodName)) ∈ lw_tbl := lw_at lw_m5 78 rfl
theorem q1102 : (Jvm.Cond.instanceMethod ({ cls := "GateRoad", name := "whole", desc := "(LGateRoad$Way;)J" } : Jvm.MethodName)) ∈ lw_all := lw_g (lw_at lw_m5 79 rfl) rfl
theorem q1103 : (Jvm.Cond.code ({ cls := "GateRoad", name := "whole", desc := "(LGateRoad$Way;)J" } : Jvm.MethodName) prog_1_method_25_code (5 : Nat) (Option.some Jvm.ClassFile.FieldType.long)) ∈ lw_all := lw_g (lw_at lw_m5 80 rfl) rfl
theorem q1105 : (Jvm.Cond.instanceMethod ({ cls := "GateRoad", name := "judge", desc := "(II)I" } : Jvm.MethodName)) ∈ lw_all := lw_g (lw_at lw_m5 82 rfl) rfl
theorem q1106 : (Jvm.Cond.selects "GateRoad" ({ cls := "GateRoad", name := "judge", desc := "(II)I" } : Jvm.MethodName) ({ cls := "GateRoad", name := "judge", desc := "(II)I" } : Jvm.MethodName)) ∈ lw_all := lw_g (lw_at lw_m5 83 rfl) rfl
theorem q1107 : (Jvm.Cond.code ({ cls := "GateRoad", name := "judge", desc := "(II)I" } : Jvm.MethodName) prog_1_method_35_code (4 : Nat) (Option.some Jvm.ClassFile.FieldType.int)) ∈ lw_all := lw_g (lw_at lw_m5 84 rfl) rfl
theorem q1108 : (Jvm.Cond.constantLong "GateRoad" (275 : Nat) (2 : Int64)) ∈ lw_all := lw_g (lw_at lw_m5 85 rfl) rfl
theorem q1109 : (Jvm.Cond.methodLink "GateRoad" (277 : Nat) ({ cls := "GateRoad", name := "restless", desc := "(LGateRoad$Way;)I" } : Jvm.MethodName)) ∈ lw_all := lw_g (lw_at lw_m5 86 rfl) rfl
theorem q1110 : (Jvm.Cond.privateMethod ({ cls := "GateRoad", name := "restless", desc := "(LGateRoad$Way;)I" } : Jvm.MethodName)) ∈ lw_tbl := lw_at lw_m5 87 rfl
theorem q1111 : (Jvm.Cond.instanceMethod ({ cls := "GateRoad", name := "restless", desc := "(LGateRoad$Way;)I" } : Jvm.MethodName)) ∈ lw_all := lw_g (lw_at lw_m5 88 rfl) rfl
theorem q1112 : (Jvm.Cond.code ({ cls := "GateRoad", name := "restless", desc := "(LGateRoad$Way;)I" } : Jvm.MethodName) prog_1_method_34_code (3 : Nat) (Option.some Jvm.ClassFile.FieldType.int)) ∈ lw_all := lw_g (lw_at lw_m5 89 rfl) rfl
theorem q1113 : (Jvm.Cond.methodLink "GateRoad" (271 : Nat) ({ cls := "GateRoad", name := "betters", desc := "(LGateRoad$Way;I)Z" } : Jvm.MethodName)) ∈ lw_all := lw_g (lw_at lw_m5 90 rfl) rfl
theorem q1114 : (Jvm.Cond.privateMethod ({ cls := "GateRoad", name := "betters", desc := "(LGateRoad$Way;I)Z" } : Jvm.MethodName)) ∈ lw_tbl := lw_at lw_m5 91 rfl
theorem q1115 : (Jvm.Cond.instanceMethod ({ cls := "GateRoad", name := "betters", desc := "(LGateRoad$Way;I)Z" } : Jvm.MethodName)) ∈ lw_all := lw_g (lw_at lw_m5 92 rfl) rfl
theorem q1116 : (Jvm.Cond.codeWith ({ cls := "GateRoad", name := "betters", desc := "(LGateRoad$Way;I)Z" } : Jvm.MethodName) prog_1_method_33_code (9 : Nat) (Option.some Jvm.ClassFile.FieldType.boolean) [((29 : Nat), (96 : Nat), (107 : Nat), (0 : Nat)), ((107 : Nat), (109 : Nat), (107 : Nat), (0 : Nat))]) ∈ lw_all := lw_g (lw_at lw_m5 93 rfl) rfl
theorem q1118 : (Jvm.Cond.instanceMethod ({ cls := "GateRoad", name := "rest", desc := "(II)I" } : Jvm.MethodName)) ∈ lw_all := lw_g (lw_at lw_m5 95 rfl) rfl
theorem q1119 : (Jvm.Cond.selects "GateRoad" ({ cls := "GateRoad", name := "rest", desc := "(II)I" } : Jvm.MethodName) ({ cls := "GateRoad", name := "rest", desc := "(II)I" } : Jvm.MethodName)) ∈ lw_all := lw_g (lw_at lw_m5 96 rfl) rfl
theorem q1120 : (Jvm.Cond.code ({ cls := "GateRoad", name := "rest", desc := "(II)I" } : Jvm.MethodName) prog_1_method_37_code (3 : Nat) (Option.some Jvm.ClassFile.FieldType.int)) ∈ lw_all := lw_g (lw_at lw_m5 97 rfl) rfl
theorem q1121 : (Jvm.Cond.constantLong "GateRoad" (281 : Nat) (8 : Int64)) ∈ lw_all := lw_g (lw_at lw_m5 98 rfl) rfl
theorem q1122 : (Jvm.Cond.methodLink "GateRoad" (283 : Nat) ({ cls := "GateRoad", name := "moves", desc := "(LGateRoad$Way;I)I" } : Jvm.MethodName)) ∈ lw_all := lw_g (lw_at lw_m5 99 rfl) rfl
theorem q1123 : (Jvm.Cond.privateMethod ({ cls := "GateRoad", name := "moves", desc := "(LGateRoad$Way;I)I" } : Jvm.MethodName)) ∈ lw_tbl := lw_at lw_m5 100 rfl
theorem q1124 : (Jvm.Cond.instanceMethod ({ cls := "GateRoad", name := "moves", desc := "(LGateRoad$Way;I)I" } : Jvm.MethodName)) ∈ lw_all := lw_g (lw_at lw_m5 101 rfl) rfl
theorem q1125 : (Jvm.Cond.code ({ cls := "GateRoad", name := "moves", desc := "(LGateRoad$Way;I)I" } : Jvm.MethodName) prog_1_method_36_code (5 : Nat) (Option.some Jvm.ClassFile.FieldType.int)) ∈ lw_all := lw_g (lw_at lw_m5 102 rfl) rfl
theorem q1127 : (Jvm.Cond.instanceMethod ({ cls := "GateRoad", name := "other", desc := "(III)I" } : Jvm.MethodName)) ∈ lw_all := lw_g (lw_at lw_m5 104 rfl) rfl
theorem q1128 : (Jvm.Cond.selects "GateRoad" ({ cls := "GateRoad", name := "other", desc := "(III)I" } : Jvm.MethodName) ({ cls := "GateRoad", name := "other", desc := "(III)I" } : Jvm.MethodName)) ∈ lw_all := lw_g (lw_at lw_m5 105 rfl) rfl
theorem q1129 : (Jvm.Cond.code ({ cls := "GateRoad", name := "other", desc := "(III)I" } : Jvm.MethodName) prog_1_method_38_code (5 : Nat) (Option.some Jvm.ClassFile.FieldType.int)) ∈ lw_all := lw_g (lw_at lw_m5 106 rfl) rfl
theorem q1130 : (Jvm.Cond.methodLink "GateRoad" (286 : Nat) ({ cls := "GateRoad", name := "trial", desc := "(LGateRoad$Way;)LGateRoad$Way;" } : Jvm.MethodName)) ∈ lw_all := lw_g (lw_at lw_m5 107 rfl) rfl
theorem q1131 : (Jvm.Cond.privateMethod ({ cls := "GateRoad", name := "trial", desc := "(LGateRoad$Way;)LGateRoad$Way;" } : Jvm.MethodName)) ∈ lw_tbl := lw_at lw_m5 108 rfl
theorem q1132 : (Jvm.Cond.instanceMethod ({ cls := "GateRoad", name := "trial", desc := "(LGateRoad$Way;)LGateRoad$Way;" } : Jvm.MethodName)) ∈ lw_all := lw_g (lw_at lw_m5 109 rfl) rfl
theorem q1133 : (Jvm.Cond.code ({ cls := "GateRoad", name := "trial", desc := "(LGateRoad$Way;)LGateRoad$Way;" } : Jvm.MethodName) prog_1_method_39_code (3 : Nat) (Option.some (Jvm.ClassFile.FieldType.object "GateRoad$Way"))) ∈ lw_all := lw_g (lw_at lw_m5 110 rfl) rfl
theorem q1134 : (Jvm.Cond.methodLink "GateRoad" (290 : Nat) ({ cls := "GateRoad$Way", name := "be", desc := "(LGateRoad$Way;)V" } : Jvm.MethodName)) ∈ lw_all := lw_g (lw_at lw_m5 111 rfl) rfl
theorem q1146 : (Jvm.Cond.instanceMethod ({ cls := "GateRoad", name := "swap", desc := "(III)I" } : Jvm.MethodName)) ∈ lw_all := lw_g (lw_at lw_m5 123 rfl) rfl
theorem q1147 : (Jvm.Cond.selects "GateRoad" ({ cls := "GateRoad", name := "swap", desc := "(III)I" } : Jvm.MethodName) ({ cls := "GateRoad", name := "swap", desc := "(III)I" } : Jvm.MethodName)) ∈ lw_all := lw_g (lw_at lw_m5 124 rfl) rfl
theorem q1148 : (Jvm.Cond.code ({ cls := "GateRoad", name := "swap", desc := "(III)I" } : Jvm.MethodName) prog_1_method_40_code (8 : Nat) (Option.some Jvm.ClassFile.FieldType.int)) ∈ lw_all := lw_g (lw_at lw_m5 125 rfl) rfl
theorem q1150 : (Jvm.Cond.instanceMethod ({ cls := "GateRoad", name := "beside", desc := "(IIII)J" } : Jvm.MethodName)) ∈ lw_all := lw_g (lw_at lw_m5 127 rfl) rfl
theorem q1151 : (Jvm.Cond.selects "GateRoad" ({ cls := "GateRoad", name := "beside", desc := "(IIII)J" } : Jvm.MethodName) ({ cls := "GateRoad", name := "beside", desc := "(IIII)J" } : Jvm.MethodName)) ∈ lw_all := lw_g (lw_at lw_m5 128 rfl) rfl
theorem q1152 : (Jvm.Cond.codeWith ({ cls := "GateRoad", name := "beside", desc := "(IIII)J" } : Jvm.MethodName) prog_1_method_41_code (12 : Nat) (Option.some Jvm.ClassFile.FieldType.long) [((79 : Nat), (109 : Nat), (125 : Nat), (0 : Nat)), ((125 : Nat), (127 : Nat), (125 : Nat), (0 : Nat))]) ∈ lw_all := lw_g (lw_at lw_m5 129 rfl) rfl
theorem q1154 : (Jvm.Cond.instanceMethod ({ cls := "GateRoad", name := "sticks", desc := "(IIIII)J" } : Jvm.MethodName)) ∈ lw_all := lw_g (lw_at lw_m5 131 rfl) rfl
theorem q1155 : (Jvm.Cond.selects "GateRoad" ({ cls := "GateRoad", name := "sticks", desc := "(IIIII)J" } : Jvm.MethodName) ({ cls := "GateRoad", name := "sticks", desc := "(IIIII)J" } : Jvm.MethodName)) ∈ lw_all := lw_g (lw_at lw_m5 132 rfl) rfl
theorem q1156 : (Jvm.Cond.code ({ cls := "GateRoad", name := "sticks", desc := "(IIIII)J" } : Jvm.MethodName) prog_1_method_42_code (16 : Nat) (Option.some Jvm.ClassFile.FieldType.long)) ∈ lw_all := lw_g (lw_at lw_m5 133 rfl) rfl
theorem q1157 : (Jvm.Cond.constantLong "GateRoad" (293 : Nat) (10 : Int64)) ∈ lw_all := lw_g (lw_at lw_m5 134 rfl) rfl
theorem q1158 : (Jvm.Cond.methodLink "GateRoad" (295 : Nat) ({ cls := "GateRoad", name := "beside", desc := "(IIII)J" } : Jvm.MethodName)) ∈ lw_all := lw_g (lw_at lw_m5 135 rfl) rfl
theorem q1159 : (Jvm.Cond.methodLink "GateRoad" (299 : Nat) ({ cls := "java/lang/Math", name := "abs", desc := "(J)J" } : Jvm.MethodName)) ∈ lw_all := lw_g (lw_at lw_m5 136 rfl) rfl
theorem q1163 : (Jvm.Cond.instanceMethod ({ cls := "GateRoad", name := "shift", desc := "(II)J" } : Jvm.MethodName)) ∈ lw_all := lw_g (lw_at lw_m5 140 rfl) rfl
theorem q1164 : (Jvm.Cond.selects "GateRoad" ({ cls := "GateRoad", name := "shift", desc := "(II)J" } : Jvm.MethodName) ({ cls := "GateRoad", name := "shift", desc := "(II)J" } : Jvm.MethodName)) ∈ lw_all := lw_g (lw_at lw_m5 141 rfl) rfl
theorem q1165 : (Jvm.Cond.codeWith ({ cls := "GateRoad", name := "shift", desc := "(II)J" } : Jvm.MethodName) prog_1_method_43_code (7 : Nat) (Option.some Jvm.ClassFile.FieldType.long) [((42 : Nat), (117 : Nat), (131 : Nat), (0 : Nat)), ((131 : Nat), (133 : Nat), (131 : Nat), (0 : Nat))]) ∈ lw_all := lw_g (lw_at lw_m5 142 rfl) rfl
theorem q1166 : (Jvm.Cond.constantLong "GateRoad" (303 : Nat) (-23 : Int64)) ∈ lw_all := lw_g (lw_at lw_m5 143 rfl) rfl
theorem q1167 : (Jvm.Cond.methodLink "GateRoad" (305 : Nat) ({ cls := "java/lang/System", name := "arraycopy", desc := "(Ljava/lang/Object;ILjava/lang/Object;II)V" } : Jvm.MethodName)) ∈ lw_all := lw_g (lw_at lw_m5 144 rfl) rfl
theorem q1169 : (Jvm.Cond.instanceMethod ({ cls := "GateRoad", name := "finest", desc := "(IIII)I" } : Jvm.MethodName)) ∈ lw_all := lw_g (lw_at lw_m5 146 rfl) rfl
theorem q1170 : (Jvm.Cond.selects "GateRoad" ({ cls := "GateRoad", name := "finest", desc := "(IIII)I" } : Jvm.MethodName) ({ cls := "GateRoad", name := "finest", desc := "(IIII)I" } : Jvm.MethodName)) ∈ lw_all := lw_g (lw_at lw_m5 147 rfl) rfl
theorem q1171 : (Jvm.Cond.codeWith ({ cls := "GateRoad", name := "finest", desc := "(IIII)I" } : Jvm.MethodName) prog_1_method_44_code (16 : Nat) (Option.some Jvm.ClassFile.FieldType.int) [((58 : Nat), (220 : Nat), (236 : Nat), (0 : Nat)), ((236 : Nat), (238 : Nat), (236 : Nat), (0 : Nat))]) ∈ lw_all := lw_g (lw_at lw_m5 148 rfl) rfl
theorem q1173 : (Jvm.Cond.instanceMethod ({ cls := "GateRoad", name := "split", desc := "(IIII)J" } : Jvm.MethodName)) ∈ lw_all := lw_g (lw_at lw_m5 150 rfl) rfl
theorem q1174 : (Jvm.Cond.selects "GateRoad" ({ cls := "GateRoad", name := "split", desc := "(IIII)J" } : Jvm.MethodName) ({ cls := "GateRoad", name := "split", desc := "(IIII)J" } : Jvm.MethodName)) ∈ lw_all := lw_g (lw_at lw_m5 151 rfl) rfl
theorem q1175 : (Jvm.Cond.code ({ cls := "GateRoad", name := "split", desc := "(IIII)J" } : Jvm.MethodName) prog_1_method_45_code (12 : Nat) (Option.some Jvm.ClassFile.FieldType.long)) ∈ lw_all := lw_g (lw_at lw_m5 152 rfl) rfl
theorem q1177 : (Jvm.Cond.instanceMethod ({ cls := "GateRoad", name := "count", desc := "(I)I" } : Jvm.MethodName)) ∈ lw_all := lw_g (lw_at lw_m5 154 rfl) rfl
theorem q1178 : (Jvm.Cond.selects "GateRoad" ({ cls := "GateRoad", name := "count", desc := "(I)I" } : Jvm.MethodName) ({ cls := "GateRoad", name := "count", desc := "(I)I" } : Jvm.MethodName)) ∈ lw_all := lw_g (lw_at lw_m5 155 rfl) rfl
theorem q1179 : (Jvm.Cond.code ({ cls := "GateRoad", name := "count", desc := "(I)I" } : Jvm.MethodName) prog_1_method_46_code (2 : Nat) (Option.some Jvm.ClassFile.FieldType.int)) ∈ lw_all := lw_g (lw_at lw_m5 156 rfl) rfl
theorem q1181 : (Jvm.Cond.instanceMethod ({ cls := "GateRoad", name := "wishes", desc := "(II)I" } : Jvm.MethodName)) ∈ lw_all := lw_g (lw_at lw_m5 158 rfl) rfl
theorem q1182 : (Jvm.Cond.selects "GateRoad" ({ cls := "GateRoad", name := "wishes", desc := "(II)I" } : Jvm.MethodName) ({ cls := "GateRoad", name := "wishes", desc := "(II)I" } : Jvm.MethodName)) ∈ lw_all := lw_g (lw_at lw_m5 159 rfl) rfl
theorem q1183 : (Jvm.Cond.code ({ cls := "GateRoad", name := "wishes", desc := "(II)I" } : Jvm.MethodName) prog_1_method_47_code (4 : Nat) (Option.some Jvm.ClassFile.FieldType.int)) ∈ lw_all := lw_g (lw_at lw_m5 160 rfl) rfl
theorem q1185 : (Jvm.Cond.instanceMethod ({ cls := "GateRoad", name := "image", desc := "()I" } : Jvm.MethodName)) ∈ lw_all := lw_g (lw_at lw_m5 162 rfl) rfl
theorem q1186 : (Jvm.Cond.selects "GateRoad" ({ cls := "GateRoad", name := "image", desc := "()I" } : Jvm.MethodName) ({ cls := "GateRoad", name := "image", desc := "()I" } : Jvm.MethodName)) ∈ lw_all := lw_g (lw_at lw_m5 163 rfl) rfl
theorem q1187 : (Jvm.Cond.code ({ cls := "GateRoad", name := "image", desc := "()I" } : Jvm.MethodName) prog_1_method_48_code (2 : Nat) (Option.some Jvm.ClassFile.FieldType.int)) ∈ lw_all := lw_g (lw_at lw_m5 164 rfl) rfl
theorem q1189 : (Jvm.Cond.instanceMethod ({ cls := "GateRoad", name := "back", desc := "()I" } : Jvm.MethodName)) ∈ lw_all := lw_g (lw_at lw_m5 166 rfl) rfl
theorem q1190 : (Jvm.Cond.selects "GateRoad" ({ cls := "GateRoad", name := "back", desc := "()I" } : Jvm.MethodName) ({ cls := "GateRoad", name := "back", desc := "()I" } : Jvm.MethodName)) ∈ lw_all := lw_g (lw_at lw_m5 167 rfl) rfl
theorem q1191 : (Jvm.Cond.code ({ cls := "GateRoad", name := "back", desc := "()I" } : Jvm.MethodName) prog_1_method_49_code (2 : Nat) (Option.some Jvm.ClassFile.FieldType.int)) ∈ lw_all := lw_g (lw_at lw_m5 168 rfl) rfl
theorem q1193 : (Jvm.Cond.instanceMethod ({ cls := "GateRoad", name := "feed", desc := "(JI)I" } : Jvm.MethodName)) ∈ lw_all := lw_g (lw_at lw_m5 170 rfl) rfl
theorem q1194 : (Jvm.Cond.selects "GateRoad" ({ cls := "GateRoad", name := "feed", desc := "(JI)I" } : Jvm.MethodName) ({ cls := "GateRoad", name := "feed", desc := "(JI)I" } : Jvm.MethodName)) ∈ lw_all := lw_g (lw_at lw_m5 171 rfl) rfl
theorem q1195 : (Jvm.Cond.code ({ cls := "GateRoad", name := "feed", desc := "(JI)I" } : Jvm.MethodName) prog_1_method_51_code (5 : Nat) (Option.some Jvm.ClassFile.FieldType.int)) ∈ lw_all := lw_g (lw_at lw_m5 172 rfl) rfl
theorem q1197 : (Jvm.Cond.instanceMethod ({ cls := "GateRoad", name := "text", desc := "()I" } : Jvm.MethodName)) ∈ lw_all := lw_g (lw_at lw_m5 174 rfl) rfl
theorem q1198 : (Jvm.Cond.selects "GateRoad" ({ cls := "GateRoad", name := "text", desc := "()I" } : Jvm.MethodName) ({ cls := "GateRoad", name := "text", desc := "()I" } : Jvm.MethodName)) ∈ lw_all := lw_g (lw_at lw_m5 175 rfl) rfl
theorem q1199 : (Jvm.Cond.codeWith ({ cls := "GateRoad", name := "text", desc := "()I" } : Jvm.MethodName) prog_1_method_52_code (4 : Nat) (Option.some Jvm.ClassFile.FieldType.int) [((12 : Nat), (39 : Nat), (47 : Nat), (338 : Nat)), ((12 : Nat), (39 : Nat), (63 : Nat), (0 : Nat)), ((47 : Nat), (56 : Nat), (63 : Nat), (0 : Nat))]) ∈ lw_all := lw_g (lw_at lw_m5 176 rfl) rfl
theorem q1200 : (Jvm.Cond.classLink "GateRoad" (338 : Nat) "GateRoad$Fault") ∈ lw_all := lw_g (lw_at lw_m5 177 rfl) rfl
theorem q1202 : (Jvm.Cond.instanceMethod ({ cls := "GateRoad", name := "force", desc := "(I)I" } : Jvm.MethodName)) ∈ lw_all := lw_g (lw_at lw_m5 179 rfl) rfl
theorem q1203 : (Jvm.Cond.selects "GateRoad" ({ cls := "GateRoad", name := "force", desc := "(I)I" } : Jvm.MethodName) ({ cls := "GateRoad", name := "force", desc := "(I)I" } : Jvm.MethodName)) ∈ lw_all := lw_g (lw_at lw_m5 180 rfl) rfl
theorem q1204 : (Jvm.Cond.code ({ cls := "GateRoad", name := "force", desc := "(I)I" } : Jvm.MethodName) prog_1_method_53_code (3 : Nat) (Option.some Jvm.ClassFile.FieldType.int)) ∈ lw_all := lw_g (lw_at lw_m5 181 rfl) rfl
theorem q1206 : (Jvm.Cond.instanceMethod ({ cls := "GateRoad", name := "sheet", desc := "(III)I" } : Jvm.MethodName)) ∈ lw_all := lw_g (lw_at lw_m5 183 rfl) rfl
theorem q1207 : (Jvm.Cond.selects "GateRoad" ({ cls := "GateRoad", name := "sheet", desc := "(III)I" } : Jvm.MethodName) ({ cls := "GateRoad", name := "sheet", desc := "(III)I" } : Jvm.MethodName)) ∈ lw_all := lw_g (lw_at lw_m5 184 rfl) rfl
theorem q1208 : (Jvm.Cond.code ({ cls := "GateRoad", name := "sheet", desc := "(III)I" } : Jvm.MethodName) prog_1_method_57_code (4 : Nat) (Option.some Jvm.ClassFile.FieldType.int)) ∈ lw_all := lw_g (lw_at lw_m5 185 rfl) rfl
theorem q1209 : (Jvm.Cond.constantLong "GateRoad" (346 : Nat) (-1 : Int64)) ∈ lw_all := lw_g (lw_at lw_m5 186 rfl) rfl
theorem q1210 : (Jvm.Cond.methodLink "GateRoad" (348 : Nat) ({ cls := "java/util/Arrays", name := "fill", desc := "([II)V" } : Jvm.MethodName)) ∈ lw_all := lw_g (lw_at lw_m5 187 rfl) rfl
theorem q1214 : (Jvm.Cond.instanceMethod ({ cls := "GateRoad", name := "cell", desc := "(III)I" } : Jvm.MethodName)) ∈ lw_all := lw_g (lw_at lw_m5 191 rfl) rfl
theorem q1215 : (Jvm.Cond.selects "GateRoad" ({ cls := "GateRoad", name := "cell", desc := "(III)I" } : Jvm.MethodName) ({ cls := "GateRoad", name := "cell", desc := "(III)I" } : Jvm.MethodName)) ∈ lw_all := lw_g (lw_at lw_m5 192 rfl) rfl
theorem q1216 : (Jvm.Cond.codeWith ({ cls := "GateRoad", name := "cell", desc := "(III)I" } : Jvm.MethodName) prog_1_method_58_code (5 : Nat) (Option.some Jvm.ClassFile.FieldType.int) [((10 : Nat), (44 : Nat), (45 : Nat), (343 : Nat))]) ∈ lw_all := lw_g (lw_at lw_m5 193 rfl) rfl
theorem q1217 : (Jvm.Cond.classLink "GateRoad" (343 : Nat) "GateRoad$Odd") ∈ lw_all := lw_g (lw_at lw_m5 194 rfl) rfl
theorem q1218 : (Jvm.Cond.methodLink "GateRoad" (354 : Nat) ({ cls := "GateRoad", name := "there", desc := "(I)LGateRoad$Sheet;" } : Jvm.MethodName)) ∈ lw_all := lw_g (lw_at lw_m5 195 rfl) rfl
theorem q1219 : (Jvm.Cond.privateMethod ({ cls := "GateRoad", name := "there", desc := "(I)LGateRoad$Sheet;" } : Jvm.MethodName)) ∈ lw_tbl := lw_at lw_m5 196 rfl
theorem q1220 : (Jvm.Cond.instanceMethod ({ cls := "GateRoad", name := "there", desc := "(I)LGateRoad$Sheet;" } : Jvm.MethodName)) ∈ lw_all := lw_g (lw_at lw_m5 197 rfl) rfl
theorem q1221 : (Jvm.Cond.code ({ cls := "GateRoad", name := "there", desc := "(I)LGateRoad$Sheet;" } : Jvm.MethodName) prog_1_method_55_code (2 : Nat) (Option.some (Jvm.ClassFile.FieldType.object "GateRoad$Sheet"))) ∈ lw_all := lw_g (lw_at lw_m5 198 rfl) rfl
theorem q1230 : (Jvm.Cond.methodLink "GateRoad" (345 : Nat) ({ cls := "GateRoad$Odd", name := "<init>", desc := "(I)V" } : Jvm.MethodName)) ∈ lw_all := lw_g (lw_at lw_m5 207 rfl) rfl
theorem q1235 : (Jvm.Cond.fieldLink "GateRoad" (366 : Nat) "GateRoad$Odd" "code" "I") ∈ lw_all := lw_g (lw_at lw_m5 212 rfl) rfl
theorem q1240 : (Jvm.Cond.methodLink "GateRoad" (358 : Nat) ({ cls := "GateRoad", name := "need", desc := "(ZI)V" } : Jvm.MethodName)) ∈ lw_all := lw_g (lw_at lw_m5 217 rfl) rfl
theorem q1241 : (Jvm.Cond.static ({ cls := "GateRoad", name := "need", desc := "(ZI)V" } : Jvm.MethodName)) ∈ lw_all := lw_g (lw_at lw_m5 218 rfl) rfl
theorem q1242 : (Jvm.Cond.code ({ cls := "GateRoad", name := "need", desc := "(ZI)V" } : Jvm.MethodName) prog_1_method_56_code (2 : Nat) (Option.none : Option Jvm.ClassFile.FieldType)) ∈ lw_all := lw_g (lw_at lw_m5 219 rfl) rfl
theorem q1243 : (Jvm.Cond.methodLink "GateRoad" (362 : Nat) ({ cls := "GateRoad$Sheet", name := "put", desc := "(II)V" } : Jvm.MethodName)) ∈ lw_all := lw_g (lw_at lw_m5 220 rfl) rfl
theorem q1248 : (Jvm.Cond.instanceMethod ({ cls := "GateRoad", name := "copy", desc := "(IIIII)I" } : Jvm.MethodName)) ∈ lw_all := lw_g (lw_at lw_m5 225 rfl) rfl
theorem q1249 : (Jvm.Cond.selects "GateRoad" ({ cls := "GateRoad", name := "copy", desc := "(IIIII)I" } : Jvm.MethodName) ({ cls := "GateRoad", name := "copy", desc := "(IIIII)I" } : Jvm.MethodName)) ∈ lw_all := lw_g (lw_at lw_m5 226 rfl) rfl
theorem q1250 : (Jvm.Cond.codeWith ({ cls := "GateRoad", name := "copy", desc := "(IIIII)I" } : Jvm.MethodName) prog_1_method_59_code (8 : Nat) (Option.some Jvm.ClassFile.FieldType.int) [((17 : Nat), (123 : Nat), (124 : Nat), (343 : Nat))]) ∈ lw_all := lw_g (lw_at lw_m5 227 rfl) rfl
theorem q1252 : (Jvm.Cond.instanceMethod ({ cls := "GateRoad", name := "rates", desc := "(IIII)I" } : Jvm.MethodName)) ∈ lw_all := lw_g (lw_at lw_m5 229 rfl) rfl
theorem q1253 : (Jvm.Cond.selects "GateRoad" ({ cls := "GateRoad", name := "rates", desc := "(IIII)I" } : Jvm.MethodName) ({ cls := "GateRoad", name := "rates", desc := "(IIII)I" } : Jvm.MethodName)) ∈ lw_all := lw_g (lw_at lw_m5 230 rfl) rfl
theorem q1254 : (Jvm.Cond.codeWith ({ cls := "GateRoad", name := "rates", desc := "(IIII)I" } : Jvm.MethodName) prog_1_method_60_code (9 : Nat) (Option.some Jvm.ClassFile.FieldType.int) [((38 : Nat), (168 : Nat), (169 : Nat), (343 : Nat))]) ∈ lw_all := lw_g (lw_at lw_m5 231 rfl) rfl
theorem q1255 : (Jvm.Cond.methodLink "GateRoad" (369 : Nat) ({ cls := "GateRoad", name := "rate", desc := "(IIII)I" } : Jvm.MethodName)) ∈ lw_all := lw_g (lw_at lw_m5 232 rfl) rfl
theorem q1257 : (Jvm.Cond.instanceMethod ({ cls := "GateRoad", name := "taken", desc := "(II)I" } : Jvm.MethodName)) ∈ lw_all := lw_g (lw_at lw_m5 234 rfl) rfl
theorem q1258 : (Jvm.Cond.selects "GateRoad" ({ cls := "GateRoad", name := "taken", desc := "(II)I" } : Jvm.MethodName) ({ cls := "GateRoad", name := "taken", desc := "(II)I" } : Jvm.MethodName)) ∈ lw_all := lw_g (lw_at lw_m5 235 rfl) rfl
theorem q1259 : (Jvm.Cond.codeWith ({ cls := "GateRoad", name := "taken", desc := "(II)I" } : Jvm.MethodName) prog_1_method_61_code (5 : Nat) (Option.some Jvm.ClassFile.FieldType.int) [((15 : Nat), (104 : Nat), (128 : Nat), (343 : Nat)), ((105 : Nat), (127 : Nat), (128 : Nat), (343 : Nat))]) ∈ lw_all := lw_g (lw_at lw_m5 236 rfl) rfl
theorem q1260 : (Jvm.Cond.constantLong "GateRoad" (372 : Nat) (6 : Int64)) ∈ lw_all := lw_g (lw_at lw_m5 237 rfl) rfl
theorem q1261 : (Jvm.Cond.methodLink "GateRoad" (374 : Nat) ({ cls := "GateRoad", name := "isCart", desc := "(I)Z" } : Jvm.MethodName)) ∈ lw_all := lw_g (lw_at lw_m5 238 rfl) rfl
theorem q1262 : (Jvm.Cond.privateMethod ({ cls := "GateRoad", name := "isCart", desc := "(I)Z" } : Jvm.MethodName)) ∈ lw_tbl := lw_at lw_m5 239 rfl
theorem q1263 : (Jvm.Cond.instanceMethod ({ cls := "GateRoad", name := "isCart", desc := "(I)Z" } : Jvm.MethodName)) ∈ lw_all := lw_g (lw_at lw_m6 0 rfl) rfl
theorem q1264 : (Jvm.Cond.code ({ cls := "GateRoad", name := "isCart", desc := "(I)Z" } : Jvm.MethodName) prog_1_method_8_code (2 : Nat) (Option.some Jvm.ClassFile.FieldType.boolean)) ∈ lw_all := lw_g (lw_at lw_m6 1 rfl) rfl
theorem q1265 : (Jvm.Cond.classLink "GateRoad" (377 : Nat) "GateRoad$Slot") ∈ lw_all := lw_g (lw_at lw_m6 2 rfl) rfl
theorem q1267 : (Jvm.Cond.methodLink "GateRoad" (379 : Nat) ({ cls := "java/lang/Short", name := "valueOf", desc := "(S)Ljava/lang/Short;" } : Jvm.MethodName)) ∈ lw_all := lw_g (lw_at lw_m6 4 rfl) rfl
theorem q1285 : (Jvm.Cond.methodLink "GateRoad" (385 : Nat) ({ cls := "GateRoad$Slot", name := "<init>", desc := "(Ljava/lang/Object;)V" } : Jvm.MethodName)) ∈ lw_all := lw_g (lw_at lw_m6 22 rfl) rfl
theorem q1293 : (Jvm.Cond.methodLink "GateRoad" (388 : Nat) ({ cls := "GateRoad$Slot", name := "number", desc := "()I" } : Jvm.MethodName)) ∈ lw_all := lw_g (lw_at lw_m6 30 rfl) rfl
theorem q1304 : (Jvm.Cond.methodLink "GateRoad" (390 : Nat) ({ cls := "GateRoad$Slot", name := "way", desc := "()LGateRoad$Way;" } : Jvm.MethodName)) ∈ lw_all := lw_g (lw_at lw_m6 41 rfl) rfl
theorem q1309 : (Jvm.Cond.methodLink "GateRoad" (394 : Nat) ({ cls := "GateRoad", name := "isUnder", desc := "(LGateRoad$Way;I)Z" } : Jvm.MethodName)) ∈ lw_all := lw_g (lw_at lw_m6 46 rfl) rfl
theorem q1310 : (Jvm.Cond.static ({ cls := "GateRoad", name := "isUnder", desc := "(LGateRoad$Way;I)Z" } : Jvm.MethodName)) ∈ lw_all := lw_g (lw_at lw_m6 47 rfl) rfl
theorem q1311 : (Jvm.Cond.code ({ cls := "GateRoad", name := "isUnder", desc := "(LGateRoad$Way;I)Z" } : Jvm.MethodName) prog_1_method_3_code (2 : Nat) (Option.some Jvm.ClassFile.FieldType.boolean)) ∈ lw_all := lw_g (lw_at lw_m6 48 rfl) rfl
theorem q1784 : (Jvm.Cond.castable "GateRoad" "java/lang/Object") ∈ lw_tbl := lw_at lw_m8 41 rfl
theorem q1814 : (Jvm.Cond.stringRef "GateRoad" (397 : Nat) "cost") ∈ lw_tbl := lw_at lw_m8 71 rfl
theorem q1815 : (Jvm.Cond.stringRef "GateRoad" (398 : Nat) "lost") ∈ lw_tbl := lw_at lw_m8 72 rfl
theorem q1817 : (Jvm.Cond.stringRef "GateRoad" (404 : Nat) "wait") ∈ lw_tbl := lw_at lw_m8 74 rfl
theorem q1818 : (Jvm.Cond.stringRef "GateRoad" (406 : Nat) "early") ∈ lw_tbl := lw_at lw_m8 75 rfl
theorem q1819 : (Jvm.Cond.stringRef "GateRoad" (408 : Nat) "late") ∈ lw_tbl := lw_at lw_m8 76 rfl
theorem q1820 : (Jvm.Cond.stringRef "GateRoad" (410 : Nat) "minute") ∈ lw_tbl := lw_at lw_m8 77 rfl
theorem q1821 : (Jvm.Cond.stringRef "GateRoad" (412 : Nat) "sort") ∈ lw_tbl := lw_at lw_m8 78 rfl
theorem q1822 : (Jvm.Cond.stringRef "GateRoad" (413 : Nat) "toll") ∈ lw_tbl := lw_at lw_m8 79 rfl
theorem in_X0 : ∀ w ∈ wsX00, w ∈ lw_all := lw_in wsX00 [681, 683, 685, 687, 689, 691, 693, 695, 697, 699, 701, 703, 705, 707, 709, 711, 713, 715, 717, 719, 721, 723, 725, 727, 729, 731, 733, 735, 737, 739, 741, 743] (by decide +kernel) (by decide +kernel)
