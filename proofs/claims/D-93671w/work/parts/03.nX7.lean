/-! GateRoadModel -/
set_option maxRecDepth 100000
def RX7 : String := "GateRoadModel"
def TX7 : u_T := fun k => match k with
  | 0 => ("GateRoadModel", "rate", "[I", true)
  | 1 => ("GateRoadModel", "toll", "[I", true)
  | 2 => ("GateRoadModel", "sorts", "I", false)
  | 3 => ("GateRoadModel", "wished", "[I", true)
  | 4 => ("GateRoadModel", "stays", "[I", true)
  | 5 => ("GateRoadModel", "road", "[I", true)
  | 6 => ("GateRoadModel", "carts", "I", false)
  | 7 => ("GateRoadModel", "sortOf", "[I", true)
  | 8 => ("GateRoadModel", "ways", "I", false)
  | 9 => ("GateRoadModel", "kind", "[I", true)
  | 10 => ("GateRoadModel", "many", "[I", true)
  | 11 => ("GateRoadModel", "choice", "[I", true)
  | 12 => ("GateRoadModel", "tape", "[I", true)
  | 13 => ("GateRoadModel", "taped", "I", false)
  | 14 => ("GateRoadModel", "codes", "[I", true)
  | 15 => ("GateRoadModel", "starts", "[I", true)
  | 16 => ("GateRoadModel", "texts", "I", false)
  | 17 => ("GateRoadModel", "rule", "I", false)
  | 18 => ("GateRoadModel", "hasImage", "Z", false)
  | 19 => ("GateRoadModel", "imageSorts", "I", false)
  | 20 => ("GateRoadModel", "imageWays", "I", false)
  | 21 => ("GateRoadModel", "imageRule", "I", false)
  | 22 => ("GateRoadModel", "imageRate", "[I", true)
  | 23 => ("GateRoadModel", "imageToll", "[I", true)
  | 24 => ("GateRoadModel", "imageWished", "[I", true)
  | 25 => ("GateRoadModel", "imageChoice", "[I", true)
  | 26 => ("GateRoadModel", "sheetSort", "[I", true)
  | 27 => ("GateRoadModel", "sheetSize", "[I", true)
  | 28 => ("GateRoadModel", "cells", "[I", true)
  | 29 => ("GateRoadModel", "at", "I", false)
  | 30 => ("GateRoadModel", "begun", "I", false)
  | 31 => ("GateRoadModel", "token", "I", false)
  | 32 => ("GateRoadModel", "value", "I", false)
  | 33 => ("GateRoadModel", "words", "[J", true)
  | 34 => ("GateRoadModel", "held", "[I", true)
  | 35 => ("GateRoadModel", "heldMany", "I", false)
  | 36 => ("GateRoadModel", "opens", "I", false)
  | 37 => ("GateRoadModel", "out", "I", false)
  | 38 => ("GateRoadModel", "stack", "[I", true)
  | 39 => ("GateRoadModel", "named", "[I", true)
  | 40 => ("GateRoadModel", "now", "[I", true)
  | 41 => ("GateRoadModel", "came", "[I", true)
  | 42 => ("GateRoadModel", "passed", "[I", true)
  | 43 => ("GateRoadModel", "order", "[I", true)
  | 44 => ("GateRoadModel", "passMany", "I", false)
  | 45 => ("GateRoadModel", "restless", "I", false)
  | 46 => ("GateRoadModel", "better", "I", false)
  | 47 => ("GateRoadModel", "less", "I", false)
  | _ => ("GateRoadModel", "keptWished", "[I", true)
def tyX7 : Nat → FieldType := fun k => match k with
  | 0 => .array .int
  | 1 => .array .int
  | 2 => .int
  | 3 => .array .int
  | 4 => .array .int
  | 5 => .array .int
  | 6 => .int
  | 7 => .array .int
  | 8 => .int
  | 9 => .array .int
  | 10 => .array .int
  | 11 => .array .int
  | 12 => .array .int
  | 13 => .int
  | 14 => .array .int
  | 15 => .array .int
  | 16 => .int
  | 17 => .int
  | 18 => .boolean
  | 19 => .int
  | 20 => .int
  | 21 => .int
  | 22 => .array .int
  | 23 => .array .int
  | 24 => .array .int
  | 25 => .array .int
  | 26 => .array .int
  | 27 => .array .int
  | 28 => .array .int
  | 29 => .int
  | 30 => .int
  | 31 => .int
  | 32 => .int
  | 33 => .array .long
  | 34 => .array .int
  | 35 => .int
  | 36 => .int
  | 37 => .int
  | 38 => .array .int
  | 39 => .array .int
  | 40 => .array .int
  | 41 => .array .int
  | 42 => .array .int
  | 43 => .array .int
  | 44 => .int
  | 45 => .int
  | 46 => .int
  | 47 => .int
  | _ => .array .int
abbrev wsX70 : List Cond := u_ws RX7 TX7 49
set_option maxRecDepth 100000 in
theorem nmX7 : ∀ a, a < 49 → ∀ b, b < 49 → a ≠ b → (TX7 a).2.1 ≠ (TX7 b).2.1 := by decide +kernel
set_option maxRecDepth 100000 in
theorem tyX7_ok : ∀ k, k < 49 → parseFieldDescriptor (TX7 k).2.2.1 = some (tyX7 k) := by decide +kernel
abbrev cX7_init : ByteArray := prog_20_method_1_code
def yX7_init : MethodName := ⟨RX7, "<init>", "()V"⟩
def dkwX7_init_16 : List UInt8 := [182, 0, 122, 42, 180, 0, 43, 4, 16, 11, 79, 42, 180, 0, 43, 5, 16, 12, 79, 177]
abbrev dktX7_init_16 : List UInt8 := dkwX7_init_16 ++ []
def dkwX7_init_15 : List UInt8 := [182, 0, 122, 42, 7, 16, 16, 5, 18, 126, 16, 18, 182, 0, 122, 42, 16, 8, 16, 16, 8, 16, 16, 3]
abbrev dktX7_init_15 : List UInt8 := dkwX7_init_15 ++ dktX7_init_16
def dkwX7_init_14 : List UInt8 := [162, 0, 16, 42, 180, 0, 7, 27, 4, 79, 132, 1, 1, 167, 255, 240, 42, 3, 3, 18, 121, 16, 18, 4]
abbrev dktX7_init_14 : List UInt8 := dkwX7_init_14 ++ dktX7_init_15
def dkwX7_init_13 : List UInt8 := [181, 0, 112, 42, 16, 16, 188, 10, 181, 0, 115, 42, 7, 188, 10, 181, 0, 118, 3, 60, 27, 16, 48]
abbrev dktX7_init_13 : List UInt8 := dkwX7_init_13 ++ dktX7_init_14
def dkwX7_init_12 : List UInt8 := [181, 0, 103, 42, 16, 16, 188, 10, 181, 0, 106, 42, 16, 16, 188, 10, 181, 0, 109, 42, 16, 16, 188, 10]
abbrev dktX7_init_12 : List UInt8 := dkwX7_init_12 ++ dktX7_init_13
def dkwX7_init_11 : List UInt8 := [17, 0, 200, 188, 10, 181, 0, 97, 42, 17, 0, 200, 188, 10, 181, 0, 100, 42, 16, 6, 188, 10]
abbrev dktX7_init_11 : List UInt8 := dkwX7_init_11 ++ dktX7_init_12
def dkwX7_init_10 : List UInt8 := [20, 0, 87, 80, 89, 16, 9, 20, 0, 89, 80, 89, 16, 10, 20, 0, 91, 80, 181, 0, 93, 42]
abbrev dktX7_init_10 : List UInt8 := dkwX7_init_10 ++ dktX7_init_11
def dkwX7_init_9 : List UInt8 := [80, 89, 8, 20, 0, 81, 80, 89, 16, 6, 20, 0, 83, 80, 89, 16, 7, 20, 0, 85, 80, 89, 16, 8]
abbrev dktX7_init_9 : List UInt8 := dkwX7_init_9 ++ dktX7_init_10
def dkwX7_init_8 : List UInt8 := [80, 89, 4, 20, 0, 73, 80, 89, 5, 20, 0, 75, 80, 89, 6, 20, 0, 77, 80, 89, 7, 20, 0, 79]
abbrev dktX7_init_8 : List UInt8 := dkwX7_init_8 ++ dktX7_init_9
def dkwX7_init_7 : List UInt8 := [188, 10, 181, 0, 65, 42, 17, 0, 160, 188, 10, 181, 0, 68, 42, 16, 11, 188, 11, 89, 3, 20, 0, 71]
abbrev dktX7_init_7 : List UInt8 := dkwX7_init_7 ++ dktX7_init_8
def dkwX7_init_6 : List UInt8 := [188, 10, 89, 3, 2, 79, 89, 4, 2, 79, 89, 5, 2, 79, 89, 6, 2, 79, 181, 0, 62, 42, 7]
abbrev dktX7_init_6 : List UInt8 := dkwX7_init_6 ++ dktX7_init_7
def dkwX7_init_5 : List UInt8 := [188, 10, 181, 0, 53, 42, 7, 188, 10, 181, 0, 56, 42, 17, 0, 128, 188, 10, 181, 0, 59, 42, 7]
abbrev dktX7_init_5 : List UInt8 := dkwX7_init_5 ++ dktX7_init_6
def dkwX7_init_4 : List UInt8 := [16, 24, 188, 10, 181, 0, 43, 42, 4, 181, 0, 46, 42, 16, 48, 188, 10, 181, 0, 50, 42, 16, 48]
abbrev dktX7_init_4 : List UInt8 := dkwX7_init_4 ++ dktX7_init_5
def dkwX7_init_3 : List UInt8 := [188, 10, 181, 0, 34, 42, 17, 0, 160, 188, 10, 181, 0, 37, 42, 17, 4, 176, 188, 10, 181, 0, 40, 42]
abbrev dktX7_init_3 : List UInt8 := dkwX7_init_3 ++ dktX7_init_4
def dkwX7_init_2 : List UInt8 := [181, 0, 25, 42, 16, 8, 188, 10, 181, 0, 28, 42, 16, 8, 188, 10, 181, 0, 31, 42, 17, 0, 128]
abbrev dktX7_init_2 : List UInt8 := dkwX7_init_2 ++ dktX7_init_3
def dkwX7_init_1 : List UInt8 := [181, 0, 16, 42, 7, 188, 10, 181, 0, 19, 42, 16, 8, 188, 10, 181, 0, 22, 42, 16, 16, 188, 10]
abbrev dktX7_init_1 : List UInt8 := dkwX7_init_1 ++ dktX7_init_2
def dkwX7_init_0 : List UInt8 := [42, 183, 0, 1, 42, 16, 48, 188, 10, 181, 0, 7, 42, 16, 48, 188, 10, 181, 0, 13, 42, 7, 188, 10]
abbrev dktX7_init_0 : List UInt8 := dkwX7_init_0 ++ dktX7_init_1
theorem dksX7_init_0 : cX7_init.data.toList.drop 0 = dktX7_init_0 := by decide +kernel
theorem dksX7_init_1 : cX7_init.data.toList.drop 24 = dktX7_init_1 := dk_seg dksX7_init_0 24 rfl rfl
theorem dksX7_init_2 : cX7_init.data.toList.drop 47 = dktX7_init_2 := dk_seg dksX7_init_1 23 rfl rfl
theorem dksX7_init_3 : cX7_init.data.toList.drop 70 = dktX7_init_3 := dk_seg dksX7_init_2 23 rfl rfl
theorem dksX7_init_4 : cX7_init.data.toList.drop 94 = dktX7_init_4 := dk_seg dksX7_init_3 24 rfl rfl
theorem dksX7_init_5 : cX7_init.data.toList.drop 117 = dktX7_init_5 := dk_seg dksX7_init_4 23 rfl rfl
theorem dksX7_init_6 : cX7_init.data.toList.drop 140 = dktX7_init_6 := dk_seg dksX7_init_5 23 rfl rfl
theorem dksX7_init_7 : cX7_init.data.toList.drop 163 = dktX7_init_7 := dk_seg dksX7_init_6 23 rfl rfl
theorem dksX7_init_8 : cX7_init.data.toList.drop 187 = dktX7_init_8 := dk_seg dksX7_init_7 24 rfl rfl
theorem dksX7_init_9 : cX7_init.data.toList.drop 211 = dktX7_init_9 := dk_seg dksX7_init_8 24 rfl rfl
theorem dksX7_init_10 : cX7_init.data.toList.drop 235 = dktX7_init_10 := dk_seg dksX7_init_9 24 rfl rfl
theorem dksX7_init_11 : cX7_init.data.toList.drop 257 = dktX7_init_11 := dk_seg dksX7_init_10 22 rfl rfl
theorem dksX7_init_12 : cX7_init.data.toList.drop 279 = dktX7_init_12 := dk_seg dksX7_init_11 22 rfl rfl
theorem dksX7_init_13 : cX7_init.data.toList.drop 303 = dktX7_init_13 := dk_seg dksX7_init_12 24 rfl rfl
theorem dksX7_init_14 : cX7_init.data.toList.drop 326 = dktX7_init_14 := dk_seg dksX7_init_13 23 rfl rfl
theorem dksX7_init_15 : cX7_init.data.toList.drop 350 = dktX7_init_15 := dk_seg dksX7_init_14 24 rfl rfl
theorem dksX7_init_16 : cX7_init.data.toList.drop 374 = dktX7_init_16 := dk_seg dksX7_init_15 24 rfl rfl
theorem dX7_init_0 : decode cX7_init 0 = .ok (.aload_n 0, 1) := dk_42 (dk_at dksX7_init_0 0 rfl rfl)
theorem dX7_init_1 : decode cX7_init 1 = .ok (.invokespecial 1, 3) := dk_183 0 1 (dk_at dksX7_init_0 1 rfl rfl)
theorem dX7_init_4 : decode cX7_init 4 = .ok (.aload_n 0, 1) := dk_42 (dk_at dksX7_init_0 4 rfl rfl)
theorem dX7_init_5 : decode cX7_init 5 = .ok (.bipush 48, 2) := dk_16 48 (dk_at dksX7_init_0 5 rfl rfl)
theorem dX7_init_7 : decode cX7_init 7 = .ok (.newarray .int, 2) := dk_188_10 (dk_at dksX7_init_0 7 rfl rfl)
theorem dX7_init_9 : decode cX7_init 9 = .ok (.putfield 7, 3) := dk_181 0 7 (dk_at dksX7_init_0 9 rfl rfl)
theorem dX7_init_12 : decode cX7_init 12 = .ok (.aload_n 0, 1) := dk_42 (dk_at dksX7_init_0 12 rfl rfl)
theorem dX7_init_13 : decode cX7_init 13 = .ok (.bipush 48, 2) := dk_16 48 (dk_at dksX7_init_0 13 rfl rfl)
theorem dX7_init_15 : decode cX7_init 15 = .ok (.newarray .int, 2) := dk_188_10 (dk_at dksX7_init_0 15 rfl rfl)
theorem dX7_init_17 : decode cX7_init 17 = .ok (.putfield 13, 3) := dk_181 0 13 (dk_at dksX7_init_0 17 rfl rfl)
theorem dX7_init_20 : decode cX7_init 20 = .ok (.aload_n 0, 1) := dk_42 (dk_at dksX7_init_0 20 rfl rfl)
theorem dX7_init_21 : decode cX7_init 21 = .ok (.iconst 4, 1) := dk_7 (dk_at dksX7_init_0 21 rfl rfl)
theorem dX7_init_22 : decode cX7_init 22 = .ok (.newarray .int, 2) := dk_188_10 (dk_at dksX7_init_0 22 rfl rfl)
theorem dX7_init_24 : decode cX7_init 24 = .ok (.putfield 16, 3) := dk_181 0 16 (dk_at dksX7_init_1 0 rfl rfl)
theorem dX7_init_27 : decode cX7_init 27 = .ok (.aload_n 0, 1) := dk_42 (dk_at dksX7_init_1 3 rfl rfl)
theorem dX7_init_28 : decode cX7_init 28 = .ok (.iconst 4, 1) := dk_7 (dk_at dksX7_init_1 4 rfl rfl)
theorem dX7_init_29 : decode cX7_init 29 = .ok (.newarray .int, 2) := dk_188_10 (dk_at dksX7_init_1 5 rfl rfl)
theorem dX7_init_31 : decode cX7_init 31 = .ok (.putfield 19, 3) := dk_181 0 19 (dk_at dksX7_init_1 7 rfl rfl)
theorem dX7_init_34 : decode cX7_init 34 = .ok (.aload_n 0, 1) := dk_42 (dk_at dksX7_init_1 10 rfl rfl)
theorem dX7_init_35 : decode cX7_init 35 = .ok (.bipush 8, 2) := dk_16 8 (dk_at dksX7_init_1 11 rfl rfl)
theorem dX7_init_37 : decode cX7_init 37 = .ok (.newarray .int, 2) := dk_188_10 (dk_at dksX7_init_1 13 rfl rfl)
theorem dX7_init_39 : decode cX7_init 39 = .ok (.putfield 22, 3) := dk_181 0 22 (dk_at dksX7_init_1 15 rfl rfl)
theorem dX7_init_42 : decode cX7_init 42 = .ok (.aload_n 0, 1) := dk_42 (dk_at dksX7_init_1 18 rfl rfl)
theorem dX7_init_43 : decode cX7_init 43 = .ok (.bipush 16, 2) := dk_16 16 (dk_at dksX7_init_1 19 rfl rfl)
theorem dX7_init_45 : decode cX7_init 45 = .ok (.newarray .int, 2) := dk_188_10 (dk_at dksX7_init_1 21 rfl rfl)
theorem dX7_init_47 : decode cX7_init 47 = .ok (.putfield 25, 3) := dk_181 0 25 (dk_at dksX7_init_2 0 rfl rfl)
theorem dX7_init_50 : decode cX7_init 50 = .ok (.aload_n 0, 1) := dk_42 (dk_at dksX7_init_2 3 rfl rfl)
theorem dX7_init_51 : decode cX7_init 51 = .ok (.bipush 8, 2) := dk_16 8 (dk_at dksX7_init_2 4 rfl rfl)
theorem dX7_init_53 : decode cX7_init 53 = .ok (.newarray .int, 2) := dk_188_10 (dk_at dksX7_init_2 6 rfl rfl)
theorem dX7_init_55 : decode cX7_init 55 = .ok (.putfield 28, 3) := dk_181 0 28 (dk_at dksX7_init_2 8 rfl rfl)
theorem dX7_init_58 : decode cX7_init 58 = .ok (.aload_n 0, 1) := dk_42 (dk_at dksX7_init_2 11 rfl rfl)
theorem dX7_init_59 : decode cX7_init 59 = .ok (.bipush 8, 2) := dk_16 8 (dk_at dksX7_init_2 12 rfl rfl)
theorem dX7_init_61 : decode cX7_init 61 = .ok (.newarray .int, 2) := dk_188_10 (dk_at dksX7_init_2 14 rfl rfl)
theorem dX7_init_63 : decode cX7_init 63 = .ok (.putfield 31, 3) := dk_181 0 31 (dk_at dksX7_init_2 16 rfl rfl)
theorem dX7_init_66 : decode cX7_init 66 = .ok (.aload_n 0, 1) := dk_42 (dk_at dksX7_init_2 19 rfl rfl)
theorem dX7_init_67 : decode cX7_init 67 = .ok (.sipush 128, 3) := dk_17 0 128 (dk_at dksX7_init_2 20 rfl rfl)
theorem dX7_init_70 : decode cX7_init 70 = .ok (.newarray .int, 2) := dk_188_10 (dk_at dksX7_init_3 0 rfl rfl)
theorem dX7_init_72 : decode cX7_init 72 = .ok (.putfield 34, 3) := dk_181 0 34 (dk_at dksX7_init_3 2 rfl rfl)
theorem dX7_init_75 : decode cX7_init 75 = .ok (.aload_n 0, 1) := dk_42 (dk_at dksX7_init_3 5 rfl rfl)
theorem dX7_init_76 : decode cX7_init 76 = .ok (.sipush 160, 3) := dk_17 0 160 (dk_at dksX7_init_3 6 rfl rfl)
theorem dX7_init_79 : decode cX7_init 79 = .ok (.newarray .int, 2) := dk_188_10 (dk_at dksX7_init_3 9 rfl rfl)
theorem dX7_init_81 : decode cX7_init 81 = .ok (.putfield 37, 3) := dk_181 0 37 (dk_at dksX7_init_3 11 rfl rfl)
theorem dX7_init_84 : decode cX7_init 84 = .ok (.aload_n 0, 1) := dk_42 (dk_at dksX7_init_3 14 rfl rfl)
theorem dX7_init_85 : decode cX7_init 85 = .ok (.sipush 1200, 3) := dk_17 4 176 (dk_at dksX7_init_3 15 rfl rfl)
theorem dX7_init_88 : decode cX7_init 88 = .ok (.newarray .int, 2) := dk_188_10 (dk_at dksX7_init_3 18 rfl rfl)
theorem dX7_init_90 : decode cX7_init 90 = .ok (.putfield 40, 3) := dk_181 0 40 (dk_at dksX7_init_3 20 rfl rfl)
theorem dX7_init_93 : decode cX7_init 93 = .ok (.aload_n 0, 1) := dk_42 (dk_at dksX7_init_3 23 rfl rfl)
theorem dX7_init_94 : decode cX7_init 94 = .ok (.bipush 24, 2) := dk_16 24 (dk_at dksX7_init_4 0 rfl rfl)
theorem dX7_init_96 : decode cX7_init 96 = .ok (.newarray .int, 2) := dk_188_10 (dk_at dksX7_init_4 2 rfl rfl)
theorem dX7_init_98 : decode cX7_init 98 = .ok (.putfield 43, 3) := dk_181 0 43 (dk_at dksX7_init_4 4 rfl rfl)
theorem dX7_init_101 : decode cX7_init 101 = .ok (.aload_n 0, 1) := dk_42 (dk_at dksX7_init_4 7 rfl rfl)
theorem dX7_init_102 : decode cX7_init 102 = .ok (.iconst 1, 1) := dk_4 (dk_at dksX7_init_4 8 rfl rfl)
theorem dX7_init_103 : decode cX7_init 103 = .ok (.putfield 46, 3) := dk_181 0 46 (dk_at dksX7_init_4 9 rfl rfl)
theorem dX7_init_106 : decode cX7_init 106 = .ok (.aload_n 0, 1) := dk_42 (dk_at dksX7_init_4 12 rfl rfl)
theorem dX7_init_107 : decode cX7_init 107 = .ok (.bipush 48, 2) := dk_16 48 (dk_at dksX7_init_4 13 rfl rfl)
theorem dX7_init_109 : decode cX7_init 109 = .ok (.newarray .int, 2) := dk_188_10 (dk_at dksX7_init_4 15 rfl rfl)
theorem dX7_init_111 : decode cX7_init 111 = .ok (.putfield 50, 3) := dk_181 0 50 (dk_at dksX7_init_4 17 rfl rfl)
theorem dX7_init_114 : decode cX7_init 114 = .ok (.aload_n 0, 1) := dk_42 (dk_at dksX7_init_4 20 rfl rfl)
theorem dX7_init_115 : decode cX7_init 115 = .ok (.bipush 48, 2) := dk_16 48 (dk_at dksX7_init_4 21 rfl rfl)
theorem dX7_init_117 : decode cX7_init 117 = .ok (.newarray .int, 2) := dk_188_10 (dk_at dksX7_init_5 0 rfl rfl)
theorem dX7_init_119 : decode cX7_init 119 = .ok (.putfield 53, 3) := dk_181 0 53 (dk_at dksX7_init_5 2 rfl rfl)
theorem dX7_init_122 : decode cX7_init 122 = .ok (.aload_n 0, 1) := dk_42 (dk_at dksX7_init_5 5 rfl rfl)
theorem dX7_init_123 : decode cX7_init 123 = .ok (.iconst 4, 1) := dk_7 (dk_at dksX7_init_5 6 rfl rfl)
theorem dX7_init_124 : decode cX7_init 124 = .ok (.newarray .int, 2) := dk_188_10 (dk_at dksX7_init_5 7 rfl rfl)
theorem dX7_init_126 : decode cX7_init 126 = .ok (.putfield 56, 3) := dk_181 0 56 (dk_at dksX7_init_5 9 rfl rfl)
theorem dX7_init_129 : decode cX7_init 129 = .ok (.aload_n 0, 1) := dk_42 (dk_at dksX7_init_5 12 rfl rfl)
theorem dX7_init_130 : decode cX7_init 130 = .ok (.sipush 128, 3) := dk_17 0 128 (dk_at dksX7_init_5 13 rfl rfl)
theorem dX7_init_133 : decode cX7_init 133 = .ok (.newarray .int, 2) := dk_188_10 (dk_at dksX7_init_5 16 rfl rfl)
theorem dX7_init_135 : decode cX7_init 135 = .ok (.putfield 59, 3) := dk_181 0 59 (dk_at dksX7_init_5 18 rfl rfl)
theorem dX7_init_138 : decode cX7_init 138 = .ok (.aload_n 0, 1) := dk_42 (dk_at dksX7_init_5 21 rfl rfl)
theorem dX7_init_139 : decode cX7_init 139 = .ok (.iconst 4, 1) := dk_7 (dk_at dksX7_init_5 22 rfl rfl)
theorem dX7_init_140 : decode cX7_init 140 = .ok (.newarray .int, 2) := dk_188_10 (dk_at dksX7_init_6 0 rfl rfl)
theorem dX7_init_142 : decode cX7_init 142 = .ok (.dup, 1) := dk_89 (dk_at dksX7_init_6 2 rfl rfl)
theorem dX7_init_143 : decode cX7_init 143 = .ok (.iconst 0, 1) := dk_3 (dk_at dksX7_init_6 3 rfl rfl)
theorem dX7_init_144 : decode cX7_init 144 = .ok (.iconst (-1), 1) := dk_2 (dk_at dksX7_init_6 4 rfl rfl)
theorem dX7_init_145 : decode cX7_init 145 = .ok (.iastore, 1) := dk_79 (dk_at dksX7_init_6 5 rfl rfl)
theorem dX7_init_146 : decode cX7_init 146 = .ok (.dup, 1) := dk_89 (dk_at dksX7_init_6 6 rfl rfl)
theorem dX7_init_147 : decode cX7_init 147 = .ok (.iconst 1, 1) := dk_4 (dk_at dksX7_init_6 7 rfl rfl)
theorem dX7_init_148 : decode cX7_init 148 = .ok (.iconst (-1), 1) := dk_2 (dk_at dksX7_init_6 8 rfl rfl)
theorem dX7_init_149 : decode cX7_init 149 = .ok (.iastore, 1) := dk_79 (dk_at dksX7_init_6 9 rfl rfl)
theorem dX7_init_150 : decode cX7_init 150 = .ok (.dup, 1) := dk_89 (dk_at dksX7_init_6 10 rfl rfl)
theorem dX7_init_151 : decode cX7_init 151 = .ok (.iconst 2, 1) := dk_5 (dk_at dksX7_init_6 11 rfl rfl)
theorem dX7_init_152 : decode cX7_init 152 = .ok (.iconst (-1), 1) := dk_2 (dk_at dksX7_init_6 12 rfl rfl)
theorem dX7_init_153 : decode cX7_init 153 = .ok (.iastore, 1) := dk_79 (dk_at dksX7_init_6 13 rfl rfl)
theorem dX7_init_154 : decode cX7_init 154 = .ok (.dup, 1) := dk_89 (dk_at dksX7_init_6 14 rfl rfl)
theorem dX7_init_155 : decode cX7_init 155 = .ok (.iconst 3, 1) := dk_6 (dk_at dksX7_init_6 15 rfl rfl)
theorem dX7_init_156 : decode cX7_init 156 = .ok (.iconst (-1), 1) := dk_2 (dk_at dksX7_init_6 16 rfl rfl)
theorem dX7_init_157 : decode cX7_init 157 = .ok (.iastore, 1) := dk_79 (dk_at dksX7_init_6 17 rfl rfl)
theorem dX7_init_158 : decode cX7_init 158 = .ok (.putfield 62, 3) := dk_181 0 62 (dk_at dksX7_init_6 18 rfl rfl)
theorem dX7_init_161 : decode cX7_init 161 = .ok (.aload_n 0, 1) := dk_42 (dk_at dksX7_init_6 21 rfl rfl)
theorem dX7_init_162 : decode cX7_init 162 = .ok (.iconst 4, 1) := dk_7 (dk_at dksX7_init_6 22 rfl rfl)
theorem dX7_init_163 : decode cX7_init 163 = .ok (.newarray .int, 2) := dk_188_10 (dk_at dksX7_init_7 0 rfl rfl)
theorem dX7_init_165 : decode cX7_init 165 = .ok (.putfield 65, 3) := dk_181 0 65 (dk_at dksX7_init_7 2 rfl rfl)
theorem dX7_init_168 : decode cX7_init 168 = .ok (.aload_n 0, 1) := dk_42 (dk_at dksX7_init_7 5 rfl rfl)
theorem dX7_init_169 : decode cX7_init 169 = .ok (.sipush 160, 3) := dk_17 0 160 (dk_at dksX7_init_7 6 rfl rfl)
theorem dX7_init_172 : decode cX7_init 172 = .ok (.newarray .int, 2) := dk_188_10 (dk_at dksX7_init_7 9 rfl rfl)
theorem dX7_init_174 : decode cX7_init 174 = .ok (.putfield 68, 3) := dk_181 0 68 (dk_at dksX7_init_7 11 rfl rfl)
theorem dX7_init_177 : decode cX7_init 177 = .ok (.aload_n 0, 1) := dk_42 (dk_at dksX7_init_7 14 rfl rfl)
theorem dX7_init_178 : decode cX7_init 178 = .ok (.bipush 11, 2) := dk_16 11 (dk_at dksX7_init_7 15 rfl rfl)
theorem dX7_init_180 : decode cX7_init 180 = .ok (.newarray .long, 2) := dk_188_11 (dk_at dksX7_init_7 17 rfl rfl)
theorem dX7_init_182 : decode cX7_init 182 = .ok (.dup, 1) := dk_89 (dk_at dksX7_init_7 19 rfl rfl)
theorem dX7_init_183 : decode cX7_init 183 = .ok (.iconst 0, 1) := dk_3 (dk_at dksX7_init_7 20 rfl rfl)
theorem dX7_init_184 : decode cX7_init 184 = .ok (.ldc2_w 71, 3) := dk_20 0 71 (dk_at dksX7_init_7 21 rfl rfl)
theorem dX7_init_187 : decode cX7_init 187 = .ok (.lastore, 1) := dk_80 (dk_at dksX7_init_8 0 rfl rfl)
theorem dX7_init_188 : decode cX7_init 188 = .ok (.dup, 1) := dk_89 (dk_at dksX7_init_8 1 rfl rfl)
theorem dX7_init_189 : decode cX7_init 189 = .ok (.iconst 1, 1) := dk_4 (dk_at dksX7_init_8 2 rfl rfl)
theorem dX7_init_190 : decode cX7_init 190 = .ok (.ldc2_w 73, 3) := dk_20 0 73 (dk_at dksX7_init_8 3 rfl rfl)
theorem dX7_init_193 : decode cX7_init 193 = .ok (.lastore, 1) := dk_80 (dk_at dksX7_init_8 6 rfl rfl)
theorem dX7_init_194 : decode cX7_init 194 = .ok (.dup, 1) := dk_89 (dk_at dksX7_init_8 7 rfl rfl)
theorem dX7_init_195 : decode cX7_init 195 = .ok (.iconst 2, 1) := dk_5 (dk_at dksX7_init_8 8 rfl rfl)
theorem dX7_init_196 : decode cX7_init 196 = .ok (.ldc2_w 75, 3) := dk_20 0 75 (dk_at dksX7_init_8 9 rfl rfl)
theorem dX7_init_199 : decode cX7_init 199 = .ok (.lastore, 1) := dk_80 (dk_at dksX7_init_8 12 rfl rfl)
theorem dX7_init_200 : decode cX7_init 200 = .ok (.dup, 1) := dk_89 (dk_at dksX7_init_8 13 rfl rfl)
theorem dX7_init_201 : decode cX7_init 201 = .ok (.iconst 3, 1) := dk_6 (dk_at dksX7_init_8 14 rfl rfl)
theorem dX7_init_202 : decode cX7_init 202 = .ok (.ldc2_w 77, 3) := dk_20 0 77 (dk_at dksX7_init_8 15 rfl rfl)
theorem dX7_init_205 : decode cX7_init 205 = .ok (.lastore, 1) := dk_80 (dk_at dksX7_init_8 18 rfl rfl)
theorem dX7_init_206 : decode cX7_init 206 = .ok (.dup, 1) := dk_89 (dk_at dksX7_init_8 19 rfl rfl)
theorem dX7_init_207 : decode cX7_init 207 = .ok (.iconst 4, 1) := dk_7 (dk_at dksX7_init_8 20 rfl rfl)
theorem dX7_init_208 : decode cX7_init 208 = .ok (.ldc2_w 79, 3) := dk_20 0 79 (dk_at dksX7_init_8 21 rfl rfl)
theorem dX7_init_211 : decode cX7_init 211 = .ok (.lastore, 1) := dk_80 (dk_at dksX7_init_9 0 rfl rfl)
theorem dX7_init_212 : decode cX7_init 212 = .ok (.dup, 1) := dk_89 (dk_at dksX7_init_9 1 rfl rfl)
theorem dX7_init_213 : decode cX7_init 213 = .ok (.iconst 5, 1) := dk_8 (dk_at dksX7_init_9 2 rfl rfl)
theorem dX7_init_214 : decode cX7_init 214 = .ok (.ldc2_w 81, 3) := dk_20 0 81 (dk_at dksX7_init_9 3 rfl rfl)
theorem dX7_init_217 : decode cX7_init 217 = .ok (.lastore, 1) := dk_80 (dk_at dksX7_init_9 6 rfl rfl)
theorem dX7_init_218 : decode cX7_init 218 = .ok (.dup, 1) := dk_89 (dk_at dksX7_init_9 7 rfl rfl)
theorem dX7_init_219 : decode cX7_init 219 = .ok (.bipush 6, 2) := dk_16 6 (dk_at dksX7_init_9 8 rfl rfl)
theorem dX7_init_221 : decode cX7_init 221 = .ok (.ldc2_w 83, 3) := dk_20 0 83 (dk_at dksX7_init_9 10 rfl rfl)
theorem dX7_init_224 : decode cX7_init 224 = .ok (.lastore, 1) := dk_80 (dk_at dksX7_init_9 13 rfl rfl)
theorem dX7_init_225 : decode cX7_init 225 = .ok (.dup, 1) := dk_89 (dk_at dksX7_init_9 14 rfl rfl)
theorem dX7_init_226 : decode cX7_init 226 = .ok (.bipush 7, 2) := dk_16 7 (dk_at dksX7_init_9 15 rfl rfl)
theorem dX7_init_228 : decode cX7_init 228 = .ok (.ldc2_w 85, 3) := dk_20 0 85 (dk_at dksX7_init_9 17 rfl rfl)
theorem dX7_init_231 : decode cX7_init 231 = .ok (.lastore, 1) := dk_80 (dk_at dksX7_init_9 20 rfl rfl)
theorem dX7_init_232 : decode cX7_init 232 = .ok (.dup, 1) := dk_89 (dk_at dksX7_init_9 21 rfl rfl)
theorem dX7_init_233 : decode cX7_init 233 = .ok (.bipush 8, 2) := dk_16 8 (dk_at dksX7_init_9 22 rfl rfl)
theorem dX7_init_235 : decode cX7_init 235 = .ok (.ldc2_w 87, 3) := dk_20 0 87 (dk_at dksX7_init_10 0 rfl rfl)
theorem dX7_init_238 : decode cX7_init 238 = .ok (.lastore, 1) := dk_80 (dk_at dksX7_init_10 3 rfl rfl)
theorem dX7_init_239 : decode cX7_init 239 = .ok (.dup, 1) := dk_89 (dk_at dksX7_init_10 4 rfl rfl)
theorem dX7_init_240 : decode cX7_init 240 = .ok (.bipush 9, 2) := dk_16 9 (dk_at dksX7_init_10 5 rfl rfl)
theorem dX7_init_242 : decode cX7_init 242 = .ok (.ldc2_w 89, 3) := dk_20 0 89 (dk_at dksX7_init_10 7 rfl rfl)
theorem dX7_init_245 : decode cX7_init 245 = .ok (.lastore, 1) := dk_80 (dk_at dksX7_init_10 10 rfl rfl)
theorem dX7_init_246 : decode cX7_init 246 = .ok (.dup, 1) := dk_89 (dk_at dksX7_init_10 11 rfl rfl)
theorem dX7_init_247 : decode cX7_init 247 = .ok (.bipush 10, 2) := dk_16 10 (dk_at dksX7_init_10 12 rfl rfl)
theorem dX7_init_249 : decode cX7_init 249 = .ok (.ldc2_w 91, 3) := dk_20 0 91 (dk_at dksX7_init_10 14 rfl rfl)
theorem dX7_init_252 : decode cX7_init 252 = .ok (.lastore, 1) := dk_80 (dk_at dksX7_init_10 17 rfl rfl)
theorem dX7_init_253 : decode cX7_init 253 = .ok (.putfield 93, 3) := dk_181 0 93 (dk_at dksX7_init_10 18 rfl rfl)
theorem dX7_init_256 : decode cX7_init 256 = .ok (.aload_n 0, 1) := dk_42 (dk_at dksX7_init_10 21 rfl rfl)
theorem dX7_init_257 : decode cX7_init 257 = .ok (.sipush 200, 3) := dk_17 0 200 (dk_at dksX7_init_11 0 rfl rfl)
theorem dX7_init_260 : decode cX7_init 260 = .ok (.newarray .int, 2) := dk_188_10 (dk_at dksX7_init_11 3 rfl rfl)
theorem dX7_init_262 : decode cX7_init 262 = .ok (.putfield 97, 3) := dk_181 0 97 (dk_at dksX7_init_11 5 rfl rfl)
theorem dX7_init_265 : decode cX7_init 265 = .ok (.aload_n 0, 1) := dk_42 (dk_at dksX7_init_11 8 rfl rfl)
theorem dX7_init_266 : decode cX7_init 266 = .ok (.sipush 200, 3) := dk_17 0 200 (dk_at dksX7_init_11 9 rfl rfl)
theorem dX7_init_269 : decode cX7_init 269 = .ok (.newarray .int, 2) := dk_188_10 (dk_at dksX7_init_11 12 rfl rfl)
theorem dX7_init_271 : decode cX7_init 271 = .ok (.putfield 100, 3) := dk_181 0 100 (dk_at dksX7_init_11 14 rfl rfl)
theorem dX7_init_274 : decode cX7_init 274 = .ok (.aload_n 0, 1) := dk_42 (dk_at dksX7_init_11 17 rfl rfl)
theorem dX7_init_275 : decode cX7_init 275 = .ok (.bipush 6, 2) := dk_16 6 (dk_at dksX7_init_11 18 rfl rfl)
theorem dX7_init_277 : decode cX7_init 277 = .ok (.newarray .int, 2) := dk_188_10 (dk_at dksX7_init_11 20 rfl rfl)
theorem dX7_init_279 : decode cX7_init 279 = .ok (.putfield 103, 3) := dk_181 0 103 (dk_at dksX7_init_12 0 rfl rfl)
theorem dX7_init_282 : decode cX7_init 282 = .ok (.aload_n 0, 1) := dk_42 (dk_at dksX7_init_12 3 rfl rfl)
theorem dX7_init_283 : decode cX7_init 283 = .ok (.bipush 16, 2) := dk_16 16 (dk_at dksX7_init_12 4 rfl rfl)
theorem dX7_init_285 : decode cX7_init 285 = .ok (.newarray .int, 2) := dk_188_10 (dk_at dksX7_init_12 6 rfl rfl)
theorem dX7_init_287 : decode cX7_init 287 = .ok (.putfield 106, 3) := dk_181 0 106 (dk_at dksX7_init_12 8 rfl rfl)
theorem dX7_init_290 : decode cX7_init 290 = .ok (.aload_n 0, 1) := dk_42 (dk_at dksX7_init_12 11 rfl rfl)
theorem dX7_init_291 : decode cX7_init 291 = .ok (.bipush 16, 2) := dk_16 16 (dk_at dksX7_init_12 12 rfl rfl)
theorem dX7_init_293 : decode cX7_init 293 = .ok (.newarray .int, 2) := dk_188_10 (dk_at dksX7_init_12 14 rfl rfl)
theorem dX7_init_295 : decode cX7_init 295 = .ok (.putfield 109, 3) := dk_181 0 109 (dk_at dksX7_init_12 16 rfl rfl)
theorem dX7_init_298 : decode cX7_init 298 = .ok (.aload_n 0, 1) := dk_42 (dk_at dksX7_init_12 19 rfl rfl)
theorem dX7_init_299 : decode cX7_init 299 = .ok (.bipush 16, 2) := dk_16 16 (dk_at dksX7_init_12 20 rfl rfl)
theorem dX7_init_301 : decode cX7_init 301 = .ok (.newarray .int, 2) := dk_188_10 (dk_at dksX7_init_12 22 rfl rfl)
theorem dX7_init_303 : decode cX7_init 303 = .ok (.putfield 112, 3) := dk_181 0 112 (dk_at dksX7_init_13 0 rfl rfl)
theorem dX7_init_306 : decode cX7_init 306 = .ok (.aload_n 0, 1) := dk_42 (dk_at dksX7_init_13 3 rfl rfl)
theorem dX7_init_307 : decode cX7_init 307 = .ok (.bipush 16, 2) := dk_16 16 (dk_at dksX7_init_13 4 rfl rfl)
theorem dX7_init_309 : decode cX7_init 309 = .ok (.newarray .int, 2) := dk_188_10 (dk_at dksX7_init_13 6 rfl rfl)
theorem dX7_init_311 : decode cX7_init 311 = .ok (.putfield 115, 3) := dk_181 0 115 (dk_at dksX7_init_13 8 rfl rfl)
theorem dX7_init_314 : decode cX7_init 314 = .ok (.aload_n 0, 1) := dk_42 (dk_at dksX7_init_13 11 rfl rfl)
theorem dX7_init_315 : decode cX7_init 315 = .ok (.iconst 4, 1) := dk_7 (dk_at dksX7_init_13 12 rfl rfl)
theorem dX7_init_316 : decode cX7_init 316 = .ok (.newarray .int, 2) := dk_188_10 (dk_at dksX7_init_13 13 rfl rfl)
theorem dX7_init_318 : decode cX7_init 318 = .ok (.putfield 118, 3) := dk_181 0 118 (dk_at dksX7_init_13 15 rfl rfl)
theorem dX7_init_321 : decode cX7_init 321 = .ok (.iconst 0, 1) := dk_3 (dk_at dksX7_init_13 18 rfl rfl)
theorem dX7_init_322 : decode cX7_init 322 = .ok (.istore_n 1, 1) := dk_60 (dk_at dksX7_init_13 19 rfl rfl)
theorem dX7_init_323 : decode cX7_init 323 = .ok (.iload_n 1, 1) := dk_27 (dk_at dksX7_init_13 20 rfl rfl)
theorem dX7_init_324 : decode cX7_init 324 = .ok (.bipush 48, 2) := dk_16 48 (dk_at dksX7_init_13 21 rfl rfl)
theorem dX7_init_326 : decode cX7_init 326 = .ok (.if_icmp .ge 16, 3) := dk_162 0 16 (dk_at dksX7_init_14 0 rfl rfl)
theorem dX7_init_329 : decode cX7_init 329 = .ok (.aload_n 0, 1) := dk_42 (dk_at dksX7_init_14 3 rfl rfl)
theorem dX7_init_330 : decode cX7_init 330 = .ok (.getfield 7, 3) := dk_180 0 7 (dk_at dksX7_init_14 4 rfl rfl)
theorem dX7_init_333 : decode cX7_init 333 = .ok (.iload_n 1, 1) := dk_27 (dk_at dksX7_init_14 7 rfl rfl)
theorem dX7_init_334 : decode cX7_init 334 = .ok (.iconst 1, 1) := dk_4 (dk_at dksX7_init_14 8 rfl rfl)
theorem dX7_init_335 : decode cX7_init 335 = .ok (.iastore, 1) := dk_79 (dk_at dksX7_init_14 9 rfl rfl)
theorem dX7_init_336 : decode cX7_init 336 = .ok (.iinc 1 1, 3) := dk_132 1 1 (dk_at dksX7_init_14 10 rfl rfl)
theorem dX7_init_339 : decode cX7_init 339 = .ok (.goto (-16), 3) := dk_167 255 240 (dk_at dksX7_init_14 13 rfl rfl)
theorem dX7_init_342 : decode cX7_init 342 = .ok (.aload_n 0, 1) := dk_42 (dk_at dksX7_init_14 16 rfl rfl)
theorem dX7_init_343 : decode cX7_init 343 = .ok (.iconst 0, 1) := dk_3 (dk_at dksX7_init_14 17 rfl rfl)
theorem dX7_init_344 : decode cX7_init 344 = .ok (.iconst 0, 1) := dk_3 (dk_at dksX7_init_14 18 rfl rfl)
theorem dX7_init_345 : decode cX7_init 345 = .ok (.ldc 121, 2) := dk_18 121 (dk_at dksX7_init_14 19 rfl rfl)
theorem dX7_init_347 : decode cX7_init 347 = .ok (.bipush 18, 2) := dk_16 18 (dk_at dksX7_init_14 21 rfl rfl)
theorem dX7_init_349 : decode cX7_init 349 = .ok (.iconst 1, 1) := dk_4 (dk_at dksX7_init_14 23 rfl rfl)
theorem dX7_init_350 : decode cX7_init 350 = .ok (.invokevirtual 122, 3) := dk_182 0 122 (dk_at dksX7_init_15 0 rfl rfl)
theorem dX7_init_353 : decode cX7_init 353 = .ok (.aload_n 0, 1) := dk_42 (dk_at dksX7_init_15 3 rfl rfl)
theorem dX7_init_354 : decode cX7_init 354 = .ok (.iconst 4, 1) := dk_7 (dk_at dksX7_init_15 4 rfl rfl)
theorem dX7_init_355 : decode cX7_init 355 = .ok (.bipush 16, 2) := dk_16 16 (dk_at dksX7_init_15 5 rfl rfl)
theorem dX7_init_357 : decode cX7_init 357 = .ok (.iconst 2, 1) := dk_5 (dk_at dksX7_init_15 7 rfl rfl)
theorem dX7_init_358 : decode cX7_init 358 = .ok (.ldc 126, 2) := dk_18 126 (dk_at dksX7_init_15 8 rfl rfl)
theorem dX7_init_360 : decode cX7_init 360 = .ok (.bipush 18, 2) := dk_16 18 (dk_at dksX7_init_15 10 rfl rfl)
theorem dX7_init_362 : decode cX7_init 362 = .ok (.invokevirtual 122, 3) := dk_182 0 122 (dk_at dksX7_init_15 12 rfl rfl)
theorem dX7_init_365 : decode cX7_init 365 = .ok (.aload_n 0, 1) := dk_42 (dk_at dksX7_init_15 15 rfl rfl)
theorem dX7_init_366 : decode cX7_init 366 = .ok (.bipush 8, 2) := dk_16 8 (dk_at dksX7_init_15 16 rfl rfl)
theorem dX7_init_368 : decode cX7_init 368 = .ok (.bipush 16, 2) := dk_16 16 (dk_at dksX7_init_15 18 rfl rfl)
theorem dX7_init_370 : decode cX7_init 370 = .ok (.iconst 5, 1) := dk_8 (dk_at dksX7_init_15 20 rfl rfl)
theorem dX7_init_371 : decode cX7_init 371 = .ok (.bipush 16, 2) := dk_16 16 (dk_at dksX7_init_15 21 rfl rfl)
theorem dX7_init_373 : decode cX7_init 373 = .ok (.iconst 0, 1) := dk_3 (dk_at dksX7_init_15 23 rfl rfl)
theorem dX7_init_374 : decode cX7_init 374 = .ok (.invokevirtual 122, 3) := dk_182 0 122 (dk_at dksX7_init_16 0 rfl rfl)
theorem dX7_init_377 : decode cX7_init 377 = .ok (.aload_n 0, 1) := dk_42 (dk_at dksX7_init_16 3 rfl rfl)
theorem dX7_init_378 : decode cX7_init 378 = .ok (.getfield 43, 3) := dk_180 0 43 (dk_at dksX7_init_16 4 rfl rfl)
theorem dX7_init_381 : decode cX7_init 381 = .ok (.iconst 1, 1) := dk_4 (dk_at dksX7_init_16 7 rfl rfl)
theorem dX7_init_382 : decode cX7_init 382 = .ok (.bipush 11, 2) := dk_16 11 (dk_at dksX7_init_16 8 rfl rfl)
theorem dX7_init_384 : decode cX7_init 384 = .ok (.iastore, 1) := dk_79 (dk_at dksX7_init_16 10 rfl rfl)
theorem dX7_init_385 : decode cX7_init 385 = .ok (.aload_n 0, 1) := dk_42 (dk_at dksX7_init_16 11 rfl rfl)
theorem dX7_init_386 : decode cX7_init 386 = .ok (.getfield 43, 3) := dk_180 0 43 (dk_at dksX7_init_16 12 rfl rfl)
theorem dX7_init_389 : decode cX7_init 389 = .ok (.iconst 2, 1) := dk_5 (dk_at dksX7_init_16 15 rfl rfl)
theorem dX7_init_390 : decode cX7_init 390 = .ok (.bipush 12, 2) := dk_16 12 (dk_at dksX7_init_16 16 rfl rfl)
theorem dX7_init_392 : decode cX7_init 392 = .ok (.iastore, 1) := dk_79 (dk_at dksX7_init_16 18 rfl rfl)
theorem dX7_init_393 : decode cX7_init 393 = .ok (.return_, 1) := dk_177 (dk_at dksX7_init_16 19 rfl rfl)
abbrev cX7_first : ByteArray := prog_20_method_2_code
def yX7_first : MethodName := ⟨RX7, "first", "(IIIII)V"⟩
def dkwX7_first_1 : List UInt8 := [21, 4, 79, 42, 180, 0, 40, 27, 6, 96, 21, 5, 79, 177]
abbrev dktX7_first_1 : List UInt8 := dkwX7_first_1 ++ []
def dkwX7_first_0 : List UInt8 := [42, 180, 0, 40, 27, 28, 79, 42, 180, 0, 40, 27, 4, 96, 29, 79, 42, 180, 0, 40, 27, 5, 96]
abbrev dktX7_first_0 : List UInt8 := dkwX7_first_0 ++ dktX7_first_1
theorem dksX7_first_0 : cX7_first.data.toList.drop 0 = dktX7_first_0 := by decide +kernel
theorem dksX7_first_1 : cX7_first.data.toList.drop 23 = dktX7_first_1 := dk_seg dksX7_first_0 23 rfl rfl
theorem dX7_first_0 : decode cX7_first 0 = .ok (.aload_n 0, 1) := dk_42 (dk_at dksX7_first_0 0 rfl rfl)
theorem dX7_first_1 : decode cX7_first 1 = .ok (.getfield 40, 3) := dk_180 0 40 (dk_at dksX7_first_0 1 rfl rfl)
theorem dX7_first_4 : decode cX7_first 4 = .ok (.iload_n 1, 1) := dk_27 (dk_at dksX7_first_0 4 rfl rfl)
theorem dX7_first_5 : decode cX7_first 5 = .ok (.iload_n 2, 1) := dk_28 (dk_at dksX7_first_0 5 rfl rfl)
theorem dX7_first_6 : decode cX7_first 6 = .ok (.iastore, 1) := dk_79 (dk_at dksX7_first_0 6 rfl rfl)
theorem dX7_first_7 : decode cX7_first 7 = .ok (.aload_n 0, 1) := dk_42 (dk_at dksX7_first_0 7 rfl rfl)
theorem dX7_first_8 : decode cX7_first 8 = .ok (.getfield 40, 3) := dk_180 0 40 (dk_at dksX7_first_0 8 rfl rfl)
theorem dX7_first_11 : decode cX7_first 11 = .ok (.iload_n 1, 1) := dk_27 (dk_at dksX7_first_0 11 rfl rfl)
theorem dX7_first_12 : decode cX7_first 12 = .ok (.iconst 1, 1) := dk_4 (dk_at dksX7_first_0 12 rfl rfl)
theorem dX7_first_13 : decode cX7_first 13 = .ok (.iadd, 1) := dk_96 (dk_at dksX7_first_0 13 rfl rfl)
theorem dX7_first_14 : decode cX7_first 14 = .ok (.iload_n 3, 1) := dk_29 (dk_at dksX7_first_0 14 rfl rfl)
theorem dX7_first_15 : decode cX7_first 15 = .ok (.iastore, 1) := dk_79 (dk_at dksX7_first_0 15 rfl rfl)
theorem dX7_first_16 : decode cX7_first 16 = .ok (.aload_n 0, 1) := dk_42 (dk_at dksX7_first_0 16 rfl rfl)
theorem dX7_first_17 : decode cX7_first 17 = .ok (.getfield 40, 3) := dk_180 0 40 (dk_at dksX7_first_0 17 rfl rfl)
theorem dX7_first_20 : decode cX7_first 20 = .ok (.iload_n 1, 1) := dk_27 (dk_at dksX7_first_0 20 rfl rfl)
theorem dX7_first_21 : decode cX7_first 21 = .ok (.iconst 2, 1) := dk_5 (dk_at dksX7_first_0 21 rfl rfl)
theorem dX7_first_22 : decode cX7_first 22 = .ok (.iadd, 1) := dk_96 (dk_at dksX7_first_0 22 rfl rfl)
theorem dX7_first_23 : decode cX7_first 23 = .ok (.iload 4, 2) := dk_21 4 (dk_at dksX7_first_1 0 rfl rfl)
theorem dX7_first_25 : decode cX7_first 25 = .ok (.iastore, 1) := dk_79 (dk_at dksX7_first_1 2 rfl rfl)
theorem dX7_first_26 : decode cX7_first 26 = .ok (.aload_n 0, 1) := dk_42 (dk_at dksX7_first_1 3 rfl rfl)
theorem dX7_first_27 : decode cX7_first 27 = .ok (.getfield 40, 3) := dk_180 0 40 (dk_at dksX7_first_1 4 rfl rfl)
theorem dX7_first_30 : decode cX7_first 30 = .ok (.iload_n 1, 1) := dk_27 (dk_at dksX7_first_1 7 rfl rfl)
theorem dX7_first_31 : decode cX7_first 31 = .ok (.iconst 3, 1) := dk_6 (dk_at dksX7_first_1 8 rfl rfl)
theorem dX7_first_32 : decode cX7_first 32 = .ok (.iadd, 1) := dk_96 (dk_at dksX7_first_1 9 rfl rfl)
theorem dX7_first_33 : decode cX7_first 33 = .ok (.iload 5, 2) := dk_21 5 (dk_at dksX7_first_1 10 rfl rfl)
theorem dX7_first_35 : decode cX7_first 35 = .ok (.iastore, 1) := dk_79 (dk_at dksX7_first_1 12 rfl rfl)
theorem dX7_first_36 : decode cX7_first 36 = .ok (.return_, 1) := dk_177 (dk_at dksX7_first_1 13 rfl rfl)
abbrev cX7_rate : ByteArray := prog_20_method_6_code
def yX7_rate : MethodName := ⟨RX7, "rate", "(IIII)I"⟩
def dkwX7_rate_3 : List UInt8 := [79, 132, 6, 1, 167, 255, 233, 21, 5, 172]
abbrev dktX7_rate_3 : List UInt8 := dkwX7_rate_3 ++ []
def dkwX7_rate_2 : List UInt8 := [54, 5, 28, 54, 6, 21, 6, 29, 162, 0, 23, 42, 180, 0, 7, 16, 24, 27, 104, 21, 6, 96, 21, 4]
abbrev dktX7_rate_2 : List UInt8 := dkwX7_rate_2 ++ dktX7_rate_3
def dkwX7_rate_1 : List UInt8 := [3, 16, 9, 184, 0, 127, 154, 0, 6, 16, 254, 172, 42, 180, 0, 7, 16, 24, 27, 104, 28, 96, 46]
abbrev dktX7_rate_1 : List UInt8 := dkwX7_rate_1 ++ dktX7_rate_2
def dkwX7_rate_0 : List UInt8 := [27, 28, 184, 0, 131, 154, 0, 5, 2, 172, 29, 28, 4, 96, 16, 24, 184, 0, 127, 153, 0, 14, 21, 4]
abbrev dktX7_rate_0 : List UInt8 := dkwX7_rate_0 ++ dktX7_rate_1
theorem dksX7_rate_0 : cX7_rate.data.toList.drop 0 = dktX7_rate_0 := by decide +kernel
theorem dksX7_rate_1 : cX7_rate.data.toList.drop 24 = dktX7_rate_1 := dk_seg dksX7_rate_0 24 rfl rfl
theorem dksX7_rate_2 : cX7_rate.data.toList.drop 47 = dktX7_rate_2 := dk_seg dksX7_rate_1 23 rfl rfl
theorem dksX7_rate_3 : cX7_rate.data.toList.drop 71 = dktX7_rate_3 := dk_seg dksX7_rate_2 24 rfl rfl
theorem dX7_rate_0 : decode cX7_rate 0 = .ok (.iload_n 1, 1) := dk_27 (dk_at dksX7_rate_0 0 rfl rfl)
theorem dX7_rate_1 : decode cX7_rate 1 = .ok (.iload_n 2, 1) := dk_28 (dk_at dksX7_rate_0 1 rfl rfl)
theorem dX7_rate_2 : decode cX7_rate 2 = .ok (.invokestatic 131, 3) := dk_184 0 131 (dk_at dksX7_rate_0 2 rfl rfl)
theorem dX7_rate_5 : decode cX7_rate 5 = .ok (.ifCond .ne 5, 3) := dk_154 0 5 (dk_at dksX7_rate_0 5 rfl rfl)
theorem dX7_rate_8 : decode cX7_rate 8 = .ok (.iconst (-1), 1) := dk_2 (dk_at dksX7_rate_0 8 rfl rfl)
theorem dX7_rate_9 : decode cX7_rate 9 = .ok (.ireturn, 1) := dk_172 (dk_at dksX7_rate_0 9 rfl rfl)
theorem dX7_rate_10 : decode cX7_rate 10 = .ok (.iload_n 3, 1) := dk_29 (dk_at dksX7_rate_0 10 rfl rfl)
theorem dX7_rate_11 : decode cX7_rate 11 = .ok (.iload_n 2, 1) := dk_28 (dk_at dksX7_rate_0 11 rfl rfl)
theorem dX7_rate_12 : decode cX7_rate 12 = .ok (.iconst 1, 1) := dk_4 (dk_at dksX7_rate_0 12 rfl rfl)
theorem dX7_rate_13 : decode cX7_rate 13 = .ok (.iadd, 1) := dk_96 (dk_at dksX7_rate_0 13 rfl rfl)
theorem dX7_rate_14 : decode cX7_rate 14 = .ok (.bipush 24, 2) := dk_16 24 (dk_at dksX7_rate_0 14 rfl rfl)
theorem dX7_rate_16 : decode cX7_rate 16 = .ok (.invokestatic 127, 3) := dk_184 0 127 (dk_at dksX7_rate_0 16 rfl rfl)
theorem dX7_rate_19 : decode cX7_rate 19 = .ok (.ifCond .eq 14, 3) := dk_153 0 14 (dk_at dksX7_rate_0 19 rfl rfl)
theorem dX7_rate_22 : decode cX7_rate 22 = .ok (.iload 4, 2) := dk_21 4 (dk_at dksX7_rate_0 22 rfl rfl)
theorem dX7_rate_24 : decode cX7_rate 24 = .ok (.iconst 0, 1) := dk_3 (dk_at dksX7_rate_1 0 rfl rfl)
theorem dX7_rate_25 : decode cX7_rate 25 = .ok (.bipush 9, 2) := dk_16 9 (dk_at dksX7_rate_1 1 rfl rfl)
theorem dX7_rate_27 : decode cX7_rate 27 = .ok (.invokestatic 127, 3) := dk_184 0 127 (dk_at dksX7_rate_1 3 rfl rfl)
theorem dX7_rate_30 : decode cX7_rate 30 = .ok (.ifCond .ne 6, 3) := dk_154 0 6 (dk_at dksX7_rate_1 6 rfl rfl)
theorem dX7_rate_33 : decode cX7_rate 33 = .ok (.bipush (-2), 2) := dk_16 254 (dk_at dksX7_rate_1 9 rfl rfl)
theorem dX7_rate_35 : decode cX7_rate 35 = .ok (.ireturn, 1) := dk_172 (dk_at dksX7_rate_1 11 rfl rfl)
theorem dX7_rate_36 : decode cX7_rate 36 = .ok (.aload_n 0, 1) := dk_42 (dk_at dksX7_rate_1 12 rfl rfl)
theorem dX7_rate_37 : decode cX7_rate 37 = .ok (.getfield 7, 3) := dk_180 0 7 (dk_at dksX7_rate_1 13 rfl rfl)
theorem dX7_rate_40 : decode cX7_rate 40 = .ok (.bipush 24, 2) := dk_16 24 (dk_at dksX7_rate_1 16 rfl rfl)
theorem dX7_rate_42 : decode cX7_rate 42 = .ok (.iload_n 1, 1) := dk_27 (dk_at dksX7_rate_1 18 rfl rfl)
theorem dX7_rate_43 : decode cX7_rate 43 = .ok (.imul, 1) := dk_104 (dk_at dksX7_rate_1 19 rfl rfl)
theorem dX7_rate_44 : decode cX7_rate 44 = .ok (.iload_n 2, 1) := dk_28 (dk_at dksX7_rate_1 20 rfl rfl)
theorem dX7_rate_45 : decode cX7_rate 45 = .ok (.iadd, 1) := dk_96 (dk_at dksX7_rate_1 21 rfl rfl)
theorem dX7_rate_46 : decode cX7_rate 46 = .ok (.iaload, 1) := dk_46 (dk_at dksX7_rate_1 22 rfl rfl)
theorem dX7_rate_47 : decode cX7_rate 47 = .ok (.istore 5, 2) := dk_54 5 (dk_at dksX7_rate_2 0 rfl rfl)
theorem dX7_rate_49 : decode cX7_rate 49 = .ok (.iload_n 2, 1) := dk_28 (dk_at dksX7_rate_2 2 rfl rfl)
theorem dX7_rate_50 : decode cX7_rate 50 = .ok (.istore 6, 2) := dk_54 6 (dk_at dksX7_rate_2 3 rfl rfl)
theorem dX7_rate_52 : decode cX7_rate 52 = .ok (.iload 6, 2) := dk_21 6 (dk_at dksX7_rate_2 5 rfl rfl)
theorem dX7_rate_54 : decode cX7_rate 54 = .ok (.iload_n 3, 1) := dk_29 (dk_at dksX7_rate_2 7 rfl rfl)
theorem dX7_rate_55 : decode cX7_rate 55 = .ok (.if_icmp .ge 23, 3) := dk_162 0 23 (dk_at dksX7_rate_2 8 rfl rfl)
theorem dX7_rate_58 : decode cX7_rate 58 = .ok (.aload_n 0, 1) := dk_42 (dk_at dksX7_rate_2 11 rfl rfl)
theorem dX7_rate_59 : decode cX7_rate 59 = .ok (.getfield 7, 3) := dk_180 0 7 (dk_at dksX7_rate_2 12 rfl rfl)
theorem dX7_rate_62 : decode cX7_rate 62 = .ok (.bipush 24, 2) := dk_16 24 (dk_at dksX7_rate_2 15 rfl rfl)
theorem dX7_rate_64 : decode cX7_rate 64 = .ok (.iload_n 1, 1) := dk_27 (dk_at dksX7_rate_2 17 rfl rfl)
theorem dX7_rate_65 : decode cX7_rate 65 = .ok (.imul, 1) := dk_104 (dk_at dksX7_rate_2 18 rfl rfl)
theorem dX7_rate_66 : decode cX7_rate 66 = .ok (.iload 6, 2) := dk_21 6 (dk_at dksX7_rate_2 19 rfl rfl)
theorem dX7_rate_68 : decode cX7_rate 68 = .ok (.iadd, 1) := dk_96 (dk_at dksX7_rate_2 21 rfl rfl)
theorem dX7_rate_69 : decode cX7_rate 69 = .ok (.iload 4, 2) := dk_21 4 (dk_at dksX7_rate_2 22 rfl rfl)
theorem dX7_rate_71 : decode cX7_rate 71 = .ok (.iastore, 1) := dk_79 (dk_at dksX7_rate_3 0 rfl rfl)
theorem dX7_rate_72 : decode cX7_rate 72 = .ok (.iinc 6 1, 3) := dk_132 6 1 (dk_at dksX7_rate_3 1 rfl rfl)
theorem dX7_rate_75 : decode cX7_rate 75 = .ok (.goto (-23), 3) := dk_167 255 233 (dk_at dksX7_rate_3 4 rfl rfl)
theorem dX7_rate_78 : decode cX7_rate 78 = .ok (.iload 5, 2) := dk_21 5 (dk_at dksX7_rate_3 7 rfl rfl)
theorem dX7_rate_80 : decode cX7_rate 80 = .ok (.ireturn, 1) := dk_172 (dk_at dksX7_rate_3 9 rfl rfl)
abbrev cX7_isGate : ByteArray := prog_20_method_5_code
def yX7_isGate : MethodName := ⟨RX7, "isGate", "(II)Z"⟩
def dkwX7_isGate_1 : List UInt8 := [172]
abbrev dktX7_isGate_1 : List UInt8 := dkwX7_isGate_1 ++ []
def dkwX7_isGate_0 : List UInt8 := [26, 3, 4, 184, 0, 127, 153, 0, 17, 27, 3, 16, 23, 184, 0, 127, 153, 0, 7, 4, 167, 0, 4, 3]
abbrev dktX7_isGate_0 : List UInt8 := dkwX7_isGate_0 ++ dktX7_isGate_1
theorem dksX7_isGate_0 : cX7_isGate.data.toList.drop 0 = dktX7_isGate_0 := by decide +kernel
theorem dksX7_isGate_1 : cX7_isGate.data.toList.drop 24 = dktX7_isGate_1 := dk_seg dksX7_isGate_0 24 rfl rfl
theorem dX7_isGate_0 : decode cX7_isGate 0 = .ok (.iload_n 0, 1) := dk_26 (dk_at dksX7_isGate_0 0 rfl rfl)
theorem dX7_isGate_1 : decode cX7_isGate 1 = .ok (.iconst 0, 1) := dk_3 (dk_at dksX7_isGate_0 1 rfl rfl)
theorem dX7_isGate_2 : decode cX7_isGate 2 = .ok (.iconst 1, 1) := dk_4 (dk_at dksX7_isGate_0 2 rfl rfl)
theorem dX7_isGate_3 : decode cX7_isGate 3 = .ok (.invokestatic 127, 3) := dk_184 0 127 (dk_at dksX7_isGate_0 3 rfl rfl)
theorem dX7_isGate_6 : decode cX7_isGate 6 = .ok (.ifCond .eq 17, 3) := dk_153 0 17 (dk_at dksX7_isGate_0 6 rfl rfl)
theorem dX7_isGate_9 : decode cX7_isGate 9 = .ok (.iload_n 1, 1) := dk_27 (dk_at dksX7_isGate_0 9 rfl rfl)
theorem dX7_isGate_10 : decode cX7_isGate 10 = .ok (.iconst 0, 1) := dk_3 (dk_at dksX7_isGate_0 10 rfl rfl)
theorem dX7_isGate_11 : decode cX7_isGate 11 = .ok (.bipush 23, 2) := dk_16 23 (dk_at dksX7_isGate_0 11 rfl rfl)
theorem dX7_isGate_13 : decode cX7_isGate 13 = .ok (.invokestatic 127, 3) := dk_184 0 127 (dk_at dksX7_isGate_0 13 rfl rfl)
theorem dX7_isGate_16 : decode cX7_isGate 16 = .ok (.ifCond .eq 7, 3) := dk_153 0 7 (dk_at dksX7_isGate_0 16 rfl rfl)
theorem dX7_isGate_19 : decode cX7_isGate 19 = .ok (.iconst 1, 1) := dk_4 (dk_at dksX7_isGate_0 19 rfl rfl)
theorem dX7_isGate_20 : decode cX7_isGate 20 = .ok (.goto 4, 3) := dk_167 0 4 (dk_at dksX7_isGate_0 20 rfl rfl)
theorem dX7_isGate_23 : decode cX7_isGate 23 = .ok (.iconst 0, 1) := dk_3 (dk_at dksX7_isGate_0 23 rfl rfl)
theorem dX7_isGate_24 : decode cX7_isGate 24 = .ok (.ireturn, 1) := dk_172 (dk_at dksX7_isGate_1 0 rfl rfl)
abbrev cX7_in : ByteArray := prog_20_method_4_code
def yX7_in : MethodName := ⟨RX7, "in", "(III)Z"⟩
def dkwX7_in_0 : List UInt8 := [26, 27, 161, 0, 12, 26, 28, 163, 0, 7, 4, 167, 0, 4, 3, 172]
abbrev dktX7_in_0 : List UInt8 := dkwX7_in_0 ++ []
theorem dksX7_in_0 : cX7_in.data.toList.drop 0 = dktX7_in_0 := by decide +kernel
theorem dX7_in_0 : decode cX7_in 0 = .ok (.iload_n 0, 1) := dk_26 (dk_at dksX7_in_0 0 rfl rfl)
theorem dX7_in_1 : decode cX7_in 1 = .ok (.iload_n 1, 1) := dk_27 (dk_at dksX7_in_0 1 rfl rfl)
theorem dX7_in_2 : decode cX7_in 2 = .ok (.if_icmp .lt 12, 3) := dk_161 0 12 (dk_at dksX7_in_0 2 rfl rfl)
theorem dX7_in_5 : decode cX7_in 5 = .ok (.iload_n 0, 1) := dk_26 (dk_at dksX7_in_0 5 rfl rfl)
theorem dX7_in_6 : decode cX7_in 6 = .ok (.iload_n 2, 1) := dk_28 (dk_at dksX7_in_0 6 rfl rfl)
theorem dX7_in_7 : decode cX7_in 7 = .ok (.if_icmp .gt 7, 3) := dk_163 0 7 (dk_at dksX7_in_0 7 rfl rfl)
theorem dX7_in_10 : decode cX7_in 10 = .ok (.iconst 1, 1) := dk_4 (dk_at dksX7_in_0 10 rfl rfl)
theorem dX7_in_11 : decode cX7_in 11 = .ok (.goto 4, 3) := dk_167 0 4 (dk_at dksX7_in_0 11 rfl rfl)
theorem dX7_in_14 : decode cX7_in 14 = .ok (.iconst 0, 1) := dk_3 (dk_at dksX7_in_0 14 rfl rfl)
theorem dX7_in_15 : decode cX7_in 15 = .ok (.ireturn, 1) := dk_172 (dk_at dksX7_in_0 15 rfl rfl)
abbrev cX7_toll : ByteArray := prog_20_method_7_code
def yX7_toll : MethodName := ⟨RX7, "toll", "(III)I"⟩
def dkwX7_toll_2 : List UInt8 := [21, 4, 172]
abbrev dktX7_toll_2 : List UInt8 := dkwX7_toll_2 ++ []
def dkwX7_toll_1 : List UInt8 := [180, 0, 13, 16, 24, 27, 104, 28, 96, 46, 54, 4, 42, 180, 0, 13, 16, 24, 27, 104, 28, 96, 29, 79]
abbrev dktX7_toll_1 : List UInt8 := dkwX7_toll_1 ++ dktX7_toll_2
def dkwX7_toll_0 : List UInt8 := [27, 28, 184, 0, 131, 154, 0, 5, 2, 172, 29, 3, 16, 99, 184, 0, 127, 154, 0, 6, 16, 254, 172, 42]
abbrev dktX7_toll_0 : List UInt8 := dkwX7_toll_0 ++ dktX7_toll_1
theorem dksX7_toll_0 : cX7_toll.data.toList.drop 0 = dktX7_toll_0 := by decide +kernel
theorem dksX7_toll_1 : cX7_toll.data.toList.drop 24 = dktX7_toll_1 := dk_seg dksX7_toll_0 24 rfl rfl
theorem dksX7_toll_2 : cX7_toll.data.toList.drop 48 = dktX7_toll_2 := dk_seg dksX7_toll_1 24 rfl rfl
theorem dX7_toll_0 : decode cX7_toll 0 = .ok (.iload_n 1, 1) := dk_27 (dk_at dksX7_toll_0 0 rfl rfl)
theorem dX7_toll_1 : decode cX7_toll 1 = .ok (.iload_n 2, 1) := dk_28 (dk_at dksX7_toll_0 1 rfl rfl)
theorem dX7_toll_2 : decode cX7_toll 2 = .ok (.invokestatic 131, 3) := dk_184 0 131 (dk_at dksX7_toll_0 2 rfl rfl)
theorem dX7_toll_5 : decode cX7_toll 5 = .ok (.ifCond .ne 5, 3) := dk_154 0 5 (dk_at dksX7_toll_0 5 rfl rfl)
theorem dX7_toll_8 : decode cX7_toll 8 = .ok (.iconst (-1), 1) := dk_2 (dk_at dksX7_toll_0 8 rfl rfl)
theorem dX7_toll_9 : decode cX7_toll 9 = .ok (.ireturn, 1) := dk_172 (dk_at dksX7_toll_0 9 rfl rfl)
theorem dX7_toll_10 : decode cX7_toll 10 = .ok (.iload_n 3, 1) := dk_29 (dk_at dksX7_toll_0 10 rfl rfl)
theorem dX7_toll_11 : decode cX7_toll 11 = .ok (.iconst 0, 1) := dk_3 (dk_at dksX7_toll_0 11 rfl rfl)
theorem dX7_toll_12 : decode cX7_toll 12 = .ok (.bipush 99, 2) := dk_16 99 (dk_at dksX7_toll_0 12 rfl rfl)
theorem dX7_toll_14 : decode cX7_toll 14 = .ok (.invokestatic 127, 3) := dk_184 0 127 (dk_at dksX7_toll_0 14 rfl rfl)
theorem dX7_toll_17 : decode cX7_toll 17 = .ok (.ifCond .ne 6, 3) := dk_154 0 6 (dk_at dksX7_toll_0 17 rfl rfl)
theorem dX7_toll_20 : decode cX7_toll 20 = .ok (.bipush (-2), 2) := dk_16 254 (dk_at dksX7_toll_0 20 rfl rfl)
theorem dX7_toll_22 : decode cX7_toll 22 = .ok (.ireturn, 1) := dk_172 (dk_at dksX7_toll_0 22 rfl rfl)
theorem dX7_toll_23 : decode cX7_toll 23 = .ok (.aload_n 0, 1) := dk_42 (dk_at dksX7_toll_0 23 rfl rfl)
theorem dX7_toll_24 : decode cX7_toll 24 = .ok (.getfield 13, 3) := dk_180 0 13 (dk_at dksX7_toll_1 0 rfl rfl)
theorem dX7_toll_27 : decode cX7_toll 27 = .ok (.bipush 24, 2) := dk_16 24 (dk_at dksX7_toll_1 3 rfl rfl)
theorem dX7_toll_29 : decode cX7_toll 29 = .ok (.iload_n 1, 1) := dk_27 (dk_at dksX7_toll_1 5 rfl rfl)
theorem dX7_toll_30 : decode cX7_toll 30 = .ok (.imul, 1) := dk_104 (dk_at dksX7_toll_1 6 rfl rfl)
theorem dX7_toll_31 : decode cX7_toll 31 = .ok (.iload_n 2, 1) := dk_28 (dk_at dksX7_toll_1 7 rfl rfl)
theorem dX7_toll_32 : decode cX7_toll 32 = .ok (.iadd, 1) := dk_96 (dk_at dksX7_toll_1 8 rfl rfl)
theorem dX7_toll_33 : decode cX7_toll 33 = .ok (.iaload, 1) := dk_46 (dk_at dksX7_toll_1 9 rfl rfl)
theorem dX7_toll_34 : decode cX7_toll 34 = .ok (.istore 4, 2) := dk_54 4 (dk_at dksX7_toll_1 10 rfl rfl)
theorem dX7_toll_36 : decode cX7_toll 36 = .ok (.aload_n 0, 1) := dk_42 (dk_at dksX7_toll_1 12 rfl rfl)
theorem dX7_toll_37 : decode cX7_toll 37 = .ok (.getfield 13, 3) := dk_180 0 13 (dk_at dksX7_toll_1 13 rfl rfl)
theorem dX7_toll_40 : decode cX7_toll 40 = .ok (.bipush 24, 2) := dk_16 24 (dk_at dksX7_toll_1 16 rfl rfl)
theorem dX7_toll_42 : decode cX7_toll 42 = .ok (.iload_n 1, 1) := dk_27 (dk_at dksX7_toll_1 18 rfl rfl)
theorem dX7_toll_43 : decode cX7_toll 43 = .ok (.imul, 1) := dk_104 (dk_at dksX7_toll_1 19 rfl rfl)
theorem dX7_toll_44 : decode cX7_toll 44 = .ok (.iload_n 2, 1) := dk_28 (dk_at dksX7_toll_1 20 rfl rfl)
theorem dX7_toll_45 : decode cX7_toll 45 = .ok (.iadd, 1) := dk_96 (dk_at dksX7_toll_1 21 rfl rfl)
theorem dX7_toll_46 : decode cX7_toll 46 = .ok (.iload_n 3, 1) := dk_29 (dk_at dksX7_toll_1 22 rfl rfl)
theorem dX7_toll_47 : decode cX7_toll 47 = .ok (.iastore, 1) := dk_79 (dk_at dksX7_toll_1 23 rfl rfl)
theorem dX7_toll_48 : decode cX7_toll 48 = .ok (.iload 4, 2) := dk_21 4 (dk_at dksX7_toll_2 0 rfl rfl)
theorem dX7_toll_50 : decode cX7_toll 50 = .ok (.ireturn, 1) := dk_172 (dk_at dksX7_toll_2 2 rfl rfl)
abbrev cX7_sort : ByteArray := prog_20_method_8_code
def yX7_sort : MethodName := ⟨RX7, "sort", "(IIII)I"⟩
def dkwX7_sort_5 : List UInt8 := [100, 172]
abbrev dktX7_sort_5 : List UInt8 := dkwX7_sort_5 ++ []
def dkwX7_sort_4 : List UInt8 := [180, 0, 135, 104, 4, 96, 21, 4, 79, 42, 89, 180, 0, 135, 4, 96, 181, 0, 135, 42, 180, 0, 135, 4]
abbrev dktX7_sort_4 : List UInt8 := dkwX7_sort_4 ++ dktX7_sort_5
def dkwX7_sort_3 : List UInt8 := [42, 180, 0, 135, 28, 79, 42, 180, 0, 22, 5, 42, 180, 0, 135, 104, 29, 79, 42, 180, 0, 22, 5, 42]
abbrev dktX7_sort_3 : List UInt8 := dkwX7_sort_3 ++ dktX7_sort_4
def dkwX7_sort_2 : List UInt8 := [180, 0, 135, 7, 160, 0, 6, 16, 252, 172, 42, 180, 0, 16, 42, 180, 0, 135, 27, 79, 42, 180, 0, 19]
abbrev dktX7_sort_2 : List UInt8 := dkwX7_sort_2 ++ dktX7_sort_3
def dkwX7_sort_1 : List UInt8 := [16, 9, 184, 0, 127, 153, 0, 14, 21, 4, 3, 16, 9, 184, 0, 127, 154, 0, 6, 16, 254, 172, 42]
abbrev dktX7_sort_1 : List UInt8 := dkwX7_sort_1 ++ dktX7_sort_2
def dkwX7_sort_0 : List UInt8 := [27, 3, 16, 23, 184, 0, 127, 153, 0, 35, 28, 3, 17, 3, 231, 184, 0, 127, 153, 0, 24, 29, 3]
abbrev dktX7_sort_0 : List UInt8 := dkwX7_sort_0 ++ dktX7_sort_1
theorem dksX7_sort_0 : cX7_sort.data.toList.drop 0 = dktX7_sort_0 := by decide +kernel
theorem dksX7_sort_1 : cX7_sort.data.toList.drop 23 = dktX7_sort_1 := dk_seg dksX7_sort_0 23 rfl rfl
theorem dksX7_sort_2 : cX7_sort.data.toList.drop 46 = dktX7_sort_2 := dk_seg dksX7_sort_1 23 rfl rfl
theorem dksX7_sort_3 : cX7_sort.data.toList.drop 70 = dktX7_sort_3 := dk_seg dksX7_sort_2 24 rfl rfl
theorem dksX7_sort_4 : cX7_sort.data.toList.drop 94 = dktX7_sort_4 := dk_seg dksX7_sort_3 24 rfl rfl
theorem dksX7_sort_5 : cX7_sort.data.toList.drop 118 = dktX7_sort_5 := dk_seg dksX7_sort_4 24 rfl rfl
theorem dX7_sort_0 : decode cX7_sort 0 = .ok (.iload_n 1, 1) := dk_27 (dk_at dksX7_sort_0 0 rfl rfl)
theorem dX7_sort_1 : decode cX7_sort 1 = .ok (.iconst 0, 1) := dk_3 (dk_at dksX7_sort_0 1 rfl rfl)
theorem dX7_sort_2 : decode cX7_sort 2 = .ok (.bipush 23, 2) := dk_16 23 (dk_at dksX7_sort_0 2 rfl rfl)
theorem dX7_sort_4 : decode cX7_sort 4 = .ok (.invokestatic 127, 3) := dk_184 0 127 (dk_at dksX7_sort_0 4 rfl rfl)
theorem dX7_sort_7 : decode cX7_sort 7 = .ok (.ifCond .eq 35, 3) := dk_153 0 35 (dk_at dksX7_sort_0 7 rfl rfl)
theorem dX7_sort_10 : decode cX7_sort 10 = .ok (.iload_n 2, 1) := dk_28 (dk_at dksX7_sort_0 10 rfl rfl)
theorem dX7_sort_11 : decode cX7_sort 11 = .ok (.iconst 0, 1) := dk_3 (dk_at dksX7_sort_0 11 rfl rfl)
theorem dX7_sort_12 : decode cX7_sort 12 = .ok (.sipush 999, 3) := dk_17 3 231 (dk_at dksX7_sort_0 12 rfl rfl)
theorem dX7_sort_15 : decode cX7_sort 15 = .ok (.invokestatic 127, 3) := dk_184 0 127 (dk_at dksX7_sort_0 15 rfl rfl)
theorem dX7_sort_18 : decode cX7_sort 18 = .ok (.ifCond .eq 24, 3) := dk_153 0 24 (dk_at dksX7_sort_0 18 rfl rfl)
theorem dX7_sort_21 : decode cX7_sort 21 = .ok (.iload_n 3, 1) := dk_29 (dk_at dksX7_sort_0 21 rfl rfl)
theorem dX7_sort_22 : decode cX7_sort 22 = .ok (.iconst 0, 1) := dk_3 (dk_at dksX7_sort_0 22 rfl rfl)
theorem dX7_sort_23 : decode cX7_sort 23 = .ok (.bipush 9, 2) := dk_16 9 (dk_at dksX7_sort_1 0 rfl rfl)
theorem dX7_sort_25 : decode cX7_sort 25 = .ok (.invokestatic 127, 3) := dk_184 0 127 (dk_at dksX7_sort_1 2 rfl rfl)
theorem dX7_sort_28 : decode cX7_sort 28 = .ok (.ifCond .eq 14, 3) := dk_153 0 14 (dk_at dksX7_sort_1 5 rfl rfl)
theorem dX7_sort_31 : decode cX7_sort 31 = .ok (.iload 4, 2) := dk_21 4 (dk_at dksX7_sort_1 8 rfl rfl)
theorem dX7_sort_33 : decode cX7_sort 33 = .ok (.iconst 0, 1) := dk_3 (dk_at dksX7_sort_1 10 rfl rfl)
theorem dX7_sort_34 : decode cX7_sort 34 = .ok (.bipush 9, 2) := dk_16 9 (dk_at dksX7_sort_1 11 rfl rfl)
theorem dX7_sort_36 : decode cX7_sort 36 = .ok (.invokestatic 127, 3) := dk_184 0 127 (dk_at dksX7_sort_1 13 rfl rfl)
theorem dX7_sort_39 : decode cX7_sort 39 = .ok (.ifCond .ne 6, 3) := dk_154 0 6 (dk_at dksX7_sort_1 16 rfl rfl)
theorem dX7_sort_42 : decode cX7_sort 42 = .ok (.bipush (-2), 2) := dk_16 254 (dk_at dksX7_sort_1 19 rfl rfl)
theorem dX7_sort_44 : decode cX7_sort 44 = .ok (.ireturn, 1) := dk_172 (dk_at dksX7_sort_1 21 rfl rfl)
theorem dX7_sort_45 : decode cX7_sort 45 = .ok (.aload_n 0, 1) := dk_42 (dk_at dksX7_sort_1 22 rfl rfl)
theorem dX7_sort_46 : decode cX7_sort 46 = .ok (.getfield 135, 3) := dk_180 0 135 (dk_at dksX7_sort_2 0 rfl rfl)
theorem dX7_sort_49 : decode cX7_sort 49 = .ok (.iconst 4, 1) := dk_7 (dk_at dksX7_sort_2 3 rfl rfl)
theorem dX7_sort_50 : decode cX7_sort 50 = .ok (.if_icmp .ne 6, 3) := dk_160 0 6 (dk_at dksX7_sort_2 4 rfl rfl)
theorem dX7_sort_53 : decode cX7_sort 53 = .ok (.bipush (-4), 2) := dk_16 252 (dk_at dksX7_sort_2 7 rfl rfl)
theorem dX7_sort_55 : decode cX7_sort 55 = .ok (.ireturn, 1) := dk_172 (dk_at dksX7_sort_2 9 rfl rfl)
theorem dX7_sort_56 : decode cX7_sort 56 = .ok (.aload_n 0, 1) := dk_42 (dk_at dksX7_sort_2 10 rfl rfl)
theorem dX7_sort_57 : decode cX7_sort 57 = .ok (.getfield 16, 3) := dk_180 0 16 (dk_at dksX7_sort_2 11 rfl rfl)
theorem dX7_sort_60 : decode cX7_sort 60 = .ok (.aload_n 0, 1) := dk_42 (dk_at dksX7_sort_2 14 rfl rfl)
theorem dX7_sort_61 : decode cX7_sort 61 = .ok (.getfield 135, 3) := dk_180 0 135 (dk_at dksX7_sort_2 15 rfl rfl)
theorem dX7_sort_64 : decode cX7_sort 64 = .ok (.iload_n 1, 1) := dk_27 (dk_at dksX7_sort_2 18 rfl rfl)
theorem dX7_sort_65 : decode cX7_sort 65 = .ok (.iastore, 1) := dk_79 (dk_at dksX7_sort_2 19 rfl rfl)
theorem dX7_sort_66 : decode cX7_sort 66 = .ok (.aload_n 0, 1) := dk_42 (dk_at dksX7_sort_2 20 rfl rfl)
theorem dX7_sort_67 : decode cX7_sort 67 = .ok (.getfield 19, 3) := dk_180 0 19 (dk_at dksX7_sort_2 21 rfl rfl)
theorem dX7_sort_70 : decode cX7_sort 70 = .ok (.aload_n 0, 1) := dk_42 (dk_at dksX7_sort_3 0 rfl rfl)
theorem dX7_sort_71 : decode cX7_sort 71 = .ok (.getfield 135, 3) := dk_180 0 135 (dk_at dksX7_sort_3 1 rfl rfl)
theorem dX7_sort_74 : decode cX7_sort 74 = .ok (.iload_n 2, 1) := dk_28 (dk_at dksX7_sort_3 4 rfl rfl)
theorem dX7_sort_75 : decode cX7_sort 75 = .ok (.iastore, 1) := dk_79 (dk_at dksX7_sort_3 5 rfl rfl)
theorem dX7_sort_76 : decode cX7_sort 76 = .ok (.aload_n 0, 1) := dk_42 (dk_at dksX7_sort_3 6 rfl rfl)
theorem dX7_sort_77 : decode cX7_sort 77 = .ok (.getfield 22, 3) := dk_180 0 22 (dk_at dksX7_sort_3 7 rfl rfl)
theorem dX7_sort_80 : decode cX7_sort 80 = .ok (.iconst 2, 1) := dk_5 (dk_at dksX7_sort_3 10 rfl rfl)
theorem dX7_sort_81 : decode cX7_sort 81 = .ok (.aload_n 0, 1) := dk_42 (dk_at dksX7_sort_3 11 rfl rfl)
theorem dX7_sort_82 : decode cX7_sort 82 = .ok (.getfield 135, 3) := dk_180 0 135 (dk_at dksX7_sort_3 12 rfl rfl)
theorem dX7_sort_85 : decode cX7_sort 85 = .ok (.imul, 1) := dk_104 (dk_at dksX7_sort_3 15 rfl rfl)
theorem dX7_sort_86 : decode cX7_sort 86 = .ok (.iload_n 3, 1) := dk_29 (dk_at dksX7_sort_3 16 rfl rfl)
theorem dX7_sort_87 : decode cX7_sort 87 = .ok (.iastore, 1) := dk_79 (dk_at dksX7_sort_3 17 rfl rfl)
theorem dX7_sort_88 : decode cX7_sort 88 = .ok (.aload_n 0, 1) := dk_42 (dk_at dksX7_sort_3 18 rfl rfl)
theorem dX7_sort_89 : decode cX7_sort 89 = .ok (.getfield 22, 3) := dk_180 0 22 (dk_at dksX7_sort_3 19 rfl rfl)
theorem dX7_sort_92 : decode cX7_sort 92 = .ok (.iconst 2, 1) := dk_5 (dk_at dksX7_sort_3 22 rfl rfl)
theorem dX7_sort_93 : decode cX7_sort 93 = .ok (.aload_n 0, 1) := dk_42 (dk_at dksX7_sort_3 23 rfl rfl)
theorem dX7_sort_94 : decode cX7_sort 94 = .ok (.getfield 135, 3) := dk_180 0 135 (dk_at dksX7_sort_4 0 rfl rfl)
theorem dX7_sort_97 : decode cX7_sort 97 = .ok (.imul, 1) := dk_104 (dk_at dksX7_sort_4 3 rfl rfl)
theorem dX7_sort_98 : decode cX7_sort 98 = .ok (.iconst 1, 1) := dk_4 (dk_at dksX7_sort_4 4 rfl rfl)
theorem dX7_sort_99 : decode cX7_sort 99 = .ok (.iadd, 1) := dk_96 (dk_at dksX7_sort_4 5 rfl rfl)
theorem dX7_sort_100 : decode cX7_sort 100 = .ok (.iload 4, 2) := dk_21 4 (dk_at dksX7_sort_4 6 rfl rfl)
theorem dX7_sort_102 : decode cX7_sort 102 = .ok (.iastore, 1) := dk_79 (dk_at dksX7_sort_4 8 rfl rfl)
theorem dX7_sort_103 : decode cX7_sort 103 = .ok (.aload_n 0, 1) := dk_42 (dk_at dksX7_sort_4 9 rfl rfl)
theorem dX7_sort_104 : decode cX7_sort 104 = .ok (.dup, 1) := dk_89 (dk_at dksX7_sort_4 10 rfl rfl)
theorem dX7_sort_105 : decode cX7_sort 105 = .ok (.getfield 135, 3) := dk_180 0 135 (dk_at dksX7_sort_4 11 rfl rfl)
theorem dX7_sort_108 : decode cX7_sort 108 = .ok (.iconst 1, 1) := dk_4 (dk_at dksX7_sort_4 14 rfl rfl)
theorem dX7_sort_109 : decode cX7_sort 109 = .ok (.iadd, 1) := dk_96 (dk_at dksX7_sort_4 15 rfl rfl)
theorem dX7_sort_110 : decode cX7_sort 110 = .ok (.putfield 135, 3) := dk_181 0 135 (dk_at dksX7_sort_4 16 rfl rfl)
theorem dX7_sort_113 : decode cX7_sort 113 = .ok (.aload_n 0, 1) := dk_42 (dk_at dksX7_sort_4 19 rfl rfl)
theorem dX7_sort_114 : decode cX7_sort 114 = .ok (.getfield 135, 3) := dk_180 0 135 (dk_at dksX7_sort_4 20 rfl rfl)
theorem dX7_sort_117 : decode cX7_sort 117 = .ok (.iconst 1, 1) := dk_4 (dk_at dksX7_sort_4 23 rfl rfl)
theorem dX7_sort_118 : decode cX7_sort 118 = .ok (.isub, 1) := dk_100 (dk_at dksX7_sort_5 0 rfl rfl)
theorem dX7_sort_119 : decode cX7_sort 119 = .ok (.ireturn, 1) := dk_172 (dk_at dksX7_sort_5 1 rfl rfl)
abbrev cX7_cart : ByteArray := prog_20_method_10_code
def yX7_cart : MethodName := ⟨RX7, "cart", "(I)I"⟩
def dkwX7_cart_2 : List UInt8 := [100, 172]
abbrev dktX7_cart_2 : List UInt8 := dkwX7_cart_2 ++ []
def dkwX7_cart_1 : List UInt8 := [180, 0, 25, 42, 180, 0, 142, 27, 79, 42, 89, 180, 0, 142, 4, 96, 181, 0, 142, 42, 180, 0, 142, 4]
abbrev dktX7_cart_1 : List UInt8 := dkwX7_cart_1 ++ dktX7_cart_2
def dkwX7_cart_0 : List UInt8 := [42, 27, 182, 0, 138, 154, 0, 5, 2, 172, 42, 180, 0, 142, 16, 16, 160, 0, 6, 16, 252, 172, 42]
abbrev dktX7_cart_0 : List UInt8 := dkwX7_cart_0 ++ dktX7_cart_1
theorem dksX7_cart_0 : cX7_cart.data.toList.drop 0 = dktX7_cart_0 := by decide +kernel
theorem dksX7_cart_1 : cX7_cart.data.toList.drop 23 = dktX7_cart_1 := dk_seg dksX7_cart_0 23 rfl rfl
theorem dksX7_cart_2 : cX7_cart.data.toList.drop 47 = dktX7_cart_2 := dk_seg dksX7_cart_1 24 rfl rfl
theorem dX7_cart_0 : decode cX7_cart 0 = .ok (.aload_n 0, 1) := dk_42 (dk_at dksX7_cart_0 0 rfl rfl)
theorem dX7_cart_1 : decode cX7_cart 1 = .ok (.iload_n 1, 1) := dk_27 (dk_at dksX7_cart_0 1 rfl rfl)
theorem dX7_cart_2 : decode cX7_cart 2 = .ok (.invokevirtual 138, 3) := dk_182 0 138 (dk_at dksX7_cart_0 2 rfl rfl)
theorem dX7_cart_5 : decode cX7_cart 5 = .ok (.ifCond .ne 5, 3) := dk_154 0 5 (dk_at dksX7_cart_0 5 rfl rfl)
theorem dX7_cart_8 : decode cX7_cart 8 = .ok (.iconst (-1), 1) := dk_2 (dk_at dksX7_cart_0 8 rfl rfl)
theorem dX7_cart_9 : decode cX7_cart 9 = .ok (.ireturn, 1) := dk_172 (dk_at dksX7_cart_0 9 rfl rfl)
theorem dX7_cart_10 : decode cX7_cart 10 = .ok (.aload_n 0, 1) := dk_42 (dk_at dksX7_cart_0 10 rfl rfl)
theorem dX7_cart_11 : decode cX7_cart 11 = .ok (.getfield 142, 3) := dk_180 0 142 (dk_at dksX7_cart_0 11 rfl rfl)
theorem dX7_cart_14 : decode cX7_cart 14 = .ok (.bipush 16, 2) := dk_16 16 (dk_at dksX7_cart_0 14 rfl rfl)
theorem dX7_cart_16 : decode cX7_cart 16 = .ok (.if_icmp .ne 6, 3) := dk_160 0 6 (dk_at dksX7_cart_0 16 rfl rfl)
theorem dX7_cart_19 : decode cX7_cart 19 = .ok (.bipush (-4), 2) := dk_16 252 (dk_at dksX7_cart_0 19 rfl rfl)
theorem dX7_cart_21 : decode cX7_cart 21 = .ok (.ireturn, 1) := dk_172 (dk_at dksX7_cart_0 21 rfl rfl)
theorem dX7_cart_22 : decode cX7_cart 22 = .ok (.aload_n 0, 1) := dk_42 (dk_at dksX7_cart_0 22 rfl rfl)
theorem dX7_cart_23 : decode cX7_cart 23 = .ok (.getfield 25, 3) := dk_180 0 25 (dk_at dksX7_cart_1 0 rfl rfl)
theorem dX7_cart_26 : decode cX7_cart 26 = .ok (.aload_n 0, 1) := dk_42 (dk_at dksX7_cart_1 3 rfl rfl)
theorem dX7_cart_27 : decode cX7_cart 27 = .ok (.getfield 142, 3) := dk_180 0 142 (dk_at dksX7_cart_1 4 rfl rfl)
theorem dX7_cart_30 : decode cX7_cart 30 = .ok (.iload_n 1, 1) := dk_27 (dk_at dksX7_cart_1 7 rfl rfl)
theorem dX7_cart_31 : decode cX7_cart 31 = .ok (.iastore, 1) := dk_79 (dk_at dksX7_cart_1 8 rfl rfl)
theorem dX7_cart_32 : decode cX7_cart 32 = .ok (.aload_n 0, 1) := dk_42 (dk_at dksX7_cart_1 9 rfl rfl)
theorem dX7_cart_33 : decode cX7_cart 33 = .ok (.dup, 1) := dk_89 (dk_at dksX7_cart_1 10 rfl rfl)
theorem dX7_cart_34 : decode cX7_cart 34 = .ok (.getfield 142, 3) := dk_180 0 142 (dk_at dksX7_cart_1 11 rfl rfl)
theorem dX7_cart_37 : decode cX7_cart 37 = .ok (.iconst 1, 1) := dk_4 (dk_at dksX7_cart_1 14 rfl rfl)
theorem dX7_cart_38 : decode cX7_cart 38 = .ok (.iadd, 1) := dk_96 (dk_at dksX7_cart_1 15 rfl rfl)
theorem dX7_cart_39 : decode cX7_cart 39 = .ok (.putfield 142, 3) := dk_181 0 142 (dk_at dksX7_cart_1 16 rfl rfl)
theorem dX7_cart_42 : decode cX7_cart 42 = .ok (.aload_n 0, 1) := dk_42 (dk_at dksX7_cart_1 19 rfl rfl)
theorem dX7_cart_43 : decode cX7_cart 43 = .ok (.getfield 142, 3) := dk_180 0 142 (dk_at dksX7_cart_1 20 rfl rfl)
theorem dX7_cart_46 : decode cX7_cart 46 = .ok (.iconst 1, 1) := dk_4 (dk_at dksX7_cart_1 23 rfl rfl)
theorem dX7_cart_47 : decode cX7_cart 47 = .ok (.isub, 1) := dk_100 (dk_at dksX7_cart_2 0 rfl rfl)
theorem dX7_cart_48 : decode cX7_cart 48 = .ok (.ireturn, 1) := dk_172 (dk_at dksX7_cart_2 1 rfl rfl)
abbrev cX7_isSort : ByteArray := prog_20_method_9_code
def yX7_isSort : MethodName := ⟨RX7, "isSort", "(I)Z"⟩
def dkwX7_isSort_0 : List UInt8 := [27, 3, 42, 180, 0, 135, 4, 100, 184, 0, 127, 172]
abbrev dktX7_isSort_0 : List UInt8 := dkwX7_isSort_0 ++ []
theorem dksX7_isSort_0 : cX7_isSort.data.toList.drop 0 = dktX7_isSort_0 := by decide +kernel
theorem dX7_isSort_0 : decode cX7_isSort 0 = .ok (.iload_n 1, 1) := dk_27 (dk_at dksX7_isSort_0 0 rfl rfl)
theorem dX7_isSort_1 : decode cX7_isSort 1 = .ok (.iconst 0, 1) := dk_3 (dk_at dksX7_isSort_0 1 rfl rfl)
theorem dX7_isSort_2 : decode cX7_isSort 2 = .ok (.aload_n 0, 1) := dk_42 (dk_at dksX7_isSort_0 2 rfl rfl)
theorem dX7_isSort_3 : decode cX7_isSort 3 = .ok (.getfield 135, 3) := dk_180 0 135 (dk_at dksX7_isSort_0 3 rfl rfl)
theorem dX7_isSort_6 : decode cX7_isSort 6 = .ok (.iconst 1, 1) := dk_4 (dk_at dksX7_isSort_0 6 rfl rfl)
theorem dX7_isSort_7 : decode cX7_isSort 7 = .ok (.isub, 1) := dk_100 (dk_at dksX7_isSort_0 7 rfl rfl)
theorem dX7_isSort_8 : decode cX7_isSort 8 = .ok (.invokestatic 127, 3) := dk_184 0 127 (dk_at dksX7_isSort_0 8 rfl rfl)
theorem dX7_isSort_11 : decode cX7_isSort 11 = .ok (.ireturn, 1) := dk_172 (dk_at dksX7_isSort_0 11 rfl rfl)
abbrev cX7_wishes : ByteArray := prog_20_method_11_code
def yX7_wishes : MethodName := ⟨RX7, "wishes", "(II)I"⟩
def dkwX7_wishes_1 : List UInt8 := [42, 180, 0, 16, 27, 46, 62, 42, 180, 0, 16, 27, 28, 79, 29, 172]
abbrev dktX7_wishes_1 : List UInt8 := dkwX7_wishes_1 ++ []
def dkwX7_wishes_0 : List UInt8 := [42, 27, 182, 0, 138, 154, 0, 6, 16, 251, 172, 28, 3, 16, 23, 184, 0, 127, 154, 0, 6, 16, 249, 172]
abbrev dktX7_wishes_0 : List UInt8 := dkwX7_wishes_0 ++ dktX7_wishes_1
theorem dksX7_wishes_0 : cX7_wishes.data.toList.drop 0 = dktX7_wishes_0 := by decide +kernel
theorem dksX7_wishes_1 : cX7_wishes.data.toList.drop 24 = dktX7_wishes_1 := dk_seg dksX7_wishes_0 24 rfl rfl
theorem dX7_wishes_0 : decode cX7_wishes 0 = .ok (.aload_n 0, 1) := dk_42 (dk_at dksX7_wishes_0 0 rfl rfl)
theorem dX7_wishes_1 : decode cX7_wishes 1 = .ok (.iload_n 1, 1) := dk_27 (dk_at dksX7_wishes_0 1 rfl rfl)
theorem dX7_wishes_2 : decode cX7_wishes 2 = .ok (.invokevirtual 138, 3) := dk_182 0 138 (dk_at dksX7_wishes_0 2 rfl rfl)
theorem dX7_wishes_5 : decode cX7_wishes 5 = .ok (.ifCond .ne 6, 3) := dk_154 0 6 (dk_at dksX7_wishes_0 5 rfl rfl)
theorem dX7_wishes_8 : decode cX7_wishes 8 = .ok (.bipush (-5), 2) := dk_16 251 (dk_at dksX7_wishes_0 8 rfl rfl)
theorem dX7_wishes_10 : decode cX7_wishes 10 = .ok (.ireturn, 1) := dk_172 (dk_at dksX7_wishes_0 10 rfl rfl)
theorem dX7_wishes_11 : decode cX7_wishes 11 = .ok (.iload_n 2, 1) := dk_28 (dk_at dksX7_wishes_0 11 rfl rfl)
theorem dX7_wishes_12 : decode cX7_wishes 12 = .ok (.iconst 0, 1) := dk_3 (dk_at dksX7_wishes_0 12 rfl rfl)
theorem dX7_wishes_13 : decode cX7_wishes 13 = .ok (.bipush 23, 2) := dk_16 23 (dk_at dksX7_wishes_0 13 rfl rfl)
theorem dX7_wishes_15 : decode cX7_wishes 15 = .ok (.invokestatic 127, 3) := dk_184 0 127 (dk_at dksX7_wishes_0 15 rfl rfl)
theorem dX7_wishes_18 : decode cX7_wishes 18 = .ok (.ifCond .ne 6, 3) := dk_154 0 6 (dk_at dksX7_wishes_0 18 rfl rfl)
theorem dX7_wishes_21 : decode cX7_wishes 21 = .ok (.bipush (-7), 2) := dk_16 249 (dk_at dksX7_wishes_0 21 rfl rfl)
theorem dX7_wishes_23 : decode cX7_wishes 23 = .ok (.ireturn, 1) := dk_172 (dk_at dksX7_wishes_0 23 rfl rfl)
theorem dX7_wishes_24 : decode cX7_wishes 24 = .ok (.aload_n 0, 1) := dk_42 (dk_at dksX7_wishes_1 0 rfl rfl)
theorem dX7_wishes_25 : decode cX7_wishes 25 = .ok (.getfield 16, 3) := dk_180 0 16 (dk_at dksX7_wishes_1 1 rfl rfl)
theorem dX7_wishes_28 : decode cX7_wishes 28 = .ok (.iload_n 1, 1) := dk_27 (dk_at dksX7_wishes_1 4 rfl rfl)
theorem dX7_wishes_29 : decode cX7_wishes 29 = .ok (.iaload, 1) := dk_46 (dk_at dksX7_wishes_1 5 rfl rfl)
theorem dX7_wishes_30 : decode cX7_wishes 30 = .ok (.istore_n 3, 1) := dk_62 (dk_at dksX7_wishes_1 6 rfl rfl)
theorem dX7_wishes_31 : decode cX7_wishes 31 = .ok (.aload_n 0, 1) := dk_42 (dk_at dksX7_wishes_1 7 rfl rfl)
theorem dX7_wishes_32 : decode cX7_wishes 32 = .ok (.getfield 16, 3) := dk_180 0 16 (dk_at dksX7_wishes_1 8 rfl rfl)
theorem dX7_wishes_35 : decode cX7_wishes 35 = .ok (.iload_n 1, 1) := dk_27 (dk_at dksX7_wishes_1 11 rfl rfl)
theorem dX7_wishes_36 : decode cX7_wishes 36 = .ok (.iload_n 2, 1) := dk_28 (dk_at dksX7_wishes_1 12 rfl rfl)
theorem dX7_wishes_37 : decode cX7_wishes 37 = .ok (.iastore, 1) := dk_79 (dk_at dksX7_wishes_1 13 rfl rfl)
theorem dX7_wishes_38 : decode cX7_wishes 38 = .ok (.iload_n 3, 1) := dk_29 (dk_at dksX7_wishes_1 14 rfl rfl)
theorem dX7_wishes_39 : decode cX7_wishes 39 = .ok (.ireturn, 1) := dk_172 (dk_at dksX7_wishes_1 15 rfl rfl)
abbrev cX7_gateTold : ByteArray := prog_20_method_12_code
def yX7_gateTold : MethodName := ⟨RX7, "gateTold", "(III)I"⟩
def dkwX7_gateTold_2 : List UInt8 := [16, 249, 172]
abbrev dktX7_gateTold_2 : List UInt8 := dkwX7_gateTold_2 ++ []
def dkwX7_gateTold_1 : List UInt8 := [96, 46, 167, 0, 24, 29, 4, 160, 0, 17, 42, 180, 0, 13, 16, 24, 27, 104, 28, 96, 46, 167, 0, 5]
abbrev dktX7_gateTold_1 : List UInt8 := dkwX7_gateTold_1 ++ dktX7_gateTold_2
def dkwX7_gateTold_0 : List UInt8 := [27, 28, 184, 0, 131, 154, 0, 6, 16, 251, 172, 29, 154, 0, 17, 42, 180, 0, 7, 16, 24, 27, 104, 28]
abbrev dktX7_gateTold_0 : List UInt8 := dkwX7_gateTold_0 ++ dktX7_gateTold_1
theorem dksX7_gateTold_0 : cX7_gateTold.data.toList.drop 0 = dktX7_gateTold_0 := by decide +kernel
theorem dksX7_gateTold_1 : cX7_gateTold.data.toList.drop 24 = dktX7_gateTold_1 := dk_seg dksX7_gateTold_0 24 rfl rfl
theorem dksX7_gateTold_2 : cX7_gateTold.data.toList.drop 48 = dktX7_gateTold_2 := dk_seg dksX7_gateTold_1 24 rfl rfl
theorem dX7_gateTold_0 : decode cX7_gateTold 0 = .ok (.iload_n 1, 1) := dk_27 (dk_at dksX7_gateTold_0 0 rfl rfl)
theorem dX7_gateTold_1 : decode cX7_gateTold 1 = .ok (.iload_n 2, 1) := dk_28 (dk_at dksX7_gateTold_0 1 rfl rfl)
theorem dX7_gateTold_2 : decode cX7_gateTold 2 = .ok (.invokestatic 131, 3) := dk_184 0 131 (dk_at dksX7_gateTold_0 2 rfl rfl)
theorem dX7_gateTold_5 : decode cX7_gateTold 5 = .ok (.ifCond .ne 6, 3) := dk_154 0 6 (dk_at dksX7_gateTold_0 5 rfl rfl)
theorem dX7_gateTold_8 : decode cX7_gateTold 8 = .ok (.bipush (-5), 2) := dk_16 251 (dk_at dksX7_gateTold_0 8 rfl rfl)
theorem dX7_gateTold_10 : decode cX7_gateTold 10 = .ok (.ireturn, 1) := dk_172 (dk_at dksX7_gateTold_0 10 rfl rfl)
theorem dX7_gateTold_11 : decode cX7_gateTold 11 = .ok (.iload_n 3, 1) := dk_29 (dk_at dksX7_gateTold_0 11 rfl rfl)
theorem dX7_gateTold_12 : decode cX7_gateTold 12 = .ok (.ifCond .ne 17, 3) := dk_154 0 17 (dk_at dksX7_gateTold_0 12 rfl rfl)
theorem dX7_gateTold_15 : decode cX7_gateTold 15 = .ok (.aload_n 0, 1) := dk_42 (dk_at dksX7_gateTold_0 15 rfl rfl)
theorem dX7_gateTold_16 : decode cX7_gateTold 16 = .ok (.getfield 7, 3) := dk_180 0 7 (dk_at dksX7_gateTold_0 16 rfl rfl)
theorem dX7_gateTold_19 : decode cX7_gateTold 19 = .ok (.bipush 24, 2) := dk_16 24 (dk_at dksX7_gateTold_0 19 rfl rfl)
theorem dX7_gateTold_21 : decode cX7_gateTold 21 = .ok (.iload_n 1, 1) := dk_27 (dk_at dksX7_gateTold_0 21 rfl rfl)
theorem dX7_gateTold_22 : decode cX7_gateTold 22 = .ok (.imul, 1) := dk_104 (dk_at dksX7_gateTold_0 22 rfl rfl)
theorem dX7_gateTold_23 : decode cX7_gateTold 23 = .ok (.iload_n 2, 1) := dk_28 (dk_at dksX7_gateTold_0 23 rfl rfl)
theorem dX7_gateTold_24 : decode cX7_gateTold 24 = .ok (.iadd, 1) := dk_96 (dk_at dksX7_gateTold_1 0 rfl rfl)
theorem dX7_gateTold_25 : decode cX7_gateTold 25 = .ok (.iaload, 1) := dk_46 (dk_at dksX7_gateTold_1 1 rfl rfl)
theorem dX7_gateTold_26 : decode cX7_gateTold 26 = .ok (.goto 24, 3) := dk_167 0 24 (dk_at dksX7_gateTold_1 2 rfl rfl)
theorem dX7_gateTold_29 : decode cX7_gateTold 29 = .ok (.iload_n 3, 1) := dk_29 (dk_at dksX7_gateTold_1 5 rfl rfl)
theorem dX7_gateTold_30 : decode cX7_gateTold 30 = .ok (.iconst 1, 1) := dk_4 (dk_at dksX7_gateTold_1 6 rfl rfl)
theorem dX7_gateTold_31 : decode cX7_gateTold 31 = .ok (.if_icmp .ne 17, 3) := dk_160 0 17 (dk_at dksX7_gateTold_1 7 rfl rfl)
theorem dX7_gateTold_34 : decode cX7_gateTold 34 = .ok (.aload_n 0, 1) := dk_42 (dk_at dksX7_gateTold_1 10 rfl rfl)
theorem dX7_gateTold_35 : decode cX7_gateTold 35 = .ok (.getfield 13, 3) := dk_180 0 13 (dk_at dksX7_gateTold_1 11 rfl rfl)
theorem dX7_gateTold_38 : decode cX7_gateTold 38 = .ok (.bipush 24, 2) := dk_16 24 (dk_at dksX7_gateTold_1 14 rfl rfl)
theorem dX7_gateTold_40 : decode cX7_gateTold 40 = .ok (.iload_n 1, 1) := dk_27 (dk_at dksX7_gateTold_1 16 rfl rfl)
theorem dX7_gateTold_41 : decode cX7_gateTold 41 = .ok (.imul, 1) := dk_104 (dk_at dksX7_gateTold_1 17 rfl rfl)
theorem dX7_gateTold_42 : decode cX7_gateTold 42 = .ok (.iload_n 2, 1) := dk_28 (dk_at dksX7_gateTold_1 18 rfl rfl)
theorem dX7_gateTold_43 : decode cX7_gateTold 43 = .ok (.iadd, 1) := dk_96 (dk_at dksX7_gateTold_1 19 rfl rfl)
theorem dX7_gateTold_44 : decode cX7_gateTold 44 = .ok (.iaload, 1) := dk_46 (dk_at dksX7_gateTold_1 20 rfl rfl)
theorem dX7_gateTold_45 : decode cX7_gateTold 45 = .ok (.goto 5, 3) := dk_167 0 5 (dk_at dksX7_gateTold_1 21 rfl rfl)
theorem dX7_gateTold_48 : decode cX7_gateTold 48 = .ok (.bipush (-7), 2) := dk_16 249 (dk_at dksX7_gateTold_2 0 rfl rfl)
theorem dX7_gateTold_50 : decode cX7_gateTold 50 = .ok (.ireturn, 1) := dk_172 (dk_at dksX7_gateTold_2 2 rfl rfl)
abbrev cX7_sortTold : ByteArray := prog_20_method_13_code
def yX7_sortTold : MethodName := ⟨RX7, "sortTold", "(II)I"⟩
def dkwX7_sortTold_2 : List UInt8 := [180, 0, 22, 5, 27, 104, 28, 6, 160, 0, 7, 4, 167, 0, 4, 3, 96, 46, 167, 0, 5, 16, 249, 172]
abbrev dktX7_sortTold_2 : List UInt8 := dkwX7_sortTold_2 ++ []
def dkwX7_sortTold_1 : List UInt8 := [28, 4, 160, 0, 12, 42, 180, 0, 19, 27, 46, 167, 0, 36, 28, 5, 6, 184, 0, 127, 153, 0, 25, 42]
abbrev dktX7_sortTold_1 : List UInt8 := dkwX7_sortTold_1 ++ dktX7_sortTold_2
def dkwX7_sortTold_0 : List UInt8 := [42, 27, 182, 0, 138, 154, 0, 6, 16, 251, 172, 28, 154, 0, 12, 42, 180, 0, 16, 27, 46, 167, 0, 50]
abbrev dktX7_sortTold_0 : List UInt8 := dkwX7_sortTold_0 ++ dktX7_sortTold_1
theorem dksX7_sortTold_0 : cX7_sortTold.data.toList.drop 0 = dktX7_sortTold_0 := by decide +kernel
theorem dksX7_sortTold_1 : cX7_sortTold.data.toList.drop 24 = dktX7_sortTold_1 := dk_seg dksX7_sortTold_0 24 rfl rfl
theorem dksX7_sortTold_2 : cX7_sortTold.data.toList.drop 48 = dktX7_sortTold_2 := dk_seg dksX7_sortTold_1 24 rfl rfl
theorem dX7_sortTold_0 : decode cX7_sortTold 0 = .ok (.aload_n 0, 1) := dk_42 (dk_at dksX7_sortTold_0 0 rfl rfl)
theorem dX7_sortTold_1 : decode cX7_sortTold 1 = .ok (.iload_n 1, 1) := dk_27 (dk_at dksX7_sortTold_0 1 rfl rfl)
theorem dX7_sortTold_2 : decode cX7_sortTold 2 = .ok (.invokevirtual 138, 3) := dk_182 0 138 (dk_at dksX7_sortTold_0 2 rfl rfl)
theorem dX7_sortTold_5 : decode cX7_sortTold 5 = .ok (.ifCond .ne 6, 3) := dk_154 0 6 (dk_at dksX7_sortTold_0 5 rfl rfl)
theorem dX7_sortTold_8 : decode cX7_sortTold 8 = .ok (.bipush (-5), 2) := dk_16 251 (dk_at dksX7_sortTold_0 8 rfl rfl)
theorem dX7_sortTold_10 : decode cX7_sortTold 10 = .ok (.ireturn, 1) := dk_172 (dk_at dksX7_sortTold_0 10 rfl rfl)
theorem dX7_sortTold_11 : decode cX7_sortTold 11 = .ok (.iload_n 2, 1) := dk_28 (dk_at dksX7_sortTold_0 11 rfl rfl)
theorem dX7_sortTold_12 : decode cX7_sortTold 12 = .ok (.ifCond .ne 12, 3) := dk_154 0 12 (dk_at dksX7_sortTold_0 12 rfl rfl)
theorem dX7_sortTold_15 : decode cX7_sortTold 15 = .ok (.aload_n 0, 1) := dk_42 (dk_at dksX7_sortTold_0 15 rfl rfl)
theorem dX7_sortTold_16 : decode cX7_sortTold 16 = .ok (.getfield 16, 3) := dk_180 0 16 (dk_at dksX7_sortTold_0 16 rfl rfl)
theorem dX7_sortTold_19 : decode cX7_sortTold 19 = .ok (.iload_n 1, 1) := dk_27 (dk_at dksX7_sortTold_0 19 rfl rfl)
theorem dX7_sortTold_20 : decode cX7_sortTold 20 = .ok (.iaload, 1) := dk_46 (dk_at dksX7_sortTold_0 20 rfl rfl)
theorem dX7_sortTold_21 : decode cX7_sortTold 21 = .ok (.goto 50, 3) := dk_167 0 50 (dk_at dksX7_sortTold_0 21 rfl rfl)
theorem dX7_sortTold_24 : decode cX7_sortTold 24 = .ok (.iload_n 2, 1) := dk_28 (dk_at dksX7_sortTold_1 0 rfl rfl)
theorem dX7_sortTold_25 : decode cX7_sortTold 25 = .ok (.iconst 1, 1) := dk_4 (dk_at dksX7_sortTold_1 1 rfl rfl)
theorem dX7_sortTold_26 : decode cX7_sortTold 26 = .ok (.if_icmp .ne 12, 3) := dk_160 0 12 (dk_at dksX7_sortTold_1 2 rfl rfl)
theorem dX7_sortTold_29 : decode cX7_sortTold 29 = .ok (.aload_n 0, 1) := dk_42 (dk_at dksX7_sortTold_1 5 rfl rfl)
theorem dX7_sortTold_30 : decode cX7_sortTold 30 = .ok (.getfield 19, 3) := dk_180 0 19 (dk_at dksX7_sortTold_1 6 rfl rfl)
theorem dX7_sortTold_33 : decode cX7_sortTold 33 = .ok (.iload_n 1, 1) := dk_27 (dk_at dksX7_sortTold_1 9 rfl rfl)
theorem dX7_sortTold_34 : decode cX7_sortTold 34 = .ok (.iaload, 1) := dk_46 (dk_at dksX7_sortTold_1 10 rfl rfl)
theorem dX7_sortTold_35 : decode cX7_sortTold 35 = .ok (.goto 36, 3) := dk_167 0 36 (dk_at dksX7_sortTold_1 11 rfl rfl)
theorem dX7_sortTold_38 : decode cX7_sortTold 38 = .ok (.iload_n 2, 1) := dk_28 (dk_at dksX7_sortTold_1 14 rfl rfl)
theorem dX7_sortTold_39 : decode cX7_sortTold 39 = .ok (.iconst 2, 1) := dk_5 (dk_at dksX7_sortTold_1 15 rfl rfl)
theorem dX7_sortTold_40 : decode cX7_sortTold 40 = .ok (.iconst 3, 1) := dk_6 (dk_at dksX7_sortTold_1 16 rfl rfl)
theorem dX7_sortTold_41 : decode cX7_sortTold 41 = .ok (.invokestatic 127, 3) := dk_184 0 127 (dk_at dksX7_sortTold_1 17 rfl rfl)
theorem dX7_sortTold_44 : decode cX7_sortTold 44 = .ok (.ifCond .eq 25, 3) := dk_153 0 25 (dk_at dksX7_sortTold_1 20 rfl rfl)
theorem dX7_sortTold_47 : decode cX7_sortTold 47 = .ok (.aload_n 0, 1) := dk_42 (dk_at dksX7_sortTold_1 23 rfl rfl)
theorem dX7_sortTold_48 : decode cX7_sortTold 48 = .ok (.getfield 22, 3) := dk_180 0 22 (dk_at dksX7_sortTold_2 0 rfl rfl)
theorem dX7_sortTold_51 : decode cX7_sortTold 51 = .ok (.iconst 2, 1) := dk_5 (dk_at dksX7_sortTold_2 3 rfl rfl)
theorem dX7_sortTold_52 : decode cX7_sortTold 52 = .ok (.iload_n 1, 1) := dk_27 (dk_at dksX7_sortTold_2 4 rfl rfl)
theorem dX7_sortTold_53 : decode cX7_sortTold 53 = .ok (.imul, 1) := dk_104 (dk_at dksX7_sortTold_2 5 rfl rfl)
theorem dX7_sortTold_54 : decode cX7_sortTold 54 = .ok (.iload_n 2, 1) := dk_28 (dk_at dksX7_sortTold_2 6 rfl rfl)
theorem dX7_sortTold_55 : decode cX7_sortTold 55 = .ok (.iconst 3, 1) := dk_6 (dk_at dksX7_sortTold_2 7 rfl rfl)
theorem dX7_sortTold_56 : decode cX7_sortTold 56 = .ok (.if_icmp .ne 7, 3) := dk_160 0 7 (dk_at dksX7_sortTold_2 8 rfl rfl)
theorem dX7_sortTold_59 : decode cX7_sortTold 59 = .ok (.iconst 1, 1) := dk_4 (dk_at dksX7_sortTold_2 11 rfl rfl)
theorem dX7_sortTold_60 : decode cX7_sortTold 60 = .ok (.goto 4, 3) := dk_167 0 4 (dk_at dksX7_sortTold_2 12 rfl rfl)
theorem dX7_sortTold_63 : decode cX7_sortTold 63 = .ok (.iconst 0, 1) := dk_3 (dk_at dksX7_sortTold_2 15 rfl rfl)
theorem dX7_sortTold_64 : decode cX7_sortTold 64 = .ok (.iadd, 1) := dk_96 (dk_at dksX7_sortTold_2 16 rfl rfl)
theorem dX7_sortTold_65 : decode cX7_sortTold 65 = .ok (.iaload, 1) := dk_46 (dk_at dksX7_sortTold_2 17 rfl rfl)
theorem dX7_sortTold_66 : decode cX7_sortTold 66 = .ok (.goto 5, 3) := dk_167 0 5 (dk_at dksX7_sortTold_2 18 rfl rfl)
theorem dX7_sortTold_69 : decode cX7_sortTold 69 = .ok (.bipush (-7), 2) := dk_16 249 (dk_at dksX7_sortTold_2 21 rfl rfl)
theorem dX7_sortTold_71 : decode cX7_sortTold 71 = .ok (.ireturn, 1) := dk_172 (dk_at dksX7_sortTold_2 23 rfl rfl)
abbrev cX7_feed : ByteArray := prog_20_method_14_code
def yX7_feed : MethodName := ⟨RX7, "feed", "(JI)I"⟩
def dkwX7_feed_3 : List UInt8 := [132, 4, 255, 167, 255, 217, 42, 180, 0, 145, 172]
abbrev dktX7_feed_3 : List UInt8 := dkwX7_feed_3 ++ []
def dkwX7_feed_2 : List UInt8 := [31, 16, 8, 21, 4, 104, 123, 20, 0, 148, 127, 136, 79, 42, 89, 180, 0, 145, 4, 96, 181, 0, 145]
abbrev dktX7_feed_2 : List UInt8 := dkwX7_feed_2 ++ dktX7_feed_3
def dkwX7_feed_1 : List UInt8 := [164, 0, 6, 16, 252, 172, 29, 4, 100, 54, 4, 21, 4, 155, 0, 40, 42, 180, 0, 37, 42, 180, 0, 145]
abbrev dktX7_feed_1 : List UInt8 := dkwX7_feed_1 ++ dktX7_feed_2
def dkwX7_feed_0 : List UInt8 := [29, 4, 16, 8, 184, 0, 127, 154, 0, 6, 16, 254, 172, 42, 180, 0, 145, 29, 96, 17, 0, 160]
abbrev dktX7_feed_0 : List UInt8 := dkwX7_feed_0 ++ dktX7_feed_1
theorem dksX7_feed_0 : cX7_feed.data.toList.drop 0 = dktX7_feed_0 := by decide +kernel
theorem dksX7_feed_1 : cX7_feed.data.toList.drop 22 = dktX7_feed_1 := dk_seg dksX7_feed_0 22 rfl rfl
theorem dksX7_feed_2 : cX7_feed.data.toList.drop 46 = dktX7_feed_2 := dk_seg dksX7_feed_1 24 rfl rfl
theorem dksX7_feed_3 : cX7_feed.data.toList.drop 69 = dktX7_feed_3 := dk_seg dksX7_feed_2 23 rfl rfl
theorem dX7_feed_0 : decode cX7_feed 0 = .ok (.iload_n 3, 1) := dk_29 (dk_at dksX7_feed_0 0 rfl rfl)
theorem dX7_feed_1 : decode cX7_feed 1 = .ok (.iconst 1, 1) := dk_4 (dk_at dksX7_feed_0 1 rfl rfl)
theorem dX7_feed_2 : decode cX7_feed 2 = .ok (.bipush 8, 2) := dk_16 8 (dk_at dksX7_feed_0 2 rfl rfl)
theorem dX7_feed_4 : decode cX7_feed 4 = .ok (.invokestatic 127, 3) := dk_184 0 127 (dk_at dksX7_feed_0 4 rfl rfl)
theorem dX7_feed_7 : decode cX7_feed 7 = .ok (.ifCond .ne 6, 3) := dk_154 0 6 (dk_at dksX7_feed_0 7 rfl rfl)
theorem dX7_feed_10 : decode cX7_feed 10 = .ok (.bipush (-2), 2) := dk_16 254 (dk_at dksX7_feed_0 10 rfl rfl)
theorem dX7_feed_12 : decode cX7_feed 12 = .ok (.ireturn, 1) := dk_172 (dk_at dksX7_feed_0 12 rfl rfl)
theorem dX7_feed_13 : decode cX7_feed 13 = .ok (.aload_n 0, 1) := dk_42 (dk_at dksX7_feed_0 13 rfl rfl)
theorem dX7_feed_14 : decode cX7_feed 14 = .ok (.getfield 145, 3) := dk_180 0 145 (dk_at dksX7_feed_0 14 rfl rfl)
theorem dX7_feed_17 : decode cX7_feed 17 = .ok (.iload_n 3, 1) := dk_29 (dk_at dksX7_feed_0 17 rfl rfl)
theorem dX7_feed_18 : decode cX7_feed 18 = .ok (.iadd, 1) := dk_96 (dk_at dksX7_feed_0 18 rfl rfl)
theorem dX7_feed_19 : decode cX7_feed 19 = .ok (.sipush 160, 3) := dk_17 0 160 (dk_at dksX7_feed_0 19 rfl rfl)
theorem dX7_feed_22 : decode cX7_feed 22 = .ok (.if_icmp .le 6, 3) := dk_164 0 6 (dk_at dksX7_feed_1 0 rfl rfl)
theorem dX7_feed_25 : decode cX7_feed 25 = .ok (.bipush (-4), 2) := dk_16 252 (dk_at dksX7_feed_1 3 rfl rfl)
theorem dX7_feed_27 : decode cX7_feed 27 = .ok (.ireturn, 1) := dk_172 (dk_at dksX7_feed_1 5 rfl rfl)
theorem dX7_feed_28 : decode cX7_feed 28 = .ok (.iload_n 3, 1) := dk_29 (dk_at dksX7_feed_1 6 rfl rfl)
theorem dX7_feed_29 : decode cX7_feed 29 = .ok (.iconst 1, 1) := dk_4 (dk_at dksX7_feed_1 7 rfl rfl)
theorem dX7_feed_30 : decode cX7_feed 30 = .ok (.isub, 1) := dk_100 (dk_at dksX7_feed_1 8 rfl rfl)
theorem dX7_feed_31 : decode cX7_feed 31 = .ok (.istore 4, 2) := dk_54 4 (dk_at dksX7_feed_1 9 rfl rfl)
theorem dX7_feed_33 : decode cX7_feed 33 = .ok (.iload 4, 2) := dk_21 4 (dk_at dksX7_feed_1 11 rfl rfl)
theorem dX7_feed_35 : decode cX7_feed 35 = .ok (.ifCond .lt 40, 3) := dk_155 0 40 (dk_at dksX7_feed_1 13 rfl rfl)
theorem dX7_feed_38 : decode cX7_feed 38 = .ok (.aload_n 0, 1) := dk_42 (dk_at dksX7_feed_1 16 rfl rfl)
theorem dX7_feed_39 : decode cX7_feed 39 = .ok (.getfield 37, 3) := dk_180 0 37 (dk_at dksX7_feed_1 17 rfl rfl)
theorem dX7_feed_42 : decode cX7_feed 42 = .ok (.aload_n 0, 1) := dk_42 (dk_at dksX7_feed_1 20 rfl rfl)
theorem dX7_feed_43 : decode cX7_feed 43 = .ok (.getfield 145, 3) := dk_180 0 145 (dk_at dksX7_feed_1 21 rfl rfl)
theorem dX7_feed_46 : decode cX7_feed 46 = .ok (.lload_n 1, 1) := dk_31 (dk_at dksX7_feed_2 0 rfl rfl)
theorem dX7_feed_47 : decode cX7_feed 47 = .ok (.bipush 8, 2) := dk_16 8 (dk_at dksX7_feed_2 1 rfl rfl)
theorem dX7_feed_49 : decode cX7_feed 49 = .ok (.iload 4, 2) := dk_21 4 (dk_at dksX7_feed_2 3 rfl rfl)
theorem dX7_feed_51 : decode cX7_feed 51 = .ok (.imul, 1) := dk_104 (dk_at dksX7_feed_2 5 rfl rfl)
theorem dX7_feed_52 : decode cX7_feed 52 = .ok (.lshr, 1) := dk_123 (dk_at dksX7_feed_2 6 rfl rfl)
theorem dX7_feed_53 : decode cX7_feed 53 = .ok (.ldc2_w 148, 3) := dk_20 0 148 (dk_at dksX7_feed_2 7 rfl rfl)
theorem dX7_feed_56 : decode cX7_feed 56 = .ok (.land, 1) := dk_127 (dk_at dksX7_feed_2 10 rfl rfl)
theorem dX7_feed_57 : decode cX7_feed 57 = .ok (.l2i, 1) := dk_136 (dk_at dksX7_feed_2 11 rfl rfl)
theorem dX7_feed_58 : decode cX7_feed 58 = .ok (.iastore, 1) := dk_79 (dk_at dksX7_feed_2 12 rfl rfl)
theorem dX7_feed_59 : decode cX7_feed 59 = .ok (.aload_n 0, 1) := dk_42 (dk_at dksX7_feed_2 13 rfl rfl)
theorem dX7_feed_60 : decode cX7_feed 60 = .ok (.dup, 1) := dk_89 (dk_at dksX7_feed_2 14 rfl rfl)
theorem dX7_feed_61 : decode cX7_feed 61 = .ok (.getfield 145, 3) := dk_180 0 145 (dk_at dksX7_feed_2 15 rfl rfl)
theorem dX7_feed_64 : decode cX7_feed 64 = .ok (.iconst 1, 1) := dk_4 (dk_at dksX7_feed_2 18 rfl rfl)
theorem dX7_feed_65 : decode cX7_feed 65 = .ok (.iadd, 1) := dk_96 (dk_at dksX7_feed_2 19 rfl rfl)
theorem dX7_feed_66 : decode cX7_feed 66 = .ok (.putfield 145, 3) := dk_181 0 145 (dk_at dksX7_feed_2 20 rfl rfl)
theorem dX7_feed_69 : decode cX7_feed 69 = .ok (.iinc 4 (-1), 3) := dk_132 4 255 (dk_at dksX7_feed_3 0 rfl rfl)
theorem dX7_feed_72 : decode cX7_feed 72 = .ok (.goto (-39), 3) := dk_167 255 217 (dk_at dksX7_feed_3 3 rfl rfl)
theorem dX7_feed_75 : decode cX7_feed 75 = .ok (.aload_n 0, 1) := dk_42 (dk_at dksX7_feed_3 6 rfl rfl)
theorem dX7_feed_76 : decode cX7_feed 76 = .ok (.getfield 145, 3) := dk_180 0 145 (dk_at dksX7_feed_3 7 rfl rfl)
theorem dX7_feed_79 : decode cX7_feed 79 = .ok (.ireturn, 1) := dk_172 (dk_at dksX7_feed_3 10 rfl rfl)
abbrev cX7_text : ByteArray := prog_20_method_25_code
def yX7_text : MethodName := ⟨RX7, "text", "()I"⟩
def dkwX7_text_7 : List UInt8 := [181, 0, 46, 42, 180, 0, 46, 4, 100, 172]
abbrev dktX7_text_7 : List UInt8 := dkwX7_text_7 ++ []
def dkwX7_text_6 : List UInt8 := [181, 0, 145, 27, 154, 0, 11, 16, 156, 42, 180, 0, 153, 100, 172, 42, 89, 180, 0, 46, 4, 96]
abbrev dktX7_text_6 : List UInt8 := dkwX7_text_6 ++ dktX7_text_7
def dkwX7_text_5 : List UInt8 := [167, 0, 4, 3, 60, 42, 180, 0, 43, 7, 42, 180, 0, 46, 104, 5, 96, 42, 180, 0, 166, 79, 42, 3]
abbrev dktX7_text_5 : List UInt8 := dkwX7_text_5 ++ dktX7_text_6
def dkwX7_text_4 : List UInt8 := [132, 2, 1, 167, 255, 184, 27, 153, 0, 20, 42, 182, 0, 189, 42, 180, 0, 156, 154, 0, 7, 4]
abbrev dktX7_text_4 : List UInt8 := dkwX7_text_4 ++ dktX7_text_5
def dkwX7_text_3 : List UInt8 := [96, 42, 180, 0, 166, 79, 27, 153, 0, 14, 42, 182, 0, 203, 153, 0, 7, 4, 167, 0, 4, 3, 60]
abbrev dktX7_text_3 : List UInt8 := dkwX7_text_3 ++ dktX7_text_4
def dkwX7_text_2 : List UInt8 := [180, 0, 159, 28, 160, 0, 7, 4, 167, 0, 4, 3, 60, 42, 180, 0, 43, 7, 42, 180, 0, 46, 104, 28]
abbrev dktX7_text_2 : List UInt8 := dkwX7_text_2 ++ dktX7_text_3
def dkwX7_text_1 : List UInt8 := [3, 61, 28, 5, 162, 0, 73, 27, 153, 0, 69, 42, 182, 0, 189, 42, 180, 0, 156, 6, 160, 0, 15, 42]
abbrev dktX7_text_1 : List UInt8 := dkwX7_text_1 ++ dktX7_text_2
def dkwX7_text_0 : List UInt8 := [42, 180, 0, 46, 16, 6, 160, 0, 6, 16, 252, 172, 42, 3, 181, 0, 150, 42, 3, 181, 0, 166, 4, 60]
abbrev dktX7_text_0 : List UInt8 := dkwX7_text_0 ++ dktX7_text_1
theorem dksX7_text_0 : cX7_text.data.toList.drop 0 = dktX7_text_0 := by decide +kernel
theorem dksX7_text_1 : cX7_text.data.toList.drop 24 = dktX7_text_1 := dk_seg dksX7_text_0 24 rfl rfl
theorem dksX7_text_2 : cX7_text.data.toList.drop 48 = dktX7_text_2 := dk_seg dksX7_text_1 24 rfl rfl
theorem dksX7_text_3 : cX7_text.data.toList.drop 72 = dktX7_text_3 := dk_seg dksX7_text_2 24 rfl rfl
theorem dksX7_text_4 : cX7_text.data.toList.drop 95 = dktX7_text_4 := dk_seg dksX7_text_3 23 rfl rfl
theorem dksX7_text_5 : cX7_text.data.toList.drop 117 = dktX7_text_5 := dk_seg dksX7_text_4 22 rfl rfl
theorem dksX7_text_6 : cX7_text.data.toList.drop 141 = dktX7_text_6 := dk_seg dksX7_text_5 24 rfl rfl
theorem dksX7_text_7 : cX7_text.data.toList.drop 163 = dktX7_text_7 := dk_seg dksX7_text_6 22 rfl rfl
theorem dX7_text_0 : decode cX7_text 0 = .ok (.aload_n 0, 1) := dk_42 (dk_at dksX7_text_0 0 rfl rfl)
theorem dX7_text_1 : decode cX7_text 1 = .ok (.getfield 46, 3) := dk_180 0 46 (dk_at dksX7_text_0 1 rfl rfl)
theorem dX7_text_4 : decode cX7_text 4 = .ok (.bipush 6, 2) := dk_16 6 (dk_at dksX7_text_0 4 rfl rfl)
theorem dX7_text_6 : decode cX7_text 6 = .ok (.if_icmp .ne 6, 3) := dk_160 0 6 (dk_at dksX7_text_0 6 rfl rfl)
theorem dX7_text_9 : decode cX7_text 9 = .ok (.bipush (-4), 2) := dk_16 252 (dk_at dksX7_text_0 9 rfl rfl)
theorem dX7_text_11 : decode cX7_text 11 = .ok (.ireturn, 1) := dk_172 (dk_at dksX7_text_0 11 rfl rfl)
theorem dX7_text_12 : decode cX7_text 12 = .ok (.aload_n 0, 1) := dk_42 (dk_at dksX7_text_0 12 rfl rfl)
theorem dX7_text_13 : decode cX7_text 13 = .ok (.iconst 0, 1) := dk_3 (dk_at dksX7_text_0 13 rfl rfl)
theorem dX7_text_14 : decode cX7_text 14 = .ok (.putfield 150, 3) := dk_181 0 150 (dk_at dksX7_text_0 14 rfl rfl)
theorem dX7_text_17 : decode cX7_text 17 = .ok (.aload_n 0, 1) := dk_42 (dk_at dksX7_text_0 17 rfl rfl)
theorem dX7_text_18 : decode cX7_text 18 = .ok (.iconst 0, 1) := dk_3 (dk_at dksX7_text_0 18 rfl rfl)
theorem dX7_text_19 : decode cX7_text 19 = .ok (.putfield 166, 3) := dk_181 0 166 (dk_at dksX7_text_0 19 rfl rfl)
theorem dX7_text_22 : decode cX7_text 22 = .ok (.iconst 1, 1) := dk_4 (dk_at dksX7_text_0 22 rfl rfl)
theorem dX7_text_23 : decode cX7_text 23 = .ok (.istore_n 1, 1) := dk_60 (dk_at dksX7_text_0 23 rfl rfl)
theorem dX7_text_24 : decode cX7_text 24 = .ok (.iconst 0, 1) := dk_3 (dk_at dksX7_text_1 0 rfl rfl)
theorem dX7_text_25 : decode cX7_text 25 = .ok (.istore_n 2, 1) := dk_61 (dk_at dksX7_text_1 1 rfl rfl)
theorem dX7_text_26 : decode cX7_text 26 = .ok (.iload_n 2, 1) := dk_28 (dk_at dksX7_text_1 2 rfl rfl)
theorem dX7_text_27 : decode cX7_text 27 = .ok (.iconst 2, 1) := dk_5 (dk_at dksX7_text_1 3 rfl rfl)
theorem dX7_text_28 : decode cX7_text 28 = .ok (.if_icmp .ge 73, 3) := dk_162 0 73 (dk_at dksX7_text_1 4 rfl rfl)
theorem dX7_text_31 : decode cX7_text 31 = .ok (.iload_n 1, 1) := dk_27 (dk_at dksX7_text_1 7 rfl rfl)
theorem dX7_text_32 : decode cX7_text 32 = .ok (.ifCond .eq 69, 3) := dk_153 0 69 (dk_at dksX7_text_1 8 rfl rfl)
theorem dX7_text_35 : decode cX7_text 35 = .ok (.aload_n 0, 1) := dk_42 (dk_at dksX7_text_1 11 rfl rfl)
theorem dX7_text_36 : decode cX7_text 36 = .ok (.invokevirtual 189, 3) := dk_182 0 189 (dk_at dksX7_text_1 12 rfl rfl)
theorem dX7_text_39 : decode cX7_text 39 = .ok (.aload_n 0, 1) := dk_42 (dk_at dksX7_text_1 15 rfl rfl)
theorem dX7_text_40 : decode cX7_text 40 = .ok (.getfield 156, 3) := dk_180 0 156 (dk_at dksX7_text_1 16 rfl rfl)
theorem dX7_text_43 : decode cX7_text 43 = .ok (.iconst 3, 1) := dk_6 (dk_at dksX7_text_1 19 rfl rfl)
theorem dX7_text_44 : decode cX7_text 44 = .ok (.if_icmp .ne 15, 3) := dk_160 0 15 (dk_at dksX7_text_1 20 rfl rfl)
theorem dX7_text_47 : decode cX7_text 47 = .ok (.aload_n 0, 1) := dk_42 (dk_at dksX7_text_1 23 rfl rfl)
theorem dX7_text_48 : decode cX7_text 48 = .ok (.getfield 159, 3) := dk_180 0 159 (dk_at dksX7_text_2 0 rfl rfl)
theorem dX7_text_51 : decode cX7_text 51 = .ok (.iload_n 2, 1) := dk_28 (dk_at dksX7_text_2 3 rfl rfl)
theorem dX7_text_52 : decode cX7_text 52 = .ok (.if_icmp .ne 7, 3) := dk_160 0 7 (dk_at dksX7_text_2 4 rfl rfl)
theorem dX7_text_55 : decode cX7_text 55 = .ok (.iconst 1, 1) := dk_4 (dk_at dksX7_text_2 7 rfl rfl)
theorem dX7_text_56 : decode cX7_text 56 = .ok (.goto 4, 3) := dk_167 0 4 (dk_at dksX7_text_2 8 rfl rfl)
theorem dX7_text_59 : decode cX7_text 59 = .ok (.iconst 0, 1) := dk_3 (dk_at dksX7_text_2 11 rfl rfl)
theorem dX7_text_60 : decode cX7_text 60 = .ok (.istore_n 1, 1) := dk_60 (dk_at dksX7_text_2 12 rfl rfl)
theorem dX7_text_61 : decode cX7_text 61 = .ok (.aload_n 0, 1) := dk_42 (dk_at dksX7_text_2 13 rfl rfl)
theorem dX7_text_62 : decode cX7_text 62 = .ok (.getfield 43, 3) := dk_180 0 43 (dk_at dksX7_text_2 14 rfl rfl)
theorem dX7_text_65 : decode cX7_text 65 = .ok (.iconst 4, 1) := dk_7 (dk_at dksX7_text_2 17 rfl rfl)
theorem dX7_text_66 : decode cX7_text 66 = .ok (.aload_n 0, 1) := dk_42 (dk_at dksX7_text_2 18 rfl rfl)
theorem dX7_text_67 : decode cX7_text 67 = .ok (.getfield 46, 3) := dk_180 0 46 (dk_at dksX7_text_2 19 rfl rfl)
theorem dX7_text_70 : decode cX7_text 70 = .ok (.imul, 1) := dk_104 (dk_at dksX7_text_2 22 rfl rfl)
theorem dX7_text_71 : decode cX7_text 71 = .ok (.iload_n 2, 1) := dk_28 (dk_at dksX7_text_2 23 rfl rfl)
theorem dX7_text_72 : decode cX7_text 72 = .ok (.iadd, 1) := dk_96 (dk_at dksX7_text_3 0 rfl rfl)
theorem dX7_text_73 : decode cX7_text 73 = .ok (.aload_n 0, 1) := dk_42 (dk_at dksX7_text_3 1 rfl rfl)
theorem dX7_text_74 : decode cX7_text 74 = .ok (.getfield 166, 3) := dk_180 0 166 (dk_at dksX7_text_3 2 rfl rfl)
theorem dX7_text_77 : decode cX7_text 77 = .ok (.iastore, 1) := dk_79 (dk_at dksX7_text_3 5 rfl rfl)
theorem dX7_text_78 : decode cX7_text 78 = .ok (.iload_n 1, 1) := dk_27 (dk_at dksX7_text_3 6 rfl rfl)
theorem dX7_text_79 : decode cX7_text 79 = .ok (.ifCond .eq 14, 3) := dk_153 0 14 (dk_at dksX7_text_3 7 rfl rfl)
theorem dX7_text_82 : decode cX7_text 82 = .ok (.aload_n 0, 1) := dk_42 (dk_at dksX7_text_3 10 rfl rfl)
theorem dX7_text_83 : decode cX7_text 83 = .ok (.invokevirtual 203, 3) := dk_182 0 203 (dk_at dksX7_text_3 11 rfl rfl)
theorem dX7_text_86 : decode cX7_text 86 = .ok (.ifCond .eq 7, 3) := dk_153 0 7 (dk_at dksX7_text_3 14 rfl rfl)
theorem dX7_text_89 : decode cX7_text 89 = .ok (.iconst 1, 1) := dk_4 (dk_at dksX7_text_3 17 rfl rfl)
theorem dX7_text_90 : decode cX7_text 90 = .ok (.goto 4, 3) := dk_167 0 4 (dk_at dksX7_text_3 18 rfl rfl)
theorem dX7_text_93 : decode cX7_text 93 = .ok (.iconst 0, 1) := dk_3 (dk_at dksX7_text_3 21 rfl rfl)
theorem dX7_text_94 : decode cX7_text 94 = .ok (.istore_n 1, 1) := dk_60 (dk_at dksX7_text_3 22 rfl rfl)
theorem dX7_text_95 : decode cX7_text 95 = .ok (.iinc 2 1, 3) := dk_132 2 1 (dk_at dksX7_text_4 0 rfl rfl)
theorem dX7_text_98 : decode cX7_text 98 = .ok (.goto (-72), 3) := dk_167 255 184 (dk_at dksX7_text_4 3 rfl rfl)
theorem dX7_text_101 : decode cX7_text 101 = .ok (.iload_n 1, 1) := dk_27 (dk_at dksX7_text_4 6 rfl rfl)
theorem dX7_text_102 : decode cX7_text 102 = .ok (.ifCond .eq 20, 3) := dk_153 0 20 (dk_at dksX7_text_4 7 rfl rfl)
theorem dX7_text_105 : decode cX7_text 105 = .ok (.aload_n 0, 1) := dk_42 (dk_at dksX7_text_4 10 rfl rfl)
theorem dX7_text_106 : decode cX7_text 106 = .ok (.invokevirtual 189, 3) := dk_182 0 189 (dk_at dksX7_text_4 11 rfl rfl)
theorem dX7_text_109 : decode cX7_text 109 = .ok (.aload_n 0, 1) := dk_42 (dk_at dksX7_text_4 14 rfl rfl)
theorem dX7_text_110 : decode cX7_text 110 = .ok (.getfield 156, 3) := dk_180 0 156 (dk_at dksX7_text_4 15 rfl rfl)
theorem dX7_text_113 : decode cX7_text 113 = .ok (.ifCond .ne 7, 3) := dk_154 0 7 (dk_at dksX7_text_4 18 rfl rfl)
theorem dX7_text_116 : decode cX7_text 116 = .ok (.iconst 1, 1) := dk_4 (dk_at dksX7_text_4 21 rfl rfl)
theorem dX7_text_117 : decode cX7_text 117 = .ok (.goto 4, 3) := dk_167 0 4 (dk_at dksX7_text_5 0 rfl rfl)
theorem dX7_text_120 : decode cX7_text 120 = .ok (.iconst 0, 1) := dk_3 (dk_at dksX7_text_5 3 rfl rfl)
theorem dX7_text_121 : decode cX7_text 121 = .ok (.istore_n 1, 1) := dk_60 (dk_at dksX7_text_5 4 rfl rfl)
theorem dX7_text_122 : decode cX7_text 122 = .ok (.aload_n 0, 1) := dk_42 (dk_at dksX7_text_5 5 rfl rfl)
theorem dX7_text_123 : decode cX7_text 123 = .ok (.getfield 43, 3) := dk_180 0 43 (dk_at dksX7_text_5 6 rfl rfl)
theorem dX7_text_126 : decode cX7_text 126 = .ok (.iconst 4, 1) := dk_7 (dk_at dksX7_text_5 9 rfl rfl)
theorem dX7_text_127 : decode cX7_text 127 = .ok (.aload_n 0, 1) := dk_42 (dk_at dksX7_text_5 10 rfl rfl)
theorem dX7_text_128 : decode cX7_text 128 = .ok (.getfield 46, 3) := dk_180 0 46 (dk_at dksX7_text_5 11 rfl rfl)
theorem dX7_text_131 : decode cX7_text 131 = .ok (.imul, 1) := dk_104 (dk_at dksX7_text_5 14 rfl rfl)
theorem dX7_text_132 : decode cX7_text 132 = .ok (.iconst 2, 1) := dk_5 (dk_at dksX7_text_5 15 rfl rfl)
theorem dX7_text_133 : decode cX7_text 133 = .ok (.iadd, 1) := dk_96 (dk_at dksX7_text_5 16 rfl rfl)
theorem dX7_text_134 : decode cX7_text 134 = .ok (.aload_n 0, 1) := dk_42 (dk_at dksX7_text_5 17 rfl rfl)
theorem dX7_text_135 : decode cX7_text 135 = .ok (.getfield 166, 3) := dk_180 0 166 (dk_at dksX7_text_5 18 rfl rfl)
theorem dX7_text_138 : decode cX7_text 138 = .ok (.iastore, 1) := dk_79 (dk_at dksX7_text_5 21 rfl rfl)
theorem dX7_text_139 : decode cX7_text 139 = .ok (.aload_n 0, 1) := dk_42 (dk_at dksX7_text_5 22 rfl rfl)
theorem dX7_text_140 : decode cX7_text 140 = .ok (.iconst 0, 1) := dk_3 (dk_at dksX7_text_5 23 rfl rfl)
theorem dX7_text_141 : decode cX7_text 141 = .ok (.putfield 145, 3) := dk_181 0 145 (dk_at dksX7_text_6 0 rfl rfl)
theorem dX7_text_144 : decode cX7_text 144 = .ok (.iload_n 1, 1) := dk_27 (dk_at dksX7_text_6 3 rfl rfl)
theorem dX7_text_145 : decode cX7_text 145 = .ok (.ifCond .ne 11, 3) := dk_154 0 11 (dk_at dksX7_text_6 4 rfl rfl)
theorem dX7_text_148 : decode cX7_text 148 = .ok (.bipush (-100), 2) := dk_16 156 (dk_at dksX7_text_6 7 rfl rfl)
theorem dX7_text_150 : decode cX7_text 150 = .ok (.aload_n 0, 1) := dk_42 (dk_at dksX7_text_6 9 rfl rfl)
theorem dX7_text_151 : decode cX7_text 151 = .ok (.getfield 153, 3) := dk_180 0 153 (dk_at dksX7_text_6 10 rfl rfl)
theorem dX7_text_154 : decode cX7_text 154 = .ok (.isub, 1) := dk_100 (dk_at dksX7_text_6 13 rfl rfl)
theorem dX7_text_155 : decode cX7_text 155 = .ok (.ireturn, 1) := dk_172 (dk_at dksX7_text_6 14 rfl rfl)
theorem dX7_text_156 : decode cX7_text 156 = .ok (.aload_n 0, 1) := dk_42 (dk_at dksX7_text_6 15 rfl rfl)
theorem dX7_text_157 : decode cX7_text 157 = .ok (.dup, 1) := dk_89 (dk_at dksX7_text_6 16 rfl rfl)
theorem dX7_text_158 : decode cX7_text 158 = .ok (.getfield 46, 3) := dk_180 0 46 (dk_at dksX7_text_6 17 rfl rfl)
theorem dX7_text_161 : decode cX7_text 161 = .ok (.iconst 1, 1) := dk_4 (dk_at dksX7_text_6 20 rfl rfl)
theorem dX7_text_162 : decode cX7_text 162 = .ok (.iadd, 1) := dk_96 (dk_at dksX7_text_6 21 rfl rfl)
theorem dX7_text_163 : decode cX7_text 163 = .ok (.putfield 46, 3) := dk_181 0 46 (dk_at dksX7_text_7 0 rfl rfl)
theorem dX7_text_166 : decode cX7_text 166 = .ok (.aload_n 0, 1) := dk_42 (dk_at dksX7_text_7 3 rfl rfl)
theorem dX7_text_167 : decode cX7_text 167 = .ok (.getfield 46, 3) := dk_180 0 46 (dk_at dksX7_text_7 4 rfl rfl)
theorem dX7_text_170 : decode cX7_text 170 = .ok (.iconst 1, 1) := dk_4 (dk_at dksX7_text_7 7 rfl rfl)
theorem dX7_text_171 : decode cX7_text 171 = .ok (.isub, 1) := dk_100 (dk_at dksX7_text_7 8 rfl rfl)
theorem dX7_text_172 : decode cX7_text 172 = .ok (.ireturn, 1) := dk_172 (dk_at dksX7_text_7 9 rfl rfl)
abbrev cX7_next : ByteArray := prog_20_method_16_code
def yX7_next : MethodName := ⟨RX7, "next", "()V"⟩
def dkwX7_next_16 : List UInt8 := [181, 0, 156, 42, 89, 180, 0, 150, 4, 96, 181, 0, 150, 177]
abbrev dktX7_next_16 : List UInt8 := dkwX7_next_16 ++ []
def dkwX7_next_15 : List UInt8 := [27, 16, 61, 160, 0, 7, 4, 167, 0, 4, 3, 61, 42, 28, 153, 0, 7, 27, 167, 0, 4, 2]
abbrev dktX7_next_15 : List UInt8 := dkwX7_next_15 ++ dktX7_next_16
def dkwX7_next_14 : List UInt8 := [27, 16, 43, 159, 0, 27, 27, 16, 45, 159, 0, 21, 27, 16, 42, 159, 0, 15, 27, 16, 60, 159, 0, 9]
abbrev dktX7_next_14 : List UInt8 := dkwX7_next_14 ++ dktX7_next_15
def dkwX7_next_13 : List UInt8 := [181, 0, 156, 167, 0, 80, 27, 16, 40, 159, 0, 45, 27, 16, 41, 159, 0, 39, 27, 16, 59, 159, 0, 33]
abbrev dktX7_next_13 : List UInt8 := dkwX7_next_13 ++ dktX7_next_14
def dkwX7_next_12 : List UInt8 := [89, 180, 0, 150, 4, 96, 181, 0, 150, 167, 255, 180, 42, 28, 7, 164, 0, 7, 2, 167, 0, 4, 4]
abbrev dktX7_next_12 : List UInt8 := dkwX7_next_12 ++ dktX7_next_13
def dkwX7_next_11 : List UInt8 := [42, 180, 0, 37, 42, 180, 0, 150, 46, 96, 16, 48, 100, 167, 0, 4, 3, 181, 0, 159, 132, 2, 1, 42]
abbrev dktX7_next_11 : List UInt8 := dkwX7_next_11 ++ dktX7_next_12
def dkwX7_next_10 : List UInt8 := [46, 16, 48, 16, 57, 184, 0, 127, 153, 0, 52, 42, 28, 7, 162, 0, 26, 16, 10, 42, 180, 0, 159, 104]
abbrev dktX7_next_10 : List UInt8 := dkwX7_next_10 ++ dktX7_next_11
def dkwX7_next_9 : List UInt8 := [153, 0, 101, 3, 61, 42, 180, 0, 150, 42, 180, 0, 145, 162, 0, 71, 42, 180, 0, 37, 42, 180, 0, 150]
abbrev dktX7_next_9 : List UInt8 := dkwX7_next_9 ++ dktX7_next_10
def dkwX7_next_8 : List UInt8 := [21, 4, 167, 0, 7, 21, 4, 5, 100, 181, 0, 159, 167, 0, 189, 27, 16, 48, 16, 57, 184, 0, 127]
abbrev dktX7_next_8 : List UInt8 := dkwX7_next_8 ++ dktX7_next_9
def dkwX7_next_7 : List UInt8 := [160, 0, 7, 2, 167, 0, 10, 7, 21, 4, 96, 16, 8, 100, 181, 0, 156, 42, 21, 4, 5, 162, 0, 8]
abbrev dktX7_next_7 : List UInt8 := dkwX7_next_7 ++ dktX7_next_8
def dkwX7_next_6 : List UInt8 := [5, 162, 0, 7, 6, 167, 0, 32, 21, 4, 16, 8, 162, 0, 7, 5, 167, 0, 21, 21, 4, 16, 11]
abbrev dktX7_next_6 : List UInt8 := dkwX7_next_6 ++ dktX7_next_7
def dkwX7_next_5 : List UInt8 := [162, 0, 21, 42, 180, 0, 93, 21, 4, 47, 32, 148, 153, 0, 9, 132, 4, 1, 167, 255, 234, 42, 21, 4]
abbrev dktX7_next_5 : List UInt8 := dkwX7_next_5 ++ dktX7_next_6
def dkwX7_next_4 : List UInt8 := [16, 97, 16, 122, 184, 0, 127, 153, 0, 101, 42, 182, 0, 162, 65, 3, 54, 4, 21, 4, 16, 11]
abbrev dktX7_next_4 : List UInt8 := dkwX7_next_4 ++ dktX7_next_5
def dkwX7_next_3 : List UInt8 := [42, 180, 0, 150, 42, 180, 0, 145, 160, 0, 4, 177, 42, 180, 0, 37, 42, 180, 0, 150, 46, 60, 27]
abbrev dktX7_next_3 : List UInt8 := dkwX7_next_3 ++ dktX7_next_4
def dkwX7_next_2 : List UInt8 := [181, 0, 150, 167, 255, 207, 42, 42, 180, 0, 150, 181, 0, 153, 42, 3, 181, 0, 156, 42, 3, 181, 0, 159]
abbrev dktX7_next_2 : List UInt8 := dkwX7_next_2 ++ dktX7_next_3
def dkwX7_next_1 : List UInt8 := [159, 0, 17, 42, 180, 0, 37, 42, 180, 0, 150, 46, 16, 10, 160, 0, 16, 42, 89, 180, 0, 150, 4, 96]
abbrev dktX7_next_1 : List UInt8 := dkwX7_next_1 ++ dktX7_next_2
def dkwX7_next_0 : List UInt8 := [42, 180, 0, 150, 42, 180, 0, 145, 162, 0, 44, 42, 180, 0, 37, 42, 180, 0, 150, 46, 16, 32]
abbrev dktX7_next_0 : List UInt8 := dkwX7_next_0 ++ dktX7_next_1
theorem dksX7_next_0 : cX7_next.data.toList.drop 0 = dktX7_next_0 := by decide +kernel
theorem dksX7_next_1 : cX7_next.data.toList.drop 22 = dktX7_next_1 := dk_seg dksX7_next_0 22 rfl rfl
theorem dksX7_next_2 : cX7_next.data.toList.drop 46 = dktX7_next_2 := dk_seg dksX7_next_1 24 rfl rfl
theorem dksX7_next_3 : cX7_next.data.toList.drop 70 = dktX7_next_3 := dk_seg dksX7_next_2 24 rfl rfl
theorem dksX7_next_4 : cX7_next.data.toList.drop 93 = dktX7_next_4 := dk_seg dksX7_next_3 23 rfl rfl
theorem dksX7_next_5 : cX7_next.data.toList.drop 115 = dktX7_next_5 := dk_seg dksX7_next_4 22 rfl rfl
theorem dksX7_next_6 : cX7_next.data.toList.drop 139 = dktX7_next_6 := dk_seg dksX7_next_5 24 rfl rfl
theorem dksX7_next_7 : cX7_next.data.toList.drop 162 = dktX7_next_7 := dk_seg dksX7_next_6 23 rfl rfl
theorem dksX7_next_8 : cX7_next.data.toList.drop 186 = dktX7_next_8 := dk_seg dksX7_next_7 24 rfl rfl
theorem dksX7_next_9 : cX7_next.data.toList.drop 209 = dktX7_next_9 := dk_seg dksX7_next_8 23 rfl rfl
theorem dksX7_next_10 : cX7_next.data.toList.drop 233 = dktX7_next_10 := dk_seg dksX7_next_9 24 rfl rfl
theorem dksX7_next_11 : cX7_next.data.toList.drop 257 = dktX7_next_11 := dk_seg dksX7_next_10 24 rfl rfl
theorem dksX7_next_12 : cX7_next.data.toList.drop 281 = dktX7_next_12 := dk_seg dksX7_next_11 24 rfl rfl
theorem dksX7_next_13 : cX7_next.data.toList.drop 304 = dktX7_next_13 := dk_seg dksX7_next_12 23 rfl rfl
theorem dksX7_next_14 : cX7_next.data.toList.drop 328 = dktX7_next_14 := dk_seg dksX7_next_13 24 rfl rfl
theorem dksX7_next_15 : cX7_next.data.toList.drop 352 = dktX7_next_15 := dk_seg dksX7_next_14 24 rfl rfl
theorem dksX7_next_16 : cX7_next.data.toList.drop 374 = dktX7_next_16 := dk_seg dksX7_next_15 22 rfl rfl
theorem dX7_next_0 : decode cX7_next 0 = .ok (.aload_n 0, 1) := dk_42 (dk_at dksX7_next_0 0 rfl rfl)
theorem dX7_next_1 : decode cX7_next 1 = .ok (.getfield 150, 3) := dk_180 0 150 (dk_at dksX7_next_0 1 rfl rfl)
theorem dX7_next_4 : decode cX7_next 4 = .ok (.aload_n 0, 1) := dk_42 (dk_at dksX7_next_0 4 rfl rfl)
theorem dX7_next_5 : decode cX7_next 5 = .ok (.getfield 145, 3) := dk_180 0 145 (dk_at dksX7_next_0 5 rfl rfl)
theorem dX7_next_8 : decode cX7_next 8 = .ok (.if_icmp .ge 44, 3) := dk_162 0 44 (dk_at dksX7_next_0 8 rfl rfl)
theorem dX7_next_11 : decode cX7_next 11 = .ok (.aload_n 0, 1) := dk_42 (dk_at dksX7_next_0 11 rfl rfl)
theorem dX7_next_12 : decode cX7_next 12 = .ok (.getfield 37, 3) := dk_180 0 37 (dk_at dksX7_next_0 12 rfl rfl)
theorem dX7_next_15 : decode cX7_next 15 = .ok (.aload_n 0, 1) := dk_42 (dk_at dksX7_next_0 15 rfl rfl)
theorem dX7_next_16 : decode cX7_next 16 = .ok (.getfield 150, 3) := dk_180 0 150 (dk_at dksX7_next_0 16 rfl rfl)
theorem dX7_next_19 : decode cX7_next 19 = .ok (.iaload, 1) := dk_46 (dk_at dksX7_next_0 19 rfl rfl)
theorem dX7_next_20 : decode cX7_next 20 = .ok (.bipush 32, 2) := dk_16 32 (dk_at dksX7_next_0 20 rfl rfl)
theorem dX7_next_22 : decode cX7_next 22 = .ok (.if_icmp .eq 17, 3) := dk_159 0 17 (dk_at dksX7_next_1 0 rfl rfl)
theorem dX7_next_25 : decode cX7_next 25 = .ok (.aload_n 0, 1) := dk_42 (dk_at dksX7_next_1 3 rfl rfl)
theorem dX7_next_26 : decode cX7_next 26 = .ok (.getfield 37, 3) := dk_180 0 37 (dk_at dksX7_next_1 4 rfl rfl)
theorem dX7_next_29 : decode cX7_next 29 = .ok (.aload_n 0, 1) := dk_42 (dk_at dksX7_next_1 7 rfl rfl)
theorem dX7_next_30 : decode cX7_next 30 = .ok (.getfield 150, 3) := dk_180 0 150 (dk_at dksX7_next_1 8 rfl rfl)
theorem dX7_next_33 : decode cX7_next 33 = .ok (.iaload, 1) := dk_46 (dk_at dksX7_next_1 11 rfl rfl)
theorem dX7_next_34 : decode cX7_next 34 = .ok (.bipush 10, 2) := dk_16 10 (dk_at dksX7_next_1 12 rfl rfl)
theorem dX7_next_36 : decode cX7_next 36 = .ok (.if_icmp .ne 16, 3) := dk_160 0 16 (dk_at dksX7_next_1 14 rfl rfl)
theorem dX7_next_39 : decode cX7_next 39 = .ok (.aload_n 0, 1) := dk_42 (dk_at dksX7_next_1 17 rfl rfl)
theorem dX7_next_40 : decode cX7_next 40 = .ok (.dup, 1) := dk_89 (dk_at dksX7_next_1 18 rfl rfl)
theorem dX7_next_41 : decode cX7_next 41 = .ok (.getfield 150, 3) := dk_180 0 150 (dk_at dksX7_next_1 19 rfl rfl)
theorem dX7_next_44 : decode cX7_next 44 = .ok (.iconst 1, 1) := dk_4 (dk_at dksX7_next_1 22 rfl rfl)
theorem dX7_next_45 : decode cX7_next 45 = .ok (.iadd, 1) := dk_96 (dk_at dksX7_next_1 23 rfl rfl)
theorem dX7_next_46 : decode cX7_next 46 = .ok (.putfield 150, 3) := dk_181 0 150 (dk_at dksX7_next_2 0 rfl rfl)
theorem dX7_next_49 : decode cX7_next 49 = .ok (.goto (-49), 3) := dk_167 255 207 (dk_at dksX7_next_2 3 rfl rfl)
theorem dX7_next_52 : decode cX7_next 52 = .ok (.aload_n 0, 1) := dk_42 (dk_at dksX7_next_2 6 rfl rfl)
theorem dX7_next_53 : decode cX7_next 53 = .ok (.aload_n 0, 1) := dk_42 (dk_at dksX7_next_2 7 rfl rfl)
theorem dX7_next_54 : decode cX7_next 54 = .ok (.getfield 150, 3) := dk_180 0 150 (dk_at dksX7_next_2 8 rfl rfl)
theorem dX7_next_57 : decode cX7_next 57 = .ok (.putfield 153, 3) := dk_181 0 153 (dk_at dksX7_next_2 11 rfl rfl)
theorem dX7_next_60 : decode cX7_next 60 = .ok (.aload_n 0, 1) := dk_42 (dk_at dksX7_next_2 14 rfl rfl)
theorem dX7_next_61 : decode cX7_next 61 = .ok (.iconst 0, 1) := dk_3 (dk_at dksX7_next_2 15 rfl rfl)
theorem dX7_next_62 : decode cX7_next 62 = .ok (.putfield 156, 3) := dk_181 0 156 (dk_at dksX7_next_2 16 rfl rfl)
theorem dX7_next_65 : decode cX7_next 65 = .ok (.aload_n 0, 1) := dk_42 (dk_at dksX7_next_2 19 rfl rfl)
theorem dX7_next_66 : decode cX7_next 66 = .ok (.iconst 0, 1) := dk_3 (dk_at dksX7_next_2 20 rfl rfl)
theorem dX7_next_67 : decode cX7_next 67 = .ok (.putfield 159, 3) := dk_181 0 159 (dk_at dksX7_next_2 21 rfl rfl)
theorem dX7_next_70 : decode cX7_next 70 = .ok (.aload_n 0, 1) := dk_42 (dk_at dksX7_next_3 0 rfl rfl)
theorem dX7_next_71 : decode cX7_next 71 = .ok (.getfield 150, 3) := dk_180 0 150 (dk_at dksX7_next_3 1 rfl rfl)
theorem dX7_next_74 : decode cX7_next 74 = .ok (.aload_n 0, 1) := dk_42 (dk_at dksX7_next_3 4 rfl rfl)
theorem dX7_next_75 : decode cX7_next 75 = .ok (.getfield 145, 3) := dk_180 0 145 (dk_at dksX7_next_3 5 rfl rfl)
theorem dX7_next_78 : decode cX7_next 78 = .ok (.if_icmp .ne 4, 3) := dk_160 0 4 (dk_at dksX7_next_3 8 rfl rfl)
theorem dX7_next_81 : decode cX7_next 81 = .ok (.return_, 1) := dk_177 (dk_at dksX7_next_3 11 rfl rfl)
theorem dX7_next_82 : decode cX7_next 82 = .ok (.aload_n 0, 1) := dk_42 (dk_at dksX7_next_3 12 rfl rfl)
theorem dX7_next_83 : decode cX7_next 83 = .ok (.getfield 37, 3) := dk_180 0 37 (dk_at dksX7_next_3 13 rfl rfl)
theorem dX7_next_86 : decode cX7_next 86 = .ok (.aload_n 0, 1) := dk_42 (dk_at dksX7_next_3 16 rfl rfl)
theorem dX7_next_87 : decode cX7_next 87 = .ok (.getfield 150, 3) := dk_180 0 150 (dk_at dksX7_next_3 17 rfl rfl)
theorem dX7_next_90 : decode cX7_next 90 = .ok (.iaload, 1) := dk_46 (dk_at dksX7_next_3 20 rfl rfl)
theorem dX7_next_91 : decode cX7_next 91 = .ok (.istore_n 1, 1) := dk_60 (dk_at dksX7_next_3 21 rfl rfl)
theorem dX7_next_92 : decode cX7_next 92 = .ok (.iload_n 1, 1) := dk_27 (dk_at dksX7_next_3 22 rfl rfl)
theorem dX7_next_93 : decode cX7_next 93 = .ok (.bipush 97, 2) := dk_16 97 (dk_at dksX7_next_4 0 rfl rfl)
theorem dX7_next_95 : decode cX7_next 95 = .ok (.bipush 122, 2) := dk_16 122 (dk_at dksX7_next_4 2 rfl rfl)
theorem dX7_next_97 : decode cX7_next 97 = .ok (.invokestatic 127, 3) := dk_184 0 127 (dk_at dksX7_next_4 4 rfl rfl)
theorem dX7_next_100 : decode cX7_next 100 = .ok (.ifCond .eq 101, 3) := dk_153 0 101 (dk_at dksX7_next_4 7 rfl rfl)
theorem dX7_next_103 : decode cX7_next 103 = .ok (.aload_n 0, 1) := dk_42 (dk_at dksX7_next_4 10 rfl rfl)
theorem dX7_next_104 : decode cX7_next 104 = .ok (.invokevirtual 162, 3) := dk_182 0 162 (dk_at dksX7_next_4 11 rfl rfl)
theorem dX7_next_107 : decode cX7_next 107 = .ok (.lstore_n 2, 1) := dk_65 (dk_at dksX7_next_4 14 rfl rfl)
theorem dX7_next_108 : decode cX7_next 108 = .ok (.iconst 0, 1) := dk_3 (dk_at dksX7_next_4 15 rfl rfl)
theorem dX7_next_109 : decode cX7_next 109 = .ok (.istore 4, 2) := dk_54 4 (dk_at dksX7_next_4 16 rfl rfl)
theorem dX7_next_111 : decode cX7_next 111 = .ok (.iload 4, 2) := dk_21 4 (dk_at dksX7_next_4 18 rfl rfl)
theorem dX7_next_113 : decode cX7_next 113 = .ok (.bipush 11, 2) := dk_16 11 (dk_at dksX7_next_4 20 rfl rfl)
theorem dX7_next_115 : decode cX7_next 115 = .ok (.if_icmp .ge 21, 3) := dk_162 0 21 (dk_at dksX7_next_5 0 rfl rfl)
theorem dX7_next_118 : decode cX7_next 118 = .ok (.aload_n 0, 1) := dk_42 (dk_at dksX7_next_5 3 rfl rfl)
theorem dX7_next_119 : decode cX7_next 119 = .ok (.getfield 93, 3) := dk_180 0 93 (dk_at dksX7_next_5 4 rfl rfl)
theorem dX7_next_122 : decode cX7_next 122 = .ok (.iload 4, 2) := dk_21 4 (dk_at dksX7_next_5 7 rfl rfl)
theorem dX7_next_124 : decode cX7_next 124 = .ok (.laload, 1) := dk_47 (dk_at dksX7_next_5 9 rfl rfl)
theorem dX7_next_125 : decode cX7_next 125 = .ok (.lload_n 2, 1) := dk_32 (dk_at dksX7_next_5 10 rfl rfl)
theorem dX7_next_126 : decode cX7_next 126 = .ok (.lcmp, 1) := dk_148 (dk_at dksX7_next_5 11 rfl rfl)
theorem dX7_next_127 : decode cX7_next 127 = .ok (.ifCond .eq 9, 3) := dk_153 0 9 (dk_at dksX7_next_5 12 rfl rfl)
theorem dX7_next_130 : decode cX7_next 130 = .ok (.iinc 4 1, 3) := dk_132 4 1 (dk_at dksX7_next_5 15 rfl rfl)
theorem dX7_next_133 : decode cX7_next 133 = .ok (.goto (-22), 3) := dk_167 255 234 (dk_at dksX7_next_5 18 rfl rfl)
theorem dX7_next_136 : decode cX7_next 136 = .ok (.aload_n 0, 1) := dk_42 (dk_at dksX7_next_5 21 rfl rfl)
theorem dX7_next_137 : decode cX7_next 137 = .ok (.iload 4, 2) := dk_21 4 (dk_at dksX7_next_5 22 rfl rfl)
theorem dX7_next_139 : decode cX7_next 139 = .ok (.iconst 2, 1) := dk_5 (dk_at dksX7_next_6 0 rfl rfl)
theorem dX7_next_140 : decode cX7_next 140 = .ok (.if_icmp .ge 7, 3) := dk_162 0 7 (dk_at dksX7_next_6 1 rfl rfl)
theorem dX7_next_143 : decode cX7_next 143 = .ok (.iconst 3, 1) := dk_6 (dk_at dksX7_next_6 4 rfl rfl)
theorem dX7_next_144 : decode cX7_next 144 = .ok (.goto 32, 3) := dk_167 0 32 (dk_at dksX7_next_6 5 rfl rfl)
theorem dX7_next_147 : decode cX7_next 147 = .ok (.iload 4, 2) := dk_21 4 (dk_at dksX7_next_6 8 rfl rfl)
theorem dX7_next_149 : decode cX7_next 149 = .ok (.bipush 8, 2) := dk_16 8 (dk_at dksX7_next_6 10 rfl rfl)
theorem dX7_next_151 : decode cX7_next 151 = .ok (.if_icmp .ge 7, 3) := dk_162 0 7 (dk_at dksX7_next_6 12 rfl rfl)
theorem dX7_next_154 : decode cX7_next 154 = .ok (.iconst 2, 1) := dk_5 (dk_at dksX7_next_6 15 rfl rfl)
theorem dX7_next_155 : decode cX7_next 155 = .ok (.goto 21, 3) := dk_167 0 21 (dk_at dksX7_next_6 16 rfl rfl)
theorem dX7_next_158 : decode cX7_next 158 = .ok (.iload 4, 2) := dk_21 4 (dk_at dksX7_next_6 19 rfl rfl)
theorem dX7_next_160 : decode cX7_next 160 = .ok (.bipush 11, 2) := dk_16 11 (dk_at dksX7_next_6 21 rfl rfl)
theorem dX7_next_162 : decode cX7_next 162 = .ok (.if_icmp .ne 7, 3) := dk_160 0 7 (dk_at dksX7_next_7 0 rfl rfl)
theorem dX7_next_165 : decode cX7_next 165 = .ok (.iconst (-1), 1) := dk_2 (dk_at dksX7_next_7 3 rfl rfl)
theorem dX7_next_166 : decode cX7_next 166 = .ok (.goto 10, 3) := dk_167 0 10 (dk_at dksX7_next_7 4 rfl rfl)
theorem dX7_next_169 : decode cX7_next 169 = .ok (.iconst 4, 1) := dk_7 (dk_at dksX7_next_7 7 rfl rfl)
theorem dX7_next_170 : decode cX7_next 170 = .ok (.iload 4, 2) := dk_21 4 (dk_at dksX7_next_7 8 rfl rfl)
theorem dX7_next_172 : decode cX7_next 172 = .ok (.iadd, 1) := dk_96 (dk_at dksX7_next_7 10 rfl rfl)
theorem dX7_next_173 : decode cX7_next 173 = .ok (.bipush 8, 2) := dk_16 8 (dk_at dksX7_next_7 11 rfl rfl)
theorem dX7_next_175 : decode cX7_next 175 = .ok (.isub, 1) := dk_100 (dk_at dksX7_next_7 13 rfl rfl)
theorem dX7_next_176 : decode cX7_next 176 = .ok (.putfield 156, 3) := dk_181 0 156 (dk_at dksX7_next_7 14 rfl rfl)
theorem dX7_next_179 : decode cX7_next 179 = .ok (.aload_n 0, 1) := dk_42 (dk_at dksX7_next_7 17 rfl rfl)
theorem dX7_next_180 : decode cX7_next 180 = .ok (.iload 4, 2) := dk_21 4 (dk_at dksX7_next_7 18 rfl rfl)
theorem dX7_next_182 : decode cX7_next 182 = .ok (.iconst 2, 1) := dk_5 (dk_at dksX7_next_7 20 rfl rfl)
theorem dX7_next_183 : decode cX7_next 183 = .ok (.if_icmp .ge 8, 3) := dk_162 0 8 (dk_at dksX7_next_7 21 rfl rfl)
theorem dX7_next_186 : decode cX7_next 186 = .ok (.iload 4, 2) := dk_21 4 (dk_at dksX7_next_8 0 rfl rfl)
theorem dX7_next_188 : decode cX7_next 188 = .ok (.goto 7, 3) := dk_167 0 7 (dk_at dksX7_next_8 2 rfl rfl)
theorem dX7_next_191 : decode cX7_next 191 = .ok (.iload 4, 2) := dk_21 4 (dk_at dksX7_next_8 5 rfl rfl)
theorem dX7_next_193 : decode cX7_next 193 = .ok (.iconst 2, 1) := dk_5 (dk_at dksX7_next_8 7 rfl rfl)
theorem dX7_next_194 : decode cX7_next 194 = .ok (.isub, 1) := dk_100 (dk_at dksX7_next_8 8 rfl rfl)
theorem dX7_next_195 : decode cX7_next 195 = .ok (.putfield 159, 3) := dk_181 0 159 (dk_at dksX7_next_8 9 rfl rfl)
theorem dX7_next_198 : decode cX7_next 198 = .ok (.goto 189, 3) := dk_167 0 189 (dk_at dksX7_next_8 12 rfl rfl)
theorem dX7_next_201 : decode cX7_next 201 = .ok (.iload_n 1, 1) := dk_27 (dk_at dksX7_next_8 15 rfl rfl)
theorem dX7_next_202 : decode cX7_next 202 = .ok (.bipush 48, 2) := dk_16 48 (dk_at dksX7_next_8 16 rfl rfl)
theorem dX7_next_204 : decode cX7_next 204 = .ok (.bipush 57, 2) := dk_16 57 (dk_at dksX7_next_8 18 rfl rfl)
theorem dX7_next_206 : decode cX7_next 206 = .ok (.invokestatic 127, 3) := dk_184 0 127 (dk_at dksX7_next_8 20 rfl rfl)
theorem dX7_next_209 : decode cX7_next 209 = .ok (.ifCond .eq 101, 3) := dk_153 0 101 (dk_at dksX7_next_9 0 rfl rfl)
theorem dX7_next_212 : decode cX7_next 212 = .ok (.iconst 0, 1) := dk_3 (dk_at dksX7_next_9 3 rfl rfl)
theorem dX7_next_213 : decode cX7_next 213 = .ok (.istore_n 2, 1) := dk_61 (dk_at dksX7_next_9 4 rfl rfl)
theorem dX7_next_214 : decode cX7_next 214 = .ok (.aload_n 0, 1) := dk_42 (dk_at dksX7_next_9 5 rfl rfl)
theorem dX7_next_215 : decode cX7_next 215 = .ok (.getfield 150, 3) := dk_180 0 150 (dk_at dksX7_next_9 6 rfl rfl)
theorem dX7_next_218 : decode cX7_next 218 = .ok (.aload_n 0, 1) := dk_42 (dk_at dksX7_next_9 9 rfl rfl)
theorem dX7_next_219 : decode cX7_next 219 = .ok (.getfield 145, 3) := dk_180 0 145 (dk_at dksX7_next_9 10 rfl rfl)
theorem dX7_next_222 : decode cX7_next 222 = .ok (.if_icmp .ge 71, 3) := dk_162 0 71 (dk_at dksX7_next_9 13 rfl rfl)
theorem dX7_next_225 : decode cX7_next 225 = .ok (.aload_n 0, 1) := dk_42 (dk_at dksX7_next_9 16 rfl rfl)
theorem dX7_next_226 : decode cX7_next 226 = .ok (.getfield 37, 3) := dk_180 0 37 (dk_at dksX7_next_9 17 rfl rfl)
theorem dX7_next_229 : decode cX7_next 229 = .ok (.aload_n 0, 1) := dk_42 (dk_at dksX7_next_9 20 rfl rfl)
theorem dX7_next_230 : decode cX7_next 230 = .ok (.getfield 150, 3) := dk_180 0 150 (dk_at dksX7_next_9 21 rfl rfl)
theorem dX7_next_233 : decode cX7_next 233 = .ok (.iaload, 1) := dk_46 (dk_at dksX7_next_10 0 rfl rfl)
theorem dX7_next_234 : decode cX7_next 234 = .ok (.bipush 48, 2) := dk_16 48 (dk_at dksX7_next_10 1 rfl rfl)
theorem dX7_next_236 : decode cX7_next 236 = .ok (.bipush 57, 2) := dk_16 57 (dk_at dksX7_next_10 3 rfl rfl)
theorem dX7_next_238 : decode cX7_next 238 = .ok (.invokestatic 127, 3) := dk_184 0 127 (dk_at dksX7_next_10 5 rfl rfl)
theorem dX7_next_241 : decode cX7_next 241 = .ok (.ifCond .eq 52, 3) := dk_153 0 52 (dk_at dksX7_next_10 8 rfl rfl)
theorem dX7_next_244 : decode cX7_next 244 = .ok (.aload_n 0, 1) := dk_42 (dk_at dksX7_next_10 11 rfl rfl)
theorem dX7_next_245 : decode cX7_next 245 = .ok (.iload_n 2, 1) := dk_28 (dk_at dksX7_next_10 12 rfl rfl)
theorem dX7_next_246 : decode cX7_next 246 = .ok (.iconst 4, 1) := dk_7 (dk_at dksX7_next_10 13 rfl rfl)
theorem dX7_next_247 : decode cX7_next 247 = .ok (.if_icmp .ge 26, 3) := dk_162 0 26 (dk_at dksX7_next_10 14 rfl rfl)
theorem dX7_next_250 : decode cX7_next 250 = .ok (.bipush 10, 2) := dk_16 10 (dk_at dksX7_next_10 17 rfl rfl)
theorem dX7_next_252 : decode cX7_next 252 = .ok (.aload_n 0, 1) := dk_42 (dk_at dksX7_next_10 19 rfl rfl)
theorem dX7_next_253 : decode cX7_next 253 = .ok (.getfield 159, 3) := dk_180 0 159 (dk_at dksX7_next_10 20 rfl rfl)
theorem dX7_next_256 : decode cX7_next 256 = .ok (.imul, 1) := dk_104 (dk_at dksX7_next_10 23 rfl rfl)
theorem dX7_next_257 : decode cX7_next 257 = .ok (.aload_n 0, 1) := dk_42 (dk_at dksX7_next_11 0 rfl rfl)
theorem dX7_next_258 : decode cX7_next 258 = .ok (.getfield 37, 3) := dk_180 0 37 (dk_at dksX7_next_11 1 rfl rfl)
theorem dX7_next_261 : decode cX7_next 261 = .ok (.aload_n 0, 1) := dk_42 (dk_at dksX7_next_11 4 rfl rfl)
theorem dX7_next_262 : decode cX7_next 262 = .ok (.getfield 150, 3) := dk_180 0 150 (dk_at dksX7_next_11 5 rfl rfl)
theorem dX7_next_265 : decode cX7_next 265 = .ok (.iaload, 1) := dk_46 (dk_at dksX7_next_11 8 rfl rfl)
theorem dX7_next_266 : decode cX7_next 266 = .ok (.iadd, 1) := dk_96 (dk_at dksX7_next_11 9 rfl rfl)
theorem dX7_next_267 : decode cX7_next 267 = .ok (.bipush 48, 2) := dk_16 48 (dk_at dksX7_next_11 10 rfl rfl)
theorem dX7_next_269 : decode cX7_next 269 = .ok (.isub, 1) := dk_100 (dk_at dksX7_next_11 12 rfl rfl)
theorem dX7_next_270 : decode cX7_next 270 = .ok (.goto 4, 3) := dk_167 0 4 (dk_at dksX7_next_11 13 rfl rfl)
theorem dX7_next_273 : decode cX7_next 273 = .ok (.iconst 0, 1) := dk_3 (dk_at dksX7_next_11 16 rfl rfl)
theorem dX7_next_274 : decode cX7_next 274 = .ok (.putfield 159, 3) := dk_181 0 159 (dk_at dksX7_next_11 17 rfl rfl)
theorem dX7_next_277 : decode cX7_next 277 = .ok (.iinc 2 1, 3) := dk_132 2 1 (dk_at dksX7_next_11 20 rfl rfl)
theorem dX7_next_280 : decode cX7_next 280 = .ok (.aload_n 0, 1) := dk_42 (dk_at dksX7_next_11 23 rfl rfl)
theorem dX7_next_281 : decode cX7_next 281 = .ok (.dup, 1) := dk_89 (dk_at dksX7_next_12 0 rfl rfl)
theorem dX7_next_282 : decode cX7_next 282 = .ok (.getfield 150, 3) := dk_180 0 150 (dk_at dksX7_next_12 1 rfl rfl)
theorem dX7_next_285 : decode cX7_next 285 = .ok (.iconst 1, 1) := dk_4 (dk_at dksX7_next_12 4 rfl rfl)
theorem dX7_next_286 : decode cX7_next 286 = .ok (.iadd, 1) := dk_96 (dk_at dksX7_next_12 5 rfl rfl)
theorem dX7_next_287 : decode cX7_next 287 = .ok (.putfield 150, 3) := dk_181 0 150 (dk_at dksX7_next_12 6 rfl rfl)
theorem dX7_next_290 : decode cX7_next 290 = .ok (.goto (-76), 3) := dk_167 255 180 (dk_at dksX7_next_12 9 rfl rfl)
theorem dX7_next_293 : decode cX7_next 293 = .ok (.aload_n 0, 1) := dk_42 (dk_at dksX7_next_12 12 rfl rfl)
theorem dX7_next_294 : decode cX7_next 294 = .ok (.iload_n 2, 1) := dk_28 (dk_at dksX7_next_12 13 rfl rfl)
theorem dX7_next_295 : decode cX7_next 295 = .ok (.iconst 4, 1) := dk_7 (dk_at dksX7_next_12 14 rfl rfl)
theorem dX7_next_296 : decode cX7_next 296 = .ok (.if_icmp .le 7, 3) := dk_164 0 7 (dk_at dksX7_next_12 15 rfl rfl)
theorem dX7_next_299 : decode cX7_next 299 = .ok (.iconst (-1), 1) := dk_2 (dk_at dksX7_next_12 18 rfl rfl)
theorem dX7_next_300 : decode cX7_next 300 = .ok (.goto 4, 3) := dk_167 0 4 (dk_at dksX7_next_12 19 rfl rfl)
theorem dX7_next_303 : decode cX7_next 303 = .ok (.iconst 1, 1) := dk_4 (dk_at dksX7_next_12 22 rfl rfl)
theorem dX7_next_304 : decode cX7_next 304 = .ok (.putfield 156, 3) := dk_181 0 156 (dk_at dksX7_next_13 0 rfl rfl)
theorem dX7_next_307 : decode cX7_next 307 = .ok (.goto 80, 3) := dk_167 0 80 (dk_at dksX7_next_13 3 rfl rfl)
theorem dX7_next_310 : decode cX7_next 310 = .ok (.iload_n 1, 1) := dk_27 (dk_at dksX7_next_13 6 rfl rfl)
theorem dX7_next_311 : decode cX7_next 311 = .ok (.bipush 40, 2) := dk_16 40 (dk_at dksX7_next_13 7 rfl rfl)
theorem dX7_next_313 : decode cX7_next 313 = .ok (.if_icmp .eq 45, 3) := dk_159 0 45 (dk_at dksX7_next_13 9 rfl rfl)
theorem dX7_next_316 : decode cX7_next 316 = .ok (.iload_n 1, 1) := dk_27 (dk_at dksX7_next_13 12 rfl rfl)
theorem dX7_next_317 : decode cX7_next 317 = .ok (.bipush 41, 2) := dk_16 41 (dk_at dksX7_next_13 13 rfl rfl)
theorem dX7_next_319 : decode cX7_next 319 = .ok (.if_icmp .eq 39, 3) := dk_159 0 39 (dk_at dksX7_next_13 15 rfl rfl)
theorem dX7_next_322 : decode cX7_next 322 = .ok (.iload_n 1, 1) := dk_27 (dk_at dksX7_next_13 18 rfl rfl)
theorem dX7_next_323 : decode cX7_next 323 = .ok (.bipush 59, 2) := dk_16 59 (dk_at dksX7_next_13 19 rfl rfl)
theorem dX7_next_325 : decode cX7_next 325 = .ok (.if_icmp .eq 33, 3) := dk_159 0 33 (dk_at dksX7_next_13 21 rfl rfl)
theorem dX7_next_328 : decode cX7_next 328 = .ok (.iload_n 1, 1) := dk_27 (dk_at dksX7_next_14 0 rfl rfl)
theorem dX7_next_329 : decode cX7_next 329 = .ok (.bipush 43, 2) := dk_16 43 (dk_at dksX7_next_14 1 rfl rfl)
theorem dX7_next_331 : decode cX7_next 331 = .ok (.if_icmp .eq 27, 3) := dk_159 0 27 (dk_at dksX7_next_14 3 rfl rfl)
theorem dX7_next_334 : decode cX7_next 334 = .ok (.iload_n 1, 1) := dk_27 (dk_at dksX7_next_14 6 rfl rfl)
theorem dX7_next_335 : decode cX7_next 335 = .ok (.bipush 45, 2) := dk_16 45 (dk_at dksX7_next_14 7 rfl rfl)
theorem dX7_next_337 : decode cX7_next 337 = .ok (.if_icmp .eq 21, 3) := dk_159 0 21 (dk_at dksX7_next_14 9 rfl rfl)
theorem dX7_next_340 : decode cX7_next 340 = .ok (.iload_n 1, 1) := dk_27 (dk_at dksX7_next_14 12 rfl rfl)
theorem dX7_next_341 : decode cX7_next 341 = .ok (.bipush 42, 2) := dk_16 42 (dk_at dksX7_next_14 13 rfl rfl)
theorem dX7_next_343 : decode cX7_next 343 = .ok (.if_icmp .eq 15, 3) := dk_159 0 15 (dk_at dksX7_next_14 15 rfl rfl)
theorem dX7_next_346 : decode cX7_next 346 = .ok (.iload_n 1, 1) := dk_27 (dk_at dksX7_next_14 18 rfl rfl)
theorem dX7_next_347 : decode cX7_next 347 = .ok (.bipush 60, 2) := dk_16 60 (dk_at dksX7_next_14 19 rfl rfl)
theorem dX7_next_349 : decode cX7_next 349 = .ok (.if_icmp .eq 9, 3) := dk_159 0 9 (dk_at dksX7_next_14 21 rfl rfl)
theorem dX7_next_352 : decode cX7_next 352 = .ok (.iload_n 1, 1) := dk_27 (dk_at dksX7_next_15 0 rfl rfl)
theorem dX7_next_353 : decode cX7_next 353 = .ok (.bipush 61, 2) := dk_16 61 (dk_at dksX7_next_15 1 rfl rfl)
theorem dX7_next_355 : decode cX7_next 355 = .ok (.if_icmp .ne 7, 3) := dk_160 0 7 (dk_at dksX7_next_15 3 rfl rfl)
theorem dX7_next_358 : decode cX7_next 358 = .ok (.iconst 1, 1) := dk_4 (dk_at dksX7_next_15 6 rfl rfl)
theorem dX7_next_359 : decode cX7_next 359 = .ok (.goto 4, 3) := dk_167 0 4 (dk_at dksX7_next_15 7 rfl rfl)
theorem dX7_next_362 : decode cX7_next 362 = .ok (.iconst 0, 1) := dk_3 (dk_at dksX7_next_15 10 rfl rfl)
theorem dX7_next_363 : decode cX7_next 363 = .ok (.istore_n 2, 1) := dk_61 (dk_at dksX7_next_15 11 rfl rfl)
theorem dX7_next_364 : decode cX7_next 364 = .ok (.aload_n 0, 1) := dk_42 (dk_at dksX7_next_15 12 rfl rfl)
theorem dX7_next_365 : decode cX7_next 365 = .ok (.iload_n 2, 1) := dk_28 (dk_at dksX7_next_15 13 rfl rfl)
theorem dX7_next_366 : decode cX7_next 366 = .ok (.ifCond .eq 7, 3) := dk_153 0 7 (dk_at dksX7_next_15 14 rfl rfl)
theorem dX7_next_369 : decode cX7_next 369 = .ok (.iload_n 1, 1) := dk_27 (dk_at dksX7_next_15 17 rfl rfl)
theorem dX7_next_370 : decode cX7_next 370 = .ok (.goto 4, 3) := dk_167 0 4 (dk_at dksX7_next_15 18 rfl rfl)
theorem dX7_next_373 : decode cX7_next 373 = .ok (.iconst (-1), 1) := dk_2 (dk_at dksX7_next_15 21 rfl rfl)
theorem dX7_next_374 : decode cX7_next 374 = .ok (.putfield 156, 3) := dk_181 0 156 (dk_at dksX7_next_16 0 rfl rfl)
theorem dX7_next_377 : decode cX7_next 377 = .ok (.aload_n 0, 1) := dk_42 (dk_at dksX7_next_16 3 rfl rfl)
theorem dX7_next_378 : decode cX7_next 378 = .ok (.dup, 1) := dk_89 (dk_at dksX7_next_16 4 rfl rfl)
theorem dX7_next_379 : decode cX7_next 379 = .ok (.getfield 150, 3) := dk_180 0 150 (dk_at dksX7_next_16 5 rfl rfl)
theorem dX7_next_382 : decode cX7_next 382 = .ok (.iconst 1, 1) := dk_4 (dk_at dksX7_next_16 8 rfl rfl)
theorem dX7_next_383 : decode cX7_next 383 = .ok (.iadd, 1) := dk_96 (dk_at dksX7_next_16 9 rfl rfl)
theorem dX7_next_384 : decode cX7_next 384 = .ok (.putfield 150, 3) := dk_181 0 150 (dk_at dksX7_next_16 10 rfl rfl)
theorem dX7_next_387 : decode cX7_next 387 = .ok (.return_, 1) := dk_177 (dk_at dksX7_next_16 13 rfl rfl)
abbrev cX7_letters : ByteArray := prog_20_method_15_code
def yX7_letters : MethodName := ⟨RX7, "letters", "()J"⟩
def dkwX7_letters_3 : List UInt8 := [181, 0, 150, 167, 255, 187, 29, 16, 6, 164, 0, 7, 9, 167, 0, 4, 31, 173]
abbrev dktX7_letters_3 : List UInt8 := dkwX7_letters_3 ++ []
def dkwX7_letters_2 : List UInt8 := [42, 180, 0, 150, 46, 133, 129, 167, 0, 4, 31, 64, 132, 3, 1, 42, 89, 180, 0, 150, 4, 96]
abbrev dktX7_letters_2 : List UInt8 := dkwX7_letters_2 ++ dktX7_letters_3
def dkwX7_letters_1 : List UInt8 := [16, 97, 16, 122, 184, 0, 127, 153, 0, 45, 29, 16, 8, 162, 0, 21, 31, 16, 8, 121, 42, 180, 0, 37]
abbrev dktX7_letters_1 : List UInt8 := dkwX7_letters_1 ++ dktX7_letters_2
def dkwX7_letters_0 : List UInt8 := [9, 64, 3, 62, 42, 180, 0, 150, 42, 180, 0, 145, 162, 0, 64, 42, 180, 0, 37, 42, 180, 0, 150, 46]
abbrev dktX7_letters_0 : List UInt8 := dkwX7_letters_0 ++ dktX7_letters_1
theorem dksX7_letters_0 : cX7_letters.data.toList.drop 0 = dktX7_letters_0 := by decide +kernel
theorem dksX7_letters_1 : cX7_letters.data.toList.drop 24 = dktX7_letters_1 := dk_seg dksX7_letters_0 24 rfl rfl
theorem dksX7_letters_2 : cX7_letters.data.toList.drop 48 = dktX7_letters_2 := dk_seg dksX7_letters_1 24 rfl rfl
theorem dksX7_letters_3 : cX7_letters.data.toList.drop 70 = dktX7_letters_3 := dk_seg dksX7_letters_2 22 rfl rfl
theorem dX7_letters_0 : decode cX7_letters 0 = .ok (.lconst 0, 1) := dk_9 (dk_at dksX7_letters_0 0 rfl rfl)
theorem dX7_letters_1 : decode cX7_letters 1 = .ok (.lstore_n 1, 1) := dk_64 (dk_at dksX7_letters_0 1 rfl rfl)
theorem dX7_letters_2 : decode cX7_letters 2 = .ok (.iconst 0, 1) := dk_3 (dk_at dksX7_letters_0 2 rfl rfl)
theorem dX7_letters_3 : decode cX7_letters 3 = .ok (.istore_n 3, 1) := dk_62 (dk_at dksX7_letters_0 3 rfl rfl)
theorem dX7_letters_4 : decode cX7_letters 4 = .ok (.aload_n 0, 1) := dk_42 (dk_at dksX7_letters_0 4 rfl rfl)
theorem dX7_letters_5 : decode cX7_letters 5 = .ok (.getfield 150, 3) := dk_180 0 150 (dk_at dksX7_letters_0 5 rfl rfl)
theorem dX7_letters_8 : decode cX7_letters 8 = .ok (.aload_n 0, 1) := dk_42 (dk_at dksX7_letters_0 8 rfl rfl)
theorem dX7_letters_9 : decode cX7_letters 9 = .ok (.getfield 145, 3) := dk_180 0 145 (dk_at dksX7_letters_0 9 rfl rfl)
theorem dX7_letters_12 : decode cX7_letters 12 = .ok (.if_icmp .ge 64, 3) := dk_162 0 64 (dk_at dksX7_letters_0 12 rfl rfl)
theorem dX7_letters_15 : decode cX7_letters 15 = .ok (.aload_n 0, 1) := dk_42 (dk_at dksX7_letters_0 15 rfl rfl)
theorem dX7_letters_16 : decode cX7_letters 16 = .ok (.getfield 37, 3) := dk_180 0 37 (dk_at dksX7_letters_0 16 rfl rfl)
theorem dX7_letters_19 : decode cX7_letters 19 = .ok (.aload_n 0, 1) := dk_42 (dk_at dksX7_letters_0 19 rfl rfl)
theorem dX7_letters_20 : decode cX7_letters 20 = .ok (.getfield 150, 3) := dk_180 0 150 (dk_at dksX7_letters_0 20 rfl rfl)
theorem dX7_letters_23 : decode cX7_letters 23 = .ok (.iaload, 1) := dk_46 (dk_at dksX7_letters_0 23 rfl rfl)
theorem dX7_letters_24 : decode cX7_letters 24 = .ok (.bipush 97, 2) := dk_16 97 (dk_at dksX7_letters_1 0 rfl rfl)
theorem dX7_letters_26 : decode cX7_letters 26 = .ok (.bipush 122, 2) := dk_16 122 (dk_at dksX7_letters_1 2 rfl rfl)
theorem dX7_letters_28 : decode cX7_letters 28 = .ok (.invokestatic 127, 3) := dk_184 0 127 (dk_at dksX7_letters_1 4 rfl rfl)
theorem dX7_letters_31 : decode cX7_letters 31 = .ok (.ifCond .eq 45, 3) := dk_153 0 45 (dk_at dksX7_letters_1 7 rfl rfl)
theorem dX7_letters_34 : decode cX7_letters 34 = .ok (.iload_n 3, 1) := dk_29 (dk_at dksX7_letters_1 10 rfl rfl)
theorem dX7_letters_35 : decode cX7_letters 35 = .ok (.bipush 8, 2) := dk_16 8 (dk_at dksX7_letters_1 11 rfl rfl)
theorem dX7_letters_37 : decode cX7_letters 37 = .ok (.if_icmp .ge 21, 3) := dk_162 0 21 (dk_at dksX7_letters_1 13 rfl rfl)
theorem dX7_letters_40 : decode cX7_letters 40 = .ok (.lload_n 1, 1) := dk_31 (dk_at dksX7_letters_1 16 rfl rfl)
theorem dX7_letters_41 : decode cX7_letters 41 = .ok (.bipush 8, 2) := dk_16 8 (dk_at dksX7_letters_1 17 rfl rfl)
theorem dX7_letters_43 : decode cX7_letters 43 = .ok (.lshl, 1) := dk_121 (dk_at dksX7_letters_1 19 rfl rfl)
theorem dX7_letters_44 : decode cX7_letters 44 = .ok (.aload_n 0, 1) := dk_42 (dk_at dksX7_letters_1 20 rfl rfl)
theorem dX7_letters_45 : decode cX7_letters 45 = .ok (.getfield 37, 3) := dk_180 0 37 (dk_at dksX7_letters_1 21 rfl rfl)
theorem dX7_letters_48 : decode cX7_letters 48 = .ok (.aload_n 0, 1) := dk_42 (dk_at dksX7_letters_2 0 rfl rfl)
theorem dX7_letters_49 : decode cX7_letters 49 = .ok (.getfield 150, 3) := dk_180 0 150 (dk_at dksX7_letters_2 1 rfl rfl)
theorem dX7_letters_52 : decode cX7_letters 52 = .ok (.iaload, 1) := dk_46 (dk_at dksX7_letters_2 4 rfl rfl)
theorem dX7_letters_53 : decode cX7_letters 53 = .ok (.i2l, 1) := dk_133 (dk_at dksX7_letters_2 5 rfl rfl)
theorem dX7_letters_54 : decode cX7_letters 54 = .ok (.lor, 1) := dk_129 (dk_at dksX7_letters_2 6 rfl rfl)
theorem dX7_letters_55 : decode cX7_letters 55 = .ok (.goto 4, 3) := dk_167 0 4 (dk_at dksX7_letters_2 7 rfl rfl)
theorem dX7_letters_58 : decode cX7_letters 58 = .ok (.lload_n 1, 1) := dk_31 (dk_at dksX7_letters_2 10 rfl rfl)
theorem dX7_letters_59 : decode cX7_letters 59 = .ok (.lstore_n 1, 1) := dk_64 (dk_at dksX7_letters_2 11 rfl rfl)
theorem dX7_letters_60 : decode cX7_letters 60 = .ok (.iinc 3 1, 3) := dk_132 3 1 (dk_at dksX7_letters_2 12 rfl rfl)
theorem dX7_letters_63 : decode cX7_letters 63 = .ok (.aload_n 0, 1) := dk_42 (dk_at dksX7_letters_2 15 rfl rfl)
theorem dX7_letters_64 : decode cX7_letters 64 = .ok (.dup, 1) := dk_89 (dk_at dksX7_letters_2 16 rfl rfl)
theorem dX7_letters_65 : decode cX7_letters 65 = .ok (.getfield 150, 3) := dk_180 0 150 (dk_at dksX7_letters_2 17 rfl rfl)
theorem dX7_letters_68 : decode cX7_letters 68 = .ok (.iconst 1, 1) := dk_4 (dk_at dksX7_letters_2 20 rfl rfl)
theorem dX7_letters_69 : decode cX7_letters 69 = .ok (.iadd, 1) := dk_96 (dk_at dksX7_letters_2 21 rfl rfl)
theorem dX7_letters_70 : decode cX7_letters 70 = .ok (.putfield 150, 3) := dk_181 0 150 (dk_at dksX7_letters_3 0 rfl rfl)
theorem dX7_letters_73 : decode cX7_letters 73 = .ok (.goto (-69), 3) := dk_167 255 187 (dk_at dksX7_letters_3 3 rfl rfl)
theorem dX7_letters_76 : decode cX7_letters 76 = .ok (.iload_n 3, 1) := dk_29 (dk_at dksX7_letters_3 6 rfl rfl)
theorem dX7_letters_77 : decode cX7_letters 77 = .ok (.bipush 6, 2) := dk_16 6 (dk_at dksX7_letters_3 7 rfl rfl)
theorem dX7_letters_79 : decode cX7_letters 79 = .ok (.if_icmp .le 7, 3) := dk_164 0 7 (dk_at dksX7_letters_3 9 rfl rfl)
theorem dX7_letters_82 : decode cX7_letters 82 = .ok (.lconst 0, 1) := dk_9 (dk_at dksX7_letters_3 12 rfl rfl)
theorem dX7_letters_83 : decode cX7_letters 83 = .ok (.goto 4, 3) := dk_167 0 4 (dk_at dksX7_letters_3 13 rfl rfl)
theorem dX7_letters_86 : decode cX7_letters 86 = .ok (.lload_n 1, 1) := dk_31 (dk_at dksX7_letters_3 16 rfl rfl)
theorem dX7_letters_87 : decode cX7_letters 87 = .ok (.lreturn, 1) := dk_173 (dk_at dksX7_letters_3 17 rfl rfl)
abbrev cX7_eRead : ByteArray := prog_20_method_24_code
def yX7_eRead : MethodName := ⟨RX7, "eRead", "()Z"⟩
def dkwX7_eRead_11 : List UInt8 := [167, 0, 4, 3, 61, 167, 255, 7]
abbrev dktX7_eRead_11 : List UInt8 := dkwX7_eRead_11 ++ []
def dkwX7_eRead_10 : List UInt8 := [159, 0, 11, 42, 29, 182, 0, 200, 154, 0, 5, 3, 172, 4, 60, 29, 16, 12, 163, 0, 7, 4]
abbrev dktX7_eRead_10 : List UInt8 := dkwX7_eRead_10 ++ dktX7_eRead_11
def dkwX7_eRead_9 : List UInt8 := [180, 0, 176, 4, 100, 181, 0, 176, 42, 16, 7, 182, 0, 186, 167, 255, 44, 42, 182, 0, 196, 62, 29, 2]
abbrev dktX7_eRead_9 : List UInt8 := dkwX7_eRead_9 ++ dktX7_eRead_10
def dkwX7_eRead_8 : List UInt8 := [182, 0, 186, 42, 180, 0, 169, 154, 0, 5, 3, 172, 42, 89, 180, 0, 169, 4, 100, 181, 0, 169, 42, 89]
abbrev dktX7_eRead_8 : List UInt8 := dkwX7_eRead_8 ++ dktX7_eRead_9
def dkwX7_eRead_7 : List UInt8 := [180, 0, 169, 154, 0, 7, 4, 167, 0, 4, 3, 172, 42, 180, 0, 156, 16, 41, 160, 0, 46, 42, 4]
abbrev dktX7_eRead_7 : List UInt8 := dkwX7_eRead_7 ++ dktX7_eRead_8
def dkwX7_eRead_6 : List UInt8 := [172, 4, 61, 167, 255, 125, 3, 172, 42, 180, 0, 156, 16, 59, 160, 0, 21, 42, 4, 182, 0, 186, 42]
abbrev dktX7_eRead_6 : List UInt8 := dkwX7_eRead_6 ++ dktX7_eRead_7
def dkwX7_eRead_5 : List UInt8 := [172, 3, 61, 167, 255, 149, 42, 180, 0, 156, 16, 40, 160, 0, 18, 42, 3, 182, 0, 193, 154, 0, 5, 3]
abbrev dktX7_eRead_5 : List UInt8 := dkwX7_eRead_5 ++ dktX7_eRead_6
def dkwX7_eRead_4 : List UInt8 := [154, 255, 176, 3, 172, 42, 180, 0, 156, 16, 45, 160, 0, 19, 42, 16, 19, 182, 0, 193, 154, 0, 5, 3]
abbrev dktX7_eRead_4 : List UInt8 := dkwX7_eRead_4 ++ dktX7_eRead_5
def dkwX7_eRead_3 : List UInt8 := [60, 167, 255, 198, 42, 180, 0, 156, 16, 6, 160, 0, 18, 28, 153, 0, 14, 42, 16, 13, 182, 0, 193]
abbrev dktX7_eRead_3 : List UInt8 := dkwX7_eRead_3 ++ dktX7_eRead_4
def dkwX7_eRead_2 : List UInt8 := [18, 192, 42, 180, 0, 159, 96, 167, 0, 7, 42, 180, 0, 159, 182, 0, 179, 42, 16, 7, 182, 0, 186, 3]
abbrev dktX7_eRead_2 : List UInt8 := dkwX7_eRead_2 ++ dktX7_eRead_3
def dkwX7_eRead_1 : List UInt8 := [180, 0, 156, 4, 159, 0, 11, 42, 180, 0, 156, 5, 160, 0, 40, 42, 42, 180, 0, 156, 4, 160, 0, 13]
abbrev dktX7_eRead_1 : List UInt8 := dkwX7_eRead_1 ++ dktX7_eRead_2
def dkwX7_eRead_0 : List UInt8 := [42, 3, 181, 0, 169, 42, 3, 181, 0, 176, 4, 60, 4, 61, 42, 182, 0, 189, 27, 153, 0, 131, 42]
abbrev dktX7_eRead_0 : List UInt8 := dkwX7_eRead_0 ++ dktX7_eRead_1
theorem dksX7_eRead_0 : cX7_eRead.data.toList.drop 0 = dktX7_eRead_0 := by decide +kernel
theorem dksX7_eRead_1 : cX7_eRead.data.toList.drop 23 = dktX7_eRead_1 := dk_seg dksX7_eRead_0 23 rfl rfl
theorem dksX7_eRead_2 : cX7_eRead.data.toList.drop 47 = dktX7_eRead_2 := dk_seg dksX7_eRead_1 24 rfl rfl
theorem dksX7_eRead_3 : cX7_eRead.data.toList.drop 71 = dktX7_eRead_3 := dk_seg dksX7_eRead_2 24 rfl rfl
theorem dksX7_eRead_4 : cX7_eRead.data.toList.drop 94 = dktX7_eRead_4 := dk_seg dksX7_eRead_3 23 rfl rfl
theorem dksX7_eRead_5 : cX7_eRead.data.toList.drop 118 = dktX7_eRead_5 := dk_seg dksX7_eRead_4 24 rfl rfl
theorem dksX7_eRead_6 : cX7_eRead.data.toList.drop 142 = dktX7_eRead_6 := dk_seg dksX7_eRead_5 24 rfl rfl
theorem dksX7_eRead_7 : cX7_eRead.data.toList.drop 165 = dktX7_eRead_7 := dk_seg dksX7_eRead_6 23 rfl rfl
theorem dksX7_eRead_8 : cX7_eRead.data.toList.drop 188 = dktX7_eRead_8 := dk_seg dksX7_eRead_7 23 rfl rfl
theorem dksX7_eRead_9 : cX7_eRead.data.toList.drop 212 = dktX7_eRead_9 := dk_seg dksX7_eRead_8 24 rfl rfl
theorem dksX7_eRead_10 : cX7_eRead.data.toList.drop 236 = dktX7_eRead_10 := dk_seg dksX7_eRead_9 24 rfl rfl
theorem dksX7_eRead_11 : cX7_eRead.data.toList.drop 258 = dktX7_eRead_11 := dk_seg dksX7_eRead_10 22 rfl rfl
theorem dX7_eRead_0 : decode cX7_eRead 0 = .ok (.aload_n 0, 1) := dk_42 (dk_at dksX7_eRead_0 0 rfl rfl)
theorem dX7_eRead_1 : decode cX7_eRead 1 = .ok (.iconst 0, 1) := dk_3 (dk_at dksX7_eRead_0 1 rfl rfl)
theorem dX7_eRead_2 : decode cX7_eRead 2 = .ok (.putfield 169, 3) := dk_181 0 169 (dk_at dksX7_eRead_0 2 rfl rfl)
theorem dX7_eRead_5 : decode cX7_eRead 5 = .ok (.aload_n 0, 1) := dk_42 (dk_at dksX7_eRead_0 5 rfl rfl)
theorem dX7_eRead_6 : decode cX7_eRead 6 = .ok (.iconst 0, 1) := dk_3 (dk_at dksX7_eRead_0 6 rfl rfl)
theorem dX7_eRead_7 : decode cX7_eRead 7 = .ok (.putfield 176, 3) := dk_181 0 176 (dk_at dksX7_eRead_0 7 rfl rfl)
theorem dX7_eRead_10 : decode cX7_eRead 10 = .ok (.iconst 1, 1) := dk_4 (dk_at dksX7_eRead_0 10 rfl rfl)
theorem dX7_eRead_11 : decode cX7_eRead 11 = .ok (.istore_n 1, 1) := dk_60 (dk_at dksX7_eRead_0 11 rfl rfl)
theorem dX7_eRead_12 : decode cX7_eRead 12 = .ok (.iconst 1, 1) := dk_4 (dk_at dksX7_eRead_0 12 rfl rfl)
theorem dX7_eRead_13 : decode cX7_eRead 13 = .ok (.istore_n 2, 1) := dk_61 (dk_at dksX7_eRead_0 13 rfl rfl)
theorem dX7_eRead_14 : decode cX7_eRead 14 = .ok (.aload_n 0, 1) := dk_42 (dk_at dksX7_eRead_0 14 rfl rfl)
theorem dX7_eRead_15 : decode cX7_eRead 15 = .ok (.invokevirtual 189, 3) := dk_182 0 189 (dk_at dksX7_eRead_0 15 rfl rfl)
theorem dX7_eRead_18 : decode cX7_eRead 18 = .ok (.iload_n 1, 1) := dk_27 (dk_at dksX7_eRead_0 18 rfl rfl)
theorem dX7_eRead_19 : decode cX7_eRead 19 = .ok (.ifCond .eq 131, 3) := dk_153 0 131 (dk_at dksX7_eRead_0 19 rfl rfl)
theorem dX7_eRead_22 : decode cX7_eRead 22 = .ok (.aload_n 0, 1) := dk_42 (dk_at dksX7_eRead_0 22 rfl rfl)
theorem dX7_eRead_23 : decode cX7_eRead 23 = .ok (.getfield 156, 3) := dk_180 0 156 (dk_at dksX7_eRead_1 0 rfl rfl)
theorem dX7_eRead_26 : decode cX7_eRead 26 = .ok (.iconst 1, 1) := dk_4 (dk_at dksX7_eRead_1 3 rfl rfl)
theorem dX7_eRead_27 : decode cX7_eRead 27 = .ok (.if_icmp .eq 11, 3) := dk_159 0 11 (dk_at dksX7_eRead_1 4 rfl rfl)
theorem dX7_eRead_30 : decode cX7_eRead 30 = .ok (.aload_n 0, 1) := dk_42 (dk_at dksX7_eRead_1 7 rfl rfl)
theorem dX7_eRead_31 : decode cX7_eRead 31 = .ok (.getfield 156, 3) := dk_180 0 156 (dk_at dksX7_eRead_1 8 rfl rfl)
theorem dX7_eRead_34 : decode cX7_eRead 34 = .ok (.iconst 2, 1) := dk_5 (dk_at dksX7_eRead_1 11 rfl rfl)
theorem dX7_eRead_35 : decode cX7_eRead 35 = .ok (.if_icmp .ne 40, 3) := dk_160 0 40 (dk_at dksX7_eRead_1 12 rfl rfl)
theorem dX7_eRead_38 : decode cX7_eRead 38 = .ok (.aload_n 0, 1) := dk_42 (dk_at dksX7_eRead_1 15 rfl rfl)
theorem dX7_eRead_39 : decode cX7_eRead 39 = .ok (.aload_n 0, 1) := dk_42 (dk_at dksX7_eRead_1 16 rfl rfl)
theorem dX7_eRead_40 : decode cX7_eRead 40 = .ok (.getfield 156, 3) := dk_180 0 156 (dk_at dksX7_eRead_1 17 rfl rfl)
theorem dX7_eRead_43 : decode cX7_eRead 43 = .ok (.iconst 1, 1) := dk_4 (dk_at dksX7_eRead_1 20 rfl rfl)
theorem dX7_eRead_44 : decode cX7_eRead 44 = .ok (.if_icmp .ne 13, 3) := dk_160 0 13 (dk_at dksX7_eRead_1 21 rfl rfl)
theorem dX7_eRead_47 : decode cX7_eRead 47 = .ok (.ldc 192, 2) := dk_18 192 (dk_at dksX7_eRead_2 0 rfl rfl)
theorem dX7_eRead_49 : decode cX7_eRead 49 = .ok (.aload_n 0, 1) := dk_42 (dk_at dksX7_eRead_2 2 rfl rfl)
theorem dX7_eRead_50 : decode cX7_eRead 50 = .ok (.getfield 159, 3) := dk_180 0 159 (dk_at dksX7_eRead_2 3 rfl rfl)
theorem dX7_eRead_53 : decode cX7_eRead 53 = .ok (.iadd, 1) := dk_96 (dk_at dksX7_eRead_2 6 rfl rfl)
theorem dX7_eRead_54 : decode cX7_eRead 54 = .ok (.goto 7, 3) := dk_167 0 7 (dk_at dksX7_eRead_2 7 rfl rfl)
theorem dX7_eRead_57 : decode cX7_eRead 57 = .ok (.aload_n 0, 1) := dk_42 (dk_at dksX7_eRead_2 10 rfl rfl)
theorem dX7_eRead_58 : decode cX7_eRead 58 = .ok (.getfield 159, 3) := dk_180 0 159 (dk_at dksX7_eRead_2 11 rfl rfl)
theorem dX7_eRead_61 : decode cX7_eRead 61 = .ok (.invokevirtual 179, 3) := dk_182 0 179 (dk_at dksX7_eRead_2 14 rfl rfl)
theorem dX7_eRead_64 : decode cX7_eRead 64 = .ok (.aload_n 0, 1) := dk_42 (dk_at dksX7_eRead_2 17 rfl rfl)
theorem dX7_eRead_65 : decode cX7_eRead 65 = .ok (.bipush 7, 2) := dk_16 7 (dk_at dksX7_eRead_2 18 rfl rfl)
theorem dX7_eRead_67 : decode cX7_eRead 67 = .ok (.invokevirtual 186, 3) := dk_182 0 186 (dk_at dksX7_eRead_2 20 rfl rfl)
theorem dX7_eRead_70 : decode cX7_eRead 70 = .ok (.iconst 0, 1) := dk_3 (dk_at dksX7_eRead_2 23 rfl rfl)
theorem dX7_eRead_71 : decode cX7_eRead 71 = .ok (.istore_n 1, 1) := dk_60 (dk_at dksX7_eRead_3 0 rfl rfl)
theorem dX7_eRead_72 : decode cX7_eRead 72 = .ok (.goto (-58), 3) := dk_167 255 198 (dk_at dksX7_eRead_3 1 rfl rfl)
theorem dX7_eRead_75 : decode cX7_eRead 75 = .ok (.aload_n 0, 1) := dk_42 (dk_at dksX7_eRead_3 4 rfl rfl)
theorem dX7_eRead_76 : decode cX7_eRead 76 = .ok (.getfield 156, 3) := dk_180 0 156 (dk_at dksX7_eRead_3 5 rfl rfl)
theorem dX7_eRead_79 : decode cX7_eRead 79 = .ok (.bipush 6, 2) := dk_16 6 (dk_at dksX7_eRead_3 8 rfl rfl)
theorem dX7_eRead_81 : decode cX7_eRead 81 = .ok (.if_icmp .ne 18, 3) := dk_160 0 18 (dk_at dksX7_eRead_3 10 rfl rfl)
theorem dX7_eRead_84 : decode cX7_eRead 84 = .ok (.iload_n 2, 1) := dk_28 (dk_at dksX7_eRead_3 13 rfl rfl)
theorem dX7_eRead_85 : decode cX7_eRead 85 = .ok (.ifCond .eq 14, 3) := dk_153 0 14 (dk_at dksX7_eRead_3 14 rfl rfl)
theorem dX7_eRead_88 : decode cX7_eRead 88 = .ok (.aload_n 0, 1) := dk_42 (dk_at dksX7_eRead_3 17 rfl rfl)
theorem dX7_eRead_89 : decode cX7_eRead 89 = .ok (.bipush 13, 2) := dk_16 13 (dk_at dksX7_eRead_3 18 rfl rfl)
theorem dX7_eRead_91 : decode cX7_eRead 91 = .ok (.invokevirtual 193, 3) := dk_182 0 193 (dk_at dksX7_eRead_3 20 rfl rfl)
theorem dX7_eRead_94 : decode cX7_eRead 94 = .ok (.ifCond .ne (-80), 3) := dk_154 255 176 (dk_at dksX7_eRead_4 0 rfl rfl)
theorem dX7_eRead_97 : decode cX7_eRead 97 = .ok (.iconst 0, 1) := dk_3 (dk_at dksX7_eRead_4 3 rfl rfl)
theorem dX7_eRead_98 : decode cX7_eRead 98 = .ok (.ireturn, 1) := dk_172 (dk_at dksX7_eRead_4 4 rfl rfl)
theorem dX7_eRead_99 : decode cX7_eRead 99 = .ok (.aload_n 0, 1) := dk_42 (dk_at dksX7_eRead_4 5 rfl rfl)
theorem dX7_eRead_100 : decode cX7_eRead 100 = .ok (.getfield 156, 3) := dk_180 0 156 (dk_at dksX7_eRead_4 6 rfl rfl)
theorem dX7_eRead_103 : decode cX7_eRead 103 = .ok (.bipush 45, 2) := dk_16 45 (dk_at dksX7_eRead_4 9 rfl rfl)
theorem dX7_eRead_105 : decode cX7_eRead 105 = .ok (.if_icmp .ne 19, 3) := dk_160 0 19 (dk_at dksX7_eRead_4 11 rfl rfl)
theorem dX7_eRead_108 : decode cX7_eRead 108 = .ok (.aload_n 0, 1) := dk_42 (dk_at dksX7_eRead_4 14 rfl rfl)
theorem dX7_eRead_109 : decode cX7_eRead 109 = .ok (.bipush 19, 2) := dk_16 19 (dk_at dksX7_eRead_4 15 rfl rfl)
theorem dX7_eRead_111 : decode cX7_eRead 111 = .ok (.invokevirtual 193, 3) := dk_182 0 193 (dk_at dksX7_eRead_4 17 rfl rfl)
theorem dX7_eRead_114 : decode cX7_eRead 114 = .ok (.ifCond .ne 5, 3) := dk_154 0 5 (dk_at dksX7_eRead_4 20 rfl rfl)
theorem dX7_eRead_117 : decode cX7_eRead 117 = .ok (.iconst 0, 1) := dk_3 (dk_at dksX7_eRead_4 23 rfl rfl)
theorem dX7_eRead_118 : decode cX7_eRead 118 = .ok (.ireturn, 1) := dk_172 (dk_at dksX7_eRead_5 0 rfl rfl)
theorem dX7_eRead_119 : decode cX7_eRead 119 = .ok (.iconst 0, 1) := dk_3 (dk_at dksX7_eRead_5 1 rfl rfl)
theorem dX7_eRead_120 : decode cX7_eRead 120 = .ok (.istore_n 2, 1) := dk_61 (dk_at dksX7_eRead_5 2 rfl rfl)
theorem dX7_eRead_121 : decode cX7_eRead 121 = .ok (.goto (-107), 3) := dk_167 255 149 (dk_at dksX7_eRead_5 3 rfl rfl)
theorem dX7_eRead_124 : decode cX7_eRead 124 = .ok (.aload_n 0, 1) := dk_42 (dk_at dksX7_eRead_5 6 rfl rfl)
theorem dX7_eRead_125 : decode cX7_eRead 125 = .ok (.getfield 156, 3) := dk_180 0 156 (dk_at dksX7_eRead_5 7 rfl rfl)
theorem dX7_eRead_128 : decode cX7_eRead 128 = .ok (.bipush 40, 2) := dk_16 40 (dk_at dksX7_eRead_5 10 rfl rfl)
theorem dX7_eRead_130 : decode cX7_eRead 130 = .ok (.if_icmp .ne 18, 3) := dk_160 0 18 (dk_at dksX7_eRead_5 12 rfl rfl)
theorem dX7_eRead_133 : decode cX7_eRead 133 = .ok (.aload_n 0, 1) := dk_42 (dk_at dksX7_eRead_5 15 rfl rfl)
theorem dX7_eRead_134 : decode cX7_eRead 134 = .ok (.iconst 0, 1) := dk_3 (dk_at dksX7_eRead_5 16 rfl rfl)
theorem dX7_eRead_135 : decode cX7_eRead 135 = .ok (.invokevirtual 193, 3) := dk_182 0 193 (dk_at dksX7_eRead_5 17 rfl rfl)
theorem dX7_eRead_138 : decode cX7_eRead 138 = .ok (.ifCond .ne 5, 3) := dk_154 0 5 (dk_at dksX7_eRead_5 20 rfl rfl)
theorem dX7_eRead_141 : decode cX7_eRead 141 = .ok (.iconst 0, 1) := dk_3 (dk_at dksX7_eRead_5 23 rfl rfl)
theorem dX7_eRead_142 : decode cX7_eRead 142 = .ok (.ireturn, 1) := dk_172 (dk_at dksX7_eRead_6 0 rfl rfl)
theorem dX7_eRead_143 : decode cX7_eRead 143 = .ok (.iconst 1, 1) := dk_4 (dk_at dksX7_eRead_6 1 rfl rfl)
theorem dX7_eRead_144 : decode cX7_eRead 144 = .ok (.istore_n 2, 1) := dk_61 (dk_at dksX7_eRead_6 2 rfl rfl)
theorem dX7_eRead_145 : decode cX7_eRead 145 = .ok (.goto (-131), 3) := dk_167 255 125 (dk_at dksX7_eRead_6 3 rfl rfl)
theorem dX7_eRead_148 : decode cX7_eRead 148 = .ok (.iconst 0, 1) := dk_3 (dk_at dksX7_eRead_6 6 rfl rfl)
theorem dX7_eRead_149 : decode cX7_eRead 149 = .ok (.ireturn, 1) := dk_172 (dk_at dksX7_eRead_6 7 rfl rfl)
theorem dX7_eRead_150 : decode cX7_eRead 150 = .ok (.aload_n 0, 1) := dk_42 (dk_at dksX7_eRead_6 8 rfl rfl)
theorem dX7_eRead_151 : decode cX7_eRead 151 = .ok (.getfield 156, 3) := dk_180 0 156 (dk_at dksX7_eRead_6 9 rfl rfl)
theorem dX7_eRead_154 : decode cX7_eRead 154 = .ok (.bipush 59, 2) := dk_16 59 (dk_at dksX7_eRead_6 12 rfl rfl)
theorem dX7_eRead_156 : decode cX7_eRead 156 = .ok (.if_icmp .ne 21, 3) := dk_160 0 21 (dk_at dksX7_eRead_6 14 rfl rfl)
theorem dX7_eRead_159 : decode cX7_eRead 159 = .ok (.aload_n 0, 1) := dk_42 (dk_at dksX7_eRead_6 17 rfl rfl)
theorem dX7_eRead_160 : decode cX7_eRead 160 = .ok (.iconst 1, 1) := dk_4 (dk_at dksX7_eRead_6 18 rfl rfl)
theorem dX7_eRead_161 : decode cX7_eRead 161 = .ok (.invokevirtual 186, 3) := dk_182 0 186 (dk_at dksX7_eRead_6 19 rfl rfl)
theorem dX7_eRead_164 : decode cX7_eRead 164 = .ok (.aload_n 0, 1) := dk_42 (dk_at dksX7_eRead_6 22 rfl rfl)
theorem dX7_eRead_165 : decode cX7_eRead 165 = .ok (.getfield 169, 3) := dk_180 0 169 (dk_at dksX7_eRead_7 0 rfl rfl)
theorem dX7_eRead_168 : decode cX7_eRead 168 = .ok (.ifCond .ne 7, 3) := dk_154 0 7 (dk_at dksX7_eRead_7 3 rfl rfl)
theorem dX7_eRead_171 : decode cX7_eRead 171 = .ok (.iconst 1, 1) := dk_4 (dk_at dksX7_eRead_7 6 rfl rfl)
theorem dX7_eRead_172 : decode cX7_eRead 172 = .ok (.goto 4, 3) := dk_167 0 4 (dk_at dksX7_eRead_7 7 rfl rfl)
theorem dX7_eRead_175 : decode cX7_eRead 175 = .ok (.iconst 0, 1) := dk_3 (dk_at dksX7_eRead_7 10 rfl rfl)
theorem dX7_eRead_176 : decode cX7_eRead 176 = .ok (.ireturn, 1) := dk_172 (dk_at dksX7_eRead_7 11 rfl rfl)
theorem dX7_eRead_177 : decode cX7_eRead 177 = .ok (.aload_n 0, 1) := dk_42 (dk_at dksX7_eRead_7 12 rfl rfl)
theorem dX7_eRead_178 : decode cX7_eRead 178 = .ok (.getfield 156, 3) := dk_180 0 156 (dk_at dksX7_eRead_7 13 rfl rfl)
theorem dX7_eRead_181 : decode cX7_eRead 181 = .ok (.bipush 41, 2) := dk_16 41 (dk_at dksX7_eRead_7 16 rfl rfl)
theorem dX7_eRead_183 : decode cX7_eRead 183 = .ok (.if_icmp .ne 46, 3) := dk_160 0 46 (dk_at dksX7_eRead_7 18 rfl rfl)
theorem dX7_eRead_186 : decode cX7_eRead 186 = .ok (.aload_n 0, 1) := dk_42 (dk_at dksX7_eRead_7 21 rfl rfl)
theorem dX7_eRead_187 : decode cX7_eRead 187 = .ok (.iconst 1, 1) := dk_4 (dk_at dksX7_eRead_7 22 rfl rfl)
theorem dX7_eRead_188 : decode cX7_eRead 188 = .ok (.invokevirtual 186, 3) := dk_182 0 186 (dk_at dksX7_eRead_8 0 rfl rfl)
theorem dX7_eRead_191 : decode cX7_eRead 191 = .ok (.aload_n 0, 1) := dk_42 (dk_at dksX7_eRead_8 3 rfl rfl)
theorem dX7_eRead_192 : decode cX7_eRead 192 = .ok (.getfield 169, 3) := dk_180 0 169 (dk_at dksX7_eRead_8 4 rfl rfl)
theorem dX7_eRead_195 : decode cX7_eRead 195 = .ok (.ifCond .ne 5, 3) := dk_154 0 5 (dk_at dksX7_eRead_8 7 rfl rfl)
theorem dX7_eRead_198 : decode cX7_eRead 198 = .ok (.iconst 0, 1) := dk_3 (dk_at dksX7_eRead_8 10 rfl rfl)
theorem dX7_eRead_199 : decode cX7_eRead 199 = .ok (.ireturn, 1) := dk_172 (dk_at dksX7_eRead_8 11 rfl rfl)
theorem dX7_eRead_200 : decode cX7_eRead 200 = .ok (.aload_n 0, 1) := dk_42 (dk_at dksX7_eRead_8 12 rfl rfl)
theorem dX7_eRead_201 : decode cX7_eRead 201 = .ok (.dup, 1) := dk_89 (dk_at dksX7_eRead_8 13 rfl rfl)
theorem dX7_eRead_202 : decode cX7_eRead 202 = .ok (.getfield 169, 3) := dk_180 0 169 (dk_at dksX7_eRead_8 14 rfl rfl)
theorem dX7_eRead_205 : decode cX7_eRead 205 = .ok (.iconst 1, 1) := dk_4 (dk_at dksX7_eRead_8 17 rfl rfl)
theorem dX7_eRead_206 : decode cX7_eRead 206 = .ok (.isub, 1) := dk_100 (dk_at dksX7_eRead_8 18 rfl rfl)
theorem dX7_eRead_207 : decode cX7_eRead 207 = .ok (.putfield 169, 3) := dk_181 0 169 (dk_at dksX7_eRead_8 19 rfl rfl)
theorem dX7_eRead_210 : decode cX7_eRead 210 = .ok (.aload_n 0, 1) := dk_42 (dk_at dksX7_eRead_8 22 rfl rfl)
theorem dX7_eRead_211 : decode cX7_eRead 211 = .ok (.dup, 1) := dk_89 (dk_at dksX7_eRead_8 23 rfl rfl)
theorem dX7_eRead_212 : decode cX7_eRead 212 = .ok (.getfield 176, 3) := dk_180 0 176 (dk_at dksX7_eRead_9 0 rfl rfl)
theorem dX7_eRead_215 : decode cX7_eRead 215 = .ok (.iconst 1, 1) := dk_4 (dk_at dksX7_eRead_9 3 rfl rfl)
theorem dX7_eRead_216 : decode cX7_eRead 216 = .ok (.isub, 1) := dk_100 (dk_at dksX7_eRead_9 4 rfl rfl)
theorem dX7_eRead_217 : decode cX7_eRead 217 = .ok (.putfield 176, 3) := dk_181 0 176 (dk_at dksX7_eRead_9 5 rfl rfl)
theorem dX7_eRead_220 : decode cX7_eRead 220 = .ok (.aload_n 0, 1) := dk_42 (dk_at dksX7_eRead_9 8 rfl rfl)
theorem dX7_eRead_221 : decode cX7_eRead 221 = .ok (.bipush 7, 2) := dk_16 7 (dk_at dksX7_eRead_9 9 rfl rfl)
theorem dX7_eRead_223 : decode cX7_eRead 223 = .ok (.invokevirtual 186, 3) := dk_182 0 186 (dk_at dksX7_eRead_9 11 rfl rfl)
theorem dX7_eRead_226 : decode cX7_eRead 226 = .ok (.goto (-212), 3) := dk_167 255 44 (dk_at dksX7_eRead_9 14 rfl rfl)
theorem dX7_eRead_229 : decode cX7_eRead 229 = .ok (.aload_n 0, 1) := dk_42 (dk_at dksX7_eRead_9 17 rfl rfl)
theorem dX7_eRead_230 : decode cX7_eRead 230 = .ok (.invokevirtual 196, 3) := dk_182 0 196 (dk_at dksX7_eRead_9 18 rfl rfl)
theorem dX7_eRead_233 : decode cX7_eRead 233 = .ok (.istore_n 3, 1) := dk_62 (dk_at dksX7_eRead_9 21 rfl rfl)
theorem dX7_eRead_234 : decode cX7_eRead 234 = .ok (.iload_n 3, 1) := dk_29 (dk_at dksX7_eRead_9 22 rfl rfl)
theorem dX7_eRead_235 : decode cX7_eRead 235 = .ok (.iconst (-1), 1) := dk_2 (dk_at dksX7_eRead_9 23 rfl rfl)
theorem dX7_eRead_236 : decode cX7_eRead 236 = .ok (.if_icmp .eq 11, 3) := dk_159 0 11 (dk_at dksX7_eRead_10 0 rfl rfl)
theorem dX7_eRead_239 : decode cX7_eRead 239 = .ok (.aload_n 0, 1) := dk_42 (dk_at dksX7_eRead_10 3 rfl rfl)
theorem dX7_eRead_240 : decode cX7_eRead 240 = .ok (.iload_n 3, 1) := dk_29 (dk_at dksX7_eRead_10 4 rfl rfl)
theorem dX7_eRead_241 : decode cX7_eRead 241 = .ok (.invokevirtual 200, 3) := dk_182 0 200 (dk_at dksX7_eRead_10 5 rfl rfl)
theorem dX7_eRead_244 : decode cX7_eRead 244 = .ok (.ifCond .ne 5, 3) := dk_154 0 5 (dk_at dksX7_eRead_10 8 rfl rfl)
theorem dX7_eRead_247 : decode cX7_eRead 247 = .ok (.iconst 0, 1) := dk_3 (dk_at dksX7_eRead_10 11 rfl rfl)
theorem dX7_eRead_248 : decode cX7_eRead 248 = .ok (.ireturn, 1) := dk_172 (dk_at dksX7_eRead_10 12 rfl rfl)
theorem dX7_eRead_249 : decode cX7_eRead 249 = .ok (.iconst 1, 1) := dk_4 (dk_at dksX7_eRead_10 13 rfl rfl)
theorem dX7_eRead_250 : decode cX7_eRead 250 = .ok (.istore_n 1, 1) := dk_60 (dk_at dksX7_eRead_10 14 rfl rfl)
theorem dX7_eRead_251 : decode cX7_eRead 251 = .ok (.iload_n 3, 1) := dk_29 (dk_at dksX7_eRead_10 15 rfl rfl)
theorem dX7_eRead_252 : decode cX7_eRead 252 = .ok (.bipush 12, 2) := dk_16 12 (dk_at dksX7_eRead_10 16 rfl rfl)
theorem dX7_eRead_254 : decode cX7_eRead 254 = .ok (.if_icmp .gt 7, 3) := dk_163 0 7 (dk_at dksX7_eRead_10 18 rfl rfl)
theorem dX7_eRead_257 : decode cX7_eRead 257 = .ok (.iconst 1, 1) := dk_4 (dk_at dksX7_eRead_10 21 rfl rfl)
theorem dX7_eRead_258 : decode cX7_eRead 258 = .ok (.goto 4, 3) := dk_167 0 4 (dk_at dksX7_eRead_11 0 rfl rfl)
theorem dX7_eRead_261 : decode cX7_eRead 261 = .ok (.iconst 0, 1) := dk_3 (dk_at dksX7_eRead_11 3 rfl rfl)
theorem dX7_eRead_262 : decode cX7_eRead 262 = .ok (.istore_n 2, 1) := dk_61 (dk_at dksX7_eRead_11 4 rfl rfl)
theorem dX7_eRead_263 : decode cX7_eRead 263 = .ok (.goto (-249), 3) := dk_167 255 7 (dk_at dksX7_eRead_11 5 rfl rfl)
abbrev cX7_puts : ByteArray := prog_20_method_18_code
def yX7_puts : MethodName := ⟨RX7, "puts", "(I)V"⟩
def dkwX7_puts_1 : List UInt8 := [4, 96, 181, 0, 166, 177]
abbrev dktX7_puts_1 : List UInt8 := dkwX7_puts_1 ++ []
def dkwX7_puts_0 : List UInt8 := [42, 180, 0, 40, 17, 0, 200, 42, 180, 0, 46, 104, 42, 180, 0, 166, 96, 27, 79, 42, 89, 180, 0, 166]
abbrev dktX7_puts_0 : List UInt8 := dkwX7_puts_0 ++ dktX7_puts_1
theorem dksX7_puts_0 : cX7_puts.data.toList.drop 0 = dktX7_puts_0 := by decide +kernel
theorem dksX7_puts_1 : cX7_puts.data.toList.drop 24 = dktX7_puts_1 := dk_seg dksX7_puts_0 24 rfl rfl
theorem dX7_puts_0 : decode cX7_puts 0 = .ok (.aload_n 0, 1) := dk_42 (dk_at dksX7_puts_0 0 rfl rfl)
theorem dX7_puts_1 : decode cX7_puts 1 = .ok (.getfield 40, 3) := dk_180 0 40 (dk_at dksX7_puts_0 1 rfl rfl)
theorem dX7_puts_4 : decode cX7_puts 4 = .ok (.sipush 200, 3) := dk_17 0 200 (dk_at dksX7_puts_0 4 rfl rfl)
theorem dX7_puts_7 : decode cX7_puts 7 = .ok (.aload_n 0, 1) := dk_42 (dk_at dksX7_puts_0 7 rfl rfl)
theorem dX7_puts_8 : decode cX7_puts 8 = .ok (.getfield 46, 3) := dk_180 0 46 (dk_at dksX7_puts_0 8 rfl rfl)
theorem dX7_puts_11 : decode cX7_puts 11 = .ok (.imul, 1) := dk_104 (dk_at dksX7_puts_0 11 rfl rfl)
theorem dX7_puts_12 : decode cX7_puts 12 = .ok (.aload_n 0, 1) := dk_42 (dk_at dksX7_puts_0 12 rfl rfl)
theorem dX7_puts_13 : decode cX7_puts 13 = .ok (.getfield 166, 3) := dk_180 0 166 (dk_at dksX7_puts_0 13 rfl rfl)
theorem dX7_puts_16 : decode cX7_puts 16 = .ok (.iadd, 1) := dk_96 (dk_at dksX7_puts_0 16 rfl rfl)
theorem dX7_puts_17 : decode cX7_puts 17 = .ok (.iload_n 1, 1) := dk_27 (dk_at dksX7_puts_0 17 rfl rfl)
theorem dX7_puts_18 : decode cX7_puts 18 = .ok (.iastore, 1) := dk_79 (dk_at dksX7_puts_0 18 rfl rfl)
theorem dX7_puts_19 : decode cX7_puts 19 = .ok (.aload_n 0, 1) := dk_42 (dk_at dksX7_puts_0 19 rfl rfl)
theorem dX7_puts_20 : decode cX7_puts 20 = .ok (.dup, 1) := dk_89 (dk_at dksX7_puts_0 20 rfl rfl)
theorem dX7_puts_21 : decode cX7_puts 21 = .ok (.getfield 166, 3) := dk_180 0 166 (dk_at dksX7_puts_0 21 rfl rfl)
theorem dX7_puts_24 : decode cX7_puts 24 = .ok (.iconst 1, 1) := dk_4 (dk_at dksX7_puts_1 0 rfl rfl)
theorem dX7_puts_25 : decode cX7_puts 25 = .ok (.iadd, 1) := dk_96 (dk_at dksX7_puts_1 1 rfl rfl)
theorem dX7_puts_26 : decode cX7_puts 26 = .ok (.putfield 166, 3) := dk_181 0 166 (dk_at dksX7_puts_1 2 rfl rfl)
theorem dX7_puts_29 : decode cX7_puts 29 = .ok (.return_, 1) := dk_177 (dk_at dksX7_puts_1 5 rfl rfl)
abbrev cX7_unwinds : ByteArray := prog_20_method_19_code
def yX7_unwinds : MethodName := ⟨RX7, "unwinds", "(I)V"⟩
def dkwX7_unwinds_3 : List UInt8 := [181, 0, 176, 42, 28, 182, 0, 179, 167, 255, 180, 177]
abbrev dktX7_unwinds_3 : List UInt8 := dkwX7_unwinds_3 ++ []
def dkwX7_unwinds_2 : List UInt8 := [89, 180, 0, 176, 28, 16, 13, 159, 0, 9, 28, 16, 19, 160, 0, 7, 4, 167, 0, 4, 3, 100]
abbrev dktX7_unwinds_2 : List UInt8 := dkwX7_unwinds_2 ++ dktX7_unwinds_3
def dkwX7_unwinds_1 : List UInt8 := [161, 0, 57, 42, 89, 180, 0, 169, 4, 100, 181, 0, 169, 42, 180, 0, 97, 42, 180, 0, 169, 46, 61, 42]
abbrev dktX7_unwinds_1 : List UInt8 := dkwX7_unwinds_1 ++ dktX7_unwinds_2
def dkwX7_unwinds_0 : List UInt8 := [42, 180, 0, 169, 158, 0, 75, 42, 180, 0, 97, 42, 180, 0, 169, 4, 100, 46, 184, 0, 172, 27]
abbrev dktX7_unwinds_0 : List UInt8 := dkwX7_unwinds_0 ++ dktX7_unwinds_1
theorem dksX7_unwinds_0 : cX7_unwinds.data.toList.drop 0 = dktX7_unwinds_0 := by decide +kernel
theorem dksX7_unwinds_1 : cX7_unwinds.data.toList.drop 22 = dktX7_unwinds_1 := dk_seg dksX7_unwinds_0 22 rfl rfl
theorem dksX7_unwinds_2 : cX7_unwinds.data.toList.drop 46 = dktX7_unwinds_2 := dk_seg dksX7_unwinds_1 24 rfl rfl
theorem dksX7_unwinds_3 : cX7_unwinds.data.toList.drop 68 = dktX7_unwinds_3 := dk_seg dksX7_unwinds_2 22 rfl rfl
theorem dX7_unwinds_0 : decode cX7_unwinds 0 = .ok (.aload_n 0, 1) := dk_42 (dk_at dksX7_unwinds_0 0 rfl rfl)
theorem dX7_unwinds_1 : decode cX7_unwinds 1 = .ok (.getfield 169, 3) := dk_180 0 169 (dk_at dksX7_unwinds_0 1 rfl rfl)
theorem dX7_unwinds_4 : decode cX7_unwinds 4 = .ok (.ifCond .le 75, 3) := dk_158 0 75 (dk_at dksX7_unwinds_0 4 rfl rfl)
theorem dX7_unwinds_7 : decode cX7_unwinds 7 = .ok (.aload_n 0, 1) := dk_42 (dk_at dksX7_unwinds_0 7 rfl rfl)
theorem dX7_unwinds_8 : decode cX7_unwinds 8 = .ok (.getfield 97, 3) := dk_180 0 97 (dk_at dksX7_unwinds_0 8 rfl rfl)
theorem dX7_unwinds_11 : decode cX7_unwinds 11 = .ok (.aload_n 0, 1) := dk_42 (dk_at dksX7_unwinds_0 11 rfl rfl)
theorem dX7_unwinds_12 : decode cX7_unwinds 12 = .ok (.getfield 169, 3) := dk_180 0 169 (dk_at dksX7_unwinds_0 12 rfl rfl)
theorem dX7_unwinds_15 : decode cX7_unwinds 15 = .ok (.iconst 1, 1) := dk_4 (dk_at dksX7_unwinds_0 15 rfl rfl)
theorem dX7_unwinds_16 : decode cX7_unwinds 16 = .ok (.isub, 1) := dk_100 (dk_at dksX7_unwinds_0 16 rfl rfl)
theorem dX7_unwinds_17 : decode cX7_unwinds 17 = .ok (.iaload, 1) := dk_46 (dk_at dksX7_unwinds_0 17 rfl rfl)
theorem dX7_unwinds_18 : decode cX7_unwinds 18 = .ok (.invokestatic 172, 3) := dk_184 0 172 (dk_at dksX7_unwinds_0 18 rfl rfl)
theorem dX7_unwinds_21 : decode cX7_unwinds 21 = .ok (.iload_n 1, 1) := dk_27 (dk_at dksX7_unwinds_0 21 rfl rfl)
theorem dX7_unwinds_22 : decode cX7_unwinds 22 = .ok (.if_icmp .lt 57, 3) := dk_161 0 57 (dk_at dksX7_unwinds_1 0 rfl rfl)
theorem dX7_unwinds_25 : decode cX7_unwinds 25 = .ok (.aload_n 0, 1) := dk_42 (dk_at dksX7_unwinds_1 3 rfl rfl)
theorem dX7_unwinds_26 : decode cX7_unwinds 26 = .ok (.dup, 1) := dk_89 (dk_at dksX7_unwinds_1 4 rfl rfl)
theorem dX7_unwinds_27 : decode cX7_unwinds 27 = .ok (.getfield 169, 3) := dk_180 0 169 (dk_at dksX7_unwinds_1 5 rfl rfl)
theorem dX7_unwinds_30 : decode cX7_unwinds 30 = .ok (.iconst 1, 1) := dk_4 (dk_at dksX7_unwinds_1 8 rfl rfl)
theorem dX7_unwinds_31 : decode cX7_unwinds 31 = .ok (.isub, 1) := dk_100 (dk_at dksX7_unwinds_1 9 rfl rfl)
theorem dX7_unwinds_32 : decode cX7_unwinds 32 = .ok (.putfield 169, 3) := dk_181 0 169 (dk_at dksX7_unwinds_1 10 rfl rfl)
theorem dX7_unwinds_35 : decode cX7_unwinds 35 = .ok (.aload_n 0, 1) := dk_42 (dk_at dksX7_unwinds_1 13 rfl rfl)
theorem dX7_unwinds_36 : decode cX7_unwinds 36 = .ok (.getfield 97, 3) := dk_180 0 97 (dk_at dksX7_unwinds_1 14 rfl rfl)
theorem dX7_unwinds_39 : decode cX7_unwinds 39 = .ok (.aload_n 0, 1) := dk_42 (dk_at dksX7_unwinds_1 17 rfl rfl)
theorem dX7_unwinds_40 : decode cX7_unwinds 40 = .ok (.getfield 169, 3) := dk_180 0 169 (dk_at dksX7_unwinds_1 18 rfl rfl)
theorem dX7_unwinds_43 : decode cX7_unwinds 43 = .ok (.iaload, 1) := dk_46 (dk_at dksX7_unwinds_1 21 rfl rfl)
theorem dX7_unwinds_44 : decode cX7_unwinds 44 = .ok (.istore_n 2, 1) := dk_61 (dk_at dksX7_unwinds_1 22 rfl rfl)
theorem dX7_unwinds_45 : decode cX7_unwinds 45 = .ok (.aload_n 0, 1) := dk_42 (dk_at dksX7_unwinds_1 23 rfl rfl)
theorem dX7_unwinds_46 : decode cX7_unwinds 46 = .ok (.dup, 1) := dk_89 (dk_at dksX7_unwinds_2 0 rfl rfl)
theorem dX7_unwinds_47 : decode cX7_unwinds 47 = .ok (.getfield 176, 3) := dk_180 0 176 (dk_at dksX7_unwinds_2 1 rfl rfl)
theorem dX7_unwinds_50 : decode cX7_unwinds 50 = .ok (.iload_n 2, 1) := dk_28 (dk_at dksX7_unwinds_2 4 rfl rfl)
theorem dX7_unwinds_51 : decode cX7_unwinds 51 = .ok (.bipush 13, 2) := dk_16 13 (dk_at dksX7_unwinds_2 5 rfl rfl)
theorem dX7_unwinds_53 : decode cX7_unwinds 53 = .ok (.if_icmp .eq 9, 3) := dk_159 0 9 (dk_at dksX7_unwinds_2 7 rfl rfl)
theorem dX7_unwinds_56 : decode cX7_unwinds 56 = .ok (.iload_n 2, 1) := dk_28 (dk_at dksX7_unwinds_2 10 rfl rfl)
theorem dX7_unwinds_57 : decode cX7_unwinds 57 = .ok (.bipush 19, 2) := dk_16 19 (dk_at dksX7_unwinds_2 11 rfl rfl)
theorem dX7_unwinds_59 : decode cX7_unwinds 59 = .ok (.if_icmp .ne 7, 3) := dk_160 0 7 (dk_at dksX7_unwinds_2 13 rfl rfl)
theorem dX7_unwinds_62 : decode cX7_unwinds 62 = .ok (.iconst 1, 1) := dk_4 (dk_at dksX7_unwinds_2 16 rfl rfl)
theorem dX7_unwinds_63 : decode cX7_unwinds 63 = .ok (.goto 4, 3) := dk_167 0 4 (dk_at dksX7_unwinds_2 17 rfl rfl)
theorem dX7_unwinds_66 : decode cX7_unwinds 66 = .ok (.iconst 0, 1) := dk_3 (dk_at dksX7_unwinds_2 20 rfl rfl)
theorem dX7_unwinds_67 : decode cX7_unwinds 67 = .ok (.isub, 1) := dk_100 (dk_at dksX7_unwinds_2 21 rfl rfl)
theorem dX7_unwinds_68 : decode cX7_unwinds 68 = .ok (.putfield 176, 3) := dk_181 0 176 (dk_at dksX7_unwinds_3 0 rfl rfl)
theorem dX7_unwinds_71 : decode cX7_unwinds 71 = .ok (.aload_n 0, 1) := dk_42 (dk_at dksX7_unwinds_3 3 rfl rfl)
theorem dX7_unwinds_72 : decode cX7_unwinds 72 = .ok (.iload_n 2, 1) := dk_28 (dk_at dksX7_unwinds_3 4 rfl rfl)
theorem dX7_unwinds_73 : decode cX7_unwinds 73 = .ok (.invokevirtual 179, 3) := dk_182 0 179 (dk_at dksX7_unwinds_3 5 rfl rfl)
theorem dX7_unwinds_76 : decode cX7_unwinds 76 = .ok (.goto (-76), 3) := dk_167 255 180 (dk_at dksX7_unwinds_3 8 rfl rfl)
theorem dX7_unwinds_79 : decode cX7_unwinds 79 = .ok (.return_, 1) := dk_177 (dk_at dksX7_unwinds_3 11 rfl rfl)
abbrev cX7_rank : ByteArray := prog_20_method_17_code
def yX7_rank : MethodName := ⟨RX7, "rank", "(I)I"⟩
def dkwX7_rank_2 : List UInt8 := [26, 16, 17, 163, 0, 7, 8, 167, 0, 16, 26, 16, 18, 160, 0, 8, 16, 6, 167, 0, 5, 16, 7, 172]
abbrev dktX7_rank_2 : List UInt8 := dkwX7_rank_2 ++ []
def dkwX7_rank_1 : List UInt8 := [5, 167, 0, 46, 26, 16, 13, 160, 0, 7, 6, 167, 0, 36, 26, 16, 15, 163, 0, 7, 7, 167, 0, 26]
abbrev dktX7_rank_1 : List UInt8 := dkwX7_rank_1 ++ dktX7_rank_2
def dkwX7_rank_0 : List UInt8 := [26, 154, 0, 7, 3, 167, 0, 66, 26, 16, 11, 160, 0, 7, 4, 167, 0, 56, 26, 16, 12, 160, 0, 7]
abbrev dktX7_rank_0 : List UInt8 := dkwX7_rank_0 ++ dktX7_rank_1
theorem dksX7_rank_0 : cX7_rank.data.toList.drop 0 = dktX7_rank_0 := by decide +kernel
theorem dksX7_rank_1 : cX7_rank.data.toList.drop 24 = dktX7_rank_1 := dk_seg dksX7_rank_0 24 rfl rfl
theorem dksX7_rank_2 : cX7_rank.data.toList.drop 48 = dktX7_rank_2 := dk_seg dksX7_rank_1 24 rfl rfl
theorem dX7_rank_0 : decode cX7_rank 0 = .ok (.iload_n 0, 1) := dk_26 (dk_at dksX7_rank_0 0 rfl rfl)
theorem dX7_rank_1 : decode cX7_rank 1 = .ok (.ifCond .ne 7, 3) := dk_154 0 7 (dk_at dksX7_rank_0 1 rfl rfl)
theorem dX7_rank_4 : decode cX7_rank 4 = .ok (.iconst 0, 1) := dk_3 (dk_at dksX7_rank_0 4 rfl rfl)
theorem dX7_rank_5 : decode cX7_rank 5 = .ok (.goto 66, 3) := dk_167 0 66 (dk_at dksX7_rank_0 5 rfl rfl)
theorem dX7_rank_8 : decode cX7_rank 8 = .ok (.iload_n 0, 1) := dk_26 (dk_at dksX7_rank_0 8 rfl rfl)
theorem dX7_rank_9 : decode cX7_rank 9 = .ok (.bipush 11, 2) := dk_16 11 (dk_at dksX7_rank_0 9 rfl rfl)
theorem dX7_rank_11 : decode cX7_rank 11 = .ok (.if_icmp .ne 7, 3) := dk_160 0 7 (dk_at dksX7_rank_0 11 rfl rfl)
theorem dX7_rank_14 : decode cX7_rank 14 = .ok (.iconst 1, 1) := dk_4 (dk_at dksX7_rank_0 14 rfl rfl)
theorem dX7_rank_15 : decode cX7_rank 15 = .ok (.goto 56, 3) := dk_167 0 56 (dk_at dksX7_rank_0 15 rfl rfl)
theorem dX7_rank_18 : decode cX7_rank 18 = .ok (.iload_n 0, 1) := dk_26 (dk_at dksX7_rank_0 18 rfl rfl)
theorem dX7_rank_19 : decode cX7_rank 19 = .ok (.bipush 12, 2) := dk_16 12 (dk_at dksX7_rank_0 19 rfl rfl)
theorem dX7_rank_21 : decode cX7_rank 21 = .ok (.if_icmp .ne 7, 3) := dk_160 0 7 (dk_at dksX7_rank_0 21 rfl rfl)
theorem dX7_rank_24 : decode cX7_rank 24 = .ok (.iconst 2, 1) := dk_5 (dk_at dksX7_rank_1 0 rfl rfl)
theorem dX7_rank_25 : decode cX7_rank 25 = .ok (.goto 46, 3) := dk_167 0 46 (dk_at dksX7_rank_1 1 rfl rfl)
theorem dX7_rank_28 : decode cX7_rank 28 = .ok (.iload_n 0, 1) := dk_26 (dk_at dksX7_rank_1 4 rfl rfl)
theorem dX7_rank_29 : decode cX7_rank 29 = .ok (.bipush 13, 2) := dk_16 13 (dk_at dksX7_rank_1 5 rfl rfl)
theorem dX7_rank_31 : decode cX7_rank 31 = .ok (.if_icmp .ne 7, 3) := dk_160 0 7 (dk_at dksX7_rank_1 7 rfl rfl)
theorem dX7_rank_34 : decode cX7_rank 34 = .ok (.iconst 3, 1) := dk_6 (dk_at dksX7_rank_1 10 rfl rfl)
theorem dX7_rank_35 : decode cX7_rank 35 = .ok (.goto 36, 3) := dk_167 0 36 (dk_at dksX7_rank_1 11 rfl rfl)
theorem dX7_rank_38 : decode cX7_rank 38 = .ok (.iload_n 0, 1) := dk_26 (dk_at dksX7_rank_1 14 rfl rfl)
theorem dX7_rank_39 : decode cX7_rank 39 = .ok (.bipush 15, 2) := dk_16 15 (dk_at dksX7_rank_1 15 rfl rfl)
theorem dX7_rank_41 : decode cX7_rank 41 = .ok (.if_icmp .gt 7, 3) := dk_163 0 7 (dk_at dksX7_rank_1 17 rfl rfl)
theorem dX7_rank_44 : decode cX7_rank 44 = .ok (.iconst 4, 1) := dk_7 (dk_at dksX7_rank_1 20 rfl rfl)
theorem dX7_rank_45 : decode cX7_rank 45 = .ok (.goto 26, 3) := dk_167 0 26 (dk_at dksX7_rank_1 21 rfl rfl)
theorem dX7_rank_48 : decode cX7_rank 48 = .ok (.iload_n 0, 1) := dk_26 (dk_at dksX7_rank_2 0 rfl rfl)
theorem dX7_rank_49 : decode cX7_rank 49 = .ok (.bipush 17, 2) := dk_16 17 (dk_at dksX7_rank_2 1 rfl rfl)
theorem dX7_rank_51 : decode cX7_rank 51 = .ok (.if_icmp .gt 7, 3) := dk_163 0 7 (dk_at dksX7_rank_2 3 rfl rfl)
theorem dX7_rank_54 : decode cX7_rank 54 = .ok (.iconst 5, 1) := dk_8 (dk_at dksX7_rank_2 6 rfl rfl)
theorem dX7_rank_55 : decode cX7_rank 55 = .ok (.goto 16, 3) := dk_167 0 16 (dk_at dksX7_rank_2 7 rfl rfl)
theorem dX7_rank_58 : decode cX7_rank 58 = .ok (.iload_n 0, 1) := dk_26 (dk_at dksX7_rank_2 10 rfl rfl)
theorem dX7_rank_59 : decode cX7_rank 59 = .ok (.bipush 18, 2) := dk_16 18 (dk_at dksX7_rank_2 11 rfl rfl)
theorem dX7_rank_61 : decode cX7_rank 61 = .ok (.if_icmp .ne 8, 3) := dk_160 0 8 (dk_at dksX7_rank_2 13 rfl rfl)
theorem dX7_rank_64 : decode cX7_rank 64 = .ok (.bipush 6, 2) := dk_16 6 (dk_at dksX7_rank_2 16 rfl rfl)
theorem dX7_rank_66 : decode cX7_rank 66 = .ok (.goto 5, 3) := dk_167 0 5 (dk_at dksX7_rank_2 18 rfl rfl)
theorem dX7_rank_69 : decode cX7_rank 69 = .ok (.bipush 7, 2) := dk_16 7 (dk_at dksX7_rank_2 21 rfl rfl)
theorem dX7_rank_71 : decode cX7_rank 71 = .ok (.ireturn, 1) := dk_172 (dk_at dksX7_rank_2 23 rfl rfl)
abbrev cX7_opensOne : ByteArray := prog_20_method_21_code
def yX7_opensOne : MethodName := ⟨RX7, "opensOne", "(I)Z"⟩
def dkwX7_opensOne_1 : List UInt8 := [182, 0, 183, 4, 172]
abbrev dktX7_opensOne_1 : List UInt8 := dkwX7_opensOne_1 ++ []
def dkwX7_opensOne_0 : List UInt8 := [42, 180, 0, 176, 8, 160, 0, 5, 3, 172, 42, 89, 180, 0, 176, 4, 96, 181, 0, 176, 42, 27]
abbrev dktX7_opensOne_0 : List UInt8 := dkwX7_opensOne_0 ++ dktX7_opensOne_1
theorem dksX7_opensOne_0 : cX7_opensOne.data.toList.drop 0 = dktX7_opensOne_0 := by decide +kernel
theorem dksX7_opensOne_1 : cX7_opensOne.data.toList.drop 22 = dktX7_opensOne_1 := dk_seg dksX7_opensOne_0 22 rfl rfl
theorem dX7_opensOne_0 : decode cX7_opensOne 0 = .ok (.aload_n 0, 1) := dk_42 (dk_at dksX7_opensOne_0 0 rfl rfl)
theorem dX7_opensOne_1 : decode cX7_opensOne 1 = .ok (.getfield 176, 3) := dk_180 0 176 (dk_at dksX7_opensOne_0 1 rfl rfl)
theorem dX7_opensOne_4 : decode cX7_opensOne 4 = .ok (.iconst 5, 1) := dk_8 (dk_at dksX7_opensOne_0 4 rfl rfl)
theorem dX7_opensOne_5 : decode cX7_opensOne 5 = .ok (.if_icmp .ne 5, 3) := dk_160 0 5 (dk_at dksX7_opensOne_0 5 rfl rfl)
theorem dX7_opensOne_8 : decode cX7_opensOne 8 = .ok (.iconst 0, 1) := dk_3 (dk_at dksX7_opensOne_0 8 rfl rfl)
theorem dX7_opensOne_9 : decode cX7_opensOne 9 = .ok (.ireturn, 1) := dk_172 (dk_at dksX7_opensOne_0 9 rfl rfl)
theorem dX7_opensOne_10 : decode cX7_opensOne 10 = .ok (.aload_n 0, 1) := dk_42 (dk_at dksX7_opensOne_0 10 rfl rfl)
theorem dX7_opensOne_11 : decode cX7_opensOne 11 = .ok (.dup, 1) := dk_89 (dk_at dksX7_opensOne_0 11 rfl rfl)
theorem dX7_opensOne_12 : decode cX7_opensOne 12 = .ok (.getfield 176, 3) := dk_180 0 176 (dk_at dksX7_opensOne_0 12 rfl rfl)
theorem dX7_opensOne_15 : decode cX7_opensOne 15 = .ok (.iconst 1, 1) := dk_4 (dk_at dksX7_opensOne_0 15 rfl rfl)
theorem dX7_opensOne_16 : decode cX7_opensOne 16 = .ok (.iadd, 1) := dk_96 (dk_at dksX7_opensOne_0 16 rfl rfl)
theorem dX7_opensOne_17 : decode cX7_opensOne 17 = .ok (.putfield 176, 3) := dk_181 0 176 (dk_at dksX7_opensOne_0 17 rfl rfl)
theorem dX7_opensOne_20 : decode cX7_opensOne 20 = .ok (.aload_n 0, 1) := dk_42 (dk_at dksX7_opensOne_0 20 rfl rfl)
theorem dX7_opensOne_21 : decode cX7_opensOne 21 = .ok (.iload_n 1, 1) := dk_27 (dk_at dksX7_opensOne_0 21 rfl rfl)
theorem dX7_opensOne_22 : decode cX7_opensOne 22 = .ok (.invokevirtual 183, 3) := dk_182 0 183 (dk_at dksX7_opensOne_1 0 rfl rfl)
theorem dX7_opensOne_25 : decode cX7_opensOne 25 = .ok (.iconst 1, 1) := dk_4 (dk_at dksX7_opensOne_1 3 rfl rfl)
theorem dX7_opensOne_26 : decode cX7_opensOne 26 = .ok (.ireturn, 1) := dk_172 (dk_at dksX7_opensOne_1 4 rfl rfl)
abbrev cX7_holds : ByteArray := prog_20_method_20_code
def yX7_holds : MethodName := ⟨RX7, "holds", "(I)V"⟩
def dkwX7_holds_0 : List UInt8 := [42, 180, 0, 97, 42, 180, 0, 169, 27, 79, 42, 89, 180, 0, 169, 4, 96, 181, 0, 169, 177]
abbrev dktX7_holds_0 : List UInt8 := dkwX7_holds_0 ++ []
theorem dksX7_holds_0 : cX7_holds.data.toList.drop 0 = dktX7_holds_0 := by decide +kernel
theorem dX7_holds_0 : decode cX7_holds 0 = .ok (.aload_n 0, 1) := dk_42 (dk_at dksX7_holds_0 0 rfl rfl)
theorem dX7_holds_1 : decode cX7_holds 1 = .ok (.getfield 97, 3) := dk_180 0 97 (dk_at dksX7_holds_0 1 rfl rfl)
theorem dX7_holds_4 : decode cX7_holds 4 = .ok (.aload_n 0, 1) := dk_42 (dk_at dksX7_holds_0 4 rfl rfl)
theorem dX7_holds_5 : decode cX7_holds 5 = .ok (.getfield 169, 3) := dk_180 0 169 (dk_at dksX7_holds_0 5 rfl rfl)
theorem dX7_holds_8 : decode cX7_holds 8 = .ok (.iload_n 1, 1) := dk_27 (dk_at dksX7_holds_0 8 rfl rfl)
theorem dX7_holds_9 : decode cX7_holds 9 = .ok (.iastore, 1) := dk_79 (dk_at dksX7_holds_0 9 rfl rfl)
theorem dX7_holds_10 : decode cX7_holds 10 = .ok (.aload_n 0, 1) := dk_42 (dk_at dksX7_holds_0 10 rfl rfl)
theorem dX7_holds_11 : decode cX7_holds 11 = .ok (.dup, 1) := dk_89 (dk_at dksX7_holds_0 11 rfl rfl)
theorem dX7_holds_12 : decode cX7_holds 12 = .ok (.getfield 169, 3) := dk_180 0 169 (dk_at dksX7_holds_0 12 rfl rfl)
theorem dX7_holds_15 : decode cX7_holds 15 = .ok (.iconst 1, 1) := dk_4 (dk_at dksX7_holds_0 15 rfl rfl)
theorem dX7_holds_16 : decode cX7_holds 16 = .ok (.iadd, 1) := dk_96 (dk_at dksX7_holds_0 16 rfl rfl)
theorem dX7_holds_17 : decode cX7_holds 17 = .ok (.putfield 169, 3) := dk_181 0 169 (dk_at dksX7_holds_0 17 rfl rfl)
theorem dX7_holds_20 : decode cX7_holds 20 = .ok (.return_, 1) := dk_177 (dk_at dksX7_holds_0 20 rfl rfl)
abbrev cX7_signOf : ByteArray := prog_20_method_23_code
def yX7_signOf : MethodName := ⟨RX7, "signOf", "()I"⟩
def dkwX7_signOf_4 : List UInt8 := [167, 0, 4, 2, 172]
abbrev dktX7_signOf_4 : List UInt8 := dkwX7_signOf_4 ++ []
def dkwX7_signOf_3 : List UInt8 := [180, 0, 156, 16, 45, 160, 0, 8, 16, 17, 167, 0, 18, 42, 180, 0, 156, 16, 42, 160, 0, 8, 16, 18]
abbrev dktX7_signOf_3 : List UInt8 := dkwX7_signOf_3 ++ dktX7_signOf_4
def dkwX7_signOf_2 : List UInt8 := [160, 0, 8, 16, 15, 167, 0, 46, 42, 180, 0, 156, 16, 43, 160, 0, 8, 16, 16, 167, 0, 32, 42]
abbrev dktX7_signOf_2 : List UInt8 := dkwX7_signOf_2 ++ dktX7_signOf_3
def dkwX7_signOf_1 : List UInt8 := [167, 0, 74, 42, 180, 0, 156, 16, 60, 160, 0, 8, 16, 14, 167, 0, 60, 42, 180, 0, 156, 16, 61]
abbrev dktX7_signOf_1 : List UInt8 := dkwX7_signOf_1 ++ dktX7_signOf_2
def dkwX7_signOf_0 : List UInt8 := [42, 180, 0, 156, 7, 160, 0, 8, 16, 11, 167, 0, 87, 42, 180, 0, 156, 8, 160, 0, 8, 16, 12]
abbrev dktX7_signOf_0 : List UInt8 := dkwX7_signOf_0 ++ dktX7_signOf_1
theorem dksX7_signOf_0 : cX7_signOf.data.toList.drop 0 = dktX7_signOf_0 := by decide +kernel
theorem dksX7_signOf_1 : cX7_signOf.data.toList.drop 23 = dktX7_signOf_1 := dk_seg dksX7_signOf_0 23 rfl rfl
theorem dksX7_signOf_2 : cX7_signOf.data.toList.drop 46 = dktX7_signOf_2 := dk_seg dksX7_signOf_1 23 rfl rfl
theorem dksX7_signOf_3 : cX7_signOf.data.toList.drop 69 = dktX7_signOf_3 := dk_seg dksX7_signOf_2 23 rfl rfl
theorem dksX7_signOf_4 : cX7_signOf.data.toList.drop 93 = dktX7_signOf_4 := dk_seg dksX7_signOf_3 24 rfl rfl
theorem dX7_signOf_0 : decode cX7_signOf 0 = .ok (.aload_n 0, 1) := dk_42 (dk_at dksX7_signOf_0 0 rfl rfl)
theorem dX7_signOf_1 : decode cX7_signOf 1 = .ok (.getfield 156, 3) := dk_180 0 156 (dk_at dksX7_signOf_0 1 rfl rfl)
theorem dX7_signOf_4 : decode cX7_signOf 4 = .ok (.iconst 4, 1) := dk_7 (dk_at dksX7_signOf_0 4 rfl rfl)
theorem dX7_signOf_5 : decode cX7_signOf 5 = .ok (.if_icmp .ne 8, 3) := dk_160 0 8 (dk_at dksX7_signOf_0 5 rfl rfl)
theorem dX7_signOf_8 : decode cX7_signOf 8 = .ok (.bipush 11, 2) := dk_16 11 (dk_at dksX7_signOf_0 8 rfl rfl)
theorem dX7_signOf_10 : decode cX7_signOf 10 = .ok (.goto 87, 3) := dk_167 0 87 (dk_at dksX7_signOf_0 10 rfl rfl)
theorem dX7_signOf_13 : decode cX7_signOf 13 = .ok (.aload_n 0, 1) := dk_42 (dk_at dksX7_signOf_0 13 rfl rfl)
theorem dX7_signOf_14 : decode cX7_signOf 14 = .ok (.getfield 156, 3) := dk_180 0 156 (dk_at dksX7_signOf_0 14 rfl rfl)
theorem dX7_signOf_17 : decode cX7_signOf 17 = .ok (.iconst 5, 1) := dk_8 (dk_at dksX7_signOf_0 17 rfl rfl)
theorem dX7_signOf_18 : decode cX7_signOf 18 = .ok (.if_icmp .ne 8, 3) := dk_160 0 8 (dk_at dksX7_signOf_0 18 rfl rfl)
theorem dX7_signOf_21 : decode cX7_signOf 21 = .ok (.bipush 12, 2) := dk_16 12 (dk_at dksX7_signOf_0 21 rfl rfl)
theorem dX7_signOf_23 : decode cX7_signOf 23 = .ok (.goto 74, 3) := dk_167 0 74 (dk_at dksX7_signOf_1 0 rfl rfl)
theorem dX7_signOf_26 : decode cX7_signOf 26 = .ok (.aload_n 0, 1) := dk_42 (dk_at dksX7_signOf_1 3 rfl rfl)
theorem dX7_signOf_27 : decode cX7_signOf 27 = .ok (.getfield 156, 3) := dk_180 0 156 (dk_at dksX7_signOf_1 4 rfl rfl)
theorem dX7_signOf_30 : decode cX7_signOf 30 = .ok (.bipush 60, 2) := dk_16 60 (dk_at dksX7_signOf_1 7 rfl rfl)
theorem dX7_signOf_32 : decode cX7_signOf 32 = .ok (.if_icmp .ne 8, 3) := dk_160 0 8 (dk_at dksX7_signOf_1 9 rfl rfl)
theorem dX7_signOf_35 : decode cX7_signOf 35 = .ok (.bipush 14, 2) := dk_16 14 (dk_at dksX7_signOf_1 12 rfl rfl)
theorem dX7_signOf_37 : decode cX7_signOf 37 = .ok (.goto 60, 3) := dk_167 0 60 (dk_at dksX7_signOf_1 14 rfl rfl)
theorem dX7_signOf_40 : decode cX7_signOf 40 = .ok (.aload_n 0, 1) := dk_42 (dk_at dksX7_signOf_1 17 rfl rfl)
theorem dX7_signOf_41 : decode cX7_signOf 41 = .ok (.getfield 156, 3) := dk_180 0 156 (dk_at dksX7_signOf_1 18 rfl rfl)
theorem dX7_signOf_44 : decode cX7_signOf 44 = .ok (.bipush 61, 2) := dk_16 61 (dk_at dksX7_signOf_1 21 rfl rfl)
theorem dX7_signOf_46 : decode cX7_signOf 46 = .ok (.if_icmp .ne 8, 3) := dk_160 0 8 (dk_at dksX7_signOf_2 0 rfl rfl)
theorem dX7_signOf_49 : decode cX7_signOf 49 = .ok (.bipush 15, 2) := dk_16 15 (dk_at dksX7_signOf_2 3 rfl rfl)
theorem dX7_signOf_51 : decode cX7_signOf 51 = .ok (.goto 46, 3) := dk_167 0 46 (dk_at dksX7_signOf_2 5 rfl rfl)
theorem dX7_signOf_54 : decode cX7_signOf 54 = .ok (.aload_n 0, 1) := dk_42 (dk_at dksX7_signOf_2 8 rfl rfl)
theorem dX7_signOf_55 : decode cX7_signOf 55 = .ok (.getfield 156, 3) := dk_180 0 156 (dk_at dksX7_signOf_2 9 rfl rfl)
theorem dX7_signOf_58 : decode cX7_signOf 58 = .ok (.bipush 43, 2) := dk_16 43 (dk_at dksX7_signOf_2 12 rfl rfl)
theorem dX7_signOf_60 : decode cX7_signOf 60 = .ok (.if_icmp .ne 8, 3) := dk_160 0 8 (dk_at dksX7_signOf_2 14 rfl rfl)
theorem dX7_signOf_63 : decode cX7_signOf 63 = .ok (.bipush 16, 2) := dk_16 16 (dk_at dksX7_signOf_2 17 rfl rfl)
theorem dX7_signOf_65 : decode cX7_signOf 65 = .ok (.goto 32, 3) := dk_167 0 32 (dk_at dksX7_signOf_2 19 rfl rfl)
theorem dX7_signOf_68 : decode cX7_signOf 68 = .ok (.aload_n 0, 1) := dk_42 (dk_at dksX7_signOf_2 22 rfl rfl)
theorem dX7_signOf_69 : decode cX7_signOf 69 = .ok (.getfield 156, 3) := dk_180 0 156 (dk_at dksX7_signOf_3 0 rfl rfl)
theorem dX7_signOf_72 : decode cX7_signOf 72 = .ok (.bipush 45, 2) := dk_16 45 (dk_at dksX7_signOf_3 3 rfl rfl)
theorem dX7_signOf_74 : decode cX7_signOf 74 = .ok (.if_icmp .ne 8, 3) := dk_160 0 8 (dk_at dksX7_signOf_3 5 rfl rfl)
theorem dX7_signOf_77 : decode cX7_signOf 77 = .ok (.bipush 17, 2) := dk_16 17 (dk_at dksX7_signOf_3 8 rfl rfl)
theorem dX7_signOf_79 : decode cX7_signOf 79 = .ok (.goto 18, 3) := dk_167 0 18 (dk_at dksX7_signOf_3 10 rfl rfl)
theorem dX7_signOf_82 : decode cX7_signOf 82 = .ok (.aload_n 0, 1) := dk_42 (dk_at dksX7_signOf_3 13 rfl rfl)
theorem dX7_signOf_83 : decode cX7_signOf 83 = .ok (.getfield 156, 3) := dk_180 0 156 (dk_at dksX7_signOf_3 14 rfl rfl)
theorem dX7_signOf_86 : decode cX7_signOf 86 = .ok (.bipush 42, 2) := dk_16 42 (dk_at dksX7_signOf_3 17 rfl rfl)
theorem dX7_signOf_88 : decode cX7_signOf 88 = .ok (.if_icmp .ne 8, 3) := dk_160 0 8 (dk_at dksX7_signOf_3 19 rfl rfl)
theorem dX7_signOf_91 : decode cX7_signOf 91 = .ok (.bipush 18, 2) := dk_16 18 (dk_at dksX7_signOf_3 22 rfl rfl)
theorem dX7_signOf_93 : decode cX7_signOf 93 = .ok (.goto 4, 3) := dk_167 0 4 (dk_at dksX7_signOf_4 0 rfl rfl)
theorem dX7_signOf_96 : decode cX7_signOf 96 = .ok (.iconst (-1), 1) := dk_2 (dk_at dksX7_signOf_4 3 rfl rfl)
theorem dX7_signOf_97 : decode cX7_signOf 97 = .ok (.ireturn, 1) := dk_172 (dk_at dksX7_signOf_4 4 rfl rfl)
abbrev cX7_between : ByteArray := prog_20_method_22_code
def yX7_between : MethodName := ⟨RX7, "between", "(I)Z"⟩
def dkwX7_between_2 : List UInt8 := [184, 0, 172, 7, 160, 0, 5, 3, 172, 42, 27, 182, 0, 183, 4, 172]
abbrev dktX7_between_2 : List UInt8 := dkwX7_between_2 ++ []
def dkwX7_between_1 : List UInt8 := [7, 160, 0, 30, 42, 180, 0, 169, 158, 0, 23, 42, 180, 0, 97, 42, 180, 0, 169, 4, 100, 46]
abbrev dktX7_between_1 : List UInt8 := dkwX7_between_1 ++ dktX7_between_2
def dkwX7_between_0 : List UInt8 := [42, 27, 184, 0, 172, 7, 160, 0, 7, 8, 167, 0, 7, 27, 184, 0, 172, 182, 0, 186, 27, 184, 0, 172]
abbrev dktX7_between_0 : List UInt8 := dkwX7_between_0 ++ dktX7_between_1
theorem dksX7_between_0 : cX7_between.data.toList.drop 0 = dktX7_between_0 := by decide +kernel
theorem dksX7_between_1 : cX7_between.data.toList.drop 24 = dktX7_between_1 := dk_seg dksX7_between_0 24 rfl rfl
theorem dksX7_between_2 : cX7_between.data.toList.drop 46 = dktX7_between_2 := dk_seg dksX7_between_1 22 rfl rfl
theorem dX7_between_0 : decode cX7_between 0 = .ok (.aload_n 0, 1) := dk_42 (dk_at dksX7_between_0 0 rfl rfl)
theorem dX7_between_1 : decode cX7_between 1 = .ok (.iload_n 1, 1) := dk_27 (dk_at dksX7_between_0 1 rfl rfl)
theorem dX7_between_2 : decode cX7_between 2 = .ok (.invokestatic 172, 3) := dk_184 0 172 (dk_at dksX7_between_0 2 rfl rfl)
theorem dX7_between_5 : decode cX7_between 5 = .ok (.iconst 4, 1) := dk_7 (dk_at dksX7_between_0 5 rfl rfl)
theorem dX7_between_6 : decode cX7_between 6 = .ok (.if_icmp .ne 7, 3) := dk_160 0 7 (dk_at dksX7_between_0 6 rfl rfl)
theorem dX7_between_9 : decode cX7_between 9 = .ok (.iconst 5, 1) := dk_8 (dk_at dksX7_between_0 9 rfl rfl)
theorem dX7_between_10 : decode cX7_between 10 = .ok (.goto 7, 3) := dk_167 0 7 (dk_at dksX7_between_0 10 rfl rfl)
theorem dX7_between_13 : decode cX7_between 13 = .ok (.iload_n 1, 1) := dk_27 (dk_at dksX7_between_0 13 rfl rfl)
theorem dX7_between_14 : decode cX7_between 14 = .ok (.invokestatic 172, 3) := dk_184 0 172 (dk_at dksX7_between_0 14 rfl rfl)
theorem dX7_between_17 : decode cX7_between 17 = .ok (.invokevirtual 186, 3) := dk_182 0 186 (dk_at dksX7_between_0 17 rfl rfl)
theorem dX7_between_20 : decode cX7_between 20 = .ok (.iload_n 1, 1) := dk_27 (dk_at dksX7_between_0 20 rfl rfl)
theorem dX7_between_21 : decode cX7_between 21 = .ok (.invokestatic 172, 3) := dk_184 0 172 (dk_at dksX7_between_0 21 rfl rfl)
theorem dX7_between_24 : decode cX7_between 24 = .ok (.iconst 4, 1) := dk_7 (dk_at dksX7_between_1 0 rfl rfl)
theorem dX7_between_25 : decode cX7_between 25 = .ok (.if_icmp .ne 30, 3) := dk_160 0 30 (dk_at dksX7_between_1 1 rfl rfl)
theorem dX7_between_28 : decode cX7_between 28 = .ok (.aload_n 0, 1) := dk_42 (dk_at dksX7_between_1 4 rfl rfl)
theorem dX7_between_29 : decode cX7_between 29 = .ok (.getfield 169, 3) := dk_180 0 169 (dk_at dksX7_between_1 5 rfl rfl)
theorem dX7_between_32 : decode cX7_between 32 = .ok (.ifCond .le 23, 3) := dk_158 0 23 (dk_at dksX7_between_1 8 rfl rfl)
theorem dX7_between_35 : decode cX7_between 35 = .ok (.aload_n 0, 1) := dk_42 (dk_at dksX7_between_1 11 rfl rfl)
theorem dX7_between_36 : decode cX7_between 36 = .ok (.getfield 97, 3) := dk_180 0 97 (dk_at dksX7_between_1 12 rfl rfl)
theorem dX7_between_39 : decode cX7_between 39 = .ok (.aload_n 0, 1) := dk_42 (dk_at dksX7_between_1 15 rfl rfl)
theorem dX7_between_40 : decode cX7_between 40 = .ok (.getfield 169, 3) := dk_180 0 169 (dk_at dksX7_between_1 16 rfl rfl)
theorem dX7_between_43 : decode cX7_between 43 = .ok (.iconst 1, 1) := dk_4 (dk_at dksX7_between_1 19 rfl rfl)
theorem dX7_between_44 : decode cX7_between 44 = .ok (.isub, 1) := dk_100 (dk_at dksX7_between_1 20 rfl rfl)
theorem dX7_between_45 : decode cX7_between 45 = .ok (.iaload, 1) := dk_46 (dk_at dksX7_between_1 21 rfl rfl)
theorem dX7_between_46 : decode cX7_between 46 = .ok (.invokestatic 172, 3) := dk_184 0 172 (dk_at dksX7_between_2 0 rfl rfl)
theorem dX7_between_49 : decode cX7_between 49 = .ok (.iconst 4, 1) := dk_7 (dk_at dksX7_between_2 3 rfl rfl)
theorem dX7_between_50 : decode cX7_between 50 = .ok (.if_icmp .ne 5, 3) := dk_160 0 5 (dk_at dksX7_between_2 4 rfl rfl)
theorem dX7_between_53 : decode cX7_between 53 = .ok (.iconst 0, 1) := dk_3 (dk_at dksX7_between_2 7 rfl rfl)
theorem dX7_between_54 : decode cX7_between 54 = .ok (.ireturn, 1) := dk_172 (dk_at dksX7_between_2 8 rfl rfl)
theorem dX7_between_55 : decode cX7_between 55 = .ok (.aload_n 0, 1) := dk_42 (dk_at dksX7_between_2 9 rfl rfl)
theorem dX7_between_56 : decode cX7_between 56 = .ok (.iload_n 1, 1) := dk_27 (dk_at dksX7_between_2 10 rfl rfl)
theorem dX7_between_57 : decode cX7_between 57 = .ok (.invokevirtual 183, 3) := dk_182 0 183 (dk_at dksX7_between_2 11 rfl rfl)
theorem dX7_between_60 : decode cX7_between 60 = .ok (.iconst 1, 1) := dk_4 (dk_at dksX7_between_2 14 rfl rfl)
theorem dX7_between_61 : decode cX7_between 61 = .ok (.ireturn, 1) := dk_172 (dk_at dksX7_between_2 15 rfl rfl)
abbrev cX7_force : ByteArray := prog_20_method_28_code
def yX7_force : MethodName := ⟨RX7, "force", "(I)I"⟩
def dkwX7_force_1 : List UInt8 := [181, 0, 207, 28, 172]
abbrev dktX7_force_1 : List UInt8 := dkwX7_force_1 ++ []
def dkwX7_force_0 : List UInt8 := [27, 3, 42, 180, 0, 46, 4, 100, 184, 0, 127, 154, 0, 6, 16, 254, 172, 42, 180, 0, 207, 61, 42, 27]
abbrev dktX7_force_0 : List UInt8 := dkwX7_force_0 ++ dktX7_force_1
theorem dksX7_force_0 : cX7_force.data.toList.drop 0 = dktX7_force_0 := by decide +kernel
theorem dksX7_force_1 : cX7_force.data.toList.drop 24 = dktX7_force_1 := dk_seg dksX7_force_0 24 rfl rfl
theorem dX7_force_0 : decode cX7_force 0 = .ok (.iload_n 1, 1) := dk_27 (dk_at dksX7_force_0 0 rfl rfl)
theorem dX7_force_1 : decode cX7_force 1 = .ok (.iconst 0, 1) := dk_3 (dk_at dksX7_force_0 1 rfl rfl)
theorem dX7_force_2 : decode cX7_force 2 = .ok (.aload_n 0, 1) := dk_42 (dk_at dksX7_force_0 2 rfl rfl)
theorem dX7_force_3 : decode cX7_force 3 = .ok (.getfield 46, 3) := dk_180 0 46 (dk_at dksX7_force_0 3 rfl rfl)
theorem dX7_force_6 : decode cX7_force 6 = .ok (.iconst 1, 1) := dk_4 (dk_at dksX7_force_0 6 rfl rfl)
theorem dX7_force_7 : decode cX7_force 7 = .ok (.isub, 1) := dk_100 (dk_at dksX7_force_0 7 rfl rfl)
theorem dX7_force_8 : decode cX7_force 8 = .ok (.invokestatic 127, 3) := dk_184 0 127 (dk_at dksX7_force_0 8 rfl rfl)
theorem dX7_force_11 : decode cX7_force 11 = .ok (.ifCond .ne 6, 3) := dk_154 0 6 (dk_at dksX7_force_0 11 rfl rfl)
theorem dX7_force_14 : decode cX7_force 14 = .ok (.bipush (-2), 2) := dk_16 254 (dk_at dksX7_force_0 14 rfl rfl)
theorem dX7_force_16 : decode cX7_force 16 = .ok (.ireturn, 1) := dk_172 (dk_at dksX7_force_0 16 rfl rfl)
theorem dX7_force_17 : decode cX7_force 17 = .ok (.aload_n 0, 1) := dk_42 (dk_at dksX7_force_0 17 rfl rfl)
theorem dX7_force_18 : decode cX7_force 18 = .ok (.getfield 207, 3) := dk_180 0 207 (dk_at dksX7_force_0 18 rfl rfl)
theorem dX7_force_21 : decode cX7_force 21 = .ok (.istore_n 2, 1) := dk_61 (dk_at dksX7_force_0 21 rfl rfl)
theorem dX7_force_22 : decode cX7_force 22 = .ok (.aload_n 0, 1) := dk_42 (dk_at dksX7_force_0 22 rfl rfl)
theorem dX7_force_23 : decode cX7_force 23 = .ok (.iload_n 1, 1) := dk_27 (dk_at dksX7_force_0 23 rfl rfl)
theorem dX7_force_24 : decode cX7_force 24 = .ok (.putfield 207, 3) := dk_181 0 207 (dk_at dksX7_force_1 0 rfl rfl)
theorem dX7_force_27 : decode cX7_force 27 = .ok (.iload_n 2, 1) := dk_28 (dk_at dksX7_force_1 3 rfl rfl)
theorem dX7_force_28 : decode cX7_force 28 = .ok (.ireturn, 1) := dk_172 (dk_at dksX7_force_1 4 rfl rfl)
abbrev cX7_way : ByteArray := prog_20_method_32_code
def yX7_way : MethodName := ⟨RX7, "way", "(II)I"⟩
def dkwX7_way_8 : List UInt8 := [180, 0, 214, 4, 96, 181, 0, 214, 42, 180, 0, 214, 4, 100, 172]
abbrev dktX7_way_8 : List UInt8 := dkwX7_way_8 ++ []
def dkwX7_way_7 : List UInt8 := [96, 42, 180, 0, 68, 16, 40, 28, 104, 21, 4, 96, 46, 79, 132, 4, 1, 167, 255, 217, 42, 89]
abbrev dktX7_way_7 : List UInt8 := dkwX7_way_7 ++ dktX7_way_8
def dkwX7_way_6 : List UInt8 := [54, 4, 21, 4, 42, 180, 0, 142, 162, 0, 36, 42, 180, 0, 34, 16, 16, 42, 180, 0, 214, 104, 21, 4]
abbrev dktX7_way_6 : List UInt8 := dkwX7_way_6 ++ dktX7_way_7
def dkwX7_way_5 : List UInt8 := [180, 0, 28, 42, 180, 0, 214, 27, 79, 42, 180, 0, 31, 42, 180, 0, 214, 42, 180, 0, 142, 79, 3]
abbrev dktX7_way_5 : List UInt8 := dkwX7_way_5 ++ dktX7_way_6
def dkwX7_way_4 : List UInt8 := [167, 255, 224, 29, 154, 0, 6, 16, 254, 172, 42, 180, 0, 214, 16, 8, 160, 0, 6, 16, 252, 172, 42]
abbrev dktX7_way_4 : List UInt8 := dkwX7_way_4 ++ dktX7_way_5
def dkwX7_way_3 : List UInt8 := [153, 0, 25, 42, 180, 0, 68, 16, 40, 28, 104, 21, 4, 96, 46, 184, 0, 220, 62, 132, 4, 1]
abbrev dktX7_way_3 : List UInt8 := dkwX7_way_3 ++ dktX7_way_4
def dkwX7_way_2 : List UInt8 := [160, 0, 7, 4, 167, 0, 4, 3, 62, 3, 54, 4, 21, 4, 42, 180, 0, 142, 162, 0, 29, 29]
abbrev dktX7_way_2 : List UInt8 := dkwX7_way_2 ++ dktX7_way_3
def dkwX7_way_1 : List UInt8 := [180, 0, 62, 28, 46, 2, 160, 0, 6, 16, 245, 172, 42, 180, 0, 65, 28, 46, 42, 180, 0, 142]
abbrev dktX7_way_1 : List UInt8 := dkwX7_way_1 ++ dktX7_way_2
def dkwX7_way_0 : List UInt8 := [27, 3, 8, 184, 0, 127, 153, 0, 12, 28, 3, 6, 184, 0, 127, 154, 0, 6, 16, 254, 172, 42]
abbrev dktX7_way_0 : List UInt8 := dkwX7_way_0 ++ dktX7_way_1
theorem dksX7_way_0 : cX7_way.data.toList.drop 0 = dktX7_way_0 := by decide +kernel
theorem dksX7_way_1 : cX7_way.data.toList.drop 22 = dktX7_way_1 := dk_seg dksX7_way_0 22 rfl rfl
theorem dksX7_way_2 : cX7_way.data.toList.drop 44 = dktX7_way_2 := dk_seg dksX7_way_1 22 rfl rfl
theorem dksX7_way_3 : cX7_way.data.toList.drop 66 = dktX7_way_3 := dk_seg dksX7_way_2 22 rfl rfl
theorem dksX7_way_4 : cX7_way.data.toList.drop 88 = dktX7_way_4 := dk_seg dksX7_way_3 22 rfl rfl
theorem dksX7_way_5 : cX7_way.data.toList.drop 111 = dktX7_way_5 := dk_seg dksX7_way_4 23 rfl rfl
theorem dksX7_way_6 : cX7_way.data.toList.drop 134 = dktX7_way_6 := dk_seg dksX7_way_5 23 rfl rfl
theorem dksX7_way_7 : cX7_way.data.toList.drop 158 = dktX7_way_7 := dk_seg dksX7_way_6 24 rfl rfl
theorem dksX7_way_8 : cX7_way.data.toList.drop 180 = dktX7_way_8 := dk_seg dksX7_way_7 22 rfl rfl
theorem dX7_way_0 : decode cX7_way 0 = .ok (.iload_n 1, 1) := dk_27 (dk_at dksX7_way_0 0 rfl rfl)
theorem dX7_way_1 : decode cX7_way 1 = .ok (.iconst 0, 1) := dk_3 (dk_at dksX7_way_0 1 rfl rfl)
theorem dX7_way_2 : decode cX7_way 2 = .ok (.iconst 5, 1) := dk_8 (dk_at dksX7_way_0 2 rfl rfl)
theorem dX7_way_3 : decode cX7_way 3 = .ok (.invokestatic 127, 3) := dk_184 0 127 (dk_at dksX7_way_0 3 rfl rfl)
theorem dX7_way_6 : decode cX7_way 6 = .ok (.ifCond .eq 12, 3) := dk_153 0 12 (dk_at dksX7_way_0 6 rfl rfl)
theorem dX7_way_9 : decode cX7_way 9 = .ok (.iload_n 2, 1) := dk_28 (dk_at dksX7_way_0 9 rfl rfl)
theorem dX7_way_10 : decode cX7_way 10 = .ok (.iconst 0, 1) := dk_3 (dk_at dksX7_way_0 10 rfl rfl)
theorem dX7_way_11 : decode cX7_way 11 = .ok (.iconst 3, 1) := dk_6 (dk_at dksX7_way_0 11 rfl rfl)
theorem dX7_way_12 : decode cX7_way 12 = .ok (.invokestatic 127, 3) := dk_184 0 127 (dk_at dksX7_way_0 12 rfl rfl)
theorem dX7_way_15 : decode cX7_way 15 = .ok (.ifCond .ne 6, 3) := dk_154 0 6 (dk_at dksX7_way_0 15 rfl rfl)
theorem dX7_way_18 : decode cX7_way 18 = .ok (.bipush (-2), 2) := dk_16 254 (dk_at dksX7_way_0 18 rfl rfl)
theorem dX7_way_20 : decode cX7_way 20 = .ok (.ireturn, 1) := dk_172 (dk_at dksX7_way_0 20 rfl rfl)
theorem dX7_way_21 : decode cX7_way 21 = .ok (.aload_n 0, 1) := dk_42 (dk_at dksX7_way_0 21 rfl rfl)
theorem dX7_way_22 : decode cX7_way 22 = .ok (.getfield 62, 3) := dk_180 0 62 (dk_at dksX7_way_1 0 rfl rfl)
theorem dX7_way_25 : decode cX7_way 25 = .ok (.iload_n 2, 1) := dk_28 (dk_at dksX7_way_1 3 rfl rfl)
theorem dX7_way_26 : decode cX7_way 26 = .ok (.iaload, 1) := dk_46 (dk_at dksX7_way_1 4 rfl rfl)
theorem dX7_way_27 : decode cX7_way 27 = .ok (.iconst (-1), 1) := dk_2 (dk_at dksX7_way_1 5 rfl rfl)
theorem dX7_way_28 : decode cX7_way 28 = .ok (.if_icmp .ne 6, 3) := dk_160 0 6 (dk_at dksX7_way_1 6 rfl rfl)
theorem dX7_way_31 : decode cX7_way 31 = .ok (.bipush (-11), 2) := dk_16 245 (dk_at dksX7_way_1 9 rfl rfl)
theorem dX7_way_33 : decode cX7_way 33 = .ok (.ireturn, 1) := dk_172 (dk_at dksX7_way_1 11 rfl rfl)
theorem dX7_way_34 : decode cX7_way 34 = .ok (.aload_n 0, 1) := dk_42 (dk_at dksX7_way_1 12 rfl rfl)
theorem dX7_way_35 : decode cX7_way 35 = .ok (.getfield 65, 3) := dk_180 0 65 (dk_at dksX7_way_1 13 rfl rfl)
theorem dX7_way_38 : decode cX7_way 38 = .ok (.iload_n 2, 1) := dk_28 (dk_at dksX7_way_1 16 rfl rfl)
theorem dX7_way_39 : decode cX7_way 39 = .ok (.iaload, 1) := dk_46 (dk_at dksX7_way_1 17 rfl rfl)
theorem dX7_way_40 : decode cX7_way 40 = .ok (.aload_n 0, 1) := dk_42 (dk_at dksX7_way_1 18 rfl rfl)
theorem dX7_way_41 : decode cX7_way 41 = .ok (.getfield 142, 3) := dk_180 0 142 (dk_at dksX7_way_1 19 rfl rfl)
theorem dX7_way_44 : decode cX7_way 44 = .ok (.if_icmp .ne 7, 3) := dk_160 0 7 (dk_at dksX7_way_2 0 rfl rfl)
theorem dX7_way_47 : decode cX7_way 47 = .ok (.iconst 1, 1) := dk_4 (dk_at dksX7_way_2 3 rfl rfl)
theorem dX7_way_48 : decode cX7_way 48 = .ok (.goto 4, 3) := dk_167 0 4 (dk_at dksX7_way_2 4 rfl rfl)
theorem dX7_way_51 : decode cX7_way 51 = .ok (.iconst 0, 1) := dk_3 (dk_at dksX7_way_2 7 rfl rfl)
theorem dX7_way_52 : decode cX7_way 52 = .ok (.istore_n 3, 1) := dk_62 (dk_at dksX7_way_2 8 rfl rfl)
theorem dX7_way_53 : decode cX7_way 53 = .ok (.iconst 0, 1) := dk_3 (dk_at dksX7_way_2 9 rfl rfl)
theorem dX7_way_54 : decode cX7_way 54 = .ok (.istore 4, 2) := dk_54 4 (dk_at dksX7_way_2 10 rfl rfl)
theorem dX7_way_56 : decode cX7_way 56 = .ok (.iload 4, 2) := dk_21 4 (dk_at dksX7_way_2 12 rfl rfl)
theorem dX7_way_58 : decode cX7_way 58 = .ok (.aload_n 0, 1) := dk_42 (dk_at dksX7_way_2 14 rfl rfl)
theorem dX7_way_59 : decode cX7_way 59 = .ok (.getfield 142, 3) := dk_180 0 142 (dk_at dksX7_way_2 15 rfl rfl)
theorem dX7_way_62 : decode cX7_way 62 = .ok (.if_icmp .ge 29, 3) := dk_162 0 29 (dk_at dksX7_way_2 18 rfl rfl)
theorem dX7_way_65 : decode cX7_way 65 = .ok (.iload_n 3, 1) := dk_29 (dk_at dksX7_way_2 21 rfl rfl)
theorem dX7_way_66 : decode cX7_way 66 = .ok (.ifCond .eq 25, 3) := dk_153 0 25 (dk_at dksX7_way_3 0 rfl rfl)
theorem dX7_way_69 : decode cX7_way 69 = .ok (.aload_n 0, 1) := dk_42 (dk_at dksX7_way_3 3 rfl rfl)
theorem dX7_way_70 : decode cX7_way 70 = .ok (.getfield 68, 3) := dk_180 0 68 (dk_at dksX7_way_3 4 rfl rfl)
theorem dX7_way_73 : decode cX7_way 73 = .ok (.bipush 40, 2) := dk_16 40 (dk_at dksX7_way_3 7 rfl rfl)
theorem dX7_way_75 : decode cX7_way 75 = .ok (.iload_n 2, 1) := dk_28 (dk_at dksX7_way_3 9 rfl rfl)
theorem dX7_way_76 : decode cX7_way 76 = .ok (.imul, 1) := dk_104 (dk_at dksX7_way_3 10 rfl rfl)
theorem dX7_way_77 : decode cX7_way 77 = .ok (.iload 4, 2) := dk_21 4 (dk_at dksX7_way_3 11 rfl rfl)
theorem dX7_way_79 : decode cX7_way 79 = .ok (.iadd, 1) := dk_96 (dk_at dksX7_way_3 13 rfl rfl)
theorem dX7_way_80 : decode cX7_way 80 = .ok (.iaload, 1) := dk_46 (dk_at dksX7_way_3 14 rfl rfl)
theorem dX7_way_81 : decode cX7_way 81 = .ok (.invokestatic 220, 3) := dk_184 0 220 (dk_at dksX7_way_3 15 rfl rfl)
theorem dX7_way_84 : decode cX7_way 84 = .ok (.istore_n 3, 1) := dk_62 (dk_at dksX7_way_3 18 rfl rfl)
theorem dX7_way_85 : decode cX7_way 85 = .ok (.iinc 4 1, 3) := dk_132 4 1 (dk_at dksX7_way_3 19 rfl rfl)
theorem dX7_way_88 : decode cX7_way 88 = .ok (.goto (-32), 3) := dk_167 255 224 (dk_at dksX7_way_4 0 rfl rfl)
theorem dX7_way_91 : decode cX7_way 91 = .ok (.iload_n 3, 1) := dk_29 (dk_at dksX7_way_4 3 rfl rfl)
theorem dX7_way_92 : decode cX7_way 92 = .ok (.ifCond .ne 6, 3) := dk_154 0 6 (dk_at dksX7_way_4 4 rfl rfl)
theorem dX7_way_95 : decode cX7_way 95 = .ok (.bipush (-2), 2) := dk_16 254 (dk_at dksX7_way_4 7 rfl rfl)
theorem dX7_way_97 : decode cX7_way 97 = .ok (.ireturn, 1) := dk_172 (dk_at dksX7_way_4 9 rfl rfl)
theorem dX7_way_98 : decode cX7_way 98 = .ok (.aload_n 0, 1) := dk_42 (dk_at dksX7_way_4 10 rfl rfl)
theorem dX7_way_99 : decode cX7_way 99 = .ok (.getfield 214, 3) := dk_180 0 214 (dk_at dksX7_way_4 11 rfl rfl)
theorem dX7_way_102 : decode cX7_way 102 = .ok (.bipush 8, 2) := dk_16 8 (dk_at dksX7_way_4 14 rfl rfl)
theorem dX7_way_104 : decode cX7_way 104 = .ok (.if_icmp .ne 6, 3) := dk_160 0 6 (dk_at dksX7_way_4 16 rfl rfl)
theorem dX7_way_107 : decode cX7_way 107 = .ok (.bipush (-4), 2) := dk_16 252 (dk_at dksX7_way_4 19 rfl rfl)
theorem dX7_way_109 : decode cX7_way 109 = .ok (.ireturn, 1) := dk_172 (dk_at dksX7_way_4 21 rfl rfl)
theorem dX7_way_110 : decode cX7_way 110 = .ok (.aload_n 0, 1) := dk_42 (dk_at dksX7_way_4 22 rfl rfl)
theorem dX7_way_111 : decode cX7_way 111 = .ok (.getfield 28, 3) := dk_180 0 28 (dk_at dksX7_way_5 0 rfl rfl)
theorem dX7_way_114 : decode cX7_way 114 = .ok (.aload_n 0, 1) := dk_42 (dk_at dksX7_way_5 3 rfl rfl)
theorem dX7_way_115 : decode cX7_way 115 = .ok (.getfield 214, 3) := dk_180 0 214 (dk_at dksX7_way_5 4 rfl rfl)
theorem dX7_way_118 : decode cX7_way 118 = .ok (.iload_n 1, 1) := dk_27 (dk_at dksX7_way_5 7 rfl rfl)
theorem dX7_way_119 : decode cX7_way 119 = .ok (.iastore, 1) := dk_79 (dk_at dksX7_way_5 8 rfl rfl)
theorem dX7_way_120 : decode cX7_way 120 = .ok (.aload_n 0, 1) := dk_42 (dk_at dksX7_way_5 9 rfl rfl)
theorem dX7_way_121 : decode cX7_way 121 = .ok (.getfield 31, 3) := dk_180 0 31 (dk_at dksX7_way_5 10 rfl rfl)
theorem dX7_way_124 : decode cX7_way 124 = .ok (.aload_n 0, 1) := dk_42 (dk_at dksX7_way_5 13 rfl rfl)
theorem dX7_way_125 : decode cX7_way 125 = .ok (.getfield 214, 3) := dk_180 0 214 (dk_at dksX7_way_5 14 rfl rfl)
theorem dX7_way_128 : decode cX7_way 128 = .ok (.aload_n 0, 1) := dk_42 (dk_at dksX7_way_5 17 rfl rfl)
theorem dX7_way_129 : decode cX7_way 129 = .ok (.getfield 142, 3) := dk_180 0 142 (dk_at dksX7_way_5 18 rfl rfl)
theorem dX7_way_132 : decode cX7_way 132 = .ok (.iastore, 1) := dk_79 (dk_at dksX7_way_5 21 rfl rfl)
theorem dX7_way_133 : decode cX7_way 133 = .ok (.iconst 0, 1) := dk_3 (dk_at dksX7_way_5 22 rfl rfl)
theorem dX7_way_134 : decode cX7_way 134 = .ok (.istore 4, 2) := dk_54 4 (dk_at dksX7_way_6 0 rfl rfl)
theorem dX7_way_136 : decode cX7_way 136 = .ok (.iload 4, 2) := dk_21 4 (dk_at dksX7_way_6 2 rfl rfl)
theorem dX7_way_138 : decode cX7_way 138 = .ok (.aload_n 0, 1) := dk_42 (dk_at dksX7_way_6 4 rfl rfl)
theorem dX7_way_139 : decode cX7_way 139 = .ok (.getfield 142, 3) := dk_180 0 142 (dk_at dksX7_way_6 5 rfl rfl)
theorem dX7_way_142 : decode cX7_way 142 = .ok (.if_icmp .ge 36, 3) := dk_162 0 36 (dk_at dksX7_way_6 8 rfl rfl)
theorem dX7_way_145 : decode cX7_way 145 = .ok (.aload_n 0, 1) := dk_42 (dk_at dksX7_way_6 11 rfl rfl)
theorem dX7_way_146 : decode cX7_way 146 = .ok (.getfield 34, 3) := dk_180 0 34 (dk_at dksX7_way_6 12 rfl rfl)
theorem dX7_way_149 : decode cX7_way 149 = .ok (.bipush 16, 2) := dk_16 16 (dk_at dksX7_way_6 15 rfl rfl)
theorem dX7_way_151 : decode cX7_way 151 = .ok (.aload_n 0, 1) := dk_42 (dk_at dksX7_way_6 17 rfl rfl)
theorem dX7_way_152 : decode cX7_way 152 = .ok (.getfield 214, 3) := dk_180 0 214 (dk_at dksX7_way_6 18 rfl rfl)
theorem dX7_way_155 : decode cX7_way 155 = .ok (.imul, 1) := dk_104 (dk_at dksX7_way_6 21 rfl rfl)
theorem dX7_way_156 : decode cX7_way 156 = .ok (.iload 4, 2) := dk_21 4 (dk_at dksX7_way_6 22 rfl rfl)
theorem dX7_way_158 : decode cX7_way 158 = .ok (.iadd, 1) := dk_96 (dk_at dksX7_way_7 0 rfl rfl)
theorem dX7_way_159 : decode cX7_way 159 = .ok (.aload_n 0, 1) := dk_42 (dk_at dksX7_way_7 1 rfl rfl)
theorem dX7_way_160 : decode cX7_way 160 = .ok (.getfield 68, 3) := dk_180 0 68 (dk_at dksX7_way_7 2 rfl rfl)
theorem dX7_way_163 : decode cX7_way 163 = .ok (.bipush 40, 2) := dk_16 40 (dk_at dksX7_way_7 5 rfl rfl)
theorem dX7_way_165 : decode cX7_way 165 = .ok (.iload_n 2, 1) := dk_28 (dk_at dksX7_way_7 7 rfl rfl)
theorem dX7_way_166 : decode cX7_way 166 = .ok (.imul, 1) := dk_104 (dk_at dksX7_way_7 8 rfl rfl)
theorem dX7_way_167 : decode cX7_way 167 = .ok (.iload 4, 2) := dk_21 4 (dk_at dksX7_way_7 9 rfl rfl)
theorem dX7_way_169 : decode cX7_way 169 = .ok (.iadd, 1) := dk_96 (dk_at dksX7_way_7 11 rfl rfl)
theorem dX7_way_170 : decode cX7_way 170 = .ok (.iaload, 1) := dk_46 (dk_at dksX7_way_7 12 rfl rfl)
theorem dX7_way_171 : decode cX7_way 171 = .ok (.iastore, 1) := dk_79 (dk_at dksX7_way_7 13 rfl rfl)
theorem dX7_way_172 : decode cX7_way 172 = .ok (.iinc 4 1, 3) := dk_132 4 1 (dk_at dksX7_way_7 14 rfl rfl)
theorem dX7_way_175 : decode cX7_way 175 = .ok (.goto (-39), 3) := dk_167 255 217 (dk_at dksX7_way_7 17 rfl rfl)
theorem dX7_way_178 : decode cX7_way 178 = .ok (.aload_n 0, 1) := dk_42 (dk_at dksX7_way_7 20 rfl rfl)
theorem dX7_way_179 : decode cX7_way 179 = .ok (.dup, 1) := dk_89 (dk_at dksX7_way_7 21 rfl rfl)
theorem dX7_way_180 : decode cX7_way 180 = .ok (.getfield 214, 3) := dk_180 0 214 (dk_at dksX7_way_8 0 rfl rfl)
theorem dX7_way_183 : decode cX7_way 183 = .ok (.iconst 1, 1) := dk_4 (dk_at dksX7_way_8 3 rfl rfl)
theorem dX7_way_184 : decode cX7_way 184 = .ok (.iadd, 1) := dk_96 (dk_at dksX7_way_8 4 rfl rfl)
theorem dX7_way_185 : decode cX7_way 185 = .ok (.putfield 214, 3) := dk_181 0 214 (dk_at dksX7_way_8 5 rfl rfl)
theorem dX7_way_188 : decode cX7_way 188 = .ok (.aload_n 0, 1) := dk_42 (dk_at dksX7_way_8 8 rfl rfl)
theorem dX7_way_189 : decode cX7_way 189 = .ok (.getfield 214, 3) := dk_180 0 214 (dk_at dksX7_way_8 9 rfl rfl)
theorem dX7_way_192 : decode cX7_way 192 = .ok (.iconst 1, 1) := dk_4 (dk_at dksX7_way_8 12 rfl rfl)
theorem dX7_way_193 : decode cX7_way 193 = .ok (.isub, 1) := dk_100 (dk_at dksX7_way_8 13 rfl rfl)
theorem dX7_way_194 : decode cX7_way 194 = .ok (.ireturn, 1) := dk_172 (dk_at dksX7_way_8 14 rfl rfl)
abbrev cX7_isChoice : ByteArray := prog_20_method_29_code
def yX7_isChoice : MethodName := ⟨RX7, "isChoice", "(I)Z"⟩
def dkwX7_isChoice_0 : List UInt8 := [26, 3, 16, 48, 184, 0, 127, 172]
abbrev dktX7_isChoice_0 : List UInt8 := dkwX7_isChoice_0 ++ []
theorem dksX7_isChoice_0 : cX7_isChoice.data.toList.drop 0 = dktX7_isChoice_0 := by decide +kernel
theorem dX7_isChoice_0 : decode cX7_isChoice 0 = .ok (.iload_n 0, 1) := dk_26 (dk_at dksX7_isChoice_0 0 rfl rfl)
theorem dX7_isChoice_1 : decode cX7_isChoice 1 = .ok (.iconst 0, 1) := dk_3 (dk_at dksX7_isChoice_0 1 rfl rfl)
theorem dX7_isChoice_2 : decode cX7_isChoice 2 = .ok (.bipush 48, 2) := dk_16 48 (dk_at dksX7_isChoice_0 2 rfl rfl)
theorem dX7_isChoice_4 : decode cX7_isChoice 4 = .ok (.invokestatic 127, 3) := dk_184 0 127 (dk_at dksX7_isChoice_0 4 rfl rfl)
theorem dX7_isChoice_7 : decode cX7_isChoice 7 = .ok (.ireturn, 1) := dk_172 (dk_at dksX7_isChoice_0 7 rfl rfl)
abbrev cX7_wayTold : ByteArray := prog_20_method_33_code
def yX7_wayTold : MethodName := ⟨RX7, "wayTold", "(II)I"⟩
def dkwX7_wayTold_2 : List UInt8 := [153, 0, 17, 42, 180, 0, 34, 16, 16, 27, 104, 28, 96, 46, 167, 0, 5, 16, 249, 172]
abbrev dktX7_wayTold_2 : List UInt8 := dkwX7_wayTold_2 ++ []
def dkwX7_wayTold_1 : List UInt8 := [167, 0, 43, 28, 16, 254, 160, 0, 12, 42, 180, 0, 31, 27, 46, 167, 0, 28, 42, 27, 28, 182, 0, 223]
abbrev dktX7_wayTold_1 : List UInt8 := dkwX7_wayTold_1 ++ dktX7_wayTold_2
def dkwX7_wayTold_0 : List UInt8 := [42, 27, 182, 0, 217, 154, 0, 6, 16, 251, 172, 28, 2, 160, 0, 12, 42, 180, 0, 28, 27, 46]
abbrev dktX7_wayTold_0 : List UInt8 := dkwX7_wayTold_0 ++ dktX7_wayTold_1
theorem dksX7_wayTold_0 : cX7_wayTold.data.toList.drop 0 = dktX7_wayTold_0 := by decide +kernel
theorem dksX7_wayTold_1 : cX7_wayTold.data.toList.drop 22 = dktX7_wayTold_1 := dk_seg dksX7_wayTold_0 22 rfl rfl
theorem dksX7_wayTold_2 : cX7_wayTold.data.toList.drop 46 = dktX7_wayTold_2 := dk_seg dksX7_wayTold_1 24 rfl rfl
theorem dX7_wayTold_0 : decode cX7_wayTold 0 = .ok (.aload_n 0, 1) := dk_42 (dk_at dksX7_wayTold_0 0 rfl rfl)
theorem dX7_wayTold_1 : decode cX7_wayTold 1 = .ok (.iload_n 1, 1) := dk_27 (dk_at dksX7_wayTold_0 1 rfl rfl)
theorem dX7_wayTold_2 : decode cX7_wayTold 2 = .ok (.invokevirtual 217, 3) := dk_182 0 217 (dk_at dksX7_wayTold_0 2 rfl rfl)
theorem dX7_wayTold_5 : decode cX7_wayTold 5 = .ok (.ifCond .ne 6, 3) := dk_154 0 6 (dk_at dksX7_wayTold_0 5 rfl rfl)
theorem dX7_wayTold_8 : decode cX7_wayTold 8 = .ok (.bipush (-5), 2) := dk_16 251 (dk_at dksX7_wayTold_0 8 rfl rfl)
theorem dX7_wayTold_10 : decode cX7_wayTold 10 = .ok (.ireturn, 1) := dk_172 (dk_at dksX7_wayTold_0 10 rfl rfl)
theorem dX7_wayTold_11 : decode cX7_wayTold 11 = .ok (.iload_n 2, 1) := dk_28 (dk_at dksX7_wayTold_0 11 rfl rfl)
theorem dX7_wayTold_12 : decode cX7_wayTold 12 = .ok (.iconst (-1), 1) := dk_2 (dk_at dksX7_wayTold_0 12 rfl rfl)
theorem dX7_wayTold_13 : decode cX7_wayTold 13 = .ok (.if_icmp .ne 12, 3) := dk_160 0 12 (dk_at dksX7_wayTold_0 13 rfl rfl)
theorem dX7_wayTold_16 : decode cX7_wayTold 16 = .ok (.aload_n 0, 1) := dk_42 (dk_at dksX7_wayTold_0 16 rfl rfl)
theorem dX7_wayTold_17 : decode cX7_wayTold 17 = .ok (.getfield 28, 3) := dk_180 0 28 (dk_at dksX7_wayTold_0 17 rfl rfl)
theorem dX7_wayTold_20 : decode cX7_wayTold 20 = .ok (.iload_n 1, 1) := dk_27 (dk_at dksX7_wayTold_0 20 rfl rfl)
theorem dX7_wayTold_21 : decode cX7_wayTold 21 = .ok (.iaload, 1) := dk_46 (dk_at dksX7_wayTold_0 21 rfl rfl)
theorem dX7_wayTold_22 : decode cX7_wayTold 22 = .ok (.goto 43, 3) := dk_167 0 43 (dk_at dksX7_wayTold_1 0 rfl rfl)
theorem dX7_wayTold_25 : decode cX7_wayTold 25 = .ok (.iload_n 2, 1) := dk_28 (dk_at dksX7_wayTold_1 3 rfl rfl)
theorem dX7_wayTold_26 : decode cX7_wayTold 26 = .ok (.bipush (-2), 2) := dk_16 254 (dk_at dksX7_wayTold_1 4 rfl rfl)
theorem dX7_wayTold_28 : decode cX7_wayTold 28 = .ok (.if_icmp .ne 12, 3) := dk_160 0 12 (dk_at dksX7_wayTold_1 6 rfl rfl)
theorem dX7_wayTold_31 : decode cX7_wayTold 31 = .ok (.aload_n 0, 1) := dk_42 (dk_at dksX7_wayTold_1 9 rfl rfl)
theorem dX7_wayTold_32 : decode cX7_wayTold 32 = .ok (.getfield 31, 3) := dk_180 0 31 (dk_at dksX7_wayTold_1 10 rfl rfl)
theorem dX7_wayTold_35 : decode cX7_wayTold 35 = .ok (.iload_n 1, 1) := dk_27 (dk_at dksX7_wayTold_1 13 rfl rfl)
theorem dX7_wayTold_36 : decode cX7_wayTold 36 = .ok (.iaload, 1) := dk_46 (dk_at dksX7_wayTold_1 14 rfl rfl)
theorem dX7_wayTold_37 : decode cX7_wayTold 37 = .ok (.goto 28, 3) := dk_167 0 28 (dk_at dksX7_wayTold_1 15 rfl rfl)
theorem dX7_wayTold_40 : decode cX7_wayTold 40 = .ok (.aload_n 0, 1) := dk_42 (dk_at dksX7_wayTold_1 18 rfl rfl)
theorem dX7_wayTold_41 : decode cX7_wayTold 41 = .ok (.iload_n 1, 1) := dk_27 (dk_at dksX7_wayTold_1 19 rfl rfl)
theorem dX7_wayTold_42 : decode cX7_wayTold 42 = .ok (.iload_n 2, 1) := dk_28 (dk_at dksX7_wayTold_1 20 rfl rfl)
theorem dX7_wayTold_43 : decode cX7_wayTold 43 = .ok (.invokevirtual 223, 3) := dk_182 0 223 (dk_at dksX7_wayTold_1 21 rfl rfl)
theorem dX7_wayTold_46 : decode cX7_wayTold 46 = .ok (.ifCond .eq 17, 3) := dk_153 0 17 (dk_at dksX7_wayTold_2 0 rfl rfl)
theorem dX7_wayTold_49 : decode cX7_wayTold 49 = .ok (.aload_n 0, 1) := dk_42 (dk_at dksX7_wayTold_2 3 rfl rfl)
theorem dX7_wayTold_50 : decode cX7_wayTold 50 = .ok (.getfield 34, 3) := dk_180 0 34 (dk_at dksX7_wayTold_2 4 rfl rfl)
theorem dX7_wayTold_53 : decode cX7_wayTold 53 = .ok (.bipush 16, 2) := dk_16 16 (dk_at dksX7_wayTold_2 7 rfl rfl)
theorem dX7_wayTold_55 : decode cX7_wayTold 55 = .ok (.iload_n 1, 1) := dk_27 (dk_at dksX7_wayTold_2 9 rfl rfl)
theorem dX7_wayTold_56 : decode cX7_wayTold 56 = .ok (.imul, 1) := dk_104 (dk_at dksX7_wayTold_2 10 rfl rfl)
theorem dX7_wayTold_57 : decode cX7_wayTold 57 = .ok (.iload_n 2, 1) := dk_28 (dk_at dksX7_wayTold_2 11 rfl rfl)
theorem dX7_wayTold_58 : decode cX7_wayTold 58 = .ok (.iadd, 1) := dk_96 (dk_at dksX7_wayTold_2 12 rfl rfl)
theorem dX7_wayTold_59 : decode cX7_wayTold 59 = .ok (.iaload, 1) := dk_46 (dk_at dksX7_wayTold_2 13 rfl rfl)
theorem dX7_wayTold_60 : decode cX7_wayTold 60 = .ok (.goto 5, 3) := dk_167 0 5 (dk_at dksX7_wayTold_2 14 rfl rfl)
theorem dX7_wayTold_63 : decode cX7_wayTold 63 = .ok (.bipush (-7), 2) := dk_16 249 (dk_at dksX7_wayTold_2 17 rfl rfl)
theorem dX7_wayTold_65 : decode cX7_wayTold 65 = .ok (.ireturn, 1) := dk_172 (dk_at dksX7_wayTold_2 19 rfl rfl)
abbrev cX7_isWay : ByteArray := prog_20_method_30_code
def yX7_isWay : MethodName := ⟨RX7, "isWay", "(I)Z"⟩
def dkwX7_isWay_0 : List UInt8 := [27, 3, 42, 180, 0, 214, 4, 100, 184, 0, 127, 172]
abbrev dktX7_isWay_0 : List UInt8 := dkwX7_isWay_0 ++ []
theorem dksX7_isWay_0 : cX7_isWay.data.toList.drop 0 = dktX7_isWay_0 := by decide +kernel
theorem dX7_isWay_0 : decode cX7_isWay 0 = .ok (.iload_n 1, 1) := dk_27 (dk_at dksX7_isWay_0 0 rfl rfl)
theorem dX7_isWay_1 : decode cX7_isWay 1 = .ok (.iconst 0, 1) := dk_3 (dk_at dksX7_isWay_0 1 rfl rfl)
theorem dX7_isWay_2 : decode cX7_isWay 2 = .ok (.aload_n 0, 1) := dk_42 (dk_at dksX7_isWay_0 2 rfl rfl)
theorem dX7_isWay_3 : decode cX7_isWay 3 = .ok (.getfield 214, 3) := dk_180 0 214 (dk_at dksX7_isWay_0 3 rfl rfl)
theorem dX7_isWay_6 : decode cX7_isWay 6 = .ok (.iconst 1, 1) := dk_4 (dk_at dksX7_isWay_0 6 rfl rfl)
theorem dX7_isWay_7 : decode cX7_isWay 7 = .ok (.isub, 1) := dk_100 (dk_at dksX7_isWay_0 7 rfl rfl)
theorem dX7_isWay_8 : decode cX7_isWay 8 = .ok (.invokestatic 127, 3) := dk_184 0 127 (dk_at dksX7_isWay_0 8 rfl rfl)
theorem dX7_isWay_11 : decode cX7_isWay 11 = .ok (.ireturn, 1) := dk_172 (dk_at dksX7_isWay_0 11 rfl rfl)
abbrev cX7_isOf : ByteArray := prog_20_method_31_code
def yX7_isOf : MethodName := ⟨RX7, "isOf", "(II)Z"⟩
def dkwX7_isOf_1 : List UInt8 := [27, 167, 0, 4, 3, 46, 4, 100, 184, 0, 127, 153, 0, 7, 4, 167, 0, 4, 3, 172]
abbrev dktX7_isOf_1 : List UInt8 := dkwX7_isOf_1 ++ []
def dkwX7_isOf_0 : List UInt8 := [42, 27, 182, 0, 217, 153, 0, 37, 28, 3, 42, 180, 0, 31, 27, 3, 16, 7, 184, 0, 127, 153, 0, 7]
abbrev dktX7_isOf_0 : List UInt8 := dkwX7_isOf_0 ++ dktX7_isOf_1
theorem dksX7_isOf_0 : cX7_isOf.data.toList.drop 0 = dktX7_isOf_0 := by decide +kernel
theorem dksX7_isOf_1 : cX7_isOf.data.toList.drop 24 = dktX7_isOf_1 := dk_seg dksX7_isOf_0 24 rfl rfl
theorem dX7_isOf_0 : decode cX7_isOf 0 = .ok (.aload_n 0, 1) := dk_42 (dk_at dksX7_isOf_0 0 rfl rfl)
theorem dX7_isOf_1 : decode cX7_isOf 1 = .ok (.iload_n 1, 1) := dk_27 (dk_at dksX7_isOf_0 1 rfl rfl)
theorem dX7_isOf_2 : decode cX7_isOf 2 = .ok (.invokevirtual 217, 3) := dk_182 0 217 (dk_at dksX7_isOf_0 2 rfl rfl)
theorem dX7_isOf_5 : decode cX7_isOf 5 = .ok (.ifCond .eq 37, 3) := dk_153 0 37 (dk_at dksX7_isOf_0 5 rfl rfl)
theorem dX7_isOf_8 : decode cX7_isOf 8 = .ok (.iload_n 2, 1) := dk_28 (dk_at dksX7_isOf_0 8 rfl rfl)
theorem dX7_isOf_9 : decode cX7_isOf 9 = .ok (.iconst 0, 1) := dk_3 (dk_at dksX7_isOf_0 9 rfl rfl)
theorem dX7_isOf_10 : decode cX7_isOf 10 = .ok (.aload_n 0, 1) := dk_42 (dk_at dksX7_isOf_0 10 rfl rfl)
theorem dX7_isOf_11 : decode cX7_isOf 11 = .ok (.getfield 31, 3) := dk_180 0 31 (dk_at dksX7_isOf_0 11 rfl rfl)
theorem dX7_isOf_14 : decode cX7_isOf 14 = .ok (.iload_n 1, 1) := dk_27 (dk_at dksX7_isOf_0 14 rfl rfl)
theorem dX7_isOf_15 : decode cX7_isOf 15 = .ok (.iconst 0, 1) := dk_3 (dk_at dksX7_isOf_0 15 rfl rfl)
theorem dX7_isOf_16 : decode cX7_isOf 16 = .ok (.bipush 7, 2) := dk_16 7 (dk_at dksX7_isOf_0 16 rfl rfl)
theorem dX7_isOf_18 : decode cX7_isOf 18 = .ok (.invokestatic 127, 3) := dk_184 0 127 (dk_at dksX7_isOf_0 18 rfl rfl)
theorem dX7_isOf_21 : decode cX7_isOf 21 = .ok (.ifCond .eq 7, 3) := dk_153 0 7 (dk_at dksX7_isOf_0 21 rfl rfl)
theorem dX7_isOf_24 : decode cX7_isOf 24 = .ok (.iload_n 1, 1) := dk_27 (dk_at dksX7_isOf_1 0 rfl rfl)
theorem dX7_isOf_25 : decode cX7_isOf 25 = .ok (.goto 4, 3) := dk_167 0 4 (dk_at dksX7_isOf_1 1 rfl rfl)
theorem dX7_isOf_28 : decode cX7_isOf 28 = .ok (.iconst 0, 1) := dk_3 (dk_at dksX7_isOf_1 4 rfl rfl)
theorem dX7_isOf_29 : decode cX7_isOf 29 = .ok (.iaload, 1) := dk_46 (dk_at dksX7_isOf_1 5 rfl rfl)
theorem dX7_isOf_30 : decode cX7_isOf 30 = .ok (.iconst 1, 1) := dk_4 (dk_at dksX7_isOf_1 6 rfl rfl)
theorem dX7_isOf_31 : decode cX7_isOf 31 = .ok (.isub, 1) := dk_100 (dk_at dksX7_isOf_1 7 rfl rfl)
theorem dX7_isOf_32 : decode cX7_isOf 32 = .ok (.invokestatic 127, 3) := dk_184 0 127 (dk_at dksX7_isOf_1 8 rfl rfl)
theorem dX7_isOf_35 : decode cX7_isOf 35 = .ok (.ifCond .eq 7, 3) := dk_153 0 7 (dk_at dksX7_isOf_1 11 rfl rfl)
theorem dX7_isOf_38 : decode cX7_isOf 38 = .ok (.iconst 1, 1) := dk_4 (dk_at dksX7_isOf_1 14 rfl rfl)
theorem dX7_isOf_39 : decode cX7_isOf 39 = .ok (.goto 4, 3) := dk_167 0 4 (dk_at dksX7_isOf_1 15 rfl rfl)
theorem dX7_isOf_42 : decode cX7_isOf 42 = .ok (.iconst 0, 1) := dk_3 (dk_at dksX7_isOf_1 18 rfl rfl)
theorem dX7_isOf_43 : decode cX7_isOf 43 = .ok (.ireturn, 1) := dk_172 (dk_at dksX7_isOf_1 19 rfl rfl)
abbrev cX7_set : ByteArray := prog_20_method_34_code
def yX7_set : MethodName := ⟨RX7, "set", "(III)I"⟩
def dkwX7_set_2 : List UInt8 := [21, 4, 172]
abbrev dktX7_set_2 : List UInt8 := dkwX7_set_2 ++ []
def dkwX7_set_1 : List UInt8 := [180, 0, 34, 16, 16, 27, 104, 28, 96, 46, 54, 4, 42, 180, 0, 34, 16, 16, 27, 104, 28, 96, 29, 79]
abbrev dktX7_set_1 : List UInt8 := dkwX7_set_1 ++ dktX7_set_2
def dkwX7_set_0 : List UInt8 := [42, 27, 28, 182, 0, 223, 154, 0, 6, 16, 251, 172, 29, 184, 0, 220, 154, 0, 6, 16, 249, 172, 42]
abbrev dktX7_set_0 : List UInt8 := dkwX7_set_0 ++ dktX7_set_1
theorem dksX7_set_0 : cX7_set.data.toList.drop 0 = dktX7_set_0 := by decide +kernel
theorem dksX7_set_1 : cX7_set.data.toList.drop 23 = dktX7_set_1 := dk_seg dksX7_set_0 23 rfl rfl
theorem dksX7_set_2 : cX7_set.data.toList.drop 47 = dktX7_set_2 := dk_seg dksX7_set_1 24 rfl rfl
theorem dX7_set_0 : decode cX7_set 0 = .ok (.aload_n 0, 1) := dk_42 (dk_at dksX7_set_0 0 rfl rfl)
theorem dX7_set_1 : decode cX7_set 1 = .ok (.iload_n 1, 1) := dk_27 (dk_at dksX7_set_0 1 rfl rfl)
theorem dX7_set_2 : decode cX7_set 2 = .ok (.iload_n 2, 1) := dk_28 (dk_at dksX7_set_0 2 rfl rfl)
theorem dX7_set_3 : decode cX7_set 3 = .ok (.invokevirtual 223, 3) := dk_182 0 223 (dk_at dksX7_set_0 3 rfl rfl)
theorem dX7_set_6 : decode cX7_set 6 = .ok (.ifCond .ne 6, 3) := dk_154 0 6 (dk_at dksX7_set_0 6 rfl rfl)
theorem dX7_set_9 : decode cX7_set 9 = .ok (.bipush (-5), 2) := dk_16 251 (dk_at dksX7_set_0 9 rfl rfl)
theorem dX7_set_11 : decode cX7_set 11 = .ok (.ireturn, 1) := dk_172 (dk_at dksX7_set_0 11 rfl rfl)
theorem dX7_set_12 : decode cX7_set 12 = .ok (.iload_n 3, 1) := dk_29 (dk_at dksX7_set_0 12 rfl rfl)
theorem dX7_set_13 : decode cX7_set 13 = .ok (.invokestatic 220, 3) := dk_184 0 220 (dk_at dksX7_set_0 13 rfl rfl)
theorem dX7_set_16 : decode cX7_set 16 = .ok (.ifCond .ne 6, 3) := dk_154 0 6 (dk_at dksX7_set_0 16 rfl rfl)
theorem dX7_set_19 : decode cX7_set 19 = .ok (.bipush (-7), 2) := dk_16 249 (dk_at dksX7_set_0 19 rfl rfl)
theorem dX7_set_21 : decode cX7_set 21 = .ok (.ireturn, 1) := dk_172 (dk_at dksX7_set_0 21 rfl rfl)
theorem dX7_set_22 : decode cX7_set 22 = .ok (.aload_n 0, 1) := dk_42 (dk_at dksX7_set_0 22 rfl rfl)
theorem dX7_set_23 : decode cX7_set 23 = .ok (.getfield 34, 3) := dk_180 0 34 (dk_at dksX7_set_1 0 rfl rfl)
theorem dX7_set_26 : decode cX7_set 26 = .ok (.bipush 16, 2) := dk_16 16 (dk_at dksX7_set_1 3 rfl rfl)
theorem dX7_set_28 : decode cX7_set 28 = .ok (.iload_n 1, 1) := dk_27 (dk_at dksX7_set_1 5 rfl rfl)
theorem dX7_set_29 : decode cX7_set 29 = .ok (.imul, 1) := dk_104 (dk_at dksX7_set_1 6 rfl rfl)
theorem dX7_set_30 : decode cX7_set 30 = .ok (.iload_n 2, 1) := dk_28 (dk_at dksX7_set_1 7 rfl rfl)
theorem dX7_set_31 : decode cX7_set 31 = .ok (.iadd, 1) := dk_96 (dk_at dksX7_set_1 8 rfl rfl)
theorem dX7_set_32 : decode cX7_set 32 = .ok (.iaload, 1) := dk_46 (dk_at dksX7_set_1 9 rfl rfl)
theorem dX7_set_33 : decode cX7_set 33 = .ok (.istore 4, 2) := dk_54 4 (dk_at dksX7_set_1 10 rfl rfl)
theorem dX7_set_35 : decode cX7_set 35 = .ok (.aload_n 0, 1) := dk_42 (dk_at dksX7_set_1 12 rfl rfl)
theorem dX7_set_36 : decode cX7_set 36 = .ok (.getfield 34, 3) := dk_180 0 34 (dk_at dksX7_set_1 13 rfl rfl)
theorem dX7_set_39 : decode cX7_set 39 = .ok (.bipush 16, 2) := dk_16 16 (dk_at dksX7_set_1 16 rfl rfl)
theorem dX7_set_41 : decode cX7_set 41 = .ok (.iload_n 1, 1) := dk_27 (dk_at dksX7_set_1 18 rfl rfl)
theorem dX7_set_42 : decode cX7_set 42 = .ok (.imul, 1) := dk_104 (dk_at dksX7_set_1 19 rfl rfl)
theorem dX7_set_43 : decode cX7_set 43 = .ok (.iload_n 2, 1) := dk_28 (dk_at dksX7_set_1 20 rfl rfl)
theorem dX7_set_44 : decode cX7_set 44 = .ok (.iadd, 1) := dk_96 (dk_at dksX7_set_1 21 rfl rfl)
theorem dX7_set_45 : decode cX7_set 45 = .ok (.iload_n 3, 1) := dk_29 (dk_at dksX7_set_1 22 rfl rfl)
theorem dX7_set_46 : decode cX7_set 46 = .ok (.iastore, 1) := dk_79 (dk_at dksX7_set_1 23 rfl rfl)
theorem dX7_set_47 : decode cX7_set 47 = .ok (.iload 4, 2) := dk_21 4 (dk_at dksX7_set_2 0 rfl rfl)
theorem dX7_set_49 : decode cX7_set 49 = .ok (.ireturn, 1) := dk_172 (dk_at dksX7_set_2 2 rfl rfl)
abbrev cX7_of : ByteArray := prog_20_method_46_code
def yX7_of : MethodName := ⟨RX7, "of", "(III)I"⟩
def dkwX7_of_3 : List UInt8 := [182, 0, 236, 172, 42, 27, 28, 182, 1, 5, 172, 17, 216, 239, 172]
abbrev dktX7_of_3 : List UInt8 := dkwX7_of_3 ++ []
def dkwX7_of_2 : List UInt8 := [42, 180, 0, 109, 28, 46, 172, 42, 180, 0, 112, 28, 46, 172, 42, 27, 28, 182, 0, 248, 172, 42, 27, 28]
abbrev dktX7_of_2 : List UInt8 := dkwX7_of_2 ++ dktX7_of_3
def dkwX7_of_1 : List UInt8 := [170, 0, 0, 0, 0, 0, 0, 71, 0, 0, 0, 0, 0, 0, 0, 4, 0, 0, 0, 36, 0, 0, 0, 43, 0, 0, 0, 50, 0, 0, 0, 57, 0, 0, 0, 64]
abbrev dktX7_of_1 : List UInt8 := dkwX7_of_1 ++ dktX7_of_2
def dkwX7_of_0 : List UInt8 := [42, 27, 28, 182, 0, 223, 154, 0, 7, 17, 216, 240, 172, 42, 27, 182, 0, 251, 42, 27, 182, 0, 254, 29]
abbrev dktX7_of_0 : List UInt8 := dkwX7_of_0 ++ dktX7_of_1
theorem dksX7_of_0 : cX7_of.data.toList.drop 0 = dktX7_of_0 := by decide +kernel
theorem dksX7_of_1 : cX7_of.data.toList.drop 24 = dktX7_of_1 := dk_seg dksX7_of_0 24 rfl rfl
theorem dksX7_of_2 : cX7_of.data.toList.drop 60 = dktX7_of_2 := dk_seg dksX7_of_1 36 rfl rfl
theorem dksX7_of_3 : cX7_of.data.toList.drop 84 = dktX7_of_3 := dk_seg dksX7_of_2 24 rfl rfl
theorem dX7_of_0 : decode cX7_of 0 = .ok (.aload_n 0, 1) := dk_42 (dk_at dksX7_of_0 0 rfl rfl)
theorem dX7_of_1 : decode cX7_of 1 = .ok (.iload_n 1, 1) := dk_27 (dk_at dksX7_of_0 1 rfl rfl)
theorem dX7_of_2 : decode cX7_of 2 = .ok (.iload_n 2, 1) := dk_28 (dk_at dksX7_of_0 2 rfl rfl)
theorem dX7_of_3 : decode cX7_of 3 = .ok (.invokevirtual 223, 3) := dk_182 0 223 (dk_at dksX7_of_0 3 rfl rfl)
theorem dX7_of_6 : decode cX7_of 6 = .ok (.ifCond .ne 7, 3) := dk_154 0 7 (dk_at dksX7_of_0 6 rfl rfl)
theorem dX7_of_9 : decode cX7_of 9 = .ok (.sipush (-10000), 3) := dk_17 216 240 (dk_at dksX7_of_0 9 rfl rfl)
theorem dX7_of_12 : decode cX7_of 12 = .ok (.ireturn, 1) := dk_172 (dk_at dksX7_of_0 12 rfl rfl)
theorem dX7_of_13 : decode cX7_of 13 = .ok (.aload_n 0, 1) := dk_42 (dk_at dksX7_of_0 13 rfl rfl)
theorem dX7_of_14 : decode cX7_of 14 = .ok (.iload_n 1, 1) := dk_27 (dk_at dksX7_of_0 14 rfl rfl)
theorem dX7_of_15 : decode cX7_of 15 = .ok (.invokevirtual 251, 3) := dk_182 0 251 (dk_at dksX7_of_0 15 rfl rfl)
theorem dX7_of_18 : decode cX7_of 18 = .ok (.aload_n 0, 1) := dk_42 (dk_at dksX7_of_0 18 rfl rfl)
theorem dX7_of_19 : decode cX7_of 19 = .ok (.iload_n 1, 1) := dk_27 (dk_at dksX7_of_0 19 rfl rfl)
theorem dX7_of_20 : decode cX7_of 20 = .ok (.invokevirtual 254, 3) := dk_182 0 254 (dk_at dksX7_of_0 20 rfl rfl)
theorem dX7_of_23 : decode cX7_of 23 = .ok (.iload_n 3, 1) := dk_29 (dk_at dksX7_of_0 23 rfl rfl)
theorem dX7_of_24 : decode cX7_of 24 = .ok (.tableswitch 71 0 4 #[36, 43, 50, 57, 64], 36) := by decide +kernel
theorem dX7_of_60 : decode cX7_of 60 = .ok (.aload_n 0, 1) := dk_42 (dk_at dksX7_of_2 0 rfl rfl)
theorem dX7_of_61 : decode cX7_of 61 = .ok (.getfield 109, 3) := dk_180 0 109 (dk_at dksX7_of_2 1 rfl rfl)
theorem dX7_of_64 : decode cX7_of 64 = .ok (.iload_n 2, 1) := dk_28 (dk_at dksX7_of_2 4 rfl rfl)
theorem dX7_of_65 : decode cX7_of 65 = .ok (.iaload, 1) := dk_46 (dk_at dksX7_of_2 5 rfl rfl)
theorem dX7_of_66 : decode cX7_of 66 = .ok (.ireturn, 1) := dk_172 (dk_at dksX7_of_2 6 rfl rfl)
theorem dX7_of_67 : decode cX7_of 67 = .ok (.aload_n 0, 1) := dk_42 (dk_at dksX7_of_2 7 rfl rfl)
theorem dX7_of_68 : decode cX7_of 68 = .ok (.getfield 112, 3) := dk_180 0 112 (dk_at dksX7_of_2 8 rfl rfl)
theorem dX7_of_71 : decode cX7_of 71 = .ok (.iload_n 2, 1) := dk_28 (dk_at dksX7_of_2 11 rfl rfl)
theorem dX7_of_72 : decode cX7_of 72 = .ok (.iaload, 1) := dk_46 (dk_at dksX7_of_2 12 rfl rfl)
theorem dX7_of_73 : decode cX7_of 73 = .ok (.ireturn, 1) := dk_172 (dk_at dksX7_of_2 13 rfl rfl)
theorem dX7_of_74 : decode cX7_of 74 = .ok (.aload_n 0, 1) := dk_42 (dk_at dksX7_of_2 14 rfl rfl)
theorem dX7_of_75 : decode cX7_of 75 = .ok (.iload_n 1, 1) := dk_27 (dk_at dksX7_of_2 15 rfl rfl)
theorem dX7_of_76 : decode cX7_of 76 = .ok (.iload_n 2, 1) := dk_28 (dk_at dksX7_of_2 16 rfl rfl)
theorem dX7_of_77 : decode cX7_of 77 = .ok (.invokevirtual 248, 3) := dk_182 0 248 (dk_at dksX7_of_2 17 rfl rfl)
theorem dX7_of_80 : decode cX7_of 80 = .ok (.ireturn, 1) := dk_172 (dk_at dksX7_of_2 20 rfl rfl)
theorem dX7_of_81 : decode cX7_of 81 = .ok (.aload_n 0, 1) := dk_42 (dk_at dksX7_of_2 21 rfl rfl)
theorem dX7_of_82 : decode cX7_of 82 = .ok (.iload_n 1, 1) := dk_27 (dk_at dksX7_of_2 22 rfl rfl)
theorem dX7_of_83 : decode cX7_of 83 = .ok (.iload_n 2, 1) := dk_28 (dk_at dksX7_of_2 23 rfl rfl)
theorem dX7_of_84 : decode cX7_of 84 = .ok (.invokevirtual 236, 3) := dk_182 0 236 (dk_at dksX7_of_3 0 rfl rfl)
theorem dX7_of_87 : decode cX7_of 87 = .ok (.ireturn, 1) := dk_172 (dk_at dksX7_of_3 3 rfl rfl)
theorem dX7_of_88 : decode cX7_of 88 = .ok (.aload_n 0, 1) := dk_42 (dk_at dksX7_of_3 4 rfl rfl)
theorem dX7_of_89 : decode cX7_of 89 = .ok (.iload_n 1, 1) := dk_27 (dk_at dksX7_of_3 5 rfl rfl)
theorem dX7_of_90 : decode cX7_of 90 = .ok (.iload_n 2, 1) := dk_28 (dk_at dksX7_of_3 6 rfl rfl)
theorem dX7_of_91 : decode cX7_of 91 = .ok (.invokevirtual 261, 3) := dk_182 1 5 (dk_at dksX7_of_3 7 rfl rfl)
theorem dX7_of_94 : decode cX7_of 94 = .ok (.ireturn, 1) := dk_172 (dk_at dksX7_of_3 10 rfl rfl)
theorem dX7_of_95 : decode cX7_of 95 = .ok (.sipush (-10001), 3) := dk_17 216 239 (dk_at dksX7_of_3 11 rfl rfl)
theorem dX7_of_98 : decode cX7_of 98 = .ok (.ireturn, 1) := dk_172 (dk_at dksX7_of_3 14 rfl rfl)
abbrev cX7_lays : ByteArray := prog_20_method_35_code
def yX7_lays : MethodName := ⟨RX7, "lays", "(I)V"⟩
def dkwX7_lays_1 : List UInt8 := [104, 28, 96, 46, 79, 132, 2, 1, 167, 255, 226, 177]
abbrev dktX7_lays_1 : List UInt8 := dkwX7_lays_1 ++ []
def dkwX7_lays_0 : List UInt8 := [3, 61, 28, 42, 180, 0, 31, 27, 46, 162, 0, 26, 42, 180, 0, 106, 28, 42, 180, 0, 34, 16, 16, 27]
abbrev dktX7_lays_0 : List UInt8 := dkwX7_lays_0 ++ dktX7_lays_1
theorem dksX7_lays_0 : cX7_lays.data.toList.drop 0 = dktX7_lays_0 := by decide +kernel
theorem dksX7_lays_1 : cX7_lays.data.toList.drop 24 = dktX7_lays_1 := dk_seg dksX7_lays_0 24 rfl rfl
theorem dX7_lays_0 : decode cX7_lays 0 = .ok (.iconst 0, 1) := dk_3 (dk_at dksX7_lays_0 0 rfl rfl)
theorem dX7_lays_1 : decode cX7_lays 1 = .ok (.istore_n 2, 1) := dk_61 (dk_at dksX7_lays_0 1 rfl rfl)
theorem dX7_lays_2 : decode cX7_lays 2 = .ok (.iload_n 2, 1) := dk_28 (dk_at dksX7_lays_0 2 rfl rfl)
theorem dX7_lays_3 : decode cX7_lays 3 = .ok (.aload_n 0, 1) := dk_42 (dk_at dksX7_lays_0 3 rfl rfl)
theorem dX7_lays_4 : decode cX7_lays 4 = .ok (.getfield 31, 3) := dk_180 0 31 (dk_at dksX7_lays_0 4 rfl rfl)
theorem dX7_lays_7 : decode cX7_lays 7 = .ok (.iload_n 1, 1) := dk_27 (dk_at dksX7_lays_0 7 rfl rfl)
theorem dX7_lays_8 : decode cX7_lays 8 = .ok (.iaload, 1) := dk_46 (dk_at dksX7_lays_0 8 rfl rfl)
theorem dX7_lays_9 : decode cX7_lays 9 = .ok (.if_icmp .ge 26, 3) := dk_162 0 26 (dk_at dksX7_lays_0 9 rfl rfl)
theorem dX7_lays_12 : decode cX7_lays 12 = .ok (.aload_n 0, 1) := dk_42 (dk_at dksX7_lays_0 12 rfl rfl)
theorem dX7_lays_13 : decode cX7_lays 13 = .ok (.getfield 106, 3) := dk_180 0 106 (dk_at dksX7_lays_0 13 rfl rfl)
theorem dX7_lays_16 : decode cX7_lays 16 = .ok (.iload_n 2, 1) := dk_28 (dk_at dksX7_lays_0 16 rfl rfl)
theorem dX7_lays_17 : decode cX7_lays 17 = .ok (.aload_n 0, 1) := dk_42 (dk_at dksX7_lays_0 17 rfl rfl)
theorem dX7_lays_18 : decode cX7_lays 18 = .ok (.getfield 34, 3) := dk_180 0 34 (dk_at dksX7_lays_0 18 rfl rfl)
theorem dX7_lays_21 : decode cX7_lays 21 = .ok (.bipush 16, 2) := dk_16 16 (dk_at dksX7_lays_0 21 rfl rfl)
theorem dX7_lays_23 : decode cX7_lays 23 = .ok (.iload_n 1, 1) := dk_27 (dk_at dksX7_lays_0 23 rfl rfl)
theorem dX7_lays_24 : decode cX7_lays 24 = .ok (.imul, 1) := dk_104 (dk_at dksX7_lays_1 0 rfl rfl)
theorem dX7_lays_25 : decode cX7_lays 25 = .ok (.iload_n 2, 1) := dk_28 (dk_at dksX7_lays_1 1 rfl rfl)
theorem dX7_lays_26 : decode cX7_lays 26 = .ok (.iadd, 1) := dk_96 (dk_at dksX7_lays_1 2 rfl rfl)
theorem dX7_lays_27 : decode cX7_lays 27 = .ok (.iaload, 1) := dk_46 (dk_at dksX7_lays_1 3 rfl rfl)
theorem dX7_lays_28 : decode cX7_lays 28 = .ok (.iastore, 1) := dk_79 (dk_at dksX7_lays_1 4 rfl rfl)
theorem dX7_lays_29 : decode cX7_lays 29 = .ok (.iinc 2 1, 3) := dk_132 2 1 (dk_at dksX7_lays_1 5 rfl rfl)
theorem dX7_lays_32 : decode cX7_lays 32 = .ok (.goto (-30), 3) := dk_167 255 226 (dk_at dksX7_lays_1 8 rfl rfl)
theorem dX7_lays_35 : decode cX7_lays 35 = .ok (.return_, 1) := dk_177 (dk_at dksX7_lays_1 11 rfl rfl)
abbrev cX7_goes : ByteArray := prog_20_method_38_code
def yX7_goes : MethodName := ⟨RX7, "goes", "(I)V"⟩
def dkwX7_goes_8 : List UInt8 := [96, 181, 0, 230, 132, 5, 1, 167, 255, 178, 132, 3, 1, 167, 255, 161, 132, 2, 1, 167, 255, 147, 177]
abbrev dktX7_goes_8 : List UInt8 := dkwX7_goes_8 ++ []
def dkwX7_goes_7 : List UInt8 := [180, 0, 112, 21, 4, 28, 79, 42, 180, 0, 115, 42, 180, 0, 230, 21, 4, 79, 42, 89, 180, 0, 230, 4]
abbrev dktX7_goes_7 : List UInt8 := dkwX7_goes_7 ++ dktX7_goes_8
def dkwX7_goes_6 : List UInt8 := [159, 0, 13, 42, 27, 29, 28, 182, 0, 233, 167, 0, 4, 2, 54, 4, 21, 4, 2, 159, 0, 32, 42]
abbrev dktX7_goes_6 : List UInt8 := dkwX7_goes_6 ++ dktX7_goes_7
def dkwX7_goes_5 : List UInt8 := [21, 5, 42, 180, 0, 7, 16, 24, 29, 104, 28, 96, 46, 162, 0, 68, 21, 5, 153, 0, 9, 21, 4, 2]
abbrev dktX7_goes_5 : List UInt8 := dkwX7_goes_5 ++ dktX7_goes_6
def dkwX7_goes_4 : List UInt8 := [181, 0, 230, 3, 61, 28, 16, 24, 162, 0, 109, 3, 62, 29, 5, 162, 0, 96, 2, 54, 4, 3, 54, 5]
abbrev dktX7_goes_4 : List UInt8 := dkwX7_goes_4 ++ dktX7_goes_5
def dkwX7_goes_3 : List UInt8 := [164, 0, 7, 2, 167, 0, 4, 29, 79, 42, 180, 0, 112, 28, 2, 79, 132, 2, 1, 167, 255, 169, 42, 3]
abbrev dktX7_goes_3 : List UInt8 := dkwX7_goes_3 ++ dktX7_goes_4
def dkwX7_goes_2 : List UInt8 := [46, 104, 42, 180, 0, 106, 28, 46, 16, 24, 108, 96, 46, 96, 62, 42, 180, 0, 109, 28, 29, 16, 23]
abbrev dktX7_goes_2 : List UInt8 := dkwX7_goes_2 ++ dktX7_goes_3
def dkwX7_goes_1 : List UInt8 := [16, 24, 167, 0, 36, 42, 180, 0, 106, 28, 46, 16, 24, 112, 42, 180, 0, 22, 5, 42, 180, 0, 25, 28]
abbrev dktX7_goes_1 : List UInt8 := dkwX7_goes_1 ++ dktX7_goes_2
def dkwX7_goes_0 : List UInt8 := [3, 61, 28, 42, 180, 0, 31, 27, 46, 162, 0, 83, 42, 180, 0, 106, 28, 46, 16, 48, 160, 0, 8]
abbrev dktX7_goes_0 : List UInt8 := dkwX7_goes_0 ++ dktX7_goes_1
theorem dksX7_goes_0 : cX7_goes.data.toList.drop 0 = dktX7_goes_0 := by decide +kernel
theorem dksX7_goes_1 : cX7_goes.data.toList.drop 23 = dktX7_goes_1 := dk_seg dksX7_goes_0 23 rfl rfl
theorem dksX7_goes_2 : cX7_goes.data.toList.drop 47 = dktX7_goes_2 := dk_seg dksX7_goes_1 24 rfl rfl
theorem dksX7_goes_3 : cX7_goes.data.toList.drop 70 = dktX7_goes_3 := dk_seg dksX7_goes_2 23 rfl rfl
theorem dksX7_goes_4 : cX7_goes.data.toList.drop 94 = dktX7_goes_4 := dk_seg dksX7_goes_3 24 rfl rfl
theorem dksX7_goes_5 : cX7_goes.data.toList.drop 118 = dktX7_goes_5 := dk_seg dksX7_goes_4 24 rfl rfl
theorem dksX7_goes_6 : cX7_goes.data.toList.drop 142 = dktX7_goes_6 := dk_seg dksX7_goes_5 24 rfl rfl
theorem dksX7_goes_7 : cX7_goes.data.toList.drop 165 = dktX7_goes_7 := dk_seg dksX7_goes_6 23 rfl rfl
theorem dksX7_goes_8 : cX7_goes.data.toList.drop 189 = dktX7_goes_8 := dk_seg dksX7_goes_7 24 rfl rfl
theorem dX7_goes_0 : decode cX7_goes 0 = .ok (.iconst 0, 1) := dk_3 (dk_at dksX7_goes_0 0 rfl rfl)
theorem dX7_goes_1 : decode cX7_goes 1 = .ok (.istore_n 2, 1) := dk_61 (dk_at dksX7_goes_0 1 rfl rfl)
theorem dX7_goes_2 : decode cX7_goes 2 = .ok (.iload_n 2, 1) := dk_28 (dk_at dksX7_goes_0 2 rfl rfl)
theorem dX7_goes_3 : decode cX7_goes 3 = .ok (.aload_n 0, 1) := dk_42 (dk_at dksX7_goes_0 3 rfl rfl)
theorem dX7_goes_4 : decode cX7_goes 4 = .ok (.getfield 31, 3) := dk_180 0 31 (dk_at dksX7_goes_0 4 rfl rfl)
theorem dX7_goes_7 : decode cX7_goes 7 = .ok (.iload_n 1, 1) := dk_27 (dk_at dksX7_goes_0 7 rfl rfl)
theorem dX7_goes_8 : decode cX7_goes 8 = .ok (.iaload, 1) := dk_46 (dk_at dksX7_goes_0 8 rfl rfl)
theorem dX7_goes_9 : decode cX7_goes 9 = .ok (.if_icmp .ge 83, 3) := dk_162 0 83 (dk_at dksX7_goes_0 9 rfl rfl)
theorem dX7_goes_12 : decode cX7_goes 12 = .ok (.aload_n 0, 1) := dk_42 (dk_at dksX7_goes_0 12 rfl rfl)
theorem dX7_goes_13 : decode cX7_goes 13 = .ok (.getfield 106, 3) := dk_180 0 106 (dk_at dksX7_goes_0 13 rfl rfl)
theorem dX7_goes_16 : decode cX7_goes 16 = .ok (.iload_n 2, 1) := dk_28 (dk_at dksX7_goes_0 16 rfl rfl)
theorem dX7_goes_17 : decode cX7_goes 17 = .ok (.iaload, 1) := dk_46 (dk_at dksX7_goes_0 17 rfl rfl)
theorem dX7_goes_18 : decode cX7_goes 18 = .ok (.bipush 48, 2) := dk_16 48 (dk_at dksX7_goes_0 18 rfl rfl)
theorem dX7_goes_20 : decode cX7_goes 20 = .ok (.if_icmp .ne 8, 3) := dk_160 0 8 (dk_at dksX7_goes_0 20 rfl rfl)
theorem dX7_goes_23 : decode cX7_goes 23 = .ok (.bipush 24, 2) := dk_16 24 (dk_at dksX7_goes_1 0 rfl rfl)
theorem dX7_goes_25 : decode cX7_goes 25 = .ok (.goto 36, 3) := dk_167 0 36 (dk_at dksX7_goes_1 2 rfl rfl)
theorem dX7_goes_28 : decode cX7_goes 28 = .ok (.aload_n 0, 1) := dk_42 (dk_at dksX7_goes_1 5 rfl rfl)
theorem dX7_goes_29 : decode cX7_goes 29 = .ok (.getfield 106, 3) := dk_180 0 106 (dk_at dksX7_goes_1 6 rfl rfl)
theorem dX7_goes_32 : decode cX7_goes 32 = .ok (.iload_n 2, 1) := dk_28 (dk_at dksX7_goes_1 9 rfl rfl)
theorem dX7_goes_33 : decode cX7_goes 33 = .ok (.iaload, 1) := dk_46 (dk_at dksX7_goes_1 10 rfl rfl)
theorem dX7_goes_34 : decode cX7_goes 34 = .ok (.bipush 24, 2) := dk_16 24 (dk_at dksX7_goes_1 11 rfl rfl)
theorem dX7_goes_36 : decode cX7_goes 36 = .ok (.irem, 1) := dk_112 (dk_at dksX7_goes_1 13 rfl rfl)
theorem dX7_goes_37 : decode cX7_goes 37 = .ok (.aload_n 0, 1) := dk_42 (dk_at dksX7_goes_1 14 rfl rfl)
theorem dX7_goes_38 : decode cX7_goes 38 = .ok (.getfield 22, 3) := dk_180 0 22 (dk_at dksX7_goes_1 15 rfl rfl)
theorem dX7_goes_41 : decode cX7_goes 41 = .ok (.iconst 2, 1) := dk_5 (dk_at dksX7_goes_1 18 rfl rfl)
theorem dX7_goes_42 : decode cX7_goes 42 = .ok (.aload_n 0, 1) := dk_42 (dk_at dksX7_goes_1 19 rfl rfl)
theorem dX7_goes_43 : decode cX7_goes 43 = .ok (.getfield 25, 3) := dk_180 0 25 (dk_at dksX7_goes_1 20 rfl rfl)
theorem dX7_goes_46 : decode cX7_goes 46 = .ok (.iload_n 2, 1) := dk_28 (dk_at dksX7_goes_1 23 rfl rfl)
theorem dX7_goes_47 : decode cX7_goes 47 = .ok (.iaload, 1) := dk_46 (dk_at dksX7_goes_2 0 rfl rfl)
theorem dX7_goes_48 : decode cX7_goes 48 = .ok (.imul, 1) := dk_104 (dk_at dksX7_goes_2 1 rfl rfl)
theorem dX7_goes_49 : decode cX7_goes 49 = .ok (.aload_n 0, 1) := dk_42 (dk_at dksX7_goes_2 2 rfl rfl)
theorem dX7_goes_50 : decode cX7_goes 50 = .ok (.getfield 106, 3) := dk_180 0 106 (dk_at dksX7_goes_2 3 rfl rfl)
theorem dX7_goes_53 : decode cX7_goes 53 = .ok (.iload_n 2, 1) := dk_28 (dk_at dksX7_goes_2 6 rfl rfl)
theorem dX7_goes_54 : decode cX7_goes 54 = .ok (.iaload, 1) := dk_46 (dk_at dksX7_goes_2 7 rfl rfl)
theorem dX7_goes_55 : decode cX7_goes 55 = .ok (.bipush 24, 2) := dk_16 24 (dk_at dksX7_goes_2 8 rfl rfl)
theorem dX7_goes_57 : decode cX7_goes 57 = .ok (.idiv, 1) := dk_108 (dk_at dksX7_goes_2 10 rfl rfl)
theorem dX7_goes_58 : decode cX7_goes 58 = .ok (.iadd, 1) := dk_96 (dk_at dksX7_goes_2 11 rfl rfl)
theorem dX7_goes_59 : decode cX7_goes 59 = .ok (.iaload, 1) := dk_46 (dk_at dksX7_goes_2 12 rfl rfl)
theorem dX7_goes_60 : decode cX7_goes 60 = .ok (.iadd, 1) := dk_96 (dk_at dksX7_goes_2 13 rfl rfl)
theorem dX7_goes_61 : decode cX7_goes 61 = .ok (.istore_n 3, 1) := dk_62 (dk_at dksX7_goes_2 14 rfl rfl)
theorem dX7_goes_62 : decode cX7_goes 62 = .ok (.aload_n 0, 1) := dk_42 (dk_at dksX7_goes_2 15 rfl rfl)
theorem dX7_goes_63 : decode cX7_goes 63 = .ok (.getfield 109, 3) := dk_180 0 109 (dk_at dksX7_goes_2 16 rfl rfl)
theorem dX7_goes_66 : decode cX7_goes 66 = .ok (.iload_n 2, 1) := dk_28 (dk_at dksX7_goes_2 19 rfl rfl)
theorem dX7_goes_67 : decode cX7_goes 67 = .ok (.iload_n 3, 1) := dk_29 (dk_at dksX7_goes_2 20 rfl rfl)
theorem dX7_goes_68 : decode cX7_goes 68 = .ok (.bipush 23, 2) := dk_16 23 (dk_at dksX7_goes_2 21 rfl rfl)
theorem dX7_goes_70 : decode cX7_goes 70 = .ok (.if_icmp .le 7, 3) := dk_164 0 7 (dk_at dksX7_goes_3 0 rfl rfl)
theorem dX7_goes_73 : decode cX7_goes 73 = .ok (.iconst (-1), 1) := dk_2 (dk_at dksX7_goes_3 3 rfl rfl)
theorem dX7_goes_74 : decode cX7_goes 74 = .ok (.goto 4, 3) := dk_167 0 4 (dk_at dksX7_goes_3 4 rfl rfl)
theorem dX7_goes_77 : decode cX7_goes 77 = .ok (.iload_n 3, 1) := dk_29 (dk_at dksX7_goes_3 7 rfl rfl)
theorem dX7_goes_78 : decode cX7_goes 78 = .ok (.iastore, 1) := dk_79 (dk_at dksX7_goes_3 8 rfl rfl)
theorem dX7_goes_79 : decode cX7_goes 79 = .ok (.aload_n 0, 1) := dk_42 (dk_at dksX7_goes_3 9 rfl rfl)
theorem dX7_goes_80 : decode cX7_goes 80 = .ok (.getfield 112, 3) := dk_180 0 112 (dk_at dksX7_goes_3 10 rfl rfl)
theorem dX7_goes_83 : decode cX7_goes 83 = .ok (.iload_n 2, 1) := dk_28 (dk_at dksX7_goes_3 13 rfl rfl)
theorem dX7_goes_84 : decode cX7_goes 84 = .ok (.iconst (-1), 1) := dk_2 (dk_at dksX7_goes_3 14 rfl rfl)
theorem dX7_goes_85 : decode cX7_goes 85 = .ok (.iastore, 1) := dk_79 (dk_at dksX7_goes_3 15 rfl rfl)
theorem dX7_goes_86 : decode cX7_goes 86 = .ok (.iinc 2 1, 3) := dk_132 2 1 (dk_at dksX7_goes_3 16 rfl rfl)
theorem dX7_goes_89 : decode cX7_goes 89 = .ok (.goto (-87), 3) := dk_167 255 169 (dk_at dksX7_goes_3 19 rfl rfl)
theorem dX7_goes_92 : decode cX7_goes 92 = .ok (.aload_n 0, 1) := dk_42 (dk_at dksX7_goes_3 22 rfl rfl)
theorem dX7_goes_93 : decode cX7_goes 93 = .ok (.iconst 0, 1) := dk_3 (dk_at dksX7_goes_3 23 rfl rfl)
theorem dX7_goes_94 : decode cX7_goes 94 = .ok (.putfield 230, 3) := dk_181 0 230 (dk_at dksX7_goes_4 0 rfl rfl)
theorem dX7_goes_97 : decode cX7_goes 97 = .ok (.iconst 0, 1) := dk_3 (dk_at dksX7_goes_4 3 rfl rfl)
theorem dX7_goes_98 : decode cX7_goes 98 = .ok (.istore_n 2, 1) := dk_61 (dk_at dksX7_goes_4 4 rfl rfl)
theorem dX7_goes_99 : decode cX7_goes 99 = .ok (.iload_n 2, 1) := dk_28 (dk_at dksX7_goes_4 5 rfl rfl)
theorem dX7_goes_100 : decode cX7_goes 100 = .ok (.bipush 24, 2) := dk_16 24 (dk_at dksX7_goes_4 6 rfl rfl)
theorem dX7_goes_102 : decode cX7_goes 102 = .ok (.if_icmp .ge 109, 3) := dk_162 0 109 (dk_at dksX7_goes_4 8 rfl rfl)
theorem dX7_goes_105 : decode cX7_goes 105 = .ok (.iconst 0, 1) := dk_3 (dk_at dksX7_goes_4 11 rfl rfl)
theorem dX7_goes_106 : decode cX7_goes 106 = .ok (.istore_n 3, 1) := dk_62 (dk_at dksX7_goes_4 12 rfl rfl)
theorem dX7_goes_107 : decode cX7_goes 107 = .ok (.iload_n 3, 1) := dk_29 (dk_at dksX7_goes_4 13 rfl rfl)
theorem dX7_goes_108 : decode cX7_goes 108 = .ok (.iconst 2, 1) := dk_5 (dk_at dksX7_goes_4 14 rfl rfl)
theorem dX7_goes_109 : decode cX7_goes 109 = .ok (.if_icmp .ge 96, 3) := dk_162 0 96 (dk_at dksX7_goes_4 15 rfl rfl)
theorem dX7_goes_112 : decode cX7_goes 112 = .ok (.iconst (-1), 1) := dk_2 (dk_at dksX7_goes_4 18 rfl rfl)
theorem dX7_goes_113 : decode cX7_goes 113 = .ok (.istore 4, 2) := dk_54 4 (dk_at dksX7_goes_4 19 rfl rfl)
theorem dX7_goes_115 : decode cX7_goes 115 = .ok (.iconst 0, 1) := dk_3 (dk_at dksX7_goes_4 21 rfl rfl)
theorem dX7_goes_116 : decode cX7_goes 116 = .ok (.istore 5, 2) := dk_54 5 (dk_at dksX7_goes_4 22 rfl rfl)
theorem dX7_goes_118 : decode cX7_goes 118 = .ok (.iload 5, 2) := dk_21 5 (dk_at dksX7_goes_5 0 rfl rfl)
theorem dX7_goes_120 : decode cX7_goes 120 = .ok (.aload_n 0, 1) := dk_42 (dk_at dksX7_goes_5 2 rfl rfl)
theorem dX7_goes_121 : decode cX7_goes 121 = .ok (.getfield 7, 3) := dk_180 0 7 (dk_at dksX7_goes_5 3 rfl rfl)
theorem dX7_goes_124 : decode cX7_goes 124 = .ok (.bipush 24, 2) := dk_16 24 (dk_at dksX7_goes_5 6 rfl rfl)
theorem dX7_goes_126 : decode cX7_goes 126 = .ok (.iload_n 3, 1) := dk_29 (dk_at dksX7_goes_5 8 rfl rfl)
theorem dX7_goes_127 : decode cX7_goes 127 = .ok (.imul, 1) := dk_104 (dk_at dksX7_goes_5 9 rfl rfl)
theorem dX7_goes_128 : decode cX7_goes 128 = .ok (.iload_n 2, 1) := dk_28 (dk_at dksX7_goes_5 10 rfl rfl)
theorem dX7_goes_129 : decode cX7_goes 129 = .ok (.iadd, 1) := dk_96 (dk_at dksX7_goes_5 11 rfl rfl)
theorem dX7_goes_130 : decode cX7_goes 130 = .ok (.iaload, 1) := dk_46 (dk_at dksX7_goes_5 12 rfl rfl)
theorem dX7_goes_131 : decode cX7_goes 131 = .ok (.if_icmp .ge 68, 3) := dk_162 0 68 (dk_at dksX7_goes_5 13 rfl rfl)
theorem dX7_goes_134 : decode cX7_goes 134 = .ok (.iload 5, 2) := dk_21 5 (dk_at dksX7_goes_5 16 rfl rfl)
theorem dX7_goes_136 : decode cX7_goes 136 = .ok (.ifCond .eq 9, 3) := dk_153 0 9 (dk_at dksX7_goes_5 18 rfl rfl)
theorem dX7_goes_139 : decode cX7_goes 139 = .ok (.iload 4, 2) := dk_21 4 (dk_at dksX7_goes_5 21 rfl rfl)
theorem dX7_goes_141 : decode cX7_goes 141 = .ok (.iconst (-1), 1) := dk_2 (dk_at dksX7_goes_5 23 rfl rfl)
theorem dX7_goes_142 : decode cX7_goes 142 = .ok (.if_icmp .eq 13, 3) := dk_159 0 13 (dk_at dksX7_goes_6 0 rfl rfl)
theorem dX7_goes_145 : decode cX7_goes 145 = .ok (.aload_n 0, 1) := dk_42 (dk_at dksX7_goes_6 3 rfl rfl)
theorem dX7_goes_146 : decode cX7_goes 146 = .ok (.iload_n 1, 1) := dk_27 (dk_at dksX7_goes_6 4 rfl rfl)
theorem dX7_goes_147 : decode cX7_goes 147 = .ok (.iload_n 3, 1) := dk_29 (dk_at dksX7_goes_6 5 rfl rfl)
theorem dX7_goes_148 : decode cX7_goes 148 = .ok (.iload_n 2, 1) := dk_28 (dk_at dksX7_goes_6 6 rfl rfl)
theorem dX7_goes_149 : decode cX7_goes 149 = .ok (.invokevirtual 233, 3) := dk_182 0 233 (dk_at dksX7_goes_6 7 rfl rfl)
theorem dX7_goes_152 : decode cX7_goes 152 = .ok (.goto 4, 3) := dk_167 0 4 (dk_at dksX7_goes_6 10 rfl rfl)
theorem dX7_goes_155 : decode cX7_goes 155 = .ok (.iconst (-1), 1) := dk_2 (dk_at dksX7_goes_6 13 rfl rfl)
theorem dX7_goes_156 : decode cX7_goes 156 = .ok (.istore 4, 2) := dk_54 4 (dk_at dksX7_goes_6 14 rfl rfl)
theorem dX7_goes_158 : decode cX7_goes 158 = .ok (.iload 4, 2) := dk_21 4 (dk_at dksX7_goes_6 16 rfl rfl)
theorem dX7_goes_160 : decode cX7_goes 160 = .ok (.iconst (-1), 1) := dk_2 (dk_at dksX7_goes_6 18 rfl rfl)
theorem dX7_goes_161 : decode cX7_goes 161 = .ok (.if_icmp .eq 32, 3) := dk_159 0 32 (dk_at dksX7_goes_6 19 rfl rfl)
theorem dX7_goes_164 : decode cX7_goes 164 = .ok (.aload_n 0, 1) := dk_42 (dk_at dksX7_goes_6 22 rfl rfl)
theorem dX7_goes_165 : decode cX7_goes 165 = .ok (.getfield 112, 3) := dk_180 0 112 (dk_at dksX7_goes_7 0 rfl rfl)
theorem dX7_goes_168 : decode cX7_goes 168 = .ok (.iload 4, 2) := dk_21 4 (dk_at dksX7_goes_7 3 rfl rfl)
theorem dX7_goes_170 : decode cX7_goes 170 = .ok (.iload_n 2, 1) := dk_28 (dk_at dksX7_goes_7 5 rfl rfl)
theorem dX7_goes_171 : decode cX7_goes 171 = .ok (.iastore, 1) := dk_79 (dk_at dksX7_goes_7 6 rfl rfl)
theorem dX7_goes_172 : decode cX7_goes 172 = .ok (.aload_n 0, 1) := dk_42 (dk_at dksX7_goes_7 7 rfl rfl)
theorem dX7_goes_173 : decode cX7_goes 173 = .ok (.getfield 115, 3) := dk_180 0 115 (dk_at dksX7_goes_7 8 rfl rfl)
theorem dX7_goes_176 : decode cX7_goes 176 = .ok (.aload_n 0, 1) := dk_42 (dk_at dksX7_goes_7 11 rfl rfl)
theorem dX7_goes_177 : decode cX7_goes 177 = .ok (.getfield 230, 3) := dk_180 0 230 (dk_at dksX7_goes_7 12 rfl rfl)
theorem dX7_goes_180 : decode cX7_goes 180 = .ok (.iload 4, 2) := dk_21 4 (dk_at dksX7_goes_7 15 rfl rfl)
theorem dX7_goes_182 : decode cX7_goes 182 = .ok (.iastore, 1) := dk_79 (dk_at dksX7_goes_7 17 rfl rfl)
theorem dX7_goes_183 : decode cX7_goes 183 = .ok (.aload_n 0, 1) := dk_42 (dk_at dksX7_goes_7 18 rfl rfl)
theorem dX7_goes_184 : decode cX7_goes 184 = .ok (.dup, 1) := dk_89 (dk_at dksX7_goes_7 19 rfl rfl)
theorem dX7_goes_185 : decode cX7_goes 185 = .ok (.getfield 230, 3) := dk_180 0 230 (dk_at dksX7_goes_7 20 rfl rfl)
theorem dX7_goes_188 : decode cX7_goes 188 = .ok (.iconst 1, 1) := dk_4 (dk_at dksX7_goes_7 23 rfl rfl)
theorem dX7_goes_189 : decode cX7_goes 189 = .ok (.iadd, 1) := dk_96 (dk_at dksX7_goes_8 0 rfl rfl)
theorem dX7_goes_190 : decode cX7_goes 190 = .ok (.putfield 230, 3) := dk_181 0 230 (dk_at dksX7_goes_8 1 rfl rfl)
theorem dX7_goes_193 : decode cX7_goes 193 = .ok (.iinc 5 1, 3) := dk_132 5 1 (dk_at dksX7_goes_8 4 rfl rfl)
theorem dX7_goes_196 : decode cX7_goes 196 = .ok (.goto (-78), 3) := dk_167 255 178 (dk_at dksX7_goes_8 7 rfl rfl)
theorem dX7_goes_199 : decode cX7_goes 199 = .ok (.iinc 3 1, 3) := dk_132 3 1 (dk_at dksX7_goes_8 10 rfl rfl)
theorem dX7_goes_202 : decode cX7_goes 202 = .ok (.goto (-95), 3) := dk_167 255 161 (dk_at dksX7_goes_8 13 rfl rfl)
theorem dX7_goes_205 : decode cX7_goes 205 = .ok (.iinc 2 1, 3) := dk_132 2 1 (dk_at dksX7_goes_8 16 rfl rfl)
theorem dX7_goes_208 : decode cX7_goes 208 = .ok (.goto (-109), 3) := dk_167 255 147 (dk_at dksX7_goes_8 19 rfl rfl)
theorem dX7_goes_211 : decode cX7_goes 211 = .ok (.return_, 1) := dk_177 (dk_at dksX7_goes_8 22 rfl rfl)
abbrev cX7_nextAt : ByteArray := prog_20_method_37_code
def yX7_nextAt : MethodName := ⟨RX7, "nextAt", "(III)I"⟩
def dkwX7_nextAt_5 : List UInt8 := [167, 0, 5, 21, 4, 182, 0, 226, 162, 0, 7, 21, 5, 54, 4, 132, 5, 1, 167, 255, 125, 21, 4, 172]
abbrev dktX7_nextAt_5 : List UInt8 := dkwX7_nextAt_5 ++ []
def dkwX7_nextAt_4 : List UInt8 := [42, 180, 0, 28, 27, 46, 21, 5, 182, 0, 226, 42, 42, 180, 0, 28, 27, 46, 21, 4, 156, 0, 7, 3]
abbrev dktX7_nextAt_4 : List UInt8 := dkwX7_nextAt_4 ++ dktX7_nextAt_5
def dkwX7_nextAt_3 : List UInt8 := [46, 2, 160, 0, 7, 4, 167, 0, 4, 3, 54, 6, 21, 6, 153, 0, 49, 21, 4, 2, 159, 0, 39, 42]
abbrev dktX7_nextAt_3 : List UInt8 := dkwX7_nextAt_3 ++ dktX7_nextAt_4
def dkwX7_nextAt_2 : List UInt8 := [21, 5, 46, 2, 159, 0, 29, 42, 180, 0, 109, 21, 5, 46, 29, 163, 0, 18, 42, 180, 0, 112, 21, 5]
abbrev dktX7_nextAt_2 : List UInt8 := dkwX7_nextAt_2 ++ dktX7_nextAt_3
def dkwX7_nextAt_1 : List UInt8 := [16, 48, 159, 0, 54, 42, 180, 0, 106, 21, 5, 46, 16, 24, 108, 28, 160, 0, 40, 42, 180, 0, 109]
abbrev dktX7_nextAt_1 : List UInt8 := dkwX7_nextAt_1 ++ dktX7_nextAt_2
def dkwX7_nextAt_0 : List UInt8 := [2, 54, 4, 3, 54, 5, 21, 5, 42, 180, 0, 31, 27, 46, 162, 0, 126, 42, 180, 0, 106, 21, 5, 46]
abbrev dktX7_nextAt_0 : List UInt8 := dkwX7_nextAt_0 ++ dktX7_nextAt_1
theorem dksX7_nextAt_0 : cX7_nextAt.data.toList.drop 0 = dktX7_nextAt_0 := by decide +kernel
theorem dksX7_nextAt_1 : cX7_nextAt.data.toList.drop 24 = dktX7_nextAt_1 := dk_seg dksX7_nextAt_0 24 rfl rfl
theorem dksX7_nextAt_2 : cX7_nextAt.data.toList.drop 47 = dktX7_nextAt_2 := dk_seg dksX7_nextAt_1 23 rfl rfl
theorem dksX7_nextAt_3 : cX7_nextAt.data.toList.drop 71 = dktX7_nextAt_3 := dk_seg dksX7_nextAt_2 24 rfl rfl
theorem dksX7_nextAt_4 : cX7_nextAt.data.toList.drop 95 = dktX7_nextAt_4 := dk_seg dksX7_nextAt_3 24 rfl rfl
theorem dksX7_nextAt_5 : cX7_nextAt.data.toList.drop 119 = dktX7_nextAt_5 := dk_seg dksX7_nextAt_4 24 rfl rfl
theorem dX7_nextAt_0 : decode cX7_nextAt 0 = .ok (.iconst (-1), 1) := dk_2 (dk_at dksX7_nextAt_0 0 rfl rfl)
theorem dX7_nextAt_1 : decode cX7_nextAt 1 = .ok (.istore 4, 2) := dk_54 4 (dk_at dksX7_nextAt_0 1 rfl rfl)
theorem dX7_nextAt_3 : decode cX7_nextAt 3 = .ok (.iconst 0, 1) := dk_3 (dk_at dksX7_nextAt_0 3 rfl rfl)
theorem dX7_nextAt_4 : decode cX7_nextAt 4 = .ok (.istore 5, 2) := dk_54 5 (dk_at dksX7_nextAt_0 4 rfl rfl)
theorem dX7_nextAt_6 : decode cX7_nextAt 6 = .ok (.iload 5, 2) := dk_21 5 (dk_at dksX7_nextAt_0 6 rfl rfl)
theorem dX7_nextAt_8 : decode cX7_nextAt 8 = .ok (.aload_n 0, 1) := dk_42 (dk_at dksX7_nextAt_0 8 rfl rfl)
theorem dX7_nextAt_9 : decode cX7_nextAt 9 = .ok (.getfield 31, 3) := dk_180 0 31 (dk_at dksX7_nextAt_0 9 rfl rfl)
theorem dX7_nextAt_12 : decode cX7_nextAt 12 = .ok (.iload_n 1, 1) := dk_27 (dk_at dksX7_nextAt_0 12 rfl rfl)
theorem dX7_nextAt_13 : decode cX7_nextAt 13 = .ok (.iaload, 1) := dk_46 (dk_at dksX7_nextAt_0 13 rfl rfl)
theorem dX7_nextAt_14 : decode cX7_nextAt 14 = .ok (.if_icmp .ge 126, 3) := dk_162 0 126 (dk_at dksX7_nextAt_0 14 rfl rfl)
theorem dX7_nextAt_17 : decode cX7_nextAt 17 = .ok (.aload_n 0, 1) := dk_42 (dk_at dksX7_nextAt_0 17 rfl rfl)
theorem dX7_nextAt_18 : decode cX7_nextAt 18 = .ok (.getfield 106, 3) := dk_180 0 106 (dk_at dksX7_nextAt_0 18 rfl rfl)
theorem dX7_nextAt_21 : decode cX7_nextAt 21 = .ok (.iload 5, 2) := dk_21 5 (dk_at dksX7_nextAt_0 21 rfl rfl)
theorem dX7_nextAt_23 : decode cX7_nextAt 23 = .ok (.iaload, 1) := dk_46 (dk_at dksX7_nextAt_0 23 rfl rfl)
theorem dX7_nextAt_24 : decode cX7_nextAt 24 = .ok (.bipush 48, 2) := dk_16 48 (dk_at dksX7_nextAt_1 0 rfl rfl)
theorem dX7_nextAt_26 : decode cX7_nextAt 26 = .ok (.if_icmp .eq 54, 3) := dk_159 0 54 (dk_at dksX7_nextAt_1 2 rfl rfl)
theorem dX7_nextAt_29 : decode cX7_nextAt 29 = .ok (.aload_n 0, 1) := dk_42 (dk_at dksX7_nextAt_1 5 rfl rfl)
theorem dX7_nextAt_30 : decode cX7_nextAt 30 = .ok (.getfield 106, 3) := dk_180 0 106 (dk_at dksX7_nextAt_1 6 rfl rfl)
theorem dX7_nextAt_33 : decode cX7_nextAt 33 = .ok (.iload 5, 2) := dk_21 5 (dk_at dksX7_nextAt_1 9 rfl rfl)
theorem dX7_nextAt_35 : decode cX7_nextAt 35 = .ok (.iaload, 1) := dk_46 (dk_at dksX7_nextAt_1 11 rfl rfl)
theorem dX7_nextAt_36 : decode cX7_nextAt 36 = .ok (.bipush 24, 2) := dk_16 24 (dk_at dksX7_nextAt_1 12 rfl rfl)
theorem dX7_nextAt_38 : decode cX7_nextAt 38 = .ok (.idiv, 1) := dk_108 (dk_at dksX7_nextAt_1 14 rfl rfl)
theorem dX7_nextAt_39 : decode cX7_nextAt 39 = .ok (.iload_n 2, 1) := dk_28 (dk_at dksX7_nextAt_1 15 rfl rfl)
theorem dX7_nextAt_40 : decode cX7_nextAt 40 = .ok (.if_icmp .ne 40, 3) := dk_160 0 40 (dk_at dksX7_nextAt_1 16 rfl rfl)
theorem dX7_nextAt_43 : decode cX7_nextAt 43 = .ok (.aload_n 0, 1) := dk_42 (dk_at dksX7_nextAt_1 19 rfl rfl)
theorem dX7_nextAt_44 : decode cX7_nextAt 44 = .ok (.getfield 109, 3) := dk_180 0 109 (dk_at dksX7_nextAt_1 20 rfl rfl)
theorem dX7_nextAt_47 : decode cX7_nextAt 47 = .ok (.iload 5, 2) := dk_21 5 (dk_at dksX7_nextAt_2 0 rfl rfl)
theorem dX7_nextAt_49 : decode cX7_nextAt 49 = .ok (.iaload, 1) := dk_46 (dk_at dksX7_nextAt_2 2 rfl rfl)
theorem dX7_nextAt_50 : decode cX7_nextAt 50 = .ok (.iconst (-1), 1) := dk_2 (dk_at dksX7_nextAt_2 3 rfl rfl)
theorem dX7_nextAt_51 : decode cX7_nextAt 51 = .ok (.if_icmp .eq 29, 3) := dk_159 0 29 (dk_at dksX7_nextAt_2 4 rfl rfl)
theorem dX7_nextAt_54 : decode cX7_nextAt 54 = .ok (.aload_n 0, 1) := dk_42 (dk_at dksX7_nextAt_2 7 rfl rfl)
theorem dX7_nextAt_55 : decode cX7_nextAt 55 = .ok (.getfield 109, 3) := dk_180 0 109 (dk_at dksX7_nextAt_2 8 rfl rfl)
theorem dX7_nextAt_58 : decode cX7_nextAt 58 = .ok (.iload 5, 2) := dk_21 5 (dk_at dksX7_nextAt_2 11 rfl rfl)
theorem dX7_nextAt_60 : decode cX7_nextAt 60 = .ok (.iaload, 1) := dk_46 (dk_at dksX7_nextAt_2 13 rfl rfl)
theorem dX7_nextAt_61 : decode cX7_nextAt 61 = .ok (.iload_n 3, 1) := dk_29 (dk_at dksX7_nextAt_2 14 rfl rfl)
theorem dX7_nextAt_62 : decode cX7_nextAt 62 = .ok (.if_icmp .gt 18, 3) := dk_163 0 18 (dk_at dksX7_nextAt_2 15 rfl rfl)
theorem dX7_nextAt_65 : decode cX7_nextAt 65 = .ok (.aload_n 0, 1) := dk_42 (dk_at dksX7_nextAt_2 18 rfl rfl)
theorem dX7_nextAt_66 : decode cX7_nextAt 66 = .ok (.getfield 112, 3) := dk_180 0 112 (dk_at dksX7_nextAt_2 19 rfl rfl)
theorem dX7_nextAt_69 : decode cX7_nextAt 69 = .ok (.iload 5, 2) := dk_21 5 (dk_at dksX7_nextAt_2 22 rfl rfl)
theorem dX7_nextAt_71 : decode cX7_nextAt 71 = .ok (.iaload, 1) := dk_46 (dk_at dksX7_nextAt_3 0 rfl rfl)
theorem dX7_nextAt_72 : decode cX7_nextAt 72 = .ok (.iconst (-1), 1) := dk_2 (dk_at dksX7_nextAt_3 1 rfl rfl)
theorem dX7_nextAt_73 : decode cX7_nextAt 73 = .ok (.if_icmp .ne 7, 3) := dk_160 0 7 (dk_at dksX7_nextAt_3 2 rfl rfl)
theorem dX7_nextAt_76 : decode cX7_nextAt 76 = .ok (.iconst 1, 1) := dk_4 (dk_at dksX7_nextAt_3 5 rfl rfl)
theorem dX7_nextAt_77 : decode cX7_nextAt 77 = .ok (.goto 4, 3) := dk_167 0 4 (dk_at dksX7_nextAt_3 6 rfl rfl)
theorem dX7_nextAt_80 : decode cX7_nextAt 80 = .ok (.iconst 0, 1) := dk_3 (dk_at dksX7_nextAt_3 9 rfl rfl)
theorem dX7_nextAt_81 : decode cX7_nextAt 81 = .ok (.istore 6, 2) := dk_54 6 (dk_at dksX7_nextAt_3 10 rfl rfl)
theorem dX7_nextAt_83 : decode cX7_nextAt 83 = .ok (.iload 6, 2) := dk_21 6 (dk_at dksX7_nextAt_3 12 rfl rfl)
theorem dX7_nextAt_85 : decode cX7_nextAt 85 = .ok (.ifCond .eq 49, 3) := dk_153 0 49 (dk_at dksX7_nextAt_3 14 rfl rfl)
theorem dX7_nextAt_88 : decode cX7_nextAt 88 = .ok (.iload 4, 2) := dk_21 4 (dk_at dksX7_nextAt_3 17 rfl rfl)
theorem dX7_nextAt_90 : decode cX7_nextAt 90 = .ok (.iconst (-1), 1) := dk_2 (dk_at dksX7_nextAt_3 19 rfl rfl)
theorem dX7_nextAt_91 : decode cX7_nextAt 91 = .ok (.if_icmp .eq 39, 3) := dk_159 0 39 (dk_at dksX7_nextAt_3 20 rfl rfl)
theorem dX7_nextAt_94 : decode cX7_nextAt 94 = .ok (.aload_n 0, 1) := dk_42 (dk_at dksX7_nextAt_3 23 rfl rfl)
theorem dX7_nextAt_95 : decode cX7_nextAt 95 = .ok (.aload_n 0, 1) := dk_42 (dk_at dksX7_nextAt_4 0 rfl rfl)
theorem dX7_nextAt_96 : decode cX7_nextAt 96 = .ok (.getfield 28, 3) := dk_180 0 28 (dk_at dksX7_nextAt_4 1 rfl rfl)
theorem dX7_nextAt_99 : decode cX7_nextAt 99 = .ok (.iload_n 1, 1) := dk_27 (dk_at dksX7_nextAt_4 4 rfl rfl)
theorem dX7_nextAt_100 : decode cX7_nextAt 100 = .ok (.iaload, 1) := dk_46 (dk_at dksX7_nextAt_4 5 rfl rfl)
theorem dX7_nextAt_101 : decode cX7_nextAt 101 = .ok (.iload 5, 2) := dk_21 5 (dk_at dksX7_nextAt_4 6 rfl rfl)
theorem dX7_nextAt_103 : decode cX7_nextAt 103 = .ok (.invokevirtual 226, 3) := dk_182 0 226 (dk_at dksX7_nextAt_4 8 rfl rfl)
theorem dX7_nextAt_106 : decode cX7_nextAt 106 = .ok (.aload_n 0, 1) := dk_42 (dk_at dksX7_nextAt_4 11 rfl rfl)
theorem dX7_nextAt_107 : decode cX7_nextAt 107 = .ok (.aload_n 0, 1) := dk_42 (dk_at dksX7_nextAt_4 12 rfl rfl)
theorem dX7_nextAt_108 : decode cX7_nextAt 108 = .ok (.getfield 28, 3) := dk_180 0 28 (dk_at dksX7_nextAt_4 13 rfl rfl)
theorem dX7_nextAt_111 : decode cX7_nextAt 111 = .ok (.iload_n 1, 1) := dk_27 (dk_at dksX7_nextAt_4 16 rfl rfl)
theorem dX7_nextAt_112 : decode cX7_nextAt 112 = .ok (.iaload, 1) := dk_46 (dk_at dksX7_nextAt_4 17 rfl rfl)
theorem dX7_nextAt_113 : decode cX7_nextAt 113 = .ok (.iload 4, 2) := dk_21 4 (dk_at dksX7_nextAt_4 18 rfl rfl)
theorem dX7_nextAt_115 : decode cX7_nextAt 115 = .ok (.ifCond .ge 7, 3) := dk_156 0 7 (dk_at dksX7_nextAt_4 20 rfl rfl)
theorem dX7_nextAt_118 : decode cX7_nextAt 118 = .ok (.iconst 0, 1) := dk_3 (dk_at dksX7_nextAt_4 23 rfl rfl)
theorem dX7_nextAt_119 : decode cX7_nextAt 119 = .ok (.goto 5, 3) := dk_167 0 5 (dk_at dksX7_nextAt_5 0 rfl rfl)
theorem dX7_nextAt_122 : decode cX7_nextAt 122 = .ok (.iload 4, 2) := dk_21 4 (dk_at dksX7_nextAt_5 3 rfl rfl)
theorem dX7_nextAt_124 : decode cX7_nextAt 124 = .ok (.invokevirtual 226, 3) := dk_182 0 226 (dk_at dksX7_nextAt_5 5 rfl rfl)
theorem dX7_nextAt_127 : decode cX7_nextAt 127 = .ok (.if_icmp .ge 7, 3) := dk_162 0 7 (dk_at dksX7_nextAt_5 8 rfl rfl)
theorem dX7_nextAt_130 : decode cX7_nextAt 130 = .ok (.iload 5, 2) := dk_21 5 (dk_at dksX7_nextAt_5 11 rfl rfl)
theorem dX7_nextAt_132 : decode cX7_nextAt 132 = .ok (.istore 4, 2) := dk_54 4 (dk_at dksX7_nextAt_5 13 rfl rfl)
theorem dX7_nextAt_134 : decode cX7_nextAt 134 = .ok (.iinc 5 1, 3) := dk_132 5 1 (dk_at dksX7_nextAt_5 15 rfl rfl)
theorem dX7_nextAt_137 : decode cX7_nextAt 137 = .ok (.goto (-131), 3) := dk_167 255 125 (dk_at dksX7_nextAt_5 18 rfl rfl)
theorem dX7_nextAt_140 : decode cX7_nextAt 140 = .ok (.iload 4, 2) := dk_21 4 (dk_at dksX7_nextAt_5 21 rfl rfl)
theorem dX7_nextAt_142 : decode cX7_nextAt 142 = .ok (.ireturn, 1) := dk_172 (dk_at dksX7_nextAt_5 23 rfl rfl)
abbrev cX7_orderOf : ByteArray := prog_20_method_36_code
def yX7_orderOf : MethodName := ⟨RX7, "orderOf", "(II)I"⟩
def dkwX7_orderOf_3 : List UInt8 := [46, 6, 42, 180, 0, 25, 28, 46, 104, 100, 172, 42, 180, 0, 109, 28, 46, 172]
abbrev dktX7_orderOf_3 : List UInt8 := dkwX7_orderOf_3 ++ []
def dkwX7_orderOf_2 : List UInt8 := [28, 172, 8, 28, 104, 6, 96, 16, 17, 112, 172, 42, 180, 0, 109, 28, 46, 116, 172, 42, 180, 0, 109, 28]
abbrev dktX7_orderOf_2 : List UInt8 := dkwX7_orderOf_2 ++ dktX7_orderOf_3
def dkwX7_orderOf_1 : List UInt8 := [170, 0, 0, 0, 0, 0, 66, 0, 0, 0, 2, 0, 0, 0, 5, 0, 0, 0, 31, 0, 0, 0, 33, 0, 0, 0, 42, 0, 0, 0, 50]
abbrev dktX7_orderOf_1 : List UInt8 := dkwX7_orderOf_1 ++ dktX7_orderOf_2
def dkwX7_orderOf_0 : List UInt8 := [27]
abbrev dktX7_orderOf_0 : List UInt8 := dkwX7_orderOf_0 ++ dktX7_orderOf_1
theorem dksX7_orderOf_0 : cX7_orderOf.data.toList.drop 0 = dktX7_orderOf_0 := by decide +kernel
theorem dksX7_orderOf_1 : cX7_orderOf.data.toList.drop 1 = dktX7_orderOf_1 := dk_seg dksX7_orderOf_0 1 rfl rfl
theorem dksX7_orderOf_2 : cX7_orderOf.data.toList.drop 32 = dktX7_orderOf_2 := dk_seg dksX7_orderOf_1 31 rfl rfl
theorem dksX7_orderOf_3 : cX7_orderOf.data.toList.drop 56 = dktX7_orderOf_3 := dk_seg dksX7_orderOf_2 24 rfl rfl
theorem dX7_orderOf_0 : decode cX7_orderOf 0 = .ok (.iload_n 1, 1) := dk_27 (dk_at dksX7_orderOf_0 0 rfl rfl)
theorem dX7_orderOf_1 : decode cX7_orderOf 1 = .ok (.tableswitch 66 2 5 #[31, 33, 42, 50], 31) := by decide +kernel
theorem dX7_orderOf_32 : decode cX7_orderOf 32 = .ok (.iload_n 2, 1) := dk_28 (dk_at dksX7_orderOf_2 0 rfl rfl)
theorem dX7_orderOf_33 : decode cX7_orderOf 33 = .ok (.ireturn, 1) := dk_172 (dk_at dksX7_orderOf_2 1 rfl rfl)
theorem dX7_orderOf_34 : decode cX7_orderOf 34 = .ok (.iconst 5, 1) := dk_8 (dk_at dksX7_orderOf_2 2 rfl rfl)
theorem dX7_orderOf_35 : decode cX7_orderOf 35 = .ok (.iload_n 2, 1) := dk_28 (dk_at dksX7_orderOf_2 3 rfl rfl)
theorem dX7_orderOf_36 : decode cX7_orderOf 36 = .ok (.imul, 1) := dk_104 (dk_at dksX7_orderOf_2 4 rfl rfl)
theorem dX7_orderOf_37 : decode cX7_orderOf 37 = .ok (.iconst 3, 1) := dk_6 (dk_at dksX7_orderOf_2 5 rfl rfl)
theorem dX7_orderOf_38 : decode cX7_orderOf 38 = .ok (.iadd, 1) := dk_96 (dk_at dksX7_orderOf_2 6 rfl rfl)
theorem dX7_orderOf_39 : decode cX7_orderOf 39 = .ok (.bipush 17, 2) := dk_16 17 (dk_at dksX7_orderOf_2 7 rfl rfl)
theorem dX7_orderOf_41 : decode cX7_orderOf 41 = .ok (.irem, 1) := dk_112 (dk_at dksX7_orderOf_2 9 rfl rfl)
theorem dX7_orderOf_42 : decode cX7_orderOf 42 = .ok (.ireturn, 1) := dk_172 (dk_at dksX7_orderOf_2 10 rfl rfl)
theorem dX7_orderOf_43 : decode cX7_orderOf 43 = .ok (.aload_n 0, 1) := dk_42 (dk_at dksX7_orderOf_2 11 rfl rfl)
theorem dX7_orderOf_44 : decode cX7_orderOf 44 = .ok (.getfield 109, 3) := dk_180 0 109 (dk_at dksX7_orderOf_2 12 rfl rfl)
theorem dX7_orderOf_47 : decode cX7_orderOf 47 = .ok (.iload_n 2, 1) := dk_28 (dk_at dksX7_orderOf_2 15 rfl rfl)
theorem dX7_orderOf_48 : decode cX7_orderOf 48 = .ok (.iaload, 1) := dk_46 (dk_at dksX7_orderOf_2 16 rfl rfl)
theorem dX7_orderOf_49 : decode cX7_orderOf 49 = .ok (.ineg, 1) := dk_116 (dk_at dksX7_orderOf_2 17 rfl rfl)
theorem dX7_orderOf_50 : decode cX7_orderOf 50 = .ok (.ireturn, 1) := dk_172 (dk_at dksX7_orderOf_2 18 rfl rfl)
theorem dX7_orderOf_51 : decode cX7_orderOf 51 = .ok (.aload_n 0, 1) := dk_42 (dk_at dksX7_orderOf_2 19 rfl rfl)
theorem dX7_orderOf_52 : decode cX7_orderOf 52 = .ok (.getfield 109, 3) := dk_180 0 109 (dk_at dksX7_orderOf_2 20 rfl rfl)
theorem dX7_orderOf_55 : decode cX7_orderOf 55 = .ok (.iload_n 2, 1) := dk_28 (dk_at dksX7_orderOf_2 23 rfl rfl)
theorem dX7_orderOf_56 : decode cX7_orderOf 56 = .ok (.iaload, 1) := dk_46 (dk_at dksX7_orderOf_3 0 rfl rfl)
theorem dX7_orderOf_57 : decode cX7_orderOf 57 = .ok (.iconst 3, 1) := dk_6 (dk_at dksX7_orderOf_3 1 rfl rfl)
theorem dX7_orderOf_58 : decode cX7_orderOf 58 = .ok (.aload_n 0, 1) := dk_42 (dk_at dksX7_orderOf_3 2 rfl rfl)
theorem dX7_orderOf_59 : decode cX7_orderOf 59 = .ok (.getfield 25, 3) := dk_180 0 25 (dk_at dksX7_orderOf_3 3 rfl rfl)
theorem dX7_orderOf_62 : decode cX7_orderOf 62 = .ok (.iload_n 2, 1) := dk_28 (dk_at dksX7_orderOf_3 6 rfl rfl)
theorem dX7_orderOf_63 : decode cX7_orderOf 63 = .ok (.iaload, 1) := dk_46 (dk_at dksX7_orderOf_3 7 rfl rfl)
theorem dX7_orderOf_64 : decode cX7_orderOf 64 = .ok (.imul, 1) := dk_104 (dk_at dksX7_orderOf_3 8 rfl rfl)
theorem dX7_orderOf_65 : decode cX7_orderOf 65 = .ok (.isub, 1) := dk_100 (dk_at dksX7_orderOf_3 9 rfl rfl)
theorem dX7_orderOf_66 : decode cX7_orderOf 66 = .ok (.ireturn, 1) := dk_172 (dk_at dksX7_orderOf_3 10 rfl rfl)
theorem dX7_orderOf_67 : decode cX7_orderOf 67 = .ok (.aload_n 0, 1) := dk_42 (dk_at dksX7_orderOf_3 11 rfl rfl)
theorem dX7_orderOf_68 : decode cX7_orderOf 68 = .ok (.getfield 109, 3) := dk_180 0 109 (dk_at dksX7_orderOf_3 12 rfl rfl)
theorem dX7_orderOf_71 : decode cX7_orderOf 71 = .ok (.iload_n 2, 1) := dk_28 (dk_at dksX7_orderOf_3 15 rfl rfl)
theorem dX7_orderOf_72 : decode cX7_orderOf 72 = .ok (.iaload, 1) := dk_46 (dk_at dksX7_orderOf_3 16 rfl rfl)
theorem dX7_orderOf_73 : decode cX7_orderOf 73 = .ok (.ireturn, 1) := dk_172 (dk_at dksX7_orderOf_3 17 rfl rfl)
abbrev cX7_cost : ByteArray := prog_20_method_42_code
def yX7_cost : MethodName := ⟨RX7, "cost", "(II)I"⟩
def dkwX7_cost_3 : List UInt8 := [46, 100, 7, 164, 0, 7, 5, 167, 0, 4, 3, 100, 172]
abbrev dktX7_cost_3 : List UInt8 := dkwX7_cost_3 ++ []
def dkwX7_cost_2 : List UInt8 := [184, 0, 246, 42, 180, 0, 28, 27, 46, 7, 160, 0, 24, 42, 180, 0, 112, 28, 46, 42, 180, 0, 109, 28]
abbrev dktX7_cost_2 : List UInt8 := dkwX7_cost_2 ++ dktX7_cost_3
def dkwX7_cost_1 : List UInt8 := [180, 0, 112, 28, 46, 2, 160, 0, 7, 17, 19, 136, 172, 42, 27, 28, 182, 0, 239, 42, 3, 182, 0, 243]
abbrev dktX7_cost_1 : List UInt8 := dkwX7_cost_1 ++ dktX7_cost_2
def dkwX7_cost_0 : List UInt8 := [42, 180, 0, 106, 28, 46, 16, 48, 160, 0, 15, 42, 180, 0, 19, 42, 180, 0, 25, 28, 46, 46, 172, 42]
abbrev dktX7_cost_0 : List UInt8 := dkwX7_cost_0 ++ dktX7_cost_1
theorem dksX7_cost_0 : cX7_cost.data.toList.drop 0 = dktX7_cost_0 := by decide +kernel
theorem dksX7_cost_1 : cX7_cost.data.toList.drop 24 = dktX7_cost_1 := dk_seg dksX7_cost_0 24 rfl rfl
theorem dksX7_cost_2 : cX7_cost.data.toList.drop 48 = dktX7_cost_2 := dk_seg dksX7_cost_1 24 rfl rfl
theorem dksX7_cost_3 : cX7_cost.data.toList.drop 72 = dktX7_cost_3 := dk_seg dksX7_cost_2 24 rfl rfl
theorem dX7_cost_0 : decode cX7_cost 0 = .ok (.aload_n 0, 1) := dk_42 (dk_at dksX7_cost_0 0 rfl rfl)
theorem dX7_cost_1 : decode cX7_cost 1 = .ok (.getfield 106, 3) := dk_180 0 106 (dk_at dksX7_cost_0 1 rfl rfl)
theorem dX7_cost_4 : decode cX7_cost 4 = .ok (.iload_n 2, 1) := dk_28 (dk_at dksX7_cost_0 4 rfl rfl)
theorem dX7_cost_5 : decode cX7_cost 5 = .ok (.iaload, 1) := dk_46 (dk_at dksX7_cost_0 5 rfl rfl)
theorem dX7_cost_6 : decode cX7_cost 6 = .ok (.bipush 48, 2) := dk_16 48 (dk_at dksX7_cost_0 6 rfl rfl)
theorem dX7_cost_8 : decode cX7_cost 8 = .ok (.if_icmp .ne 15, 3) := dk_160 0 15 (dk_at dksX7_cost_0 8 rfl rfl)
theorem dX7_cost_11 : decode cX7_cost 11 = .ok (.aload_n 0, 1) := dk_42 (dk_at dksX7_cost_0 11 rfl rfl)
theorem dX7_cost_12 : decode cX7_cost 12 = .ok (.getfield 19, 3) := dk_180 0 19 (dk_at dksX7_cost_0 12 rfl rfl)
theorem dX7_cost_15 : decode cX7_cost 15 = .ok (.aload_n 0, 1) := dk_42 (dk_at dksX7_cost_0 15 rfl rfl)
theorem dX7_cost_16 : decode cX7_cost 16 = .ok (.getfield 25, 3) := dk_180 0 25 (dk_at dksX7_cost_0 16 rfl rfl)
theorem dX7_cost_19 : decode cX7_cost 19 = .ok (.iload_n 2, 1) := dk_28 (dk_at dksX7_cost_0 19 rfl rfl)
theorem dX7_cost_20 : decode cX7_cost 20 = .ok (.iaload, 1) := dk_46 (dk_at dksX7_cost_0 20 rfl rfl)
theorem dX7_cost_21 : decode cX7_cost 21 = .ok (.iaload, 1) := dk_46 (dk_at dksX7_cost_0 21 rfl rfl)
theorem dX7_cost_22 : decode cX7_cost 22 = .ok (.ireturn, 1) := dk_172 (dk_at dksX7_cost_0 22 rfl rfl)
theorem dX7_cost_23 : decode cX7_cost 23 = .ok (.aload_n 0, 1) := dk_42 (dk_at dksX7_cost_0 23 rfl rfl)
theorem dX7_cost_24 : decode cX7_cost 24 = .ok (.getfield 112, 3) := dk_180 0 112 (dk_at dksX7_cost_1 0 rfl rfl)
theorem dX7_cost_27 : decode cX7_cost 27 = .ok (.iload_n 2, 1) := dk_28 (dk_at dksX7_cost_1 3 rfl rfl)
theorem dX7_cost_28 : decode cX7_cost 28 = .ok (.iaload, 1) := dk_46 (dk_at dksX7_cost_1 4 rfl rfl)
theorem dX7_cost_29 : decode cX7_cost 29 = .ok (.iconst (-1), 1) := dk_2 (dk_at dksX7_cost_1 5 rfl rfl)
theorem dX7_cost_30 : decode cX7_cost 30 = .ok (.if_icmp .ne 7, 3) := dk_160 0 7 (dk_at dksX7_cost_1 6 rfl rfl)
theorem dX7_cost_33 : decode cX7_cost 33 = .ok (.sipush 5000, 3) := dk_17 19 136 (dk_at dksX7_cost_1 9 rfl rfl)
theorem dX7_cost_36 : decode cX7_cost 36 = .ok (.ireturn, 1) := dk_172 (dk_at dksX7_cost_1 12 rfl rfl)
theorem dX7_cost_37 : decode cX7_cost 37 = .ok (.aload_n 0, 1) := dk_42 (dk_at dksX7_cost_1 13 rfl rfl)
theorem dX7_cost_38 : decode cX7_cost 38 = .ok (.iload_n 1, 1) := dk_27 (dk_at dksX7_cost_1 14 rfl rfl)
theorem dX7_cost_39 : decode cX7_cost 39 = .ok (.iload_n 2, 1) := dk_28 (dk_at dksX7_cost_1 15 rfl rfl)
theorem dX7_cost_40 : decode cX7_cost 40 = .ok (.invokevirtual 239, 3) := dk_182 0 239 (dk_at dksX7_cost_1 16 rfl rfl)
theorem dX7_cost_43 : decode cX7_cost 43 = .ok (.aload_n 0, 1) := dk_42 (dk_at dksX7_cost_1 19 rfl rfl)
theorem dX7_cost_44 : decode cX7_cost 44 = .ok (.iconst 0, 1) := dk_3 (dk_at dksX7_cost_1 20 rfl rfl)
theorem dX7_cost_45 : decode cX7_cost 45 = .ok (.invokevirtual 243, 3) := dk_182 0 243 (dk_at dksX7_cost_1 21 rfl rfl)
theorem dX7_cost_48 : decode cX7_cost 48 = .ok (.invokestatic 246, 3) := dk_184 0 246 (dk_at dksX7_cost_2 0 rfl rfl)
theorem dX7_cost_51 : decode cX7_cost 51 = .ok (.aload_n 0, 1) := dk_42 (dk_at dksX7_cost_2 3 rfl rfl)
theorem dX7_cost_52 : decode cX7_cost 52 = .ok (.getfield 28, 3) := dk_180 0 28 (dk_at dksX7_cost_2 4 rfl rfl)
theorem dX7_cost_55 : decode cX7_cost 55 = .ok (.iload_n 1, 1) := dk_27 (dk_at dksX7_cost_2 7 rfl rfl)
theorem dX7_cost_56 : decode cX7_cost 56 = .ok (.iaload, 1) := dk_46 (dk_at dksX7_cost_2 8 rfl rfl)
theorem dX7_cost_57 : decode cX7_cost 57 = .ok (.iconst 4, 1) := dk_7 (dk_at dksX7_cost_2 9 rfl rfl)
theorem dX7_cost_58 : decode cX7_cost 58 = .ok (.if_icmp .ne 24, 3) := dk_160 0 24 (dk_at dksX7_cost_2 10 rfl rfl)
theorem dX7_cost_61 : decode cX7_cost 61 = .ok (.aload_n 0, 1) := dk_42 (dk_at dksX7_cost_2 13 rfl rfl)
theorem dX7_cost_62 : decode cX7_cost 62 = .ok (.getfield 112, 3) := dk_180 0 112 (dk_at dksX7_cost_2 14 rfl rfl)
theorem dX7_cost_65 : decode cX7_cost 65 = .ok (.iload_n 2, 1) := dk_28 (dk_at dksX7_cost_2 17 rfl rfl)
theorem dX7_cost_66 : decode cX7_cost 66 = .ok (.iaload, 1) := dk_46 (dk_at dksX7_cost_2 18 rfl rfl)
theorem dX7_cost_67 : decode cX7_cost 67 = .ok (.aload_n 0, 1) := dk_42 (dk_at dksX7_cost_2 19 rfl rfl)
theorem dX7_cost_68 : decode cX7_cost 68 = .ok (.getfield 109, 3) := dk_180 0 109 (dk_at dksX7_cost_2 20 rfl rfl)
theorem dX7_cost_71 : decode cX7_cost 71 = .ok (.iload_n 2, 1) := dk_28 (dk_at dksX7_cost_2 23 rfl rfl)
theorem dX7_cost_72 : decode cX7_cost 72 = .ok (.iaload, 1) := dk_46 (dk_at dksX7_cost_3 0 rfl rfl)
theorem dX7_cost_73 : decode cX7_cost 73 = .ok (.isub, 1) := dk_100 (dk_at dksX7_cost_3 1 rfl rfl)
theorem dX7_cost_74 : decode cX7_cost 74 = .ok (.iconst 4, 1) := dk_7 (dk_at dksX7_cost_3 2 rfl rfl)
theorem dX7_cost_75 : decode cX7_cost 75 = .ok (.if_icmp .le 7, 3) := dk_164 0 7 (dk_at dksX7_cost_3 3 rfl rfl)
theorem dX7_cost_78 : decode cX7_cost 78 = .ok (.iconst 2, 1) := dk_5 (dk_at dksX7_cost_3 6 rfl rfl)
theorem dX7_cost_79 : decode cX7_cost 79 = .ok (.goto 4, 3) := dk_167 0 4 (dk_at dksX7_cost_3 7 rfl rfl)
theorem dX7_cost_82 : decode cX7_cost 82 = .ok (.iconst 0, 1) := dk_3 (dk_at dksX7_cost_3 10 rfl rfl)
theorem dX7_cost_83 : decode cX7_cost 83 = .ok (.isub, 1) := dk_100 (dk_at dksX7_cost_3 11 rfl rfl)
theorem dX7_cost_84 : decode cX7_cost 84 = .ok (.ireturn, 1) := dk_172 (dk_at dksX7_cost_3 12 rfl rfl)
abbrev cX7_names : ByteArray := prog_20_method_41_code
def yX7_names : MethodName := ⟨RX7, "names", "(II)V"⟩
def dkwX7_names_4 : List UInt8 := [180, 0, 103, 8, 42, 27, 28, 182, 0, 236, 79, 177]
abbrev dktX7_names_4 : List UInt8 := dkwX7_names_4 ++ []
def dkwX7_names_3 : List UInt8 := [180, 0, 103, 6, 42, 180, 0, 112, 28, 46, 79, 42, 180, 0, 103, 7, 42, 180, 0, 25, 28, 46, 79, 42]
abbrev dktX7_names_3 : List UInt8 := dkwX7_names_3 ++ dktX7_names_4
def dkwX7_names_2 : List UInt8 := [116, 167, 0, 4, 3, 79, 42, 180, 0, 103, 5, 29, 158, 0, 7, 29, 167, 0, 4, 3, 79, 42]
abbrev dktX7_names_2 : List UInt8 := dkwX7_names_2 ++ dktX7_names_3
def dkwX7_names_1 : List UInt8 := [42, 180, 0, 112, 28, 46, 42, 180, 0, 109, 28, 46, 100, 79, 42, 180, 0, 103, 4, 29, 156, 0, 8, 29]
abbrev dktX7_names_1 : List UInt8 := dkwX7_names_1 ++ dktX7_names_2
def dkwX7_names_0 : List UInt8 := [42, 180, 0, 112, 28, 46, 42, 180, 0, 16, 42, 180, 0, 25, 28, 46, 46, 100, 62, 42, 180, 0, 103, 3]
abbrev dktX7_names_0 : List UInt8 := dkwX7_names_0 ++ dktX7_names_1
theorem dksX7_names_0 : cX7_names.data.toList.drop 0 = dktX7_names_0 := by decide +kernel
theorem dksX7_names_1 : cX7_names.data.toList.drop 24 = dktX7_names_1 := dk_seg dksX7_names_0 24 rfl rfl
theorem dksX7_names_2 : cX7_names.data.toList.drop 48 = dktX7_names_2 := dk_seg dksX7_names_1 24 rfl rfl
theorem dksX7_names_3 : cX7_names.data.toList.drop 70 = dktX7_names_3 := dk_seg dksX7_names_2 22 rfl rfl
theorem dksX7_names_4 : cX7_names.data.toList.drop 94 = dktX7_names_4 := dk_seg dksX7_names_3 24 rfl rfl
theorem dX7_names_0 : decode cX7_names 0 = .ok (.aload_n 0, 1) := dk_42 (dk_at dksX7_names_0 0 rfl rfl)
theorem dX7_names_1 : decode cX7_names 1 = .ok (.getfield 112, 3) := dk_180 0 112 (dk_at dksX7_names_0 1 rfl rfl)
theorem dX7_names_4 : decode cX7_names 4 = .ok (.iload_n 2, 1) := dk_28 (dk_at dksX7_names_0 4 rfl rfl)
theorem dX7_names_5 : decode cX7_names 5 = .ok (.iaload, 1) := dk_46 (dk_at dksX7_names_0 5 rfl rfl)
theorem dX7_names_6 : decode cX7_names 6 = .ok (.aload_n 0, 1) := dk_42 (dk_at dksX7_names_0 6 rfl rfl)
theorem dX7_names_7 : decode cX7_names 7 = .ok (.getfield 16, 3) := dk_180 0 16 (dk_at dksX7_names_0 7 rfl rfl)
theorem dX7_names_10 : decode cX7_names 10 = .ok (.aload_n 0, 1) := dk_42 (dk_at dksX7_names_0 10 rfl rfl)
theorem dX7_names_11 : decode cX7_names 11 = .ok (.getfield 25, 3) := dk_180 0 25 (dk_at dksX7_names_0 11 rfl rfl)
theorem dX7_names_14 : decode cX7_names 14 = .ok (.iload_n 2, 1) := dk_28 (dk_at dksX7_names_0 14 rfl rfl)
theorem dX7_names_15 : decode cX7_names 15 = .ok (.iaload, 1) := dk_46 (dk_at dksX7_names_0 15 rfl rfl)
theorem dX7_names_16 : decode cX7_names 16 = .ok (.iaload, 1) := dk_46 (dk_at dksX7_names_0 16 rfl rfl)
theorem dX7_names_17 : decode cX7_names 17 = .ok (.isub, 1) := dk_100 (dk_at dksX7_names_0 17 rfl rfl)
theorem dX7_names_18 : decode cX7_names 18 = .ok (.istore_n 3, 1) := dk_62 (dk_at dksX7_names_0 18 rfl rfl)
theorem dX7_names_19 : decode cX7_names 19 = .ok (.aload_n 0, 1) := dk_42 (dk_at dksX7_names_0 19 rfl rfl)
theorem dX7_names_20 : decode cX7_names 20 = .ok (.getfield 103, 3) := dk_180 0 103 (dk_at dksX7_names_0 20 rfl rfl)
theorem dX7_names_23 : decode cX7_names 23 = .ok (.iconst 0, 1) := dk_3 (dk_at dksX7_names_0 23 rfl rfl)
theorem dX7_names_24 : decode cX7_names 24 = .ok (.aload_n 0, 1) := dk_42 (dk_at dksX7_names_1 0 rfl rfl)
theorem dX7_names_25 : decode cX7_names 25 = .ok (.getfield 112, 3) := dk_180 0 112 (dk_at dksX7_names_1 1 rfl rfl)
theorem dX7_names_28 : decode cX7_names 28 = .ok (.iload_n 2, 1) := dk_28 (dk_at dksX7_names_1 4 rfl rfl)
theorem dX7_names_29 : decode cX7_names 29 = .ok (.iaload, 1) := dk_46 (dk_at dksX7_names_1 5 rfl rfl)
theorem dX7_names_30 : decode cX7_names 30 = .ok (.aload_n 0, 1) := dk_42 (dk_at dksX7_names_1 6 rfl rfl)
theorem dX7_names_31 : decode cX7_names 31 = .ok (.getfield 109, 3) := dk_180 0 109 (dk_at dksX7_names_1 7 rfl rfl)
theorem dX7_names_34 : decode cX7_names 34 = .ok (.iload_n 2, 1) := dk_28 (dk_at dksX7_names_1 10 rfl rfl)
theorem dX7_names_35 : decode cX7_names 35 = .ok (.iaload, 1) := dk_46 (dk_at dksX7_names_1 11 rfl rfl)
theorem dX7_names_36 : decode cX7_names 36 = .ok (.isub, 1) := dk_100 (dk_at dksX7_names_1 12 rfl rfl)
theorem dX7_names_37 : decode cX7_names 37 = .ok (.iastore, 1) := dk_79 (dk_at dksX7_names_1 13 rfl rfl)
theorem dX7_names_38 : decode cX7_names 38 = .ok (.aload_n 0, 1) := dk_42 (dk_at dksX7_names_1 14 rfl rfl)
theorem dX7_names_39 : decode cX7_names 39 = .ok (.getfield 103, 3) := dk_180 0 103 (dk_at dksX7_names_1 15 rfl rfl)
theorem dX7_names_42 : decode cX7_names 42 = .ok (.iconst 1, 1) := dk_4 (dk_at dksX7_names_1 18 rfl rfl)
theorem dX7_names_43 : decode cX7_names 43 = .ok (.iload_n 3, 1) := dk_29 (dk_at dksX7_names_1 19 rfl rfl)
theorem dX7_names_44 : decode cX7_names 44 = .ok (.ifCond .ge 8, 3) := dk_156 0 8 (dk_at dksX7_names_1 20 rfl rfl)
theorem dX7_names_47 : decode cX7_names 47 = .ok (.iload_n 3, 1) := dk_29 (dk_at dksX7_names_1 23 rfl rfl)
theorem dX7_names_48 : decode cX7_names 48 = .ok (.ineg, 1) := dk_116 (dk_at dksX7_names_2 0 rfl rfl)
theorem dX7_names_49 : decode cX7_names 49 = .ok (.goto 4, 3) := dk_167 0 4 (dk_at dksX7_names_2 1 rfl rfl)
theorem dX7_names_52 : decode cX7_names 52 = .ok (.iconst 0, 1) := dk_3 (dk_at dksX7_names_2 4 rfl rfl)
theorem dX7_names_53 : decode cX7_names 53 = .ok (.iastore, 1) := dk_79 (dk_at dksX7_names_2 5 rfl rfl)
theorem dX7_names_54 : decode cX7_names 54 = .ok (.aload_n 0, 1) := dk_42 (dk_at dksX7_names_2 6 rfl rfl)
theorem dX7_names_55 : decode cX7_names 55 = .ok (.getfield 103, 3) := dk_180 0 103 (dk_at dksX7_names_2 7 rfl rfl)
theorem dX7_names_58 : decode cX7_names 58 = .ok (.iconst 2, 1) := dk_5 (dk_at dksX7_names_2 10 rfl rfl)
theorem dX7_names_59 : decode cX7_names 59 = .ok (.iload_n 3, 1) := dk_29 (dk_at dksX7_names_2 11 rfl rfl)
theorem dX7_names_60 : decode cX7_names 60 = .ok (.ifCond .le 7, 3) := dk_158 0 7 (dk_at dksX7_names_2 12 rfl rfl)
theorem dX7_names_63 : decode cX7_names 63 = .ok (.iload_n 3, 1) := dk_29 (dk_at dksX7_names_2 15 rfl rfl)
theorem dX7_names_64 : decode cX7_names 64 = .ok (.goto 4, 3) := dk_167 0 4 (dk_at dksX7_names_2 16 rfl rfl)
theorem dX7_names_67 : decode cX7_names 67 = .ok (.iconst 0, 1) := dk_3 (dk_at dksX7_names_2 19 rfl rfl)
theorem dX7_names_68 : decode cX7_names 68 = .ok (.iastore, 1) := dk_79 (dk_at dksX7_names_2 20 rfl rfl)
theorem dX7_names_69 : decode cX7_names 69 = .ok (.aload_n 0, 1) := dk_42 (dk_at dksX7_names_2 21 rfl rfl)
theorem dX7_names_70 : decode cX7_names 70 = .ok (.getfield 103, 3) := dk_180 0 103 (dk_at dksX7_names_3 0 rfl rfl)
theorem dX7_names_73 : decode cX7_names 73 = .ok (.iconst 3, 1) := dk_6 (dk_at dksX7_names_3 3 rfl rfl)
theorem dX7_names_74 : decode cX7_names 74 = .ok (.aload_n 0, 1) := dk_42 (dk_at dksX7_names_3 4 rfl rfl)
theorem dX7_names_75 : decode cX7_names 75 = .ok (.getfield 112, 3) := dk_180 0 112 (dk_at dksX7_names_3 5 rfl rfl)
theorem dX7_names_78 : decode cX7_names 78 = .ok (.iload_n 2, 1) := dk_28 (dk_at dksX7_names_3 8 rfl rfl)
theorem dX7_names_79 : decode cX7_names 79 = .ok (.iaload, 1) := dk_46 (dk_at dksX7_names_3 9 rfl rfl)
theorem dX7_names_80 : decode cX7_names 80 = .ok (.iastore, 1) := dk_79 (dk_at dksX7_names_3 10 rfl rfl)
theorem dX7_names_81 : decode cX7_names 81 = .ok (.aload_n 0, 1) := dk_42 (dk_at dksX7_names_3 11 rfl rfl)
theorem dX7_names_82 : decode cX7_names 82 = .ok (.getfield 103, 3) := dk_180 0 103 (dk_at dksX7_names_3 12 rfl rfl)
theorem dX7_names_85 : decode cX7_names 85 = .ok (.iconst 4, 1) := dk_7 (dk_at dksX7_names_3 15 rfl rfl)
theorem dX7_names_86 : decode cX7_names 86 = .ok (.aload_n 0, 1) := dk_42 (dk_at dksX7_names_3 16 rfl rfl)
theorem dX7_names_87 : decode cX7_names 87 = .ok (.getfield 25, 3) := dk_180 0 25 (dk_at dksX7_names_3 17 rfl rfl)
theorem dX7_names_90 : decode cX7_names 90 = .ok (.iload_n 2, 1) := dk_28 (dk_at dksX7_names_3 20 rfl rfl)
theorem dX7_names_91 : decode cX7_names 91 = .ok (.iaload, 1) := dk_46 (dk_at dksX7_names_3 21 rfl rfl)
theorem dX7_names_92 : decode cX7_names 92 = .ok (.iastore, 1) := dk_79 (dk_at dksX7_names_3 22 rfl rfl)
theorem dX7_names_93 : decode cX7_names 93 = .ok (.aload_n 0, 1) := dk_42 (dk_at dksX7_names_3 23 rfl rfl)
theorem dX7_names_94 : decode cX7_names 94 = .ok (.getfield 103, 3) := dk_180 0 103 (dk_at dksX7_names_4 0 rfl rfl)
theorem dX7_names_97 : decode cX7_names 97 = .ok (.iconst 5, 1) := dk_8 (dk_at dksX7_names_4 3 rfl rfl)
theorem dX7_names_98 : decode cX7_names 98 = .ok (.aload_n 0, 1) := dk_42 (dk_at dksX7_names_4 4 rfl rfl)
theorem dX7_names_99 : decode cX7_names 99 = .ok (.iload_n 1, 1) := dk_27 (dk_at dksX7_names_4 5 rfl rfl)
theorem dX7_names_100 : decode cX7_names 100 = .ok (.iload_n 2, 1) := dk_28 (dk_at dksX7_names_4 6 rfl rfl)
theorem dX7_names_101 : decode cX7_names 101 = .ok (.invokevirtual 236, 3) := dk_182 0 236 (dk_at dksX7_names_4 7 rfl rfl)
theorem dX7_names_104 : decode cX7_names 104 = .ok (.iastore, 1) := dk_79 (dk_at dksX7_names_4 10 rfl rfl)
theorem dX7_names_105 : decode cX7_names 105 = .ok (.return_, 1) := dk_177 (dk_at dksX7_names_4 11 rfl rfl)
abbrev cX7_paid : ByteArray := prog_20_method_39_code
def yX7_paid : MethodName := ⟨RX7, "paid", "(II)I"⟩
def dkwX7_paid_2 : List UInt8 := [167, 0, 20, 42, 180, 0, 28, 27, 46, 8, 160, 0, 9, 29, 5, 108, 167, 0, 4, 3, 172]
abbrev dktX7_paid_2 : List UInt8 := dkwX7_paid_2 ++ []
def dkwX7_paid_1 : List UInt8 := [16, 24, 108, 104, 42, 180, 0, 112, 28, 46, 96, 46, 62, 42, 180, 0, 28, 27, 46, 4, 160, 0, 7, 29]
abbrev dktX7_paid_1 : List UInt8 := dkwX7_paid_1 ++ dktX7_paid_2
def dkwX7_paid_0 : List UInt8 := [42, 180, 0, 112, 28, 46, 2, 160, 0, 5, 3, 172, 42, 180, 0, 13, 16, 24, 42, 180, 0, 106, 28, 46]
abbrev dktX7_paid_0 : List UInt8 := dkwX7_paid_0 ++ dktX7_paid_1
theorem dksX7_paid_0 : cX7_paid.data.toList.drop 0 = dktX7_paid_0 := by decide +kernel
theorem dksX7_paid_1 : cX7_paid.data.toList.drop 24 = dktX7_paid_1 := dk_seg dksX7_paid_0 24 rfl rfl
theorem dksX7_paid_2 : cX7_paid.data.toList.drop 48 = dktX7_paid_2 := dk_seg dksX7_paid_1 24 rfl rfl
theorem dX7_paid_0 : decode cX7_paid 0 = .ok (.aload_n 0, 1) := dk_42 (dk_at dksX7_paid_0 0 rfl rfl)
theorem dX7_paid_1 : decode cX7_paid 1 = .ok (.getfield 112, 3) := dk_180 0 112 (dk_at dksX7_paid_0 1 rfl rfl)
theorem dX7_paid_4 : decode cX7_paid 4 = .ok (.iload_n 2, 1) := dk_28 (dk_at dksX7_paid_0 4 rfl rfl)
theorem dX7_paid_5 : decode cX7_paid 5 = .ok (.iaload, 1) := dk_46 (dk_at dksX7_paid_0 5 rfl rfl)
theorem dX7_paid_6 : decode cX7_paid 6 = .ok (.iconst (-1), 1) := dk_2 (dk_at dksX7_paid_0 6 rfl rfl)
theorem dX7_paid_7 : decode cX7_paid 7 = .ok (.if_icmp .ne 5, 3) := dk_160 0 5 (dk_at dksX7_paid_0 7 rfl rfl)
theorem dX7_paid_10 : decode cX7_paid 10 = .ok (.iconst 0, 1) := dk_3 (dk_at dksX7_paid_0 10 rfl rfl)
theorem dX7_paid_11 : decode cX7_paid 11 = .ok (.ireturn, 1) := dk_172 (dk_at dksX7_paid_0 11 rfl rfl)
theorem dX7_paid_12 : decode cX7_paid 12 = .ok (.aload_n 0, 1) := dk_42 (dk_at dksX7_paid_0 12 rfl rfl)
theorem dX7_paid_13 : decode cX7_paid 13 = .ok (.getfield 13, 3) := dk_180 0 13 (dk_at dksX7_paid_0 13 rfl rfl)
theorem dX7_paid_16 : decode cX7_paid 16 = .ok (.bipush 24, 2) := dk_16 24 (dk_at dksX7_paid_0 16 rfl rfl)
theorem dX7_paid_18 : decode cX7_paid 18 = .ok (.aload_n 0, 1) := dk_42 (dk_at dksX7_paid_0 18 rfl rfl)
theorem dX7_paid_19 : decode cX7_paid 19 = .ok (.getfield 106, 3) := dk_180 0 106 (dk_at dksX7_paid_0 19 rfl rfl)
theorem dX7_paid_22 : decode cX7_paid 22 = .ok (.iload_n 2, 1) := dk_28 (dk_at dksX7_paid_0 22 rfl rfl)
theorem dX7_paid_23 : decode cX7_paid 23 = .ok (.iaload, 1) := dk_46 (dk_at dksX7_paid_0 23 rfl rfl)
theorem dX7_paid_24 : decode cX7_paid 24 = .ok (.bipush 24, 2) := dk_16 24 (dk_at dksX7_paid_1 0 rfl rfl)
theorem dX7_paid_26 : decode cX7_paid 26 = .ok (.idiv, 1) := dk_108 (dk_at dksX7_paid_1 2 rfl rfl)
theorem dX7_paid_27 : decode cX7_paid 27 = .ok (.imul, 1) := dk_104 (dk_at dksX7_paid_1 3 rfl rfl)
theorem dX7_paid_28 : decode cX7_paid 28 = .ok (.aload_n 0, 1) := dk_42 (dk_at dksX7_paid_1 4 rfl rfl)
theorem dX7_paid_29 : decode cX7_paid 29 = .ok (.getfield 112, 3) := dk_180 0 112 (dk_at dksX7_paid_1 5 rfl rfl)
theorem dX7_paid_32 : decode cX7_paid 32 = .ok (.iload_n 2, 1) := dk_28 (dk_at dksX7_paid_1 8 rfl rfl)
theorem dX7_paid_33 : decode cX7_paid 33 = .ok (.iaload, 1) := dk_46 (dk_at dksX7_paid_1 9 rfl rfl)
theorem dX7_paid_34 : decode cX7_paid 34 = .ok (.iadd, 1) := dk_96 (dk_at dksX7_paid_1 10 rfl rfl)
theorem dX7_paid_35 : decode cX7_paid 35 = .ok (.iaload, 1) := dk_46 (dk_at dksX7_paid_1 11 rfl rfl)
theorem dX7_paid_36 : decode cX7_paid 36 = .ok (.istore_n 3, 1) := dk_62 (dk_at dksX7_paid_1 12 rfl rfl)
theorem dX7_paid_37 : decode cX7_paid 37 = .ok (.aload_n 0, 1) := dk_42 (dk_at dksX7_paid_1 13 rfl rfl)
theorem dX7_paid_38 : decode cX7_paid 38 = .ok (.getfield 28, 3) := dk_180 0 28 (dk_at dksX7_paid_1 14 rfl rfl)
theorem dX7_paid_41 : decode cX7_paid 41 = .ok (.iload_n 1, 1) := dk_27 (dk_at dksX7_paid_1 17 rfl rfl)
theorem dX7_paid_42 : decode cX7_paid 42 = .ok (.iaload, 1) := dk_46 (dk_at dksX7_paid_1 18 rfl rfl)
theorem dX7_paid_43 : decode cX7_paid 43 = .ok (.iconst 1, 1) := dk_4 (dk_at dksX7_paid_1 19 rfl rfl)
theorem dX7_paid_44 : decode cX7_paid 44 = .ok (.if_icmp .ne 7, 3) := dk_160 0 7 (dk_at dksX7_paid_1 20 rfl rfl)
theorem dX7_paid_47 : decode cX7_paid 47 = .ok (.iload_n 3, 1) := dk_29 (dk_at dksX7_paid_1 23 rfl rfl)
theorem dX7_paid_48 : decode cX7_paid 48 = .ok (.goto 20, 3) := dk_167 0 20 (dk_at dksX7_paid_2 0 rfl rfl)
theorem dX7_paid_51 : decode cX7_paid 51 = .ok (.aload_n 0, 1) := dk_42 (dk_at dksX7_paid_2 3 rfl rfl)
theorem dX7_paid_52 : decode cX7_paid 52 = .ok (.getfield 28, 3) := dk_180 0 28 (dk_at dksX7_paid_2 4 rfl rfl)
theorem dX7_paid_55 : decode cX7_paid 55 = .ok (.iload_n 1, 1) := dk_27 (dk_at dksX7_paid_2 7 rfl rfl)
theorem dX7_paid_56 : decode cX7_paid 56 = .ok (.iaload, 1) := dk_46 (dk_at dksX7_paid_2 8 rfl rfl)
theorem dX7_paid_57 : decode cX7_paid 57 = .ok (.iconst 5, 1) := dk_8 (dk_at dksX7_paid_2 9 rfl rfl)
theorem dX7_paid_58 : decode cX7_paid 58 = .ok (.if_icmp .ne 9, 3) := dk_160 0 9 (dk_at dksX7_paid_2 10 rfl rfl)
theorem dX7_paid_61 : decode cX7_paid 61 = .ok (.iload_n 3, 1) := dk_29 (dk_at dksX7_paid_2 13 rfl rfl)
theorem dX7_paid_62 : decode cX7_paid 62 = .ok (.iconst 2, 1) := dk_5 (dk_at dksX7_paid_2 14 rfl rfl)
theorem dX7_paid_63 : decode cX7_paid 63 = .ok (.idiv, 1) := dk_108 (dk_at dksX7_paid_2 15 rfl rfl)
theorem dX7_paid_64 : decode cX7_paid 64 = .ok (.goto 4, 3) := dk_167 0 4 (dk_at dksX7_paid_2 16 rfl rfl)
theorem dX7_paid_67 : decode cX7_paid 67 = .ok (.iconst 0, 1) := dk_3 (dk_at dksX7_paid_2 19 rfl rfl)
theorem dX7_paid_68 : decode cX7_paid 68 = .ok (.ireturn, 1) := dk_172 (dk_at dksX7_paid_2 20 rfl rfl)
abbrev cX7_worth : ByteArray := prog_20_method_27_code
def yX7_worth : MethodName := ⟨RX7, "worth", "(I)I"⟩
def dkwX7_worth_8 : List UInt8 := [184, 0, 210, 79, 132, 3, 1, 167, 255, 78, 42, 180, 0, 100, 3, 46, 172]
abbrev dktX7_worth_8 : List UInt8 := dkwX7_worth_8 ++ []
def dkwX7_worth_7 : List UInt8 := [180, 0, 100, 28, 4, 100, 21, 4, 42, 180, 0, 100, 28, 4, 100, 46, 42, 180, 0, 100, 28, 46]
abbrev dktX7_worth_7 : List UInt8 := dkwX7_worth_7 ++ dktX7_worth_8
def dkwX7_worth_6 : List UInt8 := [180, 0, 100, 28, 4, 100, 42, 180, 0, 100, 28, 4, 100, 46, 116, 79, 167, 0, 33, 132, 2, 255, 42]
abbrev dktX7_worth_6 : List UInt8 := dkwX7_worth_6 ++ dktX7_worth_7
def dkwX7_worth_5 : List UInt8 := [28, 4, 100, 46, 154, 0, 7, 4, 167, 0, 4, 3, 79, 167, 0, 60, 21, 4, 16, 19, 160, 0, 23, 42]
abbrev dktX7_worth_5 : List UInt8 := dkwX7_worth_5 ++ dktX7_worth_6
def dkwX7_worth_4 : List UInt8 := [132, 2, 1, 167, 0, 94, 21, 4, 16, 13, 160, 0, 30, 42, 180, 0, 100, 28, 4, 100, 42, 180, 0, 100]
abbrev dktX7_worth_4 : List UInt8 := dkwX7_worth_4 ++ dktX7_worth_5
def dkwX7_worth_3 : List UInt8 := [21, 4, 16, 11, 162, 0, 13, 42, 180, 0, 103, 21, 4, 46, 167, 0, 8, 21, 4, 18, 192, 100, 79]
abbrev dktX7_worth_3 : List UInt8 := dkwX7_worth_3 ++ dktX7_worth_4
def dkwX7_worth_2 : List UInt8 := [29, 96, 46, 54, 4, 21, 4, 18, 192, 162, 0, 10, 21, 4, 16, 11, 162, 0, 37, 42, 180, 0, 100, 28]
abbrev dktX7_worth_2 : List UInt8 := dkwX7_worth_2 ++ dktX7_worth_3
def dkwX7_worth_1 : List UInt8 := [180, 0, 207, 104, 27, 96, 4, 96, 46, 162, 0, 165, 42, 180, 0, 40, 17, 0, 200, 42, 180, 0, 207, 104]
abbrev dktX7_worth_1 : List UInt8 := dkwX7_worth_1 ++ dktX7_worth_2
def dkwX7_worth_0 : List UInt8 := [3, 61, 42, 180, 0, 43, 7, 42, 180, 0, 207, 104, 27, 96, 46, 62, 29, 42, 180, 0, 43, 7, 42]
abbrev dktX7_worth_0 : List UInt8 := dkwX7_worth_0 ++ dktX7_worth_1
theorem dksX7_worth_0 : cX7_worth.data.toList.drop 0 = dktX7_worth_0 := by decide +kernel
theorem dksX7_worth_1 : cX7_worth.data.toList.drop 23 = dktX7_worth_1 := dk_seg dksX7_worth_0 23 rfl rfl
theorem dksX7_worth_2 : cX7_worth.data.toList.drop 47 = dktX7_worth_2 := dk_seg dksX7_worth_1 24 rfl rfl
theorem dksX7_worth_3 : cX7_worth.data.toList.drop 71 = dktX7_worth_3 := dk_seg dksX7_worth_2 24 rfl rfl
theorem dksX7_worth_4 : cX7_worth.data.toList.drop 94 = dktX7_worth_4 := dk_seg dksX7_worth_3 23 rfl rfl
theorem dksX7_worth_5 : cX7_worth.data.toList.drop 118 = dktX7_worth_5 := dk_seg dksX7_worth_4 24 rfl rfl
theorem dksX7_worth_6 : cX7_worth.data.toList.drop 142 = dktX7_worth_6 := dk_seg dksX7_worth_5 24 rfl rfl
theorem dksX7_worth_7 : cX7_worth.data.toList.drop 165 = dktX7_worth_7 := dk_seg dksX7_worth_6 23 rfl rfl
theorem dksX7_worth_8 : cX7_worth.data.toList.drop 187 = dktX7_worth_8 := dk_seg dksX7_worth_7 22 rfl rfl
theorem dX7_worth_0 : decode cX7_worth 0 = .ok (.iconst 0, 1) := dk_3 (dk_at dksX7_worth_0 0 rfl rfl)
theorem dX7_worth_1 : decode cX7_worth 1 = .ok (.istore_n 2, 1) := dk_61 (dk_at dksX7_worth_0 1 rfl rfl)
theorem dX7_worth_2 : decode cX7_worth 2 = .ok (.aload_n 0, 1) := dk_42 (dk_at dksX7_worth_0 2 rfl rfl)
theorem dX7_worth_3 : decode cX7_worth 3 = .ok (.getfield 43, 3) := dk_180 0 43 (dk_at dksX7_worth_0 3 rfl rfl)
theorem dX7_worth_6 : decode cX7_worth 6 = .ok (.iconst 4, 1) := dk_7 (dk_at dksX7_worth_0 6 rfl rfl)
theorem dX7_worth_7 : decode cX7_worth 7 = .ok (.aload_n 0, 1) := dk_42 (dk_at dksX7_worth_0 7 rfl rfl)
theorem dX7_worth_8 : decode cX7_worth 8 = .ok (.getfield 207, 3) := dk_180 0 207 (dk_at dksX7_worth_0 8 rfl rfl)
theorem dX7_worth_11 : decode cX7_worth 11 = .ok (.imul, 1) := dk_104 (dk_at dksX7_worth_0 11 rfl rfl)
theorem dX7_worth_12 : decode cX7_worth 12 = .ok (.iload_n 1, 1) := dk_27 (dk_at dksX7_worth_0 12 rfl rfl)
theorem dX7_worth_13 : decode cX7_worth 13 = .ok (.iadd, 1) := dk_96 (dk_at dksX7_worth_0 13 rfl rfl)
theorem dX7_worth_14 : decode cX7_worth 14 = .ok (.iaload, 1) := dk_46 (dk_at dksX7_worth_0 14 rfl rfl)
theorem dX7_worth_15 : decode cX7_worth 15 = .ok (.istore_n 3, 1) := dk_62 (dk_at dksX7_worth_0 15 rfl rfl)
theorem dX7_worth_16 : decode cX7_worth 16 = .ok (.iload_n 3, 1) := dk_29 (dk_at dksX7_worth_0 16 rfl rfl)
theorem dX7_worth_17 : decode cX7_worth 17 = .ok (.aload_n 0, 1) := dk_42 (dk_at dksX7_worth_0 17 rfl rfl)
theorem dX7_worth_18 : decode cX7_worth 18 = .ok (.getfield 43, 3) := dk_180 0 43 (dk_at dksX7_worth_0 18 rfl rfl)
theorem dX7_worth_21 : decode cX7_worth 21 = .ok (.iconst 4, 1) := dk_7 (dk_at dksX7_worth_0 21 rfl rfl)
theorem dX7_worth_22 : decode cX7_worth 22 = .ok (.aload_n 0, 1) := dk_42 (dk_at dksX7_worth_0 22 rfl rfl)
theorem dX7_worth_23 : decode cX7_worth 23 = .ok (.getfield 207, 3) := dk_180 0 207 (dk_at dksX7_worth_1 0 rfl rfl)
theorem dX7_worth_26 : decode cX7_worth 26 = .ok (.imul, 1) := dk_104 (dk_at dksX7_worth_1 3 rfl rfl)
theorem dX7_worth_27 : decode cX7_worth 27 = .ok (.iload_n 1, 1) := dk_27 (dk_at dksX7_worth_1 4 rfl rfl)
theorem dX7_worth_28 : decode cX7_worth 28 = .ok (.iadd, 1) := dk_96 (dk_at dksX7_worth_1 5 rfl rfl)
theorem dX7_worth_29 : decode cX7_worth 29 = .ok (.iconst 1, 1) := dk_4 (dk_at dksX7_worth_1 6 rfl rfl)
theorem dX7_worth_30 : decode cX7_worth 30 = .ok (.iadd, 1) := dk_96 (dk_at dksX7_worth_1 7 rfl rfl)
theorem dX7_worth_31 : decode cX7_worth 31 = .ok (.iaload, 1) := dk_46 (dk_at dksX7_worth_1 8 rfl rfl)
theorem dX7_worth_32 : decode cX7_worth 32 = .ok (.if_icmp .ge 165, 3) := dk_162 0 165 (dk_at dksX7_worth_1 9 rfl rfl)
theorem dX7_worth_35 : decode cX7_worth 35 = .ok (.aload_n 0, 1) := dk_42 (dk_at dksX7_worth_1 12 rfl rfl)
theorem dX7_worth_36 : decode cX7_worth 36 = .ok (.getfield 40, 3) := dk_180 0 40 (dk_at dksX7_worth_1 13 rfl rfl)
theorem dX7_worth_39 : decode cX7_worth 39 = .ok (.sipush 200, 3) := dk_17 0 200 (dk_at dksX7_worth_1 16 rfl rfl)
theorem dX7_worth_42 : decode cX7_worth 42 = .ok (.aload_n 0, 1) := dk_42 (dk_at dksX7_worth_1 19 rfl rfl)
theorem dX7_worth_43 : decode cX7_worth 43 = .ok (.getfield 207, 3) := dk_180 0 207 (dk_at dksX7_worth_1 20 rfl rfl)
theorem dX7_worth_46 : decode cX7_worth 46 = .ok (.imul, 1) := dk_104 (dk_at dksX7_worth_1 23 rfl rfl)
theorem dX7_worth_47 : decode cX7_worth 47 = .ok (.iload_n 3, 1) := dk_29 (dk_at dksX7_worth_2 0 rfl rfl)
theorem dX7_worth_48 : decode cX7_worth 48 = .ok (.iadd, 1) := dk_96 (dk_at dksX7_worth_2 1 rfl rfl)
theorem dX7_worth_49 : decode cX7_worth 49 = .ok (.iaload, 1) := dk_46 (dk_at dksX7_worth_2 2 rfl rfl)
theorem dX7_worth_50 : decode cX7_worth 50 = .ok (.istore 4, 2) := dk_54 4 (dk_at dksX7_worth_2 3 rfl rfl)
theorem dX7_worth_52 : decode cX7_worth 52 = .ok (.iload 4, 2) := dk_21 4 (dk_at dksX7_worth_2 5 rfl rfl)
theorem dX7_worth_54 : decode cX7_worth 54 = .ok (.ldc 192, 2) := dk_18 192 (dk_at dksX7_worth_2 7 rfl rfl)
theorem dX7_worth_56 : decode cX7_worth 56 = .ok (.if_icmp .ge 10, 3) := dk_162 0 10 (dk_at dksX7_worth_2 9 rfl rfl)
theorem dX7_worth_59 : decode cX7_worth 59 = .ok (.iload 4, 2) := dk_21 4 (dk_at dksX7_worth_2 12 rfl rfl)
theorem dX7_worth_61 : decode cX7_worth 61 = .ok (.bipush 11, 2) := dk_16 11 (dk_at dksX7_worth_2 14 rfl rfl)
theorem dX7_worth_63 : decode cX7_worth 63 = .ok (.if_icmp .ge 37, 3) := dk_162 0 37 (dk_at dksX7_worth_2 16 rfl rfl)
theorem dX7_worth_66 : decode cX7_worth 66 = .ok (.aload_n 0, 1) := dk_42 (dk_at dksX7_worth_2 19 rfl rfl)
theorem dX7_worth_67 : decode cX7_worth 67 = .ok (.getfield 100, 3) := dk_180 0 100 (dk_at dksX7_worth_2 20 rfl rfl)
theorem dX7_worth_70 : decode cX7_worth 70 = .ok (.iload_n 2, 1) := dk_28 (dk_at dksX7_worth_2 23 rfl rfl)
theorem dX7_worth_71 : decode cX7_worth 71 = .ok (.iload 4, 2) := dk_21 4 (dk_at dksX7_worth_3 0 rfl rfl)
theorem dX7_worth_73 : decode cX7_worth 73 = .ok (.bipush 11, 2) := dk_16 11 (dk_at dksX7_worth_3 2 rfl rfl)
theorem dX7_worth_75 : decode cX7_worth 75 = .ok (.if_icmp .ge 13, 3) := dk_162 0 13 (dk_at dksX7_worth_3 4 rfl rfl)
theorem dX7_worth_78 : decode cX7_worth 78 = .ok (.aload_n 0, 1) := dk_42 (dk_at dksX7_worth_3 7 rfl rfl)
theorem dX7_worth_79 : decode cX7_worth 79 = .ok (.getfield 103, 3) := dk_180 0 103 (dk_at dksX7_worth_3 8 rfl rfl)
theorem dX7_worth_82 : decode cX7_worth 82 = .ok (.iload 4, 2) := dk_21 4 (dk_at dksX7_worth_3 11 rfl rfl)
theorem dX7_worth_84 : decode cX7_worth 84 = .ok (.iaload, 1) := dk_46 (dk_at dksX7_worth_3 13 rfl rfl)
theorem dX7_worth_85 : decode cX7_worth 85 = .ok (.goto 8, 3) := dk_167 0 8 (dk_at dksX7_worth_3 14 rfl rfl)
theorem dX7_worth_88 : decode cX7_worth 88 = .ok (.iload 4, 2) := dk_21 4 (dk_at dksX7_worth_3 17 rfl rfl)
theorem dX7_worth_90 : decode cX7_worth 90 = .ok (.ldc 192, 2) := dk_18 192 (dk_at dksX7_worth_3 19 rfl rfl)
theorem dX7_worth_92 : decode cX7_worth 92 = .ok (.isub, 1) := dk_100 (dk_at dksX7_worth_3 21 rfl rfl)
theorem dX7_worth_93 : decode cX7_worth 93 = .ok (.iastore, 1) := dk_79 (dk_at dksX7_worth_3 22 rfl rfl)
theorem dX7_worth_94 : decode cX7_worth 94 = .ok (.iinc 2 1, 3) := dk_132 2 1 (dk_at dksX7_worth_4 0 rfl rfl)
theorem dX7_worth_97 : decode cX7_worth 97 = .ok (.goto 94, 3) := dk_167 0 94 (dk_at dksX7_worth_4 3 rfl rfl)
theorem dX7_worth_100 : decode cX7_worth 100 = .ok (.iload 4, 2) := dk_21 4 (dk_at dksX7_worth_4 6 rfl rfl)
theorem dX7_worth_102 : decode cX7_worth 102 = .ok (.bipush 13, 2) := dk_16 13 (dk_at dksX7_worth_4 8 rfl rfl)
theorem dX7_worth_104 : decode cX7_worth 104 = .ok (.if_icmp .ne 30, 3) := dk_160 0 30 (dk_at dksX7_worth_4 10 rfl rfl)
theorem dX7_worth_107 : decode cX7_worth 107 = .ok (.aload_n 0, 1) := dk_42 (dk_at dksX7_worth_4 13 rfl rfl)
theorem dX7_worth_108 : decode cX7_worth 108 = .ok (.getfield 100, 3) := dk_180 0 100 (dk_at dksX7_worth_4 14 rfl rfl)
theorem dX7_worth_111 : decode cX7_worth 111 = .ok (.iload_n 2, 1) := dk_28 (dk_at dksX7_worth_4 17 rfl rfl)
theorem dX7_worth_112 : decode cX7_worth 112 = .ok (.iconst 1, 1) := dk_4 (dk_at dksX7_worth_4 18 rfl rfl)
theorem dX7_worth_113 : decode cX7_worth 113 = .ok (.isub, 1) := dk_100 (dk_at dksX7_worth_4 19 rfl rfl)
theorem dX7_worth_114 : decode cX7_worth 114 = .ok (.aload_n 0, 1) := dk_42 (dk_at dksX7_worth_4 20 rfl rfl)
theorem dX7_worth_115 : decode cX7_worth 115 = .ok (.getfield 100, 3) := dk_180 0 100 (dk_at dksX7_worth_4 21 rfl rfl)
theorem dX7_worth_118 : decode cX7_worth 118 = .ok (.iload_n 2, 1) := dk_28 (dk_at dksX7_worth_5 0 rfl rfl)
theorem dX7_worth_119 : decode cX7_worth 119 = .ok (.iconst 1, 1) := dk_4 (dk_at dksX7_worth_5 1 rfl rfl)
theorem dX7_worth_120 : decode cX7_worth 120 = .ok (.isub, 1) := dk_100 (dk_at dksX7_worth_5 2 rfl rfl)
theorem dX7_worth_121 : decode cX7_worth 121 = .ok (.iaload, 1) := dk_46 (dk_at dksX7_worth_5 3 rfl rfl)
theorem dX7_worth_122 : decode cX7_worth 122 = .ok (.ifCond .ne 7, 3) := dk_154 0 7 (dk_at dksX7_worth_5 4 rfl rfl)
theorem dX7_worth_125 : decode cX7_worth 125 = .ok (.iconst 1, 1) := dk_4 (dk_at dksX7_worth_5 7 rfl rfl)
theorem dX7_worth_126 : decode cX7_worth 126 = .ok (.goto 4, 3) := dk_167 0 4 (dk_at dksX7_worth_5 8 rfl rfl)
theorem dX7_worth_129 : decode cX7_worth 129 = .ok (.iconst 0, 1) := dk_3 (dk_at dksX7_worth_5 11 rfl rfl)
theorem dX7_worth_130 : decode cX7_worth 130 = .ok (.iastore, 1) := dk_79 (dk_at dksX7_worth_5 12 rfl rfl)
theorem dX7_worth_131 : decode cX7_worth 131 = .ok (.goto 60, 3) := dk_167 0 60 (dk_at dksX7_worth_5 13 rfl rfl)
theorem dX7_worth_134 : decode cX7_worth 134 = .ok (.iload 4, 2) := dk_21 4 (dk_at dksX7_worth_5 16 rfl rfl)
theorem dX7_worth_136 : decode cX7_worth 136 = .ok (.bipush 19, 2) := dk_16 19 (dk_at dksX7_worth_5 18 rfl rfl)
theorem dX7_worth_138 : decode cX7_worth 138 = .ok (.if_icmp .ne 23, 3) := dk_160 0 23 (dk_at dksX7_worth_5 20 rfl rfl)
theorem dX7_worth_141 : decode cX7_worth 141 = .ok (.aload_n 0, 1) := dk_42 (dk_at dksX7_worth_5 23 rfl rfl)
theorem dX7_worth_142 : decode cX7_worth 142 = .ok (.getfield 100, 3) := dk_180 0 100 (dk_at dksX7_worth_6 0 rfl rfl)
theorem dX7_worth_145 : decode cX7_worth 145 = .ok (.iload_n 2, 1) := dk_28 (dk_at dksX7_worth_6 3 rfl rfl)
theorem dX7_worth_146 : decode cX7_worth 146 = .ok (.iconst 1, 1) := dk_4 (dk_at dksX7_worth_6 4 rfl rfl)
theorem dX7_worth_147 : decode cX7_worth 147 = .ok (.isub, 1) := dk_100 (dk_at dksX7_worth_6 5 rfl rfl)
theorem dX7_worth_148 : decode cX7_worth 148 = .ok (.aload_n 0, 1) := dk_42 (dk_at dksX7_worth_6 6 rfl rfl)
theorem dX7_worth_149 : decode cX7_worth 149 = .ok (.getfield 100, 3) := dk_180 0 100 (dk_at dksX7_worth_6 7 rfl rfl)
theorem dX7_worth_152 : decode cX7_worth 152 = .ok (.iload_n 2, 1) := dk_28 (dk_at dksX7_worth_6 10 rfl rfl)
theorem dX7_worth_153 : decode cX7_worth 153 = .ok (.iconst 1, 1) := dk_4 (dk_at dksX7_worth_6 11 rfl rfl)
theorem dX7_worth_154 : decode cX7_worth 154 = .ok (.isub, 1) := dk_100 (dk_at dksX7_worth_6 12 rfl rfl)
theorem dX7_worth_155 : decode cX7_worth 155 = .ok (.iaload, 1) := dk_46 (dk_at dksX7_worth_6 13 rfl rfl)
theorem dX7_worth_156 : decode cX7_worth 156 = .ok (.ineg, 1) := dk_116 (dk_at dksX7_worth_6 14 rfl rfl)
theorem dX7_worth_157 : decode cX7_worth 157 = .ok (.iastore, 1) := dk_79 (dk_at dksX7_worth_6 15 rfl rfl)
theorem dX7_worth_158 : decode cX7_worth 158 = .ok (.goto 33, 3) := dk_167 0 33 (dk_at dksX7_worth_6 16 rfl rfl)
theorem dX7_worth_161 : decode cX7_worth 161 = .ok (.iinc 2 (-1), 3) := dk_132 2 255 (dk_at dksX7_worth_6 19 rfl rfl)
theorem dX7_worth_164 : decode cX7_worth 164 = .ok (.aload_n 0, 1) := dk_42 (dk_at dksX7_worth_6 22 rfl rfl)
theorem dX7_worth_165 : decode cX7_worth 165 = .ok (.getfield 100, 3) := dk_180 0 100 (dk_at dksX7_worth_7 0 rfl rfl)
theorem dX7_worth_168 : decode cX7_worth 168 = .ok (.iload_n 2, 1) := dk_28 (dk_at dksX7_worth_7 3 rfl rfl)
theorem dX7_worth_169 : decode cX7_worth 169 = .ok (.iconst 1, 1) := dk_4 (dk_at dksX7_worth_7 4 rfl rfl)
theorem dX7_worth_170 : decode cX7_worth 170 = .ok (.isub, 1) := dk_100 (dk_at dksX7_worth_7 5 rfl rfl)
theorem dX7_worth_171 : decode cX7_worth 171 = .ok (.iload 4, 2) := dk_21 4 (dk_at dksX7_worth_7 6 rfl rfl)
theorem dX7_worth_173 : decode cX7_worth 173 = .ok (.aload_n 0, 1) := dk_42 (dk_at dksX7_worth_7 8 rfl rfl)
theorem dX7_worth_174 : decode cX7_worth 174 = .ok (.getfield 100, 3) := dk_180 0 100 (dk_at dksX7_worth_7 9 rfl rfl)
theorem dX7_worth_177 : decode cX7_worth 177 = .ok (.iload_n 2, 1) := dk_28 (dk_at dksX7_worth_7 12 rfl rfl)
theorem dX7_worth_178 : decode cX7_worth 178 = .ok (.iconst 1, 1) := dk_4 (dk_at dksX7_worth_7 13 rfl rfl)
theorem dX7_worth_179 : decode cX7_worth 179 = .ok (.isub, 1) := dk_100 (dk_at dksX7_worth_7 14 rfl rfl)
theorem dX7_worth_180 : decode cX7_worth 180 = .ok (.iaload, 1) := dk_46 (dk_at dksX7_worth_7 15 rfl rfl)
theorem dX7_worth_181 : decode cX7_worth 181 = .ok (.aload_n 0, 1) := dk_42 (dk_at dksX7_worth_7 16 rfl rfl)
theorem dX7_worth_182 : decode cX7_worth 182 = .ok (.getfield 100, 3) := dk_180 0 100 (dk_at dksX7_worth_7 17 rfl rfl)
theorem dX7_worth_185 : decode cX7_worth 185 = .ok (.iload_n 2, 1) := dk_28 (dk_at dksX7_worth_7 20 rfl rfl)
theorem dX7_worth_186 : decode cX7_worth 186 = .ok (.iaload, 1) := dk_46 (dk_at dksX7_worth_7 21 rfl rfl)
theorem dX7_worth_187 : decode cX7_worth 187 = .ok (.invokestatic 210, 3) := dk_184 0 210 (dk_at dksX7_worth_8 0 rfl rfl)
theorem dX7_worth_190 : decode cX7_worth 190 = .ok (.iastore, 1) := dk_79 (dk_at dksX7_worth_8 3 rfl rfl)
theorem dX7_worth_191 : decode cX7_worth 191 = .ok (.iinc 3 1, 3) := dk_132 3 1 (dk_at dksX7_worth_8 4 rfl rfl)
theorem dX7_worth_194 : decode cX7_worth 194 = .ok (.goto (-178), 3) := dk_167 255 78 (dk_at dksX7_worth_8 7 rfl rfl)
theorem dX7_worth_197 : decode cX7_worth 197 = .ok (.aload_n 0, 1) := dk_42 (dk_at dksX7_worth_8 10 rfl rfl)
theorem dX7_worth_198 : decode cX7_worth 198 = .ok (.getfield 100, 3) := dk_180 0 100 (dk_at dksX7_worth_8 11 rfl rfl)
theorem dX7_worth_201 : decode cX7_worth 201 = .ok (.iconst 0, 1) := dk_3 (dk_at dksX7_worth_8 14 rfl rfl)
theorem dX7_worth_202 : decode cX7_worth 202 = .ok (.iaload, 1) := dk_46 (dk_at dksX7_worth_8 15 rfl rfl)
theorem dX7_worth_203 : decode cX7_worth 203 = .ok (.ireturn, 1) := dk_172 (dk_at dksX7_worth_8 16 rfl rfl)
abbrev cX7_two : ByteArray := prog_20_method_26_code
def yX7_two : MethodName := ⟨RX7, "two", "(III)I"⟩
def dkwX7_two_4 : List UInt8 := [167, 0, 4, 3, 172, 27, 28, 96, 172, 27, 28, 100, 172, 27, 28, 104, 172]
abbrev dktX7_two_4 : List UInt8 := dkwX7_two_4 ++ []
def dkwX7_two_3 : List UInt8 := [167, 0, 4, 3, 172, 27, 28, 162, 0, 7, 4, 167, 0, 4, 3, 172, 27, 28, 160, 0, 7, 4]
abbrev dktX7_two_3 : List UInt8 := dkwX7_two_3 ++ dktX7_two_4
def dkwX7_two_2 : List UInt8 := [27, 154, 0, 7, 28, 153, 0, 7, 4, 167, 0, 4, 3, 172, 27, 153, 0, 11, 28, 153, 0, 7, 4]
abbrev dktX7_two_2 : List UInt8 := dkwX7_two_2 ++ dktX7_two_3
def dkwX7_two_1 : List UInt8 := [170, 0, 0, 0, 0, 0, 101, 0, 0, 0, 11, 0, 0, 0, 17, 0, 0, 0, 43, 0, 0, 0, 57, 0, 0, 0, 101, 0, 0, 0, 71, 0, 0, 0, 82, 0, 0, 0, 93, 0, 0, 0, 97]
abbrev dktX7_two_1 : List UInt8 := dkwX7_two_1 ++ dktX7_two_2
def dkwX7_two_0 : List UInt8 := [26]
abbrev dktX7_two_0 : List UInt8 := dkwX7_two_0 ++ dktX7_two_1
theorem dksX7_two_0 : cX7_two.data.toList.drop 0 = dktX7_two_0 := by decide +kernel
theorem dksX7_two_1 : cX7_two.data.toList.drop 1 = dktX7_two_1 := dk_seg dksX7_two_0 1 rfl rfl
theorem dksX7_two_2 : cX7_two.data.toList.drop 44 = dktX7_two_2 := dk_seg dksX7_two_1 43 rfl rfl
theorem dksX7_two_3 : cX7_two.data.toList.drop 67 = dktX7_two_3 := dk_seg dksX7_two_2 23 rfl rfl
theorem dksX7_two_4 : cX7_two.data.toList.drop 89 = dktX7_two_4 := dk_seg dksX7_two_3 22 rfl rfl
theorem dX7_two_0 : decode cX7_two 0 = .ok (.iload_n 0, 1) := dk_26 (dk_at dksX7_two_0 0 rfl rfl)
theorem dX7_two_1 : decode cX7_two 1 = .ok (.tableswitch 101 11 17 #[43, 57, 101, 71, 82, 93, 97], 43) := by decide +kernel
theorem dX7_two_44 : decode cX7_two 44 = .ok (.iload_n 1, 1) := dk_27 (dk_at dksX7_two_2 0 rfl rfl)
theorem dX7_two_45 : decode cX7_two 45 = .ok (.ifCond .ne 7, 3) := dk_154 0 7 (dk_at dksX7_two_2 1 rfl rfl)
theorem dX7_two_48 : decode cX7_two 48 = .ok (.iload_n 2, 1) := dk_28 (dk_at dksX7_two_2 4 rfl rfl)
theorem dX7_two_49 : decode cX7_two 49 = .ok (.ifCond .eq 7, 3) := dk_153 0 7 (dk_at dksX7_two_2 5 rfl rfl)
theorem dX7_two_52 : decode cX7_two 52 = .ok (.iconst 1, 1) := dk_4 (dk_at dksX7_two_2 8 rfl rfl)
theorem dX7_two_53 : decode cX7_two 53 = .ok (.goto 4, 3) := dk_167 0 4 (dk_at dksX7_two_2 9 rfl rfl)
theorem dX7_two_56 : decode cX7_two 56 = .ok (.iconst 0, 1) := dk_3 (dk_at dksX7_two_2 12 rfl rfl)
theorem dX7_two_57 : decode cX7_two 57 = .ok (.ireturn, 1) := dk_172 (dk_at dksX7_two_2 13 rfl rfl)
theorem dX7_two_58 : decode cX7_two 58 = .ok (.iload_n 1, 1) := dk_27 (dk_at dksX7_two_2 14 rfl rfl)
theorem dX7_two_59 : decode cX7_two 59 = .ok (.ifCond .eq 11, 3) := dk_153 0 11 (dk_at dksX7_two_2 15 rfl rfl)
theorem dX7_two_62 : decode cX7_two 62 = .ok (.iload_n 2, 1) := dk_28 (dk_at dksX7_two_2 18 rfl rfl)
theorem dX7_two_63 : decode cX7_two 63 = .ok (.ifCond .eq 7, 3) := dk_153 0 7 (dk_at dksX7_two_2 19 rfl rfl)
theorem dX7_two_66 : decode cX7_two 66 = .ok (.iconst 1, 1) := dk_4 (dk_at dksX7_two_2 22 rfl rfl)
theorem dX7_two_67 : decode cX7_two 67 = .ok (.goto 4, 3) := dk_167 0 4 (dk_at dksX7_two_3 0 rfl rfl)
theorem dX7_two_70 : decode cX7_two 70 = .ok (.iconst 0, 1) := dk_3 (dk_at dksX7_two_3 3 rfl rfl)
theorem dX7_two_71 : decode cX7_two 71 = .ok (.ireturn, 1) := dk_172 (dk_at dksX7_two_3 4 rfl rfl)
theorem dX7_two_72 : decode cX7_two 72 = .ok (.iload_n 1, 1) := dk_27 (dk_at dksX7_two_3 5 rfl rfl)
theorem dX7_two_73 : decode cX7_two 73 = .ok (.iload_n 2, 1) := dk_28 (dk_at dksX7_two_3 6 rfl rfl)
theorem dX7_two_74 : decode cX7_two 74 = .ok (.if_icmp .ge 7, 3) := dk_162 0 7 (dk_at dksX7_two_3 7 rfl rfl)
theorem dX7_two_77 : decode cX7_two 77 = .ok (.iconst 1, 1) := dk_4 (dk_at dksX7_two_3 10 rfl rfl)
theorem dX7_two_78 : decode cX7_two 78 = .ok (.goto 4, 3) := dk_167 0 4 (dk_at dksX7_two_3 11 rfl rfl)
theorem dX7_two_81 : decode cX7_two 81 = .ok (.iconst 0, 1) := dk_3 (dk_at dksX7_two_3 14 rfl rfl)
theorem dX7_two_82 : decode cX7_two 82 = .ok (.ireturn, 1) := dk_172 (dk_at dksX7_two_3 15 rfl rfl)
theorem dX7_two_83 : decode cX7_two 83 = .ok (.iload_n 1, 1) := dk_27 (dk_at dksX7_two_3 16 rfl rfl)
theorem dX7_two_84 : decode cX7_two 84 = .ok (.iload_n 2, 1) := dk_28 (dk_at dksX7_two_3 17 rfl rfl)
theorem dX7_two_85 : decode cX7_two 85 = .ok (.if_icmp .ne 7, 3) := dk_160 0 7 (dk_at dksX7_two_3 18 rfl rfl)
theorem dX7_two_88 : decode cX7_two 88 = .ok (.iconst 1, 1) := dk_4 (dk_at dksX7_two_3 21 rfl rfl)
theorem dX7_two_89 : decode cX7_two 89 = .ok (.goto 4, 3) := dk_167 0 4 (dk_at dksX7_two_4 0 rfl rfl)
theorem dX7_two_92 : decode cX7_two 92 = .ok (.iconst 0, 1) := dk_3 (dk_at dksX7_two_4 3 rfl rfl)
theorem dX7_two_93 : decode cX7_two 93 = .ok (.ireturn, 1) := dk_172 (dk_at dksX7_two_4 4 rfl rfl)
theorem dX7_two_94 : decode cX7_two 94 = .ok (.iload_n 1, 1) := dk_27 (dk_at dksX7_two_4 5 rfl rfl)
theorem dX7_two_95 : decode cX7_two 95 = .ok (.iload_n 2, 1) := dk_28 (dk_at dksX7_two_4 6 rfl rfl)
theorem dX7_two_96 : decode cX7_two 96 = .ok (.iadd, 1) := dk_96 (dk_at dksX7_two_4 7 rfl rfl)
theorem dX7_two_97 : decode cX7_two 97 = .ok (.ireturn, 1) := dk_172 (dk_at dksX7_two_4 8 rfl rfl)
theorem dX7_two_98 : decode cX7_two 98 = .ok (.iload_n 1, 1) := dk_27 (dk_at dksX7_two_4 9 rfl rfl)
theorem dX7_two_99 : decode cX7_two 99 = .ok (.iload_n 2, 1) := dk_28 (dk_at dksX7_two_4 10 rfl rfl)
theorem dX7_two_100 : decode cX7_two 100 = .ok (.isub, 1) := dk_100 (dk_at dksX7_two_4 11 rfl rfl)
theorem dX7_two_101 : decode cX7_two 101 = .ok (.ireturn, 1) := dk_172 (dk_at dksX7_two_4 12 rfl rfl)
theorem dX7_two_102 : decode cX7_two 102 = .ok (.iload_n 1, 1) := dk_27 (dk_at dksX7_two_4 13 rfl rfl)
theorem dX7_two_103 : decode cX7_two 103 = .ok (.iload_n 2, 1) := dk_28 (dk_at dksX7_two_4 14 rfl rfl)
theorem dX7_two_104 : decode cX7_two 104 = .ok (.imul, 1) := dk_104 (dk_at dksX7_two_4 15 rfl rfl)
theorem dX7_two_105 : decode cX7_two 105 = .ok (.ireturn, 1) := dk_172 (dk_at dksX7_two_4 16 rfl rfl)
abbrev cX7_held : ByteArray := prog_20_method_40_code
def yX7_held : MethodName := ⟨RX7, "held", "(I)I"⟩
def dkwX7_held_1 : List UInt8 := [167, 0, 4, 26, 172]
abbrev dktX7_held_1 : List UInt8 := dkwX7_held_1 ++ []
def dkwX7_held_0 : List UInt8 := [26, 17, 39, 15, 164, 0, 9, 17, 39, 15, 167, 0, 17, 26, 17, 216, 241, 162, 0, 9, 17, 216, 241]
abbrev dktX7_held_0 : List UInt8 := dkwX7_held_0 ++ dktX7_held_1
theorem dksX7_held_0 : cX7_held.data.toList.drop 0 = dktX7_held_0 := by decide +kernel
theorem dksX7_held_1 : cX7_held.data.toList.drop 23 = dktX7_held_1 := dk_seg dksX7_held_0 23 rfl rfl
theorem dX7_held_0 : decode cX7_held 0 = .ok (.iload_n 0, 1) := dk_26 (dk_at dksX7_held_0 0 rfl rfl)
theorem dX7_held_1 : decode cX7_held 1 = .ok (.sipush 9999, 3) := dk_17 39 15 (dk_at dksX7_held_0 1 rfl rfl)
theorem dX7_held_4 : decode cX7_held 4 = .ok (.if_icmp .le 9, 3) := dk_164 0 9 (dk_at dksX7_held_0 4 rfl rfl)
theorem dX7_held_7 : decode cX7_held 7 = .ok (.sipush 9999, 3) := dk_17 39 15 (dk_at dksX7_held_0 7 rfl rfl)
theorem dX7_held_10 : decode cX7_held 10 = .ok (.goto 17, 3) := dk_167 0 17 (dk_at dksX7_held_0 10 rfl rfl)
theorem dX7_held_13 : decode cX7_held 13 = .ok (.iload_n 0, 1) := dk_26 (dk_at dksX7_held_0 13 rfl rfl)
theorem dX7_held_14 : decode cX7_held 14 = .ok (.sipush (-9999), 3) := dk_17 216 241 (dk_at dksX7_held_0 14 rfl rfl)
theorem dX7_held_17 : decode cX7_held 17 = .ok (.if_icmp .ge 9, 3) := dk_162 0 9 (dk_at dksX7_held_0 17 rfl rfl)
theorem dX7_held_20 : decode cX7_held 20 = .ok (.sipush (-9999), 3) := dk_17 216 241 (dk_at dksX7_held_0 20 rfl rfl)
theorem dX7_held_23 : decode cX7_held 23 = .ok (.goto 4, 3) := dk_167 0 4 (dk_at dksX7_held_1 0 rfl rfl)
theorem dX7_held_26 : decode cX7_held 26 = .ok (.iload_n 0, 1) := dk_26 (dk_at dksX7_held_1 3 rfl rfl)
theorem dX7_held_27 : decode cX7_held 27 = .ok (.ireturn, 1) := dk_172 (dk_at dksX7_held_1 4 rfl rfl)
abbrev cX7_lost : ByteArray := prog_20_method_43_code
def yX7_lost : MethodName := ⟨RX7, "lost", "(II)I"⟩
def dkwX7_lost_1 : List UInt8 := [184, 0, 246, 172]
abbrev dktX7_lost_1 : List UInt8 := dkwX7_lost_1 ++ []
def dkwX7_lost_0 : List UInt8 := [42, 180, 0, 112, 28, 46, 2, 160, 0, 5, 3, 172, 42, 27, 28, 182, 0, 239, 42, 4, 182, 0, 243]
abbrev dktX7_lost_0 : List UInt8 := dkwX7_lost_0 ++ dktX7_lost_1
theorem dksX7_lost_0 : cX7_lost.data.toList.drop 0 = dktX7_lost_0 := by decide +kernel
theorem dksX7_lost_1 : cX7_lost.data.toList.drop 23 = dktX7_lost_1 := dk_seg dksX7_lost_0 23 rfl rfl
theorem dX7_lost_0 : decode cX7_lost 0 = .ok (.aload_n 0, 1) := dk_42 (dk_at dksX7_lost_0 0 rfl rfl)
theorem dX7_lost_1 : decode cX7_lost 1 = .ok (.getfield 112, 3) := dk_180 0 112 (dk_at dksX7_lost_0 1 rfl rfl)
theorem dX7_lost_4 : decode cX7_lost 4 = .ok (.iload_n 2, 1) := dk_28 (dk_at dksX7_lost_0 4 rfl rfl)
theorem dX7_lost_5 : decode cX7_lost 5 = .ok (.iaload, 1) := dk_46 (dk_at dksX7_lost_0 5 rfl rfl)
theorem dX7_lost_6 : decode cX7_lost 6 = .ok (.iconst (-1), 1) := dk_2 (dk_at dksX7_lost_0 6 rfl rfl)
theorem dX7_lost_7 : decode cX7_lost 7 = .ok (.if_icmp .ne 5, 3) := dk_160 0 5 (dk_at dksX7_lost_0 7 rfl rfl)
theorem dX7_lost_10 : decode cX7_lost 10 = .ok (.iconst 0, 1) := dk_3 (dk_at dksX7_lost_0 10 rfl rfl)
theorem dX7_lost_11 : decode cX7_lost 11 = .ok (.ireturn, 1) := dk_172 (dk_at dksX7_lost_0 11 rfl rfl)
theorem dX7_lost_12 : decode cX7_lost 12 = .ok (.aload_n 0, 1) := dk_42 (dk_at dksX7_lost_0 12 rfl rfl)
theorem dX7_lost_13 : decode cX7_lost 13 = .ok (.iload_n 1, 1) := dk_27 (dk_at dksX7_lost_0 13 rfl rfl)
theorem dX7_lost_14 : decode cX7_lost 14 = .ok (.iload_n 2, 1) := dk_28 (dk_at dksX7_lost_0 14 rfl rfl)
theorem dX7_lost_15 : decode cX7_lost 15 = .ok (.invokevirtual 239, 3) := dk_182 0 239 (dk_at dksX7_lost_0 15 rfl rfl)
theorem dX7_lost_18 : decode cX7_lost 18 = .ok (.aload_n 0, 1) := dk_42 (dk_at dksX7_lost_0 18 rfl rfl)
theorem dX7_lost_19 : decode cX7_lost 19 = .ok (.iconst 1, 1) := dk_4 (dk_at dksX7_lost_0 19 rfl rfl)
theorem dX7_lost_20 : decode cX7_lost 20 = .ok (.invokevirtual 243, 3) := dk_182 0 243 (dk_at dksX7_lost_0 20 rfl rfl)
theorem dX7_lost_23 : decode cX7_lost 23 = .ok (.invokestatic 246, 3) := dk_184 0 246 (dk_at dksX7_lost_1 0 rfl rfl)
theorem dX7_lost_26 : decode cX7_lost 26 = .ok (.ireturn, 1) := dk_172 (dk_at dksX7_lost_1 3 rfl rfl)
abbrev cX7_line : ByteArray := prog_20_method_47_code
def yX7_line : MethodName := ⟨RX7, "line", "(III)I"⟩
def dkwX7_line_6 : List UInt8 := [132, 5, 1, 167, 255, 150, 21, 4, 172]
abbrev dktX7_line_6 : List UInt8 := dkwX7_line_6 ++ []
def dkwX7_line_5 : List UInt8 := [2, 159, 0, 14, 42, 180, 0, 112, 21, 5, 46, 29, 164, 0, 7, 4, 167, 0, 4, 3, 96, 54, 4]
abbrev dktX7_line_5 : List UInt8 := dkwX7_line_5 ++ dktX7_line_6
def dkwX7_line_4 : List UInt8 := [163, 0, 7, 4, 167, 0, 4, 3, 54, 6, 21, 4, 21, 6, 153, 0, 29, 42, 180, 0, 112, 21, 5, 46]
abbrev dktX7_line_4 : List UInt8 := dkwX7_line_4 ++ dktX7_line_5
def dkwX7_line_3 : List UInt8 := [160, 0, 29, 42, 180, 0, 109, 21, 5, 46, 2, 159, 0, 18, 42, 180, 0, 109, 21, 5, 46, 29]
abbrev dktX7_line_3 : List UInt8 := dkwX7_line_3 ++ dktX7_line_4
def dkwX7_line_2 : List UInt8 := [180, 0, 106, 21, 5, 46, 16, 48, 159, 0, 43, 42, 180, 0, 106, 21, 5, 46, 16, 24, 108, 28]
abbrev dktX7_line_2 : List UInt8 := dkwX7_line_2 ++ dktX7_line_3
def dkwX7_line_1 : List UInt8 := [42, 27, 182, 0, 254, 3, 54, 4, 3, 54, 5, 21, 5, 42, 180, 0, 31, 27, 46, 162, 0, 101, 42]
abbrev dktX7_line_1 : List UInt8 := dkwX7_line_1 ++ dktX7_line_2
def dkwX7_line_0 : List UInt8 := [42, 27, 182, 0, 217, 153, 0, 11, 28, 29, 184, 0, 131, 154, 0, 6, 16, 251, 172, 42, 27, 182, 0, 251]
abbrev dktX7_line_0 : List UInt8 := dkwX7_line_0 ++ dktX7_line_1
theorem dksX7_line_0 : cX7_line.data.toList.drop 0 = dktX7_line_0 := by decide +kernel
theorem dksX7_line_1 : cX7_line.data.toList.drop 24 = dktX7_line_1 := dk_seg dksX7_line_0 24 rfl rfl
theorem dksX7_line_2 : cX7_line.data.toList.drop 47 = dktX7_line_2 := dk_seg dksX7_line_1 23 rfl rfl
theorem dksX7_line_3 : cX7_line.data.toList.drop 69 = dktX7_line_3 := dk_seg dksX7_line_2 22 rfl rfl
theorem dksX7_line_4 : cX7_line.data.toList.drop 91 = dktX7_line_4 := dk_seg dksX7_line_3 22 rfl rfl
theorem dksX7_line_5 : cX7_line.data.toList.drop 115 = dktX7_line_5 := dk_seg dksX7_line_4 24 rfl rfl
theorem dksX7_line_6 : cX7_line.data.toList.drop 138 = dktX7_line_6 := dk_seg dksX7_line_5 23 rfl rfl
theorem dX7_line_0 : decode cX7_line 0 = .ok (.aload_n 0, 1) := dk_42 (dk_at dksX7_line_0 0 rfl rfl)
theorem dX7_line_1 : decode cX7_line 1 = .ok (.iload_n 1, 1) := dk_27 (dk_at dksX7_line_0 1 rfl rfl)
theorem dX7_line_2 : decode cX7_line 2 = .ok (.invokevirtual 217, 3) := dk_182 0 217 (dk_at dksX7_line_0 2 rfl rfl)
theorem dX7_line_5 : decode cX7_line 5 = .ok (.ifCond .eq 11, 3) := dk_153 0 11 (dk_at dksX7_line_0 5 rfl rfl)
theorem dX7_line_8 : decode cX7_line 8 = .ok (.iload_n 2, 1) := dk_28 (dk_at dksX7_line_0 8 rfl rfl)
theorem dX7_line_9 : decode cX7_line 9 = .ok (.iload_n 3, 1) := dk_29 (dk_at dksX7_line_0 9 rfl rfl)
theorem dX7_line_10 : decode cX7_line 10 = .ok (.invokestatic 131, 3) := dk_184 0 131 (dk_at dksX7_line_0 10 rfl rfl)
theorem dX7_line_13 : decode cX7_line 13 = .ok (.ifCond .ne 6, 3) := dk_154 0 6 (dk_at dksX7_line_0 13 rfl rfl)
theorem dX7_line_16 : decode cX7_line 16 = .ok (.bipush (-5), 2) := dk_16 251 (dk_at dksX7_line_0 16 rfl rfl)
theorem dX7_line_18 : decode cX7_line 18 = .ok (.ireturn, 1) := dk_172 (dk_at dksX7_line_0 18 rfl rfl)
theorem dX7_line_19 : decode cX7_line 19 = .ok (.aload_n 0, 1) := dk_42 (dk_at dksX7_line_0 19 rfl rfl)
theorem dX7_line_20 : decode cX7_line 20 = .ok (.iload_n 1, 1) := dk_27 (dk_at dksX7_line_0 20 rfl rfl)
theorem dX7_line_21 : decode cX7_line 21 = .ok (.invokevirtual 251, 3) := dk_182 0 251 (dk_at dksX7_line_0 21 rfl rfl)
theorem dX7_line_24 : decode cX7_line 24 = .ok (.aload_n 0, 1) := dk_42 (dk_at dksX7_line_1 0 rfl rfl)
theorem dX7_line_25 : decode cX7_line 25 = .ok (.iload_n 1, 1) := dk_27 (dk_at dksX7_line_1 1 rfl rfl)
theorem dX7_line_26 : decode cX7_line 26 = .ok (.invokevirtual 254, 3) := dk_182 0 254 (dk_at dksX7_line_1 2 rfl rfl)
theorem dX7_line_29 : decode cX7_line 29 = .ok (.iconst 0, 1) := dk_3 (dk_at dksX7_line_1 5 rfl rfl)
theorem dX7_line_30 : decode cX7_line 30 = .ok (.istore 4, 2) := dk_54 4 (dk_at dksX7_line_1 6 rfl rfl)
theorem dX7_line_32 : decode cX7_line 32 = .ok (.iconst 0, 1) := dk_3 (dk_at dksX7_line_1 8 rfl rfl)
theorem dX7_line_33 : decode cX7_line 33 = .ok (.istore 5, 2) := dk_54 5 (dk_at dksX7_line_1 9 rfl rfl)
theorem dX7_line_35 : decode cX7_line 35 = .ok (.iload 5, 2) := dk_21 5 (dk_at dksX7_line_1 11 rfl rfl)
theorem dX7_line_37 : decode cX7_line 37 = .ok (.aload_n 0, 1) := dk_42 (dk_at dksX7_line_1 13 rfl rfl)
theorem dX7_line_38 : decode cX7_line 38 = .ok (.getfield 31, 3) := dk_180 0 31 (dk_at dksX7_line_1 14 rfl rfl)
theorem dX7_line_41 : decode cX7_line 41 = .ok (.iload_n 1, 1) := dk_27 (dk_at dksX7_line_1 17 rfl rfl)
theorem dX7_line_42 : decode cX7_line 42 = .ok (.iaload, 1) := dk_46 (dk_at dksX7_line_1 18 rfl rfl)
theorem dX7_line_43 : decode cX7_line 43 = .ok (.if_icmp .ge 101, 3) := dk_162 0 101 (dk_at dksX7_line_1 19 rfl rfl)
theorem dX7_line_46 : decode cX7_line 46 = .ok (.aload_n 0, 1) := dk_42 (dk_at dksX7_line_1 22 rfl rfl)
theorem dX7_line_47 : decode cX7_line 47 = .ok (.getfield 106, 3) := dk_180 0 106 (dk_at dksX7_line_2 0 rfl rfl)
theorem dX7_line_50 : decode cX7_line 50 = .ok (.iload 5, 2) := dk_21 5 (dk_at dksX7_line_2 3 rfl rfl)
theorem dX7_line_52 : decode cX7_line 52 = .ok (.iaload, 1) := dk_46 (dk_at dksX7_line_2 5 rfl rfl)
theorem dX7_line_53 : decode cX7_line 53 = .ok (.bipush 48, 2) := dk_16 48 (dk_at dksX7_line_2 6 rfl rfl)
theorem dX7_line_55 : decode cX7_line 55 = .ok (.if_icmp .eq 43, 3) := dk_159 0 43 (dk_at dksX7_line_2 8 rfl rfl)
theorem dX7_line_58 : decode cX7_line 58 = .ok (.aload_n 0, 1) := dk_42 (dk_at dksX7_line_2 11 rfl rfl)
theorem dX7_line_59 : decode cX7_line 59 = .ok (.getfield 106, 3) := dk_180 0 106 (dk_at dksX7_line_2 12 rfl rfl)
theorem dX7_line_62 : decode cX7_line 62 = .ok (.iload 5, 2) := dk_21 5 (dk_at dksX7_line_2 15 rfl rfl)
theorem dX7_line_64 : decode cX7_line 64 = .ok (.iaload, 1) := dk_46 (dk_at dksX7_line_2 17 rfl rfl)
theorem dX7_line_65 : decode cX7_line 65 = .ok (.bipush 24, 2) := dk_16 24 (dk_at dksX7_line_2 18 rfl rfl)
theorem dX7_line_67 : decode cX7_line 67 = .ok (.idiv, 1) := dk_108 (dk_at dksX7_line_2 20 rfl rfl)
theorem dX7_line_68 : decode cX7_line 68 = .ok (.iload_n 2, 1) := dk_28 (dk_at dksX7_line_2 21 rfl rfl)
theorem dX7_line_69 : decode cX7_line 69 = .ok (.if_icmp .ne 29, 3) := dk_160 0 29 (dk_at dksX7_line_3 0 rfl rfl)
theorem dX7_line_72 : decode cX7_line 72 = .ok (.aload_n 0, 1) := dk_42 (dk_at dksX7_line_3 3 rfl rfl)
theorem dX7_line_73 : decode cX7_line 73 = .ok (.getfield 109, 3) := dk_180 0 109 (dk_at dksX7_line_3 4 rfl rfl)
theorem dX7_line_76 : decode cX7_line 76 = .ok (.iload 5, 2) := dk_21 5 (dk_at dksX7_line_3 7 rfl rfl)
theorem dX7_line_78 : decode cX7_line 78 = .ok (.iaload, 1) := dk_46 (dk_at dksX7_line_3 9 rfl rfl)
theorem dX7_line_79 : decode cX7_line 79 = .ok (.iconst (-1), 1) := dk_2 (dk_at dksX7_line_3 10 rfl rfl)
theorem dX7_line_80 : decode cX7_line 80 = .ok (.if_icmp .eq 18, 3) := dk_159 0 18 (dk_at dksX7_line_3 11 rfl rfl)
theorem dX7_line_83 : decode cX7_line 83 = .ok (.aload_n 0, 1) := dk_42 (dk_at dksX7_line_3 14 rfl rfl)
theorem dX7_line_84 : decode cX7_line 84 = .ok (.getfield 109, 3) := dk_180 0 109 (dk_at dksX7_line_3 15 rfl rfl)
theorem dX7_line_87 : decode cX7_line 87 = .ok (.iload 5, 2) := dk_21 5 (dk_at dksX7_line_3 18 rfl rfl)
theorem dX7_line_89 : decode cX7_line 89 = .ok (.iaload, 1) := dk_46 (dk_at dksX7_line_3 20 rfl rfl)
theorem dX7_line_90 : decode cX7_line 90 = .ok (.iload_n 3, 1) := dk_29 (dk_at dksX7_line_3 21 rfl rfl)
theorem dX7_line_91 : decode cX7_line 91 = .ok (.if_icmp .gt 7, 3) := dk_163 0 7 (dk_at dksX7_line_4 0 rfl rfl)
theorem dX7_line_94 : decode cX7_line 94 = .ok (.iconst 1, 1) := dk_4 (dk_at dksX7_line_4 3 rfl rfl)
theorem dX7_line_95 : decode cX7_line 95 = .ok (.goto 4, 3) := dk_167 0 4 (dk_at dksX7_line_4 4 rfl rfl)
theorem dX7_line_98 : decode cX7_line 98 = .ok (.iconst 0, 1) := dk_3 (dk_at dksX7_line_4 7 rfl rfl)
theorem dX7_line_99 : decode cX7_line 99 = .ok (.istore 6, 2) := dk_54 6 (dk_at dksX7_line_4 8 rfl rfl)
theorem dX7_line_101 : decode cX7_line 101 = .ok (.iload 4, 2) := dk_21 4 (dk_at dksX7_line_4 10 rfl rfl)
theorem dX7_line_103 : decode cX7_line 103 = .ok (.iload 6, 2) := dk_21 6 (dk_at dksX7_line_4 12 rfl rfl)
theorem dX7_line_105 : decode cX7_line 105 = .ok (.ifCond .eq 29, 3) := dk_153 0 29 (dk_at dksX7_line_4 14 rfl rfl)
theorem dX7_line_108 : decode cX7_line 108 = .ok (.aload_n 0, 1) := dk_42 (dk_at dksX7_line_4 17 rfl rfl)
theorem dX7_line_109 : decode cX7_line 109 = .ok (.getfield 112, 3) := dk_180 0 112 (dk_at dksX7_line_4 18 rfl rfl)
theorem dX7_line_112 : decode cX7_line 112 = .ok (.iload 5, 2) := dk_21 5 (dk_at dksX7_line_4 21 rfl rfl)
theorem dX7_line_114 : decode cX7_line 114 = .ok (.iaload, 1) := dk_46 (dk_at dksX7_line_4 23 rfl rfl)
theorem dX7_line_115 : decode cX7_line 115 = .ok (.iconst (-1), 1) := dk_2 (dk_at dksX7_line_5 0 rfl rfl)
theorem dX7_line_116 : decode cX7_line 116 = .ok (.if_icmp .eq 14, 3) := dk_159 0 14 (dk_at dksX7_line_5 1 rfl rfl)
theorem dX7_line_119 : decode cX7_line 119 = .ok (.aload_n 0, 1) := dk_42 (dk_at dksX7_line_5 4 rfl rfl)
theorem dX7_line_120 : decode cX7_line 120 = .ok (.getfield 112, 3) := dk_180 0 112 (dk_at dksX7_line_5 5 rfl rfl)
theorem dX7_line_123 : decode cX7_line 123 = .ok (.iload 5, 2) := dk_21 5 (dk_at dksX7_line_5 8 rfl rfl)
theorem dX7_line_125 : decode cX7_line 125 = .ok (.iaload, 1) := dk_46 (dk_at dksX7_line_5 10 rfl rfl)
theorem dX7_line_126 : decode cX7_line 126 = .ok (.iload_n 3, 1) := dk_29 (dk_at dksX7_line_5 11 rfl rfl)
theorem dX7_line_127 : decode cX7_line 127 = .ok (.if_icmp .le 7, 3) := dk_164 0 7 (dk_at dksX7_line_5 12 rfl rfl)
theorem dX7_line_130 : decode cX7_line 130 = .ok (.iconst 1, 1) := dk_4 (dk_at dksX7_line_5 15 rfl rfl)
theorem dX7_line_131 : decode cX7_line 131 = .ok (.goto 4, 3) := dk_167 0 4 (dk_at dksX7_line_5 16 rfl rfl)
theorem dX7_line_134 : decode cX7_line 134 = .ok (.iconst 0, 1) := dk_3 (dk_at dksX7_line_5 19 rfl rfl)
theorem dX7_line_135 : decode cX7_line 135 = .ok (.iadd, 1) := dk_96 (dk_at dksX7_line_5 20 rfl rfl)
theorem dX7_line_136 : decode cX7_line 136 = .ok (.istore 4, 2) := dk_54 4 (dk_at dksX7_line_5 21 rfl rfl)
theorem dX7_line_138 : decode cX7_line 138 = .ok (.iinc 5 1, 3) := dk_132 5 1 (dk_at dksX7_line_6 0 rfl rfl)
theorem dX7_line_141 : decode cX7_line 141 = .ok (.goto (-106), 3) := dk_167 255 150 (dk_at dksX7_line_6 3 rfl rfl)
theorem dX7_line_144 : decode cX7_line 144 = .ok (.iload 4, 2) := dk_21 4 (dk_at dksX7_line_6 6 rfl rfl)
theorem dX7_line_146 : decode cX7_line 146 = .ok (.ireturn, 1) := dk_172 (dk_at dksX7_line_6 8 rfl rfl)
abbrev cX7_passes : ByteArray := prog_20_method_48_code
def yX7_passes : MethodName := ⟨RX7, "passes", "(II)I"⟩
def dkwX7_passes_2 : List UInt8 := [42, 180, 0, 115, 28, 46, 167, 0, 4, 2, 172]
abbrev dktX7_passes_2 : List UInt8 := dkwX7_passes_2 ++ []
def dkwX7_passes_1 : List UInt8 := [160, 0, 10, 42, 180, 0, 230, 167, 0, 27, 28, 3, 42, 180, 0, 230, 4, 100, 184, 0, 127, 153, 0, 12]
abbrev dktX7_passes_1 : List UInt8 := dkwX7_passes_1 ++ dktX7_passes_2
def dkwX7_passes_0 : List UInt8 := [42, 27, 182, 0, 217, 154, 0, 6, 16, 251, 172, 42, 27, 182, 0, 251, 42, 27, 182, 0, 254, 28, 2]
abbrev dktX7_passes_0 : List UInt8 := dkwX7_passes_0 ++ dktX7_passes_1
theorem dksX7_passes_0 : cX7_passes.data.toList.drop 0 = dktX7_passes_0 := by decide +kernel
theorem dksX7_passes_1 : cX7_passes.data.toList.drop 23 = dktX7_passes_1 := dk_seg dksX7_passes_0 23 rfl rfl
theorem dksX7_passes_2 : cX7_passes.data.toList.drop 47 = dktX7_passes_2 := dk_seg dksX7_passes_1 24 rfl rfl
theorem dX7_passes_0 : decode cX7_passes 0 = .ok (.aload_n 0, 1) := dk_42 (dk_at dksX7_passes_0 0 rfl rfl)
theorem dX7_passes_1 : decode cX7_passes 1 = .ok (.iload_n 1, 1) := dk_27 (dk_at dksX7_passes_0 1 rfl rfl)
theorem dX7_passes_2 : decode cX7_passes 2 = .ok (.invokevirtual 217, 3) := dk_182 0 217 (dk_at dksX7_passes_0 2 rfl rfl)
theorem dX7_passes_5 : decode cX7_passes 5 = .ok (.ifCond .ne 6, 3) := dk_154 0 6 (dk_at dksX7_passes_0 5 rfl rfl)
theorem dX7_passes_8 : decode cX7_passes 8 = .ok (.bipush (-5), 2) := dk_16 251 (dk_at dksX7_passes_0 8 rfl rfl)
theorem dX7_passes_10 : decode cX7_passes 10 = .ok (.ireturn, 1) := dk_172 (dk_at dksX7_passes_0 10 rfl rfl)
theorem dX7_passes_11 : decode cX7_passes 11 = .ok (.aload_n 0, 1) := dk_42 (dk_at dksX7_passes_0 11 rfl rfl)
theorem dX7_passes_12 : decode cX7_passes 12 = .ok (.iload_n 1, 1) := dk_27 (dk_at dksX7_passes_0 12 rfl rfl)
theorem dX7_passes_13 : decode cX7_passes 13 = .ok (.invokevirtual 251, 3) := dk_182 0 251 (dk_at dksX7_passes_0 13 rfl rfl)
theorem dX7_passes_16 : decode cX7_passes 16 = .ok (.aload_n 0, 1) := dk_42 (dk_at dksX7_passes_0 16 rfl rfl)
theorem dX7_passes_17 : decode cX7_passes 17 = .ok (.iload_n 1, 1) := dk_27 (dk_at dksX7_passes_0 17 rfl rfl)
theorem dX7_passes_18 : decode cX7_passes 18 = .ok (.invokevirtual 254, 3) := dk_182 0 254 (dk_at dksX7_passes_0 18 rfl rfl)
theorem dX7_passes_21 : decode cX7_passes 21 = .ok (.iload_n 2, 1) := dk_28 (dk_at dksX7_passes_0 21 rfl rfl)
theorem dX7_passes_22 : decode cX7_passes 22 = .ok (.iconst (-1), 1) := dk_2 (dk_at dksX7_passes_0 22 rfl rfl)
theorem dX7_passes_23 : decode cX7_passes 23 = .ok (.if_icmp .ne 10, 3) := dk_160 0 10 (dk_at dksX7_passes_1 0 rfl rfl)
theorem dX7_passes_26 : decode cX7_passes 26 = .ok (.aload_n 0, 1) := dk_42 (dk_at dksX7_passes_1 3 rfl rfl)
theorem dX7_passes_27 : decode cX7_passes 27 = .ok (.getfield 230, 3) := dk_180 0 230 (dk_at dksX7_passes_1 4 rfl rfl)
theorem dX7_passes_30 : decode cX7_passes 30 = .ok (.goto 27, 3) := dk_167 0 27 (dk_at dksX7_passes_1 7 rfl rfl)
theorem dX7_passes_33 : decode cX7_passes 33 = .ok (.iload_n 2, 1) := dk_28 (dk_at dksX7_passes_1 10 rfl rfl)
theorem dX7_passes_34 : decode cX7_passes 34 = .ok (.iconst 0, 1) := dk_3 (dk_at dksX7_passes_1 11 rfl rfl)
theorem dX7_passes_35 : decode cX7_passes 35 = .ok (.aload_n 0, 1) := dk_42 (dk_at dksX7_passes_1 12 rfl rfl)
theorem dX7_passes_36 : decode cX7_passes 36 = .ok (.getfield 230, 3) := dk_180 0 230 (dk_at dksX7_passes_1 13 rfl rfl)
theorem dX7_passes_39 : decode cX7_passes 39 = .ok (.iconst 1, 1) := dk_4 (dk_at dksX7_passes_1 16 rfl rfl)
theorem dX7_passes_40 : decode cX7_passes 40 = .ok (.isub, 1) := dk_100 (dk_at dksX7_passes_1 17 rfl rfl)
theorem dX7_passes_41 : decode cX7_passes 41 = .ok (.invokestatic 127, 3) := dk_184 0 127 (dk_at dksX7_passes_1 18 rfl rfl)
theorem dX7_passes_44 : decode cX7_passes 44 = .ok (.ifCond .eq 12, 3) := dk_153 0 12 (dk_at dksX7_passes_1 21 rfl rfl)
theorem dX7_passes_47 : decode cX7_passes 47 = .ok (.aload_n 0, 1) := dk_42 (dk_at dksX7_passes_2 0 rfl rfl)
theorem dX7_passes_48 : decode cX7_passes 48 = .ok (.getfield 115, 3) := dk_180 0 115 (dk_at dksX7_passes_2 1 rfl rfl)
theorem dX7_passes_51 : decode cX7_passes 51 = .ok (.iload_n 2, 1) := dk_28 (dk_at dksX7_passes_2 4 rfl rfl)
theorem dX7_passes_52 : decode cX7_passes 52 = .ok (.iaload, 1) := dk_46 (dk_at dksX7_passes_2 5 rfl rfl)
theorem dX7_passes_53 : decode cX7_passes 53 = .ok (.goto 4, 3) := dk_167 0 4 (dk_at dksX7_passes_2 6 rfl rfl)
theorem dX7_passes_56 : decode cX7_passes 56 = .ok (.iconst (-1), 1) := dk_2 (dk_at dksX7_passes_2 9 rfl rfl)
theorem dX7_passes_57 : decode cX7_passes 57 = .ok (.ireturn, 1) := dk_172 (dk_at dksX7_passes_2 10 rfl rfl)
abbrev cX7_sum : ByteArray := prog_20_method_49_code
def yX7_sum : MethodName := ⟨RX7, "sum", "(II)J"⟩
def dkwX7_sum_5 : List UInt8 := [28, 154, 0, 7, 33, 167, 0, 5, 22, 5, 173]
abbrev dktX7_sum_5 : List UInt8 := dkwX7_sum_5 ++ []
def dkwX7_sum_4 : List UInt8 := [180, 0, 112, 21, 7, 46, 42, 180, 0, 109, 21, 7, 46, 100, 133, 97, 55, 5, 132, 7, 1, 167, 255, 174]
abbrev dktX7_sum_4 : List UInt8 := dkwX7_sum_4 ++ dktX7_sum_5
def dkwX7_sum_3 : List UInt8 := [182, 0, 236, 133, 167, 0, 34, 42, 180, 0, 112, 21, 7, 46, 2, 160, 0, 7, 9, 167, 0, 19, 42]
abbrev dktX7_sum_3 : List UInt8 := dkwX7_sum_3 ++ dktX7_sum_4
def dkwX7_sum_2 : List UInt8 := [4, 160, 0, 14, 42, 27, 21, 7, 182, 1, 5, 133, 167, 0, 50, 28, 5, 160, 0, 14, 42, 27, 21, 7]
abbrev dktX7_sum_2 : List UInt8 := dkwX7_sum_2 ++ dktX7_sum_3
def dkwX7_sum_1 : List UInt8 := [182, 1, 10, 66, 9, 55, 5, 3, 54, 7, 21, 7, 42, 180, 0, 31, 27, 46, 162, 0, 77, 22, 5, 28]
abbrev dktX7_sum_1 : List UInt8 := dkwX7_sum_1 ++ dktX7_sum_2
def dkwX7_sum_0 : List UInt8 := [42, 27, 182, 0, 217, 153, 0, 12, 28, 3, 6, 184, 0, 127, 154, 0, 7, 20, 1, 8, 173, 42, 27]
abbrev dktX7_sum_0 : List UInt8 := dkwX7_sum_0 ++ dktX7_sum_1
theorem dksX7_sum_0 : cX7_sum.data.toList.drop 0 = dktX7_sum_0 := by decide +kernel
theorem dksX7_sum_1 : cX7_sum.data.toList.drop 23 = dktX7_sum_1 := dk_seg dksX7_sum_0 23 rfl rfl
theorem dksX7_sum_2 : cX7_sum.data.toList.drop 47 = dktX7_sum_2 := dk_seg dksX7_sum_1 24 rfl rfl
theorem dksX7_sum_3 : cX7_sum.data.toList.drop 71 = dktX7_sum_3 := dk_seg dksX7_sum_2 24 rfl rfl
theorem dksX7_sum_4 : cX7_sum.data.toList.drop 94 = dktX7_sum_4 := dk_seg dksX7_sum_3 23 rfl rfl
theorem dksX7_sum_5 : cX7_sum.data.toList.drop 118 = dktX7_sum_5 := dk_seg dksX7_sum_4 24 rfl rfl
theorem dX7_sum_0 : decode cX7_sum 0 = .ok (.aload_n 0, 1) := dk_42 (dk_at dksX7_sum_0 0 rfl rfl)
theorem dX7_sum_1 : decode cX7_sum 1 = .ok (.iload_n 1, 1) := dk_27 (dk_at dksX7_sum_0 1 rfl rfl)
theorem dX7_sum_2 : decode cX7_sum 2 = .ok (.invokevirtual 217, 3) := dk_182 0 217 (dk_at dksX7_sum_0 2 rfl rfl)
theorem dX7_sum_5 : decode cX7_sum 5 = .ok (.ifCond .eq 12, 3) := dk_153 0 12 (dk_at dksX7_sum_0 5 rfl rfl)
theorem dX7_sum_8 : decode cX7_sum 8 = .ok (.iload_n 2, 1) := dk_28 (dk_at dksX7_sum_0 8 rfl rfl)
theorem dX7_sum_9 : decode cX7_sum 9 = .ok (.iconst 0, 1) := dk_3 (dk_at dksX7_sum_0 9 rfl rfl)
theorem dX7_sum_10 : decode cX7_sum 10 = .ok (.iconst 3, 1) := dk_6 (dk_at dksX7_sum_0 10 rfl rfl)
theorem dX7_sum_11 : decode cX7_sum 11 = .ok (.invokestatic 127, 3) := dk_184 0 127 (dk_at dksX7_sum_0 11 rfl rfl)
theorem dX7_sum_14 : decode cX7_sum 14 = .ok (.ifCond .ne 7, 3) := dk_154 0 7 (dk_at dksX7_sum_0 14 rfl rfl)
theorem dX7_sum_17 : decode cX7_sum 17 = .ok (.ldc2_w 264, 3) := dk_20 1 8 (dk_at dksX7_sum_0 17 rfl rfl)
theorem dX7_sum_20 : decode cX7_sum 20 = .ok (.lreturn, 1) := dk_173 (dk_at dksX7_sum_0 20 rfl rfl)
theorem dX7_sum_21 : decode cX7_sum 21 = .ok (.aload_n 0, 1) := dk_42 (dk_at dksX7_sum_0 21 rfl rfl)
theorem dX7_sum_22 : decode cX7_sum 22 = .ok (.iload_n 1, 1) := dk_27 (dk_at dksX7_sum_0 22 rfl rfl)
theorem dX7_sum_23 : decode cX7_sum 23 = .ok (.invokevirtual 266, 3) := dk_182 1 10 (dk_at dksX7_sum_1 0 rfl rfl)
theorem dX7_sum_26 : decode cX7_sum 26 = .ok (.lstore_n 3, 1) := dk_66 (dk_at dksX7_sum_1 3 rfl rfl)
theorem dX7_sum_27 : decode cX7_sum 27 = .ok (.lconst 0, 1) := dk_9 (dk_at dksX7_sum_1 4 rfl rfl)
theorem dX7_sum_28 : decode cX7_sum 28 = .ok (.lstore 5, 2) := dk_55 5 (dk_at dksX7_sum_1 5 rfl rfl)
theorem dX7_sum_30 : decode cX7_sum 30 = .ok (.iconst 0, 1) := dk_3 (dk_at dksX7_sum_1 7 rfl rfl)
theorem dX7_sum_31 : decode cX7_sum 31 = .ok (.istore 7, 2) := dk_54 7 (dk_at dksX7_sum_1 8 rfl rfl)
theorem dX7_sum_33 : decode cX7_sum 33 = .ok (.iload 7, 2) := dk_21 7 (dk_at dksX7_sum_1 10 rfl rfl)
theorem dX7_sum_35 : decode cX7_sum 35 = .ok (.aload_n 0, 1) := dk_42 (dk_at dksX7_sum_1 12 rfl rfl)
theorem dX7_sum_36 : decode cX7_sum 36 = .ok (.getfield 31, 3) := dk_180 0 31 (dk_at dksX7_sum_1 13 rfl rfl)
theorem dX7_sum_39 : decode cX7_sum 39 = .ok (.iload_n 1, 1) := dk_27 (dk_at dksX7_sum_1 16 rfl rfl)
theorem dX7_sum_40 : decode cX7_sum 40 = .ok (.iaload, 1) := dk_46 (dk_at dksX7_sum_1 17 rfl rfl)
theorem dX7_sum_41 : decode cX7_sum 41 = .ok (.if_icmp .ge 77, 3) := dk_162 0 77 (dk_at dksX7_sum_1 18 rfl rfl)
theorem dX7_sum_44 : decode cX7_sum 44 = .ok (.lload 5, 2) := dk_22 5 (dk_at dksX7_sum_1 21 rfl rfl)
theorem dX7_sum_46 : decode cX7_sum 46 = .ok (.iload_n 2, 1) := dk_28 (dk_at dksX7_sum_1 23 rfl rfl)
theorem dX7_sum_47 : decode cX7_sum 47 = .ok (.iconst 1, 1) := dk_4 (dk_at dksX7_sum_2 0 rfl rfl)
theorem dX7_sum_48 : decode cX7_sum 48 = .ok (.if_icmp .ne 14, 3) := dk_160 0 14 (dk_at dksX7_sum_2 1 rfl rfl)
theorem dX7_sum_51 : decode cX7_sum 51 = .ok (.aload_n 0, 1) := dk_42 (dk_at dksX7_sum_2 4 rfl rfl)
theorem dX7_sum_52 : decode cX7_sum 52 = .ok (.iload_n 1, 1) := dk_27 (dk_at dksX7_sum_2 5 rfl rfl)
theorem dX7_sum_53 : decode cX7_sum 53 = .ok (.iload 7, 2) := dk_21 7 (dk_at dksX7_sum_2 6 rfl rfl)
theorem dX7_sum_55 : decode cX7_sum 55 = .ok (.invokevirtual 261, 3) := dk_182 1 5 (dk_at dksX7_sum_2 8 rfl rfl)
theorem dX7_sum_58 : decode cX7_sum 58 = .ok (.i2l, 1) := dk_133 (dk_at dksX7_sum_2 11 rfl rfl)
theorem dX7_sum_59 : decode cX7_sum 59 = .ok (.goto 50, 3) := dk_167 0 50 (dk_at dksX7_sum_2 12 rfl rfl)
theorem dX7_sum_62 : decode cX7_sum 62 = .ok (.iload_n 2, 1) := dk_28 (dk_at dksX7_sum_2 15 rfl rfl)
theorem dX7_sum_63 : decode cX7_sum 63 = .ok (.iconst 2, 1) := dk_5 (dk_at dksX7_sum_2 16 rfl rfl)
theorem dX7_sum_64 : decode cX7_sum 64 = .ok (.if_icmp .ne 14, 3) := dk_160 0 14 (dk_at dksX7_sum_2 17 rfl rfl)
theorem dX7_sum_67 : decode cX7_sum 67 = .ok (.aload_n 0, 1) := dk_42 (dk_at dksX7_sum_2 20 rfl rfl)
theorem dX7_sum_68 : decode cX7_sum 68 = .ok (.iload_n 1, 1) := dk_27 (dk_at dksX7_sum_2 21 rfl rfl)
theorem dX7_sum_69 : decode cX7_sum 69 = .ok (.iload 7, 2) := dk_21 7 (dk_at dksX7_sum_2 22 rfl rfl)
theorem dX7_sum_71 : decode cX7_sum 71 = .ok (.invokevirtual 236, 3) := dk_182 0 236 (dk_at dksX7_sum_3 0 rfl rfl)
theorem dX7_sum_74 : decode cX7_sum 74 = .ok (.i2l, 1) := dk_133 (dk_at dksX7_sum_3 3 rfl rfl)
theorem dX7_sum_75 : decode cX7_sum 75 = .ok (.goto 34, 3) := dk_167 0 34 (dk_at dksX7_sum_3 4 rfl rfl)
theorem dX7_sum_78 : decode cX7_sum 78 = .ok (.aload_n 0, 1) := dk_42 (dk_at dksX7_sum_3 7 rfl rfl)
theorem dX7_sum_79 : decode cX7_sum 79 = .ok (.getfield 112, 3) := dk_180 0 112 (dk_at dksX7_sum_3 8 rfl rfl)
theorem dX7_sum_82 : decode cX7_sum 82 = .ok (.iload 7, 2) := dk_21 7 (dk_at dksX7_sum_3 11 rfl rfl)
theorem dX7_sum_84 : decode cX7_sum 84 = .ok (.iaload, 1) := dk_46 (dk_at dksX7_sum_3 13 rfl rfl)
theorem dX7_sum_85 : decode cX7_sum 85 = .ok (.iconst (-1), 1) := dk_2 (dk_at dksX7_sum_3 14 rfl rfl)
theorem dX7_sum_86 : decode cX7_sum 86 = .ok (.if_icmp .ne 7, 3) := dk_160 0 7 (dk_at dksX7_sum_3 15 rfl rfl)
theorem dX7_sum_89 : decode cX7_sum 89 = .ok (.lconst 0, 1) := dk_9 (dk_at dksX7_sum_3 18 rfl rfl)
theorem dX7_sum_90 : decode cX7_sum 90 = .ok (.goto 19, 3) := dk_167 0 19 (dk_at dksX7_sum_3 19 rfl rfl)
theorem dX7_sum_93 : decode cX7_sum 93 = .ok (.aload_n 0, 1) := dk_42 (dk_at dksX7_sum_3 22 rfl rfl)
theorem dX7_sum_94 : decode cX7_sum 94 = .ok (.getfield 112, 3) := dk_180 0 112 (dk_at dksX7_sum_4 0 rfl rfl)
theorem dX7_sum_97 : decode cX7_sum 97 = .ok (.iload 7, 2) := dk_21 7 (dk_at dksX7_sum_4 3 rfl rfl)
theorem dX7_sum_99 : decode cX7_sum 99 = .ok (.iaload, 1) := dk_46 (dk_at dksX7_sum_4 5 rfl rfl)
theorem dX7_sum_100 : decode cX7_sum 100 = .ok (.aload_n 0, 1) := dk_42 (dk_at dksX7_sum_4 6 rfl rfl)
theorem dX7_sum_101 : decode cX7_sum 101 = .ok (.getfield 109, 3) := dk_180 0 109 (dk_at dksX7_sum_4 7 rfl rfl)
theorem dX7_sum_104 : decode cX7_sum 104 = .ok (.iload 7, 2) := dk_21 7 (dk_at dksX7_sum_4 10 rfl rfl)
theorem dX7_sum_106 : decode cX7_sum 106 = .ok (.iaload, 1) := dk_46 (dk_at dksX7_sum_4 12 rfl rfl)
theorem dX7_sum_107 : decode cX7_sum 107 = .ok (.isub, 1) := dk_100 (dk_at dksX7_sum_4 13 rfl rfl)
theorem dX7_sum_108 : decode cX7_sum 108 = .ok (.i2l, 1) := dk_133 (dk_at dksX7_sum_4 14 rfl rfl)
theorem dX7_sum_109 : decode cX7_sum 109 = .ok (.ladd, 1) := dk_97 (dk_at dksX7_sum_4 15 rfl rfl)
theorem dX7_sum_110 : decode cX7_sum 110 = .ok (.lstore 5, 2) := dk_55 5 (dk_at dksX7_sum_4 16 rfl rfl)
theorem dX7_sum_112 : decode cX7_sum 112 = .ok (.iinc 7 1, 3) := dk_132 7 1 (dk_at dksX7_sum_4 18 rfl rfl)
theorem dX7_sum_115 : decode cX7_sum 115 = .ok (.goto (-82), 3) := dk_167 255 174 (dk_at dksX7_sum_4 21 rfl rfl)
theorem dX7_sum_118 : decode cX7_sum 118 = .ok (.iload_n 2, 1) := dk_28 (dk_at dksX7_sum_5 0 rfl rfl)
theorem dX7_sum_119 : decode cX7_sum 119 = .ok (.ifCond .ne 7, 3) := dk_154 0 7 (dk_at dksX7_sum_5 1 rfl rfl)
theorem dX7_sum_122 : decode cX7_sum 122 = .ok (.lload_n 3, 1) := dk_33 (dk_at dksX7_sum_5 4 rfl rfl)
theorem dX7_sum_123 : decode cX7_sum 123 = .ok (.goto 5, 3) := dk_167 0 5 (dk_at dksX7_sum_5 5 rfl rfl)
theorem dX7_sum_126 : decode cX7_sum 126 = .ok (.lload 5, 2) := dk_22 5 (dk_at dksX7_sum_5 8 rfl rfl)
theorem dX7_sum_128 : decode cX7_sum 128 = .ok (.lreturn, 1) := dk_173 (dk_at dksX7_sum_5 10 rfl rfl)
abbrev cX7_costNow : ByteArray := prog_20_method_45_code
def yX7_costNow : MethodName := ⟨RX7, "costNow", "(I)J"⟩
def dkwX7_costNow_0 : List UInt8 := [42, 27, 182, 0, 251, 42, 27, 182, 0, 254, 42, 27, 182, 1, 1, 173]
abbrev dktX7_costNow_0 : List UInt8 := dkwX7_costNow_0 ++ []
theorem dksX7_costNow_0 : cX7_costNow.data.toList.drop 0 = dktX7_costNow_0 := by decide +kernel
theorem dX7_costNow_0 : decode cX7_costNow 0 = .ok (.aload_n 0, 1) := dk_42 (dk_at dksX7_costNow_0 0 rfl rfl)
theorem dX7_costNow_1 : decode cX7_costNow 1 = .ok (.iload_n 1, 1) := dk_27 (dk_at dksX7_costNow_0 1 rfl rfl)
theorem dX7_costNow_2 : decode cX7_costNow 2 = .ok (.invokevirtual 251, 3) := dk_182 0 251 (dk_at dksX7_costNow_0 2 rfl rfl)
theorem dX7_costNow_5 : decode cX7_costNow 5 = .ok (.aload_n 0, 1) := dk_42 (dk_at dksX7_costNow_0 5 rfl rfl)
theorem dX7_costNow_6 : decode cX7_costNow 6 = .ok (.iload_n 1, 1) := dk_27 (dk_at dksX7_costNow_0 6 rfl rfl)
theorem dX7_costNow_7 : decode cX7_costNow 7 = .ok (.invokevirtual 254, 3) := dk_182 0 254 (dk_at dksX7_costNow_0 7 rfl rfl)
theorem dX7_costNow_10 : decode cX7_costNow 10 = .ok (.aload_n 0, 1) := dk_42 (dk_at dksX7_costNow_0 10 rfl rfl)
theorem dX7_costNow_11 : decode cX7_costNow 11 = .ok (.iload_n 1, 1) := dk_27 (dk_at dksX7_costNow_0 11 rfl rfl)
theorem dX7_costNow_12 : decode cX7_costNow 12 = .ok (.invokevirtual 257, 3) := dk_182 1 1 (dk_at dksX7_costNow_0 12 rfl rfl)
theorem dX7_costNow_15 : decode cX7_costNow 15 = .ok (.lreturn, 1) := dk_173 (dk_at dksX7_costNow_0 15 rfl rfl)
abbrev cX7_costAll : ByteArray := prog_20_method_44_code
def yX7_costAll : MethodName := ⟨RX7, "costAll", "(I)J"⟩
def dkwX7_costAll_1 : List UInt8 := [133, 97, 65, 132, 4, 1, 167, 255, 231, 32, 173]
abbrev dktX7_costAll_1 : List UInt8 := dkwX7_costAll_1 ++ []
def dkwX7_costAll_0 : List UInt8 := [9, 65, 3, 54, 4, 21, 4, 42, 180, 0, 31, 27, 46, 162, 0, 20, 32, 42, 27, 21, 4, 182, 0, 248]
abbrev dktX7_costAll_0 : List UInt8 := dkwX7_costAll_0 ++ dktX7_costAll_1
theorem dksX7_costAll_0 : cX7_costAll.data.toList.drop 0 = dktX7_costAll_0 := by decide +kernel
theorem dksX7_costAll_1 : cX7_costAll.data.toList.drop 24 = dktX7_costAll_1 := dk_seg dksX7_costAll_0 24 rfl rfl
theorem dX7_costAll_0 : decode cX7_costAll 0 = .ok (.lconst 0, 1) := dk_9 (dk_at dksX7_costAll_0 0 rfl rfl)
theorem dX7_costAll_1 : decode cX7_costAll 1 = .ok (.lstore_n 2, 1) := dk_65 (dk_at dksX7_costAll_0 1 rfl rfl)
theorem dX7_costAll_2 : decode cX7_costAll 2 = .ok (.iconst 0, 1) := dk_3 (dk_at dksX7_costAll_0 2 rfl rfl)
theorem dX7_costAll_3 : decode cX7_costAll 3 = .ok (.istore 4, 2) := dk_54 4 (dk_at dksX7_costAll_0 3 rfl rfl)
theorem dX7_costAll_5 : decode cX7_costAll 5 = .ok (.iload 4, 2) := dk_21 4 (dk_at dksX7_costAll_0 5 rfl rfl)
theorem dX7_costAll_7 : decode cX7_costAll 7 = .ok (.aload_n 0, 1) := dk_42 (dk_at dksX7_costAll_0 7 rfl rfl)
theorem dX7_costAll_8 : decode cX7_costAll 8 = .ok (.getfield 31, 3) := dk_180 0 31 (dk_at dksX7_costAll_0 8 rfl rfl)
theorem dX7_costAll_11 : decode cX7_costAll 11 = .ok (.iload_n 1, 1) := dk_27 (dk_at dksX7_costAll_0 11 rfl rfl)
theorem dX7_costAll_12 : decode cX7_costAll 12 = .ok (.iaload, 1) := dk_46 (dk_at dksX7_costAll_0 12 rfl rfl)
theorem dX7_costAll_13 : decode cX7_costAll 13 = .ok (.if_icmp .ge 20, 3) := dk_162 0 20 (dk_at dksX7_costAll_0 13 rfl rfl)
theorem dX7_costAll_16 : decode cX7_costAll 16 = .ok (.lload_n 2, 1) := dk_32 (dk_at dksX7_costAll_0 16 rfl rfl)
theorem dX7_costAll_17 : decode cX7_costAll 17 = .ok (.aload_n 0, 1) := dk_42 (dk_at dksX7_costAll_0 17 rfl rfl)
theorem dX7_costAll_18 : decode cX7_costAll 18 = .ok (.iload_n 1, 1) := dk_27 (dk_at dksX7_costAll_0 18 rfl rfl)
theorem dX7_costAll_19 : decode cX7_costAll 19 = .ok (.iload 4, 2) := dk_21 4 (dk_at dksX7_costAll_0 19 rfl rfl)
theorem dX7_costAll_21 : decode cX7_costAll 21 = .ok (.invokevirtual 248, 3) := dk_182 0 248 (dk_at dksX7_costAll_0 21 rfl rfl)
theorem dX7_costAll_24 : decode cX7_costAll 24 = .ok (.i2l, 1) := dk_133 (dk_at dksX7_costAll_1 0 rfl rfl)
theorem dX7_costAll_25 : decode cX7_costAll 25 = .ok (.ladd, 1) := dk_97 (dk_at dksX7_costAll_1 1 rfl rfl)
theorem dX7_costAll_26 : decode cX7_costAll 26 = .ok (.lstore_n 2, 1) := dk_65 (dk_at dksX7_costAll_1 2 rfl rfl)
theorem dX7_costAll_27 : decode cX7_costAll 27 = .ok (.iinc 4 1, 3) := dk_132 4 1 (dk_at dksX7_costAll_1 3 rfl rfl)
theorem dX7_costAll_30 : decode cX7_costAll 30 = .ok (.goto (-25), 3) := dk_167 255 231 (dk_at dksX7_costAll_1 6 rfl rfl)
theorem dX7_costAll_33 : decode cX7_costAll 33 = .ok (.lload_n 2, 1) := dk_32 (dk_at dksX7_costAll_1 9 rfl rfl)
theorem dX7_costAll_34 : decode cX7_costAll 34 = .ok (.lreturn, 1) := dk_173 (dk_at dksX7_costAll_1 10 rfl rfl)
abbrev cX7_judge : ByteArray := prog_20_method_52_code
def yX7_judge : MethodName := ⟨RX7, "judge", "(II)I"⟩
def dkwX7_judge_3 : List UInt8 := [180, 1, 22, 172]
abbrev dktX7_judge_3 : List UInt8 := dkwX7_judge_3 ++ []
def dkwX7_judge_2 : List UInt8 := [154, 0, 10, 42, 180, 1, 13, 167, 0, 19, 28, 4, 160, 0, 10, 42, 180, 1, 19, 167, 0, 7, 42]
abbrev dktX7_judge_2 : List UInt8 := dkwX7_judge_2 ++ dktX7_judge_3
def dkwX7_judge_1 : List UInt8 := [27, 182, 0, 251, 42, 27, 182, 1, 25, 42, 180, 1, 13, 2, 160, 0, 7, 2, 167, 0, 30, 28]
abbrev dktX7_judge_1 : List UInt8 := dkwX7_judge_1 ++ dktX7_judge_2
def dkwX7_judge_0 : List UInt8 := [42, 27, 182, 0, 217, 154, 0, 6, 16, 251, 172, 28, 3, 5, 184, 0, 127, 154, 0, 6, 16, 249, 172, 42]
abbrev dktX7_judge_0 : List UInt8 := dkwX7_judge_0 ++ dktX7_judge_1
theorem dksX7_judge_0 : cX7_judge.data.toList.drop 0 = dktX7_judge_0 := by decide +kernel
theorem dksX7_judge_1 : cX7_judge.data.toList.drop 24 = dktX7_judge_1 := dk_seg dksX7_judge_0 24 rfl rfl
theorem dksX7_judge_2 : cX7_judge.data.toList.drop 46 = dktX7_judge_2 := dk_seg dksX7_judge_1 22 rfl rfl
theorem dksX7_judge_3 : cX7_judge.data.toList.drop 69 = dktX7_judge_3 := dk_seg dksX7_judge_2 23 rfl rfl
theorem dX7_judge_0 : decode cX7_judge 0 = .ok (.aload_n 0, 1) := dk_42 (dk_at dksX7_judge_0 0 rfl rfl)
theorem dX7_judge_1 : decode cX7_judge 1 = .ok (.iload_n 1, 1) := dk_27 (dk_at dksX7_judge_0 1 rfl rfl)
theorem dX7_judge_2 : decode cX7_judge 2 = .ok (.invokevirtual 217, 3) := dk_182 0 217 (dk_at dksX7_judge_0 2 rfl rfl)
theorem dX7_judge_5 : decode cX7_judge 5 = .ok (.ifCond .ne 6, 3) := dk_154 0 6 (dk_at dksX7_judge_0 5 rfl rfl)
theorem dX7_judge_8 : decode cX7_judge 8 = .ok (.bipush (-5), 2) := dk_16 251 (dk_at dksX7_judge_0 8 rfl rfl)
theorem dX7_judge_10 : decode cX7_judge 10 = .ok (.ireturn, 1) := dk_172 (dk_at dksX7_judge_0 10 rfl rfl)
theorem dX7_judge_11 : decode cX7_judge 11 = .ok (.iload_n 2, 1) := dk_28 (dk_at dksX7_judge_0 11 rfl rfl)
theorem dX7_judge_12 : decode cX7_judge 12 = .ok (.iconst 0, 1) := dk_3 (dk_at dksX7_judge_0 12 rfl rfl)
theorem dX7_judge_13 : decode cX7_judge 13 = .ok (.iconst 2, 1) := dk_5 (dk_at dksX7_judge_0 13 rfl rfl)
theorem dX7_judge_14 : decode cX7_judge 14 = .ok (.invokestatic 127, 3) := dk_184 0 127 (dk_at dksX7_judge_0 14 rfl rfl)
theorem dX7_judge_17 : decode cX7_judge 17 = .ok (.ifCond .ne 6, 3) := dk_154 0 6 (dk_at dksX7_judge_0 17 rfl rfl)
theorem dX7_judge_20 : decode cX7_judge 20 = .ok (.bipush (-7), 2) := dk_16 249 (dk_at dksX7_judge_0 20 rfl rfl)
theorem dX7_judge_22 : decode cX7_judge 22 = .ok (.ireturn, 1) := dk_172 (dk_at dksX7_judge_0 22 rfl rfl)
theorem dX7_judge_23 : decode cX7_judge 23 = .ok (.aload_n 0, 1) := dk_42 (dk_at dksX7_judge_0 23 rfl rfl)
theorem dX7_judge_24 : decode cX7_judge 24 = .ok (.iload_n 1, 1) := dk_27 (dk_at dksX7_judge_1 0 rfl rfl)
theorem dX7_judge_25 : decode cX7_judge 25 = .ok (.invokevirtual 251, 3) := dk_182 0 251 (dk_at dksX7_judge_1 1 rfl rfl)
theorem dX7_judge_28 : decode cX7_judge 28 = .ok (.aload_n 0, 1) := dk_42 (dk_at dksX7_judge_1 4 rfl rfl)
theorem dX7_judge_29 : decode cX7_judge 29 = .ok (.iload_n 1, 1) := dk_27 (dk_at dksX7_judge_1 5 rfl rfl)
theorem dX7_judge_30 : decode cX7_judge 30 = .ok (.invokevirtual 281, 3) := dk_182 1 25 (dk_at dksX7_judge_1 6 rfl rfl)
theorem dX7_judge_33 : decode cX7_judge 33 = .ok (.aload_n 0, 1) := dk_42 (dk_at dksX7_judge_1 9 rfl rfl)
theorem dX7_judge_34 : decode cX7_judge 34 = .ok (.getfield 269, 3) := dk_180 1 13 (dk_at dksX7_judge_1 10 rfl rfl)
theorem dX7_judge_37 : decode cX7_judge 37 = .ok (.iconst (-1), 1) := dk_2 (dk_at dksX7_judge_1 13 rfl rfl)
theorem dX7_judge_38 : decode cX7_judge 38 = .ok (.if_icmp .ne 7, 3) := dk_160 0 7 (dk_at dksX7_judge_1 14 rfl rfl)
theorem dX7_judge_41 : decode cX7_judge 41 = .ok (.iconst (-1), 1) := dk_2 (dk_at dksX7_judge_1 17 rfl rfl)
theorem dX7_judge_42 : decode cX7_judge 42 = .ok (.goto 30, 3) := dk_167 0 30 (dk_at dksX7_judge_1 18 rfl rfl)
theorem dX7_judge_45 : decode cX7_judge 45 = .ok (.iload_n 2, 1) := dk_28 (dk_at dksX7_judge_1 21 rfl rfl)
theorem dX7_judge_46 : decode cX7_judge 46 = .ok (.ifCond .ne 10, 3) := dk_154 0 10 (dk_at dksX7_judge_2 0 rfl rfl)
theorem dX7_judge_49 : decode cX7_judge 49 = .ok (.aload_n 0, 1) := dk_42 (dk_at dksX7_judge_2 3 rfl rfl)
theorem dX7_judge_50 : decode cX7_judge 50 = .ok (.getfield 269, 3) := dk_180 1 13 (dk_at dksX7_judge_2 4 rfl rfl)
theorem dX7_judge_53 : decode cX7_judge 53 = .ok (.goto 19, 3) := dk_167 0 19 (dk_at dksX7_judge_2 7 rfl rfl)
theorem dX7_judge_56 : decode cX7_judge 56 = .ok (.iload_n 2, 1) := dk_28 (dk_at dksX7_judge_2 10 rfl rfl)
theorem dX7_judge_57 : decode cX7_judge 57 = .ok (.iconst 1, 1) := dk_4 (dk_at dksX7_judge_2 11 rfl rfl)
theorem dX7_judge_58 : decode cX7_judge 58 = .ok (.if_icmp .ne 10, 3) := dk_160 0 10 (dk_at dksX7_judge_2 12 rfl rfl)
theorem dX7_judge_61 : decode cX7_judge 61 = .ok (.aload_n 0, 1) := dk_42 (dk_at dksX7_judge_2 15 rfl rfl)
theorem dX7_judge_62 : decode cX7_judge 62 = .ok (.getfield 275, 3) := dk_180 1 19 (dk_at dksX7_judge_2 16 rfl rfl)
theorem dX7_judge_65 : decode cX7_judge 65 = .ok (.goto 7, 3) := dk_167 0 7 (dk_at dksX7_judge_2 19 rfl rfl)
theorem dX7_judge_68 : decode cX7_judge 68 = .ok (.aload_n 0, 1) := dk_42 (dk_at dksX7_judge_2 22 rfl rfl)
theorem dX7_judge_69 : decode cX7_judge 69 = .ok (.getfield 278, 3) := dk_180 1 22 (dk_at dksX7_judge_3 0 rfl rfl)
theorem dX7_judge_72 : decode cX7_judge 72 = .ok (.ireturn, 1) := dk_172 (dk_at dksX7_judge_3 3 rfl rfl)
abbrev cX7_looks : ByteArray := prog_20_method_51_code
def yX7_looks : MethodName := ⟨RX7, "looks", "(I)V"⟩
def dkwX7_looks_4 : List UInt8 := [181, 1, 13, 42, 29, 21, 4, 100, 181, 1, 22, 132, 2, 1, 167, 255, 157, 177]
abbrev dktX7_looks_4 : List UInt8 := dkwX7_looks_4 ++ []
def dkwX7_looks_3 : List UInt8 := [54, 4, 42, 21, 5, 181, 1, 19, 132, 5, 1, 167, 255, 219, 21, 4, 29, 162, 0, 16, 42, 28]
abbrev dktX7_looks_3 : List UInt8 := dkwX7_looks_3 ++ dktX7_looks_4
def dkwX7_looks_2 : List UInt8 := [16, 48, 163, 0, 36, 42, 27, 28, 21, 5, 182, 1, 16, 54, 6, 21, 6, 21, 4, 162, 0, 13, 21, 6]
abbrev dktX7_looks_2 : List UInt8 := dkwX7_looks_2 ++ dktX7_looks_3
def dkwX7_looks_1 : List UInt8 := [160, 0, 87, 42, 27, 28, 42, 180, 0, 106, 28, 46, 182, 1, 16, 62, 29, 54, 4, 3, 54, 5, 21, 5]
abbrev dktX7_looks_1 : List UInt8 := dkwX7_looks_1 ++ dktX7_looks_2
def dkwX7_looks_0 : List UInt8 := [42, 2, 181, 1, 13, 3, 61, 28, 42, 180, 0, 31, 27, 46, 162, 0, 95, 42, 180, 1, 13, 2]
abbrev dktX7_looks_0 : List UInt8 := dkwX7_looks_0 ++ dktX7_looks_1
theorem dksX7_looks_0 : cX7_looks.data.toList.drop 0 = dktX7_looks_0 := by decide +kernel
theorem dksX7_looks_1 : cX7_looks.data.toList.drop 22 = dktX7_looks_1 := dk_seg dksX7_looks_0 22 rfl rfl
theorem dksX7_looks_2 : cX7_looks.data.toList.drop 46 = dktX7_looks_2 := dk_seg dksX7_looks_1 24 rfl rfl
theorem dksX7_looks_3 : cX7_looks.data.toList.drop 70 = dktX7_looks_3 := dk_seg dksX7_looks_2 24 rfl rfl
theorem dksX7_looks_4 : cX7_looks.data.toList.drop 92 = dktX7_looks_4 := dk_seg dksX7_looks_3 22 rfl rfl
theorem dX7_looks_0 : decode cX7_looks 0 = .ok (.aload_n 0, 1) := dk_42 (dk_at dksX7_looks_0 0 rfl rfl)
theorem dX7_looks_1 : decode cX7_looks 1 = .ok (.iconst (-1), 1) := dk_2 (dk_at dksX7_looks_0 1 rfl rfl)
theorem dX7_looks_2 : decode cX7_looks 2 = .ok (.putfield 269, 3) := dk_181 1 13 (dk_at dksX7_looks_0 2 rfl rfl)
theorem dX7_looks_5 : decode cX7_looks 5 = .ok (.iconst 0, 1) := dk_3 (dk_at dksX7_looks_0 5 rfl rfl)
theorem dX7_looks_6 : decode cX7_looks 6 = .ok (.istore_n 2, 1) := dk_61 (dk_at dksX7_looks_0 6 rfl rfl)
theorem dX7_looks_7 : decode cX7_looks 7 = .ok (.iload_n 2, 1) := dk_28 (dk_at dksX7_looks_0 7 rfl rfl)
theorem dX7_looks_8 : decode cX7_looks 8 = .ok (.aload_n 0, 1) := dk_42 (dk_at dksX7_looks_0 8 rfl rfl)
theorem dX7_looks_9 : decode cX7_looks 9 = .ok (.getfield 31, 3) := dk_180 0 31 (dk_at dksX7_looks_0 9 rfl rfl)
theorem dX7_looks_12 : decode cX7_looks 12 = .ok (.iload_n 1, 1) := dk_27 (dk_at dksX7_looks_0 12 rfl rfl)
theorem dX7_looks_13 : decode cX7_looks 13 = .ok (.iaload, 1) := dk_46 (dk_at dksX7_looks_0 13 rfl rfl)
theorem dX7_looks_14 : decode cX7_looks 14 = .ok (.if_icmp .ge 95, 3) := dk_162 0 95 (dk_at dksX7_looks_0 14 rfl rfl)
theorem dX7_looks_17 : decode cX7_looks 17 = .ok (.aload_n 0, 1) := dk_42 (dk_at dksX7_looks_0 17 rfl rfl)
theorem dX7_looks_18 : decode cX7_looks 18 = .ok (.getfield 269, 3) := dk_180 1 13 (dk_at dksX7_looks_0 18 rfl rfl)
theorem dX7_looks_21 : decode cX7_looks 21 = .ok (.iconst (-1), 1) := dk_2 (dk_at dksX7_looks_0 21 rfl rfl)
theorem dX7_looks_22 : decode cX7_looks 22 = .ok (.if_icmp .ne 87, 3) := dk_160 0 87 (dk_at dksX7_looks_1 0 rfl rfl)
theorem dX7_looks_25 : decode cX7_looks 25 = .ok (.aload_n 0, 1) := dk_42 (dk_at dksX7_looks_1 3 rfl rfl)
theorem dX7_looks_26 : decode cX7_looks 26 = .ok (.iload_n 1, 1) := dk_27 (dk_at dksX7_looks_1 4 rfl rfl)
theorem dX7_looks_27 : decode cX7_looks 27 = .ok (.iload_n 2, 1) := dk_28 (dk_at dksX7_looks_1 5 rfl rfl)
theorem dX7_looks_28 : decode cX7_looks 28 = .ok (.aload_n 0, 1) := dk_42 (dk_at dksX7_looks_1 6 rfl rfl)
theorem dX7_looks_29 : decode cX7_looks 29 = .ok (.getfield 106, 3) := dk_180 0 106 (dk_at dksX7_looks_1 7 rfl rfl)
theorem dX7_looks_32 : decode cX7_looks 32 = .ok (.iload_n 2, 1) := dk_28 (dk_at dksX7_looks_1 10 rfl rfl)
theorem dX7_looks_33 : decode cX7_looks 33 = .ok (.iaload, 1) := dk_46 (dk_at dksX7_looks_1 11 rfl rfl)
theorem dX7_looks_34 : decode cX7_looks 34 = .ok (.invokevirtual 272, 3) := dk_182 1 16 (dk_at dksX7_looks_1 12 rfl rfl)
theorem dX7_looks_37 : decode cX7_looks 37 = .ok (.istore_n 3, 1) := dk_62 (dk_at dksX7_looks_1 15 rfl rfl)
theorem dX7_looks_38 : decode cX7_looks 38 = .ok (.iload_n 3, 1) := dk_29 (dk_at dksX7_looks_1 16 rfl rfl)
theorem dX7_looks_39 : decode cX7_looks 39 = .ok (.istore 4, 2) := dk_54 4 (dk_at dksX7_looks_1 17 rfl rfl)
theorem dX7_looks_41 : decode cX7_looks 41 = .ok (.iconst 0, 1) := dk_3 (dk_at dksX7_looks_1 19 rfl rfl)
theorem dX7_looks_42 : decode cX7_looks 42 = .ok (.istore 5, 2) := dk_54 5 (dk_at dksX7_looks_1 20 rfl rfl)
theorem dX7_looks_44 : decode cX7_looks 44 = .ok (.iload 5, 2) := dk_21 5 (dk_at dksX7_looks_1 22 rfl rfl)
theorem dX7_looks_46 : decode cX7_looks 46 = .ok (.bipush 48, 2) := dk_16 48 (dk_at dksX7_looks_2 0 rfl rfl)
theorem dX7_looks_48 : decode cX7_looks 48 = .ok (.if_icmp .gt 36, 3) := dk_163 0 36 (dk_at dksX7_looks_2 2 rfl rfl)
theorem dX7_looks_51 : decode cX7_looks 51 = .ok (.aload_n 0, 1) := dk_42 (dk_at dksX7_looks_2 5 rfl rfl)
theorem dX7_looks_52 : decode cX7_looks 52 = .ok (.iload_n 1, 1) := dk_27 (dk_at dksX7_looks_2 6 rfl rfl)
theorem dX7_looks_53 : decode cX7_looks 53 = .ok (.iload_n 2, 1) := dk_28 (dk_at dksX7_looks_2 7 rfl rfl)
theorem dX7_looks_54 : decode cX7_looks 54 = .ok (.iload 5, 2) := dk_21 5 (dk_at dksX7_looks_2 8 rfl rfl)
theorem dX7_looks_56 : decode cX7_looks 56 = .ok (.invokevirtual 272, 3) := dk_182 1 16 (dk_at dksX7_looks_2 10 rfl rfl)
theorem dX7_looks_59 : decode cX7_looks 59 = .ok (.istore 6, 2) := dk_54 6 (dk_at dksX7_looks_2 13 rfl rfl)
theorem dX7_looks_61 : decode cX7_looks 61 = .ok (.iload 6, 2) := dk_21 6 (dk_at dksX7_looks_2 15 rfl rfl)
theorem dX7_looks_63 : decode cX7_looks 63 = .ok (.iload 4, 2) := dk_21 4 (dk_at dksX7_looks_2 17 rfl rfl)
theorem dX7_looks_65 : decode cX7_looks 65 = .ok (.if_icmp .ge 13, 3) := dk_162 0 13 (dk_at dksX7_looks_2 19 rfl rfl)
theorem dX7_looks_68 : decode cX7_looks 68 = .ok (.iload 6, 2) := dk_21 6 (dk_at dksX7_looks_2 22 rfl rfl)
theorem dX7_looks_70 : decode cX7_looks 70 = .ok (.istore 4, 2) := dk_54 4 (dk_at dksX7_looks_3 0 rfl rfl)
theorem dX7_looks_72 : decode cX7_looks 72 = .ok (.aload_n 0, 1) := dk_42 (dk_at dksX7_looks_3 2 rfl rfl)
theorem dX7_looks_73 : decode cX7_looks 73 = .ok (.iload 5, 2) := dk_21 5 (dk_at dksX7_looks_3 3 rfl rfl)
theorem dX7_looks_75 : decode cX7_looks 75 = .ok (.putfield 275, 3) := dk_181 1 19 (dk_at dksX7_looks_3 5 rfl rfl)
theorem dX7_looks_78 : decode cX7_looks 78 = .ok (.iinc 5 1, 3) := dk_132 5 1 (dk_at dksX7_looks_3 8 rfl rfl)
theorem dX7_looks_81 : decode cX7_looks 81 = .ok (.goto (-37), 3) := dk_167 255 219 (dk_at dksX7_looks_3 11 rfl rfl)
theorem dX7_looks_84 : decode cX7_looks 84 = .ok (.iload 4, 2) := dk_21 4 (dk_at dksX7_looks_3 14 rfl rfl)
theorem dX7_looks_86 : decode cX7_looks 86 = .ok (.iload_n 3, 1) := dk_29 (dk_at dksX7_looks_3 16 rfl rfl)
theorem dX7_looks_87 : decode cX7_looks 87 = .ok (.if_icmp .ge 16, 3) := dk_162 0 16 (dk_at dksX7_looks_3 17 rfl rfl)
theorem dX7_looks_90 : decode cX7_looks 90 = .ok (.aload_n 0, 1) := dk_42 (dk_at dksX7_looks_3 20 rfl rfl)
theorem dX7_looks_91 : decode cX7_looks 91 = .ok (.iload_n 2, 1) := dk_28 (dk_at dksX7_looks_3 21 rfl rfl)
theorem dX7_looks_92 : decode cX7_looks 92 = .ok (.putfield 269, 3) := dk_181 1 13 (dk_at dksX7_looks_4 0 rfl rfl)
theorem dX7_looks_95 : decode cX7_looks 95 = .ok (.aload_n 0, 1) := dk_42 (dk_at dksX7_looks_4 3 rfl rfl)
theorem dX7_looks_96 : decode cX7_looks 96 = .ok (.iload_n 3, 1) := dk_29 (dk_at dksX7_looks_4 4 rfl rfl)
theorem dX7_looks_97 : decode cX7_looks 97 = .ok (.iload 4, 2) := dk_21 4 (dk_at dksX7_looks_4 5 rfl rfl)
theorem dX7_looks_99 : decode cX7_looks 99 = .ok (.isub, 1) := dk_100 (dk_at dksX7_looks_4 7 rfl rfl)
theorem dX7_looks_100 : decode cX7_looks 100 = .ok (.putfield 278, 3) := dk_181 1 22 (dk_at dksX7_looks_4 8 rfl rfl)
theorem dX7_looks_103 : decode cX7_looks 103 = .ok (.iinc 2 1, 3) := dk_132 2 1 (dk_at dksX7_looks_4 11 rfl rfl)
theorem dX7_looks_106 : decode cX7_looks 106 = .ok (.goto (-99), 3) := dk_167 255 157 (dk_at dksX7_looks_4 14 rfl rfl)
theorem dX7_looks_109 : decode cX7_looks 109 = .ok (.return_, 1) := dk_177 (dk_at dksX7_looks_4 17 rfl rfl)
abbrev cX7_costBy : ByteArray := prog_20_method_50_code
def yX7_costBy : MethodName := ⟨RX7, "costBy", "(III)I"⟩
def dkwX7_costBy_1 : List UInt8 := [182, 0, 248, 54, 5, 42, 180, 0, 106, 28, 21, 4, 79, 21, 5, 172]
abbrev dktX7_costBy_1 : List UInt8 := dkwX7_costBy_1 ++ []
def dkwX7_costBy_0 : List UInt8 := [42, 180, 0, 106, 28, 46, 54, 4, 42, 180, 0, 106, 28, 29, 79, 42, 27, 182, 0, 254, 42, 27, 28]
abbrev dktX7_costBy_0 : List UInt8 := dkwX7_costBy_0 ++ dktX7_costBy_1
theorem dksX7_costBy_0 : cX7_costBy.data.toList.drop 0 = dktX7_costBy_0 := by decide +kernel
theorem dksX7_costBy_1 : cX7_costBy.data.toList.drop 23 = dktX7_costBy_1 := dk_seg dksX7_costBy_0 23 rfl rfl
theorem dX7_costBy_0 : decode cX7_costBy 0 = .ok (.aload_n 0, 1) := dk_42 (dk_at dksX7_costBy_0 0 rfl rfl)
theorem dX7_costBy_1 : decode cX7_costBy 1 = .ok (.getfield 106, 3) := dk_180 0 106 (dk_at dksX7_costBy_0 1 rfl rfl)
theorem dX7_costBy_4 : decode cX7_costBy 4 = .ok (.iload_n 2, 1) := dk_28 (dk_at dksX7_costBy_0 4 rfl rfl)
theorem dX7_costBy_5 : decode cX7_costBy 5 = .ok (.iaload, 1) := dk_46 (dk_at dksX7_costBy_0 5 rfl rfl)
theorem dX7_costBy_6 : decode cX7_costBy 6 = .ok (.istore 4, 2) := dk_54 4 (dk_at dksX7_costBy_0 6 rfl rfl)
theorem dX7_costBy_8 : decode cX7_costBy 8 = .ok (.aload_n 0, 1) := dk_42 (dk_at dksX7_costBy_0 8 rfl rfl)
theorem dX7_costBy_9 : decode cX7_costBy 9 = .ok (.getfield 106, 3) := dk_180 0 106 (dk_at dksX7_costBy_0 9 rfl rfl)
theorem dX7_costBy_12 : decode cX7_costBy 12 = .ok (.iload_n 2, 1) := dk_28 (dk_at dksX7_costBy_0 12 rfl rfl)
theorem dX7_costBy_13 : decode cX7_costBy 13 = .ok (.iload_n 3, 1) := dk_29 (dk_at dksX7_costBy_0 13 rfl rfl)
theorem dX7_costBy_14 : decode cX7_costBy 14 = .ok (.iastore, 1) := dk_79 (dk_at dksX7_costBy_0 14 rfl rfl)
theorem dX7_costBy_15 : decode cX7_costBy 15 = .ok (.aload_n 0, 1) := dk_42 (dk_at dksX7_costBy_0 15 rfl rfl)
theorem dX7_costBy_16 : decode cX7_costBy 16 = .ok (.iload_n 1, 1) := dk_27 (dk_at dksX7_costBy_0 16 rfl rfl)
theorem dX7_costBy_17 : decode cX7_costBy 17 = .ok (.invokevirtual 254, 3) := dk_182 0 254 (dk_at dksX7_costBy_0 17 rfl rfl)
theorem dX7_costBy_20 : decode cX7_costBy 20 = .ok (.aload_n 0, 1) := dk_42 (dk_at dksX7_costBy_0 20 rfl rfl)
theorem dX7_costBy_21 : decode cX7_costBy 21 = .ok (.iload_n 1, 1) := dk_27 (dk_at dksX7_costBy_0 21 rfl rfl)
theorem dX7_costBy_22 : decode cX7_costBy 22 = .ok (.iload_n 2, 1) := dk_28 (dk_at dksX7_costBy_0 22 rfl rfl)
theorem dX7_costBy_23 : decode cX7_costBy 23 = .ok (.invokevirtual 248, 3) := dk_182 0 248 (dk_at dksX7_costBy_1 0 rfl rfl)
theorem dX7_costBy_26 : decode cX7_costBy 26 = .ok (.istore 5, 2) := dk_54 5 (dk_at dksX7_costBy_1 3 rfl rfl)
theorem dX7_costBy_28 : decode cX7_costBy 28 = .ok (.aload_n 0, 1) := dk_42 (dk_at dksX7_costBy_1 5 rfl rfl)
theorem dX7_costBy_29 : decode cX7_costBy 29 = .ok (.getfield 106, 3) := dk_180 0 106 (dk_at dksX7_costBy_1 6 rfl rfl)
theorem dX7_costBy_32 : decode cX7_costBy 32 = .ok (.iload_n 2, 1) := dk_28 (dk_at dksX7_costBy_1 9 rfl rfl)
theorem dX7_costBy_33 : decode cX7_costBy 33 = .ok (.iload 4, 2) := dk_21 4 (dk_at dksX7_costBy_1 10 rfl rfl)
theorem dX7_costBy_35 : decode cX7_costBy 35 = .ok (.iastore, 1) := dk_79 (dk_at dksX7_costBy_1 12 rfl rfl)
theorem dX7_costBy_36 : decode cX7_costBy 36 = .ok (.iload 5, 2) := dk_21 5 (dk_at dksX7_costBy_1 13 rfl rfl)
theorem dX7_costBy_38 : decode cX7_costBy 38 = .ok (.ireturn, 1) := dk_172 (dk_at dksX7_costBy_1 15 rfl rfl)
abbrev cX7_rest : ByteArray := prog_20_method_54_code
def yX7_rest : MethodName := ⟨RX7, "rest", "(II)I"⟩
def dkwX7_rest_3 : List UInt8 := [132, 4, 1, 167, 255, 223, 29, 172]
abbrev dktX7_rest_3 : List UInt8 := dkwX7_rest_3 ++ []
def dkwX7_rest_2 : List UInt8 := [162, 0, 28, 42, 180, 0, 34, 16, 16, 27, 104, 21, 4, 96, 42, 180, 0, 106, 21, 4, 46, 79]
abbrev dktX7_rest_2 : List UInt8 := dkwX7_rest_2 ++ dktX7_rest_3
def dkwX7_rest_1 : List UInt8 := [42, 27, 182, 0, 251, 42, 27, 28, 182, 1, 28, 62, 3, 54, 4, 21, 4, 42, 180, 0, 31, 27, 46]
abbrev dktX7_rest_1 : List UInt8 := dkwX7_rest_1 ++ dktX7_rest_2
def dkwX7_rest_0 : List UInt8 := [42, 27, 182, 0, 217, 154, 0, 6, 16, 251, 172, 28, 3, 16, 8, 184, 0, 127, 154, 0, 6, 16, 249, 172]
abbrev dktX7_rest_0 : List UInt8 := dkwX7_rest_0 ++ dktX7_rest_1
theorem dksX7_rest_0 : cX7_rest.data.toList.drop 0 = dktX7_rest_0 := by decide +kernel
theorem dksX7_rest_1 : cX7_rest.data.toList.drop 24 = dktX7_rest_1 := dk_seg dksX7_rest_0 24 rfl rfl
theorem dksX7_rest_2 : cX7_rest.data.toList.drop 47 = dktX7_rest_2 := dk_seg dksX7_rest_1 23 rfl rfl
theorem dksX7_rest_3 : cX7_rest.data.toList.drop 69 = dktX7_rest_3 := dk_seg dksX7_rest_2 22 rfl rfl
theorem dX7_rest_0 : decode cX7_rest 0 = .ok (.aload_n 0, 1) := dk_42 (dk_at dksX7_rest_0 0 rfl rfl)
theorem dX7_rest_1 : decode cX7_rest 1 = .ok (.iload_n 1, 1) := dk_27 (dk_at dksX7_rest_0 1 rfl rfl)
theorem dX7_rest_2 : decode cX7_rest 2 = .ok (.invokevirtual 217, 3) := dk_182 0 217 (dk_at dksX7_rest_0 2 rfl rfl)
theorem dX7_rest_5 : decode cX7_rest 5 = .ok (.ifCond .ne 6, 3) := dk_154 0 6 (dk_at dksX7_rest_0 5 rfl rfl)
theorem dX7_rest_8 : decode cX7_rest 8 = .ok (.bipush (-5), 2) := dk_16 251 (dk_at dksX7_rest_0 8 rfl rfl)
theorem dX7_rest_10 : decode cX7_rest 10 = .ok (.ireturn, 1) := dk_172 (dk_at dksX7_rest_0 10 rfl rfl)
theorem dX7_rest_11 : decode cX7_rest 11 = .ok (.iload_n 2, 1) := dk_28 (dk_at dksX7_rest_0 11 rfl rfl)
theorem dX7_rest_12 : decode cX7_rest 12 = .ok (.iconst 0, 1) := dk_3 (dk_at dksX7_rest_0 12 rfl rfl)
theorem dX7_rest_13 : decode cX7_rest 13 = .ok (.bipush 8, 2) := dk_16 8 (dk_at dksX7_rest_0 13 rfl rfl)
theorem dX7_rest_15 : decode cX7_rest 15 = .ok (.invokestatic 127, 3) := dk_184 0 127 (dk_at dksX7_rest_0 15 rfl rfl)
theorem dX7_rest_18 : decode cX7_rest 18 = .ok (.ifCond .ne 6, 3) := dk_154 0 6 (dk_at dksX7_rest_0 18 rfl rfl)
theorem dX7_rest_21 : decode cX7_rest 21 = .ok (.bipush (-7), 2) := dk_16 249 (dk_at dksX7_rest_0 21 rfl rfl)
theorem dX7_rest_23 : decode cX7_rest 23 = .ok (.ireturn, 1) := dk_172 (dk_at dksX7_rest_0 23 rfl rfl)
theorem dX7_rest_24 : decode cX7_rest 24 = .ok (.aload_n 0, 1) := dk_42 (dk_at dksX7_rest_1 0 rfl rfl)
theorem dX7_rest_25 : decode cX7_rest 25 = .ok (.iload_n 1, 1) := dk_27 (dk_at dksX7_rest_1 1 rfl rfl)
theorem dX7_rest_26 : decode cX7_rest 26 = .ok (.invokevirtual 251, 3) := dk_182 0 251 (dk_at dksX7_rest_1 2 rfl rfl)
theorem dX7_rest_29 : decode cX7_rest 29 = .ok (.aload_n 0, 1) := dk_42 (dk_at dksX7_rest_1 5 rfl rfl)
theorem dX7_rest_30 : decode cX7_rest 30 = .ok (.iload_n 1, 1) := dk_27 (dk_at dksX7_rest_1 6 rfl rfl)
theorem dX7_rest_31 : decode cX7_rest 31 = .ok (.iload_n 2, 1) := dk_28 (dk_at dksX7_rest_1 7 rfl rfl)
theorem dX7_rest_32 : decode cX7_rest 32 = .ok (.invokevirtual 284, 3) := dk_182 1 28 (dk_at dksX7_rest_1 8 rfl rfl)
theorem dX7_rest_35 : decode cX7_rest 35 = .ok (.istore_n 3, 1) := dk_62 (dk_at dksX7_rest_1 11 rfl rfl)
theorem dX7_rest_36 : decode cX7_rest 36 = .ok (.iconst 0, 1) := dk_3 (dk_at dksX7_rest_1 12 rfl rfl)
theorem dX7_rest_37 : decode cX7_rest 37 = .ok (.istore 4, 2) := dk_54 4 (dk_at dksX7_rest_1 13 rfl rfl)
theorem dX7_rest_39 : decode cX7_rest 39 = .ok (.iload 4, 2) := dk_21 4 (dk_at dksX7_rest_1 15 rfl rfl)
theorem dX7_rest_41 : decode cX7_rest 41 = .ok (.aload_n 0, 1) := dk_42 (dk_at dksX7_rest_1 17 rfl rfl)
theorem dX7_rest_42 : decode cX7_rest 42 = .ok (.getfield 31, 3) := dk_180 0 31 (dk_at dksX7_rest_1 18 rfl rfl)
theorem dX7_rest_45 : decode cX7_rest 45 = .ok (.iload_n 1, 1) := dk_27 (dk_at dksX7_rest_1 21 rfl rfl)
theorem dX7_rest_46 : decode cX7_rest 46 = .ok (.iaload, 1) := dk_46 (dk_at dksX7_rest_1 22 rfl rfl)
theorem dX7_rest_47 : decode cX7_rest 47 = .ok (.if_icmp .ge 28, 3) := dk_162 0 28 (dk_at dksX7_rest_2 0 rfl rfl)
theorem dX7_rest_50 : decode cX7_rest 50 = .ok (.aload_n 0, 1) := dk_42 (dk_at dksX7_rest_2 3 rfl rfl)
theorem dX7_rest_51 : decode cX7_rest 51 = .ok (.getfield 34, 3) := dk_180 0 34 (dk_at dksX7_rest_2 4 rfl rfl)
theorem dX7_rest_54 : decode cX7_rest 54 = .ok (.bipush 16, 2) := dk_16 16 (dk_at dksX7_rest_2 7 rfl rfl)
theorem dX7_rest_56 : decode cX7_rest 56 = .ok (.iload_n 1, 1) := dk_27 (dk_at dksX7_rest_2 9 rfl rfl)
theorem dX7_rest_57 : decode cX7_rest 57 = .ok (.imul, 1) := dk_104 (dk_at dksX7_rest_2 10 rfl rfl)
theorem dX7_rest_58 : decode cX7_rest 58 = .ok (.iload 4, 2) := dk_21 4 (dk_at dksX7_rest_2 11 rfl rfl)
theorem dX7_rest_60 : decode cX7_rest 60 = .ok (.iadd, 1) := dk_96 (dk_at dksX7_rest_2 13 rfl rfl)
theorem dX7_rest_61 : decode cX7_rest 61 = .ok (.aload_n 0, 1) := dk_42 (dk_at dksX7_rest_2 14 rfl rfl)
theorem dX7_rest_62 : decode cX7_rest 62 = .ok (.getfield 106, 3) := dk_180 0 106 (dk_at dksX7_rest_2 15 rfl rfl)
theorem dX7_rest_65 : decode cX7_rest 65 = .ok (.iload 4, 2) := dk_21 4 (dk_at dksX7_rest_2 18 rfl rfl)
theorem dX7_rest_67 : decode cX7_rest 67 = .ok (.iaload, 1) := dk_46 (dk_at dksX7_rest_2 20 rfl rfl)
theorem dX7_rest_68 : decode cX7_rest 68 = .ok (.iastore, 1) := dk_79 (dk_at dksX7_rest_2 21 rfl rfl)
theorem dX7_rest_69 : decode cX7_rest 69 = .ok (.iinc 4 1, 3) := dk_132 4 1 (dk_at dksX7_rest_3 0 rfl rfl)
theorem dX7_rest_72 : decode cX7_rest 72 = .ok (.goto (-33), 3) := dk_167 255 223 (dk_at dksX7_rest_3 3 rfl rfl)
theorem dX7_rest_75 : decode cX7_rest 75 = .ok (.iload_n 3, 1) := dk_29 (dk_at dksX7_rest_3 6 rfl rfl)
theorem dX7_rest_76 : decode cX7_rest 76 = .ok (.ireturn, 1) := dk_172 (dk_at dksX7_rest_3 7 rfl rfl)
abbrev cX7_moves : ByteArray := prog_20_method_53_code
def yX7_moves : MethodName := ⟨RX7, "moves", "(II)I"⟩
def dkwX7_moves_2 : List UInt8 := [180, 1, 13, 2, 159, 0, 12, 29, 28, 162, 0, 7, 4, 167, 0, 4, 3, 54, 4, 167, 255, 202, 29, 172]
abbrev dktX7_moves_2 : List UInt8 := dkwX7_moves_2 ++ []
def dkwX7_moves_1 : List UInt8 := [180, 1, 13, 2, 159, 0, 19, 42, 180, 0, 106, 42, 180, 1, 13, 42, 180, 1, 19, 79, 132, 3, 1, 42]
abbrev dktX7_moves_1 : List UInt8 := dkwX7_moves_1 ++ dktX7_moves_2
def dkwX7_moves_0 : List UInt8 := [3, 62, 28, 158, 0, 7, 4, 167, 0, 4, 3, 54, 4, 21, 4, 153, 0, 55, 42, 27, 182, 1, 25, 42]
abbrev dktX7_moves_0 : List UInt8 := dkwX7_moves_0 ++ dktX7_moves_1
theorem dksX7_moves_0 : cX7_moves.data.toList.drop 0 = dktX7_moves_0 := by decide +kernel
theorem dksX7_moves_1 : cX7_moves.data.toList.drop 24 = dktX7_moves_1 := dk_seg dksX7_moves_0 24 rfl rfl
theorem dksX7_moves_2 : cX7_moves.data.toList.drop 48 = dktX7_moves_2 := dk_seg dksX7_moves_1 24 rfl rfl
theorem dX7_moves_0 : decode cX7_moves 0 = .ok (.iconst 0, 1) := dk_3 (dk_at dksX7_moves_0 0 rfl rfl)
theorem dX7_moves_1 : decode cX7_moves 1 = .ok (.istore_n 3, 1) := dk_62 (dk_at dksX7_moves_0 1 rfl rfl)
theorem dX7_moves_2 : decode cX7_moves 2 = .ok (.iload_n 2, 1) := dk_28 (dk_at dksX7_moves_0 2 rfl rfl)
theorem dX7_moves_3 : decode cX7_moves 3 = .ok (.ifCond .le 7, 3) := dk_158 0 7 (dk_at dksX7_moves_0 3 rfl rfl)
theorem dX7_moves_6 : decode cX7_moves 6 = .ok (.iconst 1, 1) := dk_4 (dk_at dksX7_moves_0 6 rfl rfl)
theorem dX7_moves_7 : decode cX7_moves 7 = .ok (.goto 4, 3) := dk_167 0 4 (dk_at dksX7_moves_0 7 rfl rfl)
theorem dX7_moves_10 : decode cX7_moves 10 = .ok (.iconst 0, 1) := dk_3 (dk_at dksX7_moves_0 10 rfl rfl)
theorem dX7_moves_11 : decode cX7_moves 11 = .ok (.istore 4, 2) := dk_54 4 (dk_at dksX7_moves_0 11 rfl rfl)
theorem dX7_moves_13 : decode cX7_moves 13 = .ok (.iload 4, 2) := dk_21 4 (dk_at dksX7_moves_0 13 rfl rfl)
theorem dX7_moves_15 : decode cX7_moves 15 = .ok (.ifCond .eq 55, 3) := dk_153 0 55 (dk_at dksX7_moves_0 15 rfl rfl)
theorem dX7_moves_18 : decode cX7_moves 18 = .ok (.aload_n 0, 1) := dk_42 (dk_at dksX7_moves_0 18 rfl rfl)
theorem dX7_moves_19 : decode cX7_moves 19 = .ok (.iload_n 1, 1) := dk_27 (dk_at dksX7_moves_0 19 rfl rfl)
theorem dX7_moves_20 : decode cX7_moves 20 = .ok (.invokevirtual 281, 3) := dk_182 1 25 (dk_at dksX7_moves_0 20 rfl rfl)
theorem dX7_moves_23 : decode cX7_moves 23 = .ok (.aload_n 0, 1) := dk_42 (dk_at dksX7_moves_0 23 rfl rfl)
theorem dX7_moves_24 : decode cX7_moves 24 = .ok (.getfield 269, 3) := dk_180 1 13 (dk_at dksX7_moves_1 0 rfl rfl)
theorem dX7_moves_27 : decode cX7_moves 27 = .ok (.iconst (-1), 1) := dk_2 (dk_at dksX7_moves_1 3 rfl rfl)
theorem dX7_moves_28 : decode cX7_moves 28 = .ok (.if_icmp .eq 19, 3) := dk_159 0 19 (dk_at dksX7_moves_1 4 rfl rfl)
theorem dX7_moves_31 : decode cX7_moves 31 = .ok (.aload_n 0, 1) := dk_42 (dk_at dksX7_moves_1 7 rfl rfl)
theorem dX7_moves_32 : decode cX7_moves 32 = .ok (.getfield 106, 3) := dk_180 0 106 (dk_at dksX7_moves_1 8 rfl rfl)
theorem dX7_moves_35 : decode cX7_moves 35 = .ok (.aload_n 0, 1) := dk_42 (dk_at dksX7_moves_1 11 rfl rfl)
theorem dX7_moves_36 : decode cX7_moves 36 = .ok (.getfield 269, 3) := dk_180 1 13 (dk_at dksX7_moves_1 12 rfl rfl)
theorem dX7_moves_39 : decode cX7_moves 39 = .ok (.aload_n 0, 1) := dk_42 (dk_at dksX7_moves_1 15 rfl rfl)
theorem dX7_moves_40 : decode cX7_moves 40 = .ok (.getfield 275, 3) := dk_180 1 19 (dk_at dksX7_moves_1 16 rfl rfl)
theorem dX7_moves_43 : decode cX7_moves 43 = .ok (.iastore, 1) := dk_79 (dk_at dksX7_moves_1 19 rfl rfl)
theorem dX7_moves_44 : decode cX7_moves 44 = .ok (.iinc 3 1, 3) := dk_132 3 1 (dk_at dksX7_moves_1 20 rfl rfl)
theorem dX7_moves_47 : decode cX7_moves 47 = .ok (.aload_n 0, 1) := dk_42 (dk_at dksX7_moves_1 23 rfl rfl)
theorem dX7_moves_48 : decode cX7_moves 48 = .ok (.getfield 269, 3) := dk_180 1 13 (dk_at dksX7_moves_2 0 rfl rfl)
theorem dX7_moves_51 : decode cX7_moves 51 = .ok (.iconst (-1), 1) := dk_2 (dk_at dksX7_moves_2 3 rfl rfl)
theorem dX7_moves_52 : decode cX7_moves 52 = .ok (.if_icmp .eq 12, 3) := dk_159 0 12 (dk_at dksX7_moves_2 4 rfl rfl)
theorem dX7_moves_55 : decode cX7_moves 55 = .ok (.iload_n 3, 1) := dk_29 (dk_at dksX7_moves_2 7 rfl rfl)
theorem dX7_moves_56 : decode cX7_moves 56 = .ok (.iload_n 2, 1) := dk_28 (dk_at dksX7_moves_2 8 rfl rfl)
theorem dX7_moves_57 : decode cX7_moves 57 = .ok (.if_icmp .ge 7, 3) := dk_162 0 7 (dk_at dksX7_moves_2 9 rfl rfl)
theorem dX7_moves_60 : decode cX7_moves 60 = .ok (.iconst 1, 1) := dk_4 (dk_at dksX7_moves_2 12 rfl rfl)
theorem dX7_moves_61 : decode cX7_moves 61 = .ok (.goto 4, 3) := dk_167 0 4 (dk_at dksX7_moves_2 13 rfl rfl)
theorem dX7_moves_64 : decode cX7_moves 64 = .ok (.iconst 0, 1) := dk_3 (dk_at dksX7_moves_2 16 rfl rfl)
theorem dX7_moves_65 : decode cX7_moves 65 = .ok (.istore 4, 2) := dk_54 4 (dk_at dksX7_moves_2 17 rfl rfl)
theorem dX7_moves_67 : decode cX7_moves 67 = .ok (.goto (-54), 3) := dk_167 255 202 (dk_at dksX7_moves_2 19 rfl rfl)
theorem dX7_moves_70 : decode cX7_moves 70 = .ok (.iload_n 3, 1) := dk_29 (dk_at dksX7_moves_2 22 rfl rfl)
theorem dX7_moves_71 : decode cX7_moves 71 = .ok (.ireturn, 1) := dk_172 (dk_at dksX7_moves_2 23 rfl rfl)
abbrev cX7_other : ByteArray := prog_20_method_55_code
def yX7_other : MethodName := ⟨RX7, "other", "(III)I"⟩
def dkwX7_other_1 : List UInt8 := [182, 0, 251, 42, 27, 28, 29, 182, 1, 16, 172]
abbrev dktX7_other_1 : List UInt8 := dkwX7_other_1 ++ []
def dkwX7_other_0 : List UInt8 := [42, 27, 28, 182, 0, 223, 153, 0, 10, 29, 184, 0, 220, 154, 0, 7, 17, 216, 240, 172, 42, 27]
abbrev dktX7_other_0 : List UInt8 := dkwX7_other_0 ++ dktX7_other_1
theorem dksX7_other_0 : cX7_other.data.toList.drop 0 = dktX7_other_0 := by decide +kernel
theorem dksX7_other_1 : cX7_other.data.toList.drop 22 = dktX7_other_1 := dk_seg dksX7_other_0 22 rfl rfl
theorem dX7_other_0 : decode cX7_other 0 = .ok (.aload_n 0, 1) := dk_42 (dk_at dksX7_other_0 0 rfl rfl)
theorem dX7_other_1 : decode cX7_other 1 = .ok (.iload_n 1, 1) := dk_27 (dk_at dksX7_other_0 1 rfl rfl)
theorem dX7_other_2 : decode cX7_other 2 = .ok (.iload_n 2, 1) := dk_28 (dk_at dksX7_other_0 2 rfl rfl)
theorem dX7_other_3 : decode cX7_other 3 = .ok (.invokevirtual 223, 3) := dk_182 0 223 (dk_at dksX7_other_0 3 rfl rfl)
theorem dX7_other_6 : decode cX7_other 6 = .ok (.ifCond .eq 10, 3) := dk_153 0 10 (dk_at dksX7_other_0 6 rfl rfl)
theorem dX7_other_9 : decode cX7_other 9 = .ok (.iload_n 3, 1) := dk_29 (dk_at dksX7_other_0 9 rfl rfl)
theorem dX7_other_10 : decode cX7_other 10 = .ok (.invokestatic 220, 3) := dk_184 0 220 (dk_at dksX7_other_0 10 rfl rfl)
theorem dX7_other_13 : decode cX7_other 13 = .ok (.ifCond .ne 7, 3) := dk_154 0 7 (dk_at dksX7_other_0 13 rfl rfl)
theorem dX7_other_16 : decode cX7_other 16 = .ok (.sipush (-10000), 3) := dk_17 216 240 (dk_at dksX7_other_0 16 rfl rfl)
theorem dX7_other_19 : decode cX7_other 19 = .ok (.ireturn, 1) := dk_172 (dk_at dksX7_other_0 19 rfl rfl)
theorem dX7_other_20 : decode cX7_other 20 = .ok (.aload_n 0, 1) := dk_42 (dk_at dksX7_other_0 20 rfl rfl)
theorem dX7_other_21 : decode cX7_other 21 = .ok (.iload_n 1, 1) := dk_27 (dk_at dksX7_other_0 21 rfl rfl)
theorem dX7_other_22 : decode cX7_other 22 = .ok (.invokevirtual 251, 3) := dk_182 0 251 (dk_at dksX7_other_1 0 rfl rfl)
theorem dX7_other_25 : decode cX7_other 25 = .ok (.aload_n 0, 1) := dk_42 (dk_at dksX7_other_1 3 rfl rfl)
theorem dX7_other_26 : decode cX7_other 26 = .ok (.iload_n 1, 1) := dk_27 (dk_at dksX7_other_1 4 rfl rfl)
theorem dX7_other_27 : decode cX7_other 27 = .ok (.iload_n 2, 1) := dk_28 (dk_at dksX7_other_1 5 rfl rfl)
theorem dX7_other_28 : decode cX7_other 28 = .ok (.iload_n 3, 1) := dk_29 (dk_at dksX7_other_1 6 rfl rfl)
theorem dX7_other_29 : decode cX7_other 29 = .ok (.invokevirtual 272, 3) := dk_182 1 16 (dk_at dksX7_other_1 7 rfl rfl)
theorem dX7_other_32 : decode cX7_other 32 = .ok (.ireturn, 1) := dk_172 (dk_at dksX7_other_1 10 rfl rfl)
abbrev cX7_swap : ByteArray := prog_20_method_56_code
def yX7_swap : MethodName := ⟨RX7, "swap", "(III)I"⟩
def dkwX7_swap_6 : List UInt8 := [29, 96, 42, 180, 0, 106, 29, 46, 79, 4, 172]
abbrev dktX7_swap_6 : List UInt8 := dkwX7_swap_6 ++ []
def dkwX7_swap_5 : List UInt8 := [180, 0, 34, 16, 16, 27, 104, 28, 96, 42, 180, 0, 106, 28, 46, 79, 42, 180, 0, 34, 16, 16, 27, 104]
abbrev dktX7_swap_5 : List UInt8 := dkwX7_swap_5 ++ dktX7_swap_6
def dkwX7_swap_4 : List UInt8 := [182, 0, 248, 21, 4, 162, 0, 14, 42, 27, 29, 182, 0, 248, 21, 5, 161, 0, 5, 3, 172, 42]
abbrev dktX7_swap_4 : List UInt8 := dkwX7_swap_4 ++ dktX7_swap_5
def dkwX7_swap_3 : List UInt8 := [180, 0, 106, 29, 46, 79, 42, 180, 0, 106, 29, 21, 6, 79, 42, 27, 182, 0, 254, 42, 27, 28]
abbrev dktX7_swap_3 : List UInt8 := dkwX7_swap_3 ++ dktX7_swap_4
def dkwX7_swap_2 : List UInt8 := [42, 27, 29, 182, 0, 248, 54, 5, 42, 180, 0, 106, 28, 46, 54, 6, 42, 180, 0, 106, 28, 42]
abbrev dktX7_swap_2 : List UInt8 := dkwX7_swap_2 ++ dktX7_swap_3
def dkwX7_swap_1 : List UInt8 := [160, 0, 6, 16, 249, 172, 42, 27, 182, 0, 251, 42, 27, 182, 0, 254, 42, 27, 28, 182, 0, 248, 54, 4]
abbrev dktX7_swap_1 : List UInt8 := dkwX7_swap_1 ++ dktX7_swap_2
def dkwX7_swap_0 : List UInt8 := [42, 27, 28, 182, 0, 223, 153, 0, 12, 42, 27, 29, 182, 0, 223, 154, 0, 6, 16, 251, 172, 28, 29]
abbrev dktX7_swap_0 : List UInt8 := dkwX7_swap_0 ++ dktX7_swap_1
theorem dksX7_swap_0 : cX7_swap.data.toList.drop 0 = dktX7_swap_0 := by decide +kernel
theorem dksX7_swap_1 : cX7_swap.data.toList.drop 23 = dktX7_swap_1 := dk_seg dksX7_swap_0 23 rfl rfl
theorem dksX7_swap_2 : cX7_swap.data.toList.drop 47 = dktX7_swap_2 := dk_seg dksX7_swap_1 24 rfl rfl
theorem dksX7_swap_3 : cX7_swap.data.toList.drop 69 = dktX7_swap_3 := dk_seg dksX7_swap_2 22 rfl rfl
theorem dksX7_swap_4 : cX7_swap.data.toList.drop 91 = dktX7_swap_4 := dk_seg dksX7_swap_3 22 rfl rfl
theorem dksX7_swap_5 : cX7_swap.data.toList.drop 113 = dktX7_swap_5 := dk_seg dksX7_swap_4 22 rfl rfl
theorem dksX7_swap_6 : cX7_swap.data.toList.drop 137 = dktX7_swap_6 := dk_seg dksX7_swap_5 24 rfl rfl
theorem dX7_swap_0 : decode cX7_swap 0 = .ok (.aload_n 0, 1) := dk_42 (dk_at dksX7_swap_0 0 rfl rfl)
theorem dX7_swap_1 : decode cX7_swap 1 = .ok (.iload_n 1, 1) := dk_27 (dk_at dksX7_swap_0 1 rfl rfl)
theorem dX7_swap_2 : decode cX7_swap 2 = .ok (.iload_n 2, 1) := dk_28 (dk_at dksX7_swap_0 2 rfl rfl)
theorem dX7_swap_3 : decode cX7_swap 3 = .ok (.invokevirtual 223, 3) := dk_182 0 223 (dk_at dksX7_swap_0 3 rfl rfl)
theorem dX7_swap_6 : decode cX7_swap 6 = .ok (.ifCond .eq 12, 3) := dk_153 0 12 (dk_at dksX7_swap_0 6 rfl rfl)
theorem dX7_swap_9 : decode cX7_swap 9 = .ok (.aload_n 0, 1) := dk_42 (dk_at dksX7_swap_0 9 rfl rfl)
theorem dX7_swap_10 : decode cX7_swap 10 = .ok (.iload_n 1, 1) := dk_27 (dk_at dksX7_swap_0 10 rfl rfl)
theorem dX7_swap_11 : decode cX7_swap 11 = .ok (.iload_n 3, 1) := dk_29 (dk_at dksX7_swap_0 11 rfl rfl)
theorem dX7_swap_12 : decode cX7_swap 12 = .ok (.invokevirtual 223, 3) := dk_182 0 223 (dk_at dksX7_swap_0 12 rfl rfl)
theorem dX7_swap_15 : decode cX7_swap 15 = .ok (.ifCond .ne 6, 3) := dk_154 0 6 (dk_at dksX7_swap_0 15 rfl rfl)
theorem dX7_swap_18 : decode cX7_swap 18 = .ok (.bipush (-5), 2) := dk_16 251 (dk_at dksX7_swap_0 18 rfl rfl)
theorem dX7_swap_20 : decode cX7_swap 20 = .ok (.ireturn, 1) := dk_172 (dk_at dksX7_swap_0 20 rfl rfl)
theorem dX7_swap_21 : decode cX7_swap 21 = .ok (.iload_n 2, 1) := dk_28 (dk_at dksX7_swap_0 21 rfl rfl)
theorem dX7_swap_22 : decode cX7_swap 22 = .ok (.iload_n 3, 1) := dk_29 (dk_at dksX7_swap_0 22 rfl rfl)
theorem dX7_swap_23 : decode cX7_swap 23 = .ok (.if_icmp .ne 6, 3) := dk_160 0 6 (dk_at dksX7_swap_1 0 rfl rfl)
theorem dX7_swap_26 : decode cX7_swap 26 = .ok (.bipush (-7), 2) := dk_16 249 (dk_at dksX7_swap_1 3 rfl rfl)
theorem dX7_swap_28 : decode cX7_swap 28 = .ok (.ireturn, 1) := dk_172 (dk_at dksX7_swap_1 5 rfl rfl)
theorem dX7_swap_29 : decode cX7_swap 29 = .ok (.aload_n 0, 1) := dk_42 (dk_at dksX7_swap_1 6 rfl rfl)
theorem dX7_swap_30 : decode cX7_swap 30 = .ok (.iload_n 1, 1) := dk_27 (dk_at dksX7_swap_1 7 rfl rfl)
theorem dX7_swap_31 : decode cX7_swap 31 = .ok (.invokevirtual 251, 3) := dk_182 0 251 (dk_at dksX7_swap_1 8 rfl rfl)
theorem dX7_swap_34 : decode cX7_swap 34 = .ok (.aload_n 0, 1) := dk_42 (dk_at dksX7_swap_1 11 rfl rfl)
theorem dX7_swap_35 : decode cX7_swap 35 = .ok (.iload_n 1, 1) := dk_27 (dk_at dksX7_swap_1 12 rfl rfl)
theorem dX7_swap_36 : decode cX7_swap 36 = .ok (.invokevirtual 254, 3) := dk_182 0 254 (dk_at dksX7_swap_1 13 rfl rfl)
theorem dX7_swap_39 : decode cX7_swap 39 = .ok (.aload_n 0, 1) := dk_42 (dk_at dksX7_swap_1 16 rfl rfl)
theorem dX7_swap_40 : decode cX7_swap 40 = .ok (.iload_n 1, 1) := dk_27 (dk_at dksX7_swap_1 17 rfl rfl)
theorem dX7_swap_41 : decode cX7_swap 41 = .ok (.iload_n 2, 1) := dk_28 (dk_at dksX7_swap_1 18 rfl rfl)
theorem dX7_swap_42 : decode cX7_swap 42 = .ok (.invokevirtual 248, 3) := dk_182 0 248 (dk_at dksX7_swap_1 19 rfl rfl)
theorem dX7_swap_45 : decode cX7_swap 45 = .ok (.istore 4, 2) := dk_54 4 (dk_at dksX7_swap_1 22 rfl rfl)
theorem dX7_swap_47 : decode cX7_swap 47 = .ok (.aload_n 0, 1) := dk_42 (dk_at dksX7_swap_2 0 rfl rfl)
theorem dX7_swap_48 : decode cX7_swap 48 = .ok (.iload_n 1, 1) := dk_27 (dk_at dksX7_swap_2 1 rfl rfl)
theorem dX7_swap_49 : decode cX7_swap 49 = .ok (.iload_n 3, 1) := dk_29 (dk_at dksX7_swap_2 2 rfl rfl)
theorem dX7_swap_50 : decode cX7_swap 50 = .ok (.invokevirtual 248, 3) := dk_182 0 248 (dk_at dksX7_swap_2 3 rfl rfl)
theorem dX7_swap_53 : decode cX7_swap 53 = .ok (.istore 5, 2) := dk_54 5 (dk_at dksX7_swap_2 6 rfl rfl)
theorem dX7_swap_55 : decode cX7_swap 55 = .ok (.aload_n 0, 1) := dk_42 (dk_at dksX7_swap_2 8 rfl rfl)
theorem dX7_swap_56 : decode cX7_swap 56 = .ok (.getfield 106, 3) := dk_180 0 106 (dk_at dksX7_swap_2 9 rfl rfl)
theorem dX7_swap_59 : decode cX7_swap 59 = .ok (.iload_n 2, 1) := dk_28 (dk_at dksX7_swap_2 12 rfl rfl)
theorem dX7_swap_60 : decode cX7_swap 60 = .ok (.iaload, 1) := dk_46 (dk_at dksX7_swap_2 13 rfl rfl)
theorem dX7_swap_61 : decode cX7_swap 61 = .ok (.istore 6, 2) := dk_54 6 (dk_at dksX7_swap_2 14 rfl rfl)
theorem dX7_swap_63 : decode cX7_swap 63 = .ok (.aload_n 0, 1) := dk_42 (dk_at dksX7_swap_2 16 rfl rfl)
theorem dX7_swap_64 : decode cX7_swap 64 = .ok (.getfield 106, 3) := dk_180 0 106 (dk_at dksX7_swap_2 17 rfl rfl)
theorem dX7_swap_67 : decode cX7_swap 67 = .ok (.iload_n 2, 1) := dk_28 (dk_at dksX7_swap_2 20 rfl rfl)
theorem dX7_swap_68 : decode cX7_swap 68 = .ok (.aload_n 0, 1) := dk_42 (dk_at dksX7_swap_2 21 rfl rfl)
theorem dX7_swap_69 : decode cX7_swap 69 = .ok (.getfield 106, 3) := dk_180 0 106 (dk_at dksX7_swap_3 0 rfl rfl)
theorem dX7_swap_72 : decode cX7_swap 72 = .ok (.iload_n 3, 1) := dk_29 (dk_at dksX7_swap_3 3 rfl rfl)
theorem dX7_swap_73 : decode cX7_swap 73 = .ok (.iaload, 1) := dk_46 (dk_at dksX7_swap_3 4 rfl rfl)
theorem dX7_swap_74 : decode cX7_swap 74 = .ok (.iastore, 1) := dk_79 (dk_at dksX7_swap_3 5 rfl rfl)
theorem dX7_swap_75 : decode cX7_swap 75 = .ok (.aload_n 0, 1) := dk_42 (dk_at dksX7_swap_3 6 rfl rfl)
theorem dX7_swap_76 : decode cX7_swap 76 = .ok (.getfield 106, 3) := dk_180 0 106 (dk_at dksX7_swap_3 7 rfl rfl)
theorem dX7_swap_79 : decode cX7_swap 79 = .ok (.iload_n 3, 1) := dk_29 (dk_at dksX7_swap_3 10 rfl rfl)
theorem dX7_swap_80 : decode cX7_swap 80 = .ok (.iload 6, 2) := dk_21 6 (dk_at dksX7_swap_3 11 rfl rfl)
theorem dX7_swap_82 : decode cX7_swap 82 = .ok (.iastore, 1) := dk_79 (dk_at dksX7_swap_3 13 rfl rfl)
theorem dX7_swap_83 : decode cX7_swap 83 = .ok (.aload_n 0, 1) := dk_42 (dk_at dksX7_swap_3 14 rfl rfl)
theorem dX7_swap_84 : decode cX7_swap 84 = .ok (.iload_n 1, 1) := dk_27 (dk_at dksX7_swap_3 15 rfl rfl)
theorem dX7_swap_85 : decode cX7_swap 85 = .ok (.invokevirtual 254, 3) := dk_182 0 254 (dk_at dksX7_swap_3 16 rfl rfl)
theorem dX7_swap_88 : decode cX7_swap 88 = .ok (.aload_n 0, 1) := dk_42 (dk_at dksX7_swap_3 19 rfl rfl)
theorem dX7_swap_89 : decode cX7_swap 89 = .ok (.iload_n 1, 1) := dk_27 (dk_at dksX7_swap_3 20 rfl rfl)
theorem dX7_swap_90 : decode cX7_swap 90 = .ok (.iload_n 2, 1) := dk_28 (dk_at dksX7_swap_3 21 rfl rfl)
theorem dX7_swap_91 : decode cX7_swap 91 = .ok (.invokevirtual 248, 3) := dk_182 0 248 (dk_at dksX7_swap_4 0 rfl rfl)
theorem dX7_swap_94 : decode cX7_swap 94 = .ok (.iload 4, 2) := dk_21 4 (dk_at dksX7_swap_4 3 rfl rfl)
theorem dX7_swap_96 : decode cX7_swap 96 = .ok (.if_icmp .ge 14, 3) := dk_162 0 14 (dk_at dksX7_swap_4 5 rfl rfl)
theorem dX7_swap_99 : decode cX7_swap 99 = .ok (.aload_n 0, 1) := dk_42 (dk_at dksX7_swap_4 8 rfl rfl)
theorem dX7_swap_100 : decode cX7_swap 100 = .ok (.iload_n 1, 1) := dk_27 (dk_at dksX7_swap_4 9 rfl rfl)
theorem dX7_swap_101 : decode cX7_swap 101 = .ok (.iload_n 3, 1) := dk_29 (dk_at dksX7_swap_4 10 rfl rfl)
theorem dX7_swap_102 : decode cX7_swap 102 = .ok (.invokevirtual 248, 3) := dk_182 0 248 (dk_at dksX7_swap_4 11 rfl rfl)
theorem dX7_swap_105 : decode cX7_swap 105 = .ok (.iload 5, 2) := dk_21 5 (dk_at dksX7_swap_4 14 rfl rfl)
theorem dX7_swap_107 : decode cX7_swap 107 = .ok (.if_icmp .lt 5, 3) := dk_161 0 5 (dk_at dksX7_swap_4 16 rfl rfl)
theorem dX7_swap_110 : decode cX7_swap 110 = .ok (.iconst 0, 1) := dk_3 (dk_at dksX7_swap_4 19 rfl rfl)
theorem dX7_swap_111 : decode cX7_swap 111 = .ok (.ireturn, 1) := dk_172 (dk_at dksX7_swap_4 20 rfl rfl)
theorem dX7_swap_112 : decode cX7_swap 112 = .ok (.aload_n 0, 1) := dk_42 (dk_at dksX7_swap_4 21 rfl rfl)
theorem dX7_swap_113 : decode cX7_swap 113 = .ok (.getfield 34, 3) := dk_180 0 34 (dk_at dksX7_swap_5 0 rfl rfl)
theorem dX7_swap_116 : decode cX7_swap 116 = .ok (.bipush 16, 2) := dk_16 16 (dk_at dksX7_swap_5 3 rfl rfl)
theorem dX7_swap_118 : decode cX7_swap 118 = .ok (.iload_n 1, 1) := dk_27 (dk_at dksX7_swap_5 5 rfl rfl)
theorem dX7_swap_119 : decode cX7_swap 119 = .ok (.imul, 1) := dk_104 (dk_at dksX7_swap_5 6 rfl rfl)
theorem dX7_swap_120 : decode cX7_swap 120 = .ok (.iload_n 2, 1) := dk_28 (dk_at dksX7_swap_5 7 rfl rfl)
theorem dX7_swap_121 : decode cX7_swap 121 = .ok (.iadd, 1) := dk_96 (dk_at dksX7_swap_5 8 rfl rfl)
theorem dX7_swap_122 : decode cX7_swap 122 = .ok (.aload_n 0, 1) := dk_42 (dk_at dksX7_swap_5 9 rfl rfl)
theorem dX7_swap_123 : decode cX7_swap 123 = .ok (.getfield 106, 3) := dk_180 0 106 (dk_at dksX7_swap_5 10 rfl rfl)
theorem dX7_swap_126 : decode cX7_swap 126 = .ok (.iload_n 2, 1) := dk_28 (dk_at dksX7_swap_5 13 rfl rfl)
theorem dX7_swap_127 : decode cX7_swap 127 = .ok (.iaload, 1) := dk_46 (dk_at dksX7_swap_5 14 rfl rfl)
theorem dX7_swap_128 : decode cX7_swap 128 = .ok (.iastore, 1) := dk_79 (dk_at dksX7_swap_5 15 rfl rfl)
theorem dX7_swap_129 : decode cX7_swap 129 = .ok (.aload_n 0, 1) := dk_42 (dk_at dksX7_swap_5 16 rfl rfl)
theorem dX7_swap_130 : decode cX7_swap 130 = .ok (.getfield 34, 3) := dk_180 0 34 (dk_at dksX7_swap_5 17 rfl rfl)
theorem dX7_swap_133 : decode cX7_swap 133 = .ok (.bipush 16, 2) := dk_16 16 (dk_at dksX7_swap_5 20 rfl rfl)
theorem dX7_swap_135 : decode cX7_swap 135 = .ok (.iload_n 1, 1) := dk_27 (dk_at dksX7_swap_5 22 rfl rfl)
theorem dX7_swap_136 : decode cX7_swap 136 = .ok (.imul, 1) := dk_104 (dk_at dksX7_swap_5 23 rfl rfl)
theorem dX7_swap_137 : decode cX7_swap 137 = .ok (.iload_n 3, 1) := dk_29 (dk_at dksX7_swap_6 0 rfl rfl)
theorem dX7_swap_138 : decode cX7_swap 138 = .ok (.iadd, 1) := dk_96 (dk_at dksX7_swap_6 1 rfl rfl)
theorem dX7_swap_139 : decode cX7_swap 139 = .ok (.aload_n 0, 1) := dk_42 (dk_at dksX7_swap_6 2 rfl rfl)
theorem dX7_swap_140 : decode cX7_swap 140 = .ok (.getfield 106, 3) := dk_180 0 106 (dk_at dksX7_swap_6 3 rfl rfl)
theorem dX7_swap_143 : decode cX7_swap 143 = .ok (.iload_n 3, 1) := dk_29 (dk_at dksX7_swap_6 6 rfl rfl)
theorem dX7_swap_144 : decode cX7_swap 144 = .ok (.iaload, 1) := dk_46 (dk_at dksX7_swap_6 7 rfl rfl)
theorem dX7_swap_145 : decode cX7_swap 145 = .ok (.iastore, 1) := dk_79 (dk_at dksX7_swap_6 8 rfl rfl)
theorem dX7_swap_146 : decode cX7_swap 146 = .ok (.iconst 1, 1) := dk_4 (dk_at dksX7_swap_6 9 rfl rfl)
theorem dX7_swap_147 : decode cX7_swap 147 = .ok (.ireturn, 1) := dk_172 (dk_at dksX7_swap_6 10 rfl rfl)
abbrev cX7_beside : ByteArray := prog_20_method_58_code
def yX7_beside : MethodName := ⟨RX7, "beside", "(IIII)J"⟩
def dkwX7_beside_2 : List UInt8 := [173]
abbrev dktX7_beside_2 : List UInt8 := dkwX7_beside_2 ++ []
def dkwX7_beside_1 : List UInt8 := [153, 0, 21, 42, 27, 28, 29, 21, 4, 182, 1, 31, 42, 27, 182, 1, 10, 101, 167, 0, 6, 20, 1, 8]
abbrev dktX7_beside_1 : List UInt8 := dkwX7_beside_1 ++ dktX7_beside_2
def dkwX7_beside_0 : List UInt8 := [42, 27, 182, 0, 217, 153, 0, 40, 28, 29, 184, 0, 131, 153, 0, 32, 21, 4, 3, 16, 9, 184, 0, 127]
abbrev dktX7_beside_0 : List UInt8 := dkwX7_beside_0 ++ dktX7_beside_1
theorem dksX7_beside_0 : cX7_beside.data.toList.drop 0 = dktX7_beside_0 := by decide +kernel
theorem dksX7_beside_1 : cX7_beside.data.toList.drop 24 = dktX7_beside_1 := dk_seg dksX7_beside_0 24 rfl rfl
theorem dksX7_beside_2 : cX7_beside.data.toList.drop 48 = dktX7_beside_2 := dk_seg dksX7_beside_1 24 rfl rfl
theorem dX7_beside_0 : decode cX7_beside 0 = .ok (.aload_n 0, 1) := dk_42 (dk_at dksX7_beside_0 0 rfl rfl)
theorem dX7_beside_1 : decode cX7_beside 1 = .ok (.iload_n 1, 1) := dk_27 (dk_at dksX7_beside_0 1 rfl rfl)
theorem dX7_beside_2 : decode cX7_beside 2 = .ok (.invokevirtual 217, 3) := dk_182 0 217 (dk_at dksX7_beside_0 2 rfl rfl)
theorem dX7_beside_5 : decode cX7_beside 5 = .ok (.ifCond .eq 40, 3) := dk_153 0 40 (dk_at dksX7_beside_0 5 rfl rfl)
theorem dX7_beside_8 : decode cX7_beside 8 = .ok (.iload_n 2, 1) := dk_28 (dk_at dksX7_beside_0 8 rfl rfl)
theorem dX7_beside_9 : decode cX7_beside 9 = .ok (.iload_n 3, 1) := dk_29 (dk_at dksX7_beside_0 9 rfl rfl)
theorem dX7_beside_10 : decode cX7_beside 10 = .ok (.invokestatic 131, 3) := dk_184 0 131 (dk_at dksX7_beside_0 10 rfl rfl)
theorem dX7_beside_13 : decode cX7_beside 13 = .ok (.ifCond .eq 32, 3) := dk_153 0 32 (dk_at dksX7_beside_0 13 rfl rfl)
theorem dX7_beside_16 : decode cX7_beside 16 = .ok (.iload 4, 2) := dk_21 4 (dk_at dksX7_beside_0 16 rfl rfl)
theorem dX7_beside_18 : decode cX7_beside 18 = .ok (.iconst 0, 1) := dk_3 (dk_at dksX7_beside_0 18 rfl rfl)
theorem dX7_beside_19 : decode cX7_beside 19 = .ok (.bipush 9, 2) := dk_16 9 (dk_at dksX7_beside_0 19 rfl rfl)
theorem dX7_beside_21 : decode cX7_beside 21 = .ok (.invokestatic 127, 3) := dk_184 0 127 (dk_at dksX7_beside_0 21 rfl rfl)
theorem dX7_beside_24 : decode cX7_beside 24 = .ok (.ifCond .eq 21, 3) := dk_153 0 21 (dk_at dksX7_beside_1 0 rfl rfl)
theorem dX7_beside_27 : decode cX7_beside 27 = .ok (.aload_n 0, 1) := dk_42 (dk_at dksX7_beside_1 3 rfl rfl)
theorem dX7_beside_28 : decode cX7_beside 28 = .ok (.iload_n 1, 1) := dk_27 (dk_at dksX7_beside_1 4 rfl rfl)
theorem dX7_beside_29 : decode cX7_beside 29 = .ok (.iload_n 2, 1) := dk_28 (dk_at dksX7_beside_1 5 rfl rfl)
theorem dX7_beside_30 : decode cX7_beside 30 = .ok (.iload_n 3, 1) := dk_29 (dk_at dksX7_beside_1 6 rfl rfl)
theorem dX7_beside_31 : decode cX7_beside 31 = .ok (.iload 4, 2) := dk_21 4 (dk_at dksX7_beside_1 7 rfl rfl)
theorem dX7_beside_33 : decode cX7_beside 33 = .ok (.invokevirtual 287, 3) := dk_182 1 31 (dk_at dksX7_beside_1 9 rfl rfl)
theorem dX7_beside_36 : decode cX7_beside 36 = .ok (.aload_n 0, 1) := dk_42 (dk_at dksX7_beside_1 12 rfl rfl)
theorem dX7_beside_37 : decode cX7_beside 37 = .ok (.iload_n 1, 1) := dk_27 (dk_at dksX7_beside_1 13 rfl rfl)
theorem dX7_beside_38 : decode cX7_beside 38 = .ok (.invokevirtual 266, 3) := dk_182 1 10 (dk_at dksX7_beside_1 14 rfl rfl)
theorem dX7_beside_41 : decode cX7_beside 41 = .ok (.lsub, 1) := dk_101 (dk_at dksX7_beside_1 17 rfl rfl)
theorem dX7_beside_42 : decode cX7_beside 42 = .ok (.goto 6, 3) := dk_167 0 6 (dk_at dksX7_beside_1 18 rfl rfl)
theorem dX7_beside_45 : decode cX7_beside 45 = .ok (.ldc2_w 264, 3) := dk_20 1 8 (dk_at dksX7_beside_1 21 rfl rfl)
theorem dX7_beside_48 : decode cX7_beside 48 = .ok (.lreturn, 1) := dk_173 (dk_at dksX7_beside_2 0 rfl rfl)
abbrev cX7_costWith : ByteArray := prog_20_method_57_code
def yX7_costWith : MethodName := ⟨RX7, "costWith", "(IIII)J"⟩
def dkwX7_costWith_2 : List UInt8 := [22, 6, 173]
abbrev dktX7_costWith_2 : List UInt8 := dkwX7_costWith_2 ++ []
def dkwX7_costWith_1 : List UInt8 := [21, 4, 79, 42, 27, 182, 1, 10, 55, 6, 42, 180, 0, 7, 16, 24, 28, 104, 29, 96, 21, 5, 79]
abbrev dktX7_costWith_1 : List UInt8 := dkwX7_costWith_1 ++ dktX7_costWith_2
def dkwX7_costWith_0 : List UInt8 := [42, 180, 0, 7, 16, 24, 28, 104, 29, 96, 46, 54, 5, 42, 180, 0, 7, 16, 24, 28, 104, 29, 96]
abbrev dktX7_costWith_0 : List UInt8 := dkwX7_costWith_0 ++ dktX7_costWith_1
theorem dksX7_costWith_0 : cX7_costWith.data.toList.drop 0 = dktX7_costWith_0 := by decide +kernel
theorem dksX7_costWith_1 : cX7_costWith.data.toList.drop 23 = dktX7_costWith_1 := dk_seg dksX7_costWith_0 23 rfl rfl
theorem dksX7_costWith_2 : cX7_costWith.data.toList.drop 46 = dktX7_costWith_2 := dk_seg dksX7_costWith_1 23 rfl rfl
theorem dX7_costWith_0 : decode cX7_costWith 0 = .ok (.aload_n 0, 1) := dk_42 (dk_at dksX7_costWith_0 0 rfl rfl)
theorem dX7_costWith_1 : decode cX7_costWith 1 = .ok (.getfield 7, 3) := dk_180 0 7 (dk_at dksX7_costWith_0 1 rfl rfl)
theorem dX7_costWith_4 : decode cX7_costWith 4 = .ok (.bipush 24, 2) := dk_16 24 (dk_at dksX7_costWith_0 4 rfl rfl)
theorem dX7_costWith_6 : decode cX7_costWith 6 = .ok (.iload_n 2, 1) := dk_28 (dk_at dksX7_costWith_0 6 rfl rfl)
theorem dX7_costWith_7 : decode cX7_costWith 7 = .ok (.imul, 1) := dk_104 (dk_at dksX7_costWith_0 7 rfl rfl)
theorem dX7_costWith_8 : decode cX7_costWith 8 = .ok (.iload_n 3, 1) := dk_29 (dk_at dksX7_costWith_0 8 rfl rfl)
theorem dX7_costWith_9 : decode cX7_costWith 9 = .ok (.iadd, 1) := dk_96 (dk_at dksX7_costWith_0 9 rfl rfl)
theorem dX7_costWith_10 : decode cX7_costWith 10 = .ok (.iaload, 1) := dk_46 (dk_at dksX7_costWith_0 10 rfl rfl)
theorem dX7_costWith_11 : decode cX7_costWith 11 = .ok (.istore 5, 2) := dk_54 5 (dk_at dksX7_costWith_0 11 rfl rfl)
theorem dX7_costWith_13 : decode cX7_costWith 13 = .ok (.aload_n 0, 1) := dk_42 (dk_at dksX7_costWith_0 13 rfl rfl)
theorem dX7_costWith_14 : decode cX7_costWith 14 = .ok (.getfield 7, 3) := dk_180 0 7 (dk_at dksX7_costWith_0 14 rfl rfl)
theorem dX7_costWith_17 : decode cX7_costWith 17 = .ok (.bipush 24, 2) := dk_16 24 (dk_at dksX7_costWith_0 17 rfl rfl)
theorem dX7_costWith_19 : decode cX7_costWith 19 = .ok (.iload_n 2, 1) := dk_28 (dk_at dksX7_costWith_0 19 rfl rfl)
theorem dX7_costWith_20 : decode cX7_costWith 20 = .ok (.imul, 1) := dk_104 (dk_at dksX7_costWith_0 20 rfl rfl)
theorem dX7_costWith_21 : decode cX7_costWith 21 = .ok (.iload_n 3, 1) := dk_29 (dk_at dksX7_costWith_0 21 rfl rfl)
theorem dX7_costWith_22 : decode cX7_costWith 22 = .ok (.iadd, 1) := dk_96 (dk_at dksX7_costWith_0 22 rfl rfl)
theorem dX7_costWith_23 : decode cX7_costWith 23 = .ok (.iload 4, 2) := dk_21 4 (dk_at dksX7_costWith_1 0 rfl rfl)
theorem dX7_costWith_25 : decode cX7_costWith 25 = .ok (.iastore, 1) := dk_79 (dk_at dksX7_costWith_1 2 rfl rfl)
theorem dX7_costWith_26 : decode cX7_costWith 26 = .ok (.aload_n 0, 1) := dk_42 (dk_at dksX7_costWith_1 3 rfl rfl)
theorem dX7_costWith_27 : decode cX7_costWith 27 = .ok (.iload_n 1, 1) := dk_27 (dk_at dksX7_costWith_1 4 rfl rfl)
theorem dX7_costWith_28 : decode cX7_costWith 28 = .ok (.invokevirtual 266, 3) := dk_182 1 10 (dk_at dksX7_costWith_1 5 rfl rfl)
theorem dX7_costWith_31 : decode cX7_costWith 31 = .ok (.lstore 6, 2) := dk_55 6 (dk_at dksX7_costWith_1 8 rfl rfl)
theorem dX7_costWith_33 : decode cX7_costWith 33 = .ok (.aload_n 0, 1) := dk_42 (dk_at dksX7_costWith_1 10 rfl rfl)
theorem dX7_costWith_34 : decode cX7_costWith 34 = .ok (.getfield 7, 3) := dk_180 0 7 (dk_at dksX7_costWith_1 11 rfl rfl)
theorem dX7_costWith_37 : decode cX7_costWith 37 = .ok (.bipush 24, 2) := dk_16 24 (dk_at dksX7_costWith_1 14 rfl rfl)
theorem dX7_costWith_39 : decode cX7_costWith 39 = .ok (.iload_n 2, 1) := dk_28 (dk_at dksX7_costWith_1 16 rfl rfl)
theorem dX7_costWith_40 : decode cX7_costWith 40 = .ok (.imul, 1) := dk_104 (dk_at dksX7_costWith_1 17 rfl rfl)
theorem dX7_costWith_41 : decode cX7_costWith 41 = .ok (.iload_n 3, 1) := dk_29 (dk_at dksX7_costWith_1 18 rfl rfl)
theorem dX7_costWith_42 : decode cX7_costWith 42 = .ok (.iadd, 1) := dk_96 (dk_at dksX7_costWith_1 19 rfl rfl)
theorem dX7_costWith_43 : decode cX7_costWith 43 = .ok (.iload 5, 2) := dk_21 5 (dk_at dksX7_costWith_1 20 rfl rfl)
theorem dX7_costWith_45 : decode cX7_costWith 45 = .ok (.iastore, 1) := dk_79 (dk_at dksX7_costWith_1 22 rfl rfl)
theorem dX7_costWith_46 : decode cX7_costWith 46 = .ok (.lload 6, 2) := dk_22 6 (dk_at dksX7_costWith_2 0 rfl rfl)
theorem dX7_costWith_48 : decode cX7_costWith 48 = .ok (.lreturn, 1) := dk_173 (dk_at dksX7_costWith_2 2 rfl rfl)
abbrev cX7_sticks : ByteArray := prog_20_method_60_code
def yX7_sticks : MethodName := ⟨RX7, "sticks", "(IIIII)J"⟩
def dkwX7_sticks_3 : List UInt8 := [184, 1, 37, 173]
abbrev dktX7_sticks_3 : List UInt8 := dkwX7_sticks_3 ++ []
def dkwX7_sticks_2 : List UInt8 := [3, 182, 1, 31, 105, 16, 10, 21, 4, 100, 133, 42, 27, 182, 1, 10, 105, 97, 20, 1, 35, 21, 5]
abbrev dktX7_sticks_2 : List UInt8 := dkwX7_sticks_2 ++ dktX7_sticks_3
def dkwX7_sticks_1 : List UInt8 := [153, 0, 13, 21, 5, 3, 4, 184, 0, 127, 154, 0, 7, 20, 1, 8, 173, 21, 4, 133, 42, 27, 28, 29]
abbrev dktX7_sticks_1 : List UInt8 := dkwX7_sticks_1 ++ dktX7_sticks_2
def dkwX7_sticks_0 : List UInt8 := [42, 27, 182, 0, 217, 153, 0, 32, 28, 29, 184, 0, 131, 153, 0, 24, 21, 4, 3, 16, 10, 184, 0, 127]
abbrev dktX7_sticks_0 : List UInt8 := dkwX7_sticks_0 ++ dktX7_sticks_1
theorem dksX7_sticks_0 : cX7_sticks.data.toList.drop 0 = dktX7_sticks_0 := by decide +kernel
theorem dksX7_sticks_1 : cX7_sticks.data.toList.drop 24 = dktX7_sticks_1 := dk_seg dksX7_sticks_0 24 rfl rfl
theorem dksX7_sticks_2 : cX7_sticks.data.toList.drop 48 = dktX7_sticks_2 := dk_seg dksX7_sticks_1 24 rfl rfl
theorem dksX7_sticks_3 : cX7_sticks.data.toList.drop 71 = dktX7_sticks_3 := dk_seg dksX7_sticks_2 23 rfl rfl
theorem dX7_sticks_0 : decode cX7_sticks 0 = .ok (.aload_n 0, 1) := dk_42 (dk_at dksX7_sticks_0 0 rfl rfl)
theorem dX7_sticks_1 : decode cX7_sticks 1 = .ok (.iload_n 1, 1) := dk_27 (dk_at dksX7_sticks_0 1 rfl rfl)
theorem dX7_sticks_2 : decode cX7_sticks 2 = .ok (.invokevirtual 217, 3) := dk_182 0 217 (dk_at dksX7_sticks_0 2 rfl rfl)
theorem dX7_sticks_5 : decode cX7_sticks 5 = .ok (.ifCond .eq 32, 3) := dk_153 0 32 (dk_at dksX7_sticks_0 5 rfl rfl)
theorem dX7_sticks_8 : decode cX7_sticks 8 = .ok (.iload_n 2, 1) := dk_28 (dk_at dksX7_sticks_0 8 rfl rfl)
theorem dX7_sticks_9 : decode cX7_sticks 9 = .ok (.iload_n 3, 1) := dk_29 (dk_at dksX7_sticks_0 9 rfl rfl)
theorem dX7_sticks_10 : decode cX7_sticks 10 = .ok (.invokestatic 131, 3) := dk_184 0 131 (dk_at dksX7_sticks_0 10 rfl rfl)
theorem dX7_sticks_13 : decode cX7_sticks 13 = .ok (.ifCond .eq 24, 3) := dk_153 0 24 (dk_at dksX7_sticks_0 13 rfl rfl)
theorem dX7_sticks_16 : decode cX7_sticks 16 = .ok (.iload 4, 2) := dk_21 4 (dk_at dksX7_sticks_0 16 rfl rfl)
theorem dX7_sticks_18 : decode cX7_sticks 18 = .ok (.iconst 0, 1) := dk_3 (dk_at dksX7_sticks_0 18 rfl rfl)
theorem dX7_sticks_19 : decode cX7_sticks 19 = .ok (.bipush 10, 2) := dk_16 10 (dk_at dksX7_sticks_0 19 rfl rfl)
theorem dX7_sticks_21 : decode cX7_sticks 21 = .ok (.invokestatic 127, 3) := dk_184 0 127 (dk_at dksX7_sticks_0 21 rfl rfl)
theorem dX7_sticks_24 : decode cX7_sticks 24 = .ok (.ifCond .eq 13, 3) := dk_153 0 13 (dk_at dksX7_sticks_1 0 rfl rfl)
theorem dX7_sticks_27 : decode cX7_sticks 27 = .ok (.iload 5, 2) := dk_21 5 (dk_at dksX7_sticks_1 3 rfl rfl)
theorem dX7_sticks_29 : decode cX7_sticks 29 = .ok (.iconst 0, 1) := dk_3 (dk_at dksX7_sticks_1 5 rfl rfl)
theorem dX7_sticks_30 : decode cX7_sticks 30 = .ok (.iconst 1, 1) := dk_4 (dk_at dksX7_sticks_1 6 rfl rfl)
theorem dX7_sticks_31 : decode cX7_sticks 31 = .ok (.invokestatic 127, 3) := dk_184 0 127 (dk_at dksX7_sticks_1 7 rfl rfl)
theorem dX7_sticks_34 : decode cX7_sticks 34 = .ok (.ifCond .ne 7, 3) := dk_154 0 7 (dk_at dksX7_sticks_1 10 rfl rfl)
theorem dX7_sticks_37 : decode cX7_sticks 37 = .ok (.ldc2_w 264, 3) := dk_20 1 8 (dk_at dksX7_sticks_1 13 rfl rfl)
theorem dX7_sticks_40 : decode cX7_sticks 40 = .ok (.lreturn, 1) := dk_173 (dk_at dksX7_sticks_1 16 rfl rfl)
theorem dX7_sticks_41 : decode cX7_sticks 41 = .ok (.iload 4, 2) := dk_21 4 (dk_at dksX7_sticks_1 17 rfl rfl)
theorem dX7_sticks_43 : decode cX7_sticks 43 = .ok (.i2l, 1) := dk_133 (dk_at dksX7_sticks_1 19 rfl rfl)
theorem dX7_sticks_44 : decode cX7_sticks 44 = .ok (.aload_n 0, 1) := dk_42 (dk_at dksX7_sticks_1 20 rfl rfl)
theorem dX7_sticks_45 : decode cX7_sticks 45 = .ok (.iload_n 1, 1) := dk_27 (dk_at dksX7_sticks_1 21 rfl rfl)
theorem dX7_sticks_46 : decode cX7_sticks 46 = .ok (.iload_n 2, 1) := dk_28 (dk_at dksX7_sticks_1 22 rfl rfl)
theorem dX7_sticks_47 : decode cX7_sticks 47 = .ok (.iload_n 3, 1) := dk_29 (dk_at dksX7_sticks_1 23 rfl rfl)
theorem dX7_sticks_48 : decode cX7_sticks 48 = .ok (.iconst 0, 1) := dk_3 (dk_at dksX7_sticks_2 0 rfl rfl)
theorem dX7_sticks_49 : decode cX7_sticks 49 = .ok (.invokevirtual 287, 3) := dk_182 1 31 (dk_at dksX7_sticks_2 1 rfl rfl)
theorem dX7_sticks_52 : decode cX7_sticks 52 = .ok (.lmul, 1) := dk_105 (dk_at dksX7_sticks_2 4 rfl rfl)
theorem dX7_sticks_53 : decode cX7_sticks 53 = .ok (.bipush 10, 2) := dk_16 10 (dk_at dksX7_sticks_2 5 rfl rfl)
theorem dX7_sticks_55 : decode cX7_sticks 55 = .ok (.iload 4, 2) := dk_21 4 (dk_at dksX7_sticks_2 7 rfl rfl)
theorem dX7_sticks_57 : decode cX7_sticks 57 = .ok (.isub, 1) := dk_100 (dk_at dksX7_sticks_2 9 rfl rfl)
theorem dX7_sticks_58 : decode cX7_sticks 58 = .ok (.i2l, 1) := dk_133 (dk_at dksX7_sticks_2 10 rfl rfl)
theorem dX7_sticks_59 : decode cX7_sticks 59 = .ok (.aload_n 0, 1) := dk_42 (dk_at dksX7_sticks_2 11 rfl rfl)
theorem dX7_sticks_60 : decode cX7_sticks 60 = .ok (.iload_n 1, 1) := dk_27 (dk_at dksX7_sticks_2 12 rfl rfl)
theorem dX7_sticks_61 : decode cX7_sticks 61 = .ok (.invokevirtual 266, 3) := dk_182 1 10 (dk_at dksX7_sticks_2 13 rfl rfl)
theorem dX7_sticks_64 : decode cX7_sticks 64 = .ok (.lmul, 1) := dk_105 (dk_at dksX7_sticks_2 16 rfl rfl)
theorem dX7_sticks_65 : decode cX7_sticks 65 = .ok (.ladd, 1) := dk_97 (dk_at dksX7_sticks_2 17 rfl rfl)
theorem dX7_sticks_66 : decode cX7_sticks 66 = .ok (.ldc2_w 291, 3) := dk_20 1 35 (dk_at dksX7_sticks_2 18 rfl rfl)
theorem dX7_sticks_69 : decode cX7_sticks 69 = .ok (.iload 5, 2) := dk_21 5 (dk_at dksX7_sticks_2 21 rfl rfl)
theorem dX7_sticks_71 : decode cX7_sticks 71 = .ok (.invokestatic 293, 3) := dk_184 1 37 (dk_at dksX7_sticks_3 0 rfl rfl)
theorem dX7_sticks_74 : decode cX7_sticks 74 = .ok (.lreturn, 1) := dk_173 (dk_at dksX7_sticks_3 3 rfl rfl)
abbrev cX7_lowest : ByteArray := prog_20_method_59_code
def yX7_lowest : MethodName := ⟨RX7, "lowest", "(JJI)J"⟩
def dkwX7_lowest_2 : List UInt8 := [55, 7, 167, 255, 234, 21, 4, 154, 0, 7, 30, 167, 0, 4, 32, 22, 5, 109, 173]
abbrev dktX7_lowest_2 : List UInt8 := dkwX7_lowest_2 ++ []
def dkwX7_lowest_1 : List UInt8 := [32, 55, 7, 22, 7, 9, 148, 153, 0, 21, 22, 5, 22, 7, 113, 55, 9, 22, 7, 55, 5, 22, 9]
abbrev dktX7_lowest_1 : List UInt8 := dkwX7_lowest_1 ++ dktX7_lowest_2
def dkwX7_lowest_0 : List UInt8 := [30, 9, 148, 154, 0, 7, 21, 4, 133, 173, 30, 9, 148, 156, 0, 8, 30, 117, 167, 0, 4, 30, 55, 5]
abbrev dktX7_lowest_0 : List UInt8 := dkwX7_lowest_0 ++ dktX7_lowest_1
theorem dksX7_lowest_0 : cX7_lowest.data.toList.drop 0 = dktX7_lowest_0 := by decide +kernel
theorem dksX7_lowest_1 : cX7_lowest.data.toList.drop 24 = dktX7_lowest_1 := dk_seg dksX7_lowest_0 24 rfl rfl
theorem dksX7_lowest_2 : cX7_lowest.data.toList.drop 47 = dktX7_lowest_2 := dk_seg dksX7_lowest_1 23 rfl rfl
theorem dX7_lowest_0 : decode cX7_lowest 0 = .ok (.lload_n 0, 1) := dk_30 (dk_at dksX7_lowest_0 0 rfl rfl)
theorem dX7_lowest_1 : decode cX7_lowest 1 = .ok (.lconst 0, 1) := dk_9 (dk_at dksX7_lowest_0 1 rfl rfl)
theorem dX7_lowest_2 : decode cX7_lowest 2 = .ok (.lcmp, 1) := dk_148 (dk_at dksX7_lowest_0 2 rfl rfl)
theorem dX7_lowest_3 : decode cX7_lowest 3 = .ok (.ifCond .ne 7, 3) := dk_154 0 7 (dk_at dksX7_lowest_0 3 rfl rfl)
theorem dX7_lowest_6 : decode cX7_lowest 6 = .ok (.iload 4, 2) := dk_21 4 (dk_at dksX7_lowest_0 6 rfl rfl)
theorem dX7_lowest_8 : decode cX7_lowest 8 = .ok (.i2l, 1) := dk_133 (dk_at dksX7_lowest_0 8 rfl rfl)
theorem dX7_lowest_9 : decode cX7_lowest 9 = .ok (.lreturn, 1) := dk_173 (dk_at dksX7_lowest_0 9 rfl rfl)
theorem dX7_lowest_10 : decode cX7_lowest 10 = .ok (.lload_n 0, 1) := dk_30 (dk_at dksX7_lowest_0 10 rfl rfl)
theorem dX7_lowest_11 : decode cX7_lowest 11 = .ok (.lconst 0, 1) := dk_9 (dk_at dksX7_lowest_0 11 rfl rfl)
theorem dX7_lowest_12 : decode cX7_lowest 12 = .ok (.lcmp, 1) := dk_148 (dk_at dksX7_lowest_0 12 rfl rfl)
theorem dX7_lowest_13 : decode cX7_lowest 13 = .ok (.ifCond .ge 8, 3) := dk_156 0 8 (dk_at dksX7_lowest_0 13 rfl rfl)
theorem dX7_lowest_16 : decode cX7_lowest 16 = .ok (.lload_n 0, 1) := dk_30 (dk_at dksX7_lowest_0 16 rfl rfl)
theorem dX7_lowest_17 : decode cX7_lowest 17 = .ok (.lneg, 1) := dk_117 (dk_at dksX7_lowest_0 17 rfl rfl)
theorem dX7_lowest_18 : decode cX7_lowest 18 = .ok (.goto 4, 3) := dk_167 0 4 (dk_at dksX7_lowest_0 18 rfl rfl)
theorem dX7_lowest_21 : decode cX7_lowest 21 = .ok (.lload_n 0, 1) := dk_30 (dk_at dksX7_lowest_0 21 rfl rfl)
theorem dX7_lowest_22 : decode cX7_lowest 22 = .ok (.lstore 5, 2) := dk_55 5 (dk_at dksX7_lowest_0 22 rfl rfl)
theorem dX7_lowest_24 : decode cX7_lowest 24 = .ok (.lload_n 2, 1) := dk_32 (dk_at dksX7_lowest_1 0 rfl rfl)
theorem dX7_lowest_25 : decode cX7_lowest 25 = .ok (.lstore 7, 2) := dk_55 7 (dk_at dksX7_lowest_1 1 rfl rfl)
theorem dX7_lowest_27 : decode cX7_lowest 27 = .ok (.lload 7, 2) := dk_22 7 (dk_at dksX7_lowest_1 3 rfl rfl)
theorem dX7_lowest_29 : decode cX7_lowest 29 = .ok (.lconst 0, 1) := dk_9 (dk_at dksX7_lowest_1 5 rfl rfl)
theorem dX7_lowest_30 : decode cX7_lowest 30 = .ok (.lcmp, 1) := dk_148 (dk_at dksX7_lowest_1 6 rfl rfl)
theorem dX7_lowest_31 : decode cX7_lowest 31 = .ok (.ifCond .eq 21, 3) := dk_153 0 21 (dk_at dksX7_lowest_1 7 rfl rfl)
theorem dX7_lowest_34 : decode cX7_lowest 34 = .ok (.lload 5, 2) := dk_22 5 (dk_at dksX7_lowest_1 10 rfl rfl)
theorem dX7_lowest_36 : decode cX7_lowest 36 = .ok (.lload 7, 2) := dk_22 7 (dk_at dksX7_lowest_1 12 rfl rfl)
theorem dX7_lowest_38 : decode cX7_lowest 38 = .ok (.lrem, 1) := dk_113 (dk_at dksX7_lowest_1 14 rfl rfl)
theorem dX7_lowest_39 : decode cX7_lowest 39 = .ok (.lstore 9, 2) := dk_55 9 (dk_at dksX7_lowest_1 15 rfl rfl)
theorem dX7_lowest_41 : decode cX7_lowest 41 = .ok (.lload 7, 2) := dk_22 7 (dk_at dksX7_lowest_1 17 rfl rfl)
theorem dX7_lowest_43 : decode cX7_lowest 43 = .ok (.lstore 5, 2) := dk_55 5 (dk_at dksX7_lowest_1 19 rfl rfl)
theorem dX7_lowest_45 : decode cX7_lowest 45 = .ok (.lload 9, 2) := dk_22 9 (dk_at dksX7_lowest_1 21 rfl rfl)
theorem dX7_lowest_47 : decode cX7_lowest 47 = .ok (.lstore 7, 2) := dk_55 7 (dk_at dksX7_lowest_2 0 rfl rfl)
theorem dX7_lowest_49 : decode cX7_lowest 49 = .ok (.goto (-22), 3) := dk_167 255 234 (dk_at dksX7_lowest_2 2 rfl rfl)
theorem dX7_lowest_52 : decode cX7_lowest 52 = .ok (.iload 4, 2) := dk_21 4 (dk_at dksX7_lowest_2 5 rfl rfl)
theorem dX7_lowest_54 : decode cX7_lowest 54 = .ok (.ifCond .ne 7, 3) := dk_154 0 7 (dk_at dksX7_lowest_2 7 rfl rfl)
theorem dX7_lowest_57 : decode cX7_lowest 57 = .ok (.lload_n 0, 1) := dk_30 (dk_at dksX7_lowest_2 10 rfl rfl)
theorem dX7_lowest_58 : decode cX7_lowest 58 = .ok (.goto 4, 3) := dk_167 0 4 (dk_at dksX7_lowest_2 11 rfl rfl)
theorem dX7_lowest_61 : decode cX7_lowest 61 = .ok (.lload_n 2, 1) := dk_32 (dk_at dksX7_lowest_2 14 rfl rfl)
theorem dX7_lowest_62 : decode cX7_lowest 62 = .ok (.lload 5, 2) := dk_22 5 (dk_at dksX7_lowest_2 15 rfl rfl)
theorem dX7_lowest_64 : decode cX7_lowest 64 = .ok (.ldiv, 1) := dk_109 (dk_at dksX7_lowest_2 17 rfl rfl)
theorem dX7_lowest_65 : decode cX7_lowest 65 = .ok (.lreturn, 1) := dk_173 (dk_at dksX7_lowest_2 18 rfl rfl)
abbrev cX7_shift : ByteArray := prog_20_method_61_code
def yX7_shift : MethodName := ⟨RX7, "shift", "(II)J"⟩
def dkwX7_shift_5 : List UInt8 := [180, 0, 118, 21, 5, 46, 79, 132, 5, 1, 167, 255, 230, 33, 173]
abbrev dktX7_shift_5 : List UInt8 := dkwX7_shift_5 ++ []
def dkwX7_shift_4 : List UInt8 := [182, 1, 10, 66, 3, 54, 5, 21, 5, 42, 180, 0, 135, 162, 0, 23, 42, 180, 0, 16, 21, 5, 42]
abbrev dktX7_shift_4 : List UInt8 := dkwX7_shift_4 ++ dktX7_shift_5
def dkwX7_shift_3 : List UInt8 := [21, 4, 16, 23, 164, 0, 8, 16, 23, 167, 0, 5, 21, 4, 79, 132, 3, 1, 167, 255, 194, 42, 27]
abbrev dktX7_shift_3 : List UInt8 := dkwX7_shift_3 ++ dktX7_shift_4
def dkwX7_shift_2 : List UInt8 := [180, 0, 16, 29, 46, 28, 96, 54, 4, 42, 180, 0, 16, 29, 21, 4, 156, 0, 7, 3, 167, 0, 17]
abbrev dktX7_shift_2 : List UInt8 := dkwX7_shift_2 ++ dktX7_shift_3
def dkwX7_shift_1 : List UInt8 := [62, 29, 42, 180, 0, 135, 162, 0, 60, 42, 180, 0, 118, 29, 42, 180, 0, 16, 29, 46, 79, 42]
abbrev dktX7_shift_1 : List UInt8 := dkwX7_shift_1 ++ dktX7_shift_2
def dkwX7_shift_0 : List UInt8 := [42, 27, 182, 0, 217, 153, 0, 14, 28, 16, 233, 16, 23, 184, 0, 127, 154, 0, 7, 20, 1, 8, 173, 3]
abbrev dktX7_shift_0 : List UInt8 := dkwX7_shift_0 ++ dktX7_shift_1
theorem dksX7_shift_0 : cX7_shift.data.toList.drop 0 = dktX7_shift_0 := by decide +kernel
theorem dksX7_shift_1 : cX7_shift.data.toList.drop 24 = dktX7_shift_1 := dk_seg dksX7_shift_0 24 rfl rfl
theorem dksX7_shift_2 : cX7_shift.data.toList.drop 46 = dktX7_shift_2 := dk_seg dksX7_shift_1 22 rfl rfl
theorem dksX7_shift_3 : cX7_shift.data.toList.drop 69 = dktX7_shift_3 := dk_seg dksX7_shift_2 23 rfl rfl
theorem dksX7_shift_4 : cX7_shift.data.toList.drop 92 = dktX7_shift_4 := dk_seg dksX7_shift_3 23 rfl rfl
theorem dksX7_shift_5 : cX7_shift.data.toList.drop 115 = dktX7_shift_5 := dk_seg dksX7_shift_4 23 rfl rfl
theorem dX7_shift_0 : decode cX7_shift 0 = .ok (.aload_n 0, 1) := dk_42 (dk_at dksX7_shift_0 0 rfl rfl)
theorem dX7_shift_1 : decode cX7_shift 1 = .ok (.iload_n 1, 1) := dk_27 (dk_at dksX7_shift_0 1 rfl rfl)
theorem dX7_shift_2 : decode cX7_shift 2 = .ok (.invokevirtual 217, 3) := dk_182 0 217 (dk_at dksX7_shift_0 2 rfl rfl)
theorem dX7_shift_5 : decode cX7_shift 5 = .ok (.ifCond .eq 14, 3) := dk_153 0 14 (dk_at dksX7_shift_0 5 rfl rfl)
theorem dX7_shift_8 : decode cX7_shift 8 = .ok (.iload_n 2, 1) := dk_28 (dk_at dksX7_shift_0 8 rfl rfl)
theorem dX7_shift_9 : decode cX7_shift 9 = .ok (.bipush (-23), 2) := dk_16 233 (dk_at dksX7_shift_0 9 rfl rfl)
theorem dX7_shift_11 : decode cX7_shift 11 = .ok (.bipush 23, 2) := dk_16 23 (dk_at dksX7_shift_0 11 rfl rfl)
theorem dX7_shift_13 : decode cX7_shift 13 = .ok (.invokestatic 127, 3) := dk_184 0 127 (dk_at dksX7_shift_0 13 rfl rfl)
theorem dX7_shift_16 : decode cX7_shift 16 = .ok (.ifCond .ne 7, 3) := dk_154 0 7 (dk_at dksX7_shift_0 16 rfl rfl)
theorem dX7_shift_19 : decode cX7_shift 19 = .ok (.ldc2_w 264, 3) := dk_20 1 8 (dk_at dksX7_shift_0 19 rfl rfl)
theorem dX7_shift_22 : decode cX7_shift 22 = .ok (.lreturn, 1) := dk_173 (dk_at dksX7_shift_0 22 rfl rfl)
theorem dX7_shift_23 : decode cX7_shift 23 = .ok (.iconst 0, 1) := dk_3 (dk_at dksX7_shift_0 23 rfl rfl)
theorem dX7_shift_24 : decode cX7_shift 24 = .ok (.istore_n 3, 1) := dk_62 (dk_at dksX7_shift_1 0 rfl rfl)
theorem dX7_shift_25 : decode cX7_shift 25 = .ok (.iload_n 3, 1) := dk_29 (dk_at dksX7_shift_1 1 rfl rfl)
theorem dX7_shift_26 : decode cX7_shift 26 = .ok (.aload_n 0, 1) := dk_42 (dk_at dksX7_shift_1 2 rfl rfl)
theorem dX7_shift_27 : decode cX7_shift 27 = .ok (.getfield 135, 3) := dk_180 0 135 (dk_at dksX7_shift_1 3 rfl rfl)
theorem dX7_shift_30 : decode cX7_shift 30 = .ok (.if_icmp .ge 60, 3) := dk_162 0 60 (dk_at dksX7_shift_1 6 rfl rfl)
theorem dX7_shift_33 : decode cX7_shift 33 = .ok (.aload_n 0, 1) := dk_42 (dk_at dksX7_shift_1 9 rfl rfl)
theorem dX7_shift_34 : decode cX7_shift 34 = .ok (.getfield 118, 3) := dk_180 0 118 (dk_at dksX7_shift_1 10 rfl rfl)
theorem dX7_shift_37 : decode cX7_shift 37 = .ok (.iload_n 3, 1) := dk_29 (dk_at dksX7_shift_1 13 rfl rfl)
theorem dX7_shift_38 : decode cX7_shift 38 = .ok (.aload_n 0, 1) := dk_42 (dk_at dksX7_shift_1 14 rfl rfl)
theorem dX7_shift_39 : decode cX7_shift 39 = .ok (.getfield 16, 3) := dk_180 0 16 (dk_at dksX7_shift_1 15 rfl rfl)
theorem dX7_shift_42 : decode cX7_shift 42 = .ok (.iload_n 3, 1) := dk_29 (dk_at dksX7_shift_1 18 rfl rfl)
theorem dX7_shift_43 : decode cX7_shift 43 = .ok (.iaload, 1) := dk_46 (dk_at dksX7_shift_1 19 rfl rfl)
theorem dX7_shift_44 : decode cX7_shift 44 = .ok (.iastore, 1) := dk_79 (dk_at dksX7_shift_1 20 rfl rfl)
theorem dX7_shift_45 : decode cX7_shift 45 = .ok (.aload_n 0, 1) := dk_42 (dk_at dksX7_shift_1 21 rfl rfl)
theorem dX7_shift_46 : decode cX7_shift 46 = .ok (.getfield 16, 3) := dk_180 0 16 (dk_at dksX7_shift_2 0 rfl rfl)
theorem dX7_shift_49 : decode cX7_shift 49 = .ok (.iload_n 3, 1) := dk_29 (dk_at dksX7_shift_2 3 rfl rfl)
theorem dX7_shift_50 : decode cX7_shift 50 = .ok (.iaload, 1) := dk_46 (dk_at dksX7_shift_2 4 rfl rfl)
theorem dX7_shift_51 : decode cX7_shift 51 = .ok (.iload_n 2, 1) := dk_28 (dk_at dksX7_shift_2 5 rfl rfl)
theorem dX7_shift_52 : decode cX7_shift 52 = .ok (.iadd, 1) := dk_96 (dk_at dksX7_shift_2 6 rfl rfl)
theorem dX7_shift_53 : decode cX7_shift 53 = .ok (.istore 4, 2) := dk_54 4 (dk_at dksX7_shift_2 7 rfl rfl)
theorem dX7_shift_55 : decode cX7_shift 55 = .ok (.aload_n 0, 1) := dk_42 (dk_at dksX7_shift_2 9 rfl rfl)
theorem dX7_shift_56 : decode cX7_shift 56 = .ok (.getfield 16, 3) := dk_180 0 16 (dk_at dksX7_shift_2 10 rfl rfl)
theorem dX7_shift_59 : decode cX7_shift 59 = .ok (.iload_n 3, 1) := dk_29 (dk_at dksX7_shift_2 13 rfl rfl)
theorem dX7_shift_60 : decode cX7_shift 60 = .ok (.iload 4, 2) := dk_21 4 (dk_at dksX7_shift_2 14 rfl rfl)
theorem dX7_shift_62 : decode cX7_shift 62 = .ok (.ifCond .ge 7, 3) := dk_156 0 7 (dk_at dksX7_shift_2 16 rfl rfl)
theorem dX7_shift_65 : decode cX7_shift 65 = .ok (.iconst 0, 1) := dk_3 (dk_at dksX7_shift_2 19 rfl rfl)
theorem dX7_shift_66 : decode cX7_shift 66 = .ok (.goto 17, 3) := dk_167 0 17 (dk_at dksX7_shift_2 20 rfl rfl)
theorem dX7_shift_69 : decode cX7_shift 69 = .ok (.iload 4, 2) := dk_21 4 (dk_at dksX7_shift_3 0 rfl rfl)
theorem dX7_shift_71 : decode cX7_shift 71 = .ok (.bipush 23, 2) := dk_16 23 (dk_at dksX7_shift_3 2 rfl rfl)
theorem dX7_shift_73 : decode cX7_shift 73 = .ok (.if_icmp .le 8, 3) := dk_164 0 8 (dk_at dksX7_shift_3 4 rfl rfl)
theorem dX7_shift_76 : decode cX7_shift 76 = .ok (.bipush 23, 2) := dk_16 23 (dk_at dksX7_shift_3 7 rfl rfl)
theorem dX7_shift_78 : decode cX7_shift 78 = .ok (.goto 5, 3) := dk_167 0 5 (dk_at dksX7_shift_3 9 rfl rfl)
theorem dX7_shift_81 : decode cX7_shift 81 = .ok (.iload 4, 2) := dk_21 4 (dk_at dksX7_shift_3 12 rfl rfl)
theorem dX7_shift_83 : decode cX7_shift 83 = .ok (.iastore, 1) := dk_79 (dk_at dksX7_shift_3 14 rfl rfl)
theorem dX7_shift_84 : decode cX7_shift 84 = .ok (.iinc 3 1, 3) := dk_132 3 1 (dk_at dksX7_shift_3 15 rfl rfl)
theorem dX7_shift_87 : decode cX7_shift 87 = .ok (.goto (-62), 3) := dk_167 255 194 (dk_at dksX7_shift_3 18 rfl rfl)
theorem dX7_shift_90 : decode cX7_shift 90 = .ok (.aload_n 0, 1) := dk_42 (dk_at dksX7_shift_3 21 rfl rfl)
theorem dX7_shift_91 : decode cX7_shift 91 = .ok (.iload_n 1, 1) := dk_27 (dk_at dksX7_shift_3 22 rfl rfl)
theorem dX7_shift_92 : decode cX7_shift 92 = .ok (.invokevirtual 266, 3) := dk_182 1 10 (dk_at dksX7_shift_4 0 rfl rfl)
theorem dX7_shift_95 : decode cX7_shift 95 = .ok (.lstore_n 3, 1) := dk_66 (dk_at dksX7_shift_4 3 rfl rfl)
theorem dX7_shift_96 : decode cX7_shift 96 = .ok (.iconst 0, 1) := dk_3 (dk_at dksX7_shift_4 4 rfl rfl)
theorem dX7_shift_97 : decode cX7_shift 97 = .ok (.istore 5, 2) := dk_54 5 (dk_at dksX7_shift_4 5 rfl rfl)
theorem dX7_shift_99 : decode cX7_shift 99 = .ok (.iload 5, 2) := dk_21 5 (dk_at dksX7_shift_4 7 rfl rfl)
theorem dX7_shift_101 : decode cX7_shift 101 = .ok (.aload_n 0, 1) := dk_42 (dk_at dksX7_shift_4 9 rfl rfl)
theorem dX7_shift_102 : decode cX7_shift 102 = .ok (.getfield 135, 3) := dk_180 0 135 (dk_at dksX7_shift_4 10 rfl rfl)
theorem dX7_shift_105 : decode cX7_shift 105 = .ok (.if_icmp .ge 23, 3) := dk_162 0 23 (dk_at dksX7_shift_4 13 rfl rfl)
theorem dX7_shift_108 : decode cX7_shift 108 = .ok (.aload_n 0, 1) := dk_42 (dk_at dksX7_shift_4 16 rfl rfl)
theorem dX7_shift_109 : decode cX7_shift 109 = .ok (.getfield 16, 3) := dk_180 0 16 (dk_at dksX7_shift_4 17 rfl rfl)
theorem dX7_shift_112 : decode cX7_shift 112 = .ok (.iload 5, 2) := dk_21 5 (dk_at dksX7_shift_4 20 rfl rfl)
theorem dX7_shift_114 : decode cX7_shift 114 = .ok (.aload_n 0, 1) := dk_42 (dk_at dksX7_shift_4 22 rfl rfl)
theorem dX7_shift_115 : decode cX7_shift 115 = .ok (.getfield 118, 3) := dk_180 0 118 (dk_at dksX7_shift_5 0 rfl rfl)
theorem dX7_shift_118 : decode cX7_shift 118 = .ok (.iload 5, 2) := dk_21 5 (dk_at dksX7_shift_5 3 rfl rfl)
theorem dX7_shift_120 : decode cX7_shift 120 = .ok (.iaload, 1) := dk_46 (dk_at dksX7_shift_5 5 rfl rfl)
theorem dX7_shift_121 : decode cX7_shift 121 = .ok (.iastore, 1) := dk_79 (dk_at dksX7_shift_5 6 rfl rfl)
theorem dX7_shift_122 : decode cX7_shift 122 = .ok (.iinc 5 1, 3) := dk_132 5 1 (dk_at dksX7_shift_5 7 rfl rfl)
theorem dX7_shift_125 : decode cX7_shift 125 = .ok (.goto (-26), 3) := dk_167 255 230 (dk_at dksX7_shift_5 10 rfl rfl)
theorem dX7_shift_128 : decode cX7_shift 128 = .ok (.lload_n 3, 1) := dk_33 (dk_at dksX7_shift_5 13 rfl rfl)
theorem dX7_shift_129 : decode cX7_shift 129 = .ok (.lreturn, 1) := dk_173 (dk_at dksX7_shift_5 14 rfl rfl)
abbrev cX7_finest : ByteArray := prog_20_method_63_code
def yX7_finest : MethodName := ⟨RX7, "finest", "(IIII)I"⟩
def dkwX7_finest_5 : List UInt8 := [167, 255, 193, 42, 180, 0, 13, 16, 24, 28, 104, 29, 96, 21, 5, 79, 21, 6, 172]
abbrev dktX7_finest_5 : List UInt8 := dkwX7_finest_5 ++ []
def dkwX7_finest_4 : List UInt8 := [21, 8, 153, 0, 10, 21, 9, 21, 7, 162, 0, 11, 21, 8, 54, 6, 21, 9, 54, 7, 132, 8, 1]
abbrev dktX7_finest_4 : List UInt8 := dkwX7_finest_4 ++ dktX7_finest_5
def dkwX7_finest_3 : List UInt8 := [96, 21, 8, 79, 42, 27, 182, 0, 251, 42, 27, 21, 4, 182, 1, 28, 87, 42, 27, 182, 1, 41, 54, 9]
abbrev dktX7_finest_3 : List UInt8 := dkwX7_finest_3 ++ dktX7_finest_4
def dkwX7_finest_2 : List UInt8 := [54, 6, 3, 54, 7, 3, 54, 8, 21, 8, 16, 8, 162, 0, 62, 42, 180, 0, 13, 16, 24, 28, 104, 29]
abbrev dktX7_finest_2 : List UInt8 := dkwX7_finest_2 ++ dktX7_finest_3
def dkwX7_finest_1 : List UInt8 := [184, 0, 127, 154, 0, 6, 16, 249, 172, 42, 180, 0, 13, 16, 24, 28, 104, 29, 96, 46, 54, 5, 3]
abbrev dktX7_finest_1 : List UInt8 := dkwX7_finest_1 ++ dktX7_finest_2
def dkwX7_finest_0 : List UInt8 := [42, 27, 182, 0, 217, 153, 0, 11, 28, 29, 184, 0, 131, 154, 0, 6, 16, 251, 172, 21, 4, 3, 4]
abbrev dktX7_finest_0 : List UInt8 := dkwX7_finest_0 ++ dktX7_finest_1
theorem dksX7_finest_0 : cX7_finest.data.toList.drop 0 = dktX7_finest_0 := by decide +kernel
theorem dksX7_finest_1 : cX7_finest.data.toList.drop 23 = dktX7_finest_1 := dk_seg dksX7_finest_0 23 rfl rfl
theorem dksX7_finest_2 : cX7_finest.data.toList.drop 46 = dktX7_finest_2 := dk_seg dksX7_finest_1 23 rfl rfl
theorem dksX7_finest_3 : cX7_finest.data.toList.drop 70 = dktX7_finest_3 := dk_seg dksX7_finest_2 24 rfl rfl
theorem dksX7_finest_4 : cX7_finest.data.toList.drop 94 = dktX7_finest_4 := dk_seg dksX7_finest_3 24 rfl rfl
theorem dksX7_finest_5 : cX7_finest.data.toList.drop 117 = dktX7_finest_5 := dk_seg dksX7_finest_4 23 rfl rfl
theorem dX7_finest_0 : decode cX7_finest 0 = .ok (.aload_n 0, 1) := dk_42 (dk_at dksX7_finest_0 0 rfl rfl)
theorem dX7_finest_1 : decode cX7_finest 1 = .ok (.iload_n 1, 1) := dk_27 (dk_at dksX7_finest_0 1 rfl rfl)
theorem dX7_finest_2 : decode cX7_finest 2 = .ok (.invokevirtual 217, 3) := dk_182 0 217 (dk_at dksX7_finest_0 2 rfl rfl)
theorem dX7_finest_5 : decode cX7_finest 5 = .ok (.ifCond .eq 11, 3) := dk_153 0 11 (dk_at dksX7_finest_0 5 rfl rfl)
theorem dX7_finest_8 : decode cX7_finest 8 = .ok (.iload_n 2, 1) := dk_28 (dk_at dksX7_finest_0 8 rfl rfl)
theorem dX7_finest_9 : decode cX7_finest 9 = .ok (.iload_n 3, 1) := dk_29 (dk_at dksX7_finest_0 9 rfl rfl)
theorem dX7_finest_10 : decode cX7_finest 10 = .ok (.invokestatic 131, 3) := dk_184 0 131 (dk_at dksX7_finest_0 10 rfl rfl)
theorem dX7_finest_13 : decode cX7_finest 13 = .ok (.ifCond .ne 6, 3) := dk_154 0 6 (dk_at dksX7_finest_0 13 rfl rfl)
theorem dX7_finest_16 : decode cX7_finest 16 = .ok (.bipush (-5), 2) := dk_16 251 (dk_at dksX7_finest_0 16 rfl rfl)
theorem dX7_finest_18 : decode cX7_finest 18 = .ok (.ireturn, 1) := dk_172 (dk_at dksX7_finest_0 18 rfl rfl)
theorem dX7_finest_19 : decode cX7_finest 19 = .ok (.iload 4, 2) := dk_21 4 (dk_at dksX7_finest_0 19 rfl rfl)
theorem dX7_finest_21 : decode cX7_finest 21 = .ok (.iconst 0, 1) := dk_3 (dk_at dksX7_finest_0 21 rfl rfl)
theorem dX7_finest_22 : decode cX7_finest 22 = .ok (.iconst 1, 1) := dk_4 (dk_at dksX7_finest_0 22 rfl rfl)
theorem dX7_finest_23 : decode cX7_finest 23 = .ok (.invokestatic 127, 3) := dk_184 0 127 (dk_at dksX7_finest_1 0 rfl rfl)
theorem dX7_finest_26 : decode cX7_finest 26 = .ok (.ifCond .ne 6, 3) := dk_154 0 6 (dk_at dksX7_finest_1 3 rfl rfl)
theorem dX7_finest_29 : decode cX7_finest 29 = .ok (.bipush (-7), 2) := dk_16 249 (dk_at dksX7_finest_1 6 rfl rfl)
theorem dX7_finest_31 : decode cX7_finest 31 = .ok (.ireturn, 1) := dk_172 (dk_at dksX7_finest_1 8 rfl rfl)
theorem dX7_finest_32 : decode cX7_finest 32 = .ok (.aload_n 0, 1) := dk_42 (dk_at dksX7_finest_1 9 rfl rfl)
theorem dX7_finest_33 : decode cX7_finest 33 = .ok (.getfield 13, 3) := dk_180 0 13 (dk_at dksX7_finest_1 10 rfl rfl)
theorem dX7_finest_36 : decode cX7_finest 36 = .ok (.bipush 24, 2) := dk_16 24 (dk_at dksX7_finest_1 13 rfl rfl)
theorem dX7_finest_38 : decode cX7_finest 38 = .ok (.iload_n 2, 1) := dk_28 (dk_at dksX7_finest_1 15 rfl rfl)
theorem dX7_finest_39 : decode cX7_finest 39 = .ok (.imul, 1) := dk_104 (dk_at dksX7_finest_1 16 rfl rfl)
theorem dX7_finest_40 : decode cX7_finest 40 = .ok (.iload_n 3, 1) := dk_29 (dk_at dksX7_finest_1 17 rfl rfl)
theorem dX7_finest_41 : decode cX7_finest 41 = .ok (.iadd, 1) := dk_96 (dk_at dksX7_finest_1 18 rfl rfl)
theorem dX7_finest_42 : decode cX7_finest 42 = .ok (.iaload, 1) := dk_46 (dk_at dksX7_finest_1 19 rfl rfl)
theorem dX7_finest_43 : decode cX7_finest 43 = .ok (.istore 5, 2) := dk_54 5 (dk_at dksX7_finest_1 20 rfl rfl)
theorem dX7_finest_45 : decode cX7_finest 45 = .ok (.iconst 0, 1) := dk_3 (dk_at dksX7_finest_1 22 rfl rfl)
theorem dX7_finest_46 : decode cX7_finest 46 = .ok (.istore 6, 2) := dk_54 6 (dk_at dksX7_finest_2 0 rfl rfl)
theorem dX7_finest_48 : decode cX7_finest 48 = .ok (.iconst 0, 1) := dk_3 (dk_at dksX7_finest_2 2 rfl rfl)
theorem dX7_finest_49 : decode cX7_finest 49 = .ok (.istore 7, 2) := dk_54 7 (dk_at dksX7_finest_2 3 rfl rfl)
theorem dX7_finest_51 : decode cX7_finest 51 = .ok (.iconst 0, 1) := dk_3 (dk_at dksX7_finest_2 5 rfl rfl)
theorem dX7_finest_52 : decode cX7_finest 52 = .ok (.istore 8, 2) := dk_54 8 (dk_at dksX7_finest_2 6 rfl rfl)
theorem dX7_finest_54 : decode cX7_finest 54 = .ok (.iload 8, 2) := dk_21 8 (dk_at dksX7_finest_2 8 rfl rfl)
theorem dX7_finest_56 : decode cX7_finest 56 = .ok (.bipush 8, 2) := dk_16 8 (dk_at dksX7_finest_2 10 rfl rfl)
theorem dX7_finest_58 : decode cX7_finest 58 = .ok (.if_icmp .ge 62, 3) := dk_162 0 62 (dk_at dksX7_finest_2 12 rfl rfl)
theorem dX7_finest_61 : decode cX7_finest 61 = .ok (.aload_n 0, 1) := dk_42 (dk_at dksX7_finest_2 15 rfl rfl)
theorem dX7_finest_62 : decode cX7_finest 62 = .ok (.getfield 13, 3) := dk_180 0 13 (dk_at dksX7_finest_2 16 rfl rfl)
theorem dX7_finest_65 : decode cX7_finest 65 = .ok (.bipush 24, 2) := dk_16 24 (dk_at dksX7_finest_2 19 rfl rfl)
theorem dX7_finest_67 : decode cX7_finest 67 = .ok (.iload_n 2, 1) := dk_28 (dk_at dksX7_finest_2 21 rfl rfl)
theorem dX7_finest_68 : decode cX7_finest 68 = .ok (.imul, 1) := dk_104 (dk_at dksX7_finest_2 22 rfl rfl)
theorem dX7_finest_69 : decode cX7_finest 69 = .ok (.iload_n 3, 1) := dk_29 (dk_at dksX7_finest_2 23 rfl rfl)
theorem dX7_finest_70 : decode cX7_finest 70 = .ok (.iadd, 1) := dk_96 (dk_at dksX7_finest_3 0 rfl rfl)
theorem dX7_finest_71 : decode cX7_finest 71 = .ok (.iload 8, 2) := dk_21 8 (dk_at dksX7_finest_3 1 rfl rfl)
theorem dX7_finest_73 : decode cX7_finest 73 = .ok (.iastore, 1) := dk_79 (dk_at dksX7_finest_3 3 rfl rfl)
theorem dX7_finest_74 : decode cX7_finest 74 = .ok (.aload_n 0, 1) := dk_42 (dk_at dksX7_finest_3 4 rfl rfl)
theorem dX7_finest_75 : decode cX7_finest 75 = .ok (.iload_n 1, 1) := dk_27 (dk_at dksX7_finest_3 5 rfl rfl)
theorem dX7_finest_76 : decode cX7_finest 76 = .ok (.invokevirtual 251, 3) := dk_182 0 251 (dk_at dksX7_finest_3 6 rfl rfl)
theorem dX7_finest_79 : decode cX7_finest 79 = .ok (.aload_n 0, 1) := dk_42 (dk_at dksX7_finest_3 9 rfl rfl)
theorem dX7_finest_80 : decode cX7_finest 80 = .ok (.iload_n 1, 1) := dk_27 (dk_at dksX7_finest_3 10 rfl rfl)
theorem dX7_finest_81 : decode cX7_finest 81 = .ok (.iload 4, 2) := dk_21 4 (dk_at dksX7_finest_3 11 rfl rfl)
theorem dX7_finest_83 : decode cX7_finest 83 = .ok (.invokevirtual 284, 3) := dk_182 1 28 (dk_at dksX7_finest_3 13 rfl rfl)
theorem dX7_finest_86 : decode cX7_finest 86 = .ok (.pop, 1) := dk_87 (dk_at dksX7_finest_3 16 rfl rfl)
theorem dX7_finest_87 : decode cX7_finest 87 = .ok (.aload_n 0, 1) := dk_42 (dk_at dksX7_finest_3 17 rfl rfl)
theorem dX7_finest_88 : decode cX7_finest 88 = .ok (.iload_n 1, 1) := dk_27 (dk_at dksX7_finest_3 18 rfl rfl)
theorem dX7_finest_89 : decode cX7_finest 89 = .ok (.invokevirtual 297, 3) := dk_182 1 41 (dk_at dksX7_finest_3 19 rfl rfl)
theorem dX7_finest_92 : decode cX7_finest 92 = .ok (.istore 9, 2) := dk_54 9 (dk_at dksX7_finest_3 22 rfl rfl)
theorem dX7_finest_94 : decode cX7_finest 94 = .ok (.iload 8, 2) := dk_21 8 (dk_at dksX7_finest_4 0 rfl rfl)
theorem dX7_finest_96 : decode cX7_finest 96 = .ok (.ifCond .eq 10, 3) := dk_153 0 10 (dk_at dksX7_finest_4 2 rfl rfl)
theorem dX7_finest_99 : decode cX7_finest 99 = .ok (.iload 9, 2) := dk_21 9 (dk_at dksX7_finest_4 5 rfl rfl)
theorem dX7_finest_101 : decode cX7_finest 101 = .ok (.iload 7, 2) := dk_21 7 (dk_at dksX7_finest_4 7 rfl rfl)
theorem dX7_finest_103 : decode cX7_finest 103 = .ok (.if_icmp .ge 11, 3) := dk_162 0 11 (dk_at dksX7_finest_4 9 rfl rfl)
theorem dX7_finest_106 : decode cX7_finest 106 = .ok (.iload 8, 2) := dk_21 8 (dk_at dksX7_finest_4 12 rfl rfl)
theorem dX7_finest_108 : decode cX7_finest 108 = .ok (.istore 6, 2) := dk_54 6 (dk_at dksX7_finest_4 14 rfl rfl)
theorem dX7_finest_110 : decode cX7_finest 110 = .ok (.iload 9, 2) := dk_21 9 (dk_at dksX7_finest_4 16 rfl rfl)
theorem dX7_finest_112 : decode cX7_finest 112 = .ok (.istore 7, 2) := dk_54 7 (dk_at dksX7_finest_4 18 rfl rfl)
theorem dX7_finest_114 : decode cX7_finest 114 = .ok (.iinc 8 1, 3) := dk_132 8 1 (dk_at dksX7_finest_4 20 rfl rfl)
theorem dX7_finest_117 : decode cX7_finest 117 = .ok (.goto (-63), 3) := dk_167 255 193 (dk_at dksX7_finest_5 0 rfl rfl)
theorem dX7_finest_120 : decode cX7_finest 120 = .ok (.aload_n 0, 1) := dk_42 (dk_at dksX7_finest_5 3 rfl rfl)
theorem dX7_finest_121 : decode cX7_finest 121 = .ok (.getfield 13, 3) := dk_180 0 13 (dk_at dksX7_finest_5 4 rfl rfl)
theorem dX7_finest_124 : decode cX7_finest 124 = .ok (.bipush 24, 2) := dk_16 24 (dk_at dksX7_finest_5 7 rfl rfl)
theorem dX7_finest_126 : decode cX7_finest 126 = .ok (.iload_n 2, 1) := dk_28 (dk_at dksX7_finest_5 9 rfl rfl)
theorem dX7_finest_127 : decode cX7_finest 127 = .ok (.imul, 1) := dk_104 (dk_at dksX7_finest_5 10 rfl rfl)
theorem dX7_finest_128 : decode cX7_finest 128 = .ok (.iload_n 3, 1) := dk_29 (dk_at dksX7_finest_5 11 rfl rfl)
theorem dX7_finest_129 : decode cX7_finest 129 = .ok (.iadd, 1) := dk_96 (dk_at dksX7_finest_5 12 rfl rfl)
theorem dX7_finest_130 : decode cX7_finest 130 = .ok (.iload 5, 2) := dk_21 5 (dk_at dksX7_finest_5 13 rfl rfl)
theorem dX7_finest_132 : decode cX7_finest 132 = .ok (.iastore, 1) := dk_79 (dk_at dksX7_finest_5 15 rfl rfl)
theorem dX7_finest_133 : decode cX7_finest 133 = .ok (.iload 6, 2) := dk_21 6 (dk_at dksX7_finest_5 16 rfl rfl)
theorem dX7_finest_135 : decode cX7_finest 135 = .ok (.ireturn, 1) := dk_172 (dk_at dksX7_finest_5 18 rfl rfl)
abbrev cX7_waited : ByteArray := prog_20_method_62_code
def yX7_waited : MethodName := ⟨RX7, "waited", "(I)I"⟩
def dkwX7_waited_3 : List UInt8 := [28, 172]
abbrev dktX7_waited_3 : List UInt8 := dkwX7_waited_3 ++ []
def dkwX7_waited_2 : List UInt8 := [167, 0, 16, 42, 180, 0, 112, 29, 46, 42, 180, 0, 109, 29, 46, 100, 96, 61, 132, 3, 1, 167, 255, 198]
abbrev dktX7_waited_2 : List UInt8 := dkwX7_waited_2 ++ dktX7_waited_3
def dkwX7_waited_1 : List UInt8 := [29, 46, 2, 160, 0, 7, 3, 167, 0, 31, 42, 180, 0, 112, 29, 46, 2, 160, 0, 8, 16, 24]
abbrev dktX7_waited_1 : List UInt8 := dkwX7_waited_1 ++ dktX7_waited_2
def dkwX7_waited_0 : List UInt8 := [42, 27, 182, 0, 254, 3, 61, 3, 62, 29, 42, 180, 0, 31, 27, 46, 162, 0, 54, 28, 42, 180, 0, 109]
abbrev dktX7_waited_0 : List UInt8 := dkwX7_waited_0 ++ dktX7_waited_1
theorem dksX7_waited_0 : cX7_waited.data.toList.drop 0 = dktX7_waited_0 := by decide +kernel
theorem dksX7_waited_1 : cX7_waited.data.toList.drop 24 = dktX7_waited_1 := dk_seg dksX7_waited_0 24 rfl rfl
theorem dksX7_waited_2 : cX7_waited.data.toList.drop 46 = dktX7_waited_2 := dk_seg dksX7_waited_1 22 rfl rfl
theorem dksX7_waited_3 : cX7_waited.data.toList.drop 70 = dktX7_waited_3 := dk_seg dksX7_waited_2 24 rfl rfl
theorem dX7_waited_0 : decode cX7_waited 0 = .ok (.aload_n 0, 1) := dk_42 (dk_at dksX7_waited_0 0 rfl rfl)
theorem dX7_waited_1 : decode cX7_waited 1 = .ok (.iload_n 1, 1) := dk_27 (dk_at dksX7_waited_0 1 rfl rfl)
theorem dX7_waited_2 : decode cX7_waited 2 = .ok (.invokevirtual 254, 3) := dk_182 0 254 (dk_at dksX7_waited_0 2 rfl rfl)
theorem dX7_waited_5 : decode cX7_waited 5 = .ok (.iconst 0, 1) := dk_3 (dk_at dksX7_waited_0 5 rfl rfl)
theorem dX7_waited_6 : decode cX7_waited 6 = .ok (.istore_n 2, 1) := dk_61 (dk_at dksX7_waited_0 6 rfl rfl)
theorem dX7_waited_7 : decode cX7_waited 7 = .ok (.iconst 0, 1) := dk_3 (dk_at dksX7_waited_0 7 rfl rfl)
theorem dX7_waited_8 : decode cX7_waited 8 = .ok (.istore_n 3, 1) := dk_62 (dk_at dksX7_waited_0 8 rfl rfl)
theorem dX7_waited_9 : decode cX7_waited 9 = .ok (.iload_n 3, 1) := dk_29 (dk_at dksX7_waited_0 9 rfl rfl)
theorem dX7_waited_10 : decode cX7_waited 10 = .ok (.aload_n 0, 1) := dk_42 (dk_at dksX7_waited_0 10 rfl rfl)
theorem dX7_waited_11 : decode cX7_waited 11 = .ok (.getfield 31, 3) := dk_180 0 31 (dk_at dksX7_waited_0 11 rfl rfl)
theorem dX7_waited_14 : decode cX7_waited 14 = .ok (.iload_n 1, 1) := dk_27 (dk_at dksX7_waited_0 14 rfl rfl)
theorem dX7_waited_15 : decode cX7_waited 15 = .ok (.iaload, 1) := dk_46 (dk_at dksX7_waited_0 15 rfl rfl)
theorem dX7_waited_16 : decode cX7_waited 16 = .ok (.if_icmp .ge 54, 3) := dk_162 0 54 (dk_at dksX7_waited_0 16 rfl rfl)
theorem dX7_waited_19 : decode cX7_waited 19 = .ok (.iload_n 2, 1) := dk_28 (dk_at dksX7_waited_0 19 rfl rfl)
theorem dX7_waited_20 : decode cX7_waited 20 = .ok (.aload_n 0, 1) := dk_42 (dk_at dksX7_waited_0 20 rfl rfl)
theorem dX7_waited_21 : decode cX7_waited 21 = .ok (.getfield 109, 3) := dk_180 0 109 (dk_at dksX7_waited_0 21 rfl rfl)
theorem dX7_waited_24 : decode cX7_waited 24 = .ok (.iload_n 3, 1) := dk_29 (dk_at dksX7_waited_1 0 rfl rfl)
theorem dX7_waited_25 : decode cX7_waited 25 = .ok (.iaload, 1) := dk_46 (dk_at dksX7_waited_1 1 rfl rfl)
theorem dX7_waited_26 : decode cX7_waited 26 = .ok (.iconst (-1), 1) := dk_2 (dk_at dksX7_waited_1 2 rfl rfl)
theorem dX7_waited_27 : decode cX7_waited 27 = .ok (.if_icmp .ne 7, 3) := dk_160 0 7 (dk_at dksX7_waited_1 3 rfl rfl)
theorem dX7_waited_30 : decode cX7_waited 30 = .ok (.iconst 0, 1) := dk_3 (dk_at dksX7_waited_1 6 rfl rfl)
theorem dX7_waited_31 : decode cX7_waited 31 = .ok (.goto 31, 3) := dk_167 0 31 (dk_at dksX7_waited_1 7 rfl rfl)
theorem dX7_waited_34 : decode cX7_waited 34 = .ok (.aload_n 0, 1) := dk_42 (dk_at dksX7_waited_1 10 rfl rfl)
theorem dX7_waited_35 : decode cX7_waited 35 = .ok (.getfield 112, 3) := dk_180 0 112 (dk_at dksX7_waited_1 11 rfl rfl)
theorem dX7_waited_38 : decode cX7_waited 38 = .ok (.iload_n 3, 1) := dk_29 (dk_at dksX7_waited_1 14 rfl rfl)
theorem dX7_waited_39 : decode cX7_waited 39 = .ok (.iaload, 1) := dk_46 (dk_at dksX7_waited_1 15 rfl rfl)
theorem dX7_waited_40 : decode cX7_waited 40 = .ok (.iconst (-1), 1) := dk_2 (dk_at dksX7_waited_1 16 rfl rfl)
theorem dX7_waited_41 : decode cX7_waited 41 = .ok (.if_icmp .ne 8, 3) := dk_160 0 8 (dk_at dksX7_waited_1 17 rfl rfl)
theorem dX7_waited_44 : decode cX7_waited 44 = .ok (.bipush 24, 2) := dk_16 24 (dk_at dksX7_waited_1 20 rfl rfl)
theorem dX7_waited_46 : decode cX7_waited 46 = .ok (.goto 16, 3) := dk_167 0 16 (dk_at dksX7_waited_2 0 rfl rfl)
theorem dX7_waited_49 : decode cX7_waited 49 = .ok (.aload_n 0, 1) := dk_42 (dk_at dksX7_waited_2 3 rfl rfl)
theorem dX7_waited_50 : decode cX7_waited 50 = .ok (.getfield 112, 3) := dk_180 0 112 (dk_at dksX7_waited_2 4 rfl rfl)
theorem dX7_waited_53 : decode cX7_waited 53 = .ok (.iload_n 3, 1) := dk_29 (dk_at dksX7_waited_2 7 rfl rfl)
theorem dX7_waited_54 : decode cX7_waited 54 = .ok (.iaload, 1) := dk_46 (dk_at dksX7_waited_2 8 rfl rfl)
theorem dX7_waited_55 : decode cX7_waited 55 = .ok (.aload_n 0, 1) := dk_42 (dk_at dksX7_waited_2 9 rfl rfl)
theorem dX7_waited_56 : decode cX7_waited 56 = .ok (.getfield 109, 3) := dk_180 0 109 (dk_at dksX7_waited_2 10 rfl rfl)
theorem dX7_waited_59 : decode cX7_waited 59 = .ok (.iload_n 3, 1) := dk_29 (dk_at dksX7_waited_2 13 rfl rfl)
theorem dX7_waited_60 : decode cX7_waited 60 = .ok (.iaload, 1) := dk_46 (dk_at dksX7_waited_2 14 rfl rfl)
theorem dX7_waited_61 : decode cX7_waited 61 = .ok (.isub, 1) := dk_100 (dk_at dksX7_waited_2 15 rfl rfl)
theorem dX7_waited_62 : decode cX7_waited 62 = .ok (.iadd, 1) := dk_96 (dk_at dksX7_waited_2 16 rfl rfl)
theorem dX7_waited_63 : decode cX7_waited 63 = .ok (.istore_n 2, 1) := dk_61 (dk_at dksX7_waited_2 17 rfl rfl)
theorem dX7_waited_64 : decode cX7_waited 64 = .ok (.iinc 3 1, 3) := dk_132 3 1 (dk_at dksX7_waited_2 18 rfl rfl)
theorem dX7_waited_67 : decode cX7_waited 67 = .ok (.goto (-58), 3) := dk_167 255 198 (dk_at dksX7_waited_2 21 rfl rfl)
theorem dX7_waited_70 : decode cX7_waited 70 = .ok (.iload_n 2, 1) := dk_28 (dk_at dksX7_waited_3 0 rfl rfl)
theorem dX7_waited_71 : decode cX7_waited 71 = .ok (.ireturn, 1) := dk_172 (dk_at dksX7_waited_3 1 rfl rfl)
abbrev cX7_split : ByteArray := prog_20_method_64_code
def yX7_split : MethodName := ⟨RX7, "split", "(IIII)J"⟩
def dkwX7_split_6 : List UInt8 := [133, 167, 0, 5, 22, 6, 173]
abbrev dktX7_split_6 : List UInt8 := dkwX7_split_6 ++ []
def dkwX7_split_5 : List UInt8 := [156, 0, 11, 21, 8, 54, 5, 22, 9, 55, 6, 132, 8, 1, 167, 255, 170, 21, 4, 154, 0, 9, 21, 5]
abbrev dktX7_split_5 : List UInt8 := dkwX7_split_5 ++ dktX7_split_6
def dkwX7_split_4 : List UInt8 := [42, 27, 182, 0, 254, 42, 27, 182, 1, 1, 55, 9, 21, 8, 153, 0, 11, 22, 9, 22, 6, 148]
abbrev dktX7_split_4 : List UInt8 := dkwX7_split_4 ++ dktX7_split_5
def dkwX7_split_3 : List UInt8 := [180, 0, 106, 21, 9, 21, 9, 21, 8, 162, 0, 7, 28, 167, 0, 4, 29, 79, 132, 9, 1, 167, 255, 223]
abbrev dktX7_split_3 : List UInt8 := dkwX7_split_3 ++ dktX7_split_4
def dkwX7_split_2 : List UInt8 := [180, 0, 31, 27, 46, 163, 0, 81, 3, 54, 9, 21, 9, 42, 180, 0, 31, 27, 46, 162, 0, 28, 42]
abbrev dktX7_split_2 : List UInt8 := dkwX7_split_2 ++ dktX7_split_3
def dkwX7_split_1 : List UInt8 := [3, 4, 184, 0, 127, 154, 0, 7, 20, 1, 8, 173, 3, 54, 5, 9, 55, 6, 3, 54, 8, 21, 8, 42]
abbrev dktX7_split_1 : List UInt8 := dkwX7_split_1 ++ dktX7_split_2
def dkwX7_split_0 : List UInt8 := [42, 27, 182, 0, 217, 153, 0, 27, 28, 184, 0, 220, 153, 0, 20, 29, 184, 0, 220, 153, 0, 13, 21, 4]
abbrev dktX7_split_0 : List UInt8 := dkwX7_split_0 ++ dktX7_split_1
theorem dksX7_split_0 : cX7_split.data.toList.drop 0 = dktX7_split_0 := by decide +kernel
theorem dksX7_split_1 : cX7_split.data.toList.drop 24 = dktX7_split_1 := dk_seg dksX7_split_0 24 rfl rfl
theorem dksX7_split_2 : cX7_split.data.toList.drop 48 = dktX7_split_2 := dk_seg dksX7_split_1 24 rfl rfl
theorem dksX7_split_3 : cX7_split.data.toList.drop 71 = dktX7_split_3 := dk_seg dksX7_split_2 23 rfl rfl
theorem dksX7_split_4 : cX7_split.data.toList.drop 95 = dktX7_split_4 := dk_seg dksX7_split_3 24 rfl rfl
theorem dksX7_split_5 : cX7_split.data.toList.drop 117 = dktX7_split_5 := dk_seg dksX7_split_4 22 rfl rfl
theorem dksX7_split_6 : cX7_split.data.toList.drop 141 = dktX7_split_6 := dk_seg dksX7_split_5 24 rfl rfl
theorem dX7_split_0 : decode cX7_split 0 = .ok (.aload_n 0, 1) := dk_42 (dk_at dksX7_split_0 0 rfl rfl)
theorem dX7_split_1 : decode cX7_split 1 = .ok (.iload_n 1, 1) := dk_27 (dk_at dksX7_split_0 1 rfl rfl)
theorem dX7_split_2 : decode cX7_split 2 = .ok (.invokevirtual 217, 3) := dk_182 0 217 (dk_at dksX7_split_0 2 rfl rfl)
theorem dX7_split_5 : decode cX7_split 5 = .ok (.ifCond .eq 27, 3) := dk_153 0 27 (dk_at dksX7_split_0 5 rfl rfl)
theorem dX7_split_8 : decode cX7_split 8 = .ok (.iload_n 2, 1) := dk_28 (dk_at dksX7_split_0 8 rfl rfl)
theorem dX7_split_9 : decode cX7_split 9 = .ok (.invokestatic 220, 3) := dk_184 0 220 (dk_at dksX7_split_0 9 rfl rfl)
theorem dX7_split_12 : decode cX7_split 12 = .ok (.ifCond .eq 20, 3) := dk_153 0 20 (dk_at dksX7_split_0 12 rfl rfl)
theorem dX7_split_15 : decode cX7_split 15 = .ok (.iload_n 3, 1) := dk_29 (dk_at dksX7_split_0 15 rfl rfl)
theorem dX7_split_16 : decode cX7_split 16 = .ok (.invokestatic 220, 3) := dk_184 0 220 (dk_at dksX7_split_0 16 rfl rfl)
theorem dX7_split_19 : decode cX7_split 19 = .ok (.ifCond .eq 13, 3) := dk_153 0 13 (dk_at dksX7_split_0 19 rfl rfl)
theorem dX7_split_22 : decode cX7_split 22 = .ok (.iload 4, 2) := dk_21 4 (dk_at dksX7_split_0 22 rfl rfl)
theorem dX7_split_24 : decode cX7_split 24 = .ok (.iconst 0, 1) := dk_3 (dk_at dksX7_split_1 0 rfl rfl)
theorem dX7_split_25 : decode cX7_split 25 = .ok (.iconst 1, 1) := dk_4 (dk_at dksX7_split_1 1 rfl rfl)
theorem dX7_split_26 : decode cX7_split 26 = .ok (.invokestatic 127, 3) := dk_184 0 127 (dk_at dksX7_split_1 2 rfl rfl)
theorem dX7_split_29 : decode cX7_split 29 = .ok (.ifCond .ne 7, 3) := dk_154 0 7 (dk_at dksX7_split_1 5 rfl rfl)
theorem dX7_split_32 : decode cX7_split 32 = .ok (.ldc2_w 264, 3) := dk_20 1 8 (dk_at dksX7_split_1 8 rfl rfl)
theorem dX7_split_35 : decode cX7_split 35 = .ok (.lreturn, 1) := dk_173 (dk_at dksX7_split_1 11 rfl rfl)
theorem dX7_split_36 : decode cX7_split 36 = .ok (.iconst 0, 1) := dk_3 (dk_at dksX7_split_1 12 rfl rfl)
theorem dX7_split_37 : decode cX7_split 37 = .ok (.istore 5, 2) := dk_54 5 (dk_at dksX7_split_1 13 rfl rfl)
theorem dX7_split_39 : decode cX7_split 39 = .ok (.lconst 0, 1) := dk_9 (dk_at dksX7_split_1 15 rfl rfl)
theorem dX7_split_40 : decode cX7_split 40 = .ok (.lstore 6, 2) := dk_55 6 (dk_at dksX7_split_1 16 rfl rfl)
theorem dX7_split_42 : decode cX7_split 42 = .ok (.iconst 0, 1) := dk_3 (dk_at dksX7_split_1 18 rfl rfl)
theorem dX7_split_43 : decode cX7_split 43 = .ok (.istore 8, 2) := dk_54 8 (dk_at dksX7_split_1 19 rfl rfl)
theorem dX7_split_45 : decode cX7_split 45 = .ok (.iload 8, 2) := dk_21 8 (dk_at dksX7_split_1 21 rfl rfl)
theorem dX7_split_47 : decode cX7_split 47 = .ok (.aload_n 0, 1) := dk_42 (dk_at dksX7_split_1 23 rfl rfl)
theorem dX7_split_48 : decode cX7_split 48 = .ok (.getfield 31, 3) := dk_180 0 31 (dk_at dksX7_split_2 0 rfl rfl)
theorem dX7_split_51 : decode cX7_split 51 = .ok (.iload_n 1, 1) := dk_27 (dk_at dksX7_split_2 3 rfl rfl)
theorem dX7_split_52 : decode cX7_split 52 = .ok (.iaload, 1) := dk_46 (dk_at dksX7_split_2 4 rfl rfl)
theorem dX7_split_53 : decode cX7_split 53 = .ok (.if_icmp .gt 81, 3) := dk_163 0 81 (dk_at dksX7_split_2 5 rfl rfl)
theorem dX7_split_56 : decode cX7_split 56 = .ok (.iconst 0, 1) := dk_3 (dk_at dksX7_split_2 8 rfl rfl)
theorem dX7_split_57 : decode cX7_split 57 = .ok (.istore 9, 2) := dk_54 9 (dk_at dksX7_split_2 9 rfl rfl)
theorem dX7_split_59 : decode cX7_split 59 = .ok (.iload 9, 2) := dk_21 9 (dk_at dksX7_split_2 11 rfl rfl)
theorem dX7_split_61 : decode cX7_split 61 = .ok (.aload_n 0, 1) := dk_42 (dk_at dksX7_split_2 13 rfl rfl)
theorem dX7_split_62 : decode cX7_split 62 = .ok (.getfield 31, 3) := dk_180 0 31 (dk_at dksX7_split_2 14 rfl rfl)
theorem dX7_split_65 : decode cX7_split 65 = .ok (.iload_n 1, 1) := dk_27 (dk_at dksX7_split_2 17 rfl rfl)
theorem dX7_split_66 : decode cX7_split 66 = .ok (.iaload, 1) := dk_46 (dk_at dksX7_split_2 18 rfl rfl)
theorem dX7_split_67 : decode cX7_split 67 = .ok (.if_icmp .ge 28, 3) := dk_162 0 28 (dk_at dksX7_split_2 19 rfl rfl)
theorem dX7_split_70 : decode cX7_split 70 = .ok (.aload_n 0, 1) := dk_42 (dk_at dksX7_split_2 22 rfl rfl)
theorem dX7_split_71 : decode cX7_split 71 = .ok (.getfield 106, 3) := dk_180 0 106 (dk_at dksX7_split_3 0 rfl rfl)
theorem dX7_split_74 : decode cX7_split 74 = .ok (.iload 9, 2) := dk_21 9 (dk_at dksX7_split_3 3 rfl rfl)
theorem dX7_split_76 : decode cX7_split 76 = .ok (.iload 9, 2) := dk_21 9 (dk_at dksX7_split_3 5 rfl rfl)
theorem dX7_split_78 : decode cX7_split 78 = .ok (.iload 8, 2) := dk_21 8 (dk_at dksX7_split_3 7 rfl rfl)
theorem dX7_split_80 : decode cX7_split 80 = .ok (.if_icmp .ge 7, 3) := dk_162 0 7 (dk_at dksX7_split_3 9 rfl rfl)
theorem dX7_split_83 : decode cX7_split 83 = .ok (.iload_n 2, 1) := dk_28 (dk_at dksX7_split_3 12 rfl rfl)
theorem dX7_split_84 : decode cX7_split 84 = .ok (.goto 4, 3) := dk_167 0 4 (dk_at dksX7_split_3 13 rfl rfl)
theorem dX7_split_87 : decode cX7_split 87 = .ok (.iload_n 3, 1) := dk_29 (dk_at dksX7_split_3 16 rfl rfl)
theorem dX7_split_88 : decode cX7_split 88 = .ok (.iastore, 1) := dk_79 (dk_at dksX7_split_3 17 rfl rfl)
theorem dX7_split_89 : decode cX7_split 89 = .ok (.iinc 9 1, 3) := dk_132 9 1 (dk_at dksX7_split_3 18 rfl rfl)
theorem dX7_split_92 : decode cX7_split 92 = .ok (.goto (-33), 3) := dk_167 255 223 (dk_at dksX7_split_3 21 rfl rfl)
theorem dX7_split_95 : decode cX7_split 95 = .ok (.aload_n 0, 1) := dk_42 (dk_at dksX7_split_4 0 rfl rfl)
theorem dX7_split_96 : decode cX7_split 96 = .ok (.iload_n 1, 1) := dk_27 (dk_at dksX7_split_4 1 rfl rfl)
theorem dX7_split_97 : decode cX7_split 97 = .ok (.invokevirtual 254, 3) := dk_182 0 254 (dk_at dksX7_split_4 2 rfl rfl)
theorem dX7_split_100 : decode cX7_split 100 = .ok (.aload_n 0, 1) := dk_42 (dk_at dksX7_split_4 5 rfl rfl)
theorem dX7_split_101 : decode cX7_split 101 = .ok (.iload_n 1, 1) := dk_27 (dk_at dksX7_split_4 6 rfl rfl)
theorem dX7_split_102 : decode cX7_split 102 = .ok (.invokevirtual 257, 3) := dk_182 1 1 (dk_at dksX7_split_4 7 rfl rfl)
theorem dX7_split_105 : decode cX7_split 105 = .ok (.lstore 9, 2) := dk_55 9 (dk_at dksX7_split_4 10 rfl rfl)
theorem dX7_split_107 : decode cX7_split 107 = .ok (.iload 8, 2) := dk_21 8 (dk_at dksX7_split_4 12 rfl rfl)
theorem dX7_split_109 : decode cX7_split 109 = .ok (.ifCond .eq 11, 3) := dk_153 0 11 (dk_at dksX7_split_4 14 rfl rfl)
theorem dX7_split_112 : decode cX7_split 112 = .ok (.lload 9, 2) := dk_22 9 (dk_at dksX7_split_4 17 rfl rfl)
theorem dX7_split_114 : decode cX7_split 114 = .ok (.lload 6, 2) := dk_22 6 (dk_at dksX7_split_4 19 rfl rfl)
theorem dX7_split_116 : decode cX7_split 116 = .ok (.lcmp, 1) := dk_148 (dk_at dksX7_split_4 21 rfl rfl)
theorem dX7_split_117 : decode cX7_split 117 = .ok (.ifCond .ge 11, 3) := dk_156 0 11 (dk_at dksX7_split_5 0 rfl rfl)
theorem dX7_split_120 : decode cX7_split 120 = .ok (.iload 8, 2) := dk_21 8 (dk_at dksX7_split_5 3 rfl rfl)
theorem dX7_split_122 : decode cX7_split 122 = .ok (.istore 5, 2) := dk_54 5 (dk_at dksX7_split_5 5 rfl rfl)
theorem dX7_split_124 : decode cX7_split 124 = .ok (.lload 9, 2) := dk_22 9 (dk_at dksX7_split_5 7 rfl rfl)
theorem dX7_split_126 : decode cX7_split 126 = .ok (.lstore 6, 2) := dk_55 6 (dk_at dksX7_split_5 9 rfl rfl)
theorem dX7_split_128 : decode cX7_split 128 = .ok (.iinc 8 1, 3) := dk_132 8 1 (dk_at dksX7_split_5 11 rfl rfl)
theorem dX7_split_131 : decode cX7_split 131 = .ok (.goto (-86), 3) := dk_167 255 170 (dk_at dksX7_split_5 14 rfl rfl)
theorem dX7_split_134 : decode cX7_split 134 = .ok (.iload 4, 2) := dk_21 4 (dk_at dksX7_split_5 17 rfl rfl)
theorem dX7_split_136 : decode cX7_split 136 = .ok (.ifCond .ne 9, 3) := dk_154 0 9 (dk_at dksX7_split_5 19 rfl rfl)
theorem dX7_split_139 : decode cX7_split 139 = .ok (.iload 5, 2) := dk_21 5 (dk_at dksX7_split_5 22 rfl rfl)
theorem dX7_split_141 : decode cX7_split 141 = .ok (.i2l, 1) := dk_133 (dk_at dksX7_split_6 0 rfl rfl)
theorem dX7_split_142 : decode cX7_split 142 = .ok (.goto 5, 3) := dk_167 0 5 (dk_at dksX7_split_6 1 rfl rfl)
theorem dX7_split_145 : decode cX7_split 145 = .ok (.lload 6, 2) := dk_22 6 (dk_at dksX7_split_6 4 rfl rfl)
theorem dX7_split_147 : decode cX7_split 147 = .ok (.lreturn, 1) := dk_173 (dk_at dksX7_split_6 6 rfl rfl)
abbrev cX7_count : ByteArray := prog_20_method_65_code
def yX7_count : MethodName := ⟨RX7, "count", "(I)I"⟩
def dkwX7_count_3 : List UInt8 := [172, 42, 180, 0, 145, 172, 16, 254, 172]
abbrev dktX7_count_3 : List UInt8 := dkwX7_count_3 ++ []
def dkwX7_count_2 : List UInt8 := [42, 180, 0, 135, 172, 42, 180, 0, 142, 172, 42, 180, 0, 214, 172, 42, 180, 0, 46, 172, 42, 180, 0, 207]
abbrev dktX7_count_2 : List UInt8 := dkwX7_count_2 ++ dktX7_count_3
def dkwX7_count_1 : List UInt8 := [170, 0, 0, 0, 0, 0, 69, 0, 0, 0, 0, 0, 0, 0, 5, 0, 0, 0, 39, 0, 0, 0, 44, 0, 0, 0, 49, 0, 0, 0, 54, 0, 0, 0, 59, 0, 0, 0, 64]
abbrev dktX7_count_1 : List UInt8 := dkwX7_count_1 ++ dktX7_count_2
def dkwX7_count_0 : List UInt8 := [27]
abbrev dktX7_count_0 : List UInt8 := dkwX7_count_0 ++ dktX7_count_1
theorem dksX7_count_0 : cX7_count.data.toList.drop 0 = dktX7_count_0 := by decide +kernel
theorem dksX7_count_1 : cX7_count.data.toList.drop 1 = dktX7_count_1 := dk_seg dksX7_count_0 1 rfl rfl
theorem dksX7_count_2 : cX7_count.data.toList.drop 40 = dktX7_count_2 := dk_seg dksX7_count_1 39 rfl rfl
theorem dksX7_count_3 : cX7_count.data.toList.drop 64 = dktX7_count_3 := dk_seg dksX7_count_2 24 rfl rfl
theorem dX7_count_0 : decode cX7_count 0 = .ok (.iload_n 1, 1) := dk_27 (dk_at dksX7_count_0 0 rfl rfl)
theorem dX7_count_1 : decode cX7_count 1 = .ok (.tableswitch 69 0 5 #[39, 44, 49, 54, 59, 64], 39) := by decide +kernel
theorem dX7_count_40 : decode cX7_count 40 = .ok (.aload_n 0, 1) := dk_42 (dk_at dksX7_count_2 0 rfl rfl)
theorem dX7_count_41 : decode cX7_count 41 = .ok (.getfield 135, 3) := dk_180 0 135 (dk_at dksX7_count_2 1 rfl rfl)
theorem dX7_count_44 : decode cX7_count 44 = .ok (.ireturn, 1) := dk_172 (dk_at dksX7_count_2 4 rfl rfl)
theorem dX7_count_45 : decode cX7_count 45 = .ok (.aload_n 0, 1) := dk_42 (dk_at dksX7_count_2 5 rfl rfl)
theorem dX7_count_46 : decode cX7_count 46 = .ok (.getfield 142, 3) := dk_180 0 142 (dk_at dksX7_count_2 6 rfl rfl)
theorem dX7_count_49 : decode cX7_count 49 = .ok (.ireturn, 1) := dk_172 (dk_at dksX7_count_2 9 rfl rfl)
theorem dX7_count_50 : decode cX7_count 50 = .ok (.aload_n 0, 1) := dk_42 (dk_at dksX7_count_2 10 rfl rfl)
theorem dX7_count_51 : decode cX7_count 51 = .ok (.getfield 214, 3) := dk_180 0 214 (dk_at dksX7_count_2 11 rfl rfl)
theorem dX7_count_54 : decode cX7_count 54 = .ok (.ireturn, 1) := dk_172 (dk_at dksX7_count_2 14 rfl rfl)
theorem dX7_count_55 : decode cX7_count 55 = .ok (.aload_n 0, 1) := dk_42 (dk_at dksX7_count_2 15 rfl rfl)
theorem dX7_count_56 : decode cX7_count 56 = .ok (.getfield 46, 3) := dk_180 0 46 (dk_at dksX7_count_2 16 rfl rfl)
theorem dX7_count_59 : decode cX7_count 59 = .ok (.ireturn, 1) := dk_172 (dk_at dksX7_count_2 19 rfl rfl)
theorem dX7_count_60 : decode cX7_count 60 = .ok (.aload_n 0, 1) := dk_42 (dk_at dksX7_count_2 20 rfl rfl)
theorem dX7_count_61 : decode cX7_count 61 = .ok (.getfield 207, 3) := dk_180 0 207 (dk_at dksX7_count_2 21 rfl rfl)
theorem dX7_count_64 : decode cX7_count 64 = .ok (.ireturn, 1) := dk_172 (dk_at dksX7_count_3 0 rfl rfl)
theorem dX7_count_65 : decode cX7_count 65 = .ok (.aload_n 0, 1) := dk_42 (dk_at dksX7_count_3 1 rfl rfl)
theorem dX7_count_66 : decode cX7_count 66 = .ok (.getfield 145, 3) := dk_180 0 145 (dk_at dksX7_count_3 2 rfl rfl)
theorem dX7_count_69 : decode cX7_count 69 = .ok (.ireturn, 1) := dk_172 (dk_at dksX7_count_3 5 rfl rfl)
theorem dX7_count_70 : decode cX7_count 70 = .ok (.bipush (-2), 2) := dk_16 254 (dk_at dksX7_count_3 6 rfl rfl)
theorem dX7_count_72 : decode cX7_count 72 = .ok (.ireturn, 1) := dk_172 (dk_at dksX7_count_3 8 rfl rfl)
abbrev cX7_image : ByteArray := prog_20_method_66_code
def yX7_image : MethodName := ⟨RX7, "image", "()I"⟩
def dkwX7_image_5 : List UInt8 := [42, 180, 0, 214, 172]
abbrev dktX7_image_5 : List UInt8 := dkwX7_image_5 ++ []
def dkwX7_image_4 : List UInt8 := [17, 0, 128, 162, 0, 21, 42, 180, 0, 59, 27, 42, 180, 0, 34, 27, 46, 79, 132, 1, 1, 167, 255, 234]
abbrev dktX7_image_4 : List UInt8 := dkwX7_image_4 ++ dktX7_image_5
def dkwX7_image_3 : List UInt8 := [162, 0, 21, 42, 180, 0, 56, 27, 42, 180, 0, 16, 27, 46, 79, 132, 1, 1, 167, 255, 236, 3, 60, 27]
abbrev dktX7_image_3 : List UInt8 := dkwX7_image_3 ++ dktX7_image_4
def dkwX7_image_2 : List UInt8 := [46, 79, 42, 180, 0, 53, 27, 42, 180, 0, 13, 27, 46, 79, 132, 1, 1, 167, 255, 223, 3, 60, 27, 7]
abbrev dktX7_image_2 : List UInt8 := dkwX7_image_2 ++ dktX7_image_3
def dkwX7_image_1 : List UInt8 := [180, 0, 207, 181, 1, 54, 3, 60, 27, 16, 48, 162, 0, 33, 42, 180, 0, 50, 27, 42, 180, 0, 7, 27]
abbrev dktX7_image_1 : List UInt8 := dkwX7_image_1 ++ dktX7_image_2
def dkwX7_image_0 : List UInt8 := [42, 4, 181, 1, 44, 42, 42, 180, 0, 135, 181, 1, 48, 42, 42, 180, 0, 214, 181, 1, 51, 42, 42]
abbrev dktX7_image_0 : List UInt8 := dkwX7_image_0 ++ dktX7_image_1
theorem dksX7_image_0 : cX7_image.data.toList.drop 0 = dktX7_image_0 := by decide +kernel
theorem dksX7_image_1 : cX7_image.data.toList.drop 23 = dktX7_image_1 := dk_seg dksX7_image_0 23 rfl rfl
theorem dksX7_image_2 : cX7_image.data.toList.drop 47 = dktX7_image_2 := dk_seg dksX7_image_1 24 rfl rfl
theorem dksX7_image_3 : cX7_image.data.toList.drop 71 = dktX7_image_3 := dk_seg dksX7_image_2 24 rfl rfl
theorem dksX7_image_4 : cX7_image.data.toList.drop 95 = dktX7_image_4 := dk_seg dksX7_image_3 24 rfl rfl
theorem dksX7_image_5 : cX7_image.data.toList.drop 119 = dktX7_image_5 := dk_seg dksX7_image_4 24 rfl rfl
theorem dX7_image_0 : decode cX7_image 0 = .ok (.aload_n 0, 1) := dk_42 (dk_at dksX7_image_0 0 rfl rfl)
theorem dX7_image_1 : decode cX7_image 1 = .ok (.iconst 1, 1) := dk_4 (dk_at dksX7_image_0 1 rfl rfl)
theorem dX7_image_2 : decode cX7_image 2 = .ok (.putfield 300, 3) := dk_181 1 44 (dk_at dksX7_image_0 2 rfl rfl)
theorem dX7_image_5 : decode cX7_image 5 = .ok (.aload_n 0, 1) := dk_42 (dk_at dksX7_image_0 5 rfl rfl)
theorem dX7_image_6 : decode cX7_image 6 = .ok (.aload_n 0, 1) := dk_42 (dk_at dksX7_image_0 6 rfl rfl)
theorem dX7_image_7 : decode cX7_image 7 = .ok (.getfield 135, 3) := dk_180 0 135 (dk_at dksX7_image_0 7 rfl rfl)
theorem dX7_image_10 : decode cX7_image 10 = .ok (.putfield 304, 3) := dk_181 1 48 (dk_at dksX7_image_0 10 rfl rfl)
theorem dX7_image_13 : decode cX7_image 13 = .ok (.aload_n 0, 1) := dk_42 (dk_at dksX7_image_0 13 rfl rfl)
theorem dX7_image_14 : decode cX7_image 14 = .ok (.aload_n 0, 1) := dk_42 (dk_at dksX7_image_0 14 rfl rfl)
theorem dX7_image_15 : decode cX7_image 15 = .ok (.getfield 214, 3) := dk_180 0 214 (dk_at dksX7_image_0 15 rfl rfl)
theorem dX7_image_18 : decode cX7_image 18 = .ok (.putfield 307, 3) := dk_181 1 51 (dk_at dksX7_image_0 18 rfl rfl)
theorem dX7_image_21 : decode cX7_image 21 = .ok (.aload_n 0, 1) := dk_42 (dk_at dksX7_image_0 21 rfl rfl)
theorem dX7_image_22 : decode cX7_image 22 = .ok (.aload_n 0, 1) := dk_42 (dk_at dksX7_image_0 22 rfl rfl)
theorem dX7_image_23 : decode cX7_image 23 = .ok (.getfield 207, 3) := dk_180 0 207 (dk_at dksX7_image_1 0 rfl rfl)
theorem dX7_image_26 : decode cX7_image 26 = .ok (.putfield 310, 3) := dk_181 1 54 (dk_at dksX7_image_1 3 rfl rfl)
theorem dX7_image_29 : decode cX7_image 29 = .ok (.iconst 0, 1) := dk_3 (dk_at dksX7_image_1 6 rfl rfl)
theorem dX7_image_30 : decode cX7_image 30 = .ok (.istore_n 1, 1) := dk_60 (dk_at dksX7_image_1 7 rfl rfl)
theorem dX7_image_31 : decode cX7_image 31 = .ok (.iload_n 1, 1) := dk_27 (dk_at dksX7_image_1 8 rfl rfl)
theorem dX7_image_32 : decode cX7_image 32 = .ok (.bipush 48, 2) := dk_16 48 (dk_at dksX7_image_1 9 rfl rfl)
theorem dX7_image_34 : decode cX7_image 34 = .ok (.if_icmp .ge 33, 3) := dk_162 0 33 (dk_at dksX7_image_1 11 rfl rfl)
theorem dX7_image_37 : decode cX7_image 37 = .ok (.aload_n 0, 1) := dk_42 (dk_at dksX7_image_1 14 rfl rfl)
theorem dX7_image_38 : decode cX7_image 38 = .ok (.getfield 50, 3) := dk_180 0 50 (dk_at dksX7_image_1 15 rfl rfl)
theorem dX7_image_41 : decode cX7_image 41 = .ok (.iload_n 1, 1) := dk_27 (dk_at dksX7_image_1 18 rfl rfl)
theorem dX7_image_42 : decode cX7_image 42 = .ok (.aload_n 0, 1) := dk_42 (dk_at dksX7_image_1 19 rfl rfl)
theorem dX7_image_43 : decode cX7_image 43 = .ok (.getfield 7, 3) := dk_180 0 7 (dk_at dksX7_image_1 20 rfl rfl)
theorem dX7_image_46 : decode cX7_image 46 = .ok (.iload_n 1, 1) := dk_27 (dk_at dksX7_image_1 23 rfl rfl)
theorem dX7_image_47 : decode cX7_image 47 = .ok (.iaload, 1) := dk_46 (dk_at dksX7_image_2 0 rfl rfl)
theorem dX7_image_48 : decode cX7_image 48 = .ok (.iastore, 1) := dk_79 (dk_at dksX7_image_2 1 rfl rfl)
theorem dX7_image_49 : decode cX7_image 49 = .ok (.aload_n 0, 1) := dk_42 (dk_at dksX7_image_2 2 rfl rfl)
theorem dX7_image_50 : decode cX7_image 50 = .ok (.getfield 53, 3) := dk_180 0 53 (dk_at dksX7_image_2 3 rfl rfl)
theorem dX7_image_53 : decode cX7_image 53 = .ok (.iload_n 1, 1) := dk_27 (dk_at dksX7_image_2 6 rfl rfl)
theorem dX7_image_54 : decode cX7_image 54 = .ok (.aload_n 0, 1) := dk_42 (dk_at dksX7_image_2 7 rfl rfl)
theorem dX7_image_55 : decode cX7_image 55 = .ok (.getfield 13, 3) := dk_180 0 13 (dk_at dksX7_image_2 8 rfl rfl)
theorem dX7_image_58 : decode cX7_image 58 = .ok (.iload_n 1, 1) := dk_27 (dk_at dksX7_image_2 11 rfl rfl)
theorem dX7_image_59 : decode cX7_image 59 = .ok (.iaload, 1) := dk_46 (dk_at dksX7_image_2 12 rfl rfl)
theorem dX7_image_60 : decode cX7_image 60 = .ok (.iastore, 1) := dk_79 (dk_at dksX7_image_2 13 rfl rfl)
theorem dX7_image_61 : decode cX7_image 61 = .ok (.iinc 1 1, 3) := dk_132 1 1 (dk_at dksX7_image_2 14 rfl rfl)
theorem dX7_image_64 : decode cX7_image 64 = .ok (.goto (-33), 3) := dk_167 255 223 (dk_at dksX7_image_2 17 rfl rfl)
theorem dX7_image_67 : decode cX7_image 67 = .ok (.iconst 0, 1) := dk_3 (dk_at dksX7_image_2 20 rfl rfl)
theorem dX7_image_68 : decode cX7_image 68 = .ok (.istore_n 1, 1) := dk_60 (dk_at dksX7_image_2 21 rfl rfl)
theorem dX7_image_69 : decode cX7_image 69 = .ok (.iload_n 1, 1) := dk_27 (dk_at dksX7_image_2 22 rfl rfl)
theorem dX7_image_70 : decode cX7_image 70 = .ok (.iconst 4, 1) := dk_7 (dk_at dksX7_image_2 23 rfl rfl)
theorem dX7_image_71 : decode cX7_image 71 = .ok (.if_icmp .ge 21, 3) := dk_162 0 21 (dk_at dksX7_image_3 0 rfl rfl)
theorem dX7_image_74 : decode cX7_image 74 = .ok (.aload_n 0, 1) := dk_42 (dk_at dksX7_image_3 3 rfl rfl)
theorem dX7_image_75 : decode cX7_image 75 = .ok (.getfield 56, 3) := dk_180 0 56 (dk_at dksX7_image_3 4 rfl rfl)
theorem dX7_image_78 : decode cX7_image 78 = .ok (.iload_n 1, 1) := dk_27 (dk_at dksX7_image_3 7 rfl rfl)
theorem dX7_image_79 : decode cX7_image 79 = .ok (.aload_n 0, 1) := dk_42 (dk_at dksX7_image_3 8 rfl rfl)
theorem dX7_image_80 : decode cX7_image 80 = .ok (.getfield 16, 3) := dk_180 0 16 (dk_at dksX7_image_3 9 rfl rfl)
theorem dX7_image_83 : decode cX7_image 83 = .ok (.iload_n 1, 1) := dk_27 (dk_at dksX7_image_3 12 rfl rfl)
theorem dX7_image_84 : decode cX7_image 84 = .ok (.iaload, 1) := dk_46 (dk_at dksX7_image_3 13 rfl rfl)
theorem dX7_image_85 : decode cX7_image 85 = .ok (.iastore, 1) := dk_79 (dk_at dksX7_image_3 14 rfl rfl)
theorem dX7_image_86 : decode cX7_image 86 = .ok (.iinc 1 1, 3) := dk_132 1 1 (dk_at dksX7_image_3 15 rfl rfl)
theorem dX7_image_89 : decode cX7_image 89 = .ok (.goto (-20), 3) := dk_167 255 236 (dk_at dksX7_image_3 18 rfl rfl)
theorem dX7_image_92 : decode cX7_image 92 = .ok (.iconst 0, 1) := dk_3 (dk_at dksX7_image_3 21 rfl rfl)
theorem dX7_image_93 : decode cX7_image 93 = .ok (.istore_n 1, 1) := dk_60 (dk_at dksX7_image_3 22 rfl rfl)
theorem dX7_image_94 : decode cX7_image 94 = .ok (.iload_n 1, 1) := dk_27 (dk_at dksX7_image_3 23 rfl rfl)
theorem dX7_image_95 : decode cX7_image 95 = .ok (.sipush 128, 3) := dk_17 0 128 (dk_at dksX7_image_4 0 rfl rfl)
theorem dX7_image_98 : decode cX7_image 98 = .ok (.if_icmp .ge 21, 3) := dk_162 0 21 (dk_at dksX7_image_4 3 rfl rfl)
theorem dX7_image_101 : decode cX7_image 101 = .ok (.aload_n 0, 1) := dk_42 (dk_at dksX7_image_4 6 rfl rfl)
theorem dX7_image_102 : decode cX7_image 102 = .ok (.getfield 59, 3) := dk_180 0 59 (dk_at dksX7_image_4 7 rfl rfl)
theorem dX7_image_105 : decode cX7_image 105 = .ok (.iload_n 1, 1) := dk_27 (dk_at dksX7_image_4 10 rfl rfl)
theorem dX7_image_106 : decode cX7_image 106 = .ok (.aload_n 0, 1) := dk_42 (dk_at dksX7_image_4 11 rfl rfl)
theorem dX7_image_107 : decode cX7_image 107 = .ok (.getfield 34, 3) := dk_180 0 34 (dk_at dksX7_image_4 12 rfl rfl)
theorem dX7_image_110 : decode cX7_image 110 = .ok (.iload_n 1, 1) := dk_27 (dk_at dksX7_image_4 15 rfl rfl)
theorem dX7_image_111 : decode cX7_image 111 = .ok (.iaload, 1) := dk_46 (dk_at dksX7_image_4 16 rfl rfl)
theorem dX7_image_112 : decode cX7_image 112 = .ok (.iastore, 1) := dk_79 (dk_at dksX7_image_4 17 rfl rfl)
theorem dX7_image_113 : decode cX7_image 113 = .ok (.iinc 1 1, 3) := dk_132 1 1 (dk_at dksX7_image_4 18 rfl rfl)
theorem dX7_image_116 : decode cX7_image 116 = .ok (.goto (-22), 3) := dk_167 255 234 (dk_at dksX7_image_4 21 rfl rfl)
theorem dX7_image_119 : decode cX7_image 119 = .ok (.aload_n 0, 1) := dk_42 (dk_at dksX7_image_5 0 rfl rfl)
theorem dX7_image_120 : decode cX7_image 120 = .ok (.getfield 214, 3) := dk_180 0 214 (dk_at dksX7_image_5 1 rfl rfl)
theorem dX7_image_123 : decode cX7_image 123 = .ok (.ireturn, 1) := dk_172 (dk_at dksX7_image_5 4 rfl rfl)
abbrev cX7_back : ByteArray := prog_20_method_67_code
def yX7_back : MethodName := ⟨RX7, "back", "()I"⟩
def dkwX7_back_5 : List UInt8 := [180, 0, 214, 172]
abbrev dktX7_back_5 : List UInt8 := dkwX7_back_5 ++ []
def dkwX7_back_4 : List UInt8 := [162, 0, 21, 42, 180, 0, 34, 27, 42, 180, 0, 59, 27, 46, 79, 132, 1, 1, 167, 255, 230, 42]
abbrev dktX7_back_4 : List UInt8 := dkwX7_back_4 ++ dktX7_back_5
def dkwX7_back_3 : List UInt8 := [42, 180, 0, 56, 27, 46, 79, 132, 1, 1, 167, 255, 233, 3, 60, 27, 16, 16, 42, 180, 1, 51, 104]
abbrev dktX7_back_3 : List UInt8 := dkwX7_back_3 ++ dktX7_back_4
def dkwX7_back_2 : List UInt8 := [27, 46, 79, 132, 1, 1, 167, 255, 223, 3, 60, 27, 42, 180, 1, 48, 162, 0, 21, 42, 180, 0, 16, 27]
abbrev dktX7_back_2 : List UInt8 := dkwX7_back_2 ++ dktX7_back_3
def dkwX7_back_1 : List UInt8 := [162, 0, 33, 42, 180, 0, 7, 27, 42, 180, 0, 50, 27, 46, 79, 42, 180, 0, 13, 27, 42, 180, 0, 53]
abbrev dktX7_back_1 : List UInt8 := dkwX7_back_1 ++ dktX7_back_2
def dkwX7_back_0 : List UInt8 := [42, 180, 1, 44, 154, 0, 6, 16, 253, 172, 42, 42, 180, 1, 54, 181, 0, 207, 3, 60, 27, 16, 48]
abbrev dktX7_back_0 : List UInt8 := dkwX7_back_0 ++ dktX7_back_1
theorem dksX7_back_0 : cX7_back.data.toList.drop 0 = dktX7_back_0 := by decide +kernel
theorem dksX7_back_1 : cX7_back.data.toList.drop 23 = dktX7_back_1 := dk_seg dksX7_back_0 23 rfl rfl
theorem dksX7_back_2 : cX7_back.data.toList.drop 47 = dktX7_back_2 := dk_seg dksX7_back_1 24 rfl rfl
theorem dksX7_back_3 : cX7_back.data.toList.drop 71 = dktX7_back_3 := dk_seg dksX7_back_2 24 rfl rfl
theorem dksX7_back_4 : cX7_back.data.toList.drop 94 = dktX7_back_4 := dk_seg dksX7_back_3 23 rfl rfl
theorem dksX7_back_5 : cX7_back.data.toList.drop 116 = dktX7_back_5 := dk_seg dksX7_back_4 22 rfl rfl
theorem dX7_back_0 : decode cX7_back 0 = .ok (.aload_n 0, 1) := dk_42 (dk_at dksX7_back_0 0 rfl rfl)
theorem dX7_back_1 : decode cX7_back 1 = .ok (.getfield 300, 3) := dk_180 1 44 (dk_at dksX7_back_0 1 rfl rfl)
theorem dX7_back_4 : decode cX7_back 4 = .ok (.ifCond .ne 6, 3) := dk_154 0 6 (dk_at dksX7_back_0 4 rfl rfl)
theorem dX7_back_7 : decode cX7_back 7 = .ok (.bipush (-3), 2) := dk_16 253 (dk_at dksX7_back_0 7 rfl rfl)
theorem dX7_back_9 : decode cX7_back 9 = .ok (.ireturn, 1) := dk_172 (dk_at dksX7_back_0 9 rfl rfl)
theorem dX7_back_10 : decode cX7_back 10 = .ok (.aload_n 0, 1) := dk_42 (dk_at dksX7_back_0 10 rfl rfl)
theorem dX7_back_11 : decode cX7_back 11 = .ok (.aload_n 0, 1) := dk_42 (dk_at dksX7_back_0 11 rfl rfl)
theorem dX7_back_12 : decode cX7_back 12 = .ok (.getfield 310, 3) := dk_180 1 54 (dk_at dksX7_back_0 12 rfl rfl)
theorem dX7_back_15 : decode cX7_back 15 = .ok (.putfield 207, 3) := dk_181 0 207 (dk_at dksX7_back_0 15 rfl rfl)
theorem dX7_back_18 : decode cX7_back 18 = .ok (.iconst 0, 1) := dk_3 (dk_at dksX7_back_0 18 rfl rfl)
theorem dX7_back_19 : decode cX7_back 19 = .ok (.istore_n 1, 1) := dk_60 (dk_at dksX7_back_0 19 rfl rfl)
theorem dX7_back_20 : decode cX7_back 20 = .ok (.iload_n 1, 1) := dk_27 (dk_at dksX7_back_0 20 rfl rfl)
theorem dX7_back_21 : decode cX7_back 21 = .ok (.bipush 48, 2) := dk_16 48 (dk_at dksX7_back_0 21 rfl rfl)
theorem dX7_back_23 : decode cX7_back 23 = .ok (.if_icmp .ge 33, 3) := dk_162 0 33 (dk_at dksX7_back_1 0 rfl rfl)
theorem dX7_back_26 : decode cX7_back 26 = .ok (.aload_n 0, 1) := dk_42 (dk_at dksX7_back_1 3 rfl rfl)
theorem dX7_back_27 : decode cX7_back 27 = .ok (.getfield 7, 3) := dk_180 0 7 (dk_at dksX7_back_1 4 rfl rfl)
theorem dX7_back_30 : decode cX7_back 30 = .ok (.iload_n 1, 1) := dk_27 (dk_at dksX7_back_1 7 rfl rfl)
theorem dX7_back_31 : decode cX7_back 31 = .ok (.aload_n 0, 1) := dk_42 (dk_at dksX7_back_1 8 rfl rfl)
theorem dX7_back_32 : decode cX7_back 32 = .ok (.getfield 50, 3) := dk_180 0 50 (dk_at dksX7_back_1 9 rfl rfl)
theorem dX7_back_35 : decode cX7_back 35 = .ok (.iload_n 1, 1) := dk_27 (dk_at dksX7_back_1 12 rfl rfl)
theorem dX7_back_36 : decode cX7_back 36 = .ok (.iaload, 1) := dk_46 (dk_at dksX7_back_1 13 rfl rfl)
theorem dX7_back_37 : decode cX7_back 37 = .ok (.iastore, 1) := dk_79 (dk_at dksX7_back_1 14 rfl rfl)
theorem dX7_back_38 : decode cX7_back 38 = .ok (.aload_n 0, 1) := dk_42 (dk_at dksX7_back_1 15 rfl rfl)
theorem dX7_back_39 : decode cX7_back 39 = .ok (.getfield 13, 3) := dk_180 0 13 (dk_at dksX7_back_1 16 rfl rfl)
theorem dX7_back_42 : decode cX7_back 42 = .ok (.iload_n 1, 1) := dk_27 (dk_at dksX7_back_1 19 rfl rfl)
theorem dX7_back_43 : decode cX7_back 43 = .ok (.aload_n 0, 1) := dk_42 (dk_at dksX7_back_1 20 rfl rfl)
theorem dX7_back_44 : decode cX7_back 44 = .ok (.getfield 53, 3) := dk_180 0 53 (dk_at dksX7_back_1 21 rfl rfl)
theorem dX7_back_47 : decode cX7_back 47 = .ok (.iload_n 1, 1) := dk_27 (dk_at dksX7_back_2 0 rfl rfl)
theorem dX7_back_48 : decode cX7_back 48 = .ok (.iaload, 1) := dk_46 (dk_at dksX7_back_2 1 rfl rfl)
theorem dX7_back_49 : decode cX7_back 49 = .ok (.iastore, 1) := dk_79 (dk_at dksX7_back_2 2 rfl rfl)
theorem dX7_back_50 : decode cX7_back 50 = .ok (.iinc 1 1, 3) := dk_132 1 1 (dk_at dksX7_back_2 3 rfl rfl)
theorem dX7_back_53 : decode cX7_back 53 = .ok (.goto (-33), 3) := dk_167 255 223 (dk_at dksX7_back_2 6 rfl rfl)
theorem dX7_back_56 : decode cX7_back 56 = .ok (.iconst 0, 1) := dk_3 (dk_at dksX7_back_2 9 rfl rfl)
theorem dX7_back_57 : decode cX7_back 57 = .ok (.istore_n 1, 1) := dk_60 (dk_at dksX7_back_2 10 rfl rfl)
theorem dX7_back_58 : decode cX7_back 58 = .ok (.iload_n 1, 1) := dk_27 (dk_at dksX7_back_2 11 rfl rfl)
theorem dX7_back_59 : decode cX7_back 59 = .ok (.aload_n 0, 1) := dk_42 (dk_at dksX7_back_2 12 rfl rfl)
theorem dX7_back_60 : decode cX7_back 60 = .ok (.getfield 304, 3) := dk_180 1 48 (dk_at dksX7_back_2 13 rfl rfl)
theorem dX7_back_63 : decode cX7_back 63 = .ok (.if_icmp .ge 21, 3) := dk_162 0 21 (dk_at dksX7_back_2 16 rfl rfl)
theorem dX7_back_66 : decode cX7_back 66 = .ok (.aload_n 0, 1) := dk_42 (dk_at dksX7_back_2 19 rfl rfl)
theorem dX7_back_67 : decode cX7_back 67 = .ok (.getfield 16, 3) := dk_180 0 16 (dk_at dksX7_back_2 20 rfl rfl)
theorem dX7_back_70 : decode cX7_back 70 = .ok (.iload_n 1, 1) := dk_27 (dk_at dksX7_back_2 23 rfl rfl)
theorem dX7_back_71 : decode cX7_back 71 = .ok (.aload_n 0, 1) := dk_42 (dk_at dksX7_back_3 0 rfl rfl)
theorem dX7_back_72 : decode cX7_back 72 = .ok (.getfield 56, 3) := dk_180 0 56 (dk_at dksX7_back_3 1 rfl rfl)
theorem dX7_back_75 : decode cX7_back 75 = .ok (.iload_n 1, 1) := dk_27 (dk_at dksX7_back_3 4 rfl rfl)
theorem dX7_back_76 : decode cX7_back 76 = .ok (.iaload, 1) := dk_46 (dk_at dksX7_back_3 5 rfl rfl)
theorem dX7_back_77 : decode cX7_back 77 = .ok (.iastore, 1) := dk_79 (dk_at dksX7_back_3 6 rfl rfl)
theorem dX7_back_78 : decode cX7_back 78 = .ok (.iinc 1 1, 3) := dk_132 1 1 (dk_at dksX7_back_3 7 rfl rfl)
theorem dX7_back_81 : decode cX7_back 81 = .ok (.goto (-23), 3) := dk_167 255 233 (dk_at dksX7_back_3 10 rfl rfl)
theorem dX7_back_84 : decode cX7_back 84 = .ok (.iconst 0, 1) := dk_3 (dk_at dksX7_back_3 13 rfl rfl)
theorem dX7_back_85 : decode cX7_back 85 = .ok (.istore_n 1, 1) := dk_60 (dk_at dksX7_back_3 14 rfl rfl)
theorem dX7_back_86 : decode cX7_back 86 = .ok (.iload_n 1, 1) := dk_27 (dk_at dksX7_back_3 15 rfl rfl)
theorem dX7_back_87 : decode cX7_back 87 = .ok (.bipush 16, 2) := dk_16 16 (dk_at dksX7_back_3 16 rfl rfl)
theorem dX7_back_89 : decode cX7_back 89 = .ok (.aload_n 0, 1) := dk_42 (dk_at dksX7_back_3 18 rfl rfl)
theorem dX7_back_90 : decode cX7_back 90 = .ok (.getfield 307, 3) := dk_180 1 51 (dk_at dksX7_back_3 19 rfl rfl)
theorem dX7_back_93 : decode cX7_back 93 = .ok (.imul, 1) := dk_104 (dk_at dksX7_back_3 22 rfl rfl)
theorem dX7_back_94 : decode cX7_back 94 = .ok (.if_icmp .ge 21, 3) := dk_162 0 21 (dk_at dksX7_back_4 0 rfl rfl)
theorem dX7_back_97 : decode cX7_back 97 = .ok (.aload_n 0, 1) := dk_42 (dk_at dksX7_back_4 3 rfl rfl)
theorem dX7_back_98 : decode cX7_back 98 = .ok (.getfield 34, 3) := dk_180 0 34 (dk_at dksX7_back_4 4 rfl rfl)
theorem dX7_back_101 : decode cX7_back 101 = .ok (.iload_n 1, 1) := dk_27 (dk_at dksX7_back_4 7 rfl rfl)
theorem dX7_back_102 : decode cX7_back 102 = .ok (.aload_n 0, 1) := dk_42 (dk_at dksX7_back_4 8 rfl rfl)
theorem dX7_back_103 : decode cX7_back 103 = .ok (.getfield 59, 3) := dk_180 0 59 (dk_at dksX7_back_4 9 rfl rfl)
theorem dX7_back_106 : decode cX7_back 106 = .ok (.iload_n 1, 1) := dk_27 (dk_at dksX7_back_4 12 rfl rfl)
theorem dX7_back_107 : decode cX7_back 107 = .ok (.iaload, 1) := dk_46 (dk_at dksX7_back_4 13 rfl rfl)
theorem dX7_back_108 : decode cX7_back 108 = .ok (.iastore, 1) := dk_79 (dk_at dksX7_back_4 14 rfl rfl)
theorem dX7_back_109 : decode cX7_back 109 = .ok (.iinc 1 1, 3) := dk_132 1 1 (dk_at dksX7_back_4 15 rfl rfl)
theorem dX7_back_112 : decode cX7_back 112 = .ok (.goto (-26), 3) := dk_167 255 230 (dk_at dksX7_back_4 18 rfl rfl)
theorem dX7_back_115 : decode cX7_back 115 = .ok (.aload_n 0, 1) := dk_42 (dk_at dksX7_back_4 21 rfl rfl)
theorem dX7_back_116 : decode cX7_back 116 = .ok (.getfield 214, 3) := dk_180 0 214 (dk_at dksX7_back_5 0 rfl rfl)
theorem dX7_back_119 : decode cX7_back 119 = .ok (.ireturn, 1) := dk_172 (dk_at dksX7_back_5 3 rfl rfl)
abbrev cX7_sheet : ByteArray := prog_20_method_68_code
def yX7_sheet : MethodName := ⟨RX7, "sheet", "(III)I"⟩
def dkwX7_sheet_4 : List UInt8 := [4, 172]
abbrev dktX7_sheet_4 : List UInt8 := dkwX7_sheet_4 ++ []
def dkwX7_sheet_3 : List UInt8 := [16, 40, 162, 0, 22, 42, 180, 0, 68, 16, 40, 27, 104, 21, 4, 96, 3, 79, 132, 4, 1, 167, 255, 233]
abbrev dktX7_sheet_3 : List UInt8 := dkwX7_sheet_3 ++ dktX7_sheet_4
def dkwX7_sheet_2 : List UInt8 := [27, 28, 79, 42, 180, 0, 65, 27, 28, 2, 160, 0, 7, 3, 167, 0, 4, 29, 79, 3, 54, 4, 21, 4]
abbrev dktX7_sheet_2 : List UInt8 := dkwX7_sheet_2 ++ dktX7_sheet_3
def dkwX7_sheet_1 : List UInt8 := [16, 40, 164, 0, 6, 16, 254, 172, 28, 2, 159, 0, 10, 29, 156, 0, 6, 16, 242, 172, 42, 180, 0, 62]
abbrev dktX7_sheet_1 : List UInt8 := dkwX7_sheet_1 ++ dktX7_sheet_2
def dkwX7_sheet_0 : List UInt8 := [27, 3, 6, 184, 0, 127, 153, 0, 23, 28, 2, 5, 184, 0, 127, 153, 0, 14, 28, 2, 159, 0, 12, 29]
abbrev dktX7_sheet_0 : List UInt8 := dkwX7_sheet_0 ++ dktX7_sheet_1
theorem dksX7_sheet_0 : cX7_sheet.data.toList.drop 0 = dktX7_sheet_0 := by decide +kernel
theorem dksX7_sheet_1 : cX7_sheet.data.toList.drop 24 = dktX7_sheet_1 := dk_seg dksX7_sheet_0 24 rfl rfl
theorem dksX7_sheet_2 : cX7_sheet.data.toList.drop 48 = dktX7_sheet_2 := dk_seg dksX7_sheet_1 24 rfl rfl
theorem dksX7_sheet_3 : cX7_sheet.data.toList.drop 72 = dktX7_sheet_3 := dk_seg dksX7_sheet_2 24 rfl rfl
theorem dksX7_sheet_4 : cX7_sheet.data.toList.drop 96 = dktX7_sheet_4 := dk_seg dksX7_sheet_3 24 rfl rfl
theorem dX7_sheet_0 : decode cX7_sheet 0 = .ok (.iload_n 1, 1) := dk_27 (dk_at dksX7_sheet_0 0 rfl rfl)
theorem dX7_sheet_1 : decode cX7_sheet 1 = .ok (.iconst 0, 1) := dk_3 (dk_at dksX7_sheet_0 1 rfl rfl)
theorem dX7_sheet_2 : decode cX7_sheet 2 = .ok (.iconst 3, 1) := dk_6 (dk_at dksX7_sheet_0 2 rfl rfl)
theorem dX7_sheet_3 : decode cX7_sheet 3 = .ok (.invokestatic 127, 3) := dk_184 0 127 (dk_at dksX7_sheet_0 3 rfl rfl)
theorem dX7_sheet_6 : decode cX7_sheet 6 = .ok (.ifCond .eq 23, 3) := dk_153 0 23 (dk_at dksX7_sheet_0 6 rfl rfl)
theorem dX7_sheet_9 : decode cX7_sheet 9 = .ok (.iload_n 2, 1) := dk_28 (dk_at dksX7_sheet_0 9 rfl rfl)
theorem dX7_sheet_10 : decode cX7_sheet 10 = .ok (.iconst (-1), 1) := dk_2 (dk_at dksX7_sheet_0 10 rfl rfl)
theorem dX7_sheet_11 : decode cX7_sheet 11 = .ok (.iconst 2, 1) := dk_5 (dk_at dksX7_sheet_0 11 rfl rfl)
theorem dX7_sheet_12 : decode cX7_sheet 12 = .ok (.invokestatic 127, 3) := dk_184 0 127 (dk_at dksX7_sheet_0 12 rfl rfl)
theorem dX7_sheet_15 : decode cX7_sheet 15 = .ok (.ifCond .eq 14, 3) := dk_153 0 14 (dk_at dksX7_sheet_0 15 rfl rfl)
theorem dX7_sheet_18 : decode cX7_sheet 18 = .ok (.iload_n 2, 1) := dk_28 (dk_at dksX7_sheet_0 18 rfl rfl)
theorem dX7_sheet_19 : decode cX7_sheet 19 = .ok (.iconst (-1), 1) := dk_2 (dk_at dksX7_sheet_0 19 rfl rfl)
theorem dX7_sheet_20 : decode cX7_sheet 20 = .ok (.if_icmp .eq 12, 3) := dk_159 0 12 (dk_at dksX7_sheet_0 20 rfl rfl)
theorem dX7_sheet_23 : decode cX7_sheet 23 = .ok (.iload_n 3, 1) := dk_29 (dk_at dksX7_sheet_0 23 rfl rfl)
theorem dX7_sheet_24 : decode cX7_sheet 24 = .ok (.bipush 40, 2) := dk_16 40 (dk_at dksX7_sheet_1 0 rfl rfl)
theorem dX7_sheet_26 : decode cX7_sheet 26 = .ok (.if_icmp .le 6, 3) := dk_164 0 6 (dk_at dksX7_sheet_1 2 rfl rfl)
theorem dX7_sheet_29 : decode cX7_sheet 29 = .ok (.bipush (-2), 2) := dk_16 254 (dk_at dksX7_sheet_1 5 rfl rfl)
theorem dX7_sheet_31 : decode cX7_sheet 31 = .ok (.ireturn, 1) := dk_172 (dk_at dksX7_sheet_1 7 rfl rfl)
theorem dX7_sheet_32 : decode cX7_sheet 32 = .ok (.iload_n 2, 1) := dk_28 (dk_at dksX7_sheet_1 8 rfl rfl)
theorem dX7_sheet_33 : decode cX7_sheet 33 = .ok (.iconst (-1), 1) := dk_2 (dk_at dksX7_sheet_1 9 rfl rfl)
theorem dX7_sheet_34 : decode cX7_sheet 34 = .ok (.if_icmp .eq 10, 3) := dk_159 0 10 (dk_at dksX7_sheet_1 10 rfl rfl)
theorem dX7_sheet_37 : decode cX7_sheet 37 = .ok (.iload_n 3, 1) := dk_29 (dk_at dksX7_sheet_1 13 rfl rfl)
theorem dX7_sheet_38 : decode cX7_sheet 38 = .ok (.ifCond .ge 6, 3) := dk_156 0 6 (dk_at dksX7_sheet_1 14 rfl rfl)
theorem dX7_sheet_41 : decode cX7_sheet 41 = .ok (.bipush (-14), 2) := dk_16 242 (dk_at dksX7_sheet_1 17 rfl rfl)
theorem dX7_sheet_43 : decode cX7_sheet 43 = .ok (.ireturn, 1) := dk_172 (dk_at dksX7_sheet_1 19 rfl rfl)
theorem dX7_sheet_44 : decode cX7_sheet 44 = .ok (.aload_n 0, 1) := dk_42 (dk_at dksX7_sheet_1 20 rfl rfl)
theorem dX7_sheet_45 : decode cX7_sheet 45 = .ok (.getfield 62, 3) := dk_180 0 62 (dk_at dksX7_sheet_1 21 rfl rfl)
theorem dX7_sheet_48 : decode cX7_sheet 48 = .ok (.iload_n 1, 1) := dk_27 (dk_at dksX7_sheet_2 0 rfl rfl)
theorem dX7_sheet_49 : decode cX7_sheet 49 = .ok (.iload_n 2, 1) := dk_28 (dk_at dksX7_sheet_2 1 rfl rfl)
theorem dX7_sheet_50 : decode cX7_sheet 50 = .ok (.iastore, 1) := dk_79 (dk_at dksX7_sheet_2 2 rfl rfl)
theorem dX7_sheet_51 : decode cX7_sheet 51 = .ok (.aload_n 0, 1) := dk_42 (dk_at dksX7_sheet_2 3 rfl rfl)
theorem dX7_sheet_52 : decode cX7_sheet 52 = .ok (.getfield 65, 3) := dk_180 0 65 (dk_at dksX7_sheet_2 4 rfl rfl)
theorem dX7_sheet_55 : decode cX7_sheet 55 = .ok (.iload_n 1, 1) := dk_27 (dk_at dksX7_sheet_2 7 rfl rfl)
theorem dX7_sheet_56 : decode cX7_sheet 56 = .ok (.iload_n 2, 1) := dk_28 (dk_at dksX7_sheet_2 8 rfl rfl)
theorem dX7_sheet_57 : decode cX7_sheet 57 = .ok (.iconst (-1), 1) := dk_2 (dk_at dksX7_sheet_2 9 rfl rfl)
theorem dX7_sheet_58 : decode cX7_sheet 58 = .ok (.if_icmp .ne 7, 3) := dk_160 0 7 (dk_at dksX7_sheet_2 10 rfl rfl)
theorem dX7_sheet_61 : decode cX7_sheet 61 = .ok (.iconst 0, 1) := dk_3 (dk_at dksX7_sheet_2 13 rfl rfl)
theorem dX7_sheet_62 : decode cX7_sheet 62 = .ok (.goto 4, 3) := dk_167 0 4 (dk_at dksX7_sheet_2 14 rfl rfl)
theorem dX7_sheet_65 : decode cX7_sheet 65 = .ok (.iload_n 3, 1) := dk_29 (dk_at dksX7_sheet_2 17 rfl rfl)
theorem dX7_sheet_66 : decode cX7_sheet 66 = .ok (.iastore, 1) := dk_79 (dk_at dksX7_sheet_2 18 rfl rfl)
theorem dX7_sheet_67 : decode cX7_sheet 67 = .ok (.iconst 0, 1) := dk_3 (dk_at dksX7_sheet_2 19 rfl rfl)
theorem dX7_sheet_68 : decode cX7_sheet 68 = .ok (.istore 4, 2) := dk_54 4 (dk_at dksX7_sheet_2 20 rfl rfl)
theorem dX7_sheet_70 : decode cX7_sheet 70 = .ok (.iload 4, 2) := dk_21 4 (dk_at dksX7_sheet_2 22 rfl rfl)
theorem dX7_sheet_72 : decode cX7_sheet 72 = .ok (.bipush 40, 2) := dk_16 40 (dk_at dksX7_sheet_3 0 rfl rfl)
theorem dX7_sheet_74 : decode cX7_sheet 74 = .ok (.if_icmp .ge 22, 3) := dk_162 0 22 (dk_at dksX7_sheet_3 2 rfl rfl)
theorem dX7_sheet_77 : decode cX7_sheet 77 = .ok (.aload_n 0, 1) := dk_42 (dk_at dksX7_sheet_3 5 rfl rfl)
theorem dX7_sheet_78 : decode cX7_sheet 78 = .ok (.getfield 68, 3) := dk_180 0 68 (dk_at dksX7_sheet_3 6 rfl rfl)
theorem dX7_sheet_81 : decode cX7_sheet 81 = .ok (.bipush 40, 2) := dk_16 40 (dk_at dksX7_sheet_3 9 rfl rfl)
theorem dX7_sheet_83 : decode cX7_sheet 83 = .ok (.iload_n 1, 1) := dk_27 (dk_at dksX7_sheet_3 11 rfl rfl)
theorem dX7_sheet_84 : decode cX7_sheet 84 = .ok (.imul, 1) := dk_104 (dk_at dksX7_sheet_3 12 rfl rfl)
theorem dX7_sheet_85 : decode cX7_sheet 85 = .ok (.iload 4, 2) := dk_21 4 (dk_at dksX7_sheet_3 13 rfl rfl)
theorem dX7_sheet_87 : decode cX7_sheet 87 = .ok (.iadd, 1) := dk_96 (dk_at dksX7_sheet_3 15 rfl rfl)
theorem dX7_sheet_88 : decode cX7_sheet 88 = .ok (.iconst 0, 1) := dk_3 (dk_at dksX7_sheet_3 16 rfl rfl)
theorem dX7_sheet_89 : decode cX7_sheet 89 = .ok (.iastore, 1) := dk_79 (dk_at dksX7_sheet_3 17 rfl rfl)
theorem dX7_sheet_90 : decode cX7_sheet 90 = .ok (.iinc 4 1, 3) := dk_132 4 1 (dk_at dksX7_sheet_3 18 rfl rfl)
theorem dX7_sheet_93 : decode cX7_sheet 93 = .ok (.goto (-23), 3) := dk_167 255 233 (dk_at dksX7_sheet_3 21 rfl rfl)
theorem dX7_sheet_96 : decode cX7_sheet 96 = .ok (.iconst 1, 1) := dk_4 (dk_at dksX7_sheet_4 0 rfl rfl)
theorem dX7_sheet_97 : decode cX7_sheet 97 = .ok (.ireturn, 1) := dk_172 (dk_at dksX7_sheet_4 1 rfl rfl)
abbrev cX7_cell : ByteArray := prog_20_method_69_code
def yX7_cell : MethodName := ⟨RX7, "cell", "(III)I"⟩
def dkwX7_cell_3 : List UInt8 := [27, 46, 4, 160, 0, 8, 29, 147, 167, 0, 4, 29, 79, 4, 172]
abbrev dktX7_cell_3 : List UInt8 := dkwX7_cell_3 ++ []
def dkwX7_cell_2 : List UInt8 := [16, 40, 27, 104, 28, 96, 42, 180, 0, 62, 27, 46, 154, 0, 8, 29, 145, 167, 0, 19, 42, 180, 0, 62]
abbrev dktX7_cell_2 : List UInt8 := dkwX7_cell_2 ++ dktX7_cell_3
def dkwX7_cell_1 : List UInt8 := [172, 28, 3, 42, 180, 0, 65, 27, 46, 4, 100, 184, 0, 127, 154, 0, 6, 16, 244, 172, 42, 180, 0, 68]
abbrev dktX7_cell_1 : List UInt8 := dkwX7_cell_1 ++ dktX7_cell_2
def dkwX7_cell_0 : List UInt8 := [27, 3, 6, 184, 0, 127, 154, 0, 6, 16, 254, 172, 42, 180, 0, 62, 27, 46, 2, 160, 0, 6, 16, 245]
abbrev dktX7_cell_0 : List UInt8 := dkwX7_cell_0 ++ dktX7_cell_1
theorem dksX7_cell_0 : cX7_cell.data.toList.drop 0 = dktX7_cell_0 := by decide +kernel
theorem dksX7_cell_1 : cX7_cell.data.toList.drop 24 = dktX7_cell_1 := dk_seg dksX7_cell_0 24 rfl rfl
theorem dksX7_cell_2 : cX7_cell.data.toList.drop 48 = dktX7_cell_2 := dk_seg dksX7_cell_1 24 rfl rfl
theorem dksX7_cell_3 : cX7_cell.data.toList.drop 72 = dktX7_cell_3 := dk_seg dksX7_cell_2 24 rfl rfl
theorem dX7_cell_0 : decode cX7_cell 0 = .ok (.iload_n 1, 1) := dk_27 (dk_at dksX7_cell_0 0 rfl rfl)
theorem dX7_cell_1 : decode cX7_cell 1 = .ok (.iconst 0, 1) := dk_3 (dk_at dksX7_cell_0 1 rfl rfl)
theorem dX7_cell_2 : decode cX7_cell 2 = .ok (.iconst 3, 1) := dk_6 (dk_at dksX7_cell_0 2 rfl rfl)
theorem dX7_cell_3 : decode cX7_cell 3 = .ok (.invokestatic 127, 3) := dk_184 0 127 (dk_at dksX7_cell_0 3 rfl rfl)
theorem dX7_cell_6 : decode cX7_cell 6 = .ok (.ifCond .ne 6, 3) := dk_154 0 6 (dk_at dksX7_cell_0 6 rfl rfl)
theorem dX7_cell_9 : decode cX7_cell 9 = .ok (.bipush (-2), 2) := dk_16 254 (dk_at dksX7_cell_0 9 rfl rfl)
theorem dX7_cell_11 : decode cX7_cell 11 = .ok (.ireturn, 1) := dk_172 (dk_at dksX7_cell_0 11 rfl rfl)
theorem dX7_cell_12 : decode cX7_cell 12 = .ok (.aload_n 0, 1) := dk_42 (dk_at dksX7_cell_0 12 rfl rfl)
theorem dX7_cell_13 : decode cX7_cell 13 = .ok (.getfield 62, 3) := dk_180 0 62 (dk_at dksX7_cell_0 13 rfl rfl)
theorem dX7_cell_16 : decode cX7_cell 16 = .ok (.iload_n 1, 1) := dk_27 (dk_at dksX7_cell_0 16 rfl rfl)
theorem dX7_cell_17 : decode cX7_cell 17 = .ok (.iaload, 1) := dk_46 (dk_at dksX7_cell_0 17 rfl rfl)
theorem dX7_cell_18 : decode cX7_cell 18 = .ok (.iconst (-1), 1) := dk_2 (dk_at dksX7_cell_0 18 rfl rfl)
theorem dX7_cell_19 : decode cX7_cell 19 = .ok (.if_icmp .ne 6, 3) := dk_160 0 6 (dk_at dksX7_cell_0 19 rfl rfl)
theorem dX7_cell_22 : decode cX7_cell 22 = .ok (.bipush (-11), 2) := dk_16 245 (dk_at dksX7_cell_0 22 rfl rfl)
theorem dX7_cell_24 : decode cX7_cell 24 = .ok (.ireturn, 1) := dk_172 (dk_at dksX7_cell_1 0 rfl rfl)
theorem dX7_cell_25 : decode cX7_cell 25 = .ok (.iload_n 2, 1) := dk_28 (dk_at dksX7_cell_1 1 rfl rfl)
theorem dX7_cell_26 : decode cX7_cell 26 = .ok (.iconst 0, 1) := dk_3 (dk_at dksX7_cell_1 2 rfl rfl)
theorem dX7_cell_27 : decode cX7_cell 27 = .ok (.aload_n 0, 1) := dk_42 (dk_at dksX7_cell_1 3 rfl rfl)
theorem dX7_cell_28 : decode cX7_cell 28 = .ok (.getfield 65, 3) := dk_180 0 65 (dk_at dksX7_cell_1 4 rfl rfl)
theorem dX7_cell_31 : decode cX7_cell 31 = .ok (.iload_n 1, 1) := dk_27 (dk_at dksX7_cell_1 7 rfl rfl)
theorem dX7_cell_32 : decode cX7_cell 32 = .ok (.iaload, 1) := dk_46 (dk_at dksX7_cell_1 8 rfl rfl)
theorem dX7_cell_33 : decode cX7_cell 33 = .ok (.iconst 1, 1) := dk_4 (dk_at dksX7_cell_1 9 rfl rfl)
theorem dX7_cell_34 : decode cX7_cell 34 = .ok (.isub, 1) := dk_100 (dk_at dksX7_cell_1 10 rfl rfl)
theorem dX7_cell_35 : decode cX7_cell 35 = .ok (.invokestatic 127, 3) := dk_184 0 127 (dk_at dksX7_cell_1 11 rfl rfl)
theorem dX7_cell_38 : decode cX7_cell 38 = .ok (.ifCond .ne 6, 3) := dk_154 0 6 (dk_at dksX7_cell_1 14 rfl rfl)
theorem dX7_cell_41 : decode cX7_cell 41 = .ok (.bipush (-12), 2) := dk_16 244 (dk_at dksX7_cell_1 17 rfl rfl)
theorem dX7_cell_43 : decode cX7_cell 43 = .ok (.ireturn, 1) := dk_172 (dk_at dksX7_cell_1 19 rfl rfl)
theorem dX7_cell_44 : decode cX7_cell 44 = .ok (.aload_n 0, 1) := dk_42 (dk_at dksX7_cell_1 20 rfl rfl)
theorem dX7_cell_45 : decode cX7_cell 45 = .ok (.getfield 68, 3) := dk_180 0 68 (dk_at dksX7_cell_1 21 rfl rfl)
theorem dX7_cell_48 : decode cX7_cell 48 = .ok (.bipush 40, 2) := dk_16 40 (dk_at dksX7_cell_2 0 rfl rfl)
theorem dX7_cell_50 : decode cX7_cell 50 = .ok (.iload_n 1, 1) := dk_27 (dk_at dksX7_cell_2 2 rfl rfl)
theorem dX7_cell_51 : decode cX7_cell 51 = .ok (.imul, 1) := dk_104 (dk_at dksX7_cell_2 3 rfl rfl)
theorem dX7_cell_52 : decode cX7_cell 52 = .ok (.iload_n 2, 1) := dk_28 (dk_at dksX7_cell_2 4 rfl rfl)
theorem dX7_cell_53 : decode cX7_cell 53 = .ok (.iadd, 1) := dk_96 (dk_at dksX7_cell_2 5 rfl rfl)
theorem dX7_cell_54 : decode cX7_cell 54 = .ok (.aload_n 0, 1) := dk_42 (dk_at dksX7_cell_2 6 rfl rfl)
theorem dX7_cell_55 : decode cX7_cell 55 = .ok (.getfield 62, 3) := dk_180 0 62 (dk_at dksX7_cell_2 7 rfl rfl)
theorem dX7_cell_58 : decode cX7_cell 58 = .ok (.iload_n 1, 1) := dk_27 (dk_at dksX7_cell_2 10 rfl rfl)
theorem dX7_cell_59 : decode cX7_cell 59 = .ok (.iaload, 1) := dk_46 (dk_at dksX7_cell_2 11 rfl rfl)
theorem dX7_cell_60 : decode cX7_cell 60 = .ok (.ifCond .ne 8, 3) := dk_154 0 8 (dk_at dksX7_cell_2 12 rfl rfl)
theorem dX7_cell_63 : decode cX7_cell 63 = .ok (.iload_n 3, 1) := dk_29 (dk_at dksX7_cell_2 15 rfl rfl)
theorem dX7_cell_64 : decode cX7_cell 64 = .ok (.i2b, 1) := dk_145 (dk_at dksX7_cell_2 16 rfl rfl)
theorem dX7_cell_65 : decode cX7_cell 65 = .ok (.goto 19, 3) := dk_167 0 19 (dk_at dksX7_cell_2 17 rfl rfl)
theorem dX7_cell_68 : decode cX7_cell 68 = .ok (.aload_n 0, 1) := dk_42 (dk_at dksX7_cell_2 20 rfl rfl)
theorem dX7_cell_69 : decode cX7_cell 69 = .ok (.getfield 62, 3) := dk_180 0 62 (dk_at dksX7_cell_2 21 rfl rfl)
theorem dX7_cell_72 : decode cX7_cell 72 = .ok (.iload_n 1, 1) := dk_27 (dk_at dksX7_cell_3 0 rfl rfl)
theorem dX7_cell_73 : decode cX7_cell 73 = .ok (.iaload, 1) := dk_46 (dk_at dksX7_cell_3 1 rfl rfl)
theorem dX7_cell_74 : decode cX7_cell 74 = .ok (.iconst 1, 1) := dk_4 (dk_at dksX7_cell_3 2 rfl rfl)
theorem dX7_cell_75 : decode cX7_cell 75 = .ok (.if_icmp .ne 8, 3) := dk_160 0 8 (dk_at dksX7_cell_3 3 rfl rfl)
theorem dX7_cell_78 : decode cX7_cell 78 = .ok (.iload_n 3, 1) := dk_29 (dk_at dksX7_cell_3 6 rfl rfl)
theorem dX7_cell_79 : decode cX7_cell 79 = .ok (.i2s, 1) := dk_147 (dk_at dksX7_cell_3 7 rfl rfl)
theorem dX7_cell_80 : decode cX7_cell 80 = .ok (.goto 4, 3) := dk_167 0 4 (dk_at dksX7_cell_3 8 rfl rfl)
theorem dX7_cell_83 : decode cX7_cell 83 = .ok (.iload_n 3, 1) := dk_29 (dk_at dksX7_cell_3 11 rfl rfl)
theorem dX7_cell_84 : decode cX7_cell 84 = .ok (.iastore, 1) := dk_79 (dk_at dksX7_cell_3 12 rfl rfl)
theorem dX7_cell_85 : decode cX7_cell 85 = .ok (.iconst 1, 1) := dk_4 (dk_at dksX7_cell_3 13 rfl rfl)
theorem dX7_cell_86 : decode cX7_cell 86 = .ok (.ireturn, 1) := dk_172 (dk_at dksX7_cell_3 14 rfl rfl)
abbrev cX7_copy : ByteArray := prog_20_method_70_code
def yX7_copy : MethodName := ⟨RX7, "copy", "(IIIII)I"⟩
def dkwX7_copy_8 : List UInt8 := [180, 0, 68, 21, 6, 21, 9, 96, 46, 79, 132, 8, 1, 167, 255, 205, 21, 5, 172]
abbrev dktX7_copy_8 : List UInt8 := dkwX7_copy_8 ++ []
def dkwX7_copy_7 : List UInt8 := [4, 100, 21, 8, 100, 167, 0, 5, 21, 8, 54, 9, 42, 180, 0, 68, 21, 7, 21, 9, 96, 42]
abbrev dktX7_copy_7 : List UInt8 := dkwX7_copy_7 ++ dktX7_copy_8
def dkwX7_copy_6 : List UInt8 := [21, 4, 96, 54, 7, 3, 54, 8, 21, 8, 21, 5, 162, 0, 50, 21, 6, 21, 7, 162, 0, 13, 21, 5]
abbrev dktX7_copy_6 : List UInt8 := dkwX7_copy_6 ++ dktX7_copy_7
def dkwX7_copy_5 : List UInt8 := [29, 46, 21, 4, 100, 164, 0, 6, 16, 244, 172, 16, 40, 27, 104, 28, 96, 54, 6, 16, 40, 29, 104]
abbrev dktX7_copy_5 : List UInt8 := dkwX7_copy_5 ++ dktX7_copy_6
def dkwX7_copy_4 : List UInt8 := [29, 46, 163, 0, 30, 21, 5, 42, 180, 0, 65, 27, 46, 28, 100, 163, 0, 17, 21, 5, 42, 180, 0, 65]
abbrev dktX7_copy_4 : List UInt8 := dkwX7_copy_4 ++ dktX7_copy_5
def dkwX7_copy_3 : List UInt8 := [155, 0, 56, 21, 4, 155, 0, 51, 28, 42, 180, 0, 65, 27, 46, 163, 0, 41, 21, 4, 42, 180, 0, 65]
abbrev dktX7_copy_3 : List UInt8 := dkwX7_copy_3 ++ dktX7_copy_4
def dkwX7_copy_2 : List UInt8 := [180, 0, 62, 27, 46, 42, 180, 0, 62, 29, 46, 159, 0, 6, 16, 243, 172, 21, 5, 155, 0, 60, 28]
abbrev dktX7_copy_2 : List UInt8 := dkwX7_copy_2 ++ dktX7_copy_3
def dkwX7_copy_1 : List UInt8 := [180, 0, 62, 27, 46, 2, 159, 0, 13, 42, 180, 0, 62, 29, 46, 2, 160, 0, 6, 16, 245, 172, 42]
abbrev dktX7_copy_1 : List UInt8 := dkwX7_copy_1 ++ dktX7_copy_2
def dkwX7_copy_0 : List UInt8 := [27, 3, 6, 184, 0, 127, 153, 0, 12, 29, 3, 6, 184, 0, 127, 154, 0, 6, 16, 254, 172, 42]
abbrev dktX7_copy_0 : List UInt8 := dkwX7_copy_0 ++ dktX7_copy_1
theorem dksX7_copy_0 : cX7_copy.data.toList.drop 0 = dktX7_copy_0 := by decide +kernel
theorem dksX7_copy_1 : cX7_copy.data.toList.drop 22 = dktX7_copy_1 := dk_seg dksX7_copy_0 22 rfl rfl
theorem dksX7_copy_2 : cX7_copy.data.toList.drop 45 = dktX7_copy_2 := dk_seg dksX7_copy_1 23 rfl rfl
theorem dksX7_copy_3 : cX7_copy.data.toList.drop 68 = dktX7_copy_3 := dk_seg dksX7_copy_2 23 rfl rfl
theorem dksX7_copy_4 : cX7_copy.data.toList.drop 92 = dktX7_copy_4 := dk_seg dksX7_copy_3 24 rfl rfl
theorem dksX7_copy_5 : cX7_copy.data.toList.drop 116 = dktX7_copy_5 := dk_seg dksX7_copy_4 24 rfl rfl
theorem dksX7_copy_6 : cX7_copy.data.toList.drop 139 = dktX7_copy_6 := dk_seg dksX7_copy_5 23 rfl rfl
theorem dksX7_copy_7 : cX7_copy.data.toList.drop 163 = dktX7_copy_7 := dk_seg dksX7_copy_6 24 rfl rfl
theorem dksX7_copy_8 : cX7_copy.data.toList.drop 185 = dktX7_copy_8 := dk_seg dksX7_copy_7 22 rfl rfl
theorem dX7_copy_0 : decode cX7_copy 0 = .ok (.iload_n 1, 1) := dk_27 (dk_at dksX7_copy_0 0 rfl rfl)
theorem dX7_copy_1 : decode cX7_copy 1 = .ok (.iconst 0, 1) := dk_3 (dk_at dksX7_copy_0 1 rfl rfl)
theorem dX7_copy_2 : decode cX7_copy 2 = .ok (.iconst 3, 1) := dk_6 (dk_at dksX7_copy_0 2 rfl rfl)
theorem dX7_copy_3 : decode cX7_copy 3 = .ok (.invokestatic 127, 3) := dk_184 0 127 (dk_at dksX7_copy_0 3 rfl rfl)
theorem dX7_copy_6 : decode cX7_copy 6 = .ok (.ifCond .eq 12, 3) := dk_153 0 12 (dk_at dksX7_copy_0 6 rfl rfl)
theorem dX7_copy_9 : decode cX7_copy 9 = .ok (.iload_n 3, 1) := dk_29 (dk_at dksX7_copy_0 9 rfl rfl)
theorem dX7_copy_10 : decode cX7_copy 10 = .ok (.iconst 0, 1) := dk_3 (dk_at dksX7_copy_0 10 rfl rfl)
theorem dX7_copy_11 : decode cX7_copy 11 = .ok (.iconst 3, 1) := dk_6 (dk_at dksX7_copy_0 11 rfl rfl)
theorem dX7_copy_12 : decode cX7_copy 12 = .ok (.invokestatic 127, 3) := dk_184 0 127 (dk_at dksX7_copy_0 12 rfl rfl)
theorem dX7_copy_15 : decode cX7_copy 15 = .ok (.ifCond .ne 6, 3) := dk_154 0 6 (dk_at dksX7_copy_0 15 rfl rfl)
theorem dX7_copy_18 : decode cX7_copy 18 = .ok (.bipush (-2), 2) := dk_16 254 (dk_at dksX7_copy_0 18 rfl rfl)
theorem dX7_copy_20 : decode cX7_copy 20 = .ok (.ireturn, 1) := dk_172 (dk_at dksX7_copy_0 20 rfl rfl)
theorem dX7_copy_21 : decode cX7_copy 21 = .ok (.aload_n 0, 1) := dk_42 (dk_at dksX7_copy_0 21 rfl rfl)
theorem dX7_copy_22 : decode cX7_copy 22 = .ok (.getfield 62, 3) := dk_180 0 62 (dk_at dksX7_copy_1 0 rfl rfl)
theorem dX7_copy_25 : decode cX7_copy 25 = .ok (.iload_n 1, 1) := dk_27 (dk_at dksX7_copy_1 3 rfl rfl)
theorem dX7_copy_26 : decode cX7_copy 26 = .ok (.iaload, 1) := dk_46 (dk_at dksX7_copy_1 4 rfl rfl)
theorem dX7_copy_27 : decode cX7_copy 27 = .ok (.iconst (-1), 1) := dk_2 (dk_at dksX7_copy_1 5 rfl rfl)
theorem dX7_copy_28 : decode cX7_copy 28 = .ok (.if_icmp .eq 13, 3) := dk_159 0 13 (dk_at dksX7_copy_1 6 rfl rfl)
theorem dX7_copy_31 : decode cX7_copy 31 = .ok (.aload_n 0, 1) := dk_42 (dk_at dksX7_copy_1 9 rfl rfl)
theorem dX7_copy_32 : decode cX7_copy 32 = .ok (.getfield 62, 3) := dk_180 0 62 (dk_at dksX7_copy_1 10 rfl rfl)
theorem dX7_copy_35 : decode cX7_copy 35 = .ok (.iload_n 3, 1) := dk_29 (dk_at dksX7_copy_1 13 rfl rfl)
theorem dX7_copy_36 : decode cX7_copy 36 = .ok (.iaload, 1) := dk_46 (dk_at dksX7_copy_1 14 rfl rfl)
theorem dX7_copy_37 : decode cX7_copy 37 = .ok (.iconst (-1), 1) := dk_2 (dk_at dksX7_copy_1 15 rfl rfl)
theorem dX7_copy_38 : decode cX7_copy 38 = .ok (.if_icmp .ne 6, 3) := dk_160 0 6 (dk_at dksX7_copy_1 16 rfl rfl)
theorem dX7_copy_41 : decode cX7_copy 41 = .ok (.bipush (-11), 2) := dk_16 245 (dk_at dksX7_copy_1 19 rfl rfl)
theorem dX7_copy_43 : decode cX7_copy 43 = .ok (.ireturn, 1) := dk_172 (dk_at dksX7_copy_1 21 rfl rfl)
theorem dX7_copy_44 : decode cX7_copy 44 = .ok (.aload_n 0, 1) := dk_42 (dk_at dksX7_copy_1 22 rfl rfl)
theorem dX7_copy_45 : decode cX7_copy 45 = .ok (.getfield 62, 3) := dk_180 0 62 (dk_at dksX7_copy_2 0 rfl rfl)
theorem dX7_copy_48 : decode cX7_copy 48 = .ok (.iload_n 1, 1) := dk_27 (dk_at dksX7_copy_2 3 rfl rfl)
theorem dX7_copy_49 : decode cX7_copy 49 = .ok (.iaload, 1) := dk_46 (dk_at dksX7_copy_2 4 rfl rfl)
theorem dX7_copy_50 : decode cX7_copy 50 = .ok (.aload_n 0, 1) := dk_42 (dk_at dksX7_copy_2 5 rfl rfl)
theorem dX7_copy_51 : decode cX7_copy 51 = .ok (.getfield 62, 3) := dk_180 0 62 (dk_at dksX7_copy_2 6 rfl rfl)
theorem dX7_copy_54 : decode cX7_copy 54 = .ok (.iload_n 3, 1) := dk_29 (dk_at dksX7_copy_2 9 rfl rfl)
theorem dX7_copy_55 : decode cX7_copy 55 = .ok (.iaload, 1) := dk_46 (dk_at dksX7_copy_2 10 rfl rfl)
theorem dX7_copy_56 : decode cX7_copy 56 = .ok (.if_icmp .eq 6, 3) := dk_159 0 6 (dk_at dksX7_copy_2 11 rfl rfl)
theorem dX7_copy_59 : decode cX7_copy 59 = .ok (.bipush (-13), 2) := dk_16 243 (dk_at dksX7_copy_2 14 rfl rfl)
theorem dX7_copy_61 : decode cX7_copy 61 = .ok (.ireturn, 1) := dk_172 (dk_at dksX7_copy_2 16 rfl rfl)
theorem dX7_copy_62 : decode cX7_copy 62 = .ok (.iload 5, 2) := dk_21 5 (dk_at dksX7_copy_2 17 rfl rfl)
theorem dX7_copy_64 : decode cX7_copy 64 = .ok (.ifCond .lt 60, 3) := dk_155 0 60 (dk_at dksX7_copy_2 19 rfl rfl)
theorem dX7_copy_67 : decode cX7_copy 67 = .ok (.iload_n 2, 1) := dk_28 (dk_at dksX7_copy_2 22 rfl rfl)
theorem dX7_copy_68 : decode cX7_copy 68 = .ok (.ifCond .lt 56, 3) := dk_155 0 56 (dk_at dksX7_copy_3 0 rfl rfl)
theorem dX7_copy_71 : decode cX7_copy 71 = .ok (.iload 4, 2) := dk_21 4 (dk_at dksX7_copy_3 3 rfl rfl)
theorem dX7_copy_73 : decode cX7_copy 73 = .ok (.ifCond .lt 51, 3) := dk_155 0 51 (dk_at dksX7_copy_3 5 rfl rfl)
theorem dX7_copy_76 : decode cX7_copy 76 = .ok (.iload_n 2, 1) := dk_28 (dk_at dksX7_copy_3 8 rfl rfl)
theorem dX7_copy_77 : decode cX7_copy 77 = .ok (.aload_n 0, 1) := dk_42 (dk_at dksX7_copy_3 9 rfl rfl)
theorem dX7_copy_78 : decode cX7_copy 78 = .ok (.getfield 65, 3) := dk_180 0 65 (dk_at dksX7_copy_3 10 rfl rfl)
theorem dX7_copy_81 : decode cX7_copy 81 = .ok (.iload_n 1, 1) := dk_27 (dk_at dksX7_copy_3 13 rfl rfl)
theorem dX7_copy_82 : decode cX7_copy 82 = .ok (.iaload, 1) := dk_46 (dk_at dksX7_copy_3 14 rfl rfl)
theorem dX7_copy_83 : decode cX7_copy 83 = .ok (.if_icmp .gt 41, 3) := dk_163 0 41 (dk_at dksX7_copy_3 15 rfl rfl)
theorem dX7_copy_86 : decode cX7_copy 86 = .ok (.iload 4, 2) := dk_21 4 (dk_at dksX7_copy_3 18 rfl rfl)
theorem dX7_copy_88 : decode cX7_copy 88 = .ok (.aload_n 0, 1) := dk_42 (dk_at dksX7_copy_3 20 rfl rfl)
theorem dX7_copy_89 : decode cX7_copy 89 = .ok (.getfield 65, 3) := dk_180 0 65 (dk_at dksX7_copy_3 21 rfl rfl)
theorem dX7_copy_92 : decode cX7_copy 92 = .ok (.iload_n 3, 1) := dk_29 (dk_at dksX7_copy_4 0 rfl rfl)
theorem dX7_copy_93 : decode cX7_copy 93 = .ok (.iaload, 1) := dk_46 (dk_at dksX7_copy_4 1 rfl rfl)
theorem dX7_copy_94 : decode cX7_copy 94 = .ok (.if_icmp .gt 30, 3) := dk_163 0 30 (dk_at dksX7_copy_4 2 rfl rfl)
theorem dX7_copy_97 : decode cX7_copy 97 = .ok (.iload 5, 2) := dk_21 5 (dk_at dksX7_copy_4 5 rfl rfl)
theorem dX7_copy_99 : decode cX7_copy 99 = .ok (.aload_n 0, 1) := dk_42 (dk_at dksX7_copy_4 7 rfl rfl)
theorem dX7_copy_100 : decode cX7_copy 100 = .ok (.getfield 65, 3) := dk_180 0 65 (dk_at dksX7_copy_4 8 rfl rfl)
theorem dX7_copy_103 : decode cX7_copy 103 = .ok (.iload_n 1, 1) := dk_27 (dk_at dksX7_copy_4 11 rfl rfl)
theorem dX7_copy_104 : decode cX7_copy 104 = .ok (.iaload, 1) := dk_46 (dk_at dksX7_copy_4 12 rfl rfl)
theorem dX7_copy_105 : decode cX7_copy 105 = .ok (.iload_n 2, 1) := dk_28 (dk_at dksX7_copy_4 13 rfl rfl)
theorem dX7_copy_106 : decode cX7_copy 106 = .ok (.isub, 1) := dk_100 (dk_at dksX7_copy_4 14 rfl rfl)
theorem dX7_copy_107 : decode cX7_copy 107 = .ok (.if_icmp .gt 17, 3) := dk_163 0 17 (dk_at dksX7_copy_4 15 rfl rfl)
theorem dX7_copy_110 : decode cX7_copy 110 = .ok (.iload 5, 2) := dk_21 5 (dk_at dksX7_copy_4 18 rfl rfl)
theorem dX7_copy_112 : decode cX7_copy 112 = .ok (.aload_n 0, 1) := dk_42 (dk_at dksX7_copy_4 20 rfl rfl)
theorem dX7_copy_113 : decode cX7_copy 113 = .ok (.getfield 65, 3) := dk_180 0 65 (dk_at dksX7_copy_4 21 rfl rfl)
theorem dX7_copy_116 : decode cX7_copy 116 = .ok (.iload_n 3, 1) := dk_29 (dk_at dksX7_copy_5 0 rfl rfl)
theorem dX7_copy_117 : decode cX7_copy 117 = .ok (.iaload, 1) := dk_46 (dk_at dksX7_copy_5 1 rfl rfl)
theorem dX7_copy_118 : decode cX7_copy 118 = .ok (.iload 4, 2) := dk_21 4 (dk_at dksX7_copy_5 2 rfl rfl)
theorem dX7_copy_120 : decode cX7_copy 120 = .ok (.isub, 1) := dk_100 (dk_at dksX7_copy_5 4 rfl rfl)
theorem dX7_copy_121 : decode cX7_copy 121 = .ok (.if_icmp .le 6, 3) := dk_164 0 6 (dk_at dksX7_copy_5 5 rfl rfl)
theorem dX7_copy_124 : decode cX7_copy 124 = .ok (.bipush (-12), 2) := dk_16 244 (dk_at dksX7_copy_5 8 rfl rfl)
theorem dX7_copy_126 : decode cX7_copy 126 = .ok (.ireturn, 1) := dk_172 (dk_at dksX7_copy_5 10 rfl rfl)
theorem dX7_copy_127 : decode cX7_copy 127 = .ok (.bipush 40, 2) := dk_16 40 (dk_at dksX7_copy_5 11 rfl rfl)
theorem dX7_copy_129 : decode cX7_copy 129 = .ok (.iload_n 1, 1) := dk_27 (dk_at dksX7_copy_5 13 rfl rfl)
theorem dX7_copy_130 : decode cX7_copy 130 = .ok (.imul, 1) := dk_104 (dk_at dksX7_copy_5 14 rfl rfl)
theorem dX7_copy_131 : decode cX7_copy 131 = .ok (.iload_n 2, 1) := dk_28 (dk_at dksX7_copy_5 15 rfl rfl)
theorem dX7_copy_132 : decode cX7_copy 132 = .ok (.iadd, 1) := dk_96 (dk_at dksX7_copy_5 16 rfl rfl)
theorem dX7_copy_133 : decode cX7_copy 133 = .ok (.istore 6, 2) := dk_54 6 (dk_at dksX7_copy_5 17 rfl rfl)
theorem dX7_copy_135 : decode cX7_copy 135 = .ok (.bipush 40, 2) := dk_16 40 (dk_at dksX7_copy_5 19 rfl rfl)
theorem dX7_copy_137 : decode cX7_copy 137 = .ok (.iload_n 3, 1) := dk_29 (dk_at dksX7_copy_5 21 rfl rfl)
theorem dX7_copy_138 : decode cX7_copy 138 = .ok (.imul, 1) := dk_104 (dk_at dksX7_copy_5 22 rfl rfl)
theorem dX7_copy_139 : decode cX7_copy 139 = .ok (.iload 4, 2) := dk_21 4 (dk_at dksX7_copy_6 0 rfl rfl)
theorem dX7_copy_141 : decode cX7_copy 141 = .ok (.iadd, 1) := dk_96 (dk_at dksX7_copy_6 2 rfl rfl)
theorem dX7_copy_142 : decode cX7_copy 142 = .ok (.istore 7, 2) := dk_54 7 (dk_at dksX7_copy_6 3 rfl rfl)
theorem dX7_copy_144 : decode cX7_copy 144 = .ok (.iconst 0, 1) := dk_3 (dk_at dksX7_copy_6 5 rfl rfl)
theorem dX7_copy_145 : decode cX7_copy 145 = .ok (.istore 8, 2) := dk_54 8 (dk_at dksX7_copy_6 6 rfl rfl)
theorem dX7_copy_147 : decode cX7_copy 147 = .ok (.iload 8, 2) := dk_21 8 (dk_at dksX7_copy_6 8 rfl rfl)
theorem dX7_copy_149 : decode cX7_copy 149 = .ok (.iload 5, 2) := dk_21 5 (dk_at dksX7_copy_6 10 rfl rfl)
theorem dX7_copy_151 : decode cX7_copy 151 = .ok (.if_icmp .ge 50, 3) := dk_162 0 50 (dk_at dksX7_copy_6 12 rfl rfl)
theorem dX7_copy_154 : decode cX7_copy 154 = .ok (.iload 6, 2) := dk_21 6 (dk_at dksX7_copy_6 15 rfl rfl)
theorem dX7_copy_156 : decode cX7_copy 156 = .ok (.iload 7, 2) := dk_21 7 (dk_at dksX7_copy_6 17 rfl rfl)
theorem dX7_copy_158 : decode cX7_copy 158 = .ok (.if_icmp .ge 13, 3) := dk_162 0 13 (dk_at dksX7_copy_6 19 rfl rfl)
theorem dX7_copy_161 : decode cX7_copy 161 = .ok (.iload 5, 2) := dk_21 5 (dk_at dksX7_copy_6 22 rfl rfl)
theorem dX7_copy_163 : decode cX7_copy 163 = .ok (.iconst 1, 1) := dk_4 (dk_at dksX7_copy_7 0 rfl rfl)
theorem dX7_copy_164 : decode cX7_copy 164 = .ok (.isub, 1) := dk_100 (dk_at dksX7_copy_7 1 rfl rfl)
theorem dX7_copy_165 : decode cX7_copy 165 = .ok (.iload 8, 2) := dk_21 8 (dk_at dksX7_copy_7 2 rfl rfl)
theorem dX7_copy_167 : decode cX7_copy 167 = .ok (.isub, 1) := dk_100 (dk_at dksX7_copy_7 4 rfl rfl)
theorem dX7_copy_168 : decode cX7_copy 168 = .ok (.goto 5, 3) := dk_167 0 5 (dk_at dksX7_copy_7 5 rfl rfl)
theorem dX7_copy_171 : decode cX7_copy 171 = .ok (.iload 8, 2) := dk_21 8 (dk_at dksX7_copy_7 8 rfl rfl)
theorem dX7_copy_173 : decode cX7_copy 173 = .ok (.istore 9, 2) := dk_54 9 (dk_at dksX7_copy_7 10 rfl rfl)
theorem dX7_copy_175 : decode cX7_copy 175 = .ok (.aload_n 0, 1) := dk_42 (dk_at dksX7_copy_7 12 rfl rfl)
theorem dX7_copy_176 : decode cX7_copy 176 = .ok (.getfield 68, 3) := dk_180 0 68 (dk_at dksX7_copy_7 13 rfl rfl)
theorem dX7_copy_179 : decode cX7_copy 179 = .ok (.iload 7, 2) := dk_21 7 (dk_at dksX7_copy_7 16 rfl rfl)
theorem dX7_copy_181 : decode cX7_copy 181 = .ok (.iload 9, 2) := dk_21 9 (dk_at dksX7_copy_7 18 rfl rfl)
theorem dX7_copy_183 : decode cX7_copy 183 = .ok (.iadd, 1) := dk_96 (dk_at dksX7_copy_7 20 rfl rfl)
theorem dX7_copy_184 : decode cX7_copy 184 = .ok (.aload_n 0, 1) := dk_42 (dk_at dksX7_copy_7 21 rfl rfl)
theorem dX7_copy_185 : decode cX7_copy 185 = .ok (.getfield 68, 3) := dk_180 0 68 (dk_at dksX7_copy_8 0 rfl rfl)
theorem dX7_copy_188 : decode cX7_copy 188 = .ok (.iload 6, 2) := dk_21 6 (dk_at dksX7_copy_8 3 rfl rfl)
theorem dX7_copy_190 : decode cX7_copy 190 = .ok (.iload 9, 2) := dk_21 9 (dk_at dksX7_copy_8 5 rfl rfl)
theorem dX7_copy_192 : decode cX7_copy 192 = .ok (.iadd, 1) := dk_96 (dk_at dksX7_copy_8 7 rfl rfl)
theorem dX7_copy_193 : decode cX7_copy 193 = .ok (.iaload, 1) := dk_46 (dk_at dksX7_copy_8 8 rfl rfl)
theorem dX7_copy_194 : decode cX7_copy 194 = .ok (.iastore, 1) := dk_79 (dk_at dksX7_copy_8 9 rfl rfl)
theorem dX7_copy_195 : decode cX7_copy 195 = .ok (.iinc 8 1, 3) := dk_132 8 1 (dk_at dksX7_copy_8 10 rfl rfl)
theorem dX7_copy_198 : decode cX7_copy 198 = .ok (.goto (-51), 3) := dk_167 255 205 (dk_at dksX7_copy_8 13 rfl rfl)
theorem dX7_copy_201 : decode cX7_copy 201 = .ok (.iload 5, 2) := dk_21 5 (dk_at dksX7_copy_8 16 rfl rfl)
theorem dX7_copy_203 : decode cX7_copy 203 = .ok (.ireturn, 1) := dk_172 (dk_at dksX7_copy_8 18 rfl rfl)
abbrev cX7_rates : ByteArray := prog_20_method_71_code
def yX7_rates : MethodName := ⟨RX7, "rates", "(IIII)I"⟩
def dkwX7_rates_7 : List UInt8 := [54, 5, 132, 6, 1, 167, 255, 152, 21, 5, 172]
abbrev dktX7_rates_7 : List UInt8 := dkwX7_rates_7 ++ []
def dkwX7_rates_6 : List UInt8 := [96, 46, 42, 180, 0, 68, 21, 8, 6, 96, 46, 182, 1, 57, 155, 0, 7, 4, 167, 0, 4, 3, 96]
abbrev dktX7_rates_6 : List UInt8 := dkwX7_rates_6 ++ dktX7_rates_7
def dkwX7_rates_5 : List UInt8 := [42, 42, 180, 0, 68, 21, 8, 46, 42, 180, 0, 68, 21, 8, 4, 96, 46, 42, 180, 0, 68, 21, 8, 5]
abbrev dktX7_rates_5 : List UInt8 := dkwX7_rates_5 ++ dktX7_rates_6
def dkwX7_rates_4 : List UInt8 := [180, 0, 65, 27, 46, 7, 100, 164, 0, 6, 16, 244, 172, 16, 40, 27, 104, 21, 7, 96, 54, 8, 21, 5]
abbrev dktX7_rates_4 : List UInt8 := dkwX7_rates_4 ++ dktX7_rates_5
def dkwX7_rates_3 : List UInt8 := [162, 0, 103, 29, 7, 21, 6, 104, 96, 54, 7, 29, 155, 0, 22, 21, 7, 29, 161, 0, 16, 21, 7, 42]
abbrev dktX7_rates_3 : List UInt8 := dkwX7_rates_3 ++ dktX7_rates_4
def dkwX7_rates_2 : List UInt8 := [180, 0, 62, 27, 46, 28, 159, 0, 6, 16, 243, 172, 3, 54, 5, 3, 54, 6, 21, 6, 21, 4]
abbrev dktX7_rates_2 : List UInt8 := dkwX7_rates_2 ++ dktX7_rates_3
def dkwX7_rates_1 : List UInt8 := [184, 0, 127, 154, 0, 6, 16, 254, 172, 42, 180, 0, 62, 27, 46, 2, 160, 0, 6, 16, 245, 172, 42]
abbrev dktX7_rates_1 : List UInt8 := dkwX7_rates_1 ++ dktX7_rates_2
def dkwX7_rates_0 : List UInt8 := [27, 3, 6, 184, 0, 127, 153, 0, 23, 28, 3, 5, 184, 0, 127, 153, 0, 14, 21, 4, 3, 16, 10]
abbrev dktX7_rates_0 : List UInt8 := dkwX7_rates_0 ++ dktX7_rates_1
theorem dksX7_rates_0 : cX7_rates.data.toList.drop 0 = dktX7_rates_0 := by decide +kernel
theorem dksX7_rates_1 : cX7_rates.data.toList.drop 23 = dktX7_rates_1 := dk_seg dksX7_rates_0 23 rfl rfl
theorem dksX7_rates_2 : cX7_rates.data.toList.drop 46 = dktX7_rates_2 := dk_seg dksX7_rates_1 23 rfl rfl
theorem dksX7_rates_3 : cX7_rates.data.toList.drop 68 = dktX7_rates_3 := dk_seg dksX7_rates_2 22 rfl rfl
theorem dksX7_rates_4 : cX7_rates.data.toList.drop 92 = dktX7_rates_4 := dk_seg dksX7_rates_3 24 rfl rfl
theorem dksX7_rates_5 : cX7_rates.data.toList.drop 116 = dktX7_rates_5 := dk_seg dksX7_rates_4 24 rfl rfl
theorem dksX7_rates_6 : cX7_rates.data.toList.drop 140 = dktX7_rates_6 := dk_seg dksX7_rates_5 24 rfl rfl
theorem dksX7_rates_7 : cX7_rates.data.toList.drop 163 = dktX7_rates_7 := dk_seg dksX7_rates_6 23 rfl rfl
theorem dX7_rates_0 : decode cX7_rates 0 = .ok (.iload_n 1, 1) := dk_27 (dk_at dksX7_rates_0 0 rfl rfl)
theorem dX7_rates_1 : decode cX7_rates 1 = .ok (.iconst 0, 1) := dk_3 (dk_at dksX7_rates_0 1 rfl rfl)
theorem dX7_rates_2 : decode cX7_rates 2 = .ok (.iconst 3, 1) := dk_6 (dk_at dksX7_rates_0 2 rfl rfl)
theorem dX7_rates_3 : decode cX7_rates 3 = .ok (.invokestatic 127, 3) := dk_184 0 127 (dk_at dksX7_rates_0 3 rfl rfl)
theorem dX7_rates_6 : decode cX7_rates 6 = .ok (.ifCond .eq 23, 3) := dk_153 0 23 (dk_at dksX7_rates_0 6 rfl rfl)
theorem dX7_rates_9 : decode cX7_rates 9 = .ok (.iload_n 2, 1) := dk_28 (dk_at dksX7_rates_0 9 rfl rfl)
theorem dX7_rates_10 : decode cX7_rates 10 = .ok (.iconst 0, 1) := dk_3 (dk_at dksX7_rates_0 10 rfl rfl)
theorem dX7_rates_11 : decode cX7_rates 11 = .ok (.iconst 2, 1) := dk_5 (dk_at dksX7_rates_0 11 rfl rfl)
theorem dX7_rates_12 : decode cX7_rates 12 = .ok (.invokestatic 127, 3) := dk_184 0 127 (dk_at dksX7_rates_0 12 rfl rfl)
theorem dX7_rates_15 : decode cX7_rates 15 = .ok (.ifCond .eq 14, 3) := dk_153 0 14 (dk_at dksX7_rates_0 15 rfl rfl)
theorem dX7_rates_18 : decode cX7_rates 18 = .ok (.iload 4, 2) := dk_21 4 (dk_at dksX7_rates_0 18 rfl rfl)
theorem dX7_rates_20 : decode cX7_rates 20 = .ok (.iconst 0, 1) := dk_3 (dk_at dksX7_rates_0 20 rfl rfl)
theorem dX7_rates_21 : decode cX7_rates 21 = .ok (.bipush 10, 2) := dk_16 10 (dk_at dksX7_rates_0 21 rfl rfl)
theorem dX7_rates_23 : decode cX7_rates 23 = .ok (.invokestatic 127, 3) := dk_184 0 127 (dk_at dksX7_rates_1 0 rfl rfl)
theorem dX7_rates_26 : decode cX7_rates 26 = .ok (.ifCond .ne 6, 3) := dk_154 0 6 (dk_at dksX7_rates_1 3 rfl rfl)
theorem dX7_rates_29 : decode cX7_rates 29 = .ok (.bipush (-2), 2) := dk_16 254 (dk_at dksX7_rates_1 6 rfl rfl)
theorem dX7_rates_31 : decode cX7_rates 31 = .ok (.ireturn, 1) := dk_172 (dk_at dksX7_rates_1 8 rfl rfl)
theorem dX7_rates_32 : decode cX7_rates 32 = .ok (.aload_n 0, 1) := dk_42 (dk_at dksX7_rates_1 9 rfl rfl)
theorem dX7_rates_33 : decode cX7_rates 33 = .ok (.getfield 62, 3) := dk_180 0 62 (dk_at dksX7_rates_1 10 rfl rfl)
theorem dX7_rates_36 : decode cX7_rates 36 = .ok (.iload_n 1, 1) := dk_27 (dk_at dksX7_rates_1 13 rfl rfl)
theorem dX7_rates_37 : decode cX7_rates 37 = .ok (.iaload, 1) := dk_46 (dk_at dksX7_rates_1 14 rfl rfl)
theorem dX7_rates_38 : decode cX7_rates 38 = .ok (.iconst (-1), 1) := dk_2 (dk_at dksX7_rates_1 15 rfl rfl)
theorem dX7_rates_39 : decode cX7_rates 39 = .ok (.if_icmp .ne 6, 3) := dk_160 0 6 (dk_at dksX7_rates_1 16 rfl rfl)
theorem dX7_rates_42 : decode cX7_rates 42 = .ok (.bipush (-11), 2) := dk_16 245 (dk_at dksX7_rates_1 19 rfl rfl)
theorem dX7_rates_44 : decode cX7_rates 44 = .ok (.ireturn, 1) := dk_172 (dk_at dksX7_rates_1 21 rfl rfl)
theorem dX7_rates_45 : decode cX7_rates 45 = .ok (.aload_n 0, 1) := dk_42 (dk_at dksX7_rates_1 22 rfl rfl)
theorem dX7_rates_46 : decode cX7_rates 46 = .ok (.getfield 62, 3) := dk_180 0 62 (dk_at dksX7_rates_2 0 rfl rfl)
theorem dX7_rates_49 : decode cX7_rates 49 = .ok (.iload_n 1, 1) := dk_27 (dk_at dksX7_rates_2 3 rfl rfl)
theorem dX7_rates_50 : decode cX7_rates 50 = .ok (.iaload, 1) := dk_46 (dk_at dksX7_rates_2 4 rfl rfl)
theorem dX7_rates_51 : decode cX7_rates 51 = .ok (.iload_n 2, 1) := dk_28 (dk_at dksX7_rates_2 5 rfl rfl)
theorem dX7_rates_52 : decode cX7_rates 52 = .ok (.if_icmp .eq 6, 3) := dk_159 0 6 (dk_at dksX7_rates_2 6 rfl rfl)
theorem dX7_rates_55 : decode cX7_rates 55 = .ok (.bipush (-13), 2) := dk_16 243 (dk_at dksX7_rates_2 9 rfl rfl)
theorem dX7_rates_57 : decode cX7_rates 57 = .ok (.ireturn, 1) := dk_172 (dk_at dksX7_rates_2 11 rfl rfl)
theorem dX7_rates_58 : decode cX7_rates 58 = .ok (.iconst 0, 1) := dk_3 (dk_at dksX7_rates_2 12 rfl rfl)
theorem dX7_rates_59 : decode cX7_rates 59 = .ok (.istore 5, 2) := dk_54 5 (dk_at dksX7_rates_2 13 rfl rfl)
theorem dX7_rates_61 : decode cX7_rates 61 = .ok (.iconst 0, 1) := dk_3 (dk_at dksX7_rates_2 15 rfl rfl)
theorem dX7_rates_62 : decode cX7_rates 62 = .ok (.istore 6, 2) := dk_54 6 (dk_at dksX7_rates_2 16 rfl rfl)
theorem dX7_rates_64 : decode cX7_rates 64 = .ok (.iload 6, 2) := dk_21 6 (dk_at dksX7_rates_2 18 rfl rfl)
theorem dX7_rates_66 : decode cX7_rates 66 = .ok (.iload 4, 2) := dk_21 4 (dk_at dksX7_rates_2 20 rfl rfl)
theorem dX7_rates_68 : decode cX7_rates 68 = .ok (.if_icmp .ge 103, 3) := dk_162 0 103 (dk_at dksX7_rates_3 0 rfl rfl)
theorem dX7_rates_71 : decode cX7_rates 71 = .ok (.iload_n 3, 1) := dk_29 (dk_at dksX7_rates_3 3 rfl rfl)
theorem dX7_rates_72 : decode cX7_rates 72 = .ok (.iconst 4, 1) := dk_7 (dk_at dksX7_rates_3 4 rfl rfl)
theorem dX7_rates_73 : decode cX7_rates 73 = .ok (.iload 6, 2) := dk_21 6 (dk_at dksX7_rates_3 5 rfl rfl)
theorem dX7_rates_75 : decode cX7_rates 75 = .ok (.imul, 1) := dk_104 (dk_at dksX7_rates_3 7 rfl rfl)
theorem dX7_rates_76 : decode cX7_rates 76 = .ok (.iadd, 1) := dk_96 (dk_at dksX7_rates_3 8 rfl rfl)
theorem dX7_rates_77 : decode cX7_rates 77 = .ok (.istore 7, 2) := dk_54 7 (dk_at dksX7_rates_3 9 rfl rfl)
theorem dX7_rates_79 : decode cX7_rates 79 = .ok (.iload_n 3, 1) := dk_29 (dk_at dksX7_rates_3 11 rfl rfl)
theorem dX7_rates_80 : decode cX7_rates 80 = .ok (.ifCond .lt 22, 3) := dk_155 0 22 (dk_at dksX7_rates_3 12 rfl rfl)
theorem dX7_rates_83 : decode cX7_rates 83 = .ok (.iload 7, 2) := dk_21 7 (dk_at dksX7_rates_3 15 rfl rfl)
theorem dX7_rates_85 : decode cX7_rates 85 = .ok (.iload_n 3, 1) := dk_29 (dk_at dksX7_rates_3 17 rfl rfl)
theorem dX7_rates_86 : decode cX7_rates 86 = .ok (.if_icmp .lt 16, 3) := dk_161 0 16 (dk_at dksX7_rates_3 18 rfl rfl)
theorem dX7_rates_89 : decode cX7_rates 89 = .ok (.iload 7, 2) := dk_21 7 (dk_at dksX7_rates_3 21 rfl rfl)
theorem dX7_rates_91 : decode cX7_rates 91 = .ok (.aload_n 0, 1) := dk_42 (dk_at dksX7_rates_3 23 rfl rfl)
theorem dX7_rates_92 : decode cX7_rates 92 = .ok (.getfield 65, 3) := dk_180 0 65 (dk_at dksX7_rates_4 0 rfl rfl)
theorem dX7_rates_95 : decode cX7_rates 95 = .ok (.iload_n 1, 1) := dk_27 (dk_at dksX7_rates_4 3 rfl rfl)
theorem dX7_rates_96 : decode cX7_rates 96 = .ok (.iaload, 1) := dk_46 (dk_at dksX7_rates_4 4 rfl rfl)
theorem dX7_rates_97 : decode cX7_rates 97 = .ok (.iconst 4, 1) := dk_7 (dk_at dksX7_rates_4 5 rfl rfl)
theorem dX7_rates_98 : decode cX7_rates 98 = .ok (.isub, 1) := dk_100 (dk_at dksX7_rates_4 6 rfl rfl)
theorem dX7_rates_99 : decode cX7_rates 99 = .ok (.if_icmp .le 6, 3) := dk_164 0 6 (dk_at dksX7_rates_4 7 rfl rfl)
theorem dX7_rates_102 : decode cX7_rates 102 = .ok (.bipush (-12), 2) := dk_16 244 (dk_at dksX7_rates_4 10 rfl rfl)
theorem dX7_rates_104 : decode cX7_rates 104 = .ok (.ireturn, 1) := dk_172 (dk_at dksX7_rates_4 12 rfl rfl)
theorem dX7_rates_105 : decode cX7_rates 105 = .ok (.bipush 40, 2) := dk_16 40 (dk_at dksX7_rates_4 13 rfl rfl)
theorem dX7_rates_107 : decode cX7_rates 107 = .ok (.iload_n 1, 1) := dk_27 (dk_at dksX7_rates_4 15 rfl rfl)
theorem dX7_rates_108 : decode cX7_rates 108 = .ok (.imul, 1) := dk_104 (dk_at dksX7_rates_4 16 rfl rfl)
theorem dX7_rates_109 : decode cX7_rates 109 = .ok (.iload 7, 2) := dk_21 7 (dk_at dksX7_rates_4 17 rfl rfl)
theorem dX7_rates_111 : decode cX7_rates 111 = .ok (.iadd, 1) := dk_96 (dk_at dksX7_rates_4 19 rfl rfl)
theorem dX7_rates_112 : decode cX7_rates 112 = .ok (.istore 8, 2) := dk_54 8 (dk_at dksX7_rates_4 20 rfl rfl)
theorem dX7_rates_114 : decode cX7_rates 114 = .ok (.iload 5, 2) := dk_21 5 (dk_at dksX7_rates_4 22 rfl rfl)
theorem dX7_rates_116 : decode cX7_rates 116 = .ok (.aload_n 0, 1) := dk_42 (dk_at dksX7_rates_5 0 rfl rfl)
theorem dX7_rates_117 : decode cX7_rates 117 = .ok (.aload_n 0, 1) := dk_42 (dk_at dksX7_rates_5 1 rfl rfl)
theorem dX7_rates_118 : decode cX7_rates 118 = .ok (.getfield 68, 3) := dk_180 0 68 (dk_at dksX7_rates_5 2 rfl rfl)
theorem dX7_rates_121 : decode cX7_rates 121 = .ok (.iload 8, 2) := dk_21 8 (dk_at dksX7_rates_5 5 rfl rfl)
theorem dX7_rates_123 : decode cX7_rates 123 = .ok (.iaload, 1) := dk_46 (dk_at dksX7_rates_5 7 rfl rfl)
theorem dX7_rates_124 : decode cX7_rates 124 = .ok (.aload_n 0, 1) := dk_42 (dk_at dksX7_rates_5 8 rfl rfl)
theorem dX7_rates_125 : decode cX7_rates 125 = .ok (.getfield 68, 3) := dk_180 0 68 (dk_at dksX7_rates_5 9 rfl rfl)
theorem dX7_rates_128 : decode cX7_rates 128 = .ok (.iload 8, 2) := dk_21 8 (dk_at dksX7_rates_5 12 rfl rfl)
theorem dX7_rates_130 : decode cX7_rates 130 = .ok (.iconst 1, 1) := dk_4 (dk_at dksX7_rates_5 14 rfl rfl)
theorem dX7_rates_131 : decode cX7_rates 131 = .ok (.iadd, 1) := dk_96 (dk_at dksX7_rates_5 15 rfl rfl)
theorem dX7_rates_132 : decode cX7_rates 132 = .ok (.iaload, 1) := dk_46 (dk_at dksX7_rates_5 16 rfl rfl)
theorem dX7_rates_133 : decode cX7_rates 133 = .ok (.aload_n 0, 1) := dk_42 (dk_at dksX7_rates_5 17 rfl rfl)
theorem dX7_rates_134 : decode cX7_rates 134 = .ok (.getfield 68, 3) := dk_180 0 68 (dk_at dksX7_rates_5 18 rfl rfl)
theorem dX7_rates_137 : decode cX7_rates 137 = .ok (.iload 8, 2) := dk_21 8 (dk_at dksX7_rates_5 21 rfl rfl)
theorem dX7_rates_139 : decode cX7_rates 139 = .ok (.iconst 2, 1) := dk_5 (dk_at dksX7_rates_5 23 rfl rfl)
theorem dX7_rates_140 : decode cX7_rates 140 = .ok (.iadd, 1) := dk_96 (dk_at dksX7_rates_6 0 rfl rfl)
theorem dX7_rates_141 : decode cX7_rates 141 = .ok (.iaload, 1) := dk_46 (dk_at dksX7_rates_6 1 rfl rfl)
theorem dX7_rates_142 : decode cX7_rates 142 = .ok (.aload_n 0, 1) := dk_42 (dk_at dksX7_rates_6 2 rfl rfl)
theorem dX7_rates_143 : decode cX7_rates 143 = .ok (.getfield 68, 3) := dk_180 0 68 (dk_at dksX7_rates_6 3 rfl rfl)
theorem dX7_rates_146 : decode cX7_rates 146 = .ok (.iload 8, 2) := dk_21 8 (dk_at dksX7_rates_6 6 rfl rfl)
theorem dX7_rates_148 : decode cX7_rates 148 = .ok (.iconst 3, 1) := dk_6 (dk_at dksX7_rates_6 8 rfl rfl)
theorem dX7_rates_149 : decode cX7_rates 149 = .ok (.iadd, 1) := dk_96 (dk_at dksX7_rates_6 9 rfl rfl)
theorem dX7_rates_150 : decode cX7_rates 150 = .ok (.iaload, 1) := dk_46 (dk_at dksX7_rates_6 10 rfl rfl)
theorem dX7_rates_151 : decode cX7_rates 151 = .ok (.invokevirtual 313, 3) := dk_182 1 57 (dk_at dksX7_rates_6 11 rfl rfl)
theorem dX7_rates_154 : decode cX7_rates 154 = .ok (.ifCond .lt 7, 3) := dk_155 0 7 (dk_at dksX7_rates_6 14 rfl rfl)
theorem dX7_rates_157 : decode cX7_rates 157 = .ok (.iconst 1, 1) := dk_4 (dk_at dksX7_rates_6 17 rfl rfl)
theorem dX7_rates_158 : decode cX7_rates 158 = .ok (.goto 4, 3) := dk_167 0 4 (dk_at dksX7_rates_6 18 rfl rfl)
theorem dX7_rates_161 : decode cX7_rates 161 = .ok (.iconst 0, 1) := dk_3 (dk_at dksX7_rates_6 21 rfl rfl)
theorem dX7_rates_162 : decode cX7_rates 162 = .ok (.iadd, 1) := dk_96 (dk_at dksX7_rates_6 22 rfl rfl)
theorem dX7_rates_163 : decode cX7_rates 163 = .ok (.istore 5, 2) := dk_54 5 (dk_at dksX7_rates_7 0 rfl rfl)
theorem dX7_rates_165 : decode cX7_rates 165 = .ok (.iinc 6 1, 3) := dk_132 6 1 (dk_at dksX7_rates_7 2 rfl rfl)
theorem dX7_rates_168 : decode cX7_rates 168 = .ok (.goto (-104), 3) := dk_167 255 152 (dk_at dksX7_rates_7 5 rfl rfl)
theorem dX7_rates_171 : decode cX7_rates 171 = .ok (.iload 5, 2) := dk_21 5 (dk_at dksX7_rates_7 8 rfl rfl)
theorem dX7_rates_173 : decode cX7_rates 173 = .ok (.ireturn, 1) := dk_172 (dk_at dksX7_rates_7 10 rfl rfl)
abbrev cX7_taken : ByteArray := prog_20_method_73_code
def yX7_taken : MethodName := ⟨RX7, "taken", "(II)I"⟩
def dkwX7_taken_4 : List UInt8 := [100, 46, 28, 184, 1, 60, 153, 0, 10, 27, 16, 16, 100, 167, 0, 5, 16, 243, 172]
abbrev dktX7_taken_4 : List UInt8 := dkwX7_taken_4 ++ []
def dkwX7_taken_3 : List UInt8 := [180, 0, 214, 161, 0, 8, 16, 245, 167, 0, 34, 28, 16, 6, 162, 0, 26, 42, 180, 0, 28, 27, 16, 16]
abbrev dktX7_taken_3 : List UInt8 := dkwX7_taken_3 ++ dktX7_taken_4
def dkwX7_taken_2 : List UInt8 := [16, 6, 160, 0, 12, 42, 180, 0, 25, 27, 46, 167, 0, 5, 16, 243, 172, 27, 16, 16, 100, 42]
abbrev dktX7_taken_2 : List UInt8 := dkwX7_taken_2 ++ dktX7_taken_3
def dkwX7_taken_1 : List UInt8 := [16, 244, 172, 27, 16, 16, 162, 0, 34, 27, 42, 180, 0, 142, 161, 0, 8, 16, 245, 167, 0, 20, 28]
abbrev dktX7_taken_1 : List UInt8 := dkwX7_taken_1 ++ dktX7_taken_2
def dkwX7_taken_0 : List UInt8 := [28, 3, 16, 6, 184, 0, 127, 154, 0, 6, 16, 254, 172, 27, 3, 16, 23, 184, 0, 127, 154, 0, 6]
abbrev dktX7_taken_0 : List UInt8 := dkwX7_taken_0 ++ dktX7_taken_1
theorem dksX7_taken_0 : cX7_taken.data.toList.drop 0 = dktX7_taken_0 := by decide +kernel
theorem dksX7_taken_1 : cX7_taken.data.toList.drop 23 = dktX7_taken_1 := dk_seg dksX7_taken_0 23 rfl rfl
theorem dksX7_taken_2 : cX7_taken.data.toList.drop 46 = dktX7_taken_2 := dk_seg dksX7_taken_1 23 rfl rfl
theorem dksX7_taken_3 : cX7_taken.data.toList.drop 68 = dktX7_taken_3 := dk_seg dksX7_taken_2 22 rfl rfl
theorem dksX7_taken_4 : cX7_taken.data.toList.drop 92 = dktX7_taken_4 := dk_seg dksX7_taken_3 24 rfl rfl
theorem dX7_taken_0 : decode cX7_taken 0 = .ok (.iload_n 2, 1) := dk_28 (dk_at dksX7_taken_0 0 rfl rfl)
theorem dX7_taken_1 : decode cX7_taken 1 = .ok (.iconst 0, 1) := dk_3 (dk_at dksX7_taken_0 1 rfl rfl)
theorem dX7_taken_2 : decode cX7_taken 2 = .ok (.bipush 6, 2) := dk_16 6 (dk_at dksX7_taken_0 2 rfl rfl)
theorem dX7_taken_4 : decode cX7_taken 4 = .ok (.invokestatic 127, 3) := dk_184 0 127 (dk_at dksX7_taken_0 4 rfl rfl)
theorem dX7_taken_7 : decode cX7_taken 7 = .ok (.ifCond .ne 6, 3) := dk_154 0 6 (dk_at dksX7_taken_0 7 rfl rfl)
theorem dX7_taken_10 : decode cX7_taken 10 = .ok (.bipush (-2), 2) := dk_16 254 (dk_at dksX7_taken_0 10 rfl rfl)
theorem dX7_taken_12 : decode cX7_taken 12 = .ok (.ireturn, 1) := dk_172 (dk_at dksX7_taken_0 12 rfl rfl)
theorem dX7_taken_13 : decode cX7_taken 13 = .ok (.iload_n 1, 1) := dk_27 (dk_at dksX7_taken_0 13 rfl rfl)
theorem dX7_taken_14 : decode cX7_taken 14 = .ok (.iconst 0, 1) := dk_3 (dk_at dksX7_taken_0 14 rfl rfl)
theorem dX7_taken_15 : decode cX7_taken 15 = .ok (.bipush 23, 2) := dk_16 23 (dk_at dksX7_taken_0 15 rfl rfl)
theorem dX7_taken_17 : decode cX7_taken 17 = .ok (.invokestatic 127, 3) := dk_184 0 127 (dk_at dksX7_taken_0 17 rfl rfl)
theorem dX7_taken_20 : decode cX7_taken 20 = .ok (.ifCond .ne 6, 3) := dk_154 0 6 (dk_at dksX7_taken_0 20 rfl rfl)
theorem dX7_taken_23 : decode cX7_taken 23 = .ok (.bipush (-12), 2) := dk_16 244 (dk_at dksX7_taken_1 0 rfl rfl)
theorem dX7_taken_25 : decode cX7_taken 25 = .ok (.ireturn, 1) := dk_172 (dk_at dksX7_taken_1 2 rfl rfl)
theorem dX7_taken_26 : decode cX7_taken 26 = .ok (.iload_n 1, 1) := dk_27 (dk_at dksX7_taken_1 3 rfl rfl)
theorem dX7_taken_27 : decode cX7_taken 27 = .ok (.bipush 16, 2) := dk_16 16 (dk_at dksX7_taken_1 4 rfl rfl)
theorem dX7_taken_29 : decode cX7_taken 29 = .ok (.if_icmp .ge 34, 3) := dk_162 0 34 (dk_at dksX7_taken_1 6 rfl rfl)
theorem dX7_taken_32 : decode cX7_taken 32 = .ok (.iload_n 1, 1) := dk_27 (dk_at dksX7_taken_1 9 rfl rfl)
theorem dX7_taken_33 : decode cX7_taken 33 = .ok (.aload_n 0, 1) := dk_42 (dk_at dksX7_taken_1 10 rfl rfl)
theorem dX7_taken_34 : decode cX7_taken 34 = .ok (.getfield 142, 3) := dk_180 0 142 (dk_at dksX7_taken_1 11 rfl rfl)
theorem dX7_taken_37 : decode cX7_taken 37 = .ok (.if_icmp .lt 8, 3) := dk_161 0 8 (dk_at dksX7_taken_1 14 rfl rfl)
theorem dX7_taken_40 : decode cX7_taken 40 = .ok (.bipush (-11), 2) := dk_16 245 (dk_at dksX7_taken_1 17 rfl rfl)
theorem dX7_taken_42 : decode cX7_taken 42 = .ok (.goto 20, 3) := dk_167 0 20 (dk_at dksX7_taken_1 19 rfl rfl)
theorem dX7_taken_45 : decode cX7_taken 45 = .ok (.iload_n 2, 1) := dk_28 (dk_at dksX7_taken_1 22 rfl rfl)
theorem dX7_taken_46 : decode cX7_taken 46 = .ok (.bipush 6, 2) := dk_16 6 (dk_at dksX7_taken_2 0 rfl rfl)
theorem dX7_taken_48 : decode cX7_taken 48 = .ok (.if_icmp .ne 12, 3) := dk_160 0 12 (dk_at dksX7_taken_2 2 rfl rfl)
theorem dX7_taken_51 : decode cX7_taken 51 = .ok (.aload_n 0, 1) := dk_42 (dk_at dksX7_taken_2 5 rfl rfl)
theorem dX7_taken_52 : decode cX7_taken 52 = .ok (.getfield 25, 3) := dk_180 0 25 (dk_at dksX7_taken_2 6 rfl rfl)
theorem dX7_taken_55 : decode cX7_taken 55 = .ok (.iload_n 1, 1) := dk_27 (dk_at dksX7_taken_2 9 rfl rfl)
theorem dX7_taken_56 : decode cX7_taken 56 = .ok (.iaload, 1) := dk_46 (dk_at dksX7_taken_2 10 rfl rfl)
theorem dX7_taken_57 : decode cX7_taken 57 = .ok (.goto 5, 3) := dk_167 0 5 (dk_at dksX7_taken_2 11 rfl rfl)
theorem dX7_taken_60 : decode cX7_taken 60 = .ok (.bipush (-13), 2) := dk_16 243 (dk_at dksX7_taken_2 14 rfl rfl)
theorem dX7_taken_62 : decode cX7_taken 62 = .ok (.ireturn, 1) := dk_172 (dk_at dksX7_taken_2 16 rfl rfl)
theorem dX7_taken_63 : decode cX7_taken 63 = .ok (.iload_n 1, 1) := dk_27 (dk_at dksX7_taken_2 17 rfl rfl)
theorem dX7_taken_64 : decode cX7_taken 64 = .ok (.bipush 16, 2) := dk_16 16 (dk_at dksX7_taken_2 18 rfl rfl)
theorem dX7_taken_66 : decode cX7_taken 66 = .ok (.isub, 1) := dk_100 (dk_at dksX7_taken_2 20 rfl rfl)
theorem dX7_taken_67 : decode cX7_taken 67 = .ok (.aload_n 0, 1) := dk_42 (dk_at dksX7_taken_2 21 rfl rfl)
theorem dX7_taken_68 : decode cX7_taken 68 = .ok (.getfield 214, 3) := dk_180 0 214 (dk_at dksX7_taken_3 0 rfl rfl)
theorem dX7_taken_71 : decode cX7_taken 71 = .ok (.if_icmp .lt 8, 3) := dk_161 0 8 (dk_at dksX7_taken_3 3 rfl rfl)
theorem dX7_taken_74 : decode cX7_taken 74 = .ok (.bipush (-11), 2) := dk_16 245 (dk_at dksX7_taken_3 6 rfl rfl)
theorem dX7_taken_76 : decode cX7_taken 76 = .ok (.goto 34, 3) := dk_167 0 34 (dk_at dksX7_taken_3 8 rfl rfl)
theorem dX7_taken_79 : decode cX7_taken 79 = .ok (.iload_n 2, 1) := dk_28 (dk_at dksX7_taken_3 11 rfl rfl)
theorem dX7_taken_80 : decode cX7_taken 80 = .ok (.bipush 6, 2) := dk_16 6 (dk_at dksX7_taken_3 12 rfl rfl)
theorem dX7_taken_82 : decode cX7_taken 82 = .ok (.if_icmp .ge 26, 3) := dk_162 0 26 (dk_at dksX7_taken_3 14 rfl rfl)
theorem dX7_taken_85 : decode cX7_taken 85 = .ok (.aload_n 0, 1) := dk_42 (dk_at dksX7_taken_3 17 rfl rfl)
theorem dX7_taken_86 : decode cX7_taken 86 = .ok (.getfield 28, 3) := dk_180 0 28 (dk_at dksX7_taken_3 18 rfl rfl)
theorem dX7_taken_89 : decode cX7_taken 89 = .ok (.iload_n 1, 1) := dk_27 (dk_at dksX7_taken_3 21 rfl rfl)
theorem dX7_taken_90 : decode cX7_taken 90 = .ok (.bipush 16, 2) := dk_16 16 (dk_at dksX7_taken_3 22 rfl rfl)
theorem dX7_taken_92 : decode cX7_taken 92 = .ok (.isub, 1) := dk_100 (dk_at dksX7_taken_4 0 rfl rfl)
theorem dX7_taken_93 : decode cX7_taken 93 = .ok (.iaload, 1) := dk_46 (dk_at dksX7_taken_4 1 rfl rfl)
theorem dX7_taken_94 : decode cX7_taken 94 = .ok (.iload_n 2, 1) := dk_28 (dk_at dksX7_taken_4 2 rfl rfl)
theorem dX7_taken_95 : decode cX7_taken 95 = .ok (.invokestatic 316, 3) := dk_184 1 60 (dk_at dksX7_taken_4 3 rfl rfl)
theorem dX7_taken_98 : decode cX7_taken 98 = .ok (.ifCond .eq 10, 3) := dk_153 0 10 (dk_at dksX7_taken_4 6 rfl rfl)
theorem dX7_taken_101 : decode cX7_taken 101 = .ok (.iload_n 1, 1) := dk_27 (dk_at dksX7_taken_4 9 rfl rfl)
theorem dX7_taken_102 : decode cX7_taken 102 = .ok (.bipush 16, 2) := dk_16 16 (dk_at dksX7_taken_4 10 rfl rfl)
theorem dX7_taken_104 : decode cX7_taken 104 = .ok (.isub, 1) := dk_100 (dk_at dksX7_taken_4 12 rfl rfl)
theorem dX7_taken_105 : decode cX7_taken 105 = .ok (.goto 5, 3) := dk_167 0 5 (dk_at dksX7_taken_4 13 rfl rfl)
theorem dX7_taken_108 : decode cX7_taken 108 = .ok (.bipush (-13), 2) := dk_16 243 (dk_at dksX7_taken_4 16 rfl rfl)
theorem dX7_taken_110 : decode cX7_taken 110 = .ok (.ireturn, 1) := dk_172 (dk_at dksX7_taken_4 18 rfl rfl)
abbrev cX7_isUnder : ByteArray := prog_20_method_72_code
def yX7_isUnder : MethodName := ⟨RX7, "isUnder", "(II)Z"⟩
def dkwX7_isUnder_1 : List UInt8 := [26, 6, 160, 0, 7, 4, 167, 0, 4, 3, 172]
abbrev dktX7_isUnder_1 : List UInt8 := dkwX7_isUnder_1 ++ []
def dkwX7_isUnder_0 : List UInt8 := [27, 153, 0, 28, 26, 27, 159, 0, 23, 27, 4, 160, 0, 8, 26, 8, 159, 0, 13, 27, 5, 160, 0, 12]
abbrev dktX7_isUnder_0 : List UInt8 := dkwX7_isUnder_0 ++ dktX7_isUnder_1
theorem dksX7_isUnder_0 : cX7_isUnder.data.toList.drop 0 = dktX7_isUnder_0 := by decide +kernel
theorem dksX7_isUnder_1 : cX7_isUnder.data.toList.drop 24 = dktX7_isUnder_1 := dk_seg dksX7_isUnder_0 24 rfl rfl
theorem dX7_isUnder_0 : decode cX7_isUnder 0 = .ok (.iload_n 1, 1) := dk_27 (dk_at dksX7_isUnder_0 0 rfl rfl)
theorem dX7_isUnder_1 : decode cX7_isUnder 1 = .ok (.ifCond .eq 28, 3) := dk_153 0 28 (dk_at dksX7_isUnder_0 1 rfl rfl)
theorem dX7_isUnder_4 : decode cX7_isUnder 4 = .ok (.iload_n 0, 1) := dk_26 (dk_at dksX7_isUnder_0 4 rfl rfl)
theorem dX7_isUnder_5 : decode cX7_isUnder 5 = .ok (.iload_n 1, 1) := dk_27 (dk_at dksX7_isUnder_0 5 rfl rfl)
theorem dX7_isUnder_6 : decode cX7_isUnder 6 = .ok (.if_icmp .eq 23, 3) := dk_159 0 23 (dk_at dksX7_isUnder_0 6 rfl rfl)
theorem dX7_isUnder_9 : decode cX7_isUnder 9 = .ok (.iload_n 1, 1) := dk_27 (dk_at dksX7_isUnder_0 9 rfl rfl)
theorem dX7_isUnder_10 : decode cX7_isUnder 10 = .ok (.iconst 1, 1) := dk_4 (dk_at dksX7_isUnder_0 10 rfl rfl)
theorem dX7_isUnder_11 : decode cX7_isUnder 11 = .ok (.if_icmp .ne 8, 3) := dk_160 0 8 (dk_at dksX7_isUnder_0 11 rfl rfl)
theorem dX7_isUnder_14 : decode cX7_isUnder 14 = .ok (.iload_n 0, 1) := dk_26 (dk_at dksX7_isUnder_0 14 rfl rfl)
theorem dX7_isUnder_15 : decode cX7_isUnder 15 = .ok (.iconst 5, 1) := dk_8 (dk_at dksX7_isUnder_0 15 rfl rfl)
theorem dX7_isUnder_16 : decode cX7_isUnder 16 = .ok (.if_icmp .eq 13, 3) := dk_159 0 13 (dk_at dksX7_isUnder_0 16 rfl rfl)
theorem dX7_isUnder_19 : decode cX7_isUnder 19 = .ok (.iload_n 1, 1) := dk_27 (dk_at dksX7_isUnder_0 19 rfl rfl)
theorem dX7_isUnder_20 : decode cX7_isUnder 20 = .ok (.iconst 2, 1) := dk_5 (dk_at dksX7_isUnder_0 20 rfl rfl)
theorem dX7_isUnder_21 : decode cX7_isUnder 21 = .ok (.if_icmp .ne 12, 3) := dk_160 0 12 (dk_at dksX7_isUnder_0 21 rfl rfl)
theorem dX7_isUnder_24 : decode cX7_isUnder 24 = .ok (.iload_n 0, 1) := dk_26 (dk_at dksX7_isUnder_1 0 rfl rfl)
theorem dX7_isUnder_25 : decode cX7_isUnder 25 = .ok (.iconst 3, 1) := dk_6 (dk_at dksX7_isUnder_1 1 rfl rfl)
theorem dX7_isUnder_26 : decode cX7_isUnder 26 = .ok (.if_icmp .ne 7, 3) := dk_160 0 7 (dk_at dksX7_isUnder_1 2 rfl rfl)
theorem dX7_isUnder_29 : decode cX7_isUnder 29 = .ok (.iconst 1, 1) := dk_4 (dk_at dksX7_isUnder_1 5 rfl rfl)
theorem dX7_isUnder_30 : decode cX7_isUnder 30 = .ok (.goto 4, 3) := dk_167 0 4 (dk_at dksX7_isUnder_1 6 rfl rfl)
theorem dX7_isUnder_33 : decode cX7_isUnder 33 = .ok (.iconst 0, 1) := dk_3 (dk_at dksX7_isUnder_1 9 rfl rfl)
theorem dX7_isUnder_34 : decode cX7_isUnder 34 = .ok (.ireturn, 1) := dk_172 (dk_at dksX7_isUnder_1 10 rfl rfl)
theorem q88 : (Jvm.Cond.initialized "GateRoadModel") ∈ lw_all := lw_g (lw_at lw_m1 25 rfl) rfl
theorem q909 : (Jvm.Cond.selects "GateRoadModel" ({ cls := "java/lang/Object", name := "getClass", desc := "()Ljava/lang/Class;" } : Jvm.MethodName) ({ cls := "java/lang/Object", name := "getClass", desc := "()Ljava/lang/Class;" } : Jvm.MethodName)) ∈ lw_all := lw_g (lw_at lw_m4 126 rfl) rfl
theorem q1313 : (Jvm.Cond.instantiable "GateRoadModel" (49 : Nat)) ∈ lw_all := lw_g (lw_at lw_m6 50 rfl) rfl
theorem q1315 : (Jvm.Cond.instanceMethod ({ cls := "GateRoadModel", name := "<init>", desc := "()V" } : Jvm.MethodName)) ∈ lw_all := lw_g (lw_at lw_m6 52 rfl) rfl
theorem q1316 : (Jvm.Cond.code ({ cls := "GateRoadModel", name := "<init>", desc := "()V" } : Jvm.MethodName) prog_20_method_1_code (2 : Nat) (Option.none : Option Jvm.ClassFile.FieldType)) ∈ lw_all := lw_g (lw_at lw_m6 53 rfl) rfl
theorem q1317 : (Jvm.Cond.methodLink "GateRoadModel" (1 : Nat) ({ cls := "java/lang/Object", name := "<init>", desc := "()V" } : Jvm.MethodName)) ∈ lw_all := lw_g (lw_at lw_m6 54 rfl) rfl
theorem q1318 : (Jvm.Cond.constantLong "GateRoadModel" (71 : Nat) (1668248436 : Int64)) ∈ lw_all := lw_g (lw_at lw_m6 55 rfl) rfl
theorem q1319 : (Jvm.Cond.constantLong "GateRoadModel" (73 : Nat) (1819243380 : Int64)) ∈ lw_all := lw_g (lw_at lw_m6 56 rfl) rfl
theorem q1320 : (Jvm.Cond.constantLong "GateRoadModel" (75 : Nat) (2002872692 : Int64)) ∈ lw_all := lw_g (lw_at lw_m6 57 rfl) rfl
theorem q1321 : (Jvm.Cond.constantLong "GateRoadModel" (77 : Nat) (435426585721 : Int64)) ∈ lw_all := lw_g (lw_at lw_m6 58 rfl) rfl
theorem q1322 : (Jvm.Cond.constantLong "GateRoadModel" (79 : Nat) (1818326117 : Int64)) ∈ lw_all := lw_g (lw_at lw_m6 59 rfl) rfl
theorem q1323 : (Jvm.Cond.constantLong "GateRoadModel" (81 : Nat) (120299592184933 : Int64)) ∈ lw_all := lw_g (lw_at lw_m6 60 rfl) rfl
theorem q1324 : (Jvm.Cond.constantLong "GateRoadModel" (83 : Nat) (1936683636 : Int64)) ∈ lw_all := lw_g (lw_at lw_m6 61 rfl) rfl
theorem q1325 : (Jvm.Cond.constantLong "GateRoadModel" (85 : Nat) (1953459308 : Int64)) ∈ lw_all := lw_g (lw_at lw_m6 62 rfl) rfl
theorem q1326 : (Jvm.Cond.constantLong "GateRoadModel" (87 : Nat) (28530 : Int64)) ∈ lw_all := lw_g (lw_at lw_m6 63 rfl) rfl
theorem q1327 : (Jvm.Cond.constantLong "GateRoadModel" (89 : Nat) (6385252 : Int64)) ∈ lw_all := lw_g (lw_at lw_m6 64 rfl) rfl
theorem q1328 : (Jvm.Cond.constantLong "GateRoadModel" (91 : Nat) (7237492 : Int64)) ∈ lw_all := lw_g (lw_at lw_m6 65 rfl) rfl
theorem q1329 : (Jvm.Cond.constant "GateRoadModel" (121 : Nat) (100002 : Int32)) ∈ lw_all := lw_g (lw_at lw_m6 66 rfl) rfl
theorem q1330 : (Jvm.Cond.methodLink "GateRoadModel" (122 : Nat) ({ cls := "GateRoadModel", name := "first", desc := "(IIIII)V" } : Jvm.MethodName)) ∈ lw_all := lw_g (lw_at lw_m6 67 rfl) rfl
theorem q1331 : (Jvm.Cond.privateMethod ({ cls := "GateRoadModel", name := "first", desc := "(IIIII)V" } : Jvm.MethodName)) ∈ lw_tbl := lw_at lw_m6 68 rfl
theorem q1332 : (Jvm.Cond.instanceMethod ({ cls := "GateRoadModel", name := "first", desc := "(IIIII)V" } : Jvm.MethodName)) ∈ lw_all := lw_g (lw_at lw_m6 69 rfl) rfl
theorem q1333 : (Jvm.Cond.code ({ cls := "GateRoadModel", name := "first", desc := "(IIIII)V" } : Jvm.MethodName) prog_20_method_2_code (6 : Nat) (Option.none : Option Jvm.ClassFile.FieldType)) ∈ lw_all := lw_g (lw_at lw_m6 70 rfl) rfl
theorem q1334 : (Jvm.Cond.constant "GateRoadModel" (126 : Nat) (100003 : Int32)) ∈ lw_all := lw_g (lw_at lw_m6 71 rfl) rfl
theorem q1335 : (Jvm.Cond.fieldLink "GateRoadModel" (7 : Nat) "GateRoadModel" "rate" "[I") ∈ lw_all := lw_g (lw_at lw_m6 72 rfl) rfl
theorem q1336 : (Jvm.Cond.fieldLink "GateRoadModel" (13 : Nat) "GateRoadModel" "toll" "[I") ∈ lw_all := lw_g (lw_at lw_m6 73 rfl) rfl
theorem q1337 : (Jvm.Cond.fieldLink "GateRoadModel" (135 : Nat) "GateRoadModel" "sorts" "I") ∈ lw_all := lw_g (lw_at lw_m6 74 rfl) rfl
theorem q1338 : (Jvm.Cond.fieldLink "GateRoadModel" (16 : Nat) "GateRoadModel" "wished" "[I") ∈ lw_all := lw_g (lw_at lw_m6 75 rfl) rfl
theorem q1339 : (Jvm.Cond.fieldLink "GateRoadModel" (19 : Nat) "GateRoadModel" "stays" "[I") ∈ lw_all := lw_g (lw_at lw_m6 76 rfl) rfl
theorem q1340 : (Jvm.Cond.fieldLink "GateRoadModel" (22 : Nat) "GateRoadModel" "road" "[I") ∈ lw_all := lw_g (lw_at lw_m6 77 rfl) rfl
theorem q1341 : (Jvm.Cond.fieldLink "GateRoadModel" (142 : Nat) "GateRoadModel" "carts" "I") ∈ lw_all := lw_g (lw_at lw_m6 78 rfl) rfl
theorem q1342 : (Jvm.Cond.fieldLink "GateRoadModel" (25 : Nat) "GateRoadModel" "sortOf" "[I") ∈ lw_all := lw_g (lw_at lw_m6 79 rfl) rfl
theorem q1343 : (Jvm.Cond.fieldLink "GateRoadModel" (214 : Nat) "GateRoadModel" "ways" "I") ∈ lw_all := lw_g (lw_at lw_m6 80 rfl) rfl
theorem q1344 : (Jvm.Cond.fieldLink "GateRoadModel" (28 : Nat) "GateRoadModel" "kind" "[I") ∈ lw_all := lw_g (lw_at lw_m6 81 rfl) rfl
theorem q1345 : (Jvm.Cond.fieldLink "GateRoadModel" (31 : Nat) "GateRoadModel" "many" "[I") ∈ lw_all := lw_g (lw_at lw_m6 82 rfl) rfl
theorem q1346 : (Jvm.Cond.fieldLink "GateRoadModel" (34 : Nat) "GateRoadModel" "choice" "[I") ∈ lw_all := lw_g (lw_at lw_m6 83 rfl) rfl
theorem q1347 : (Jvm.Cond.fieldLink "GateRoadModel" (37 : Nat) "GateRoadModel" "tape" "[I") ∈ lw_all := lw_g (lw_at lw_m6 84 rfl) rfl
theorem q1348 : (Jvm.Cond.fieldLink "GateRoadModel" (145 : Nat) "GateRoadModel" "taped" "I") ∈ lw_all := lw_g (lw_at lw_m6 85 rfl) rfl
theorem q1349 : (Jvm.Cond.fieldLink "GateRoadModel" (40 : Nat) "GateRoadModel" "codes" "[I") ∈ lw_all := lw_g (lw_at lw_m6 86 rfl) rfl
theorem q1350 : (Jvm.Cond.fieldLink "GateRoadModel" (43 : Nat) "GateRoadModel" "starts" "[I") ∈ lw_all := lw_g (lw_at lw_m6 87 rfl) rfl
theorem q1351 : (Jvm.Cond.fieldLink "GateRoadModel" (46 : Nat) "GateRoadModel" "texts" "I") ∈ lw_all := lw_g (lw_at lw_m6 88 rfl) rfl
theorem q1352 : (Jvm.Cond.fieldLink "GateRoadModel" (207 : Nat) "GateRoadModel" "rule" "I") ∈ lw_all := lw_g (lw_at lw_m6 89 rfl) rfl
theorem q1353 : (Jvm.Cond.fieldLink "GateRoadModel" (300 : Nat) "GateRoadModel" "hasImage" "Z") ∈ lw_all := lw_g (lw_at lw_m6 90 rfl) rfl
theorem q1354 : (Jvm.Cond.fieldLink "GateRoadModel" (304 : Nat) "GateRoadModel" "imageSorts" "I") ∈ lw_all := lw_g (lw_at lw_m6 91 rfl) rfl
theorem q1355 : (Jvm.Cond.fieldLink "GateRoadModel" (307 : Nat) "GateRoadModel" "imageWays" "I") ∈ lw_all := lw_g (lw_at lw_m6 92 rfl) rfl
theorem q1356 : (Jvm.Cond.fieldLink "GateRoadModel" (310 : Nat) "GateRoadModel" "imageRule" "I") ∈ lw_all := lw_g (lw_at lw_m6 93 rfl) rfl
theorem q1357 : (Jvm.Cond.fieldLink "GateRoadModel" (50 : Nat) "GateRoadModel" "imageRate" "[I") ∈ lw_all := lw_g (lw_at lw_m6 94 rfl) rfl
theorem q1358 : (Jvm.Cond.fieldLink "GateRoadModel" (53 : Nat) "GateRoadModel" "imageToll" "[I") ∈ lw_all := lw_g (lw_at lw_m6 95 rfl) rfl
theorem q1359 : (Jvm.Cond.fieldLink "GateRoadModel" (56 : Nat) "GateRoadModel" "imageWished" "[I") ∈ lw_all := lw_g (lw_at lw_m6 96 rfl) rfl
theorem q1360 : (Jvm.Cond.fieldLink "GateRoadModel" (59 : Nat) "GateRoadModel" "imageChoice" "[I") ∈ lw_all := lw_g (lw_at lw_m6 97 rfl) rfl
theorem q1361 : (Jvm.Cond.fieldLink "GateRoadModel" (62 : Nat) "GateRoadModel" "sheetSort" "[I") ∈ lw_all := lw_g (lw_at lw_m6 98 rfl) rfl
theorem q1362 : (Jvm.Cond.fieldLink "GateRoadModel" (65 : Nat) "GateRoadModel" "sheetSize" "[I") ∈ lw_all := lw_g (lw_at lw_m6 99 rfl) rfl
theorem q1363 : (Jvm.Cond.fieldLink "GateRoadModel" (68 : Nat) "GateRoadModel" "cells" "[I") ∈ lw_all := lw_g (lw_at lw_m6 100 rfl) rfl
theorem q1364 : (Jvm.Cond.fieldLink "GateRoadModel" (150 : Nat) "GateRoadModel" "at" "I") ∈ lw_all := lw_g (lw_at lw_m6 101 rfl) rfl
theorem q1365 : (Jvm.Cond.fieldLink "GateRoadModel" (153 : Nat) "GateRoadModel" "begun" "I") ∈ lw_all := lw_g (lw_at lw_m6 102 rfl) rfl
theorem q1366 : (Jvm.Cond.fieldLink "GateRoadModel" (156 : Nat) "GateRoadModel" "token" "I") ∈ lw_all := lw_g (lw_at lw_m6 103 rfl) rfl
theorem q1367 : (Jvm.Cond.fieldLink "GateRoadModel" (159 : Nat) "GateRoadModel" "value" "I") ∈ lw_all := lw_g (lw_at lw_m6 104 rfl) rfl
theorem q1368 : (Jvm.Cond.fieldLink "GateRoadModel" (93 : Nat) "GateRoadModel" "words" "[J") ∈ lw_all := lw_g (lw_at lw_m6 105 rfl) rfl
theorem q1369 : (Jvm.Cond.fieldLink "GateRoadModel" (97 : Nat) "GateRoadModel" "held" "[I") ∈ lw_all := lw_g (lw_at lw_m6 106 rfl) rfl
theorem q1370 : (Jvm.Cond.fieldLink "GateRoadModel" (169 : Nat) "GateRoadModel" "heldMany" "I") ∈ lw_all := lw_g (lw_at lw_m6 107 rfl) rfl
theorem q1371 : (Jvm.Cond.fieldLink "GateRoadModel" (176 : Nat) "GateRoadModel" "opens" "I") ∈ lw_all := lw_g (lw_at lw_m6 108 rfl) rfl
theorem q1372 : (Jvm.Cond.fieldLink "GateRoadModel" (166 : Nat) "GateRoadModel" "out" "I") ∈ lw_all := lw_g (lw_at lw_m6 109 rfl) rfl
theorem q1373 : (Jvm.Cond.fieldLink "GateRoadModel" (100 : Nat) "GateRoadModel" "stack" "[I") ∈ lw_all := lw_g (lw_at lw_m6 110 rfl) rfl
theorem q1374 : (Jvm.Cond.fieldLink "GateRoadModel" (103 : Nat) "GateRoadModel" "named" "[I") ∈ lw_all := lw_g (lw_at lw_m6 111 rfl) rfl
theorem q1375 : (Jvm.Cond.fieldLink "GateRoadModel" (106 : Nat) "GateRoadModel" "now" "[I") ∈ lw_all := lw_g (lw_at lw_m6 112 rfl) rfl
theorem q1376 : (Jvm.Cond.fieldLink "GateRoadModel" (109 : Nat) "GateRoadModel" "came" "[I") ∈ lw_all := lw_g (lw_at lw_m6 113 rfl) rfl
theorem q1377 : (Jvm.Cond.fieldLink "GateRoadModel" (112 : Nat) "GateRoadModel" "passed" "[I") ∈ lw_all := lw_g (lw_at lw_m6 114 rfl) rfl
theorem q1378 : (Jvm.Cond.fieldLink "GateRoadModel" (115 : Nat) "GateRoadModel" "order" "[I") ∈ lw_all := lw_g (lw_at lw_m6 115 rfl) rfl
theorem q1379 : (Jvm.Cond.fieldLink "GateRoadModel" (230 : Nat) "GateRoadModel" "passMany" "I") ∈ lw_all := lw_g (lw_at lw_m6 116 rfl) rfl
theorem q1380 : (Jvm.Cond.fieldLink "GateRoadModel" (269 : Nat) "GateRoadModel" "restless" "I") ∈ lw_all := lw_g (lw_at lw_m6 117 rfl) rfl
theorem q1381 : (Jvm.Cond.fieldLink "GateRoadModel" (275 : Nat) "GateRoadModel" "better" "I") ∈ lw_all := lw_g (lw_at lw_m6 118 rfl) rfl
theorem q1382 : (Jvm.Cond.fieldLink "GateRoadModel" (278 : Nat) "GateRoadModel" "less" "I") ∈ lw_all := lw_g (lw_at lw_m6 119 rfl) rfl
theorem q1383 : (Jvm.Cond.fieldLink "GateRoadModel" (118 : Nat) "GateRoadModel" "keptWished" "[I") ∈ lw_all := lw_g (lw_at lw_m6 120 rfl) rfl
theorem q1384 : (Jvm.Cond.laysFinal "GateRoadModel" "GateRoadModel" "rate" "[I") ∈ lw_all := lw_g (lw_at lw_m6 121 rfl) rfl
theorem q1385 : (Jvm.Cond.soleField "GateRoadModel" "rate") ∈ lw_all := lw_g (lw_at lw_m6 122 rfl) rfl
theorem q1386 : (Jvm.Cond.laysFinal "GateRoadModel" "GateRoadModel" "toll" "[I") ∈ lw_all := lw_g (lw_at lw_m6 123 rfl) rfl
theorem q1387 : (Jvm.Cond.soleField "GateRoadModel" "toll") ∈ lw_all := lw_g (lw_at lw_m6 124 rfl) rfl
theorem q1388 : (Jvm.Cond.lays "GateRoadModel" "GateRoadModel" "sorts" "I") ∈ lw_all := lw_g (lw_at lw_m6 125 rfl) rfl
theorem q1389 : (Jvm.Cond.soleField "GateRoadModel" "sorts") ∈ lw_all := lw_g (lw_at lw_m6 126 rfl) rfl
theorem q1390 : (Jvm.Cond.laysFinal "GateRoadModel" "GateRoadModel" "wished" "[I") ∈ lw_all := lw_g (lw_at lw_m6 127 rfl) rfl
theorem q1391 : (Jvm.Cond.soleField "GateRoadModel" "wished") ∈ lw_all := lw_g (lw_at lw_m6 128 rfl) rfl
theorem q1392 : (Jvm.Cond.laysFinal "GateRoadModel" "GateRoadModel" "stays" "[I") ∈ lw_all := lw_g (lw_at lw_m6 129 rfl) rfl
theorem q1393 : (Jvm.Cond.soleField "GateRoadModel" "stays") ∈ lw_all := lw_g (lw_at lw_m6 130 rfl) rfl
theorem q1394 : (Jvm.Cond.laysFinal "GateRoadModel" "GateRoadModel" "road" "[I") ∈ lw_all := lw_g (lw_at lw_m6 131 rfl) rfl
theorem q1395 : (Jvm.Cond.soleField "GateRoadModel" "road") ∈ lw_all := lw_g (lw_at lw_m6 132 rfl) rfl
theorem q1396 : (Jvm.Cond.lays "GateRoadModel" "GateRoadModel" "carts" "I") ∈ lw_all := lw_g (lw_at lw_m6 133 rfl) rfl
theorem q1397 : (Jvm.Cond.soleField "GateRoadModel" "carts") ∈ lw_all := lw_g (lw_at lw_m6 134 rfl) rfl
theorem q1398 : (Jvm.Cond.laysFinal "GateRoadModel" "GateRoadModel" "sortOf" "[I") ∈ lw_all := lw_g (lw_at lw_m6 135 rfl) rfl
theorem q1399 : (Jvm.Cond.soleField "GateRoadModel" "sortOf") ∈ lw_all := lw_g (lw_at lw_m6 136 rfl) rfl
theorem q1400 : (Jvm.Cond.lays "GateRoadModel" "GateRoadModel" "ways" "I") ∈ lw_all := lw_g (lw_at lw_m6 137 rfl) rfl
theorem q1401 : (Jvm.Cond.soleField "GateRoadModel" "ways") ∈ lw_all := lw_g (lw_at lw_m6 138 rfl) rfl
theorem q1402 : (Jvm.Cond.laysFinal "GateRoadModel" "GateRoadModel" "kind" "[I") ∈ lw_all := lw_g (lw_at lw_m6 139 rfl) rfl
theorem q1403 : (Jvm.Cond.soleField "GateRoadModel" "kind") ∈ lw_all := lw_g (lw_at lw_m6 140 rfl) rfl
theorem q1404 : (Jvm.Cond.laysFinal "GateRoadModel" "GateRoadModel" "many" "[I") ∈ lw_all := lw_g (lw_at lw_m6 141 rfl) rfl
theorem q1405 : (Jvm.Cond.soleField "GateRoadModel" "many") ∈ lw_all := lw_g (lw_at lw_m6 142 rfl) rfl
theorem q1406 : (Jvm.Cond.laysFinal "GateRoadModel" "GateRoadModel" "choice" "[I") ∈ lw_all := lw_g (lw_at lw_m6 143 rfl) rfl
theorem q1407 : (Jvm.Cond.soleField "GateRoadModel" "choice") ∈ lw_all := lw_g (lw_at lw_m6 144 rfl) rfl
theorem q1408 : (Jvm.Cond.laysFinal "GateRoadModel" "GateRoadModel" "tape" "[I") ∈ lw_all := lw_g (lw_at lw_m6 145 rfl) rfl
theorem q1409 : (Jvm.Cond.soleField "GateRoadModel" "tape") ∈ lw_all := lw_g (lw_at lw_m6 146 rfl) rfl
theorem q1410 : (Jvm.Cond.lays "GateRoadModel" "GateRoadModel" "taped" "I") ∈ lw_all := lw_g (lw_at lw_m6 147 rfl) rfl
theorem q1411 : (Jvm.Cond.soleField "GateRoadModel" "taped") ∈ lw_all := lw_g (lw_at lw_m6 148 rfl) rfl
theorem q1412 : (Jvm.Cond.laysFinal "GateRoadModel" "GateRoadModel" "codes" "[I") ∈ lw_all := lw_g (lw_at lw_m6 149 rfl) rfl
theorem q1413 : (Jvm.Cond.soleField "GateRoadModel" "codes") ∈ lw_all := lw_g (lw_at lw_m6 150 rfl) rfl
theorem q1414 : (Jvm.Cond.laysFinal "GateRoadModel" "GateRoadModel" "starts" "[I") ∈ lw_all := lw_g (lw_at lw_m6 151 rfl) rfl
theorem q1415 : (Jvm.Cond.soleField "GateRoadModel" "starts") ∈ lw_all := lw_g (lw_at lw_m6 152 rfl) rfl
theorem q1416 : (Jvm.Cond.lays "GateRoadModel" "GateRoadModel" "texts" "I") ∈ lw_all := lw_g (lw_at lw_m6 153 rfl) rfl
theorem q1417 : (Jvm.Cond.soleField "GateRoadModel" "texts") ∈ lw_all := lw_g (lw_at lw_m6 154 rfl) rfl
theorem q1418 : (Jvm.Cond.lays "GateRoadModel" "GateRoadModel" "rule" "I") ∈ lw_all := lw_g (lw_at lw_m6 155 rfl) rfl
theorem q1419 : (Jvm.Cond.soleField "GateRoadModel" "rule") ∈ lw_all := lw_g (lw_at lw_m6 156 rfl) rfl
theorem q1420 : (Jvm.Cond.lays "GateRoadModel" "GateRoadModel" "hasImage" "Z") ∈ lw_all := lw_g (lw_at lw_m6 157 rfl) rfl
theorem q1421 : (Jvm.Cond.soleField "GateRoadModel" "hasImage") ∈ lw_all := lw_g (lw_at lw_m6 158 rfl) rfl
theorem q1422 : (Jvm.Cond.lays "GateRoadModel" "GateRoadModel" "imageSorts" "I") ∈ lw_all := lw_g (lw_at lw_m6 159 rfl) rfl
theorem q1423 : (Jvm.Cond.soleField "GateRoadModel" "imageSorts") ∈ lw_all := lw_g (lw_at lw_m6 160 rfl) rfl
theorem q1424 : (Jvm.Cond.lays "GateRoadModel" "GateRoadModel" "imageWays" "I") ∈ lw_all := lw_g (lw_at lw_m6 161 rfl) rfl
theorem q1425 : (Jvm.Cond.soleField "GateRoadModel" "imageWays") ∈ lw_all := lw_g (lw_at lw_m6 162 rfl) rfl
theorem q1426 : (Jvm.Cond.lays "GateRoadModel" "GateRoadModel" "imageRule" "I") ∈ lw_all := lw_g (lw_at lw_m6 163 rfl) rfl
theorem q1427 : (Jvm.Cond.soleField "GateRoadModel" "imageRule") ∈ lw_all := lw_g (lw_at lw_m6 164 rfl) rfl
theorem q1428 : (Jvm.Cond.laysFinal "GateRoadModel" "GateRoadModel" "imageRate" "[I") ∈ lw_all := lw_g (lw_at lw_m6 165 rfl) rfl
theorem q1429 : (Jvm.Cond.soleField "GateRoadModel" "imageRate") ∈ lw_all := lw_g (lw_at lw_m6 166 rfl) rfl
theorem q1430 : (Jvm.Cond.laysFinal "GateRoadModel" "GateRoadModel" "imageToll" "[I") ∈ lw_all := lw_g (lw_at lw_m6 167 rfl) rfl
theorem q1431 : (Jvm.Cond.soleField "GateRoadModel" "imageToll") ∈ lw_all := lw_g (lw_at lw_m6 168 rfl) rfl
theorem q1432 : (Jvm.Cond.laysFinal "GateRoadModel" "GateRoadModel" "imageWished" "[I") ∈ lw_all := lw_g (lw_at lw_m6 169 rfl) rfl
theorem q1433 : (Jvm.Cond.soleField "GateRoadModel" "imageWished") ∈ lw_all := lw_g (lw_at lw_m6 170 rfl) rfl
theorem q1434 : (Jvm.Cond.laysFinal "GateRoadModel" "GateRoadModel" "imageChoice" "[I") ∈ lw_all := lw_g (lw_at lw_m6 171 rfl) rfl
theorem q1435 : (Jvm.Cond.soleField "GateRoadModel" "imageChoice") ∈ lw_all := lw_g (lw_at lw_m6 172 rfl) rfl
theorem q1436 : (Jvm.Cond.laysFinal "GateRoadModel" "GateRoadModel" "sheetSort" "[I") ∈ lw_all := lw_g (lw_at lw_m6 173 rfl) rfl
theorem q1437 : (Jvm.Cond.soleField "GateRoadModel" "sheetSort") ∈ lw_all := lw_g (lw_at lw_m6 174 rfl) rfl
theorem q1438 : (Jvm.Cond.laysFinal "GateRoadModel" "GateRoadModel" "sheetSize" "[I") ∈ lw_all := lw_g (lw_at lw_m6 175 rfl) rfl
theorem q1439 : (Jvm.Cond.soleField "GateRoadModel" "sheetSize") ∈ lw_all := lw_g (lw_at lw_m6 176 rfl) rfl
theorem q1440 : (Jvm.Cond.laysFinal "GateRoadModel" "GateRoadModel" "cells" "[I") ∈ lw_all := lw_g (lw_at lw_m6 177 rfl) rfl
theorem q1441 : (Jvm.Cond.soleField "GateRoadModel" "cells") ∈ lw_all := lw_g (lw_at lw_m6 178 rfl) rfl
theorem q1442 : (Jvm.Cond.lays "GateRoadModel" "GateRoadModel" "at" "I") ∈ lw_all := lw_g (lw_at lw_m6 179 rfl) rfl
theorem q1443 : (Jvm.Cond.soleField "GateRoadModel" "at") ∈ lw_all := lw_g (lw_at lw_m6 180 rfl) rfl
theorem q1444 : (Jvm.Cond.lays "GateRoadModel" "GateRoadModel" "begun" "I") ∈ lw_all := lw_g (lw_at lw_m6 181 rfl) rfl
theorem q1445 : (Jvm.Cond.soleField "GateRoadModel" "begun") ∈ lw_all := lw_g (lw_at lw_m6 182 rfl) rfl
theorem q1446 : (Jvm.Cond.lays "GateRoadModel" "GateRoadModel" "token" "I") ∈ lw_all := lw_g (lw_at lw_m6 183 rfl) rfl
theorem q1447 : (Jvm.Cond.soleField "GateRoadModel" "token") ∈ lw_all := lw_g (lw_at lw_m6 184 rfl) rfl
theorem q1448 : (Jvm.Cond.lays "GateRoadModel" "GateRoadModel" "value" "I") ∈ lw_all := lw_g (lw_at lw_m6 185 rfl) rfl
theorem q1449 : (Jvm.Cond.soleField "GateRoadModel" "value") ∈ lw_all := lw_g (lw_at lw_m6 186 rfl) rfl
theorem q1450 : (Jvm.Cond.laysFinal "GateRoadModel" "GateRoadModel" "words" "[J") ∈ lw_all := lw_g (lw_at lw_m6 187 rfl) rfl
theorem q1451 : (Jvm.Cond.soleField "GateRoadModel" "words") ∈ lw_all := lw_g (lw_at lw_m6 188 rfl) rfl
theorem q1452 : (Jvm.Cond.laysFinal "GateRoadModel" "GateRoadModel" "held" "[I") ∈ lw_all := lw_g (lw_at lw_m6 189 rfl) rfl
theorem q1453 : (Jvm.Cond.soleField "GateRoadModel" "held") ∈ lw_all := lw_g (lw_at lw_m6 190 rfl) rfl
theorem q1454 : (Jvm.Cond.lays "GateRoadModel" "GateRoadModel" "heldMany" "I") ∈ lw_all := lw_g (lw_at lw_m6 191 rfl) rfl
theorem q1455 : (Jvm.Cond.soleField "GateRoadModel" "heldMany") ∈ lw_all := lw_g (lw_at lw_m6 192 rfl) rfl
theorem q1456 : (Jvm.Cond.lays "GateRoadModel" "GateRoadModel" "opens" "I") ∈ lw_all := lw_g (lw_at lw_m6 193 rfl) rfl
theorem q1457 : (Jvm.Cond.soleField "GateRoadModel" "opens") ∈ lw_all := lw_g (lw_at lw_m6 194 rfl) rfl
theorem q1458 : (Jvm.Cond.lays "GateRoadModel" "GateRoadModel" "out" "I") ∈ lw_all := lw_g (lw_at lw_m6 195 rfl) rfl
theorem q1459 : (Jvm.Cond.soleField "GateRoadModel" "out") ∈ lw_all := lw_g (lw_at lw_m6 196 rfl) rfl
theorem q1460 : (Jvm.Cond.laysFinal "GateRoadModel" "GateRoadModel" "stack" "[I") ∈ lw_all := lw_g (lw_at lw_m6 197 rfl) rfl
theorem q1461 : (Jvm.Cond.soleField "GateRoadModel" "stack") ∈ lw_all := lw_g (lw_at lw_m6 198 rfl) rfl
theorem q1462 : (Jvm.Cond.laysFinal "GateRoadModel" "GateRoadModel" "named" "[I") ∈ lw_all := lw_g (lw_at lw_m6 199 rfl) rfl
theorem q1463 : (Jvm.Cond.soleField "GateRoadModel" "named") ∈ lw_all := lw_g (lw_at lw_m6 200 rfl) rfl
theorem q1464 : (Jvm.Cond.laysFinal "GateRoadModel" "GateRoadModel" "now" "[I") ∈ lw_all := lw_g (lw_at lw_m6 201 rfl) rfl
theorem q1465 : (Jvm.Cond.soleField "GateRoadModel" "now") ∈ lw_all := lw_g (lw_at lw_m6 202 rfl) rfl
theorem q1466 : (Jvm.Cond.laysFinal "GateRoadModel" "GateRoadModel" "came" "[I") ∈ lw_all := lw_g (lw_at lw_m6 203 rfl) rfl
theorem q1467 : (Jvm.Cond.soleField "GateRoadModel" "came") ∈ lw_all := lw_g (lw_at lw_m6 204 rfl) rfl
theorem q1468 : (Jvm.Cond.laysFinal "GateRoadModel" "GateRoadModel" "passed" "[I") ∈ lw_all := lw_g (lw_at lw_m6 205 rfl) rfl
theorem q1469 : (Jvm.Cond.soleField "GateRoadModel" "passed") ∈ lw_all := lw_g (lw_at lw_m6 206 rfl) rfl
theorem q1470 : (Jvm.Cond.laysFinal "GateRoadModel" "GateRoadModel" "order" "[I") ∈ lw_all := lw_g (lw_at lw_m6 207 rfl) rfl
theorem q1471 : (Jvm.Cond.soleField "GateRoadModel" "order") ∈ lw_all := lw_g (lw_at lw_m6 208 rfl) rfl
theorem q1472 : (Jvm.Cond.lays "GateRoadModel" "GateRoadModel" "passMany" "I") ∈ lw_all := lw_g (lw_at lw_m6 209 rfl) rfl
theorem q1473 : (Jvm.Cond.soleField "GateRoadModel" "passMany") ∈ lw_all := lw_g (lw_at lw_m6 210 rfl) rfl
theorem q1474 : (Jvm.Cond.lays "GateRoadModel" "GateRoadModel" "restless" "I") ∈ lw_all := lw_g (lw_at lw_m6 211 rfl) rfl
theorem q1475 : (Jvm.Cond.soleField "GateRoadModel" "restless") ∈ lw_all := lw_g (lw_at lw_m6 212 rfl) rfl
theorem q1476 : (Jvm.Cond.lays "GateRoadModel" "GateRoadModel" "better" "I") ∈ lw_all := lw_g (lw_at lw_m6 213 rfl) rfl
theorem q1477 : (Jvm.Cond.soleField "GateRoadModel" "better") ∈ lw_all := lw_g (lw_at lw_m6 214 rfl) rfl
theorem q1478 : (Jvm.Cond.lays "GateRoadModel" "GateRoadModel" "less" "I") ∈ lw_all := lw_g (lw_at lw_m6 215 rfl) rfl
theorem q1479 : (Jvm.Cond.soleField "GateRoadModel" "less") ∈ lw_all := lw_g (lw_at lw_m6 216 rfl) rfl
theorem q1480 : (Jvm.Cond.laysFinal "GateRoadModel" "GateRoadModel" "keptWished" "[I") ∈ lw_all := lw_g (lw_at lw_m6 217 rfl) rfl
theorem q1481 : (Jvm.Cond.soleField "GateRoadModel" "keptWished") ∈ lw_all := lw_g (lw_at lw_m6 218 rfl) rfl
theorem q1482 : (Jvm.Cond.superclass "GateRoadModel" "java/lang/Object") ∈ lw_all := lw_g (lw_at lw_m6 219 rfl) rfl
theorem q1485 : (Jvm.Cond.instanceMethod ({ cls := "GateRoadModel", name := "rate", desc := "(IIII)I" } : Jvm.MethodName)) ∈ lw_all := lw_g (lw_at lw_m6 222 rfl) rfl
theorem q1486 : (Jvm.Cond.selects "GateRoadModel" ({ cls := "GateRoadModel", name := "rate", desc := "(IIII)I" } : Jvm.MethodName) ({ cls := "GateRoadModel", name := "rate", desc := "(IIII)I" } : Jvm.MethodName)) ∈ lw_all := lw_g (lw_at lw_m6 223 rfl) rfl
theorem q1487 : (Jvm.Cond.code ({ cls := "GateRoadModel", name := "rate", desc := "(IIII)I" } : Jvm.MethodName) prog_20_method_6_code (7 : Nat) (Option.some Jvm.ClassFile.FieldType.int)) ∈ lw_all := lw_g (lw_at lw_m6 224 rfl) rfl
theorem q1488 : (Jvm.Cond.methodLink "GateRoadModel" (131 : Nat) ({ cls := "GateRoadModel", name := "isGate", desc := "(II)Z" } : Jvm.MethodName)) ∈ lw_all := lw_g (lw_at lw_m6 225 rfl) rfl
theorem q1489 : (Jvm.Cond.static ({ cls := "GateRoadModel", name := "isGate", desc := "(II)Z" } : Jvm.MethodName)) ∈ lw_all := lw_g (lw_at lw_m6 226 rfl) rfl
theorem q1490 : (Jvm.Cond.code ({ cls := "GateRoadModel", name := "isGate", desc := "(II)Z" } : Jvm.MethodName) prog_20_method_5_code (2 : Nat) (Option.some Jvm.ClassFile.FieldType.boolean)) ∈ lw_all := lw_g (lw_at lw_m6 227 rfl) rfl
theorem q1491 : (Jvm.Cond.methodLink "GateRoadModel" (127 : Nat) ({ cls := "GateRoadModel", name := "in", desc := "(III)Z" } : Jvm.MethodName)) ∈ lw_all := lw_g (lw_at lw_m6 228 rfl) rfl
theorem q1492 : (Jvm.Cond.static ({ cls := "GateRoadModel", name := "in", desc := "(III)Z" } : Jvm.MethodName)) ∈ lw_all := lw_g (lw_at lw_m6 229 rfl) rfl
theorem q1493 : (Jvm.Cond.code ({ cls := "GateRoadModel", name := "in", desc := "(III)Z" } : Jvm.MethodName) prog_20_method_4_code (3 : Nat) (Option.some Jvm.ClassFile.FieldType.boolean)) ∈ lw_all := lw_g (lw_at lw_m6 230 rfl) rfl
theorem q1495 : (Jvm.Cond.instanceMethod ({ cls := "GateRoadModel", name := "toll", desc := "(III)I" } : Jvm.MethodName)) ∈ lw_all := lw_g (lw_at lw_m6 232 rfl) rfl
theorem q1496 : (Jvm.Cond.selects "GateRoadModel" ({ cls := "GateRoadModel", name := "toll", desc := "(III)I" } : Jvm.MethodName) ({ cls := "GateRoadModel", name := "toll", desc := "(III)I" } : Jvm.MethodName)) ∈ lw_all := lw_g (lw_at lw_m6 233 rfl) rfl
theorem q1497 : (Jvm.Cond.code ({ cls := "GateRoadModel", name := "toll", desc := "(III)I" } : Jvm.MethodName) prog_20_method_7_code (5 : Nat) (Option.some Jvm.ClassFile.FieldType.int)) ∈ lw_all := lw_g (lw_at lw_m6 234 rfl) rfl
theorem q1499 : (Jvm.Cond.instanceMethod ({ cls := "GateRoadModel", name := "sort", desc := "(IIII)I" } : Jvm.MethodName)) ∈ lw_all := lw_g (lw_at lw_m6 236 rfl) rfl
theorem q1500 : (Jvm.Cond.selects "GateRoadModel" ({ cls := "GateRoadModel", name := "sort", desc := "(IIII)I" } : Jvm.MethodName) ({ cls := "GateRoadModel", name := "sort", desc := "(IIII)I" } : Jvm.MethodName)) ∈ lw_all := lw_g (lw_at lw_m6 237 rfl) rfl
theorem q1501 : (Jvm.Cond.code ({ cls := "GateRoadModel", name := "sort", desc := "(IIII)I" } : Jvm.MethodName) prog_20_method_8_code (5 : Nat) (Option.some Jvm.ClassFile.FieldType.int)) ∈ lw_all := lw_g (lw_at lw_m6 238 rfl) rfl
theorem q1503 : (Jvm.Cond.instanceMethod ({ cls := "GateRoadModel", name := "cart", desc := "(I)I" } : Jvm.MethodName)) ∈ lw_all := lw_g (lw_at lw_m7 0 rfl) rfl
theorem q1504 : (Jvm.Cond.selects "GateRoadModel" ({ cls := "GateRoadModel", name := "cart", desc := "(I)I" } : Jvm.MethodName) ({ cls := "GateRoadModel", name := "cart", desc := "(I)I" } : Jvm.MethodName)) ∈ lw_all := lw_g (lw_at lw_m7 1 rfl) rfl
theorem q1505 : (Jvm.Cond.code ({ cls := "GateRoadModel", name := "cart", desc := "(I)I" } : Jvm.MethodName) prog_20_method_10_code (2 : Nat) (Option.some Jvm.ClassFile.FieldType.int)) ∈ lw_all := lw_g (lw_at lw_m7 2 rfl) rfl
theorem q1506 : (Jvm.Cond.methodLink "GateRoadModel" (138 : Nat) ({ cls := "GateRoadModel", name := "isSort", desc := "(I)Z" } : Jvm.MethodName)) ∈ lw_all := lw_g (lw_at lw_m7 3 rfl) rfl
theorem q1507 : (Jvm.Cond.privateMethod ({ cls := "GateRoadModel", name := "isSort", desc := "(I)Z" } : Jvm.MethodName)) ∈ lw_tbl := lw_at lw_m7 4 rfl
theorem q1508 : (Jvm.Cond.instanceMethod ({ cls := "GateRoadModel", name := "isSort", desc := "(I)Z" } : Jvm.MethodName)) ∈ lw_all := lw_g (lw_at lw_m7 5 rfl) rfl
theorem q1509 : (Jvm.Cond.code ({ cls := "GateRoadModel", name := "isSort", desc := "(I)Z" } : Jvm.MethodName) prog_20_method_9_code (2 : Nat) (Option.some Jvm.ClassFile.FieldType.boolean)) ∈ lw_all := lw_g (lw_at lw_m7 6 rfl) rfl
theorem q1511 : (Jvm.Cond.instanceMethod ({ cls := "GateRoadModel", name := "wishes", desc := "(II)I" } : Jvm.MethodName)) ∈ lw_all := lw_g (lw_at lw_m7 8 rfl) rfl
theorem q1512 : (Jvm.Cond.selects "GateRoadModel" ({ cls := "GateRoadModel", name := "wishes", desc := "(II)I" } : Jvm.MethodName) ({ cls := "GateRoadModel", name := "wishes", desc := "(II)I" } : Jvm.MethodName)) ∈ lw_all := lw_g (lw_at lw_m7 9 rfl) rfl
theorem q1513 : (Jvm.Cond.code ({ cls := "GateRoadModel", name := "wishes", desc := "(II)I" } : Jvm.MethodName) prog_20_method_11_code (4 : Nat) (Option.some Jvm.ClassFile.FieldType.int)) ∈ lw_all := lw_g (lw_at lw_m7 10 rfl) rfl
theorem q1515 : (Jvm.Cond.instanceMethod ({ cls := "GateRoadModel", name := "gateTold", desc := "(III)I" } : Jvm.MethodName)) ∈ lw_all := lw_g (lw_at lw_m7 12 rfl) rfl
theorem q1516 : (Jvm.Cond.selects "GateRoadModel" ({ cls := "GateRoadModel", name := "gateTold", desc := "(III)I" } : Jvm.MethodName) ({ cls := "GateRoadModel", name := "gateTold", desc := "(III)I" } : Jvm.MethodName)) ∈ lw_all := lw_g (lw_at lw_m7 13 rfl) rfl
theorem q1517 : (Jvm.Cond.code ({ cls := "GateRoadModel", name := "gateTold", desc := "(III)I" } : Jvm.MethodName) prog_20_method_12_code (4 : Nat) (Option.some Jvm.ClassFile.FieldType.int)) ∈ lw_all := lw_g (lw_at lw_m7 14 rfl) rfl
theorem q1519 : (Jvm.Cond.instanceMethod ({ cls := "GateRoadModel", name := "sortTold", desc := "(II)I" } : Jvm.MethodName)) ∈ lw_all := lw_g (lw_at lw_m7 16 rfl) rfl
theorem q1520 : (Jvm.Cond.selects "GateRoadModel" ({ cls := "GateRoadModel", name := "sortTold", desc := "(II)I" } : Jvm.MethodName) ({ cls := "GateRoadModel", name := "sortTold", desc := "(II)I" } : Jvm.MethodName)) ∈ lw_all := lw_g (lw_at lw_m7 17 rfl) rfl
theorem q1521 : (Jvm.Cond.code ({ cls := "GateRoadModel", name := "sortTold", desc := "(II)I" } : Jvm.MethodName) prog_20_method_13_code (3 : Nat) (Option.some Jvm.ClassFile.FieldType.int)) ∈ lw_all := lw_g (lw_at lw_m7 18 rfl) rfl
theorem q1523 : (Jvm.Cond.instanceMethod ({ cls := "GateRoadModel", name := "feed", desc := "(JI)I" } : Jvm.MethodName)) ∈ lw_all := lw_g (lw_at lw_m7 20 rfl) rfl
theorem q1524 : (Jvm.Cond.selects "GateRoadModel" ({ cls := "GateRoadModel", name := "feed", desc := "(JI)I" } : Jvm.MethodName) ({ cls := "GateRoadModel", name := "feed", desc := "(JI)I" } : Jvm.MethodName)) ∈ lw_all := lw_g (lw_at lw_m7 21 rfl) rfl
theorem q1525 : (Jvm.Cond.code ({ cls := "GateRoadModel", name := "feed", desc := "(JI)I" } : Jvm.MethodName) prog_20_method_14_code (5 : Nat) (Option.some Jvm.ClassFile.FieldType.int)) ∈ lw_all := lw_g (lw_at lw_m7 22 rfl) rfl
theorem q1526 : (Jvm.Cond.constantLong "GateRoadModel" (148 : Nat) (255 : Int64)) ∈ lw_all := lw_g (lw_at lw_m7 23 rfl) rfl
theorem q1528 : (Jvm.Cond.instanceMethod ({ cls := "GateRoadModel", name := "text", desc := "()I" } : Jvm.MethodName)) ∈ lw_all := lw_g (lw_at lw_m7 25 rfl) rfl
theorem q1529 : (Jvm.Cond.selects "GateRoadModel" ({ cls := "GateRoadModel", name := "text", desc := "()I" } : Jvm.MethodName) ({ cls := "GateRoadModel", name := "text", desc := "()I" } : Jvm.MethodName)) ∈ lw_all := lw_g (lw_at lw_m7 26 rfl) rfl
theorem q1530 : (Jvm.Cond.code ({ cls := "GateRoadModel", name := "text", desc := "()I" } : Jvm.MethodName) prog_20_method_25_code (3 : Nat) (Option.some Jvm.ClassFile.FieldType.int)) ∈ lw_all := lw_g (lw_at lw_m7 27 rfl) rfl
theorem q1531 : (Jvm.Cond.methodLink "GateRoadModel" (189 : Nat) ({ cls := "GateRoadModel", name := "next", desc := "()V" } : Jvm.MethodName)) ∈ lw_all := lw_g (lw_at lw_m7 28 rfl) rfl
theorem q1532 : (Jvm.Cond.privateMethod ({ cls := "GateRoadModel", name := "next", desc := "()V" } : Jvm.MethodName)) ∈ lw_tbl := lw_at lw_m7 29 rfl
theorem q1533 : (Jvm.Cond.instanceMethod ({ cls := "GateRoadModel", name := "next", desc := "()V" } : Jvm.MethodName)) ∈ lw_all := lw_g (lw_at lw_m7 30 rfl) rfl
theorem q1534 : (Jvm.Cond.code ({ cls := "GateRoadModel", name := "next", desc := "()V" } : Jvm.MethodName) prog_20_method_16_code (5 : Nat) (Option.none : Option Jvm.ClassFile.FieldType)) ∈ lw_all := lw_g (lw_at lw_m7 31 rfl) rfl
theorem q1535 : (Jvm.Cond.methodLink "GateRoadModel" (162 : Nat) ({ cls := "GateRoadModel", name := "letters", desc := "()J" } : Jvm.MethodName)) ∈ lw_all := lw_g (lw_at lw_m7 32 rfl) rfl
theorem q1536 : (Jvm.Cond.privateMethod ({ cls := "GateRoadModel", name := "letters", desc := "()J" } : Jvm.MethodName)) ∈ lw_tbl := lw_at lw_m7 33 rfl
theorem q1537 : (Jvm.Cond.instanceMethod ({ cls := "GateRoadModel", name := "letters", desc := "()J" } : Jvm.MethodName)) ∈ lw_all := lw_g (lw_at lw_m7 34 rfl) rfl
theorem q1538 : (Jvm.Cond.code ({ cls := "GateRoadModel", name := "letters", desc := "()J" } : Jvm.MethodName) prog_20_method_15_code (4 : Nat) (Option.some Jvm.ClassFile.FieldType.long)) ∈ lw_all := lw_g (lw_at lw_m7 35 rfl) rfl
theorem q1539 : (Jvm.Cond.methodLink "GateRoadModel" (203 : Nat) ({ cls := "GateRoadModel", name := "eRead", desc := "()Z" } : Jvm.MethodName)) ∈ lw_all := lw_g (lw_at lw_m7 36 rfl) rfl
theorem q1540 : (Jvm.Cond.privateMethod ({ cls := "GateRoadModel", name := "eRead", desc := "()Z" } : Jvm.MethodName)) ∈ lw_tbl := lw_at lw_m7 37 rfl
theorem q1541 : (Jvm.Cond.instanceMethod ({ cls := "GateRoadModel", name := "eRead", desc := "()Z" } : Jvm.MethodName)) ∈ lw_all := lw_g (lw_at lw_m7 38 rfl) rfl
theorem q1542 : (Jvm.Cond.code ({ cls := "GateRoadModel", name := "eRead", desc := "()Z" } : Jvm.MethodName) prog_20_method_24_code (4 : Nat) (Option.some Jvm.ClassFile.FieldType.boolean)) ∈ lw_all := lw_g (lw_at lw_m7 39 rfl) rfl
theorem q1543 : (Jvm.Cond.constant "GateRoadModel" (192 : Nat) (100000 : Int32)) ∈ lw_all := lw_g (lw_at lw_m7 40 rfl) rfl
theorem q1544 : (Jvm.Cond.methodLink "GateRoadModel" (179 : Nat) ({ cls := "GateRoadModel", name := "puts", desc := "(I)V" } : Jvm.MethodName)) ∈ lw_all := lw_g (lw_at lw_m7 41 rfl) rfl
theorem q1545 : (Jvm.Cond.privateMethod ({ cls := "GateRoadModel", name := "puts", desc := "(I)V" } : Jvm.MethodName)) ∈ lw_tbl := lw_at lw_m7 42 rfl
theorem q1546 : (Jvm.Cond.instanceMethod ({ cls := "GateRoadModel", name := "puts", desc := "(I)V" } : Jvm.MethodName)) ∈ lw_all := lw_g (lw_at lw_m7 43 rfl) rfl
theorem q1547 : (Jvm.Cond.code ({ cls := "GateRoadModel", name := "puts", desc := "(I)V" } : Jvm.MethodName) prog_20_method_18_code (2 : Nat) (Option.none : Option Jvm.ClassFile.FieldType)) ∈ lw_all := lw_g (lw_at lw_m7 44 rfl) rfl
theorem q1548 : (Jvm.Cond.methodLink "GateRoadModel" (186 : Nat) ({ cls := "GateRoadModel", name := "unwinds", desc := "(I)V" } : Jvm.MethodName)) ∈ lw_all := lw_g (lw_at lw_m7 45 rfl) rfl
theorem q1549 : (Jvm.Cond.privateMethod ({ cls := "GateRoadModel", name := "unwinds", desc := "(I)V" } : Jvm.MethodName)) ∈ lw_tbl := lw_at lw_m7 46 rfl
theorem q1550 : (Jvm.Cond.instanceMethod ({ cls := "GateRoadModel", name := "unwinds", desc := "(I)V" } : Jvm.MethodName)) ∈ lw_all := lw_g (lw_at lw_m7 47 rfl) rfl
theorem q1551 : (Jvm.Cond.code ({ cls := "GateRoadModel", name := "unwinds", desc := "(I)V" } : Jvm.MethodName) prog_20_method_19_code (3 : Nat) (Option.none : Option Jvm.ClassFile.FieldType)) ∈ lw_all := lw_g (lw_at lw_m7 48 rfl) rfl
theorem q1552 : (Jvm.Cond.methodLink "GateRoadModel" (172 : Nat) ({ cls := "GateRoadModel", name := "rank", desc := "(I)I" } : Jvm.MethodName)) ∈ lw_all := lw_g (lw_at lw_m7 49 rfl) rfl
theorem q1553 : (Jvm.Cond.static ({ cls := "GateRoadModel", name := "rank", desc := "(I)I" } : Jvm.MethodName)) ∈ lw_all := lw_g (lw_at lw_m7 50 rfl) rfl
theorem q1554 : (Jvm.Cond.code ({ cls := "GateRoadModel", name := "rank", desc := "(I)I" } : Jvm.MethodName) prog_20_method_17_code (1 : Nat) (Option.some Jvm.ClassFile.FieldType.int)) ∈ lw_all := lw_g (lw_at lw_m7 51 rfl) rfl
theorem q1555 : (Jvm.Cond.methodLink "GateRoadModel" (193 : Nat) ({ cls := "GateRoadModel", name := "opensOne", desc := "(I)Z" } : Jvm.MethodName)) ∈ lw_all := lw_g (lw_at lw_m7 52 rfl) rfl
theorem q1556 : (Jvm.Cond.privateMethod ({ cls := "GateRoadModel", name := "opensOne", desc := "(I)Z" } : Jvm.MethodName)) ∈ lw_tbl := lw_at lw_m7 53 rfl
theorem q1557 : (Jvm.Cond.instanceMethod ({ cls := "GateRoadModel", name := "opensOne", desc := "(I)Z" } : Jvm.MethodName)) ∈ lw_all := lw_g (lw_at lw_m7 54 rfl) rfl
theorem q1558 : (Jvm.Cond.code ({ cls := "GateRoadModel", name := "opensOne", desc := "(I)Z" } : Jvm.MethodName) prog_20_method_21_code (2 : Nat) (Option.some Jvm.ClassFile.FieldType.boolean)) ∈ lw_all := lw_g (lw_at lw_m7 55 rfl) rfl
theorem q1559 : (Jvm.Cond.methodLink "GateRoadModel" (183 : Nat) ({ cls := "GateRoadModel", name := "holds", desc := "(I)V" } : Jvm.MethodName)) ∈ lw_all := lw_g (lw_at lw_m7 56 rfl) rfl
theorem q1560 : (Jvm.Cond.privateMethod ({ cls := "GateRoadModel", name := "holds", desc := "(I)V" } : Jvm.MethodName)) ∈ lw_tbl := lw_at lw_m7 57 rfl
theorem q1561 : (Jvm.Cond.instanceMethod ({ cls := "GateRoadModel", name := "holds", desc := "(I)V" } : Jvm.MethodName)) ∈ lw_all := lw_g (lw_at lw_m7 58 rfl) rfl
theorem q1562 : (Jvm.Cond.code ({ cls := "GateRoadModel", name := "holds", desc := "(I)V" } : Jvm.MethodName) prog_20_method_20_code (2 : Nat) (Option.none : Option Jvm.ClassFile.FieldType)) ∈ lw_all := lw_g (lw_at lw_m7 59 rfl) rfl
theorem q1563 : (Jvm.Cond.methodLink "GateRoadModel" (196 : Nat) ({ cls := "GateRoadModel", name := "signOf", desc := "()I" } : Jvm.MethodName)) ∈ lw_all := lw_g (lw_at lw_m7 60 rfl) rfl
theorem q1564 : (Jvm.Cond.privateMethod ({ cls := "GateRoadModel", name := "signOf", desc := "()I" } : Jvm.MethodName)) ∈ lw_tbl := lw_at lw_m7 61 rfl
theorem q1565 : (Jvm.Cond.instanceMethod ({ cls := "GateRoadModel", name := "signOf", desc := "()I" } : Jvm.MethodName)) ∈ lw_all := lw_g (lw_at lw_m7 62 rfl) rfl
theorem q1566 : (Jvm.Cond.code ({ cls := "GateRoadModel", name := "signOf", desc := "()I" } : Jvm.MethodName) prog_20_method_23_code (1 : Nat) (Option.some Jvm.ClassFile.FieldType.int)) ∈ lw_all := lw_g (lw_at lw_m7 63 rfl) rfl
theorem q1567 : (Jvm.Cond.methodLink "GateRoadModel" (200 : Nat) ({ cls := "GateRoadModel", name := "between", desc := "(I)Z" } : Jvm.MethodName)) ∈ lw_all := lw_g (lw_at lw_m7 64 rfl) rfl
theorem q1568 : (Jvm.Cond.privateMethod ({ cls := "GateRoadModel", name := "between", desc := "(I)Z" } : Jvm.MethodName)) ∈ lw_tbl := lw_at lw_m7 65 rfl
theorem q1569 : (Jvm.Cond.instanceMethod ({ cls := "GateRoadModel", name := "between", desc := "(I)Z" } : Jvm.MethodName)) ∈ lw_all := lw_g (lw_at lw_m7 66 rfl) rfl
theorem q1570 : (Jvm.Cond.code ({ cls := "GateRoadModel", name := "between", desc := "(I)Z" } : Jvm.MethodName) prog_20_method_22_code (2 : Nat) (Option.some Jvm.ClassFile.FieldType.boolean)) ∈ lw_all := lw_g (lw_at lw_m7 67 rfl) rfl
theorem q1572 : (Jvm.Cond.instanceMethod ({ cls := "GateRoadModel", name := "force", desc := "(I)I" } : Jvm.MethodName)) ∈ lw_all := lw_g (lw_at lw_m7 69 rfl) rfl
theorem q1573 : (Jvm.Cond.selects "GateRoadModel" ({ cls := "GateRoadModel", name := "force", desc := "(I)I" } : Jvm.MethodName) ({ cls := "GateRoadModel", name := "force", desc := "(I)I" } : Jvm.MethodName)) ∈ lw_all := lw_g (lw_at lw_m7 70 rfl) rfl
theorem q1574 : (Jvm.Cond.code ({ cls := "GateRoadModel", name := "force", desc := "(I)I" } : Jvm.MethodName) prog_20_method_28_code (3 : Nat) (Option.some Jvm.ClassFile.FieldType.int)) ∈ lw_all := lw_g (lw_at lw_m7 71 rfl) rfl
theorem q1576 : (Jvm.Cond.instanceMethod ({ cls := "GateRoadModel", name := "way", desc := "(II)I" } : Jvm.MethodName)) ∈ lw_all := lw_g (lw_at lw_m7 73 rfl) rfl
theorem q1577 : (Jvm.Cond.selects "GateRoadModel" ({ cls := "GateRoadModel", name := "way", desc := "(II)I" } : Jvm.MethodName) ({ cls := "GateRoadModel", name := "way", desc := "(II)I" } : Jvm.MethodName)) ∈ lw_all := lw_g (lw_at lw_m7 74 rfl) rfl
theorem q1578 : (Jvm.Cond.code ({ cls := "GateRoadModel", name := "way", desc := "(II)I" } : Jvm.MethodName) prog_20_method_32_code (5 : Nat) (Option.some Jvm.ClassFile.FieldType.int)) ∈ lw_all := lw_g (lw_at lw_m7 75 rfl) rfl
theorem q1579 : (Jvm.Cond.methodLink "GateRoadModel" (220 : Nat) ({ cls := "GateRoadModel", name := "isChoice", desc := "(I)Z" } : Jvm.MethodName)) ∈ lw_all := lw_g (lw_at lw_m7 76 rfl) rfl
theorem q1580 : (Jvm.Cond.static ({ cls := "GateRoadModel", name := "isChoice", desc := "(I)Z" } : Jvm.MethodName)) ∈ lw_all := lw_g (lw_at lw_m7 77 rfl) rfl
theorem q1581 : (Jvm.Cond.code ({ cls := "GateRoadModel", name := "isChoice", desc := "(I)Z" } : Jvm.MethodName) prog_20_method_29_code (1 : Nat) (Option.some Jvm.ClassFile.FieldType.boolean)) ∈ lw_all := lw_g (lw_at lw_m7 78 rfl) rfl
theorem q1583 : (Jvm.Cond.instanceMethod ({ cls := "GateRoadModel", name := "wayTold", desc := "(II)I" } : Jvm.MethodName)) ∈ lw_all := lw_g (lw_at lw_m7 80 rfl) rfl
theorem q1584 : (Jvm.Cond.selects "GateRoadModel" ({ cls := "GateRoadModel", name := "wayTold", desc := "(II)I" } : Jvm.MethodName) ({ cls := "GateRoadModel", name := "wayTold", desc := "(II)I" } : Jvm.MethodName)) ∈ lw_all := lw_g (lw_at lw_m7 81 rfl) rfl
theorem q1585 : (Jvm.Cond.code ({ cls := "GateRoadModel", name := "wayTold", desc := "(II)I" } : Jvm.MethodName) prog_20_method_33_code (3 : Nat) (Option.some Jvm.ClassFile.FieldType.int)) ∈ lw_all := lw_g (lw_at lw_m7 82 rfl) rfl
theorem q1586 : (Jvm.Cond.methodLink "GateRoadModel" (217 : Nat) ({ cls := "GateRoadModel", name := "isWay", desc := "(I)Z" } : Jvm.MethodName)) ∈ lw_all := lw_g (lw_at lw_m7 83 rfl) rfl
theorem q1587 : (Jvm.Cond.privateMethod ({ cls := "GateRoadModel", name := "isWay", desc := "(I)Z" } : Jvm.MethodName)) ∈ lw_tbl := lw_at lw_m7 84 rfl
theorem q1588 : (Jvm.Cond.instanceMethod ({ cls := "GateRoadModel", name := "isWay", desc := "(I)Z" } : Jvm.MethodName)) ∈ lw_all := lw_g (lw_at lw_m7 85 rfl) rfl
theorem q1589 : (Jvm.Cond.code ({ cls := "GateRoadModel", name := "isWay", desc := "(I)Z" } : Jvm.MethodName) prog_20_method_30_code (2 : Nat) (Option.some Jvm.ClassFile.FieldType.boolean)) ∈ lw_all := lw_g (lw_at lw_m7 86 rfl) rfl
theorem q1590 : (Jvm.Cond.methodLink "GateRoadModel" (223 : Nat) ({ cls := "GateRoadModel", name := "isOf", desc := "(II)Z" } : Jvm.MethodName)) ∈ lw_all := lw_g (lw_at lw_m7 87 rfl) rfl
theorem q1591 : (Jvm.Cond.privateMethod ({ cls := "GateRoadModel", name := "isOf", desc := "(II)Z" } : Jvm.MethodName)) ∈ lw_tbl := lw_at lw_m7 88 rfl
theorem q1592 : (Jvm.Cond.instanceMethod ({ cls := "GateRoadModel", name := "isOf", desc := "(II)Z" } : Jvm.MethodName)) ∈ lw_all := lw_g (lw_at lw_m7 89 rfl) rfl
theorem q1593 : (Jvm.Cond.code ({ cls := "GateRoadModel", name := "isOf", desc := "(II)Z" } : Jvm.MethodName) prog_20_method_31_code (3 : Nat) (Option.some Jvm.ClassFile.FieldType.boolean)) ∈ lw_all := lw_g (lw_at lw_m7 90 rfl) rfl
theorem q1595 : (Jvm.Cond.instanceMethod ({ cls := "GateRoadModel", name := "set", desc := "(III)I" } : Jvm.MethodName)) ∈ lw_all := lw_g (lw_at lw_m7 92 rfl) rfl
theorem q1596 : (Jvm.Cond.selects "GateRoadModel" ({ cls := "GateRoadModel", name := "set", desc := "(III)I" } : Jvm.MethodName) ({ cls := "GateRoadModel", name := "set", desc := "(III)I" } : Jvm.MethodName)) ∈ lw_all := lw_g (lw_at lw_m7 93 rfl) rfl
theorem q1597 : (Jvm.Cond.code ({ cls := "GateRoadModel", name := "set", desc := "(III)I" } : Jvm.MethodName) prog_20_method_34_code (5 : Nat) (Option.some Jvm.ClassFile.FieldType.int)) ∈ lw_all := lw_g (lw_at lw_m7 94 rfl) rfl
theorem q1599 : (Jvm.Cond.instanceMethod ({ cls := "GateRoadModel", name := "of", desc := "(III)I" } : Jvm.MethodName)) ∈ lw_all := lw_g (lw_at lw_m7 96 rfl) rfl
theorem q1600 : (Jvm.Cond.selects "GateRoadModel" ({ cls := "GateRoadModel", name := "of", desc := "(III)I" } : Jvm.MethodName) ({ cls := "GateRoadModel", name := "of", desc := "(III)I" } : Jvm.MethodName)) ∈ lw_all := lw_g (lw_at lw_m7 97 rfl) rfl
theorem q1601 : (Jvm.Cond.code ({ cls := "GateRoadModel", name := "of", desc := "(III)I" } : Jvm.MethodName) prog_20_method_46_code (4 : Nat) (Option.some Jvm.ClassFile.FieldType.int)) ∈ lw_all := lw_g (lw_at lw_m7 98 rfl) rfl
theorem q1602 : (Jvm.Cond.methodLink "GateRoadModel" (251 : Nat) ({ cls := "GateRoadModel", name := "lays", desc := "(I)V" } : Jvm.MethodName)) ∈ lw_all := lw_g (lw_at lw_m7 99 rfl) rfl
theorem q1603 : (Jvm.Cond.privateMethod ({ cls := "GateRoadModel", name := "lays", desc := "(I)V" } : Jvm.MethodName)) ∈ lw_tbl := lw_at lw_m7 100 rfl
theorem q1604 : (Jvm.Cond.instanceMethod ({ cls := "GateRoadModel", name := "lays", desc := "(I)V" } : Jvm.MethodName)) ∈ lw_all := lw_g (lw_at lw_m7 101 rfl) rfl
theorem q1605 : (Jvm.Cond.code ({ cls := "GateRoadModel", name := "lays", desc := "(I)V" } : Jvm.MethodName) prog_20_method_35_code (3 : Nat) (Option.none : Option Jvm.ClassFile.FieldType)) ∈ lw_all := lw_g (lw_at lw_m7 102 rfl) rfl
theorem q1606 : (Jvm.Cond.methodLink "GateRoadModel" (254 : Nat) ({ cls := "GateRoadModel", name := "goes", desc := "(I)V" } : Jvm.MethodName)) ∈ lw_all := lw_g (lw_at lw_m7 103 rfl) rfl
theorem q1607 : (Jvm.Cond.privateMethod ({ cls := "GateRoadModel", name := "goes", desc := "(I)V" } : Jvm.MethodName)) ∈ lw_tbl := lw_at lw_m7 104 rfl
theorem q1608 : (Jvm.Cond.instanceMethod ({ cls := "GateRoadModel", name := "goes", desc := "(I)V" } : Jvm.MethodName)) ∈ lw_all := lw_g (lw_at lw_m7 105 rfl) rfl
theorem q1609 : (Jvm.Cond.code ({ cls := "GateRoadModel", name := "goes", desc := "(I)V" } : Jvm.MethodName) prog_20_method_38_code (6 : Nat) (Option.none : Option Jvm.ClassFile.FieldType)) ∈ lw_all := lw_g (lw_at lw_m7 106 rfl) rfl
theorem q1610 : (Jvm.Cond.methodLink "GateRoadModel" (233 : Nat) ({ cls := "GateRoadModel", name := "nextAt", desc := "(III)I" } : Jvm.MethodName)) ∈ lw_all := lw_g (lw_at lw_m7 107 rfl) rfl
theorem q1611 : (Jvm.Cond.privateMethod ({ cls := "GateRoadModel", name := "nextAt", desc := "(III)I" } : Jvm.MethodName)) ∈ lw_tbl := lw_at lw_m7 108 rfl
theorem q1612 : (Jvm.Cond.instanceMethod ({ cls := "GateRoadModel", name := "nextAt", desc := "(III)I" } : Jvm.MethodName)) ∈ lw_all := lw_g (lw_at lw_m7 109 rfl) rfl
theorem q1613 : (Jvm.Cond.code ({ cls := "GateRoadModel", name := "nextAt", desc := "(III)I" } : Jvm.MethodName) prog_20_method_37_code (7 : Nat) (Option.some Jvm.ClassFile.FieldType.int)) ∈ lw_all := lw_g (lw_at lw_m7 110 rfl) rfl
theorem q1614 : (Jvm.Cond.methodLink "GateRoadModel" (226 : Nat) ({ cls := "GateRoadModel", name := "orderOf", desc := "(II)I" } : Jvm.MethodName)) ∈ lw_all := lw_g (lw_at lw_m7 111 rfl) rfl
theorem q1615 : (Jvm.Cond.privateMethod ({ cls := "GateRoadModel", name := "orderOf", desc := "(II)I" } : Jvm.MethodName)) ∈ lw_tbl := lw_at lw_m7 112 rfl
theorem q1616 : (Jvm.Cond.instanceMethod ({ cls := "GateRoadModel", name := "orderOf", desc := "(II)I" } : Jvm.MethodName)) ∈ lw_all := lw_g (lw_at lw_m7 113 rfl) rfl
theorem q1617 : (Jvm.Cond.code ({ cls := "GateRoadModel", name := "orderOf", desc := "(II)I" } : Jvm.MethodName) prog_20_method_36_code (3 : Nat) (Option.some Jvm.ClassFile.FieldType.int)) ∈ lw_all := lw_g (lw_at lw_m7 114 rfl) rfl
theorem q1618 : (Jvm.Cond.methodLink "GateRoadModel" (248 : Nat) ({ cls := "GateRoadModel", name := "cost", desc := "(II)I" } : Jvm.MethodName)) ∈ lw_all := lw_g (lw_at lw_m7 115 rfl) rfl
theorem q1619 : (Jvm.Cond.privateMethod ({ cls := "GateRoadModel", name := "cost", desc := "(II)I" } : Jvm.MethodName)) ∈ lw_tbl := lw_at lw_m7 116 rfl
theorem q1620 : (Jvm.Cond.instanceMethod ({ cls := "GateRoadModel", name := "cost", desc := "(II)I" } : Jvm.MethodName)) ∈ lw_all := lw_g (lw_at lw_m7 117 rfl) rfl
theorem q1621 : (Jvm.Cond.code ({ cls := "GateRoadModel", name := "cost", desc := "(II)I" } : Jvm.MethodName) prog_20_method_42_code (3 : Nat) (Option.some Jvm.ClassFile.FieldType.int)) ∈ lw_all := lw_g (lw_at lw_m7 118 rfl) rfl
theorem q1622 : (Jvm.Cond.methodLink "GateRoadModel" (239 : Nat) ({ cls := "GateRoadModel", name := "names", desc := "(II)V" } : Jvm.MethodName)) ∈ lw_all := lw_g (lw_at lw_m7 119 rfl) rfl
theorem q1623 : (Jvm.Cond.privateMethod ({ cls := "GateRoadModel", name := "names", desc := "(II)V" } : Jvm.MethodName)) ∈ lw_tbl := lw_at lw_m7 120 rfl
theorem q1624 : (Jvm.Cond.instanceMethod ({ cls := "GateRoadModel", name := "names", desc := "(II)V" } : Jvm.MethodName)) ∈ lw_all := lw_g (lw_at lw_m7 121 rfl) rfl
theorem q1625 : (Jvm.Cond.code ({ cls := "GateRoadModel", name := "names", desc := "(II)V" } : Jvm.MethodName) prog_20_method_41_code (4 : Nat) (Option.none : Option Jvm.ClassFile.FieldType)) ∈ lw_all := lw_g (lw_at lw_m7 122 rfl) rfl
theorem q1626 : (Jvm.Cond.methodLink "GateRoadModel" (236 : Nat) ({ cls := "GateRoadModel", name := "paid", desc := "(II)I" } : Jvm.MethodName)) ∈ lw_all := lw_g (lw_at lw_m7 123 rfl) rfl
theorem q1627 : (Jvm.Cond.privateMethod ({ cls := "GateRoadModel", name := "paid", desc := "(II)I" } : Jvm.MethodName)) ∈ lw_tbl := lw_at lw_m7 124 rfl
theorem q1628 : (Jvm.Cond.instanceMethod ({ cls := "GateRoadModel", name := "paid", desc := "(II)I" } : Jvm.MethodName)) ∈ lw_all := lw_g (lw_at lw_m7 125 rfl) rfl
theorem q1629 : (Jvm.Cond.code ({ cls := "GateRoadModel", name := "paid", desc := "(II)I" } : Jvm.MethodName) prog_20_method_39_code (4 : Nat) (Option.some Jvm.ClassFile.FieldType.int)) ∈ lw_all := lw_g (lw_at lw_m7 126 rfl) rfl
theorem q1630 : (Jvm.Cond.methodLink "GateRoadModel" (243 : Nat) ({ cls := "GateRoadModel", name := "worth", desc := "(I)I" } : Jvm.MethodName)) ∈ lw_all := lw_g (lw_at lw_m7 127 rfl) rfl
theorem q1631 : (Jvm.Cond.privateMethod ({ cls := "GateRoadModel", name := "worth", desc := "(I)I" } : Jvm.MethodName)) ∈ lw_tbl := lw_at lw_m7 128 rfl
theorem q1632 : (Jvm.Cond.instanceMethod ({ cls := "GateRoadModel", name := "worth", desc := "(I)I" } : Jvm.MethodName)) ∈ lw_all := lw_g (lw_at lw_m7 129 rfl) rfl
theorem q1633 : (Jvm.Cond.code ({ cls := "GateRoadModel", name := "worth", desc := "(I)I" } : Jvm.MethodName) prog_20_method_27_code (5 : Nat) (Option.some Jvm.ClassFile.FieldType.int)) ∈ lw_all := lw_g (lw_at lw_m7 130 rfl) rfl
theorem q1634 : (Jvm.Cond.methodLink "GateRoadModel" (210 : Nat) ({ cls := "GateRoadModel", name := "two", desc := "(III)I" } : Jvm.MethodName)) ∈ lw_all := lw_g (lw_at lw_m7 131 rfl) rfl
theorem q1635 : (Jvm.Cond.static ({ cls := "GateRoadModel", name := "two", desc := "(III)I" } : Jvm.MethodName)) ∈ lw_all := lw_g (lw_at lw_m7 132 rfl) rfl
theorem q1636 : (Jvm.Cond.code ({ cls := "GateRoadModel", name := "two", desc := "(III)I" } : Jvm.MethodName) prog_20_method_26_code (3 : Nat) (Option.some Jvm.ClassFile.FieldType.int)) ∈ lw_all := lw_g (lw_at lw_m7 133 rfl) rfl
theorem q1637 : (Jvm.Cond.methodLink "GateRoadModel" (246 : Nat) ({ cls := "GateRoadModel", name := "held", desc := "(I)I" } : Jvm.MethodName)) ∈ lw_all := lw_g (lw_at lw_m7 134 rfl) rfl
theorem q1638 : (Jvm.Cond.static ({ cls := "GateRoadModel", name := "held", desc := "(I)I" } : Jvm.MethodName)) ∈ lw_all := lw_g (lw_at lw_m7 135 rfl) rfl
theorem q1639 : (Jvm.Cond.code ({ cls := "GateRoadModel", name := "held", desc := "(I)I" } : Jvm.MethodName) prog_20_method_40_code (1 : Nat) (Option.some Jvm.ClassFile.FieldType.int)) ∈ lw_all := lw_g (lw_at lw_m7 136 rfl) rfl
theorem q1640 : (Jvm.Cond.methodLink "GateRoadModel" (261 : Nat) ({ cls := "GateRoadModel", name := "lost", desc := "(II)I" } : Jvm.MethodName)) ∈ lw_all := lw_g (lw_at lw_m7 137 rfl) rfl
theorem q1641 : (Jvm.Cond.privateMethod ({ cls := "GateRoadModel", name := "lost", desc := "(II)I" } : Jvm.MethodName)) ∈ lw_tbl := lw_at lw_m7 138 rfl
theorem q1642 : (Jvm.Cond.instanceMethod ({ cls := "GateRoadModel", name := "lost", desc := "(II)I" } : Jvm.MethodName)) ∈ lw_all := lw_g (lw_at lw_m7 139 rfl) rfl
theorem q1643 : (Jvm.Cond.code ({ cls := "GateRoadModel", name := "lost", desc := "(II)I" } : Jvm.MethodName) prog_20_method_43_code (3 : Nat) (Option.some Jvm.ClassFile.FieldType.int)) ∈ lw_all := lw_g (lw_at lw_m7 140 rfl) rfl
theorem q1645 : (Jvm.Cond.instanceMethod ({ cls := "GateRoadModel", name := "line", desc := "(III)I" } : Jvm.MethodName)) ∈ lw_all := lw_g (lw_at lw_m7 142 rfl) rfl
theorem q1646 : (Jvm.Cond.selects "GateRoadModel" ({ cls := "GateRoadModel", name := "line", desc := "(III)I" } : Jvm.MethodName) ({ cls := "GateRoadModel", name := "line", desc := "(III)I" } : Jvm.MethodName)) ∈ lw_all := lw_g (lw_at lw_m7 143 rfl) rfl
theorem q1647 : (Jvm.Cond.code ({ cls := "GateRoadModel", name := "line", desc := "(III)I" } : Jvm.MethodName) prog_20_method_47_code (7 : Nat) (Option.some Jvm.ClassFile.FieldType.int)) ∈ lw_all := lw_g (lw_at lw_m7 144 rfl) rfl
theorem q1649 : (Jvm.Cond.instanceMethod ({ cls := "GateRoadModel", name := "passes", desc := "(II)I" } : Jvm.MethodName)) ∈ lw_all := lw_g (lw_at lw_m7 146 rfl) rfl
theorem q1650 : (Jvm.Cond.selects "GateRoadModel" ({ cls := "GateRoadModel", name := "passes", desc := "(II)I" } : Jvm.MethodName) ({ cls := "GateRoadModel", name := "passes", desc := "(II)I" } : Jvm.MethodName)) ∈ lw_all := lw_g (lw_at lw_m7 147 rfl) rfl
theorem q1651 : (Jvm.Cond.code ({ cls := "GateRoadModel", name := "passes", desc := "(II)I" } : Jvm.MethodName) prog_20_method_48_code (3 : Nat) (Option.some Jvm.ClassFile.FieldType.int)) ∈ lw_all := lw_g (lw_at lw_m7 148 rfl) rfl
theorem q1653 : (Jvm.Cond.instanceMethod ({ cls := "GateRoadModel", name := "sum", desc := "(II)J" } : Jvm.MethodName)) ∈ lw_all := lw_g (lw_at lw_m7 150 rfl) rfl
theorem q1654 : (Jvm.Cond.selects "GateRoadModel" ({ cls := "GateRoadModel", name := "sum", desc := "(II)J" } : Jvm.MethodName) ({ cls := "GateRoadModel", name := "sum", desc := "(II)J" } : Jvm.MethodName)) ∈ lw_all := lw_g (lw_at lw_m7 151 rfl) rfl
theorem q1655 : (Jvm.Cond.code ({ cls := "GateRoadModel", name := "sum", desc := "(II)J" } : Jvm.MethodName) prog_20_method_49_code (8 : Nat) (Option.some Jvm.ClassFile.FieldType.long)) ∈ lw_all := lw_g (lw_at lw_m7 152 rfl) rfl
theorem q1656 : (Jvm.Cond.constantLong "GateRoadModel" (264 : Nat) (-4611686018427387904 : Int64)) ∈ lw_all := lw_g (lw_at lw_m7 153 rfl) rfl
theorem q1657 : (Jvm.Cond.methodLink "GateRoadModel" (266 : Nat) ({ cls := "GateRoadModel", name := "costNow", desc := "(I)J" } : Jvm.MethodName)) ∈ lw_all := lw_g (lw_at lw_m7 154 rfl) rfl
theorem q1658 : (Jvm.Cond.privateMethod ({ cls := "GateRoadModel", name := "costNow", desc := "(I)J" } : Jvm.MethodName)) ∈ lw_tbl := lw_at lw_m7 155 rfl
theorem q1659 : (Jvm.Cond.instanceMethod ({ cls := "GateRoadModel", name := "costNow", desc := "(I)J" } : Jvm.MethodName)) ∈ lw_all := lw_g (lw_at lw_m7 156 rfl) rfl
theorem q1660 : (Jvm.Cond.code ({ cls := "GateRoadModel", name := "costNow", desc := "(I)J" } : Jvm.MethodName) prog_20_method_45_code (2 : Nat) (Option.some Jvm.ClassFile.FieldType.long)) ∈ lw_all := lw_g (lw_at lw_m7 157 rfl) rfl
theorem q1661 : (Jvm.Cond.methodLink "GateRoadModel" (257 : Nat) ({ cls := "GateRoadModel", name := "costAll", desc := "(I)J" } : Jvm.MethodName)) ∈ lw_all := lw_g (lw_at lw_m7 158 rfl) rfl
theorem q1662 : (Jvm.Cond.privateMethod ({ cls := "GateRoadModel", name := "costAll", desc := "(I)J" } : Jvm.MethodName)) ∈ lw_tbl := lw_at lw_m7 159 rfl
theorem q1663 : (Jvm.Cond.instanceMethod ({ cls := "GateRoadModel", name := "costAll", desc := "(I)J" } : Jvm.MethodName)) ∈ lw_all := lw_g (lw_at lw_m7 160 rfl) rfl
theorem q1664 : (Jvm.Cond.code ({ cls := "GateRoadModel", name := "costAll", desc := "(I)J" } : Jvm.MethodName) prog_20_method_44_code (5 : Nat) (Option.some Jvm.ClassFile.FieldType.long)) ∈ lw_all := lw_g (lw_at lw_m7 161 rfl) rfl
theorem q1666 : (Jvm.Cond.instanceMethod ({ cls := "GateRoadModel", name := "judge", desc := "(II)I" } : Jvm.MethodName)) ∈ lw_all := lw_g (lw_at lw_m7 163 rfl) rfl
theorem q1667 : (Jvm.Cond.selects "GateRoadModel" ({ cls := "GateRoadModel", name := "judge", desc := "(II)I" } : Jvm.MethodName) ({ cls := "GateRoadModel", name := "judge", desc := "(II)I" } : Jvm.MethodName)) ∈ lw_all := lw_g (lw_at lw_m7 164 rfl) rfl
theorem q1668 : (Jvm.Cond.code ({ cls := "GateRoadModel", name := "judge", desc := "(II)I" } : Jvm.MethodName) prog_20_method_52_code (3 : Nat) (Option.some Jvm.ClassFile.FieldType.int)) ∈ lw_all := lw_g (lw_at lw_m7 165 rfl) rfl
theorem q1669 : (Jvm.Cond.methodLink "GateRoadModel" (281 : Nat) ({ cls := "GateRoadModel", name := "looks", desc := "(I)V" } : Jvm.MethodName)) ∈ lw_all := lw_g (lw_at lw_m7 166 rfl) rfl
theorem q1670 : (Jvm.Cond.privateMethod ({ cls := "GateRoadModel", name := "looks", desc := "(I)V" } : Jvm.MethodName)) ∈ lw_tbl := lw_at lw_m7 167 rfl
theorem q1671 : (Jvm.Cond.instanceMethod ({ cls := "GateRoadModel", name := "looks", desc := "(I)V" } : Jvm.MethodName)) ∈ lw_all := lw_g (lw_at lw_m7 168 rfl) rfl
theorem q1672 : (Jvm.Cond.code ({ cls := "GateRoadModel", name := "looks", desc := "(I)V" } : Jvm.MethodName) prog_20_method_51_code (7 : Nat) (Option.none : Option Jvm.ClassFile.FieldType)) ∈ lw_all := lw_g (lw_at lw_m7 169 rfl) rfl
theorem q1673 : (Jvm.Cond.methodLink "GateRoadModel" (272 : Nat) ({ cls := "GateRoadModel", name := "costBy", desc := "(III)I" } : Jvm.MethodName)) ∈ lw_all := lw_g (lw_at lw_m7 170 rfl) rfl
theorem q1674 : (Jvm.Cond.privateMethod ({ cls := "GateRoadModel", name := "costBy", desc := "(III)I" } : Jvm.MethodName)) ∈ lw_tbl := lw_at lw_m7 171 rfl
theorem q1675 : (Jvm.Cond.instanceMethod ({ cls := "GateRoadModel", name := "costBy", desc := "(III)I" } : Jvm.MethodName)) ∈ lw_all := lw_g (lw_at lw_m7 172 rfl) rfl
theorem q1676 : (Jvm.Cond.code ({ cls := "GateRoadModel", name := "costBy", desc := "(III)I" } : Jvm.MethodName) prog_20_method_50_code (6 : Nat) (Option.some Jvm.ClassFile.FieldType.int)) ∈ lw_all := lw_g (lw_at lw_m7 173 rfl) rfl
theorem q1678 : (Jvm.Cond.instanceMethod ({ cls := "GateRoadModel", name := "rest", desc := "(II)I" } : Jvm.MethodName)) ∈ lw_all := lw_g (lw_at lw_m7 175 rfl) rfl
theorem q1679 : (Jvm.Cond.selects "GateRoadModel" ({ cls := "GateRoadModel", name := "rest", desc := "(II)I" } : Jvm.MethodName) ({ cls := "GateRoadModel", name := "rest", desc := "(II)I" } : Jvm.MethodName)) ∈ lw_all := lw_g (lw_at lw_m7 176 rfl) rfl
theorem q1680 : (Jvm.Cond.code ({ cls := "GateRoadModel", name := "rest", desc := "(II)I" } : Jvm.MethodName) prog_20_method_54_code (5 : Nat) (Option.some Jvm.ClassFile.FieldType.int)) ∈ lw_all := lw_g (lw_at lw_m7 177 rfl) rfl
theorem q1681 : (Jvm.Cond.methodLink "GateRoadModel" (284 : Nat) ({ cls := "GateRoadModel", name := "moves", desc := "(II)I" } : Jvm.MethodName)) ∈ lw_all := lw_g (lw_at lw_m7 178 rfl) rfl
theorem q1682 : (Jvm.Cond.privateMethod ({ cls := "GateRoadModel", name := "moves", desc := "(II)I" } : Jvm.MethodName)) ∈ lw_tbl := lw_at lw_m7 179 rfl
theorem q1683 : (Jvm.Cond.instanceMethod ({ cls := "GateRoadModel", name := "moves", desc := "(II)I" } : Jvm.MethodName)) ∈ lw_all := lw_g (lw_at lw_m7 180 rfl) rfl
theorem q1684 : (Jvm.Cond.code ({ cls := "GateRoadModel", name := "moves", desc := "(II)I" } : Jvm.MethodName) prog_20_method_53_code (5 : Nat) (Option.some Jvm.ClassFile.FieldType.int)) ∈ lw_all := lw_g (lw_at lw_m7 181 rfl) rfl
theorem q1686 : (Jvm.Cond.instanceMethod ({ cls := "GateRoadModel", name := "other", desc := "(III)I" } : Jvm.MethodName)) ∈ lw_all := lw_g (lw_at lw_m7 183 rfl) rfl
theorem q1687 : (Jvm.Cond.selects "GateRoadModel" ({ cls := "GateRoadModel", name := "other", desc := "(III)I" } : Jvm.MethodName) ({ cls := "GateRoadModel", name := "other", desc := "(III)I" } : Jvm.MethodName)) ∈ lw_all := lw_g (lw_at lw_m7 184 rfl) rfl
theorem q1688 : (Jvm.Cond.code ({ cls := "GateRoadModel", name := "other", desc := "(III)I" } : Jvm.MethodName) prog_20_method_55_code (4 : Nat) (Option.some Jvm.ClassFile.FieldType.int)) ∈ lw_all := lw_g (lw_at lw_m7 185 rfl) rfl
theorem q1690 : (Jvm.Cond.instanceMethod ({ cls := "GateRoadModel", name := "swap", desc := "(III)I" } : Jvm.MethodName)) ∈ lw_all := lw_g (lw_at lw_m7 187 rfl) rfl
theorem q1691 : (Jvm.Cond.selects "GateRoadModel" ({ cls := "GateRoadModel", name := "swap", desc := "(III)I" } : Jvm.MethodName) ({ cls := "GateRoadModel", name := "swap", desc := "(III)I" } : Jvm.MethodName)) ∈ lw_all := lw_g (lw_at lw_m7 188 rfl) rfl
theorem q1692 : (Jvm.Cond.code ({ cls := "GateRoadModel", name := "swap", desc := "(III)I" } : Jvm.MethodName) prog_20_method_56_code (7 : Nat) (Option.some Jvm.ClassFile.FieldType.int)) ∈ lw_all := lw_g (lw_at lw_m7 189 rfl) rfl
theorem q1694 : (Jvm.Cond.instanceMethod ({ cls := "GateRoadModel", name := "beside", desc := "(IIII)J" } : Jvm.MethodName)) ∈ lw_all := lw_g (lw_at lw_m7 191 rfl) rfl
theorem q1695 : (Jvm.Cond.selects "GateRoadModel" ({ cls := "GateRoadModel", name := "beside", desc := "(IIII)J" } : Jvm.MethodName) ({ cls := "GateRoadModel", name := "beside", desc := "(IIII)J" } : Jvm.MethodName)) ∈ lw_all := lw_g (lw_at lw_m7 192 rfl) rfl
theorem q1696 : (Jvm.Cond.code ({ cls := "GateRoadModel", name := "beside", desc := "(IIII)J" } : Jvm.MethodName) prog_20_method_58_code (5 : Nat) (Option.some Jvm.ClassFile.FieldType.long)) ∈ lw_all := lw_g (lw_at lw_m7 193 rfl) rfl
theorem q1697 : (Jvm.Cond.methodLink "GateRoadModel" (287 : Nat) ({ cls := "GateRoadModel", name := "costWith", desc := "(IIII)J" } : Jvm.MethodName)) ∈ lw_all := lw_g (lw_at lw_m7 194 rfl) rfl
theorem q1698 : (Jvm.Cond.privateMethod ({ cls := "GateRoadModel", name := "costWith", desc := "(IIII)J" } : Jvm.MethodName)) ∈ lw_tbl := lw_at lw_m7 195 rfl
theorem q1699 : (Jvm.Cond.instanceMethod ({ cls := "GateRoadModel", name := "costWith", desc := "(IIII)J" } : Jvm.MethodName)) ∈ lw_all := lw_g (lw_at lw_m7 196 rfl) rfl
theorem q1700 : (Jvm.Cond.code ({ cls := "GateRoadModel", name := "costWith", desc := "(IIII)J" } : Jvm.MethodName) prog_20_method_57_code (8 : Nat) (Option.some Jvm.ClassFile.FieldType.long)) ∈ lw_all := lw_g (lw_at lw_m7 197 rfl) rfl
theorem q1702 : (Jvm.Cond.instanceMethod ({ cls := "GateRoadModel", name := "sticks", desc := "(IIIII)J" } : Jvm.MethodName)) ∈ lw_all := lw_g (lw_at lw_m7 199 rfl) rfl
theorem q1703 : (Jvm.Cond.selects "GateRoadModel" ({ cls := "GateRoadModel", name := "sticks", desc := "(IIIII)J" } : Jvm.MethodName) ({ cls := "GateRoadModel", name := "sticks", desc := "(IIIII)J" } : Jvm.MethodName)) ∈ lw_all := lw_g (lw_at lw_m7 200 rfl) rfl
theorem q1704 : (Jvm.Cond.code ({ cls := "GateRoadModel", name := "sticks", desc := "(IIIII)J" } : Jvm.MethodName) prog_20_method_60_code (6 : Nat) (Option.some Jvm.ClassFile.FieldType.long)) ∈ lw_all := lw_g (lw_at lw_m7 201 rfl) rfl
theorem q1705 : (Jvm.Cond.constantLong "GateRoadModel" (291 : Nat) (10 : Int64)) ∈ lw_all := lw_g (lw_at lw_m7 202 rfl) rfl
theorem q1706 : (Jvm.Cond.methodLink "GateRoadModel" (293 : Nat) ({ cls := "GateRoadModel", name := "lowest", desc := "(JJI)J" } : Jvm.MethodName)) ∈ lw_all := lw_g (lw_at lw_m7 203 rfl) rfl
theorem q1707 : (Jvm.Cond.static ({ cls := "GateRoadModel", name := "lowest", desc := "(JJI)J" } : Jvm.MethodName)) ∈ lw_all := lw_g (lw_at lw_m7 204 rfl) rfl
theorem q1708 : (Jvm.Cond.code ({ cls := "GateRoadModel", name := "lowest", desc := "(JJI)J" } : Jvm.MethodName) prog_20_method_59_code (11 : Nat) (Option.some Jvm.ClassFile.FieldType.long)) ∈ lw_all := lw_g (lw_at lw_m7 205 rfl) rfl
theorem q1710 : (Jvm.Cond.instanceMethod ({ cls := "GateRoadModel", name := "shift", desc := "(II)J" } : Jvm.MethodName)) ∈ lw_all := lw_g (lw_at lw_m7 207 rfl) rfl
theorem q1711 : (Jvm.Cond.selects "GateRoadModel" ({ cls := "GateRoadModel", name := "shift", desc := "(II)J" } : Jvm.MethodName) ({ cls := "GateRoadModel", name := "shift", desc := "(II)J" } : Jvm.MethodName)) ∈ lw_all := lw_g (lw_at lw_m7 208 rfl) rfl
theorem q1712 : (Jvm.Cond.code ({ cls := "GateRoadModel", name := "shift", desc := "(II)J" } : Jvm.MethodName) prog_20_method_61_code (6 : Nat) (Option.some Jvm.ClassFile.FieldType.long)) ∈ lw_all := lw_g (lw_at lw_m7 209 rfl) rfl
theorem q1714 : (Jvm.Cond.instanceMethod ({ cls := "GateRoadModel", name := "finest", desc := "(IIII)I" } : Jvm.MethodName)) ∈ lw_all := lw_g (lw_at lw_m7 211 rfl) rfl
theorem q1715 : (Jvm.Cond.selects "GateRoadModel" ({ cls := "GateRoadModel", name := "finest", desc := "(IIII)I" } : Jvm.MethodName) ({ cls := "GateRoadModel", name := "finest", desc := "(IIII)I" } : Jvm.MethodName)) ∈ lw_all := lw_g (lw_at lw_m7 212 rfl) rfl
theorem q1716 : (Jvm.Cond.code ({ cls := "GateRoadModel", name := "finest", desc := "(IIII)I" } : Jvm.MethodName) prog_20_method_63_code (10 : Nat) (Option.some Jvm.ClassFile.FieldType.int)) ∈ lw_all := lw_g (lw_at lw_m7 213 rfl) rfl
theorem q1717 : (Jvm.Cond.methodLink "GateRoadModel" (297 : Nat) ({ cls := "GateRoadModel", name := "waited", desc := "(I)I" } : Jvm.MethodName)) ∈ lw_all := lw_g (lw_at lw_m7 214 rfl) rfl
theorem q1718 : (Jvm.Cond.privateMethod ({ cls := "GateRoadModel", name := "waited", desc := "(I)I" } : Jvm.MethodName)) ∈ lw_tbl := lw_at lw_m7 215 rfl
theorem q1719 : (Jvm.Cond.instanceMethod ({ cls := "GateRoadModel", name := "waited", desc := "(I)I" } : Jvm.MethodName)) ∈ lw_all := lw_g (lw_at lw_m7 216 rfl) rfl
theorem q1720 : (Jvm.Cond.code ({ cls := "GateRoadModel", name := "waited", desc := "(I)I" } : Jvm.MethodName) prog_20_method_62_code (4 : Nat) (Option.some Jvm.ClassFile.FieldType.int)) ∈ lw_all := lw_g (lw_at lw_m7 217 rfl) rfl
theorem q1722 : (Jvm.Cond.instanceMethod ({ cls := "GateRoadModel", name := "split", desc := "(IIII)J" } : Jvm.MethodName)) ∈ lw_all := lw_g (lw_at lw_m7 219 rfl) rfl
theorem q1723 : (Jvm.Cond.selects "GateRoadModel" ({ cls := "GateRoadModel", name := "split", desc := "(IIII)J" } : Jvm.MethodName) ({ cls := "GateRoadModel", name := "split", desc := "(IIII)J" } : Jvm.MethodName)) ∈ lw_all := lw_g (lw_at lw_m7 220 rfl) rfl
theorem q1724 : (Jvm.Cond.code ({ cls := "GateRoadModel", name := "split", desc := "(IIII)J" } : Jvm.MethodName) prog_20_method_64_code (11 : Nat) (Option.some Jvm.ClassFile.FieldType.long)) ∈ lw_all := lw_g (lw_at lw_m7 221 rfl) rfl
theorem q1726 : (Jvm.Cond.instanceMethod ({ cls := "GateRoadModel", name := "count", desc := "(I)I" } : Jvm.MethodName)) ∈ lw_all := lw_g (lw_at lw_m7 223 rfl) rfl
theorem q1727 : (Jvm.Cond.selects "GateRoadModel" ({ cls := "GateRoadModel", name := "count", desc := "(I)I" } : Jvm.MethodName) ({ cls := "GateRoadModel", name := "count", desc := "(I)I" } : Jvm.MethodName)) ∈ lw_all := lw_g (lw_at lw_m7 224 rfl) rfl
theorem q1728 : (Jvm.Cond.code ({ cls := "GateRoadModel", name := "count", desc := "(I)I" } : Jvm.MethodName) prog_20_method_65_code (2 : Nat) (Option.some Jvm.ClassFile.FieldType.int)) ∈ lw_all := lw_g (lw_at lw_m7 225 rfl) rfl
theorem q1730 : (Jvm.Cond.instanceMethod ({ cls := "GateRoadModel", name := "image", desc := "()I" } : Jvm.MethodName)) ∈ lw_all := lw_g (lw_at lw_m7 227 rfl) rfl
theorem q1731 : (Jvm.Cond.selects "GateRoadModel" ({ cls := "GateRoadModel", name := "image", desc := "()I" } : Jvm.MethodName) ({ cls := "GateRoadModel", name := "image", desc := "()I" } : Jvm.MethodName)) ∈ lw_all := lw_g (lw_at lw_m7 228 rfl) rfl
theorem q1732 : (Jvm.Cond.code ({ cls := "GateRoadModel", name := "image", desc := "()I" } : Jvm.MethodName) prog_20_method_66_code (2 : Nat) (Option.some Jvm.ClassFile.FieldType.int)) ∈ lw_all := lw_g (lw_at lw_m7 229 rfl) rfl
theorem q1734 : (Jvm.Cond.instanceMethod ({ cls := "GateRoadModel", name := "back", desc := "()I" } : Jvm.MethodName)) ∈ lw_all := lw_g (lw_at lw_m7 231 rfl) rfl
theorem q1735 : (Jvm.Cond.selects "GateRoadModel" ({ cls := "GateRoadModel", name := "back", desc := "()I" } : Jvm.MethodName) ({ cls := "GateRoadModel", name := "back", desc := "()I" } : Jvm.MethodName)) ∈ lw_all := lw_g (lw_at lw_m7 232 rfl) rfl
theorem q1736 : (Jvm.Cond.code ({ cls := "GateRoadModel", name := "back", desc := "()I" } : Jvm.MethodName) prog_20_method_67_code (2 : Nat) (Option.some Jvm.ClassFile.FieldType.int)) ∈ lw_all := lw_g (lw_at lw_m7 233 rfl) rfl
theorem q1738 : (Jvm.Cond.instanceMethod ({ cls := "GateRoadModel", name := "sheet", desc := "(III)I" } : Jvm.MethodName)) ∈ lw_all := lw_g (lw_at lw_m7 235 rfl) rfl
theorem q1739 : (Jvm.Cond.selects "GateRoadModel" ({ cls := "GateRoadModel", name := "sheet", desc := "(III)I" } : Jvm.MethodName) ({ cls := "GateRoadModel", name := "sheet", desc := "(III)I" } : Jvm.MethodName)) ∈ lw_all := lw_g (lw_at lw_m7 236 rfl) rfl
theorem q1740 : (Jvm.Cond.code ({ cls := "GateRoadModel", name := "sheet", desc := "(III)I" } : Jvm.MethodName) prog_20_method_68_code (5 : Nat) (Option.some Jvm.ClassFile.FieldType.int)) ∈ lw_all := lw_g (lw_at lw_m7 237 rfl) rfl
theorem q1742 : (Jvm.Cond.instanceMethod ({ cls := "GateRoadModel", name := "cell", desc := "(III)I" } : Jvm.MethodName)) ∈ lw_all := lw_g (lw_at lw_m7 239 rfl) rfl
theorem q1743 : (Jvm.Cond.selects "GateRoadModel" ({ cls := "GateRoadModel", name := "cell", desc := "(III)I" } : Jvm.MethodName) ({ cls := "GateRoadModel", name := "cell", desc := "(III)I" } : Jvm.MethodName)) ∈ lw_all := lw_g (lw_at lw_m8 0 rfl) rfl
theorem q1744 : (Jvm.Cond.code ({ cls := "GateRoadModel", name := "cell", desc := "(III)I" } : Jvm.MethodName) prog_20_method_69_code (4 : Nat) (Option.some Jvm.ClassFile.FieldType.int)) ∈ lw_all := lw_g (lw_at lw_m8 1 rfl) rfl
theorem q1746 : (Jvm.Cond.instanceMethod ({ cls := "GateRoadModel", name := "copy", desc := "(IIIII)I" } : Jvm.MethodName)) ∈ lw_all := lw_g (lw_at lw_m8 3 rfl) rfl
theorem q1747 : (Jvm.Cond.selects "GateRoadModel" ({ cls := "GateRoadModel", name := "copy", desc := "(IIIII)I" } : Jvm.MethodName) ({ cls := "GateRoadModel", name := "copy", desc := "(IIIII)I" } : Jvm.MethodName)) ∈ lw_all := lw_g (lw_at lw_m8 4 rfl) rfl
theorem q1748 : (Jvm.Cond.code ({ cls := "GateRoadModel", name := "copy", desc := "(IIIII)I" } : Jvm.MethodName) prog_20_method_70_code (10 : Nat) (Option.some Jvm.ClassFile.FieldType.int)) ∈ lw_all := lw_g (lw_at lw_m8 5 rfl) rfl
theorem q1750 : (Jvm.Cond.instanceMethod ({ cls := "GateRoadModel", name := "rates", desc := "(IIII)I" } : Jvm.MethodName)) ∈ lw_all := lw_g (lw_at lw_m8 7 rfl) rfl
theorem q1751 : (Jvm.Cond.selects "GateRoadModel" ({ cls := "GateRoadModel", name := "rates", desc := "(IIII)I" } : Jvm.MethodName) ({ cls := "GateRoadModel", name := "rates", desc := "(IIII)I" } : Jvm.MethodName)) ∈ lw_all := lw_g (lw_at lw_m8 8 rfl) rfl
theorem q1752 : (Jvm.Cond.code ({ cls := "GateRoadModel", name := "rates", desc := "(IIII)I" } : Jvm.MethodName) prog_20_method_71_code (9 : Nat) (Option.some Jvm.ClassFile.FieldType.int)) ∈ lw_all := lw_g (lw_at lw_m8 9 rfl) rfl
theorem q1753 : (Jvm.Cond.methodLink "GateRoadModel" (313 : Nat) ({ cls := "GateRoadModel", name := "rate", desc := "(IIII)I" } : Jvm.MethodName)) ∈ lw_all := lw_g (lw_at lw_m8 10 rfl) rfl
theorem q1755 : (Jvm.Cond.instanceMethod ({ cls := "GateRoadModel", name := "taken", desc := "(II)I" } : Jvm.MethodName)) ∈ lw_all := lw_g (lw_at lw_m8 12 rfl) rfl
theorem q1756 : (Jvm.Cond.selects "GateRoadModel" ({ cls := "GateRoadModel", name := "taken", desc := "(II)I" } : Jvm.MethodName) ({ cls := "GateRoadModel", name := "taken", desc := "(II)I" } : Jvm.MethodName)) ∈ lw_all := lw_g (lw_at lw_m8 13 rfl) rfl
theorem q1757 : (Jvm.Cond.code ({ cls := "GateRoadModel", name := "taken", desc := "(II)I" } : Jvm.MethodName) prog_20_method_73_code (3 : Nat) (Option.some Jvm.ClassFile.FieldType.int)) ∈ lw_all := lw_g (lw_at lw_m8 14 rfl) rfl
theorem q1758 : (Jvm.Cond.methodLink "GateRoadModel" (316 : Nat) ({ cls := "GateRoadModel", name := "isUnder", desc := "(II)Z" } : Jvm.MethodName)) ∈ lw_all := lw_g (lw_at lw_m8 15 rfl) rfl
theorem q1759 : (Jvm.Cond.static ({ cls := "GateRoadModel", name := "isUnder", desc := "(II)Z" } : Jvm.MethodName)) ∈ lw_all := lw_g (lw_at lw_m8 16 rfl) rfl
theorem q1760 : (Jvm.Cond.code ({ cls := "GateRoadModel", name := "isUnder", desc := "(II)Z" } : Jvm.MethodName) prog_20_method_72_code (2 : Nat) (Option.some Jvm.ClassFile.FieldType.boolean)) ∈ lw_all := lw_g (lw_at lw_m8 17 rfl) rfl
theorem q1792 : (Jvm.Cond.castable "GateRoadModel" "java/lang/Object") ∈ lw_tbl := lw_at lw_m8 49 rfl
theorem in_X7 : ∀ w ∈ wsX70, w ∈ lw_all := lw_in wsX70 [1384, 1386, 1388, 1390, 1392, 1394, 1396, 1398, 1400, 1402, 1404, 1406, 1408, 1410, 1412, 1414, 1416, 1418, 1420, 1422, 1424, 1426, 1428, 1430, 1432, 1434, 1436, 1438, 1440, 1442, 1444, 1446, 1448, 1450, 1452, 1454, 1456, 1458, 1460, 1462, 1464, 1466, 1468, 1470, 1472, 1474, 1476, 1478, 1480] (by decide +kernel) (by decide +kernel)
