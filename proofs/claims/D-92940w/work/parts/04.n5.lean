/-! FirstWordsModel -/
set_option maxRecDepth 100000
def RX5 : String := "FirstWordsModel"
def TX5 : u_T := fun k => match k with
  | 0 => ("FirstWordsModel", "things", "I", false)
  | 1 => ("FirstWordsModel", "thing", "[I", true)
  | 2 => ("FirstWordsModel", "meanings", "I", false)
  | 3 => ("FirstWordsModel", "having", "[I", true)
  | 4 => ("FirstWordsModel", "lacking", "[I", true)
  | 5 => ("FirstWordsModel", "sounds", "I", false)
  | 6 => ("FirstWordsModel", "target", "[I", true)
  | 7 => ("FirstWordsModel", "kinds", "I", false)
  | 8 => ("FirstWordsModel", "kind", "[I", true)
  | 9 => ("FirstWordsModel", "dThings", "I", false)
  | 10 => ("FirstWordsModel", "dThing", "[I", true)
  | 11 => ("FirstWordsModel", "dMeanings", "I", false)
  | 12 => ("FirstWordsModel", "dHaving", "[I", true)
  | 13 => ("FirstWordsModel", "dLacking", "[I", true)
  | 14 => ("FirstWordsModel", "dSounds", "I", false)
  | 15 => ("FirstWordsModel", "dTarget", "[I", true)
  | 16 => ("FirstWordsModel", "dKinds", "I", false)
  | 17 => ("FirstWordsModel", "dKind", "[I", true)
  | 18 => ("FirstWordsModel", "are", "[I", true)
  | 19 => ("FirstWordsModel", "tape", "[I", true)
  | 20 => ("FirstWordsModel", "taped", "I", false)
  | 21 => ("FirstWordsModel", "pos", "I", false)
  | 22 => ("FirstWordsModel", "from", "I", false)
  | 23 => ("FirstWordsModel", "sort", "I", false)
  | 24 => ("FirstWordsModel", "value", "I", false)
  | 25 => ("FirstWordsModel", "fault", "I", false)
  | 26 => ("FirstWordsModel", "wrongAt", "I", false)
  | 27 => ("FirstWordsModel", "st", "[I", true)
  | 28 => ("FirstWordsModel", "shows", "I", false)
  | 29 => ("FirstWordsModel", "shown", "[I", true)
  | 30 => ("FirstWordsModel", "row", "[I", true)
  | 31 => ("FirstWordsModel", "way", "[I", true)
  | 32 => ("FirstWordsModel", "bestWay", "[I", true)
  | 33 => ("FirstWordsModel", "leftNow", "I", false)
  | 34 => ("FirstWordsModel", "their", "I", false)
  | 35 => ("FirstWordsModel", "theirThing", "[I", true)
  | 36 => ("FirstWordsModel", "theirSo", "[Z", true)
  | 37 => ("FirstWordsModel", "isKept", "[Z", true)
  | 38 => ("FirstWordsModel", "keptMany", "[I", true)
  | 39 => ("FirstWordsModel", "keptShown", "[I", true)
  | 40 => ("FirstWordsModel", "keptTheirs", "[I", true)
  | 41 => ("FirstWordsModel", "lanes", "[I", true)
  | 42 => ("FirstWordsModel", "sizes", "[I", true)
  | 43 => ("FirstWordsModel", "cells", "[I", true)
  | _ => ("FirstWordsModel", "torn", "I", false)
def tyX5 : Nat → FieldType := fun k => match k with
  | 0 => .int
  | 1 => .array .int
  | 2 => .int
  | 3 => .array .int
  | 4 => .array .int
  | 5 => .int
  | 6 => .array .int
  | 7 => .int
  | 8 => .array .int
  | 9 => .int
  | 10 => .array .int
  | 11 => .int
  | 12 => .array .int
  | 13 => .array .int
  | 14 => .int
  | 15 => .array .int
  | 16 => .int
  | 17 => .array .int
  | 18 => .array .int
  | 19 => .array .int
  | 20 => .int
  | 21 => .int
  | 22 => .int
  | 23 => .int
  | 24 => .int
  | 25 => .int
  | 26 => .int
  | 27 => .array .int
  | 28 => .int
  | 29 => .array .int
  | 30 => .array .int
  | 31 => .array .int
  | 32 => .array .int
  | 33 => .int
  | 34 => .int
  | 35 => .array .int
  | 36 => .array .boolean
  | 37 => .array .boolean
  | 38 => .array .int
  | 39 => .array .int
  | 40 => .array .int
  | 41 => .array .int
  | 42 => .array .int
  | 43 => .array .int
  | _ => .int
abbrev wsX50 : List Cond := u_ws RX5 TX5 45
set_option maxRecDepth 100000 in
theorem nmX5 : ∀ a, a < 45 → ∀ b, b < 45 → a ≠ b → (TX5 a).2.1 ≠ (TX5 b).2.1 := by decide +kernel
set_option maxRecDepth 100000 in
theorem tyX5_ok : ∀ k, k < 45 → parseFieldDescriptor (TX5 k).2.2.1 = some (tyX5 k) := by decide +kernel
abbrev cX5_init : ByteArray := prog_14_method_1_code
def yX5_init : MethodName := ⟨RX5, "<init>", "()V"⟩
def dkwX5_init_10 : List UInt8 := [42, 182, 0, 92, 177]
abbrev dktX5_init_10 : List UInt8 := dkwX5_init_10 ++ []
def dkwX5_init_9 : List UInt8 := [60, 27, 7, 162, 0, 17, 42, 180, 0, 80, 27, 16, 252, 79, 132, 1, 1, 167, 255, 240, 42, 182, 0, 89]
abbrev dktX5_init_9 : List UInt8 := dkwX5_init_9 ++ dktX5_init_10
def dkwX5_init_8 : List UInt8 := [42, 7, 188, 10, 181, 0, 80, 42, 7, 188, 10, 181, 0, 83, 42, 17, 0, 160, 188, 10, 181, 0, 86, 3]
abbrev dktX5_init_8 : List UInt8 := dkwX5_init_8 ++ dktX5_init_9
def dkwX5_init_7 : List UInt8 := [16, 6, 188, 10, 181, 0, 71, 42, 17, 0, 144, 188, 10, 181, 0, 74, 42, 16, 48, 188, 10, 181, 0, 77]
abbrev dktX5_init_7 : List UInt8 := dkwX5_init_7 ++ dktX5_init_8
def dkwX5_init_6 : List UInt8 := [42, 16, 12, 188, 10, 181, 0, 61, 42, 16, 12, 188, 4, 181, 0, 64, 42, 5, 188, 4, 181, 0, 68, 42]
abbrev dktX5_init_6 : List UInt8 := dkwX5_init_6 ++ dktX5_init_7
def dkwX5_init_5 : List UInt8 := [181, 0, 49, 42, 8, 188, 10, 181, 0, 52, 42, 7, 188, 10, 181, 0, 55, 42, 7, 188, 10, 181, 0, 58]
abbrev dktX5_init_5 : List UInt8 := dkwX5_init_5 ++ dktX5_init_6
def dkwX5_init_4 : List UInt8 := [17, 1, 144, 188, 10, 181, 0, 43, 42, 17, 0, 210, 188, 10, 181, 0, 46, 42, 16, 72, 188, 10]
abbrev dktX5_init_4 : List UInt8 := dkwX5_init_4 ++ dktX5_init_5
def dkwX5_init_3 : List UInt8 := [188, 10, 181, 0, 34, 42, 16, 30, 188, 10, 181, 0, 37, 42, 16, 12, 188, 10, 181, 0, 40, 42]
abbrev dktX5_init_3 : List UInt8 := dkwX5_init_3 ++ dktX5_init_4
def dkwX5_init_2 : List UInt8 := [188, 10, 181, 0, 25, 42, 16, 12, 188, 10, 181, 0, 28, 42, 16, 12, 188, 10, 181, 0, 31, 42, 7]
abbrev dktX5_init_2 : List UInt8 := dkwX5_init_2 ++ dktX5_init_3
def dkwX5_init_1 : List UInt8 := [188, 10, 181, 0, 16, 42, 7, 188, 10, 181, 0, 19, 42, 16, 30, 188, 10, 181, 0, 22, 42, 16, 8]
abbrev dktX5_init_1 : List UInt8 := dkwX5_init_1 ++ dktX5_init_2
def dkwX5_init_0 : List UInt8 := [42, 183, 0, 1, 42, 16, 8, 188, 10, 181, 0, 7, 42, 16, 12, 188, 10, 181, 0, 13, 42, 16, 12]
abbrev dktX5_init_0 : List UInt8 := dkwX5_init_0 ++ dktX5_init_1
theorem dksX5_init_0 : cX5_init.data.toList.drop 0 = dktX5_init_0 := by decide +kernel
theorem dksX5_init_1 : cX5_init.data.toList.drop 23 = dktX5_init_1 := dk_seg dksX5_init_0 23 rfl rfl
theorem dksX5_init_2 : cX5_init.data.toList.drop 46 = dktX5_init_2 := dk_seg dksX5_init_1 23 rfl rfl
theorem dksX5_init_3 : cX5_init.data.toList.drop 69 = dktX5_init_3 := dk_seg dksX5_init_2 23 rfl rfl
theorem dksX5_init_4 : cX5_init.data.toList.drop 91 = dktX5_init_4 := dk_seg dksX5_init_3 22 rfl rfl
theorem dksX5_init_5 : cX5_init.data.toList.drop 113 = dktX5_init_5 := dk_seg dksX5_init_4 22 rfl rfl
theorem dksX5_init_6 : cX5_init.data.toList.drop 137 = dktX5_init_6 := dk_seg dksX5_init_5 24 rfl rfl
theorem dksX5_init_7 : cX5_init.data.toList.drop 161 = dktX5_init_7 := dk_seg dksX5_init_6 24 rfl rfl
theorem dksX5_init_8 : cX5_init.data.toList.drop 185 = dktX5_init_8 := dk_seg dksX5_init_7 24 rfl rfl
theorem dksX5_init_9 : cX5_init.data.toList.drop 209 = dktX5_init_9 := dk_seg dksX5_init_8 24 rfl rfl
theorem dksX5_init_10 : cX5_init.data.toList.drop 233 = dktX5_init_10 := dk_seg dksX5_init_9 24 rfl rfl
theorem dX5_init_0 : decode cX5_init 0 = .ok (.aload_n 0, 1) := dk_42 (dk_at dksX5_init_0 0 rfl rfl)
theorem dX5_init_1 : decode cX5_init 1 = .ok (.invokespecial 1, 3) := dk_183 0 1 (dk_at dksX5_init_0 1 rfl rfl)
theorem dX5_init_4 : decode cX5_init 4 = .ok (.aload_n 0, 1) := dk_42 (dk_at dksX5_init_0 4 rfl rfl)
theorem dX5_init_5 : decode cX5_init 5 = .ok (.bipush 8, 2) := dk_16 8 (dk_at dksX5_init_0 5 rfl rfl)
theorem dX5_init_7 : decode cX5_init 7 = .ok (.newarray .int, 2) := dk_188_10 (dk_at dksX5_init_0 7 rfl rfl)
theorem dX5_init_9 : decode cX5_init 9 = .ok (.putfield 7, 3) := dk_181 0 7 (dk_at dksX5_init_0 9 rfl rfl)
theorem dX5_init_12 : decode cX5_init 12 = .ok (.aload_n 0, 1) := dk_42 (dk_at dksX5_init_0 12 rfl rfl)
theorem dX5_init_13 : decode cX5_init 13 = .ok (.bipush 12, 2) := dk_16 12 (dk_at dksX5_init_0 13 rfl rfl)
theorem dX5_init_15 : decode cX5_init 15 = .ok (.newarray .int, 2) := dk_188_10 (dk_at dksX5_init_0 15 rfl rfl)
theorem dX5_init_17 : decode cX5_init 17 = .ok (.putfield 13, 3) := dk_181 0 13 (dk_at dksX5_init_0 17 rfl rfl)
theorem dX5_init_20 : decode cX5_init 20 = .ok (.aload_n 0, 1) := dk_42 (dk_at dksX5_init_0 20 rfl rfl)
theorem dX5_init_21 : decode cX5_init 21 = .ok (.bipush 12, 2) := dk_16 12 (dk_at dksX5_init_0 21 rfl rfl)
theorem dX5_init_23 : decode cX5_init 23 = .ok (.newarray .int, 2) := dk_188_10 (dk_at dksX5_init_1 0 rfl rfl)
theorem dX5_init_25 : decode cX5_init 25 = .ok (.putfield 16, 3) := dk_181 0 16 (dk_at dksX5_init_1 2 rfl rfl)
theorem dX5_init_28 : decode cX5_init 28 = .ok (.aload_n 0, 1) := dk_42 (dk_at dksX5_init_1 5 rfl rfl)
theorem dX5_init_29 : decode cX5_init 29 = .ok (.iconst 4, 1) := dk_7 (dk_at dksX5_init_1 6 rfl rfl)
theorem dX5_init_30 : decode cX5_init 30 = .ok (.newarray .int, 2) := dk_188_10 (dk_at dksX5_init_1 7 rfl rfl)
theorem dX5_init_32 : decode cX5_init 32 = .ok (.putfield 19, 3) := dk_181 0 19 (dk_at dksX5_init_1 9 rfl rfl)
theorem dX5_init_35 : decode cX5_init 35 = .ok (.aload_n 0, 1) := dk_42 (dk_at dksX5_init_1 12 rfl rfl)
theorem dX5_init_36 : decode cX5_init 36 = .ok (.bipush 30, 2) := dk_16 30 (dk_at dksX5_init_1 13 rfl rfl)
theorem dX5_init_38 : decode cX5_init 38 = .ok (.newarray .int, 2) := dk_188_10 (dk_at dksX5_init_1 15 rfl rfl)
theorem dX5_init_40 : decode cX5_init 40 = .ok (.putfield 22, 3) := dk_181 0 22 (dk_at dksX5_init_1 17 rfl rfl)
theorem dX5_init_43 : decode cX5_init 43 = .ok (.aload_n 0, 1) := dk_42 (dk_at dksX5_init_1 20 rfl rfl)
theorem dX5_init_44 : decode cX5_init 44 = .ok (.bipush 8, 2) := dk_16 8 (dk_at dksX5_init_1 21 rfl rfl)
theorem dX5_init_46 : decode cX5_init 46 = .ok (.newarray .int, 2) := dk_188_10 (dk_at dksX5_init_2 0 rfl rfl)
theorem dX5_init_48 : decode cX5_init 48 = .ok (.putfield 25, 3) := dk_181 0 25 (dk_at dksX5_init_2 2 rfl rfl)
theorem dX5_init_51 : decode cX5_init 51 = .ok (.aload_n 0, 1) := dk_42 (dk_at dksX5_init_2 5 rfl rfl)
theorem dX5_init_52 : decode cX5_init 52 = .ok (.bipush 12, 2) := dk_16 12 (dk_at dksX5_init_2 6 rfl rfl)
theorem dX5_init_54 : decode cX5_init 54 = .ok (.newarray .int, 2) := dk_188_10 (dk_at dksX5_init_2 8 rfl rfl)
theorem dX5_init_56 : decode cX5_init 56 = .ok (.putfield 28, 3) := dk_181 0 28 (dk_at dksX5_init_2 10 rfl rfl)
theorem dX5_init_59 : decode cX5_init 59 = .ok (.aload_n 0, 1) := dk_42 (dk_at dksX5_init_2 13 rfl rfl)
theorem dX5_init_60 : decode cX5_init 60 = .ok (.bipush 12, 2) := dk_16 12 (dk_at dksX5_init_2 14 rfl rfl)
theorem dX5_init_62 : decode cX5_init 62 = .ok (.newarray .int, 2) := dk_188_10 (dk_at dksX5_init_2 16 rfl rfl)
theorem dX5_init_64 : decode cX5_init 64 = .ok (.putfield 31, 3) := dk_181 0 31 (dk_at dksX5_init_2 18 rfl rfl)
theorem dX5_init_67 : decode cX5_init 67 = .ok (.aload_n 0, 1) := dk_42 (dk_at dksX5_init_2 21 rfl rfl)
theorem dX5_init_68 : decode cX5_init 68 = .ok (.iconst 4, 1) := dk_7 (dk_at dksX5_init_2 22 rfl rfl)
theorem dX5_init_69 : decode cX5_init 69 = .ok (.newarray .int, 2) := dk_188_10 (dk_at dksX5_init_3 0 rfl rfl)
theorem dX5_init_71 : decode cX5_init 71 = .ok (.putfield 34, 3) := dk_181 0 34 (dk_at dksX5_init_3 2 rfl rfl)
theorem dX5_init_74 : decode cX5_init 74 = .ok (.aload_n 0, 1) := dk_42 (dk_at dksX5_init_3 5 rfl rfl)
theorem dX5_init_75 : decode cX5_init 75 = .ok (.bipush 30, 2) := dk_16 30 (dk_at dksX5_init_3 6 rfl rfl)
theorem dX5_init_77 : decode cX5_init 77 = .ok (.newarray .int, 2) := dk_188_10 (dk_at dksX5_init_3 8 rfl rfl)
theorem dX5_init_79 : decode cX5_init 79 = .ok (.putfield 37, 3) := dk_181 0 37 (dk_at dksX5_init_3 10 rfl rfl)
theorem dX5_init_82 : decode cX5_init 82 = .ok (.aload_n 0, 1) := dk_42 (dk_at dksX5_init_3 13 rfl rfl)
theorem dX5_init_83 : decode cX5_init 83 = .ok (.bipush 12, 2) := dk_16 12 (dk_at dksX5_init_3 14 rfl rfl)
theorem dX5_init_85 : decode cX5_init 85 = .ok (.newarray .int, 2) := dk_188_10 (dk_at dksX5_init_3 16 rfl rfl)
theorem dX5_init_87 : decode cX5_init 87 = .ok (.putfield 40, 3) := dk_181 0 40 (dk_at dksX5_init_3 18 rfl rfl)
theorem dX5_init_90 : decode cX5_init 90 = .ok (.aload_n 0, 1) := dk_42 (dk_at dksX5_init_3 21 rfl rfl)
theorem dX5_init_91 : decode cX5_init 91 = .ok (.sipush 400, 3) := dk_17 1 144 (dk_at dksX5_init_4 0 rfl rfl)
theorem dX5_init_94 : decode cX5_init 94 = .ok (.newarray .int, 2) := dk_188_10 (dk_at dksX5_init_4 3 rfl rfl)
theorem dX5_init_96 : decode cX5_init 96 = .ok (.putfield 43, 3) := dk_181 0 43 (dk_at dksX5_init_4 5 rfl rfl)
theorem dX5_init_99 : decode cX5_init 99 = .ok (.aload_n 0, 1) := dk_42 (dk_at dksX5_init_4 8 rfl rfl)
theorem dX5_init_100 : decode cX5_init 100 = .ok (.sipush 210, 3) := dk_17 0 210 (dk_at dksX5_init_4 9 rfl rfl)
theorem dX5_init_103 : decode cX5_init 103 = .ok (.newarray .int, 2) := dk_188_10 (dk_at dksX5_init_4 12 rfl rfl)
theorem dX5_init_105 : decode cX5_init 105 = .ok (.putfield 46, 3) := dk_181 0 46 (dk_at dksX5_init_4 14 rfl rfl)
theorem dX5_init_108 : decode cX5_init 108 = .ok (.aload_n 0, 1) := dk_42 (dk_at dksX5_init_4 17 rfl rfl)
theorem dX5_init_109 : decode cX5_init 109 = .ok (.bipush 72, 2) := dk_16 72 (dk_at dksX5_init_4 18 rfl rfl)
theorem dX5_init_111 : decode cX5_init 111 = .ok (.newarray .int, 2) := dk_188_10 (dk_at dksX5_init_4 20 rfl rfl)
theorem dX5_init_113 : decode cX5_init 113 = .ok (.putfield 49, 3) := dk_181 0 49 (dk_at dksX5_init_5 0 rfl rfl)
theorem dX5_init_116 : decode cX5_init 116 = .ok (.aload_n 0, 1) := dk_42 (dk_at dksX5_init_5 3 rfl rfl)
theorem dX5_init_117 : decode cX5_init 117 = .ok (.iconst 5, 1) := dk_8 (dk_at dksX5_init_5 4 rfl rfl)
theorem dX5_init_118 : decode cX5_init 118 = .ok (.newarray .int, 2) := dk_188_10 (dk_at dksX5_init_5 5 rfl rfl)
theorem dX5_init_120 : decode cX5_init 120 = .ok (.putfield 52, 3) := dk_181 0 52 (dk_at dksX5_init_5 7 rfl rfl)
theorem dX5_init_123 : decode cX5_init 123 = .ok (.aload_n 0, 1) := dk_42 (dk_at dksX5_init_5 10 rfl rfl)
theorem dX5_init_124 : decode cX5_init 124 = .ok (.iconst 4, 1) := dk_7 (dk_at dksX5_init_5 11 rfl rfl)
theorem dX5_init_125 : decode cX5_init 125 = .ok (.newarray .int, 2) := dk_188_10 (dk_at dksX5_init_5 12 rfl rfl)
theorem dX5_init_127 : decode cX5_init 127 = .ok (.putfield 55, 3) := dk_181 0 55 (dk_at dksX5_init_5 14 rfl rfl)
theorem dX5_init_130 : decode cX5_init 130 = .ok (.aload_n 0, 1) := dk_42 (dk_at dksX5_init_5 17 rfl rfl)
theorem dX5_init_131 : decode cX5_init 131 = .ok (.iconst 4, 1) := dk_7 (dk_at dksX5_init_5 18 rfl rfl)
theorem dX5_init_132 : decode cX5_init 132 = .ok (.newarray .int, 2) := dk_188_10 (dk_at dksX5_init_5 19 rfl rfl)
theorem dX5_init_134 : decode cX5_init 134 = .ok (.putfield 58, 3) := dk_181 0 58 (dk_at dksX5_init_5 21 rfl rfl)
theorem dX5_init_137 : decode cX5_init 137 = .ok (.aload_n 0, 1) := dk_42 (dk_at dksX5_init_6 0 rfl rfl)
theorem dX5_init_138 : decode cX5_init 138 = .ok (.bipush 12, 2) := dk_16 12 (dk_at dksX5_init_6 1 rfl rfl)
theorem dX5_init_140 : decode cX5_init 140 = .ok (.newarray .int, 2) := dk_188_10 (dk_at dksX5_init_6 3 rfl rfl)
theorem dX5_init_142 : decode cX5_init 142 = .ok (.putfield 61, 3) := dk_181 0 61 (dk_at dksX5_init_6 5 rfl rfl)
theorem dX5_init_145 : decode cX5_init 145 = .ok (.aload_n 0, 1) := dk_42 (dk_at dksX5_init_6 8 rfl rfl)
theorem dX5_init_146 : decode cX5_init 146 = .ok (.bipush 12, 2) := dk_16 12 (dk_at dksX5_init_6 9 rfl rfl)
theorem dX5_init_148 : decode cX5_init 148 = .ok (.newarray .boolean, 2) := dk_188_4 (dk_at dksX5_init_6 11 rfl rfl)
theorem dX5_init_150 : decode cX5_init 150 = .ok (.putfield 64, 3) := dk_181 0 64 (dk_at dksX5_init_6 13 rfl rfl)
theorem dX5_init_153 : decode cX5_init 153 = .ok (.aload_n 0, 1) := dk_42 (dk_at dksX5_init_6 16 rfl rfl)
theorem dX5_init_154 : decode cX5_init 154 = .ok (.iconst 2, 1) := dk_5 (dk_at dksX5_init_6 17 rfl rfl)
theorem dX5_init_155 : decode cX5_init 155 = .ok (.newarray .boolean, 2) := dk_188_4 (dk_at dksX5_init_6 18 rfl rfl)
theorem dX5_init_157 : decode cX5_init 157 = .ok (.putfield 68, 3) := dk_181 0 68 (dk_at dksX5_init_6 20 rfl rfl)
theorem dX5_init_160 : decode cX5_init 160 = .ok (.aload_n 0, 1) := dk_42 (dk_at dksX5_init_6 23 rfl rfl)
theorem dX5_init_161 : decode cX5_init 161 = .ok (.bipush 6, 2) := dk_16 6 (dk_at dksX5_init_7 0 rfl rfl)
theorem dX5_init_163 : decode cX5_init 163 = .ok (.newarray .int, 2) := dk_188_10 (dk_at dksX5_init_7 2 rfl rfl)
theorem dX5_init_165 : decode cX5_init 165 = .ok (.putfield 71, 3) := dk_181 0 71 (dk_at dksX5_init_7 4 rfl rfl)
theorem dX5_init_168 : decode cX5_init 168 = .ok (.aload_n 0, 1) := dk_42 (dk_at dksX5_init_7 7 rfl rfl)
theorem dX5_init_169 : decode cX5_init 169 = .ok (.sipush 144, 3) := dk_17 0 144 (dk_at dksX5_init_7 8 rfl rfl)
theorem dX5_init_172 : decode cX5_init 172 = .ok (.newarray .int, 2) := dk_188_10 (dk_at dksX5_init_7 11 rfl rfl)
theorem dX5_init_174 : decode cX5_init 174 = .ok (.putfield 74, 3) := dk_181 0 74 (dk_at dksX5_init_7 13 rfl rfl)
theorem dX5_init_177 : decode cX5_init 177 = .ok (.aload_n 0, 1) := dk_42 (dk_at dksX5_init_7 16 rfl rfl)
theorem dX5_init_178 : decode cX5_init 178 = .ok (.bipush 48, 2) := dk_16 48 (dk_at dksX5_init_7 17 rfl rfl)
theorem dX5_init_180 : decode cX5_init 180 = .ok (.newarray .int, 2) := dk_188_10 (dk_at dksX5_init_7 19 rfl rfl)
theorem dX5_init_182 : decode cX5_init 182 = .ok (.putfield 77, 3) := dk_181 0 77 (dk_at dksX5_init_7 21 rfl rfl)
theorem dX5_init_185 : decode cX5_init 185 = .ok (.aload_n 0, 1) := dk_42 (dk_at dksX5_init_8 0 rfl rfl)
theorem dX5_init_186 : decode cX5_init 186 = .ok (.iconst 4, 1) := dk_7 (dk_at dksX5_init_8 1 rfl rfl)
theorem dX5_init_187 : decode cX5_init 187 = .ok (.newarray .int, 2) := dk_188_10 (dk_at dksX5_init_8 2 rfl rfl)
theorem dX5_init_189 : decode cX5_init 189 = .ok (.putfield 80, 3) := dk_181 0 80 (dk_at dksX5_init_8 4 rfl rfl)
theorem dX5_init_192 : decode cX5_init 192 = .ok (.aload_n 0, 1) := dk_42 (dk_at dksX5_init_8 7 rfl rfl)
theorem dX5_init_193 : decode cX5_init 193 = .ok (.iconst 4, 1) := dk_7 (dk_at dksX5_init_8 8 rfl rfl)
theorem dX5_init_194 : decode cX5_init 194 = .ok (.newarray .int, 2) := dk_188_10 (dk_at dksX5_init_8 9 rfl rfl)
theorem dX5_init_196 : decode cX5_init 196 = .ok (.putfield 83, 3) := dk_181 0 83 (dk_at dksX5_init_8 11 rfl rfl)
theorem dX5_init_199 : decode cX5_init 199 = .ok (.aload_n 0, 1) := dk_42 (dk_at dksX5_init_8 14 rfl rfl)
theorem dX5_init_200 : decode cX5_init 200 = .ok (.sipush 160, 3) := dk_17 0 160 (dk_at dksX5_init_8 15 rfl rfl)
theorem dX5_init_203 : decode cX5_init 203 = .ok (.newarray .int, 2) := dk_188_10 (dk_at dksX5_init_8 18 rfl rfl)
theorem dX5_init_205 : decode cX5_init 205 = .ok (.putfield 86, 3) := dk_181 0 86 (dk_at dksX5_init_8 20 rfl rfl)
theorem dX5_init_208 : decode cX5_init 208 = .ok (.iconst 0, 1) := dk_3 (dk_at dksX5_init_8 23 rfl rfl)
theorem dX5_init_209 : decode cX5_init 209 = .ok (.istore_n 1, 1) := dk_60 (dk_at dksX5_init_9 0 rfl rfl)
theorem dX5_init_210 : decode cX5_init 210 = .ok (.iload_n 1, 1) := dk_27 (dk_at dksX5_init_9 1 rfl rfl)
theorem dX5_init_211 : decode cX5_init 211 = .ok (.iconst 4, 1) := dk_7 (dk_at dksX5_init_9 2 rfl rfl)
theorem dX5_init_212 : decode cX5_init 212 = .ok (.if_icmp .ge 17, 3) := dk_162 0 17 (dk_at dksX5_init_9 3 rfl rfl)
theorem dX5_init_215 : decode cX5_init 215 = .ok (.aload_n 0, 1) := dk_42 (dk_at dksX5_init_9 6 rfl rfl)
theorem dX5_init_216 : decode cX5_init 216 = .ok (.getfield 80, 3) := dk_180 0 80 (dk_at dksX5_init_9 7 rfl rfl)
theorem dX5_init_219 : decode cX5_init 219 = .ok (.iload_n 1, 1) := dk_27 (dk_at dksX5_init_9 10 rfl rfl)
theorem dX5_init_220 : decode cX5_init 220 = .ok (.bipush (-4), 2) := dk_16 252 (dk_at dksX5_init_9 11 rfl rfl)
theorem dX5_init_222 : decode cX5_init 222 = .ok (.iastore, 1) := dk_79 (dk_at dksX5_init_9 13 rfl rfl)
theorem dX5_init_223 : decode cX5_init 223 = .ok (.iinc 1 1, 3) := dk_132 1 1 (dk_at dksX5_init_9 14 rfl rfl)
theorem dX5_init_226 : decode cX5_init 226 = .ok (.goto (-16), 3) := dk_167 255 240 (dk_at dksX5_init_9 17 rfl rfl)
theorem dX5_init_229 : decode cX5_init 229 = .ok (.aload_n 0, 1) := dk_42 (dk_at dksX5_init_9 20 rfl rfl)
theorem dX5_init_230 : decode cX5_init 230 = .ok (.invokevirtual 89, 3) := dk_182 0 89 (dk_at dksX5_init_9 21 rfl rfl)
theorem dX5_init_233 : decode cX5_init 233 = .ok (.aload_n 0, 1) := dk_42 (dk_at dksX5_init_10 0 rfl rfl)
theorem dX5_init_234 : decode cX5_init 234 = .ok (.invokevirtual 92, 3) := dk_182 0 92 (dk_at dksX5_init_10 1 rfl rfl)
theorem dX5_init_237 : decode cX5_init 237 = .ok (.return_, 1) := dk_177 (dk_at dksX5_init_10 4 rfl rfl)
abbrev cX5_firstDraft : ByteArray := prog_14_method_6_code
def yX5_firstDraft : MethodName := ⟨RX5, "firstDraft", "()V"⟩
def dkwX5_firstDraft_0 : List UInt8 := [42, 3, 181, 0, 95, 42, 3, 181, 0, 99, 42, 3, 181, 0, 102, 42, 3, 181, 0, 105, 177]
abbrev dktX5_firstDraft_0 : List UInt8 := dkwX5_firstDraft_0 ++ []
theorem dksX5_firstDraft_0 : cX5_firstDraft.data.toList.drop 0 = dktX5_firstDraft_0 := by decide +kernel
theorem dX5_firstDraft_0 : decode cX5_firstDraft 0 = .ok (.aload_n 0, 1) := dk_42 (dk_at dksX5_firstDraft_0 0 rfl rfl)
theorem dX5_firstDraft_1 : decode cX5_firstDraft 1 = .ok (.iconst 0, 1) := dk_3 (dk_at dksX5_firstDraft_0 1 rfl rfl)
theorem dX5_firstDraft_2 : decode cX5_firstDraft 2 = .ok (.putfield 95, 3) := dk_181 0 95 (dk_at dksX5_firstDraft_0 2 rfl rfl)
theorem dX5_firstDraft_5 : decode cX5_firstDraft 5 = .ok (.aload_n 0, 1) := dk_42 (dk_at dksX5_firstDraft_0 5 rfl rfl)
theorem dX5_firstDraft_6 : decode cX5_firstDraft 6 = .ok (.iconst 0, 1) := dk_3 (dk_at dksX5_firstDraft_0 6 rfl rfl)
theorem dX5_firstDraft_7 : decode cX5_firstDraft 7 = .ok (.putfield 99, 3) := dk_181 0 99 (dk_at dksX5_firstDraft_0 7 rfl rfl)
theorem dX5_firstDraft_10 : decode cX5_firstDraft 10 = .ok (.aload_n 0, 1) := dk_42 (dk_at dksX5_firstDraft_0 10 rfl rfl)
theorem dX5_firstDraft_11 : decode cX5_firstDraft 11 = .ok (.iconst 0, 1) := dk_3 (dk_at dksX5_firstDraft_0 11 rfl rfl)
theorem dX5_firstDraft_12 : decode cX5_firstDraft 12 = .ok (.putfield 102, 3) := dk_181 0 102 (dk_at dksX5_firstDraft_0 12 rfl rfl)
theorem dX5_firstDraft_15 : decode cX5_firstDraft 15 = .ok (.aload_n 0, 1) := dk_42 (dk_at dksX5_firstDraft_0 15 rfl rfl)
theorem dX5_firstDraft_16 : decode cX5_firstDraft 16 = .ok (.iconst 0, 1) := dk_3 (dk_at dksX5_firstDraft_0 16 rfl rfl)
theorem dX5_firstDraft_17 : decode cX5_firstDraft 17 = .ok (.putfield 105, 3) := dk_181 0 105 (dk_at dksX5_firstDraft_0 17 rfl rfl)
theorem dX5_firstDraft_20 : decode cX5_firstDraft 20 = .ok (.return_, 1) := dk_177 (dk_at dksX5_firstDraft_0 20 rfl rfl)
abbrev cX5_keepDraft : ByteArray := prog_14_method_7_code
def yX5_keepDraft : MethodName := ⟨RX5, "keepDraft", "()V"⟩
def dkwX5_keepDraft_11 : List UInt8 := [180, 0, 68, 4, 3, 84, 42, 182, 0, 129, 177]
abbrev dktX5_keepDraft_11 : List UInt8 := dkwX5_keepDraft_11 ++ []
def dkwX5_keepDraft_10 : List UInt8 := [180, 0, 117, 120, 4, 100, 181, 0, 123, 42, 3, 181, 0, 126, 42, 180, 0, 68, 3, 3, 84, 42]
abbrev dktX5_keepDraft_10 : List UInt8 := dkwX5_keepDraft_10 ++ dktX5_keepDraft_11
def dkwX5_keepDraft_9 : List UInt8 := [27, 42, 180, 0, 37, 27, 46, 79, 132, 1, 1, 167, 255, 235, 42, 3, 181, 0, 120, 42, 4, 42]
abbrev dktX5_keepDraft_9 : List UInt8 := dkwX5_keepDraft_9 ++ dktX5_keepDraft_10
def dkwX5_keepDraft_8 : List UInt8 := [180, 0, 34, 27, 46, 79, 132, 1, 1, 167, 255, 236, 3, 60, 27, 16, 30, 162, 0, 21, 42, 180, 0, 22]
abbrev dktX5_keepDraft_8 : List UInt8 := dkwX5_keepDraft_8 ++ dktX5_keepDraft_9
def dkwX5_keepDraft_7 : List UInt8 := [167, 255, 191, 132, 1, 1, 167, 255, 146, 3, 60, 27, 7, 162, 0, 21, 42, 180, 0, 19, 27, 42]
abbrev dktX5_keepDraft_7 : List UInt8 := dkwX5_keepDraft_7 ++ dktX5_keepDraft_8
def dkwX5_keepDraft_6 : List UInt8 := [42, 180, 0, 16, 27, 46, 126, 154, 0, 9, 4, 28, 120, 167, 0, 4, 3, 128, 79, 132, 2, 1]
abbrev dktX5_keepDraft_6 : List UInt8 := dkwX5_keepDraft_6 ++ dktX5_keepDraft_7
def dkwX5_keepDraft_5 : List UInt8 := [28, 46, 42, 180, 0, 13, 27, 46, 126, 42, 180, 0, 13, 27, 46, 160, 0, 25, 42, 180, 0, 7, 28, 46]
abbrev dktX5_keepDraft_5 : List UInt8 := dkwX5_keepDraft_5 ++ dktX5_keepDraft_6
def dkwX5_keepDraft_4 : List UInt8 := [27, 3, 79, 3, 61, 28, 42, 180, 0, 108, 162, 0, 63, 42, 180, 0, 40, 27, 92, 46, 42, 180, 0, 7]
abbrev dktX5_keepDraft_4 : List UInt8 := dkwX5_keepDraft_4 ++ dktX5_keepDraft_5
def dkwX5_keepDraft_3 : List UInt8 := [27, 42, 180, 0, 28, 27, 46, 79, 42, 180, 0, 16, 27, 42, 180, 0, 31, 27, 46, 79, 42, 180, 0, 40]
abbrev dktX5_keepDraft_3 : List UInt8 := dkwX5_keepDraft_3 ++ dktX5_keepDraft_4
def dkwX5_keepDraft_2 : List UInt8 := [180, 0, 25, 27, 46, 79, 132, 1, 1, 167, 255, 235, 3, 60, 27, 16, 12, 162, 0, 110, 42, 180, 0, 13]
abbrev dktX5_keepDraft_2 : List UInt8 := dkwX5_keepDraft_2 ++ dktX5_keepDraft_3
def dkwX5_keepDraft_1 : List UInt8 := [42, 42, 180, 0, 105, 181, 0, 117, 3, 60, 27, 16, 8, 162, 0, 21, 42, 180, 0, 7, 27, 42]
abbrev dktX5_keepDraft_1 : List UInt8 := dkwX5_keepDraft_1 ++ dktX5_keepDraft_2
def dkwX5_keepDraft_0 : List UInt8 := [42, 42, 180, 0, 95, 181, 0, 108, 42, 42, 180, 0, 99, 181, 0, 111, 42, 42, 180, 0, 102, 181, 0, 114]
abbrev dktX5_keepDraft_0 : List UInt8 := dkwX5_keepDraft_0 ++ dktX5_keepDraft_1
theorem dksX5_keepDraft_0 : cX5_keepDraft.data.toList.drop 0 = dktX5_keepDraft_0 := by decide +kernel
theorem dksX5_keepDraft_1 : cX5_keepDraft.data.toList.drop 24 = dktX5_keepDraft_1 := dk_seg dksX5_keepDraft_0 24 rfl rfl
theorem dksX5_keepDraft_2 : cX5_keepDraft.data.toList.drop 46 = dktX5_keepDraft_2 := dk_seg dksX5_keepDraft_1 22 rfl rfl
theorem dksX5_keepDraft_3 : cX5_keepDraft.data.toList.drop 70 = dktX5_keepDraft_3 := dk_seg dksX5_keepDraft_2 24 rfl rfl
theorem dksX5_keepDraft_4 : cX5_keepDraft.data.toList.drop 94 = dktX5_keepDraft_4 := dk_seg dksX5_keepDraft_3 24 rfl rfl
theorem dksX5_keepDraft_5 : cX5_keepDraft.data.toList.drop 118 = dktX5_keepDraft_5 := dk_seg dksX5_keepDraft_4 24 rfl rfl
theorem dksX5_keepDraft_6 : cX5_keepDraft.data.toList.drop 142 = dktX5_keepDraft_6 := dk_seg dksX5_keepDraft_5 24 rfl rfl
theorem dksX5_keepDraft_7 : cX5_keepDraft.data.toList.drop 164 = dktX5_keepDraft_7 := dk_seg dksX5_keepDraft_6 22 rfl rfl
theorem dksX5_keepDraft_8 : cX5_keepDraft.data.toList.drop 186 = dktX5_keepDraft_8 := dk_seg dksX5_keepDraft_7 22 rfl rfl
theorem dksX5_keepDraft_9 : cX5_keepDraft.data.toList.drop 210 = dktX5_keepDraft_9 := dk_seg dksX5_keepDraft_8 24 rfl rfl
theorem dksX5_keepDraft_10 : cX5_keepDraft.data.toList.drop 232 = dktX5_keepDraft_10 := dk_seg dksX5_keepDraft_9 22 rfl rfl
theorem dksX5_keepDraft_11 : cX5_keepDraft.data.toList.drop 254 = dktX5_keepDraft_11 := dk_seg dksX5_keepDraft_10 22 rfl rfl
theorem dX5_keepDraft_0 : decode cX5_keepDraft 0 = .ok (.aload_n 0, 1) := dk_42 (dk_at dksX5_keepDraft_0 0 rfl rfl)
theorem dX5_keepDraft_1 : decode cX5_keepDraft 1 = .ok (.aload_n 0, 1) := dk_42 (dk_at dksX5_keepDraft_0 1 rfl rfl)
theorem dX5_keepDraft_2 : decode cX5_keepDraft 2 = .ok (.getfield 95, 3) := dk_180 0 95 (dk_at dksX5_keepDraft_0 2 rfl rfl)
theorem dX5_keepDraft_5 : decode cX5_keepDraft 5 = .ok (.putfield 108, 3) := dk_181 0 108 (dk_at dksX5_keepDraft_0 5 rfl rfl)
theorem dX5_keepDraft_8 : decode cX5_keepDraft 8 = .ok (.aload_n 0, 1) := dk_42 (dk_at dksX5_keepDraft_0 8 rfl rfl)
theorem dX5_keepDraft_9 : decode cX5_keepDraft 9 = .ok (.aload_n 0, 1) := dk_42 (dk_at dksX5_keepDraft_0 9 rfl rfl)
theorem dX5_keepDraft_10 : decode cX5_keepDraft 10 = .ok (.getfield 99, 3) := dk_180 0 99 (dk_at dksX5_keepDraft_0 10 rfl rfl)
theorem dX5_keepDraft_13 : decode cX5_keepDraft 13 = .ok (.putfield 111, 3) := dk_181 0 111 (dk_at dksX5_keepDraft_0 13 rfl rfl)
theorem dX5_keepDraft_16 : decode cX5_keepDraft 16 = .ok (.aload_n 0, 1) := dk_42 (dk_at dksX5_keepDraft_0 16 rfl rfl)
theorem dX5_keepDraft_17 : decode cX5_keepDraft 17 = .ok (.aload_n 0, 1) := dk_42 (dk_at dksX5_keepDraft_0 17 rfl rfl)
theorem dX5_keepDraft_18 : decode cX5_keepDraft 18 = .ok (.getfield 102, 3) := dk_180 0 102 (dk_at dksX5_keepDraft_0 18 rfl rfl)
theorem dX5_keepDraft_21 : decode cX5_keepDraft 21 = .ok (.putfield 114, 3) := dk_181 0 114 (dk_at dksX5_keepDraft_0 21 rfl rfl)
theorem dX5_keepDraft_24 : decode cX5_keepDraft 24 = .ok (.aload_n 0, 1) := dk_42 (dk_at dksX5_keepDraft_1 0 rfl rfl)
theorem dX5_keepDraft_25 : decode cX5_keepDraft 25 = .ok (.aload_n 0, 1) := dk_42 (dk_at dksX5_keepDraft_1 1 rfl rfl)
theorem dX5_keepDraft_26 : decode cX5_keepDraft 26 = .ok (.getfield 105, 3) := dk_180 0 105 (dk_at dksX5_keepDraft_1 2 rfl rfl)
theorem dX5_keepDraft_29 : decode cX5_keepDraft 29 = .ok (.putfield 117, 3) := dk_181 0 117 (dk_at dksX5_keepDraft_1 5 rfl rfl)
theorem dX5_keepDraft_32 : decode cX5_keepDraft 32 = .ok (.iconst 0, 1) := dk_3 (dk_at dksX5_keepDraft_1 8 rfl rfl)
theorem dX5_keepDraft_33 : decode cX5_keepDraft 33 = .ok (.istore_n 1, 1) := dk_60 (dk_at dksX5_keepDraft_1 9 rfl rfl)
theorem dX5_keepDraft_34 : decode cX5_keepDraft 34 = .ok (.iload_n 1, 1) := dk_27 (dk_at dksX5_keepDraft_1 10 rfl rfl)
theorem dX5_keepDraft_35 : decode cX5_keepDraft 35 = .ok (.bipush 8, 2) := dk_16 8 (dk_at dksX5_keepDraft_1 11 rfl rfl)
theorem dX5_keepDraft_37 : decode cX5_keepDraft 37 = .ok (.if_icmp .ge 21, 3) := dk_162 0 21 (dk_at dksX5_keepDraft_1 13 rfl rfl)
theorem dX5_keepDraft_40 : decode cX5_keepDraft 40 = .ok (.aload_n 0, 1) := dk_42 (dk_at dksX5_keepDraft_1 16 rfl rfl)
theorem dX5_keepDraft_41 : decode cX5_keepDraft 41 = .ok (.getfield 7, 3) := dk_180 0 7 (dk_at dksX5_keepDraft_1 17 rfl rfl)
theorem dX5_keepDraft_44 : decode cX5_keepDraft 44 = .ok (.iload_n 1, 1) := dk_27 (dk_at dksX5_keepDraft_1 20 rfl rfl)
theorem dX5_keepDraft_45 : decode cX5_keepDraft 45 = .ok (.aload_n 0, 1) := dk_42 (dk_at dksX5_keepDraft_1 21 rfl rfl)
theorem dX5_keepDraft_46 : decode cX5_keepDraft 46 = .ok (.getfield 25, 3) := dk_180 0 25 (dk_at dksX5_keepDraft_2 0 rfl rfl)
theorem dX5_keepDraft_49 : decode cX5_keepDraft 49 = .ok (.iload_n 1, 1) := dk_27 (dk_at dksX5_keepDraft_2 3 rfl rfl)
theorem dX5_keepDraft_50 : decode cX5_keepDraft 50 = .ok (.iaload, 1) := dk_46 (dk_at dksX5_keepDraft_2 4 rfl rfl)
theorem dX5_keepDraft_51 : decode cX5_keepDraft 51 = .ok (.iastore, 1) := dk_79 (dk_at dksX5_keepDraft_2 5 rfl rfl)
theorem dX5_keepDraft_52 : decode cX5_keepDraft 52 = .ok (.iinc 1 1, 3) := dk_132 1 1 (dk_at dksX5_keepDraft_2 6 rfl rfl)
theorem dX5_keepDraft_55 : decode cX5_keepDraft 55 = .ok (.goto (-21), 3) := dk_167 255 235 (dk_at dksX5_keepDraft_2 9 rfl rfl)
theorem dX5_keepDraft_58 : decode cX5_keepDraft 58 = .ok (.iconst 0, 1) := dk_3 (dk_at dksX5_keepDraft_2 12 rfl rfl)
theorem dX5_keepDraft_59 : decode cX5_keepDraft 59 = .ok (.istore_n 1, 1) := dk_60 (dk_at dksX5_keepDraft_2 13 rfl rfl)
theorem dX5_keepDraft_60 : decode cX5_keepDraft 60 = .ok (.iload_n 1, 1) := dk_27 (dk_at dksX5_keepDraft_2 14 rfl rfl)
theorem dX5_keepDraft_61 : decode cX5_keepDraft 61 = .ok (.bipush 12, 2) := dk_16 12 (dk_at dksX5_keepDraft_2 15 rfl rfl)
theorem dX5_keepDraft_63 : decode cX5_keepDraft 63 = .ok (.if_icmp .ge 110, 3) := dk_162 0 110 (dk_at dksX5_keepDraft_2 17 rfl rfl)
theorem dX5_keepDraft_66 : decode cX5_keepDraft 66 = .ok (.aload_n 0, 1) := dk_42 (dk_at dksX5_keepDraft_2 20 rfl rfl)
theorem dX5_keepDraft_67 : decode cX5_keepDraft 67 = .ok (.getfield 13, 3) := dk_180 0 13 (dk_at dksX5_keepDraft_2 21 rfl rfl)
theorem dX5_keepDraft_70 : decode cX5_keepDraft 70 = .ok (.iload_n 1, 1) := dk_27 (dk_at dksX5_keepDraft_3 0 rfl rfl)
theorem dX5_keepDraft_71 : decode cX5_keepDraft 71 = .ok (.aload_n 0, 1) := dk_42 (dk_at dksX5_keepDraft_3 1 rfl rfl)
theorem dX5_keepDraft_72 : decode cX5_keepDraft 72 = .ok (.getfield 28, 3) := dk_180 0 28 (dk_at dksX5_keepDraft_3 2 rfl rfl)
theorem dX5_keepDraft_75 : decode cX5_keepDraft 75 = .ok (.iload_n 1, 1) := dk_27 (dk_at dksX5_keepDraft_3 5 rfl rfl)
theorem dX5_keepDraft_76 : decode cX5_keepDraft 76 = .ok (.iaload, 1) := dk_46 (dk_at dksX5_keepDraft_3 6 rfl rfl)
theorem dX5_keepDraft_77 : decode cX5_keepDraft 77 = .ok (.iastore, 1) := dk_79 (dk_at dksX5_keepDraft_3 7 rfl rfl)
theorem dX5_keepDraft_78 : decode cX5_keepDraft 78 = .ok (.aload_n 0, 1) := dk_42 (dk_at dksX5_keepDraft_3 8 rfl rfl)
theorem dX5_keepDraft_79 : decode cX5_keepDraft 79 = .ok (.getfield 16, 3) := dk_180 0 16 (dk_at dksX5_keepDraft_3 9 rfl rfl)
theorem dX5_keepDraft_82 : decode cX5_keepDraft 82 = .ok (.iload_n 1, 1) := dk_27 (dk_at dksX5_keepDraft_3 12 rfl rfl)
theorem dX5_keepDraft_83 : decode cX5_keepDraft 83 = .ok (.aload_n 0, 1) := dk_42 (dk_at dksX5_keepDraft_3 13 rfl rfl)
theorem dX5_keepDraft_84 : decode cX5_keepDraft 84 = .ok (.getfield 31, 3) := dk_180 0 31 (dk_at dksX5_keepDraft_3 14 rfl rfl)
theorem dX5_keepDraft_87 : decode cX5_keepDraft 87 = .ok (.iload_n 1, 1) := dk_27 (dk_at dksX5_keepDraft_3 17 rfl rfl)
theorem dX5_keepDraft_88 : decode cX5_keepDraft 88 = .ok (.iaload, 1) := dk_46 (dk_at dksX5_keepDraft_3 18 rfl rfl)
theorem dX5_keepDraft_89 : decode cX5_keepDraft 89 = .ok (.iastore, 1) := dk_79 (dk_at dksX5_keepDraft_3 19 rfl rfl)
theorem dX5_keepDraft_90 : decode cX5_keepDraft 90 = .ok (.aload_n 0, 1) := dk_42 (dk_at dksX5_keepDraft_3 20 rfl rfl)
theorem dX5_keepDraft_91 : decode cX5_keepDraft 91 = .ok (.getfield 40, 3) := dk_180 0 40 (dk_at dksX5_keepDraft_3 21 rfl rfl)
theorem dX5_keepDraft_94 : decode cX5_keepDraft 94 = .ok (.iload_n 1, 1) := dk_27 (dk_at dksX5_keepDraft_4 0 rfl rfl)
theorem dX5_keepDraft_95 : decode cX5_keepDraft 95 = .ok (.iconst 0, 1) := dk_3 (dk_at dksX5_keepDraft_4 1 rfl rfl)
theorem dX5_keepDraft_96 : decode cX5_keepDraft 96 = .ok (.iastore, 1) := dk_79 (dk_at dksX5_keepDraft_4 2 rfl rfl)
theorem dX5_keepDraft_97 : decode cX5_keepDraft 97 = .ok (.iconst 0, 1) := dk_3 (dk_at dksX5_keepDraft_4 3 rfl rfl)
theorem dX5_keepDraft_98 : decode cX5_keepDraft 98 = .ok (.istore_n 2, 1) := dk_61 (dk_at dksX5_keepDraft_4 4 rfl rfl)
theorem dX5_keepDraft_99 : decode cX5_keepDraft 99 = .ok (.iload_n 2, 1) := dk_28 (dk_at dksX5_keepDraft_4 5 rfl rfl)
theorem dX5_keepDraft_100 : decode cX5_keepDraft 100 = .ok (.aload_n 0, 1) := dk_42 (dk_at dksX5_keepDraft_4 6 rfl rfl)
theorem dX5_keepDraft_101 : decode cX5_keepDraft 101 = .ok (.getfield 108, 3) := dk_180 0 108 (dk_at dksX5_keepDraft_4 7 rfl rfl)
theorem dX5_keepDraft_104 : decode cX5_keepDraft 104 = .ok (.if_icmp .ge 63, 3) := dk_162 0 63 (dk_at dksX5_keepDraft_4 10 rfl rfl)
theorem dX5_keepDraft_107 : decode cX5_keepDraft 107 = .ok (.aload_n 0, 1) := dk_42 (dk_at dksX5_keepDraft_4 13 rfl rfl)
theorem dX5_keepDraft_108 : decode cX5_keepDraft 108 = .ok (.getfield 40, 3) := dk_180 0 40 (dk_at dksX5_keepDraft_4 14 rfl rfl)
theorem dX5_keepDraft_111 : decode cX5_keepDraft 111 = .ok (.iload_n 1, 1) := dk_27 (dk_at dksX5_keepDraft_4 17 rfl rfl)
theorem dX5_keepDraft_112 : decode cX5_keepDraft 112 = .ok (.dup2, 1) := dk_92 (dk_at dksX5_keepDraft_4 18 rfl rfl)
theorem dX5_keepDraft_113 : decode cX5_keepDraft 113 = .ok (.iaload, 1) := dk_46 (dk_at dksX5_keepDraft_4 19 rfl rfl)
theorem dX5_keepDraft_114 : decode cX5_keepDraft 114 = .ok (.aload_n 0, 1) := dk_42 (dk_at dksX5_keepDraft_4 20 rfl rfl)
theorem dX5_keepDraft_115 : decode cX5_keepDraft 115 = .ok (.getfield 7, 3) := dk_180 0 7 (dk_at dksX5_keepDraft_4 21 rfl rfl)
theorem dX5_keepDraft_118 : decode cX5_keepDraft 118 = .ok (.iload_n 2, 1) := dk_28 (dk_at dksX5_keepDraft_5 0 rfl rfl)
theorem dX5_keepDraft_119 : decode cX5_keepDraft 119 = .ok (.iaload, 1) := dk_46 (dk_at dksX5_keepDraft_5 1 rfl rfl)
theorem dX5_keepDraft_120 : decode cX5_keepDraft 120 = .ok (.aload_n 0, 1) := dk_42 (dk_at dksX5_keepDraft_5 2 rfl rfl)
theorem dX5_keepDraft_121 : decode cX5_keepDraft 121 = .ok (.getfield 13, 3) := dk_180 0 13 (dk_at dksX5_keepDraft_5 3 rfl rfl)
theorem dX5_keepDraft_124 : decode cX5_keepDraft 124 = .ok (.iload_n 1, 1) := dk_27 (dk_at dksX5_keepDraft_5 6 rfl rfl)
theorem dX5_keepDraft_125 : decode cX5_keepDraft 125 = .ok (.iaload, 1) := dk_46 (dk_at dksX5_keepDraft_5 7 rfl rfl)
theorem dX5_keepDraft_126 : decode cX5_keepDraft 126 = .ok (.iand, 1) := dk_126 (dk_at dksX5_keepDraft_5 8 rfl rfl)
theorem dX5_keepDraft_127 : decode cX5_keepDraft 127 = .ok (.aload_n 0, 1) := dk_42 (dk_at dksX5_keepDraft_5 9 rfl rfl)
theorem dX5_keepDraft_128 : decode cX5_keepDraft 128 = .ok (.getfield 13, 3) := dk_180 0 13 (dk_at dksX5_keepDraft_5 10 rfl rfl)
theorem dX5_keepDraft_131 : decode cX5_keepDraft 131 = .ok (.iload_n 1, 1) := dk_27 (dk_at dksX5_keepDraft_5 13 rfl rfl)
theorem dX5_keepDraft_132 : decode cX5_keepDraft 132 = .ok (.iaload, 1) := dk_46 (dk_at dksX5_keepDraft_5 14 rfl rfl)
theorem dX5_keepDraft_133 : decode cX5_keepDraft 133 = .ok (.if_icmp .ne 25, 3) := dk_160 0 25 (dk_at dksX5_keepDraft_5 15 rfl rfl)
theorem dX5_keepDraft_136 : decode cX5_keepDraft 136 = .ok (.aload_n 0, 1) := dk_42 (dk_at dksX5_keepDraft_5 18 rfl rfl)
theorem dX5_keepDraft_137 : decode cX5_keepDraft 137 = .ok (.getfield 7, 3) := dk_180 0 7 (dk_at dksX5_keepDraft_5 19 rfl rfl)
theorem dX5_keepDraft_140 : decode cX5_keepDraft 140 = .ok (.iload_n 2, 1) := dk_28 (dk_at dksX5_keepDraft_5 22 rfl rfl)
theorem dX5_keepDraft_141 : decode cX5_keepDraft 141 = .ok (.iaload, 1) := dk_46 (dk_at dksX5_keepDraft_5 23 rfl rfl)
theorem dX5_keepDraft_142 : decode cX5_keepDraft 142 = .ok (.aload_n 0, 1) := dk_42 (dk_at dksX5_keepDraft_6 0 rfl rfl)
theorem dX5_keepDraft_143 : decode cX5_keepDraft 143 = .ok (.getfield 16, 3) := dk_180 0 16 (dk_at dksX5_keepDraft_6 1 rfl rfl)
theorem dX5_keepDraft_146 : decode cX5_keepDraft 146 = .ok (.iload_n 1, 1) := dk_27 (dk_at dksX5_keepDraft_6 4 rfl rfl)
theorem dX5_keepDraft_147 : decode cX5_keepDraft 147 = .ok (.iaload, 1) := dk_46 (dk_at dksX5_keepDraft_6 5 rfl rfl)
theorem dX5_keepDraft_148 : decode cX5_keepDraft 148 = .ok (.iand, 1) := dk_126 (dk_at dksX5_keepDraft_6 6 rfl rfl)
theorem dX5_keepDraft_149 : decode cX5_keepDraft 149 = .ok (.ifCond .ne 9, 3) := dk_154 0 9 (dk_at dksX5_keepDraft_6 7 rfl rfl)
theorem dX5_keepDraft_152 : decode cX5_keepDraft 152 = .ok (.iconst 1, 1) := dk_4 (dk_at dksX5_keepDraft_6 10 rfl rfl)
theorem dX5_keepDraft_153 : decode cX5_keepDraft 153 = .ok (.iload_n 2, 1) := dk_28 (dk_at dksX5_keepDraft_6 11 rfl rfl)
theorem dX5_keepDraft_154 : decode cX5_keepDraft 154 = .ok (.ishl, 1) := dk_120 (dk_at dksX5_keepDraft_6 12 rfl rfl)
theorem dX5_keepDraft_155 : decode cX5_keepDraft 155 = .ok (.goto 4, 3) := dk_167 0 4 (dk_at dksX5_keepDraft_6 13 rfl rfl)
theorem dX5_keepDraft_158 : decode cX5_keepDraft 158 = .ok (.iconst 0, 1) := dk_3 (dk_at dksX5_keepDraft_6 16 rfl rfl)
theorem dX5_keepDraft_159 : decode cX5_keepDraft 159 = .ok (.ior, 1) := dk_128 (dk_at dksX5_keepDraft_6 17 rfl rfl)
theorem dX5_keepDraft_160 : decode cX5_keepDraft 160 = .ok (.iastore, 1) := dk_79 (dk_at dksX5_keepDraft_6 18 rfl rfl)
theorem dX5_keepDraft_161 : decode cX5_keepDraft 161 = .ok (.iinc 2 1, 3) := dk_132 2 1 (dk_at dksX5_keepDraft_6 19 rfl rfl)
theorem dX5_keepDraft_164 : decode cX5_keepDraft 164 = .ok (.goto (-65), 3) := dk_167 255 191 (dk_at dksX5_keepDraft_7 0 rfl rfl)
theorem dX5_keepDraft_167 : decode cX5_keepDraft 167 = .ok (.iinc 1 1, 3) := dk_132 1 1 (dk_at dksX5_keepDraft_7 3 rfl rfl)
theorem dX5_keepDraft_170 : decode cX5_keepDraft 170 = .ok (.goto (-110), 3) := dk_167 255 146 (dk_at dksX5_keepDraft_7 6 rfl rfl)
theorem dX5_keepDraft_173 : decode cX5_keepDraft 173 = .ok (.iconst 0, 1) := dk_3 (dk_at dksX5_keepDraft_7 9 rfl rfl)
theorem dX5_keepDraft_174 : decode cX5_keepDraft 174 = .ok (.istore_n 1, 1) := dk_60 (dk_at dksX5_keepDraft_7 10 rfl rfl)
theorem dX5_keepDraft_175 : decode cX5_keepDraft 175 = .ok (.iload_n 1, 1) := dk_27 (dk_at dksX5_keepDraft_7 11 rfl rfl)
theorem dX5_keepDraft_176 : decode cX5_keepDraft 176 = .ok (.iconst 4, 1) := dk_7 (dk_at dksX5_keepDraft_7 12 rfl rfl)
theorem dX5_keepDraft_177 : decode cX5_keepDraft 177 = .ok (.if_icmp .ge 21, 3) := dk_162 0 21 (dk_at dksX5_keepDraft_7 13 rfl rfl)
theorem dX5_keepDraft_180 : decode cX5_keepDraft 180 = .ok (.aload_n 0, 1) := dk_42 (dk_at dksX5_keepDraft_7 16 rfl rfl)
theorem dX5_keepDraft_181 : decode cX5_keepDraft 181 = .ok (.getfield 19, 3) := dk_180 0 19 (dk_at dksX5_keepDraft_7 17 rfl rfl)
theorem dX5_keepDraft_184 : decode cX5_keepDraft 184 = .ok (.iload_n 1, 1) := dk_27 (dk_at dksX5_keepDraft_7 20 rfl rfl)
theorem dX5_keepDraft_185 : decode cX5_keepDraft 185 = .ok (.aload_n 0, 1) := dk_42 (dk_at dksX5_keepDraft_7 21 rfl rfl)
theorem dX5_keepDraft_186 : decode cX5_keepDraft 186 = .ok (.getfield 34, 3) := dk_180 0 34 (dk_at dksX5_keepDraft_8 0 rfl rfl)
theorem dX5_keepDraft_189 : decode cX5_keepDraft 189 = .ok (.iload_n 1, 1) := dk_27 (dk_at dksX5_keepDraft_8 3 rfl rfl)
theorem dX5_keepDraft_190 : decode cX5_keepDraft 190 = .ok (.iaload, 1) := dk_46 (dk_at dksX5_keepDraft_8 4 rfl rfl)
theorem dX5_keepDraft_191 : decode cX5_keepDraft 191 = .ok (.iastore, 1) := dk_79 (dk_at dksX5_keepDraft_8 5 rfl rfl)
theorem dX5_keepDraft_192 : decode cX5_keepDraft 192 = .ok (.iinc 1 1, 3) := dk_132 1 1 (dk_at dksX5_keepDraft_8 6 rfl rfl)
theorem dX5_keepDraft_195 : decode cX5_keepDraft 195 = .ok (.goto (-20), 3) := dk_167 255 236 (dk_at dksX5_keepDraft_8 9 rfl rfl)
theorem dX5_keepDraft_198 : decode cX5_keepDraft 198 = .ok (.iconst 0, 1) := dk_3 (dk_at dksX5_keepDraft_8 12 rfl rfl)
theorem dX5_keepDraft_199 : decode cX5_keepDraft 199 = .ok (.istore_n 1, 1) := dk_60 (dk_at dksX5_keepDraft_8 13 rfl rfl)
theorem dX5_keepDraft_200 : decode cX5_keepDraft 200 = .ok (.iload_n 1, 1) := dk_27 (dk_at dksX5_keepDraft_8 14 rfl rfl)
theorem dX5_keepDraft_201 : decode cX5_keepDraft 201 = .ok (.bipush 30, 2) := dk_16 30 (dk_at dksX5_keepDraft_8 15 rfl rfl)
theorem dX5_keepDraft_203 : decode cX5_keepDraft 203 = .ok (.if_icmp .ge 21, 3) := dk_162 0 21 (dk_at dksX5_keepDraft_8 17 rfl rfl)
theorem dX5_keepDraft_206 : decode cX5_keepDraft 206 = .ok (.aload_n 0, 1) := dk_42 (dk_at dksX5_keepDraft_8 20 rfl rfl)
theorem dX5_keepDraft_207 : decode cX5_keepDraft 207 = .ok (.getfield 22, 3) := dk_180 0 22 (dk_at dksX5_keepDraft_8 21 rfl rfl)
theorem dX5_keepDraft_210 : decode cX5_keepDraft 210 = .ok (.iload_n 1, 1) := dk_27 (dk_at dksX5_keepDraft_9 0 rfl rfl)
theorem dX5_keepDraft_211 : decode cX5_keepDraft 211 = .ok (.aload_n 0, 1) := dk_42 (dk_at dksX5_keepDraft_9 1 rfl rfl)
theorem dX5_keepDraft_212 : decode cX5_keepDraft 212 = .ok (.getfield 37, 3) := dk_180 0 37 (dk_at dksX5_keepDraft_9 2 rfl rfl)
theorem dX5_keepDraft_215 : decode cX5_keepDraft 215 = .ok (.iload_n 1, 1) := dk_27 (dk_at dksX5_keepDraft_9 5 rfl rfl)
theorem dX5_keepDraft_216 : decode cX5_keepDraft 216 = .ok (.iaload, 1) := dk_46 (dk_at dksX5_keepDraft_9 6 rfl rfl)
theorem dX5_keepDraft_217 : decode cX5_keepDraft 217 = .ok (.iastore, 1) := dk_79 (dk_at dksX5_keepDraft_9 7 rfl rfl)
theorem dX5_keepDraft_218 : decode cX5_keepDraft 218 = .ok (.iinc 1 1, 3) := dk_132 1 1 (dk_at dksX5_keepDraft_9 8 rfl rfl)
theorem dX5_keepDraft_221 : decode cX5_keepDraft 221 = .ok (.goto (-21), 3) := dk_167 255 235 (dk_at dksX5_keepDraft_9 11 rfl rfl)
theorem dX5_keepDraft_224 : decode cX5_keepDraft 224 = .ok (.aload_n 0, 1) := dk_42 (dk_at dksX5_keepDraft_9 14 rfl rfl)
theorem dX5_keepDraft_225 : decode cX5_keepDraft 225 = .ok (.iconst 0, 1) := dk_3 (dk_at dksX5_keepDraft_9 15 rfl rfl)
theorem dX5_keepDraft_226 : decode cX5_keepDraft 226 = .ok (.putfield 120, 3) := dk_181 0 120 (dk_at dksX5_keepDraft_9 16 rfl rfl)
theorem dX5_keepDraft_229 : decode cX5_keepDraft 229 = .ok (.aload_n 0, 1) := dk_42 (dk_at dksX5_keepDraft_9 19 rfl rfl)
theorem dX5_keepDraft_230 : decode cX5_keepDraft 230 = .ok (.iconst 1, 1) := dk_4 (dk_at dksX5_keepDraft_9 20 rfl rfl)
theorem dX5_keepDraft_231 : decode cX5_keepDraft 231 = .ok (.aload_n 0, 1) := dk_42 (dk_at dksX5_keepDraft_9 21 rfl rfl)
theorem dX5_keepDraft_232 : decode cX5_keepDraft 232 = .ok (.getfield 117, 3) := dk_180 0 117 (dk_at dksX5_keepDraft_10 0 rfl rfl)
theorem dX5_keepDraft_235 : decode cX5_keepDraft 235 = .ok (.ishl, 1) := dk_120 (dk_at dksX5_keepDraft_10 3 rfl rfl)
theorem dX5_keepDraft_236 : decode cX5_keepDraft 236 = .ok (.iconst 1, 1) := dk_4 (dk_at dksX5_keepDraft_10 4 rfl rfl)
theorem dX5_keepDraft_237 : decode cX5_keepDraft 237 = .ok (.isub, 1) := dk_100 (dk_at dksX5_keepDraft_10 5 rfl rfl)
theorem dX5_keepDraft_238 : decode cX5_keepDraft 238 = .ok (.putfield 123, 3) := dk_181 0 123 (dk_at dksX5_keepDraft_10 6 rfl rfl)
theorem dX5_keepDraft_241 : decode cX5_keepDraft 241 = .ok (.aload_n 0, 1) := dk_42 (dk_at dksX5_keepDraft_10 9 rfl rfl)
theorem dX5_keepDraft_242 : decode cX5_keepDraft 242 = .ok (.iconst 0, 1) := dk_3 (dk_at dksX5_keepDraft_10 10 rfl rfl)
theorem dX5_keepDraft_243 : decode cX5_keepDraft 243 = .ok (.putfield 126, 3) := dk_181 0 126 (dk_at dksX5_keepDraft_10 11 rfl rfl)
theorem dX5_keepDraft_246 : decode cX5_keepDraft 246 = .ok (.aload_n 0, 1) := dk_42 (dk_at dksX5_keepDraft_10 14 rfl rfl)
theorem dX5_keepDraft_247 : decode cX5_keepDraft 247 = .ok (.getfield 68, 3) := dk_180 0 68 (dk_at dksX5_keepDraft_10 15 rfl rfl)
theorem dX5_keepDraft_250 : decode cX5_keepDraft 250 = .ok (.iconst 0, 1) := dk_3 (dk_at dksX5_keepDraft_10 18 rfl rfl)
theorem dX5_keepDraft_251 : decode cX5_keepDraft 251 = .ok (.iconst 0, 1) := dk_3 (dk_at dksX5_keepDraft_10 19 rfl rfl)
theorem dX5_keepDraft_252 : decode cX5_keepDraft 252 = .ok (.bastore, 1) := dk_84 (dk_at dksX5_keepDraft_10 20 rfl rfl)
theorem dX5_keepDraft_253 : decode cX5_keepDraft 253 = .ok (.aload_n 0, 1) := dk_42 (dk_at dksX5_keepDraft_10 21 rfl rfl)
theorem dX5_keepDraft_254 : decode cX5_keepDraft 254 = .ok (.getfield 68, 3) := dk_180 0 68 (dk_at dksX5_keepDraft_11 0 rfl rfl)
theorem dX5_keepDraft_257 : decode cX5_keepDraft 257 = .ok (.iconst 1, 1) := dk_4 (dk_at dksX5_keepDraft_11 3 rfl rfl)
theorem dX5_keepDraft_258 : decode cX5_keepDraft 258 = .ok (.iconst 0, 1) := dk_3 (dk_at dksX5_keepDraft_11 4 rfl rfl)
theorem dX5_keepDraft_259 : decode cX5_keepDraft 259 = .ok (.bastore, 1) := dk_84 (dk_at dksX5_keepDraft_11 5 rfl rfl)
theorem dX5_keepDraft_260 : decode cX5_keepDraft 260 = .ok (.aload_n 0, 1) := dk_42 (dk_at dksX5_keepDraft_11 6 rfl rfl)
theorem dX5_keepDraft_261 : decode cX5_keepDraft 261 = .ok (.invokevirtual 129, 3) := dk_182 0 129 (dk_at dksX5_keepDraft_11 7 rfl rfl)
theorem dX5_keepDraft_264 : decode cX5_keepDraft 264 = .ok (.return_, 1) := dk_177 (dk_at dksX5_keepDraft_11 10 rfl rfl)
abbrev cX5_replays : ByteArray := prog_14_method_44_code
def yX5_replays : MethodName := ⟨RX5, "replays", "()V"⟩
def dkwX5_replays_2 : List UInt8 := [160, 0, 7, 4, 167, 0, 4, 3, 182, 1, 20, 132, 1, 1, 167, 255, 202, 177]
abbrev dktX5_replays_2 : List UInt8 := dkwX5_replays_2 ++ []
def dkwX5_replays_1 : List UInt8 := [104, 46, 42, 180, 0, 49, 6, 27, 104, 4, 96, 46, 42, 180, 0, 49, 6, 27, 104, 5, 96, 46, 4]
abbrev dktX5_replays_1 : List UInt8 := dkwX5_replays_1 ++ dktX5_replays_2
def dkwX5_replays_0 : List UInt8 := [42, 3, 182, 1, 17, 3, 60, 27, 42, 180, 0, 120, 162, 0, 52, 42, 3, 27, 42, 180, 0, 49, 6, 27]
abbrev dktX5_replays_0 : List UInt8 := dkwX5_replays_0 ++ dktX5_replays_1
theorem dksX5_replays_0 : cX5_replays.data.toList.drop 0 = dktX5_replays_0 := by decide +kernel
theorem dksX5_replays_1 : cX5_replays.data.toList.drop 24 = dktX5_replays_1 := dk_seg dksX5_replays_0 24 rfl rfl
theorem dksX5_replays_2 : cX5_replays.data.toList.drop 47 = dktX5_replays_2 := dk_seg dksX5_replays_1 23 rfl rfl
theorem dX5_replays_0 : decode cX5_replays 0 = .ok (.aload_n 0, 1) := dk_42 (dk_at dksX5_replays_0 0 rfl rfl)
theorem dX5_replays_1 : decode cX5_replays 1 = .ok (.iconst 0, 1) := dk_3 (dk_at dksX5_replays_0 1 rfl rfl)
theorem dX5_replays_2 : decode cX5_replays 2 = .ok (.invokevirtual 273, 3) := dk_182 1 17 (dk_at dksX5_replays_0 2 rfl rfl)
theorem dX5_replays_5 : decode cX5_replays 5 = .ok (.iconst 0, 1) := dk_3 (dk_at dksX5_replays_0 5 rfl rfl)
theorem dX5_replays_6 : decode cX5_replays 6 = .ok (.istore_n 1, 1) := dk_60 (dk_at dksX5_replays_0 6 rfl rfl)
theorem dX5_replays_7 : decode cX5_replays 7 = .ok (.iload_n 1, 1) := dk_27 (dk_at dksX5_replays_0 7 rfl rfl)
theorem dX5_replays_8 : decode cX5_replays 8 = .ok (.aload_n 0, 1) := dk_42 (dk_at dksX5_replays_0 8 rfl rfl)
theorem dX5_replays_9 : decode cX5_replays 9 = .ok (.getfield 120, 3) := dk_180 0 120 (dk_at dksX5_replays_0 9 rfl rfl)
theorem dX5_replays_12 : decode cX5_replays 12 = .ok (.if_icmp .ge 52, 3) := dk_162 0 52 (dk_at dksX5_replays_0 12 rfl rfl)
theorem dX5_replays_15 : decode cX5_replays 15 = .ok (.aload_n 0, 1) := dk_42 (dk_at dksX5_replays_0 15 rfl rfl)
theorem dX5_replays_16 : decode cX5_replays 16 = .ok (.iconst 0, 1) := dk_3 (dk_at dksX5_replays_0 16 rfl rfl)
theorem dX5_replays_17 : decode cX5_replays 17 = .ok (.iload_n 1, 1) := dk_27 (dk_at dksX5_replays_0 17 rfl rfl)
theorem dX5_replays_18 : decode cX5_replays 18 = .ok (.aload_n 0, 1) := dk_42 (dk_at dksX5_replays_0 18 rfl rfl)
theorem dX5_replays_19 : decode cX5_replays 19 = .ok (.getfield 49, 3) := dk_180 0 49 (dk_at dksX5_replays_0 19 rfl rfl)
theorem dX5_replays_22 : decode cX5_replays 22 = .ok (.iconst 3, 1) := dk_6 (dk_at dksX5_replays_0 22 rfl rfl)
theorem dX5_replays_23 : decode cX5_replays 23 = .ok (.iload_n 1, 1) := dk_27 (dk_at dksX5_replays_0 23 rfl rfl)
theorem dX5_replays_24 : decode cX5_replays 24 = .ok (.imul, 1) := dk_104 (dk_at dksX5_replays_1 0 rfl rfl)
theorem dX5_replays_25 : decode cX5_replays 25 = .ok (.iaload, 1) := dk_46 (dk_at dksX5_replays_1 1 rfl rfl)
theorem dX5_replays_26 : decode cX5_replays 26 = .ok (.aload_n 0, 1) := dk_42 (dk_at dksX5_replays_1 2 rfl rfl)
theorem dX5_replays_27 : decode cX5_replays 27 = .ok (.getfield 49, 3) := dk_180 0 49 (dk_at dksX5_replays_1 3 rfl rfl)
theorem dX5_replays_30 : decode cX5_replays 30 = .ok (.iconst 3, 1) := dk_6 (dk_at dksX5_replays_1 6 rfl rfl)
theorem dX5_replays_31 : decode cX5_replays 31 = .ok (.iload_n 1, 1) := dk_27 (dk_at dksX5_replays_1 7 rfl rfl)
theorem dX5_replays_32 : decode cX5_replays 32 = .ok (.imul, 1) := dk_104 (dk_at dksX5_replays_1 8 rfl rfl)
theorem dX5_replays_33 : decode cX5_replays 33 = .ok (.iconst 1, 1) := dk_4 (dk_at dksX5_replays_1 9 rfl rfl)
theorem dX5_replays_34 : decode cX5_replays 34 = .ok (.iadd, 1) := dk_96 (dk_at dksX5_replays_1 10 rfl rfl)
theorem dX5_replays_35 : decode cX5_replays 35 = .ok (.iaload, 1) := dk_46 (dk_at dksX5_replays_1 11 rfl rfl)
theorem dX5_replays_36 : decode cX5_replays 36 = .ok (.aload_n 0, 1) := dk_42 (dk_at dksX5_replays_1 12 rfl rfl)
theorem dX5_replays_37 : decode cX5_replays 37 = .ok (.getfield 49, 3) := dk_180 0 49 (dk_at dksX5_replays_1 13 rfl rfl)
theorem dX5_replays_40 : decode cX5_replays 40 = .ok (.iconst 3, 1) := dk_6 (dk_at dksX5_replays_1 16 rfl rfl)
theorem dX5_replays_41 : decode cX5_replays 41 = .ok (.iload_n 1, 1) := dk_27 (dk_at dksX5_replays_1 17 rfl rfl)
theorem dX5_replays_42 : decode cX5_replays 42 = .ok (.imul, 1) := dk_104 (dk_at dksX5_replays_1 18 rfl rfl)
theorem dX5_replays_43 : decode cX5_replays 43 = .ok (.iconst 2, 1) := dk_5 (dk_at dksX5_replays_1 19 rfl rfl)
theorem dX5_replays_44 : decode cX5_replays 44 = .ok (.iadd, 1) := dk_96 (dk_at dksX5_replays_1 20 rfl rfl)
theorem dX5_replays_45 : decode cX5_replays 45 = .ok (.iaload, 1) := dk_46 (dk_at dksX5_replays_1 21 rfl rfl)
theorem dX5_replays_46 : decode cX5_replays 46 = .ok (.iconst 1, 1) := dk_4 (dk_at dksX5_replays_1 22 rfl rfl)
theorem dX5_replays_47 : decode cX5_replays 47 = .ok (.if_icmp .ne 7, 3) := dk_160 0 7 (dk_at dksX5_replays_2 0 rfl rfl)
theorem dX5_replays_50 : decode cX5_replays 50 = .ok (.iconst 1, 1) := dk_4 (dk_at dksX5_replays_2 3 rfl rfl)
theorem dX5_replays_51 : decode cX5_replays 51 = .ok (.goto 4, 3) := dk_167 0 4 (dk_at dksX5_replays_2 4 rfl rfl)
theorem dX5_replays_54 : decode cX5_replays 54 = .ok (.iconst 0, 1) := dk_3 (dk_at dksX5_replays_2 7 rfl rfl)
theorem dX5_replays_55 : decode cX5_replays 55 = .ok (.invokevirtual 276, 3) := dk_182 1 20 (dk_at dksX5_replays_2 8 rfl rfl)
theorem dX5_replays_58 : decode cX5_replays 58 = .ok (.iinc 1 1, 3) := dk_132 1 1 (dk_at dksX5_replays_2 11 rfl rfl)
theorem dX5_replays_61 : decode cX5_replays 61 = .ok (.goto (-54), 3) := dk_167 255 202 (dk_at dksX5_replays_2 14 rfl rfl)
theorem dX5_replays_64 : decode cX5_replays 64 = .ok (.return_, 1) := dk_177 (dk_at dksX5_replays_2 17 rfl rfl)
abbrev cX5_wakes : ByteArray := prog_14_method_35_code
def yX5_wakes : MethodName := ⟨RX5, "wakes", "(I)V"⟩
def dkwX5_wakes_2 : List UInt8 := [132, 2, 1, 167, 255, 208, 177]
abbrev dktX5_wakes_2 : List UInt8 := dkwX5_wakes_2 ++ []
def dkwX5_wakes_1 : List UInt8 := [162, 0, 22, 29, 133, 20, 0, 229, 20, 0, 190, 184, 0, 137, 154, 0, 8, 16, 252, 167, 0, 4, 3, 79]
abbrev dktX5_wakes_1 : List UInt8 := dkwX5_wakes_1 ++ dktX5_wakes_2
def dkwX5_wakes_0 : List UInt8 := [3, 61, 28, 16, 70, 162, 0, 48, 28, 16, 10, 112, 62, 42, 180, 0, 46, 27, 28, 96, 28, 16, 60]
abbrev dktX5_wakes_0 : List UInt8 := dkwX5_wakes_0 ++ dktX5_wakes_1
theorem dksX5_wakes_0 : cX5_wakes.data.toList.drop 0 = dktX5_wakes_0 := by decide +kernel
theorem dksX5_wakes_1 : cX5_wakes.data.toList.drop 23 = dktX5_wakes_1 := dk_seg dksX5_wakes_0 23 rfl rfl
theorem dksX5_wakes_2 : cX5_wakes.data.toList.drop 47 = dktX5_wakes_2 := dk_seg dksX5_wakes_1 24 rfl rfl
theorem dX5_wakes_0 : decode cX5_wakes 0 = .ok (.iconst 0, 1) := dk_3 (dk_at dksX5_wakes_0 0 rfl rfl)
theorem dX5_wakes_1 : decode cX5_wakes 1 = .ok (.istore_n 2, 1) := dk_61 (dk_at dksX5_wakes_0 1 rfl rfl)
theorem dX5_wakes_2 : decode cX5_wakes 2 = .ok (.iload_n 2, 1) := dk_28 (dk_at dksX5_wakes_0 2 rfl rfl)
theorem dX5_wakes_3 : decode cX5_wakes 3 = .ok (.bipush 70, 2) := dk_16 70 (dk_at dksX5_wakes_0 3 rfl rfl)
theorem dX5_wakes_5 : decode cX5_wakes 5 = .ok (.if_icmp .ge 48, 3) := dk_162 0 48 (dk_at dksX5_wakes_0 5 rfl rfl)
theorem dX5_wakes_8 : decode cX5_wakes 8 = .ok (.iload_n 2, 1) := dk_28 (dk_at dksX5_wakes_0 8 rfl rfl)
theorem dX5_wakes_9 : decode cX5_wakes 9 = .ok (.bipush 10, 2) := dk_16 10 (dk_at dksX5_wakes_0 9 rfl rfl)
theorem dX5_wakes_11 : decode cX5_wakes 11 = .ok (.irem, 1) := dk_112 (dk_at dksX5_wakes_0 11 rfl rfl)
theorem dX5_wakes_12 : decode cX5_wakes 12 = .ok (.istore_n 3, 1) := dk_62 (dk_at dksX5_wakes_0 12 rfl rfl)
theorem dX5_wakes_13 : decode cX5_wakes 13 = .ok (.aload_n 0, 1) := dk_42 (dk_at dksX5_wakes_0 13 rfl rfl)
theorem dX5_wakes_14 : decode cX5_wakes 14 = .ok (.getfield 46, 3) := dk_180 0 46 (dk_at dksX5_wakes_0 14 rfl rfl)
theorem dX5_wakes_17 : decode cX5_wakes 17 = .ok (.iload_n 1, 1) := dk_27 (dk_at dksX5_wakes_0 17 rfl rfl)
theorem dX5_wakes_18 : decode cX5_wakes 18 = .ok (.iload_n 2, 1) := dk_28 (dk_at dksX5_wakes_0 18 rfl rfl)
theorem dX5_wakes_19 : decode cX5_wakes 19 = .ok (.iadd, 1) := dk_96 (dk_at dksX5_wakes_0 19 rfl rfl)
theorem dX5_wakes_20 : decode cX5_wakes 20 = .ok (.iload_n 2, 1) := dk_28 (dk_at dksX5_wakes_0 20 rfl rfl)
theorem dX5_wakes_21 : decode cX5_wakes 21 = .ok (.bipush 60, 2) := dk_16 60 (dk_at dksX5_wakes_0 21 rfl rfl)
theorem dX5_wakes_23 : decode cX5_wakes 23 = .ok (.if_icmp .ge 22, 3) := dk_162 0 22 (dk_at dksX5_wakes_1 0 rfl rfl)
theorem dX5_wakes_26 : decode cX5_wakes 26 = .ok (.iload_n 3, 1) := dk_29 (dk_at dksX5_wakes_1 3 rfl rfl)
theorem dX5_wakes_27 : decode cX5_wakes 27 = .ok (.i2l, 1) := dk_133 (dk_at dksX5_wakes_1 4 rfl rfl)
theorem dX5_wakes_28 : decode cX5_wakes 28 = .ok (.ldc2_w 229, 3) := dk_20 0 229 (dk_at dksX5_wakes_1 5 rfl rfl)
theorem dX5_wakes_31 : decode cX5_wakes 31 = .ok (.ldc2_w 190, 3) := dk_20 0 190 (dk_at dksX5_wakes_1 8 rfl rfl)
theorem dX5_wakes_34 : decode cX5_wakes 34 = .ok (.invokestatic 137, 3) := dk_184 0 137 (dk_at dksX5_wakes_1 11 rfl rfl)
theorem dX5_wakes_37 : decode cX5_wakes 37 = .ok (.ifCond .ne 8, 3) := dk_154 0 8 (dk_at dksX5_wakes_1 14 rfl rfl)
theorem dX5_wakes_40 : decode cX5_wakes 40 = .ok (.bipush (-4), 2) := dk_16 252 (dk_at dksX5_wakes_1 17 rfl rfl)
theorem dX5_wakes_42 : decode cX5_wakes 42 = .ok (.goto 4, 3) := dk_167 0 4 (dk_at dksX5_wakes_1 19 rfl rfl)
theorem dX5_wakes_45 : decode cX5_wakes 45 = .ok (.iconst 0, 1) := dk_3 (dk_at dksX5_wakes_1 22 rfl rfl)
theorem dX5_wakes_46 : decode cX5_wakes 46 = .ok (.iastore, 1) := dk_79 (dk_at dksX5_wakes_1 23 rfl rfl)
theorem dX5_wakes_47 : decode cX5_wakes 47 = .ok (.iinc 2 1, 3) := dk_132 2 1 (dk_at dksX5_wakes_2 0 rfl rfl)
theorem dX5_wakes_50 : decode cX5_wakes 50 = .ok (.goto (-48), 3) := dk_167 255 208 (dk_at dksX5_wakes_2 3 rfl rfl)
theorem dX5_wakes_53 : decode cX5_wakes 53 = .ok (.return_, 1) := dk_177 (dk_at dksX5_wakes_2 6 rfl rfl)
abbrev cX5_in : ByteArray := prog_14_method_3_code
def yX5_in : MethodName := ⟨RX5, "in", "(JJJ)Z"⟩
def dkwX5_in_0 : List UInt8 := [30, 32, 148, 155, 0, 14, 30, 22, 4, 148, 157, 0, 7, 4, 167, 0, 4, 3, 172]
abbrev dktX5_in_0 : List UInt8 := dkwX5_in_0 ++ []
theorem dksX5_in_0 : cX5_in.data.toList.drop 0 = dktX5_in_0 := by decide +kernel
theorem dX5_in_0 : decode cX5_in 0 = .ok (.lload_n 0, 1) := dk_30 (dk_at dksX5_in_0 0 rfl rfl)
theorem dX5_in_1 : decode cX5_in 1 = .ok (.lload_n 2, 1) := dk_32 (dk_at dksX5_in_0 1 rfl rfl)
theorem dX5_in_2 : decode cX5_in 2 = .ok (.lcmp, 1) := dk_148 (dk_at dksX5_in_0 2 rfl rfl)
theorem dX5_in_3 : decode cX5_in 3 = .ok (.ifCond .lt 14, 3) := dk_155 0 14 (dk_at dksX5_in_0 3 rfl rfl)
theorem dX5_in_6 : decode cX5_in 6 = .ok (.lload_n 0, 1) := dk_30 (dk_at dksX5_in_0 6 rfl rfl)
theorem dX5_in_7 : decode cX5_in 7 = .ok (.lload 4, 2) := dk_22 4 (dk_at dksX5_in_0 7 rfl rfl)
theorem dX5_in_9 : decode cX5_in 9 = .ok (.lcmp, 1) := dk_148 (dk_at dksX5_in_0 9 rfl rfl)
theorem dX5_in_10 : decode cX5_in 10 = .ok (.ifCond .gt 7, 3) := dk_157 0 7 (dk_at dksX5_in_0 10 rfl rfl)
theorem dX5_in_13 : decode cX5_in 13 = .ok (.iconst 1, 1) := dk_4 (dk_at dksX5_in_0 13 rfl rfl)
theorem dX5_in_14 : decode cX5_in 14 = .ok (.goto 4, 3) := dk_167 0 4 (dk_at dksX5_in_0 14 rfl rfl)
theorem dX5_in_17 : decode cX5_in 17 = .ok (.iconst 0, 1) := dk_3 (dk_at dksX5_in_0 17 rfl rfl)
theorem dX5_in_18 : decode cX5_in 18 = .ok (.ireturn, 1) := dk_172 (dk_at dksX5_in_0 18 rfl rfl)
abbrev cX5_sees : ByteArray := prog_14_method_43_code
def yX5_sees : MethodName := ⟨RX5, "sees", "(IIIIZ)V"⟩
def dkwX5_sees_5 : List UInt8 := [21, 6, 29, 21, 4, 21, 5, 182, 1, 13, 132, 6, 1, 167, 255, 182, 177]
abbrev dktX5_sees_5 : List UInt8 := dkwX5_sees_5 ++ []
def dkwX5_sees_4 : List UInt8 := [21, 6, 104, 5, 96, 46, 21, 4, 160, 0, 13, 42, 21, 7, 28, 182, 1, 9, 167, 0, 15, 42, 27]
abbrev dktX5_sees_4 : List UInt8 := dkwX5_sees_4 ++ dktX5_sees_5
def dkwX5_sees_3 : List UInt8 := [96, 54, 7, 42, 180, 0, 46, 21, 7, 16, 9, 96, 46, 16, 252, 160, 0, 41, 42, 180, 0, 22, 8]
abbrev dktX5_sees_3 : List UInt8 := dkwX5_sees_3 ++ dktX5_sees_4
def dkwX5_sees_2 : List UInt8 := [4, 21, 4, 120, 128, 79, 3, 54, 6, 21, 6, 42, 180, 0, 117, 162, 0, 71, 27, 16, 10, 21, 6, 104]
abbrev dktX5_sees_2 : List UInt8 := dkwX5_sees_2 ++ dktX5_sees_3
def dkwX5_sees_1 : List UInt8 := [3, 128, 79, 42, 180, 0, 46, 27, 16, 64, 96, 29, 96, 92, 46, 21, 5, 153, 0, 7, 3, 167, 0, 7]
abbrev dktX5_sees_1 : List UInt8 := dkwX5_sees_1 ++ dktX5_sees_2
def dkwX5_sees_0 : List UInt8 := [42, 180, 0, 46, 27, 16, 60, 96, 29, 96, 92, 46, 21, 5, 153, 0, 10, 4, 21, 4, 120, 167, 0, 4]
abbrev dktX5_sees_0 : List UInt8 := dkwX5_sees_0 ++ dktX5_sees_1
theorem dksX5_sees_0 : cX5_sees.data.toList.drop 0 = dktX5_sees_0 := by decide +kernel
theorem dksX5_sees_1 : cX5_sees.data.toList.drop 24 = dktX5_sees_1 := dk_seg dksX5_sees_0 24 rfl rfl
theorem dksX5_sees_2 : cX5_sees.data.toList.drop 48 = dktX5_sees_2 := dk_seg dksX5_sees_1 24 rfl rfl
theorem dksX5_sees_3 : cX5_sees.data.toList.drop 72 = dktX5_sees_3 := dk_seg dksX5_sees_2 24 rfl rfl
theorem dksX5_sees_4 : cX5_sees.data.toList.drop 95 = dktX5_sees_4 := dk_seg dksX5_sees_3 23 rfl rfl
theorem dksX5_sees_5 : cX5_sees.data.toList.drop 118 = dktX5_sees_5 := dk_seg dksX5_sees_4 23 rfl rfl
theorem dX5_sees_0 : decode cX5_sees 0 = .ok (.aload_n 0, 1) := dk_42 (dk_at dksX5_sees_0 0 rfl rfl)
theorem dX5_sees_1 : decode cX5_sees 1 = .ok (.getfield 46, 3) := dk_180 0 46 (dk_at dksX5_sees_0 1 rfl rfl)
theorem dX5_sees_4 : decode cX5_sees 4 = .ok (.iload_n 1, 1) := dk_27 (dk_at dksX5_sees_0 4 rfl rfl)
theorem dX5_sees_5 : decode cX5_sees 5 = .ok (.bipush 60, 2) := dk_16 60 (dk_at dksX5_sees_0 5 rfl rfl)
theorem dX5_sees_7 : decode cX5_sees 7 = .ok (.iadd, 1) := dk_96 (dk_at dksX5_sees_0 7 rfl rfl)
theorem dX5_sees_8 : decode cX5_sees 8 = .ok (.iload_n 3, 1) := dk_29 (dk_at dksX5_sees_0 8 rfl rfl)
theorem dX5_sees_9 : decode cX5_sees 9 = .ok (.iadd, 1) := dk_96 (dk_at dksX5_sees_0 9 rfl rfl)
theorem dX5_sees_10 : decode cX5_sees 10 = .ok (.dup2, 1) := dk_92 (dk_at dksX5_sees_0 10 rfl rfl)
theorem dX5_sees_11 : decode cX5_sees 11 = .ok (.iaload, 1) := dk_46 (dk_at dksX5_sees_0 11 rfl rfl)
theorem dX5_sees_12 : decode cX5_sees 12 = .ok (.iload 5, 2) := dk_21 5 (dk_at dksX5_sees_0 12 rfl rfl)
theorem dX5_sees_14 : decode cX5_sees 14 = .ok (.ifCond .eq 10, 3) := dk_153 0 10 (dk_at dksX5_sees_0 14 rfl rfl)
theorem dX5_sees_17 : decode cX5_sees 17 = .ok (.iconst 1, 1) := dk_4 (dk_at dksX5_sees_0 17 rfl rfl)
theorem dX5_sees_18 : decode cX5_sees 18 = .ok (.iload 4, 2) := dk_21 4 (dk_at dksX5_sees_0 18 rfl rfl)
theorem dX5_sees_20 : decode cX5_sees 20 = .ok (.ishl, 1) := dk_120 (dk_at dksX5_sees_0 20 rfl rfl)
theorem dX5_sees_21 : decode cX5_sees 21 = .ok (.goto 4, 3) := dk_167 0 4 (dk_at dksX5_sees_0 21 rfl rfl)
theorem dX5_sees_24 : decode cX5_sees 24 = .ok (.iconst 0, 1) := dk_3 (dk_at dksX5_sees_1 0 rfl rfl)
theorem dX5_sees_25 : decode cX5_sees 25 = .ok (.ior, 1) := dk_128 (dk_at dksX5_sees_1 1 rfl rfl)
theorem dX5_sees_26 : decode cX5_sees 26 = .ok (.iastore, 1) := dk_79 (dk_at dksX5_sees_1 2 rfl rfl)
theorem dX5_sees_27 : decode cX5_sees 27 = .ok (.aload_n 0, 1) := dk_42 (dk_at dksX5_sees_1 3 rfl rfl)
theorem dX5_sees_28 : decode cX5_sees 28 = .ok (.getfield 46, 3) := dk_180 0 46 (dk_at dksX5_sees_1 4 rfl rfl)
theorem dX5_sees_31 : decode cX5_sees 31 = .ok (.iload_n 1, 1) := dk_27 (dk_at dksX5_sees_1 7 rfl rfl)
theorem dX5_sees_32 : decode cX5_sees 32 = .ok (.bipush 64, 2) := dk_16 64 (dk_at dksX5_sees_1 8 rfl rfl)
theorem dX5_sees_34 : decode cX5_sees 34 = .ok (.iadd, 1) := dk_96 (dk_at dksX5_sees_1 10 rfl rfl)
theorem dX5_sees_35 : decode cX5_sees 35 = .ok (.iload_n 3, 1) := dk_29 (dk_at dksX5_sees_1 11 rfl rfl)
theorem dX5_sees_36 : decode cX5_sees 36 = .ok (.iadd, 1) := dk_96 (dk_at dksX5_sees_1 12 rfl rfl)
theorem dX5_sees_37 : decode cX5_sees 37 = .ok (.dup2, 1) := dk_92 (dk_at dksX5_sees_1 13 rfl rfl)
theorem dX5_sees_38 : decode cX5_sees 38 = .ok (.iaload, 1) := dk_46 (dk_at dksX5_sees_1 14 rfl rfl)
theorem dX5_sees_39 : decode cX5_sees 39 = .ok (.iload 5, 2) := dk_21 5 (dk_at dksX5_sees_1 15 rfl rfl)
theorem dX5_sees_41 : decode cX5_sees 41 = .ok (.ifCond .eq 7, 3) := dk_153 0 7 (dk_at dksX5_sees_1 17 rfl rfl)
theorem dX5_sees_44 : decode cX5_sees 44 = .ok (.iconst 0, 1) := dk_3 (dk_at dksX5_sees_1 20 rfl rfl)
theorem dX5_sees_45 : decode cX5_sees 45 = .ok (.goto 7, 3) := dk_167 0 7 (dk_at dksX5_sees_1 21 rfl rfl)
theorem dX5_sees_48 : decode cX5_sees 48 = .ok (.iconst 1, 1) := dk_4 (dk_at dksX5_sees_2 0 rfl rfl)
theorem dX5_sees_49 : decode cX5_sees 49 = .ok (.iload 4, 2) := dk_21 4 (dk_at dksX5_sees_2 1 rfl rfl)
theorem dX5_sees_51 : decode cX5_sees 51 = .ok (.ishl, 1) := dk_120 (dk_at dksX5_sees_2 3 rfl rfl)
theorem dX5_sees_52 : decode cX5_sees 52 = .ok (.ior, 1) := dk_128 (dk_at dksX5_sees_2 4 rfl rfl)
theorem dX5_sees_53 : decode cX5_sees 53 = .ok (.iastore, 1) := dk_79 (dk_at dksX5_sees_2 5 rfl rfl)
theorem dX5_sees_54 : decode cX5_sees 54 = .ok (.iconst 0, 1) := dk_3 (dk_at dksX5_sees_2 6 rfl rfl)
theorem dX5_sees_55 : decode cX5_sees 55 = .ok (.istore 6, 2) := dk_54 6 (dk_at dksX5_sees_2 7 rfl rfl)
theorem dX5_sees_57 : decode cX5_sees 57 = .ok (.iload 6, 2) := dk_21 6 (dk_at dksX5_sees_2 9 rfl rfl)
theorem dX5_sees_59 : decode cX5_sees 59 = .ok (.aload_n 0, 1) := dk_42 (dk_at dksX5_sees_2 11 rfl rfl)
theorem dX5_sees_60 : decode cX5_sees 60 = .ok (.getfield 117, 3) := dk_180 0 117 (dk_at dksX5_sees_2 12 rfl rfl)
theorem dX5_sees_63 : decode cX5_sees 63 = .ok (.if_icmp .ge 71, 3) := dk_162 0 71 (dk_at dksX5_sees_2 15 rfl rfl)
theorem dX5_sees_66 : decode cX5_sees 66 = .ok (.iload_n 1, 1) := dk_27 (dk_at dksX5_sees_2 18 rfl rfl)
theorem dX5_sees_67 : decode cX5_sees 67 = .ok (.bipush 10, 2) := dk_16 10 (dk_at dksX5_sees_2 19 rfl rfl)
theorem dX5_sees_69 : decode cX5_sees 69 = .ok (.iload 6, 2) := dk_21 6 (dk_at dksX5_sees_2 21 rfl rfl)
theorem dX5_sees_71 : decode cX5_sees 71 = .ok (.imul, 1) := dk_104 (dk_at dksX5_sees_2 23 rfl rfl)
theorem dX5_sees_72 : decode cX5_sees 72 = .ok (.iadd, 1) := dk_96 (dk_at dksX5_sees_3 0 rfl rfl)
theorem dX5_sees_73 : decode cX5_sees 73 = .ok (.istore 7, 2) := dk_54 7 (dk_at dksX5_sees_3 1 rfl rfl)
theorem dX5_sees_75 : decode cX5_sees 75 = .ok (.aload_n 0, 1) := dk_42 (dk_at dksX5_sees_3 3 rfl rfl)
theorem dX5_sees_76 : decode cX5_sees 76 = .ok (.getfield 46, 3) := dk_180 0 46 (dk_at dksX5_sees_3 4 rfl rfl)
theorem dX5_sees_79 : decode cX5_sees 79 = .ok (.iload 7, 2) := dk_21 7 (dk_at dksX5_sees_3 7 rfl rfl)
theorem dX5_sees_81 : decode cX5_sees 81 = .ok (.bipush 9, 2) := dk_16 9 (dk_at dksX5_sees_3 9 rfl rfl)
theorem dX5_sees_83 : decode cX5_sees 83 = .ok (.iadd, 1) := dk_96 (dk_at dksX5_sees_3 11 rfl rfl)
theorem dX5_sees_84 : decode cX5_sees 84 = .ok (.iaload, 1) := dk_46 (dk_at dksX5_sees_3 12 rfl rfl)
theorem dX5_sees_85 : decode cX5_sees 85 = .ok (.bipush (-4), 2) := dk_16 252 (dk_at dksX5_sees_3 13 rfl rfl)
theorem dX5_sees_87 : decode cX5_sees 87 = .ok (.if_icmp .ne 41, 3) := dk_160 0 41 (dk_at dksX5_sees_3 15 rfl rfl)
theorem dX5_sees_90 : decode cX5_sees 90 = .ok (.aload_n 0, 1) := dk_42 (dk_at dksX5_sees_3 18 rfl rfl)
theorem dX5_sees_91 : decode cX5_sees 91 = .ok (.getfield 22, 3) := dk_180 0 22 (dk_at dksX5_sees_3 19 rfl rfl)
theorem dX5_sees_94 : decode cX5_sees 94 = .ok (.iconst 5, 1) := dk_8 (dk_at dksX5_sees_3 22 rfl rfl)
theorem dX5_sees_95 : decode cX5_sees 95 = .ok (.iload 6, 2) := dk_21 6 (dk_at dksX5_sees_4 0 rfl rfl)
theorem dX5_sees_97 : decode cX5_sees 97 = .ok (.imul, 1) := dk_104 (dk_at dksX5_sees_4 2 rfl rfl)
theorem dX5_sees_98 : decode cX5_sees 98 = .ok (.iconst 2, 1) := dk_5 (dk_at dksX5_sees_4 3 rfl rfl)
theorem dX5_sees_99 : decode cX5_sees 99 = .ok (.iadd, 1) := dk_96 (dk_at dksX5_sees_4 4 rfl rfl)
theorem dX5_sees_100 : decode cX5_sees 100 = .ok (.iaload, 1) := dk_46 (dk_at dksX5_sees_4 5 rfl rfl)
theorem dX5_sees_101 : decode cX5_sees 101 = .ok (.iload 4, 2) := dk_21 4 (dk_at dksX5_sees_4 6 rfl rfl)
theorem dX5_sees_103 : decode cX5_sees 103 = .ok (.if_icmp .ne 13, 3) := dk_160 0 13 (dk_at dksX5_sees_4 8 rfl rfl)
theorem dX5_sees_106 : decode cX5_sees 106 = .ok (.aload_n 0, 1) := dk_42 (dk_at dksX5_sees_4 11 rfl rfl)
theorem dX5_sees_107 : decode cX5_sees 107 = .ok (.iload 7, 2) := dk_21 7 (dk_at dksX5_sees_4 12 rfl rfl)
theorem dX5_sees_109 : decode cX5_sees 109 = .ok (.iload_n 2, 1) := dk_28 (dk_at dksX5_sees_4 14 rfl rfl)
theorem dX5_sees_110 : decode cX5_sees 110 = .ok (.invokevirtual 265, 3) := dk_182 1 9 (dk_at dksX5_sees_4 15 rfl rfl)
theorem dX5_sees_113 : decode cX5_sees 113 = .ok (.goto 15, 3) := dk_167 0 15 (dk_at dksX5_sees_4 18 rfl rfl)
theorem dX5_sees_116 : decode cX5_sees 116 = .ok (.aload_n 0, 1) := dk_42 (dk_at dksX5_sees_4 21 rfl rfl)
theorem dX5_sees_117 : decode cX5_sees 117 = .ok (.iload_n 1, 1) := dk_27 (dk_at dksX5_sees_4 22 rfl rfl)
theorem dX5_sees_118 : decode cX5_sees 118 = .ok (.iload 6, 2) := dk_21 6 (dk_at dksX5_sees_5 0 rfl rfl)
theorem dX5_sees_120 : decode cX5_sees 120 = .ok (.iload_n 3, 1) := dk_29 (dk_at dksX5_sees_5 2 rfl rfl)
theorem dX5_sees_121 : decode cX5_sees 121 = .ok (.iload 4, 2) := dk_21 4 (dk_at dksX5_sees_5 3 rfl rfl)
theorem dX5_sees_123 : decode cX5_sees 123 = .ok (.iload 5, 2) := dk_21 5 (dk_at dksX5_sees_5 5 rfl rfl)
theorem dX5_sees_125 : decode cX5_sees 125 = .ok (.invokevirtual 269, 3) := dk_182 1 13 (dk_at dksX5_sees_5 7 rfl rfl)
theorem dX5_sees_128 : decode cX5_sees 128 = .ok (.iinc 6 1, 3) := dk_132 6 1 (dk_at dksX5_sees_5 10 rfl rfl)
theorem dX5_sees_131 : decode cX5_sees 131 = .ok (.goto (-74), 3) := dk_167 255 182 (dk_at dksX5_sees_5 13 rfl rfl)
theorem dX5_sees_134 : decode cX5_sees 134 = .ok (.return_, 1) := dk_177 (dk_at dksX5_sees_5 16 rfl rfl)
abbrev cX5_flees : ByteArray := prog_14_method_42_code
def yX5_flees : MethodName := ⟨RX5, "flees", "(II)V"⟩
def dkwX5_flees_1 : List UInt8 := [16, 252, 79, 42, 180, 0, 46, 27, 7, 96, 29, 96, 3, 79, 132, 3, 1, 167, 255, 227, 177]
abbrev dktX5_flees_1 : List UInt8 := dkwX5_flees_1 ++ []
def dkwX5_flees_0 : List UInt8 := [42, 180, 0, 46, 27, 16, 9, 96, 28, 79, 3, 62, 29, 7, 162, 0, 30, 42, 180, 0, 46, 27, 29, 96]
abbrev dktX5_flees_0 : List UInt8 := dkwX5_flees_0 ++ dktX5_flees_1
theorem dksX5_flees_0 : cX5_flees.data.toList.drop 0 = dktX5_flees_0 := by decide +kernel
theorem dksX5_flees_1 : cX5_flees.data.toList.drop 24 = dktX5_flees_1 := dk_seg dksX5_flees_0 24 rfl rfl
theorem dX5_flees_0 : decode cX5_flees 0 = .ok (.aload_n 0, 1) := dk_42 (dk_at dksX5_flees_0 0 rfl rfl)
theorem dX5_flees_1 : decode cX5_flees 1 = .ok (.getfield 46, 3) := dk_180 0 46 (dk_at dksX5_flees_0 1 rfl rfl)
theorem dX5_flees_4 : decode cX5_flees 4 = .ok (.iload_n 1, 1) := dk_27 (dk_at dksX5_flees_0 4 rfl rfl)
theorem dX5_flees_5 : decode cX5_flees 5 = .ok (.bipush 9, 2) := dk_16 9 (dk_at dksX5_flees_0 5 rfl rfl)
theorem dX5_flees_7 : decode cX5_flees 7 = .ok (.iadd, 1) := dk_96 (dk_at dksX5_flees_0 7 rfl rfl)
theorem dX5_flees_8 : decode cX5_flees 8 = .ok (.iload_n 2, 1) := dk_28 (dk_at dksX5_flees_0 8 rfl rfl)
theorem dX5_flees_9 : decode cX5_flees 9 = .ok (.iastore, 1) := dk_79 (dk_at dksX5_flees_0 9 rfl rfl)
theorem dX5_flees_10 : decode cX5_flees 10 = .ok (.iconst 0, 1) := dk_3 (dk_at dksX5_flees_0 10 rfl rfl)
theorem dX5_flees_11 : decode cX5_flees 11 = .ok (.istore_n 3, 1) := dk_62 (dk_at dksX5_flees_0 11 rfl rfl)
theorem dX5_flees_12 : decode cX5_flees 12 = .ok (.iload_n 3, 1) := dk_29 (dk_at dksX5_flees_0 12 rfl rfl)
theorem dX5_flees_13 : decode cX5_flees 13 = .ok (.iconst 4, 1) := dk_7 (dk_at dksX5_flees_0 13 rfl rfl)
theorem dX5_flees_14 : decode cX5_flees 14 = .ok (.if_icmp .ge 30, 3) := dk_162 0 30 (dk_at dksX5_flees_0 14 rfl rfl)
theorem dX5_flees_17 : decode cX5_flees 17 = .ok (.aload_n 0, 1) := dk_42 (dk_at dksX5_flees_0 17 rfl rfl)
theorem dX5_flees_18 : decode cX5_flees 18 = .ok (.getfield 46, 3) := dk_180 0 46 (dk_at dksX5_flees_0 18 rfl rfl)
theorem dX5_flees_21 : decode cX5_flees 21 = .ok (.iload_n 1, 1) := dk_27 (dk_at dksX5_flees_0 21 rfl rfl)
theorem dX5_flees_22 : decode cX5_flees 22 = .ok (.iload_n 3, 1) := dk_29 (dk_at dksX5_flees_0 22 rfl rfl)
theorem dX5_flees_23 : decode cX5_flees 23 = .ok (.iadd, 1) := dk_96 (dk_at dksX5_flees_0 23 rfl rfl)
theorem dX5_flees_24 : decode cX5_flees 24 = .ok (.bipush (-4), 2) := dk_16 252 (dk_at dksX5_flees_1 0 rfl rfl)
theorem dX5_flees_26 : decode cX5_flees 26 = .ok (.iastore, 1) := dk_79 (dk_at dksX5_flees_1 2 rfl rfl)
theorem dX5_flees_27 : decode cX5_flees 27 = .ok (.aload_n 0, 1) := dk_42 (dk_at dksX5_flees_1 3 rfl rfl)
theorem dX5_flees_28 : decode cX5_flees 28 = .ok (.getfield 46, 3) := dk_180 0 46 (dk_at dksX5_flees_1 4 rfl rfl)
theorem dX5_flees_31 : decode cX5_flees 31 = .ok (.iload_n 1, 1) := dk_27 (dk_at dksX5_flees_1 7 rfl rfl)
theorem dX5_flees_32 : decode cX5_flees 32 = .ok (.iconst 4, 1) := dk_7 (dk_at dksX5_flees_1 8 rfl rfl)
theorem dX5_flees_33 : decode cX5_flees 33 = .ok (.iadd, 1) := dk_96 (dk_at dksX5_flees_1 9 rfl rfl)
theorem dX5_flees_34 : decode cX5_flees 34 = .ok (.iload_n 3, 1) := dk_29 (dk_at dksX5_flees_1 10 rfl rfl)
theorem dX5_flees_35 : decode cX5_flees 35 = .ok (.iadd, 1) := dk_96 (dk_at dksX5_flees_1 11 rfl rfl)
theorem dX5_flees_36 : decode cX5_flees 36 = .ok (.iconst 0, 1) := dk_3 (dk_at dksX5_flees_1 12 rfl rfl)
theorem dX5_flees_37 : decode cX5_flees 37 = .ok (.iastore, 1) := dk_79 (dk_at dksX5_flees_1 13 rfl rfl)
theorem dX5_flees_38 : decode cX5_flees 38 = .ok (.iinc 3 1, 3) := dk_132 3 1 (dk_at dksX5_flees_1 14 rfl rfl)
theorem dX5_flees_41 : decode cX5_flees 41 = .ok (.goto (-29), 3) := dk_167 255 227 (dk_at dksX5_flees_1 17 rfl rfl)
theorem dX5_flees_44 : decode cX5_flees 44 = .ok (.return_, 1) := dk_177 (dk_at dksX5_flees_1 20 rfl rfl)
abbrev cX5_looks : ByteArray := prog_14_method_41_code
def yX5_looks : MethodName := ⟨RX5, "looks", "(IIIIZ)V"⟩
def dkwX5_looks_13 : List UInt8 := [167, 0, 12, 42, 180, 0, 46, 21, 6, 29, 96, 46, 79, 177]
abbrev dktX5_looks_13 : List UInt8 := dkwX5_looks_13 ++ []
def dkwX5_looks_12 : List UInt8 := [42, 180, 0, 46, 21, 6, 29, 96, 46, 16, 252, 160, 0, 16, 42, 180, 0, 46, 21, 6, 16, 8, 96, 46]
abbrev dktX5_looks_12 : List UInt8 := dkwX5_looks_12 ++ dktX5_looks_13
def dkwX5_looks_11 : List UInt8 := [160, 0, 8, 21, 8, 167, 0, 9, 42, 21, 7, 182, 0, 248, 79, 42, 180, 0, 46, 21, 6, 16, 8, 96]
abbrev dktX5_looks_11 : List UInt8 := dkwX5_looks_11 ++ dktX5_looks_12
def dkwX5_looks_10 : List UInt8 := [28, 104, 46, 4, 160, 0, 26, 21, 8, 16, 252, 159, 0, 19, 21, 7, 21, 8, 122, 4, 126, 4]
abbrev dktX5_looks_10 : List UInt8 := dkwX5_looks_10 ++ dktX5_looks_11
def dkwX5_looks_9 : List UInt8 := [180, 0, 46, 21, 6, 16, 8, 96, 46, 54, 8, 42, 180, 0, 46, 21, 6, 29, 96, 42, 180, 0, 22, 8]
abbrev dktX5_looks_9 : List UInt8 := dkwX5_looks_9 ++ dktX5_looks_10
def dkwX5_looks_8 : List UInt8 := [21, 7, 182, 1, 6, 153, 0, 12, 42, 21, 7, 182, 0, 248, 167, 0, 5, 16, 252, 79, 167, 0, 65, 42]
abbrev dktX5_looks_8 : List UInt8 := dkwX5_looks_8 ++ dktX5_looks_9
def dkwX5_looks_7 : List UInt8 := [167, 0, 109, 42, 180, 0, 22, 8, 28, 104, 46, 5, 160, 0, 35, 42, 180, 0, 46, 21, 6, 29, 96, 42]
abbrev dktX5_looks_7 : List UInt8 := dkwX5_looks_7 ++ dktX5_looks_8
def dkwX5_looks_6 : List UInt8 := [96, 46, 46, 21, 4, 122, 4, 126, 21, 5, 184, 0, 254, 159, 0, 7, 4, 167, 0, 4, 3, 182, 1, 2]
abbrev dktX5_looks_6 : List UInt8 := dkwX5_looks_6 ++ dktX5_looks_7
def dkwX5_looks_5 : List UInt8 := [180, 0, 46, 21, 6, 29, 96, 46, 16, 252, 159, 0, 34, 42, 180, 0, 40, 42, 180, 0, 46, 21, 6, 29]
abbrev dktX5_looks_5 : List UInt8 := dkwX5_looks_5 ++ dktX5_looks_6
def dkwX5_looks_4 : List UInt8 := [167, 255, 186, 42, 180, 0, 22, 8, 28, 104, 46, 6, 160, 0, 61, 42, 21, 6, 29, 21, 7, 42]
abbrev dktX5_looks_4 : List UInt8 := dkwX5_looks_4 ++ dktX5_looks_5
def dkwX5_looks_3 : List UInt8 := [4, 42, 180, 0, 46, 21, 6, 21, 8, 96, 46, 120, 2, 130, 167, 0, 4, 2, 126, 54, 7, 132, 8, 1]
abbrev dktX5_looks_3 : List UInt8 := dkwX5_looks_3 ++ dktX5_looks_4
def dkwX5_looks_2 : List UInt8 := [160, 0, 41, 21, 8, 29, 159, 0, 35, 42, 180, 0, 46, 21, 6, 21, 8, 96, 46, 16, 252, 159, 0, 20]
abbrev dktX5_looks_2 : List UInt8 := dkwX5_looks_2 ++ dktX5_looks_3
def dkwX5_looks_1 : List UInt8 := [54, 8, 21, 8, 42, 180, 0, 114, 162, 0, 67, 21, 7, 42, 180, 0, 22, 8, 28, 104, 6, 96, 46, 4]
abbrev dktX5_looks_1 : List UInt8 := dkwX5_looks_1 ++ dktX5_looks_2
def dkwX5_looks_0 : List UInt8 := [27, 16, 10, 28, 104, 96, 54, 6, 42, 27, 29, 182, 0, 251, 42, 28, 182, 0, 231, 126, 54, 7, 3]
abbrev dktX5_looks_0 : List UInt8 := dkwX5_looks_0 ++ dktX5_looks_1
theorem dksX5_looks_0 : cX5_looks.data.toList.drop 0 = dktX5_looks_0 := by decide +kernel
theorem dksX5_looks_1 : cX5_looks.data.toList.drop 23 = dktX5_looks_1 := dk_seg dksX5_looks_0 23 rfl rfl
theorem dksX5_looks_2 : cX5_looks.data.toList.drop 47 = dktX5_looks_2 := dk_seg dksX5_looks_1 24 rfl rfl
theorem dksX5_looks_3 : cX5_looks.data.toList.drop 71 = dktX5_looks_3 := dk_seg dksX5_looks_2 24 rfl rfl
theorem dksX5_looks_4 : cX5_looks.data.toList.drop 95 = dktX5_looks_4 := dk_seg dksX5_looks_3 24 rfl rfl
theorem dksX5_looks_5 : cX5_looks.data.toList.drop 117 = dktX5_looks_5 := dk_seg dksX5_looks_4 22 rfl rfl
theorem dksX5_looks_6 : cX5_looks.data.toList.drop 141 = dktX5_looks_6 := dk_seg dksX5_looks_5 24 rfl rfl
theorem dksX5_looks_7 : cX5_looks.data.toList.drop 165 = dktX5_looks_7 := dk_seg dksX5_looks_6 24 rfl rfl
theorem dksX5_looks_8 : cX5_looks.data.toList.drop 189 = dktX5_looks_8 := dk_seg dksX5_looks_7 24 rfl rfl
theorem dksX5_looks_9 : cX5_looks.data.toList.drop 213 = dktX5_looks_9 := dk_seg dksX5_looks_8 24 rfl rfl
theorem dksX5_looks_10 : cX5_looks.data.toList.drop 237 = dktX5_looks_10 := dk_seg dksX5_looks_9 24 rfl rfl
theorem dksX5_looks_11 : cX5_looks.data.toList.drop 259 = dktX5_looks_11 := dk_seg dksX5_looks_10 22 rfl rfl
theorem dksX5_looks_12 : cX5_looks.data.toList.drop 283 = dktX5_looks_12 := dk_seg dksX5_looks_11 24 rfl rfl
theorem dksX5_looks_13 : cX5_looks.data.toList.drop 307 = dktX5_looks_13 := dk_seg dksX5_looks_12 24 rfl rfl
theorem dX5_looks_0 : decode cX5_looks 0 = .ok (.iload_n 1, 1) := dk_27 (dk_at dksX5_looks_0 0 rfl rfl)
theorem dX5_looks_1 : decode cX5_looks 1 = .ok (.bipush 10, 2) := dk_16 10 (dk_at dksX5_looks_0 1 rfl rfl)
theorem dX5_looks_3 : decode cX5_looks 3 = .ok (.iload_n 2, 1) := dk_28 (dk_at dksX5_looks_0 3 rfl rfl)
theorem dX5_looks_4 : decode cX5_looks 4 = .ok (.imul, 1) := dk_104 (dk_at dksX5_looks_0 4 rfl rfl)
theorem dX5_looks_5 : decode cX5_looks 5 = .ok (.iadd, 1) := dk_96 (dk_at dksX5_looks_0 5 rfl rfl)
theorem dX5_looks_6 : decode cX5_looks 6 = .ok (.istore 6, 2) := dk_54 6 (dk_at dksX5_looks_0 6 rfl rfl)
theorem dX5_looks_8 : decode cX5_looks 8 = .ok (.aload_n 0, 1) := dk_42 (dk_at dksX5_looks_0 8 rfl rfl)
theorem dX5_looks_9 : decode cX5_looks 9 = .ok (.iload_n 1, 1) := dk_27 (dk_at dksX5_looks_0 9 rfl rfl)
theorem dX5_looks_10 : decode cX5_looks 10 = .ok (.iload_n 3, 1) := dk_29 (dk_at dksX5_looks_0 10 rfl rfl)
theorem dX5_looks_11 : decode cX5_looks 11 = .ok (.invokevirtual 251, 3) := dk_182 0 251 (dk_at dksX5_looks_0 11 rfl rfl)
theorem dX5_looks_14 : decode cX5_looks 14 = .ok (.aload_n 0, 1) := dk_42 (dk_at dksX5_looks_0 14 rfl rfl)
theorem dX5_looks_15 : decode cX5_looks 15 = .ok (.iload_n 2, 1) := dk_28 (dk_at dksX5_looks_0 15 rfl rfl)
theorem dX5_looks_16 : decode cX5_looks 16 = .ok (.invokevirtual 231, 3) := dk_182 0 231 (dk_at dksX5_looks_0 16 rfl rfl)
theorem dX5_looks_19 : decode cX5_looks 19 = .ok (.iand, 1) := dk_126 (dk_at dksX5_looks_0 19 rfl rfl)
theorem dX5_looks_20 : decode cX5_looks 20 = .ok (.istore 7, 2) := dk_54 7 (dk_at dksX5_looks_0 20 rfl rfl)
theorem dX5_looks_22 : decode cX5_looks 22 = .ok (.iconst 0, 1) := dk_3 (dk_at dksX5_looks_0 22 rfl rfl)
theorem dX5_looks_23 : decode cX5_looks 23 = .ok (.istore 8, 2) := dk_54 8 (dk_at dksX5_looks_1 0 rfl rfl)
theorem dX5_looks_25 : decode cX5_looks 25 = .ok (.iload 8, 2) := dk_21 8 (dk_at dksX5_looks_1 2 rfl rfl)
theorem dX5_looks_27 : decode cX5_looks 27 = .ok (.aload_n 0, 1) := dk_42 (dk_at dksX5_looks_1 4 rfl rfl)
theorem dX5_looks_28 : decode cX5_looks 28 = .ok (.getfield 114, 3) := dk_180 0 114 (dk_at dksX5_looks_1 5 rfl rfl)
theorem dX5_looks_31 : decode cX5_looks 31 = .ok (.if_icmp .ge 67, 3) := dk_162 0 67 (dk_at dksX5_looks_1 8 rfl rfl)
theorem dX5_looks_34 : decode cX5_looks 34 = .ok (.iload 7, 2) := dk_21 7 (dk_at dksX5_looks_1 11 rfl rfl)
theorem dX5_looks_36 : decode cX5_looks 36 = .ok (.aload_n 0, 1) := dk_42 (dk_at dksX5_looks_1 13 rfl rfl)
theorem dX5_looks_37 : decode cX5_looks 37 = .ok (.getfield 22, 3) := dk_180 0 22 (dk_at dksX5_looks_1 14 rfl rfl)
theorem dX5_looks_40 : decode cX5_looks 40 = .ok (.iconst 5, 1) := dk_8 (dk_at dksX5_looks_1 17 rfl rfl)
theorem dX5_looks_41 : decode cX5_looks 41 = .ok (.iload_n 2, 1) := dk_28 (dk_at dksX5_looks_1 18 rfl rfl)
theorem dX5_looks_42 : decode cX5_looks 42 = .ok (.imul, 1) := dk_104 (dk_at dksX5_looks_1 19 rfl rfl)
theorem dX5_looks_43 : decode cX5_looks 43 = .ok (.iconst 3, 1) := dk_6 (dk_at dksX5_looks_1 20 rfl rfl)
theorem dX5_looks_44 : decode cX5_looks 44 = .ok (.iadd, 1) := dk_96 (dk_at dksX5_looks_1 21 rfl rfl)
theorem dX5_looks_45 : decode cX5_looks 45 = .ok (.iaload, 1) := dk_46 (dk_at dksX5_looks_1 22 rfl rfl)
theorem dX5_looks_46 : decode cX5_looks 46 = .ok (.iconst 1, 1) := dk_4 (dk_at dksX5_looks_1 23 rfl rfl)
theorem dX5_looks_47 : decode cX5_looks 47 = .ok (.if_icmp .ne 41, 3) := dk_160 0 41 (dk_at dksX5_looks_2 0 rfl rfl)
theorem dX5_looks_50 : decode cX5_looks 50 = .ok (.iload 8, 2) := dk_21 8 (dk_at dksX5_looks_2 3 rfl rfl)
theorem dX5_looks_52 : decode cX5_looks 52 = .ok (.iload_n 3, 1) := dk_29 (dk_at dksX5_looks_2 5 rfl rfl)
theorem dX5_looks_53 : decode cX5_looks 53 = .ok (.if_icmp .eq 35, 3) := dk_159 0 35 (dk_at dksX5_looks_2 6 rfl rfl)
theorem dX5_looks_56 : decode cX5_looks 56 = .ok (.aload_n 0, 1) := dk_42 (dk_at dksX5_looks_2 9 rfl rfl)
theorem dX5_looks_57 : decode cX5_looks 57 = .ok (.getfield 46, 3) := dk_180 0 46 (dk_at dksX5_looks_2 10 rfl rfl)
theorem dX5_looks_60 : decode cX5_looks 60 = .ok (.iload 6, 2) := dk_21 6 (dk_at dksX5_looks_2 13 rfl rfl)
theorem dX5_looks_62 : decode cX5_looks 62 = .ok (.iload 8, 2) := dk_21 8 (dk_at dksX5_looks_2 15 rfl rfl)
theorem dX5_looks_64 : decode cX5_looks 64 = .ok (.iadd, 1) := dk_96 (dk_at dksX5_looks_2 17 rfl rfl)
theorem dX5_looks_65 : decode cX5_looks 65 = .ok (.iaload, 1) := dk_46 (dk_at dksX5_looks_2 18 rfl rfl)
theorem dX5_looks_66 : decode cX5_looks 66 = .ok (.bipush (-4), 2) := dk_16 252 (dk_at dksX5_looks_2 19 rfl rfl)
theorem dX5_looks_68 : decode cX5_looks 68 = .ok (.if_icmp .eq 20, 3) := dk_159 0 20 (dk_at dksX5_looks_2 21 rfl rfl)
theorem dX5_looks_71 : decode cX5_looks 71 = .ok (.iconst 1, 1) := dk_4 (dk_at dksX5_looks_3 0 rfl rfl)
theorem dX5_looks_72 : decode cX5_looks 72 = .ok (.aload_n 0, 1) := dk_42 (dk_at dksX5_looks_3 1 rfl rfl)
theorem dX5_looks_73 : decode cX5_looks 73 = .ok (.getfield 46, 3) := dk_180 0 46 (dk_at dksX5_looks_3 2 rfl rfl)
theorem dX5_looks_76 : decode cX5_looks 76 = .ok (.iload 6, 2) := dk_21 6 (dk_at dksX5_looks_3 5 rfl rfl)
theorem dX5_looks_78 : decode cX5_looks 78 = .ok (.iload 8, 2) := dk_21 8 (dk_at dksX5_looks_3 7 rfl rfl)
theorem dX5_looks_80 : decode cX5_looks 80 = .ok (.iadd, 1) := dk_96 (dk_at dksX5_looks_3 9 rfl rfl)
theorem dX5_looks_81 : decode cX5_looks 81 = .ok (.iaload, 1) := dk_46 (dk_at dksX5_looks_3 10 rfl rfl)
theorem dX5_looks_82 : decode cX5_looks 82 = .ok (.ishl, 1) := dk_120 (dk_at dksX5_looks_3 11 rfl rfl)
theorem dX5_looks_83 : decode cX5_looks 83 = .ok (.iconst (-1), 1) := dk_2 (dk_at dksX5_looks_3 12 rfl rfl)
theorem dX5_looks_84 : decode cX5_looks 84 = .ok (.ixor, 1) := dk_130 (dk_at dksX5_looks_3 13 rfl rfl)
theorem dX5_looks_85 : decode cX5_looks 85 = .ok (.goto 4, 3) := dk_167 0 4 (dk_at dksX5_looks_3 14 rfl rfl)
theorem dX5_looks_88 : decode cX5_looks 88 = .ok (.iconst (-1), 1) := dk_2 (dk_at dksX5_looks_3 17 rfl rfl)
theorem dX5_looks_89 : decode cX5_looks 89 = .ok (.iand, 1) := dk_126 (dk_at dksX5_looks_3 18 rfl rfl)
theorem dX5_looks_90 : decode cX5_looks 90 = .ok (.istore 7, 2) := dk_54 7 (dk_at dksX5_looks_3 19 rfl rfl)
theorem dX5_looks_92 : decode cX5_looks 92 = .ok (.iinc 8 1, 3) := dk_132 8 1 (dk_at dksX5_looks_3 21 rfl rfl)
theorem dX5_looks_95 : decode cX5_looks 95 = .ok (.goto (-70), 3) := dk_167 255 186 (dk_at dksX5_looks_4 0 rfl rfl)
theorem dX5_looks_98 : decode cX5_looks 98 = .ok (.aload_n 0, 1) := dk_42 (dk_at dksX5_looks_4 3 rfl rfl)
theorem dX5_looks_99 : decode cX5_looks 99 = .ok (.getfield 22, 3) := dk_180 0 22 (dk_at dksX5_looks_4 4 rfl rfl)
theorem dX5_looks_102 : decode cX5_looks 102 = .ok (.iconst 5, 1) := dk_8 (dk_at dksX5_looks_4 7 rfl rfl)
theorem dX5_looks_103 : decode cX5_looks 103 = .ok (.iload_n 2, 1) := dk_28 (dk_at dksX5_looks_4 8 rfl rfl)
theorem dX5_looks_104 : decode cX5_looks 104 = .ok (.imul, 1) := dk_104 (dk_at dksX5_looks_4 9 rfl rfl)
theorem dX5_looks_105 : decode cX5_looks 105 = .ok (.iaload, 1) := dk_46 (dk_at dksX5_looks_4 10 rfl rfl)
theorem dX5_looks_106 : decode cX5_looks 106 = .ok (.iconst 3, 1) := dk_6 (dk_at dksX5_looks_4 11 rfl rfl)
theorem dX5_looks_107 : decode cX5_looks 107 = .ok (.if_icmp .ne 61, 3) := dk_160 0 61 (dk_at dksX5_looks_4 12 rfl rfl)
theorem dX5_looks_110 : decode cX5_looks 110 = .ok (.aload_n 0, 1) := dk_42 (dk_at dksX5_looks_4 15 rfl rfl)
theorem dX5_looks_111 : decode cX5_looks 111 = .ok (.iload 6, 2) := dk_21 6 (dk_at dksX5_looks_4 16 rfl rfl)
theorem dX5_looks_113 : decode cX5_looks 113 = .ok (.iload_n 3, 1) := dk_29 (dk_at dksX5_looks_4 18 rfl rfl)
theorem dX5_looks_114 : decode cX5_looks 114 = .ok (.iload 7, 2) := dk_21 7 (dk_at dksX5_looks_4 19 rfl rfl)
theorem dX5_looks_116 : decode cX5_looks 116 = .ok (.aload_n 0, 1) := dk_42 (dk_at dksX5_looks_4 21 rfl rfl)
theorem dX5_looks_117 : decode cX5_looks 117 = .ok (.getfield 46, 3) := dk_180 0 46 (dk_at dksX5_looks_5 0 rfl rfl)
theorem dX5_looks_120 : decode cX5_looks 120 = .ok (.iload 6, 2) := dk_21 6 (dk_at dksX5_looks_5 3 rfl rfl)
theorem dX5_looks_122 : decode cX5_looks 122 = .ok (.iload_n 3, 1) := dk_29 (dk_at dksX5_looks_5 5 rfl rfl)
theorem dX5_looks_123 : decode cX5_looks 123 = .ok (.iadd, 1) := dk_96 (dk_at dksX5_looks_5 6 rfl rfl)
theorem dX5_looks_124 : decode cX5_looks 124 = .ok (.iaload, 1) := dk_46 (dk_at dksX5_looks_5 7 rfl rfl)
theorem dX5_looks_125 : decode cX5_looks 125 = .ok (.bipush (-4), 2) := dk_16 252 (dk_at dksX5_looks_5 8 rfl rfl)
theorem dX5_looks_127 : decode cX5_looks 127 = .ok (.if_icmp .eq 34, 3) := dk_159 0 34 (dk_at dksX5_looks_5 10 rfl rfl)
theorem dX5_looks_130 : decode cX5_looks 130 = .ok (.aload_n 0, 1) := dk_42 (dk_at dksX5_looks_5 13 rfl rfl)
theorem dX5_looks_131 : decode cX5_looks 131 = .ok (.getfield 40, 3) := dk_180 0 40 (dk_at dksX5_looks_5 14 rfl rfl)
theorem dX5_looks_134 : decode cX5_looks 134 = .ok (.aload_n 0, 1) := dk_42 (dk_at dksX5_looks_5 17 rfl rfl)
theorem dX5_looks_135 : decode cX5_looks 135 = .ok (.getfield 46, 3) := dk_180 0 46 (dk_at dksX5_looks_5 18 rfl rfl)
theorem dX5_looks_138 : decode cX5_looks 138 = .ok (.iload 6, 2) := dk_21 6 (dk_at dksX5_looks_5 21 rfl rfl)
theorem dX5_looks_140 : decode cX5_looks 140 = .ok (.iload_n 3, 1) := dk_29 (dk_at dksX5_looks_5 23 rfl rfl)
theorem dX5_looks_141 : decode cX5_looks 141 = .ok (.iadd, 1) := dk_96 (dk_at dksX5_looks_6 0 rfl rfl)
theorem dX5_looks_142 : decode cX5_looks 142 = .ok (.iaload, 1) := dk_46 (dk_at dksX5_looks_6 1 rfl rfl)
theorem dX5_looks_143 : decode cX5_looks 143 = .ok (.iaload, 1) := dk_46 (dk_at dksX5_looks_6 2 rfl rfl)
theorem dX5_looks_144 : decode cX5_looks 144 = .ok (.iload 4, 2) := dk_21 4 (dk_at dksX5_looks_6 3 rfl rfl)
theorem dX5_looks_146 : decode cX5_looks 146 = .ok (.ishr, 1) := dk_122 (dk_at dksX5_looks_6 5 rfl rfl)
theorem dX5_looks_147 : decode cX5_looks 147 = .ok (.iconst 1, 1) := dk_4 (dk_at dksX5_looks_6 6 rfl rfl)
theorem dX5_looks_148 : decode cX5_looks 148 = .ok (.iand, 1) := dk_126 (dk_at dksX5_looks_6 7 rfl rfl)
theorem dX5_looks_149 : decode cX5_looks 149 = .ok (.iload 5, 2) := dk_21 5 (dk_at dksX5_looks_6 8 rfl rfl)
theorem dX5_looks_151 : decode cX5_looks 151 = .ok (.invokestatic 254, 3) := dk_184 0 254 (dk_at dksX5_looks_6 10 rfl rfl)
theorem dX5_looks_154 : decode cX5_looks 154 = .ok (.if_icmp .eq 7, 3) := dk_159 0 7 (dk_at dksX5_looks_6 13 rfl rfl)
theorem dX5_looks_157 : decode cX5_looks 157 = .ok (.iconst 1, 1) := dk_4 (dk_at dksX5_looks_6 16 rfl rfl)
theorem dX5_looks_158 : decode cX5_looks 158 = .ok (.goto 4, 3) := dk_167 0 4 (dk_at dksX5_looks_6 17 rfl rfl)
theorem dX5_looks_161 : decode cX5_looks 161 = .ok (.iconst 0, 1) := dk_3 (dk_at dksX5_looks_6 20 rfl rfl)
theorem dX5_looks_162 : decode cX5_looks 162 = .ok (.invokevirtual 258, 3) := dk_182 1 2 (dk_at dksX5_looks_6 21 rfl rfl)
theorem dX5_looks_165 : decode cX5_looks 165 = .ok (.goto 109, 3) := dk_167 0 109 (dk_at dksX5_looks_7 0 rfl rfl)
theorem dX5_looks_168 : decode cX5_looks 168 = .ok (.aload_n 0, 1) := dk_42 (dk_at dksX5_looks_7 3 rfl rfl)
theorem dX5_looks_169 : decode cX5_looks 169 = .ok (.getfield 22, 3) := dk_180 0 22 (dk_at dksX5_looks_7 4 rfl rfl)
theorem dX5_looks_172 : decode cX5_looks 172 = .ok (.iconst 5, 1) := dk_8 (dk_at dksX5_looks_7 7 rfl rfl)
theorem dX5_looks_173 : decode cX5_looks 173 = .ok (.iload_n 2, 1) := dk_28 (dk_at dksX5_looks_7 8 rfl rfl)
theorem dX5_looks_174 : decode cX5_looks 174 = .ok (.imul, 1) := dk_104 (dk_at dksX5_looks_7 9 rfl rfl)
theorem dX5_looks_175 : decode cX5_looks 175 = .ok (.iaload, 1) := dk_46 (dk_at dksX5_looks_7 10 rfl rfl)
theorem dX5_looks_176 : decode cX5_looks 176 = .ok (.iconst 2, 1) := dk_5 (dk_at dksX5_looks_7 11 rfl rfl)
theorem dX5_looks_177 : decode cX5_looks 177 = .ok (.if_icmp .ne 35, 3) := dk_160 0 35 (dk_at dksX5_looks_7 12 rfl rfl)
theorem dX5_looks_180 : decode cX5_looks 180 = .ok (.aload_n 0, 1) := dk_42 (dk_at dksX5_looks_7 15 rfl rfl)
theorem dX5_looks_181 : decode cX5_looks 181 = .ok (.getfield 46, 3) := dk_180 0 46 (dk_at dksX5_looks_7 16 rfl rfl)
theorem dX5_looks_184 : decode cX5_looks 184 = .ok (.iload 6, 2) := dk_21 6 (dk_at dksX5_looks_7 19 rfl rfl)
theorem dX5_looks_186 : decode cX5_looks 186 = .ok (.iload_n 3, 1) := dk_29 (dk_at dksX5_looks_7 21 rfl rfl)
theorem dX5_looks_187 : decode cX5_looks 187 = .ok (.iadd, 1) := dk_96 (dk_at dksX5_looks_7 22 rfl rfl)
theorem dX5_looks_188 : decode cX5_looks 188 = .ok (.aload_n 0, 1) := dk_42 (dk_at dksX5_looks_7 23 rfl rfl)
theorem dX5_looks_189 : decode cX5_looks 189 = .ok (.iload 7, 2) := dk_21 7 (dk_at dksX5_looks_8 0 rfl rfl)
theorem dX5_looks_191 : decode cX5_looks 191 = .ok (.invokevirtual 262, 3) := dk_182 1 6 (dk_at dksX5_looks_8 2 rfl rfl)
theorem dX5_looks_194 : decode cX5_looks 194 = .ok (.ifCond .eq 12, 3) := dk_153 0 12 (dk_at dksX5_looks_8 5 rfl rfl)
theorem dX5_looks_197 : decode cX5_looks 197 = .ok (.aload_n 0, 1) := dk_42 (dk_at dksX5_looks_8 8 rfl rfl)
theorem dX5_looks_198 : decode cX5_looks 198 = .ok (.iload 7, 2) := dk_21 7 (dk_at dksX5_looks_8 9 rfl rfl)
theorem dX5_looks_200 : decode cX5_looks 200 = .ok (.invokevirtual 248, 3) := dk_182 0 248 (dk_at dksX5_looks_8 11 rfl rfl)
theorem dX5_looks_203 : decode cX5_looks 203 = .ok (.goto 5, 3) := dk_167 0 5 (dk_at dksX5_looks_8 14 rfl rfl)
theorem dX5_looks_206 : decode cX5_looks 206 = .ok (.bipush (-4), 2) := dk_16 252 (dk_at dksX5_looks_8 17 rfl rfl)
theorem dX5_looks_208 : decode cX5_looks 208 = .ok (.iastore, 1) := dk_79 (dk_at dksX5_looks_8 19 rfl rfl)
theorem dX5_looks_209 : decode cX5_looks 209 = .ok (.goto 65, 3) := dk_167 0 65 (dk_at dksX5_looks_8 20 rfl rfl)
theorem dX5_looks_212 : decode cX5_looks 212 = .ok (.aload_n 0, 1) := dk_42 (dk_at dksX5_looks_8 23 rfl rfl)
theorem dX5_looks_213 : decode cX5_looks 213 = .ok (.getfield 46, 3) := dk_180 0 46 (dk_at dksX5_looks_9 0 rfl rfl)
theorem dX5_looks_216 : decode cX5_looks 216 = .ok (.iload 6, 2) := dk_21 6 (dk_at dksX5_looks_9 3 rfl rfl)
theorem dX5_looks_218 : decode cX5_looks 218 = .ok (.bipush 8, 2) := dk_16 8 (dk_at dksX5_looks_9 5 rfl rfl)
theorem dX5_looks_220 : decode cX5_looks 220 = .ok (.iadd, 1) := dk_96 (dk_at dksX5_looks_9 7 rfl rfl)
theorem dX5_looks_221 : decode cX5_looks 221 = .ok (.iaload, 1) := dk_46 (dk_at dksX5_looks_9 8 rfl rfl)
theorem dX5_looks_222 : decode cX5_looks 222 = .ok (.istore 8, 2) := dk_54 8 (dk_at dksX5_looks_9 9 rfl rfl)
theorem dX5_looks_224 : decode cX5_looks 224 = .ok (.aload_n 0, 1) := dk_42 (dk_at dksX5_looks_9 11 rfl rfl)
theorem dX5_looks_225 : decode cX5_looks 225 = .ok (.getfield 46, 3) := dk_180 0 46 (dk_at dksX5_looks_9 12 rfl rfl)
theorem dX5_looks_228 : decode cX5_looks 228 = .ok (.iload 6, 2) := dk_21 6 (dk_at dksX5_looks_9 15 rfl rfl)
theorem dX5_looks_230 : decode cX5_looks 230 = .ok (.iload_n 3, 1) := dk_29 (dk_at dksX5_looks_9 17 rfl rfl)
theorem dX5_looks_231 : decode cX5_looks 231 = .ok (.iadd, 1) := dk_96 (dk_at dksX5_looks_9 18 rfl rfl)
theorem dX5_looks_232 : decode cX5_looks 232 = .ok (.aload_n 0, 1) := dk_42 (dk_at dksX5_looks_9 19 rfl rfl)
theorem dX5_looks_233 : decode cX5_looks 233 = .ok (.getfield 22, 3) := dk_180 0 22 (dk_at dksX5_looks_9 20 rfl rfl)
theorem dX5_looks_236 : decode cX5_looks 236 = .ok (.iconst 5, 1) := dk_8 (dk_at dksX5_looks_9 23 rfl rfl)
theorem dX5_looks_237 : decode cX5_looks 237 = .ok (.iload_n 2, 1) := dk_28 (dk_at dksX5_looks_10 0 rfl rfl)
theorem dX5_looks_238 : decode cX5_looks 238 = .ok (.imul, 1) := dk_104 (dk_at dksX5_looks_10 1 rfl rfl)
theorem dX5_looks_239 : decode cX5_looks 239 = .ok (.iaload, 1) := dk_46 (dk_at dksX5_looks_10 2 rfl rfl)
theorem dX5_looks_240 : decode cX5_looks 240 = .ok (.iconst 1, 1) := dk_4 (dk_at dksX5_looks_10 3 rfl rfl)
theorem dX5_looks_241 : decode cX5_looks 241 = .ok (.if_icmp .ne 26, 3) := dk_160 0 26 (dk_at dksX5_looks_10 4 rfl rfl)
theorem dX5_looks_244 : decode cX5_looks 244 = .ok (.iload 8, 2) := dk_21 8 (dk_at dksX5_looks_10 7 rfl rfl)
theorem dX5_looks_246 : decode cX5_looks 246 = .ok (.bipush (-4), 2) := dk_16 252 (dk_at dksX5_looks_10 9 rfl rfl)
theorem dX5_looks_248 : decode cX5_looks 248 = .ok (.if_icmp .eq 19, 3) := dk_159 0 19 (dk_at dksX5_looks_10 11 rfl rfl)
theorem dX5_looks_251 : decode cX5_looks 251 = .ok (.iload 7, 2) := dk_21 7 (dk_at dksX5_looks_10 14 rfl rfl)
theorem dX5_looks_253 : decode cX5_looks 253 = .ok (.iload 8, 2) := dk_21 8 (dk_at dksX5_looks_10 16 rfl rfl)
theorem dX5_looks_255 : decode cX5_looks 255 = .ok (.ishr, 1) := dk_122 (dk_at dksX5_looks_10 18 rfl rfl)
theorem dX5_looks_256 : decode cX5_looks 256 = .ok (.iconst 1, 1) := dk_4 (dk_at dksX5_looks_10 19 rfl rfl)
theorem dX5_looks_257 : decode cX5_looks 257 = .ok (.iand, 1) := dk_126 (dk_at dksX5_looks_10 20 rfl rfl)
theorem dX5_looks_258 : decode cX5_looks 258 = .ok (.iconst 1, 1) := dk_4 (dk_at dksX5_looks_10 21 rfl rfl)
theorem dX5_looks_259 : decode cX5_looks 259 = .ok (.if_icmp .ne 8, 3) := dk_160 0 8 (dk_at dksX5_looks_11 0 rfl rfl)
theorem dX5_looks_262 : decode cX5_looks 262 = .ok (.iload 8, 2) := dk_21 8 (dk_at dksX5_looks_11 3 rfl rfl)
theorem dX5_looks_264 : decode cX5_looks 264 = .ok (.goto 9, 3) := dk_167 0 9 (dk_at dksX5_looks_11 5 rfl rfl)
theorem dX5_looks_267 : decode cX5_looks 267 = .ok (.aload_n 0, 1) := dk_42 (dk_at dksX5_looks_11 8 rfl rfl)
theorem dX5_looks_268 : decode cX5_looks 268 = .ok (.iload 7, 2) := dk_21 7 (dk_at dksX5_looks_11 9 rfl rfl)
theorem dX5_looks_270 : decode cX5_looks 270 = .ok (.invokevirtual 248, 3) := dk_182 0 248 (dk_at dksX5_looks_11 11 rfl rfl)
theorem dX5_looks_273 : decode cX5_looks 273 = .ok (.iastore, 1) := dk_79 (dk_at dksX5_looks_11 14 rfl rfl)
theorem dX5_looks_274 : decode cX5_looks 274 = .ok (.aload_n 0, 1) := dk_42 (dk_at dksX5_looks_11 15 rfl rfl)
theorem dX5_looks_275 : decode cX5_looks 275 = .ok (.getfield 46, 3) := dk_180 0 46 (dk_at dksX5_looks_11 16 rfl rfl)
theorem dX5_looks_278 : decode cX5_looks 278 = .ok (.iload 6, 2) := dk_21 6 (dk_at dksX5_looks_11 19 rfl rfl)
theorem dX5_looks_280 : decode cX5_looks 280 = .ok (.bipush 8, 2) := dk_16 8 (dk_at dksX5_looks_11 21 rfl rfl)
theorem dX5_looks_282 : decode cX5_looks 282 = .ok (.iadd, 1) := dk_96 (dk_at dksX5_looks_11 23 rfl rfl)
theorem dX5_looks_283 : decode cX5_looks 283 = .ok (.aload_n 0, 1) := dk_42 (dk_at dksX5_looks_12 0 rfl rfl)
theorem dX5_looks_284 : decode cX5_looks 284 = .ok (.getfield 46, 3) := dk_180 0 46 (dk_at dksX5_looks_12 1 rfl rfl)
theorem dX5_looks_287 : decode cX5_looks 287 = .ok (.iload 6, 2) := dk_21 6 (dk_at dksX5_looks_12 4 rfl rfl)
theorem dX5_looks_289 : decode cX5_looks 289 = .ok (.iload_n 3, 1) := dk_29 (dk_at dksX5_looks_12 6 rfl rfl)
theorem dX5_looks_290 : decode cX5_looks 290 = .ok (.iadd, 1) := dk_96 (dk_at dksX5_looks_12 7 rfl rfl)
theorem dX5_looks_291 : decode cX5_looks 291 = .ok (.iaload, 1) := dk_46 (dk_at dksX5_looks_12 8 rfl rfl)
theorem dX5_looks_292 : decode cX5_looks 292 = .ok (.bipush (-4), 2) := dk_16 252 (dk_at dksX5_looks_12 9 rfl rfl)
theorem dX5_looks_294 : decode cX5_looks 294 = .ok (.if_icmp .ne 16, 3) := dk_160 0 16 (dk_at dksX5_looks_12 11 rfl rfl)
theorem dX5_looks_297 : decode cX5_looks 297 = .ok (.aload_n 0, 1) := dk_42 (dk_at dksX5_looks_12 14 rfl rfl)
theorem dX5_looks_298 : decode cX5_looks 298 = .ok (.getfield 46, 3) := dk_180 0 46 (dk_at dksX5_looks_12 15 rfl rfl)
theorem dX5_looks_301 : decode cX5_looks 301 = .ok (.iload 6, 2) := dk_21 6 (dk_at dksX5_looks_12 18 rfl rfl)
theorem dX5_looks_303 : decode cX5_looks 303 = .ok (.bipush 8, 2) := dk_16 8 (dk_at dksX5_looks_12 20 rfl rfl)
theorem dX5_looks_305 : decode cX5_looks 305 = .ok (.iadd, 1) := dk_96 (dk_at dksX5_looks_12 22 rfl rfl)
theorem dX5_looks_306 : decode cX5_looks 306 = .ok (.iaload, 1) := dk_46 (dk_at dksX5_looks_12 23 rfl rfl)
theorem dX5_looks_307 : decode cX5_looks 307 = .ok (.goto 12, 3) := dk_167 0 12 (dk_at dksX5_looks_13 0 rfl rfl)
theorem dX5_looks_310 : decode cX5_looks 310 = .ok (.aload_n 0, 1) := dk_42 (dk_at dksX5_looks_13 3 rfl rfl)
theorem dX5_looks_311 : decode cX5_looks 311 = .ok (.getfield 46, 3) := dk_180 0 46 (dk_at dksX5_looks_13 4 rfl rfl)
theorem dX5_looks_314 : decode cX5_looks 314 = .ok (.iload 6, 2) := dk_21 6 (dk_at dksX5_looks_13 7 rfl rfl)
theorem dX5_looks_316 : decode cX5_looks 316 = .ok (.iload_n 3, 1) := dk_29 (dk_at dksX5_looks_13 9 rfl rfl)
theorem dX5_looks_317 : decode cX5_looks 317 = .ok (.iadd, 1) := dk_96 (dk_at dksX5_looks_13 10 rfl rfl)
theorem dX5_looks_318 : decode cX5_looks 318 = .ok (.iaload, 1) := dk_46 (dk_at dksX5_looks_13 11 rfl rfl)
theorem dX5_looks_319 : decode cX5_looks 319 = .ok (.iastore, 1) := dk_79 (dk_at dksX5_looks_13 12 rfl rfl)
theorem dX5_looks_320 : decode cX5_looks 320 = .ok (.return_, 1) := dk_177 (dk_at dksX5_looks_13 13 rfl rfl)
abbrev cX5_allThatFit : ByteArray := prog_14_method_37_code
def yX5_allThatFit : MethodName := ⟨RX5, "allThatFit", "(II)I"⟩
def dkwX5_allThatFit_1 : List UInt8 := [153, 0, 10, 4, 21, 4, 120, 167, 0, 4, 3, 128, 62, 132, 4, 1, 167, 255, 222, 29, 172]
abbrev dktX5_allThatFit_1 : List UInt8 := dkwX5_allThatFit_1 ++ []
def dkwX5_allThatFit_0 : List UInt8 := [3, 62, 3, 54, 4, 21, 4, 42, 180, 0, 111, 162, 0, 31, 29, 42, 27, 28, 21, 4, 182, 0, 245]
abbrev dktX5_allThatFit_0 : List UInt8 := dkwX5_allThatFit_0 ++ dktX5_allThatFit_1
theorem dksX5_allThatFit_0 : cX5_allThatFit.data.toList.drop 0 = dktX5_allThatFit_0 := by decide +kernel
theorem dksX5_allThatFit_1 : cX5_allThatFit.data.toList.drop 23 = dktX5_allThatFit_1 := dk_seg dksX5_allThatFit_0 23 rfl rfl
theorem dX5_allThatFit_0 : decode cX5_allThatFit 0 = .ok (.iconst 0, 1) := dk_3 (dk_at dksX5_allThatFit_0 0 rfl rfl)
theorem dX5_allThatFit_1 : decode cX5_allThatFit 1 = .ok (.istore_n 3, 1) := dk_62 (dk_at dksX5_allThatFit_0 1 rfl rfl)
theorem dX5_allThatFit_2 : decode cX5_allThatFit 2 = .ok (.iconst 0, 1) := dk_3 (dk_at dksX5_allThatFit_0 2 rfl rfl)
theorem dX5_allThatFit_3 : decode cX5_allThatFit 3 = .ok (.istore 4, 2) := dk_54 4 (dk_at dksX5_allThatFit_0 3 rfl rfl)
theorem dX5_allThatFit_5 : decode cX5_allThatFit 5 = .ok (.iload 4, 2) := dk_21 4 (dk_at dksX5_allThatFit_0 5 rfl rfl)
theorem dX5_allThatFit_7 : decode cX5_allThatFit 7 = .ok (.aload_n 0, 1) := dk_42 (dk_at dksX5_allThatFit_0 7 rfl rfl)
theorem dX5_allThatFit_8 : decode cX5_allThatFit 8 = .ok (.getfield 111, 3) := dk_180 0 111 (dk_at dksX5_allThatFit_0 8 rfl rfl)
theorem dX5_allThatFit_11 : decode cX5_allThatFit 11 = .ok (.if_icmp .ge 31, 3) := dk_162 0 31 (dk_at dksX5_allThatFit_0 11 rfl rfl)
theorem dX5_allThatFit_14 : decode cX5_allThatFit 14 = .ok (.iload_n 3, 1) := dk_29 (dk_at dksX5_allThatFit_0 14 rfl rfl)
theorem dX5_allThatFit_15 : decode cX5_allThatFit 15 = .ok (.aload_n 0, 1) := dk_42 (dk_at dksX5_allThatFit_0 15 rfl rfl)
theorem dX5_allThatFit_16 : decode cX5_allThatFit 16 = .ok (.iload_n 1, 1) := dk_27 (dk_at dksX5_allThatFit_0 16 rfl rfl)
theorem dX5_allThatFit_17 : decode cX5_allThatFit 17 = .ok (.iload_n 2, 1) := dk_28 (dk_at dksX5_allThatFit_0 17 rfl rfl)
theorem dX5_allThatFit_18 : decode cX5_allThatFit 18 = .ok (.iload 4, 2) := dk_21 4 (dk_at dksX5_allThatFit_0 18 rfl rfl)
theorem dX5_allThatFit_20 : decode cX5_allThatFit 20 = .ok (.invokevirtual 245, 3) := dk_182 0 245 (dk_at dksX5_allThatFit_0 20 rfl rfl)
theorem dX5_allThatFit_23 : decode cX5_allThatFit 23 = .ok (.ifCond .eq 10, 3) := dk_153 0 10 (dk_at dksX5_allThatFit_1 0 rfl rfl)
theorem dX5_allThatFit_26 : decode cX5_allThatFit 26 = .ok (.iconst 1, 1) := dk_4 (dk_at dksX5_allThatFit_1 3 rfl rfl)
theorem dX5_allThatFit_27 : decode cX5_allThatFit 27 = .ok (.iload 4, 2) := dk_21 4 (dk_at dksX5_allThatFit_1 4 rfl rfl)
theorem dX5_allThatFit_29 : decode cX5_allThatFit 29 = .ok (.ishl, 1) := dk_120 (dk_at dksX5_allThatFit_1 6 rfl rfl)
theorem dX5_allThatFit_30 : decode cX5_allThatFit 30 = .ok (.goto 4, 3) := dk_167 0 4 (dk_at dksX5_allThatFit_1 7 rfl rfl)
theorem dX5_allThatFit_33 : decode cX5_allThatFit 33 = .ok (.iconst 0, 1) := dk_3 (dk_at dksX5_allThatFit_1 10 rfl rfl)
theorem dX5_allThatFit_34 : decode cX5_allThatFit 34 = .ok (.ior, 1) := dk_128 (dk_at dksX5_allThatFit_1 11 rfl rfl)
theorem dX5_allThatFit_35 : decode cX5_allThatFit 35 = .ok (.istore_n 3, 1) := dk_62 (dk_at dksX5_allThatFit_1 12 rfl rfl)
theorem dX5_allThatFit_36 : decode cX5_allThatFit 36 = .ok (.iinc 4 1, 3) := dk_132 4 1 (dk_at dksX5_allThatFit_1 13 rfl rfl)
theorem dX5_allThatFit_39 : decode cX5_allThatFit 39 = .ok (.goto (-34), 3) := dk_167 255 222 (dk_at dksX5_allThatFit_1 16 rfl rfl)
theorem dX5_allThatFit_42 : decode cX5_allThatFit 42 = .ok (.iload_n 3, 1) := dk_29 (dk_at dksX5_allThatFit_1 19 rfl rfl)
theorem dX5_allThatFit_43 : decode cX5_allThatFit 43 = .ok (.ireturn, 1) := dk_172 (dk_at dksX5_allThatFit_1 20 rfl rfl)
abbrev cX5_fitsIn : ByteArray := prog_14_method_36_code
def yX5_fitsIn : MethodName := ⟨RX5, "fitsIn", "(III)Z"⟩
def dkwX5_fitsIn_2 : List UInt8 := [3, 172]
abbrev dktX5_fitsIn_2 : List UInt8 := dkwX5_fitsIn_2 ++ []
def dkwX5_fitsIn_1 : List UInt8 := [180, 0, 46, 27, 16, 64, 96, 28, 96, 46, 42, 180, 0, 40, 29, 46, 126, 154, 0, 7, 4, 167, 0, 4]
abbrev dktX5_fitsIn_1 : List UInt8 := dkwX5_fitsIn_1 ++ dktX5_fitsIn_2
def dkwX5_fitsIn_0 : List UInt8 := [42, 180, 0, 46, 27, 16, 60, 96, 28, 96, 46, 42, 180, 0, 40, 29, 46, 2, 130, 126, 154, 0, 28, 42]
abbrev dktX5_fitsIn_0 : List UInt8 := dkwX5_fitsIn_0 ++ dktX5_fitsIn_1
theorem dksX5_fitsIn_0 : cX5_fitsIn.data.toList.drop 0 = dktX5_fitsIn_0 := by decide +kernel
theorem dksX5_fitsIn_1 : cX5_fitsIn.data.toList.drop 24 = dktX5_fitsIn_1 := dk_seg dksX5_fitsIn_0 24 rfl rfl
theorem dksX5_fitsIn_2 : cX5_fitsIn.data.toList.drop 48 = dktX5_fitsIn_2 := dk_seg dksX5_fitsIn_1 24 rfl rfl
theorem dX5_fitsIn_0 : decode cX5_fitsIn 0 = .ok (.aload_n 0, 1) := dk_42 (dk_at dksX5_fitsIn_0 0 rfl rfl)
theorem dX5_fitsIn_1 : decode cX5_fitsIn 1 = .ok (.getfield 46, 3) := dk_180 0 46 (dk_at dksX5_fitsIn_0 1 rfl rfl)
theorem dX5_fitsIn_4 : decode cX5_fitsIn 4 = .ok (.iload_n 1, 1) := dk_27 (dk_at dksX5_fitsIn_0 4 rfl rfl)
theorem dX5_fitsIn_5 : decode cX5_fitsIn 5 = .ok (.bipush 60, 2) := dk_16 60 (dk_at dksX5_fitsIn_0 5 rfl rfl)
theorem dX5_fitsIn_7 : decode cX5_fitsIn 7 = .ok (.iadd, 1) := dk_96 (dk_at dksX5_fitsIn_0 7 rfl rfl)
theorem dX5_fitsIn_8 : decode cX5_fitsIn 8 = .ok (.iload_n 2, 1) := dk_28 (dk_at dksX5_fitsIn_0 8 rfl rfl)
theorem dX5_fitsIn_9 : decode cX5_fitsIn 9 = .ok (.iadd, 1) := dk_96 (dk_at dksX5_fitsIn_0 9 rfl rfl)
theorem dX5_fitsIn_10 : decode cX5_fitsIn 10 = .ok (.iaload, 1) := dk_46 (dk_at dksX5_fitsIn_0 10 rfl rfl)
theorem dX5_fitsIn_11 : decode cX5_fitsIn 11 = .ok (.aload_n 0, 1) := dk_42 (dk_at dksX5_fitsIn_0 11 rfl rfl)
theorem dX5_fitsIn_12 : decode cX5_fitsIn 12 = .ok (.getfield 40, 3) := dk_180 0 40 (dk_at dksX5_fitsIn_0 12 rfl rfl)
theorem dX5_fitsIn_15 : decode cX5_fitsIn 15 = .ok (.iload_n 3, 1) := dk_29 (dk_at dksX5_fitsIn_0 15 rfl rfl)
theorem dX5_fitsIn_16 : decode cX5_fitsIn 16 = .ok (.iaload, 1) := dk_46 (dk_at dksX5_fitsIn_0 16 rfl rfl)
theorem dX5_fitsIn_17 : decode cX5_fitsIn 17 = .ok (.iconst (-1), 1) := dk_2 (dk_at dksX5_fitsIn_0 17 rfl rfl)
theorem dX5_fitsIn_18 : decode cX5_fitsIn 18 = .ok (.ixor, 1) := dk_130 (dk_at dksX5_fitsIn_0 18 rfl rfl)
theorem dX5_fitsIn_19 : decode cX5_fitsIn 19 = .ok (.iand, 1) := dk_126 (dk_at dksX5_fitsIn_0 19 rfl rfl)
theorem dX5_fitsIn_20 : decode cX5_fitsIn 20 = .ok (.ifCond .ne 28, 3) := dk_154 0 28 (dk_at dksX5_fitsIn_0 20 rfl rfl)
theorem dX5_fitsIn_23 : decode cX5_fitsIn 23 = .ok (.aload_n 0, 1) := dk_42 (dk_at dksX5_fitsIn_0 23 rfl rfl)
theorem dX5_fitsIn_24 : decode cX5_fitsIn 24 = .ok (.getfield 46, 3) := dk_180 0 46 (dk_at dksX5_fitsIn_1 0 rfl rfl)
theorem dX5_fitsIn_27 : decode cX5_fitsIn 27 = .ok (.iload_n 1, 1) := dk_27 (dk_at dksX5_fitsIn_1 3 rfl rfl)
theorem dX5_fitsIn_28 : decode cX5_fitsIn 28 = .ok (.bipush 64, 2) := dk_16 64 (dk_at dksX5_fitsIn_1 4 rfl rfl)
theorem dX5_fitsIn_30 : decode cX5_fitsIn 30 = .ok (.iadd, 1) := dk_96 (dk_at dksX5_fitsIn_1 6 rfl rfl)
theorem dX5_fitsIn_31 : decode cX5_fitsIn 31 = .ok (.iload_n 2, 1) := dk_28 (dk_at dksX5_fitsIn_1 7 rfl rfl)
theorem dX5_fitsIn_32 : decode cX5_fitsIn 32 = .ok (.iadd, 1) := dk_96 (dk_at dksX5_fitsIn_1 8 rfl rfl)
theorem dX5_fitsIn_33 : decode cX5_fitsIn 33 = .ok (.iaload, 1) := dk_46 (dk_at dksX5_fitsIn_1 9 rfl rfl)
theorem dX5_fitsIn_34 : decode cX5_fitsIn 34 = .ok (.aload_n 0, 1) := dk_42 (dk_at dksX5_fitsIn_1 10 rfl rfl)
theorem dX5_fitsIn_35 : decode cX5_fitsIn 35 = .ok (.getfield 40, 3) := dk_180 0 40 (dk_at dksX5_fitsIn_1 11 rfl rfl)
theorem dX5_fitsIn_38 : decode cX5_fitsIn 38 = .ok (.iload_n 3, 1) := dk_29 (dk_at dksX5_fitsIn_1 14 rfl rfl)
theorem dX5_fitsIn_39 : decode cX5_fitsIn 39 = .ok (.iaload, 1) := dk_46 (dk_at dksX5_fitsIn_1 15 rfl rfl)
theorem dX5_fitsIn_40 : decode cX5_fitsIn 40 = .ok (.iand, 1) := dk_126 (dk_at dksX5_fitsIn_1 16 rfl rfl)
theorem dX5_fitsIn_41 : decode cX5_fitsIn 41 = .ok (.ifCond .ne 7, 3) := dk_154 0 7 (dk_at dksX5_fitsIn_1 17 rfl rfl)
theorem dX5_fitsIn_44 : decode cX5_fitsIn 44 = .ok (.iconst 1, 1) := dk_4 (dk_at dksX5_fitsIn_1 20 rfl rfl)
theorem dX5_fitsIn_45 : decode cX5_fitsIn 45 = .ok (.goto 4, 3) := dk_167 0 4 (dk_at dksX5_fitsIn_1 21 rfl rfl)
theorem dX5_fitsIn_48 : decode cX5_fitsIn 48 = .ok (.iconst 0, 1) := dk_3 (dk_at dksX5_fitsIn_2 0 rfl rfl)
theorem dX5_fitsIn_49 : decode cX5_fitsIn 49 = .ok (.ireturn, 1) := dk_172 (dk_at dksX5_fitsIn_2 1 rfl rfl)
abbrev cX5_canThink : ByteArray := prog_14_method_29_code
def yX5_canThink : MethodName := ⟨RX5, "canThink", "(I)I"⟩
def dkwX5_canThink_2 : List UInt8 := [3, 128, 61, 132, 3, 1, 167, 255, 206, 28, 172]
abbrev dktX5_canThink_2 : List UInt8 := dkwX5_canThink_2 ++ []
def dkwX5_canThink_1 : List UInt8 := [46, 128, 42, 180, 0, 22, 8, 27, 104, 4, 96, 46, 2, 130, 126, 154, 0, 9, 4, 29, 120, 167, 0, 4]
abbrev dktX5_canThink_1 : List UInt8 := dkwX5_canThink_1 ++ dktX5_canThink_2
def dkwX5_canThink_0 : List UInt8 := [3, 61, 3, 62, 29, 42, 180, 0, 111, 162, 0, 48, 28, 42, 180, 0, 13, 29, 46, 42, 180, 0, 16, 29]
abbrev dktX5_canThink_0 : List UInt8 := dkwX5_canThink_0 ++ dktX5_canThink_1
theorem dksX5_canThink_0 : cX5_canThink.data.toList.drop 0 = dktX5_canThink_0 := by decide +kernel
theorem dksX5_canThink_1 : cX5_canThink.data.toList.drop 24 = dktX5_canThink_1 := dk_seg dksX5_canThink_0 24 rfl rfl
theorem dksX5_canThink_2 : cX5_canThink.data.toList.drop 48 = dktX5_canThink_2 := dk_seg dksX5_canThink_1 24 rfl rfl
theorem dX5_canThink_0 : decode cX5_canThink 0 = .ok (.iconst 0, 1) := dk_3 (dk_at dksX5_canThink_0 0 rfl rfl)
theorem dX5_canThink_1 : decode cX5_canThink 1 = .ok (.istore_n 2, 1) := dk_61 (dk_at dksX5_canThink_0 1 rfl rfl)
theorem dX5_canThink_2 : decode cX5_canThink 2 = .ok (.iconst 0, 1) := dk_3 (dk_at dksX5_canThink_0 2 rfl rfl)
theorem dX5_canThink_3 : decode cX5_canThink 3 = .ok (.istore_n 3, 1) := dk_62 (dk_at dksX5_canThink_0 3 rfl rfl)
theorem dX5_canThink_4 : decode cX5_canThink 4 = .ok (.iload_n 3, 1) := dk_29 (dk_at dksX5_canThink_0 4 rfl rfl)
theorem dX5_canThink_5 : decode cX5_canThink 5 = .ok (.aload_n 0, 1) := dk_42 (dk_at dksX5_canThink_0 5 rfl rfl)
theorem dX5_canThink_6 : decode cX5_canThink 6 = .ok (.getfield 111, 3) := dk_180 0 111 (dk_at dksX5_canThink_0 6 rfl rfl)
theorem dX5_canThink_9 : decode cX5_canThink 9 = .ok (.if_icmp .ge 48, 3) := dk_162 0 48 (dk_at dksX5_canThink_0 9 rfl rfl)
theorem dX5_canThink_12 : decode cX5_canThink 12 = .ok (.iload_n 2, 1) := dk_28 (dk_at dksX5_canThink_0 12 rfl rfl)
theorem dX5_canThink_13 : decode cX5_canThink 13 = .ok (.aload_n 0, 1) := dk_42 (dk_at dksX5_canThink_0 13 rfl rfl)
theorem dX5_canThink_14 : decode cX5_canThink 14 = .ok (.getfield 13, 3) := dk_180 0 13 (dk_at dksX5_canThink_0 14 rfl rfl)
theorem dX5_canThink_17 : decode cX5_canThink 17 = .ok (.iload_n 3, 1) := dk_29 (dk_at dksX5_canThink_0 17 rfl rfl)
theorem dX5_canThink_18 : decode cX5_canThink 18 = .ok (.iaload, 1) := dk_46 (dk_at dksX5_canThink_0 18 rfl rfl)
theorem dX5_canThink_19 : decode cX5_canThink 19 = .ok (.aload_n 0, 1) := dk_42 (dk_at dksX5_canThink_0 19 rfl rfl)
theorem dX5_canThink_20 : decode cX5_canThink 20 = .ok (.getfield 16, 3) := dk_180 0 16 (dk_at dksX5_canThink_0 20 rfl rfl)
theorem dX5_canThink_23 : decode cX5_canThink 23 = .ok (.iload_n 3, 1) := dk_29 (dk_at dksX5_canThink_0 23 rfl rfl)
theorem dX5_canThink_24 : decode cX5_canThink 24 = .ok (.iaload, 1) := dk_46 (dk_at dksX5_canThink_1 0 rfl rfl)
theorem dX5_canThink_25 : decode cX5_canThink 25 = .ok (.ior, 1) := dk_128 (dk_at dksX5_canThink_1 1 rfl rfl)
theorem dX5_canThink_26 : decode cX5_canThink 26 = .ok (.aload_n 0, 1) := dk_42 (dk_at dksX5_canThink_1 2 rfl rfl)
theorem dX5_canThink_27 : decode cX5_canThink 27 = .ok (.getfield 22, 3) := dk_180 0 22 (dk_at dksX5_canThink_1 3 rfl rfl)
theorem dX5_canThink_30 : decode cX5_canThink 30 = .ok (.iconst 5, 1) := dk_8 (dk_at dksX5_canThink_1 6 rfl rfl)
theorem dX5_canThink_31 : decode cX5_canThink 31 = .ok (.iload_n 1, 1) := dk_27 (dk_at dksX5_canThink_1 7 rfl rfl)
theorem dX5_canThink_32 : decode cX5_canThink 32 = .ok (.imul, 1) := dk_104 (dk_at dksX5_canThink_1 8 rfl rfl)
theorem dX5_canThink_33 : decode cX5_canThink 33 = .ok (.iconst 1, 1) := dk_4 (dk_at dksX5_canThink_1 9 rfl rfl)
theorem dX5_canThink_34 : decode cX5_canThink 34 = .ok (.iadd, 1) := dk_96 (dk_at dksX5_canThink_1 10 rfl rfl)
theorem dX5_canThink_35 : decode cX5_canThink 35 = .ok (.iaload, 1) := dk_46 (dk_at dksX5_canThink_1 11 rfl rfl)
theorem dX5_canThink_36 : decode cX5_canThink 36 = .ok (.iconst (-1), 1) := dk_2 (dk_at dksX5_canThink_1 12 rfl rfl)
theorem dX5_canThink_37 : decode cX5_canThink 37 = .ok (.ixor, 1) := dk_130 (dk_at dksX5_canThink_1 13 rfl rfl)
theorem dX5_canThink_38 : decode cX5_canThink 38 = .ok (.iand, 1) := dk_126 (dk_at dksX5_canThink_1 14 rfl rfl)
theorem dX5_canThink_39 : decode cX5_canThink 39 = .ok (.ifCond .ne 9, 3) := dk_154 0 9 (dk_at dksX5_canThink_1 15 rfl rfl)
theorem dX5_canThink_42 : decode cX5_canThink 42 = .ok (.iconst 1, 1) := dk_4 (dk_at dksX5_canThink_1 18 rfl rfl)
theorem dX5_canThink_43 : decode cX5_canThink 43 = .ok (.iload_n 3, 1) := dk_29 (dk_at dksX5_canThink_1 19 rfl rfl)
theorem dX5_canThink_44 : decode cX5_canThink 44 = .ok (.ishl, 1) := dk_120 (dk_at dksX5_canThink_1 20 rfl rfl)
theorem dX5_canThink_45 : decode cX5_canThink 45 = .ok (.goto 4, 3) := dk_167 0 4 (dk_at dksX5_canThink_1 21 rfl rfl)
theorem dX5_canThink_48 : decode cX5_canThink 48 = .ok (.iconst 0, 1) := dk_3 (dk_at dksX5_canThink_2 0 rfl rfl)
theorem dX5_canThink_49 : decode cX5_canThink 49 = .ok (.ior, 1) := dk_128 (dk_at dksX5_canThink_2 1 rfl rfl)
theorem dX5_canThink_50 : decode cX5_canThink 50 = .ok (.istore_n 2, 1) := dk_61 (dk_at dksX5_canThink_2 2 rfl rfl)
theorem dX5_canThink_51 : decode cX5_canThink 51 = .ok (.iinc 3 1, 3) := dk_132 3 1 (dk_at dksX5_canThink_2 3 rfl rfl)
theorem dX5_canThink_54 : decode cX5_canThink 54 = .ok (.goto (-50), 3) := dk_167 255 206 (dk_at dksX5_canThink_2 6 rfl rfl)
theorem dX5_canThink_57 : decode cX5_canThink 57 = .ok (.iload_n 2, 1) := dk_28 (dk_at dksX5_canThink_2 9 rfl rfl)
theorem dX5_canThink_58 : decode cX5_canThink 58 = .ok (.ireturn, 1) := dk_172 (dk_at dksX5_canThink_2 10 rfl rfl)
abbrev cX5_flag : ByteArray := prog_14_method_4_code
def yX5_flag : MethodName := ⟨RX5, "flag", "(Z)I"⟩
def dkwX5_flag_0 : List UInt8 := [26, 153, 0, 7, 4, 167, 0, 4, 3, 172]
abbrev dktX5_flag_0 : List UInt8 := dkwX5_flag_0 ++ []
theorem dksX5_flag_0 : cX5_flag.data.toList.drop 0 = dktX5_flag_0 := by decide +kernel
theorem dX5_flag_0 : decode cX5_flag 0 = .ok (.iload_n 0, 1) := dk_26 (dk_at dksX5_flag_0 0 rfl rfl)
theorem dX5_flag_1 : decode cX5_flag 1 = .ok (.ifCond .eq 7, 3) := dk_153 0 7 (dk_at dksX5_flag_0 1 rfl rfl)
theorem dX5_flag_4 : decode cX5_flag 4 = .ok (.iconst 1, 1) := dk_4 (dk_at dksX5_flag_0 4 rfl rfl)
theorem dX5_flag_5 : decode cX5_flag 5 = .ok (.goto 4, 3) := dk_167 0 4 (dk_at dksX5_flag_0 5 rfl rfl)
theorem dX5_flag_8 : decode cX5_flag 8 = .ok (.iconst 0, 1) := dk_3 (dk_at dksX5_flag_0 8 rfl rfl)
theorem dX5_flag_9 : decode cX5_flag 9 = .ok (.ireturn, 1) := dk_172 (dk_at dksX5_flag_0 9 rfl rfl)
abbrev cX5_proudLooks : ByteArray := prog_14_method_40_code
def yX5_proudLooks : MethodName := ⟨RX5, "proudLooks", "(IIIZ)V"⟩
def dkwX5_proudLooks_4 : List UInt8 := [96, 3, 79, 177]
abbrev dktX5_proudLooks_4 : List UInt8 := dkwX5_proudLooks_4 ++ []
def dkwX5_proudLooks_3 : List UInt8 := [153, 0, 27, 42, 180, 0, 46, 27, 28, 96, 42, 29, 182, 0, 248, 79, 42, 180, 0, 46, 27, 7, 96, 28]
abbrev dktX5_proudLooks_3 : List UInt8 := dkwX5_proudLooks_3 ++ dktX5_proudLooks_4
def dkwX5_proudLooks_2 : List UInt8 := [180, 0, 46, 27, 7, 96, 28, 96, 46, 5, 160, 0, 7, 4, 167, 0, 4, 3, 54, 5, 21, 5]
abbrev dktX5_proudLooks_2 : List UInt8 := dkwX5_proudLooks_2 ++ dktX5_proudLooks_3
def dkwX5_proudLooks_1 : List UInt8 := [154, 0, 43, 21, 4, 153, 0, 38, 42, 180, 0, 46, 27, 7, 96, 28, 96, 92, 46, 4, 96, 79, 42]
abbrev dktX5_proudLooks_1 : List UInt8 := dkwX5_proudLooks_1 ++ dktX5_proudLooks_2
def dkwX5_proudLooks_0 : List UInt8 := [42, 180, 0, 46, 27, 28, 96, 46, 16, 252, 160, 0, 7, 4, 167, 0, 4, 3, 54, 5, 21, 5]
abbrev dktX5_proudLooks_0 : List UInt8 := dkwX5_proudLooks_0 ++ dktX5_proudLooks_1
theorem dksX5_proudLooks_0 : cX5_proudLooks.data.toList.drop 0 = dktX5_proudLooks_0 := by decide +kernel
theorem dksX5_proudLooks_1 : cX5_proudLooks.data.toList.drop 22 = dktX5_proudLooks_1 := dk_seg dksX5_proudLooks_0 22 rfl rfl
theorem dksX5_proudLooks_2 : cX5_proudLooks.data.toList.drop 45 = dktX5_proudLooks_2 := dk_seg dksX5_proudLooks_1 23 rfl rfl
theorem dksX5_proudLooks_3 : cX5_proudLooks.data.toList.drop 67 = dktX5_proudLooks_3 := dk_seg dksX5_proudLooks_2 22 rfl rfl
theorem dksX5_proudLooks_4 : cX5_proudLooks.data.toList.drop 91 = dktX5_proudLooks_4 := dk_seg dksX5_proudLooks_3 24 rfl rfl
theorem dX5_proudLooks_0 : decode cX5_proudLooks 0 = .ok (.aload_n 0, 1) := dk_42 (dk_at dksX5_proudLooks_0 0 rfl rfl)
theorem dX5_proudLooks_1 : decode cX5_proudLooks 1 = .ok (.getfield 46, 3) := dk_180 0 46 (dk_at dksX5_proudLooks_0 1 rfl rfl)
theorem dX5_proudLooks_4 : decode cX5_proudLooks 4 = .ok (.iload_n 1, 1) := dk_27 (dk_at dksX5_proudLooks_0 4 rfl rfl)
theorem dX5_proudLooks_5 : decode cX5_proudLooks 5 = .ok (.iload_n 2, 1) := dk_28 (dk_at dksX5_proudLooks_0 5 rfl rfl)
theorem dX5_proudLooks_6 : decode cX5_proudLooks 6 = .ok (.iadd, 1) := dk_96 (dk_at dksX5_proudLooks_0 6 rfl rfl)
theorem dX5_proudLooks_7 : decode cX5_proudLooks 7 = .ok (.iaload, 1) := dk_46 (dk_at dksX5_proudLooks_0 7 rfl rfl)
theorem dX5_proudLooks_8 : decode cX5_proudLooks 8 = .ok (.bipush (-4), 2) := dk_16 252 (dk_at dksX5_proudLooks_0 8 rfl rfl)
theorem dX5_proudLooks_10 : decode cX5_proudLooks 10 = .ok (.if_icmp .ne 7, 3) := dk_160 0 7 (dk_at dksX5_proudLooks_0 10 rfl rfl)
theorem dX5_proudLooks_13 : decode cX5_proudLooks 13 = .ok (.iconst 1, 1) := dk_4 (dk_at dksX5_proudLooks_0 13 rfl rfl)
theorem dX5_proudLooks_14 : decode cX5_proudLooks 14 = .ok (.goto 4, 3) := dk_167 0 4 (dk_at dksX5_proudLooks_0 14 rfl rfl)
theorem dX5_proudLooks_17 : decode cX5_proudLooks 17 = .ok (.iconst 0, 1) := dk_3 (dk_at dksX5_proudLooks_0 17 rfl rfl)
theorem dX5_proudLooks_18 : decode cX5_proudLooks 18 = .ok (.istore 5, 2) := dk_54 5 (dk_at dksX5_proudLooks_0 18 rfl rfl)
theorem dX5_proudLooks_20 : decode cX5_proudLooks 20 = .ok (.iload 5, 2) := dk_21 5 (dk_at dksX5_proudLooks_0 20 rfl rfl)
theorem dX5_proudLooks_22 : decode cX5_proudLooks 22 = .ok (.ifCond .ne 43, 3) := dk_154 0 43 (dk_at dksX5_proudLooks_1 0 rfl rfl)
theorem dX5_proudLooks_25 : decode cX5_proudLooks 25 = .ok (.iload 4, 2) := dk_21 4 (dk_at dksX5_proudLooks_1 3 rfl rfl)
theorem dX5_proudLooks_27 : decode cX5_proudLooks 27 = .ok (.ifCond .eq 38, 3) := dk_153 0 38 (dk_at dksX5_proudLooks_1 5 rfl rfl)
theorem dX5_proudLooks_30 : decode cX5_proudLooks 30 = .ok (.aload_n 0, 1) := dk_42 (dk_at dksX5_proudLooks_1 8 rfl rfl)
theorem dX5_proudLooks_31 : decode cX5_proudLooks 31 = .ok (.getfield 46, 3) := dk_180 0 46 (dk_at dksX5_proudLooks_1 9 rfl rfl)
theorem dX5_proudLooks_34 : decode cX5_proudLooks 34 = .ok (.iload_n 1, 1) := dk_27 (dk_at dksX5_proudLooks_1 12 rfl rfl)
theorem dX5_proudLooks_35 : decode cX5_proudLooks 35 = .ok (.iconst 4, 1) := dk_7 (dk_at dksX5_proudLooks_1 13 rfl rfl)
theorem dX5_proudLooks_36 : decode cX5_proudLooks 36 = .ok (.iadd, 1) := dk_96 (dk_at dksX5_proudLooks_1 14 rfl rfl)
theorem dX5_proudLooks_37 : decode cX5_proudLooks 37 = .ok (.iload_n 2, 1) := dk_28 (dk_at dksX5_proudLooks_1 15 rfl rfl)
theorem dX5_proudLooks_38 : decode cX5_proudLooks 38 = .ok (.iadd, 1) := dk_96 (dk_at dksX5_proudLooks_1 16 rfl rfl)
theorem dX5_proudLooks_39 : decode cX5_proudLooks 39 = .ok (.dup2, 1) := dk_92 (dk_at dksX5_proudLooks_1 17 rfl rfl)
theorem dX5_proudLooks_40 : decode cX5_proudLooks 40 = .ok (.iaload, 1) := dk_46 (dk_at dksX5_proudLooks_1 18 rfl rfl)
theorem dX5_proudLooks_41 : decode cX5_proudLooks 41 = .ok (.iconst 1, 1) := dk_4 (dk_at dksX5_proudLooks_1 19 rfl rfl)
theorem dX5_proudLooks_42 : decode cX5_proudLooks 42 = .ok (.iadd, 1) := dk_96 (dk_at dksX5_proudLooks_1 20 rfl rfl)
theorem dX5_proudLooks_43 : decode cX5_proudLooks 43 = .ok (.iastore, 1) := dk_79 (dk_at dksX5_proudLooks_1 21 rfl rfl)
theorem dX5_proudLooks_44 : decode cX5_proudLooks 44 = .ok (.aload_n 0, 1) := dk_42 (dk_at dksX5_proudLooks_1 22 rfl rfl)
theorem dX5_proudLooks_45 : decode cX5_proudLooks 45 = .ok (.getfield 46, 3) := dk_180 0 46 (dk_at dksX5_proudLooks_2 0 rfl rfl)
theorem dX5_proudLooks_48 : decode cX5_proudLooks 48 = .ok (.iload_n 1, 1) := dk_27 (dk_at dksX5_proudLooks_2 3 rfl rfl)
theorem dX5_proudLooks_49 : decode cX5_proudLooks 49 = .ok (.iconst 4, 1) := dk_7 (dk_at dksX5_proudLooks_2 4 rfl rfl)
theorem dX5_proudLooks_50 : decode cX5_proudLooks 50 = .ok (.iadd, 1) := dk_96 (dk_at dksX5_proudLooks_2 5 rfl rfl)
theorem dX5_proudLooks_51 : decode cX5_proudLooks 51 = .ok (.iload_n 2, 1) := dk_28 (dk_at dksX5_proudLooks_2 6 rfl rfl)
theorem dX5_proudLooks_52 : decode cX5_proudLooks 52 = .ok (.iadd, 1) := dk_96 (dk_at dksX5_proudLooks_2 7 rfl rfl)
theorem dX5_proudLooks_53 : decode cX5_proudLooks 53 = .ok (.iaload, 1) := dk_46 (dk_at dksX5_proudLooks_2 8 rfl rfl)
theorem dX5_proudLooks_54 : decode cX5_proudLooks 54 = .ok (.iconst 2, 1) := dk_5 (dk_at dksX5_proudLooks_2 9 rfl rfl)
theorem dX5_proudLooks_55 : decode cX5_proudLooks 55 = .ok (.if_icmp .ne 7, 3) := dk_160 0 7 (dk_at dksX5_proudLooks_2 10 rfl rfl)
theorem dX5_proudLooks_58 : decode cX5_proudLooks 58 = .ok (.iconst 1, 1) := dk_4 (dk_at dksX5_proudLooks_2 13 rfl rfl)
theorem dX5_proudLooks_59 : decode cX5_proudLooks 59 = .ok (.goto 4, 3) := dk_167 0 4 (dk_at dksX5_proudLooks_2 14 rfl rfl)
theorem dX5_proudLooks_62 : decode cX5_proudLooks 62 = .ok (.iconst 0, 1) := dk_3 (dk_at dksX5_proudLooks_2 17 rfl rfl)
theorem dX5_proudLooks_63 : decode cX5_proudLooks 63 = .ok (.istore 5, 2) := dk_54 5 (dk_at dksX5_proudLooks_2 18 rfl rfl)
theorem dX5_proudLooks_65 : decode cX5_proudLooks 65 = .ok (.iload 5, 2) := dk_21 5 (dk_at dksX5_proudLooks_2 20 rfl rfl)
theorem dX5_proudLooks_67 : decode cX5_proudLooks 67 = .ok (.ifCond .eq 27, 3) := dk_153 0 27 (dk_at dksX5_proudLooks_3 0 rfl rfl)
theorem dX5_proudLooks_70 : decode cX5_proudLooks 70 = .ok (.aload_n 0, 1) := dk_42 (dk_at dksX5_proudLooks_3 3 rfl rfl)
theorem dX5_proudLooks_71 : decode cX5_proudLooks 71 = .ok (.getfield 46, 3) := dk_180 0 46 (dk_at dksX5_proudLooks_3 4 rfl rfl)
theorem dX5_proudLooks_74 : decode cX5_proudLooks 74 = .ok (.iload_n 1, 1) := dk_27 (dk_at dksX5_proudLooks_3 7 rfl rfl)
theorem dX5_proudLooks_75 : decode cX5_proudLooks 75 = .ok (.iload_n 2, 1) := dk_28 (dk_at dksX5_proudLooks_3 8 rfl rfl)
theorem dX5_proudLooks_76 : decode cX5_proudLooks 76 = .ok (.iadd, 1) := dk_96 (dk_at dksX5_proudLooks_3 9 rfl rfl)
theorem dX5_proudLooks_77 : decode cX5_proudLooks 77 = .ok (.aload_n 0, 1) := dk_42 (dk_at dksX5_proudLooks_3 10 rfl rfl)
theorem dX5_proudLooks_78 : decode cX5_proudLooks 78 = .ok (.iload_n 3, 1) := dk_29 (dk_at dksX5_proudLooks_3 11 rfl rfl)
theorem dX5_proudLooks_79 : decode cX5_proudLooks 79 = .ok (.invokevirtual 248, 3) := dk_182 0 248 (dk_at dksX5_proudLooks_3 12 rfl rfl)
theorem dX5_proudLooks_82 : decode cX5_proudLooks 82 = .ok (.iastore, 1) := dk_79 (dk_at dksX5_proudLooks_3 15 rfl rfl)
theorem dX5_proudLooks_83 : decode cX5_proudLooks 83 = .ok (.aload_n 0, 1) := dk_42 (dk_at dksX5_proudLooks_3 16 rfl rfl)
theorem dX5_proudLooks_84 : decode cX5_proudLooks 84 = .ok (.getfield 46, 3) := dk_180 0 46 (dk_at dksX5_proudLooks_3 17 rfl rfl)
theorem dX5_proudLooks_87 : decode cX5_proudLooks 87 = .ok (.iload_n 1, 1) := dk_27 (dk_at dksX5_proudLooks_3 20 rfl rfl)
theorem dX5_proudLooks_88 : decode cX5_proudLooks 88 = .ok (.iconst 4, 1) := dk_7 (dk_at dksX5_proudLooks_3 21 rfl rfl)
theorem dX5_proudLooks_89 : decode cX5_proudLooks 89 = .ok (.iadd, 1) := dk_96 (dk_at dksX5_proudLooks_3 22 rfl rfl)
theorem dX5_proudLooks_90 : decode cX5_proudLooks 90 = .ok (.iload_n 2, 1) := dk_28 (dk_at dksX5_proudLooks_3 23 rfl rfl)
theorem dX5_proudLooks_91 : decode cX5_proudLooks 91 = .ok (.iadd, 1) := dk_96 (dk_at dksX5_proudLooks_4 0 rfl rfl)
theorem dX5_proudLooks_92 : decode cX5_proudLooks 92 = .ok (.iconst 0, 1) := dk_3 (dk_at dksX5_proudLooks_4 1 rfl rfl)
theorem dX5_proudLooks_93 : decode cX5_proudLooks 93 = .ok (.iastore, 1) := dk_79 (dk_at dksX5_proudLooks_4 2 rfl rfl)
theorem dX5_proudLooks_94 : decode cX5_proudLooks 94 = .ok (.return_, 1) := dk_177 (dk_at dksX5_proudLooks_4 3 rfl rfl)
abbrev cX5_plainest : ByteArray := prog_14_method_38_code
def yX5_plainest : MethodName := ⟨RX5, "plainest", "(I)I"⟩
def dkwX5_plainest_2 : List UInt8 := [132, 3, 1, 167, 255, 211, 28, 172]
abbrev dktX5_plainest_2 : List UInt8 := dkwX5_plainest_2 ++ []
def dkwX5_plainest_1 : List UInt8 := [16, 252, 159, 0, 16, 42, 29, 182, 0, 234, 42, 28, 182, 0, 234, 162, 0, 7, 29, 167, 0, 4, 28, 61]
abbrev dktX5_plainest_1 : List UInt8 := dkwX5_plainest_1 ++ dktX5_plainest_2
def dkwX5_plainest_0 : List UInt8 := [16, 252, 61, 3, 62, 29, 42, 180, 0, 111, 162, 0, 43, 27, 29, 122, 4, 126, 4, 160, 0, 26, 28]
abbrev dktX5_plainest_0 : List UInt8 := dkwX5_plainest_0 ++ dktX5_plainest_1
theorem dksX5_plainest_0 : cX5_plainest.data.toList.drop 0 = dktX5_plainest_0 := by decide +kernel
theorem dksX5_plainest_1 : cX5_plainest.data.toList.drop 23 = dktX5_plainest_1 := dk_seg dksX5_plainest_0 23 rfl rfl
theorem dksX5_plainest_2 : cX5_plainest.data.toList.drop 47 = dktX5_plainest_2 := dk_seg dksX5_plainest_1 24 rfl rfl
theorem dX5_plainest_0 : decode cX5_plainest 0 = .ok (.bipush (-4), 2) := dk_16 252 (dk_at dksX5_plainest_0 0 rfl rfl)
theorem dX5_plainest_2 : decode cX5_plainest 2 = .ok (.istore_n 2, 1) := dk_61 (dk_at dksX5_plainest_0 2 rfl rfl)
theorem dX5_plainest_3 : decode cX5_plainest 3 = .ok (.iconst 0, 1) := dk_3 (dk_at dksX5_plainest_0 3 rfl rfl)
theorem dX5_plainest_4 : decode cX5_plainest 4 = .ok (.istore_n 3, 1) := dk_62 (dk_at dksX5_plainest_0 4 rfl rfl)
theorem dX5_plainest_5 : decode cX5_plainest 5 = .ok (.iload_n 3, 1) := dk_29 (dk_at dksX5_plainest_0 5 rfl rfl)
theorem dX5_plainest_6 : decode cX5_plainest 6 = .ok (.aload_n 0, 1) := dk_42 (dk_at dksX5_plainest_0 6 rfl rfl)
theorem dX5_plainest_7 : decode cX5_plainest 7 = .ok (.getfield 111, 3) := dk_180 0 111 (dk_at dksX5_plainest_0 7 rfl rfl)
theorem dX5_plainest_10 : decode cX5_plainest 10 = .ok (.if_icmp .ge 43, 3) := dk_162 0 43 (dk_at dksX5_plainest_0 10 rfl rfl)
theorem dX5_plainest_13 : decode cX5_plainest 13 = .ok (.iload_n 1, 1) := dk_27 (dk_at dksX5_plainest_0 13 rfl rfl)
theorem dX5_plainest_14 : decode cX5_plainest 14 = .ok (.iload_n 3, 1) := dk_29 (dk_at dksX5_plainest_0 14 rfl rfl)
theorem dX5_plainest_15 : decode cX5_plainest 15 = .ok (.ishr, 1) := dk_122 (dk_at dksX5_plainest_0 15 rfl rfl)
theorem dX5_plainest_16 : decode cX5_plainest 16 = .ok (.iconst 1, 1) := dk_4 (dk_at dksX5_plainest_0 16 rfl rfl)
theorem dX5_plainest_17 : decode cX5_plainest 17 = .ok (.iand, 1) := dk_126 (dk_at dksX5_plainest_0 17 rfl rfl)
theorem dX5_plainest_18 : decode cX5_plainest 18 = .ok (.iconst 1, 1) := dk_4 (dk_at dksX5_plainest_0 18 rfl rfl)
theorem dX5_plainest_19 : decode cX5_plainest 19 = .ok (.if_icmp .ne 26, 3) := dk_160 0 26 (dk_at dksX5_plainest_0 19 rfl rfl)
theorem dX5_plainest_22 : decode cX5_plainest 22 = .ok (.iload_n 2, 1) := dk_28 (dk_at dksX5_plainest_0 22 rfl rfl)
theorem dX5_plainest_23 : decode cX5_plainest 23 = .ok (.bipush (-4), 2) := dk_16 252 (dk_at dksX5_plainest_1 0 rfl rfl)
theorem dX5_plainest_25 : decode cX5_plainest 25 = .ok (.if_icmp .eq 16, 3) := dk_159 0 16 (dk_at dksX5_plainest_1 2 rfl rfl)
theorem dX5_plainest_28 : decode cX5_plainest 28 = .ok (.aload_n 0, 1) := dk_42 (dk_at dksX5_plainest_1 5 rfl rfl)
theorem dX5_plainest_29 : decode cX5_plainest 29 = .ok (.iload_n 3, 1) := dk_29 (dk_at dksX5_plainest_1 6 rfl rfl)
theorem dX5_plainest_30 : decode cX5_plainest 30 = .ok (.invokevirtual 234, 3) := dk_182 0 234 (dk_at dksX5_plainest_1 7 rfl rfl)
theorem dX5_plainest_33 : decode cX5_plainest 33 = .ok (.aload_n 0, 1) := dk_42 (dk_at dksX5_plainest_1 10 rfl rfl)
theorem dX5_plainest_34 : decode cX5_plainest 34 = .ok (.iload_n 2, 1) := dk_28 (dk_at dksX5_plainest_1 11 rfl rfl)
theorem dX5_plainest_35 : decode cX5_plainest 35 = .ok (.invokevirtual 234, 3) := dk_182 0 234 (dk_at dksX5_plainest_1 12 rfl rfl)
theorem dX5_plainest_38 : decode cX5_plainest 38 = .ok (.if_icmp .ge 7, 3) := dk_162 0 7 (dk_at dksX5_plainest_1 15 rfl rfl)
theorem dX5_plainest_41 : decode cX5_plainest 41 = .ok (.iload_n 3, 1) := dk_29 (dk_at dksX5_plainest_1 18 rfl rfl)
theorem dX5_plainest_42 : decode cX5_plainest 42 = .ok (.goto 4, 3) := dk_167 0 4 (dk_at dksX5_plainest_1 19 rfl rfl)
theorem dX5_plainest_45 : decode cX5_plainest 45 = .ok (.iload_n 2, 1) := dk_28 (dk_at dksX5_plainest_1 22 rfl rfl)
theorem dX5_plainest_46 : decode cX5_plainest 46 = .ok (.istore_n 2, 1) := dk_61 (dk_at dksX5_plainest_1 23 rfl rfl)
theorem dX5_plainest_47 : decode cX5_plainest 47 = .ok (.iinc 3 1, 3) := dk_132 3 1 (dk_at dksX5_plainest_2 0 rfl rfl)
theorem dX5_plainest_50 : decode cX5_plainest 50 = .ok (.goto (-45), 3) := dk_167 255 211 (dk_at dksX5_plainest_2 3 rfl rfl)
theorem dX5_plainest_53 : decode cX5_plainest 53 = .ok (.iload_n 2, 1) := dk_28 (dk_at dksX5_plainest_2 6 rfl rfl)
theorem dX5_plainest_54 : decode cX5_plainest 54 = .ok (.ireturn, 1) := dk_172 (dk_at dksX5_plainest_2 7 rfl rfl)
abbrev cX5_marksOf : ByteArray := prog_14_method_28_code
def yX5_marksOf : MethodName := ⟨RX5, "marksOf", "(I)I"⟩
def dkwX5_marksOf_0 : List UInt8 := [42, 180, 0, 13, 27, 46, 184, 0, 222, 42, 180, 0, 16, 27, 46, 184, 0, 222, 96, 172]
abbrev dktX5_marksOf_0 : List UInt8 := dkwX5_marksOf_0 ++ []
theorem dksX5_marksOf_0 : cX5_marksOf.data.toList.drop 0 = dktX5_marksOf_0 := by decide +kernel
theorem dX5_marksOf_0 : decode cX5_marksOf 0 = .ok (.aload_n 0, 1) := dk_42 (dk_at dksX5_marksOf_0 0 rfl rfl)
theorem dX5_marksOf_1 : decode cX5_marksOf 1 = .ok (.getfield 13, 3) := dk_180 0 13 (dk_at dksX5_marksOf_0 1 rfl rfl)
theorem dX5_marksOf_4 : decode cX5_marksOf 4 = .ok (.iload_n 1, 1) := dk_27 (dk_at dksX5_marksOf_0 4 rfl rfl)
theorem dX5_marksOf_5 : decode cX5_marksOf 5 = .ok (.iaload, 1) := dk_46 (dk_at dksX5_marksOf_0 5 rfl rfl)
theorem dX5_marksOf_6 : decode cX5_marksOf 6 = .ok (.invokestatic 222, 3) := dk_184 0 222 (dk_at dksX5_marksOf_0 6 rfl rfl)
theorem dX5_marksOf_9 : decode cX5_marksOf 9 = .ok (.aload_n 0, 1) := dk_42 (dk_at dksX5_marksOf_0 9 rfl rfl)
theorem dX5_marksOf_10 : decode cX5_marksOf 10 = .ok (.getfield 16, 3) := dk_180 0 16 (dk_at dksX5_marksOf_0 10 rfl rfl)
theorem dX5_marksOf_13 : decode cX5_marksOf 13 = .ok (.iload_n 1, 1) := dk_27 (dk_at dksX5_marksOf_0 13 rfl rfl)
theorem dX5_marksOf_14 : decode cX5_marksOf 14 = .ok (.iaload, 1) := dk_46 (dk_at dksX5_marksOf_0 14 rfl rfl)
theorem dX5_marksOf_15 : decode cX5_marksOf 15 = .ok (.invokestatic 222, 3) := dk_184 0 222 (dk_at dksX5_marksOf_0 15 rfl rfl)
theorem dX5_marksOf_18 : decode cX5_marksOf 18 = .ok (.iadd, 1) := dk_96 (dk_at dksX5_marksOf_0 18 rfl rfl)
theorem dX5_marksOf_19 : decode cX5_marksOf 19 = .ok (.ireturn, 1) := dk_172 (dk_at dksX5_marksOf_0 19 rfl rfl)
abbrev cX5_countOf : ByteArray := prog_14_method_5_code
def yX5_countOf : MethodName := ⟨RX5, "countOf", "(I)I"⟩
def dkwX5_countOf_1 : List UInt8 := [27, 172]
abbrev dktX5_countOf_1 : List UInt8 := dkwX5_countOf_1 ++ []
def dkwX5_countOf_0 : List UInt8 := [3, 60, 3, 61, 28, 16, 16, 162, 0, 17, 27, 26, 28, 122, 4, 126, 96, 60, 132, 2, 1, 167, 255, 239]
abbrev dktX5_countOf_0 : List UInt8 := dkwX5_countOf_0 ++ dktX5_countOf_1
theorem dksX5_countOf_0 : cX5_countOf.data.toList.drop 0 = dktX5_countOf_0 := by decide +kernel
theorem dksX5_countOf_1 : cX5_countOf.data.toList.drop 24 = dktX5_countOf_1 := dk_seg dksX5_countOf_0 24 rfl rfl
theorem dX5_countOf_0 : decode cX5_countOf 0 = .ok (.iconst 0, 1) := dk_3 (dk_at dksX5_countOf_0 0 rfl rfl)
theorem dX5_countOf_1 : decode cX5_countOf 1 = .ok (.istore_n 1, 1) := dk_60 (dk_at dksX5_countOf_0 1 rfl rfl)
theorem dX5_countOf_2 : decode cX5_countOf 2 = .ok (.iconst 0, 1) := dk_3 (dk_at dksX5_countOf_0 2 rfl rfl)
theorem dX5_countOf_3 : decode cX5_countOf 3 = .ok (.istore_n 2, 1) := dk_61 (dk_at dksX5_countOf_0 3 rfl rfl)
theorem dX5_countOf_4 : decode cX5_countOf 4 = .ok (.iload_n 2, 1) := dk_28 (dk_at dksX5_countOf_0 4 rfl rfl)
theorem dX5_countOf_5 : decode cX5_countOf 5 = .ok (.bipush 16, 2) := dk_16 16 (dk_at dksX5_countOf_0 5 rfl rfl)
theorem dX5_countOf_7 : decode cX5_countOf 7 = .ok (.if_icmp .ge 17, 3) := dk_162 0 17 (dk_at dksX5_countOf_0 7 rfl rfl)
theorem dX5_countOf_10 : decode cX5_countOf 10 = .ok (.iload_n 1, 1) := dk_27 (dk_at dksX5_countOf_0 10 rfl rfl)
theorem dX5_countOf_11 : decode cX5_countOf 11 = .ok (.iload_n 0, 1) := dk_26 (dk_at dksX5_countOf_0 11 rfl rfl)
theorem dX5_countOf_12 : decode cX5_countOf 12 = .ok (.iload_n 2, 1) := dk_28 (dk_at dksX5_countOf_0 12 rfl rfl)
theorem dX5_countOf_13 : decode cX5_countOf 13 = .ok (.ishr, 1) := dk_122 (dk_at dksX5_countOf_0 13 rfl rfl)
theorem dX5_countOf_14 : decode cX5_countOf 14 = .ok (.iconst 1, 1) := dk_4 (dk_at dksX5_countOf_0 14 rfl rfl)
theorem dX5_countOf_15 : decode cX5_countOf 15 = .ok (.iand, 1) := dk_126 (dk_at dksX5_countOf_0 15 rfl rfl)
theorem dX5_countOf_16 : decode cX5_countOf 16 = .ok (.iadd, 1) := dk_96 (dk_at dksX5_countOf_0 16 rfl rfl)
theorem dX5_countOf_17 : decode cX5_countOf 17 = .ok (.istore_n 1, 1) := dk_60 (dk_at dksX5_countOf_0 17 rfl rfl)
theorem dX5_countOf_18 : decode cX5_countOf 18 = .ok (.iinc 2 1, 3) := dk_132 2 1 (dk_at dksX5_countOf_0 18 rfl rfl)
theorem dX5_countOf_21 : decode cX5_countOf 21 = .ok (.goto (-17), 3) := dk_167 255 239 (dk_at dksX5_countOf_0 21 rfl rfl)
theorem dX5_countOf_24 : decode cX5_countOf 24 = .ok (.iload_n 1, 1) := dk_27 (dk_at dksX5_countOf_1 0 rfl rfl)
theorem dX5_countOf_25 : decode cX5_countOf 25 = .ok (.ireturn, 1) := dk_172 (dk_at dksX5_countOf_1 1 rfl rfl)
abbrev cX5_areAllOne : ByteArray := prog_14_method_39_code
def yX5_areAllOne : MethodName := ⟨RX5, "areAllOne", "(I)Z"⟩
def dkwX5_areAllOne_2 : List UInt8 := [160, 0, 7, 4, 167, 0, 4, 3, 62, 132, 4, 1, 167, 255, 209, 29, 172]
abbrev dktX5_areAllOne_2 : List UInt8 := dkwX5_areAllOne_2 ++ []
def dkwX5_areAllOne_1 : List UInt8 := [27, 21, 4, 122, 4, 126, 153, 0, 19, 42, 180, 0, 40, 21, 4, 46, 42, 180, 0, 40, 28, 46]
abbrev dktX5_areAllOne_1 : List UInt8 := dkwX5_areAllOne_1 ++ dktX5_areAllOne_2
def dkwX5_areAllOne_0 : List UInt8 := [42, 27, 182, 0, 248, 61, 4, 62, 3, 54, 4, 21, 4, 42, 180, 0, 111, 162, 0, 44, 29, 153, 0, 32]
abbrev dktX5_areAllOne_0 : List UInt8 := dkwX5_areAllOne_0 ++ dktX5_areAllOne_1
theorem dksX5_areAllOne_0 : cX5_areAllOne.data.toList.drop 0 = dktX5_areAllOne_0 := by decide +kernel
theorem dksX5_areAllOne_1 : cX5_areAllOne.data.toList.drop 24 = dktX5_areAllOne_1 := dk_seg dksX5_areAllOne_0 24 rfl rfl
theorem dksX5_areAllOne_2 : cX5_areAllOne.data.toList.drop 46 = dktX5_areAllOne_2 := dk_seg dksX5_areAllOne_1 22 rfl rfl
theorem dX5_areAllOne_0 : decode cX5_areAllOne 0 = .ok (.aload_n 0, 1) := dk_42 (dk_at dksX5_areAllOne_0 0 rfl rfl)
theorem dX5_areAllOne_1 : decode cX5_areAllOne 1 = .ok (.iload_n 1, 1) := dk_27 (dk_at dksX5_areAllOne_0 1 rfl rfl)
theorem dX5_areAllOne_2 : decode cX5_areAllOne 2 = .ok (.invokevirtual 248, 3) := dk_182 0 248 (dk_at dksX5_areAllOne_0 2 rfl rfl)
theorem dX5_areAllOne_5 : decode cX5_areAllOne 5 = .ok (.istore_n 2, 1) := dk_61 (dk_at dksX5_areAllOne_0 5 rfl rfl)
theorem dX5_areAllOne_6 : decode cX5_areAllOne 6 = .ok (.iconst 1, 1) := dk_4 (dk_at dksX5_areAllOne_0 6 rfl rfl)
theorem dX5_areAllOne_7 : decode cX5_areAllOne 7 = .ok (.istore_n 3, 1) := dk_62 (dk_at dksX5_areAllOne_0 7 rfl rfl)
theorem dX5_areAllOne_8 : decode cX5_areAllOne 8 = .ok (.iconst 0, 1) := dk_3 (dk_at dksX5_areAllOne_0 8 rfl rfl)
theorem dX5_areAllOne_9 : decode cX5_areAllOne 9 = .ok (.istore 4, 2) := dk_54 4 (dk_at dksX5_areAllOne_0 9 rfl rfl)
theorem dX5_areAllOne_11 : decode cX5_areAllOne 11 = .ok (.iload 4, 2) := dk_21 4 (dk_at dksX5_areAllOne_0 11 rfl rfl)
theorem dX5_areAllOne_13 : decode cX5_areAllOne 13 = .ok (.aload_n 0, 1) := dk_42 (dk_at dksX5_areAllOne_0 13 rfl rfl)
theorem dX5_areAllOne_14 : decode cX5_areAllOne 14 = .ok (.getfield 111, 3) := dk_180 0 111 (dk_at dksX5_areAllOne_0 14 rfl rfl)
theorem dX5_areAllOne_17 : decode cX5_areAllOne 17 = .ok (.if_icmp .ge 44, 3) := dk_162 0 44 (dk_at dksX5_areAllOne_0 17 rfl rfl)
theorem dX5_areAllOne_20 : decode cX5_areAllOne 20 = .ok (.iload_n 3, 1) := dk_29 (dk_at dksX5_areAllOne_0 20 rfl rfl)
theorem dX5_areAllOne_21 : decode cX5_areAllOne 21 = .ok (.ifCond .eq 32, 3) := dk_153 0 32 (dk_at dksX5_areAllOne_0 21 rfl rfl)
theorem dX5_areAllOne_24 : decode cX5_areAllOne 24 = .ok (.iload_n 1, 1) := dk_27 (dk_at dksX5_areAllOne_1 0 rfl rfl)
theorem dX5_areAllOne_25 : decode cX5_areAllOne 25 = .ok (.iload 4, 2) := dk_21 4 (dk_at dksX5_areAllOne_1 1 rfl rfl)
theorem dX5_areAllOne_27 : decode cX5_areAllOne 27 = .ok (.ishr, 1) := dk_122 (dk_at dksX5_areAllOne_1 3 rfl rfl)
theorem dX5_areAllOne_28 : decode cX5_areAllOne 28 = .ok (.iconst 1, 1) := dk_4 (dk_at dksX5_areAllOne_1 4 rfl rfl)
theorem dX5_areAllOne_29 : decode cX5_areAllOne 29 = .ok (.iand, 1) := dk_126 (dk_at dksX5_areAllOne_1 5 rfl rfl)
theorem dX5_areAllOne_30 : decode cX5_areAllOne 30 = .ok (.ifCond .eq 19, 3) := dk_153 0 19 (dk_at dksX5_areAllOne_1 6 rfl rfl)
theorem dX5_areAllOne_33 : decode cX5_areAllOne 33 = .ok (.aload_n 0, 1) := dk_42 (dk_at dksX5_areAllOne_1 9 rfl rfl)
theorem dX5_areAllOne_34 : decode cX5_areAllOne 34 = .ok (.getfield 40, 3) := dk_180 0 40 (dk_at dksX5_areAllOne_1 10 rfl rfl)
theorem dX5_areAllOne_37 : decode cX5_areAllOne 37 = .ok (.iload 4, 2) := dk_21 4 (dk_at dksX5_areAllOne_1 13 rfl rfl)
theorem dX5_areAllOne_39 : decode cX5_areAllOne 39 = .ok (.iaload, 1) := dk_46 (dk_at dksX5_areAllOne_1 15 rfl rfl)
theorem dX5_areAllOne_40 : decode cX5_areAllOne 40 = .ok (.aload_n 0, 1) := dk_42 (dk_at dksX5_areAllOne_1 16 rfl rfl)
theorem dX5_areAllOne_41 : decode cX5_areAllOne 41 = .ok (.getfield 40, 3) := dk_180 0 40 (dk_at dksX5_areAllOne_1 17 rfl rfl)
theorem dX5_areAllOne_44 : decode cX5_areAllOne 44 = .ok (.iload_n 2, 1) := dk_28 (dk_at dksX5_areAllOne_1 20 rfl rfl)
theorem dX5_areAllOne_45 : decode cX5_areAllOne 45 = .ok (.iaload, 1) := dk_46 (dk_at dksX5_areAllOne_1 21 rfl rfl)
theorem dX5_areAllOne_46 : decode cX5_areAllOne 46 = .ok (.if_icmp .ne 7, 3) := dk_160 0 7 (dk_at dksX5_areAllOne_2 0 rfl rfl)
theorem dX5_areAllOne_49 : decode cX5_areAllOne 49 = .ok (.iconst 1, 1) := dk_4 (dk_at dksX5_areAllOne_2 3 rfl rfl)
theorem dX5_areAllOne_50 : decode cX5_areAllOne 50 = .ok (.goto 4, 3) := dk_167 0 4 (dk_at dksX5_areAllOne_2 4 rfl rfl)
theorem dX5_areAllOne_53 : decode cX5_areAllOne 53 = .ok (.iconst 0, 1) := dk_3 (dk_at dksX5_areAllOne_2 7 rfl rfl)
theorem dX5_areAllOne_54 : decode cX5_areAllOne 54 = .ok (.istore_n 3, 1) := dk_62 (dk_at dksX5_areAllOne_2 8 rfl rfl)
theorem dX5_areAllOne_55 : decode cX5_areAllOne 55 = .ok (.iinc 4 1, 3) := dk_132 4 1 (dk_at dksX5_areAllOne_2 9 rfl rfl)
theorem dX5_areAllOne_58 : decode cX5_areAllOne 58 = .ok (.goto (-47), 3) := dk_167 255 209 (dk_at dksX5_areAllOne_2 12 rfl rfl)
theorem dX5_areAllOne_61 : decode cX5_areAllOne 61 = .ok (.iload_n 3, 1) := dk_29 (dk_at dksX5_areAllOne_2 15 rfl rfl)
theorem dX5_areAllOne_62 : decode cX5_areAllOne 62 = .ok (.ireturn, 1) := dk_172 (dk_at dksX5_areAllOne_2 16 rfl rfl)
abbrev cX5_feed : ByteArray := prog_14_method_8_code
def yX5_feed : MethodName := ⟨RX5, "feed", "(J)I"⟩
def dkwX5_feed_2 : List UInt8 := [181, 0, 132, 132, 3, 248, 167, 255, 222, 42, 180, 0, 132, 172]
abbrev dktX5_feed_2 : List UInt8 := dkwX5_feed_2 ++ []
def dkwX5_feed_1 : List UInt8 := [180, 0, 43, 42, 180, 0, 132, 31, 29, 123, 20, 0, 135, 127, 136, 79, 42, 89, 180, 0, 132, 4, 96]
abbrev dktX5_feed_1 : List UInt8 := dkwX5_feed_1 ++ dktX5_feed_2
def dkwX5_feed_0 : List UInt8 := [42, 180, 0, 132, 16, 8, 96, 17, 1, 144, 164, 0, 6, 16, 253, 172, 16, 56, 62, 29, 155, 0, 36, 42]
abbrev dktX5_feed_0 : List UInt8 := dkwX5_feed_0 ++ dktX5_feed_1
theorem dksX5_feed_0 : cX5_feed.data.toList.drop 0 = dktX5_feed_0 := by decide +kernel
theorem dksX5_feed_1 : cX5_feed.data.toList.drop 24 = dktX5_feed_1 := dk_seg dksX5_feed_0 24 rfl rfl
theorem dksX5_feed_2 : cX5_feed.data.toList.drop 47 = dktX5_feed_2 := dk_seg dksX5_feed_1 23 rfl rfl
theorem dX5_feed_0 : decode cX5_feed 0 = .ok (.aload_n 0, 1) := dk_42 (dk_at dksX5_feed_0 0 rfl rfl)
theorem dX5_feed_1 : decode cX5_feed 1 = .ok (.getfield 132, 3) := dk_180 0 132 (dk_at dksX5_feed_0 1 rfl rfl)
theorem dX5_feed_4 : decode cX5_feed 4 = .ok (.bipush 8, 2) := dk_16 8 (dk_at dksX5_feed_0 4 rfl rfl)
theorem dX5_feed_6 : decode cX5_feed 6 = .ok (.iadd, 1) := dk_96 (dk_at dksX5_feed_0 6 rfl rfl)
theorem dX5_feed_7 : decode cX5_feed 7 = .ok (.sipush 400, 3) := dk_17 1 144 (dk_at dksX5_feed_0 7 rfl rfl)
theorem dX5_feed_10 : decode cX5_feed 10 = .ok (.if_icmp .le 6, 3) := dk_164 0 6 (dk_at dksX5_feed_0 10 rfl rfl)
theorem dX5_feed_13 : decode cX5_feed 13 = .ok (.bipush (-3), 2) := dk_16 253 (dk_at dksX5_feed_0 13 rfl rfl)
theorem dX5_feed_15 : decode cX5_feed 15 = .ok (.ireturn, 1) := dk_172 (dk_at dksX5_feed_0 15 rfl rfl)
theorem dX5_feed_16 : decode cX5_feed 16 = .ok (.bipush 56, 2) := dk_16 56 (dk_at dksX5_feed_0 16 rfl rfl)
theorem dX5_feed_18 : decode cX5_feed 18 = .ok (.istore_n 3, 1) := dk_62 (dk_at dksX5_feed_0 18 rfl rfl)
theorem dX5_feed_19 : decode cX5_feed 19 = .ok (.iload_n 3, 1) := dk_29 (dk_at dksX5_feed_0 19 rfl rfl)
theorem dX5_feed_20 : decode cX5_feed 20 = .ok (.ifCond .lt 36, 3) := dk_155 0 36 (dk_at dksX5_feed_0 20 rfl rfl)
theorem dX5_feed_23 : decode cX5_feed 23 = .ok (.aload_n 0, 1) := dk_42 (dk_at dksX5_feed_0 23 rfl rfl)
theorem dX5_feed_24 : decode cX5_feed 24 = .ok (.getfield 43, 3) := dk_180 0 43 (dk_at dksX5_feed_1 0 rfl rfl)
theorem dX5_feed_27 : decode cX5_feed 27 = .ok (.aload_n 0, 1) := dk_42 (dk_at dksX5_feed_1 3 rfl rfl)
theorem dX5_feed_28 : decode cX5_feed 28 = .ok (.getfield 132, 3) := dk_180 0 132 (dk_at dksX5_feed_1 4 rfl rfl)
theorem dX5_feed_31 : decode cX5_feed 31 = .ok (.lload_n 1, 1) := dk_31 (dk_at dksX5_feed_1 7 rfl rfl)
theorem dX5_feed_32 : decode cX5_feed 32 = .ok (.iload_n 3, 1) := dk_29 (dk_at dksX5_feed_1 8 rfl rfl)
theorem dX5_feed_33 : decode cX5_feed 33 = .ok (.lshr, 1) := dk_123 (dk_at dksX5_feed_1 9 rfl rfl)
theorem dX5_feed_34 : decode cX5_feed 34 = .ok (.ldc2_w 135, 3) := dk_20 0 135 (dk_at dksX5_feed_1 10 rfl rfl)
theorem dX5_feed_37 : decode cX5_feed 37 = .ok (.land, 1) := dk_127 (dk_at dksX5_feed_1 13 rfl rfl)
theorem dX5_feed_38 : decode cX5_feed 38 = .ok (.l2i, 1) := dk_136 (dk_at dksX5_feed_1 14 rfl rfl)
theorem dX5_feed_39 : decode cX5_feed 39 = .ok (.iastore, 1) := dk_79 (dk_at dksX5_feed_1 15 rfl rfl)
theorem dX5_feed_40 : decode cX5_feed 40 = .ok (.aload_n 0, 1) := dk_42 (dk_at dksX5_feed_1 16 rfl rfl)
theorem dX5_feed_41 : decode cX5_feed 41 = .ok (.dup, 1) := dk_89 (dk_at dksX5_feed_1 17 rfl rfl)
theorem dX5_feed_42 : decode cX5_feed 42 = .ok (.getfield 132, 3) := dk_180 0 132 (dk_at dksX5_feed_1 18 rfl rfl)
theorem dX5_feed_45 : decode cX5_feed 45 = .ok (.iconst 1, 1) := dk_4 (dk_at dksX5_feed_1 21 rfl rfl)
theorem dX5_feed_46 : decode cX5_feed 46 = .ok (.iadd, 1) := dk_96 (dk_at dksX5_feed_1 22 rfl rfl)
theorem dX5_feed_47 : decode cX5_feed 47 = .ok (.putfield 132, 3) := dk_181 0 132 (dk_at dksX5_feed_2 0 rfl rfl)
theorem dX5_feed_50 : decode cX5_feed 50 = .ok (.iinc 3 (-8), 3) := dk_132 3 248 (dk_at dksX5_feed_2 3 rfl rfl)
theorem dX5_feed_53 : decode cX5_feed 53 = .ok (.goto (-34), 3) := dk_167 255 222 (dk_at dksX5_feed_2 6 rfl rfl)
theorem dX5_feed_56 : decode cX5_feed 56 = .ok (.aload_n 0, 1) := dk_42 (dk_at dksX5_feed_2 9 rfl rfl)
theorem dX5_feed_57 : decode cX5_feed 57 = .ok (.getfield 132, 3) := dk_180 0 132 (dk_at dksX5_feed_2 10 rfl rfl)
theorem dX5_feed_60 : decode cX5_feed 60 = .ok (.ireturn, 1) := dk_172 (dk_at dksX5_feed_2 13 rfl rfl)
abbrev cX5_end : ByteArray := prog_14_method_9_code
def yX5_end : MethodName := ⟨RX5, "end", "(I)I"⟩
def dkwX5_end_1 : List UInt8 := [181, 0, 132, 28, 172]
abbrev dktX5_end_1 : List UInt8 := dkwX5_end_1 ++ []
def dkwX5_end_0 : List UInt8 := [27, 133, 9, 42, 180, 0, 132, 133, 184, 0, 137, 154, 0, 5, 2, 172, 42, 180, 0, 132, 61, 42, 27]
abbrev dktX5_end_0 : List UInt8 := dkwX5_end_0 ++ dktX5_end_1
theorem dksX5_end_0 : cX5_end.data.toList.drop 0 = dktX5_end_0 := by decide +kernel
theorem dksX5_end_1 : cX5_end.data.toList.drop 23 = dktX5_end_1 := dk_seg dksX5_end_0 23 rfl rfl
theorem dX5_end_0 : decode cX5_end 0 = .ok (.iload_n 1, 1) := dk_27 (dk_at dksX5_end_0 0 rfl rfl)
theorem dX5_end_1 : decode cX5_end 1 = .ok (.i2l, 1) := dk_133 (dk_at dksX5_end_0 1 rfl rfl)
theorem dX5_end_2 : decode cX5_end 2 = .ok (.lconst 0, 1) := dk_9 (dk_at dksX5_end_0 2 rfl rfl)
theorem dX5_end_3 : decode cX5_end 3 = .ok (.aload_n 0, 1) := dk_42 (dk_at dksX5_end_0 3 rfl rfl)
theorem dX5_end_4 : decode cX5_end 4 = .ok (.getfield 132, 3) := dk_180 0 132 (dk_at dksX5_end_0 4 rfl rfl)
theorem dX5_end_7 : decode cX5_end 7 = .ok (.i2l, 1) := dk_133 (dk_at dksX5_end_0 7 rfl rfl)
theorem dX5_end_8 : decode cX5_end 8 = .ok (.invokestatic 137, 3) := dk_184 0 137 (dk_at dksX5_end_0 8 rfl rfl)
theorem dX5_end_11 : decode cX5_end 11 = .ok (.ifCond .ne 5, 3) := dk_154 0 5 (dk_at dksX5_end_0 11 rfl rfl)
theorem dX5_end_14 : decode cX5_end 14 = .ok (.iconst (-1), 1) := dk_2 (dk_at dksX5_end_0 14 rfl rfl)
theorem dX5_end_15 : decode cX5_end 15 = .ok (.ireturn, 1) := dk_172 (dk_at dksX5_end_0 15 rfl rfl)
theorem dX5_end_16 : decode cX5_end 16 = .ok (.aload_n 0, 1) := dk_42 (dk_at dksX5_end_0 16 rfl rfl)
theorem dX5_end_17 : decode cX5_end 17 = .ok (.getfield 132, 3) := dk_180 0 132 (dk_at dksX5_end_0 17 rfl rfl)
theorem dX5_end_20 : decode cX5_end 20 = .ok (.istore_n 2, 1) := dk_61 (dk_at dksX5_end_0 20 rfl rfl)
theorem dX5_end_21 : decode cX5_end 21 = .ok (.aload_n 0, 1) := dk_42 (dk_at dksX5_end_0 21 rfl rfl)
theorem dX5_end_22 : decode cX5_end 22 = .ok (.iload_n 1, 1) := dk_27 (dk_at dksX5_end_0 22 rfl rfl)
theorem dX5_end_23 : decode cX5_end 23 = .ok (.putfield 132, 3) := dk_181 0 132 (dk_at dksX5_end_1 0 rfl rfl)
theorem dX5_end_26 : decode cX5_end 26 = .ok (.iload_n 2, 1) := dk_28 (dk_at dksX5_end_1 3 rfl rfl)
theorem dX5_end_27 : decode cX5_end 27 = .ok (.ireturn, 1) := dk_172 (dk_at dksX5_end_1 4 rfl rfl)
abbrev cX5_text : ByteArray := prog_14_method_22_code
def yX5_text : MethodName := ⟨RX5, "text", "()I"⟩
def dkwX5_text_2 : List UInt8 := [181, 0, 132, 42, 180, 0, 141, 158, 0, 11, 16, 246, 42, 180, 0, 147, 100, 172, 42, 182, 0, 92, 27, 172]
abbrev dktX5_text_2 : List UInt8 := dkwX5_text_2 ++ []
def dkwX5_text_1 : List UInt8 := [154, 0, 20, 42, 180, 0, 169, 153, 0, 13, 42, 182, 0, 219, 132, 1, 1, 167, 255, 235, 42, 3]
abbrev dktX5_text_1 : List UInt8 := dkwX5_text_1 ++ dktX5_text_2
def dkwX5_text_0 : List UInt8 := [3, 60, 42, 3, 181, 0, 141, 42, 3, 181, 0, 150, 42, 182, 0, 89, 42, 182, 0, 187, 42, 180, 0, 141]
abbrev dktX5_text_0 : List UInt8 := dkwX5_text_0 ++ dktX5_text_1
theorem dksX5_text_0 : cX5_text.data.toList.drop 0 = dktX5_text_0 := by decide +kernel
theorem dksX5_text_1 : cX5_text.data.toList.drop 24 = dktX5_text_1 := dk_seg dksX5_text_0 24 rfl rfl
theorem dksX5_text_2 : cX5_text.data.toList.drop 46 = dktX5_text_2 := dk_seg dksX5_text_1 22 rfl rfl
theorem dX5_text_0 : decode cX5_text 0 = .ok (.iconst 0, 1) := dk_3 (dk_at dksX5_text_0 0 rfl rfl)
theorem dX5_text_1 : decode cX5_text 1 = .ok (.istore_n 1, 1) := dk_60 (dk_at dksX5_text_0 1 rfl rfl)
theorem dX5_text_2 : decode cX5_text 2 = .ok (.aload_n 0, 1) := dk_42 (dk_at dksX5_text_0 2 rfl rfl)
theorem dX5_text_3 : decode cX5_text 3 = .ok (.iconst 0, 1) := dk_3 (dk_at dksX5_text_0 3 rfl rfl)
theorem dX5_text_4 : decode cX5_text 4 = .ok (.putfield 141, 3) := dk_181 0 141 (dk_at dksX5_text_0 4 rfl rfl)
theorem dX5_text_7 : decode cX5_text 7 = .ok (.aload_n 0, 1) := dk_42 (dk_at dksX5_text_0 7 rfl rfl)
theorem dX5_text_8 : decode cX5_text 8 = .ok (.iconst 0, 1) := dk_3 (dk_at dksX5_text_0 8 rfl rfl)
theorem dX5_text_9 : decode cX5_text 9 = .ok (.putfield 150, 3) := dk_181 0 150 (dk_at dksX5_text_0 9 rfl rfl)
theorem dX5_text_12 : decode cX5_text 12 = .ok (.aload_n 0, 1) := dk_42 (dk_at dksX5_text_0 12 rfl rfl)
theorem dX5_text_13 : decode cX5_text 13 = .ok (.invokevirtual 89, 3) := dk_182 0 89 (dk_at dksX5_text_0 13 rfl rfl)
theorem dX5_text_16 : decode cX5_text 16 = .ok (.aload_n 0, 1) := dk_42 (dk_at dksX5_text_0 16 rfl rfl)
theorem dX5_text_17 : decode cX5_text 17 = .ok (.invokevirtual 187, 3) := dk_182 0 187 (dk_at dksX5_text_0 17 rfl rfl)
theorem dX5_text_20 : decode cX5_text 20 = .ok (.aload_n 0, 1) := dk_42 (dk_at dksX5_text_0 20 rfl rfl)
theorem dX5_text_21 : decode cX5_text 21 = .ok (.getfield 141, 3) := dk_180 0 141 (dk_at dksX5_text_0 21 rfl rfl)
theorem dX5_text_24 : decode cX5_text 24 = .ok (.ifCond .ne 20, 3) := dk_154 0 20 (dk_at dksX5_text_1 0 rfl rfl)
theorem dX5_text_27 : decode cX5_text 27 = .ok (.aload_n 0, 1) := dk_42 (dk_at dksX5_text_1 3 rfl rfl)
theorem dX5_text_28 : decode cX5_text 28 = .ok (.getfield 169, 3) := dk_180 0 169 (dk_at dksX5_text_1 4 rfl rfl)
theorem dX5_text_31 : decode cX5_text 31 = .ok (.ifCond .eq 13, 3) := dk_153 0 13 (dk_at dksX5_text_1 7 rfl rfl)
theorem dX5_text_34 : decode cX5_text 34 = .ok (.aload_n 0, 1) := dk_42 (dk_at dksX5_text_1 10 rfl rfl)
theorem dX5_text_35 : decode cX5_text 35 = .ok (.invokevirtual 219, 3) := dk_182 0 219 (dk_at dksX5_text_1 11 rfl rfl)
theorem dX5_text_38 : decode cX5_text 38 = .ok (.iinc 1 1, 3) := dk_132 1 1 (dk_at dksX5_text_1 14 rfl rfl)
theorem dX5_text_41 : decode cX5_text 41 = .ok (.goto (-21), 3) := dk_167 255 235 (dk_at dksX5_text_1 17 rfl rfl)
theorem dX5_text_44 : decode cX5_text 44 = .ok (.aload_n 0, 1) := dk_42 (dk_at dksX5_text_1 20 rfl rfl)
theorem dX5_text_45 : decode cX5_text 45 = .ok (.iconst 0, 1) := dk_3 (dk_at dksX5_text_1 21 rfl rfl)
theorem dX5_text_46 : decode cX5_text 46 = .ok (.putfield 132, 3) := dk_181 0 132 (dk_at dksX5_text_2 0 rfl rfl)
theorem dX5_text_49 : decode cX5_text 49 = .ok (.aload_n 0, 1) := dk_42 (dk_at dksX5_text_2 3 rfl rfl)
theorem dX5_text_50 : decode cX5_text 50 = .ok (.getfield 141, 3) := dk_180 0 141 (dk_at dksX5_text_2 4 rfl rfl)
theorem dX5_text_53 : decode cX5_text 53 = .ok (.ifCond .le 11, 3) := dk_158 0 11 (dk_at dksX5_text_2 7 rfl rfl)
theorem dX5_text_56 : decode cX5_text 56 = .ok (.bipush (-10), 2) := dk_16 246 (dk_at dksX5_text_2 10 rfl rfl)
theorem dX5_text_58 : decode cX5_text 58 = .ok (.aload_n 0, 1) := dk_42 (dk_at dksX5_text_2 12 rfl rfl)
theorem dX5_text_59 : decode cX5_text 59 = .ok (.getfield 147, 3) := dk_180 0 147 (dk_at dksX5_text_2 13 rfl rfl)
theorem dX5_text_62 : decode cX5_text 62 = .ok (.isub, 1) := dk_100 (dk_at dksX5_text_2 16 rfl rfl)
theorem dX5_text_63 : decode cX5_text 63 = .ok (.ireturn, 1) := dk_172 (dk_at dksX5_text_2 17 rfl rfl)
theorem dX5_text_64 : decode cX5_text 64 = .ok (.aload_n 0, 1) := dk_42 (dk_at dksX5_text_2 18 rfl rfl)
theorem dX5_text_65 : decode cX5_text 65 = .ok (.invokevirtual 92, 3) := dk_182 0 92 (dk_at dksX5_text_2 19 rfl rfl)
theorem dX5_text_68 : decode cX5_text 68 = .ok (.iload_n 1, 1) := dk_27 (dk_at dksX5_text_2 22 rfl rfl)
theorem dX5_text_69 : decode cX5_text 69 = .ok (.ireturn, 1) := dk_172 (dk_at dksX5_text_2 23 rfl rfl)
abbrev cX5_next : ByteArray := prog_14_method_16_code
def yX5_next : MethodName := ⟨RX5, "next", "()V"⟩
def dkwX5_next_12 : List UInt8 := [180, 0, 150, 4, 96, 181, 0, 150, 177]
abbrev dktX5_next_12 : List UInt8 := dkwX5_next_12 ++ []
def dkwX5_next_11 : List UInt8 := [16, 59, 159, 0, 9, 27, 16, 45, 160, 0, 7, 4, 167, 0, 4, 3, 4, 182, 0, 183, 42, 89]
abbrev dktX5_next_11 : List UInt8 := dkwX5_next_11 ++ dktX5_next_12
def dkwX5_next_10 : List UInt8 := [182, 0, 183, 167, 0, 50, 42, 27, 16, 45, 160, 0, 7, 7, 167, 0, 4, 6, 181, 0, 169, 42, 27]
abbrev dktX5_next_10 : List UInt8 := dkwX5_next_10 ++ dktX5_next_11
def dkwX5_next_9 : List UInt8 := [167, 255, 182, 42, 42, 180, 0, 150, 42, 180, 0, 144, 100, 5, 163, 0, 7, 4, 167, 0, 4, 3, 4]
abbrev dktX5_next_9 : List UInt8 := dkwX5_next_9 ++ dktX5_next_10
def dkwX5_next_8 : List UInt8 := [96, 16, 48, 100, 167, 0, 7, 42, 180, 0, 180, 181, 0, 180, 42, 89, 180, 0, 150, 4, 96, 181, 0, 150]
abbrev dktX5_next_8 : List UInt8 := dkwX5_next_8 ++ dktX5_next_9
def dkwX5_next_7 : List UInt8 := [42, 180, 0, 144, 100, 5, 162, 0, 25, 16, 10, 42, 180, 0, 180, 104, 42, 42, 180, 0, 150, 182, 0, 153]
abbrev dktX5_next_7 : List UInt8 := dkwX5_next_7 ++ dktX5_next_8
def dkwX5_next_6 : List UInt8 := [180, 0, 150, 182, 0, 153, 133, 20, 0, 176, 20, 0, 178, 184, 0, 137, 153, 0, 59, 42, 42, 180, 0, 150]
abbrev dktX5_next_6 : List UInt8 := dkwX5_next_6 ++ dktX5_next_7
def dkwX5_next_5 : List UInt8 := [20, 0, 176, 20, 0, 178, 184, 0, 137, 153, 0, 116, 42, 5, 181, 0, 169, 42, 3, 181, 0, 180, 42, 42]
abbrev dktX5_next_5 : List UInt8 := dkwX5_next_5 ++ dktX5_next_6
def dkwX5_next_4 : List UInt8 := [20, 0, 174, 184, 0, 137, 153, 0, 190, 42, 89, 180, 0, 150, 4, 96, 181, 0, 150, 167, 255, 225, 27, 133]
abbrev dktX5_next_4 : List UInt8 := dkwX5_next_4 ++ dktX5_next_5
def dkwX5_next_3 : List UInt8 := [184, 0, 137, 153, 0, 42, 42, 4, 181, 0, 169, 42, 42, 180, 0, 150, 182, 0, 153, 133, 20, 0, 172]
abbrev dktX5_next_3 : List UInt8 := dkwX5_next_3 ++ dktX5_next_4
def dkwX5_next_2 : List UInt8 := [182, 0, 153, 60, 27, 156, 0, 11, 42, 3, 181, 0, 169, 167, 0, 230, 27, 133, 20, 0, 172, 20, 0, 174]
abbrev dktX5_next_2 : List UInt8 := dkwX5_next_2 ++ dktX5_next_3
def dkwX5_next_1 : List UInt8 := [180, 0, 150, 4, 96, 181, 0, 150, 167, 255, 233, 42, 42, 180, 0, 150, 181, 0, 144, 42, 42, 180, 0, 150]
abbrev dktX5_next_1 : List UInt8 := dkwX5_next_1 ++ dktX5_next_2
def dkwX5_next_0 : List UInt8 := [42, 180, 0, 141, 158, 0, 4, 177, 42, 42, 180, 0, 150, 182, 0, 153, 16, 32, 160, 0, 16, 42, 89]
abbrev dktX5_next_0 : List UInt8 := dkwX5_next_0 ++ dktX5_next_1
theorem dksX5_next_0 : cX5_next.data.toList.drop 0 = dktX5_next_0 := by decide +kernel
theorem dksX5_next_1 : cX5_next.data.toList.drop 23 = dktX5_next_1 := dk_seg dksX5_next_0 23 rfl rfl
theorem dksX5_next_2 : cX5_next.data.toList.drop 47 = dktX5_next_2 := dk_seg dksX5_next_1 24 rfl rfl
theorem dksX5_next_3 : cX5_next.data.toList.drop 71 = dktX5_next_3 := dk_seg dksX5_next_2 24 rfl rfl
theorem dksX5_next_4 : cX5_next.data.toList.drop 94 = dktX5_next_4 := dk_seg dksX5_next_3 23 rfl rfl
theorem dksX5_next_5 : cX5_next.data.toList.drop 118 = dktX5_next_5 := dk_seg dksX5_next_4 24 rfl rfl
theorem dksX5_next_6 : cX5_next.data.toList.drop 142 = dktX5_next_6 := dk_seg dksX5_next_5 24 rfl rfl
theorem dksX5_next_7 : cX5_next.data.toList.drop 166 = dktX5_next_7 := dk_seg dksX5_next_6 24 rfl rfl
theorem dksX5_next_8 : cX5_next.data.toList.drop 190 = dktX5_next_8 := dk_seg dksX5_next_7 24 rfl rfl
theorem dksX5_next_9 : cX5_next.data.toList.drop 214 = dktX5_next_9 := dk_seg dksX5_next_8 24 rfl rfl
theorem dksX5_next_10 : cX5_next.data.toList.drop 237 = dktX5_next_10 := dk_seg dksX5_next_9 23 rfl rfl
theorem dksX5_next_11 : cX5_next.data.toList.drop 260 = dktX5_next_11 := dk_seg dksX5_next_10 23 rfl rfl
theorem dksX5_next_12 : cX5_next.data.toList.drop 282 = dktX5_next_12 := dk_seg dksX5_next_11 22 rfl rfl
theorem dX5_next_0 : decode cX5_next 0 = .ok (.aload_n 0, 1) := dk_42 (dk_at dksX5_next_0 0 rfl rfl)
theorem dX5_next_1 : decode cX5_next 1 = .ok (.getfield 141, 3) := dk_180 0 141 (dk_at dksX5_next_0 1 rfl rfl)
theorem dX5_next_4 : decode cX5_next 4 = .ok (.ifCond .le 4, 3) := dk_158 0 4 (dk_at dksX5_next_0 4 rfl rfl)
theorem dX5_next_7 : decode cX5_next 7 = .ok (.return_, 1) := dk_177 (dk_at dksX5_next_0 7 rfl rfl)
theorem dX5_next_8 : decode cX5_next 8 = .ok (.aload_n 0, 1) := dk_42 (dk_at dksX5_next_0 8 rfl rfl)
theorem dX5_next_9 : decode cX5_next 9 = .ok (.aload_n 0, 1) := dk_42 (dk_at dksX5_next_0 9 rfl rfl)
theorem dX5_next_10 : decode cX5_next 10 = .ok (.getfield 150, 3) := dk_180 0 150 (dk_at dksX5_next_0 10 rfl rfl)
theorem dX5_next_13 : decode cX5_next 13 = .ok (.invokevirtual 153, 3) := dk_182 0 153 (dk_at dksX5_next_0 13 rfl rfl)
theorem dX5_next_16 : decode cX5_next 16 = .ok (.bipush 32, 2) := dk_16 32 (dk_at dksX5_next_0 16 rfl rfl)
theorem dX5_next_18 : decode cX5_next 18 = .ok (.if_icmp .ne 16, 3) := dk_160 0 16 (dk_at dksX5_next_0 18 rfl rfl)
theorem dX5_next_21 : decode cX5_next 21 = .ok (.aload_n 0, 1) := dk_42 (dk_at dksX5_next_0 21 rfl rfl)
theorem dX5_next_22 : decode cX5_next 22 = .ok (.dup, 1) := dk_89 (dk_at dksX5_next_0 22 rfl rfl)
theorem dX5_next_23 : decode cX5_next 23 = .ok (.getfield 150, 3) := dk_180 0 150 (dk_at dksX5_next_1 0 rfl rfl)
theorem dX5_next_26 : decode cX5_next 26 = .ok (.iconst 1, 1) := dk_4 (dk_at dksX5_next_1 3 rfl rfl)
theorem dX5_next_27 : decode cX5_next 27 = .ok (.iadd, 1) := dk_96 (dk_at dksX5_next_1 4 rfl rfl)
theorem dX5_next_28 : decode cX5_next 28 = .ok (.putfield 150, 3) := dk_181 0 150 (dk_at dksX5_next_1 5 rfl rfl)
theorem dX5_next_31 : decode cX5_next 31 = .ok (.goto (-23), 3) := dk_167 255 233 (dk_at dksX5_next_1 8 rfl rfl)
theorem dX5_next_34 : decode cX5_next 34 = .ok (.aload_n 0, 1) := dk_42 (dk_at dksX5_next_1 11 rfl rfl)
theorem dX5_next_35 : decode cX5_next 35 = .ok (.aload_n 0, 1) := dk_42 (dk_at dksX5_next_1 12 rfl rfl)
theorem dX5_next_36 : decode cX5_next 36 = .ok (.getfield 150, 3) := dk_180 0 150 (dk_at dksX5_next_1 13 rfl rfl)
theorem dX5_next_39 : decode cX5_next 39 = .ok (.putfield 144, 3) := dk_181 0 144 (dk_at dksX5_next_1 16 rfl rfl)
theorem dX5_next_42 : decode cX5_next 42 = .ok (.aload_n 0, 1) := dk_42 (dk_at dksX5_next_1 19 rfl rfl)
theorem dX5_next_43 : decode cX5_next 43 = .ok (.aload_n 0, 1) := dk_42 (dk_at dksX5_next_1 20 rfl rfl)
theorem dX5_next_44 : decode cX5_next 44 = .ok (.getfield 150, 3) := dk_180 0 150 (dk_at dksX5_next_1 21 rfl rfl)
theorem dX5_next_47 : decode cX5_next 47 = .ok (.invokevirtual 153, 3) := dk_182 0 153 (dk_at dksX5_next_2 0 rfl rfl)
theorem dX5_next_50 : decode cX5_next 50 = .ok (.istore_n 1, 1) := dk_60 (dk_at dksX5_next_2 3 rfl rfl)
theorem dX5_next_51 : decode cX5_next 51 = .ok (.iload_n 1, 1) := dk_27 (dk_at dksX5_next_2 4 rfl rfl)
theorem dX5_next_52 : decode cX5_next 52 = .ok (.ifCond .ge 11, 3) := dk_156 0 11 (dk_at dksX5_next_2 5 rfl rfl)
theorem dX5_next_55 : decode cX5_next 55 = .ok (.aload_n 0, 1) := dk_42 (dk_at dksX5_next_2 8 rfl rfl)
theorem dX5_next_56 : decode cX5_next 56 = .ok (.iconst 0, 1) := dk_3 (dk_at dksX5_next_2 9 rfl rfl)
theorem dX5_next_57 : decode cX5_next 57 = .ok (.putfield 169, 3) := dk_181 0 169 (dk_at dksX5_next_2 10 rfl rfl)
theorem dX5_next_60 : decode cX5_next 60 = .ok (.goto 230, 3) := dk_167 0 230 (dk_at dksX5_next_2 13 rfl rfl)
theorem dX5_next_63 : decode cX5_next 63 = .ok (.iload_n 1, 1) := dk_27 (dk_at dksX5_next_2 16 rfl rfl)
theorem dX5_next_64 : decode cX5_next 64 = .ok (.i2l, 1) := dk_133 (dk_at dksX5_next_2 17 rfl rfl)
theorem dX5_next_65 : decode cX5_next 65 = .ok (.ldc2_w 172, 3) := dk_20 0 172 (dk_at dksX5_next_2 18 rfl rfl)
theorem dX5_next_68 : decode cX5_next 68 = .ok (.ldc2_w 174, 3) := dk_20 0 174 (dk_at dksX5_next_2 21 rfl rfl)
theorem dX5_next_71 : decode cX5_next 71 = .ok (.invokestatic 137, 3) := dk_184 0 137 (dk_at dksX5_next_3 0 rfl rfl)
theorem dX5_next_74 : decode cX5_next 74 = .ok (.ifCond .eq 42, 3) := dk_153 0 42 (dk_at dksX5_next_3 3 rfl rfl)
theorem dX5_next_77 : decode cX5_next 77 = .ok (.aload_n 0, 1) := dk_42 (dk_at dksX5_next_3 6 rfl rfl)
theorem dX5_next_78 : decode cX5_next 78 = .ok (.iconst 1, 1) := dk_4 (dk_at dksX5_next_3 7 rfl rfl)
theorem dX5_next_79 : decode cX5_next 79 = .ok (.putfield 169, 3) := dk_181 0 169 (dk_at dksX5_next_3 8 rfl rfl)
theorem dX5_next_82 : decode cX5_next 82 = .ok (.aload_n 0, 1) := dk_42 (dk_at dksX5_next_3 11 rfl rfl)
theorem dX5_next_83 : decode cX5_next 83 = .ok (.aload_n 0, 1) := dk_42 (dk_at dksX5_next_3 12 rfl rfl)
theorem dX5_next_84 : decode cX5_next 84 = .ok (.getfield 150, 3) := dk_180 0 150 (dk_at dksX5_next_3 13 rfl rfl)
theorem dX5_next_87 : decode cX5_next 87 = .ok (.invokevirtual 153, 3) := dk_182 0 153 (dk_at dksX5_next_3 16 rfl rfl)
theorem dX5_next_90 : decode cX5_next 90 = .ok (.i2l, 1) := dk_133 (dk_at dksX5_next_3 19 rfl rfl)
theorem dX5_next_91 : decode cX5_next 91 = .ok (.ldc2_w 172, 3) := dk_20 0 172 (dk_at dksX5_next_3 20 rfl rfl)
theorem dX5_next_94 : decode cX5_next 94 = .ok (.ldc2_w 174, 3) := dk_20 0 174 (dk_at dksX5_next_4 0 rfl rfl)
theorem dX5_next_97 : decode cX5_next 97 = .ok (.invokestatic 137, 3) := dk_184 0 137 (dk_at dksX5_next_4 3 rfl rfl)
theorem dX5_next_100 : decode cX5_next 100 = .ok (.ifCond .eq 190, 3) := dk_153 0 190 (dk_at dksX5_next_4 6 rfl rfl)
theorem dX5_next_103 : decode cX5_next 103 = .ok (.aload_n 0, 1) := dk_42 (dk_at dksX5_next_4 9 rfl rfl)
theorem dX5_next_104 : decode cX5_next 104 = .ok (.dup, 1) := dk_89 (dk_at dksX5_next_4 10 rfl rfl)
theorem dX5_next_105 : decode cX5_next 105 = .ok (.getfield 150, 3) := dk_180 0 150 (dk_at dksX5_next_4 11 rfl rfl)
theorem dX5_next_108 : decode cX5_next 108 = .ok (.iconst 1, 1) := dk_4 (dk_at dksX5_next_4 14 rfl rfl)
theorem dX5_next_109 : decode cX5_next 109 = .ok (.iadd, 1) := dk_96 (dk_at dksX5_next_4 15 rfl rfl)
theorem dX5_next_110 : decode cX5_next 110 = .ok (.putfield 150, 3) := dk_181 0 150 (dk_at dksX5_next_4 16 rfl rfl)
theorem dX5_next_113 : decode cX5_next 113 = .ok (.goto (-31), 3) := dk_167 255 225 (dk_at dksX5_next_4 19 rfl rfl)
theorem dX5_next_116 : decode cX5_next 116 = .ok (.iload_n 1, 1) := dk_27 (dk_at dksX5_next_4 22 rfl rfl)
theorem dX5_next_117 : decode cX5_next 117 = .ok (.i2l, 1) := dk_133 (dk_at dksX5_next_4 23 rfl rfl)
theorem dX5_next_118 : decode cX5_next 118 = .ok (.ldc2_w 176, 3) := dk_20 0 176 (dk_at dksX5_next_5 0 rfl rfl)
theorem dX5_next_121 : decode cX5_next 121 = .ok (.ldc2_w 178, 3) := dk_20 0 178 (dk_at dksX5_next_5 3 rfl rfl)
theorem dX5_next_124 : decode cX5_next 124 = .ok (.invokestatic 137, 3) := dk_184 0 137 (dk_at dksX5_next_5 6 rfl rfl)
theorem dX5_next_127 : decode cX5_next 127 = .ok (.ifCond .eq 116, 3) := dk_153 0 116 (dk_at dksX5_next_5 9 rfl rfl)
theorem dX5_next_130 : decode cX5_next 130 = .ok (.aload_n 0, 1) := dk_42 (dk_at dksX5_next_5 12 rfl rfl)
theorem dX5_next_131 : decode cX5_next 131 = .ok (.iconst 2, 1) := dk_5 (dk_at dksX5_next_5 13 rfl rfl)
theorem dX5_next_132 : decode cX5_next 132 = .ok (.putfield 169, 3) := dk_181 0 169 (dk_at dksX5_next_5 14 rfl rfl)
theorem dX5_next_135 : decode cX5_next 135 = .ok (.aload_n 0, 1) := dk_42 (dk_at dksX5_next_5 17 rfl rfl)
theorem dX5_next_136 : decode cX5_next 136 = .ok (.iconst 0, 1) := dk_3 (dk_at dksX5_next_5 18 rfl rfl)
theorem dX5_next_137 : decode cX5_next 137 = .ok (.putfield 180, 3) := dk_181 0 180 (dk_at dksX5_next_5 19 rfl rfl)
theorem dX5_next_140 : decode cX5_next 140 = .ok (.aload_n 0, 1) := dk_42 (dk_at dksX5_next_5 22 rfl rfl)
theorem dX5_next_141 : decode cX5_next 141 = .ok (.aload_n 0, 1) := dk_42 (dk_at dksX5_next_5 23 rfl rfl)
theorem dX5_next_142 : decode cX5_next 142 = .ok (.getfield 150, 3) := dk_180 0 150 (dk_at dksX5_next_6 0 rfl rfl)
theorem dX5_next_145 : decode cX5_next 145 = .ok (.invokevirtual 153, 3) := dk_182 0 153 (dk_at dksX5_next_6 3 rfl rfl)
theorem dX5_next_148 : decode cX5_next 148 = .ok (.i2l, 1) := dk_133 (dk_at dksX5_next_6 6 rfl rfl)
theorem dX5_next_149 : decode cX5_next 149 = .ok (.ldc2_w 176, 3) := dk_20 0 176 (dk_at dksX5_next_6 7 rfl rfl)
theorem dX5_next_152 : decode cX5_next 152 = .ok (.ldc2_w 178, 3) := dk_20 0 178 (dk_at dksX5_next_6 10 rfl rfl)
theorem dX5_next_155 : decode cX5_next 155 = .ok (.invokestatic 137, 3) := dk_184 0 137 (dk_at dksX5_next_6 13 rfl rfl)
theorem dX5_next_158 : decode cX5_next 158 = .ok (.ifCond .eq 59, 3) := dk_153 0 59 (dk_at dksX5_next_6 16 rfl rfl)
theorem dX5_next_161 : decode cX5_next 161 = .ok (.aload_n 0, 1) := dk_42 (dk_at dksX5_next_6 19 rfl rfl)
theorem dX5_next_162 : decode cX5_next 162 = .ok (.aload_n 0, 1) := dk_42 (dk_at dksX5_next_6 20 rfl rfl)
theorem dX5_next_163 : decode cX5_next 163 = .ok (.getfield 150, 3) := dk_180 0 150 (dk_at dksX5_next_6 21 rfl rfl)
theorem dX5_next_166 : decode cX5_next 166 = .ok (.aload_n 0, 1) := dk_42 (dk_at dksX5_next_7 0 rfl rfl)
theorem dX5_next_167 : decode cX5_next 167 = .ok (.getfield 144, 3) := dk_180 0 144 (dk_at dksX5_next_7 1 rfl rfl)
theorem dX5_next_170 : decode cX5_next 170 = .ok (.isub, 1) := dk_100 (dk_at dksX5_next_7 4 rfl rfl)
theorem dX5_next_171 : decode cX5_next 171 = .ok (.iconst 2, 1) := dk_5 (dk_at dksX5_next_7 5 rfl rfl)
theorem dX5_next_172 : decode cX5_next 172 = .ok (.if_icmp .ge 25, 3) := dk_162 0 25 (dk_at dksX5_next_7 6 rfl rfl)
theorem dX5_next_175 : decode cX5_next 175 = .ok (.bipush 10, 2) := dk_16 10 (dk_at dksX5_next_7 9 rfl rfl)
theorem dX5_next_177 : decode cX5_next 177 = .ok (.aload_n 0, 1) := dk_42 (dk_at dksX5_next_7 11 rfl rfl)
theorem dX5_next_178 : decode cX5_next 178 = .ok (.getfield 180, 3) := dk_180 0 180 (dk_at dksX5_next_7 12 rfl rfl)
theorem dX5_next_181 : decode cX5_next 181 = .ok (.imul, 1) := dk_104 (dk_at dksX5_next_7 15 rfl rfl)
theorem dX5_next_182 : decode cX5_next 182 = .ok (.aload_n 0, 1) := dk_42 (dk_at dksX5_next_7 16 rfl rfl)
theorem dX5_next_183 : decode cX5_next 183 = .ok (.aload_n 0, 1) := dk_42 (dk_at dksX5_next_7 17 rfl rfl)
theorem dX5_next_184 : decode cX5_next 184 = .ok (.getfield 150, 3) := dk_180 0 150 (dk_at dksX5_next_7 18 rfl rfl)
theorem dX5_next_187 : decode cX5_next 187 = .ok (.invokevirtual 153, 3) := dk_182 0 153 (dk_at dksX5_next_7 21 rfl rfl)
theorem dX5_next_190 : decode cX5_next 190 = .ok (.iadd, 1) := dk_96 (dk_at dksX5_next_8 0 rfl rfl)
theorem dX5_next_191 : decode cX5_next 191 = .ok (.bipush 48, 2) := dk_16 48 (dk_at dksX5_next_8 1 rfl rfl)
theorem dX5_next_193 : decode cX5_next 193 = .ok (.isub, 1) := dk_100 (dk_at dksX5_next_8 3 rfl rfl)
theorem dX5_next_194 : decode cX5_next 194 = .ok (.goto 7, 3) := dk_167 0 7 (dk_at dksX5_next_8 4 rfl rfl)
theorem dX5_next_197 : decode cX5_next 197 = .ok (.aload_n 0, 1) := dk_42 (dk_at dksX5_next_8 7 rfl rfl)
theorem dX5_next_198 : decode cX5_next 198 = .ok (.getfield 180, 3) := dk_180 0 180 (dk_at dksX5_next_8 8 rfl rfl)
theorem dX5_next_201 : decode cX5_next 201 = .ok (.putfield 180, 3) := dk_181 0 180 (dk_at dksX5_next_8 11 rfl rfl)
theorem dX5_next_204 : decode cX5_next 204 = .ok (.aload_n 0, 1) := dk_42 (dk_at dksX5_next_8 14 rfl rfl)
theorem dX5_next_205 : decode cX5_next 205 = .ok (.dup, 1) := dk_89 (dk_at dksX5_next_8 15 rfl rfl)
theorem dX5_next_206 : decode cX5_next 206 = .ok (.getfield 150, 3) := dk_180 0 150 (dk_at dksX5_next_8 16 rfl rfl)
theorem dX5_next_209 : decode cX5_next 209 = .ok (.iconst 1, 1) := dk_4 (dk_at dksX5_next_8 19 rfl rfl)
theorem dX5_next_210 : decode cX5_next 210 = .ok (.iadd, 1) := dk_96 (dk_at dksX5_next_8 20 rfl rfl)
theorem dX5_next_211 : decode cX5_next 211 = .ok (.putfield 150, 3) := dk_181 0 150 (dk_at dksX5_next_8 21 rfl rfl)
theorem dX5_next_214 : decode cX5_next 214 = .ok (.goto (-74), 3) := dk_167 255 182 (dk_at dksX5_next_9 0 rfl rfl)
theorem dX5_next_217 : decode cX5_next 217 = .ok (.aload_n 0, 1) := dk_42 (dk_at dksX5_next_9 3 rfl rfl)
theorem dX5_next_218 : decode cX5_next 218 = .ok (.aload_n 0, 1) := dk_42 (dk_at dksX5_next_9 4 rfl rfl)
theorem dX5_next_219 : decode cX5_next 219 = .ok (.getfield 150, 3) := dk_180 0 150 (dk_at dksX5_next_9 5 rfl rfl)
theorem dX5_next_222 : decode cX5_next 222 = .ok (.aload_n 0, 1) := dk_42 (dk_at dksX5_next_9 8 rfl rfl)
theorem dX5_next_223 : decode cX5_next 223 = .ok (.getfield 144, 3) := dk_180 0 144 (dk_at dksX5_next_9 9 rfl rfl)
theorem dX5_next_226 : decode cX5_next 226 = .ok (.isub, 1) := dk_100 (dk_at dksX5_next_9 12 rfl rfl)
theorem dX5_next_227 : decode cX5_next 227 = .ok (.iconst 2, 1) := dk_5 (dk_at dksX5_next_9 13 rfl rfl)
theorem dX5_next_228 : decode cX5_next 228 = .ok (.if_icmp .gt 7, 3) := dk_163 0 7 (dk_at dksX5_next_9 14 rfl rfl)
theorem dX5_next_231 : decode cX5_next 231 = .ok (.iconst 1, 1) := dk_4 (dk_at dksX5_next_9 17 rfl rfl)
theorem dX5_next_232 : decode cX5_next 232 = .ok (.goto 4, 3) := dk_167 0 4 (dk_at dksX5_next_9 18 rfl rfl)
theorem dX5_next_235 : decode cX5_next 235 = .ok (.iconst 0, 1) := dk_3 (dk_at dksX5_next_9 21 rfl rfl)
theorem dX5_next_236 : decode cX5_next 236 = .ok (.iconst 1, 1) := dk_4 (dk_at dksX5_next_9 22 rfl rfl)
theorem dX5_next_237 : decode cX5_next 237 = .ok (.invokevirtual 183, 3) := dk_182 0 183 (dk_at dksX5_next_10 0 rfl rfl)
theorem dX5_next_240 : decode cX5_next 240 = .ok (.goto 50, 3) := dk_167 0 50 (dk_at dksX5_next_10 3 rfl rfl)
theorem dX5_next_243 : decode cX5_next 243 = .ok (.aload_n 0, 1) := dk_42 (dk_at dksX5_next_10 6 rfl rfl)
theorem dX5_next_244 : decode cX5_next 244 = .ok (.iload_n 1, 1) := dk_27 (dk_at dksX5_next_10 7 rfl rfl)
theorem dX5_next_245 : decode cX5_next 245 = .ok (.bipush 45, 2) := dk_16 45 (dk_at dksX5_next_10 8 rfl rfl)
theorem dX5_next_247 : decode cX5_next 247 = .ok (.if_icmp .ne 7, 3) := dk_160 0 7 (dk_at dksX5_next_10 10 rfl rfl)
theorem dX5_next_250 : decode cX5_next 250 = .ok (.iconst 4, 1) := dk_7 (dk_at dksX5_next_10 13 rfl rfl)
theorem dX5_next_251 : decode cX5_next 251 = .ok (.goto 4, 3) := dk_167 0 4 (dk_at dksX5_next_10 14 rfl rfl)
theorem dX5_next_254 : decode cX5_next 254 = .ok (.iconst 3, 1) := dk_6 (dk_at dksX5_next_10 17 rfl rfl)
theorem dX5_next_255 : decode cX5_next 255 = .ok (.putfield 169, 3) := dk_181 0 169 (dk_at dksX5_next_10 18 rfl rfl)
theorem dX5_next_258 : decode cX5_next 258 = .ok (.aload_n 0, 1) := dk_42 (dk_at dksX5_next_10 21 rfl rfl)
theorem dX5_next_259 : decode cX5_next 259 = .ok (.iload_n 1, 1) := dk_27 (dk_at dksX5_next_10 22 rfl rfl)
theorem dX5_next_260 : decode cX5_next 260 = .ok (.bipush 59, 2) := dk_16 59 (dk_at dksX5_next_11 0 rfl rfl)
theorem dX5_next_262 : decode cX5_next 262 = .ok (.if_icmp .eq 9, 3) := dk_159 0 9 (dk_at dksX5_next_11 2 rfl rfl)
theorem dX5_next_265 : decode cX5_next 265 = .ok (.iload_n 1, 1) := dk_27 (dk_at dksX5_next_11 5 rfl rfl)
theorem dX5_next_266 : decode cX5_next 266 = .ok (.bipush 45, 2) := dk_16 45 (dk_at dksX5_next_11 6 rfl rfl)
theorem dX5_next_268 : decode cX5_next 268 = .ok (.if_icmp .ne 7, 3) := dk_160 0 7 (dk_at dksX5_next_11 8 rfl rfl)
theorem dX5_next_271 : decode cX5_next 271 = .ok (.iconst 1, 1) := dk_4 (dk_at dksX5_next_11 11 rfl rfl)
theorem dX5_next_272 : decode cX5_next 272 = .ok (.goto 4, 3) := dk_167 0 4 (dk_at dksX5_next_11 12 rfl rfl)
theorem dX5_next_275 : decode cX5_next 275 = .ok (.iconst 0, 1) := dk_3 (dk_at dksX5_next_11 15 rfl rfl)
theorem dX5_next_276 : decode cX5_next 276 = .ok (.iconst 1, 1) := dk_4 (dk_at dksX5_next_11 16 rfl rfl)
theorem dX5_next_277 : decode cX5_next 277 = .ok (.invokevirtual 183, 3) := dk_182 0 183 (dk_at dksX5_next_11 17 rfl rfl)
theorem dX5_next_280 : decode cX5_next 280 = .ok (.aload_n 0, 1) := dk_42 (dk_at dksX5_next_11 20 rfl rfl)
theorem dX5_next_281 : decode cX5_next 281 = .ok (.dup, 1) := dk_89 (dk_at dksX5_next_11 21 rfl rfl)
theorem dX5_next_282 : decode cX5_next 282 = .ok (.getfield 150, 3) := dk_180 0 150 (dk_at dksX5_next_12 0 rfl rfl)
theorem dX5_next_285 : decode cX5_next 285 = .ok (.iconst 1, 1) := dk_4 (dk_at dksX5_next_12 3 rfl rfl)
theorem dX5_next_286 : decode cX5_next 286 = .ok (.iadd, 1) := dk_96 (dk_at dksX5_next_12 4 rfl rfl)
theorem dX5_next_287 : decode cX5_next 287 = .ok (.putfield 150, 3) := dk_181 0 150 (dk_at dksX5_next_12 5 rfl rfl)
theorem dX5_next_290 : decode cX5_next 290 = .ok (.return_, 1) := dk_177 (dk_at dksX5_next_12 8 rfl rfl)
abbrev cX5_look : ByteArray := prog_14_method_11_code
def yX5_look : MethodName := ⟨RX5, "look", "(I)I"⟩
def dkwX5_look_0 : List UInt8 := [27, 42, 180, 0, 132, 162, 0, 12, 42, 180, 0, 43, 27, 46, 167, 0, 4, 2, 172]
abbrev dktX5_look_0 : List UInt8 := dkwX5_look_0 ++ []
theorem dksX5_look_0 : cX5_look.data.toList.drop 0 = dktX5_look_0 := by decide +kernel
theorem dX5_look_0 : decode cX5_look 0 = .ok (.iload_n 1, 1) := dk_27 (dk_at dksX5_look_0 0 rfl rfl)
theorem dX5_look_1 : decode cX5_look 1 = .ok (.aload_n 0, 1) := dk_42 (dk_at dksX5_look_0 1 rfl rfl)
theorem dX5_look_2 : decode cX5_look 2 = .ok (.getfield 132, 3) := dk_180 0 132 (dk_at dksX5_look_0 2 rfl rfl)
theorem dX5_look_5 : decode cX5_look 5 = .ok (.if_icmp .ge 12, 3) := dk_162 0 12 (dk_at dksX5_look_0 5 rfl rfl)
theorem dX5_look_8 : decode cX5_look 8 = .ok (.aload_n 0, 1) := dk_42 (dk_at dksX5_look_0 8 rfl rfl)
theorem dX5_look_9 : decode cX5_look 9 = .ok (.getfield 43, 3) := dk_180 0 43 (dk_at dksX5_look_0 9 rfl rfl)
theorem dX5_look_12 : decode cX5_look 12 = .ok (.iload_n 1, 1) := dk_27 (dk_at dksX5_look_0 12 rfl rfl)
theorem dX5_look_13 : decode cX5_look 13 = .ok (.iaload, 1) := dk_46 (dk_at dksX5_look_0 13 rfl rfl)
theorem dX5_look_14 : decode cX5_look 14 = .ok (.goto 4, 3) := dk_167 0 4 (dk_at dksX5_look_0 14 rfl rfl)
theorem dX5_look_17 : decode cX5_look 17 = .ok (.iconst (-1), 1) := dk_2 (dk_at dksX5_look_0 17 rfl rfl)
theorem dX5_look_18 : decode cX5_look 18 = .ok (.ireturn, 1) := dk_172 (dk_at dksX5_look_0 18 rfl rfl)
abbrev cX5_needs : ByteArray := prog_14_method_10_code
def yX5_needs : MethodName := ⟨RX5, "needs", "(ZI)V"⟩
def dkwX5_needs_1 : List UInt8 := [177]
abbrev dktX5_needs_1 : List UInt8 := dkwX5_needs_1 ++ []
def dkwX5_needs_0 : List UInt8 := [27, 154, 0, 23, 42, 180, 0, 141, 154, 0, 16, 42, 28, 181, 0, 141, 42, 42, 180, 0, 144, 181, 0, 147]
abbrev dktX5_needs_0 : List UInt8 := dkwX5_needs_0 ++ dktX5_needs_1
theorem dksX5_needs_0 : cX5_needs.data.toList.drop 0 = dktX5_needs_0 := by decide +kernel
theorem dksX5_needs_1 : cX5_needs.data.toList.drop 24 = dktX5_needs_1 := dk_seg dksX5_needs_0 24 rfl rfl
theorem dX5_needs_0 : decode cX5_needs 0 = .ok (.iload_n 1, 1) := dk_27 (dk_at dksX5_needs_0 0 rfl rfl)
theorem dX5_needs_1 : decode cX5_needs 1 = .ok (.ifCond .ne 23, 3) := dk_154 0 23 (dk_at dksX5_needs_0 1 rfl rfl)
theorem dX5_needs_4 : decode cX5_needs 4 = .ok (.aload_n 0, 1) := dk_42 (dk_at dksX5_needs_0 4 rfl rfl)
theorem dX5_needs_5 : decode cX5_needs 5 = .ok (.getfield 141, 3) := dk_180 0 141 (dk_at dksX5_needs_0 5 rfl rfl)
theorem dX5_needs_8 : decode cX5_needs 8 = .ok (.ifCond .ne 16, 3) := dk_154 0 16 (dk_at dksX5_needs_0 8 rfl rfl)
theorem dX5_needs_11 : decode cX5_needs 11 = .ok (.aload_n 0, 1) := dk_42 (dk_at dksX5_needs_0 11 rfl rfl)
theorem dX5_needs_12 : decode cX5_needs 12 = .ok (.iload_n 2, 1) := dk_28 (dk_at dksX5_needs_0 12 rfl rfl)
theorem dX5_needs_13 : decode cX5_needs 13 = .ok (.putfield 141, 3) := dk_181 0 141 (dk_at dksX5_needs_0 13 rfl rfl)
theorem dX5_needs_16 : decode cX5_needs 16 = .ok (.aload_n 0, 1) := dk_42 (dk_at dksX5_needs_0 16 rfl rfl)
theorem dX5_needs_17 : decode cX5_needs 17 = .ok (.aload_n 0, 1) := dk_42 (dk_at dksX5_needs_0 17 rfl rfl)
theorem dX5_needs_18 : decode cX5_needs 18 = .ok (.getfield 144, 3) := dk_180 0 144 (dk_at dksX5_needs_0 18 rfl rfl)
theorem dX5_needs_21 : decode cX5_needs 21 = .ok (.putfield 147, 3) := dk_181 0 147 (dk_at dksX5_needs_0 21 rfl rfl)
theorem dX5_needs_24 : decode cX5_needs 24 = .ok (.return_, 1) := dk_177 (dk_at dksX5_needs_1 0 rfl rfl)
abbrev cX5_readLine : ByteArray := prog_14_method_21_code
def yX5_readLine : MethodName := ⟨RX5, "readLine", "()V"⟩
def dkwX5_readLine_13 : List UInt8 := [5, 182, 0, 183, 42, 182, 0, 187, 177]
abbrev dktX5_readLine_13 : List UInt8 := dkwX5_readLine_13 ++ []
def dkwX5_readLine_12 : List UInt8 := [182, 0, 215, 42, 180, 0, 141, 154, 0, 21, 42, 42, 180, 0, 169, 6, 160, 0, 7, 4, 167, 0, 4, 3]
abbrev dktX5_readLine_12 : List UInt8 := dkwX5_readLine_12 ++ dktX5_readLine_13
def dkwX5_readLine_11 : List UInt8 := [180, 0, 34, 42, 180, 0, 102, 28, 79, 42, 89, 180, 0, 102, 4, 96, 181, 0, 102, 167, 0, 8, 42, 27]
abbrev dktX5_readLine_11 : List UInt8 := dkwX5_readLine_11 ++ dktX5_readLine_12
def dkwX5_readLine_10 : List UInt8 := [160, 0, 45, 42, 3, 42, 180, 0, 99, 4, 100, 182, 0, 202, 61, 42, 180, 0, 141, 154, 0, 23, 42]
abbrev dktX5_readLine_10 : List UInt8 := dkwX5_readLine_10 ++ dktX5_readLine_11
def dkwX5_readLine_9 : List UInt8 := [181, 0, 95, 167, 0, 69, 27, 16, 11, 160, 0, 10, 42, 182, 0, 212, 167, 0, 56, 27, 16, 12]
abbrev dktX5_readLine_9 : List UInt8 := dkwX5_readLine_9 ++ dktX5_readLine_10
def dkwX5_readLine_8 : List UInt8 := [180, 0, 141, 154, 0, 23, 42, 180, 0, 25, 42, 180, 0, 95, 28, 79, 42, 89, 180, 0, 95, 4, 96]
abbrev dktX5_readLine_8 : List UInt8 := dkwX5_readLine_8 ++ dktX5_readLine_9
def dkwX5_readLine_7 : List UInt8 := [182, 0, 187, 42, 180, 0, 141, 158, 0, 4, 177, 27, 16, 10, 160, 0, 39, 42, 3, 182, 0, 199, 61, 42]
abbrev dktX5_readLine_7 : List UInt8 := dkwX5_readLine_7 ++ dktX5_readLine_8
def dkwX5_readLine_6 : List UInt8 := [153, 0, 12, 42, 180, 0, 105, 16, 6, 162, 0, 7, 4, 167, 0, 4, 3, 8, 182, 0, 183, 42]
abbrev dktX5_readLine_6 : List UInt8 := dkwX5_readLine_6 ++ dktX5_readLine_7
def dkwX5_readLine_5 : List UInt8 := [162, 0, 7, 4, 167, 0, 4, 3, 8, 182, 0, 183, 42, 27, 133, 9, 20, 0, 206, 184, 0, 137]
abbrev dktX5_readLine_5 : List UInt8 := dkwX5_readLine_5 ++ dktX5_readLine_6
def dkwX5_readLine_4 : List UInt8 := [162, 0, 7, 4, 167, 0, 4, 3, 8, 182, 0, 183, 42, 27, 16, 12, 160, 0, 11, 42, 180, 0, 102, 7]
abbrev dktX5_readLine_4 : List UInt8 := dkwX5_readLine_4 ++ dktX5_readLine_5
def dkwX5_readLine_3 : List UInt8 := [4, 167, 0, 4, 3, 8, 182, 0, 183, 42, 27, 16, 11, 160, 0, 12, 42, 180, 0, 99, 16, 12]
abbrev dktX5_readLine_3 : List UInt8 := dkwX5_readLine_3 ++ dktX5_readLine_4
def dkwX5_readLine_2 : List UInt8 := [167, 0, 4, 3, 5, 182, 0, 183, 42, 27, 16, 10, 160, 0, 12, 42, 180, 0, 95, 16, 8, 162, 0, 7]
abbrev dktX5_readLine_2 : List UInt8 := dkwX5_readLine_2 ++ dktX5_readLine_3
def dkwX5_readLine_1 : List UInt8 := [20, 0, 206, 184, 0, 137, 154, 0, 17, 27, 133, 20, 0, 208, 20, 0, 210, 184, 0, 137, 153, 0, 7, 4]
abbrev dktX5_readLine_1 : List UInt8 := dkwX5_readLine_1 ++ dktX5_readLine_2
def dkwX5_readLine_0 : List UInt8 := [42, 180, 0, 169, 4, 160, 0, 10, 42, 182, 0, 192, 167, 0, 5, 16, 252, 60, 42, 27, 133, 9]
abbrev dktX5_readLine_0 : List UInt8 := dkwX5_readLine_0 ++ dktX5_readLine_1
theorem dksX5_readLine_0 : cX5_readLine.data.toList.drop 0 = dktX5_readLine_0 := by decide +kernel
theorem dksX5_readLine_1 : cX5_readLine.data.toList.drop 22 = dktX5_readLine_1 := dk_seg dksX5_readLine_0 22 rfl rfl
theorem dksX5_readLine_2 : cX5_readLine.data.toList.drop 46 = dktX5_readLine_2 := dk_seg dksX5_readLine_1 24 rfl rfl
theorem dksX5_readLine_3 : cX5_readLine.data.toList.drop 70 = dktX5_readLine_3 := dk_seg dksX5_readLine_2 24 rfl rfl
theorem dksX5_readLine_4 : cX5_readLine.data.toList.drop 92 = dktX5_readLine_4 := dk_seg dksX5_readLine_3 22 rfl rfl
theorem dksX5_readLine_5 : cX5_readLine.data.toList.drop 116 = dktX5_readLine_5 := dk_seg dksX5_readLine_4 24 rfl rfl
theorem dksX5_readLine_6 : cX5_readLine.data.toList.drop 138 = dktX5_readLine_6 := dk_seg dksX5_readLine_5 22 rfl rfl
theorem dksX5_readLine_7 : cX5_readLine.data.toList.drop 160 = dktX5_readLine_7 := dk_seg dksX5_readLine_6 22 rfl rfl
theorem dksX5_readLine_8 : cX5_readLine.data.toList.drop 184 = dktX5_readLine_8 := dk_seg dksX5_readLine_7 24 rfl rfl
theorem dksX5_readLine_9 : cX5_readLine.data.toList.drop 207 = dktX5_readLine_9 := dk_seg dksX5_readLine_8 23 rfl rfl
theorem dksX5_readLine_10 : cX5_readLine.data.toList.drop 229 = dktX5_readLine_10 := dk_seg dksX5_readLine_9 22 rfl rfl
theorem dksX5_readLine_11 : cX5_readLine.data.toList.drop 252 = dktX5_readLine_11 := dk_seg dksX5_readLine_10 23 rfl rfl
theorem dksX5_readLine_12 : cX5_readLine.data.toList.drop 276 = dktX5_readLine_12 := dk_seg dksX5_readLine_11 24 rfl rfl
theorem dksX5_readLine_13 : cX5_readLine.data.toList.drop 300 = dktX5_readLine_13 := dk_seg dksX5_readLine_12 24 rfl rfl
theorem dX5_readLine_0 : decode cX5_readLine 0 = .ok (.aload_n 0, 1) := dk_42 (dk_at dksX5_readLine_0 0 rfl rfl)
theorem dX5_readLine_1 : decode cX5_readLine 1 = .ok (.getfield 169, 3) := dk_180 0 169 (dk_at dksX5_readLine_0 1 rfl rfl)
theorem dX5_readLine_4 : decode cX5_readLine 4 = .ok (.iconst 1, 1) := dk_4 (dk_at dksX5_readLine_0 4 rfl rfl)
theorem dX5_readLine_5 : decode cX5_readLine 5 = .ok (.if_icmp .ne 10, 3) := dk_160 0 10 (dk_at dksX5_readLine_0 5 rfl rfl)
theorem dX5_readLine_8 : decode cX5_readLine 8 = .ok (.aload_n 0, 1) := dk_42 (dk_at dksX5_readLine_0 8 rfl rfl)
theorem dX5_readLine_9 : decode cX5_readLine 9 = .ok (.invokevirtual 192, 3) := dk_182 0 192 (dk_at dksX5_readLine_0 9 rfl rfl)
theorem dX5_readLine_12 : decode cX5_readLine 12 = .ok (.goto 5, 3) := dk_167 0 5 (dk_at dksX5_readLine_0 12 rfl rfl)
theorem dX5_readLine_15 : decode cX5_readLine 15 = .ok (.bipush (-4), 2) := dk_16 252 (dk_at dksX5_readLine_0 15 rfl rfl)
theorem dX5_readLine_17 : decode cX5_readLine 17 = .ok (.istore_n 1, 1) := dk_60 (dk_at dksX5_readLine_0 17 rfl rfl)
theorem dX5_readLine_18 : decode cX5_readLine 18 = .ok (.aload_n 0, 1) := dk_42 (dk_at dksX5_readLine_0 18 rfl rfl)
theorem dX5_readLine_19 : decode cX5_readLine 19 = .ok (.iload_n 1, 1) := dk_27 (dk_at dksX5_readLine_0 19 rfl rfl)
theorem dX5_readLine_20 : decode cX5_readLine 20 = .ok (.i2l, 1) := dk_133 (dk_at dksX5_readLine_0 20 rfl rfl)
theorem dX5_readLine_21 : decode cX5_readLine 21 = .ok (.lconst 0, 1) := dk_9 (dk_at dksX5_readLine_0 21 rfl rfl)
theorem dX5_readLine_22 : decode cX5_readLine 22 = .ok (.ldc2_w 206, 3) := dk_20 0 206 (dk_at dksX5_readLine_1 0 rfl rfl)
theorem dX5_readLine_25 : decode cX5_readLine 25 = .ok (.invokestatic 137, 3) := dk_184 0 137 (dk_at dksX5_readLine_1 3 rfl rfl)
theorem dX5_readLine_28 : decode cX5_readLine 28 = .ok (.ifCond .ne 17, 3) := dk_154 0 17 (dk_at dksX5_readLine_1 6 rfl rfl)
theorem dX5_readLine_31 : decode cX5_readLine 31 = .ok (.iload_n 1, 1) := dk_27 (dk_at dksX5_readLine_1 9 rfl rfl)
theorem dX5_readLine_32 : decode cX5_readLine 32 = .ok (.i2l, 1) := dk_133 (dk_at dksX5_readLine_1 10 rfl rfl)
theorem dX5_readLine_33 : decode cX5_readLine 33 = .ok (.ldc2_w 208, 3) := dk_20 0 208 (dk_at dksX5_readLine_1 11 rfl rfl)
theorem dX5_readLine_36 : decode cX5_readLine 36 = .ok (.ldc2_w 210, 3) := dk_20 0 210 (dk_at dksX5_readLine_1 14 rfl rfl)
theorem dX5_readLine_39 : decode cX5_readLine 39 = .ok (.invokestatic 137, 3) := dk_184 0 137 (dk_at dksX5_readLine_1 17 rfl rfl)
theorem dX5_readLine_42 : decode cX5_readLine 42 = .ok (.ifCond .eq 7, 3) := dk_153 0 7 (dk_at dksX5_readLine_1 20 rfl rfl)
theorem dX5_readLine_45 : decode cX5_readLine 45 = .ok (.iconst 1, 1) := dk_4 (dk_at dksX5_readLine_1 23 rfl rfl)
theorem dX5_readLine_46 : decode cX5_readLine 46 = .ok (.goto 4, 3) := dk_167 0 4 (dk_at dksX5_readLine_2 0 rfl rfl)
theorem dX5_readLine_49 : decode cX5_readLine 49 = .ok (.iconst 0, 1) := dk_3 (dk_at dksX5_readLine_2 3 rfl rfl)
theorem dX5_readLine_50 : decode cX5_readLine 50 = .ok (.iconst 2, 1) := dk_5 (dk_at dksX5_readLine_2 4 rfl rfl)
theorem dX5_readLine_51 : decode cX5_readLine 51 = .ok (.invokevirtual 183, 3) := dk_182 0 183 (dk_at dksX5_readLine_2 5 rfl rfl)
theorem dX5_readLine_54 : decode cX5_readLine 54 = .ok (.aload_n 0, 1) := dk_42 (dk_at dksX5_readLine_2 8 rfl rfl)
theorem dX5_readLine_55 : decode cX5_readLine 55 = .ok (.iload_n 1, 1) := dk_27 (dk_at dksX5_readLine_2 9 rfl rfl)
theorem dX5_readLine_56 : decode cX5_readLine 56 = .ok (.bipush 10, 2) := dk_16 10 (dk_at dksX5_readLine_2 10 rfl rfl)
theorem dX5_readLine_58 : decode cX5_readLine 58 = .ok (.if_icmp .ne 12, 3) := dk_160 0 12 (dk_at dksX5_readLine_2 12 rfl rfl)
theorem dX5_readLine_61 : decode cX5_readLine 61 = .ok (.aload_n 0, 1) := dk_42 (dk_at dksX5_readLine_2 15 rfl rfl)
theorem dX5_readLine_62 : decode cX5_readLine 62 = .ok (.getfield 95, 3) := dk_180 0 95 (dk_at dksX5_readLine_2 16 rfl rfl)
theorem dX5_readLine_65 : decode cX5_readLine 65 = .ok (.bipush 8, 2) := dk_16 8 (dk_at dksX5_readLine_2 19 rfl rfl)
theorem dX5_readLine_67 : decode cX5_readLine 67 = .ok (.if_icmp .ge 7, 3) := dk_162 0 7 (dk_at dksX5_readLine_2 21 rfl rfl)
theorem dX5_readLine_70 : decode cX5_readLine 70 = .ok (.iconst 1, 1) := dk_4 (dk_at dksX5_readLine_3 0 rfl rfl)
theorem dX5_readLine_71 : decode cX5_readLine 71 = .ok (.goto 4, 3) := dk_167 0 4 (dk_at dksX5_readLine_3 1 rfl rfl)
theorem dX5_readLine_74 : decode cX5_readLine 74 = .ok (.iconst 0, 1) := dk_3 (dk_at dksX5_readLine_3 4 rfl rfl)
theorem dX5_readLine_75 : decode cX5_readLine 75 = .ok (.iconst 5, 1) := dk_8 (dk_at dksX5_readLine_3 5 rfl rfl)
theorem dX5_readLine_76 : decode cX5_readLine 76 = .ok (.invokevirtual 183, 3) := dk_182 0 183 (dk_at dksX5_readLine_3 6 rfl rfl)
theorem dX5_readLine_79 : decode cX5_readLine 79 = .ok (.aload_n 0, 1) := dk_42 (dk_at dksX5_readLine_3 9 rfl rfl)
theorem dX5_readLine_80 : decode cX5_readLine 80 = .ok (.iload_n 1, 1) := dk_27 (dk_at dksX5_readLine_3 10 rfl rfl)
theorem dX5_readLine_81 : decode cX5_readLine 81 = .ok (.bipush 11, 2) := dk_16 11 (dk_at dksX5_readLine_3 11 rfl rfl)
theorem dX5_readLine_83 : decode cX5_readLine 83 = .ok (.if_icmp .ne 12, 3) := dk_160 0 12 (dk_at dksX5_readLine_3 13 rfl rfl)
theorem dX5_readLine_86 : decode cX5_readLine 86 = .ok (.aload_n 0, 1) := dk_42 (dk_at dksX5_readLine_3 16 rfl rfl)
theorem dX5_readLine_87 : decode cX5_readLine 87 = .ok (.getfield 99, 3) := dk_180 0 99 (dk_at dksX5_readLine_3 17 rfl rfl)
theorem dX5_readLine_90 : decode cX5_readLine 90 = .ok (.bipush 12, 2) := dk_16 12 (dk_at dksX5_readLine_3 20 rfl rfl)
theorem dX5_readLine_92 : decode cX5_readLine 92 = .ok (.if_icmp .ge 7, 3) := dk_162 0 7 (dk_at dksX5_readLine_4 0 rfl rfl)
theorem dX5_readLine_95 : decode cX5_readLine 95 = .ok (.iconst 1, 1) := dk_4 (dk_at dksX5_readLine_4 3 rfl rfl)
theorem dX5_readLine_96 : decode cX5_readLine 96 = .ok (.goto 4, 3) := dk_167 0 4 (dk_at dksX5_readLine_4 4 rfl rfl)
theorem dX5_readLine_99 : decode cX5_readLine 99 = .ok (.iconst 0, 1) := dk_3 (dk_at dksX5_readLine_4 7 rfl rfl)
theorem dX5_readLine_100 : decode cX5_readLine 100 = .ok (.iconst 5, 1) := dk_8 (dk_at dksX5_readLine_4 8 rfl rfl)
theorem dX5_readLine_101 : decode cX5_readLine 101 = .ok (.invokevirtual 183, 3) := dk_182 0 183 (dk_at dksX5_readLine_4 9 rfl rfl)
theorem dX5_readLine_104 : decode cX5_readLine 104 = .ok (.aload_n 0, 1) := dk_42 (dk_at dksX5_readLine_4 12 rfl rfl)
theorem dX5_readLine_105 : decode cX5_readLine 105 = .ok (.iload_n 1, 1) := dk_27 (dk_at dksX5_readLine_4 13 rfl rfl)
theorem dX5_readLine_106 : decode cX5_readLine 106 = .ok (.bipush 12, 2) := dk_16 12 (dk_at dksX5_readLine_4 14 rfl rfl)
theorem dX5_readLine_108 : decode cX5_readLine 108 = .ok (.if_icmp .ne 11, 3) := dk_160 0 11 (dk_at dksX5_readLine_4 16 rfl rfl)
theorem dX5_readLine_111 : decode cX5_readLine 111 = .ok (.aload_n 0, 1) := dk_42 (dk_at dksX5_readLine_4 19 rfl rfl)
theorem dX5_readLine_112 : decode cX5_readLine 112 = .ok (.getfield 102, 3) := dk_180 0 102 (dk_at dksX5_readLine_4 20 rfl rfl)
theorem dX5_readLine_115 : decode cX5_readLine 115 = .ok (.iconst 4, 1) := dk_7 (dk_at dksX5_readLine_4 23 rfl rfl)
theorem dX5_readLine_116 : decode cX5_readLine 116 = .ok (.if_icmp .ge 7, 3) := dk_162 0 7 (dk_at dksX5_readLine_5 0 rfl rfl)
theorem dX5_readLine_119 : decode cX5_readLine 119 = .ok (.iconst 1, 1) := dk_4 (dk_at dksX5_readLine_5 3 rfl rfl)
theorem dX5_readLine_120 : decode cX5_readLine 120 = .ok (.goto 4, 3) := dk_167 0 4 (dk_at dksX5_readLine_5 4 rfl rfl)
theorem dX5_readLine_123 : decode cX5_readLine 123 = .ok (.iconst 0, 1) := dk_3 (dk_at dksX5_readLine_5 7 rfl rfl)
theorem dX5_readLine_124 : decode cX5_readLine 124 = .ok (.iconst 5, 1) := dk_8 (dk_at dksX5_readLine_5 8 rfl rfl)
theorem dX5_readLine_125 : decode cX5_readLine 125 = .ok (.invokevirtual 183, 3) := dk_182 0 183 (dk_at dksX5_readLine_5 9 rfl rfl)
theorem dX5_readLine_128 : decode cX5_readLine 128 = .ok (.aload_n 0, 1) := dk_42 (dk_at dksX5_readLine_5 12 rfl rfl)
theorem dX5_readLine_129 : decode cX5_readLine 129 = .ok (.iload_n 1, 1) := dk_27 (dk_at dksX5_readLine_5 13 rfl rfl)
theorem dX5_readLine_130 : decode cX5_readLine 130 = .ok (.i2l, 1) := dk_133 (dk_at dksX5_readLine_5 14 rfl rfl)
theorem dX5_readLine_131 : decode cX5_readLine 131 = .ok (.lconst 0, 1) := dk_9 (dk_at dksX5_readLine_5 15 rfl rfl)
theorem dX5_readLine_132 : decode cX5_readLine 132 = .ok (.ldc2_w 206, 3) := dk_20 0 206 (dk_at dksX5_readLine_5 16 rfl rfl)
theorem dX5_readLine_135 : decode cX5_readLine 135 = .ok (.invokestatic 137, 3) := dk_184 0 137 (dk_at dksX5_readLine_5 19 rfl rfl)
theorem dX5_readLine_138 : decode cX5_readLine 138 = .ok (.ifCond .eq 12, 3) := dk_153 0 12 (dk_at dksX5_readLine_6 0 rfl rfl)
theorem dX5_readLine_141 : decode cX5_readLine 141 = .ok (.aload_n 0, 1) := dk_42 (dk_at dksX5_readLine_6 3 rfl rfl)
theorem dX5_readLine_142 : decode cX5_readLine 142 = .ok (.getfield 105, 3) := dk_180 0 105 (dk_at dksX5_readLine_6 4 rfl rfl)
theorem dX5_readLine_145 : decode cX5_readLine 145 = .ok (.bipush 6, 2) := dk_16 6 (dk_at dksX5_readLine_6 7 rfl rfl)
theorem dX5_readLine_147 : decode cX5_readLine 147 = .ok (.if_icmp .ge 7, 3) := dk_162 0 7 (dk_at dksX5_readLine_6 9 rfl rfl)
theorem dX5_readLine_150 : decode cX5_readLine 150 = .ok (.iconst 1, 1) := dk_4 (dk_at dksX5_readLine_6 12 rfl rfl)
theorem dX5_readLine_151 : decode cX5_readLine 151 = .ok (.goto 4, 3) := dk_167 0 4 (dk_at dksX5_readLine_6 13 rfl rfl)
theorem dX5_readLine_154 : decode cX5_readLine 154 = .ok (.iconst 0, 1) := dk_3 (dk_at dksX5_readLine_6 16 rfl rfl)
theorem dX5_readLine_155 : decode cX5_readLine 155 = .ok (.iconst 5, 1) := dk_8 (dk_at dksX5_readLine_6 17 rfl rfl)
theorem dX5_readLine_156 : decode cX5_readLine 156 = .ok (.invokevirtual 183, 3) := dk_182 0 183 (dk_at dksX5_readLine_6 18 rfl rfl)
theorem dX5_readLine_159 : decode cX5_readLine 159 = .ok (.aload_n 0, 1) := dk_42 (dk_at dksX5_readLine_6 21 rfl rfl)
theorem dX5_readLine_160 : decode cX5_readLine 160 = .ok (.invokevirtual 187, 3) := dk_182 0 187 (dk_at dksX5_readLine_7 0 rfl rfl)
theorem dX5_readLine_163 : decode cX5_readLine 163 = .ok (.aload_n 0, 1) := dk_42 (dk_at dksX5_readLine_7 3 rfl rfl)
theorem dX5_readLine_164 : decode cX5_readLine 164 = .ok (.getfield 141, 3) := dk_180 0 141 (dk_at dksX5_readLine_7 4 rfl rfl)
theorem dX5_readLine_167 : decode cX5_readLine 167 = .ok (.ifCond .le 4, 3) := dk_158 0 4 (dk_at dksX5_readLine_7 7 rfl rfl)
theorem dX5_readLine_170 : decode cX5_readLine 170 = .ok (.return_, 1) := dk_177 (dk_at dksX5_readLine_7 10 rfl rfl)
theorem dX5_readLine_171 : decode cX5_readLine 171 = .ok (.iload_n 1, 1) := dk_27 (dk_at dksX5_readLine_7 11 rfl rfl)
theorem dX5_readLine_172 : decode cX5_readLine 172 = .ok (.bipush 10, 2) := dk_16 10 (dk_at dksX5_readLine_7 12 rfl rfl)
theorem dX5_readLine_174 : decode cX5_readLine 174 = .ok (.if_icmp .ne 39, 3) := dk_160 0 39 (dk_at dksX5_readLine_7 14 rfl rfl)
theorem dX5_readLine_177 : decode cX5_readLine 177 = .ok (.aload_n 0, 1) := dk_42 (dk_at dksX5_readLine_7 17 rfl rfl)
theorem dX5_readLine_178 : decode cX5_readLine 178 = .ok (.iconst 0, 1) := dk_3 (dk_at dksX5_readLine_7 18 rfl rfl)
theorem dX5_readLine_179 : decode cX5_readLine 179 = .ok (.invokevirtual 199, 3) := dk_182 0 199 (dk_at dksX5_readLine_7 19 rfl rfl)
theorem dX5_readLine_182 : decode cX5_readLine 182 = .ok (.istore_n 2, 1) := dk_61 (dk_at dksX5_readLine_7 22 rfl rfl)
theorem dX5_readLine_183 : decode cX5_readLine 183 = .ok (.aload_n 0, 1) := dk_42 (dk_at dksX5_readLine_7 23 rfl rfl)
theorem dX5_readLine_184 : decode cX5_readLine 184 = .ok (.getfield 141, 3) := dk_180 0 141 (dk_at dksX5_readLine_8 0 rfl rfl)
theorem dX5_readLine_187 : decode cX5_readLine 187 = .ok (.ifCond .ne 23, 3) := dk_154 0 23 (dk_at dksX5_readLine_8 3 rfl rfl)
theorem dX5_readLine_190 : decode cX5_readLine 190 = .ok (.aload_n 0, 1) := dk_42 (dk_at dksX5_readLine_8 6 rfl rfl)
theorem dX5_readLine_191 : decode cX5_readLine 191 = .ok (.getfield 25, 3) := dk_180 0 25 (dk_at dksX5_readLine_8 7 rfl rfl)
theorem dX5_readLine_194 : decode cX5_readLine 194 = .ok (.aload_n 0, 1) := dk_42 (dk_at dksX5_readLine_8 10 rfl rfl)
theorem dX5_readLine_195 : decode cX5_readLine 195 = .ok (.getfield 95, 3) := dk_180 0 95 (dk_at dksX5_readLine_8 11 rfl rfl)
theorem dX5_readLine_198 : decode cX5_readLine 198 = .ok (.iload_n 2, 1) := dk_28 (dk_at dksX5_readLine_8 14 rfl rfl)
theorem dX5_readLine_199 : decode cX5_readLine 199 = .ok (.iastore, 1) := dk_79 (dk_at dksX5_readLine_8 15 rfl rfl)
theorem dX5_readLine_200 : decode cX5_readLine 200 = .ok (.aload_n 0, 1) := dk_42 (dk_at dksX5_readLine_8 16 rfl rfl)
theorem dX5_readLine_201 : decode cX5_readLine 201 = .ok (.dup, 1) := dk_89 (dk_at dksX5_readLine_8 17 rfl rfl)
theorem dX5_readLine_202 : decode cX5_readLine 202 = .ok (.getfield 95, 3) := dk_180 0 95 (dk_at dksX5_readLine_8 18 rfl rfl)
theorem dX5_readLine_205 : decode cX5_readLine 205 = .ok (.iconst 1, 1) := dk_4 (dk_at dksX5_readLine_8 21 rfl rfl)
theorem dX5_readLine_206 : decode cX5_readLine 206 = .ok (.iadd, 1) := dk_96 (dk_at dksX5_readLine_8 22 rfl rfl)
theorem dX5_readLine_207 : decode cX5_readLine 207 = .ok (.putfield 95, 3) := dk_181 0 95 (dk_at dksX5_readLine_9 0 rfl rfl)
theorem dX5_readLine_210 : decode cX5_readLine 210 = .ok (.goto 69, 3) := dk_167 0 69 (dk_at dksX5_readLine_9 3 rfl rfl)
theorem dX5_readLine_213 : decode cX5_readLine 213 = .ok (.iload_n 1, 1) := dk_27 (dk_at dksX5_readLine_9 6 rfl rfl)
theorem dX5_readLine_214 : decode cX5_readLine 214 = .ok (.bipush 11, 2) := dk_16 11 (dk_at dksX5_readLine_9 7 rfl rfl)
theorem dX5_readLine_216 : decode cX5_readLine 216 = .ok (.if_icmp .ne 10, 3) := dk_160 0 10 (dk_at dksX5_readLine_9 9 rfl rfl)
theorem dX5_readLine_219 : decode cX5_readLine 219 = .ok (.aload_n 0, 1) := dk_42 (dk_at dksX5_readLine_9 12 rfl rfl)
theorem dX5_readLine_220 : decode cX5_readLine 220 = .ok (.invokevirtual 212, 3) := dk_182 0 212 (dk_at dksX5_readLine_9 13 rfl rfl)
theorem dX5_readLine_223 : decode cX5_readLine 223 = .ok (.goto 56, 3) := dk_167 0 56 (dk_at dksX5_readLine_9 16 rfl rfl)
theorem dX5_readLine_226 : decode cX5_readLine 226 = .ok (.iload_n 1, 1) := dk_27 (dk_at dksX5_readLine_9 19 rfl rfl)
theorem dX5_readLine_227 : decode cX5_readLine 227 = .ok (.bipush 12, 2) := dk_16 12 (dk_at dksX5_readLine_9 20 rfl rfl)
theorem dX5_readLine_229 : decode cX5_readLine 229 = .ok (.if_icmp .ne 45, 3) := dk_160 0 45 (dk_at dksX5_readLine_10 0 rfl rfl)
theorem dX5_readLine_232 : decode cX5_readLine 232 = .ok (.aload_n 0, 1) := dk_42 (dk_at dksX5_readLine_10 3 rfl rfl)
theorem dX5_readLine_233 : decode cX5_readLine 233 = .ok (.iconst 0, 1) := dk_3 (dk_at dksX5_readLine_10 4 rfl rfl)
theorem dX5_readLine_234 : decode cX5_readLine 234 = .ok (.aload_n 0, 1) := dk_42 (dk_at dksX5_readLine_10 5 rfl rfl)
theorem dX5_readLine_235 : decode cX5_readLine 235 = .ok (.getfield 99, 3) := dk_180 0 99 (dk_at dksX5_readLine_10 6 rfl rfl)
theorem dX5_readLine_238 : decode cX5_readLine 238 = .ok (.iconst 1, 1) := dk_4 (dk_at dksX5_readLine_10 9 rfl rfl)
theorem dX5_readLine_239 : decode cX5_readLine 239 = .ok (.isub, 1) := dk_100 (dk_at dksX5_readLine_10 10 rfl rfl)
theorem dX5_readLine_240 : decode cX5_readLine 240 = .ok (.invokevirtual 202, 3) := dk_182 0 202 (dk_at dksX5_readLine_10 11 rfl rfl)
theorem dX5_readLine_243 : decode cX5_readLine 243 = .ok (.istore_n 2, 1) := dk_61 (dk_at dksX5_readLine_10 14 rfl rfl)
theorem dX5_readLine_244 : decode cX5_readLine 244 = .ok (.aload_n 0, 1) := dk_42 (dk_at dksX5_readLine_10 15 rfl rfl)
theorem dX5_readLine_245 : decode cX5_readLine 245 = .ok (.getfield 141, 3) := dk_180 0 141 (dk_at dksX5_readLine_10 16 rfl rfl)
theorem dX5_readLine_248 : decode cX5_readLine 248 = .ok (.ifCond .ne 23, 3) := dk_154 0 23 (dk_at dksX5_readLine_10 19 rfl rfl)
theorem dX5_readLine_251 : decode cX5_readLine 251 = .ok (.aload_n 0, 1) := dk_42 (dk_at dksX5_readLine_10 22 rfl rfl)
theorem dX5_readLine_252 : decode cX5_readLine 252 = .ok (.getfield 34, 3) := dk_180 0 34 (dk_at dksX5_readLine_11 0 rfl rfl)
theorem dX5_readLine_255 : decode cX5_readLine 255 = .ok (.aload_n 0, 1) := dk_42 (dk_at dksX5_readLine_11 3 rfl rfl)
theorem dX5_readLine_256 : decode cX5_readLine 256 = .ok (.getfield 102, 3) := dk_180 0 102 (dk_at dksX5_readLine_11 4 rfl rfl)
theorem dX5_readLine_259 : decode cX5_readLine 259 = .ok (.iload_n 2, 1) := dk_28 (dk_at dksX5_readLine_11 7 rfl rfl)
theorem dX5_readLine_260 : decode cX5_readLine 260 = .ok (.iastore, 1) := dk_79 (dk_at dksX5_readLine_11 8 rfl rfl)
theorem dX5_readLine_261 : decode cX5_readLine 261 = .ok (.aload_n 0, 1) := dk_42 (dk_at dksX5_readLine_11 9 rfl rfl)
theorem dX5_readLine_262 : decode cX5_readLine 262 = .ok (.dup, 1) := dk_89 (dk_at dksX5_readLine_11 10 rfl rfl)
theorem dX5_readLine_263 : decode cX5_readLine 263 = .ok (.getfield 102, 3) := dk_180 0 102 (dk_at dksX5_readLine_11 11 rfl rfl)
theorem dX5_readLine_266 : decode cX5_readLine 266 = .ok (.iconst 1, 1) := dk_4 (dk_at dksX5_readLine_11 14 rfl rfl)
theorem dX5_readLine_267 : decode cX5_readLine 267 = .ok (.iadd, 1) := dk_96 (dk_at dksX5_readLine_11 15 rfl rfl)
theorem dX5_readLine_268 : decode cX5_readLine 268 = .ok (.putfield 102, 3) := dk_181 0 102 (dk_at dksX5_readLine_11 16 rfl rfl)
theorem dX5_readLine_271 : decode cX5_readLine 271 = .ok (.goto 8, 3) := dk_167 0 8 (dk_at dksX5_readLine_11 19 rfl rfl)
theorem dX5_readLine_274 : decode cX5_readLine 274 = .ok (.aload_n 0, 1) := dk_42 (dk_at dksX5_readLine_11 22 rfl rfl)
theorem dX5_readLine_275 : decode cX5_readLine 275 = .ok (.iload_n 1, 1) := dk_27 (dk_at dksX5_readLine_11 23 rfl rfl)
theorem dX5_readLine_276 : decode cX5_readLine 276 = .ok (.invokevirtual 215, 3) := dk_182 0 215 (dk_at dksX5_readLine_12 0 rfl rfl)
theorem dX5_readLine_279 : decode cX5_readLine 279 = .ok (.aload_n 0, 1) := dk_42 (dk_at dksX5_readLine_12 3 rfl rfl)
theorem dX5_readLine_280 : decode cX5_readLine 280 = .ok (.getfield 141, 3) := dk_180 0 141 (dk_at dksX5_readLine_12 4 rfl rfl)
theorem dX5_readLine_283 : decode cX5_readLine 283 = .ok (.ifCond .ne 21, 3) := dk_154 0 21 (dk_at dksX5_readLine_12 7 rfl rfl)
theorem dX5_readLine_286 : decode cX5_readLine 286 = .ok (.aload_n 0, 1) := dk_42 (dk_at dksX5_readLine_12 10 rfl rfl)
theorem dX5_readLine_287 : decode cX5_readLine 287 = .ok (.aload_n 0, 1) := dk_42 (dk_at dksX5_readLine_12 11 rfl rfl)
theorem dX5_readLine_288 : decode cX5_readLine 288 = .ok (.getfield 169, 3) := dk_180 0 169 (dk_at dksX5_readLine_12 12 rfl rfl)
theorem dX5_readLine_291 : decode cX5_readLine 291 = .ok (.iconst 3, 1) := dk_6 (dk_at dksX5_readLine_12 15 rfl rfl)
theorem dX5_readLine_292 : decode cX5_readLine 292 = .ok (.if_icmp .ne 7, 3) := dk_160 0 7 (dk_at dksX5_readLine_12 16 rfl rfl)
theorem dX5_readLine_295 : decode cX5_readLine 295 = .ok (.iconst 1, 1) := dk_4 (dk_at dksX5_readLine_12 19 rfl rfl)
theorem dX5_readLine_296 : decode cX5_readLine 296 = .ok (.goto 4, 3) := dk_167 0 4 (dk_at dksX5_readLine_12 20 rfl rfl)
theorem dX5_readLine_299 : decode cX5_readLine 299 = .ok (.iconst 0, 1) := dk_3 (dk_at dksX5_readLine_12 23 rfl rfl)
theorem dX5_readLine_300 : decode cX5_readLine 300 = .ok (.iconst 2, 1) := dk_5 (dk_at dksX5_readLine_13 0 rfl rfl)
theorem dX5_readLine_301 : decode cX5_readLine 301 = .ok (.invokevirtual 183, 3) := dk_182 0 183 (dk_at dksX5_readLine_13 1 rfl rfl)
theorem dX5_readLine_304 : decode cX5_readLine 304 = .ok (.aload_n 0, 1) := dk_42 (dk_at dksX5_readLine_13 4 rfl rfl)
theorem dX5_readLine_305 : decode cX5_readLine 305 = .ok (.invokevirtual 187, 3) := dk_182 0 187 (dk_at dksX5_readLine_13 5 rfl rfl)
theorem dX5_readLine_308 : decode cX5_readLine 308 = .ok (.return_, 1) := dk_177 (dk_at dksX5_readLine_13 8 rfl rfl)
abbrev cX5_nameNow : ByteArray := prog_14_method_15_code
def yX5_nameNow : MethodName := ⟨RX5, "nameNow", "()I"⟩
def dkwX5_nameNow_9 : List UInt8 := [182, 0, 161, 153, 0, 8, 16, 17, 167, 0, 5, 16, 252, 172]
abbrev dktX5_nameNow_9 : List UInt8 := dkwX5_nameNow_9 ++ []
def dkwX5_nameNow_8 : List UInt8 := [172, 42, 16, 6, 16, 99, 16, 104, 16, 97, 16, 110, 182, 0, 157, 153, 0, 20, 42, 16, 99, 16, 101, 3]
abbrev dktX5_nameNow_8 : List UInt8 := dkwX5_nameNow_8 ++ dktX5_nameNow_9
def dkwX5_nameNow_7 : List UInt8 := [16, 108, 16, 105, 182, 0, 157, 153, 0, 18, 42, 16, 107, 16, 101, 3, 182, 0, 161, 153, 0, 6, 16, 16]
abbrev dktX5_nameNow_7 : List UInt8 := dkwX5_nameNow_7 ++ dktX5_nameNow_8
def dkwX5_nameNow_6 : List UInt8 := [153, 0, 17, 42, 16, 115, 3, 3, 182, 0, 161, 153, 0, 6, 16, 15, 172, 42, 16, 6, 16, 117, 16, 110]
abbrev dktX5_nameNow_6 : List UInt8 := dkwX5_nameNow_6 ++ dktX5_nameNow_7
def dkwX5_nameNow_5 : List UInt8 := [16, 115, 182, 0, 157, 153, 0, 6, 16, 14, 172, 42, 8, 16, 102, 16, 101, 16, 97, 16, 114, 182, 0, 157]
abbrev dktX5_nameNow_5 : List UInt8 := dkwX5_nameNow_5 ++ dktX5_nameNow_6
def dkwX5_nameNow_4 : List UInt8 := [16, 110, 16, 111, 16, 116, 3, 182, 0, 157, 153, 0, 6, 16, 13, 172, 42, 7, 16, 115, 16, 101, 16, 101]
abbrev dktX5_nameNow_4 : List UInt8 := dkwX5_nameNow_4 ++ dktX5_nameNow_5
def dkwX5_nameNow_3 : List UInt8 := [16, 11, 172, 42, 7, 16, 119, 16, 111, 16, 114, 16, 100, 182, 0, 157, 153, 0, 6, 16, 12, 172, 42, 6]
abbrev dktX5_nameNow_3 : List UInt8 := dkwX5_nameNow_3 ++ dktX5_nameNow_4
def dkwX5_nameNow_2 : List UInt8 := [16, 101, 16, 97, 16, 110, 182, 0, 157, 153, 0, 17, 42, 16, 115, 3, 3, 182, 0, 161, 153, 0, 6]
abbrev dktX5_nameNow_2 : List UInt8 := dkwX5_nameNow_2 ++ dktX5_nameNow_3
def dkwX5_nameNow_1 : List UInt8 := [182, 0, 157, 153, 0, 17, 42, 16, 103, 3, 3, 182, 0, 161, 153, 0, 6, 16, 10, 172, 42, 8, 16, 109]
abbrev dktX5_nameNow_1 : List UInt8 := dkwX5_nameNow_1 ++ dktX5_nameNow_2
def dkwX5_nameNow_0 : List UInt8 := [42, 182, 0, 165, 16, 252, 159, 0, 8, 42, 182, 0, 165, 172, 42, 8, 16, 116, 16, 104, 16, 105, 16, 110]
abbrev dktX5_nameNow_0 : List UInt8 := dkwX5_nameNow_0 ++ dktX5_nameNow_1
theorem dksX5_nameNow_0 : cX5_nameNow.data.toList.drop 0 = dktX5_nameNow_0 := by decide +kernel
theorem dksX5_nameNow_1 : cX5_nameNow.data.toList.drop 24 = dktX5_nameNow_1 := dk_seg dksX5_nameNow_0 24 rfl rfl
theorem dksX5_nameNow_2 : cX5_nameNow.data.toList.drop 48 = dktX5_nameNow_2 := dk_seg dksX5_nameNow_1 24 rfl rfl
theorem dksX5_nameNow_3 : cX5_nameNow.data.toList.drop 71 = dktX5_nameNow_3 := dk_seg dksX5_nameNow_2 23 rfl rfl
theorem dksX5_nameNow_4 : cX5_nameNow.data.toList.drop 95 = dktX5_nameNow_4 := dk_seg dksX5_nameNow_3 24 rfl rfl
theorem dksX5_nameNow_5 : cX5_nameNow.data.toList.drop 119 = dktX5_nameNow_5 := dk_seg dksX5_nameNow_4 24 rfl rfl
theorem dksX5_nameNow_6 : cX5_nameNow.data.toList.drop 143 = dktX5_nameNow_6 := dk_seg dksX5_nameNow_5 24 rfl rfl
theorem dksX5_nameNow_7 : cX5_nameNow.data.toList.drop 167 = dktX5_nameNow_7 := dk_seg dksX5_nameNow_6 24 rfl rfl
theorem dksX5_nameNow_8 : cX5_nameNow.data.toList.drop 191 = dktX5_nameNow_8 := dk_seg dksX5_nameNow_7 24 rfl rfl
theorem dksX5_nameNow_9 : cX5_nameNow.data.toList.drop 215 = dktX5_nameNow_9 := dk_seg dksX5_nameNow_8 24 rfl rfl
theorem dX5_nameNow_0 : decode cX5_nameNow 0 = .ok (.aload_n 0, 1) := dk_42 (dk_at dksX5_nameNow_0 0 rfl rfl)
theorem dX5_nameNow_1 : decode cX5_nameNow 1 = .ok (.invokevirtual 165, 3) := dk_182 0 165 (dk_at dksX5_nameNow_0 1 rfl rfl)
theorem dX5_nameNow_4 : decode cX5_nameNow 4 = .ok (.bipush (-4), 2) := dk_16 252 (dk_at dksX5_nameNow_0 4 rfl rfl)
theorem dX5_nameNow_6 : decode cX5_nameNow 6 = .ok (.if_icmp .eq 8, 3) := dk_159 0 8 (dk_at dksX5_nameNow_0 6 rfl rfl)
theorem dX5_nameNow_9 : decode cX5_nameNow 9 = .ok (.aload_n 0, 1) := dk_42 (dk_at dksX5_nameNow_0 9 rfl rfl)
theorem dX5_nameNow_10 : decode cX5_nameNow 10 = .ok (.invokevirtual 165, 3) := dk_182 0 165 (dk_at dksX5_nameNow_0 10 rfl rfl)
theorem dX5_nameNow_13 : decode cX5_nameNow 13 = .ok (.ireturn, 1) := dk_172 (dk_at dksX5_nameNow_0 13 rfl rfl)
theorem dX5_nameNow_14 : decode cX5_nameNow 14 = .ok (.aload_n 0, 1) := dk_42 (dk_at dksX5_nameNow_0 14 rfl rfl)
theorem dX5_nameNow_15 : decode cX5_nameNow 15 = .ok (.iconst 5, 1) := dk_8 (dk_at dksX5_nameNow_0 15 rfl rfl)
theorem dX5_nameNow_16 : decode cX5_nameNow 16 = .ok (.bipush 116, 2) := dk_16 116 (dk_at dksX5_nameNow_0 16 rfl rfl)
theorem dX5_nameNow_18 : decode cX5_nameNow 18 = .ok (.bipush 104, 2) := dk_16 104 (dk_at dksX5_nameNow_0 18 rfl rfl)
theorem dX5_nameNow_20 : decode cX5_nameNow 20 = .ok (.bipush 105, 2) := dk_16 105 (dk_at dksX5_nameNow_0 20 rfl rfl)
theorem dX5_nameNow_22 : decode cX5_nameNow 22 = .ok (.bipush 110, 2) := dk_16 110 (dk_at dksX5_nameNow_0 22 rfl rfl)
theorem dX5_nameNow_24 : decode cX5_nameNow 24 = .ok (.invokevirtual 157, 3) := dk_182 0 157 (dk_at dksX5_nameNow_1 0 rfl rfl)
theorem dX5_nameNow_27 : decode cX5_nameNow 27 = .ok (.ifCond .eq 17, 3) := dk_153 0 17 (dk_at dksX5_nameNow_1 3 rfl rfl)
theorem dX5_nameNow_30 : decode cX5_nameNow 30 = .ok (.aload_n 0, 1) := dk_42 (dk_at dksX5_nameNow_1 6 rfl rfl)
theorem dX5_nameNow_31 : decode cX5_nameNow 31 = .ok (.bipush 103, 2) := dk_16 103 (dk_at dksX5_nameNow_1 7 rfl rfl)
theorem dX5_nameNow_33 : decode cX5_nameNow 33 = .ok (.iconst 0, 1) := dk_3 (dk_at dksX5_nameNow_1 9 rfl rfl)
theorem dX5_nameNow_34 : decode cX5_nameNow 34 = .ok (.iconst 0, 1) := dk_3 (dk_at dksX5_nameNow_1 10 rfl rfl)
theorem dX5_nameNow_35 : decode cX5_nameNow 35 = .ok (.invokevirtual 161, 3) := dk_182 0 161 (dk_at dksX5_nameNow_1 11 rfl rfl)
theorem dX5_nameNow_38 : decode cX5_nameNow 38 = .ok (.ifCond .eq 6, 3) := dk_153 0 6 (dk_at dksX5_nameNow_1 14 rfl rfl)
theorem dX5_nameNow_41 : decode cX5_nameNow 41 = .ok (.bipush 10, 2) := dk_16 10 (dk_at dksX5_nameNow_1 17 rfl rfl)
theorem dX5_nameNow_43 : decode cX5_nameNow 43 = .ok (.ireturn, 1) := dk_172 (dk_at dksX5_nameNow_1 19 rfl rfl)
theorem dX5_nameNow_44 : decode cX5_nameNow 44 = .ok (.aload_n 0, 1) := dk_42 (dk_at dksX5_nameNow_1 20 rfl rfl)
theorem dX5_nameNow_45 : decode cX5_nameNow 45 = .ok (.iconst 5, 1) := dk_8 (dk_at dksX5_nameNow_1 21 rfl rfl)
theorem dX5_nameNow_46 : decode cX5_nameNow 46 = .ok (.bipush 109, 2) := dk_16 109 (dk_at dksX5_nameNow_1 22 rfl rfl)
theorem dX5_nameNow_48 : decode cX5_nameNow 48 = .ok (.bipush 101, 2) := dk_16 101 (dk_at dksX5_nameNow_2 0 rfl rfl)
theorem dX5_nameNow_50 : decode cX5_nameNow 50 = .ok (.bipush 97, 2) := dk_16 97 (dk_at dksX5_nameNow_2 2 rfl rfl)
theorem dX5_nameNow_52 : decode cX5_nameNow 52 = .ok (.bipush 110, 2) := dk_16 110 (dk_at dksX5_nameNow_2 4 rfl rfl)
theorem dX5_nameNow_54 : decode cX5_nameNow 54 = .ok (.invokevirtual 157, 3) := dk_182 0 157 (dk_at dksX5_nameNow_2 6 rfl rfl)
theorem dX5_nameNow_57 : decode cX5_nameNow 57 = .ok (.ifCond .eq 17, 3) := dk_153 0 17 (dk_at dksX5_nameNow_2 9 rfl rfl)
theorem dX5_nameNow_60 : decode cX5_nameNow 60 = .ok (.aload_n 0, 1) := dk_42 (dk_at dksX5_nameNow_2 12 rfl rfl)
theorem dX5_nameNow_61 : decode cX5_nameNow 61 = .ok (.bipush 115, 2) := dk_16 115 (dk_at dksX5_nameNow_2 13 rfl rfl)
theorem dX5_nameNow_63 : decode cX5_nameNow 63 = .ok (.iconst 0, 1) := dk_3 (dk_at dksX5_nameNow_2 15 rfl rfl)
theorem dX5_nameNow_64 : decode cX5_nameNow 64 = .ok (.iconst 0, 1) := dk_3 (dk_at dksX5_nameNow_2 16 rfl rfl)
theorem dX5_nameNow_65 : decode cX5_nameNow 65 = .ok (.invokevirtual 161, 3) := dk_182 0 161 (dk_at dksX5_nameNow_2 17 rfl rfl)
theorem dX5_nameNow_68 : decode cX5_nameNow 68 = .ok (.ifCond .eq 6, 3) := dk_153 0 6 (dk_at dksX5_nameNow_2 20 rfl rfl)
theorem dX5_nameNow_71 : decode cX5_nameNow 71 = .ok (.bipush 11, 2) := dk_16 11 (dk_at dksX5_nameNow_3 0 rfl rfl)
theorem dX5_nameNow_73 : decode cX5_nameNow 73 = .ok (.ireturn, 1) := dk_172 (dk_at dksX5_nameNow_3 2 rfl rfl)
theorem dX5_nameNow_74 : decode cX5_nameNow 74 = .ok (.aload_n 0, 1) := dk_42 (dk_at dksX5_nameNow_3 3 rfl rfl)
theorem dX5_nameNow_75 : decode cX5_nameNow 75 = .ok (.iconst 4, 1) := dk_7 (dk_at dksX5_nameNow_3 4 rfl rfl)
theorem dX5_nameNow_76 : decode cX5_nameNow 76 = .ok (.bipush 119, 2) := dk_16 119 (dk_at dksX5_nameNow_3 5 rfl rfl)
theorem dX5_nameNow_78 : decode cX5_nameNow 78 = .ok (.bipush 111, 2) := dk_16 111 (dk_at dksX5_nameNow_3 7 rfl rfl)
theorem dX5_nameNow_80 : decode cX5_nameNow 80 = .ok (.bipush 114, 2) := dk_16 114 (dk_at dksX5_nameNow_3 9 rfl rfl)
theorem dX5_nameNow_82 : decode cX5_nameNow 82 = .ok (.bipush 100, 2) := dk_16 100 (dk_at dksX5_nameNow_3 11 rfl rfl)
theorem dX5_nameNow_84 : decode cX5_nameNow 84 = .ok (.invokevirtual 157, 3) := dk_182 0 157 (dk_at dksX5_nameNow_3 13 rfl rfl)
theorem dX5_nameNow_87 : decode cX5_nameNow 87 = .ok (.ifCond .eq 6, 3) := dk_153 0 6 (dk_at dksX5_nameNow_3 16 rfl rfl)
theorem dX5_nameNow_90 : decode cX5_nameNow 90 = .ok (.bipush 12, 2) := dk_16 12 (dk_at dksX5_nameNow_3 19 rfl rfl)
theorem dX5_nameNow_92 : decode cX5_nameNow 92 = .ok (.ireturn, 1) := dk_172 (dk_at dksX5_nameNow_3 21 rfl rfl)
theorem dX5_nameNow_93 : decode cX5_nameNow 93 = .ok (.aload_n 0, 1) := dk_42 (dk_at dksX5_nameNow_3 22 rfl rfl)
theorem dX5_nameNow_94 : decode cX5_nameNow 94 = .ok (.iconst 3, 1) := dk_6 (dk_at dksX5_nameNow_3 23 rfl rfl)
theorem dX5_nameNow_95 : decode cX5_nameNow 95 = .ok (.bipush 110, 2) := dk_16 110 (dk_at dksX5_nameNow_4 0 rfl rfl)
theorem dX5_nameNow_97 : decode cX5_nameNow 97 = .ok (.bipush 111, 2) := dk_16 111 (dk_at dksX5_nameNow_4 2 rfl rfl)
theorem dX5_nameNow_99 : decode cX5_nameNow 99 = .ok (.bipush 116, 2) := dk_16 116 (dk_at dksX5_nameNow_4 4 rfl rfl)
theorem dX5_nameNow_101 : decode cX5_nameNow 101 = .ok (.iconst 0, 1) := dk_3 (dk_at dksX5_nameNow_4 6 rfl rfl)
theorem dX5_nameNow_102 : decode cX5_nameNow 102 = .ok (.invokevirtual 157, 3) := dk_182 0 157 (dk_at dksX5_nameNow_4 7 rfl rfl)
theorem dX5_nameNow_105 : decode cX5_nameNow 105 = .ok (.ifCond .eq 6, 3) := dk_153 0 6 (dk_at dksX5_nameNow_4 10 rfl rfl)
theorem dX5_nameNow_108 : decode cX5_nameNow 108 = .ok (.bipush 13, 2) := dk_16 13 (dk_at dksX5_nameNow_4 13 rfl rfl)
theorem dX5_nameNow_110 : decode cX5_nameNow 110 = .ok (.ireturn, 1) := dk_172 (dk_at dksX5_nameNow_4 15 rfl rfl)
theorem dX5_nameNow_111 : decode cX5_nameNow 111 = .ok (.aload_n 0, 1) := dk_42 (dk_at dksX5_nameNow_4 16 rfl rfl)
theorem dX5_nameNow_112 : decode cX5_nameNow 112 = .ok (.iconst 4, 1) := dk_7 (dk_at dksX5_nameNow_4 17 rfl rfl)
theorem dX5_nameNow_113 : decode cX5_nameNow 113 = .ok (.bipush 115, 2) := dk_16 115 (dk_at dksX5_nameNow_4 18 rfl rfl)
theorem dX5_nameNow_115 : decode cX5_nameNow 115 = .ok (.bipush 101, 2) := dk_16 101 (dk_at dksX5_nameNow_4 20 rfl rfl)
theorem dX5_nameNow_117 : decode cX5_nameNow 117 = .ok (.bipush 101, 2) := dk_16 101 (dk_at dksX5_nameNow_4 22 rfl rfl)
theorem dX5_nameNow_119 : decode cX5_nameNow 119 = .ok (.bipush 115, 2) := dk_16 115 (dk_at dksX5_nameNow_5 0 rfl rfl)
theorem dX5_nameNow_121 : decode cX5_nameNow 121 = .ok (.invokevirtual 157, 3) := dk_182 0 157 (dk_at dksX5_nameNow_5 2 rfl rfl)
theorem dX5_nameNow_124 : decode cX5_nameNow 124 = .ok (.ifCond .eq 6, 3) := dk_153 0 6 (dk_at dksX5_nameNow_5 5 rfl rfl)
theorem dX5_nameNow_127 : decode cX5_nameNow 127 = .ok (.bipush 14, 2) := dk_16 14 (dk_at dksX5_nameNow_5 8 rfl rfl)
theorem dX5_nameNow_129 : decode cX5_nameNow 129 = .ok (.ireturn, 1) := dk_172 (dk_at dksX5_nameNow_5 10 rfl rfl)
theorem dX5_nameNow_130 : decode cX5_nameNow 130 = .ok (.aload_n 0, 1) := dk_42 (dk_at dksX5_nameNow_5 11 rfl rfl)
theorem dX5_nameNow_131 : decode cX5_nameNow 131 = .ok (.iconst 5, 1) := dk_8 (dk_at dksX5_nameNow_5 12 rfl rfl)
theorem dX5_nameNow_132 : decode cX5_nameNow 132 = .ok (.bipush 102, 2) := dk_16 102 (dk_at dksX5_nameNow_5 13 rfl rfl)
theorem dX5_nameNow_134 : decode cX5_nameNow 134 = .ok (.bipush 101, 2) := dk_16 101 (dk_at dksX5_nameNow_5 15 rfl rfl)
theorem dX5_nameNow_136 : decode cX5_nameNow 136 = .ok (.bipush 97, 2) := dk_16 97 (dk_at dksX5_nameNow_5 17 rfl rfl)
theorem dX5_nameNow_138 : decode cX5_nameNow 138 = .ok (.bipush 114, 2) := dk_16 114 (dk_at dksX5_nameNow_5 19 rfl rfl)
theorem dX5_nameNow_140 : decode cX5_nameNow 140 = .ok (.invokevirtual 157, 3) := dk_182 0 157 (dk_at dksX5_nameNow_5 21 rfl rfl)
theorem dX5_nameNow_143 : decode cX5_nameNow 143 = .ok (.ifCond .eq 17, 3) := dk_153 0 17 (dk_at dksX5_nameNow_6 0 rfl rfl)
theorem dX5_nameNow_146 : decode cX5_nameNow 146 = .ok (.aload_n 0, 1) := dk_42 (dk_at dksX5_nameNow_6 3 rfl rfl)
theorem dX5_nameNow_147 : decode cX5_nameNow 147 = .ok (.bipush 115, 2) := dk_16 115 (dk_at dksX5_nameNow_6 4 rfl rfl)
theorem dX5_nameNow_149 : decode cX5_nameNow 149 = .ok (.iconst 0, 1) := dk_3 (dk_at dksX5_nameNow_6 6 rfl rfl)
theorem dX5_nameNow_150 : decode cX5_nameNow 150 = .ok (.iconst 0, 1) := dk_3 (dk_at dksX5_nameNow_6 7 rfl rfl)
theorem dX5_nameNow_151 : decode cX5_nameNow 151 = .ok (.invokevirtual 161, 3) := dk_182 0 161 (dk_at dksX5_nameNow_6 8 rfl rfl)
theorem dX5_nameNow_154 : decode cX5_nameNow 154 = .ok (.ifCond .eq 6, 3) := dk_153 0 6 (dk_at dksX5_nameNow_6 11 rfl rfl)
theorem dX5_nameNow_157 : decode cX5_nameNow 157 = .ok (.bipush 15, 2) := dk_16 15 (dk_at dksX5_nameNow_6 14 rfl rfl)
theorem dX5_nameNow_159 : decode cX5_nameNow 159 = .ok (.ireturn, 1) := dk_172 (dk_at dksX5_nameNow_6 16 rfl rfl)
theorem dX5_nameNow_160 : decode cX5_nameNow 160 = .ok (.aload_n 0, 1) := dk_42 (dk_at dksX5_nameNow_6 17 rfl rfl)
theorem dX5_nameNow_161 : decode cX5_nameNow 161 = .ok (.bipush 6, 2) := dk_16 6 (dk_at dksX5_nameNow_6 18 rfl rfl)
theorem dX5_nameNow_163 : decode cX5_nameNow 163 = .ok (.bipush 117, 2) := dk_16 117 (dk_at dksX5_nameNow_6 20 rfl rfl)
theorem dX5_nameNow_165 : decode cX5_nameNow 165 = .ok (.bipush 110, 2) := dk_16 110 (dk_at dksX5_nameNow_6 22 rfl rfl)
theorem dX5_nameNow_167 : decode cX5_nameNow 167 = .ok (.bipush 108, 2) := dk_16 108 (dk_at dksX5_nameNow_7 0 rfl rfl)
theorem dX5_nameNow_169 : decode cX5_nameNow 169 = .ok (.bipush 105, 2) := dk_16 105 (dk_at dksX5_nameNow_7 2 rfl rfl)
theorem dX5_nameNow_171 : decode cX5_nameNow 171 = .ok (.invokevirtual 157, 3) := dk_182 0 157 (dk_at dksX5_nameNow_7 4 rfl rfl)
theorem dX5_nameNow_174 : decode cX5_nameNow 174 = .ok (.ifCond .eq 18, 3) := dk_153 0 18 (dk_at dksX5_nameNow_7 7 rfl rfl)
theorem dX5_nameNow_177 : decode cX5_nameNow 177 = .ok (.aload_n 0, 1) := dk_42 (dk_at dksX5_nameNow_7 10 rfl rfl)
theorem dX5_nameNow_178 : decode cX5_nameNow 178 = .ok (.bipush 107, 2) := dk_16 107 (dk_at dksX5_nameNow_7 11 rfl rfl)
theorem dX5_nameNow_180 : decode cX5_nameNow 180 = .ok (.bipush 101, 2) := dk_16 101 (dk_at dksX5_nameNow_7 13 rfl rfl)
theorem dX5_nameNow_182 : decode cX5_nameNow 182 = .ok (.iconst 0, 1) := dk_3 (dk_at dksX5_nameNow_7 15 rfl rfl)
theorem dX5_nameNow_183 : decode cX5_nameNow 183 = .ok (.invokevirtual 161, 3) := dk_182 0 161 (dk_at dksX5_nameNow_7 16 rfl rfl)
theorem dX5_nameNow_186 : decode cX5_nameNow 186 = .ok (.ifCond .eq 6, 3) := dk_153 0 6 (dk_at dksX5_nameNow_7 19 rfl rfl)
theorem dX5_nameNow_189 : decode cX5_nameNow 189 = .ok (.bipush 16, 2) := dk_16 16 (dk_at dksX5_nameNow_7 22 rfl rfl)
theorem dX5_nameNow_191 : decode cX5_nameNow 191 = .ok (.ireturn, 1) := dk_172 (dk_at dksX5_nameNow_8 0 rfl rfl)
theorem dX5_nameNow_192 : decode cX5_nameNow 192 = .ok (.aload_n 0, 1) := dk_42 (dk_at dksX5_nameNow_8 1 rfl rfl)
theorem dX5_nameNow_193 : decode cX5_nameNow 193 = .ok (.bipush 6, 2) := dk_16 6 (dk_at dksX5_nameNow_8 2 rfl rfl)
theorem dX5_nameNow_195 : decode cX5_nameNow 195 = .ok (.bipush 99, 2) := dk_16 99 (dk_at dksX5_nameNow_8 4 rfl rfl)
theorem dX5_nameNow_197 : decode cX5_nameNow 197 = .ok (.bipush 104, 2) := dk_16 104 (dk_at dksX5_nameNow_8 6 rfl rfl)
theorem dX5_nameNow_199 : decode cX5_nameNow 199 = .ok (.bipush 97, 2) := dk_16 97 (dk_at dksX5_nameNow_8 8 rfl rfl)
theorem dX5_nameNow_201 : decode cX5_nameNow 201 = .ok (.bipush 110, 2) := dk_16 110 (dk_at dksX5_nameNow_8 10 rfl rfl)
theorem dX5_nameNow_203 : decode cX5_nameNow 203 = .ok (.invokevirtual 157, 3) := dk_182 0 157 (dk_at dksX5_nameNow_8 12 rfl rfl)
theorem dX5_nameNow_206 : decode cX5_nameNow 206 = .ok (.ifCond .eq 20, 3) := dk_153 0 20 (dk_at dksX5_nameNow_8 15 rfl rfl)
theorem dX5_nameNow_209 : decode cX5_nameNow 209 = .ok (.aload_n 0, 1) := dk_42 (dk_at dksX5_nameNow_8 18 rfl rfl)
theorem dX5_nameNow_210 : decode cX5_nameNow 210 = .ok (.bipush 99, 2) := dk_16 99 (dk_at dksX5_nameNow_8 19 rfl rfl)
theorem dX5_nameNow_212 : decode cX5_nameNow 212 = .ok (.bipush 101, 2) := dk_16 101 (dk_at dksX5_nameNow_8 21 rfl rfl)
theorem dX5_nameNow_214 : decode cX5_nameNow 214 = .ok (.iconst 0, 1) := dk_3 (dk_at dksX5_nameNow_8 23 rfl rfl)
theorem dX5_nameNow_215 : decode cX5_nameNow 215 = .ok (.invokevirtual 161, 3) := dk_182 0 161 (dk_at dksX5_nameNow_9 0 rfl rfl)
theorem dX5_nameNow_218 : decode cX5_nameNow 218 = .ok (.ifCond .eq 8, 3) := dk_153 0 8 (dk_at dksX5_nameNow_9 3 rfl rfl)
theorem dX5_nameNow_221 : decode cX5_nameNow 221 = .ok (.bipush 17, 2) := dk_16 17 (dk_at dksX5_nameNow_9 6 rfl rfl)
theorem dX5_nameNow_223 : decode cX5_nameNow 223 = .ok (.goto 5, 3) := dk_167 0 5 (dk_at dksX5_nameNow_9 8 rfl rfl)
theorem dX5_nameNow_226 : decode cX5_nameNow 226 = .ok (.bipush (-4), 2) := dk_16 252 (dk_at dksX5_nameNow_9 11 rfl rfl)
theorem dX5_nameNow_228 : decode cX5_nameNow 228 = .ok (.ireturn, 1) := dk_172 (dk_at dksX5_nameNow_9 13 rfl rfl)
abbrev cX5_kindNow : ByteArray := prog_14_method_14_code
def yX5_kindNow : MethodName := ⟨RX5, "kindNow", "()I"⟩
def dkwX5_kindNow_4 : List UInt8 := [42, 16, 100, 3, 3, 182, 0, 161, 153, 0, 7, 6, 167, 0, 5, 16, 252, 172]
abbrev dktX5_kindNow_4 : List UInt8 := dkwX5_kindNow_4 ++ []
def dkwX5_kindNow_3 : List UInt8 := [182, 0, 161, 153, 0, 5, 5, 172, 42, 8, 16, 112, 16, 114, 16, 111, 16, 117, 182, 0, 157, 153, 0, 18]
abbrev dktX5_kindNow_3 : List UInt8 := dkwX5_kindNow_3 ++ dktX5_kindNow_4
def dkwX5_kindNow_2 : List UInt8 := [16, 7, 16, 99, 16, 97, 16, 114, 16, 101, 182, 0, 157, 153, 0, 18, 42, 16, 102, 16, 117, 16, 108]
abbrev dktX5_kindNow_2 : List UInt8 := dkwX5_kindNow_2 ++ dktX5_kindNow_3
def dkwX5_kindNow_1 : List UInt8 := [153, 0, 5, 3, 172, 42, 7, 16, 108, 16, 97, 16, 115, 16, 116, 182, 0, 157, 153, 0, 5, 4, 172, 42]
abbrev dktX5_kindNow_1 : List UInt8 := dkwX5_kindNow_1 ++ dktX5_kindNow_2
def dkwX5_kindNow_0 : List UInt8 := [42, 8, 16, 112, 16, 108, 16, 97, 16, 105, 182, 0, 157, 153, 0, 16, 42, 16, 110, 3, 3, 182, 0, 161]
abbrev dktX5_kindNow_0 : List UInt8 := dkwX5_kindNow_0 ++ dktX5_kindNow_1
theorem dksX5_kindNow_0 : cX5_kindNow.data.toList.drop 0 = dktX5_kindNow_0 := by decide +kernel
theorem dksX5_kindNow_1 : cX5_kindNow.data.toList.drop 24 = dktX5_kindNow_1 := dk_seg dksX5_kindNow_0 24 rfl rfl
theorem dksX5_kindNow_2 : cX5_kindNow.data.toList.drop 48 = dktX5_kindNow_2 := dk_seg dksX5_kindNow_1 24 rfl rfl
theorem dksX5_kindNow_3 : cX5_kindNow.data.toList.drop 71 = dktX5_kindNow_3 := dk_seg dksX5_kindNow_2 23 rfl rfl
theorem dksX5_kindNow_4 : cX5_kindNow.data.toList.drop 95 = dktX5_kindNow_4 := dk_seg dksX5_kindNow_3 24 rfl rfl
theorem dX5_kindNow_0 : decode cX5_kindNow 0 = .ok (.aload_n 0, 1) := dk_42 (dk_at dksX5_kindNow_0 0 rfl rfl)
theorem dX5_kindNow_1 : decode cX5_kindNow 1 = .ok (.iconst 5, 1) := dk_8 (dk_at dksX5_kindNow_0 1 rfl rfl)
theorem dX5_kindNow_2 : decode cX5_kindNow 2 = .ok (.bipush 112, 2) := dk_16 112 (dk_at dksX5_kindNow_0 2 rfl rfl)
theorem dX5_kindNow_4 : decode cX5_kindNow 4 = .ok (.bipush 108, 2) := dk_16 108 (dk_at dksX5_kindNow_0 4 rfl rfl)
theorem dX5_kindNow_6 : decode cX5_kindNow 6 = .ok (.bipush 97, 2) := dk_16 97 (dk_at dksX5_kindNow_0 6 rfl rfl)
theorem dX5_kindNow_8 : decode cX5_kindNow 8 = .ok (.bipush 105, 2) := dk_16 105 (dk_at dksX5_kindNow_0 8 rfl rfl)
theorem dX5_kindNow_10 : decode cX5_kindNow 10 = .ok (.invokevirtual 157, 3) := dk_182 0 157 (dk_at dksX5_kindNow_0 10 rfl rfl)
theorem dX5_kindNow_13 : decode cX5_kindNow 13 = .ok (.ifCond .eq 16, 3) := dk_153 0 16 (dk_at dksX5_kindNow_0 13 rfl rfl)
theorem dX5_kindNow_16 : decode cX5_kindNow 16 = .ok (.aload_n 0, 1) := dk_42 (dk_at dksX5_kindNow_0 16 rfl rfl)
theorem dX5_kindNow_17 : decode cX5_kindNow 17 = .ok (.bipush 110, 2) := dk_16 110 (dk_at dksX5_kindNow_0 17 rfl rfl)
theorem dX5_kindNow_19 : decode cX5_kindNow 19 = .ok (.iconst 0, 1) := dk_3 (dk_at dksX5_kindNow_0 19 rfl rfl)
theorem dX5_kindNow_20 : decode cX5_kindNow 20 = .ok (.iconst 0, 1) := dk_3 (dk_at dksX5_kindNow_0 20 rfl rfl)
theorem dX5_kindNow_21 : decode cX5_kindNow 21 = .ok (.invokevirtual 161, 3) := dk_182 0 161 (dk_at dksX5_kindNow_0 21 rfl rfl)
theorem dX5_kindNow_24 : decode cX5_kindNow 24 = .ok (.ifCond .eq 5, 3) := dk_153 0 5 (dk_at dksX5_kindNow_1 0 rfl rfl)
theorem dX5_kindNow_27 : decode cX5_kindNow 27 = .ok (.iconst 0, 1) := dk_3 (dk_at dksX5_kindNow_1 3 rfl rfl)
theorem dX5_kindNow_28 : decode cX5_kindNow 28 = .ok (.ireturn, 1) := dk_172 (dk_at dksX5_kindNow_1 4 rfl rfl)
theorem dX5_kindNow_29 : decode cX5_kindNow 29 = .ok (.aload_n 0, 1) := dk_42 (dk_at dksX5_kindNow_1 5 rfl rfl)
theorem dX5_kindNow_30 : decode cX5_kindNow 30 = .ok (.iconst 4, 1) := dk_7 (dk_at dksX5_kindNow_1 6 rfl rfl)
theorem dX5_kindNow_31 : decode cX5_kindNow 31 = .ok (.bipush 108, 2) := dk_16 108 (dk_at dksX5_kindNow_1 7 rfl rfl)
theorem dX5_kindNow_33 : decode cX5_kindNow 33 = .ok (.bipush 97, 2) := dk_16 97 (dk_at dksX5_kindNow_1 9 rfl rfl)
theorem dX5_kindNow_35 : decode cX5_kindNow 35 = .ok (.bipush 115, 2) := dk_16 115 (dk_at dksX5_kindNow_1 11 rfl rfl)
theorem dX5_kindNow_37 : decode cX5_kindNow 37 = .ok (.bipush 116, 2) := dk_16 116 (dk_at dksX5_kindNow_1 13 rfl rfl)
theorem dX5_kindNow_39 : decode cX5_kindNow 39 = .ok (.invokevirtual 157, 3) := dk_182 0 157 (dk_at dksX5_kindNow_1 15 rfl rfl)
theorem dX5_kindNow_42 : decode cX5_kindNow 42 = .ok (.ifCond .eq 5, 3) := dk_153 0 5 (dk_at dksX5_kindNow_1 18 rfl rfl)
theorem dX5_kindNow_45 : decode cX5_kindNow 45 = .ok (.iconst 1, 1) := dk_4 (dk_at dksX5_kindNow_1 21 rfl rfl)
theorem dX5_kindNow_46 : decode cX5_kindNow 46 = .ok (.ireturn, 1) := dk_172 (dk_at dksX5_kindNow_1 22 rfl rfl)
theorem dX5_kindNow_47 : decode cX5_kindNow 47 = .ok (.aload_n 0, 1) := dk_42 (dk_at dksX5_kindNow_1 23 rfl rfl)
theorem dX5_kindNow_48 : decode cX5_kindNow 48 = .ok (.bipush 7, 2) := dk_16 7 (dk_at dksX5_kindNow_2 0 rfl rfl)
theorem dX5_kindNow_50 : decode cX5_kindNow 50 = .ok (.bipush 99, 2) := dk_16 99 (dk_at dksX5_kindNow_2 2 rfl rfl)
theorem dX5_kindNow_52 : decode cX5_kindNow 52 = .ok (.bipush 97, 2) := dk_16 97 (dk_at dksX5_kindNow_2 4 rfl rfl)
theorem dX5_kindNow_54 : decode cX5_kindNow 54 = .ok (.bipush 114, 2) := dk_16 114 (dk_at dksX5_kindNow_2 6 rfl rfl)
theorem dX5_kindNow_56 : decode cX5_kindNow 56 = .ok (.bipush 101, 2) := dk_16 101 (dk_at dksX5_kindNow_2 8 rfl rfl)
theorem dX5_kindNow_58 : decode cX5_kindNow 58 = .ok (.invokevirtual 157, 3) := dk_182 0 157 (dk_at dksX5_kindNow_2 10 rfl rfl)
theorem dX5_kindNow_61 : decode cX5_kindNow 61 = .ok (.ifCond .eq 18, 3) := dk_153 0 18 (dk_at dksX5_kindNow_2 13 rfl rfl)
theorem dX5_kindNow_64 : decode cX5_kindNow 64 = .ok (.aload_n 0, 1) := dk_42 (dk_at dksX5_kindNow_2 16 rfl rfl)
theorem dX5_kindNow_65 : decode cX5_kindNow 65 = .ok (.bipush 102, 2) := dk_16 102 (dk_at dksX5_kindNow_2 17 rfl rfl)
theorem dX5_kindNow_67 : decode cX5_kindNow 67 = .ok (.bipush 117, 2) := dk_16 117 (dk_at dksX5_kindNow_2 19 rfl rfl)
theorem dX5_kindNow_69 : decode cX5_kindNow 69 = .ok (.bipush 108, 2) := dk_16 108 (dk_at dksX5_kindNow_2 21 rfl rfl)
theorem dX5_kindNow_71 : decode cX5_kindNow 71 = .ok (.invokevirtual 161, 3) := dk_182 0 161 (dk_at dksX5_kindNow_3 0 rfl rfl)
theorem dX5_kindNow_74 : decode cX5_kindNow 74 = .ok (.ifCond .eq 5, 3) := dk_153 0 5 (dk_at dksX5_kindNow_3 3 rfl rfl)
theorem dX5_kindNow_77 : decode cX5_kindNow 77 = .ok (.iconst 2, 1) := dk_5 (dk_at dksX5_kindNow_3 6 rfl rfl)
theorem dX5_kindNow_78 : decode cX5_kindNow 78 = .ok (.ireturn, 1) := dk_172 (dk_at dksX5_kindNow_3 7 rfl rfl)
theorem dX5_kindNow_79 : decode cX5_kindNow 79 = .ok (.aload_n 0, 1) := dk_42 (dk_at dksX5_kindNow_3 8 rfl rfl)
theorem dX5_kindNow_80 : decode cX5_kindNow 80 = .ok (.iconst 5, 1) := dk_8 (dk_at dksX5_kindNow_3 9 rfl rfl)
theorem dX5_kindNow_81 : decode cX5_kindNow 81 = .ok (.bipush 112, 2) := dk_16 112 (dk_at dksX5_kindNow_3 10 rfl rfl)
theorem dX5_kindNow_83 : decode cX5_kindNow 83 = .ok (.bipush 114, 2) := dk_16 114 (dk_at dksX5_kindNow_3 12 rfl rfl)
theorem dX5_kindNow_85 : decode cX5_kindNow 85 = .ok (.bipush 111, 2) := dk_16 111 (dk_at dksX5_kindNow_3 14 rfl rfl)
theorem dX5_kindNow_87 : decode cX5_kindNow 87 = .ok (.bipush 117, 2) := dk_16 117 (dk_at dksX5_kindNow_3 16 rfl rfl)
theorem dX5_kindNow_89 : decode cX5_kindNow 89 = .ok (.invokevirtual 157, 3) := dk_182 0 157 (dk_at dksX5_kindNow_3 18 rfl rfl)
theorem dX5_kindNow_92 : decode cX5_kindNow 92 = .ok (.ifCond .eq 18, 3) := dk_153 0 18 (dk_at dksX5_kindNow_3 21 rfl rfl)
theorem dX5_kindNow_95 : decode cX5_kindNow 95 = .ok (.aload_n 0, 1) := dk_42 (dk_at dksX5_kindNow_4 0 rfl rfl)
theorem dX5_kindNow_96 : decode cX5_kindNow 96 = .ok (.bipush 100, 2) := dk_16 100 (dk_at dksX5_kindNow_4 1 rfl rfl)
theorem dX5_kindNow_98 : decode cX5_kindNow 98 = .ok (.iconst 0, 1) := dk_3 (dk_at dksX5_kindNow_4 3 rfl rfl)
theorem dX5_kindNow_99 : decode cX5_kindNow 99 = .ok (.iconst 0, 1) := dk_3 (dk_at dksX5_kindNow_4 4 rfl rfl)
theorem dX5_kindNow_100 : decode cX5_kindNow 100 = .ok (.invokevirtual 161, 3) := dk_182 0 161 (dk_at dksX5_kindNow_4 5 rfl rfl)
theorem dX5_kindNow_103 : decode cX5_kindNow 103 = .ok (.ifCond .eq 7, 3) := dk_153 0 7 (dk_at dksX5_kindNow_4 8 rfl rfl)
theorem dX5_kindNow_106 : decode cX5_kindNow 106 = .ok (.iconst 3, 1) := dk_6 (dk_at dksX5_kindNow_4 11 rfl rfl)
theorem dX5_kindNow_107 : decode cX5_kindNow 107 = .ok (.goto 5, 3) := dk_167 0 5 (dk_at dksX5_kindNow_4 12 rfl rfl)
theorem dX5_kindNow_110 : decode cX5_kindNow 110 = .ok (.bipush (-4), 2) := dk_16 252 (dk_at dksX5_kindNow_4 15 rfl rfl)
theorem dX5_kindNow_112 : decode cX5_kindNow 112 = .ok (.ireturn, 1) := dk_172 (dk_at dksX5_kindNow_4 17 rfl rfl)
abbrev cX5_is : ByteArray := prog_14_method_12_code
def yX5_is : MethodName := ⟨RX5, "is", "(IIIII)Z"⟩
def dkwX5_is_3 : List UInt8 := [21, 5, 160, 0, 7, 4, 167, 0, 4, 3, 172]
abbrev dktX5_is_3 : List UInt8 := dkwX5_is_3 ++ []
def dkwX5_is_2 : List UInt8 := [182, 0, 153, 21, 4, 160, 0, 27, 27, 7, 161, 0, 18, 42, 42, 180, 0, 144, 6, 96, 182, 0, 153]
abbrev dktX5_is_2 : List UInt8 := dkwX5_is_2 ++ dktX5_is_3
def dkwX5_is_1 : List UInt8 := [160, 0, 56, 42, 42, 180, 0, 144, 4, 96, 182, 0, 153, 29, 160, 0, 42, 42, 42, 180, 0, 144, 5, 96]
abbrev dktX5_is_1 : List UInt8 := dkwX5_is_1 ++ dktX5_is_2
def dkwX5_is_0 : List UInt8 := [42, 180, 0, 150, 42, 180, 0, 144, 100, 27, 160, 0, 68, 42, 42, 180, 0, 144, 182, 0, 153, 28]
abbrev dktX5_is_0 : List UInt8 := dkwX5_is_0 ++ dktX5_is_1
theorem dksX5_is_0 : cX5_is.data.toList.drop 0 = dktX5_is_0 := by decide +kernel
theorem dksX5_is_1 : cX5_is.data.toList.drop 22 = dktX5_is_1 := dk_seg dksX5_is_0 22 rfl rfl
theorem dksX5_is_2 : cX5_is.data.toList.drop 46 = dktX5_is_2 := dk_seg dksX5_is_1 24 rfl rfl
theorem dksX5_is_3 : cX5_is.data.toList.drop 69 = dktX5_is_3 := dk_seg dksX5_is_2 23 rfl rfl
theorem dX5_is_0 : decode cX5_is 0 = .ok (.aload_n 0, 1) := dk_42 (dk_at dksX5_is_0 0 rfl rfl)
theorem dX5_is_1 : decode cX5_is 1 = .ok (.getfield 150, 3) := dk_180 0 150 (dk_at dksX5_is_0 1 rfl rfl)
theorem dX5_is_4 : decode cX5_is 4 = .ok (.aload_n 0, 1) := dk_42 (dk_at dksX5_is_0 4 rfl rfl)
theorem dX5_is_5 : decode cX5_is 5 = .ok (.getfield 144, 3) := dk_180 0 144 (dk_at dksX5_is_0 5 rfl rfl)
theorem dX5_is_8 : decode cX5_is 8 = .ok (.isub, 1) := dk_100 (dk_at dksX5_is_0 8 rfl rfl)
theorem dX5_is_9 : decode cX5_is 9 = .ok (.iload_n 1, 1) := dk_27 (dk_at dksX5_is_0 9 rfl rfl)
theorem dX5_is_10 : decode cX5_is 10 = .ok (.if_icmp .ne 68, 3) := dk_160 0 68 (dk_at dksX5_is_0 10 rfl rfl)
theorem dX5_is_13 : decode cX5_is 13 = .ok (.aload_n 0, 1) := dk_42 (dk_at dksX5_is_0 13 rfl rfl)
theorem dX5_is_14 : decode cX5_is 14 = .ok (.aload_n 0, 1) := dk_42 (dk_at dksX5_is_0 14 rfl rfl)
theorem dX5_is_15 : decode cX5_is 15 = .ok (.getfield 144, 3) := dk_180 0 144 (dk_at dksX5_is_0 15 rfl rfl)
theorem dX5_is_18 : decode cX5_is 18 = .ok (.invokevirtual 153, 3) := dk_182 0 153 (dk_at dksX5_is_0 18 rfl rfl)
theorem dX5_is_21 : decode cX5_is 21 = .ok (.iload_n 2, 1) := dk_28 (dk_at dksX5_is_0 21 rfl rfl)
theorem dX5_is_22 : decode cX5_is 22 = .ok (.if_icmp .ne 56, 3) := dk_160 0 56 (dk_at dksX5_is_1 0 rfl rfl)
theorem dX5_is_25 : decode cX5_is 25 = .ok (.aload_n 0, 1) := dk_42 (dk_at dksX5_is_1 3 rfl rfl)
theorem dX5_is_26 : decode cX5_is 26 = .ok (.aload_n 0, 1) := dk_42 (dk_at dksX5_is_1 4 rfl rfl)
theorem dX5_is_27 : decode cX5_is 27 = .ok (.getfield 144, 3) := dk_180 0 144 (dk_at dksX5_is_1 5 rfl rfl)
theorem dX5_is_30 : decode cX5_is 30 = .ok (.iconst 1, 1) := dk_4 (dk_at dksX5_is_1 8 rfl rfl)
theorem dX5_is_31 : decode cX5_is 31 = .ok (.iadd, 1) := dk_96 (dk_at dksX5_is_1 9 rfl rfl)
theorem dX5_is_32 : decode cX5_is 32 = .ok (.invokevirtual 153, 3) := dk_182 0 153 (dk_at dksX5_is_1 10 rfl rfl)
theorem dX5_is_35 : decode cX5_is 35 = .ok (.iload_n 3, 1) := dk_29 (dk_at dksX5_is_1 13 rfl rfl)
theorem dX5_is_36 : decode cX5_is 36 = .ok (.if_icmp .ne 42, 3) := dk_160 0 42 (dk_at dksX5_is_1 14 rfl rfl)
theorem dX5_is_39 : decode cX5_is 39 = .ok (.aload_n 0, 1) := dk_42 (dk_at dksX5_is_1 17 rfl rfl)
theorem dX5_is_40 : decode cX5_is 40 = .ok (.aload_n 0, 1) := dk_42 (dk_at dksX5_is_1 18 rfl rfl)
theorem dX5_is_41 : decode cX5_is 41 = .ok (.getfield 144, 3) := dk_180 0 144 (dk_at dksX5_is_1 19 rfl rfl)
theorem dX5_is_44 : decode cX5_is 44 = .ok (.iconst 2, 1) := dk_5 (dk_at dksX5_is_1 22 rfl rfl)
theorem dX5_is_45 : decode cX5_is 45 = .ok (.iadd, 1) := dk_96 (dk_at dksX5_is_1 23 rfl rfl)
theorem dX5_is_46 : decode cX5_is 46 = .ok (.invokevirtual 153, 3) := dk_182 0 153 (dk_at dksX5_is_2 0 rfl rfl)
theorem dX5_is_49 : decode cX5_is 49 = .ok (.iload 4, 2) := dk_21 4 (dk_at dksX5_is_2 3 rfl rfl)
theorem dX5_is_51 : decode cX5_is 51 = .ok (.if_icmp .ne 27, 3) := dk_160 0 27 (dk_at dksX5_is_2 5 rfl rfl)
theorem dX5_is_54 : decode cX5_is 54 = .ok (.iload_n 1, 1) := dk_27 (dk_at dksX5_is_2 8 rfl rfl)
theorem dX5_is_55 : decode cX5_is 55 = .ok (.iconst 4, 1) := dk_7 (dk_at dksX5_is_2 9 rfl rfl)
theorem dX5_is_56 : decode cX5_is 56 = .ok (.if_icmp .lt 18, 3) := dk_161 0 18 (dk_at dksX5_is_2 10 rfl rfl)
theorem dX5_is_59 : decode cX5_is 59 = .ok (.aload_n 0, 1) := dk_42 (dk_at dksX5_is_2 13 rfl rfl)
theorem dX5_is_60 : decode cX5_is 60 = .ok (.aload_n 0, 1) := dk_42 (dk_at dksX5_is_2 14 rfl rfl)
theorem dX5_is_61 : decode cX5_is 61 = .ok (.getfield 144, 3) := dk_180 0 144 (dk_at dksX5_is_2 15 rfl rfl)
theorem dX5_is_64 : decode cX5_is 64 = .ok (.iconst 3, 1) := dk_6 (dk_at dksX5_is_2 18 rfl rfl)
theorem dX5_is_65 : decode cX5_is 65 = .ok (.iadd, 1) := dk_96 (dk_at dksX5_is_2 19 rfl rfl)
theorem dX5_is_66 : decode cX5_is 66 = .ok (.invokevirtual 153, 3) := dk_182 0 153 (dk_at dksX5_is_2 20 rfl rfl)
theorem dX5_is_69 : decode cX5_is 69 = .ok (.iload 5, 2) := dk_21 5 (dk_at dksX5_is_3 0 rfl rfl)
theorem dX5_is_71 : decode cX5_is 71 = .ok (.if_icmp .ne 7, 3) := dk_160 0 7 (dk_at dksX5_is_3 2 rfl rfl)
theorem dX5_is_74 : decode cX5_is 74 = .ok (.iconst 1, 1) := dk_4 (dk_at dksX5_is_3 5 rfl rfl)
theorem dX5_is_75 : decode cX5_is 75 = .ok (.goto 4, 3) := dk_167 0 4 (dk_at dksX5_is_3 6 rfl rfl)
theorem dX5_is_78 : decode cX5_is 78 = .ok (.iconst 0, 1) := dk_3 (dk_at dksX5_is_3 9 rfl rfl)
theorem dX5_is_79 : decode cX5_is 79 = .ok (.ireturn, 1) := dk_172 (dk_at dksX5_is_3 10 rfl rfl)
abbrev cX5_goesOn : ByteArray := prog_14_method_13_code
def yX5_goesOn : MethodName := ⟨RX5, "goesOn", "(III)Z"⟩
def dkwX5_goesOn_2 : List UInt8 := [160, 0, 7, 4, 167, 0, 4, 3, 172]
abbrev dktX5_goesOn_2 : List UInt8 := dkwX5_goesOn_2 ++ []
def dkwX5_goesOn_1 : List UInt8 := [96, 182, 0, 153, 28, 160, 0, 26, 29, 153, 0, 18, 42, 42, 180, 0, 144, 16, 6, 96, 182, 0, 153, 29]
abbrev dktX5_goesOn_1 : List UInt8 := dkwX5_goesOn_1 ++ dktX5_goesOn_2
def dkwX5_goesOn_0 : List UInt8 := [42, 42, 180, 0, 144, 7, 96, 182, 0, 153, 27, 160, 0, 44, 28, 153, 0, 17, 42, 42, 180, 0, 144, 8]
abbrev dktX5_goesOn_0 : List UInt8 := dkwX5_goesOn_0 ++ dktX5_goesOn_1
theorem dksX5_goesOn_0 : cX5_goesOn.data.toList.drop 0 = dktX5_goesOn_0 := by decide +kernel
theorem dksX5_goesOn_1 : cX5_goesOn.data.toList.drop 24 = dktX5_goesOn_1 := dk_seg dksX5_goesOn_0 24 rfl rfl
theorem dksX5_goesOn_2 : cX5_goesOn.data.toList.drop 48 = dktX5_goesOn_2 := dk_seg dksX5_goesOn_1 24 rfl rfl
theorem dX5_goesOn_0 : decode cX5_goesOn 0 = .ok (.aload_n 0, 1) := dk_42 (dk_at dksX5_goesOn_0 0 rfl rfl)
theorem dX5_goesOn_1 : decode cX5_goesOn 1 = .ok (.aload_n 0, 1) := dk_42 (dk_at dksX5_goesOn_0 1 rfl rfl)
theorem dX5_goesOn_2 : decode cX5_goesOn 2 = .ok (.getfield 144, 3) := dk_180 0 144 (dk_at dksX5_goesOn_0 2 rfl rfl)
theorem dX5_goesOn_5 : decode cX5_goesOn 5 = .ok (.iconst 4, 1) := dk_7 (dk_at dksX5_goesOn_0 5 rfl rfl)
theorem dX5_goesOn_6 : decode cX5_goesOn 6 = .ok (.iadd, 1) := dk_96 (dk_at dksX5_goesOn_0 6 rfl rfl)
theorem dX5_goesOn_7 : decode cX5_goesOn 7 = .ok (.invokevirtual 153, 3) := dk_182 0 153 (dk_at dksX5_goesOn_0 7 rfl rfl)
theorem dX5_goesOn_10 : decode cX5_goesOn 10 = .ok (.iload_n 1, 1) := dk_27 (dk_at dksX5_goesOn_0 10 rfl rfl)
theorem dX5_goesOn_11 : decode cX5_goesOn 11 = .ok (.if_icmp .ne 44, 3) := dk_160 0 44 (dk_at dksX5_goesOn_0 11 rfl rfl)
theorem dX5_goesOn_14 : decode cX5_goesOn 14 = .ok (.iload_n 2, 1) := dk_28 (dk_at dksX5_goesOn_0 14 rfl rfl)
theorem dX5_goesOn_15 : decode cX5_goesOn 15 = .ok (.ifCond .eq 17, 3) := dk_153 0 17 (dk_at dksX5_goesOn_0 15 rfl rfl)
theorem dX5_goesOn_18 : decode cX5_goesOn 18 = .ok (.aload_n 0, 1) := dk_42 (dk_at dksX5_goesOn_0 18 rfl rfl)
theorem dX5_goesOn_19 : decode cX5_goesOn 19 = .ok (.aload_n 0, 1) := dk_42 (dk_at dksX5_goesOn_0 19 rfl rfl)
theorem dX5_goesOn_20 : decode cX5_goesOn 20 = .ok (.getfield 144, 3) := dk_180 0 144 (dk_at dksX5_goesOn_0 20 rfl rfl)
theorem dX5_goesOn_23 : decode cX5_goesOn 23 = .ok (.iconst 5, 1) := dk_8 (dk_at dksX5_goesOn_0 23 rfl rfl)
theorem dX5_goesOn_24 : decode cX5_goesOn 24 = .ok (.iadd, 1) := dk_96 (dk_at dksX5_goesOn_1 0 rfl rfl)
theorem dX5_goesOn_25 : decode cX5_goesOn 25 = .ok (.invokevirtual 153, 3) := dk_182 0 153 (dk_at dksX5_goesOn_1 1 rfl rfl)
theorem dX5_goesOn_28 : decode cX5_goesOn 28 = .ok (.iload_n 2, 1) := dk_28 (dk_at dksX5_goesOn_1 4 rfl rfl)
theorem dX5_goesOn_29 : decode cX5_goesOn 29 = .ok (.if_icmp .ne 26, 3) := dk_160 0 26 (dk_at dksX5_goesOn_1 5 rfl rfl)
theorem dX5_goesOn_32 : decode cX5_goesOn 32 = .ok (.iload_n 3, 1) := dk_29 (dk_at dksX5_goesOn_1 8 rfl rfl)
theorem dX5_goesOn_33 : decode cX5_goesOn 33 = .ok (.ifCond .eq 18, 3) := dk_153 0 18 (dk_at dksX5_goesOn_1 9 rfl rfl)
theorem dX5_goesOn_36 : decode cX5_goesOn 36 = .ok (.aload_n 0, 1) := dk_42 (dk_at dksX5_goesOn_1 12 rfl rfl)
theorem dX5_goesOn_37 : decode cX5_goesOn 37 = .ok (.aload_n 0, 1) := dk_42 (dk_at dksX5_goesOn_1 13 rfl rfl)
theorem dX5_goesOn_38 : decode cX5_goesOn 38 = .ok (.getfield 144, 3) := dk_180 0 144 (dk_at dksX5_goesOn_1 14 rfl rfl)
theorem dX5_goesOn_41 : decode cX5_goesOn 41 = .ok (.bipush 6, 2) := dk_16 6 (dk_at dksX5_goesOn_1 17 rfl rfl)
theorem dX5_goesOn_43 : decode cX5_goesOn 43 = .ok (.iadd, 1) := dk_96 (dk_at dksX5_goesOn_1 19 rfl rfl)
theorem dX5_goesOn_44 : decode cX5_goesOn 44 = .ok (.invokevirtual 153, 3) := dk_182 0 153 (dk_at dksX5_goesOn_1 20 rfl rfl)
theorem dX5_goesOn_47 : decode cX5_goesOn 47 = .ok (.iload_n 3, 1) := dk_29 (dk_at dksX5_goesOn_1 23 rfl rfl)
theorem dX5_goesOn_48 : decode cX5_goesOn 48 = .ok (.if_icmp .ne 7, 3) := dk_160 0 7 (dk_at dksX5_goesOn_2 0 rfl rfl)
theorem dX5_goesOn_51 : decode cX5_goesOn 51 = .ok (.iconst 1, 1) := dk_4 (dk_at dksX5_goesOn_2 3 rfl rfl)
theorem dX5_goesOn_52 : decode cX5_goesOn 52 = .ok (.goto 4, 3) := dk_167 0 4 (dk_at dksX5_goesOn_2 4 rfl rfl)
theorem dX5_goesOn_55 : decode cX5_goesOn 55 = .ok (.iconst 0, 1) := dk_3 (dk_at dksX5_goesOn_2 7 rfl rfl)
theorem dX5_goesOn_56 : decode cX5_goesOn 56 = .ok (.ireturn, 1) := dk_172 (dk_at dksX5_goesOn_2 8 rfl rfl)
abbrev cX5_readMarks : ByteArray := prog_14_method_18_code
def yX5_readMarks : MethodName := ⟨RX5, "readMarks", "(I)I"⟩
def dkwX5_readMarks_6 : List UInt8 := [182, 0, 187, 28, 172]
abbrev dktX5_readMarks_6 : List UInt8 := dkwX5_readMarks_6 ++ []
def dkwX5_readMarks_5 : List UInt8 := [180, 0, 141, 154, 0, 10, 4, 21, 4, 120, 167, 0, 4, 3, 128, 61, 132, 3, 1, 167, 255, 161, 42]
abbrev dktX5_readMarks_5 : List UInt8 := dkwX5_readMarks_5 ++ dktX5_readMarks_6
def dkwX5_readMarks_4 : List UInt8 := [154, 0, 16, 27, 21, 4, 122, 4, 126, 154, 0, 7, 4, 167, 0, 4, 3, 6, 182, 0, 183, 28, 42]
abbrev dktX5_readMarks_4 : List UInt8 := dkwX5_readMarks_4 ++ dktX5_readMarks_5
def dkwX5_readMarks_3 : List UInt8 := [54, 4, 42, 21, 4, 133, 9, 20, 0, 190, 184, 0, 137, 153, 0, 25, 28, 21, 4, 122, 4, 126]
abbrev dktX5_readMarks_3 : List UInt8 := dkwX5_readMarks_3 ++ dktX5_readMarks_4
def dkwX5_readMarks_2 : List UInt8 := [42, 180, 0, 141, 154, 0, 86, 42, 180, 0, 169, 4, 160, 0, 78, 42, 29, 182, 0, 153, 16, 97, 100]
abbrev dktX5_readMarks_2 : List UInt8 := dkwX5_readMarks_2 ++ dktX5_readMarks_3
def dkwX5_readMarks_1 : List UInt8 := [4, 167, 0, 4, 3, 5, 182, 0, 183, 3, 61, 42, 180, 0, 144, 62, 29, 42, 180, 0, 150, 162, 0, 93]
abbrev dktX5_readMarks_1 : List UInt8 := dkwX5_readMarks_1 ++ dktX5_readMarks_2
def dkwX5_readMarks_0 : List UInt8 := [42, 180, 0, 141, 154, 0, 29, 42, 42, 180, 0, 169, 4, 159, 0, 11, 42, 180, 0, 169, 7, 160, 0, 7]
abbrev dktX5_readMarks_0 : List UInt8 := dkwX5_readMarks_0 ++ dktX5_readMarks_1
theorem dksX5_readMarks_0 : cX5_readMarks.data.toList.drop 0 = dktX5_readMarks_0 := by decide +kernel
theorem dksX5_readMarks_1 : cX5_readMarks.data.toList.drop 24 = dktX5_readMarks_1 := dk_seg dksX5_readMarks_0 24 rfl rfl
theorem dksX5_readMarks_2 : cX5_readMarks.data.toList.drop 48 = dktX5_readMarks_2 := dk_seg dksX5_readMarks_1 24 rfl rfl
theorem dksX5_readMarks_3 : cX5_readMarks.data.toList.drop 71 = dktX5_readMarks_3 := dk_seg dksX5_readMarks_2 23 rfl rfl
theorem dksX5_readMarks_4 : cX5_readMarks.data.toList.drop 93 = dktX5_readMarks_4 := dk_seg dksX5_readMarks_3 22 rfl rfl
theorem dksX5_readMarks_5 : cX5_readMarks.data.toList.drop 116 = dktX5_readMarks_5 := dk_seg dksX5_readMarks_4 23 rfl rfl
theorem dksX5_readMarks_6 : cX5_readMarks.data.toList.drop 139 = dktX5_readMarks_6 := dk_seg dksX5_readMarks_5 23 rfl rfl
theorem dX5_readMarks_0 : decode cX5_readMarks 0 = .ok (.aload_n 0, 1) := dk_42 (dk_at dksX5_readMarks_0 0 rfl rfl)
theorem dX5_readMarks_1 : decode cX5_readMarks 1 = .ok (.getfield 141, 3) := dk_180 0 141 (dk_at dksX5_readMarks_0 1 rfl rfl)
theorem dX5_readMarks_4 : decode cX5_readMarks 4 = .ok (.ifCond .ne 29, 3) := dk_154 0 29 (dk_at dksX5_readMarks_0 4 rfl rfl)
theorem dX5_readMarks_7 : decode cX5_readMarks 7 = .ok (.aload_n 0, 1) := dk_42 (dk_at dksX5_readMarks_0 7 rfl rfl)
theorem dX5_readMarks_8 : decode cX5_readMarks 8 = .ok (.aload_n 0, 1) := dk_42 (dk_at dksX5_readMarks_0 8 rfl rfl)
theorem dX5_readMarks_9 : decode cX5_readMarks 9 = .ok (.getfield 169, 3) := dk_180 0 169 (dk_at dksX5_readMarks_0 9 rfl rfl)
theorem dX5_readMarks_12 : decode cX5_readMarks 12 = .ok (.iconst 1, 1) := dk_4 (dk_at dksX5_readMarks_0 12 rfl rfl)
theorem dX5_readMarks_13 : decode cX5_readMarks 13 = .ok (.if_icmp .eq 11, 3) := dk_159 0 11 (dk_at dksX5_readMarks_0 13 rfl rfl)
theorem dX5_readMarks_16 : decode cX5_readMarks 16 = .ok (.aload_n 0, 1) := dk_42 (dk_at dksX5_readMarks_0 16 rfl rfl)
theorem dX5_readMarks_17 : decode cX5_readMarks 17 = .ok (.getfield 169, 3) := dk_180 0 169 (dk_at dksX5_readMarks_0 17 rfl rfl)
theorem dX5_readMarks_20 : decode cX5_readMarks 20 = .ok (.iconst 4, 1) := dk_7 (dk_at dksX5_readMarks_0 20 rfl rfl)
theorem dX5_readMarks_21 : decode cX5_readMarks 21 = .ok (.if_icmp .ne 7, 3) := dk_160 0 7 (dk_at dksX5_readMarks_0 21 rfl rfl)
theorem dX5_readMarks_24 : decode cX5_readMarks 24 = .ok (.iconst 1, 1) := dk_4 (dk_at dksX5_readMarks_1 0 rfl rfl)
theorem dX5_readMarks_25 : decode cX5_readMarks 25 = .ok (.goto 4, 3) := dk_167 0 4 (dk_at dksX5_readMarks_1 1 rfl rfl)
theorem dX5_readMarks_28 : decode cX5_readMarks 28 = .ok (.iconst 0, 1) := dk_3 (dk_at dksX5_readMarks_1 4 rfl rfl)
theorem dX5_readMarks_29 : decode cX5_readMarks 29 = .ok (.iconst 2, 1) := dk_5 (dk_at dksX5_readMarks_1 5 rfl rfl)
theorem dX5_readMarks_30 : decode cX5_readMarks 30 = .ok (.invokevirtual 183, 3) := dk_182 0 183 (dk_at dksX5_readMarks_1 6 rfl rfl)
theorem dX5_readMarks_33 : decode cX5_readMarks 33 = .ok (.iconst 0, 1) := dk_3 (dk_at dksX5_readMarks_1 9 rfl rfl)
theorem dX5_readMarks_34 : decode cX5_readMarks 34 = .ok (.istore_n 2, 1) := dk_61 (dk_at dksX5_readMarks_1 10 rfl rfl)
theorem dX5_readMarks_35 : decode cX5_readMarks 35 = .ok (.aload_n 0, 1) := dk_42 (dk_at dksX5_readMarks_1 11 rfl rfl)
theorem dX5_readMarks_36 : decode cX5_readMarks 36 = .ok (.getfield 144, 3) := dk_180 0 144 (dk_at dksX5_readMarks_1 12 rfl rfl)
theorem dX5_readMarks_39 : decode cX5_readMarks 39 = .ok (.istore_n 3, 1) := dk_62 (dk_at dksX5_readMarks_1 15 rfl rfl)
theorem dX5_readMarks_40 : decode cX5_readMarks 40 = .ok (.iload_n 3, 1) := dk_29 (dk_at dksX5_readMarks_1 16 rfl rfl)
theorem dX5_readMarks_41 : decode cX5_readMarks 41 = .ok (.aload_n 0, 1) := dk_42 (dk_at dksX5_readMarks_1 17 rfl rfl)
theorem dX5_readMarks_42 : decode cX5_readMarks 42 = .ok (.getfield 150, 3) := dk_180 0 150 (dk_at dksX5_readMarks_1 18 rfl rfl)
theorem dX5_readMarks_45 : decode cX5_readMarks 45 = .ok (.if_icmp .ge 93, 3) := dk_162 0 93 (dk_at dksX5_readMarks_1 21 rfl rfl)
theorem dX5_readMarks_48 : decode cX5_readMarks 48 = .ok (.aload_n 0, 1) := dk_42 (dk_at dksX5_readMarks_2 0 rfl rfl)
theorem dX5_readMarks_49 : decode cX5_readMarks 49 = .ok (.getfield 141, 3) := dk_180 0 141 (dk_at dksX5_readMarks_2 1 rfl rfl)
theorem dX5_readMarks_52 : decode cX5_readMarks 52 = .ok (.ifCond .ne 86, 3) := dk_154 0 86 (dk_at dksX5_readMarks_2 4 rfl rfl)
theorem dX5_readMarks_55 : decode cX5_readMarks 55 = .ok (.aload_n 0, 1) := dk_42 (dk_at dksX5_readMarks_2 7 rfl rfl)
theorem dX5_readMarks_56 : decode cX5_readMarks 56 = .ok (.getfield 169, 3) := dk_180 0 169 (dk_at dksX5_readMarks_2 8 rfl rfl)
theorem dX5_readMarks_59 : decode cX5_readMarks 59 = .ok (.iconst 1, 1) := dk_4 (dk_at dksX5_readMarks_2 11 rfl rfl)
theorem dX5_readMarks_60 : decode cX5_readMarks 60 = .ok (.if_icmp .ne 78, 3) := dk_160 0 78 (dk_at dksX5_readMarks_2 12 rfl rfl)
theorem dX5_readMarks_63 : decode cX5_readMarks 63 = .ok (.aload_n 0, 1) := dk_42 (dk_at dksX5_readMarks_2 15 rfl rfl)
theorem dX5_readMarks_64 : decode cX5_readMarks 64 = .ok (.iload_n 3, 1) := dk_29 (dk_at dksX5_readMarks_2 16 rfl rfl)
theorem dX5_readMarks_65 : decode cX5_readMarks 65 = .ok (.invokevirtual 153, 3) := dk_182 0 153 (dk_at dksX5_readMarks_2 17 rfl rfl)
theorem dX5_readMarks_68 : decode cX5_readMarks 68 = .ok (.bipush 97, 2) := dk_16 97 (dk_at dksX5_readMarks_2 20 rfl rfl)
theorem dX5_readMarks_70 : decode cX5_readMarks 70 = .ok (.isub, 1) := dk_100 (dk_at dksX5_readMarks_2 22 rfl rfl)
theorem dX5_readMarks_71 : decode cX5_readMarks 71 = .ok (.istore 4, 2) := dk_54 4 (dk_at dksX5_readMarks_3 0 rfl rfl)
theorem dX5_readMarks_73 : decode cX5_readMarks 73 = .ok (.aload_n 0, 1) := dk_42 (dk_at dksX5_readMarks_3 2 rfl rfl)
theorem dX5_readMarks_74 : decode cX5_readMarks 74 = .ok (.iload 4, 2) := dk_21 4 (dk_at dksX5_readMarks_3 3 rfl rfl)
theorem dX5_readMarks_76 : decode cX5_readMarks 76 = .ok (.i2l, 1) := dk_133 (dk_at dksX5_readMarks_3 5 rfl rfl)
theorem dX5_readMarks_77 : decode cX5_readMarks 77 = .ok (.lconst 0, 1) := dk_9 (dk_at dksX5_readMarks_3 6 rfl rfl)
theorem dX5_readMarks_78 : decode cX5_readMarks 78 = .ok (.ldc2_w 190, 3) := dk_20 0 190 (dk_at dksX5_readMarks_3 7 rfl rfl)
theorem dX5_readMarks_81 : decode cX5_readMarks 81 = .ok (.invokestatic 137, 3) := dk_184 0 137 (dk_at dksX5_readMarks_3 10 rfl rfl)
theorem dX5_readMarks_84 : decode cX5_readMarks 84 = .ok (.ifCond .eq 25, 3) := dk_153 0 25 (dk_at dksX5_readMarks_3 13 rfl rfl)
theorem dX5_readMarks_87 : decode cX5_readMarks 87 = .ok (.iload_n 2, 1) := dk_28 (dk_at dksX5_readMarks_3 16 rfl rfl)
theorem dX5_readMarks_88 : decode cX5_readMarks 88 = .ok (.iload 4, 2) := dk_21 4 (dk_at dksX5_readMarks_3 17 rfl rfl)
theorem dX5_readMarks_90 : decode cX5_readMarks 90 = .ok (.ishr, 1) := dk_122 (dk_at dksX5_readMarks_3 19 rfl rfl)
theorem dX5_readMarks_91 : decode cX5_readMarks 91 = .ok (.iconst 1, 1) := dk_4 (dk_at dksX5_readMarks_3 20 rfl rfl)
theorem dX5_readMarks_92 : decode cX5_readMarks 92 = .ok (.iand, 1) := dk_126 (dk_at dksX5_readMarks_3 21 rfl rfl)
theorem dX5_readMarks_93 : decode cX5_readMarks 93 = .ok (.ifCond .ne 16, 3) := dk_154 0 16 (dk_at dksX5_readMarks_4 0 rfl rfl)
theorem dX5_readMarks_96 : decode cX5_readMarks 96 = .ok (.iload_n 1, 1) := dk_27 (dk_at dksX5_readMarks_4 3 rfl rfl)
theorem dX5_readMarks_97 : decode cX5_readMarks 97 = .ok (.iload 4, 2) := dk_21 4 (dk_at dksX5_readMarks_4 4 rfl rfl)
theorem dX5_readMarks_99 : decode cX5_readMarks 99 = .ok (.ishr, 1) := dk_122 (dk_at dksX5_readMarks_4 6 rfl rfl)
theorem dX5_readMarks_100 : decode cX5_readMarks 100 = .ok (.iconst 1, 1) := dk_4 (dk_at dksX5_readMarks_4 7 rfl rfl)
theorem dX5_readMarks_101 : decode cX5_readMarks 101 = .ok (.iand, 1) := dk_126 (dk_at dksX5_readMarks_4 8 rfl rfl)
theorem dX5_readMarks_102 : decode cX5_readMarks 102 = .ok (.ifCond .ne 7, 3) := dk_154 0 7 (dk_at dksX5_readMarks_4 9 rfl rfl)
theorem dX5_readMarks_105 : decode cX5_readMarks 105 = .ok (.iconst 1, 1) := dk_4 (dk_at dksX5_readMarks_4 12 rfl rfl)
theorem dX5_readMarks_106 : decode cX5_readMarks 106 = .ok (.goto 4, 3) := dk_167 0 4 (dk_at dksX5_readMarks_4 13 rfl rfl)
theorem dX5_readMarks_109 : decode cX5_readMarks 109 = .ok (.iconst 0, 1) := dk_3 (dk_at dksX5_readMarks_4 16 rfl rfl)
theorem dX5_readMarks_110 : decode cX5_readMarks 110 = .ok (.iconst 3, 1) := dk_6 (dk_at dksX5_readMarks_4 17 rfl rfl)
theorem dX5_readMarks_111 : decode cX5_readMarks 111 = .ok (.invokevirtual 183, 3) := dk_182 0 183 (dk_at dksX5_readMarks_4 18 rfl rfl)
theorem dX5_readMarks_114 : decode cX5_readMarks 114 = .ok (.iload_n 2, 1) := dk_28 (dk_at dksX5_readMarks_4 21 rfl rfl)
theorem dX5_readMarks_115 : decode cX5_readMarks 115 = .ok (.aload_n 0, 1) := dk_42 (dk_at dksX5_readMarks_4 22 rfl rfl)
theorem dX5_readMarks_116 : decode cX5_readMarks 116 = .ok (.getfield 141, 3) := dk_180 0 141 (dk_at dksX5_readMarks_5 0 rfl rfl)
theorem dX5_readMarks_119 : decode cX5_readMarks 119 = .ok (.ifCond .ne 10, 3) := dk_154 0 10 (dk_at dksX5_readMarks_5 3 rfl rfl)
theorem dX5_readMarks_122 : decode cX5_readMarks 122 = .ok (.iconst 1, 1) := dk_4 (dk_at dksX5_readMarks_5 6 rfl rfl)
theorem dX5_readMarks_123 : decode cX5_readMarks 123 = .ok (.iload 4, 2) := dk_21 4 (dk_at dksX5_readMarks_5 7 rfl rfl)
theorem dX5_readMarks_125 : decode cX5_readMarks 125 = .ok (.ishl, 1) := dk_120 (dk_at dksX5_readMarks_5 9 rfl rfl)
theorem dX5_readMarks_126 : decode cX5_readMarks 126 = .ok (.goto 4, 3) := dk_167 0 4 (dk_at dksX5_readMarks_5 10 rfl rfl)
theorem dX5_readMarks_129 : decode cX5_readMarks 129 = .ok (.iconst 0, 1) := dk_3 (dk_at dksX5_readMarks_5 13 rfl rfl)
theorem dX5_readMarks_130 : decode cX5_readMarks 130 = .ok (.ior, 1) := dk_128 (dk_at dksX5_readMarks_5 14 rfl rfl)
theorem dX5_readMarks_131 : decode cX5_readMarks 131 = .ok (.istore_n 2, 1) := dk_61 (dk_at dksX5_readMarks_5 15 rfl rfl)
theorem dX5_readMarks_132 : decode cX5_readMarks 132 = .ok (.iinc 3 1, 3) := dk_132 3 1 (dk_at dksX5_readMarks_5 16 rfl rfl)
theorem dX5_readMarks_135 : decode cX5_readMarks 135 = .ok (.goto (-95), 3) := dk_167 255 161 (dk_at dksX5_readMarks_5 19 rfl rfl)
theorem dX5_readMarks_138 : decode cX5_readMarks 138 = .ok (.aload_n 0, 1) := dk_42 (dk_at dksX5_readMarks_5 22 rfl rfl)
theorem dX5_readMarks_139 : decode cX5_readMarks 139 = .ok (.invokevirtual 187, 3) := dk_182 0 187 (dk_at dksX5_readMarks_6 0 rfl rfl)
theorem dX5_readMarks_142 : decode cX5_readMarks 142 = .ok (.iload_n 2, 1) := dk_28 (dk_at dksX5_readMarks_6 3 rfl rfl)
theorem dX5_readMarks_143 : decode cX5_readMarks 143 = .ok (.ireturn, 1) := dk_172 (dk_at dksX5_readMarks_6 4 rfl rfl)
abbrev cX5_readMeans : ByteArray := prog_14_method_20_code
def yX5_readMeans : MethodName := ⟨RX5, "readMeans", "()V"⟩
def dkwX5_readMeans_3 : List UInt8 := [180, 0, 31, 42, 180, 0, 99, 28, 79, 42, 89, 180, 0, 99, 4, 96, 181, 0, 99, 177]
abbrev dktX5_readMeans_3 : List UInt8 := dkwX5_readMeans_3 ++ []
def dkwX5_readMeans_2 : List UInt8 := [182, 0, 199, 61, 42, 180, 0, 141, 154, 0, 33, 42, 180, 0, 28, 42, 180, 0, 99, 27, 79, 42]
abbrev dktX5_readMeans_2 : List UInt8 := dkwX5_readMeans_2 ++ dktX5_readMeans_3
def dkwX5_readMeans_1 : List UInt8 := [42, 182, 0, 192, 16, 13, 160, 0, 7, 4, 167, 0, 4, 3, 5, 182, 0, 183, 42, 182, 0, 187, 42, 27]
abbrev dktX5_readMeans_1 : List UInt8 := dkwX5_readMeans_1 ++ dktX5_readMeans_2
def dkwX5_readMeans_0 : List UInt8 := [42, 3, 182, 0, 199, 60, 3, 61, 42, 180, 0, 141, 154, 0, 40, 42, 180, 0, 169, 4, 160, 0, 32, 42]
abbrev dktX5_readMeans_0 : List UInt8 := dkwX5_readMeans_0 ++ dktX5_readMeans_1
theorem dksX5_readMeans_0 : cX5_readMeans.data.toList.drop 0 = dktX5_readMeans_0 := by decide +kernel
theorem dksX5_readMeans_1 : cX5_readMeans.data.toList.drop 24 = dktX5_readMeans_1 := dk_seg dksX5_readMeans_0 24 rfl rfl
theorem dksX5_readMeans_2 : cX5_readMeans.data.toList.drop 48 = dktX5_readMeans_2 := dk_seg dksX5_readMeans_1 24 rfl rfl
theorem dksX5_readMeans_3 : cX5_readMeans.data.toList.drop 70 = dktX5_readMeans_3 := dk_seg dksX5_readMeans_2 22 rfl rfl
theorem dX5_readMeans_0 : decode cX5_readMeans 0 = .ok (.aload_n 0, 1) := dk_42 (dk_at dksX5_readMeans_0 0 rfl rfl)
theorem dX5_readMeans_1 : decode cX5_readMeans 1 = .ok (.iconst 0, 1) := dk_3 (dk_at dksX5_readMeans_0 1 rfl rfl)
theorem dX5_readMeans_2 : decode cX5_readMeans 2 = .ok (.invokevirtual 199, 3) := dk_182 0 199 (dk_at dksX5_readMeans_0 2 rfl rfl)
theorem dX5_readMeans_5 : decode cX5_readMeans 5 = .ok (.istore_n 1, 1) := dk_60 (dk_at dksX5_readMeans_0 5 rfl rfl)
theorem dX5_readMeans_6 : decode cX5_readMeans 6 = .ok (.iconst 0, 1) := dk_3 (dk_at dksX5_readMeans_0 6 rfl rfl)
theorem dX5_readMeans_7 : decode cX5_readMeans 7 = .ok (.istore_n 2, 1) := dk_61 (dk_at dksX5_readMeans_0 7 rfl rfl)
theorem dX5_readMeans_8 : decode cX5_readMeans 8 = .ok (.aload_n 0, 1) := dk_42 (dk_at dksX5_readMeans_0 8 rfl rfl)
theorem dX5_readMeans_9 : decode cX5_readMeans 9 = .ok (.getfield 141, 3) := dk_180 0 141 (dk_at dksX5_readMeans_0 9 rfl rfl)
theorem dX5_readMeans_12 : decode cX5_readMeans 12 = .ok (.ifCond .ne 40, 3) := dk_154 0 40 (dk_at dksX5_readMeans_0 12 rfl rfl)
theorem dX5_readMeans_15 : decode cX5_readMeans 15 = .ok (.aload_n 0, 1) := dk_42 (dk_at dksX5_readMeans_0 15 rfl rfl)
theorem dX5_readMeans_16 : decode cX5_readMeans 16 = .ok (.getfield 169, 3) := dk_180 0 169 (dk_at dksX5_readMeans_0 16 rfl rfl)
theorem dX5_readMeans_19 : decode cX5_readMeans 19 = .ok (.iconst 1, 1) := dk_4 (dk_at dksX5_readMeans_0 19 rfl rfl)
theorem dX5_readMeans_20 : decode cX5_readMeans 20 = .ok (.if_icmp .ne 32, 3) := dk_160 0 32 (dk_at dksX5_readMeans_0 20 rfl rfl)
theorem dX5_readMeans_23 : decode cX5_readMeans 23 = .ok (.aload_n 0, 1) := dk_42 (dk_at dksX5_readMeans_0 23 rfl rfl)
theorem dX5_readMeans_24 : decode cX5_readMeans 24 = .ok (.aload_n 0, 1) := dk_42 (dk_at dksX5_readMeans_1 0 rfl rfl)
theorem dX5_readMeans_25 : decode cX5_readMeans 25 = .ok (.invokevirtual 192, 3) := dk_182 0 192 (dk_at dksX5_readMeans_1 1 rfl rfl)
theorem dX5_readMeans_28 : decode cX5_readMeans 28 = .ok (.bipush 13, 2) := dk_16 13 (dk_at dksX5_readMeans_1 4 rfl rfl)
theorem dX5_readMeans_30 : decode cX5_readMeans 30 = .ok (.if_icmp .ne 7, 3) := dk_160 0 7 (dk_at dksX5_readMeans_1 6 rfl rfl)
theorem dX5_readMeans_33 : decode cX5_readMeans 33 = .ok (.iconst 1, 1) := dk_4 (dk_at dksX5_readMeans_1 9 rfl rfl)
theorem dX5_readMeans_34 : decode cX5_readMeans 34 = .ok (.goto 4, 3) := dk_167 0 4 (dk_at dksX5_readMeans_1 10 rfl rfl)
theorem dX5_readMeans_37 : decode cX5_readMeans 37 = .ok (.iconst 0, 1) := dk_3 (dk_at dksX5_readMeans_1 13 rfl rfl)
theorem dX5_readMeans_38 : decode cX5_readMeans 38 = .ok (.iconst 2, 1) := dk_5 (dk_at dksX5_readMeans_1 14 rfl rfl)
theorem dX5_readMeans_39 : decode cX5_readMeans 39 = .ok (.invokevirtual 183, 3) := dk_182 0 183 (dk_at dksX5_readMeans_1 15 rfl rfl)
theorem dX5_readMeans_42 : decode cX5_readMeans 42 = .ok (.aload_n 0, 1) := dk_42 (dk_at dksX5_readMeans_1 18 rfl rfl)
theorem dX5_readMeans_43 : decode cX5_readMeans 43 = .ok (.invokevirtual 187, 3) := dk_182 0 187 (dk_at dksX5_readMeans_1 19 rfl rfl)
theorem dX5_readMeans_46 : decode cX5_readMeans 46 = .ok (.aload_n 0, 1) := dk_42 (dk_at dksX5_readMeans_1 22 rfl rfl)
theorem dX5_readMeans_47 : decode cX5_readMeans 47 = .ok (.iload_n 1, 1) := dk_27 (dk_at dksX5_readMeans_1 23 rfl rfl)
theorem dX5_readMeans_48 : decode cX5_readMeans 48 = .ok (.invokevirtual 199, 3) := dk_182 0 199 (dk_at dksX5_readMeans_2 0 rfl rfl)
theorem dX5_readMeans_51 : decode cX5_readMeans 51 = .ok (.istore_n 2, 1) := dk_61 (dk_at dksX5_readMeans_2 3 rfl rfl)
theorem dX5_readMeans_52 : decode cX5_readMeans 52 = .ok (.aload_n 0, 1) := dk_42 (dk_at dksX5_readMeans_2 4 rfl rfl)
theorem dX5_readMeans_53 : decode cX5_readMeans 53 = .ok (.getfield 141, 3) := dk_180 0 141 (dk_at dksX5_readMeans_2 5 rfl rfl)
theorem dX5_readMeans_56 : decode cX5_readMeans 56 = .ok (.ifCond .ne 33, 3) := dk_154 0 33 (dk_at dksX5_readMeans_2 8 rfl rfl)
theorem dX5_readMeans_59 : decode cX5_readMeans 59 = .ok (.aload_n 0, 1) := dk_42 (dk_at dksX5_readMeans_2 11 rfl rfl)
theorem dX5_readMeans_60 : decode cX5_readMeans 60 = .ok (.getfield 28, 3) := dk_180 0 28 (dk_at dksX5_readMeans_2 12 rfl rfl)
theorem dX5_readMeans_63 : decode cX5_readMeans 63 = .ok (.aload_n 0, 1) := dk_42 (dk_at dksX5_readMeans_2 15 rfl rfl)
theorem dX5_readMeans_64 : decode cX5_readMeans 64 = .ok (.getfield 99, 3) := dk_180 0 99 (dk_at dksX5_readMeans_2 16 rfl rfl)
theorem dX5_readMeans_67 : decode cX5_readMeans 67 = .ok (.iload_n 1, 1) := dk_27 (dk_at dksX5_readMeans_2 19 rfl rfl)
theorem dX5_readMeans_68 : decode cX5_readMeans 68 = .ok (.iastore, 1) := dk_79 (dk_at dksX5_readMeans_2 20 rfl rfl)
theorem dX5_readMeans_69 : decode cX5_readMeans 69 = .ok (.aload_n 0, 1) := dk_42 (dk_at dksX5_readMeans_2 21 rfl rfl)
theorem dX5_readMeans_70 : decode cX5_readMeans 70 = .ok (.getfield 31, 3) := dk_180 0 31 (dk_at dksX5_readMeans_3 0 rfl rfl)
theorem dX5_readMeans_73 : decode cX5_readMeans 73 = .ok (.aload_n 0, 1) := dk_42 (dk_at dksX5_readMeans_3 3 rfl rfl)
theorem dX5_readMeans_74 : decode cX5_readMeans 74 = .ok (.getfield 99, 3) := dk_180 0 99 (dk_at dksX5_readMeans_3 4 rfl rfl)
theorem dX5_readMeans_77 : decode cX5_readMeans 77 = .ok (.iload_n 2, 1) := dk_28 (dk_at dksX5_readMeans_3 7 rfl rfl)
theorem dX5_readMeans_78 : decode cX5_readMeans 78 = .ok (.iastore, 1) := dk_79 (dk_at dksX5_readMeans_3 8 rfl rfl)
theorem dX5_readMeans_79 : decode cX5_readMeans 79 = .ok (.aload_n 0, 1) := dk_42 (dk_at dksX5_readMeans_3 9 rfl rfl)
theorem dX5_readMeans_80 : decode cX5_readMeans 80 = .ok (.dup, 1) := dk_89 (dk_at dksX5_readMeans_3 10 rfl rfl)
theorem dX5_readMeans_81 : decode cX5_readMeans 81 = .ok (.getfield 99, 3) := dk_180 0 99 (dk_at dksX5_readMeans_3 11 rfl rfl)
theorem dX5_readMeans_84 : decode cX5_readMeans 84 = .ok (.iconst 1, 1) := dk_4 (dk_at dksX5_readMeans_3 14 rfl rfl)
theorem dX5_readMeans_85 : decode cX5_readMeans 85 = .ok (.iadd, 1) := dk_96 (dk_at dksX5_readMeans_3 15 rfl rfl)
theorem dX5_readMeans_86 : decode cX5_readMeans 86 = .ok (.putfield 99, 3) := dk_181 0 99 (dk_at dksX5_readMeans_3 16 rfl rfl)
theorem dX5_readMeans_89 : decode cX5_readMeans 89 = .ok (.return_, 1) := dk_177 (dk_at dksX5_readMeans_3 19 rfl rfl)
abbrev cX5_readNumber : ByteArray := prog_14_method_17_code
def yX5_readNumber : MethodName := ⟨RX5, "readNumber", "(II)I"⟩
def dkwX5_readNumber_2 : List UInt8 := [182, 0, 183, 42, 180, 0, 180, 62, 42, 182, 0, 187, 29, 172]
abbrev dktX5_readNumber_2 : List UInt8 := dkwX5_readNumber_2 ++ []
def dkwX5_readNumber_1 : List UInt8 := [182, 0, 183, 42, 180, 0, 141, 154, 0, 20, 42, 42, 180, 0, 180, 133, 27, 133, 28, 133, 184, 0, 137, 6]
abbrev dktX5_readNumber_1 : List UInt8 := dkwX5_readNumber_1 ++ dktX5_readNumber_2
def dkwX5_readNumber_0 : List UInt8 := [42, 180, 0, 141, 154, 0, 21, 42, 42, 180, 0, 169, 5, 160, 0, 7, 4, 167, 0, 4, 3, 5]
abbrev dktX5_readNumber_0 : List UInt8 := dkwX5_readNumber_0 ++ dktX5_readNumber_1
theorem dksX5_readNumber_0 : cX5_readNumber.data.toList.drop 0 = dktX5_readNumber_0 := by decide +kernel
theorem dksX5_readNumber_1 : cX5_readNumber.data.toList.drop 22 = dktX5_readNumber_1 := dk_seg dksX5_readNumber_0 22 rfl rfl
theorem dksX5_readNumber_2 : cX5_readNumber.data.toList.drop 46 = dktX5_readNumber_2 := dk_seg dksX5_readNumber_1 24 rfl rfl
theorem dX5_readNumber_0 : decode cX5_readNumber 0 = .ok (.aload_n 0, 1) := dk_42 (dk_at dksX5_readNumber_0 0 rfl rfl)
theorem dX5_readNumber_1 : decode cX5_readNumber 1 = .ok (.getfield 141, 3) := dk_180 0 141 (dk_at dksX5_readNumber_0 1 rfl rfl)
theorem dX5_readNumber_4 : decode cX5_readNumber 4 = .ok (.ifCond .ne 21, 3) := dk_154 0 21 (dk_at dksX5_readNumber_0 4 rfl rfl)
theorem dX5_readNumber_7 : decode cX5_readNumber 7 = .ok (.aload_n 0, 1) := dk_42 (dk_at dksX5_readNumber_0 7 rfl rfl)
theorem dX5_readNumber_8 : decode cX5_readNumber 8 = .ok (.aload_n 0, 1) := dk_42 (dk_at dksX5_readNumber_0 8 rfl rfl)
theorem dX5_readNumber_9 : decode cX5_readNumber 9 = .ok (.getfield 169, 3) := dk_180 0 169 (dk_at dksX5_readNumber_0 9 rfl rfl)
theorem dX5_readNumber_12 : decode cX5_readNumber 12 = .ok (.iconst 2, 1) := dk_5 (dk_at dksX5_readNumber_0 12 rfl rfl)
theorem dX5_readNumber_13 : decode cX5_readNumber 13 = .ok (.if_icmp .ne 7, 3) := dk_160 0 7 (dk_at dksX5_readNumber_0 13 rfl rfl)
theorem dX5_readNumber_16 : decode cX5_readNumber 16 = .ok (.iconst 1, 1) := dk_4 (dk_at dksX5_readNumber_0 16 rfl rfl)
theorem dX5_readNumber_17 : decode cX5_readNumber 17 = .ok (.goto 4, 3) := dk_167 0 4 (dk_at dksX5_readNumber_0 17 rfl rfl)
theorem dX5_readNumber_20 : decode cX5_readNumber 20 = .ok (.iconst 0, 1) := dk_3 (dk_at dksX5_readNumber_0 20 rfl rfl)
theorem dX5_readNumber_21 : decode cX5_readNumber 21 = .ok (.iconst 2, 1) := dk_5 (dk_at dksX5_readNumber_0 21 rfl rfl)
theorem dX5_readNumber_22 : decode cX5_readNumber 22 = .ok (.invokevirtual 183, 3) := dk_182 0 183 (dk_at dksX5_readNumber_1 0 rfl rfl)
theorem dX5_readNumber_25 : decode cX5_readNumber 25 = .ok (.aload_n 0, 1) := dk_42 (dk_at dksX5_readNumber_1 3 rfl rfl)
theorem dX5_readNumber_26 : decode cX5_readNumber 26 = .ok (.getfield 141, 3) := dk_180 0 141 (dk_at dksX5_readNumber_1 4 rfl rfl)
theorem dX5_readNumber_29 : decode cX5_readNumber 29 = .ok (.ifCond .ne 20, 3) := dk_154 0 20 (dk_at dksX5_readNumber_1 7 rfl rfl)
theorem dX5_readNumber_32 : decode cX5_readNumber 32 = .ok (.aload_n 0, 1) := dk_42 (dk_at dksX5_readNumber_1 10 rfl rfl)
theorem dX5_readNumber_33 : decode cX5_readNumber 33 = .ok (.aload_n 0, 1) := dk_42 (dk_at dksX5_readNumber_1 11 rfl rfl)
theorem dX5_readNumber_34 : decode cX5_readNumber 34 = .ok (.getfield 180, 3) := dk_180 0 180 (dk_at dksX5_readNumber_1 12 rfl rfl)
theorem dX5_readNumber_37 : decode cX5_readNumber 37 = .ok (.i2l, 1) := dk_133 (dk_at dksX5_readNumber_1 15 rfl rfl)
theorem dX5_readNumber_38 : decode cX5_readNumber 38 = .ok (.iload_n 1, 1) := dk_27 (dk_at dksX5_readNumber_1 16 rfl rfl)
theorem dX5_readNumber_39 : decode cX5_readNumber 39 = .ok (.i2l, 1) := dk_133 (dk_at dksX5_readNumber_1 17 rfl rfl)
theorem dX5_readNumber_40 : decode cX5_readNumber 40 = .ok (.iload_n 2, 1) := dk_28 (dk_at dksX5_readNumber_1 18 rfl rfl)
theorem dX5_readNumber_41 : decode cX5_readNumber 41 = .ok (.i2l, 1) := dk_133 (dk_at dksX5_readNumber_1 19 rfl rfl)
theorem dX5_readNumber_42 : decode cX5_readNumber 42 = .ok (.invokestatic 137, 3) := dk_184 0 137 (dk_at dksX5_readNumber_1 20 rfl rfl)
theorem dX5_readNumber_45 : decode cX5_readNumber 45 = .ok (.iconst 3, 1) := dk_6 (dk_at dksX5_readNumber_1 23 rfl rfl)
theorem dX5_readNumber_46 : decode cX5_readNumber 46 = .ok (.invokevirtual 183, 3) := dk_182 0 183 (dk_at dksX5_readNumber_2 0 rfl rfl)
theorem dX5_readNumber_49 : decode cX5_readNumber 49 = .ok (.aload_n 0, 1) := dk_42 (dk_at dksX5_readNumber_2 3 rfl rfl)
theorem dX5_readNumber_50 : decode cX5_readNumber 50 = .ok (.getfield 180, 3) := dk_180 0 180 (dk_at dksX5_readNumber_2 4 rfl rfl)
theorem dX5_readNumber_53 : decode cX5_readNumber 53 = .ok (.istore_n 3, 1) := dk_62 (dk_at dksX5_readNumber_2 7 rfl rfl)
theorem dX5_readNumber_54 : decode cX5_readNumber 54 = .ok (.aload_n 0, 1) := dk_42 (dk_at dksX5_readNumber_2 8 rfl rfl)
theorem dX5_readNumber_55 : decode cX5_readNumber 55 = .ok (.invokevirtual 187, 3) := dk_182 0 187 (dk_at dksX5_readNumber_2 9 rfl rfl)
theorem dX5_readNumber_58 : decode cX5_readNumber 58 = .ok (.iload_n 3, 1) := dk_29 (dk_at dksX5_readNumber_2 12 rfl rfl)
theorem dX5_readNumber_59 : decode cX5_readNumber 59 = .ok (.ireturn, 1) := dk_172 (dk_at dksX5_readNumber_2 13 rfl rfl)
abbrev cX5_readKind : ByteArray := prog_14_method_19_code
def yX5_readKind : MethodName := ⟨RX5, "readKind", "(I)V"⟩
def dkwX5_readKind_9 : List UInt8 := [126, 79, 42, 180, 0, 37, 28, 7, 96, 21, 5, 79, 42, 89, 180, 0, 105, 4, 96, 181, 0, 105, 177]
abbrev dktX5_readKind_9 : List UInt8 := dkwX5_readKind_9 ++ []
def dkwX5_readKind_8 : List UInt8 := [29, 79, 42, 180, 0, 37, 28, 5, 96, 21, 4, 79, 42, 180, 0, 37, 28, 6, 96, 21, 6, 5, 122, 4]
abbrev dktX5_readKind_8 : List UInt8 := dkwX5_readKind_8 ++ dktX5_readKind_9
def dkwX5_readKind_7 : List UInt8 := [167, 255, 117, 42, 180, 0, 141, 154, 0, 63, 42, 180, 0, 37, 28, 27, 79, 42, 180, 0, 37, 28, 4, 96]
abbrev dktX5_readKind_7 : List UInt8 := dkwX5_readKind_7 ++ dktX5_readKind_8
def dkwX5_readKind_6 : List UInt8 := [182, 0, 202, 54, 4, 167, 0, 19, 21, 7, 16, 17, 160, 0, 12, 42, 3, 16, 9, 182, 0, 202, 54, 5]
abbrev dktX5_readKind_6 : List UInt8 := dkwX5_readKind_6 ++ dktX5_readKind_7
def dkwX5_readKind_5 : List UInt8 := [182, 0, 199, 62, 167, 0, 42, 21, 7, 16, 15, 160, 0, 19, 42, 3, 42, 180, 0, 95, 4, 100]
abbrev dktX5_readKind_5 : List UInt8 := dkwX5_readKind_5 ++ dktX5_readKind_6
def dkwX5_readKind_4 : List UInt8 := [21, 7, 16, 14, 100, 120, 128, 54, 6, 42, 182, 0, 187, 21, 7, 16, 14, 160, 0, 12, 42, 3]
abbrev dktX5_readKind_4 : List UInt8 := dkwX5_readKind_4 ++ dktX5_readKind_5
def dkwX5_readKind_3 : List UInt8 := [21, 7, 16, 14, 100, 122, 4, 126, 154, 0, 7, 4, 167, 0, 4, 3, 7, 182, 0, 183, 21, 6, 4]
abbrev dktX5_readKind_3 : List UInt8 := dkwX5_readKind_3 ++ dktX5_readKind_4
def dkwX5_readKind_2 : List UInt8 := [20, 0, 195, 20, 0, 197, 184, 0, 137, 5, 182, 0, 183, 42, 180, 0, 141, 154, 0, 97, 42, 21, 6]
abbrev dktX5_readKind_2 : List UInt8 := dkwX5_readKind_2 ++ dktX5_readKind_3
def dkwX5_readKind_1 : List UInt8 := [180, 0, 141, 154, 0, 138, 42, 180, 0, 169, 4, 160, 0, 130, 42, 182, 0, 192, 54, 7, 42, 21, 7, 133]
abbrev dktX5_readKind_1 : List UInt8 := dkwX5_readKind_1 ++ dktX5_readKind_2
def dkwX5_readKind_0 : List UInt8 := [8, 42, 180, 0, 105, 104, 61, 17, 0, 255, 62, 16, 252, 54, 4, 4, 54, 5, 3, 54, 6, 42]
abbrev dktX5_readKind_0 : List UInt8 := dkwX5_readKind_0 ++ dktX5_readKind_1
theorem dksX5_readKind_0 : cX5_readKind.data.toList.drop 0 = dktX5_readKind_0 := by decide +kernel
theorem dksX5_readKind_1 : cX5_readKind.data.toList.drop 22 = dktX5_readKind_1 := dk_seg dksX5_readKind_0 22 rfl rfl
theorem dksX5_readKind_2 : cX5_readKind.data.toList.drop 46 = dktX5_readKind_2 := dk_seg dksX5_readKind_1 24 rfl rfl
theorem dksX5_readKind_3 : cX5_readKind.data.toList.drop 69 = dktX5_readKind_3 := dk_seg dksX5_readKind_2 23 rfl rfl
theorem dksX5_readKind_4 : cX5_readKind.data.toList.drop 92 = dktX5_readKind_4 := dk_seg dksX5_readKind_3 23 rfl rfl
theorem dksX5_readKind_5 : cX5_readKind.data.toList.drop 114 = dktX5_readKind_5 := dk_seg dksX5_readKind_4 22 rfl rfl
theorem dksX5_readKind_6 : cX5_readKind.data.toList.drop 136 = dktX5_readKind_6 := dk_seg dksX5_readKind_5 22 rfl rfl
theorem dksX5_readKind_7 : cX5_readKind.data.toList.drop 160 = dktX5_readKind_7 := dk_seg dksX5_readKind_6 24 rfl rfl
theorem dksX5_readKind_8 : cX5_readKind.data.toList.drop 184 = dktX5_readKind_8 := dk_seg dksX5_readKind_7 24 rfl rfl
theorem dksX5_readKind_9 : cX5_readKind.data.toList.drop 208 = dktX5_readKind_9 := dk_seg dksX5_readKind_8 24 rfl rfl
theorem dX5_readKind_0 : decode cX5_readKind 0 = .ok (.iconst 5, 1) := dk_8 (dk_at dksX5_readKind_0 0 rfl rfl)
theorem dX5_readKind_1 : decode cX5_readKind 1 = .ok (.aload_n 0, 1) := dk_42 (dk_at dksX5_readKind_0 1 rfl rfl)
theorem dX5_readKind_2 : decode cX5_readKind 2 = .ok (.getfield 105, 3) := dk_180 0 105 (dk_at dksX5_readKind_0 2 rfl rfl)
theorem dX5_readKind_5 : decode cX5_readKind 5 = .ok (.imul, 1) := dk_104 (dk_at dksX5_readKind_0 5 rfl rfl)
theorem dX5_readKind_6 : decode cX5_readKind 6 = .ok (.istore_n 2, 1) := dk_61 (dk_at dksX5_readKind_0 6 rfl rfl)
theorem dX5_readKind_7 : decode cX5_readKind 7 = .ok (.sipush 255, 3) := dk_17 0 255 (dk_at dksX5_readKind_0 7 rfl rfl)
theorem dX5_readKind_10 : decode cX5_readKind 10 = .ok (.istore_n 3, 1) := dk_62 (dk_at dksX5_readKind_0 10 rfl rfl)
theorem dX5_readKind_11 : decode cX5_readKind 11 = .ok (.bipush (-4), 2) := dk_16 252 (dk_at dksX5_readKind_0 11 rfl rfl)
theorem dX5_readKind_13 : decode cX5_readKind 13 = .ok (.istore 4, 2) := dk_54 4 (dk_at dksX5_readKind_0 13 rfl rfl)
theorem dX5_readKind_15 : decode cX5_readKind 15 = .ok (.iconst 1, 1) := dk_4 (dk_at dksX5_readKind_0 15 rfl rfl)
theorem dX5_readKind_16 : decode cX5_readKind 16 = .ok (.istore 5, 2) := dk_54 5 (dk_at dksX5_readKind_0 16 rfl rfl)
theorem dX5_readKind_18 : decode cX5_readKind 18 = .ok (.iconst 0, 1) := dk_3 (dk_at dksX5_readKind_0 18 rfl rfl)
theorem dX5_readKind_19 : decode cX5_readKind 19 = .ok (.istore 6, 2) := dk_54 6 (dk_at dksX5_readKind_0 19 rfl rfl)
theorem dX5_readKind_21 : decode cX5_readKind 21 = .ok (.aload_n 0, 1) := dk_42 (dk_at dksX5_readKind_0 21 rfl rfl)
theorem dX5_readKind_22 : decode cX5_readKind 22 = .ok (.getfield 141, 3) := dk_180 0 141 (dk_at dksX5_readKind_1 0 rfl rfl)
theorem dX5_readKind_25 : decode cX5_readKind 25 = .ok (.ifCond .ne 138, 3) := dk_154 0 138 (dk_at dksX5_readKind_1 3 rfl rfl)
theorem dX5_readKind_28 : decode cX5_readKind 28 = .ok (.aload_n 0, 1) := dk_42 (dk_at dksX5_readKind_1 6 rfl rfl)
theorem dX5_readKind_29 : decode cX5_readKind 29 = .ok (.getfield 169, 3) := dk_180 0 169 (dk_at dksX5_readKind_1 7 rfl rfl)
theorem dX5_readKind_32 : decode cX5_readKind 32 = .ok (.iconst 1, 1) := dk_4 (dk_at dksX5_readKind_1 10 rfl rfl)
theorem dX5_readKind_33 : decode cX5_readKind 33 = .ok (.if_icmp .ne 130, 3) := dk_160 0 130 (dk_at dksX5_readKind_1 11 rfl rfl)
theorem dX5_readKind_36 : decode cX5_readKind 36 = .ok (.aload_n 0, 1) := dk_42 (dk_at dksX5_readKind_1 14 rfl rfl)
theorem dX5_readKind_37 : decode cX5_readKind 37 = .ok (.invokevirtual 192, 3) := dk_182 0 192 (dk_at dksX5_readKind_1 15 rfl rfl)
theorem dX5_readKind_40 : decode cX5_readKind 40 = .ok (.istore 7, 2) := dk_54 7 (dk_at dksX5_readKind_1 18 rfl rfl)
theorem dX5_readKind_42 : decode cX5_readKind 42 = .ok (.aload_n 0, 1) := dk_42 (dk_at dksX5_readKind_1 20 rfl rfl)
theorem dX5_readKind_43 : decode cX5_readKind 43 = .ok (.iload 7, 2) := dk_21 7 (dk_at dksX5_readKind_1 21 rfl rfl)
theorem dX5_readKind_45 : decode cX5_readKind 45 = .ok (.i2l, 1) := dk_133 (dk_at dksX5_readKind_1 23 rfl rfl)
theorem dX5_readKind_46 : decode cX5_readKind 46 = .ok (.ldc2_w 195, 3) := dk_20 0 195 (dk_at dksX5_readKind_2 0 rfl rfl)
theorem dX5_readKind_49 : decode cX5_readKind 49 = .ok (.ldc2_w 197, 3) := dk_20 0 197 (dk_at dksX5_readKind_2 3 rfl rfl)
theorem dX5_readKind_52 : decode cX5_readKind 52 = .ok (.invokestatic 137, 3) := dk_184 0 137 (dk_at dksX5_readKind_2 6 rfl rfl)
theorem dX5_readKind_55 : decode cX5_readKind 55 = .ok (.iconst 2, 1) := dk_5 (dk_at dksX5_readKind_2 9 rfl rfl)
theorem dX5_readKind_56 : decode cX5_readKind 56 = .ok (.invokevirtual 183, 3) := dk_182 0 183 (dk_at dksX5_readKind_2 10 rfl rfl)
theorem dX5_readKind_59 : decode cX5_readKind 59 = .ok (.aload_n 0, 1) := dk_42 (dk_at dksX5_readKind_2 13 rfl rfl)
theorem dX5_readKind_60 : decode cX5_readKind 60 = .ok (.getfield 141, 3) := dk_180 0 141 (dk_at dksX5_readKind_2 14 rfl rfl)
theorem dX5_readKind_63 : decode cX5_readKind 63 = .ok (.ifCond .ne 97, 3) := dk_154 0 97 (dk_at dksX5_readKind_2 17 rfl rfl)
theorem dX5_readKind_66 : decode cX5_readKind 66 = .ok (.aload_n 0, 1) := dk_42 (dk_at dksX5_readKind_2 20 rfl rfl)
theorem dX5_readKind_67 : decode cX5_readKind 67 = .ok (.iload 6, 2) := dk_21 6 (dk_at dksX5_readKind_2 21 rfl rfl)
theorem dX5_readKind_69 : decode cX5_readKind 69 = .ok (.iload 7, 2) := dk_21 7 (dk_at dksX5_readKind_3 0 rfl rfl)
theorem dX5_readKind_71 : decode cX5_readKind 71 = .ok (.bipush 14, 2) := dk_16 14 (dk_at dksX5_readKind_3 2 rfl rfl)
theorem dX5_readKind_73 : decode cX5_readKind 73 = .ok (.isub, 1) := dk_100 (dk_at dksX5_readKind_3 4 rfl rfl)
theorem dX5_readKind_74 : decode cX5_readKind 74 = .ok (.ishr, 1) := dk_122 (dk_at dksX5_readKind_3 5 rfl rfl)
theorem dX5_readKind_75 : decode cX5_readKind 75 = .ok (.iconst 1, 1) := dk_4 (dk_at dksX5_readKind_3 6 rfl rfl)
theorem dX5_readKind_76 : decode cX5_readKind 76 = .ok (.iand, 1) := dk_126 (dk_at dksX5_readKind_3 7 rfl rfl)
theorem dX5_readKind_77 : decode cX5_readKind 77 = .ok (.ifCond .ne 7, 3) := dk_154 0 7 (dk_at dksX5_readKind_3 8 rfl rfl)
theorem dX5_readKind_80 : decode cX5_readKind 80 = .ok (.iconst 1, 1) := dk_4 (dk_at dksX5_readKind_3 11 rfl rfl)
theorem dX5_readKind_81 : decode cX5_readKind 81 = .ok (.goto 4, 3) := dk_167 0 4 (dk_at dksX5_readKind_3 12 rfl rfl)
theorem dX5_readKind_84 : decode cX5_readKind 84 = .ok (.iconst 0, 1) := dk_3 (dk_at dksX5_readKind_3 15 rfl rfl)
theorem dX5_readKind_85 : decode cX5_readKind 85 = .ok (.iconst 4, 1) := dk_7 (dk_at dksX5_readKind_3 16 rfl rfl)
theorem dX5_readKind_86 : decode cX5_readKind 86 = .ok (.invokevirtual 183, 3) := dk_182 0 183 (dk_at dksX5_readKind_3 17 rfl rfl)
theorem dX5_readKind_89 : decode cX5_readKind 89 = .ok (.iload 6, 2) := dk_21 6 (dk_at dksX5_readKind_3 20 rfl rfl)
theorem dX5_readKind_91 : decode cX5_readKind 91 = .ok (.iconst 1, 1) := dk_4 (dk_at dksX5_readKind_3 22 rfl rfl)
theorem dX5_readKind_92 : decode cX5_readKind 92 = .ok (.iload 7, 2) := dk_21 7 (dk_at dksX5_readKind_4 0 rfl rfl)
theorem dX5_readKind_94 : decode cX5_readKind 94 = .ok (.bipush 14, 2) := dk_16 14 (dk_at dksX5_readKind_4 2 rfl rfl)
theorem dX5_readKind_96 : decode cX5_readKind 96 = .ok (.isub, 1) := dk_100 (dk_at dksX5_readKind_4 4 rfl rfl)
theorem dX5_readKind_97 : decode cX5_readKind 97 = .ok (.ishl, 1) := dk_120 (dk_at dksX5_readKind_4 5 rfl rfl)
theorem dX5_readKind_98 : decode cX5_readKind 98 = .ok (.ior, 1) := dk_128 (dk_at dksX5_readKind_4 6 rfl rfl)
theorem dX5_readKind_99 : decode cX5_readKind 99 = .ok (.istore 6, 2) := dk_54 6 (dk_at dksX5_readKind_4 7 rfl rfl)
theorem dX5_readKind_101 : decode cX5_readKind 101 = .ok (.aload_n 0, 1) := dk_42 (dk_at dksX5_readKind_4 9 rfl rfl)
theorem dX5_readKind_102 : decode cX5_readKind 102 = .ok (.invokevirtual 187, 3) := dk_182 0 187 (dk_at dksX5_readKind_4 10 rfl rfl)
theorem dX5_readKind_105 : decode cX5_readKind 105 = .ok (.iload 7, 2) := dk_21 7 (dk_at dksX5_readKind_4 13 rfl rfl)
theorem dX5_readKind_107 : decode cX5_readKind 107 = .ok (.bipush 14, 2) := dk_16 14 (dk_at dksX5_readKind_4 15 rfl rfl)
theorem dX5_readKind_109 : decode cX5_readKind 109 = .ok (.if_icmp .ne 12, 3) := dk_160 0 12 (dk_at dksX5_readKind_4 17 rfl rfl)
theorem dX5_readKind_112 : decode cX5_readKind 112 = .ok (.aload_n 0, 1) := dk_42 (dk_at dksX5_readKind_4 20 rfl rfl)
theorem dX5_readKind_113 : decode cX5_readKind 113 = .ok (.iconst 0, 1) := dk_3 (dk_at dksX5_readKind_4 21 rfl rfl)
theorem dX5_readKind_114 : decode cX5_readKind 114 = .ok (.invokevirtual 199, 3) := dk_182 0 199 (dk_at dksX5_readKind_5 0 rfl rfl)
theorem dX5_readKind_117 : decode cX5_readKind 117 = .ok (.istore_n 3, 1) := dk_62 (dk_at dksX5_readKind_5 3 rfl rfl)
theorem dX5_readKind_118 : decode cX5_readKind 118 = .ok (.goto 42, 3) := dk_167 0 42 (dk_at dksX5_readKind_5 4 rfl rfl)
theorem dX5_readKind_121 : decode cX5_readKind 121 = .ok (.iload 7, 2) := dk_21 7 (dk_at dksX5_readKind_5 7 rfl rfl)
theorem dX5_readKind_123 : decode cX5_readKind 123 = .ok (.bipush 15, 2) := dk_16 15 (dk_at dksX5_readKind_5 9 rfl rfl)
theorem dX5_readKind_125 : decode cX5_readKind 125 = .ok (.if_icmp .ne 19, 3) := dk_160 0 19 (dk_at dksX5_readKind_5 11 rfl rfl)
theorem dX5_readKind_128 : decode cX5_readKind 128 = .ok (.aload_n 0, 1) := dk_42 (dk_at dksX5_readKind_5 14 rfl rfl)
theorem dX5_readKind_129 : decode cX5_readKind 129 = .ok (.iconst 0, 1) := dk_3 (dk_at dksX5_readKind_5 15 rfl rfl)
theorem dX5_readKind_130 : decode cX5_readKind 130 = .ok (.aload_n 0, 1) := dk_42 (dk_at dksX5_readKind_5 16 rfl rfl)
theorem dX5_readKind_131 : decode cX5_readKind 131 = .ok (.getfield 95, 3) := dk_180 0 95 (dk_at dksX5_readKind_5 17 rfl rfl)
theorem dX5_readKind_134 : decode cX5_readKind 134 = .ok (.iconst 1, 1) := dk_4 (dk_at dksX5_readKind_5 20 rfl rfl)
theorem dX5_readKind_135 : decode cX5_readKind 135 = .ok (.isub, 1) := dk_100 (dk_at dksX5_readKind_5 21 rfl rfl)
theorem dX5_readKind_136 : decode cX5_readKind 136 = .ok (.invokevirtual 202, 3) := dk_182 0 202 (dk_at dksX5_readKind_6 0 rfl rfl)
theorem dX5_readKind_139 : decode cX5_readKind 139 = .ok (.istore 4, 2) := dk_54 4 (dk_at dksX5_readKind_6 3 rfl rfl)
theorem dX5_readKind_141 : decode cX5_readKind 141 = .ok (.goto 19, 3) := dk_167 0 19 (dk_at dksX5_readKind_6 5 rfl rfl)
theorem dX5_readKind_144 : decode cX5_readKind 144 = .ok (.iload 7, 2) := dk_21 7 (dk_at dksX5_readKind_6 8 rfl rfl)
theorem dX5_readKind_146 : decode cX5_readKind 146 = .ok (.bipush 17, 2) := dk_16 17 (dk_at dksX5_readKind_6 10 rfl rfl)
theorem dX5_readKind_148 : decode cX5_readKind 148 = .ok (.if_icmp .ne 12, 3) := dk_160 0 12 (dk_at dksX5_readKind_6 12 rfl rfl)
theorem dX5_readKind_151 : decode cX5_readKind 151 = .ok (.aload_n 0, 1) := dk_42 (dk_at dksX5_readKind_6 15 rfl rfl)
theorem dX5_readKind_152 : decode cX5_readKind 152 = .ok (.iconst 0, 1) := dk_3 (dk_at dksX5_readKind_6 16 rfl rfl)
theorem dX5_readKind_153 : decode cX5_readKind 153 = .ok (.bipush 9, 2) := dk_16 9 (dk_at dksX5_readKind_6 17 rfl rfl)
theorem dX5_readKind_155 : decode cX5_readKind 155 = .ok (.invokevirtual 202, 3) := dk_182 0 202 (dk_at dksX5_readKind_6 19 rfl rfl)
theorem dX5_readKind_158 : decode cX5_readKind 158 = .ok (.istore 5, 2) := dk_54 5 (dk_at dksX5_readKind_6 22 rfl rfl)
theorem dX5_readKind_160 : decode cX5_readKind 160 = .ok (.goto (-139), 3) := dk_167 255 117 (dk_at dksX5_readKind_7 0 rfl rfl)
theorem dX5_readKind_163 : decode cX5_readKind 163 = .ok (.aload_n 0, 1) := dk_42 (dk_at dksX5_readKind_7 3 rfl rfl)
theorem dX5_readKind_164 : decode cX5_readKind 164 = .ok (.getfield 141, 3) := dk_180 0 141 (dk_at dksX5_readKind_7 4 rfl rfl)
theorem dX5_readKind_167 : decode cX5_readKind 167 = .ok (.ifCond .ne 63, 3) := dk_154 0 63 (dk_at dksX5_readKind_7 7 rfl rfl)
theorem dX5_readKind_170 : decode cX5_readKind 170 = .ok (.aload_n 0, 1) := dk_42 (dk_at dksX5_readKind_7 10 rfl rfl)
theorem dX5_readKind_171 : decode cX5_readKind 171 = .ok (.getfield 37, 3) := dk_180 0 37 (dk_at dksX5_readKind_7 11 rfl rfl)
theorem dX5_readKind_174 : decode cX5_readKind 174 = .ok (.iload_n 2, 1) := dk_28 (dk_at dksX5_readKind_7 14 rfl rfl)
theorem dX5_readKind_175 : decode cX5_readKind 175 = .ok (.iload_n 1, 1) := dk_27 (dk_at dksX5_readKind_7 15 rfl rfl)
theorem dX5_readKind_176 : decode cX5_readKind 176 = .ok (.iastore, 1) := dk_79 (dk_at dksX5_readKind_7 16 rfl rfl)
theorem dX5_readKind_177 : decode cX5_readKind 177 = .ok (.aload_n 0, 1) := dk_42 (dk_at dksX5_readKind_7 17 rfl rfl)
theorem dX5_readKind_178 : decode cX5_readKind 178 = .ok (.getfield 37, 3) := dk_180 0 37 (dk_at dksX5_readKind_7 18 rfl rfl)
theorem dX5_readKind_181 : decode cX5_readKind 181 = .ok (.iload_n 2, 1) := dk_28 (dk_at dksX5_readKind_7 21 rfl rfl)
theorem dX5_readKind_182 : decode cX5_readKind 182 = .ok (.iconst 1, 1) := dk_4 (dk_at dksX5_readKind_7 22 rfl rfl)
theorem dX5_readKind_183 : decode cX5_readKind 183 = .ok (.iadd, 1) := dk_96 (dk_at dksX5_readKind_7 23 rfl rfl)
theorem dX5_readKind_184 : decode cX5_readKind 184 = .ok (.iload_n 3, 1) := dk_29 (dk_at dksX5_readKind_8 0 rfl rfl)
theorem dX5_readKind_185 : decode cX5_readKind 185 = .ok (.iastore, 1) := dk_79 (dk_at dksX5_readKind_8 1 rfl rfl)
theorem dX5_readKind_186 : decode cX5_readKind 186 = .ok (.aload_n 0, 1) := dk_42 (dk_at dksX5_readKind_8 2 rfl rfl)
theorem dX5_readKind_187 : decode cX5_readKind 187 = .ok (.getfield 37, 3) := dk_180 0 37 (dk_at dksX5_readKind_8 3 rfl rfl)
theorem dX5_readKind_190 : decode cX5_readKind 190 = .ok (.iload_n 2, 1) := dk_28 (dk_at dksX5_readKind_8 6 rfl rfl)
theorem dX5_readKind_191 : decode cX5_readKind 191 = .ok (.iconst 2, 1) := dk_5 (dk_at dksX5_readKind_8 7 rfl rfl)
theorem dX5_readKind_192 : decode cX5_readKind 192 = .ok (.iadd, 1) := dk_96 (dk_at dksX5_readKind_8 8 rfl rfl)
theorem dX5_readKind_193 : decode cX5_readKind 193 = .ok (.iload 4, 2) := dk_21 4 (dk_at dksX5_readKind_8 9 rfl rfl)
theorem dX5_readKind_195 : decode cX5_readKind 195 = .ok (.iastore, 1) := dk_79 (dk_at dksX5_readKind_8 11 rfl rfl)
theorem dX5_readKind_196 : decode cX5_readKind 196 = .ok (.aload_n 0, 1) := dk_42 (dk_at dksX5_readKind_8 12 rfl rfl)
theorem dX5_readKind_197 : decode cX5_readKind 197 = .ok (.getfield 37, 3) := dk_180 0 37 (dk_at dksX5_readKind_8 13 rfl rfl)
theorem dX5_readKind_200 : decode cX5_readKind 200 = .ok (.iload_n 2, 1) := dk_28 (dk_at dksX5_readKind_8 16 rfl rfl)
theorem dX5_readKind_201 : decode cX5_readKind 201 = .ok (.iconst 3, 1) := dk_6 (dk_at dksX5_readKind_8 17 rfl rfl)
theorem dX5_readKind_202 : decode cX5_readKind 202 = .ok (.iadd, 1) := dk_96 (dk_at dksX5_readKind_8 18 rfl rfl)
theorem dX5_readKind_203 : decode cX5_readKind 203 = .ok (.iload 6, 2) := dk_21 6 (dk_at dksX5_readKind_8 19 rfl rfl)
theorem dX5_readKind_205 : decode cX5_readKind 205 = .ok (.iconst 2, 1) := dk_5 (dk_at dksX5_readKind_8 21 rfl rfl)
theorem dX5_readKind_206 : decode cX5_readKind 206 = .ok (.ishr, 1) := dk_122 (dk_at dksX5_readKind_8 22 rfl rfl)
theorem dX5_readKind_207 : decode cX5_readKind 207 = .ok (.iconst 1, 1) := dk_4 (dk_at dksX5_readKind_8 23 rfl rfl)
theorem dX5_readKind_208 : decode cX5_readKind 208 = .ok (.iand, 1) := dk_126 (dk_at dksX5_readKind_9 0 rfl rfl)
theorem dX5_readKind_209 : decode cX5_readKind 209 = .ok (.iastore, 1) := dk_79 (dk_at dksX5_readKind_9 1 rfl rfl)
theorem dX5_readKind_210 : decode cX5_readKind 210 = .ok (.aload_n 0, 1) := dk_42 (dk_at dksX5_readKind_9 2 rfl rfl)
theorem dX5_readKind_211 : decode cX5_readKind 211 = .ok (.getfield 37, 3) := dk_180 0 37 (dk_at dksX5_readKind_9 3 rfl rfl)
theorem dX5_readKind_214 : decode cX5_readKind 214 = .ok (.iload_n 2, 1) := dk_28 (dk_at dksX5_readKind_9 6 rfl rfl)
theorem dX5_readKind_215 : decode cX5_readKind 215 = .ok (.iconst 4, 1) := dk_7 (dk_at dksX5_readKind_9 7 rfl rfl)
theorem dX5_readKind_216 : decode cX5_readKind 216 = .ok (.iadd, 1) := dk_96 (dk_at dksX5_readKind_9 8 rfl rfl)
theorem dX5_readKind_217 : decode cX5_readKind 217 = .ok (.iload 5, 2) := dk_21 5 (dk_at dksX5_readKind_9 9 rfl rfl)
theorem dX5_readKind_219 : decode cX5_readKind 219 = .ok (.iastore, 1) := dk_79 (dk_at dksX5_readKind_9 11 rfl rfl)
theorem dX5_readKind_220 : decode cX5_readKind 220 = .ok (.aload_n 0, 1) := dk_42 (dk_at dksX5_readKind_9 12 rfl rfl)
theorem dX5_readKind_221 : decode cX5_readKind 221 = .ok (.dup, 1) := dk_89 (dk_at dksX5_readKind_9 13 rfl rfl)
theorem dX5_readKind_222 : decode cX5_readKind 222 = .ok (.getfield 105, 3) := dk_180 0 105 (dk_at dksX5_readKind_9 14 rfl rfl)
theorem dX5_readKind_225 : decode cX5_readKind 225 = .ok (.iconst 1, 1) := dk_4 (dk_at dksX5_readKind_9 17 rfl rfl)
theorem dX5_readKind_226 : decode cX5_readKind 226 = .ok (.iadd, 1) := dk_96 (dk_at dksX5_readKind_9 18 rfl rfl)
theorem dX5_readKind_227 : decode cX5_readKind 227 = .ok (.putfield 105, 3) := dk_181 0 105 (dk_at dksX5_readKind_9 19 rfl rfl)
theorem dX5_readKind_230 : decode cX5_readKind 230 = .ok (.return_, 1) := dk_177 (dk_at dksX5_readKind_9 22 rfl rfl)
abbrev cX5_fault : ByteArray := prog_14_method_23_code
def yX5_fault : MethodName := ⟨RX5, "fault", "()I"⟩
theorem dX5_fault_0 : decode cX5_fault 0 = .ok (.aload_n 0, 1) := by decide +kernel
theorem dX5_fault_1 : decode cX5_fault 1 = .ok (.getfield 141, 3) := by decide +kernel
theorem dX5_fault_4 : decode cX5_fault 4 = .ok (.ireturn, 1) := by decide +kernel
abbrev cX5_thing : ByteArray := prog_14_method_31_code
def yX5_thing : MethodName := ⟨RX5, "thing", "(I)I"⟩
def dkwX5_thing_0 : List UInt8 := [42, 27, 182, 0, 225, 153, 0, 12, 42, 180, 0, 7, 27, 46, 167, 0, 4, 2, 172]
abbrev dktX5_thing_0 : List UInt8 := dkwX5_thing_0 ++ []
theorem dksX5_thing_0 : cX5_thing.data.toList.drop 0 = dktX5_thing_0 := by decide +kernel
theorem dX5_thing_0 : decode cX5_thing 0 = .ok (.aload_n 0, 1) := dk_42 (dk_at dksX5_thing_0 0 rfl rfl)
theorem dX5_thing_1 : decode cX5_thing 1 = .ok (.iload_n 1, 1) := dk_27 (dk_at dksX5_thing_0 1 rfl rfl)
theorem dX5_thing_2 : decode cX5_thing 2 = .ok (.invokevirtual 225, 3) := dk_182 0 225 (dk_at dksX5_thing_0 2 rfl rfl)
theorem dX5_thing_5 : decode cX5_thing 5 = .ok (.ifCond .eq 12, 3) := dk_153 0 12 (dk_at dksX5_thing_0 5 rfl rfl)
theorem dX5_thing_8 : decode cX5_thing 8 = .ok (.aload_n 0, 1) := dk_42 (dk_at dksX5_thing_0 8 rfl rfl)
theorem dX5_thing_9 : decode cX5_thing 9 = .ok (.getfield 7, 3) := dk_180 0 7 (dk_at dksX5_thing_0 9 rfl rfl)
theorem dX5_thing_12 : decode cX5_thing 12 = .ok (.iload_n 1, 1) := dk_27 (dk_at dksX5_thing_0 12 rfl rfl)
theorem dX5_thing_13 : decode cX5_thing 13 = .ok (.iaload, 1) := dk_46 (dk_at dksX5_thing_0 13 rfl rfl)
theorem dX5_thing_14 : decode cX5_thing 14 = .ok (.goto 4, 3) := dk_167 0 4 (dk_at dksX5_thing_0 14 rfl rfl)
theorem dX5_thing_17 : decode cX5_thing 17 = .ok (.iconst (-1), 1) := dk_2 (dk_at dksX5_thing_0 17 rfl rfl)
theorem dX5_thing_18 : decode cX5_thing 18 = .ok (.ireturn, 1) := dk_172 (dk_at dksX5_thing_0 18 rfl rfl)
abbrev cX5_isThing : ByteArray := prog_14_method_24_code
def yX5_isThing : MethodName := ⟨RX5, "isThing", "(I)Z"⟩
def dkwX5_isThing_0 : List UInt8 := [27, 133, 9, 42, 180, 0, 108, 4, 100, 133, 184, 0, 137, 172]
abbrev dktX5_isThing_0 : List UInt8 := dkwX5_isThing_0 ++ []
theorem dksX5_isThing_0 : cX5_isThing.data.toList.drop 0 = dktX5_isThing_0 := by decide +kernel
theorem dX5_isThing_0 : decode cX5_isThing 0 = .ok (.iload_n 1, 1) := dk_27 (dk_at dksX5_isThing_0 0 rfl rfl)
theorem dX5_isThing_1 : decode cX5_isThing 1 = .ok (.i2l, 1) := dk_133 (dk_at dksX5_isThing_0 1 rfl rfl)
theorem dX5_isThing_2 : decode cX5_isThing 2 = .ok (.lconst 0, 1) := dk_9 (dk_at dksX5_isThing_0 2 rfl rfl)
theorem dX5_isThing_3 : decode cX5_isThing 3 = .ok (.aload_n 0, 1) := dk_42 (dk_at dksX5_isThing_0 3 rfl rfl)
theorem dX5_isThing_4 : decode cX5_isThing 4 = .ok (.getfield 108, 3) := dk_180 0 108 (dk_at dksX5_isThing_0 4 rfl rfl)
theorem dX5_isThing_7 : decode cX5_isThing 7 = .ok (.iconst 1, 1) := dk_4 (dk_at dksX5_isThing_0 7 rfl rfl)
theorem dX5_isThing_8 : decode cX5_isThing 8 = .ok (.isub, 1) := dk_100 (dk_at dksX5_isThing_0 8 rfl rfl)
theorem dX5_isThing_9 : decode cX5_isThing 9 = .ok (.i2l, 1) := dk_133 (dk_at dksX5_isThing_0 9 rfl rfl)
theorem dX5_isThing_10 : decode cX5_isThing 10 = .ok (.invokestatic 137, 3) := dk_184 0 137 (dk_at dksX5_isThing_0 10 rfl rfl)
theorem dX5_isThing_13 : decode cX5_isThing 13 = .ok (.ireturn, 1) := dk_172 (dk_at dksX5_isThing_0 13 rfl rfl)
abbrev cX5_meaning : ByteArray := prog_14_method_32_code
def yX5_meaning : MethodName := ⟨RX5, "meaning", "(II)I"⟩
def dkwX5_meaning_5 : List UInt8 := [160, 0, 12, 42, 180, 0, 40, 27, 46, 167, 0, 4, 29, 172]
abbrev dktX5_meaning_5 : List UInt8 := dkwX5_meaning_5 ++ []
def dkwX5_meaning_4 : List UInt8 := [42, 180, 0, 16, 27, 46, 167, 0, 31, 28, 5, 160, 0, 11, 42, 27, 182, 0, 234, 167, 0, 18, 28, 6]
abbrev dktX5_meaning_4 : List UInt8 := dkwX5_meaning_4 ++ dktX5_meaning_5
def dkwX5_meaning_3 : List UInt8 := [132, 4, 1, 167, 255, 219, 28, 154, 0, 12, 42, 180, 0, 13, 27, 46, 167, 0, 45, 28, 4, 160, 0, 12]
abbrev dktX5_meaning_3 : List UInt8 := dkwX5_meaning_3 ++ dktX5_meaning_4
def dkwX5_meaning_2 : List UInt8 := [21, 4, 182, 0, 231, 27, 122, 4, 126, 4, 160, 0, 10, 4, 21, 4, 120, 167, 0, 4, 3, 128, 62]
abbrev dktX5_meaning_2 : List UInt8 := dkwX5_meaning_2 ++ dktX5_meaning_3
def dkwX5_meaning_1 : List UInt8 := [184, 0, 137, 154, 0, 5, 2, 172, 3, 62, 3, 54, 4, 21, 4, 42, 180, 0, 117, 162, 0, 34, 29, 42]
abbrev dktX5_meaning_1 : List UInt8 := dkwX5_meaning_1 ++ dktX5_meaning_2
def dkwX5_meaning_0 : List UInt8 := [27, 133, 9, 42, 180, 0, 111, 4, 100, 133, 184, 0, 137, 153, 0, 15, 28, 133, 9, 20, 0, 229]
abbrev dktX5_meaning_0 : List UInt8 := dkwX5_meaning_0 ++ dktX5_meaning_1
theorem dksX5_meaning_0 : cX5_meaning.data.toList.drop 0 = dktX5_meaning_0 := by decide +kernel
theorem dksX5_meaning_1 : cX5_meaning.data.toList.drop 22 = dktX5_meaning_1 := dk_seg dksX5_meaning_0 22 rfl rfl
theorem dksX5_meaning_2 : cX5_meaning.data.toList.drop 46 = dktX5_meaning_2 := dk_seg dksX5_meaning_1 24 rfl rfl
theorem dksX5_meaning_3 : cX5_meaning.data.toList.drop 69 = dktX5_meaning_3 := dk_seg dksX5_meaning_2 23 rfl rfl
theorem dksX5_meaning_4 : cX5_meaning.data.toList.drop 93 = dktX5_meaning_4 := dk_seg dksX5_meaning_3 24 rfl rfl
theorem dksX5_meaning_5 : cX5_meaning.data.toList.drop 117 = dktX5_meaning_5 := dk_seg dksX5_meaning_4 24 rfl rfl
theorem dX5_meaning_0 : decode cX5_meaning 0 = .ok (.iload_n 1, 1) := dk_27 (dk_at dksX5_meaning_0 0 rfl rfl)
theorem dX5_meaning_1 : decode cX5_meaning 1 = .ok (.i2l, 1) := dk_133 (dk_at dksX5_meaning_0 1 rfl rfl)
theorem dX5_meaning_2 : decode cX5_meaning 2 = .ok (.lconst 0, 1) := dk_9 (dk_at dksX5_meaning_0 2 rfl rfl)
theorem dX5_meaning_3 : decode cX5_meaning 3 = .ok (.aload_n 0, 1) := dk_42 (dk_at dksX5_meaning_0 3 rfl rfl)
theorem dX5_meaning_4 : decode cX5_meaning 4 = .ok (.getfield 111, 3) := dk_180 0 111 (dk_at dksX5_meaning_0 4 rfl rfl)
theorem dX5_meaning_7 : decode cX5_meaning 7 = .ok (.iconst 1, 1) := dk_4 (dk_at dksX5_meaning_0 7 rfl rfl)
theorem dX5_meaning_8 : decode cX5_meaning 8 = .ok (.isub, 1) := dk_100 (dk_at dksX5_meaning_0 8 rfl rfl)
theorem dX5_meaning_9 : decode cX5_meaning 9 = .ok (.i2l, 1) := dk_133 (dk_at dksX5_meaning_0 9 rfl rfl)
theorem dX5_meaning_10 : decode cX5_meaning 10 = .ok (.invokestatic 137, 3) := dk_184 0 137 (dk_at dksX5_meaning_0 10 rfl rfl)
theorem dX5_meaning_13 : decode cX5_meaning 13 = .ok (.ifCond .eq 15, 3) := dk_153 0 15 (dk_at dksX5_meaning_0 13 rfl rfl)
theorem dX5_meaning_16 : decode cX5_meaning 16 = .ok (.iload_n 2, 1) := dk_28 (dk_at dksX5_meaning_0 16 rfl rfl)
theorem dX5_meaning_17 : decode cX5_meaning 17 = .ok (.i2l, 1) := dk_133 (dk_at dksX5_meaning_0 17 rfl rfl)
theorem dX5_meaning_18 : decode cX5_meaning 18 = .ok (.lconst 0, 1) := dk_9 (dk_at dksX5_meaning_0 18 rfl rfl)
theorem dX5_meaning_19 : decode cX5_meaning 19 = .ok (.ldc2_w 229, 3) := dk_20 0 229 (dk_at dksX5_meaning_0 19 rfl rfl)
theorem dX5_meaning_22 : decode cX5_meaning 22 = .ok (.invokestatic 137, 3) := dk_184 0 137 (dk_at dksX5_meaning_1 0 rfl rfl)
theorem dX5_meaning_25 : decode cX5_meaning 25 = .ok (.ifCond .ne 5, 3) := dk_154 0 5 (dk_at dksX5_meaning_1 3 rfl rfl)
theorem dX5_meaning_28 : decode cX5_meaning 28 = .ok (.iconst (-1), 1) := dk_2 (dk_at dksX5_meaning_1 6 rfl rfl)
theorem dX5_meaning_29 : decode cX5_meaning 29 = .ok (.ireturn, 1) := dk_172 (dk_at dksX5_meaning_1 7 rfl rfl)
theorem dX5_meaning_30 : decode cX5_meaning 30 = .ok (.iconst 0, 1) := dk_3 (dk_at dksX5_meaning_1 8 rfl rfl)
theorem dX5_meaning_31 : decode cX5_meaning 31 = .ok (.istore_n 3, 1) := dk_62 (dk_at dksX5_meaning_1 9 rfl rfl)
theorem dX5_meaning_32 : decode cX5_meaning 32 = .ok (.iconst 0, 1) := dk_3 (dk_at dksX5_meaning_1 10 rfl rfl)
theorem dX5_meaning_33 : decode cX5_meaning 33 = .ok (.istore 4, 2) := dk_54 4 (dk_at dksX5_meaning_1 11 rfl rfl)
theorem dX5_meaning_35 : decode cX5_meaning 35 = .ok (.iload 4, 2) := dk_21 4 (dk_at dksX5_meaning_1 13 rfl rfl)
theorem dX5_meaning_37 : decode cX5_meaning 37 = .ok (.aload_n 0, 1) := dk_42 (dk_at dksX5_meaning_1 15 rfl rfl)
theorem dX5_meaning_38 : decode cX5_meaning 38 = .ok (.getfield 117, 3) := dk_180 0 117 (dk_at dksX5_meaning_1 16 rfl rfl)
theorem dX5_meaning_41 : decode cX5_meaning 41 = .ok (.if_icmp .ge 34, 3) := dk_162 0 34 (dk_at dksX5_meaning_1 19 rfl rfl)
theorem dX5_meaning_44 : decode cX5_meaning 44 = .ok (.iload_n 3, 1) := dk_29 (dk_at dksX5_meaning_1 22 rfl rfl)
theorem dX5_meaning_45 : decode cX5_meaning 45 = .ok (.aload_n 0, 1) := dk_42 (dk_at dksX5_meaning_1 23 rfl rfl)
theorem dX5_meaning_46 : decode cX5_meaning 46 = .ok (.iload 4, 2) := dk_21 4 (dk_at dksX5_meaning_2 0 rfl rfl)
theorem dX5_meaning_48 : decode cX5_meaning 48 = .ok (.invokevirtual 231, 3) := dk_182 0 231 (dk_at dksX5_meaning_2 2 rfl rfl)
theorem dX5_meaning_51 : decode cX5_meaning 51 = .ok (.iload_n 1, 1) := dk_27 (dk_at dksX5_meaning_2 5 rfl rfl)
theorem dX5_meaning_52 : decode cX5_meaning 52 = .ok (.ishr, 1) := dk_122 (dk_at dksX5_meaning_2 6 rfl rfl)
theorem dX5_meaning_53 : decode cX5_meaning 53 = .ok (.iconst 1, 1) := dk_4 (dk_at dksX5_meaning_2 7 rfl rfl)
theorem dX5_meaning_54 : decode cX5_meaning 54 = .ok (.iand, 1) := dk_126 (dk_at dksX5_meaning_2 8 rfl rfl)
theorem dX5_meaning_55 : decode cX5_meaning 55 = .ok (.iconst 1, 1) := dk_4 (dk_at dksX5_meaning_2 9 rfl rfl)
theorem dX5_meaning_56 : decode cX5_meaning 56 = .ok (.if_icmp .ne 10, 3) := dk_160 0 10 (dk_at dksX5_meaning_2 10 rfl rfl)
theorem dX5_meaning_59 : decode cX5_meaning 59 = .ok (.iconst 1, 1) := dk_4 (dk_at dksX5_meaning_2 13 rfl rfl)
theorem dX5_meaning_60 : decode cX5_meaning 60 = .ok (.iload 4, 2) := dk_21 4 (dk_at dksX5_meaning_2 14 rfl rfl)
theorem dX5_meaning_62 : decode cX5_meaning 62 = .ok (.ishl, 1) := dk_120 (dk_at dksX5_meaning_2 16 rfl rfl)
theorem dX5_meaning_63 : decode cX5_meaning 63 = .ok (.goto 4, 3) := dk_167 0 4 (dk_at dksX5_meaning_2 17 rfl rfl)
theorem dX5_meaning_66 : decode cX5_meaning 66 = .ok (.iconst 0, 1) := dk_3 (dk_at dksX5_meaning_2 20 rfl rfl)
theorem dX5_meaning_67 : decode cX5_meaning 67 = .ok (.ior, 1) := dk_128 (dk_at dksX5_meaning_2 21 rfl rfl)
theorem dX5_meaning_68 : decode cX5_meaning 68 = .ok (.istore_n 3, 1) := dk_62 (dk_at dksX5_meaning_2 22 rfl rfl)
theorem dX5_meaning_69 : decode cX5_meaning 69 = .ok (.iinc 4 1, 3) := dk_132 4 1 (dk_at dksX5_meaning_3 0 rfl rfl)
theorem dX5_meaning_72 : decode cX5_meaning 72 = .ok (.goto (-37), 3) := dk_167 255 219 (dk_at dksX5_meaning_3 3 rfl rfl)
theorem dX5_meaning_75 : decode cX5_meaning 75 = .ok (.iload_n 2, 1) := dk_28 (dk_at dksX5_meaning_3 6 rfl rfl)
theorem dX5_meaning_76 : decode cX5_meaning 76 = .ok (.ifCond .ne 12, 3) := dk_154 0 12 (dk_at dksX5_meaning_3 7 rfl rfl)
theorem dX5_meaning_79 : decode cX5_meaning 79 = .ok (.aload_n 0, 1) := dk_42 (dk_at dksX5_meaning_3 10 rfl rfl)
theorem dX5_meaning_80 : decode cX5_meaning 80 = .ok (.getfield 13, 3) := dk_180 0 13 (dk_at dksX5_meaning_3 11 rfl rfl)
theorem dX5_meaning_83 : decode cX5_meaning 83 = .ok (.iload_n 1, 1) := dk_27 (dk_at dksX5_meaning_3 14 rfl rfl)
theorem dX5_meaning_84 : decode cX5_meaning 84 = .ok (.iaload, 1) := dk_46 (dk_at dksX5_meaning_3 15 rfl rfl)
theorem dX5_meaning_85 : decode cX5_meaning 85 = .ok (.goto 45, 3) := dk_167 0 45 (dk_at dksX5_meaning_3 16 rfl rfl)
theorem dX5_meaning_88 : decode cX5_meaning 88 = .ok (.iload_n 2, 1) := dk_28 (dk_at dksX5_meaning_3 19 rfl rfl)
theorem dX5_meaning_89 : decode cX5_meaning 89 = .ok (.iconst 1, 1) := dk_4 (dk_at dksX5_meaning_3 20 rfl rfl)
theorem dX5_meaning_90 : decode cX5_meaning 90 = .ok (.if_icmp .ne 12, 3) := dk_160 0 12 (dk_at dksX5_meaning_3 21 rfl rfl)
theorem dX5_meaning_93 : decode cX5_meaning 93 = .ok (.aload_n 0, 1) := dk_42 (dk_at dksX5_meaning_4 0 rfl rfl)
theorem dX5_meaning_94 : decode cX5_meaning 94 = .ok (.getfield 16, 3) := dk_180 0 16 (dk_at dksX5_meaning_4 1 rfl rfl)
theorem dX5_meaning_97 : decode cX5_meaning 97 = .ok (.iload_n 1, 1) := dk_27 (dk_at dksX5_meaning_4 4 rfl rfl)
theorem dX5_meaning_98 : decode cX5_meaning 98 = .ok (.iaload, 1) := dk_46 (dk_at dksX5_meaning_4 5 rfl rfl)
theorem dX5_meaning_99 : decode cX5_meaning 99 = .ok (.goto 31, 3) := dk_167 0 31 (dk_at dksX5_meaning_4 6 rfl rfl)
theorem dX5_meaning_102 : decode cX5_meaning 102 = .ok (.iload_n 2, 1) := dk_28 (dk_at dksX5_meaning_4 9 rfl rfl)
theorem dX5_meaning_103 : decode cX5_meaning 103 = .ok (.iconst 2, 1) := dk_5 (dk_at dksX5_meaning_4 10 rfl rfl)
theorem dX5_meaning_104 : decode cX5_meaning 104 = .ok (.if_icmp .ne 11, 3) := dk_160 0 11 (dk_at dksX5_meaning_4 11 rfl rfl)
theorem dX5_meaning_107 : decode cX5_meaning 107 = .ok (.aload_n 0, 1) := dk_42 (dk_at dksX5_meaning_4 14 rfl rfl)
theorem dX5_meaning_108 : decode cX5_meaning 108 = .ok (.iload_n 1, 1) := dk_27 (dk_at dksX5_meaning_4 15 rfl rfl)
theorem dX5_meaning_109 : decode cX5_meaning 109 = .ok (.invokevirtual 234, 3) := dk_182 0 234 (dk_at dksX5_meaning_4 16 rfl rfl)
theorem dX5_meaning_112 : decode cX5_meaning 112 = .ok (.goto 18, 3) := dk_167 0 18 (dk_at dksX5_meaning_4 19 rfl rfl)
theorem dX5_meaning_115 : decode cX5_meaning 115 = .ok (.iload_n 2, 1) := dk_28 (dk_at dksX5_meaning_4 22 rfl rfl)
theorem dX5_meaning_116 : decode cX5_meaning 116 = .ok (.iconst 3, 1) := dk_6 (dk_at dksX5_meaning_4 23 rfl rfl)
theorem dX5_meaning_117 : decode cX5_meaning 117 = .ok (.if_icmp .ne 12, 3) := dk_160 0 12 (dk_at dksX5_meaning_5 0 rfl rfl)
theorem dX5_meaning_120 : decode cX5_meaning 120 = .ok (.aload_n 0, 1) := dk_42 (dk_at dksX5_meaning_5 3 rfl rfl)
theorem dX5_meaning_121 : decode cX5_meaning 121 = .ok (.getfield 40, 3) := dk_180 0 40 (dk_at dksX5_meaning_5 4 rfl rfl)
theorem dX5_meaning_124 : decode cX5_meaning 124 = .ok (.iload_n 1, 1) := dk_27 (dk_at dksX5_meaning_5 7 rfl rfl)
theorem dX5_meaning_125 : decode cX5_meaning 125 = .ok (.iaload, 1) := dk_46 (dk_at dksX5_meaning_5 8 rfl rfl)
theorem dX5_meaning_126 : decode cX5_meaning 126 = .ok (.goto 4, 3) := dk_167 0 4 (dk_at dksX5_meaning_5 9 rfl rfl)
theorem dX5_meaning_129 : decode cX5_meaning 129 = .ok (.iload_n 3, 1) := dk_29 (dk_at dksX5_meaning_5 12 rfl rfl)
theorem dX5_meaning_130 : decode cX5_meaning 130 = .ok (.ireturn, 1) := dk_172 (dk_at dksX5_meaning_5 13 rfl rfl)
abbrev cX5_word : ByteArray := prog_14_method_33_code
def yX5_word : MethodName := ⟨RX5, "word", "(I)I"⟩
def dkwX5_word_0 : List UInt8 := [42, 27, 182, 0, 237, 153, 0, 12, 42, 180, 0, 19, 27, 46, 167, 0, 4, 2, 172]
abbrev dktX5_word_0 : List UInt8 := dkwX5_word_0 ++ []
theorem dksX5_word_0 : cX5_word.data.toList.drop 0 = dktX5_word_0 := by decide +kernel
theorem dX5_word_0 : decode cX5_word 0 = .ok (.aload_n 0, 1) := dk_42 (dk_at dksX5_word_0 0 rfl rfl)
theorem dX5_word_1 : decode cX5_word 1 = .ok (.iload_n 1, 1) := dk_27 (dk_at dksX5_word_0 1 rfl rfl)
theorem dX5_word_2 : decode cX5_word 2 = .ok (.invokevirtual 237, 3) := dk_182 0 237 (dk_at dksX5_word_0 2 rfl rfl)
theorem dX5_word_5 : decode cX5_word 5 = .ok (.ifCond .eq 12, 3) := dk_153 0 12 (dk_at dksX5_word_0 5 rfl rfl)
theorem dX5_word_8 : decode cX5_word 8 = .ok (.aload_n 0, 1) := dk_42 (dk_at dksX5_word_0 8 rfl rfl)
theorem dX5_word_9 : decode cX5_word 9 = .ok (.getfield 19, 3) := dk_180 0 19 (dk_at dksX5_word_0 9 rfl rfl)
theorem dX5_word_12 : decode cX5_word 12 = .ok (.iload_n 1, 1) := dk_27 (dk_at dksX5_word_0 12 rfl rfl)
theorem dX5_word_13 : decode cX5_word 13 = .ok (.iaload, 1) := dk_46 (dk_at dksX5_word_0 13 rfl rfl)
theorem dX5_word_14 : decode cX5_word 14 = .ok (.goto 4, 3) := dk_167 0 4 (dk_at dksX5_word_0 14 rfl rfl)
theorem dX5_word_17 : decode cX5_word 17 = .ok (.iconst (-1), 1) := dk_2 (dk_at dksX5_word_0 17 rfl rfl)
theorem dX5_word_18 : decode cX5_word 18 = .ok (.ireturn, 1) := dk_172 (dk_at dksX5_word_0 18 rfl rfl)
abbrev cX5_isSound : ByteArray := prog_14_method_25_code
def yX5_isSound : MethodName := ⟨RX5, "isSound", "(I)Z"⟩
def dkwX5_isSound_0 : List UInt8 := [27, 133, 9, 42, 180, 0, 114, 4, 100, 133, 184, 0, 137, 172]
abbrev dktX5_isSound_0 : List UInt8 := dkwX5_isSound_0 ++ []
theorem dksX5_isSound_0 : cX5_isSound.data.toList.drop 0 = dktX5_isSound_0 := by decide +kernel
theorem dX5_isSound_0 : decode cX5_isSound 0 = .ok (.iload_n 1, 1) := dk_27 (dk_at dksX5_isSound_0 0 rfl rfl)
theorem dX5_isSound_1 : decode cX5_isSound 1 = .ok (.i2l, 1) := dk_133 (dk_at dksX5_isSound_0 1 rfl rfl)
theorem dX5_isSound_2 : decode cX5_isSound 2 = .ok (.lconst 0, 1) := dk_9 (dk_at dksX5_isSound_0 2 rfl rfl)
theorem dX5_isSound_3 : decode cX5_isSound 3 = .ok (.aload_n 0, 1) := dk_42 (dk_at dksX5_isSound_0 3 rfl rfl)
theorem dX5_isSound_4 : decode cX5_isSound 4 = .ok (.getfield 114, 3) := dk_180 0 114 (dk_at dksX5_isSound_0 4 rfl rfl)
theorem dX5_isSound_7 : decode cX5_isSound 7 = .ok (.iconst 1, 1) := dk_4 (dk_at dksX5_isSound_0 7 rfl rfl)
theorem dX5_isSound_8 : decode cX5_isSound 8 = .ok (.isub, 1) := dk_100 (dk_at dksX5_isSound_0 8 rfl rfl)
theorem dX5_isSound_9 : decode cX5_isSound 9 = .ok (.i2l, 1) := dk_133 (dk_at dksX5_isSound_0 9 rfl rfl)
theorem dX5_isSound_10 : decode cX5_isSound 10 = .ok (.invokestatic 137, 3) := dk_184 0 137 (dk_at dksX5_isSound_0 10 rfl rfl)
theorem dX5_isSound_13 : decode cX5_isSound 13 = .ok (.ireturn, 1) := dk_172 (dk_at dksX5_isSound_0 13 rfl rfl)
abbrev cX5_kind : ByteArray := prog_14_method_34_code
def yX5_kind : MethodName := ⟨RX5, "kind", "(II)I"⟩
def dkwX5_kind_1 : List UInt8 := [28, 8, 160, 0, 11, 42, 27, 182, 0, 231, 167, 0, 13, 42, 180, 0, 22, 8, 27, 104, 28, 96, 46, 172]
abbrev dktX5_kind_1 : List UInt8 := dkwX5_kind_1 ++ []
def dkwX5_kind_0 : List UInt8 := [42, 27, 182, 0, 240, 153, 0, 15, 28, 133, 9, 20, 0, 243, 184, 0, 137, 154, 0, 7, 2, 167, 0, 26]
abbrev dktX5_kind_0 : List UInt8 := dkwX5_kind_0 ++ dktX5_kind_1
theorem dksX5_kind_0 : cX5_kind.data.toList.drop 0 = dktX5_kind_0 := by decide +kernel
theorem dksX5_kind_1 : cX5_kind.data.toList.drop 24 = dktX5_kind_1 := dk_seg dksX5_kind_0 24 rfl rfl
theorem dX5_kind_0 : decode cX5_kind 0 = .ok (.aload_n 0, 1) := dk_42 (dk_at dksX5_kind_0 0 rfl rfl)
theorem dX5_kind_1 : decode cX5_kind 1 = .ok (.iload_n 1, 1) := dk_27 (dk_at dksX5_kind_0 1 rfl rfl)
theorem dX5_kind_2 : decode cX5_kind 2 = .ok (.invokevirtual 240, 3) := dk_182 0 240 (dk_at dksX5_kind_0 2 rfl rfl)
theorem dX5_kind_5 : decode cX5_kind 5 = .ok (.ifCond .eq 15, 3) := dk_153 0 15 (dk_at dksX5_kind_0 5 rfl rfl)
theorem dX5_kind_8 : decode cX5_kind 8 = .ok (.iload_n 2, 1) := dk_28 (dk_at dksX5_kind_0 8 rfl rfl)
theorem dX5_kind_9 : decode cX5_kind 9 = .ok (.i2l, 1) := dk_133 (dk_at dksX5_kind_0 9 rfl rfl)
theorem dX5_kind_10 : decode cX5_kind 10 = .ok (.lconst 0, 1) := dk_9 (dk_at dksX5_kind_0 10 rfl rfl)
theorem dX5_kind_11 : decode cX5_kind 11 = .ok (.ldc2_w 243, 3) := dk_20 0 243 (dk_at dksX5_kind_0 11 rfl rfl)
theorem dX5_kind_14 : decode cX5_kind 14 = .ok (.invokestatic 137, 3) := dk_184 0 137 (dk_at dksX5_kind_0 14 rfl rfl)
theorem dX5_kind_17 : decode cX5_kind 17 = .ok (.ifCond .ne 7, 3) := dk_154 0 7 (dk_at dksX5_kind_0 17 rfl rfl)
theorem dX5_kind_20 : decode cX5_kind 20 = .ok (.iconst (-1), 1) := dk_2 (dk_at dksX5_kind_0 20 rfl rfl)
theorem dX5_kind_21 : decode cX5_kind 21 = .ok (.goto 26, 3) := dk_167 0 26 (dk_at dksX5_kind_0 21 rfl rfl)
theorem dX5_kind_24 : decode cX5_kind 24 = .ok (.iload_n 2, 1) := dk_28 (dk_at dksX5_kind_1 0 rfl rfl)
theorem dX5_kind_25 : decode cX5_kind 25 = .ok (.iconst 5, 1) := dk_8 (dk_at dksX5_kind_1 1 rfl rfl)
theorem dX5_kind_26 : decode cX5_kind 26 = .ok (.if_icmp .ne 11, 3) := dk_160 0 11 (dk_at dksX5_kind_1 2 rfl rfl)
theorem dX5_kind_29 : decode cX5_kind 29 = .ok (.aload_n 0, 1) := dk_42 (dk_at dksX5_kind_1 5 rfl rfl)
theorem dX5_kind_30 : decode cX5_kind 30 = .ok (.iload_n 1, 1) := dk_27 (dk_at dksX5_kind_1 6 rfl rfl)
theorem dX5_kind_31 : decode cX5_kind 31 = .ok (.invokevirtual 231, 3) := dk_182 0 231 (dk_at dksX5_kind_1 7 rfl rfl)
theorem dX5_kind_34 : decode cX5_kind 34 = .ok (.goto 13, 3) := dk_167 0 13 (dk_at dksX5_kind_1 10 rfl rfl)
theorem dX5_kind_37 : decode cX5_kind 37 = .ok (.aload_n 0, 1) := dk_42 (dk_at dksX5_kind_1 13 rfl rfl)
theorem dX5_kind_38 : decode cX5_kind 38 = .ok (.getfield 22, 3) := dk_180 0 22 (dk_at dksX5_kind_1 14 rfl rfl)
theorem dX5_kind_41 : decode cX5_kind 41 = .ok (.iconst 5, 1) := dk_8 (dk_at dksX5_kind_1 17 rfl rfl)
theorem dX5_kind_42 : decode cX5_kind 42 = .ok (.iload_n 1, 1) := dk_27 (dk_at dksX5_kind_1 18 rfl rfl)
theorem dX5_kind_43 : decode cX5_kind 43 = .ok (.imul, 1) := dk_104 (dk_at dksX5_kind_1 19 rfl rfl)
theorem dX5_kind_44 : decode cX5_kind 44 = .ok (.iload_n 2, 1) := dk_28 (dk_at dksX5_kind_1 20 rfl rfl)
theorem dX5_kind_45 : decode cX5_kind 45 = .ok (.iadd, 1) := dk_96 (dk_at dksX5_kind_1 21 rfl rfl)
theorem dX5_kind_46 : decode cX5_kind 46 = .ok (.iaload, 1) := dk_46 (dk_at dksX5_kind_1 22 rfl rfl)
theorem dX5_kind_47 : decode cX5_kind 47 = .ok (.ireturn, 1) := dk_172 (dk_at dksX5_kind_1 23 rfl rfl)
abbrev cX5_isKind : ByteArray := prog_14_method_26_code
def yX5_isKind : MethodName := ⟨RX5, "isKind", "(I)Z"⟩
def dkwX5_isKind_0 : List UInt8 := [27, 133, 9, 42, 180, 0, 117, 4, 100, 133, 184, 0, 137, 172]
abbrev dktX5_isKind_0 : List UInt8 := dkwX5_isKind_0 ++ []
theorem dksX5_isKind_0 : cX5_isKind.data.toList.drop 0 = dktX5_isKind_0 := by decide +kernel
theorem dX5_isKind_0 : decode cX5_isKind 0 = .ok (.iload_n 1, 1) := dk_27 (dk_at dksX5_isKind_0 0 rfl rfl)
theorem dX5_isKind_1 : decode cX5_isKind 1 = .ok (.i2l, 1) := dk_133 (dk_at dksX5_isKind_0 1 rfl rfl)
theorem dX5_isKind_2 : decode cX5_isKind 2 = .ok (.lconst 0, 1) := dk_9 (dk_at dksX5_isKind_0 2 rfl rfl)
theorem dX5_isKind_3 : decode cX5_isKind 3 = .ok (.aload_n 0, 1) := dk_42 (dk_at dksX5_isKind_0 3 rfl rfl)
theorem dX5_isKind_4 : decode cX5_isKind 4 = .ok (.getfield 117, 3) := dk_180 0 117 (dk_at dksX5_isKind_0 4 rfl rfl)
theorem dX5_isKind_7 : decode cX5_isKind 7 = .ok (.iconst 1, 1) := dk_4 (dk_at dksX5_isKind_0 7 rfl rfl)
theorem dX5_isKind_8 : decode cX5_isKind 8 = .ok (.isub, 1) := dk_100 (dk_at dksX5_isKind_0 8 rfl rfl)
theorem dX5_isKind_9 : decode cX5_isKind 9 = .ok (.i2l, 1) := dk_133 (dk_at dksX5_isKind_0 9 rfl rfl)
theorem dX5_isKind_10 : decode cX5_isKind 10 = .ok (.invokestatic 137, 3) := dk_184 0 137 (dk_at dksX5_isKind_0 10 rfl rfl)
theorem dX5_isKind_13 : decode cX5_isKind 13 = .ok (.ireturn, 1) := dk_172 (dk_at dksX5_isKind_0 13 rfl rfl)
abbrev cX5_show : ByteArray := prog_14_method_47_code
def yX5_show : MethodName := ⟨RX5, "show", "(IIZ)I"⟩
def dkwX5_show_1 : List UInt8 := [167, 0, 4, 2, 172]
abbrev dktX5_show_1 : List UInt8 := dkwX5_show_1 ++ []
def dkwX5_show_0 : List UInt8 := [42, 27, 182, 0, 237, 153, 0, 21, 42, 28, 182, 0, 225, 153, 0, 13, 42, 27, 28, 29, 182, 1, 26]
abbrev dktX5_show_0 : List UInt8 := dkwX5_show_0 ++ dktX5_show_1
theorem dksX5_show_0 : cX5_show.data.toList.drop 0 = dktX5_show_0 := by decide +kernel
theorem dksX5_show_1 : cX5_show.data.toList.drop 23 = dktX5_show_1 := dk_seg dksX5_show_0 23 rfl rfl
theorem dX5_show_0 : decode cX5_show 0 = .ok (.aload_n 0, 1) := dk_42 (dk_at dksX5_show_0 0 rfl rfl)
theorem dX5_show_1 : decode cX5_show 1 = .ok (.iload_n 1, 1) := dk_27 (dk_at dksX5_show_0 1 rfl rfl)
theorem dX5_show_2 : decode cX5_show 2 = .ok (.invokevirtual 237, 3) := dk_182 0 237 (dk_at dksX5_show_0 2 rfl rfl)
theorem dX5_show_5 : decode cX5_show 5 = .ok (.ifCond .eq 21, 3) := dk_153 0 21 (dk_at dksX5_show_0 5 rfl rfl)
theorem dX5_show_8 : decode cX5_show 8 = .ok (.aload_n 0, 1) := dk_42 (dk_at dksX5_show_0 8 rfl rfl)
theorem dX5_show_9 : decode cX5_show 9 = .ok (.iload_n 2, 1) := dk_28 (dk_at dksX5_show_0 9 rfl rfl)
theorem dX5_show_10 : decode cX5_show 10 = .ok (.invokevirtual 225, 3) := dk_182 0 225 (dk_at dksX5_show_0 10 rfl rfl)
theorem dX5_show_13 : decode cX5_show 13 = .ok (.ifCond .eq 13, 3) := dk_153 0 13 (dk_at dksX5_show_0 13 rfl rfl)
theorem dX5_show_16 : decode cX5_show 16 = .ok (.aload_n 0, 1) := dk_42 (dk_at dksX5_show_0 16 rfl rfl)
theorem dX5_show_17 : decode cX5_show 17 = .ok (.iload_n 1, 1) := dk_27 (dk_at dksX5_show_0 17 rfl rfl)
theorem dX5_show_18 : decode cX5_show 18 = .ok (.iload_n 2, 1) := dk_28 (dk_at dksX5_show_0 18 rfl rfl)
theorem dX5_show_19 : decode cX5_show 19 = .ok (.iload_n 3, 1) := dk_29 (dk_at dksX5_show_0 19 rfl rfl)
theorem dX5_show_20 : decode cX5_show 20 = .ok (.invokevirtual 282, 3) := dk_182 1 26 (dk_at dksX5_show_0 20 rfl rfl)
theorem dX5_show_23 : decode cX5_show 23 = .ok (.goto 4, 3) := dk_167 0 4 (dk_at dksX5_show_1 0 rfl rfl)
theorem dX5_show_26 : decode cX5_show 26 = .ok (.iconst (-1), 1) := dk_2 (dk_at dksX5_show_1 3 rfl rfl)
theorem dX5_show_27 : decode cX5_show 27 = .ok (.ireturn, 1) := dk_172 (dk_at dksX5_show_1 4 rfl rfl)
abbrev cX5_adds : ByteArray := prog_14_method_45_code
def yX5_adds : MethodName := ⟨RX5, "adds", "(IIZ)I"⟩
def dkwX5_adds_3 : List UInt8 := [4, 96, 181, 0, 120, 42, 180, 0, 120, 172]
abbrev dktX5_adds_3 : List UInt8 := dkwX5_adds_3 ++ []
def dkwX5_adds_2 : List UInt8 := [5, 96, 29, 184, 0, 254, 79, 42, 3, 42, 180, 0, 120, 27, 28, 29, 182, 1, 20, 42, 89, 180, 0, 120]
abbrev dktX5_adds_2 : List UInt8 := dkwX5_adds_2 ++ dktX5_adds_3
def dkwX5_adds_1 : List UInt8 := [42, 180, 0, 49, 6, 42, 180, 0, 120, 104, 4, 96, 28, 79, 42, 180, 0, 49, 6, 42, 180, 0, 120, 104]
abbrev dktX5_adds_1 : List UInt8 := dkwX5_adds_1 ++ dktX5_adds_2
def dkwX5_adds_0 : List UInt8 := [42, 180, 0, 120, 16, 24, 160, 0, 6, 16, 253, 172, 42, 180, 0, 49, 6, 42, 180, 0, 120, 104, 27, 79]
abbrev dktX5_adds_0 : List UInt8 := dkwX5_adds_0 ++ dktX5_adds_1
theorem dksX5_adds_0 : cX5_adds.data.toList.drop 0 = dktX5_adds_0 := by decide +kernel
theorem dksX5_adds_1 : cX5_adds.data.toList.drop 24 = dktX5_adds_1 := dk_seg dksX5_adds_0 24 rfl rfl
theorem dksX5_adds_2 : cX5_adds.data.toList.drop 48 = dktX5_adds_2 := dk_seg dksX5_adds_1 24 rfl rfl
theorem dksX5_adds_3 : cX5_adds.data.toList.drop 72 = dktX5_adds_3 := dk_seg dksX5_adds_2 24 rfl rfl
theorem dX5_adds_0 : decode cX5_adds 0 = .ok (.aload_n 0, 1) := dk_42 (dk_at dksX5_adds_0 0 rfl rfl)
theorem dX5_adds_1 : decode cX5_adds 1 = .ok (.getfield 120, 3) := dk_180 0 120 (dk_at dksX5_adds_0 1 rfl rfl)
theorem dX5_adds_4 : decode cX5_adds 4 = .ok (.bipush 24, 2) := dk_16 24 (dk_at dksX5_adds_0 4 rfl rfl)
theorem dX5_adds_6 : decode cX5_adds 6 = .ok (.if_icmp .ne 6, 3) := dk_160 0 6 (dk_at dksX5_adds_0 6 rfl rfl)
theorem dX5_adds_9 : decode cX5_adds 9 = .ok (.bipush (-3), 2) := dk_16 253 (dk_at dksX5_adds_0 9 rfl rfl)
theorem dX5_adds_11 : decode cX5_adds 11 = .ok (.ireturn, 1) := dk_172 (dk_at dksX5_adds_0 11 rfl rfl)
theorem dX5_adds_12 : decode cX5_adds 12 = .ok (.aload_n 0, 1) := dk_42 (dk_at dksX5_adds_0 12 rfl rfl)
theorem dX5_adds_13 : decode cX5_adds 13 = .ok (.getfield 49, 3) := dk_180 0 49 (dk_at dksX5_adds_0 13 rfl rfl)
theorem dX5_adds_16 : decode cX5_adds 16 = .ok (.iconst 3, 1) := dk_6 (dk_at dksX5_adds_0 16 rfl rfl)
theorem dX5_adds_17 : decode cX5_adds 17 = .ok (.aload_n 0, 1) := dk_42 (dk_at dksX5_adds_0 17 rfl rfl)
theorem dX5_adds_18 : decode cX5_adds 18 = .ok (.getfield 120, 3) := dk_180 0 120 (dk_at dksX5_adds_0 18 rfl rfl)
theorem dX5_adds_21 : decode cX5_adds 21 = .ok (.imul, 1) := dk_104 (dk_at dksX5_adds_0 21 rfl rfl)
theorem dX5_adds_22 : decode cX5_adds 22 = .ok (.iload_n 1, 1) := dk_27 (dk_at dksX5_adds_0 22 rfl rfl)
theorem dX5_adds_23 : decode cX5_adds 23 = .ok (.iastore, 1) := dk_79 (dk_at dksX5_adds_0 23 rfl rfl)
theorem dX5_adds_24 : decode cX5_adds 24 = .ok (.aload_n 0, 1) := dk_42 (dk_at dksX5_adds_1 0 rfl rfl)
theorem dX5_adds_25 : decode cX5_adds 25 = .ok (.getfield 49, 3) := dk_180 0 49 (dk_at dksX5_adds_1 1 rfl rfl)
theorem dX5_adds_28 : decode cX5_adds 28 = .ok (.iconst 3, 1) := dk_6 (dk_at dksX5_adds_1 4 rfl rfl)
theorem dX5_adds_29 : decode cX5_adds 29 = .ok (.aload_n 0, 1) := dk_42 (dk_at dksX5_adds_1 5 rfl rfl)
theorem dX5_adds_30 : decode cX5_adds 30 = .ok (.getfield 120, 3) := dk_180 0 120 (dk_at dksX5_adds_1 6 rfl rfl)
theorem dX5_adds_33 : decode cX5_adds 33 = .ok (.imul, 1) := dk_104 (dk_at dksX5_adds_1 9 rfl rfl)
theorem dX5_adds_34 : decode cX5_adds 34 = .ok (.iconst 1, 1) := dk_4 (dk_at dksX5_adds_1 10 rfl rfl)
theorem dX5_adds_35 : decode cX5_adds 35 = .ok (.iadd, 1) := dk_96 (dk_at dksX5_adds_1 11 rfl rfl)
theorem dX5_adds_36 : decode cX5_adds 36 = .ok (.iload_n 2, 1) := dk_28 (dk_at dksX5_adds_1 12 rfl rfl)
theorem dX5_adds_37 : decode cX5_adds 37 = .ok (.iastore, 1) := dk_79 (dk_at dksX5_adds_1 13 rfl rfl)
theorem dX5_adds_38 : decode cX5_adds 38 = .ok (.aload_n 0, 1) := dk_42 (dk_at dksX5_adds_1 14 rfl rfl)
theorem dX5_adds_39 : decode cX5_adds 39 = .ok (.getfield 49, 3) := dk_180 0 49 (dk_at dksX5_adds_1 15 rfl rfl)
theorem dX5_adds_42 : decode cX5_adds 42 = .ok (.iconst 3, 1) := dk_6 (dk_at dksX5_adds_1 18 rfl rfl)
theorem dX5_adds_43 : decode cX5_adds 43 = .ok (.aload_n 0, 1) := dk_42 (dk_at dksX5_adds_1 19 rfl rfl)
theorem dX5_adds_44 : decode cX5_adds 44 = .ok (.getfield 120, 3) := dk_180 0 120 (dk_at dksX5_adds_1 20 rfl rfl)
theorem dX5_adds_47 : decode cX5_adds 47 = .ok (.imul, 1) := dk_104 (dk_at dksX5_adds_1 23 rfl rfl)
theorem dX5_adds_48 : decode cX5_adds 48 = .ok (.iconst 2, 1) := dk_5 (dk_at dksX5_adds_2 0 rfl rfl)
theorem dX5_adds_49 : decode cX5_adds 49 = .ok (.iadd, 1) := dk_96 (dk_at dksX5_adds_2 1 rfl rfl)
theorem dX5_adds_50 : decode cX5_adds 50 = .ok (.iload_n 3, 1) := dk_29 (dk_at dksX5_adds_2 2 rfl rfl)
theorem dX5_adds_51 : decode cX5_adds 51 = .ok (.invokestatic 254, 3) := dk_184 0 254 (dk_at dksX5_adds_2 3 rfl rfl)
theorem dX5_adds_54 : decode cX5_adds 54 = .ok (.iastore, 1) := dk_79 (dk_at dksX5_adds_2 6 rfl rfl)
theorem dX5_adds_55 : decode cX5_adds 55 = .ok (.aload_n 0, 1) := dk_42 (dk_at dksX5_adds_2 7 rfl rfl)
theorem dX5_adds_56 : decode cX5_adds 56 = .ok (.iconst 0, 1) := dk_3 (dk_at dksX5_adds_2 8 rfl rfl)
theorem dX5_adds_57 : decode cX5_adds 57 = .ok (.aload_n 0, 1) := dk_42 (dk_at dksX5_adds_2 9 rfl rfl)
theorem dX5_adds_58 : decode cX5_adds 58 = .ok (.getfield 120, 3) := dk_180 0 120 (dk_at dksX5_adds_2 10 rfl rfl)
theorem dX5_adds_61 : decode cX5_adds 61 = .ok (.iload_n 1, 1) := dk_27 (dk_at dksX5_adds_2 13 rfl rfl)
theorem dX5_adds_62 : decode cX5_adds 62 = .ok (.iload_n 2, 1) := dk_28 (dk_at dksX5_adds_2 14 rfl rfl)
theorem dX5_adds_63 : decode cX5_adds 63 = .ok (.iload_n 3, 1) := dk_29 (dk_at dksX5_adds_2 15 rfl rfl)
theorem dX5_adds_64 : decode cX5_adds 64 = .ok (.invokevirtual 276, 3) := dk_182 1 20 (dk_at dksX5_adds_2 16 rfl rfl)
theorem dX5_adds_67 : decode cX5_adds 67 = .ok (.aload_n 0, 1) := dk_42 (dk_at dksX5_adds_2 19 rfl rfl)
theorem dX5_adds_68 : decode cX5_adds 68 = .ok (.dup, 1) := dk_89 (dk_at dksX5_adds_2 20 rfl rfl)
theorem dX5_adds_69 : decode cX5_adds 69 = .ok (.getfield 120, 3) := dk_180 0 120 (dk_at dksX5_adds_2 21 rfl rfl)
theorem dX5_adds_72 : decode cX5_adds 72 = .ok (.iconst 1, 1) := dk_4 (dk_at dksX5_adds_3 0 rfl rfl)
theorem dX5_adds_73 : decode cX5_adds 73 = .ok (.iadd, 1) := dk_96 (dk_at dksX5_adds_3 1 rfl rfl)
theorem dX5_adds_74 : decode cX5_adds 74 = .ok (.putfield 120, 3) := dk_181 0 120 (dk_at dksX5_adds_3 2 rfl rfl)
theorem dX5_adds_77 : decode cX5_adds 77 = .ok (.aload_n 0, 1) := dk_42 (dk_at dksX5_adds_3 5 rfl rfl)
theorem dX5_adds_78 : decode cX5_adds 78 = .ok (.getfield 120, 3) := dk_180 0 120 (dk_at dksX5_adds_3 6 rfl rfl)
theorem dX5_adds_81 : decode cX5_adds 81 = .ok (.ireturn, 1) := dk_172 (dk_at dksX5_adds_3 9 rfl rfl)
abbrev cX5_teach : ByteArray := prog_14_method_48_code
def yX5_teach : MethodName := ⟨RX5, "teach", "(II)I"⟩
def dkwX5_teach_1 : List UInt8 := [182, 1, 30, 182, 1, 26, 167, 0, 4, 2, 172]
abbrev dktX5_teach_1 : List UInt8 := dkwX5_teach_1 ++ []
def dkwX5_teach_0 : List UInt8 := [42, 27, 182, 0, 237, 153, 0, 26, 42, 28, 182, 0, 225, 153, 0, 18, 42, 27, 28, 42, 27, 28]
abbrev dktX5_teach_0 : List UInt8 := dkwX5_teach_0 ++ dktX5_teach_1
theorem dksX5_teach_0 : cX5_teach.data.toList.drop 0 = dktX5_teach_0 := by decide +kernel
theorem dksX5_teach_1 : cX5_teach.data.toList.drop 22 = dktX5_teach_1 := dk_seg dksX5_teach_0 22 rfl rfl
theorem dX5_teach_0 : decode cX5_teach 0 = .ok (.aload_n 0, 1) := dk_42 (dk_at dksX5_teach_0 0 rfl rfl)
theorem dX5_teach_1 : decode cX5_teach 1 = .ok (.iload_n 1, 1) := dk_27 (dk_at dksX5_teach_0 1 rfl rfl)
theorem dX5_teach_2 : decode cX5_teach 2 = .ok (.invokevirtual 237, 3) := dk_182 0 237 (dk_at dksX5_teach_0 2 rfl rfl)
theorem dX5_teach_5 : decode cX5_teach 5 = .ok (.ifCond .eq 26, 3) := dk_153 0 26 (dk_at dksX5_teach_0 5 rfl rfl)
theorem dX5_teach_8 : decode cX5_teach 8 = .ok (.aload_n 0, 1) := dk_42 (dk_at dksX5_teach_0 8 rfl rfl)
theorem dX5_teach_9 : decode cX5_teach 9 = .ok (.iload_n 2, 1) := dk_28 (dk_at dksX5_teach_0 9 rfl rfl)
theorem dX5_teach_10 : decode cX5_teach 10 = .ok (.invokevirtual 225, 3) := dk_182 0 225 (dk_at dksX5_teach_0 10 rfl rfl)
theorem dX5_teach_13 : decode cX5_teach 13 = .ok (.ifCond .eq 18, 3) := dk_153 0 18 (dk_at dksX5_teach_0 13 rfl rfl)
theorem dX5_teach_16 : decode cX5_teach 16 = .ok (.aload_n 0, 1) := dk_42 (dk_at dksX5_teach_0 16 rfl rfl)
theorem dX5_teach_17 : decode cX5_teach 17 = .ok (.iload_n 1, 1) := dk_27 (dk_at dksX5_teach_0 17 rfl rfl)
theorem dX5_teach_18 : decode cX5_teach 18 = .ok (.iload_n 2, 1) := dk_28 (dk_at dksX5_teach_0 18 rfl rfl)
theorem dX5_teach_19 : decode cX5_teach 19 = .ok (.aload_n 0, 1) := dk_42 (dk_at dksX5_teach_0 19 rfl rfl)
theorem dX5_teach_20 : decode cX5_teach 20 = .ok (.iload_n 1, 1) := dk_27 (dk_at dksX5_teach_0 20 rfl rfl)
theorem dX5_teach_21 : decode cX5_teach 21 = .ok (.iload_n 2, 1) := dk_28 (dk_at dksX5_teach_0 21 rfl rfl)
theorem dX5_teach_22 : decode cX5_teach 22 = .ok (.invokevirtual 286, 3) := dk_182 1 30 (dk_at dksX5_teach_1 0 rfl rfl)
theorem dX5_teach_25 : decode cX5_teach 25 = .ok (.invokevirtual 282, 3) := dk_182 1 26 (dk_at dksX5_teach_1 3 rfl rfl)
theorem dX5_teach_28 : decode cX5_teach 28 = .ok (.goto 4, 3) := dk_167 0 4 (dk_at dksX5_teach_1 6 rfl rfl)
theorem dX5_teach_31 : decode cX5_teach 31 = .ok (.iconst (-1), 1) := dk_2 (dk_at dksX5_teach_1 9 rfl rfl)
theorem dX5_teach_32 : decode cX5_teach 32 = .ok (.ireturn, 1) := dk_172 (dk_at dksX5_teach_1 10 rfl rfl)
abbrev cX5_isTrue : ByteArray := prog_14_method_46_code
def yX5_isTrue : MethodName := ⟨RX5, "isTrue", "(II)Z"⟩
def dkwX5_isTrue_0 : List UInt8 := [42, 27, 182, 1, 23, 28, 122, 4, 126, 4, 160, 0, 7, 4, 167, 0, 4, 3, 172]
abbrev dktX5_isTrue_0 : List UInt8 := dkwX5_isTrue_0 ++ []
theorem dksX5_isTrue_0 : cX5_isTrue.data.toList.drop 0 = dktX5_isTrue_0 := by decide +kernel
theorem dX5_isTrue_0 : decode cX5_isTrue 0 = .ok (.aload_n 0, 1) := dk_42 (dk_at dksX5_isTrue_0 0 rfl rfl)
theorem dX5_isTrue_1 : decode cX5_isTrue 1 = .ok (.iload_n 1, 1) := dk_27 (dk_at dksX5_isTrue_0 1 rfl rfl)
theorem dX5_isTrue_2 : decode cX5_isTrue 2 = .ok (.invokevirtual 279, 3) := dk_182 1 23 (dk_at dksX5_isTrue_0 2 rfl rfl)
theorem dX5_isTrue_5 : decode cX5_isTrue 5 = .ok (.iload_n 2, 1) := dk_28 (dk_at dksX5_isTrue_0 5 rfl rfl)
theorem dX5_isTrue_6 : decode cX5_isTrue 6 = .ok (.ishr, 1) := dk_122 (dk_at dksX5_isTrue_0 6 rfl rfl)
theorem dX5_isTrue_7 : decode cX5_isTrue 7 = .ok (.iconst 1, 1) := dk_4 (dk_at dksX5_isTrue_0 7 rfl rfl)
theorem dX5_isTrue_8 : decode cX5_isTrue 8 = .ok (.iand, 1) := dk_126 (dk_at dksX5_isTrue_0 8 rfl rfl)
theorem dX5_isTrue_9 : decode cX5_isTrue 9 = .ok (.iconst 1, 1) := dk_4 (dk_at dksX5_isTrue_0 9 rfl rfl)
theorem dX5_isTrue_10 : decode cX5_isTrue 10 = .ok (.if_icmp .ne 7, 3) := dk_160 0 7 (dk_at dksX5_isTrue_0 10 rfl rfl)
theorem dX5_isTrue_13 : decode cX5_isTrue 13 = .ok (.iconst 1, 1) := dk_4 (dk_at dksX5_isTrue_0 13 rfl rfl)
theorem dX5_isTrue_14 : decode cX5_isTrue 14 = .ok (.goto 4, 3) := dk_167 0 4 (dk_at dksX5_isTrue_0 14 rfl rfl)
theorem dX5_isTrue_17 : decode cX5_isTrue 17 = .ok (.iconst 0, 1) := dk_3 (dk_at dksX5_isTrue_0 17 rfl rfl)
theorem dX5_isTrue_18 : decode cX5_isTrue 18 = .ok (.ireturn, 1) := dk_172 (dk_at dksX5_isTrue_0 18 rfl rfl)
abbrev cX5_targetOf : ByteArray := prog_14_method_30_code
def yX5_targetOf : MethodName := ⟨RX5, "targetOf", "(I)I"⟩
def dkwX5_targetOf_0 : List UInt8 := [42, 180, 0, 40, 42, 180, 0, 19, 27, 46, 46, 172]
abbrev dktX5_targetOf_0 : List UInt8 := dkwX5_targetOf_0 ++ []
theorem dksX5_targetOf_0 : cX5_targetOf.data.toList.drop 0 = dktX5_targetOf_0 := by decide +kernel
theorem dX5_targetOf_0 : decode cX5_targetOf 0 = .ok (.aload_n 0, 1) := dk_42 (dk_at dksX5_targetOf_0 0 rfl rfl)
theorem dX5_targetOf_1 : decode cX5_targetOf 1 = .ok (.getfield 40, 3) := dk_180 0 40 (dk_at dksX5_targetOf_0 1 rfl rfl)
theorem dX5_targetOf_4 : decode cX5_targetOf 4 = .ok (.aload_n 0, 1) := dk_42 (dk_at dksX5_targetOf_0 4 rfl rfl)
theorem dX5_targetOf_5 : decode cX5_targetOf 5 = .ok (.getfield 19, 3) := dk_180 0 19 (dk_at dksX5_targetOf_0 5 rfl rfl)
theorem dX5_targetOf_8 : decode cX5_targetOf 8 = .ok (.iload_n 1, 1) := dk_27 (dk_at dksX5_targetOf_0 8 rfl rfl)
theorem dX5_targetOf_9 : decode cX5_targetOf 9 = .ok (.iaload, 1) := dk_46 (dk_at dksX5_targetOf_0 9 rfl rfl)
theorem dX5_targetOf_10 : decode cX5_targetOf 10 = .ok (.iaload, 1) := dk_46 (dk_at dksX5_targetOf_0 10 rfl rfl)
theorem dX5_targetOf_11 : decode cX5_targetOf 11 = .ok (.ireturn, 1) := dk_172 (dk_at dksX5_targetOf_0 11 rfl rfl)
abbrev cX5_undo : ByteArray := prog_14_method_49_code
def yX5_undo : MethodName := ⟨RX5, "undo", "()I"⟩
def dkwX5_undo_1 : List UInt8 := [42, 180, 0, 120, 172]
abbrev dktX5_undo_1 : List UInt8 := dkwX5_undo_1 ++ []
def dkwX5_undo_0 : List UInt8 := [42, 180, 0, 120, 154, 0, 6, 16, 252, 172, 42, 89, 180, 0, 120, 4, 100, 181, 0, 120, 42, 182, 0, 129]
abbrev dktX5_undo_0 : List UInt8 := dkwX5_undo_0 ++ dktX5_undo_1
theorem dksX5_undo_0 : cX5_undo.data.toList.drop 0 = dktX5_undo_0 := by decide +kernel
theorem dksX5_undo_1 : cX5_undo.data.toList.drop 24 = dktX5_undo_1 := dk_seg dksX5_undo_0 24 rfl rfl
theorem dX5_undo_0 : decode cX5_undo 0 = .ok (.aload_n 0, 1) := dk_42 (dk_at dksX5_undo_0 0 rfl rfl)
theorem dX5_undo_1 : decode cX5_undo 1 = .ok (.getfield 120, 3) := dk_180 0 120 (dk_at dksX5_undo_0 1 rfl rfl)
theorem dX5_undo_4 : decode cX5_undo 4 = .ok (.ifCond .ne 6, 3) := dk_154 0 6 (dk_at dksX5_undo_0 4 rfl rfl)
theorem dX5_undo_7 : decode cX5_undo 7 = .ok (.bipush (-4), 2) := dk_16 252 (dk_at dksX5_undo_0 7 rfl rfl)
theorem dX5_undo_9 : decode cX5_undo 9 = .ok (.ireturn, 1) := dk_172 (dk_at dksX5_undo_0 9 rfl rfl)
theorem dX5_undo_10 : decode cX5_undo 10 = .ok (.aload_n 0, 1) := dk_42 (dk_at dksX5_undo_0 10 rfl rfl)
theorem dX5_undo_11 : decode cX5_undo 11 = .ok (.dup, 1) := dk_89 (dk_at dksX5_undo_0 11 rfl rfl)
theorem dX5_undo_12 : decode cX5_undo 12 = .ok (.getfield 120, 3) := dk_180 0 120 (dk_at dksX5_undo_0 12 rfl rfl)
theorem dX5_undo_15 : decode cX5_undo 15 = .ok (.iconst 1, 1) := dk_4 (dk_at dksX5_undo_0 15 rfl rfl)
theorem dX5_undo_16 : decode cX5_undo 16 = .ok (.isub, 1) := dk_100 (dk_at dksX5_undo_0 16 rfl rfl)
theorem dX5_undo_17 : decode cX5_undo 17 = .ok (.putfield 120, 3) := dk_181 0 120 (dk_at dksX5_undo_0 17 rfl rfl)
theorem dX5_undo_20 : decode cX5_undo 20 = .ok (.aload_n 0, 1) := dk_42 (dk_at dksX5_undo_0 20 rfl rfl)
theorem dX5_undo_21 : decode cX5_undo 21 = .ok (.invokevirtual 129, 3) := dk_182 0 129 (dk_at dksX5_undo_0 21 rfl rfl)
theorem dX5_undo_24 : decode cX5_undo 24 = .ok (.aload_n 0, 1) := dk_42 (dk_at dksX5_undo_1 0 rfl rfl)
theorem dX5_undo_25 : decode cX5_undo 25 = .ok (.getfield 120, 3) := dk_180 0 120 (dk_at dksX5_undo_1 1 rfl rfl)
theorem dX5_undo_28 : decode cX5_undo 28 = .ok (.ireturn, 1) := dk_172 (dk_at dksX5_undo_1 4 rfl rfl)
abbrev cX5_clear : ByteArray := prog_14_method_50_code
def yX5_clear : MethodName := ⟨RX5, "clear", "()I"⟩
def dkwX5_clear_1 : List UInt8 := [182, 0, 129, 27, 172]
abbrev dktX5_clear_1 : List UInt8 := dkwX5_clear_1 ++ []
def dkwX5_clear_0 : List UInt8 := [42, 180, 0, 120, 60, 42, 3, 181, 0, 120, 42, 4, 42, 180, 0, 117, 120, 4, 100, 181, 0, 123, 42]
abbrev dktX5_clear_0 : List UInt8 := dkwX5_clear_0 ++ dktX5_clear_1
theorem dksX5_clear_0 : cX5_clear.data.toList.drop 0 = dktX5_clear_0 := by decide +kernel
theorem dksX5_clear_1 : cX5_clear.data.toList.drop 23 = dktX5_clear_1 := dk_seg dksX5_clear_0 23 rfl rfl
theorem dX5_clear_0 : decode cX5_clear 0 = .ok (.aload_n 0, 1) := dk_42 (dk_at dksX5_clear_0 0 rfl rfl)
theorem dX5_clear_1 : decode cX5_clear 1 = .ok (.getfield 120, 3) := dk_180 0 120 (dk_at dksX5_clear_0 1 rfl rfl)
theorem dX5_clear_4 : decode cX5_clear 4 = .ok (.istore_n 1, 1) := dk_60 (dk_at dksX5_clear_0 4 rfl rfl)
theorem dX5_clear_5 : decode cX5_clear 5 = .ok (.aload_n 0, 1) := dk_42 (dk_at dksX5_clear_0 5 rfl rfl)
theorem dX5_clear_6 : decode cX5_clear 6 = .ok (.iconst 0, 1) := dk_3 (dk_at dksX5_clear_0 6 rfl rfl)
theorem dX5_clear_7 : decode cX5_clear 7 = .ok (.putfield 120, 3) := dk_181 0 120 (dk_at dksX5_clear_0 7 rfl rfl)
theorem dX5_clear_10 : decode cX5_clear 10 = .ok (.aload_n 0, 1) := dk_42 (dk_at dksX5_clear_0 10 rfl rfl)
theorem dX5_clear_11 : decode cX5_clear 11 = .ok (.iconst 1, 1) := dk_4 (dk_at dksX5_clear_0 11 rfl rfl)
theorem dX5_clear_12 : decode cX5_clear 12 = .ok (.aload_n 0, 1) := dk_42 (dk_at dksX5_clear_0 12 rfl rfl)
theorem dX5_clear_13 : decode cX5_clear 13 = .ok (.getfield 117, 3) := dk_180 0 117 (dk_at dksX5_clear_0 13 rfl rfl)
theorem dX5_clear_16 : decode cX5_clear 16 = .ok (.ishl, 1) := dk_120 (dk_at dksX5_clear_0 16 rfl rfl)
theorem dX5_clear_17 : decode cX5_clear 17 = .ok (.iconst 1, 1) := dk_4 (dk_at dksX5_clear_0 17 rfl rfl)
theorem dX5_clear_18 : decode cX5_clear 18 = .ok (.isub, 1) := dk_100 (dk_at dksX5_clear_0 18 rfl rfl)
theorem dX5_clear_19 : decode cX5_clear 19 = .ok (.putfield 123, 3) := dk_181 0 123 (dk_at dksX5_clear_0 19 rfl rfl)
theorem dX5_clear_22 : decode cX5_clear 22 = .ok (.aload_n 0, 1) := dk_42 (dk_at dksX5_clear_0 22 rfl rfl)
theorem dX5_clear_23 : decode cX5_clear 23 = .ok (.invokevirtual 129, 3) := dk_182 0 129 (dk_at dksX5_clear_1 0 rfl rfl)
theorem dX5_clear_26 : decode cX5_clear 26 = .ok (.iload_n 1, 1) := dk_27 (dk_at dksX5_clear_1 3 rfl rfl)
theorem dX5_clear_27 : decode cX5_clear 27 = .ok (.ireturn, 1) := dk_172 (dk_at dksX5_clear_1 4 rfl rfl)
abbrev cX5_shown : ByteArray := prog_14_method_51_code
def yX5_shown : MethodName := ⟨RX5, "shown", "(II)I"⟩
def dkwX5_shown_1 : List UInt8 := [184, 0, 137, 153, 0, 16, 42, 180, 0, 49, 6, 27, 104, 28, 96, 46, 167, 0, 4, 2, 172]
abbrev dktX5_shown_1 : List UInt8 := dkwX5_shown_1 ++ []
def dkwX5_shown_0 : List UInt8 := [27, 133, 9, 42, 180, 0, 120, 4, 100, 133, 184, 0, 137, 153, 0, 28, 28, 133, 9, 20, 1, 34]
abbrev dktX5_shown_0 : List UInt8 := dkwX5_shown_0 ++ dktX5_shown_1
theorem dksX5_shown_0 : cX5_shown.data.toList.drop 0 = dktX5_shown_0 := by decide +kernel
theorem dksX5_shown_1 : cX5_shown.data.toList.drop 22 = dktX5_shown_1 := dk_seg dksX5_shown_0 22 rfl rfl
theorem dX5_shown_0 : decode cX5_shown 0 = .ok (.iload_n 1, 1) := dk_27 (dk_at dksX5_shown_0 0 rfl rfl)
theorem dX5_shown_1 : decode cX5_shown 1 = .ok (.i2l, 1) := dk_133 (dk_at dksX5_shown_0 1 rfl rfl)
theorem dX5_shown_2 : decode cX5_shown 2 = .ok (.lconst 0, 1) := dk_9 (dk_at dksX5_shown_0 2 rfl rfl)
theorem dX5_shown_3 : decode cX5_shown 3 = .ok (.aload_n 0, 1) := dk_42 (dk_at dksX5_shown_0 3 rfl rfl)
theorem dX5_shown_4 : decode cX5_shown 4 = .ok (.getfield 120, 3) := dk_180 0 120 (dk_at dksX5_shown_0 4 rfl rfl)
theorem dX5_shown_7 : decode cX5_shown 7 = .ok (.iconst 1, 1) := dk_4 (dk_at dksX5_shown_0 7 rfl rfl)
theorem dX5_shown_8 : decode cX5_shown 8 = .ok (.isub, 1) := dk_100 (dk_at dksX5_shown_0 8 rfl rfl)
theorem dX5_shown_9 : decode cX5_shown 9 = .ok (.i2l, 1) := dk_133 (dk_at dksX5_shown_0 9 rfl rfl)
theorem dX5_shown_10 : decode cX5_shown 10 = .ok (.invokestatic 137, 3) := dk_184 0 137 (dk_at dksX5_shown_0 10 rfl rfl)
theorem dX5_shown_13 : decode cX5_shown 13 = .ok (.ifCond .eq 28, 3) := dk_153 0 28 (dk_at dksX5_shown_0 13 rfl rfl)
theorem dX5_shown_16 : decode cX5_shown 16 = .ok (.iload_n 2, 1) := dk_28 (dk_at dksX5_shown_0 16 rfl rfl)
theorem dX5_shown_17 : decode cX5_shown 17 = .ok (.i2l, 1) := dk_133 (dk_at dksX5_shown_0 17 rfl rfl)
theorem dX5_shown_18 : decode cX5_shown 18 = .ok (.lconst 0, 1) := dk_9 (dk_at dksX5_shown_0 18 rfl rfl)
theorem dX5_shown_19 : decode cX5_shown 19 = .ok (.ldc2_w 290, 3) := dk_20 1 34 (dk_at dksX5_shown_0 19 rfl rfl)
theorem dX5_shown_22 : decode cX5_shown 22 = .ok (.invokestatic 137, 3) := dk_184 0 137 (dk_at dksX5_shown_1 0 rfl rfl)
theorem dX5_shown_25 : decode cX5_shown 25 = .ok (.ifCond .eq 16, 3) := dk_153 0 16 (dk_at dksX5_shown_1 3 rfl rfl)
theorem dX5_shown_28 : decode cX5_shown 28 = .ok (.aload_n 0, 1) := dk_42 (dk_at dksX5_shown_1 6 rfl rfl)
theorem dX5_shown_29 : decode cX5_shown 29 = .ok (.getfield 49, 3) := dk_180 0 49 (dk_at dksX5_shown_1 7 rfl rfl)
theorem dX5_shown_32 : decode cX5_shown 32 = .ok (.iconst 3, 1) := dk_6 (dk_at dksX5_shown_1 10 rfl rfl)
theorem dX5_shown_33 : decode cX5_shown 33 = .ok (.iload_n 1, 1) := dk_27 (dk_at dksX5_shown_1 11 rfl rfl)
theorem dX5_shown_34 : decode cX5_shown 34 = .ok (.imul, 1) := dk_104 (dk_at dksX5_shown_1 12 rfl rfl)
theorem dX5_shown_35 : decode cX5_shown 35 = .ok (.iload_n 2, 1) := dk_28 (dk_at dksX5_shown_1 13 rfl rfl)
theorem dX5_shown_36 : decode cX5_shown 36 = .ok (.iadd, 1) := dk_96 (dk_at dksX5_shown_1 14 rfl rfl)
theorem dX5_shown_37 : decode cX5_shown 37 = .ok (.iaload, 1) := dk_46 (dk_at dksX5_shown_1 15 rfl rfl)
theorem dX5_shown_38 : decode cX5_shown 38 = .ok (.goto 4, 3) := dk_167 0 4 (dk_at dksX5_shown_1 16 rfl rfl)
theorem dX5_shown_41 : decode cX5_shown 41 = .ok (.iconst (-1), 1) := dk_2 (dk_at dksX5_shown_1 19 rfl rfl)
theorem dX5_shown_42 : decode cX5_shown 42 = .ok (.ireturn, 1) := dk_172 (dk_at dksX5_shown_1 20 rfl rfl)
abbrev cX5_thinks : ByteArray := prog_14_method_52_code
def yX5_thinks : MethodName := ⟨RX5, "thinks", "(II)I"⟩
def dkwX5_thinks_1 : List UInt8 := [104, 96, 28, 96, 46, 167, 0, 4, 2, 172]
abbrev dktX5_thinks_1 : List UInt8 := dkwX5_thinks_1 ++ []
def dkwX5_thinks_0 : List UInt8 := [42, 27, 182, 0, 240, 153, 0, 27, 42, 28, 182, 0, 237, 153, 0, 19, 42, 180, 0, 46, 3, 16, 10, 27]
abbrev dktX5_thinks_0 : List UInt8 := dkwX5_thinks_0 ++ dktX5_thinks_1
theorem dksX5_thinks_0 : cX5_thinks.data.toList.drop 0 = dktX5_thinks_0 := by decide +kernel
theorem dksX5_thinks_1 : cX5_thinks.data.toList.drop 24 = dktX5_thinks_1 := dk_seg dksX5_thinks_0 24 rfl rfl
theorem dX5_thinks_0 : decode cX5_thinks 0 = .ok (.aload_n 0, 1) := dk_42 (dk_at dksX5_thinks_0 0 rfl rfl)
theorem dX5_thinks_1 : decode cX5_thinks 1 = .ok (.iload_n 1, 1) := dk_27 (dk_at dksX5_thinks_0 1 rfl rfl)
theorem dX5_thinks_2 : decode cX5_thinks 2 = .ok (.invokevirtual 240, 3) := dk_182 0 240 (dk_at dksX5_thinks_0 2 rfl rfl)
theorem dX5_thinks_5 : decode cX5_thinks 5 = .ok (.ifCond .eq 27, 3) := dk_153 0 27 (dk_at dksX5_thinks_0 5 rfl rfl)
theorem dX5_thinks_8 : decode cX5_thinks 8 = .ok (.aload_n 0, 1) := dk_42 (dk_at dksX5_thinks_0 8 rfl rfl)
theorem dX5_thinks_9 : decode cX5_thinks 9 = .ok (.iload_n 2, 1) := dk_28 (dk_at dksX5_thinks_0 9 rfl rfl)
theorem dX5_thinks_10 : decode cX5_thinks 10 = .ok (.invokevirtual 237, 3) := dk_182 0 237 (dk_at dksX5_thinks_0 10 rfl rfl)
theorem dX5_thinks_13 : decode cX5_thinks 13 = .ok (.ifCond .eq 19, 3) := dk_153 0 19 (dk_at dksX5_thinks_0 13 rfl rfl)
theorem dX5_thinks_16 : decode cX5_thinks 16 = .ok (.aload_n 0, 1) := dk_42 (dk_at dksX5_thinks_0 16 rfl rfl)
theorem dX5_thinks_17 : decode cX5_thinks 17 = .ok (.getfield 46, 3) := dk_180 0 46 (dk_at dksX5_thinks_0 17 rfl rfl)
theorem dX5_thinks_20 : decode cX5_thinks 20 = .ok (.iconst 0, 1) := dk_3 (dk_at dksX5_thinks_0 20 rfl rfl)
theorem dX5_thinks_21 : decode cX5_thinks 21 = .ok (.bipush 10, 2) := dk_16 10 (dk_at dksX5_thinks_0 21 rfl rfl)
theorem dX5_thinks_23 : decode cX5_thinks 23 = .ok (.iload_n 1, 1) := dk_27 (dk_at dksX5_thinks_0 23 rfl rfl)
theorem dX5_thinks_24 : decode cX5_thinks 24 = .ok (.imul, 1) := dk_104 (dk_at dksX5_thinks_1 0 rfl rfl)
theorem dX5_thinks_25 : decode cX5_thinks 25 = .ok (.iadd, 1) := dk_96 (dk_at dksX5_thinks_1 1 rfl rfl)
theorem dX5_thinks_26 : decode cX5_thinks 26 = .ok (.iload_n 2, 1) := dk_28 (dk_at dksX5_thinks_1 2 rfl rfl)
theorem dX5_thinks_27 : decode cX5_thinks 27 = .ok (.iadd, 1) := dk_96 (dk_at dksX5_thinks_1 3 rfl rfl)
theorem dX5_thinks_28 : decode cX5_thinks 28 = .ok (.iaload, 1) := dk_46 (dk_at dksX5_thinks_1 4 rfl rfl)
theorem dX5_thinks_29 : decode cX5_thinks 29 = .ok (.goto 4, 3) := dk_167 0 4 (dk_at dksX5_thinks_1 5 rfl rfl)
theorem dX5_thinks_32 : decode cX5_thinks 32 = .ok (.iconst (-1), 1) := dk_2 (dk_at dksX5_thinks_1 8 rfl rfl)
theorem dX5_thinks_33 : decode cX5_thinks 33 = .ok (.ireturn, 1) := dk_172 (dk_at dksX5_thinks_1 9 rfl rfl)
abbrev cX5_fits : ByteArray := prog_14_method_53_code
def yX5_fits : MethodName := ⟨RX5, "fits", "(II)I"⟩
def dkwX5_fits_1 : List UInt8 := [182, 0, 231, 126, 167, 0, 4, 2, 172]
abbrev dktX5_fits_1 : List UInt8 := dkwX5_fits_1 ++ []
def dkwX5_fits_0 : List UInt8 := [42, 27, 182, 0, 240, 153, 0, 26, 42, 28, 182, 0, 237, 153, 0, 18, 42, 3, 28, 182, 0, 251, 42, 27]
abbrev dktX5_fits_0 : List UInt8 := dkwX5_fits_0 ++ dktX5_fits_1
theorem dksX5_fits_0 : cX5_fits.data.toList.drop 0 = dktX5_fits_0 := by decide +kernel
theorem dksX5_fits_1 : cX5_fits.data.toList.drop 24 = dktX5_fits_1 := dk_seg dksX5_fits_0 24 rfl rfl
theorem dX5_fits_0 : decode cX5_fits 0 = .ok (.aload_n 0, 1) := dk_42 (dk_at dksX5_fits_0 0 rfl rfl)
theorem dX5_fits_1 : decode cX5_fits 1 = .ok (.iload_n 1, 1) := dk_27 (dk_at dksX5_fits_0 1 rfl rfl)
theorem dX5_fits_2 : decode cX5_fits 2 = .ok (.invokevirtual 240, 3) := dk_182 0 240 (dk_at dksX5_fits_0 2 rfl rfl)
theorem dX5_fits_5 : decode cX5_fits 5 = .ok (.ifCond .eq 26, 3) := dk_153 0 26 (dk_at dksX5_fits_0 5 rfl rfl)
theorem dX5_fits_8 : decode cX5_fits 8 = .ok (.aload_n 0, 1) := dk_42 (dk_at dksX5_fits_0 8 rfl rfl)
theorem dX5_fits_9 : decode cX5_fits 9 = .ok (.iload_n 2, 1) := dk_28 (dk_at dksX5_fits_0 9 rfl rfl)
theorem dX5_fits_10 : decode cX5_fits 10 = .ok (.invokevirtual 237, 3) := dk_182 0 237 (dk_at dksX5_fits_0 10 rfl rfl)
theorem dX5_fits_13 : decode cX5_fits 13 = .ok (.ifCond .eq 18, 3) := dk_153 0 18 (dk_at dksX5_fits_0 13 rfl rfl)
theorem dX5_fits_16 : decode cX5_fits 16 = .ok (.aload_n 0, 1) := dk_42 (dk_at dksX5_fits_0 16 rfl rfl)
theorem dX5_fits_17 : decode cX5_fits 17 = .ok (.iconst 0, 1) := dk_3 (dk_at dksX5_fits_0 17 rfl rfl)
theorem dX5_fits_18 : decode cX5_fits 18 = .ok (.iload_n 2, 1) := dk_28 (dk_at dksX5_fits_0 18 rfl rfl)
theorem dX5_fits_19 : decode cX5_fits 19 = .ok (.invokevirtual 251, 3) := dk_182 0 251 (dk_at dksX5_fits_0 19 rfl rfl)
theorem dX5_fits_22 : decode cX5_fits 22 = .ok (.aload_n 0, 1) := dk_42 (dk_at dksX5_fits_0 22 rfl rfl)
theorem dX5_fits_23 : decode cX5_fits 23 = .ok (.iload_n 1, 1) := dk_27 (dk_at dksX5_fits_0 23 rfl rfl)
theorem dX5_fits_24 : decode cX5_fits 24 = .ok (.invokevirtual 231, 3) := dk_182 0 231 (dk_at dksX5_fits_1 0 rfl rfl)
theorem dX5_fits_27 : decode cX5_fits 27 = .ok (.iand, 1) := dk_126 (dk_at dksX5_fits_1 3 rfl rfl)
theorem dX5_fits_28 : decode cX5_fits 28 = .ok (.goto 4, 3) := dk_167 0 4 (dk_at dksX5_fits_1 4 rfl rfl)
theorem dX5_fits_31 : decode cX5_fits 31 = .ok (.iconst (-1), 1) := dk_2 (dk_at dksX5_fits_1 7 rfl rfl)
theorem dX5_fits_32 : decode cX5_fits 32 = .ok (.ireturn, 1) := dk_172 (dk_at dksX5_fits_1 8 rfl rfl)
abbrev cX5_same : ByteArray := prog_14_method_55_code
def yX5_same : MethodName := ⟨RX5, "same", "(II)I"⟩
def dkwX5_same_1 : List UInt8 := [184, 0, 254, 167, 0, 4, 2, 172]
abbrev dktX5_same_1 : List UInt8 := dkwX5_same_1 ++ []
def dkwX5_same_0 : List UInt8 := [42, 27, 182, 0, 240, 153, 0, 24, 42, 28, 182, 0, 237, 153, 0, 16, 42, 3, 27, 28, 182, 1, 36]
abbrev dktX5_same_0 : List UInt8 := dkwX5_same_0 ++ dktX5_same_1
theorem dksX5_same_0 : cX5_same.data.toList.drop 0 = dktX5_same_0 := by decide +kernel
theorem dksX5_same_1 : cX5_same.data.toList.drop 23 = dktX5_same_1 := dk_seg dksX5_same_0 23 rfl rfl
theorem dX5_same_0 : decode cX5_same 0 = .ok (.aload_n 0, 1) := dk_42 (dk_at dksX5_same_0 0 rfl rfl)
theorem dX5_same_1 : decode cX5_same 1 = .ok (.iload_n 1, 1) := dk_27 (dk_at dksX5_same_0 1 rfl rfl)
theorem dX5_same_2 : decode cX5_same 2 = .ok (.invokevirtual 240, 3) := dk_182 0 240 (dk_at dksX5_same_0 2 rfl rfl)
theorem dX5_same_5 : decode cX5_same 5 = .ok (.ifCond .eq 24, 3) := dk_153 0 24 (dk_at dksX5_same_0 5 rfl rfl)
theorem dX5_same_8 : decode cX5_same 8 = .ok (.aload_n 0, 1) := dk_42 (dk_at dksX5_same_0 8 rfl rfl)
theorem dX5_same_9 : decode cX5_same 9 = .ok (.iload_n 2, 1) := dk_28 (dk_at dksX5_same_0 9 rfl rfl)
theorem dX5_same_10 : decode cX5_same 10 = .ok (.invokevirtual 237, 3) := dk_182 0 237 (dk_at dksX5_same_0 10 rfl rfl)
theorem dX5_same_13 : decode cX5_same 13 = .ok (.ifCond .eq 16, 3) := dk_153 0 16 (dk_at dksX5_same_0 13 rfl rfl)
theorem dX5_same_16 : decode cX5_same 16 = .ok (.aload_n 0, 1) := dk_42 (dk_at dksX5_same_0 16 rfl rfl)
theorem dX5_same_17 : decode cX5_same 17 = .ok (.iconst 0, 1) := dk_3 (dk_at dksX5_same_0 17 rfl rfl)
theorem dX5_same_18 : decode cX5_same 18 = .ok (.iload_n 1, 1) := dk_27 (dk_at dksX5_same_0 18 rfl rfl)
theorem dX5_same_19 : decode cX5_same 19 = .ok (.iload_n 2, 1) := dk_28 (dk_at dksX5_same_0 19 rfl rfl)
theorem dX5_same_20 : decode cX5_same 20 = .ok (.invokevirtual 292, 3) := dk_182 1 36 (dk_at dksX5_same_0 20 rfl rfl)
theorem dX5_same_23 : decode cX5_same 23 = .ok (.invokestatic 254, 3) := dk_184 0 254 (dk_at dksX5_same_1 0 rfl rfl)
theorem dX5_same_26 : decode cX5_same 26 = .ok (.goto 4, 3) := dk_167 0 4 (dk_at dksX5_same_1 3 rfl rfl)
theorem dX5_same_29 : decode cX5_same 29 = .ok (.iconst (-1), 1) := dk_2 (dk_at dksX5_same_1 6 rfl rfl)
theorem dX5_same_30 : decode cX5_same 30 = .ok (.ireturn, 1) := dk_172 (dk_at dksX5_same_1 7 rfl rfl)
abbrev cX5_isSame : ByteArray := prog_14_method_54_code
def yX5_isSame : MethodName := ⟨RX5, "isSame", "(III)Z"⟩
def dkwX5_isSame_1 : List UInt8 := [180, 0, 40, 21, 4, 46, 42, 29, 182, 1, 23, 160, 0, 7, 4, 167, 0, 4, 3, 172]
abbrev dktX5_isSame_1 : List UInt8 := dkwX5_isSame_1 ++ []
def dkwX5_isSame_0 : List UInt8 := [42, 180, 0, 46, 27, 16, 10, 28, 104, 96, 29, 96, 46, 54, 4, 21, 4, 16, 252, 159, 0, 22, 42]
abbrev dktX5_isSame_0 : List UInt8 := dkwX5_isSame_0 ++ dktX5_isSame_1
theorem dksX5_isSame_0 : cX5_isSame.data.toList.drop 0 = dktX5_isSame_0 := by decide +kernel
theorem dksX5_isSame_1 : cX5_isSame.data.toList.drop 23 = dktX5_isSame_1 := dk_seg dksX5_isSame_0 23 rfl rfl
theorem dX5_isSame_0 : decode cX5_isSame 0 = .ok (.aload_n 0, 1) := dk_42 (dk_at dksX5_isSame_0 0 rfl rfl)
theorem dX5_isSame_1 : decode cX5_isSame 1 = .ok (.getfield 46, 3) := dk_180 0 46 (dk_at dksX5_isSame_0 1 rfl rfl)
theorem dX5_isSame_4 : decode cX5_isSame 4 = .ok (.iload_n 1, 1) := dk_27 (dk_at dksX5_isSame_0 4 rfl rfl)
theorem dX5_isSame_5 : decode cX5_isSame 5 = .ok (.bipush 10, 2) := dk_16 10 (dk_at dksX5_isSame_0 5 rfl rfl)
theorem dX5_isSame_7 : decode cX5_isSame 7 = .ok (.iload_n 2, 1) := dk_28 (dk_at dksX5_isSame_0 7 rfl rfl)
theorem dX5_isSame_8 : decode cX5_isSame 8 = .ok (.imul, 1) := dk_104 (dk_at dksX5_isSame_0 8 rfl rfl)
theorem dX5_isSame_9 : decode cX5_isSame 9 = .ok (.iadd, 1) := dk_96 (dk_at dksX5_isSame_0 9 rfl rfl)
theorem dX5_isSame_10 : decode cX5_isSame 10 = .ok (.iload_n 3, 1) := dk_29 (dk_at dksX5_isSame_0 10 rfl rfl)
theorem dX5_isSame_11 : decode cX5_isSame 11 = .ok (.iadd, 1) := dk_96 (dk_at dksX5_isSame_0 11 rfl rfl)
theorem dX5_isSame_12 : decode cX5_isSame 12 = .ok (.iaload, 1) := dk_46 (dk_at dksX5_isSame_0 12 rfl rfl)
theorem dX5_isSame_13 : decode cX5_isSame 13 = .ok (.istore 4, 2) := dk_54 4 (dk_at dksX5_isSame_0 13 rfl rfl)
theorem dX5_isSame_15 : decode cX5_isSame 15 = .ok (.iload 4, 2) := dk_21 4 (dk_at dksX5_isSame_0 15 rfl rfl)
theorem dX5_isSame_17 : decode cX5_isSame 17 = .ok (.bipush (-4), 2) := dk_16 252 (dk_at dksX5_isSame_0 17 rfl rfl)
theorem dX5_isSame_19 : decode cX5_isSame 19 = .ok (.if_icmp .eq 22, 3) := dk_159 0 22 (dk_at dksX5_isSame_0 19 rfl rfl)
theorem dX5_isSame_22 : decode cX5_isSame 22 = .ok (.aload_n 0, 1) := dk_42 (dk_at dksX5_isSame_0 22 rfl rfl)
theorem dX5_isSame_23 : decode cX5_isSame 23 = .ok (.getfield 40, 3) := dk_180 0 40 (dk_at dksX5_isSame_1 0 rfl rfl)
theorem dX5_isSame_26 : decode cX5_isSame 26 = .ok (.iload 4, 2) := dk_21 4 (dk_at dksX5_isSame_1 3 rfl rfl)
theorem dX5_isSame_28 : decode cX5_isSame 28 = .ok (.iaload, 1) := dk_46 (dk_at dksX5_isSame_1 5 rfl rfl)
theorem dX5_isSame_29 : decode cX5_isSame 29 = .ok (.aload_n 0, 1) := dk_42 (dk_at dksX5_isSame_1 6 rfl rfl)
theorem dX5_isSame_30 : decode cX5_isSame 30 = .ok (.iload_n 3, 1) := dk_29 (dk_at dksX5_isSame_1 7 rfl rfl)
theorem dX5_isSame_31 : decode cX5_isSame 31 = .ok (.invokevirtual 279, 3) := dk_182 1 23 (dk_at dksX5_isSame_1 8 rfl rfl)
theorem dX5_isSame_34 : decode cX5_isSame 34 = .ok (.if_icmp .ne 7, 3) := dk_160 0 7 (dk_at dksX5_isSame_1 11 rfl rfl)
theorem dX5_isSame_37 : decode cX5_isSame 37 = .ok (.iconst 1, 1) := dk_4 (dk_at dksX5_isSame_1 14 rfl rfl)
theorem dX5_isSame_38 : decode cX5_isSame 38 = .ok (.goto 4, 3) := dk_167 0 4 (dk_at dksX5_isSame_1 15 rfl rfl)
theorem dX5_isSame_41 : decode cX5_isSame 41 = .ok (.iconst 0, 1) := dk_3 (dk_at dksX5_isSame_1 18 rfl rfl)
theorem dX5_isSame_42 : decode cX5_isSame 42 = .ok (.ireturn, 1) := dk_172 (dk_at dksX5_isSame_1 19 rfl rfl)
abbrev cX5_fled : ByteArray := prog_14_method_56_code
def yX5_fled : MethodName := ⟨RX5, "fled", "(I)I"⟩
def dkwX5_fled_1 : List UInt8 := [167, 0, 4, 2, 172]
abbrev dktX5_fled_1 : List UInt8 := dkwX5_fled_1 ++ []
def dkwX5_fled_0 : List UInt8 := [42, 27, 182, 0, 240, 153, 0, 20, 42, 180, 0, 46, 3, 16, 10, 27, 104, 96, 16, 9, 96, 46]
abbrev dktX5_fled_0 : List UInt8 := dkwX5_fled_0 ++ dktX5_fled_1
theorem dksX5_fled_0 : cX5_fled.data.toList.drop 0 = dktX5_fled_0 := by decide +kernel
theorem dksX5_fled_1 : cX5_fled.data.toList.drop 22 = dktX5_fled_1 := dk_seg dksX5_fled_0 22 rfl rfl
theorem dX5_fled_0 : decode cX5_fled 0 = .ok (.aload_n 0, 1) := dk_42 (dk_at dksX5_fled_0 0 rfl rfl)
theorem dX5_fled_1 : decode cX5_fled 1 = .ok (.iload_n 1, 1) := dk_27 (dk_at dksX5_fled_0 1 rfl rfl)
theorem dX5_fled_2 : decode cX5_fled 2 = .ok (.invokevirtual 240, 3) := dk_182 0 240 (dk_at dksX5_fled_0 2 rfl rfl)
theorem dX5_fled_5 : decode cX5_fled 5 = .ok (.ifCond .eq 20, 3) := dk_153 0 20 (dk_at dksX5_fled_0 5 rfl rfl)
theorem dX5_fled_8 : decode cX5_fled 8 = .ok (.aload_n 0, 1) := dk_42 (dk_at dksX5_fled_0 8 rfl rfl)
theorem dX5_fled_9 : decode cX5_fled 9 = .ok (.getfield 46, 3) := dk_180 0 46 (dk_at dksX5_fled_0 9 rfl rfl)
theorem dX5_fled_12 : decode cX5_fled 12 = .ok (.iconst 0, 1) := dk_3 (dk_at dksX5_fled_0 12 rfl rfl)
theorem dX5_fled_13 : decode cX5_fled 13 = .ok (.bipush 10, 2) := dk_16 10 (dk_at dksX5_fled_0 13 rfl rfl)
theorem dX5_fled_15 : decode cX5_fled 15 = .ok (.iload_n 1, 1) := dk_27 (dk_at dksX5_fled_0 15 rfl rfl)
theorem dX5_fled_16 : decode cX5_fled 16 = .ok (.imul, 1) := dk_104 (dk_at dksX5_fled_0 16 rfl rfl)
theorem dX5_fled_17 : decode cX5_fled 17 = .ok (.iadd, 1) := dk_96 (dk_at dksX5_fled_0 17 rfl rfl)
theorem dX5_fled_18 : decode cX5_fled 18 = .ok (.bipush 9, 2) := dk_16 9 (dk_at dksX5_fled_0 18 rfl rfl)
theorem dX5_fled_20 : decode cX5_fled 20 = .ok (.iadd, 1) := dk_96 (dk_at dksX5_fled_0 20 rfl rfl)
theorem dX5_fled_21 : decode cX5_fled 21 = .ok (.iaload, 1) := dk_46 (dk_at dksX5_fled_0 21 rfl rfl)
theorem dX5_fled_22 : decode cX5_fled 22 = .ok (.goto 4, 3) := dk_167 0 4 (dk_at dksX5_fled_1 0 rfl rfl)
theorem dX5_fled_25 : decode cX5_fled 25 = .ok (.iconst (-1), 1) := dk_2 (dk_at dksX5_fled_1 3 rfl rfl)
theorem dX5_fled_26 : decode cX5_fled 26 = .ok (.ireturn, 1) := dk_172 (dk_at dksX5_fled_1 4 rfl rfl)
abbrev cX5_against : ByteArray := prog_14_method_57_code
def yX5_against : MethodName := ⟨RX5, "against", "(II)I"⟩
def dkwX5_against_1 : List UInt8 := [104, 96, 7, 96, 28, 96, 46, 167, 0, 4, 2, 172]
abbrev dktX5_against_1 : List UInt8 := dkwX5_against_1 ++ []
def dkwX5_against_0 : List UInt8 := [42, 27, 182, 0, 240, 153, 0, 29, 42, 28, 182, 0, 237, 153, 0, 21, 42, 180, 0, 46, 3, 16, 10, 27]
abbrev dktX5_against_0 : List UInt8 := dkwX5_against_0 ++ dktX5_against_1
theorem dksX5_against_0 : cX5_against.data.toList.drop 0 = dktX5_against_0 := by decide +kernel
theorem dksX5_against_1 : cX5_against.data.toList.drop 24 = dktX5_against_1 := dk_seg dksX5_against_0 24 rfl rfl
theorem dX5_against_0 : decode cX5_against 0 = .ok (.aload_n 0, 1) := dk_42 (dk_at dksX5_against_0 0 rfl rfl)
theorem dX5_against_1 : decode cX5_against 1 = .ok (.iload_n 1, 1) := dk_27 (dk_at dksX5_against_0 1 rfl rfl)
theorem dX5_against_2 : decode cX5_against 2 = .ok (.invokevirtual 240, 3) := dk_182 0 240 (dk_at dksX5_against_0 2 rfl rfl)
theorem dX5_against_5 : decode cX5_against 5 = .ok (.ifCond .eq 29, 3) := dk_153 0 29 (dk_at dksX5_against_0 5 rfl rfl)
theorem dX5_against_8 : decode cX5_against 8 = .ok (.aload_n 0, 1) := dk_42 (dk_at dksX5_against_0 8 rfl rfl)
theorem dX5_against_9 : decode cX5_against 9 = .ok (.iload_n 2, 1) := dk_28 (dk_at dksX5_against_0 9 rfl rfl)
theorem dX5_against_10 : decode cX5_against 10 = .ok (.invokevirtual 237, 3) := dk_182 0 237 (dk_at dksX5_against_0 10 rfl rfl)
theorem dX5_against_13 : decode cX5_against 13 = .ok (.ifCond .eq 21, 3) := dk_153 0 21 (dk_at dksX5_against_0 13 rfl rfl)
theorem dX5_against_16 : decode cX5_against 16 = .ok (.aload_n 0, 1) := dk_42 (dk_at dksX5_against_0 16 rfl rfl)
theorem dX5_against_17 : decode cX5_against 17 = .ok (.getfield 46, 3) := dk_180 0 46 (dk_at dksX5_against_0 17 rfl rfl)
theorem dX5_against_20 : decode cX5_against 20 = .ok (.iconst 0, 1) := dk_3 (dk_at dksX5_against_0 20 rfl rfl)
theorem dX5_against_21 : decode cX5_against 21 = .ok (.bipush 10, 2) := dk_16 10 (dk_at dksX5_against_0 21 rfl rfl)
theorem dX5_against_23 : decode cX5_against 23 = .ok (.iload_n 1, 1) := dk_27 (dk_at dksX5_against_0 23 rfl rfl)
theorem dX5_against_24 : decode cX5_against 24 = .ok (.imul, 1) := dk_104 (dk_at dksX5_against_1 0 rfl rfl)
theorem dX5_against_25 : decode cX5_against 25 = .ok (.iadd, 1) := dk_96 (dk_at dksX5_against_1 1 rfl rfl)
theorem dX5_against_26 : decode cX5_against 26 = .ok (.iconst 4, 1) := dk_7 (dk_at dksX5_against_1 2 rfl rfl)
theorem dX5_against_27 : decode cX5_against 27 = .ok (.iadd, 1) := dk_96 (dk_at dksX5_against_1 3 rfl rfl)
theorem dX5_against_28 : decode cX5_against 28 = .ok (.iload_n 2, 1) := dk_28 (dk_at dksX5_against_1 4 rfl rfl)
theorem dX5_against_29 : decode cX5_against 29 = .ok (.iadd, 1) := dk_96 (dk_at dksX5_against_1 5 rfl rfl)
theorem dX5_against_30 : decode cX5_against 30 = .ok (.iaload, 1) := dk_46 (dk_at dksX5_against_1 6 rfl rfl)
theorem dX5_against_31 : decode cX5_against 31 = .ok (.goto 4, 3) := dk_167 0 4 (dk_at dksX5_against_1 7 rfl rfl)
theorem dX5_against_34 : decode cX5_against 34 = .ok (.iconst (-1), 1) := dk_2 (dk_at dksX5_against_1 10 rfl rfl)
theorem dX5_against_35 : decode cX5_against 35 = .ok (.ireturn, 1) := dk_172 (dk_at dksX5_against_1 11 rfl rfl)
abbrev cX5_common : ByteArray := prog_14_method_59_code
def yX5_common : MethodName := ⟨RX5, "common", "(I)I"⟩
def dkwX5_common_2 : List UInt8 := [28, 172]
abbrev dktX5_common_2 : List UInt8 := dkwX5_common_2 ++ []
def dkwX5_common_1 : List UInt8 := [3, 27, 29, 182, 1, 42, 153, 0, 9, 4, 29, 120, 167, 0, 4, 3, 128, 61, 132, 3, 1, 167, 255, 225]
abbrev dktX5_common_1 : List UInt8 := dkwX5_common_1 ++ dktX5_common_2
def dkwX5_common_0 : List UInt8 := [42, 27, 182, 1, 39, 154, 0, 5, 2, 172, 3, 61, 3, 62, 29, 42, 180, 0, 114, 162, 0, 29, 28, 42]
abbrev dktX5_common_0 : List UInt8 := dkwX5_common_0 ++ dktX5_common_1
theorem dksX5_common_0 : cX5_common.data.toList.drop 0 = dktX5_common_0 := by decide +kernel
theorem dksX5_common_1 : cX5_common.data.toList.drop 24 = dktX5_common_1 := dk_seg dksX5_common_0 24 rfl rfl
theorem dksX5_common_2 : cX5_common.data.toList.drop 48 = dktX5_common_2 := dk_seg dksX5_common_1 24 rfl rfl
theorem dX5_common_0 : decode cX5_common 0 = .ok (.aload_n 0, 1) := dk_42 (dk_at dksX5_common_0 0 rfl rfl)
theorem dX5_common_1 : decode cX5_common 1 = .ok (.iload_n 1, 1) := dk_27 (dk_at dksX5_common_0 1 rfl rfl)
theorem dX5_common_2 : decode cX5_common 2 = .ok (.invokevirtual 295, 3) := dk_182 1 39 (dk_at dksX5_common_0 2 rfl rfl)
theorem dX5_common_5 : decode cX5_common 5 = .ok (.ifCond .ne 5, 3) := dk_154 0 5 (dk_at dksX5_common_0 5 rfl rfl)
theorem dX5_common_8 : decode cX5_common 8 = .ok (.iconst (-1), 1) := dk_2 (dk_at dksX5_common_0 8 rfl rfl)
theorem dX5_common_9 : decode cX5_common 9 = .ok (.ireturn, 1) := dk_172 (dk_at dksX5_common_0 9 rfl rfl)
theorem dX5_common_10 : decode cX5_common 10 = .ok (.iconst 0, 1) := dk_3 (dk_at dksX5_common_0 10 rfl rfl)
theorem dX5_common_11 : decode cX5_common 11 = .ok (.istore_n 2, 1) := dk_61 (dk_at dksX5_common_0 11 rfl rfl)
theorem dX5_common_12 : decode cX5_common 12 = .ok (.iconst 0, 1) := dk_3 (dk_at dksX5_common_0 12 rfl rfl)
theorem dX5_common_13 : decode cX5_common 13 = .ok (.istore_n 3, 1) := dk_62 (dk_at dksX5_common_0 13 rfl rfl)
theorem dX5_common_14 : decode cX5_common 14 = .ok (.iload_n 3, 1) := dk_29 (dk_at dksX5_common_0 14 rfl rfl)
theorem dX5_common_15 : decode cX5_common 15 = .ok (.aload_n 0, 1) := dk_42 (dk_at dksX5_common_0 15 rfl rfl)
theorem dX5_common_16 : decode cX5_common 16 = .ok (.getfield 114, 3) := dk_180 0 114 (dk_at dksX5_common_0 16 rfl rfl)
theorem dX5_common_19 : decode cX5_common 19 = .ok (.if_icmp .ge 29, 3) := dk_162 0 29 (dk_at dksX5_common_0 19 rfl rfl)
theorem dX5_common_22 : decode cX5_common 22 = .ok (.iload_n 2, 1) := dk_28 (dk_at dksX5_common_0 22 rfl rfl)
theorem dX5_common_23 : decode cX5_common 23 = .ok (.aload_n 0, 1) := dk_42 (dk_at dksX5_common_0 23 rfl rfl)
theorem dX5_common_24 : decode cX5_common 24 = .ok (.iconst 0, 1) := dk_3 (dk_at dksX5_common_1 0 rfl rfl)
theorem dX5_common_25 : decode cX5_common 25 = .ok (.iload_n 1, 1) := dk_27 (dk_at dksX5_common_1 1 rfl rfl)
theorem dX5_common_26 : decode cX5_common 26 = .ok (.iload_n 3, 1) := dk_29 (dk_at dksX5_common_1 2 rfl rfl)
theorem dX5_common_27 : decode cX5_common 27 = .ok (.invokevirtual 298, 3) := dk_182 1 42 (dk_at dksX5_common_1 3 rfl rfl)
theorem dX5_common_30 : decode cX5_common 30 = .ok (.ifCond .eq 9, 3) := dk_153 0 9 (dk_at dksX5_common_1 6 rfl rfl)
theorem dX5_common_33 : decode cX5_common 33 = .ok (.iconst 1, 1) := dk_4 (dk_at dksX5_common_1 9 rfl rfl)
theorem dX5_common_34 : decode cX5_common 34 = .ok (.iload_n 3, 1) := dk_29 (dk_at dksX5_common_1 10 rfl rfl)
theorem dX5_common_35 : decode cX5_common 35 = .ok (.ishl, 1) := dk_120 (dk_at dksX5_common_1 11 rfl rfl)
theorem dX5_common_36 : decode cX5_common 36 = .ok (.goto 4, 3) := dk_167 0 4 (dk_at dksX5_common_1 12 rfl rfl)
theorem dX5_common_39 : decode cX5_common 39 = .ok (.iconst 0, 1) := dk_3 (dk_at dksX5_common_1 15 rfl rfl)
theorem dX5_common_40 : decode cX5_common 40 = .ok (.ior, 1) := dk_128 (dk_at dksX5_common_1 16 rfl rfl)
theorem dX5_common_41 : decode cX5_common 41 = .ok (.istore_n 2, 1) := dk_61 (dk_at dksX5_common_1 17 rfl rfl)
theorem dX5_common_42 : decode cX5_common 42 = .ok (.iinc 3 1, 3) := dk_132 3 1 (dk_at dksX5_common_1 18 rfl rfl)
theorem dX5_common_45 : decode cX5_common 45 = .ok (.goto (-31), 3) := dk_167 255 225 (dk_at dksX5_common_1 21 rfl rfl)
theorem dX5_common_48 : decode cX5_common 48 = .ok (.iload_n 2, 1) := dk_28 (dk_at dksX5_common_2 0 rfl rfl)
theorem dX5_common_49 : decode cX5_common 49 = .ok (.ireturn, 1) := dk_172 (dk_at dksX5_common_2 1 rfl rfl)
abbrev cX5_areKinds : ByteArray := prog_14_method_27_code
def yX5_areKinds : MethodName := ⟨RX5, "areKinds", "(I)Z"⟩
def dkwX5_areKinds_0 : List UInt8 := [27, 133, 9, 4, 42, 180, 0, 117, 120, 4, 100, 133, 184, 0, 137, 172]
abbrev dktX5_areKinds_0 : List UInt8 := dkwX5_areKinds_0 ++ []
theorem dksX5_areKinds_0 : cX5_areKinds.data.toList.drop 0 = dktX5_areKinds_0 := by decide +kernel
theorem dX5_areKinds_0 : decode cX5_areKinds 0 = .ok (.iload_n 1, 1) := dk_27 (dk_at dksX5_areKinds_0 0 rfl rfl)
theorem dX5_areKinds_1 : decode cX5_areKinds 1 = .ok (.i2l, 1) := dk_133 (dk_at dksX5_areKinds_0 1 rfl rfl)
theorem dX5_areKinds_2 : decode cX5_areKinds 2 = .ok (.lconst 0, 1) := dk_9 (dk_at dksX5_areKinds_0 2 rfl rfl)
theorem dX5_areKinds_3 : decode cX5_areKinds 3 = .ok (.iconst 1, 1) := dk_4 (dk_at dksX5_areKinds_0 3 rfl rfl)
theorem dX5_areKinds_4 : decode cX5_areKinds 4 = .ok (.aload_n 0, 1) := dk_42 (dk_at dksX5_areKinds_0 4 rfl rfl)
theorem dX5_areKinds_5 : decode cX5_areKinds 5 = .ok (.getfield 117, 3) := dk_180 0 117 (dk_at dksX5_areKinds_0 5 rfl rfl)
theorem dX5_areKinds_8 : decode cX5_areKinds 8 = .ok (.ishl, 1) := dk_120 (dk_at dksX5_areKinds_0 8 rfl rfl)
theorem dX5_areKinds_9 : decode cX5_areKinds 9 = .ok (.iconst 1, 1) := dk_4 (dk_at dksX5_areKinds_0 9 rfl rfl)
theorem dX5_areKinds_10 : decode cX5_areKinds 10 = .ok (.isub, 1) := dk_100 (dk_at dksX5_areKinds_0 10 rfl rfl)
theorem dX5_areKinds_11 : decode cX5_areKinds 11 = .ok (.i2l, 1) := dk_133 (dk_at dksX5_areKinds_0 11 rfl rfl)
theorem dX5_areKinds_12 : decode cX5_areKinds 12 = .ok (.invokestatic 137, 3) := dk_184 0 137 (dk_at dksX5_areKinds_0 12 rfl rfl)
theorem dX5_areKinds_15 : decode cX5_areKinds 15 = .ok (.ireturn, 1) := dk_172 (dk_at dksX5_areKinds_0 15 rfl rfl)
abbrev cX5_isSameForAll : ByteArray := prog_14_method_58_code
def yX5_isSameForAll : MethodName := ⟨RX5, "isSameForAll", "(III)Z"⟩
def dkwX5_isSameForAll_2 : List UInt8 := [132, 5, 1, 167, 255, 212, 21, 4, 172]
abbrev dktX5_isSameForAll_2 : List UInt8 := dkwX5_isSameForAll_2 ++ []
def dkwX5_isSameForAll_1 : List UInt8 := [4, 126, 153, 0, 14, 42, 27, 21, 5, 29, 182, 1, 36, 153, 0, 7, 4, 167, 0, 4, 3, 54, 4]
abbrev dktX5_isSameForAll_1 : List UInt8 := dkwX5_isSameForAll_1 ++ dktX5_isSameForAll_2
def dkwX5_isSameForAll_0 : List UInt8 := [4, 54, 4, 3, 54, 5, 21, 5, 42, 180, 0, 117, 162, 0, 41, 21, 4, 153, 0, 27, 28, 21, 5, 122]
abbrev dktX5_isSameForAll_0 : List UInt8 := dkwX5_isSameForAll_0 ++ dktX5_isSameForAll_1
theorem dksX5_isSameForAll_0 : cX5_isSameForAll.data.toList.drop 0 = dktX5_isSameForAll_0 := by decide +kernel
theorem dksX5_isSameForAll_1 : cX5_isSameForAll.data.toList.drop 24 = dktX5_isSameForAll_1 := dk_seg dksX5_isSameForAll_0 24 rfl rfl
theorem dksX5_isSameForAll_2 : cX5_isSameForAll.data.toList.drop 47 = dktX5_isSameForAll_2 := dk_seg dksX5_isSameForAll_1 23 rfl rfl
theorem dX5_isSameForAll_0 : decode cX5_isSameForAll 0 = .ok (.iconst 1, 1) := dk_4 (dk_at dksX5_isSameForAll_0 0 rfl rfl)
theorem dX5_isSameForAll_1 : decode cX5_isSameForAll 1 = .ok (.istore 4, 2) := dk_54 4 (dk_at dksX5_isSameForAll_0 1 rfl rfl)
theorem dX5_isSameForAll_3 : decode cX5_isSameForAll 3 = .ok (.iconst 0, 1) := dk_3 (dk_at dksX5_isSameForAll_0 3 rfl rfl)
theorem dX5_isSameForAll_4 : decode cX5_isSameForAll 4 = .ok (.istore 5, 2) := dk_54 5 (dk_at dksX5_isSameForAll_0 4 rfl rfl)
theorem dX5_isSameForAll_6 : decode cX5_isSameForAll 6 = .ok (.iload 5, 2) := dk_21 5 (dk_at dksX5_isSameForAll_0 6 rfl rfl)
theorem dX5_isSameForAll_8 : decode cX5_isSameForAll 8 = .ok (.aload_n 0, 1) := dk_42 (dk_at dksX5_isSameForAll_0 8 rfl rfl)
theorem dX5_isSameForAll_9 : decode cX5_isSameForAll 9 = .ok (.getfield 117, 3) := dk_180 0 117 (dk_at dksX5_isSameForAll_0 9 rfl rfl)
theorem dX5_isSameForAll_12 : decode cX5_isSameForAll 12 = .ok (.if_icmp .ge 41, 3) := dk_162 0 41 (dk_at dksX5_isSameForAll_0 12 rfl rfl)
theorem dX5_isSameForAll_15 : decode cX5_isSameForAll 15 = .ok (.iload 4, 2) := dk_21 4 (dk_at dksX5_isSameForAll_0 15 rfl rfl)
theorem dX5_isSameForAll_17 : decode cX5_isSameForAll 17 = .ok (.ifCond .eq 27, 3) := dk_153 0 27 (dk_at dksX5_isSameForAll_0 17 rfl rfl)
theorem dX5_isSameForAll_20 : decode cX5_isSameForAll 20 = .ok (.iload_n 2, 1) := dk_28 (dk_at dksX5_isSameForAll_0 20 rfl rfl)
theorem dX5_isSameForAll_21 : decode cX5_isSameForAll 21 = .ok (.iload 5, 2) := dk_21 5 (dk_at dksX5_isSameForAll_0 21 rfl rfl)
theorem dX5_isSameForAll_23 : decode cX5_isSameForAll 23 = .ok (.ishr, 1) := dk_122 (dk_at dksX5_isSameForAll_0 23 rfl rfl)
theorem dX5_isSameForAll_24 : decode cX5_isSameForAll 24 = .ok (.iconst 1, 1) := dk_4 (dk_at dksX5_isSameForAll_1 0 rfl rfl)
theorem dX5_isSameForAll_25 : decode cX5_isSameForAll 25 = .ok (.iand, 1) := dk_126 (dk_at dksX5_isSameForAll_1 1 rfl rfl)
theorem dX5_isSameForAll_26 : decode cX5_isSameForAll 26 = .ok (.ifCond .eq 14, 3) := dk_153 0 14 (dk_at dksX5_isSameForAll_1 2 rfl rfl)
theorem dX5_isSameForAll_29 : decode cX5_isSameForAll 29 = .ok (.aload_n 0, 1) := dk_42 (dk_at dksX5_isSameForAll_1 5 rfl rfl)
theorem dX5_isSameForAll_30 : decode cX5_isSameForAll 30 = .ok (.iload_n 1, 1) := dk_27 (dk_at dksX5_isSameForAll_1 6 rfl rfl)
theorem dX5_isSameForAll_31 : decode cX5_isSameForAll 31 = .ok (.iload 5, 2) := dk_21 5 (dk_at dksX5_isSameForAll_1 7 rfl rfl)
theorem dX5_isSameForAll_33 : decode cX5_isSameForAll 33 = .ok (.iload_n 3, 1) := dk_29 (dk_at dksX5_isSameForAll_1 9 rfl rfl)
theorem dX5_isSameForAll_34 : decode cX5_isSameForAll 34 = .ok (.invokevirtual 292, 3) := dk_182 1 36 (dk_at dksX5_isSameForAll_1 10 rfl rfl)
theorem dX5_isSameForAll_37 : decode cX5_isSameForAll 37 = .ok (.ifCond .eq 7, 3) := dk_153 0 7 (dk_at dksX5_isSameForAll_1 13 rfl rfl)
theorem dX5_isSameForAll_40 : decode cX5_isSameForAll 40 = .ok (.iconst 1, 1) := dk_4 (dk_at dksX5_isSameForAll_1 16 rfl rfl)
theorem dX5_isSameForAll_41 : decode cX5_isSameForAll 41 = .ok (.goto 4, 3) := dk_167 0 4 (dk_at dksX5_isSameForAll_1 17 rfl rfl)
theorem dX5_isSameForAll_44 : decode cX5_isSameForAll 44 = .ok (.iconst 0, 1) := dk_3 (dk_at dksX5_isSameForAll_1 20 rfl rfl)
theorem dX5_isSameForAll_45 : decode cX5_isSameForAll 45 = .ok (.istore 4, 2) := dk_54 4 (dk_at dksX5_isSameForAll_1 21 rfl rfl)
theorem dX5_isSameForAll_47 : decode cX5_isSameForAll 47 = .ok (.iinc 5 1, 3) := dk_132 5 1 (dk_at dksX5_isSameForAll_2 0 rfl rfl)
theorem dX5_isSameForAll_50 : decode cX5_isSameForAll 50 = .ok (.goto (-44), 3) := dk_167 255 212 (dk_at dksX5_isSameForAll_2 3 rfl rfl)
theorem dX5_isSameForAll_53 : decode cX5_isSameForAll 53 = .ok (.iload 4, 2) := dk_21 4 (dk_at dksX5_isSameForAll_2 6 rfl rfl)
theorem dX5_isSameForAll_55 : decode cX5_isSameForAll 55 = .ok (.ireturn, 1) := dk_172 (dk_at dksX5_isSameForAll_2 8 rfl rfl)
abbrev cX5_teaching : ByteArray := prog_14_method_65_code
def yX5_teaching : MethodName := ⟨RX5, "teaching", "(III)I"⟩
def dkwX5_teaching_3 : List UInt8 := [162, 0, 15, 42, 180, 0, 52, 29, 16, 10, 100, 46, 167, 0, 4, 2, 172]
abbrev dktX5_teaching_3 : List UInt8 := dkwX5_teaching_3 ++ []
def dkwX5_teaching_2 : List UInt8 := [28, 8, 182, 1, 57, 54, 4, 29, 154, 0, 8, 21, 4, 167, 0, 25, 29, 16, 10, 100, 21, 4]
abbrev dktX5_teaching_2 : List UInt8 := dkwX5_teaching_2 ++ dktX5_teaching_3
def dkwX5_teaching_1 : List UInt8 := [20, 0, 208, 20, 0, 195, 184, 0, 137, 154, 0, 5, 2, 172, 42, 17, 0, 140, 3, 182, 1, 45, 42, 27]
abbrev dktX5_teaching_1 : List UInt8 := dkwX5_teaching_1 ++ dktX5_teaching_2
def dkwX5_teaching_0 : List UInt8 := [42, 27, 182, 1, 39, 153, 0, 29, 42, 28, 182, 0, 237, 153, 0, 21, 29, 153, 0, 19, 29, 133]
abbrev dktX5_teaching_0 : List UInt8 := dkwX5_teaching_0 ++ dktX5_teaching_1
theorem dksX5_teaching_0 : cX5_teaching.data.toList.drop 0 = dktX5_teaching_0 := by decide +kernel
theorem dksX5_teaching_1 : cX5_teaching.data.toList.drop 22 = dktX5_teaching_1 := dk_seg dksX5_teaching_0 22 rfl rfl
theorem dksX5_teaching_2 : cX5_teaching.data.toList.drop 46 = dktX5_teaching_2 := dk_seg dksX5_teaching_1 24 rfl rfl
theorem dksX5_teaching_3 : cX5_teaching.data.toList.drop 68 = dktX5_teaching_3 := dk_seg dksX5_teaching_2 22 rfl rfl
theorem dX5_teaching_0 : decode cX5_teaching 0 = .ok (.aload_n 0, 1) := dk_42 (dk_at dksX5_teaching_0 0 rfl rfl)
theorem dX5_teaching_1 : decode cX5_teaching 1 = .ok (.iload_n 1, 1) := dk_27 (dk_at dksX5_teaching_0 1 rfl rfl)
theorem dX5_teaching_2 : decode cX5_teaching 2 = .ok (.invokevirtual 295, 3) := dk_182 1 39 (dk_at dksX5_teaching_0 2 rfl rfl)
theorem dX5_teaching_5 : decode cX5_teaching 5 = .ok (.ifCond .eq 29, 3) := dk_153 0 29 (dk_at dksX5_teaching_0 5 rfl rfl)
theorem dX5_teaching_8 : decode cX5_teaching 8 = .ok (.aload_n 0, 1) := dk_42 (dk_at dksX5_teaching_0 8 rfl rfl)
theorem dX5_teaching_9 : decode cX5_teaching 9 = .ok (.iload_n 2, 1) := dk_28 (dk_at dksX5_teaching_0 9 rfl rfl)
theorem dX5_teaching_10 : decode cX5_teaching 10 = .ok (.invokevirtual 237, 3) := dk_182 0 237 (dk_at dksX5_teaching_0 10 rfl rfl)
theorem dX5_teaching_13 : decode cX5_teaching 13 = .ok (.ifCond .eq 21, 3) := dk_153 0 21 (dk_at dksX5_teaching_0 13 rfl rfl)
theorem dX5_teaching_16 : decode cX5_teaching 16 = .ok (.iload_n 3, 1) := dk_29 (dk_at dksX5_teaching_0 16 rfl rfl)
theorem dX5_teaching_17 : decode cX5_teaching 17 = .ok (.ifCond .eq 19, 3) := dk_153 0 19 (dk_at dksX5_teaching_0 17 rfl rfl)
theorem dX5_teaching_20 : decode cX5_teaching 20 = .ok (.iload_n 3, 1) := dk_29 (dk_at dksX5_teaching_0 20 rfl rfl)
theorem dX5_teaching_21 : decode cX5_teaching 21 = .ok (.i2l, 1) := dk_133 (dk_at dksX5_teaching_0 21 rfl rfl)
theorem dX5_teaching_22 : decode cX5_teaching 22 = .ok (.ldc2_w 208, 3) := dk_20 0 208 (dk_at dksX5_teaching_1 0 rfl rfl)
theorem dX5_teaching_25 : decode cX5_teaching 25 = .ok (.ldc2_w 195, 3) := dk_20 0 195 (dk_at dksX5_teaching_1 3 rfl rfl)
theorem dX5_teaching_28 : decode cX5_teaching 28 = .ok (.invokestatic 137, 3) := dk_184 0 137 (dk_at dksX5_teaching_1 6 rfl rfl)
theorem dX5_teaching_31 : decode cX5_teaching 31 = .ok (.ifCond .ne 5, 3) := dk_154 0 5 (dk_at dksX5_teaching_1 9 rfl rfl)
theorem dX5_teaching_34 : decode cX5_teaching 34 = .ok (.iconst (-1), 1) := dk_2 (dk_at dksX5_teaching_1 12 rfl rfl)
theorem dX5_teaching_35 : decode cX5_teaching 35 = .ok (.ireturn, 1) := dk_172 (dk_at dksX5_teaching_1 13 rfl rfl)
theorem dX5_teaching_36 : decode cX5_teaching 36 = .ok (.aload_n 0, 1) := dk_42 (dk_at dksX5_teaching_1 14 rfl rfl)
theorem dX5_teaching_37 : decode cX5_teaching 37 = .ok (.sipush 140, 3) := dk_17 0 140 (dk_at dksX5_teaching_1 15 rfl rfl)
theorem dX5_teaching_40 : decode cX5_teaching 40 = .ok (.iconst 0, 1) := dk_3 (dk_at dksX5_teaching_1 18 rfl rfl)
theorem dX5_teaching_41 : decode cX5_teaching 41 = .ok (.invokevirtual 301, 3) := dk_182 1 45 (dk_at dksX5_teaching_1 19 rfl rfl)
theorem dX5_teaching_44 : decode cX5_teaching 44 = .ok (.aload_n 0, 1) := dk_42 (dk_at dksX5_teaching_1 22 rfl rfl)
theorem dX5_teaching_45 : decode cX5_teaching 45 = .ok (.iload_n 1, 1) := dk_27 (dk_at dksX5_teaching_1 23 rfl rfl)
theorem dX5_teaching_46 : decode cX5_teaching 46 = .ok (.iload_n 2, 1) := dk_28 (dk_at dksX5_teaching_2 0 rfl rfl)
theorem dX5_teaching_47 : decode cX5_teaching 47 = .ok (.iconst 5, 1) := dk_8 (dk_at dksX5_teaching_2 1 rfl rfl)
theorem dX5_teaching_48 : decode cX5_teaching 48 = .ok (.invokevirtual 313, 3) := dk_182 1 57 (dk_at dksX5_teaching_2 2 rfl rfl)
theorem dX5_teaching_51 : decode cX5_teaching 51 = .ok (.istore 4, 2) := dk_54 4 (dk_at dksX5_teaching_2 5 rfl rfl)
theorem dX5_teaching_53 : decode cX5_teaching 53 = .ok (.iload_n 3, 1) := dk_29 (dk_at dksX5_teaching_2 7 rfl rfl)
theorem dX5_teaching_54 : decode cX5_teaching 54 = .ok (.ifCond .ne 8, 3) := dk_154 0 8 (dk_at dksX5_teaching_2 8 rfl rfl)
theorem dX5_teaching_57 : decode cX5_teaching 57 = .ok (.iload 4, 2) := dk_21 4 (dk_at dksX5_teaching_2 11 rfl rfl)
theorem dX5_teaching_59 : decode cX5_teaching 59 = .ok (.goto 25, 3) := dk_167 0 25 (dk_at dksX5_teaching_2 13 rfl rfl)
theorem dX5_teaching_62 : decode cX5_teaching 62 = .ok (.iload_n 3, 1) := dk_29 (dk_at dksX5_teaching_2 16 rfl rfl)
theorem dX5_teaching_63 : decode cX5_teaching 63 = .ok (.bipush 10, 2) := dk_16 10 (dk_at dksX5_teaching_2 17 rfl rfl)
theorem dX5_teaching_65 : decode cX5_teaching 65 = .ok (.isub, 1) := dk_100 (dk_at dksX5_teaching_2 19 rfl rfl)
theorem dX5_teaching_66 : decode cX5_teaching 66 = .ok (.iload 4, 2) := dk_21 4 (dk_at dksX5_teaching_2 20 rfl rfl)
theorem dX5_teaching_68 : decode cX5_teaching 68 = .ok (.if_icmp .ge 15, 3) := dk_162 0 15 (dk_at dksX5_teaching_3 0 rfl rfl)
theorem dX5_teaching_71 : decode cX5_teaching 71 = .ok (.aload_n 0, 1) := dk_42 (dk_at dksX5_teaching_3 3 rfl rfl)
theorem dX5_teaching_72 : decode cX5_teaching 72 = .ok (.getfield 52, 3) := dk_180 0 52 (dk_at dksX5_teaching_3 4 rfl rfl)
theorem dX5_teaching_75 : decode cX5_teaching 75 = .ok (.iload_n 3, 1) := dk_29 (dk_at dksX5_teaching_3 7 rfl rfl)
theorem dX5_teaching_76 : decode cX5_teaching 76 = .ok (.bipush 10, 2) := dk_16 10 (dk_at dksX5_teaching_3 8 rfl rfl)
theorem dX5_teaching_78 : decode cX5_teaching 78 = .ok (.isub, 1) := dk_100 (dk_at dksX5_teaching_3 10 rfl rfl)
theorem dX5_teaching_79 : decode cX5_teaching 79 = .ok (.iaload, 1) := dk_46 (dk_at dksX5_teaching_3 11 rfl rfl)
theorem dX5_teaching_80 : decode cX5_teaching 80 = .ok (.goto 4, 3) := dk_167 0 4 (dk_at dksX5_teaching_3 12 rfl rfl)
theorem dX5_teaching_83 : decode cX5_teaching 83 = .ok (.iconst (-1), 1) := dk_2 (dk_at dksX5_teaching_3 15 rfl rfl)
theorem dX5_teaching_84 : decode cX5_teaching 84 = .ok (.ireturn, 1) := dk_172 (dk_at dksX5_teaching_3 16 rfl rfl)
abbrev cX5_copies : ByteArray := prog_14_method_60_code
def yX5_copies : MethodName := ⟨RX5, "copies", "(II)V"⟩
def dkwX5_copies_1 : List UInt8 := [132, 3, 1, 167, 255, 231, 177]
abbrev dktX5_copies_1 : List UInt8 := dkwX5_copies_1 ++ []
def dkwX5_copies_0 : List UInt8 := [3, 62, 29, 16, 70, 162, 0, 25, 42, 180, 0, 46, 27, 29, 96, 42, 180, 0, 46, 28, 29, 96, 46, 79]
abbrev dktX5_copies_0 : List UInt8 := dkwX5_copies_0 ++ dktX5_copies_1
theorem dksX5_copies_0 : cX5_copies.data.toList.drop 0 = dktX5_copies_0 := by decide +kernel
theorem dksX5_copies_1 : cX5_copies.data.toList.drop 24 = dktX5_copies_1 := dk_seg dksX5_copies_0 24 rfl rfl
theorem dX5_copies_0 : decode cX5_copies 0 = .ok (.iconst 0, 1) := dk_3 (dk_at dksX5_copies_0 0 rfl rfl)
theorem dX5_copies_1 : decode cX5_copies 1 = .ok (.istore_n 3, 1) := dk_62 (dk_at dksX5_copies_0 1 rfl rfl)
theorem dX5_copies_2 : decode cX5_copies 2 = .ok (.iload_n 3, 1) := dk_29 (dk_at dksX5_copies_0 2 rfl rfl)
theorem dX5_copies_3 : decode cX5_copies 3 = .ok (.bipush 70, 2) := dk_16 70 (dk_at dksX5_copies_0 3 rfl rfl)
theorem dX5_copies_5 : decode cX5_copies 5 = .ok (.if_icmp .ge 25, 3) := dk_162 0 25 (dk_at dksX5_copies_0 5 rfl rfl)
theorem dX5_copies_8 : decode cX5_copies 8 = .ok (.aload_n 0, 1) := dk_42 (dk_at dksX5_copies_0 8 rfl rfl)
theorem dX5_copies_9 : decode cX5_copies 9 = .ok (.getfield 46, 3) := dk_180 0 46 (dk_at dksX5_copies_0 9 rfl rfl)
theorem dX5_copies_12 : decode cX5_copies 12 = .ok (.iload_n 1, 1) := dk_27 (dk_at dksX5_copies_0 12 rfl rfl)
theorem dX5_copies_13 : decode cX5_copies 13 = .ok (.iload_n 3, 1) := dk_29 (dk_at dksX5_copies_0 13 rfl rfl)
theorem dX5_copies_14 : decode cX5_copies 14 = .ok (.iadd, 1) := dk_96 (dk_at dksX5_copies_0 14 rfl rfl)
theorem dX5_copies_15 : decode cX5_copies 15 = .ok (.aload_n 0, 1) := dk_42 (dk_at dksX5_copies_0 15 rfl rfl)
theorem dX5_copies_16 : decode cX5_copies 16 = .ok (.getfield 46, 3) := dk_180 0 46 (dk_at dksX5_copies_0 16 rfl rfl)
theorem dX5_copies_19 : decode cX5_copies 19 = .ok (.iload_n 2, 1) := dk_28 (dk_at dksX5_copies_0 19 rfl rfl)
theorem dX5_copies_20 : decode cX5_copies 20 = .ok (.iload_n 3, 1) := dk_29 (dk_at dksX5_copies_0 20 rfl rfl)
theorem dX5_copies_21 : decode cX5_copies 21 = .ok (.iadd, 1) := dk_96 (dk_at dksX5_copies_0 21 rfl rfl)
theorem dX5_copies_22 : decode cX5_copies 22 = .ok (.iaload, 1) := dk_46 (dk_at dksX5_copies_0 22 rfl rfl)
theorem dX5_copies_23 : decode cX5_copies 23 = .ok (.iastore, 1) := dk_79 (dk_at dksX5_copies_0 23 rfl rfl)
theorem dX5_copies_24 : decode cX5_copies 24 = .ok (.iinc 3 1, 3) := dk_132 3 1 (dk_at dksX5_copies_1 0 rfl rfl)
theorem dX5_copies_27 : decode cX5_copies 27 = .ok (.goto (-25), 3) := dk_167 255 231 (dk_at dksX5_copies_1 3 rfl rfl)
theorem dX5_copies_30 : decode cX5_copies 30 = .ok (.return_, 1) := dk_177 (dk_at dksX5_copies_1 6 rfl rfl)
abbrev cX5_fewest : ByteArray := prog_14_method_64_code
def yX5_fewest : MethodName := ⟨RX5, "fewest", "(III)I"⟩
def dkwX5_fewest_3 : List UInt8 := [21, 4, 182, 1, 54, 54, 5, 167, 255, 229, 132, 4, 1, 167, 255, 175, 16, 252, 172]
abbrev dktX5_fewest_3 : List UInt8 := dkwX5_fewest_3 ++ []
def dkwX5_fewest_2 : List UInt8 := [3, 54, 5, 21, 5, 153, 0, 28, 42, 27, 28, 21, 4, 182, 1, 51, 153, 0, 6, 21, 4, 172, 42]
abbrev dktX5_fewest_2 : List UInt8 := dkwX5_fewest_2 ++ dktX5_fewest_3
def dkwX5_fewest_1 : List UInt8 := [3, 79, 132, 5, 1, 167, 255, 239, 21, 4, 153, 0, 10, 42, 180, 0, 108, 158, 0, 7, 4, 167, 0, 4]
abbrev dktX5_fewest_1 : List UInt8 := dkwX5_fewest_1 ++ dktX5_fewest_2
def dkwX5_fewest_0 : List UInt8 := [3, 54, 4, 21, 4, 29, 163, 0, 81, 3, 54, 5, 21, 5, 8, 162, 0, 17, 42, 180, 0, 52, 21, 5]
abbrev dktX5_fewest_0 : List UInt8 := dkwX5_fewest_0 ++ dktX5_fewest_1
theorem dksX5_fewest_0 : cX5_fewest.data.toList.drop 0 = dktX5_fewest_0 := by decide +kernel
theorem dksX5_fewest_1 : cX5_fewest.data.toList.drop 24 = dktX5_fewest_1 := dk_seg dksX5_fewest_0 24 rfl rfl
theorem dksX5_fewest_2 : cX5_fewest.data.toList.drop 48 = dktX5_fewest_2 := dk_seg dksX5_fewest_1 24 rfl rfl
theorem dksX5_fewest_3 : cX5_fewest.data.toList.drop 71 = dktX5_fewest_3 := dk_seg dksX5_fewest_2 23 rfl rfl
theorem dX5_fewest_0 : decode cX5_fewest 0 = .ok (.iconst 0, 1) := dk_3 (dk_at dksX5_fewest_0 0 rfl rfl)
theorem dX5_fewest_1 : decode cX5_fewest 1 = .ok (.istore 4, 2) := dk_54 4 (dk_at dksX5_fewest_0 1 rfl rfl)
theorem dX5_fewest_3 : decode cX5_fewest 3 = .ok (.iload 4, 2) := dk_21 4 (dk_at dksX5_fewest_0 3 rfl rfl)
theorem dX5_fewest_5 : decode cX5_fewest 5 = .ok (.iload_n 3, 1) := dk_29 (dk_at dksX5_fewest_0 5 rfl rfl)
theorem dX5_fewest_6 : decode cX5_fewest 6 = .ok (.if_icmp .gt 81, 3) := dk_163 0 81 (dk_at dksX5_fewest_0 6 rfl rfl)
theorem dX5_fewest_9 : decode cX5_fewest 9 = .ok (.iconst 0, 1) := dk_3 (dk_at dksX5_fewest_0 9 rfl rfl)
theorem dX5_fewest_10 : decode cX5_fewest 10 = .ok (.istore 5, 2) := dk_54 5 (dk_at dksX5_fewest_0 10 rfl rfl)
theorem dX5_fewest_12 : decode cX5_fewest 12 = .ok (.iload 5, 2) := dk_21 5 (dk_at dksX5_fewest_0 12 rfl rfl)
theorem dX5_fewest_14 : decode cX5_fewest 14 = .ok (.iconst 5, 1) := dk_8 (dk_at dksX5_fewest_0 14 rfl rfl)
theorem dX5_fewest_15 : decode cX5_fewest 15 = .ok (.if_icmp .ge 17, 3) := dk_162 0 17 (dk_at dksX5_fewest_0 15 rfl rfl)
theorem dX5_fewest_18 : decode cX5_fewest 18 = .ok (.aload_n 0, 1) := dk_42 (dk_at dksX5_fewest_0 18 rfl rfl)
theorem dX5_fewest_19 : decode cX5_fewest 19 = .ok (.getfield 52, 3) := dk_180 0 52 (dk_at dksX5_fewest_0 19 rfl rfl)
theorem dX5_fewest_22 : decode cX5_fewest 22 = .ok (.iload 5, 2) := dk_21 5 (dk_at dksX5_fewest_0 22 rfl rfl)
theorem dX5_fewest_24 : decode cX5_fewest 24 = .ok (.iconst 0, 1) := dk_3 (dk_at dksX5_fewest_1 0 rfl rfl)
theorem dX5_fewest_25 : decode cX5_fewest 25 = .ok (.iastore, 1) := dk_79 (dk_at dksX5_fewest_1 1 rfl rfl)
theorem dX5_fewest_26 : decode cX5_fewest 26 = .ok (.iinc 5 1, 3) := dk_132 5 1 (dk_at dksX5_fewest_1 2 rfl rfl)
theorem dX5_fewest_29 : decode cX5_fewest 29 = .ok (.goto (-17), 3) := dk_167 255 239 (dk_at dksX5_fewest_1 5 rfl rfl)
theorem dX5_fewest_32 : decode cX5_fewest 32 = .ok (.iload 4, 2) := dk_21 4 (dk_at dksX5_fewest_1 8 rfl rfl)
theorem dX5_fewest_34 : decode cX5_fewest 34 = .ok (.ifCond .eq 10, 3) := dk_153 0 10 (dk_at dksX5_fewest_1 10 rfl rfl)
theorem dX5_fewest_37 : decode cX5_fewest 37 = .ok (.aload_n 0, 1) := dk_42 (dk_at dksX5_fewest_1 13 rfl rfl)
theorem dX5_fewest_38 : decode cX5_fewest 38 = .ok (.getfield 108, 3) := dk_180 0 108 (dk_at dksX5_fewest_1 14 rfl rfl)
theorem dX5_fewest_41 : decode cX5_fewest 41 = .ok (.ifCond .le 7, 3) := dk_158 0 7 (dk_at dksX5_fewest_1 17 rfl rfl)
theorem dX5_fewest_44 : decode cX5_fewest 44 = .ok (.iconst 1, 1) := dk_4 (dk_at dksX5_fewest_1 20 rfl rfl)
theorem dX5_fewest_45 : decode cX5_fewest 45 = .ok (.goto 4, 3) := dk_167 0 4 (dk_at dksX5_fewest_1 21 rfl rfl)
theorem dX5_fewest_48 : decode cX5_fewest 48 = .ok (.iconst 0, 1) := dk_3 (dk_at dksX5_fewest_2 0 rfl rfl)
theorem dX5_fewest_49 : decode cX5_fewest 49 = .ok (.istore 5, 2) := dk_54 5 (dk_at dksX5_fewest_2 1 rfl rfl)
theorem dX5_fewest_51 : decode cX5_fewest 51 = .ok (.iload 5, 2) := dk_21 5 (dk_at dksX5_fewest_2 3 rfl rfl)
theorem dX5_fewest_53 : decode cX5_fewest 53 = .ok (.ifCond .eq 28, 3) := dk_153 0 28 (dk_at dksX5_fewest_2 5 rfl rfl)
theorem dX5_fewest_56 : decode cX5_fewest 56 = .ok (.aload_n 0, 1) := dk_42 (dk_at dksX5_fewest_2 8 rfl rfl)
theorem dX5_fewest_57 : decode cX5_fewest 57 = .ok (.iload_n 1, 1) := dk_27 (dk_at dksX5_fewest_2 9 rfl rfl)
theorem dX5_fewest_58 : decode cX5_fewest 58 = .ok (.iload_n 2, 1) := dk_28 (dk_at dksX5_fewest_2 10 rfl rfl)
theorem dX5_fewest_59 : decode cX5_fewest 59 = .ok (.iload 4, 2) := dk_21 4 (dk_at dksX5_fewest_2 11 rfl rfl)
theorem dX5_fewest_61 : decode cX5_fewest 61 = .ok (.invokevirtual 307, 3) := dk_182 1 51 (dk_at dksX5_fewest_2 13 rfl rfl)
theorem dX5_fewest_64 : decode cX5_fewest 64 = .ok (.ifCond .eq 6, 3) := dk_153 0 6 (dk_at dksX5_fewest_2 16 rfl rfl)
theorem dX5_fewest_67 : decode cX5_fewest 67 = .ok (.iload 4, 2) := dk_21 4 (dk_at dksX5_fewest_2 19 rfl rfl)
theorem dX5_fewest_69 : decode cX5_fewest 69 = .ok (.ireturn, 1) := dk_172 (dk_at dksX5_fewest_2 21 rfl rfl)
theorem dX5_fewest_70 : decode cX5_fewest 70 = .ok (.aload_n 0, 1) := dk_42 (dk_at dksX5_fewest_2 22 rfl rfl)
theorem dX5_fewest_71 : decode cX5_fewest 71 = .ok (.iload 4, 2) := dk_21 4 (dk_at dksX5_fewest_3 0 rfl rfl)
theorem dX5_fewest_73 : decode cX5_fewest 73 = .ok (.invokevirtual 310, 3) := dk_182 1 54 (dk_at dksX5_fewest_3 2 rfl rfl)
theorem dX5_fewest_76 : decode cX5_fewest 76 = .ok (.istore 5, 2) := dk_54 5 (dk_at dksX5_fewest_3 5 rfl rfl)
theorem dX5_fewest_78 : decode cX5_fewest 78 = .ok (.goto (-27), 3) := dk_167 255 229 (dk_at dksX5_fewest_3 7 rfl rfl)
theorem dX5_fewest_81 : decode cX5_fewest 81 = .ok (.iinc 4 1, 3) := dk_132 4 1 (dk_at dksX5_fewest_3 10 rfl rfl)
theorem dX5_fewest_84 : decode cX5_fewest 84 = .ok (.goto (-81), 3) := dk_167 255 175 (dk_at dksX5_fewest_3 13 rfl rfl)
theorem dX5_fewest_87 : decode cX5_fewest 87 = .ok (.bipush (-4), 2) := dk_16 252 (dk_at dksX5_fewest_3 16 rfl rfl)
theorem dX5_fewest_89 : decode cX5_fewest 89 = .ok (.ireturn, 1) := dk_172 (dk_at dksX5_fewest_3 18 rfl rfl)
abbrev cX5_teaches : ByteArray := prog_14_method_63_code
def yX5_teaches : MethodName := ⟨RX5, "teaches", "(III)Z"⟩
def dkwX5_teaches_3 : List UInt8 := [4, 167, 0, 4, 3, 172]
abbrev dktX5_teaches_3 : List UInt8 := dkwX5_teaches_3 ++ []
def dkwX5_teaches_2 : List UInt8 := [167, 255, 220, 42, 16, 70, 27, 182, 1, 48, 154, 0, 18, 42, 16, 70, 27, 28, 182, 1, 42, 153, 0, 7]
abbrev dktX5_teaches_2 : List UInt8 := dkwX5_teaches_2 ++ dktX5_teaches_3
def dkwX5_teaches_1 : List UInt8 := [180, 0, 52, 21, 4, 46, 42, 28, 42, 180, 0, 52, 21, 4, 46, 182, 1, 30, 182, 1, 20, 132, 4, 1]
abbrev dktX5_teaches_1 : List UInt8 := dkwX5_teaches_1 ++ dktX5_teaches_2
def dkwX5_teaches_0 : List UInt8 := [42, 16, 70, 17, 0, 140, 182, 1, 45, 3, 54, 4, 21, 4, 29, 162, 0, 36, 42, 16, 70, 3, 28, 42]
abbrev dktX5_teaches_0 : List UInt8 := dkwX5_teaches_0 ++ dktX5_teaches_1
theorem dksX5_teaches_0 : cX5_teaches.data.toList.drop 0 = dktX5_teaches_0 := by decide +kernel
theorem dksX5_teaches_1 : cX5_teaches.data.toList.drop 24 = dktX5_teaches_1 := dk_seg dksX5_teaches_0 24 rfl rfl
theorem dksX5_teaches_2 : cX5_teaches.data.toList.drop 48 = dktX5_teaches_2 := dk_seg dksX5_teaches_1 24 rfl rfl
theorem dksX5_teaches_3 : cX5_teaches.data.toList.drop 72 = dktX5_teaches_3 := dk_seg dksX5_teaches_2 24 rfl rfl
theorem dX5_teaches_0 : decode cX5_teaches 0 = .ok (.aload_n 0, 1) := dk_42 (dk_at dksX5_teaches_0 0 rfl rfl)
theorem dX5_teaches_1 : decode cX5_teaches 1 = .ok (.bipush 70, 2) := dk_16 70 (dk_at dksX5_teaches_0 1 rfl rfl)
theorem dX5_teaches_3 : decode cX5_teaches 3 = .ok (.sipush 140, 3) := dk_17 0 140 (dk_at dksX5_teaches_0 3 rfl rfl)
theorem dX5_teaches_6 : decode cX5_teaches 6 = .ok (.invokevirtual 301, 3) := dk_182 1 45 (dk_at dksX5_teaches_0 6 rfl rfl)
theorem dX5_teaches_9 : decode cX5_teaches 9 = .ok (.iconst 0, 1) := dk_3 (dk_at dksX5_teaches_0 9 rfl rfl)
theorem dX5_teaches_10 : decode cX5_teaches 10 = .ok (.istore 4, 2) := dk_54 4 (dk_at dksX5_teaches_0 10 rfl rfl)
theorem dX5_teaches_12 : decode cX5_teaches 12 = .ok (.iload 4, 2) := dk_21 4 (dk_at dksX5_teaches_0 12 rfl rfl)
theorem dX5_teaches_14 : decode cX5_teaches 14 = .ok (.iload_n 3, 1) := dk_29 (dk_at dksX5_teaches_0 14 rfl rfl)
theorem dX5_teaches_15 : decode cX5_teaches 15 = .ok (.if_icmp .ge 36, 3) := dk_162 0 36 (dk_at dksX5_teaches_0 15 rfl rfl)
theorem dX5_teaches_18 : decode cX5_teaches 18 = .ok (.aload_n 0, 1) := dk_42 (dk_at dksX5_teaches_0 18 rfl rfl)
theorem dX5_teaches_19 : decode cX5_teaches 19 = .ok (.bipush 70, 2) := dk_16 70 (dk_at dksX5_teaches_0 19 rfl rfl)
theorem dX5_teaches_21 : decode cX5_teaches 21 = .ok (.iconst 0, 1) := dk_3 (dk_at dksX5_teaches_0 21 rfl rfl)
theorem dX5_teaches_22 : decode cX5_teaches 22 = .ok (.iload_n 2, 1) := dk_28 (dk_at dksX5_teaches_0 22 rfl rfl)
theorem dX5_teaches_23 : decode cX5_teaches 23 = .ok (.aload_n 0, 1) := dk_42 (dk_at dksX5_teaches_0 23 rfl rfl)
theorem dX5_teaches_24 : decode cX5_teaches 24 = .ok (.getfield 52, 3) := dk_180 0 52 (dk_at dksX5_teaches_1 0 rfl rfl)
theorem dX5_teaches_27 : decode cX5_teaches 27 = .ok (.iload 4, 2) := dk_21 4 (dk_at dksX5_teaches_1 3 rfl rfl)
theorem dX5_teaches_29 : decode cX5_teaches 29 = .ok (.iaload, 1) := dk_46 (dk_at dksX5_teaches_1 5 rfl rfl)
theorem dX5_teaches_30 : decode cX5_teaches 30 = .ok (.aload_n 0, 1) := dk_42 (dk_at dksX5_teaches_1 6 rfl rfl)
theorem dX5_teaches_31 : decode cX5_teaches 31 = .ok (.iload_n 2, 1) := dk_28 (dk_at dksX5_teaches_1 7 rfl rfl)
theorem dX5_teaches_32 : decode cX5_teaches 32 = .ok (.aload_n 0, 1) := dk_42 (dk_at dksX5_teaches_1 8 rfl rfl)
theorem dX5_teaches_33 : decode cX5_teaches 33 = .ok (.getfield 52, 3) := dk_180 0 52 (dk_at dksX5_teaches_1 9 rfl rfl)
theorem dX5_teaches_36 : decode cX5_teaches 36 = .ok (.iload 4, 2) := dk_21 4 (dk_at dksX5_teaches_1 12 rfl rfl)
theorem dX5_teaches_38 : decode cX5_teaches 38 = .ok (.iaload, 1) := dk_46 (dk_at dksX5_teaches_1 14 rfl rfl)
theorem dX5_teaches_39 : decode cX5_teaches 39 = .ok (.invokevirtual 286, 3) := dk_182 1 30 (dk_at dksX5_teaches_1 15 rfl rfl)
theorem dX5_teaches_42 : decode cX5_teaches 42 = .ok (.invokevirtual 276, 3) := dk_182 1 20 (dk_at dksX5_teaches_1 18 rfl rfl)
theorem dX5_teaches_45 : decode cX5_teaches 45 = .ok (.iinc 4 1, 3) := dk_132 4 1 (dk_at dksX5_teaches_1 21 rfl rfl)
theorem dX5_teaches_48 : decode cX5_teaches 48 = .ok (.goto (-36), 3) := dk_167 255 220 (dk_at dksX5_teaches_2 0 rfl rfl)
theorem dX5_teaches_51 : decode cX5_teaches 51 = .ok (.aload_n 0, 1) := dk_42 (dk_at dksX5_teaches_2 3 rfl rfl)
theorem dX5_teaches_52 : decode cX5_teaches 52 = .ok (.bipush 70, 2) := dk_16 70 (dk_at dksX5_teaches_2 4 rfl rfl)
theorem dX5_teaches_54 : decode cX5_teaches 54 = .ok (.iload_n 1, 1) := dk_27 (dk_at dksX5_teaches_2 6 rfl rfl)
theorem dX5_teaches_55 : decode cX5_teaches 55 = .ok (.invokevirtual 304, 3) := dk_182 1 48 (dk_at dksX5_teaches_2 7 rfl rfl)
theorem dX5_teaches_58 : decode cX5_teaches 58 = .ok (.ifCond .ne 18, 3) := dk_154 0 18 (dk_at dksX5_teaches_2 10 rfl rfl)
theorem dX5_teaches_61 : decode cX5_teaches 61 = .ok (.aload_n 0, 1) := dk_42 (dk_at dksX5_teaches_2 13 rfl rfl)
theorem dX5_teaches_62 : decode cX5_teaches 62 = .ok (.bipush 70, 2) := dk_16 70 (dk_at dksX5_teaches_2 14 rfl rfl)
theorem dX5_teaches_64 : decode cX5_teaches 64 = .ok (.iload_n 1, 1) := dk_27 (dk_at dksX5_teaches_2 16 rfl rfl)
theorem dX5_teaches_65 : decode cX5_teaches 65 = .ok (.iload_n 2, 1) := dk_28 (dk_at dksX5_teaches_2 17 rfl rfl)
theorem dX5_teaches_66 : decode cX5_teaches 66 = .ok (.invokevirtual 298, 3) := dk_182 1 42 (dk_at dksX5_teaches_2 18 rfl rfl)
theorem dX5_teaches_69 : decode cX5_teaches 69 = .ok (.ifCond .eq 7, 3) := dk_153 0 7 (dk_at dksX5_teaches_2 21 rfl rfl)
theorem dX5_teaches_72 : decode cX5_teaches 72 = .ok (.iconst 1, 1) := dk_4 (dk_at dksX5_teaches_3 0 rfl rfl)
theorem dX5_teaches_73 : decode cX5_teaches 73 = .ok (.goto 4, 3) := dk_167 0 4 (dk_at dksX5_teaches_3 1 rfl rfl)
theorem dX5_teaches_76 : decode cX5_teaches 76 = .ok (.iconst 0, 1) := dk_3 (dk_at dksX5_teaches_3 4 rfl rfl)
theorem dX5_teaches_77 : decode cX5_teaches 77 = .ok (.ireturn, 1) := dk_172 (dk_at dksX5_teaches_3 5 rfl rfl)
abbrev cX5_hasFled : ByteArray := prog_14_method_61_code
def yX5_hasFled : MethodName := ⟨RX5, "hasFled", "(II)Z"⟩
def dkwX5_hasFled_2 : List UInt8 := [4, 167, 0, 4, 3, 62, 132, 4, 1, 167, 255, 204, 29, 172]
abbrev dktX5_hasFled_2 : List UInt8 := dkwX5_hasFled_2 ++ []
def dkwX5_hasFled_1 : List UInt8 := [4, 160, 0, 27, 42, 180, 0, 46, 27, 16, 10, 21, 4, 104, 96, 16, 9, 96, 46, 16, 252, 159, 0, 7]
abbrev dktX5_hasFled_1 : List UInt8 := dkwX5_hasFled_1 ++ dktX5_hasFled_2
def dkwX5_hasFled_0 : List UInt8 := [3, 62, 3, 54, 4, 21, 4, 42, 180, 0, 117, 162, 0, 49, 29, 154, 0, 33, 28, 21, 4, 122, 4, 126]
abbrev dktX5_hasFled_0 : List UInt8 := dkwX5_hasFled_0 ++ dktX5_hasFled_1
theorem dksX5_hasFled_0 : cX5_hasFled.data.toList.drop 0 = dktX5_hasFled_0 := by decide +kernel
theorem dksX5_hasFled_1 : cX5_hasFled.data.toList.drop 24 = dktX5_hasFled_1 := dk_seg dksX5_hasFled_0 24 rfl rfl
theorem dksX5_hasFled_2 : cX5_hasFled.data.toList.drop 48 = dktX5_hasFled_2 := dk_seg dksX5_hasFled_1 24 rfl rfl
theorem dX5_hasFled_0 : decode cX5_hasFled 0 = .ok (.iconst 0, 1) := dk_3 (dk_at dksX5_hasFled_0 0 rfl rfl)
theorem dX5_hasFled_1 : decode cX5_hasFled 1 = .ok (.istore_n 3, 1) := dk_62 (dk_at dksX5_hasFled_0 1 rfl rfl)
theorem dX5_hasFled_2 : decode cX5_hasFled 2 = .ok (.iconst 0, 1) := dk_3 (dk_at dksX5_hasFled_0 2 rfl rfl)
theorem dX5_hasFled_3 : decode cX5_hasFled 3 = .ok (.istore 4, 2) := dk_54 4 (dk_at dksX5_hasFled_0 3 rfl rfl)
theorem dX5_hasFled_5 : decode cX5_hasFled 5 = .ok (.iload 4, 2) := dk_21 4 (dk_at dksX5_hasFled_0 5 rfl rfl)
theorem dX5_hasFled_7 : decode cX5_hasFled 7 = .ok (.aload_n 0, 1) := dk_42 (dk_at dksX5_hasFled_0 7 rfl rfl)
theorem dX5_hasFled_8 : decode cX5_hasFled 8 = .ok (.getfield 117, 3) := dk_180 0 117 (dk_at dksX5_hasFled_0 8 rfl rfl)
theorem dX5_hasFled_11 : decode cX5_hasFled 11 = .ok (.if_icmp .ge 49, 3) := dk_162 0 49 (dk_at dksX5_hasFled_0 11 rfl rfl)
theorem dX5_hasFled_14 : decode cX5_hasFled 14 = .ok (.iload_n 3, 1) := dk_29 (dk_at dksX5_hasFled_0 14 rfl rfl)
theorem dX5_hasFled_15 : decode cX5_hasFled 15 = .ok (.ifCond .ne 33, 3) := dk_154 0 33 (dk_at dksX5_hasFled_0 15 rfl rfl)
theorem dX5_hasFled_18 : decode cX5_hasFled 18 = .ok (.iload_n 2, 1) := dk_28 (dk_at dksX5_hasFled_0 18 rfl rfl)
theorem dX5_hasFled_19 : decode cX5_hasFled 19 = .ok (.iload 4, 2) := dk_21 4 (dk_at dksX5_hasFled_0 19 rfl rfl)
theorem dX5_hasFled_21 : decode cX5_hasFled 21 = .ok (.ishr, 1) := dk_122 (dk_at dksX5_hasFled_0 21 rfl rfl)
theorem dX5_hasFled_22 : decode cX5_hasFled 22 = .ok (.iconst 1, 1) := dk_4 (dk_at dksX5_hasFled_0 22 rfl rfl)
theorem dX5_hasFled_23 : decode cX5_hasFled 23 = .ok (.iand, 1) := dk_126 (dk_at dksX5_hasFled_0 23 rfl rfl)
theorem dX5_hasFled_24 : decode cX5_hasFled 24 = .ok (.iconst 1, 1) := dk_4 (dk_at dksX5_hasFled_1 0 rfl rfl)
theorem dX5_hasFled_25 : decode cX5_hasFled 25 = .ok (.if_icmp .ne 27, 3) := dk_160 0 27 (dk_at dksX5_hasFled_1 1 rfl rfl)
theorem dX5_hasFled_28 : decode cX5_hasFled 28 = .ok (.aload_n 0, 1) := dk_42 (dk_at dksX5_hasFled_1 4 rfl rfl)
theorem dX5_hasFled_29 : decode cX5_hasFled 29 = .ok (.getfield 46, 3) := dk_180 0 46 (dk_at dksX5_hasFled_1 5 rfl rfl)
theorem dX5_hasFled_32 : decode cX5_hasFled 32 = .ok (.iload_n 1, 1) := dk_27 (dk_at dksX5_hasFled_1 8 rfl rfl)
theorem dX5_hasFled_33 : decode cX5_hasFled 33 = .ok (.bipush 10, 2) := dk_16 10 (dk_at dksX5_hasFled_1 9 rfl rfl)
theorem dX5_hasFled_35 : decode cX5_hasFled 35 = .ok (.iload 4, 2) := dk_21 4 (dk_at dksX5_hasFled_1 11 rfl rfl)
theorem dX5_hasFled_37 : decode cX5_hasFled 37 = .ok (.imul, 1) := dk_104 (dk_at dksX5_hasFled_1 13 rfl rfl)
theorem dX5_hasFled_38 : decode cX5_hasFled 38 = .ok (.iadd, 1) := dk_96 (dk_at dksX5_hasFled_1 14 rfl rfl)
theorem dX5_hasFled_39 : decode cX5_hasFled 39 = .ok (.bipush 9, 2) := dk_16 9 (dk_at dksX5_hasFled_1 15 rfl rfl)
theorem dX5_hasFled_41 : decode cX5_hasFled 41 = .ok (.iadd, 1) := dk_96 (dk_at dksX5_hasFled_1 17 rfl rfl)
theorem dX5_hasFled_42 : decode cX5_hasFled 42 = .ok (.iaload, 1) := dk_46 (dk_at dksX5_hasFled_1 18 rfl rfl)
theorem dX5_hasFled_43 : decode cX5_hasFled 43 = .ok (.bipush (-4), 2) := dk_16 252 (dk_at dksX5_hasFled_1 19 rfl rfl)
theorem dX5_hasFled_45 : decode cX5_hasFled 45 = .ok (.if_icmp .eq 7, 3) := dk_159 0 7 (dk_at dksX5_hasFled_1 21 rfl rfl)
theorem dX5_hasFled_48 : decode cX5_hasFled 48 = .ok (.iconst 1, 1) := dk_4 (dk_at dksX5_hasFled_2 0 rfl rfl)
theorem dX5_hasFled_49 : decode cX5_hasFled 49 = .ok (.goto 4, 3) := dk_167 0 4 (dk_at dksX5_hasFled_2 1 rfl rfl)
theorem dX5_hasFled_52 : decode cX5_hasFled 52 = .ok (.iconst 0, 1) := dk_3 (dk_at dksX5_hasFled_2 4 rfl rfl)
theorem dX5_hasFled_53 : decode cX5_hasFled 53 = .ok (.istore_n 3, 1) := dk_62 (dk_at dksX5_hasFled_2 5 rfl rfl)
theorem dX5_hasFled_54 : decode cX5_hasFled 54 = .ok (.iinc 4 1, 3) := dk_132 4 1 (dk_at dksX5_hasFled_2 6 rfl rfl)
theorem dX5_hasFled_57 : decode cX5_hasFled 57 = .ok (.goto (-52), 3) := dk_167 255 204 (dk_at dksX5_hasFled_2 9 rfl rfl)
theorem dX5_hasFled_60 : decode cX5_hasFled 60 = .ok (.iload_n 3, 1) := dk_29 (dk_at dksX5_hasFled_2 12 rfl rfl)
theorem dX5_hasFled_61 : decode cX5_hasFled 61 = .ok (.ireturn, 1) := dk_172 (dk_at dksX5_hasFled_2 13 rfl rfl)
abbrev cX5_nextRow : ByteArray := prog_14_method_62_code
def yX5_nextRow : MethodName := ⟨RX5, "nextRow", "(I)Z"⟩
def dkwX5_nextRow_2 : List UInt8 := [96, 79, 28, 155, 0, 7, 4, 167, 0, 4, 3, 172]
abbrev dktX5_nextRow_2 : List UInt8 := dkwX5_nextRow_2 ++ []
def dkwX5_nextRow_1 : List UInt8 := [180, 0, 52, 28, 3, 79, 132, 2, 255, 167, 255, 227, 28, 155, 0, 13, 42, 180, 0, 52, 28, 92, 46, 4]
abbrev dktX5_nextRow_1 : List UInt8 := dkwX5_nextRow_1 ++ dktX5_nextRow_2
def dkwX5_nextRow_0 : List UInt8 := [27, 4, 100, 61, 28, 155, 0, 31, 42, 180, 0, 52, 28, 46, 42, 180, 0, 108, 4, 100, 160, 0, 16, 42]
abbrev dktX5_nextRow_0 : List UInt8 := dkwX5_nextRow_0 ++ dktX5_nextRow_1
theorem dksX5_nextRow_0 : cX5_nextRow.data.toList.drop 0 = dktX5_nextRow_0 := by decide +kernel
theorem dksX5_nextRow_1 : cX5_nextRow.data.toList.drop 24 = dktX5_nextRow_1 := dk_seg dksX5_nextRow_0 24 rfl rfl
theorem dksX5_nextRow_2 : cX5_nextRow.data.toList.drop 48 = dktX5_nextRow_2 := dk_seg dksX5_nextRow_1 24 rfl rfl
theorem dX5_nextRow_0 : decode cX5_nextRow 0 = .ok (.iload_n 1, 1) := dk_27 (dk_at dksX5_nextRow_0 0 rfl rfl)
theorem dX5_nextRow_1 : decode cX5_nextRow 1 = .ok (.iconst 1, 1) := dk_4 (dk_at dksX5_nextRow_0 1 rfl rfl)
theorem dX5_nextRow_2 : decode cX5_nextRow 2 = .ok (.isub, 1) := dk_100 (dk_at dksX5_nextRow_0 2 rfl rfl)
theorem dX5_nextRow_3 : decode cX5_nextRow 3 = .ok (.istore_n 2, 1) := dk_61 (dk_at dksX5_nextRow_0 3 rfl rfl)
theorem dX5_nextRow_4 : decode cX5_nextRow 4 = .ok (.iload_n 2, 1) := dk_28 (dk_at dksX5_nextRow_0 4 rfl rfl)
theorem dX5_nextRow_5 : decode cX5_nextRow 5 = .ok (.ifCond .lt 31, 3) := dk_155 0 31 (dk_at dksX5_nextRow_0 5 rfl rfl)
theorem dX5_nextRow_8 : decode cX5_nextRow 8 = .ok (.aload_n 0, 1) := dk_42 (dk_at dksX5_nextRow_0 8 rfl rfl)
theorem dX5_nextRow_9 : decode cX5_nextRow 9 = .ok (.getfield 52, 3) := dk_180 0 52 (dk_at dksX5_nextRow_0 9 rfl rfl)
theorem dX5_nextRow_12 : decode cX5_nextRow 12 = .ok (.iload_n 2, 1) := dk_28 (dk_at dksX5_nextRow_0 12 rfl rfl)
theorem dX5_nextRow_13 : decode cX5_nextRow 13 = .ok (.iaload, 1) := dk_46 (dk_at dksX5_nextRow_0 13 rfl rfl)
theorem dX5_nextRow_14 : decode cX5_nextRow 14 = .ok (.aload_n 0, 1) := dk_42 (dk_at dksX5_nextRow_0 14 rfl rfl)
theorem dX5_nextRow_15 : decode cX5_nextRow 15 = .ok (.getfield 108, 3) := dk_180 0 108 (dk_at dksX5_nextRow_0 15 rfl rfl)
theorem dX5_nextRow_18 : decode cX5_nextRow 18 = .ok (.iconst 1, 1) := dk_4 (dk_at dksX5_nextRow_0 18 rfl rfl)
theorem dX5_nextRow_19 : decode cX5_nextRow 19 = .ok (.isub, 1) := dk_100 (dk_at dksX5_nextRow_0 19 rfl rfl)
theorem dX5_nextRow_20 : decode cX5_nextRow 20 = .ok (.if_icmp .ne 16, 3) := dk_160 0 16 (dk_at dksX5_nextRow_0 20 rfl rfl)
theorem dX5_nextRow_23 : decode cX5_nextRow 23 = .ok (.aload_n 0, 1) := dk_42 (dk_at dksX5_nextRow_0 23 rfl rfl)
theorem dX5_nextRow_24 : decode cX5_nextRow 24 = .ok (.getfield 52, 3) := dk_180 0 52 (dk_at dksX5_nextRow_1 0 rfl rfl)
theorem dX5_nextRow_27 : decode cX5_nextRow 27 = .ok (.iload_n 2, 1) := dk_28 (dk_at dksX5_nextRow_1 3 rfl rfl)
theorem dX5_nextRow_28 : decode cX5_nextRow 28 = .ok (.iconst 0, 1) := dk_3 (dk_at dksX5_nextRow_1 4 rfl rfl)
theorem dX5_nextRow_29 : decode cX5_nextRow 29 = .ok (.iastore, 1) := dk_79 (dk_at dksX5_nextRow_1 5 rfl rfl)
theorem dX5_nextRow_30 : decode cX5_nextRow 30 = .ok (.iinc 2 (-1), 3) := dk_132 2 255 (dk_at dksX5_nextRow_1 6 rfl rfl)
theorem dX5_nextRow_33 : decode cX5_nextRow 33 = .ok (.goto (-29), 3) := dk_167 255 227 (dk_at dksX5_nextRow_1 9 rfl rfl)
theorem dX5_nextRow_36 : decode cX5_nextRow 36 = .ok (.iload_n 2, 1) := dk_28 (dk_at dksX5_nextRow_1 12 rfl rfl)
theorem dX5_nextRow_37 : decode cX5_nextRow 37 = .ok (.ifCond .lt 13, 3) := dk_155 0 13 (dk_at dksX5_nextRow_1 13 rfl rfl)
theorem dX5_nextRow_40 : decode cX5_nextRow 40 = .ok (.aload_n 0, 1) := dk_42 (dk_at dksX5_nextRow_1 16 rfl rfl)
theorem dX5_nextRow_41 : decode cX5_nextRow 41 = .ok (.getfield 52, 3) := dk_180 0 52 (dk_at dksX5_nextRow_1 17 rfl rfl)
theorem dX5_nextRow_44 : decode cX5_nextRow 44 = .ok (.iload_n 2, 1) := dk_28 (dk_at dksX5_nextRow_1 20 rfl rfl)
theorem dX5_nextRow_45 : decode cX5_nextRow 45 = .ok (.dup2, 1) := dk_92 (dk_at dksX5_nextRow_1 21 rfl rfl)
theorem dX5_nextRow_46 : decode cX5_nextRow 46 = .ok (.iaload, 1) := dk_46 (dk_at dksX5_nextRow_1 22 rfl rfl)
theorem dX5_nextRow_47 : decode cX5_nextRow 47 = .ok (.iconst 1, 1) := dk_4 (dk_at dksX5_nextRow_1 23 rfl rfl)
theorem dX5_nextRow_48 : decode cX5_nextRow 48 = .ok (.iadd, 1) := dk_96 (dk_at dksX5_nextRow_2 0 rfl rfl)
theorem dX5_nextRow_49 : decode cX5_nextRow 49 = .ok (.iastore, 1) := dk_79 (dk_at dksX5_nextRow_2 1 rfl rfl)
theorem dX5_nextRow_50 : decode cX5_nextRow 50 = .ok (.iload_n 2, 1) := dk_28 (dk_at dksX5_nextRow_2 2 rfl rfl)
theorem dX5_nextRow_51 : decode cX5_nextRow 51 = .ok (.ifCond .lt 7, 3) := dk_155 0 7 (dk_at dksX5_nextRow_2 3 rfl rfl)
theorem dX5_nextRow_54 : decode cX5_nextRow 54 = .ok (.iconst 1, 1) := dk_4 (dk_at dksX5_nextRow_2 6 rfl rfl)
theorem dX5_nextRow_55 : decode cX5_nextRow 55 = .ok (.goto 4, 3) := dk_167 0 4 (dk_at dksX5_nextRow_2 7 rfl rfl)
theorem dX5_nextRow_58 : decode cX5_nextRow 58 = .ok (.iconst 0, 1) := dk_3 (dk_at dksX5_nextRow_2 10 rfl rfl)
theorem dX5_nextRow_59 : decode cX5_nextRow 59 = .ok (.ireturn, 1) := dk_172 (dk_at dksX5_nextRow_2 11 rfl rfl)
abbrev cX5_never : ByteArray := prog_14_method_66_code
def yX5_never : MethodName := ⟨RX5, "never", "(II)I"⟩
def dkwX5_never_3 : List UInt8 := [132, 4, 1, 167, 255, 205, 29, 184, 0, 254, 172]
abbrev dktX5_never_3 : List UInt8 := dkwX5_never_3 ++ []
def dkwX5_never_2 : List UInt8 := [160, 0, 18, 42, 180, 0, 40, 21, 4, 46, 42, 28, 182, 1, 23, 159, 0, 7, 4, 167, 0, 4, 3, 62]
abbrev dktX5_never_2 : List UInt8 := dkwX5_never_2 ++ dktX5_never_3
def dkwX5_never_1 : List UInt8 := [21, 4, 42, 180, 0, 111, 162, 0, 48, 29, 153, 0, 36, 42, 27, 182, 0, 231, 21, 4, 122, 4, 126, 4]
abbrev dktX5_never_1 : List UInt8 := dkwX5_never_1 ++ dktX5_never_2
def dkwX5_never_0 : List UInt8 := [42, 27, 182, 0, 240, 153, 0, 11, 42, 28, 182, 0, 237, 154, 0, 5, 2, 172, 4, 62, 3, 54, 4]
abbrev dktX5_never_0 : List UInt8 := dkwX5_never_0 ++ dktX5_never_1
theorem dksX5_never_0 : cX5_never.data.toList.drop 0 = dktX5_never_0 := by decide +kernel
theorem dksX5_never_1 : cX5_never.data.toList.drop 23 = dktX5_never_1 := dk_seg dksX5_never_0 23 rfl rfl
theorem dksX5_never_2 : cX5_never.data.toList.drop 47 = dktX5_never_2 := dk_seg dksX5_never_1 24 rfl rfl
theorem dksX5_never_3 : cX5_never.data.toList.drop 71 = dktX5_never_3 := dk_seg dksX5_never_2 24 rfl rfl
theorem dX5_never_0 : decode cX5_never 0 = .ok (.aload_n 0, 1) := dk_42 (dk_at dksX5_never_0 0 rfl rfl)
theorem dX5_never_1 : decode cX5_never 1 = .ok (.iload_n 1, 1) := dk_27 (dk_at dksX5_never_0 1 rfl rfl)
theorem dX5_never_2 : decode cX5_never 2 = .ok (.invokevirtual 240, 3) := dk_182 0 240 (dk_at dksX5_never_0 2 rfl rfl)
theorem dX5_never_5 : decode cX5_never 5 = .ok (.ifCond .eq 11, 3) := dk_153 0 11 (dk_at dksX5_never_0 5 rfl rfl)
theorem dX5_never_8 : decode cX5_never 8 = .ok (.aload_n 0, 1) := dk_42 (dk_at dksX5_never_0 8 rfl rfl)
theorem dX5_never_9 : decode cX5_never 9 = .ok (.iload_n 2, 1) := dk_28 (dk_at dksX5_never_0 9 rfl rfl)
theorem dX5_never_10 : decode cX5_never 10 = .ok (.invokevirtual 237, 3) := dk_182 0 237 (dk_at dksX5_never_0 10 rfl rfl)
theorem dX5_never_13 : decode cX5_never 13 = .ok (.ifCond .ne 5, 3) := dk_154 0 5 (dk_at dksX5_never_0 13 rfl rfl)
theorem dX5_never_16 : decode cX5_never 16 = .ok (.iconst (-1), 1) := dk_2 (dk_at dksX5_never_0 16 rfl rfl)
theorem dX5_never_17 : decode cX5_never 17 = .ok (.ireturn, 1) := dk_172 (dk_at dksX5_never_0 17 rfl rfl)
theorem dX5_never_18 : decode cX5_never 18 = .ok (.iconst 1, 1) := dk_4 (dk_at dksX5_never_0 18 rfl rfl)
theorem dX5_never_19 : decode cX5_never 19 = .ok (.istore_n 3, 1) := dk_62 (dk_at dksX5_never_0 19 rfl rfl)
theorem dX5_never_20 : decode cX5_never 20 = .ok (.iconst 0, 1) := dk_3 (dk_at dksX5_never_0 20 rfl rfl)
theorem dX5_never_21 : decode cX5_never 21 = .ok (.istore 4, 2) := dk_54 4 (dk_at dksX5_never_0 21 rfl rfl)
theorem dX5_never_23 : decode cX5_never 23 = .ok (.iload 4, 2) := dk_21 4 (dk_at dksX5_never_1 0 rfl rfl)
theorem dX5_never_25 : decode cX5_never 25 = .ok (.aload_n 0, 1) := dk_42 (dk_at dksX5_never_1 2 rfl rfl)
theorem dX5_never_26 : decode cX5_never 26 = .ok (.getfield 111, 3) := dk_180 0 111 (dk_at dksX5_never_1 3 rfl rfl)
theorem dX5_never_29 : decode cX5_never 29 = .ok (.if_icmp .ge 48, 3) := dk_162 0 48 (dk_at dksX5_never_1 6 rfl rfl)
theorem dX5_never_32 : decode cX5_never 32 = .ok (.iload_n 3, 1) := dk_29 (dk_at dksX5_never_1 9 rfl rfl)
theorem dX5_never_33 : decode cX5_never 33 = .ok (.ifCond .eq 36, 3) := dk_153 0 36 (dk_at dksX5_never_1 10 rfl rfl)
theorem dX5_never_36 : decode cX5_never 36 = .ok (.aload_n 0, 1) := dk_42 (dk_at dksX5_never_1 13 rfl rfl)
theorem dX5_never_37 : decode cX5_never 37 = .ok (.iload_n 1, 1) := dk_27 (dk_at dksX5_never_1 14 rfl rfl)
theorem dX5_never_38 : decode cX5_never 38 = .ok (.invokevirtual 231, 3) := dk_182 0 231 (dk_at dksX5_never_1 15 rfl rfl)
theorem dX5_never_41 : decode cX5_never 41 = .ok (.iload 4, 2) := dk_21 4 (dk_at dksX5_never_1 18 rfl rfl)
theorem dX5_never_43 : decode cX5_never 43 = .ok (.ishr, 1) := dk_122 (dk_at dksX5_never_1 20 rfl rfl)
theorem dX5_never_44 : decode cX5_never 44 = .ok (.iconst 1, 1) := dk_4 (dk_at dksX5_never_1 21 rfl rfl)
theorem dX5_never_45 : decode cX5_never 45 = .ok (.iand, 1) := dk_126 (dk_at dksX5_never_1 22 rfl rfl)
theorem dX5_never_46 : decode cX5_never 46 = .ok (.iconst 1, 1) := dk_4 (dk_at dksX5_never_1 23 rfl rfl)
theorem dX5_never_47 : decode cX5_never 47 = .ok (.if_icmp .ne 18, 3) := dk_160 0 18 (dk_at dksX5_never_2 0 rfl rfl)
theorem dX5_never_50 : decode cX5_never 50 = .ok (.aload_n 0, 1) := dk_42 (dk_at dksX5_never_2 3 rfl rfl)
theorem dX5_never_51 : decode cX5_never 51 = .ok (.getfield 40, 3) := dk_180 0 40 (dk_at dksX5_never_2 4 rfl rfl)
theorem dX5_never_54 : decode cX5_never 54 = .ok (.iload 4, 2) := dk_21 4 (dk_at dksX5_never_2 7 rfl rfl)
theorem dX5_never_56 : decode cX5_never 56 = .ok (.iaload, 1) := dk_46 (dk_at dksX5_never_2 9 rfl rfl)
theorem dX5_never_57 : decode cX5_never 57 = .ok (.aload_n 0, 1) := dk_42 (dk_at dksX5_never_2 10 rfl rfl)
theorem dX5_never_58 : decode cX5_never 58 = .ok (.iload_n 2, 1) := dk_28 (dk_at dksX5_never_2 11 rfl rfl)
theorem dX5_never_59 : decode cX5_never 59 = .ok (.invokevirtual 279, 3) := dk_182 1 23 (dk_at dksX5_never_2 12 rfl rfl)
theorem dX5_never_62 : decode cX5_never 62 = .ok (.if_icmp .eq 7, 3) := dk_159 0 7 (dk_at dksX5_never_2 15 rfl rfl)
theorem dX5_never_65 : decode cX5_never 65 = .ok (.iconst 1, 1) := dk_4 (dk_at dksX5_never_2 18 rfl rfl)
theorem dX5_never_66 : decode cX5_never 66 = .ok (.goto 4, 3) := dk_167 0 4 (dk_at dksX5_never_2 19 rfl rfl)
theorem dX5_never_69 : decode cX5_never 69 = .ok (.iconst 0, 1) := dk_3 (dk_at dksX5_never_2 22 rfl rfl)
theorem dX5_never_70 : decode cX5_never 70 = .ok (.istore_n 3, 1) := dk_62 (dk_at dksX5_never_2 23 rfl rfl)
theorem dX5_never_71 : decode cX5_never 71 = .ok (.iinc 4 1, 3) := dk_132 4 1 (dk_at dksX5_never_3 0 rfl rfl)
theorem dX5_never_74 : decode cX5_never 74 = .ok (.goto (-51), 3) := dk_167 255 205 (dk_at dksX5_never_3 3 rfl rfl)
theorem dX5_never_77 : decode cX5_never 77 = .ok (.iload_n 3, 1) := dk_29 (dk_at dksX5_never_3 6 rfl rfl)
theorem dX5_never_78 : decode cX5_never 78 = .ok (.invokestatic 254, 3) := dk_184 0 254 (dk_at dksX5_never_3 7 rfl rfl)
theorem dX5_never_81 : decode cX5_never 81 = .ok (.ireturn, 1) := dk_172 (dk_at dksX5_never_3 10 rfl rfl)
abbrev cX5_order : ByteArray := prog_14_method_69_code
def yX5_order : MethodName := ⟨RX5, "order", "(II)I"⟩
def dkwX5_order_9 : List UInt8 := [21, 4, 167, 0, 12, 42, 180, 0, 58, 28, 16, 10, 100, 46, 172]
abbrev dktX5_order_9 : List UInt8 := dkwX5_order_9 ++ []
def dkwX5_order_8 : List UInt8 := [79, 132, 8, 1, 167, 255, 230, 132, 5, 1, 167, 255, 125, 28, 153, 0, 10, 21, 4, 16, 252, 160, 0, 8]
abbrev dktX5_order_8 : List UInt8 := dkwX5_order_8 ++ dktX5_order_9
def dkwX5_order_7 : List UInt8 := [54, 8, 21, 8, 42, 180, 0, 114, 162, 0, 23, 42, 180, 0, 58, 21, 8, 42, 180, 0, 55, 21, 8, 46]
abbrev dktX5_order_7 : List UInt8 := dkwX5_order_7 ++ dktX5_order_8
def dkwX5_order_6 : List UInt8 := [16, 252, 159, 0, 53, 21, 4, 16, 252, 159, 0, 10, 21, 7, 21, 4, 162, 0, 39, 21, 7, 54, 4, 3]
abbrev dktX5_order_6 : List UInt8 := dkwX5_order_6 ++ dktX5_order_7
def dkwX5_order_5 : List UInt8 := [167, 255, 225, 42, 182, 1, 61, 153, 0, 11, 42, 27, 182, 1, 65, 167, 0, 5, 16, 252, 54, 7, 21, 7]
abbrev dktX5_order_5 : List UInt8 := dkwX5_order_5 ++ dktX5_order_6
def dkwX5_order_4 : List UInt8 := [21, 7, 21, 6, 42, 180, 0, 114, 112, 79, 21, 6, 42, 180, 0, 114, 108, 54, 6, 132, 7, 255]
abbrev dktX5_order_4 : List UInt8 := dkwX5_order_4 ++ dktX5_order_5
def dkwX5_order_3 : List UInt8 := [162, 0, 131, 21, 5, 54, 6, 42, 180, 0, 114, 4, 100, 54, 7, 21, 7, 155, 0, 32, 42, 180, 0, 55]
abbrev dktX5_order_3 : List UInt8 := dkwX5_order_3 ++ dktX5_order_4
def dkwX5_order_2 : List UInt8 := [42, 180, 0, 114, 104, 62, 132, 4, 1, 167, 255, 237, 16, 252, 54, 4, 3, 54, 5, 21, 5, 29]
abbrev dktX5_order_2 : List UInt8 := dkwX5_order_2 ++ dktX5_order_3
def dkwX5_order_1 : List UInt8 := [133, 184, 0, 137, 154, 0, 5, 2, 172, 4, 62, 3, 54, 4, 21, 4, 42, 180, 0, 114, 162, 0, 16, 29]
abbrev dktX5_order_1 : List UInt8 := dkwX5_order_1 ++ dktX5_order_2
def dkwX5_order_0 : List UInt8 := [42, 27, 182, 1, 39, 153, 0, 26, 28, 153, 0, 24, 28, 133, 20, 0, 208, 16, 9, 42, 180, 0, 114, 96]
abbrev dktX5_order_0 : List UInt8 := dkwX5_order_0 ++ dktX5_order_1
theorem dksX5_order_0 : cX5_order.data.toList.drop 0 = dktX5_order_0 := by decide +kernel
theorem dksX5_order_1 : cX5_order.data.toList.drop 24 = dktX5_order_1 := dk_seg dksX5_order_0 24 rfl rfl
theorem dksX5_order_2 : cX5_order.data.toList.drop 48 = dktX5_order_2 := dk_seg dksX5_order_1 24 rfl rfl
theorem dksX5_order_3 : cX5_order.data.toList.drop 70 = dktX5_order_3 := dk_seg dksX5_order_2 22 rfl rfl
theorem dksX5_order_4 : cX5_order.data.toList.drop 94 = dktX5_order_4 := dk_seg dksX5_order_3 24 rfl rfl
theorem dksX5_order_5 : cX5_order.data.toList.drop 116 = dktX5_order_5 := dk_seg dksX5_order_4 22 rfl rfl
theorem dksX5_order_6 : cX5_order.data.toList.drop 140 = dktX5_order_6 := dk_seg dksX5_order_5 24 rfl rfl
theorem dksX5_order_7 : cX5_order.data.toList.drop 164 = dktX5_order_7 := dk_seg dksX5_order_6 24 rfl rfl
theorem dksX5_order_8 : cX5_order.data.toList.drop 188 = dktX5_order_8 := dk_seg dksX5_order_7 24 rfl rfl
theorem dksX5_order_9 : cX5_order.data.toList.drop 212 = dktX5_order_9 := dk_seg dksX5_order_8 24 rfl rfl
theorem dX5_order_0 : decode cX5_order 0 = .ok (.aload_n 0, 1) := dk_42 (dk_at dksX5_order_0 0 rfl rfl)
theorem dX5_order_1 : decode cX5_order 1 = .ok (.iload_n 1, 1) := dk_27 (dk_at dksX5_order_0 1 rfl rfl)
theorem dX5_order_2 : decode cX5_order 2 = .ok (.invokevirtual 295, 3) := dk_182 1 39 (dk_at dksX5_order_0 2 rfl rfl)
theorem dX5_order_5 : decode cX5_order 5 = .ok (.ifCond .eq 26, 3) := dk_153 0 26 (dk_at dksX5_order_0 5 rfl rfl)
theorem dX5_order_8 : decode cX5_order 8 = .ok (.iload_n 2, 1) := dk_28 (dk_at dksX5_order_0 8 rfl rfl)
theorem dX5_order_9 : decode cX5_order 9 = .ok (.ifCond .eq 24, 3) := dk_153 0 24 (dk_at dksX5_order_0 9 rfl rfl)
theorem dX5_order_12 : decode cX5_order 12 = .ok (.iload_n 2, 1) := dk_28 (dk_at dksX5_order_0 12 rfl rfl)
theorem dX5_order_13 : decode cX5_order 13 = .ok (.i2l, 1) := dk_133 (dk_at dksX5_order_0 13 rfl rfl)
theorem dX5_order_14 : decode cX5_order 14 = .ok (.ldc2_w 208, 3) := dk_20 0 208 (dk_at dksX5_order_0 14 rfl rfl)
theorem dX5_order_17 : decode cX5_order 17 = .ok (.bipush 9, 2) := dk_16 9 (dk_at dksX5_order_0 17 rfl rfl)
theorem dX5_order_19 : decode cX5_order 19 = .ok (.aload_n 0, 1) := dk_42 (dk_at dksX5_order_0 19 rfl rfl)
theorem dX5_order_20 : decode cX5_order 20 = .ok (.getfield 114, 3) := dk_180 0 114 (dk_at dksX5_order_0 20 rfl rfl)
theorem dX5_order_23 : decode cX5_order 23 = .ok (.iadd, 1) := dk_96 (dk_at dksX5_order_0 23 rfl rfl)
theorem dX5_order_24 : decode cX5_order 24 = .ok (.i2l, 1) := dk_133 (dk_at dksX5_order_1 0 rfl rfl)
theorem dX5_order_25 : decode cX5_order 25 = .ok (.invokestatic 137, 3) := dk_184 0 137 (dk_at dksX5_order_1 1 rfl rfl)
theorem dX5_order_28 : decode cX5_order 28 = .ok (.ifCond .ne 5, 3) := dk_154 0 5 (dk_at dksX5_order_1 4 rfl rfl)
theorem dX5_order_31 : decode cX5_order 31 = .ok (.iconst (-1), 1) := dk_2 (dk_at dksX5_order_1 7 rfl rfl)
theorem dX5_order_32 : decode cX5_order 32 = .ok (.ireturn, 1) := dk_172 (dk_at dksX5_order_1 8 rfl rfl)
theorem dX5_order_33 : decode cX5_order 33 = .ok (.iconst 1, 1) := dk_4 (dk_at dksX5_order_1 9 rfl rfl)
theorem dX5_order_34 : decode cX5_order 34 = .ok (.istore_n 3, 1) := dk_62 (dk_at dksX5_order_1 10 rfl rfl)
theorem dX5_order_35 : decode cX5_order 35 = .ok (.iconst 0, 1) := dk_3 (dk_at dksX5_order_1 11 rfl rfl)
theorem dX5_order_36 : decode cX5_order 36 = .ok (.istore 4, 2) := dk_54 4 (dk_at dksX5_order_1 12 rfl rfl)
theorem dX5_order_38 : decode cX5_order 38 = .ok (.iload 4, 2) := dk_21 4 (dk_at dksX5_order_1 14 rfl rfl)
theorem dX5_order_40 : decode cX5_order 40 = .ok (.aload_n 0, 1) := dk_42 (dk_at dksX5_order_1 16 rfl rfl)
theorem dX5_order_41 : decode cX5_order 41 = .ok (.getfield 114, 3) := dk_180 0 114 (dk_at dksX5_order_1 17 rfl rfl)
theorem dX5_order_44 : decode cX5_order 44 = .ok (.if_icmp .ge 16, 3) := dk_162 0 16 (dk_at dksX5_order_1 20 rfl rfl)
theorem dX5_order_47 : decode cX5_order 47 = .ok (.iload_n 3, 1) := dk_29 (dk_at dksX5_order_1 23 rfl rfl)
theorem dX5_order_48 : decode cX5_order 48 = .ok (.aload_n 0, 1) := dk_42 (dk_at dksX5_order_2 0 rfl rfl)
theorem dX5_order_49 : decode cX5_order 49 = .ok (.getfield 114, 3) := dk_180 0 114 (dk_at dksX5_order_2 1 rfl rfl)
theorem dX5_order_52 : decode cX5_order 52 = .ok (.imul, 1) := dk_104 (dk_at dksX5_order_2 4 rfl rfl)
theorem dX5_order_53 : decode cX5_order 53 = .ok (.istore_n 3, 1) := dk_62 (dk_at dksX5_order_2 5 rfl rfl)
theorem dX5_order_54 : decode cX5_order 54 = .ok (.iinc 4 1, 3) := dk_132 4 1 (dk_at dksX5_order_2 6 rfl rfl)
theorem dX5_order_57 : decode cX5_order 57 = .ok (.goto (-19), 3) := dk_167 255 237 (dk_at dksX5_order_2 9 rfl rfl)
theorem dX5_order_60 : decode cX5_order 60 = .ok (.bipush (-4), 2) := dk_16 252 (dk_at dksX5_order_2 12 rfl rfl)
theorem dX5_order_62 : decode cX5_order 62 = .ok (.istore 4, 2) := dk_54 4 (dk_at dksX5_order_2 14 rfl rfl)
theorem dX5_order_64 : decode cX5_order 64 = .ok (.iconst 0, 1) := dk_3 (dk_at dksX5_order_2 16 rfl rfl)
theorem dX5_order_65 : decode cX5_order 65 = .ok (.istore 5, 2) := dk_54 5 (dk_at dksX5_order_2 17 rfl rfl)
theorem dX5_order_67 : decode cX5_order 67 = .ok (.iload 5, 2) := dk_21 5 (dk_at dksX5_order_2 19 rfl rfl)
theorem dX5_order_69 : decode cX5_order 69 = .ok (.iload_n 3, 1) := dk_29 (dk_at dksX5_order_2 21 rfl rfl)
theorem dX5_order_70 : decode cX5_order 70 = .ok (.if_icmp .ge 131, 3) := dk_162 0 131 (dk_at dksX5_order_3 0 rfl rfl)
theorem dX5_order_73 : decode cX5_order 73 = .ok (.iload 5, 2) := dk_21 5 (dk_at dksX5_order_3 3 rfl rfl)
theorem dX5_order_75 : decode cX5_order 75 = .ok (.istore 6, 2) := dk_54 6 (dk_at dksX5_order_3 5 rfl rfl)
theorem dX5_order_77 : decode cX5_order 77 = .ok (.aload_n 0, 1) := dk_42 (dk_at dksX5_order_3 7 rfl rfl)
theorem dX5_order_78 : decode cX5_order 78 = .ok (.getfield 114, 3) := dk_180 0 114 (dk_at dksX5_order_3 8 rfl rfl)
theorem dX5_order_81 : decode cX5_order 81 = .ok (.iconst 1, 1) := dk_4 (dk_at dksX5_order_3 11 rfl rfl)
theorem dX5_order_82 : decode cX5_order 82 = .ok (.isub, 1) := dk_100 (dk_at dksX5_order_3 12 rfl rfl)
theorem dX5_order_83 : decode cX5_order 83 = .ok (.istore 7, 2) := dk_54 7 (dk_at dksX5_order_3 13 rfl rfl)
theorem dX5_order_85 : decode cX5_order 85 = .ok (.iload 7, 2) := dk_21 7 (dk_at dksX5_order_3 15 rfl rfl)
theorem dX5_order_87 : decode cX5_order 87 = .ok (.ifCond .lt 32, 3) := dk_155 0 32 (dk_at dksX5_order_3 17 rfl rfl)
theorem dX5_order_90 : decode cX5_order 90 = .ok (.aload_n 0, 1) := dk_42 (dk_at dksX5_order_3 20 rfl rfl)
theorem dX5_order_91 : decode cX5_order 91 = .ok (.getfield 55, 3) := dk_180 0 55 (dk_at dksX5_order_3 21 rfl rfl)
theorem dX5_order_94 : decode cX5_order 94 = .ok (.iload 7, 2) := dk_21 7 (dk_at dksX5_order_4 0 rfl rfl)
theorem dX5_order_96 : decode cX5_order 96 = .ok (.iload 6, 2) := dk_21 6 (dk_at dksX5_order_4 2 rfl rfl)
theorem dX5_order_98 : decode cX5_order 98 = .ok (.aload_n 0, 1) := dk_42 (dk_at dksX5_order_4 4 rfl rfl)
theorem dX5_order_99 : decode cX5_order 99 = .ok (.getfield 114, 3) := dk_180 0 114 (dk_at dksX5_order_4 5 rfl rfl)
theorem dX5_order_102 : decode cX5_order 102 = .ok (.irem, 1) := dk_112 (dk_at dksX5_order_4 8 rfl rfl)
theorem dX5_order_103 : decode cX5_order 103 = .ok (.iastore, 1) := dk_79 (dk_at dksX5_order_4 9 rfl rfl)
theorem dX5_order_104 : decode cX5_order 104 = .ok (.iload 6, 2) := dk_21 6 (dk_at dksX5_order_4 10 rfl rfl)
theorem dX5_order_106 : decode cX5_order 106 = .ok (.aload_n 0, 1) := dk_42 (dk_at dksX5_order_4 12 rfl rfl)
theorem dX5_order_107 : decode cX5_order 107 = .ok (.getfield 114, 3) := dk_180 0 114 (dk_at dksX5_order_4 13 rfl rfl)
theorem dX5_order_110 : decode cX5_order 110 = .ok (.idiv, 1) := dk_108 (dk_at dksX5_order_4 16 rfl rfl)
theorem dX5_order_111 : decode cX5_order 111 = .ok (.istore 6, 2) := dk_54 6 (dk_at dksX5_order_4 17 rfl rfl)
theorem dX5_order_113 : decode cX5_order 113 = .ok (.iinc 7 (-1), 3) := dk_132 7 255 (dk_at dksX5_order_4 19 rfl rfl)
theorem dX5_order_116 : decode cX5_order 116 = .ok (.goto (-31), 3) := dk_167 255 225 (dk_at dksX5_order_5 0 rfl rfl)
theorem dX5_order_119 : decode cX5_order 119 = .ok (.aload_n 0, 1) := dk_42 (dk_at dksX5_order_5 3 rfl rfl)
theorem dX5_order_120 : decode cX5_order 120 = .ok (.invokevirtual 317, 3) := dk_182 1 61 (dk_at dksX5_order_5 4 rfl rfl)
theorem dX5_order_123 : decode cX5_order 123 = .ok (.ifCond .eq 11, 3) := dk_153 0 11 (dk_at dksX5_order_5 7 rfl rfl)
theorem dX5_order_126 : decode cX5_order 126 = .ok (.aload_n 0, 1) := dk_42 (dk_at dksX5_order_5 10 rfl rfl)
theorem dX5_order_127 : decode cX5_order 127 = .ok (.iload_n 1, 1) := dk_27 (dk_at dksX5_order_5 11 rfl rfl)
theorem dX5_order_128 : decode cX5_order 128 = .ok (.invokevirtual 321, 3) := dk_182 1 65 (dk_at dksX5_order_5 12 rfl rfl)
theorem dX5_order_131 : decode cX5_order 131 = .ok (.goto 5, 3) := dk_167 0 5 (dk_at dksX5_order_5 15 rfl rfl)
theorem dX5_order_134 : decode cX5_order 134 = .ok (.bipush (-4), 2) := dk_16 252 (dk_at dksX5_order_5 18 rfl rfl)
theorem dX5_order_136 : decode cX5_order 136 = .ok (.istore 7, 2) := dk_54 7 (dk_at dksX5_order_5 20 rfl rfl)
theorem dX5_order_138 : decode cX5_order 138 = .ok (.iload 7, 2) := dk_21 7 (dk_at dksX5_order_5 22 rfl rfl)
theorem dX5_order_140 : decode cX5_order 140 = .ok (.bipush (-4), 2) := dk_16 252 (dk_at dksX5_order_6 0 rfl rfl)
theorem dX5_order_142 : decode cX5_order 142 = .ok (.if_icmp .eq 53, 3) := dk_159 0 53 (dk_at dksX5_order_6 2 rfl rfl)
theorem dX5_order_145 : decode cX5_order 145 = .ok (.iload 4, 2) := dk_21 4 (dk_at dksX5_order_6 5 rfl rfl)
theorem dX5_order_147 : decode cX5_order 147 = .ok (.bipush (-4), 2) := dk_16 252 (dk_at dksX5_order_6 7 rfl rfl)
theorem dX5_order_149 : decode cX5_order 149 = .ok (.if_icmp .eq 10, 3) := dk_159 0 10 (dk_at dksX5_order_6 9 rfl rfl)
theorem dX5_order_152 : decode cX5_order 152 = .ok (.iload 7, 2) := dk_21 7 (dk_at dksX5_order_6 12 rfl rfl)
theorem dX5_order_154 : decode cX5_order 154 = .ok (.iload 4, 2) := dk_21 4 (dk_at dksX5_order_6 14 rfl rfl)
theorem dX5_order_156 : decode cX5_order 156 = .ok (.if_icmp .ge 39, 3) := dk_162 0 39 (dk_at dksX5_order_6 16 rfl rfl)
theorem dX5_order_159 : decode cX5_order 159 = .ok (.iload 7, 2) := dk_21 7 (dk_at dksX5_order_6 19 rfl rfl)
theorem dX5_order_161 : decode cX5_order 161 = .ok (.istore 4, 2) := dk_54 4 (dk_at dksX5_order_6 21 rfl rfl)
theorem dX5_order_163 : decode cX5_order 163 = .ok (.iconst 0, 1) := dk_3 (dk_at dksX5_order_6 23 rfl rfl)
theorem dX5_order_164 : decode cX5_order 164 = .ok (.istore 8, 2) := dk_54 8 (dk_at dksX5_order_7 0 rfl rfl)
theorem dX5_order_166 : decode cX5_order 166 = .ok (.iload 8, 2) := dk_21 8 (dk_at dksX5_order_7 2 rfl rfl)
theorem dX5_order_168 : decode cX5_order 168 = .ok (.aload_n 0, 1) := dk_42 (dk_at dksX5_order_7 4 rfl rfl)
theorem dX5_order_169 : decode cX5_order 169 = .ok (.getfield 114, 3) := dk_180 0 114 (dk_at dksX5_order_7 5 rfl rfl)
theorem dX5_order_172 : decode cX5_order 172 = .ok (.if_icmp .ge 23, 3) := dk_162 0 23 (dk_at dksX5_order_7 8 rfl rfl)
theorem dX5_order_175 : decode cX5_order 175 = .ok (.aload_n 0, 1) := dk_42 (dk_at dksX5_order_7 11 rfl rfl)
theorem dX5_order_176 : decode cX5_order 176 = .ok (.getfield 58, 3) := dk_180 0 58 (dk_at dksX5_order_7 12 rfl rfl)
theorem dX5_order_179 : decode cX5_order 179 = .ok (.iload 8, 2) := dk_21 8 (dk_at dksX5_order_7 15 rfl rfl)
theorem dX5_order_181 : decode cX5_order 181 = .ok (.aload_n 0, 1) := dk_42 (dk_at dksX5_order_7 17 rfl rfl)
theorem dX5_order_182 : decode cX5_order 182 = .ok (.getfield 55, 3) := dk_180 0 55 (dk_at dksX5_order_7 18 rfl rfl)
theorem dX5_order_185 : decode cX5_order 185 = .ok (.iload 8, 2) := dk_21 8 (dk_at dksX5_order_7 21 rfl rfl)
theorem dX5_order_187 : decode cX5_order 187 = .ok (.iaload, 1) := dk_46 (dk_at dksX5_order_7 23 rfl rfl)
theorem dX5_order_188 : decode cX5_order 188 = .ok (.iastore, 1) := dk_79 (dk_at dksX5_order_8 0 rfl rfl)
theorem dX5_order_189 : decode cX5_order 189 = .ok (.iinc 8 1, 3) := dk_132 8 1 (dk_at dksX5_order_8 1 rfl rfl)
theorem dX5_order_192 : decode cX5_order 192 = .ok (.goto (-26), 3) := dk_167 255 230 (dk_at dksX5_order_8 4 rfl rfl)
theorem dX5_order_195 : decode cX5_order 195 = .ok (.iinc 5 1, 3) := dk_132 5 1 (dk_at dksX5_order_8 7 rfl rfl)
theorem dX5_order_198 : decode cX5_order 198 = .ok (.goto (-131), 3) := dk_167 255 125 (dk_at dksX5_order_8 10 rfl rfl)
theorem dX5_order_201 : decode cX5_order 201 = .ok (.iload_n 2, 1) := dk_28 (dk_at dksX5_order_8 13 rfl rfl)
theorem dX5_order_202 : decode cX5_order 202 = .ok (.ifCond .eq 10, 3) := dk_153 0 10 (dk_at dksX5_order_8 14 rfl rfl)
theorem dX5_order_205 : decode cX5_order 205 = .ok (.iload 4, 2) := dk_21 4 (dk_at dksX5_order_8 17 rfl rfl)
theorem dX5_order_207 : decode cX5_order 207 = .ok (.bipush (-4), 2) := dk_16 252 (dk_at dksX5_order_8 19 rfl rfl)
theorem dX5_order_209 : decode cX5_order 209 = .ok (.if_icmp .ne 8, 3) := dk_160 0 8 (dk_at dksX5_order_8 21 rfl rfl)
theorem dX5_order_212 : decode cX5_order 212 = .ok (.iload 4, 2) := dk_21 4 (dk_at dksX5_order_9 0 rfl rfl)
theorem dX5_order_214 : decode cX5_order 214 = .ok (.goto 12, 3) := dk_167 0 12 (dk_at dksX5_order_9 2 rfl rfl)
theorem dX5_order_217 : decode cX5_order 217 = .ok (.aload_n 0, 1) := dk_42 (dk_at dksX5_order_9 5 rfl rfl)
theorem dX5_order_218 : decode cX5_order 218 = .ok (.getfield 58, 3) := dk_180 0 58 (dk_at dksX5_order_9 6 rfl rfl)
theorem dX5_order_221 : decode cX5_order 221 = .ok (.iload_n 2, 1) := dk_28 (dk_at dksX5_order_9 9 rfl rfl)
theorem dX5_order_222 : decode cX5_order 222 = .ok (.bipush 10, 2) := dk_16 10 (dk_at dksX5_order_9 10 rfl rfl)
theorem dX5_order_224 : decode cX5_order 224 = .ok (.isub, 1) := dk_100 (dk_at dksX5_order_9 12 rfl rfl)
theorem dX5_order_225 : decode cX5_order 225 = .ok (.iaload, 1) := dk_46 (dk_at dksX5_order_9 13 rfl rfl)
theorem dX5_order_226 : decode cX5_order 226 = .ok (.ireturn, 1) := dk_172 (dk_at dksX5_order_9 14 rfl rfl)
abbrev cX5_areUnlike : ByteArray := prog_14_method_68_code
def yX5_areUnlike : MethodName := ⟨RX5, "areUnlike", "()Z"⟩
def dkwX5_areUnlike_1 : List UInt8 := [132, 2, 1, 167, 255, 234, 27, 184, 0, 222, 42, 180, 0, 114, 160, 0, 7, 4, 167, 0, 4, 3, 172]
abbrev dktX5_areUnlike_1 : List UInt8 := dkwX5_areUnlike_1 ++ []
def dkwX5_areUnlike_0 : List UInt8 := [3, 60, 3, 61, 28, 42, 180, 0, 114, 162, 0, 20, 27, 4, 42, 180, 0, 55, 28, 46, 120, 128, 60]
abbrev dktX5_areUnlike_0 : List UInt8 := dkwX5_areUnlike_0 ++ dktX5_areUnlike_1
theorem dksX5_areUnlike_0 : cX5_areUnlike.data.toList.drop 0 = dktX5_areUnlike_0 := by decide +kernel
theorem dksX5_areUnlike_1 : cX5_areUnlike.data.toList.drop 23 = dktX5_areUnlike_1 := dk_seg dksX5_areUnlike_0 23 rfl rfl
theorem dX5_areUnlike_0 : decode cX5_areUnlike 0 = .ok (.iconst 0, 1) := dk_3 (dk_at dksX5_areUnlike_0 0 rfl rfl)
theorem dX5_areUnlike_1 : decode cX5_areUnlike 1 = .ok (.istore_n 1, 1) := dk_60 (dk_at dksX5_areUnlike_0 1 rfl rfl)
theorem dX5_areUnlike_2 : decode cX5_areUnlike 2 = .ok (.iconst 0, 1) := dk_3 (dk_at dksX5_areUnlike_0 2 rfl rfl)
theorem dX5_areUnlike_3 : decode cX5_areUnlike 3 = .ok (.istore_n 2, 1) := dk_61 (dk_at dksX5_areUnlike_0 3 rfl rfl)
theorem dX5_areUnlike_4 : decode cX5_areUnlike 4 = .ok (.iload_n 2, 1) := dk_28 (dk_at dksX5_areUnlike_0 4 rfl rfl)
theorem dX5_areUnlike_5 : decode cX5_areUnlike 5 = .ok (.aload_n 0, 1) := dk_42 (dk_at dksX5_areUnlike_0 5 rfl rfl)
theorem dX5_areUnlike_6 : decode cX5_areUnlike 6 = .ok (.getfield 114, 3) := dk_180 0 114 (dk_at dksX5_areUnlike_0 6 rfl rfl)
theorem dX5_areUnlike_9 : decode cX5_areUnlike 9 = .ok (.if_icmp .ge 20, 3) := dk_162 0 20 (dk_at dksX5_areUnlike_0 9 rfl rfl)
theorem dX5_areUnlike_12 : decode cX5_areUnlike 12 = .ok (.iload_n 1, 1) := dk_27 (dk_at dksX5_areUnlike_0 12 rfl rfl)
theorem dX5_areUnlike_13 : decode cX5_areUnlike 13 = .ok (.iconst 1, 1) := dk_4 (dk_at dksX5_areUnlike_0 13 rfl rfl)
theorem dX5_areUnlike_14 : decode cX5_areUnlike 14 = .ok (.aload_n 0, 1) := dk_42 (dk_at dksX5_areUnlike_0 14 rfl rfl)
theorem dX5_areUnlike_15 : decode cX5_areUnlike 15 = .ok (.getfield 55, 3) := dk_180 0 55 (dk_at dksX5_areUnlike_0 15 rfl rfl)
theorem dX5_areUnlike_18 : decode cX5_areUnlike 18 = .ok (.iload_n 2, 1) := dk_28 (dk_at dksX5_areUnlike_0 18 rfl rfl)
theorem dX5_areUnlike_19 : decode cX5_areUnlike 19 = .ok (.iaload, 1) := dk_46 (dk_at dksX5_areUnlike_0 19 rfl rfl)
theorem dX5_areUnlike_20 : decode cX5_areUnlike 20 = .ok (.ishl, 1) := dk_120 (dk_at dksX5_areUnlike_0 20 rfl rfl)
theorem dX5_areUnlike_21 : decode cX5_areUnlike 21 = .ok (.ior, 1) := dk_128 (dk_at dksX5_areUnlike_0 21 rfl rfl)
theorem dX5_areUnlike_22 : decode cX5_areUnlike 22 = .ok (.istore_n 1, 1) := dk_60 (dk_at dksX5_areUnlike_0 22 rfl rfl)
theorem dX5_areUnlike_23 : decode cX5_areUnlike 23 = .ok (.iinc 2 1, 3) := dk_132 2 1 (dk_at dksX5_areUnlike_1 0 rfl rfl)
theorem dX5_areUnlike_26 : decode cX5_areUnlike 26 = .ok (.goto (-22), 3) := dk_167 255 234 (dk_at dksX5_areUnlike_1 3 rfl rfl)
theorem dX5_areUnlike_29 : decode cX5_areUnlike 29 = .ok (.iload_n 1, 1) := dk_27 (dk_at dksX5_areUnlike_1 6 rfl rfl)
theorem dX5_areUnlike_30 : decode cX5_areUnlike 30 = .ok (.invokestatic 222, 3) := dk_184 0 222 (dk_at dksX5_areUnlike_1 7 rfl rfl)
theorem dX5_areUnlike_33 : decode cX5_areUnlike 33 = .ok (.aload_n 0, 1) := dk_42 (dk_at dksX5_areUnlike_1 10 rfl rfl)
theorem dX5_areUnlike_34 : decode cX5_areUnlike 34 = .ok (.getfield 114, 3) := dk_180 0 114 (dk_at dksX5_areUnlike_1 11 rfl rfl)
theorem dX5_areUnlike_37 : decode cX5_areUnlike 37 = .ok (.if_icmp .ne 7, 3) := dk_160 0 7 (dk_at dksX5_areUnlike_1 14 rfl rfl)
theorem dX5_areUnlike_40 : decode cX5_areUnlike 40 = .ok (.iconst 1, 1) := dk_4 (dk_at dksX5_areUnlike_1 17 rfl rfl)
theorem dX5_areUnlike_41 : decode cX5_areUnlike 41 = .ok (.goto 4, 3) := dk_167 0 4 (dk_at dksX5_areUnlike_1 18 rfl rfl)
theorem dX5_areUnlike_44 : decode cX5_areUnlike 44 = .ok (.iconst 0, 1) := dk_3 (dk_at dksX5_areUnlike_1 21 rfl rfl)
theorem dX5_areUnlike_45 : decode cX5_areUnlike 45 = .ok (.ireturn, 1) := dk_172 (dk_at dksX5_areUnlike_1 22 rfl rfl)
abbrev cX5_taken : ByteArray := prog_14_method_67_code
def yX5_taken : MethodName := ⟨RX5, "taken", "(I)I"⟩
def dkwX5_taken_2 : List UInt8 := [96, 61, 42, 17, 0, 140, 16, 70, 182, 1, 45, 132, 3, 1, 167, 255, 207, 28, 172]
abbrev dktX5_taken_2 : List UInt8 := dkwX5_taken_2 ++ []
def dkwX5_taken_1 : List UInt8 := [180, 0, 55, 29, 46, 6, 182, 1, 57, 54, 4, 21, 4, 16, 252, 160, 0, 6, 16, 252, 172, 28, 21, 4]
abbrev dktX5_taken_1 : List UInt8 := dkwX5_taken_1 ++ dktX5_taken_2
def dkwX5_taken_0 : List UInt8 := [3, 61, 42, 17, 0, 140, 182, 1, 17, 3, 62, 29, 42, 180, 0, 114, 162, 0, 47, 42, 27, 42]
abbrev dktX5_taken_0 : List UInt8 := dkwX5_taken_0 ++ dktX5_taken_1
theorem dksX5_taken_0 : cX5_taken.data.toList.drop 0 = dktX5_taken_0 := by decide +kernel
theorem dksX5_taken_1 : cX5_taken.data.toList.drop 22 = dktX5_taken_1 := dk_seg dksX5_taken_0 22 rfl rfl
theorem dksX5_taken_2 : cX5_taken.data.toList.drop 46 = dktX5_taken_2 := dk_seg dksX5_taken_1 24 rfl rfl
theorem dX5_taken_0 : decode cX5_taken 0 = .ok (.iconst 0, 1) := dk_3 (dk_at dksX5_taken_0 0 rfl rfl)
theorem dX5_taken_1 : decode cX5_taken 1 = .ok (.istore_n 2, 1) := dk_61 (dk_at dksX5_taken_0 1 rfl rfl)
theorem dX5_taken_2 : decode cX5_taken 2 = .ok (.aload_n 0, 1) := dk_42 (dk_at dksX5_taken_0 2 rfl rfl)
theorem dX5_taken_3 : decode cX5_taken 3 = .ok (.sipush 140, 3) := dk_17 0 140 (dk_at dksX5_taken_0 3 rfl rfl)
theorem dX5_taken_6 : decode cX5_taken 6 = .ok (.invokevirtual 273, 3) := dk_182 1 17 (dk_at dksX5_taken_0 6 rfl rfl)
theorem dX5_taken_9 : decode cX5_taken 9 = .ok (.iconst 0, 1) := dk_3 (dk_at dksX5_taken_0 9 rfl rfl)
theorem dX5_taken_10 : decode cX5_taken 10 = .ok (.istore_n 3, 1) := dk_62 (dk_at dksX5_taken_0 10 rfl rfl)
theorem dX5_taken_11 : decode cX5_taken 11 = .ok (.iload_n 3, 1) := dk_29 (dk_at dksX5_taken_0 11 rfl rfl)
theorem dX5_taken_12 : decode cX5_taken 12 = .ok (.aload_n 0, 1) := dk_42 (dk_at dksX5_taken_0 12 rfl rfl)
theorem dX5_taken_13 : decode cX5_taken 13 = .ok (.getfield 114, 3) := dk_180 0 114 (dk_at dksX5_taken_0 13 rfl rfl)
theorem dX5_taken_16 : decode cX5_taken 16 = .ok (.if_icmp .ge 47, 3) := dk_162 0 47 (dk_at dksX5_taken_0 16 rfl rfl)
theorem dX5_taken_19 : decode cX5_taken 19 = .ok (.aload_n 0, 1) := dk_42 (dk_at dksX5_taken_0 19 rfl rfl)
theorem dX5_taken_20 : decode cX5_taken 20 = .ok (.iload_n 1, 1) := dk_27 (dk_at dksX5_taken_0 20 rfl rfl)
theorem dX5_taken_21 : decode cX5_taken 21 = .ok (.aload_n 0, 1) := dk_42 (dk_at dksX5_taken_0 21 rfl rfl)
theorem dX5_taken_22 : decode cX5_taken 22 = .ok (.getfield 55, 3) := dk_180 0 55 (dk_at dksX5_taken_1 0 rfl rfl)
theorem dX5_taken_25 : decode cX5_taken 25 = .ok (.iload_n 3, 1) := dk_29 (dk_at dksX5_taken_1 3 rfl rfl)
theorem dX5_taken_26 : decode cX5_taken 26 = .ok (.iaload, 1) := dk_46 (dk_at dksX5_taken_1 4 rfl rfl)
theorem dX5_taken_27 : decode cX5_taken 27 = .ok (.iconst 3, 1) := dk_6 (dk_at dksX5_taken_1 5 rfl rfl)
theorem dX5_taken_28 : decode cX5_taken 28 = .ok (.invokevirtual 313, 3) := dk_182 1 57 (dk_at dksX5_taken_1 6 rfl rfl)
theorem dX5_taken_31 : decode cX5_taken 31 = .ok (.istore 4, 2) := dk_54 4 (dk_at dksX5_taken_1 9 rfl rfl)
theorem dX5_taken_33 : decode cX5_taken 33 = .ok (.iload 4, 2) := dk_21 4 (dk_at dksX5_taken_1 11 rfl rfl)
theorem dX5_taken_35 : decode cX5_taken 35 = .ok (.bipush (-4), 2) := dk_16 252 (dk_at dksX5_taken_1 13 rfl rfl)
theorem dX5_taken_37 : decode cX5_taken 37 = .ok (.if_icmp .ne 6, 3) := dk_160 0 6 (dk_at dksX5_taken_1 15 rfl rfl)
theorem dX5_taken_40 : decode cX5_taken 40 = .ok (.bipush (-4), 2) := dk_16 252 (dk_at dksX5_taken_1 18 rfl rfl)
theorem dX5_taken_42 : decode cX5_taken 42 = .ok (.ireturn, 1) := dk_172 (dk_at dksX5_taken_1 20 rfl rfl)
theorem dX5_taken_43 : decode cX5_taken 43 = .ok (.iload_n 2, 1) := dk_28 (dk_at dksX5_taken_1 21 rfl rfl)
theorem dX5_taken_44 : decode cX5_taken 44 = .ok (.iload 4, 2) := dk_21 4 (dk_at dksX5_taken_1 22 rfl rfl)
theorem dX5_taken_46 : decode cX5_taken 46 = .ok (.iadd, 1) := dk_96 (dk_at dksX5_taken_2 0 rfl rfl)
theorem dX5_taken_47 : decode cX5_taken 47 = .ok (.istore_n 2, 1) := dk_61 (dk_at dksX5_taken_2 1 rfl rfl)
theorem dX5_taken_48 : decode cX5_taken 48 = .ok (.aload_n 0, 1) := dk_42 (dk_at dksX5_taken_2 2 rfl rfl)
theorem dX5_taken_49 : decode cX5_taken 49 = .ok (.sipush 140, 3) := dk_17 0 140 (dk_at dksX5_taken_2 3 rfl rfl)
theorem dX5_taken_52 : decode cX5_taken 52 = .ok (.bipush 70, 2) := dk_16 70 (dk_at dksX5_taken_2 6 rfl rfl)
theorem dX5_taken_54 : decode cX5_taken 54 = .ok (.invokevirtual 301, 3) := dk_182 1 45 (dk_at dksX5_taken_2 8 rfl rfl)
theorem dX5_taken_57 : decode cX5_taken 57 = .ok (.iinc 3 1, 3) := dk_132 3 1 (dk_at dksX5_taken_2 11 rfl rfl)
theorem dX5_taken_60 : decode cX5_taken 60 = .ok (.goto (-49), 3) := dk_167 255 207 (dk_at dksX5_taken_2 14 rfl rfl)
theorem dX5_taken_63 : decode cX5_taken 63 = .ok (.iload_n 2, 1) := dk_28 (dk_at dksX5_taken_2 17 rfl rfl)
theorem dX5_taken_64 : decode cX5_taken 64 = .ok (.ireturn, 1) := dk_172 (dk_at dksX5_taken_2 18 rfl rfl)
abbrev cX5_first : ByteArray := prog_14_method_74_code
def yX5_first : MethodName := ⟨RX5, "first", "(II)I"⟩
def dkwX5_first_9 : List UInt8 := [28, 4, 100, 184, 1, 77, 172]
abbrev dktX5_first_9 : List UInt8 := dkwX5_first_9 ++ []
def dkwX5_first_8 : List UInt8 := [16, 252, 160, 0, 8, 16, 252, 167, 0, 23, 28, 154, 0, 7, 29, 167, 0, 15, 21, 4, 42, 182, 1, 71]
abbrev dktX5_first_8 : List UInt8 := dkwX5_first_8 ++ dktX5_first_9
def dkwX5_first_7 : List UInt8 := [29, 62, 21, 7, 153, 0, 8, 21, 6, 167, 0, 5, 21, 4, 54, 4, 132, 5, 1, 167, 255, 102, 29]
abbrev dktX5_first_7 : List UInt8 := dkwX5_first_7 ++ dktX5_first_8
def dkwX5_first_6 : List UInt8 := [21, 6, 21, 4, 164, 0, 7, 4, 167, 0, 4, 3, 54, 7, 21, 7, 153, 0, 8, 21, 5, 167, 0, 4]
abbrev dktX5_first_6 : List UInt8 := dkwX5_first_6 ++ dktX5_first_7
def dkwX5_first_5 : List UInt8 := [104, 7, 96, 46, 167, 0, 4, 3, 96, 54, 6, 132, 7, 1, 167, 255, 212, 29, 16, 252, 159, 0, 10]
abbrev dktX5_first_5 : List UInt8 := dkwX5_first_5 ++ dktX5_first_6
def dkwX5_first_4 : List UInt8 := [162, 0, 41, 21, 6, 42, 16, 70, 21, 7, 27, 182, 1, 36, 153, 0, 17, 42, 180, 0, 22, 8, 21, 7]
abbrev dktX5_first_4 : List UInt8 := dkwX5_first_4 ++ dktX5_first_5
def dkwX5_first_3 : List UInt8 := [21, 5, 42, 27, 21, 5, 182, 1, 30, 182, 1, 20, 3, 54, 6, 3, 54, 7, 21, 7, 42, 180, 0, 117]
abbrev dktX5_first_3 : List UInt8 := dkwX5_first_3 ++ dktX5_first_4
def dkwX5_first_2 : List UInt8 := [4, 182, 1, 74, 21, 5, 122, 4, 126, 154, 0, 125, 42, 16, 70, 182, 1, 17, 42, 16, 70, 3, 27]
abbrev dktX5_first_2 : List UInt8 := dkwX5_first_2 ++ dktX5_first_3
def dkwX5_first_1 : List UInt8 := [62, 3, 54, 4, 3, 54, 5, 21, 5, 42, 180, 0, 108, 162, 0, 151, 42, 182, 1, 71, 158, 0, 144, 42]
abbrev dktX5_first_1 : List UInt8 := dkwX5_first_1 ++ dktX5_first_2
def dkwX5_first_0 : List UInt8 := [42, 27, 182, 0, 237, 153, 0, 15, 28, 133, 9, 20, 1, 34, 184, 0, 137, 154, 0, 5, 2, 172, 16, 252]
abbrev dktX5_first_0 : List UInt8 := dkwX5_first_0 ++ dktX5_first_1
theorem dksX5_first_0 : cX5_first.data.toList.drop 0 = dktX5_first_0 := by decide +kernel
theorem dksX5_first_1 : cX5_first.data.toList.drop 24 = dktX5_first_1 := dk_seg dksX5_first_0 24 rfl rfl
theorem dksX5_first_2 : cX5_first.data.toList.drop 48 = dktX5_first_2 := dk_seg dksX5_first_1 24 rfl rfl
theorem dksX5_first_3 : cX5_first.data.toList.drop 71 = dktX5_first_3 := dk_seg dksX5_first_2 23 rfl rfl
theorem dksX5_first_4 : cX5_first.data.toList.drop 95 = dktX5_first_4 := dk_seg dksX5_first_3 24 rfl rfl
theorem dksX5_first_5 : cX5_first.data.toList.drop 119 = dktX5_first_5 := dk_seg dksX5_first_4 24 rfl rfl
theorem dksX5_first_6 : cX5_first.data.toList.drop 142 = dktX5_first_6 := dk_seg dksX5_first_5 23 rfl rfl
theorem dksX5_first_7 : cX5_first.data.toList.drop 166 = dktX5_first_7 := dk_seg dksX5_first_6 24 rfl rfl
theorem dksX5_first_8 : cX5_first.data.toList.drop 189 = dktX5_first_8 := dk_seg dksX5_first_7 23 rfl rfl
theorem dksX5_first_9 : cX5_first.data.toList.drop 213 = dktX5_first_9 := dk_seg dksX5_first_8 24 rfl rfl
theorem dX5_first_0 : decode cX5_first 0 = .ok (.aload_n 0, 1) := dk_42 (dk_at dksX5_first_0 0 rfl rfl)
theorem dX5_first_1 : decode cX5_first 1 = .ok (.iload_n 1, 1) := dk_27 (dk_at dksX5_first_0 1 rfl rfl)
theorem dX5_first_2 : decode cX5_first 2 = .ok (.invokevirtual 237, 3) := dk_182 0 237 (dk_at dksX5_first_0 2 rfl rfl)
theorem dX5_first_5 : decode cX5_first 5 = .ok (.ifCond .eq 15, 3) := dk_153 0 15 (dk_at dksX5_first_0 5 rfl rfl)
theorem dX5_first_8 : decode cX5_first 8 = .ok (.iload_n 2, 1) := dk_28 (dk_at dksX5_first_0 8 rfl rfl)
theorem dX5_first_9 : decode cX5_first 9 = .ok (.i2l, 1) := dk_133 (dk_at dksX5_first_0 9 rfl rfl)
theorem dX5_first_10 : decode cX5_first 10 = .ok (.lconst 0, 1) := dk_9 (dk_at dksX5_first_0 10 rfl rfl)
theorem dX5_first_11 : decode cX5_first 11 = .ok (.ldc2_w 290, 3) := dk_20 1 34 (dk_at dksX5_first_0 11 rfl rfl)
theorem dX5_first_14 : decode cX5_first 14 = .ok (.invokestatic 137, 3) := dk_184 0 137 (dk_at dksX5_first_0 14 rfl rfl)
theorem dX5_first_17 : decode cX5_first 17 = .ok (.ifCond .ne 5, 3) := dk_154 0 5 (dk_at dksX5_first_0 17 rfl rfl)
theorem dX5_first_20 : decode cX5_first 20 = .ok (.iconst (-1), 1) := dk_2 (dk_at dksX5_first_0 20 rfl rfl)
theorem dX5_first_21 : decode cX5_first 21 = .ok (.ireturn, 1) := dk_172 (dk_at dksX5_first_0 21 rfl rfl)
theorem dX5_first_22 : decode cX5_first 22 = .ok (.bipush (-4), 2) := dk_16 252 (dk_at dksX5_first_0 22 rfl rfl)
theorem dX5_first_24 : decode cX5_first 24 = .ok (.istore_n 3, 1) := dk_62 (dk_at dksX5_first_1 0 rfl rfl)
theorem dX5_first_25 : decode cX5_first 25 = .ok (.iconst 0, 1) := dk_3 (dk_at dksX5_first_1 1 rfl rfl)
theorem dX5_first_26 : decode cX5_first 26 = .ok (.istore 4, 2) := dk_54 4 (dk_at dksX5_first_1 2 rfl rfl)
theorem dX5_first_28 : decode cX5_first 28 = .ok (.iconst 0, 1) := dk_3 (dk_at dksX5_first_1 4 rfl rfl)
theorem dX5_first_29 : decode cX5_first 29 = .ok (.istore 5, 2) := dk_54 5 (dk_at dksX5_first_1 5 rfl rfl)
theorem dX5_first_31 : decode cX5_first 31 = .ok (.iload 5, 2) := dk_21 5 (dk_at dksX5_first_1 7 rfl rfl)
theorem dX5_first_33 : decode cX5_first 33 = .ok (.aload_n 0, 1) := dk_42 (dk_at dksX5_first_1 9 rfl rfl)
theorem dX5_first_34 : decode cX5_first 34 = .ok (.getfield 108, 3) := dk_180 0 108 (dk_at dksX5_first_1 10 rfl rfl)
theorem dX5_first_37 : decode cX5_first 37 = .ok (.if_icmp .ge 151, 3) := dk_162 0 151 (dk_at dksX5_first_1 13 rfl rfl)
theorem dX5_first_40 : decode cX5_first 40 = .ok (.aload_n 0, 1) := dk_42 (dk_at dksX5_first_1 16 rfl rfl)
theorem dX5_first_41 : decode cX5_first 41 = .ok (.invokevirtual 327, 3) := dk_182 1 71 (dk_at dksX5_first_1 17 rfl rfl)
theorem dX5_first_44 : decode cX5_first 44 = .ok (.ifCond .le 144, 3) := dk_158 0 144 (dk_at dksX5_first_1 20 rfl rfl)
theorem dX5_first_47 : decode cX5_first 47 = .ok (.aload_n 0, 1) := dk_42 (dk_at dksX5_first_1 23 rfl rfl)
theorem dX5_first_48 : decode cX5_first 48 = .ok (.iconst 1, 1) := dk_4 (dk_at dksX5_first_2 0 rfl rfl)
theorem dX5_first_49 : decode cX5_first 49 = .ok (.invokevirtual 330, 3) := dk_182 1 74 (dk_at dksX5_first_2 1 rfl rfl)
theorem dX5_first_52 : decode cX5_first 52 = .ok (.iload 5, 2) := dk_21 5 (dk_at dksX5_first_2 4 rfl rfl)
theorem dX5_first_54 : decode cX5_first 54 = .ok (.ishr, 1) := dk_122 (dk_at dksX5_first_2 6 rfl rfl)
theorem dX5_first_55 : decode cX5_first 55 = .ok (.iconst 1, 1) := dk_4 (dk_at dksX5_first_2 7 rfl rfl)
theorem dX5_first_56 : decode cX5_first 56 = .ok (.iand, 1) := dk_126 (dk_at dksX5_first_2 8 rfl rfl)
theorem dX5_first_57 : decode cX5_first 57 = .ok (.ifCond .ne 125, 3) := dk_154 0 125 (dk_at dksX5_first_2 9 rfl rfl)
theorem dX5_first_60 : decode cX5_first 60 = .ok (.aload_n 0, 1) := dk_42 (dk_at dksX5_first_2 12 rfl rfl)
theorem dX5_first_61 : decode cX5_first 61 = .ok (.bipush 70, 2) := dk_16 70 (dk_at dksX5_first_2 13 rfl rfl)
theorem dX5_first_63 : decode cX5_first 63 = .ok (.invokevirtual 273, 3) := dk_182 1 17 (dk_at dksX5_first_2 15 rfl rfl)
theorem dX5_first_66 : decode cX5_first 66 = .ok (.aload_n 0, 1) := dk_42 (dk_at dksX5_first_2 18 rfl rfl)
theorem dX5_first_67 : decode cX5_first 67 = .ok (.bipush 70, 2) := dk_16 70 (dk_at dksX5_first_2 19 rfl rfl)
theorem dX5_first_69 : decode cX5_first 69 = .ok (.iconst 0, 1) := dk_3 (dk_at dksX5_first_2 21 rfl rfl)
theorem dX5_first_70 : decode cX5_first 70 = .ok (.iload_n 1, 1) := dk_27 (dk_at dksX5_first_2 22 rfl rfl)
theorem dX5_first_71 : decode cX5_first 71 = .ok (.iload 5, 2) := dk_21 5 (dk_at dksX5_first_3 0 rfl rfl)
theorem dX5_first_73 : decode cX5_first 73 = .ok (.aload_n 0, 1) := dk_42 (dk_at dksX5_first_3 2 rfl rfl)
theorem dX5_first_74 : decode cX5_first 74 = .ok (.iload_n 1, 1) := dk_27 (dk_at dksX5_first_3 3 rfl rfl)
theorem dX5_first_75 : decode cX5_first 75 = .ok (.iload 5, 2) := dk_21 5 (dk_at dksX5_first_3 4 rfl rfl)
theorem dX5_first_77 : decode cX5_first 77 = .ok (.invokevirtual 286, 3) := dk_182 1 30 (dk_at dksX5_first_3 6 rfl rfl)
theorem dX5_first_80 : decode cX5_first 80 = .ok (.invokevirtual 276, 3) := dk_182 1 20 (dk_at dksX5_first_3 9 rfl rfl)
theorem dX5_first_83 : decode cX5_first 83 = .ok (.iconst 0, 1) := dk_3 (dk_at dksX5_first_3 12 rfl rfl)
theorem dX5_first_84 : decode cX5_first 84 = .ok (.istore 6, 2) := dk_54 6 (dk_at dksX5_first_3 13 rfl rfl)
theorem dX5_first_86 : decode cX5_first 86 = .ok (.iconst 0, 1) := dk_3 (dk_at dksX5_first_3 15 rfl rfl)
theorem dX5_first_87 : decode cX5_first 87 = .ok (.istore 7, 2) := dk_54 7 (dk_at dksX5_first_3 16 rfl rfl)
theorem dX5_first_89 : decode cX5_first 89 = .ok (.iload 7, 2) := dk_21 7 (dk_at dksX5_first_3 18 rfl rfl)
theorem dX5_first_91 : decode cX5_first 91 = .ok (.aload_n 0, 1) := dk_42 (dk_at dksX5_first_3 20 rfl rfl)
theorem dX5_first_92 : decode cX5_first 92 = .ok (.getfield 117, 3) := dk_180 0 117 (dk_at dksX5_first_3 21 rfl rfl)
theorem dX5_first_95 : decode cX5_first 95 = .ok (.if_icmp .ge 41, 3) := dk_162 0 41 (dk_at dksX5_first_4 0 rfl rfl)
theorem dX5_first_98 : decode cX5_first 98 = .ok (.iload 6, 2) := dk_21 6 (dk_at dksX5_first_4 3 rfl rfl)
theorem dX5_first_100 : decode cX5_first 100 = .ok (.aload_n 0, 1) := dk_42 (dk_at dksX5_first_4 5 rfl rfl)
theorem dX5_first_101 : decode cX5_first 101 = .ok (.bipush 70, 2) := dk_16 70 (dk_at dksX5_first_4 6 rfl rfl)
theorem dX5_first_103 : decode cX5_first 103 = .ok (.iload 7, 2) := dk_21 7 (dk_at dksX5_first_4 8 rfl rfl)
theorem dX5_first_105 : decode cX5_first 105 = .ok (.iload_n 1, 1) := dk_27 (dk_at dksX5_first_4 10 rfl rfl)
theorem dX5_first_106 : decode cX5_first 106 = .ok (.invokevirtual 292, 3) := dk_182 1 36 (dk_at dksX5_first_4 11 rfl rfl)
theorem dX5_first_109 : decode cX5_first 109 = .ok (.ifCond .eq 17, 3) := dk_153 0 17 (dk_at dksX5_first_4 14 rfl rfl)
theorem dX5_first_112 : decode cX5_first 112 = .ok (.aload_n 0, 1) := dk_42 (dk_at dksX5_first_4 17 rfl rfl)
theorem dX5_first_113 : decode cX5_first 113 = .ok (.getfield 22, 3) := dk_180 0 22 (dk_at dksX5_first_4 18 rfl rfl)
theorem dX5_first_116 : decode cX5_first 116 = .ok (.iconst 5, 1) := dk_8 (dk_at dksX5_first_4 21 rfl rfl)
theorem dX5_first_117 : decode cX5_first 117 = .ok (.iload 7, 2) := dk_21 7 (dk_at dksX5_first_4 22 rfl rfl)
theorem dX5_first_119 : decode cX5_first 119 = .ok (.imul, 1) := dk_104 (dk_at dksX5_first_5 0 rfl rfl)
theorem dX5_first_120 : decode cX5_first 120 = .ok (.iconst 4, 1) := dk_7 (dk_at dksX5_first_5 1 rfl rfl)
theorem dX5_first_121 : decode cX5_first 121 = .ok (.iadd, 1) := dk_96 (dk_at dksX5_first_5 2 rfl rfl)
theorem dX5_first_122 : decode cX5_first 122 = .ok (.iaload, 1) := dk_46 (dk_at dksX5_first_5 3 rfl rfl)
theorem dX5_first_123 : decode cX5_first 123 = .ok (.goto 4, 3) := dk_167 0 4 (dk_at dksX5_first_5 4 rfl rfl)
theorem dX5_first_126 : decode cX5_first 126 = .ok (.iconst 0, 1) := dk_3 (dk_at dksX5_first_5 7 rfl rfl)
theorem dX5_first_127 : decode cX5_first 127 = .ok (.iadd, 1) := dk_96 (dk_at dksX5_first_5 8 rfl rfl)
theorem dX5_first_128 : decode cX5_first 128 = .ok (.istore 6, 2) := dk_54 6 (dk_at dksX5_first_5 9 rfl rfl)
theorem dX5_first_130 : decode cX5_first 130 = .ok (.iinc 7 1, 3) := dk_132 7 1 (dk_at dksX5_first_5 11 rfl rfl)
theorem dX5_first_133 : decode cX5_first 133 = .ok (.goto (-44), 3) := dk_167 255 212 (dk_at dksX5_first_5 14 rfl rfl)
theorem dX5_first_136 : decode cX5_first 136 = .ok (.iload_n 3, 1) := dk_29 (dk_at dksX5_first_5 17 rfl rfl)
theorem dX5_first_137 : decode cX5_first 137 = .ok (.bipush (-4), 2) := dk_16 252 (dk_at dksX5_first_5 18 rfl rfl)
theorem dX5_first_139 : decode cX5_first 139 = .ok (.if_icmp .eq 10, 3) := dk_159 0 10 (dk_at dksX5_first_5 20 rfl rfl)
theorem dX5_first_142 : decode cX5_first 142 = .ok (.iload 6, 2) := dk_21 6 (dk_at dksX5_first_6 0 rfl rfl)
theorem dX5_first_144 : decode cX5_first 144 = .ok (.iload 4, 2) := dk_21 4 (dk_at dksX5_first_6 2 rfl rfl)
theorem dX5_first_146 : decode cX5_first 146 = .ok (.if_icmp .le 7, 3) := dk_164 0 7 (dk_at dksX5_first_6 4 rfl rfl)
theorem dX5_first_149 : decode cX5_first 149 = .ok (.iconst 1, 1) := dk_4 (dk_at dksX5_first_6 7 rfl rfl)
theorem dX5_first_150 : decode cX5_first 150 = .ok (.goto 4, 3) := dk_167 0 4 (dk_at dksX5_first_6 8 rfl rfl)
theorem dX5_first_153 : decode cX5_first 153 = .ok (.iconst 0, 1) := dk_3 (dk_at dksX5_first_6 11 rfl rfl)
theorem dX5_first_154 : decode cX5_first 154 = .ok (.istore 7, 2) := dk_54 7 (dk_at dksX5_first_6 12 rfl rfl)
theorem dX5_first_156 : decode cX5_first 156 = .ok (.iload 7, 2) := dk_21 7 (dk_at dksX5_first_6 14 rfl rfl)
theorem dX5_first_158 : decode cX5_first 158 = .ok (.ifCond .eq 8, 3) := dk_153 0 8 (dk_at dksX5_first_6 16 rfl rfl)
theorem dX5_first_161 : decode cX5_first 161 = .ok (.iload 5, 2) := dk_21 5 (dk_at dksX5_first_6 19 rfl rfl)
theorem dX5_first_163 : decode cX5_first 163 = .ok (.goto 4, 3) := dk_167 0 4 (dk_at dksX5_first_6 21 rfl rfl)
theorem dX5_first_166 : decode cX5_first 166 = .ok (.iload_n 3, 1) := dk_29 (dk_at dksX5_first_7 0 rfl rfl)
theorem dX5_first_167 : decode cX5_first 167 = .ok (.istore_n 3, 1) := dk_62 (dk_at dksX5_first_7 1 rfl rfl)
theorem dX5_first_168 : decode cX5_first 168 = .ok (.iload 7, 2) := dk_21 7 (dk_at dksX5_first_7 2 rfl rfl)
theorem dX5_first_170 : decode cX5_first 170 = .ok (.ifCond .eq 8, 3) := dk_153 0 8 (dk_at dksX5_first_7 4 rfl rfl)
theorem dX5_first_173 : decode cX5_first 173 = .ok (.iload 6, 2) := dk_21 6 (dk_at dksX5_first_7 7 rfl rfl)
theorem dX5_first_175 : decode cX5_first 175 = .ok (.goto 5, 3) := dk_167 0 5 (dk_at dksX5_first_7 9 rfl rfl)
theorem dX5_first_178 : decode cX5_first 178 = .ok (.iload 4, 2) := dk_21 4 (dk_at dksX5_first_7 12 rfl rfl)
theorem dX5_first_180 : decode cX5_first 180 = .ok (.istore 4, 2) := dk_54 4 (dk_at dksX5_first_7 14 rfl rfl)
theorem dX5_first_182 : decode cX5_first 182 = .ok (.iinc 5 1, 3) := dk_132 5 1 (dk_at dksX5_first_7 16 rfl rfl)
theorem dX5_first_185 : decode cX5_first 185 = .ok (.goto (-154), 3) := dk_167 255 102 (dk_at dksX5_first_7 19 rfl rfl)
theorem dX5_first_188 : decode cX5_first 188 = .ok (.iload_n 3, 1) := dk_29 (dk_at dksX5_first_7 22 rfl rfl)
theorem dX5_first_189 : decode cX5_first 189 = .ok (.bipush (-4), 2) := dk_16 252 (dk_at dksX5_first_8 0 rfl rfl)
theorem dX5_first_191 : decode cX5_first 191 = .ok (.if_icmp .ne 8, 3) := dk_160 0 8 (dk_at dksX5_first_8 2 rfl rfl)
theorem dX5_first_194 : decode cX5_first 194 = .ok (.bipush (-4), 2) := dk_16 252 (dk_at dksX5_first_8 5 rfl rfl)
theorem dX5_first_196 : decode cX5_first 196 = .ok (.goto 23, 3) := dk_167 0 23 (dk_at dksX5_first_8 7 rfl rfl)
theorem dX5_first_199 : decode cX5_first 199 = .ok (.iload_n 2, 1) := dk_28 (dk_at dksX5_first_8 10 rfl rfl)
theorem dX5_first_200 : decode cX5_first 200 = .ok (.ifCond .ne 7, 3) := dk_154 0 7 (dk_at dksX5_first_8 11 rfl rfl)
theorem dX5_first_203 : decode cX5_first 203 = .ok (.iload_n 3, 1) := dk_29 (dk_at dksX5_first_8 14 rfl rfl)
theorem dX5_first_204 : decode cX5_first 204 = .ok (.goto 15, 3) := dk_167 0 15 (dk_at dksX5_first_8 15 rfl rfl)
theorem dX5_first_207 : decode cX5_first 207 = .ok (.iload 4, 2) := dk_21 4 (dk_at dksX5_first_8 18 rfl rfl)
theorem dX5_first_209 : decode cX5_first 209 = .ok (.aload_n 0, 1) := dk_42 (dk_at dksX5_first_8 20 rfl rfl)
theorem dX5_first_210 : decode cX5_first 210 = .ok (.invokevirtual 327, 3) := dk_182 1 71 (dk_at dksX5_first_8 21 rfl rfl)
theorem dX5_first_213 : decode cX5_first 213 = .ok (.iload_n 2, 1) := dk_28 (dk_at dksX5_first_9 0 rfl rfl)
theorem dX5_first_214 : decode cX5_first 214 = .ok (.iconst 1, 1) := dk_4 (dk_at dksX5_first_9 1 rfl rfl)
theorem dX5_first_215 : decode cX5_first 215 = .ok (.isub, 1) := dk_100 (dk_at dksX5_first_9 2 rfl rfl)
theorem dX5_first_216 : decode cX5_first 216 = .ok (.invokestatic 333, 3) := dk_184 1 77 (dk_at dksX5_first_9 3 rfl rfl)
theorem dX5_first_219 : decode cX5_first 219 = .ok (.ireturn, 1) := dk_172 (dk_at dksX5_first_9 6 rfl rfl)
abbrev cX5_allChances : ByteArray := prog_14_method_71_code
def yX5_allChances : MethodName := ⟨RX5, "allChances", "()I"⟩
def dkwX5_allChances_0 : List UInt8 := [42, 4, 42, 180, 0, 117, 120, 4, 100, 182, 1, 68, 172]
abbrev dktX5_allChances_0 : List UInt8 := dkwX5_allChances_0 ++ []
theorem dksX5_allChances_0 : cX5_allChances.data.toList.drop 0 = dktX5_allChances_0 := by decide +kernel
theorem dX5_allChances_0 : decode cX5_allChances 0 = .ok (.aload_n 0, 1) := dk_42 (dk_at dksX5_allChances_0 0 rfl rfl)
theorem dX5_allChances_1 : decode cX5_allChances 1 = .ok (.iconst 1, 1) := dk_4 (dk_at dksX5_allChances_0 1 rfl rfl)
theorem dX5_allChances_2 : decode cX5_allChances 2 = .ok (.aload_n 0, 1) := dk_42 (dk_at dksX5_allChances_0 2 rfl rfl)
theorem dX5_allChances_3 : decode cX5_allChances 3 = .ok (.getfield 117, 3) := dk_180 0 117 (dk_at dksX5_allChances_0 3 rfl rfl)
theorem dX5_allChances_6 : decode cX5_allChances 6 = .ok (.ishl, 1) := dk_120 (dk_at dksX5_allChances_0 6 rfl rfl)
theorem dX5_allChances_7 : decode cX5_allChances 7 = .ok (.iconst 1, 1) := dk_4 (dk_at dksX5_allChances_0 7 rfl rfl)
theorem dX5_allChances_8 : decode cX5_allChances 8 = .ok (.isub, 1) := dk_100 (dk_at dksX5_allChances_0 8 rfl rfl)
theorem dX5_allChances_9 : decode cX5_allChances 9 = .ok (.invokevirtual 324, 3) := dk_182 1 68 (dk_at dksX5_allChances_0 9 rfl rfl)
theorem dX5_allChances_12 : decode cX5_allChances 12 = .ok (.ireturn, 1) := dk_172 (dk_at dksX5_allChances_0 12 rfl rfl)
abbrev cX5_chanceOf : ByteArray := prog_14_method_70_code
def yX5_chanceOf : MethodName := ⟨RX5, "chanceOf", "(I)I"⟩
def dkwX5_chanceOf_1 : List UInt8 := [180, 0, 22, 8, 29, 104, 7, 96, 46, 167, 0, 4, 3, 96, 61, 132, 3, 1, 167, 255, 219, 28, 172]
abbrev dktX5_chanceOf_1 : List UInt8 := dkwX5_chanceOf_1 ++ []
def dkwX5_chanceOf_0 : List UInt8 := [3, 61, 3, 62, 29, 42, 180, 0, 117, 162, 0, 35, 28, 27, 29, 122, 4, 126, 4, 160, 0, 16, 42]
abbrev dktX5_chanceOf_0 : List UInt8 := dkwX5_chanceOf_0 ++ dktX5_chanceOf_1
theorem dksX5_chanceOf_0 : cX5_chanceOf.data.toList.drop 0 = dktX5_chanceOf_0 := by decide +kernel
theorem dksX5_chanceOf_1 : cX5_chanceOf.data.toList.drop 23 = dktX5_chanceOf_1 := dk_seg dksX5_chanceOf_0 23 rfl rfl
theorem dX5_chanceOf_0 : decode cX5_chanceOf 0 = .ok (.iconst 0, 1) := dk_3 (dk_at dksX5_chanceOf_0 0 rfl rfl)
theorem dX5_chanceOf_1 : decode cX5_chanceOf 1 = .ok (.istore_n 2, 1) := dk_61 (dk_at dksX5_chanceOf_0 1 rfl rfl)
theorem dX5_chanceOf_2 : decode cX5_chanceOf 2 = .ok (.iconst 0, 1) := dk_3 (dk_at dksX5_chanceOf_0 2 rfl rfl)
theorem dX5_chanceOf_3 : decode cX5_chanceOf 3 = .ok (.istore_n 3, 1) := dk_62 (dk_at dksX5_chanceOf_0 3 rfl rfl)
theorem dX5_chanceOf_4 : decode cX5_chanceOf 4 = .ok (.iload_n 3, 1) := dk_29 (dk_at dksX5_chanceOf_0 4 rfl rfl)
theorem dX5_chanceOf_5 : decode cX5_chanceOf 5 = .ok (.aload_n 0, 1) := dk_42 (dk_at dksX5_chanceOf_0 5 rfl rfl)
theorem dX5_chanceOf_6 : decode cX5_chanceOf 6 = .ok (.getfield 117, 3) := dk_180 0 117 (dk_at dksX5_chanceOf_0 6 rfl rfl)
theorem dX5_chanceOf_9 : decode cX5_chanceOf 9 = .ok (.if_icmp .ge 35, 3) := dk_162 0 35 (dk_at dksX5_chanceOf_0 9 rfl rfl)
theorem dX5_chanceOf_12 : decode cX5_chanceOf 12 = .ok (.iload_n 2, 1) := dk_28 (dk_at dksX5_chanceOf_0 12 rfl rfl)
theorem dX5_chanceOf_13 : decode cX5_chanceOf 13 = .ok (.iload_n 1, 1) := dk_27 (dk_at dksX5_chanceOf_0 13 rfl rfl)
theorem dX5_chanceOf_14 : decode cX5_chanceOf 14 = .ok (.iload_n 3, 1) := dk_29 (dk_at dksX5_chanceOf_0 14 rfl rfl)
theorem dX5_chanceOf_15 : decode cX5_chanceOf 15 = .ok (.ishr, 1) := dk_122 (dk_at dksX5_chanceOf_0 15 rfl rfl)
theorem dX5_chanceOf_16 : decode cX5_chanceOf 16 = .ok (.iconst 1, 1) := dk_4 (dk_at dksX5_chanceOf_0 16 rfl rfl)
theorem dX5_chanceOf_17 : decode cX5_chanceOf 17 = .ok (.iand, 1) := dk_126 (dk_at dksX5_chanceOf_0 17 rfl rfl)
theorem dX5_chanceOf_18 : decode cX5_chanceOf 18 = .ok (.iconst 1, 1) := dk_4 (dk_at dksX5_chanceOf_0 18 rfl rfl)
theorem dX5_chanceOf_19 : decode cX5_chanceOf 19 = .ok (.if_icmp .ne 16, 3) := dk_160 0 16 (dk_at dksX5_chanceOf_0 19 rfl rfl)
theorem dX5_chanceOf_22 : decode cX5_chanceOf 22 = .ok (.aload_n 0, 1) := dk_42 (dk_at dksX5_chanceOf_0 22 rfl rfl)
theorem dX5_chanceOf_23 : decode cX5_chanceOf 23 = .ok (.getfield 22, 3) := dk_180 0 22 (dk_at dksX5_chanceOf_1 0 rfl rfl)
theorem dX5_chanceOf_26 : decode cX5_chanceOf 26 = .ok (.iconst 5, 1) := dk_8 (dk_at dksX5_chanceOf_1 3 rfl rfl)
theorem dX5_chanceOf_27 : decode cX5_chanceOf 27 = .ok (.iload_n 3, 1) := dk_29 (dk_at dksX5_chanceOf_1 4 rfl rfl)
theorem dX5_chanceOf_28 : decode cX5_chanceOf 28 = .ok (.imul, 1) := dk_104 (dk_at dksX5_chanceOf_1 5 rfl rfl)
theorem dX5_chanceOf_29 : decode cX5_chanceOf 29 = .ok (.iconst 4, 1) := dk_7 (dk_at dksX5_chanceOf_1 6 rfl rfl)
theorem dX5_chanceOf_30 : decode cX5_chanceOf 30 = .ok (.iadd, 1) := dk_96 (dk_at dksX5_chanceOf_1 7 rfl rfl)
theorem dX5_chanceOf_31 : decode cX5_chanceOf 31 = .ok (.iaload, 1) := dk_46 (dk_at dksX5_chanceOf_1 8 rfl rfl)
theorem dX5_chanceOf_32 : decode cX5_chanceOf 32 = .ok (.goto 4, 3) := dk_167 0 4 (dk_at dksX5_chanceOf_1 9 rfl rfl)
theorem dX5_chanceOf_35 : decode cX5_chanceOf 35 = .ok (.iconst 0, 1) := dk_3 (dk_at dksX5_chanceOf_1 12 rfl rfl)
theorem dX5_chanceOf_36 : decode cX5_chanceOf 36 = .ok (.iadd, 1) := dk_96 (dk_at dksX5_chanceOf_1 13 rfl rfl)
theorem dX5_chanceOf_37 : decode cX5_chanceOf 37 = .ok (.istore_n 2, 1) := dk_61 (dk_at dksX5_chanceOf_1 14 rfl rfl)
theorem dX5_chanceOf_38 : decode cX5_chanceOf 38 = .ok (.iinc 3 1, 3) := dk_132 3 1 (dk_at dksX5_chanceOf_1 15 rfl rfl)
theorem dX5_chanceOf_41 : decode cX5_chanceOf 41 = .ok (.goto (-37), 3) := dk_167 255 219 (dk_at dksX5_chanceOf_1 18 rfl rfl)
theorem dX5_chanceOf_44 : decode cX5_chanceOf 44 = .ok (.iload_n 2, 1) := dk_28 (dk_at dksX5_chanceOf_1 21 rfl rfl)
theorem dX5_chanceOf_45 : decode cX5_chanceOf 45 = .ok (.ireturn, 1) := dk_172 (dk_at dksX5_chanceOf_1 22 rfl rfl)
abbrev cX5_feared : ByteArray := prog_14_method_72_code
def yX5_feared : MethodName := ⟨RX5, "feared", "(Z)I"⟩
def dkwX5_feared_2 : List UInt8 := [158, 0, 10, 4, 21, 4, 120, 167, 0, 4, 3, 128, 61, 132, 3, 1, 167, 255, 198, 28, 172]
abbrev dktX5_feared_2 : List UInt8 := dkwX5_feared_2 ++ []
def dkwX5_feared_1 : List UInt8 := [28, 21, 4, 16, 252, 159, 0, 27, 27, 153, 0, 16, 42, 180, 0, 22, 8, 29, 104, 7, 96, 46]
abbrev dktX5_feared_1 : List UInt8 := dkwX5_feared_1 ++ dktX5_feared_2
def dkwX5_feared_0 : List UInt8 := [3, 61, 3, 62, 29, 42, 180, 0, 117, 162, 0, 56, 42, 180, 0, 22, 8, 29, 104, 5, 96, 46, 54, 4]
abbrev dktX5_feared_0 : List UInt8 := dkwX5_feared_0 ++ dktX5_feared_1
theorem dksX5_feared_0 : cX5_feared.data.toList.drop 0 = dktX5_feared_0 := by decide +kernel
theorem dksX5_feared_1 : cX5_feared.data.toList.drop 24 = dktX5_feared_1 := dk_seg dksX5_feared_0 24 rfl rfl
theorem dksX5_feared_2 : cX5_feared.data.toList.drop 46 = dktX5_feared_2 := dk_seg dksX5_feared_1 22 rfl rfl
theorem dX5_feared_0 : decode cX5_feared 0 = .ok (.iconst 0, 1) := dk_3 (dk_at dksX5_feared_0 0 rfl rfl)
theorem dX5_feared_1 : decode cX5_feared 1 = .ok (.istore_n 2, 1) := dk_61 (dk_at dksX5_feared_0 1 rfl rfl)
theorem dX5_feared_2 : decode cX5_feared 2 = .ok (.iconst 0, 1) := dk_3 (dk_at dksX5_feared_0 2 rfl rfl)
theorem dX5_feared_3 : decode cX5_feared 3 = .ok (.istore_n 3, 1) := dk_62 (dk_at dksX5_feared_0 3 rfl rfl)
theorem dX5_feared_4 : decode cX5_feared 4 = .ok (.iload_n 3, 1) := dk_29 (dk_at dksX5_feared_0 4 rfl rfl)
theorem dX5_feared_5 : decode cX5_feared 5 = .ok (.aload_n 0, 1) := dk_42 (dk_at dksX5_feared_0 5 rfl rfl)
theorem dX5_feared_6 : decode cX5_feared 6 = .ok (.getfield 117, 3) := dk_180 0 117 (dk_at dksX5_feared_0 6 rfl rfl)
theorem dX5_feared_9 : decode cX5_feared 9 = .ok (.if_icmp .ge 56, 3) := dk_162 0 56 (dk_at dksX5_feared_0 9 rfl rfl)
theorem dX5_feared_12 : decode cX5_feared 12 = .ok (.aload_n 0, 1) := dk_42 (dk_at dksX5_feared_0 12 rfl rfl)
theorem dX5_feared_13 : decode cX5_feared 13 = .ok (.getfield 22, 3) := dk_180 0 22 (dk_at dksX5_feared_0 13 rfl rfl)
theorem dX5_feared_16 : decode cX5_feared 16 = .ok (.iconst 5, 1) := dk_8 (dk_at dksX5_feared_0 16 rfl rfl)
theorem dX5_feared_17 : decode cX5_feared 17 = .ok (.iload_n 3, 1) := dk_29 (dk_at dksX5_feared_0 17 rfl rfl)
theorem dX5_feared_18 : decode cX5_feared 18 = .ok (.imul, 1) := dk_104 (dk_at dksX5_feared_0 18 rfl rfl)
theorem dX5_feared_19 : decode cX5_feared 19 = .ok (.iconst 2, 1) := dk_5 (dk_at dksX5_feared_0 19 rfl rfl)
theorem dX5_feared_20 : decode cX5_feared 20 = .ok (.iadd, 1) := dk_96 (dk_at dksX5_feared_0 20 rfl rfl)
theorem dX5_feared_21 : decode cX5_feared 21 = .ok (.iaload, 1) := dk_46 (dk_at dksX5_feared_0 21 rfl rfl)
theorem dX5_feared_22 : decode cX5_feared 22 = .ok (.istore 4, 2) := dk_54 4 (dk_at dksX5_feared_0 22 rfl rfl)
theorem dX5_feared_24 : decode cX5_feared 24 = .ok (.iload_n 2, 1) := dk_28 (dk_at dksX5_feared_1 0 rfl rfl)
theorem dX5_feared_25 : decode cX5_feared 25 = .ok (.iload 4, 2) := dk_21 4 (dk_at dksX5_feared_1 1 rfl rfl)
theorem dX5_feared_27 : decode cX5_feared 27 = .ok (.bipush (-4), 2) := dk_16 252 (dk_at dksX5_feared_1 3 rfl rfl)
theorem dX5_feared_29 : decode cX5_feared 29 = .ok (.if_icmp .eq 27, 3) := dk_159 0 27 (dk_at dksX5_feared_1 5 rfl rfl)
theorem dX5_feared_32 : decode cX5_feared 32 = .ok (.iload_n 1, 1) := dk_27 (dk_at dksX5_feared_1 8 rfl rfl)
theorem dX5_feared_33 : decode cX5_feared 33 = .ok (.ifCond .eq 16, 3) := dk_153 0 16 (dk_at dksX5_feared_1 9 rfl rfl)
theorem dX5_feared_36 : decode cX5_feared 36 = .ok (.aload_n 0, 1) := dk_42 (dk_at dksX5_feared_1 12 rfl rfl)
theorem dX5_feared_37 : decode cX5_feared 37 = .ok (.getfield 22, 3) := dk_180 0 22 (dk_at dksX5_feared_1 13 rfl rfl)
theorem dX5_feared_40 : decode cX5_feared 40 = .ok (.iconst 5, 1) := dk_8 (dk_at dksX5_feared_1 16 rfl rfl)
theorem dX5_feared_41 : decode cX5_feared 41 = .ok (.iload_n 3, 1) := dk_29 (dk_at dksX5_feared_1 17 rfl rfl)
theorem dX5_feared_42 : decode cX5_feared 42 = .ok (.imul, 1) := dk_104 (dk_at dksX5_feared_1 18 rfl rfl)
theorem dX5_feared_43 : decode cX5_feared 43 = .ok (.iconst 4, 1) := dk_7 (dk_at dksX5_feared_1 19 rfl rfl)
theorem dX5_feared_44 : decode cX5_feared 44 = .ok (.iadd, 1) := dk_96 (dk_at dksX5_feared_1 20 rfl rfl)
theorem dX5_feared_45 : decode cX5_feared 45 = .ok (.iaload, 1) := dk_46 (dk_at dksX5_feared_1 21 rfl rfl)
theorem dX5_feared_46 : decode cX5_feared 46 = .ok (.ifCond .le 10, 3) := dk_158 0 10 (dk_at dksX5_feared_2 0 rfl rfl)
theorem dX5_feared_49 : decode cX5_feared 49 = .ok (.iconst 1, 1) := dk_4 (dk_at dksX5_feared_2 3 rfl rfl)
theorem dX5_feared_50 : decode cX5_feared 50 = .ok (.iload 4, 2) := dk_21 4 (dk_at dksX5_feared_2 4 rfl rfl)
theorem dX5_feared_52 : decode cX5_feared 52 = .ok (.ishl, 1) := dk_120 (dk_at dksX5_feared_2 6 rfl rfl)
theorem dX5_feared_53 : decode cX5_feared 53 = .ok (.goto 4, 3) := dk_167 0 4 (dk_at dksX5_feared_2 7 rfl rfl)
theorem dX5_feared_56 : decode cX5_feared 56 = .ok (.iconst 0, 1) := dk_3 (dk_at dksX5_feared_2 10 rfl rfl)
theorem dX5_feared_57 : decode cX5_feared 57 = .ok (.ior, 1) := dk_128 (dk_at dksX5_feared_2 11 rfl rfl)
theorem dX5_feared_58 : decode cX5_feared 58 = .ok (.istore_n 2, 1) := dk_61 (dk_at dksX5_feared_2 12 rfl rfl)
theorem dX5_feared_59 : decode cX5_feared 59 = .ok (.iinc 3 1, 3) := dk_132 3 1 (dk_at dksX5_feared_2 13 rfl rfl)
theorem dX5_feared_62 : decode cX5_feared 62 = .ok (.goto (-58), 3) := dk_167 255 198 (dk_at dksX5_feared_2 16 rfl rfl)
theorem dX5_feared_65 : decode cX5_feared 65 = .ok (.iload_n 2, 1) := dk_28 (dk_at dksX5_feared_2 19 rfl rfl)
theorem dX5_feared_66 : decode cX5_feared 66 = .ok (.ireturn, 1) := dk_172 (dk_at dksX5_feared_2 20 rfl rfl)
abbrev cX5_lowest : ByteArray := prog_14_method_73_code
def yX5_lowest : MethodName := ⟨RX5, "lowest", "(III)I"⟩
def dkwX5_lowest_1 : List UInt8 := [167, 255, 238, 28, 154, 0, 9, 26, 29, 108, 167, 0, 6, 27, 29, 108, 172]
abbrev dktX5_lowest_1 : List UInt8 := dkwX5_lowest_1 ++ []
def dkwX5_lowest_0 : List UInt8 := [27, 62, 26, 54, 4, 21, 4, 153, 0, 19, 29, 21, 4, 112, 54, 5, 21, 4, 62, 21, 5, 54, 4]
abbrev dktX5_lowest_0 : List UInt8 := dkwX5_lowest_0 ++ dktX5_lowest_1
theorem dksX5_lowest_0 : cX5_lowest.data.toList.drop 0 = dktX5_lowest_0 := by decide +kernel
theorem dksX5_lowest_1 : cX5_lowest.data.toList.drop 23 = dktX5_lowest_1 := dk_seg dksX5_lowest_0 23 rfl rfl
theorem dX5_lowest_0 : decode cX5_lowest 0 = .ok (.iload_n 1, 1) := dk_27 (dk_at dksX5_lowest_0 0 rfl rfl)
theorem dX5_lowest_1 : decode cX5_lowest 1 = .ok (.istore_n 3, 1) := dk_62 (dk_at dksX5_lowest_0 1 rfl rfl)
theorem dX5_lowest_2 : decode cX5_lowest 2 = .ok (.iload_n 0, 1) := dk_26 (dk_at dksX5_lowest_0 2 rfl rfl)
theorem dX5_lowest_3 : decode cX5_lowest 3 = .ok (.istore 4, 2) := dk_54 4 (dk_at dksX5_lowest_0 3 rfl rfl)
theorem dX5_lowest_5 : decode cX5_lowest 5 = .ok (.iload 4, 2) := dk_21 4 (dk_at dksX5_lowest_0 5 rfl rfl)
theorem dX5_lowest_7 : decode cX5_lowest 7 = .ok (.ifCond .eq 19, 3) := dk_153 0 19 (dk_at dksX5_lowest_0 7 rfl rfl)
theorem dX5_lowest_10 : decode cX5_lowest 10 = .ok (.iload_n 3, 1) := dk_29 (dk_at dksX5_lowest_0 10 rfl rfl)
theorem dX5_lowest_11 : decode cX5_lowest 11 = .ok (.iload 4, 2) := dk_21 4 (dk_at dksX5_lowest_0 11 rfl rfl)
theorem dX5_lowest_13 : decode cX5_lowest 13 = .ok (.irem, 1) := dk_112 (dk_at dksX5_lowest_0 13 rfl rfl)
theorem dX5_lowest_14 : decode cX5_lowest 14 = .ok (.istore 5, 2) := dk_54 5 (dk_at dksX5_lowest_0 14 rfl rfl)
theorem dX5_lowest_16 : decode cX5_lowest 16 = .ok (.iload 4, 2) := dk_21 4 (dk_at dksX5_lowest_0 16 rfl rfl)
theorem dX5_lowest_18 : decode cX5_lowest 18 = .ok (.istore_n 3, 1) := dk_62 (dk_at dksX5_lowest_0 18 rfl rfl)
theorem dX5_lowest_19 : decode cX5_lowest 19 = .ok (.iload 5, 2) := dk_21 5 (dk_at dksX5_lowest_0 19 rfl rfl)
theorem dX5_lowest_21 : decode cX5_lowest 21 = .ok (.istore 4, 2) := dk_54 4 (dk_at dksX5_lowest_0 21 rfl rfl)
theorem dX5_lowest_23 : decode cX5_lowest 23 = .ok (.goto (-18), 3) := dk_167 255 238 (dk_at dksX5_lowest_1 0 rfl rfl)
theorem dX5_lowest_26 : decode cX5_lowest 26 = .ok (.iload_n 2, 1) := dk_28 (dk_at dksX5_lowest_1 3 rfl rfl)
theorem dX5_lowest_27 : decode cX5_lowest 27 = .ok (.ifCond .ne 9, 3) := dk_154 0 9 (dk_at dksX5_lowest_1 4 rfl rfl)
theorem dX5_lowest_30 : decode cX5_lowest 30 = .ok (.iload_n 0, 1) := dk_26 (dk_at dksX5_lowest_1 7 rfl rfl)
theorem dX5_lowest_31 : decode cX5_lowest 31 = .ok (.iload_n 3, 1) := dk_29 (dk_at dksX5_lowest_1 8 rfl rfl)
theorem dX5_lowest_32 : decode cX5_lowest 32 = .ok (.idiv, 1) := dk_108 (dk_at dksX5_lowest_1 9 rfl rfl)
theorem dX5_lowest_33 : decode cX5_lowest 33 = .ok (.goto 6, 3) := dk_167 0 6 (dk_at dksX5_lowest_1 10 rfl rfl)
theorem dX5_lowest_36 : decode cX5_lowest 36 = .ok (.iload_n 1, 1) := dk_27 (dk_at dksX5_lowest_1 13 rfl rfl)
theorem dX5_lowest_37 : decode cX5_lowest 37 = .ok (.iload_n 3, 1) := dk_29 (dk_at dksX5_lowest_1 14 rfl rfl)
theorem dX5_lowest_38 : decode cX5_lowest 38 = .ok (.idiv, 1) := dk_108 (dk_at dksX5_lowest_1 15 rfl rfl)
theorem dX5_lowest_39 : decode cX5_lowest 39 = .ok (.ireturn, 1) := dk_172 (dk_at dksX5_lowest_1 16 rfl rfl)
abbrev cX5_fears : ByteArray := prog_14_method_75_code
def yX5_fears : MethodName := ⟨RX5, "fears", "(I)I"⟩
def dkwX5_fears_1 : List UInt8 := [100, 42, 3, 182, 1, 74, 2, 130, 126, 167, 0, 4, 2, 172]
abbrev dktX5_fears_1 : List UInt8 := dkwX5_fears_1 ++ []
def dkwX5_fears_0 : List UInt8 := [27, 154, 0, 11, 42, 4, 182, 1, 74, 167, 0, 28, 27, 4, 160, 0, 22, 4, 42, 180, 0, 108, 120, 4]
abbrev dktX5_fears_0 : List UInt8 := dkwX5_fears_0 ++ dktX5_fears_1
theorem dksX5_fears_0 : cX5_fears.data.toList.drop 0 = dktX5_fears_0 := by decide +kernel
theorem dksX5_fears_1 : cX5_fears.data.toList.drop 24 = dktX5_fears_1 := dk_seg dksX5_fears_0 24 rfl rfl
theorem dX5_fears_0 : decode cX5_fears 0 = .ok (.iload_n 1, 1) := dk_27 (dk_at dksX5_fears_0 0 rfl rfl)
theorem dX5_fears_1 : decode cX5_fears 1 = .ok (.ifCond .ne 11, 3) := dk_154 0 11 (dk_at dksX5_fears_0 1 rfl rfl)
theorem dX5_fears_4 : decode cX5_fears 4 = .ok (.aload_n 0, 1) := dk_42 (dk_at dksX5_fears_0 4 rfl rfl)
theorem dX5_fears_5 : decode cX5_fears 5 = .ok (.iconst 1, 1) := dk_4 (dk_at dksX5_fears_0 5 rfl rfl)
theorem dX5_fears_6 : decode cX5_fears 6 = .ok (.invokevirtual 330, 3) := dk_182 1 74 (dk_at dksX5_fears_0 6 rfl rfl)
theorem dX5_fears_9 : decode cX5_fears 9 = .ok (.goto 28, 3) := dk_167 0 28 (dk_at dksX5_fears_0 9 rfl rfl)
theorem dX5_fears_12 : decode cX5_fears 12 = .ok (.iload_n 1, 1) := dk_27 (dk_at dksX5_fears_0 12 rfl rfl)
theorem dX5_fears_13 : decode cX5_fears 13 = .ok (.iconst 1, 1) := dk_4 (dk_at dksX5_fears_0 13 rfl rfl)
theorem dX5_fears_14 : decode cX5_fears 14 = .ok (.if_icmp .ne 22, 3) := dk_160 0 22 (dk_at dksX5_fears_0 14 rfl rfl)
theorem dX5_fears_17 : decode cX5_fears 17 = .ok (.iconst 1, 1) := dk_4 (dk_at dksX5_fears_0 17 rfl rfl)
theorem dX5_fears_18 : decode cX5_fears 18 = .ok (.aload_n 0, 1) := dk_42 (dk_at dksX5_fears_0 18 rfl rfl)
theorem dX5_fears_19 : decode cX5_fears 19 = .ok (.getfield 108, 3) := dk_180 0 108 (dk_at dksX5_fears_0 19 rfl rfl)
theorem dX5_fears_22 : decode cX5_fears 22 = .ok (.ishl, 1) := dk_120 (dk_at dksX5_fears_0 22 rfl rfl)
theorem dX5_fears_23 : decode cX5_fears 23 = .ok (.iconst 1, 1) := dk_4 (dk_at dksX5_fears_0 23 rfl rfl)
theorem dX5_fears_24 : decode cX5_fears 24 = .ok (.isub, 1) := dk_100 (dk_at dksX5_fears_1 0 rfl rfl)
theorem dX5_fears_25 : decode cX5_fears 25 = .ok (.aload_n 0, 1) := dk_42 (dk_at dksX5_fears_1 1 rfl rfl)
theorem dX5_fears_26 : decode cX5_fears 26 = .ok (.iconst 0, 1) := dk_3 (dk_at dksX5_fears_1 2 rfl rfl)
theorem dX5_fears_27 : decode cX5_fears 27 = .ok (.invokevirtual 330, 3) := dk_182 1 74 (dk_at dksX5_fears_1 3 rfl rfl)
theorem dX5_fears_30 : decode cX5_fears 30 = .ok (.iconst (-1), 1) := dk_2 (dk_at dksX5_fears_1 6 rfl rfl)
theorem dX5_fears_31 : decode cX5_fears 31 = .ok (.ixor, 1) := dk_130 (dk_at dksX5_fears_1 7 rfl rfl)
theorem dX5_fears_32 : decode cX5_fears 32 = .ok (.iand, 1) := dk_126 (dk_at dksX5_fears_1 8 rfl rfl)
theorem dX5_fears_33 : decode cX5_fears 33 = .ok (.goto 4, 3) := dk_167 0 4 (dk_at dksX5_fears_1 9 rfl rfl)
theorem dX5_fears_36 : decode cX5_fears 36 = .ok (.iconst (-1), 1) := dk_2 (dk_at dksX5_fears_1 12 rfl rfl)
theorem dX5_fears_37 : decode cX5_fears 37 = .ok (.ireturn, 1) := dk_172 (dk_at dksX5_fears_1 13 rfl rfl)
abbrev cX5_answer : ByteArray := prog_14_method_77_code
def yX5_answer : MethodName := ⟨RX5, "answer", "(III)I"⟩
def dkwX5_answer_1 : List UInt8 := [42, 27, 28, 29, 182, 1, 80, 167, 0, 4, 2, 172]
abbrev dktX5_answer_1 : List UInt8 := dkwX5_answer_1 ++ []
def dkwX5_answer_0 : List UInt8 := [42, 27, 182, 0, 240, 153, 0, 29, 42, 28, 182, 0, 237, 153, 0, 21, 42, 29, 182, 0, 225, 153, 0, 13]
abbrev dktX5_answer_0 : List UInt8 := dkwX5_answer_0 ++ dktX5_answer_1
theorem dksX5_answer_0 : cX5_answer.data.toList.drop 0 = dktX5_answer_0 := by decide +kernel
theorem dksX5_answer_1 : cX5_answer.data.toList.drop 24 = dktX5_answer_1 := dk_seg dksX5_answer_0 24 rfl rfl
theorem dX5_answer_0 : decode cX5_answer 0 = .ok (.aload_n 0, 1) := dk_42 (dk_at dksX5_answer_0 0 rfl rfl)
theorem dX5_answer_1 : decode cX5_answer 1 = .ok (.iload_n 1, 1) := dk_27 (dk_at dksX5_answer_0 1 rfl rfl)
theorem dX5_answer_2 : decode cX5_answer 2 = .ok (.invokevirtual 240, 3) := dk_182 0 240 (dk_at dksX5_answer_0 2 rfl rfl)
theorem dX5_answer_5 : decode cX5_answer 5 = .ok (.ifCond .eq 29, 3) := dk_153 0 29 (dk_at dksX5_answer_0 5 rfl rfl)
theorem dX5_answer_8 : decode cX5_answer 8 = .ok (.aload_n 0, 1) := dk_42 (dk_at dksX5_answer_0 8 rfl rfl)
theorem dX5_answer_9 : decode cX5_answer 9 = .ok (.iload_n 2, 1) := dk_28 (dk_at dksX5_answer_0 9 rfl rfl)
theorem dX5_answer_10 : decode cX5_answer 10 = .ok (.invokevirtual 237, 3) := dk_182 0 237 (dk_at dksX5_answer_0 10 rfl rfl)
theorem dX5_answer_13 : decode cX5_answer 13 = .ok (.ifCond .eq 21, 3) := dk_153 0 21 (dk_at dksX5_answer_0 13 rfl rfl)
theorem dX5_answer_16 : decode cX5_answer 16 = .ok (.aload_n 0, 1) := dk_42 (dk_at dksX5_answer_0 16 rfl rfl)
theorem dX5_answer_17 : decode cX5_answer 17 = .ok (.iload_n 3, 1) := dk_29 (dk_at dksX5_answer_0 17 rfl rfl)
theorem dX5_answer_18 : decode cX5_answer 18 = .ok (.invokevirtual 225, 3) := dk_182 0 225 (dk_at dksX5_answer_0 18 rfl rfl)
theorem dX5_answer_21 : decode cX5_answer 21 = .ok (.ifCond .eq 13, 3) := dk_153 0 13 (dk_at dksX5_answer_0 21 rfl rfl)
theorem dX5_answer_24 : decode cX5_answer 24 = .ok (.aload_n 0, 1) := dk_42 (dk_at dksX5_answer_1 0 rfl rfl)
theorem dX5_answer_25 : decode cX5_answer 25 = .ok (.iload_n 1, 1) := dk_27 (dk_at dksX5_answer_1 1 rfl rfl)
theorem dX5_answer_26 : decode cX5_answer 26 = .ok (.iload_n 2, 1) := dk_28 (dk_at dksX5_answer_1 2 rfl rfl)
theorem dX5_answer_27 : decode cX5_answer 27 = .ok (.iload_n 3, 1) := dk_29 (dk_at dksX5_answer_1 3 rfl rfl)
theorem dX5_answer_28 : decode cX5_answer 28 = .ok (.invokevirtual 336, 3) := dk_182 1 80 (dk_at dksX5_answer_1 4 rfl rfl)
theorem dX5_answer_31 : decode cX5_answer 31 = .ok (.goto 4, 3) := dk_167 0 4 (dk_at dksX5_answer_1 7 rfl rfl)
theorem dX5_answer_34 : decode cX5_answer 34 = .ok (.iconst (-1), 1) := dk_2 (dk_at dksX5_answer_1 10 rfl rfl)
theorem dX5_answer_35 : decode cX5_answer 35 = .ok (.ireturn, 1) := dk_172 (dk_at dksX5_answer_1 11 rfl rfl)
abbrev cX5_answerOf : ByteArray := prog_14_method_76_code
def yX5_answerOf : MethodName := ⟨RX5, "answerOf", "(III)I"⟩
def dkwX5_answerOf_1 : List UInt8 := [167, 0, 14, 42, 180, 0, 40, 21, 4, 46, 29, 122, 4, 126, 172]
abbrev dktX5_answerOf_1 : List UInt8 := dkwX5_answerOf_1 ++ []
def dkwX5_answerOf_0 : List UInt8 := [42, 180, 0, 46, 3, 16, 10, 27, 104, 96, 28, 96, 46, 54, 4, 21, 4, 16, 252, 160, 0, 8, 16, 252]
abbrev dktX5_answerOf_0 : List UInt8 := dkwX5_answerOf_0 ++ dktX5_answerOf_1
theorem dksX5_answerOf_0 : cX5_answerOf.data.toList.drop 0 = dktX5_answerOf_0 := by decide +kernel
theorem dksX5_answerOf_1 : cX5_answerOf.data.toList.drop 24 = dktX5_answerOf_1 := dk_seg dksX5_answerOf_0 24 rfl rfl
theorem dX5_answerOf_0 : decode cX5_answerOf 0 = .ok (.aload_n 0, 1) := dk_42 (dk_at dksX5_answerOf_0 0 rfl rfl)
theorem dX5_answerOf_1 : decode cX5_answerOf 1 = .ok (.getfield 46, 3) := dk_180 0 46 (dk_at dksX5_answerOf_0 1 rfl rfl)
theorem dX5_answerOf_4 : decode cX5_answerOf 4 = .ok (.iconst 0, 1) := dk_3 (dk_at dksX5_answerOf_0 4 rfl rfl)
theorem dX5_answerOf_5 : decode cX5_answerOf 5 = .ok (.bipush 10, 2) := dk_16 10 (dk_at dksX5_answerOf_0 5 rfl rfl)
theorem dX5_answerOf_7 : decode cX5_answerOf 7 = .ok (.iload_n 1, 1) := dk_27 (dk_at dksX5_answerOf_0 7 rfl rfl)
theorem dX5_answerOf_8 : decode cX5_answerOf 8 = .ok (.imul, 1) := dk_104 (dk_at dksX5_answerOf_0 8 rfl rfl)
theorem dX5_answerOf_9 : decode cX5_answerOf 9 = .ok (.iadd, 1) := dk_96 (dk_at dksX5_answerOf_0 9 rfl rfl)
theorem dX5_answerOf_10 : decode cX5_answerOf 10 = .ok (.iload_n 2, 1) := dk_28 (dk_at dksX5_answerOf_0 10 rfl rfl)
theorem dX5_answerOf_11 : decode cX5_answerOf 11 = .ok (.iadd, 1) := dk_96 (dk_at dksX5_answerOf_0 11 rfl rfl)
theorem dX5_answerOf_12 : decode cX5_answerOf 12 = .ok (.iaload, 1) := dk_46 (dk_at dksX5_answerOf_0 12 rfl rfl)
theorem dX5_answerOf_13 : decode cX5_answerOf 13 = .ok (.istore 4, 2) := dk_54 4 (dk_at dksX5_answerOf_0 13 rfl rfl)
theorem dX5_answerOf_15 : decode cX5_answerOf 15 = .ok (.iload 4, 2) := dk_21 4 (dk_at dksX5_answerOf_0 15 rfl rfl)
theorem dX5_answerOf_17 : decode cX5_answerOf 17 = .ok (.bipush (-4), 2) := dk_16 252 (dk_at dksX5_answerOf_0 17 rfl rfl)
theorem dX5_answerOf_19 : decode cX5_answerOf 19 = .ok (.if_icmp .ne 8, 3) := dk_160 0 8 (dk_at dksX5_answerOf_0 19 rfl rfl)
theorem dX5_answerOf_22 : decode cX5_answerOf 22 = .ok (.bipush (-4), 2) := dk_16 252 (dk_at dksX5_answerOf_0 22 rfl rfl)
theorem dX5_answerOf_24 : decode cX5_answerOf 24 = .ok (.goto 14, 3) := dk_167 0 14 (dk_at dksX5_answerOf_1 0 rfl rfl)
theorem dX5_answerOf_27 : decode cX5_answerOf 27 = .ok (.aload_n 0, 1) := dk_42 (dk_at dksX5_answerOf_1 3 rfl rfl)
theorem dX5_answerOf_28 : decode cX5_answerOf 28 = .ok (.getfield 40, 3) := dk_180 0 40 (dk_at dksX5_answerOf_1 4 rfl rfl)
theorem dX5_answerOf_31 : decode cX5_answerOf 31 = .ok (.iload 4, 2) := dk_21 4 (dk_at dksX5_answerOf_1 7 rfl rfl)
theorem dX5_answerOf_33 : decode cX5_answerOf 33 = .ok (.iaload, 1) := dk_46 (dk_at dksX5_answerOf_1 9 rfl rfl)
theorem dX5_answerOf_34 : decode cX5_answerOf 34 = .ok (.iload_n 3, 1) := dk_29 (dk_at dksX5_answerOf_1 10 rfl rfl)
theorem dX5_answerOf_35 : decode cX5_answerOf 35 = .ok (.ishr, 1) := dk_122 (dk_at dksX5_answerOf_1 11 rfl rfl)
theorem dX5_answerOf_36 : decode cX5_answerOf 36 = .ok (.iconst 1, 1) := dk_4 (dk_at dksX5_answerOf_1 12 rfl rfl)
theorem dX5_answerOf_37 : decode cX5_answerOf 37 = .ok (.iand, 1) := dk_126 (dk_at dksX5_answerOf_1 13 rfl rfl)
theorem dX5_answerOf_38 : decode cX5_answerOf 38 = .ok (.ireturn, 1) := dk_172 (dk_at dksX5_answerOf_1 14 rfl rfl)
abbrev cX5_heard : ByteArray := prog_14_method_79_code
def yX5_heard : MethodName := ⟨RX5, "heard", "(III)I"⟩
def dkwX5_heard_2 : List UInt8 := [181, 0, 123, 42, 180, 0, 123, 172]
abbrev dktX5_heard_2 : List UInt8 := dkwX5_heard_2 ++ []
def dkwX5_heard_1 : List UInt8 := [9, 10, 184, 0, 137, 154, 0, 5, 2, 172, 42, 89, 180, 0, 123, 42, 27, 28, 29, 182, 1, 83, 126]
abbrev dktX5_heard_1 : List UInt8 := dkwX5_heard_1 ++ dktX5_heard_2
def dkwX5_heard_0 : List UInt8 := [42, 27, 182, 0, 237, 153, 0, 27, 42, 28, 182, 0, 225, 153, 0, 19, 29, 16, 252, 159, 0, 15, 29, 133]
abbrev dktX5_heard_0 : List UInt8 := dkwX5_heard_0 ++ dktX5_heard_1
theorem dksX5_heard_0 : cX5_heard.data.toList.drop 0 = dktX5_heard_0 := by decide +kernel
theorem dksX5_heard_1 : cX5_heard.data.toList.drop 24 = dktX5_heard_1 := dk_seg dksX5_heard_0 24 rfl rfl
theorem dksX5_heard_2 : cX5_heard.data.toList.drop 47 = dktX5_heard_2 := dk_seg dksX5_heard_1 23 rfl rfl
theorem dX5_heard_0 : decode cX5_heard 0 = .ok (.aload_n 0, 1) := dk_42 (dk_at dksX5_heard_0 0 rfl rfl)
theorem dX5_heard_1 : decode cX5_heard 1 = .ok (.iload_n 1, 1) := dk_27 (dk_at dksX5_heard_0 1 rfl rfl)
theorem dX5_heard_2 : decode cX5_heard 2 = .ok (.invokevirtual 237, 3) := dk_182 0 237 (dk_at dksX5_heard_0 2 rfl rfl)
theorem dX5_heard_5 : decode cX5_heard 5 = .ok (.ifCond .eq 27, 3) := dk_153 0 27 (dk_at dksX5_heard_0 5 rfl rfl)
theorem dX5_heard_8 : decode cX5_heard 8 = .ok (.aload_n 0, 1) := dk_42 (dk_at dksX5_heard_0 8 rfl rfl)
theorem dX5_heard_9 : decode cX5_heard 9 = .ok (.iload_n 2, 1) := dk_28 (dk_at dksX5_heard_0 9 rfl rfl)
theorem dX5_heard_10 : decode cX5_heard 10 = .ok (.invokevirtual 225, 3) := dk_182 0 225 (dk_at dksX5_heard_0 10 rfl rfl)
theorem dX5_heard_13 : decode cX5_heard 13 = .ok (.ifCond .eq 19, 3) := dk_153 0 19 (dk_at dksX5_heard_0 13 rfl rfl)
theorem dX5_heard_16 : decode cX5_heard 16 = .ok (.iload_n 3, 1) := dk_29 (dk_at dksX5_heard_0 16 rfl rfl)
theorem dX5_heard_17 : decode cX5_heard 17 = .ok (.bipush (-4), 2) := dk_16 252 (dk_at dksX5_heard_0 17 rfl rfl)
theorem dX5_heard_19 : decode cX5_heard 19 = .ok (.if_icmp .eq 15, 3) := dk_159 0 15 (dk_at dksX5_heard_0 19 rfl rfl)
theorem dX5_heard_22 : decode cX5_heard 22 = .ok (.iload_n 3, 1) := dk_29 (dk_at dksX5_heard_0 22 rfl rfl)
theorem dX5_heard_23 : decode cX5_heard 23 = .ok (.i2l, 1) := dk_133 (dk_at dksX5_heard_0 23 rfl rfl)
theorem dX5_heard_24 : decode cX5_heard 24 = .ok (.lconst 0, 1) := dk_9 (dk_at dksX5_heard_1 0 rfl rfl)
theorem dX5_heard_25 : decode cX5_heard 25 = .ok (.lconst 1, 1) := dk_10 (dk_at dksX5_heard_1 1 rfl rfl)
theorem dX5_heard_26 : decode cX5_heard 26 = .ok (.invokestatic 137, 3) := dk_184 0 137 (dk_at dksX5_heard_1 2 rfl rfl)
theorem dX5_heard_29 : decode cX5_heard 29 = .ok (.ifCond .ne 5, 3) := dk_154 0 5 (dk_at dksX5_heard_1 5 rfl rfl)
theorem dX5_heard_32 : decode cX5_heard 32 = .ok (.iconst (-1), 1) := dk_2 (dk_at dksX5_heard_1 8 rfl rfl)
theorem dX5_heard_33 : decode cX5_heard 33 = .ok (.ireturn, 1) := dk_172 (dk_at dksX5_heard_1 9 rfl rfl)
theorem dX5_heard_34 : decode cX5_heard 34 = .ok (.aload_n 0, 1) := dk_42 (dk_at dksX5_heard_1 10 rfl rfl)
theorem dX5_heard_35 : decode cX5_heard 35 = .ok (.dup, 1) := dk_89 (dk_at dksX5_heard_1 11 rfl rfl)
theorem dX5_heard_36 : decode cX5_heard 36 = .ok (.getfield 123, 3) := dk_180 0 123 (dk_at dksX5_heard_1 12 rfl rfl)
theorem dX5_heard_39 : decode cX5_heard 39 = .ok (.aload_n 0, 1) := dk_42 (dk_at dksX5_heard_1 15 rfl rfl)
theorem dX5_heard_40 : decode cX5_heard 40 = .ok (.iload_n 1, 1) := dk_27 (dk_at dksX5_heard_1 16 rfl rfl)
theorem dX5_heard_41 : decode cX5_heard 41 = .ok (.iload_n 2, 1) := dk_28 (dk_at dksX5_heard_1 17 rfl rfl)
theorem dX5_heard_42 : decode cX5_heard 42 = .ok (.iload_n 3, 1) := dk_29 (dk_at dksX5_heard_1 18 rfl rfl)
theorem dX5_heard_43 : decode cX5_heard 43 = .ok (.invokevirtual 339, 3) := dk_182 1 83 (dk_at dksX5_heard_1 19 rfl rfl)
theorem dX5_heard_46 : decode cX5_heard 46 = .ok (.iand, 1) := dk_126 (dk_at dksX5_heard_1 22 rfl rfl)
theorem dX5_heard_47 : decode cX5_heard 47 = .ok (.putfield 123, 3) := dk_181 0 123 (dk_at dksX5_heard_2 0 rfl rfl)
theorem dX5_heard_50 : decode cX5_heard 50 = .ok (.aload_n 0, 1) := dk_42 (dk_at dksX5_heard_2 3 rfl rfl)
theorem dX5_heard_51 : decode cX5_heard 51 = .ok (.getfield 123, 3) := dk_180 0 123 (dk_at dksX5_heard_2 4 rfl rfl)
theorem dX5_heard_54 : decode cX5_heard 54 = .ok (.ireturn, 1) := dk_172 (dk_at dksX5_heard_2 7 rfl rfl)
abbrev cX5_whoSay : ByteArray := prog_14_method_78_code
def yX5_whoSay : MethodName := ⟨RX5, "whoSay", "(III)I"⟩
def dkwX5_whoSay_2 : List UInt8 := [21, 4, 172]
abbrev dktX5_whoSay_2 : List UInt8 := dkwX5_whoSay_2 ++ []
def dkwX5_whoSay_1 : List UInt8 := [182, 1, 80, 29, 160, 0, 10, 4, 21, 5, 120, 167, 0, 4, 3, 128, 54, 4, 132, 5, 1, 167, 255, 219]
abbrev dktX5_whoSay_1 : List UInt8 := dkwX5_whoSay_1 ++ dktX5_whoSay_2
def dkwX5_whoSay_0 : List UInt8 := [3, 54, 4, 3, 54, 5, 21, 5, 42, 180, 0, 117, 162, 0, 34, 21, 4, 42, 21, 5, 27, 28]
abbrev dktX5_whoSay_0 : List UInt8 := dkwX5_whoSay_0 ++ dktX5_whoSay_1
theorem dksX5_whoSay_0 : cX5_whoSay.data.toList.drop 0 = dktX5_whoSay_0 := by decide +kernel
theorem dksX5_whoSay_1 : cX5_whoSay.data.toList.drop 22 = dktX5_whoSay_1 := dk_seg dksX5_whoSay_0 22 rfl rfl
theorem dksX5_whoSay_2 : cX5_whoSay.data.toList.drop 46 = dktX5_whoSay_2 := dk_seg dksX5_whoSay_1 24 rfl rfl
theorem dX5_whoSay_0 : decode cX5_whoSay 0 = .ok (.iconst 0, 1) := dk_3 (dk_at dksX5_whoSay_0 0 rfl rfl)
theorem dX5_whoSay_1 : decode cX5_whoSay 1 = .ok (.istore 4, 2) := dk_54 4 (dk_at dksX5_whoSay_0 1 rfl rfl)
theorem dX5_whoSay_3 : decode cX5_whoSay 3 = .ok (.iconst 0, 1) := dk_3 (dk_at dksX5_whoSay_0 3 rfl rfl)
theorem dX5_whoSay_4 : decode cX5_whoSay 4 = .ok (.istore 5, 2) := dk_54 5 (dk_at dksX5_whoSay_0 4 rfl rfl)
theorem dX5_whoSay_6 : decode cX5_whoSay 6 = .ok (.iload 5, 2) := dk_21 5 (dk_at dksX5_whoSay_0 6 rfl rfl)
theorem dX5_whoSay_8 : decode cX5_whoSay 8 = .ok (.aload_n 0, 1) := dk_42 (dk_at dksX5_whoSay_0 8 rfl rfl)
theorem dX5_whoSay_9 : decode cX5_whoSay 9 = .ok (.getfield 117, 3) := dk_180 0 117 (dk_at dksX5_whoSay_0 9 rfl rfl)
theorem dX5_whoSay_12 : decode cX5_whoSay 12 = .ok (.if_icmp .ge 34, 3) := dk_162 0 34 (dk_at dksX5_whoSay_0 12 rfl rfl)
theorem dX5_whoSay_15 : decode cX5_whoSay 15 = .ok (.iload 4, 2) := dk_21 4 (dk_at dksX5_whoSay_0 15 rfl rfl)
theorem dX5_whoSay_17 : decode cX5_whoSay 17 = .ok (.aload_n 0, 1) := dk_42 (dk_at dksX5_whoSay_0 17 rfl rfl)
theorem dX5_whoSay_18 : decode cX5_whoSay 18 = .ok (.iload 5, 2) := dk_21 5 (dk_at dksX5_whoSay_0 18 rfl rfl)
theorem dX5_whoSay_20 : decode cX5_whoSay 20 = .ok (.iload_n 1, 1) := dk_27 (dk_at dksX5_whoSay_0 20 rfl rfl)
theorem dX5_whoSay_21 : decode cX5_whoSay 21 = .ok (.iload_n 2, 1) := dk_28 (dk_at dksX5_whoSay_0 21 rfl rfl)
theorem dX5_whoSay_22 : decode cX5_whoSay 22 = .ok (.invokevirtual 336, 3) := dk_182 1 80 (dk_at dksX5_whoSay_1 0 rfl rfl)
theorem dX5_whoSay_25 : decode cX5_whoSay 25 = .ok (.iload_n 3, 1) := dk_29 (dk_at dksX5_whoSay_1 3 rfl rfl)
theorem dX5_whoSay_26 : decode cX5_whoSay 26 = .ok (.if_icmp .ne 10, 3) := dk_160 0 10 (dk_at dksX5_whoSay_1 4 rfl rfl)
theorem dX5_whoSay_29 : decode cX5_whoSay 29 = .ok (.iconst 1, 1) := dk_4 (dk_at dksX5_whoSay_1 7 rfl rfl)
theorem dX5_whoSay_30 : decode cX5_whoSay 30 = .ok (.iload 5, 2) := dk_21 5 (dk_at dksX5_whoSay_1 8 rfl rfl)
theorem dX5_whoSay_32 : decode cX5_whoSay 32 = .ok (.ishl, 1) := dk_120 (dk_at dksX5_whoSay_1 10 rfl rfl)
theorem dX5_whoSay_33 : decode cX5_whoSay 33 = .ok (.goto 4, 3) := dk_167 0 4 (dk_at dksX5_whoSay_1 11 rfl rfl)
theorem dX5_whoSay_36 : decode cX5_whoSay 36 = .ok (.iconst 0, 1) := dk_3 (dk_at dksX5_whoSay_1 14 rfl rfl)
theorem dX5_whoSay_37 : decode cX5_whoSay 37 = .ok (.ior, 1) := dk_128 (dk_at dksX5_whoSay_1 15 rfl rfl)
theorem dX5_whoSay_38 : decode cX5_whoSay 38 = .ok (.istore 4, 2) := dk_54 4 (dk_at dksX5_whoSay_1 16 rfl rfl)
theorem dX5_whoSay_40 : decode cX5_whoSay 40 = .ok (.iinc 5 1, 3) := dk_132 5 1 (dk_at dksX5_whoSay_1 18 rfl rfl)
theorem dX5_whoSay_43 : decode cX5_whoSay 43 = .ok (.goto (-37), 3) := dk_167 255 219 (dk_at dksX5_whoSay_1 21 rfl rfl)
theorem dX5_whoSay_46 : decode cX5_whoSay 46 = .ok (.iload 4, 2) := dk_21 4 (dk_at dksX5_whoSay_2 0 rfl rfl)
theorem dX5_whoSay_48 : decode cX5_whoSay 48 = .ok (.ireturn, 1) := dk_172 (dk_at dksX5_whoSay_2 2 rfl rfl)
abbrev cX5_left : ByteArray := prog_14_method_80_code
def yX5_left : MethodName := ⟨RX5, "left", "(I)I"⟩
def dkwX5_left_1 : List UInt8 := [167, 0, 16, 27, 5, 160, 0, 10, 42, 182, 1, 71, 167, 0, 4, 2, 172]
abbrev dktX5_left_1 : List UInt8 := dkwX5_left_1 ++ []
def dkwX5_left_0 : List UInt8 := [27, 154, 0, 10, 42, 180, 0, 123, 167, 0, 32, 27, 4, 160, 0, 14, 42, 42, 180, 0, 123, 182, 1, 68]
abbrev dktX5_left_0 : List UInt8 := dkwX5_left_0 ++ dktX5_left_1
theorem dksX5_left_0 : cX5_left.data.toList.drop 0 = dktX5_left_0 := by decide +kernel
theorem dksX5_left_1 : cX5_left.data.toList.drop 24 = dktX5_left_1 := dk_seg dksX5_left_0 24 rfl rfl
theorem dX5_left_0 : decode cX5_left 0 = .ok (.iload_n 1, 1) := dk_27 (dk_at dksX5_left_0 0 rfl rfl)
theorem dX5_left_1 : decode cX5_left 1 = .ok (.ifCond .ne 10, 3) := dk_154 0 10 (dk_at dksX5_left_0 1 rfl rfl)
theorem dX5_left_4 : decode cX5_left 4 = .ok (.aload_n 0, 1) := dk_42 (dk_at dksX5_left_0 4 rfl rfl)
theorem dX5_left_5 : decode cX5_left 5 = .ok (.getfield 123, 3) := dk_180 0 123 (dk_at dksX5_left_0 5 rfl rfl)
theorem dX5_left_8 : decode cX5_left 8 = .ok (.goto 32, 3) := dk_167 0 32 (dk_at dksX5_left_0 8 rfl rfl)
theorem dX5_left_11 : decode cX5_left 11 = .ok (.iload_n 1, 1) := dk_27 (dk_at dksX5_left_0 11 rfl rfl)
theorem dX5_left_12 : decode cX5_left 12 = .ok (.iconst 1, 1) := dk_4 (dk_at dksX5_left_0 12 rfl rfl)
theorem dX5_left_13 : decode cX5_left 13 = .ok (.if_icmp .ne 14, 3) := dk_160 0 14 (dk_at dksX5_left_0 13 rfl rfl)
theorem dX5_left_16 : decode cX5_left 16 = .ok (.aload_n 0, 1) := dk_42 (dk_at dksX5_left_0 16 rfl rfl)
theorem dX5_left_17 : decode cX5_left 17 = .ok (.aload_n 0, 1) := dk_42 (dk_at dksX5_left_0 17 rfl rfl)
theorem dX5_left_18 : decode cX5_left 18 = .ok (.getfield 123, 3) := dk_180 0 123 (dk_at dksX5_left_0 18 rfl rfl)
theorem dX5_left_21 : decode cX5_left 21 = .ok (.invokevirtual 324, 3) := dk_182 1 68 (dk_at dksX5_left_0 21 rfl rfl)
theorem dX5_left_24 : decode cX5_left 24 = .ok (.goto 16, 3) := dk_167 0 16 (dk_at dksX5_left_1 0 rfl rfl)
theorem dX5_left_27 : decode cX5_left 27 = .ok (.iload_n 1, 1) := dk_27 (dk_at dksX5_left_1 3 rfl rfl)
theorem dX5_left_28 : decode cX5_left 28 = .ok (.iconst 2, 1) := dk_5 (dk_at dksX5_left_1 4 rfl rfl)
theorem dX5_left_29 : decode cX5_left 29 = .ok (.if_icmp .ne 10, 3) := dk_160 0 10 (dk_at dksX5_left_1 5 rfl rfl)
theorem dX5_left_32 : decode cX5_left 32 = .ok (.aload_n 0, 1) := dk_42 (dk_at dksX5_left_1 8 rfl rfl)
theorem dX5_left_33 : decode cX5_left 33 = .ok (.invokevirtual 327, 3) := dk_182 1 71 (dk_at dksX5_left_1 9 rfl rfl)
theorem dX5_left_36 : decode cX5_left 36 = .ok (.goto 4, 3) := dk_167 0 4 (dk_at dksX5_left_1 12 rfl rfl)
theorem dX5_left_39 : decode cX5_left 39 = .ok (.iconst (-1), 1) := dk_2 (dk_at dksX5_left_1 15 rfl rfl)
theorem dX5_left_40 : decode cX5_left 40 = .ok (.ireturn, 1) := dk_172 (dk_at dksX5_left_1 16 rfl rfl)
abbrev cX5_ask : ByteArray := prog_14_method_81_code
def yX5_ask : MethodName := ⟨RX5, "ask", "(I)I"⟩
def dkwX5_ask_9 : List UInt8 := [172]
abbrev dktX5_ask_9 : List UInt8 := dkwX5_ask_9 ++ []
def dkwX5_ask_8 : List UInt8 := [27, 154, 0, 10, 28, 16, 8, 108, 167, 0, 16, 27, 4, 160, 0, 10, 28, 16, 8, 112, 167, 0, 4, 29]
abbrev dktX5_ask_8 : List UInt8 := dkwX5_ask_8 ++ dktX5_ask_9
def dkwX5_ask_7 : List UInt8 := [62, 132, 5, 1, 167, 255, 129, 132, 4, 1, 167, 255, 104, 28, 16, 252, 160, 0, 8, 16, 252, 167, 0, 27]
abbrev dktX5_ask_7 : List UInt8 := dkwX5_ask_7 ++ dktX5_ask_8
def dkwX5_ask_6 : List UInt8 := [16, 8, 21, 4, 104, 21, 5, 96, 167, 0, 4, 28, 61, 21, 7, 153, 0, 8, 21, 6, 167, 0, 4, 29]
abbrev dktX5_ask_6 : List UInt8 := dkwX5_ask_6 ++ dktX5_ask_7
def dkwX5_ask_5 : List UInt8 := [16, 252, 159, 0, 9, 21, 6, 29, 162, 0, 7, 4, 167, 0, 4, 3, 54, 7, 21, 7, 153, 0, 14]
abbrev dktX5_ask_5 : List UInt8 := dkwX5_ask_5 ++ dktX5_ask_6
def dkwX5_ask_4 : List UInt8 := [21, 8, 21, 6, 164, 0, 8, 21, 8, 167, 0, 5, 21, 6, 54, 6, 132, 7, 1, 167, 255, 199, 28]
abbrev dktX5_ask_4 : List UInt8 := dkwX5_ask_4 ++ dktX5_ask_5
def dkwX5_ask_3 : List UInt8 := [21, 5, 21, 7, 5, 160, 0, 8, 16, 252, 167, 0, 5, 21, 7, 182, 1, 83, 126, 182, 1, 68, 54, 8]
abbrev dktX5_ask_3 : List UInt8 := dkwX5_ask_3 ++ dktX5_ask_4
def dkwX5_ask_2 : List UInt8 := [162, 0, 124, 3, 54, 6, 3, 54, 7, 21, 7, 6, 162, 0, 57, 42, 42, 180, 0, 123, 42, 21, 4]
abbrev dktX5_ask_2 : List UInt8 := dkwX5_ask_2 ++ dktX5_ask_3
def dkwX5_ask_1 : List UInt8 := [42, 180, 0, 114, 162, 0, 149, 42, 180, 0, 123, 153, 0, 142, 3, 54, 5, 21, 5, 42, 180, 0, 108]
abbrev dktX5_ask_1 : List UInt8 := dkwX5_ask_1 ++ dktX5_ask_2
def dkwX5_ask_0 : List UInt8 := [27, 133, 9, 20, 1, 34, 184, 0, 137, 154, 0, 5, 2, 172, 16, 252, 61, 3, 62, 3, 54, 4, 21, 4]
abbrev dktX5_ask_0 : List UInt8 := dkwX5_ask_0 ++ dktX5_ask_1
theorem dksX5_ask_0 : cX5_ask.data.toList.drop 0 = dktX5_ask_0 := by decide +kernel
theorem dksX5_ask_1 : cX5_ask.data.toList.drop 24 = dktX5_ask_1 := dk_seg dksX5_ask_0 24 rfl rfl
theorem dksX5_ask_2 : cX5_ask.data.toList.drop 47 = dktX5_ask_2 := dk_seg dksX5_ask_1 23 rfl rfl
theorem dksX5_ask_3 : cX5_ask.data.toList.drop 70 = dktX5_ask_3 := dk_seg dksX5_ask_2 23 rfl rfl
theorem dksX5_ask_4 : cX5_ask.data.toList.drop 94 = dktX5_ask_4 := dk_seg dksX5_ask_3 24 rfl rfl
theorem dksX5_ask_5 : cX5_ask.data.toList.drop 117 = dktX5_ask_5 := dk_seg dksX5_ask_4 23 rfl rfl
theorem dksX5_ask_6 : cX5_ask.data.toList.drop 140 = dktX5_ask_6 := dk_seg dksX5_ask_5 23 rfl rfl
theorem dksX5_ask_7 : cX5_ask.data.toList.drop 164 = dktX5_ask_7 := dk_seg dksX5_ask_6 24 rfl rfl
theorem dksX5_ask_8 : cX5_ask.data.toList.drop 188 = dktX5_ask_8 := dk_seg dksX5_ask_7 24 rfl rfl
theorem dksX5_ask_9 : cX5_ask.data.toList.drop 212 = dktX5_ask_9 := dk_seg dksX5_ask_8 24 rfl rfl
theorem dX5_ask_0 : decode cX5_ask 0 = .ok (.iload_n 1, 1) := dk_27 (dk_at dksX5_ask_0 0 rfl rfl)
theorem dX5_ask_1 : decode cX5_ask 1 = .ok (.i2l, 1) := dk_133 (dk_at dksX5_ask_0 1 rfl rfl)
theorem dX5_ask_2 : decode cX5_ask 2 = .ok (.lconst 0, 1) := dk_9 (dk_at dksX5_ask_0 2 rfl rfl)
theorem dX5_ask_3 : decode cX5_ask 3 = .ok (.ldc2_w 290, 3) := dk_20 1 34 (dk_at dksX5_ask_0 3 rfl rfl)
theorem dX5_ask_6 : decode cX5_ask 6 = .ok (.invokestatic 137, 3) := dk_184 0 137 (dk_at dksX5_ask_0 6 rfl rfl)
theorem dX5_ask_9 : decode cX5_ask 9 = .ok (.ifCond .ne 5, 3) := dk_154 0 5 (dk_at dksX5_ask_0 9 rfl rfl)
theorem dX5_ask_12 : decode cX5_ask 12 = .ok (.iconst (-1), 1) := dk_2 (dk_at dksX5_ask_0 12 rfl rfl)
theorem dX5_ask_13 : decode cX5_ask 13 = .ok (.ireturn, 1) := dk_172 (dk_at dksX5_ask_0 13 rfl rfl)
theorem dX5_ask_14 : decode cX5_ask 14 = .ok (.bipush (-4), 2) := dk_16 252 (dk_at dksX5_ask_0 14 rfl rfl)
theorem dX5_ask_16 : decode cX5_ask 16 = .ok (.istore_n 2, 1) := dk_61 (dk_at dksX5_ask_0 16 rfl rfl)
theorem dX5_ask_17 : decode cX5_ask 17 = .ok (.iconst 0, 1) := dk_3 (dk_at dksX5_ask_0 17 rfl rfl)
theorem dX5_ask_18 : decode cX5_ask 18 = .ok (.istore_n 3, 1) := dk_62 (dk_at dksX5_ask_0 18 rfl rfl)
theorem dX5_ask_19 : decode cX5_ask 19 = .ok (.iconst 0, 1) := dk_3 (dk_at dksX5_ask_0 19 rfl rfl)
theorem dX5_ask_20 : decode cX5_ask 20 = .ok (.istore 4, 2) := dk_54 4 (dk_at dksX5_ask_0 20 rfl rfl)
theorem dX5_ask_22 : decode cX5_ask 22 = .ok (.iload 4, 2) := dk_21 4 (dk_at dksX5_ask_0 22 rfl rfl)
theorem dX5_ask_24 : decode cX5_ask 24 = .ok (.aload_n 0, 1) := dk_42 (dk_at dksX5_ask_1 0 rfl rfl)
theorem dX5_ask_25 : decode cX5_ask 25 = .ok (.getfield 114, 3) := dk_180 0 114 (dk_at dksX5_ask_1 1 rfl rfl)
theorem dX5_ask_28 : decode cX5_ask 28 = .ok (.if_icmp .ge 149, 3) := dk_162 0 149 (dk_at dksX5_ask_1 4 rfl rfl)
theorem dX5_ask_31 : decode cX5_ask 31 = .ok (.aload_n 0, 1) := dk_42 (dk_at dksX5_ask_1 7 rfl rfl)
theorem dX5_ask_32 : decode cX5_ask 32 = .ok (.getfield 123, 3) := dk_180 0 123 (dk_at dksX5_ask_1 8 rfl rfl)
theorem dX5_ask_35 : decode cX5_ask 35 = .ok (.ifCond .eq 142, 3) := dk_153 0 142 (dk_at dksX5_ask_1 11 rfl rfl)
theorem dX5_ask_38 : decode cX5_ask 38 = .ok (.iconst 0, 1) := dk_3 (dk_at dksX5_ask_1 14 rfl rfl)
theorem dX5_ask_39 : decode cX5_ask 39 = .ok (.istore 5, 2) := dk_54 5 (dk_at dksX5_ask_1 15 rfl rfl)
theorem dX5_ask_41 : decode cX5_ask 41 = .ok (.iload 5, 2) := dk_21 5 (dk_at dksX5_ask_1 17 rfl rfl)
theorem dX5_ask_43 : decode cX5_ask 43 = .ok (.aload_n 0, 1) := dk_42 (dk_at dksX5_ask_1 19 rfl rfl)
theorem dX5_ask_44 : decode cX5_ask 44 = .ok (.getfield 108, 3) := dk_180 0 108 (dk_at dksX5_ask_1 20 rfl rfl)
theorem dX5_ask_47 : decode cX5_ask 47 = .ok (.if_icmp .ge 124, 3) := dk_162 0 124 (dk_at dksX5_ask_2 0 rfl rfl)
theorem dX5_ask_50 : decode cX5_ask 50 = .ok (.iconst 0, 1) := dk_3 (dk_at dksX5_ask_2 3 rfl rfl)
theorem dX5_ask_51 : decode cX5_ask 51 = .ok (.istore 6, 2) := dk_54 6 (dk_at dksX5_ask_2 4 rfl rfl)
theorem dX5_ask_53 : decode cX5_ask 53 = .ok (.iconst 0, 1) := dk_3 (dk_at dksX5_ask_2 6 rfl rfl)
theorem dX5_ask_54 : decode cX5_ask 54 = .ok (.istore 7, 2) := dk_54 7 (dk_at dksX5_ask_2 7 rfl rfl)
theorem dX5_ask_56 : decode cX5_ask 56 = .ok (.iload 7, 2) := dk_21 7 (dk_at dksX5_ask_2 9 rfl rfl)
theorem dX5_ask_58 : decode cX5_ask 58 = .ok (.iconst 3, 1) := dk_6 (dk_at dksX5_ask_2 11 rfl rfl)
theorem dX5_ask_59 : decode cX5_ask 59 = .ok (.if_icmp .ge 57, 3) := dk_162 0 57 (dk_at dksX5_ask_2 12 rfl rfl)
theorem dX5_ask_62 : decode cX5_ask 62 = .ok (.aload_n 0, 1) := dk_42 (dk_at dksX5_ask_2 15 rfl rfl)
theorem dX5_ask_63 : decode cX5_ask 63 = .ok (.aload_n 0, 1) := dk_42 (dk_at dksX5_ask_2 16 rfl rfl)
theorem dX5_ask_64 : decode cX5_ask 64 = .ok (.getfield 123, 3) := dk_180 0 123 (dk_at dksX5_ask_2 17 rfl rfl)
theorem dX5_ask_67 : decode cX5_ask 67 = .ok (.aload_n 0, 1) := dk_42 (dk_at dksX5_ask_2 20 rfl rfl)
theorem dX5_ask_68 : decode cX5_ask 68 = .ok (.iload 4, 2) := dk_21 4 (dk_at dksX5_ask_2 21 rfl rfl)
theorem dX5_ask_70 : decode cX5_ask 70 = .ok (.iload 5, 2) := dk_21 5 (dk_at dksX5_ask_3 0 rfl rfl)
theorem dX5_ask_72 : decode cX5_ask 72 = .ok (.iload 7, 2) := dk_21 7 (dk_at dksX5_ask_3 2 rfl rfl)
theorem dX5_ask_74 : decode cX5_ask 74 = .ok (.iconst 2, 1) := dk_5 (dk_at dksX5_ask_3 4 rfl rfl)
theorem dX5_ask_75 : decode cX5_ask 75 = .ok (.if_icmp .ne 8, 3) := dk_160 0 8 (dk_at dksX5_ask_3 5 rfl rfl)
theorem dX5_ask_78 : decode cX5_ask 78 = .ok (.bipush (-4), 2) := dk_16 252 (dk_at dksX5_ask_3 8 rfl rfl)
theorem dX5_ask_80 : decode cX5_ask 80 = .ok (.goto 5, 3) := dk_167 0 5 (dk_at dksX5_ask_3 10 rfl rfl)
theorem dX5_ask_83 : decode cX5_ask 83 = .ok (.iload 7, 2) := dk_21 7 (dk_at dksX5_ask_3 13 rfl rfl)
theorem dX5_ask_85 : decode cX5_ask 85 = .ok (.invokevirtual 339, 3) := dk_182 1 83 (dk_at dksX5_ask_3 15 rfl rfl)
theorem dX5_ask_88 : decode cX5_ask 88 = .ok (.iand, 1) := dk_126 (dk_at dksX5_ask_3 18 rfl rfl)
theorem dX5_ask_89 : decode cX5_ask 89 = .ok (.invokevirtual 324, 3) := dk_182 1 68 (dk_at dksX5_ask_3 19 rfl rfl)
theorem dX5_ask_92 : decode cX5_ask 92 = .ok (.istore 8, 2) := dk_54 8 (dk_at dksX5_ask_3 22 rfl rfl)
theorem dX5_ask_94 : decode cX5_ask 94 = .ok (.iload 8, 2) := dk_21 8 (dk_at dksX5_ask_4 0 rfl rfl)
theorem dX5_ask_96 : decode cX5_ask 96 = .ok (.iload 6, 2) := dk_21 6 (dk_at dksX5_ask_4 2 rfl rfl)
theorem dX5_ask_98 : decode cX5_ask 98 = .ok (.if_icmp .le 8, 3) := dk_164 0 8 (dk_at dksX5_ask_4 4 rfl rfl)
theorem dX5_ask_101 : decode cX5_ask 101 = .ok (.iload 8, 2) := dk_21 8 (dk_at dksX5_ask_4 7 rfl rfl)
theorem dX5_ask_103 : decode cX5_ask 103 = .ok (.goto 5, 3) := dk_167 0 5 (dk_at dksX5_ask_4 9 rfl rfl)
theorem dX5_ask_106 : decode cX5_ask 106 = .ok (.iload 6, 2) := dk_21 6 (dk_at dksX5_ask_4 12 rfl rfl)
theorem dX5_ask_108 : decode cX5_ask 108 = .ok (.istore 6, 2) := dk_54 6 (dk_at dksX5_ask_4 14 rfl rfl)
theorem dX5_ask_110 : decode cX5_ask 110 = .ok (.iinc 7 1, 3) := dk_132 7 1 (dk_at dksX5_ask_4 16 rfl rfl)
theorem dX5_ask_113 : decode cX5_ask 113 = .ok (.goto (-57), 3) := dk_167 255 199 (dk_at dksX5_ask_4 19 rfl rfl)
theorem dX5_ask_116 : decode cX5_ask 116 = .ok (.iload_n 2, 1) := dk_28 (dk_at dksX5_ask_4 22 rfl rfl)
theorem dX5_ask_117 : decode cX5_ask 117 = .ok (.bipush (-4), 2) := dk_16 252 (dk_at dksX5_ask_5 0 rfl rfl)
theorem dX5_ask_119 : decode cX5_ask 119 = .ok (.if_icmp .eq 9, 3) := dk_159 0 9 (dk_at dksX5_ask_5 2 rfl rfl)
theorem dX5_ask_122 : decode cX5_ask 122 = .ok (.iload 6, 2) := dk_21 6 (dk_at dksX5_ask_5 5 rfl rfl)
theorem dX5_ask_124 : decode cX5_ask 124 = .ok (.iload_n 3, 1) := dk_29 (dk_at dksX5_ask_5 7 rfl rfl)
theorem dX5_ask_125 : decode cX5_ask 125 = .ok (.if_icmp .ge 7, 3) := dk_162 0 7 (dk_at dksX5_ask_5 8 rfl rfl)
theorem dX5_ask_128 : decode cX5_ask 128 = .ok (.iconst 1, 1) := dk_4 (dk_at dksX5_ask_5 11 rfl rfl)
theorem dX5_ask_129 : decode cX5_ask 129 = .ok (.goto 4, 3) := dk_167 0 4 (dk_at dksX5_ask_5 12 rfl rfl)
theorem dX5_ask_132 : decode cX5_ask 132 = .ok (.iconst 0, 1) := dk_3 (dk_at dksX5_ask_5 15 rfl rfl)
theorem dX5_ask_133 : decode cX5_ask 133 = .ok (.istore 7, 2) := dk_54 7 (dk_at dksX5_ask_5 16 rfl rfl)
theorem dX5_ask_135 : decode cX5_ask 135 = .ok (.iload 7, 2) := dk_21 7 (dk_at dksX5_ask_5 18 rfl rfl)
theorem dX5_ask_137 : decode cX5_ask 137 = .ok (.ifCond .eq 14, 3) := dk_153 0 14 (dk_at dksX5_ask_5 20 rfl rfl)
theorem dX5_ask_140 : decode cX5_ask 140 = .ok (.bipush 8, 2) := dk_16 8 (dk_at dksX5_ask_6 0 rfl rfl)
theorem dX5_ask_142 : decode cX5_ask 142 = .ok (.iload 4, 2) := dk_21 4 (dk_at dksX5_ask_6 2 rfl rfl)
theorem dX5_ask_144 : decode cX5_ask 144 = .ok (.imul, 1) := dk_104 (dk_at dksX5_ask_6 4 rfl rfl)
theorem dX5_ask_145 : decode cX5_ask 145 = .ok (.iload 5, 2) := dk_21 5 (dk_at dksX5_ask_6 5 rfl rfl)
theorem dX5_ask_147 : decode cX5_ask 147 = .ok (.iadd, 1) := dk_96 (dk_at dksX5_ask_6 7 rfl rfl)
theorem dX5_ask_148 : decode cX5_ask 148 = .ok (.goto 4, 3) := dk_167 0 4 (dk_at dksX5_ask_6 8 rfl rfl)
theorem dX5_ask_151 : decode cX5_ask 151 = .ok (.iload_n 2, 1) := dk_28 (dk_at dksX5_ask_6 11 rfl rfl)
theorem dX5_ask_152 : decode cX5_ask 152 = .ok (.istore_n 2, 1) := dk_61 (dk_at dksX5_ask_6 12 rfl rfl)
theorem dX5_ask_153 : decode cX5_ask 153 = .ok (.iload 7, 2) := dk_21 7 (dk_at dksX5_ask_6 13 rfl rfl)
theorem dX5_ask_155 : decode cX5_ask 155 = .ok (.ifCond .eq 8, 3) := dk_153 0 8 (dk_at dksX5_ask_6 15 rfl rfl)
theorem dX5_ask_158 : decode cX5_ask 158 = .ok (.iload 6, 2) := dk_21 6 (dk_at dksX5_ask_6 18 rfl rfl)
theorem dX5_ask_160 : decode cX5_ask 160 = .ok (.goto 4, 3) := dk_167 0 4 (dk_at dksX5_ask_6 20 rfl rfl)
theorem dX5_ask_163 : decode cX5_ask 163 = .ok (.iload_n 3, 1) := dk_29 (dk_at dksX5_ask_6 23 rfl rfl)
theorem dX5_ask_164 : decode cX5_ask 164 = .ok (.istore_n 3, 1) := dk_62 (dk_at dksX5_ask_7 0 rfl rfl)
theorem dX5_ask_165 : decode cX5_ask 165 = .ok (.iinc 5 1, 3) := dk_132 5 1 (dk_at dksX5_ask_7 1 rfl rfl)
theorem dX5_ask_168 : decode cX5_ask 168 = .ok (.goto (-127), 3) := dk_167 255 129 (dk_at dksX5_ask_7 4 rfl rfl)
theorem dX5_ask_171 : decode cX5_ask 171 = .ok (.iinc 4 1, 3) := dk_132 4 1 (dk_at dksX5_ask_7 7 rfl rfl)
theorem dX5_ask_174 : decode cX5_ask 174 = .ok (.goto (-152), 3) := dk_167 255 104 (dk_at dksX5_ask_7 10 rfl rfl)
theorem dX5_ask_177 : decode cX5_ask 177 = .ok (.iload_n 2, 1) := dk_28 (dk_at dksX5_ask_7 13 rfl rfl)
theorem dX5_ask_178 : decode cX5_ask 178 = .ok (.bipush (-4), 2) := dk_16 252 (dk_at dksX5_ask_7 14 rfl rfl)
theorem dX5_ask_180 : decode cX5_ask 180 = .ok (.if_icmp .ne 8, 3) := dk_160 0 8 (dk_at dksX5_ask_7 16 rfl rfl)
theorem dX5_ask_183 : decode cX5_ask 183 = .ok (.bipush (-4), 2) := dk_16 252 (dk_at dksX5_ask_7 19 rfl rfl)
theorem dX5_ask_185 : decode cX5_ask 185 = .ok (.goto 27, 3) := dk_167 0 27 (dk_at dksX5_ask_7 21 rfl rfl)
theorem dX5_ask_188 : decode cX5_ask 188 = .ok (.iload_n 1, 1) := dk_27 (dk_at dksX5_ask_8 0 rfl rfl)
theorem dX5_ask_189 : decode cX5_ask 189 = .ok (.ifCond .ne 10, 3) := dk_154 0 10 (dk_at dksX5_ask_8 1 rfl rfl)
theorem dX5_ask_192 : decode cX5_ask 192 = .ok (.iload_n 2, 1) := dk_28 (dk_at dksX5_ask_8 4 rfl rfl)
theorem dX5_ask_193 : decode cX5_ask 193 = .ok (.bipush 8, 2) := dk_16 8 (dk_at dksX5_ask_8 5 rfl rfl)
theorem dX5_ask_195 : decode cX5_ask 195 = .ok (.idiv, 1) := dk_108 (dk_at dksX5_ask_8 7 rfl rfl)
theorem dX5_ask_196 : decode cX5_ask 196 = .ok (.goto 16, 3) := dk_167 0 16 (dk_at dksX5_ask_8 8 rfl rfl)
theorem dX5_ask_199 : decode cX5_ask 199 = .ok (.iload_n 1, 1) := dk_27 (dk_at dksX5_ask_8 11 rfl rfl)
theorem dX5_ask_200 : decode cX5_ask 200 = .ok (.iconst 1, 1) := dk_4 (dk_at dksX5_ask_8 12 rfl rfl)
theorem dX5_ask_201 : decode cX5_ask 201 = .ok (.if_icmp .ne 10, 3) := dk_160 0 10 (dk_at dksX5_ask_8 13 rfl rfl)
theorem dX5_ask_204 : decode cX5_ask 204 = .ok (.iload_n 2, 1) := dk_28 (dk_at dksX5_ask_8 16 rfl rfl)
theorem dX5_ask_205 : decode cX5_ask 205 = .ok (.bipush 8, 2) := dk_16 8 (dk_at dksX5_ask_8 17 rfl rfl)
theorem dX5_ask_207 : decode cX5_ask 207 = .ok (.irem, 1) := dk_112 (dk_at dksX5_ask_8 19 rfl rfl)
theorem dX5_ask_208 : decode cX5_ask 208 = .ok (.goto 4, 3) := dk_167 0 4 (dk_at dksX5_ask_8 20 rfl rfl)
theorem dX5_ask_211 : decode cX5_ask 211 = .ok (.iload_n 3, 1) := dk_29 (dk_at dksX5_ask_8 23 rfl rfl)
theorem dX5_ask_212 : decode cX5_ask 212 = .ok (.ireturn, 1) := dk_172 (dk_at dksX5_ask_9 0 rfl rfl)
abbrev cX5_sure : ByteArray := prog_14_method_82_code
def yX5_sure : MethodName := ⟨RX5, "sure", "(II)I"⟩
def dkwX5_sure_8 : List UInt8 := [21, 4, 184, 0, 222, 167, 0, 5, 21, 4, 172]
abbrev dktX5_sure_8 : List UInt8 := dkwX5_sure_8 ++ []
def dkwX5_sure_7 : List UInt8 := [21, 6, 153, 0, 8, 21, 5, 167, 0, 5, 21, 4, 54, 4, 132, 5, 1, 167, 255, 134, 28, 154, 0, 11]
abbrev dktX5_sure_7 : List UInt8 := dkwX5_sure_7 ++ dktX5_sure_8
def dkwX5_sure_6 : List UInt8 := [153, 0, 11, 21, 8, 21, 5, 126, 153, 0, 7, 4, 167, 0, 4, 3, 54, 6, 132, 7, 1, 167, 255, 195]
abbrev dktX5_sure_6 : List UInt8 := dkwX5_sure_6 ++ dktX5_sure_7
def dkwX5_sure_5 : List UInt8 := [21, 7, 46, 42, 27, 182, 1, 23, 130, 54, 8, 29, 21, 7, 122, 4, 126, 153, 0, 16, 21, 8]
abbrev dktX5_sure_5 : List UInt8 := dkwX5_sure_5 ++ dktX5_sure_6
def dkwX5_sure_4 : List UInt8 := [54, 6, 3, 54, 7, 21, 7, 42, 180, 0, 111, 162, 0, 58, 21, 6, 153, 0, 53, 42, 180, 0, 40]
abbrev dktX5_sure_4 : List UInt8 := dkwX5_sure_4 ++ dktX5_sure_5
def dkwX5_sure_3 : List UInt8 := [16, 252, 159, 0, 16, 21, 5, 184, 0, 222, 21, 4, 184, 0, 222, 162, 0, 7, 4, 167, 0, 4, 3]
abbrev dktX5_sure_3 : List UInt8 := dkwX5_sure_3 ++ dktX5_sure_4
def dkwX5_sure_2 : List UInt8 := [167, 255, 235, 16, 252, 54, 4, 3, 54, 5, 21, 5, 4, 42, 180, 0, 108, 120, 162, 0, 117, 21, 4]
abbrev dktX5_sure_2 : List UInt8 := dkwX5_sure_2 ++ dktX5_sure_3
def dkwX5_sure_1 : List UInt8 := [54, 4, 21, 4, 42, 180, 0, 117, 162, 0, 18, 29, 42, 21, 4, 182, 0, 231, 128, 62, 132, 4, 1]
abbrev dktX5_sure_1 : List UInt8 := dkwX5_sure_1 ++ dktX5_sure_2
def dkwX5_sure_0 : List UInt8 := [42, 27, 182, 0, 237, 153, 0, 13, 28, 133, 9, 10, 184, 0, 137, 154, 0, 5, 2, 172, 3, 62, 3]
abbrev dktX5_sure_0 : List UInt8 := dkwX5_sure_0 ++ dktX5_sure_1
theorem dksX5_sure_0 : cX5_sure.data.toList.drop 0 = dktX5_sure_0 := by decide +kernel
theorem dksX5_sure_1 : cX5_sure.data.toList.drop 23 = dktX5_sure_1 := dk_seg dksX5_sure_0 23 rfl rfl
theorem dksX5_sure_2 : cX5_sure.data.toList.drop 46 = dktX5_sure_2 := dk_seg dksX5_sure_1 23 rfl rfl
theorem dksX5_sure_3 : cX5_sure.data.toList.drop 69 = dktX5_sure_3 := dk_seg dksX5_sure_2 23 rfl rfl
theorem dksX5_sure_4 : cX5_sure.data.toList.drop 92 = dktX5_sure_4 := dk_seg dksX5_sure_3 23 rfl rfl
theorem dksX5_sure_5 : cX5_sure.data.toList.drop 115 = dktX5_sure_5 := dk_seg dksX5_sure_4 23 rfl rfl
theorem dksX5_sure_6 : cX5_sure.data.toList.drop 137 = dktX5_sure_6 := dk_seg dksX5_sure_5 22 rfl rfl
theorem dksX5_sure_7 : cX5_sure.data.toList.drop 161 = dktX5_sure_7 := dk_seg dksX5_sure_6 24 rfl rfl
theorem dksX5_sure_8 : cX5_sure.data.toList.drop 185 = dktX5_sure_8 := dk_seg dksX5_sure_7 24 rfl rfl
theorem dX5_sure_0 : decode cX5_sure 0 = .ok (.aload_n 0, 1) := dk_42 (dk_at dksX5_sure_0 0 rfl rfl)
theorem dX5_sure_1 : decode cX5_sure 1 = .ok (.iload_n 1, 1) := dk_27 (dk_at dksX5_sure_0 1 rfl rfl)
theorem dX5_sure_2 : decode cX5_sure 2 = .ok (.invokevirtual 237, 3) := dk_182 0 237 (dk_at dksX5_sure_0 2 rfl rfl)
theorem dX5_sure_5 : decode cX5_sure 5 = .ok (.ifCond .eq 13, 3) := dk_153 0 13 (dk_at dksX5_sure_0 5 rfl rfl)
theorem dX5_sure_8 : decode cX5_sure 8 = .ok (.iload_n 2, 1) := dk_28 (dk_at dksX5_sure_0 8 rfl rfl)
theorem dX5_sure_9 : decode cX5_sure 9 = .ok (.i2l, 1) := dk_133 (dk_at dksX5_sure_0 9 rfl rfl)
theorem dX5_sure_10 : decode cX5_sure 10 = .ok (.lconst 0, 1) := dk_9 (dk_at dksX5_sure_0 10 rfl rfl)
theorem dX5_sure_11 : decode cX5_sure 11 = .ok (.lconst 1, 1) := dk_10 (dk_at dksX5_sure_0 11 rfl rfl)
theorem dX5_sure_12 : decode cX5_sure 12 = .ok (.invokestatic 137, 3) := dk_184 0 137 (dk_at dksX5_sure_0 12 rfl rfl)
theorem dX5_sure_15 : decode cX5_sure 15 = .ok (.ifCond .ne 5, 3) := dk_154 0 5 (dk_at dksX5_sure_0 15 rfl rfl)
theorem dX5_sure_18 : decode cX5_sure 18 = .ok (.iconst (-1), 1) := dk_2 (dk_at dksX5_sure_0 18 rfl rfl)
theorem dX5_sure_19 : decode cX5_sure 19 = .ok (.ireturn, 1) := dk_172 (dk_at dksX5_sure_0 19 rfl rfl)
theorem dX5_sure_20 : decode cX5_sure 20 = .ok (.iconst 0, 1) := dk_3 (dk_at dksX5_sure_0 20 rfl rfl)
theorem dX5_sure_21 : decode cX5_sure 21 = .ok (.istore_n 3, 1) := dk_62 (dk_at dksX5_sure_0 21 rfl rfl)
theorem dX5_sure_22 : decode cX5_sure 22 = .ok (.iconst 0, 1) := dk_3 (dk_at dksX5_sure_0 22 rfl rfl)
theorem dX5_sure_23 : decode cX5_sure 23 = .ok (.istore 4, 2) := dk_54 4 (dk_at dksX5_sure_1 0 rfl rfl)
theorem dX5_sure_25 : decode cX5_sure 25 = .ok (.iload 4, 2) := dk_21 4 (dk_at dksX5_sure_1 2 rfl rfl)
theorem dX5_sure_27 : decode cX5_sure 27 = .ok (.aload_n 0, 1) := dk_42 (dk_at dksX5_sure_1 4 rfl rfl)
theorem dX5_sure_28 : decode cX5_sure 28 = .ok (.getfield 117, 3) := dk_180 0 117 (dk_at dksX5_sure_1 5 rfl rfl)
theorem dX5_sure_31 : decode cX5_sure 31 = .ok (.if_icmp .ge 18, 3) := dk_162 0 18 (dk_at dksX5_sure_1 8 rfl rfl)
theorem dX5_sure_34 : decode cX5_sure 34 = .ok (.iload_n 3, 1) := dk_29 (dk_at dksX5_sure_1 11 rfl rfl)
theorem dX5_sure_35 : decode cX5_sure 35 = .ok (.aload_n 0, 1) := dk_42 (dk_at dksX5_sure_1 12 rfl rfl)
theorem dX5_sure_36 : decode cX5_sure 36 = .ok (.iload 4, 2) := dk_21 4 (dk_at dksX5_sure_1 13 rfl rfl)
theorem dX5_sure_38 : decode cX5_sure 38 = .ok (.invokevirtual 231, 3) := dk_182 0 231 (dk_at dksX5_sure_1 15 rfl rfl)
theorem dX5_sure_41 : decode cX5_sure 41 = .ok (.ior, 1) := dk_128 (dk_at dksX5_sure_1 18 rfl rfl)
theorem dX5_sure_42 : decode cX5_sure 42 = .ok (.istore_n 3, 1) := dk_62 (dk_at dksX5_sure_1 19 rfl rfl)
theorem dX5_sure_43 : decode cX5_sure 43 = .ok (.iinc 4 1, 3) := dk_132 4 1 (dk_at dksX5_sure_1 20 rfl rfl)
theorem dX5_sure_46 : decode cX5_sure 46 = .ok (.goto (-21), 3) := dk_167 255 235 (dk_at dksX5_sure_2 0 rfl rfl)
theorem dX5_sure_49 : decode cX5_sure 49 = .ok (.bipush (-4), 2) := dk_16 252 (dk_at dksX5_sure_2 3 rfl rfl)
theorem dX5_sure_51 : decode cX5_sure 51 = .ok (.istore 4, 2) := dk_54 4 (dk_at dksX5_sure_2 5 rfl rfl)
theorem dX5_sure_53 : decode cX5_sure 53 = .ok (.iconst 0, 1) := dk_3 (dk_at dksX5_sure_2 7 rfl rfl)
theorem dX5_sure_54 : decode cX5_sure 54 = .ok (.istore 5, 2) := dk_54 5 (dk_at dksX5_sure_2 8 rfl rfl)
theorem dX5_sure_56 : decode cX5_sure 56 = .ok (.iload 5, 2) := dk_21 5 (dk_at dksX5_sure_2 10 rfl rfl)
theorem dX5_sure_58 : decode cX5_sure 58 = .ok (.iconst 1, 1) := dk_4 (dk_at dksX5_sure_2 12 rfl rfl)
theorem dX5_sure_59 : decode cX5_sure 59 = .ok (.aload_n 0, 1) := dk_42 (dk_at dksX5_sure_2 13 rfl rfl)
theorem dX5_sure_60 : decode cX5_sure 60 = .ok (.getfield 108, 3) := dk_180 0 108 (dk_at dksX5_sure_2 14 rfl rfl)
theorem dX5_sure_63 : decode cX5_sure 63 = .ok (.ishl, 1) := dk_120 (dk_at dksX5_sure_2 17 rfl rfl)
theorem dX5_sure_64 : decode cX5_sure 64 = .ok (.if_icmp .ge 117, 3) := dk_162 0 117 (dk_at dksX5_sure_2 18 rfl rfl)
theorem dX5_sure_67 : decode cX5_sure 67 = .ok (.iload 4, 2) := dk_21 4 (dk_at dksX5_sure_2 21 rfl rfl)
theorem dX5_sure_69 : decode cX5_sure 69 = .ok (.bipush (-4), 2) := dk_16 252 (dk_at dksX5_sure_3 0 rfl rfl)
theorem dX5_sure_71 : decode cX5_sure 71 = .ok (.if_icmp .eq 16, 3) := dk_159 0 16 (dk_at dksX5_sure_3 2 rfl rfl)
theorem dX5_sure_74 : decode cX5_sure 74 = .ok (.iload 5, 2) := dk_21 5 (dk_at dksX5_sure_3 5 rfl rfl)
theorem dX5_sure_76 : decode cX5_sure 76 = .ok (.invokestatic 222, 3) := dk_184 0 222 (dk_at dksX5_sure_3 7 rfl rfl)
theorem dX5_sure_79 : decode cX5_sure 79 = .ok (.iload 4, 2) := dk_21 4 (dk_at dksX5_sure_3 10 rfl rfl)
theorem dX5_sure_81 : decode cX5_sure 81 = .ok (.invokestatic 222, 3) := dk_184 0 222 (dk_at dksX5_sure_3 12 rfl rfl)
theorem dX5_sure_84 : decode cX5_sure 84 = .ok (.if_icmp .ge 7, 3) := dk_162 0 7 (dk_at dksX5_sure_3 15 rfl rfl)
theorem dX5_sure_87 : decode cX5_sure 87 = .ok (.iconst 1, 1) := dk_4 (dk_at dksX5_sure_3 18 rfl rfl)
theorem dX5_sure_88 : decode cX5_sure 88 = .ok (.goto 4, 3) := dk_167 0 4 (dk_at dksX5_sure_3 19 rfl rfl)
theorem dX5_sure_91 : decode cX5_sure 91 = .ok (.iconst 0, 1) := dk_3 (dk_at dksX5_sure_3 22 rfl rfl)
theorem dX5_sure_92 : decode cX5_sure 92 = .ok (.istore 6, 2) := dk_54 6 (dk_at dksX5_sure_4 0 rfl rfl)
theorem dX5_sure_94 : decode cX5_sure 94 = .ok (.iconst 0, 1) := dk_3 (dk_at dksX5_sure_4 2 rfl rfl)
theorem dX5_sure_95 : decode cX5_sure 95 = .ok (.istore 7, 2) := dk_54 7 (dk_at dksX5_sure_4 3 rfl rfl)
theorem dX5_sure_97 : decode cX5_sure 97 = .ok (.iload 7, 2) := dk_21 7 (dk_at dksX5_sure_4 5 rfl rfl)
theorem dX5_sure_99 : decode cX5_sure 99 = .ok (.aload_n 0, 1) := dk_42 (dk_at dksX5_sure_4 7 rfl rfl)
theorem dX5_sure_100 : decode cX5_sure 100 = .ok (.getfield 111, 3) := dk_180 0 111 (dk_at dksX5_sure_4 8 rfl rfl)
theorem dX5_sure_103 : decode cX5_sure 103 = .ok (.if_icmp .ge 58, 3) := dk_162 0 58 (dk_at dksX5_sure_4 11 rfl rfl)
theorem dX5_sure_106 : decode cX5_sure 106 = .ok (.iload 6, 2) := dk_21 6 (dk_at dksX5_sure_4 14 rfl rfl)
theorem dX5_sure_108 : decode cX5_sure 108 = .ok (.ifCond .eq 53, 3) := dk_153 0 53 (dk_at dksX5_sure_4 16 rfl rfl)
theorem dX5_sure_111 : decode cX5_sure 111 = .ok (.aload_n 0, 1) := dk_42 (dk_at dksX5_sure_4 19 rfl rfl)
theorem dX5_sure_112 : decode cX5_sure 112 = .ok (.getfield 40, 3) := dk_180 0 40 (dk_at dksX5_sure_4 20 rfl rfl)
theorem dX5_sure_115 : decode cX5_sure 115 = .ok (.iload 7, 2) := dk_21 7 (dk_at dksX5_sure_5 0 rfl rfl)
theorem dX5_sure_117 : decode cX5_sure 117 = .ok (.iaload, 1) := dk_46 (dk_at dksX5_sure_5 2 rfl rfl)
theorem dX5_sure_118 : decode cX5_sure 118 = .ok (.aload_n 0, 1) := dk_42 (dk_at dksX5_sure_5 3 rfl rfl)
theorem dX5_sure_119 : decode cX5_sure 119 = .ok (.iload_n 1, 1) := dk_27 (dk_at dksX5_sure_5 4 rfl rfl)
theorem dX5_sure_120 : decode cX5_sure 120 = .ok (.invokevirtual 279, 3) := dk_182 1 23 (dk_at dksX5_sure_5 5 rfl rfl)
theorem dX5_sure_123 : decode cX5_sure 123 = .ok (.ixor, 1) := dk_130 (dk_at dksX5_sure_5 8 rfl rfl)
theorem dX5_sure_124 : decode cX5_sure 124 = .ok (.istore 8, 2) := dk_54 8 (dk_at dksX5_sure_5 9 rfl rfl)
theorem dX5_sure_126 : decode cX5_sure 126 = .ok (.iload_n 3, 1) := dk_29 (dk_at dksX5_sure_5 11 rfl rfl)
theorem dX5_sure_127 : decode cX5_sure 127 = .ok (.iload 7, 2) := dk_21 7 (dk_at dksX5_sure_5 12 rfl rfl)
theorem dX5_sure_129 : decode cX5_sure 129 = .ok (.ishr, 1) := dk_122 (dk_at dksX5_sure_5 14 rfl rfl)
theorem dX5_sure_130 : decode cX5_sure 130 = .ok (.iconst 1, 1) := dk_4 (dk_at dksX5_sure_5 15 rfl rfl)
theorem dX5_sure_131 : decode cX5_sure 131 = .ok (.iand, 1) := dk_126 (dk_at dksX5_sure_5 16 rfl rfl)
theorem dX5_sure_132 : decode cX5_sure 132 = .ok (.ifCond .eq 16, 3) := dk_153 0 16 (dk_at dksX5_sure_5 17 rfl rfl)
theorem dX5_sure_135 : decode cX5_sure 135 = .ok (.iload 8, 2) := dk_21 8 (dk_at dksX5_sure_5 20 rfl rfl)
theorem dX5_sure_137 : decode cX5_sure 137 = .ok (.ifCond .eq 11, 3) := dk_153 0 11 (dk_at dksX5_sure_6 0 rfl rfl)
theorem dX5_sure_140 : decode cX5_sure 140 = .ok (.iload 8, 2) := dk_21 8 (dk_at dksX5_sure_6 3 rfl rfl)
theorem dX5_sure_142 : decode cX5_sure 142 = .ok (.iload 5, 2) := dk_21 5 (dk_at dksX5_sure_6 5 rfl rfl)
theorem dX5_sure_144 : decode cX5_sure 144 = .ok (.iand, 1) := dk_126 (dk_at dksX5_sure_6 7 rfl rfl)
theorem dX5_sure_145 : decode cX5_sure 145 = .ok (.ifCond .eq 7, 3) := dk_153 0 7 (dk_at dksX5_sure_6 8 rfl rfl)
theorem dX5_sure_148 : decode cX5_sure 148 = .ok (.iconst 1, 1) := dk_4 (dk_at dksX5_sure_6 11 rfl rfl)
theorem dX5_sure_149 : decode cX5_sure 149 = .ok (.goto 4, 3) := dk_167 0 4 (dk_at dksX5_sure_6 12 rfl rfl)
theorem dX5_sure_152 : decode cX5_sure 152 = .ok (.iconst 0, 1) := dk_3 (dk_at dksX5_sure_6 15 rfl rfl)
theorem dX5_sure_153 : decode cX5_sure 153 = .ok (.istore 6, 2) := dk_54 6 (dk_at dksX5_sure_6 16 rfl rfl)
theorem dX5_sure_155 : decode cX5_sure 155 = .ok (.iinc 7 1, 3) := dk_132 7 1 (dk_at dksX5_sure_6 18 rfl rfl)
theorem dX5_sure_158 : decode cX5_sure 158 = .ok (.goto (-61), 3) := dk_167 255 195 (dk_at dksX5_sure_6 21 rfl rfl)
theorem dX5_sure_161 : decode cX5_sure 161 = .ok (.iload 6, 2) := dk_21 6 (dk_at dksX5_sure_7 0 rfl rfl)
theorem dX5_sure_163 : decode cX5_sure 163 = .ok (.ifCond .eq 8, 3) := dk_153 0 8 (dk_at dksX5_sure_7 2 rfl rfl)
theorem dX5_sure_166 : decode cX5_sure 166 = .ok (.iload 5, 2) := dk_21 5 (dk_at dksX5_sure_7 5 rfl rfl)
theorem dX5_sure_168 : decode cX5_sure 168 = .ok (.goto 5, 3) := dk_167 0 5 (dk_at dksX5_sure_7 7 rfl rfl)
theorem dX5_sure_171 : decode cX5_sure 171 = .ok (.iload 4, 2) := dk_21 4 (dk_at dksX5_sure_7 10 rfl rfl)
theorem dX5_sure_173 : decode cX5_sure 173 = .ok (.istore 4, 2) := dk_54 4 (dk_at dksX5_sure_7 12 rfl rfl)
theorem dX5_sure_175 : decode cX5_sure 175 = .ok (.iinc 5 1, 3) := dk_132 5 1 (dk_at dksX5_sure_7 14 rfl rfl)
theorem dX5_sure_178 : decode cX5_sure 178 = .ok (.goto (-122), 3) := dk_167 255 134 (dk_at dksX5_sure_7 17 rfl rfl)
theorem dX5_sure_181 : decode cX5_sure 181 = .ok (.iload_n 2, 1) := dk_28 (dk_at dksX5_sure_7 20 rfl rfl)
theorem dX5_sure_182 : decode cX5_sure 182 = .ok (.ifCond .ne 11, 3) := dk_154 0 11 (dk_at dksX5_sure_7 21 rfl rfl)
theorem dX5_sure_185 : decode cX5_sure 185 = .ok (.iload 4, 2) := dk_21 4 (dk_at dksX5_sure_8 0 rfl rfl)
theorem dX5_sure_187 : decode cX5_sure 187 = .ok (.invokestatic 222, 3) := dk_184 0 222 (dk_at dksX5_sure_8 2 rfl rfl)
theorem dX5_sure_190 : decode cX5_sure 190 = .ok (.goto 5, 3) := dk_167 0 5 (dk_at dksX5_sure_8 5 rfl rfl)
theorem dX5_sure_193 : decode cX5_sure 193 = .ok (.iload 4, 2) := dk_21 4 (dk_at dksX5_sure_8 8 rfl rfl)
theorem dX5_sure_195 : decode cX5_sure 195 = .ok (.ireturn, 1) := dk_172 (dk_at dksX5_sure_8 10 rfl rfl)
abbrev cX5_likely : ByteArray := prog_14_method_83_code
def yX5_likely : MethodName := ⟨RX5, "likely", "(II)I"⟩
def dkwX5_likely_3 : List UInt8 := [182, 1, 71, 154, 0, 8, 16, 252, 167, 0, 12, 29, 42, 182, 1, 71, 28, 184, 1, 77, 172]
abbrev dktX5_likely_3 : List UInt8 := dkwX5_likely_3 ++ []
def dkwX5_likely_2 : List UInt8 := [180, 0, 22, 8, 21, 4, 104, 7, 96, 46, 167, 0, 4, 3, 96, 62, 132, 4, 1, 167, 255, 215, 42]
abbrev dktX5_likely_2 : List UInt8 := dkwX5_likely_2 ++ dktX5_likely_3
def dkwX5_likely_1 : List UInt8 := [54, 4, 21, 4, 42, 180, 0, 117, 162, 0, 38, 29, 42, 3, 21, 4, 27, 182, 1, 36, 153, 0, 17, 42]
abbrev dktX5_likely_1 : List UInt8 := dkwX5_likely_1 ++ dktX5_likely_2
def dkwX5_likely_0 : List UInt8 := [42, 27, 182, 0, 237, 153, 0, 13, 28, 133, 9, 10, 184, 0, 137, 154, 0, 5, 2, 172, 3, 62, 3]
abbrev dktX5_likely_0 : List UInt8 := dkwX5_likely_0 ++ dktX5_likely_1
theorem dksX5_likely_0 : cX5_likely.data.toList.drop 0 = dktX5_likely_0 := by decide +kernel
theorem dksX5_likely_1 : cX5_likely.data.toList.drop 23 = dktX5_likely_1 := dk_seg dksX5_likely_0 23 rfl rfl
theorem dksX5_likely_2 : cX5_likely.data.toList.drop 47 = dktX5_likely_2 := dk_seg dksX5_likely_1 24 rfl rfl
theorem dksX5_likely_3 : cX5_likely.data.toList.drop 70 = dktX5_likely_3 := dk_seg dksX5_likely_2 23 rfl rfl
theorem dX5_likely_0 : decode cX5_likely 0 = .ok (.aload_n 0, 1) := dk_42 (dk_at dksX5_likely_0 0 rfl rfl)
theorem dX5_likely_1 : decode cX5_likely 1 = .ok (.iload_n 1, 1) := dk_27 (dk_at dksX5_likely_0 1 rfl rfl)
theorem dX5_likely_2 : decode cX5_likely 2 = .ok (.invokevirtual 237, 3) := dk_182 0 237 (dk_at dksX5_likely_0 2 rfl rfl)
theorem dX5_likely_5 : decode cX5_likely 5 = .ok (.ifCond .eq 13, 3) := dk_153 0 13 (dk_at dksX5_likely_0 5 rfl rfl)
theorem dX5_likely_8 : decode cX5_likely 8 = .ok (.iload_n 2, 1) := dk_28 (dk_at dksX5_likely_0 8 rfl rfl)
theorem dX5_likely_9 : decode cX5_likely 9 = .ok (.i2l, 1) := dk_133 (dk_at dksX5_likely_0 9 rfl rfl)
theorem dX5_likely_10 : decode cX5_likely 10 = .ok (.lconst 0, 1) := dk_9 (dk_at dksX5_likely_0 10 rfl rfl)
theorem dX5_likely_11 : decode cX5_likely 11 = .ok (.lconst 1, 1) := dk_10 (dk_at dksX5_likely_0 11 rfl rfl)
theorem dX5_likely_12 : decode cX5_likely 12 = .ok (.invokestatic 137, 3) := dk_184 0 137 (dk_at dksX5_likely_0 12 rfl rfl)
theorem dX5_likely_15 : decode cX5_likely 15 = .ok (.ifCond .ne 5, 3) := dk_154 0 5 (dk_at dksX5_likely_0 15 rfl rfl)
theorem dX5_likely_18 : decode cX5_likely 18 = .ok (.iconst (-1), 1) := dk_2 (dk_at dksX5_likely_0 18 rfl rfl)
theorem dX5_likely_19 : decode cX5_likely 19 = .ok (.ireturn, 1) := dk_172 (dk_at dksX5_likely_0 19 rfl rfl)
theorem dX5_likely_20 : decode cX5_likely 20 = .ok (.iconst 0, 1) := dk_3 (dk_at dksX5_likely_0 20 rfl rfl)
theorem dX5_likely_21 : decode cX5_likely 21 = .ok (.istore_n 3, 1) := dk_62 (dk_at dksX5_likely_0 21 rfl rfl)
theorem dX5_likely_22 : decode cX5_likely 22 = .ok (.iconst 0, 1) := dk_3 (dk_at dksX5_likely_0 22 rfl rfl)
theorem dX5_likely_23 : decode cX5_likely 23 = .ok (.istore 4, 2) := dk_54 4 (dk_at dksX5_likely_1 0 rfl rfl)
theorem dX5_likely_25 : decode cX5_likely 25 = .ok (.iload 4, 2) := dk_21 4 (dk_at dksX5_likely_1 2 rfl rfl)
theorem dX5_likely_27 : decode cX5_likely 27 = .ok (.aload_n 0, 1) := dk_42 (dk_at dksX5_likely_1 4 rfl rfl)
theorem dX5_likely_28 : decode cX5_likely 28 = .ok (.getfield 117, 3) := dk_180 0 117 (dk_at dksX5_likely_1 5 rfl rfl)
theorem dX5_likely_31 : decode cX5_likely 31 = .ok (.if_icmp .ge 38, 3) := dk_162 0 38 (dk_at dksX5_likely_1 8 rfl rfl)
theorem dX5_likely_34 : decode cX5_likely 34 = .ok (.iload_n 3, 1) := dk_29 (dk_at dksX5_likely_1 11 rfl rfl)
theorem dX5_likely_35 : decode cX5_likely 35 = .ok (.aload_n 0, 1) := dk_42 (dk_at dksX5_likely_1 12 rfl rfl)
theorem dX5_likely_36 : decode cX5_likely 36 = .ok (.iconst 0, 1) := dk_3 (dk_at dksX5_likely_1 13 rfl rfl)
theorem dX5_likely_37 : decode cX5_likely 37 = .ok (.iload 4, 2) := dk_21 4 (dk_at dksX5_likely_1 14 rfl rfl)
theorem dX5_likely_39 : decode cX5_likely 39 = .ok (.iload_n 1, 1) := dk_27 (dk_at dksX5_likely_1 16 rfl rfl)
theorem dX5_likely_40 : decode cX5_likely 40 = .ok (.invokevirtual 292, 3) := dk_182 1 36 (dk_at dksX5_likely_1 17 rfl rfl)
theorem dX5_likely_43 : decode cX5_likely 43 = .ok (.ifCond .eq 17, 3) := dk_153 0 17 (dk_at dksX5_likely_1 20 rfl rfl)
theorem dX5_likely_46 : decode cX5_likely 46 = .ok (.aload_n 0, 1) := dk_42 (dk_at dksX5_likely_1 23 rfl rfl)
theorem dX5_likely_47 : decode cX5_likely 47 = .ok (.getfield 22, 3) := dk_180 0 22 (dk_at dksX5_likely_2 0 rfl rfl)
theorem dX5_likely_50 : decode cX5_likely 50 = .ok (.iconst 5, 1) := dk_8 (dk_at dksX5_likely_2 3 rfl rfl)
theorem dX5_likely_51 : decode cX5_likely 51 = .ok (.iload 4, 2) := dk_21 4 (dk_at dksX5_likely_2 4 rfl rfl)
theorem dX5_likely_53 : decode cX5_likely 53 = .ok (.imul, 1) := dk_104 (dk_at dksX5_likely_2 6 rfl rfl)
theorem dX5_likely_54 : decode cX5_likely 54 = .ok (.iconst 4, 1) := dk_7 (dk_at dksX5_likely_2 7 rfl rfl)
theorem dX5_likely_55 : decode cX5_likely 55 = .ok (.iadd, 1) := dk_96 (dk_at dksX5_likely_2 8 rfl rfl)
theorem dX5_likely_56 : decode cX5_likely 56 = .ok (.iaload, 1) := dk_46 (dk_at dksX5_likely_2 9 rfl rfl)
theorem dX5_likely_57 : decode cX5_likely 57 = .ok (.goto 4, 3) := dk_167 0 4 (dk_at dksX5_likely_2 10 rfl rfl)
theorem dX5_likely_60 : decode cX5_likely 60 = .ok (.iconst 0, 1) := dk_3 (dk_at dksX5_likely_2 13 rfl rfl)
theorem dX5_likely_61 : decode cX5_likely 61 = .ok (.iadd, 1) := dk_96 (dk_at dksX5_likely_2 14 rfl rfl)
theorem dX5_likely_62 : decode cX5_likely 62 = .ok (.istore_n 3, 1) := dk_62 (dk_at dksX5_likely_2 15 rfl rfl)
theorem dX5_likely_63 : decode cX5_likely 63 = .ok (.iinc 4 1, 3) := dk_132 4 1 (dk_at dksX5_likely_2 16 rfl rfl)
theorem dX5_likely_66 : decode cX5_likely 66 = .ok (.goto (-41), 3) := dk_167 255 215 (dk_at dksX5_likely_2 19 rfl rfl)
theorem dX5_likely_69 : decode cX5_likely 69 = .ok (.aload_n 0, 1) := dk_42 (dk_at dksX5_likely_2 22 rfl rfl)
theorem dX5_likely_70 : decode cX5_likely 70 = .ok (.invokevirtual 327, 3) := dk_182 1 71 (dk_at dksX5_likely_3 0 rfl rfl)
theorem dX5_likely_73 : decode cX5_likely 73 = .ok (.ifCond .ne 8, 3) := dk_154 0 8 (dk_at dksX5_likely_3 3 rfl rfl)
theorem dX5_likely_76 : decode cX5_likely 76 = .ok (.bipush (-4), 2) := dk_16 252 (dk_at dksX5_likely_3 6 rfl rfl)
theorem dX5_likely_78 : decode cX5_likely 78 = .ok (.goto 12, 3) := dk_167 0 12 (dk_at dksX5_likely_3 8 rfl rfl)
theorem dX5_likely_81 : decode cX5_likely 81 = .ok (.iload_n 3, 1) := dk_29 (dk_at dksX5_likely_3 11 rfl rfl)
theorem dX5_likely_82 : decode cX5_likely 82 = .ok (.aload_n 0, 1) := dk_42 (dk_at dksX5_likely_3 12 rfl rfl)
theorem dX5_likely_83 : decode cX5_likely 83 = .ok (.invokevirtual 327, 3) := dk_182 1 71 (dk_at dksX5_likely_3 13 rfl rfl)
theorem dX5_likely_86 : decode cX5_likely 86 = .ok (.iload_n 2, 1) := dk_28 (dk_at dksX5_likely_3 16 rfl rfl)
theorem dX5_likely_87 : decode cX5_likely 87 = .ok (.invokestatic 333, 3) := dk_184 1 77 (dk_at dksX5_likely_3 17 rfl rfl)
theorem dX5_likely_90 : decode cX5_likely 90 = .ok (.ireturn, 1) := dk_172 (dk_at dksX5_likely_3 20 rfl rfl)
abbrev cX5_theirs : ByteArray := prog_14_method_84_code
def yX5_theirs : MethodName := ⟨RX5, "theirs", "(IZ)I"⟩
def dkwX5_theirs_2 : List UInt8 := [4, 96, 181, 0, 126, 42, 180, 0, 126, 172]
abbrev dktX5_theirs_2 : List UInt8 := dkwX5_theirs_2 ++ []
def dkwX5_theirs_1 : List UInt8 := [180, 0, 61, 42, 180, 0, 126, 27, 79, 42, 180, 0, 64, 42, 180, 0, 126, 28, 84, 42, 89, 180, 0, 126]
abbrev dktX5_theirs_1 : List UInt8 := dkwX5_theirs_1 ++ dktX5_theirs_2
def dkwX5_theirs_0 : List UInt8 := [42, 27, 182, 0, 225, 154, 0, 5, 2, 172, 42, 180, 0, 126, 16, 12, 160, 0, 6, 16, 253, 172, 42]
abbrev dktX5_theirs_0 : List UInt8 := dkwX5_theirs_0 ++ dktX5_theirs_1
theorem dksX5_theirs_0 : cX5_theirs.data.toList.drop 0 = dktX5_theirs_0 := by decide +kernel
theorem dksX5_theirs_1 : cX5_theirs.data.toList.drop 23 = dktX5_theirs_1 := dk_seg dksX5_theirs_0 23 rfl rfl
theorem dksX5_theirs_2 : cX5_theirs.data.toList.drop 47 = dktX5_theirs_2 := dk_seg dksX5_theirs_1 24 rfl rfl
theorem dX5_theirs_0 : decode cX5_theirs 0 = .ok (.aload_n 0, 1) := dk_42 (dk_at dksX5_theirs_0 0 rfl rfl)
theorem dX5_theirs_1 : decode cX5_theirs 1 = .ok (.iload_n 1, 1) := dk_27 (dk_at dksX5_theirs_0 1 rfl rfl)
theorem dX5_theirs_2 : decode cX5_theirs 2 = .ok (.invokevirtual 225, 3) := dk_182 0 225 (dk_at dksX5_theirs_0 2 rfl rfl)
theorem dX5_theirs_5 : decode cX5_theirs 5 = .ok (.ifCond .ne 5, 3) := dk_154 0 5 (dk_at dksX5_theirs_0 5 rfl rfl)
theorem dX5_theirs_8 : decode cX5_theirs 8 = .ok (.iconst (-1), 1) := dk_2 (dk_at dksX5_theirs_0 8 rfl rfl)
theorem dX5_theirs_9 : decode cX5_theirs 9 = .ok (.ireturn, 1) := dk_172 (dk_at dksX5_theirs_0 9 rfl rfl)
theorem dX5_theirs_10 : decode cX5_theirs 10 = .ok (.aload_n 0, 1) := dk_42 (dk_at dksX5_theirs_0 10 rfl rfl)
theorem dX5_theirs_11 : decode cX5_theirs 11 = .ok (.getfield 126, 3) := dk_180 0 126 (dk_at dksX5_theirs_0 11 rfl rfl)
theorem dX5_theirs_14 : decode cX5_theirs 14 = .ok (.bipush 12, 2) := dk_16 12 (dk_at dksX5_theirs_0 14 rfl rfl)
theorem dX5_theirs_16 : decode cX5_theirs 16 = .ok (.if_icmp .ne 6, 3) := dk_160 0 6 (dk_at dksX5_theirs_0 16 rfl rfl)
theorem dX5_theirs_19 : decode cX5_theirs 19 = .ok (.bipush (-3), 2) := dk_16 253 (dk_at dksX5_theirs_0 19 rfl rfl)
theorem dX5_theirs_21 : decode cX5_theirs 21 = .ok (.ireturn, 1) := dk_172 (dk_at dksX5_theirs_0 21 rfl rfl)
theorem dX5_theirs_22 : decode cX5_theirs 22 = .ok (.aload_n 0, 1) := dk_42 (dk_at dksX5_theirs_0 22 rfl rfl)
theorem dX5_theirs_23 : decode cX5_theirs 23 = .ok (.getfield 61, 3) := dk_180 0 61 (dk_at dksX5_theirs_1 0 rfl rfl)
theorem dX5_theirs_26 : decode cX5_theirs 26 = .ok (.aload_n 0, 1) := dk_42 (dk_at dksX5_theirs_1 3 rfl rfl)
theorem dX5_theirs_27 : decode cX5_theirs 27 = .ok (.getfield 126, 3) := dk_180 0 126 (dk_at dksX5_theirs_1 4 rfl rfl)
theorem dX5_theirs_30 : decode cX5_theirs 30 = .ok (.iload_n 1, 1) := dk_27 (dk_at dksX5_theirs_1 7 rfl rfl)
theorem dX5_theirs_31 : decode cX5_theirs 31 = .ok (.iastore, 1) := dk_79 (dk_at dksX5_theirs_1 8 rfl rfl)
theorem dX5_theirs_32 : decode cX5_theirs 32 = .ok (.aload_n 0, 1) := dk_42 (dk_at dksX5_theirs_1 9 rfl rfl)
theorem dX5_theirs_33 : decode cX5_theirs 33 = .ok (.getfield 64, 3) := dk_180 0 64 (dk_at dksX5_theirs_1 10 rfl rfl)
theorem dX5_theirs_36 : decode cX5_theirs 36 = .ok (.aload_n 0, 1) := dk_42 (dk_at dksX5_theirs_1 13 rfl rfl)
theorem dX5_theirs_37 : decode cX5_theirs 37 = .ok (.getfield 126, 3) := dk_180 0 126 (dk_at dksX5_theirs_1 14 rfl rfl)
theorem dX5_theirs_40 : decode cX5_theirs 40 = .ok (.iload_n 2, 1) := dk_28 (dk_at dksX5_theirs_1 17 rfl rfl)
theorem dX5_theirs_41 : decode cX5_theirs 41 = .ok (.bastore, 1) := dk_84 (dk_at dksX5_theirs_1 18 rfl rfl)
theorem dX5_theirs_42 : decode cX5_theirs 42 = .ok (.aload_n 0, 1) := dk_42 (dk_at dksX5_theirs_1 19 rfl rfl)
theorem dX5_theirs_43 : decode cX5_theirs 43 = .ok (.dup, 1) := dk_89 (dk_at dksX5_theirs_1 20 rfl rfl)
theorem dX5_theirs_44 : decode cX5_theirs 44 = .ok (.getfield 126, 3) := dk_180 0 126 (dk_at dksX5_theirs_1 21 rfl rfl)
theorem dX5_theirs_47 : decode cX5_theirs 47 = .ok (.iconst 1, 1) := dk_4 (dk_at dksX5_theirs_2 0 rfl rfl)
theorem dX5_theirs_48 : decode cX5_theirs 48 = .ok (.iadd, 1) := dk_96 (dk_at dksX5_theirs_2 1 rfl rfl)
theorem dX5_theirs_49 : decode cX5_theirs 49 = .ok (.putfield 126, 3) := dk_181 0 126 (dk_at dksX5_theirs_2 2 rfl rfl)
theorem dX5_theirs_52 : decode cX5_theirs 52 = .ok (.aload_n 0, 1) := dk_42 (dk_at dksX5_theirs_2 5 rfl rfl)
theorem dX5_theirs_53 : decode cX5_theirs 53 = .ok (.getfield 126, 3) := dk_180 0 126 (dk_at dksX5_theirs_2 6 rfl rfl)
theorem dX5_theirs_56 : decode cX5_theirs 56 = .ok (.ireturn, 1) := dk_172 (dk_at dksX5_theirs_2 9 rfl rfl)
abbrev cX5_hush : ByteArray := prog_14_method_85_code
def yX5_hush : MethodName := ⟨RX5, "hush", "()I"⟩
def dkwX5_hush_0 : List UInt8 := [42, 180, 0, 126, 60, 42, 3, 181, 0, 126, 27, 172]
abbrev dktX5_hush_0 : List UInt8 := dkwX5_hush_0 ++ []
theorem dksX5_hush_0 : cX5_hush.data.toList.drop 0 = dktX5_hush_0 := by decide +kernel
theorem dX5_hush_0 : decode cX5_hush 0 = .ok (.aload_n 0, 1) := dk_42 (dk_at dksX5_hush_0 0 rfl rfl)
theorem dX5_hush_1 : decode cX5_hush 1 = .ok (.getfield 126, 3) := dk_180 0 126 (dk_at dksX5_hush_0 1 rfl rfl)
theorem dX5_hush_4 : decode cX5_hush 4 = .ok (.istore_n 1, 1) := dk_60 (dk_at dksX5_hush_0 4 rfl rfl)
theorem dX5_hush_5 : decode cX5_hush 5 = .ok (.aload_n 0, 1) := dk_42 (dk_at dksX5_hush_0 5 rfl rfl)
theorem dX5_hush_6 : decode cX5_hush 6 = .ok (.iconst 0, 1) := dk_3 (dk_at dksX5_hush_0 6 rfl rfl)
theorem dX5_hush_7 : decode cX5_hush 7 = .ok (.putfield 126, 3) := dk_181 0 126 (dk_at dksX5_hush_0 7 rfl rfl)
theorem dX5_hush_10 : decode cX5_hush 10 = .ok (.iload_n 1, 1) := dk_27 (dk_at dksX5_hush_0 10 rfl rfl)
theorem dX5_hush_11 : decode cX5_hush 11 = .ok (.ireturn, 1) := dk_172 (dk_at dksX5_hush_0 11 rfl rfl)
abbrev cX5_meant : ByteArray := prog_14_method_88_code
def yX5_meant : MethodName := ⟨RX5, "meant", "(I)I"⟩
def dkwX5_meant_2 : List UInt8 := [28, 184, 0, 222, 172, 42, 28, 182, 0, 248, 172, 28, 172, 42, 28, 182, 1, 89, 172, 2, 172]
abbrev dktX5_meant_2 : List UInt8 := dkwX5_meant_2 ++ []
def dkwX5_meant_1 : List UInt8 := [170, 0, 0, 0, 0, 49, 0, 0, 0, 0, 0, 0, 0, 3, 0, 0, 0, 30, 0, 0, 0, 35, 0, 0, 0, 41, 0, 0, 0, 43]
abbrev dktX5_meant_1 : List UInt8 := dkwX5_meant_1 ++ dktX5_meant_2
def dkwX5_meant_0 : List UInt8 := [42, 182, 1, 86, 61, 27]
abbrev dktX5_meant_0 : List UInt8 := dkwX5_meant_0 ++ dktX5_meant_1
theorem dksX5_meant_0 : cX5_meant.data.toList.drop 0 = dktX5_meant_0 := by decide +kernel
theorem dksX5_meant_1 : cX5_meant.data.toList.drop 6 = dktX5_meant_1 := dk_seg dksX5_meant_0 6 rfl rfl
theorem dksX5_meant_2 : cX5_meant.data.toList.drop 36 = dktX5_meant_2 := dk_seg dksX5_meant_1 30 rfl rfl
theorem dX5_meant_0 : decode cX5_meant 0 = .ok (.aload_n 0, 1) := dk_42 (dk_at dksX5_meant_0 0 rfl rfl)
theorem dX5_meant_1 : decode cX5_meant 1 = .ok (.invokevirtual 342, 3) := dk_182 1 86 (dk_at dksX5_meant_0 1 rfl rfl)
theorem dX5_meant_4 : decode cX5_meant 4 = .ok (.istore_n 2, 1) := dk_61 (dk_at dksX5_meant_0 4 rfl rfl)
theorem dX5_meant_5 : decode cX5_meant 5 = .ok (.iload_n 1, 1) := dk_27 (dk_at dksX5_meant_0 5 rfl rfl)
theorem dX5_meant_6 : decode cX5_meant 6 = .ok (.tableswitch 49 0 3 #[30, 35, 41, 43], 30) := by decide +kernel
theorem dX5_meant_36 : decode cX5_meant 36 = .ok (.iload_n 2, 1) := dk_28 (dk_at dksX5_meant_2 0 rfl rfl)
theorem dX5_meant_37 : decode cX5_meant 37 = .ok (.invokestatic 222, 3) := dk_184 0 222 (dk_at dksX5_meant_2 1 rfl rfl)
theorem dX5_meant_40 : decode cX5_meant 40 = .ok (.ireturn, 1) := dk_172 (dk_at dksX5_meant_2 4 rfl rfl)
theorem dX5_meant_41 : decode cX5_meant 41 = .ok (.aload_n 0, 1) := dk_42 (dk_at dksX5_meant_2 5 rfl rfl)
theorem dX5_meant_42 : decode cX5_meant 42 = .ok (.iload_n 2, 1) := dk_28 (dk_at dksX5_meant_2 6 rfl rfl)
theorem dX5_meant_43 : decode cX5_meant 43 = .ok (.invokevirtual 248, 3) := dk_182 0 248 (dk_at dksX5_meant_2 7 rfl rfl)
theorem dX5_meant_46 : decode cX5_meant 46 = .ok (.ireturn, 1) := dk_172 (dk_at dksX5_meant_2 10 rfl rfl)
theorem dX5_meant_47 : decode cX5_meant 47 = .ok (.iload_n 2, 1) := dk_28 (dk_at dksX5_meant_2 11 rfl rfl)
theorem dX5_meant_48 : decode cX5_meant 48 = .ok (.ireturn, 1) := dk_172 (dk_at dksX5_meant_2 12 rfl rfl)
theorem dX5_meant_49 : decode cX5_meant 49 = .ok (.aload_n 0, 1) := dk_42 (dk_at dksX5_meant_2 13 rfl rfl)
theorem dX5_meant_50 : decode cX5_meant 50 = .ok (.iload_n 2, 1) := dk_28 (dk_at dksX5_meant_2 14 rfl rfl)
theorem dX5_meant_51 : decode cX5_meant 51 = .ok (.invokevirtual 345, 3) := dk_182 1 89 (dk_at dksX5_meant_2 15 rfl rfl)
theorem dX5_meant_54 : decode cX5_meant 54 = .ok (.ireturn, 1) := dk_172 (dk_at dksX5_meant_2 18 rfl rfl)
theorem dX5_meant_55 : decode cX5_meant 55 = .ok (.iconst (-1), 1) := dk_2 (dk_at dksX5_meant_2 19 rfl rfl)
theorem dX5_meant_56 : decode cX5_meant 56 = .ok (.ireturn, 1) := dk_172 (dk_at dksX5_meant_2 20 rfl rfl)
abbrev cX5_fitsTheirs : ByteArray := prog_14_method_86_code
def yX5_fitsTheirs : MethodName := ⟨RX5, "fitsTheirs", "()I"⟩
def dkwX5_fitsTheirs_3 : List UInt8 := [27, 29, 153, 0, 9, 4, 28, 120, 167, 0, 4, 3, 128, 60, 132, 2, 1, 167, 255, 172, 27, 172]
abbrev dktX5_fitsTheirs_3 : List UInt8 := dkwX5_fitsTheirs_3 ++ []
def dkwX5_fitsTheirs_2 : List UInt8 := [180, 0, 64, 21, 4, 51, 184, 0, 254, 160, 0, 7, 4, 167, 0, 4, 3, 62, 132, 4, 1, 167, 255, 205]
abbrev dktX5_fitsTheirs_2 : List UInt8 := dkwX5_fitsTheirs_2 ++ dktX5_fitsTheirs_3
def dkwX5_fitsTheirs_1 : List UInt8 := [162, 0, 48, 29, 153, 0, 36, 42, 180, 0, 40, 28, 46, 42, 180, 0, 61, 21, 4, 46, 122, 4, 126, 42]
abbrev dktX5_fitsTheirs_1 : List UInt8 := dkwX5_fitsTheirs_1 ++ dktX5_fitsTheirs_2
def dkwX5_fitsTheirs_0 : List UInt8 := [3, 60, 3, 61, 28, 42, 180, 0, 111, 162, 0, 82, 4, 62, 3, 54, 4, 21, 4, 42, 180, 0, 126]
abbrev dktX5_fitsTheirs_0 : List UInt8 := dkwX5_fitsTheirs_0 ++ dktX5_fitsTheirs_1
theorem dksX5_fitsTheirs_0 : cX5_fitsTheirs.data.toList.drop 0 = dktX5_fitsTheirs_0 := by decide +kernel
theorem dksX5_fitsTheirs_1 : cX5_fitsTheirs.data.toList.drop 23 = dktX5_fitsTheirs_1 := dk_seg dksX5_fitsTheirs_0 23 rfl rfl
theorem dksX5_fitsTheirs_2 : cX5_fitsTheirs.data.toList.drop 47 = dktX5_fitsTheirs_2 := dk_seg dksX5_fitsTheirs_1 24 rfl rfl
theorem dksX5_fitsTheirs_3 : cX5_fitsTheirs.data.toList.drop 71 = dktX5_fitsTheirs_3 := dk_seg dksX5_fitsTheirs_2 24 rfl rfl
theorem dX5_fitsTheirs_0 : decode cX5_fitsTheirs 0 = .ok (.iconst 0, 1) := dk_3 (dk_at dksX5_fitsTheirs_0 0 rfl rfl)
theorem dX5_fitsTheirs_1 : decode cX5_fitsTheirs 1 = .ok (.istore_n 1, 1) := dk_60 (dk_at dksX5_fitsTheirs_0 1 rfl rfl)
theorem dX5_fitsTheirs_2 : decode cX5_fitsTheirs 2 = .ok (.iconst 0, 1) := dk_3 (dk_at dksX5_fitsTheirs_0 2 rfl rfl)
theorem dX5_fitsTheirs_3 : decode cX5_fitsTheirs 3 = .ok (.istore_n 2, 1) := dk_61 (dk_at dksX5_fitsTheirs_0 3 rfl rfl)
theorem dX5_fitsTheirs_4 : decode cX5_fitsTheirs 4 = .ok (.iload_n 2, 1) := dk_28 (dk_at dksX5_fitsTheirs_0 4 rfl rfl)
theorem dX5_fitsTheirs_5 : decode cX5_fitsTheirs 5 = .ok (.aload_n 0, 1) := dk_42 (dk_at dksX5_fitsTheirs_0 5 rfl rfl)
theorem dX5_fitsTheirs_6 : decode cX5_fitsTheirs 6 = .ok (.getfield 111, 3) := dk_180 0 111 (dk_at dksX5_fitsTheirs_0 6 rfl rfl)
theorem dX5_fitsTheirs_9 : decode cX5_fitsTheirs 9 = .ok (.if_icmp .ge 82, 3) := dk_162 0 82 (dk_at dksX5_fitsTheirs_0 9 rfl rfl)
theorem dX5_fitsTheirs_12 : decode cX5_fitsTheirs 12 = .ok (.iconst 1, 1) := dk_4 (dk_at dksX5_fitsTheirs_0 12 rfl rfl)
theorem dX5_fitsTheirs_13 : decode cX5_fitsTheirs 13 = .ok (.istore_n 3, 1) := dk_62 (dk_at dksX5_fitsTheirs_0 13 rfl rfl)
theorem dX5_fitsTheirs_14 : decode cX5_fitsTheirs 14 = .ok (.iconst 0, 1) := dk_3 (dk_at dksX5_fitsTheirs_0 14 rfl rfl)
theorem dX5_fitsTheirs_15 : decode cX5_fitsTheirs 15 = .ok (.istore 4, 2) := dk_54 4 (dk_at dksX5_fitsTheirs_0 15 rfl rfl)
theorem dX5_fitsTheirs_17 : decode cX5_fitsTheirs 17 = .ok (.iload 4, 2) := dk_21 4 (dk_at dksX5_fitsTheirs_0 17 rfl rfl)
theorem dX5_fitsTheirs_19 : decode cX5_fitsTheirs 19 = .ok (.aload_n 0, 1) := dk_42 (dk_at dksX5_fitsTheirs_0 19 rfl rfl)
theorem dX5_fitsTheirs_20 : decode cX5_fitsTheirs 20 = .ok (.getfield 126, 3) := dk_180 0 126 (dk_at dksX5_fitsTheirs_0 20 rfl rfl)
theorem dX5_fitsTheirs_23 : decode cX5_fitsTheirs 23 = .ok (.if_icmp .ge 48, 3) := dk_162 0 48 (dk_at dksX5_fitsTheirs_1 0 rfl rfl)
theorem dX5_fitsTheirs_26 : decode cX5_fitsTheirs 26 = .ok (.iload_n 3, 1) := dk_29 (dk_at dksX5_fitsTheirs_1 3 rfl rfl)
theorem dX5_fitsTheirs_27 : decode cX5_fitsTheirs 27 = .ok (.ifCond .eq 36, 3) := dk_153 0 36 (dk_at dksX5_fitsTheirs_1 4 rfl rfl)
theorem dX5_fitsTheirs_30 : decode cX5_fitsTheirs 30 = .ok (.aload_n 0, 1) := dk_42 (dk_at dksX5_fitsTheirs_1 7 rfl rfl)
theorem dX5_fitsTheirs_31 : decode cX5_fitsTheirs 31 = .ok (.getfield 40, 3) := dk_180 0 40 (dk_at dksX5_fitsTheirs_1 8 rfl rfl)
theorem dX5_fitsTheirs_34 : decode cX5_fitsTheirs 34 = .ok (.iload_n 2, 1) := dk_28 (dk_at dksX5_fitsTheirs_1 11 rfl rfl)
theorem dX5_fitsTheirs_35 : decode cX5_fitsTheirs 35 = .ok (.iaload, 1) := dk_46 (dk_at dksX5_fitsTheirs_1 12 rfl rfl)
theorem dX5_fitsTheirs_36 : decode cX5_fitsTheirs 36 = .ok (.aload_n 0, 1) := dk_42 (dk_at dksX5_fitsTheirs_1 13 rfl rfl)
theorem dX5_fitsTheirs_37 : decode cX5_fitsTheirs 37 = .ok (.getfield 61, 3) := dk_180 0 61 (dk_at dksX5_fitsTheirs_1 14 rfl rfl)
theorem dX5_fitsTheirs_40 : decode cX5_fitsTheirs 40 = .ok (.iload 4, 2) := dk_21 4 (dk_at dksX5_fitsTheirs_1 17 rfl rfl)
theorem dX5_fitsTheirs_42 : decode cX5_fitsTheirs 42 = .ok (.iaload, 1) := dk_46 (dk_at dksX5_fitsTheirs_1 19 rfl rfl)
theorem dX5_fitsTheirs_43 : decode cX5_fitsTheirs 43 = .ok (.ishr, 1) := dk_122 (dk_at dksX5_fitsTheirs_1 20 rfl rfl)
theorem dX5_fitsTheirs_44 : decode cX5_fitsTheirs 44 = .ok (.iconst 1, 1) := dk_4 (dk_at dksX5_fitsTheirs_1 21 rfl rfl)
theorem dX5_fitsTheirs_45 : decode cX5_fitsTheirs 45 = .ok (.iand, 1) := dk_126 (dk_at dksX5_fitsTheirs_1 22 rfl rfl)
theorem dX5_fitsTheirs_46 : decode cX5_fitsTheirs 46 = .ok (.aload_n 0, 1) := dk_42 (dk_at dksX5_fitsTheirs_1 23 rfl rfl)
theorem dX5_fitsTheirs_47 : decode cX5_fitsTheirs 47 = .ok (.getfield 64, 3) := dk_180 0 64 (dk_at dksX5_fitsTheirs_2 0 rfl rfl)
theorem dX5_fitsTheirs_50 : decode cX5_fitsTheirs 50 = .ok (.iload 4, 2) := dk_21 4 (dk_at dksX5_fitsTheirs_2 3 rfl rfl)
theorem dX5_fitsTheirs_52 : decode cX5_fitsTheirs 52 = .ok (.baload, 1) := dk_51 (dk_at dksX5_fitsTheirs_2 5 rfl rfl)
theorem dX5_fitsTheirs_53 : decode cX5_fitsTheirs 53 = .ok (.invokestatic 254, 3) := dk_184 0 254 (dk_at dksX5_fitsTheirs_2 6 rfl rfl)
theorem dX5_fitsTheirs_56 : decode cX5_fitsTheirs 56 = .ok (.if_icmp .ne 7, 3) := dk_160 0 7 (dk_at dksX5_fitsTheirs_2 9 rfl rfl)
theorem dX5_fitsTheirs_59 : decode cX5_fitsTheirs 59 = .ok (.iconst 1, 1) := dk_4 (dk_at dksX5_fitsTheirs_2 12 rfl rfl)
theorem dX5_fitsTheirs_60 : decode cX5_fitsTheirs 60 = .ok (.goto 4, 3) := dk_167 0 4 (dk_at dksX5_fitsTheirs_2 13 rfl rfl)
theorem dX5_fitsTheirs_63 : decode cX5_fitsTheirs 63 = .ok (.iconst 0, 1) := dk_3 (dk_at dksX5_fitsTheirs_2 16 rfl rfl)
theorem dX5_fitsTheirs_64 : decode cX5_fitsTheirs 64 = .ok (.istore_n 3, 1) := dk_62 (dk_at dksX5_fitsTheirs_2 17 rfl rfl)
theorem dX5_fitsTheirs_65 : decode cX5_fitsTheirs 65 = .ok (.iinc 4 1, 3) := dk_132 4 1 (dk_at dksX5_fitsTheirs_2 18 rfl rfl)
theorem dX5_fitsTheirs_68 : decode cX5_fitsTheirs 68 = .ok (.goto (-51), 3) := dk_167 255 205 (dk_at dksX5_fitsTheirs_2 21 rfl rfl)
theorem dX5_fitsTheirs_71 : decode cX5_fitsTheirs 71 = .ok (.iload_n 1, 1) := dk_27 (dk_at dksX5_fitsTheirs_3 0 rfl rfl)
theorem dX5_fitsTheirs_72 : decode cX5_fitsTheirs 72 = .ok (.iload_n 3, 1) := dk_29 (dk_at dksX5_fitsTheirs_3 1 rfl rfl)
theorem dX5_fitsTheirs_73 : decode cX5_fitsTheirs 73 = .ok (.ifCond .eq 9, 3) := dk_153 0 9 (dk_at dksX5_fitsTheirs_3 2 rfl rfl)
theorem dX5_fitsTheirs_76 : decode cX5_fitsTheirs 76 = .ok (.iconst 1, 1) := dk_4 (dk_at dksX5_fitsTheirs_3 5 rfl rfl)
theorem dX5_fitsTheirs_77 : decode cX5_fitsTheirs 77 = .ok (.iload_n 2, 1) := dk_28 (dk_at dksX5_fitsTheirs_3 6 rfl rfl)
theorem dX5_fitsTheirs_78 : decode cX5_fitsTheirs 78 = .ok (.ishl, 1) := dk_120 (dk_at dksX5_fitsTheirs_3 7 rfl rfl)
theorem dX5_fitsTheirs_79 : decode cX5_fitsTheirs 79 = .ok (.goto 4, 3) := dk_167 0 4 (dk_at dksX5_fitsTheirs_3 8 rfl rfl)
theorem dX5_fitsTheirs_82 : decode cX5_fitsTheirs 82 = .ok (.iconst 0, 1) := dk_3 (dk_at dksX5_fitsTheirs_3 11 rfl rfl)
theorem dX5_fitsTheirs_83 : decode cX5_fitsTheirs 83 = .ok (.ior, 1) := dk_128 (dk_at dksX5_fitsTheirs_3 12 rfl rfl)
theorem dX5_fitsTheirs_84 : decode cX5_fitsTheirs 84 = .ok (.istore_n 1, 1) := dk_60 (dk_at dksX5_fitsTheirs_3 13 rfl rfl)
theorem dX5_fitsTheirs_85 : decode cX5_fitsTheirs 85 = .ok (.iinc 2 1, 3) := dk_132 2 1 (dk_at dksX5_fitsTheirs_3 14 rfl rfl)
theorem dX5_fitsTheirs_88 : decode cX5_fitsTheirs 88 = .ok (.goto (-84), 3) := dk_167 255 172 (dk_at dksX5_fitsTheirs_3 17 rfl rfl)
theorem dX5_fitsTheirs_91 : decode cX5_fitsTheirs 91 = .ok (.iload_n 1, 1) := dk_27 (dk_at dksX5_fitsTheirs_3 20 rfl rfl)
theorem dX5_fitsTheirs_92 : decode cX5_fitsTheirs 92 = .ok (.ireturn, 1) := dk_172 (dk_at dksX5_fitsTheirs_3 21 rfl rfl)
abbrev cX5_toAsk : ByteArray := prog_14_method_87_code
def yX5_toAsk : MethodName := ⟨RX5, "toAsk", "(I)I"⟩
def dkwX5_toAsk_5 : List UInt8 := [21, 6, 167, 0, 4, 29, 62, 132, 4, 1, 167, 255, 136, 28, 172]
abbrev dktX5_toAsk_5 : List UInt8 := dkwX5_toAsk_5 ++ []
def dkwX5_toAsk_4 : List UInt8 := [21, 5, 100, 54, 6, 21, 6, 29, 164, 0, 8, 21, 4, 167, 0, 4, 28, 61, 21, 6, 29, 164, 0, 8]
abbrev dktX5_toAsk_4 : List UInt8 := dkwX5_toAsk_4 ++ dktX5_toAsk_5
def dkwX5_toAsk_3 : List UInt8 := [167, 255, 213, 21, 5, 27, 184, 0, 222, 21, 5, 100, 162, 0, 8, 21, 5, 167, 0, 10, 27, 184, 0, 222]
abbrev dktX5_toAsk_3 : List UInt8 := dkwX5_toAsk_3 ++ dktX5_toAsk_4
def dkwX5_toAsk_2 : List UInt8 := [42, 180, 0, 40, 21, 6, 46, 21, 4, 122, 4, 126, 167, 0, 4, 3, 96, 54, 5, 132, 6, 1]
abbrev dktX5_toAsk_2 : List UInt8 := dkwX5_toAsk_2 ++ dktX5_toAsk_3
def dkwX5_toAsk_1 : List UInt8 := [3, 54, 6, 21, 6, 42, 180, 0, 111, 162, 0, 40, 21, 5, 27, 21, 6, 122, 4, 126, 4, 160, 0, 18]
abbrev dktX5_toAsk_1 : List UInt8 := dkwX5_toAsk_1 ++ dktX5_toAsk_2
def dkwX5_toAsk_0 : List UInt8 := [16, 252, 61, 2, 62, 3, 54, 4, 21, 4, 42, 180, 0, 108, 162, 0, 117, 27, 153, 0, 113, 3, 54, 5]
abbrev dktX5_toAsk_0 : List UInt8 := dkwX5_toAsk_0 ++ dktX5_toAsk_1
theorem dksX5_toAsk_0 : cX5_toAsk.data.toList.drop 0 = dktX5_toAsk_0 := by decide +kernel
theorem dksX5_toAsk_1 : cX5_toAsk.data.toList.drop 24 = dktX5_toAsk_1 := dk_seg dksX5_toAsk_0 24 rfl rfl
theorem dksX5_toAsk_2 : cX5_toAsk.data.toList.drop 48 = dktX5_toAsk_2 := dk_seg dksX5_toAsk_1 24 rfl rfl
theorem dksX5_toAsk_3 : cX5_toAsk.data.toList.drop 70 = dktX5_toAsk_3 := dk_seg dksX5_toAsk_2 22 rfl rfl
theorem dksX5_toAsk_4 : cX5_toAsk.data.toList.drop 94 = dktX5_toAsk_4 := dk_seg dksX5_toAsk_3 24 rfl rfl
theorem dksX5_toAsk_5 : cX5_toAsk.data.toList.drop 118 = dktX5_toAsk_5 := dk_seg dksX5_toAsk_4 24 rfl rfl
theorem dX5_toAsk_0 : decode cX5_toAsk 0 = .ok (.bipush (-4), 2) := dk_16 252 (dk_at dksX5_toAsk_0 0 rfl rfl)
theorem dX5_toAsk_2 : decode cX5_toAsk 2 = .ok (.istore_n 2, 1) := dk_61 (dk_at dksX5_toAsk_0 2 rfl rfl)
theorem dX5_toAsk_3 : decode cX5_toAsk 3 = .ok (.iconst (-1), 1) := dk_2 (dk_at dksX5_toAsk_0 3 rfl rfl)
theorem dX5_toAsk_4 : decode cX5_toAsk 4 = .ok (.istore_n 3, 1) := dk_62 (dk_at dksX5_toAsk_0 4 rfl rfl)
theorem dX5_toAsk_5 : decode cX5_toAsk 5 = .ok (.iconst 0, 1) := dk_3 (dk_at dksX5_toAsk_0 5 rfl rfl)
theorem dX5_toAsk_6 : decode cX5_toAsk 6 = .ok (.istore 4, 2) := dk_54 4 (dk_at dksX5_toAsk_0 6 rfl rfl)
theorem dX5_toAsk_8 : decode cX5_toAsk 8 = .ok (.iload 4, 2) := dk_21 4 (dk_at dksX5_toAsk_0 8 rfl rfl)
theorem dX5_toAsk_10 : decode cX5_toAsk 10 = .ok (.aload_n 0, 1) := dk_42 (dk_at dksX5_toAsk_0 10 rfl rfl)
theorem dX5_toAsk_11 : decode cX5_toAsk 11 = .ok (.getfield 108, 3) := dk_180 0 108 (dk_at dksX5_toAsk_0 11 rfl rfl)
theorem dX5_toAsk_14 : decode cX5_toAsk 14 = .ok (.if_icmp .ge 117, 3) := dk_162 0 117 (dk_at dksX5_toAsk_0 14 rfl rfl)
theorem dX5_toAsk_17 : decode cX5_toAsk 17 = .ok (.iload_n 1, 1) := dk_27 (dk_at dksX5_toAsk_0 17 rfl rfl)
theorem dX5_toAsk_18 : decode cX5_toAsk 18 = .ok (.ifCond .eq 113, 3) := dk_153 0 113 (dk_at dksX5_toAsk_0 18 rfl rfl)
theorem dX5_toAsk_21 : decode cX5_toAsk 21 = .ok (.iconst 0, 1) := dk_3 (dk_at dksX5_toAsk_0 21 rfl rfl)
theorem dX5_toAsk_22 : decode cX5_toAsk 22 = .ok (.istore 5, 2) := dk_54 5 (dk_at dksX5_toAsk_0 22 rfl rfl)
theorem dX5_toAsk_24 : decode cX5_toAsk 24 = .ok (.iconst 0, 1) := dk_3 (dk_at dksX5_toAsk_1 0 rfl rfl)
theorem dX5_toAsk_25 : decode cX5_toAsk 25 = .ok (.istore 6, 2) := dk_54 6 (dk_at dksX5_toAsk_1 1 rfl rfl)
theorem dX5_toAsk_27 : decode cX5_toAsk 27 = .ok (.iload 6, 2) := dk_21 6 (dk_at dksX5_toAsk_1 3 rfl rfl)
theorem dX5_toAsk_29 : decode cX5_toAsk 29 = .ok (.aload_n 0, 1) := dk_42 (dk_at dksX5_toAsk_1 5 rfl rfl)
theorem dX5_toAsk_30 : decode cX5_toAsk 30 = .ok (.getfield 111, 3) := dk_180 0 111 (dk_at dksX5_toAsk_1 6 rfl rfl)
theorem dX5_toAsk_33 : decode cX5_toAsk 33 = .ok (.if_icmp .ge 40, 3) := dk_162 0 40 (dk_at dksX5_toAsk_1 9 rfl rfl)
theorem dX5_toAsk_36 : decode cX5_toAsk 36 = .ok (.iload 5, 2) := dk_21 5 (dk_at dksX5_toAsk_1 12 rfl rfl)
theorem dX5_toAsk_38 : decode cX5_toAsk 38 = .ok (.iload_n 1, 1) := dk_27 (dk_at dksX5_toAsk_1 14 rfl rfl)
theorem dX5_toAsk_39 : decode cX5_toAsk 39 = .ok (.iload 6, 2) := dk_21 6 (dk_at dksX5_toAsk_1 15 rfl rfl)
theorem dX5_toAsk_41 : decode cX5_toAsk 41 = .ok (.ishr, 1) := dk_122 (dk_at dksX5_toAsk_1 17 rfl rfl)
theorem dX5_toAsk_42 : decode cX5_toAsk 42 = .ok (.iconst 1, 1) := dk_4 (dk_at dksX5_toAsk_1 18 rfl rfl)
theorem dX5_toAsk_43 : decode cX5_toAsk 43 = .ok (.iand, 1) := dk_126 (dk_at dksX5_toAsk_1 19 rfl rfl)
theorem dX5_toAsk_44 : decode cX5_toAsk 44 = .ok (.iconst 1, 1) := dk_4 (dk_at dksX5_toAsk_1 20 rfl rfl)
theorem dX5_toAsk_45 : decode cX5_toAsk 45 = .ok (.if_icmp .ne 18, 3) := dk_160 0 18 (dk_at dksX5_toAsk_1 21 rfl rfl)
theorem dX5_toAsk_48 : decode cX5_toAsk 48 = .ok (.aload_n 0, 1) := dk_42 (dk_at dksX5_toAsk_2 0 rfl rfl)
theorem dX5_toAsk_49 : decode cX5_toAsk 49 = .ok (.getfield 40, 3) := dk_180 0 40 (dk_at dksX5_toAsk_2 1 rfl rfl)
theorem dX5_toAsk_52 : decode cX5_toAsk 52 = .ok (.iload 6, 2) := dk_21 6 (dk_at dksX5_toAsk_2 4 rfl rfl)
theorem dX5_toAsk_54 : decode cX5_toAsk 54 = .ok (.iaload, 1) := dk_46 (dk_at dksX5_toAsk_2 6 rfl rfl)
theorem dX5_toAsk_55 : decode cX5_toAsk 55 = .ok (.iload 4, 2) := dk_21 4 (dk_at dksX5_toAsk_2 7 rfl rfl)
theorem dX5_toAsk_57 : decode cX5_toAsk 57 = .ok (.ishr, 1) := dk_122 (dk_at dksX5_toAsk_2 9 rfl rfl)
theorem dX5_toAsk_58 : decode cX5_toAsk 58 = .ok (.iconst 1, 1) := dk_4 (dk_at dksX5_toAsk_2 10 rfl rfl)
theorem dX5_toAsk_59 : decode cX5_toAsk 59 = .ok (.iand, 1) := dk_126 (dk_at dksX5_toAsk_2 11 rfl rfl)
theorem dX5_toAsk_60 : decode cX5_toAsk 60 = .ok (.goto 4, 3) := dk_167 0 4 (dk_at dksX5_toAsk_2 12 rfl rfl)
theorem dX5_toAsk_63 : decode cX5_toAsk 63 = .ok (.iconst 0, 1) := dk_3 (dk_at dksX5_toAsk_2 15 rfl rfl)
theorem dX5_toAsk_64 : decode cX5_toAsk 64 = .ok (.iadd, 1) := dk_96 (dk_at dksX5_toAsk_2 16 rfl rfl)
theorem dX5_toAsk_65 : decode cX5_toAsk 65 = .ok (.istore 5, 2) := dk_54 5 (dk_at dksX5_toAsk_2 17 rfl rfl)
theorem dX5_toAsk_67 : decode cX5_toAsk 67 = .ok (.iinc 6 1, 3) := dk_132 6 1 (dk_at dksX5_toAsk_2 19 rfl rfl)
theorem dX5_toAsk_70 : decode cX5_toAsk 70 = .ok (.goto (-43), 3) := dk_167 255 213 (dk_at dksX5_toAsk_3 0 rfl rfl)
theorem dX5_toAsk_73 : decode cX5_toAsk 73 = .ok (.iload 5, 2) := dk_21 5 (dk_at dksX5_toAsk_3 3 rfl rfl)
theorem dX5_toAsk_75 : decode cX5_toAsk 75 = .ok (.iload_n 1, 1) := dk_27 (dk_at dksX5_toAsk_3 5 rfl rfl)
theorem dX5_toAsk_76 : decode cX5_toAsk 76 = .ok (.invokestatic 222, 3) := dk_184 0 222 (dk_at dksX5_toAsk_3 6 rfl rfl)
theorem dX5_toAsk_79 : decode cX5_toAsk 79 = .ok (.iload 5, 2) := dk_21 5 (dk_at dksX5_toAsk_3 9 rfl rfl)
theorem dX5_toAsk_81 : decode cX5_toAsk 81 = .ok (.isub, 1) := dk_100 (dk_at dksX5_toAsk_3 11 rfl rfl)
theorem dX5_toAsk_82 : decode cX5_toAsk 82 = .ok (.if_icmp .ge 8, 3) := dk_162 0 8 (dk_at dksX5_toAsk_3 12 rfl rfl)
theorem dX5_toAsk_85 : decode cX5_toAsk 85 = .ok (.iload 5, 2) := dk_21 5 (dk_at dksX5_toAsk_3 15 rfl rfl)
theorem dX5_toAsk_87 : decode cX5_toAsk 87 = .ok (.goto 10, 3) := dk_167 0 10 (dk_at dksX5_toAsk_3 17 rfl rfl)
theorem dX5_toAsk_90 : decode cX5_toAsk 90 = .ok (.iload_n 1, 1) := dk_27 (dk_at dksX5_toAsk_3 20 rfl rfl)
theorem dX5_toAsk_91 : decode cX5_toAsk 91 = .ok (.invokestatic 222, 3) := dk_184 0 222 (dk_at dksX5_toAsk_3 21 rfl rfl)
theorem dX5_toAsk_94 : decode cX5_toAsk 94 = .ok (.iload 5, 2) := dk_21 5 (dk_at dksX5_toAsk_4 0 rfl rfl)
theorem dX5_toAsk_96 : decode cX5_toAsk 96 = .ok (.isub, 1) := dk_100 (dk_at dksX5_toAsk_4 2 rfl rfl)
theorem dX5_toAsk_97 : decode cX5_toAsk 97 = .ok (.istore 6, 2) := dk_54 6 (dk_at dksX5_toAsk_4 3 rfl rfl)
theorem dX5_toAsk_99 : decode cX5_toAsk 99 = .ok (.iload 6, 2) := dk_21 6 (dk_at dksX5_toAsk_4 5 rfl rfl)
theorem dX5_toAsk_101 : decode cX5_toAsk 101 = .ok (.iload_n 3, 1) := dk_29 (dk_at dksX5_toAsk_4 7 rfl rfl)
theorem dX5_toAsk_102 : decode cX5_toAsk 102 = .ok (.if_icmp .le 8, 3) := dk_164 0 8 (dk_at dksX5_toAsk_4 8 rfl rfl)
theorem dX5_toAsk_105 : decode cX5_toAsk 105 = .ok (.iload 4, 2) := dk_21 4 (dk_at dksX5_toAsk_4 11 rfl rfl)
theorem dX5_toAsk_107 : decode cX5_toAsk 107 = .ok (.goto 4, 3) := dk_167 0 4 (dk_at dksX5_toAsk_4 13 rfl rfl)
theorem dX5_toAsk_110 : decode cX5_toAsk 110 = .ok (.iload_n 2, 1) := dk_28 (dk_at dksX5_toAsk_4 16 rfl rfl)
theorem dX5_toAsk_111 : decode cX5_toAsk 111 = .ok (.istore_n 2, 1) := dk_61 (dk_at dksX5_toAsk_4 17 rfl rfl)
theorem dX5_toAsk_112 : decode cX5_toAsk 112 = .ok (.iload 6, 2) := dk_21 6 (dk_at dksX5_toAsk_4 18 rfl rfl)
theorem dX5_toAsk_114 : decode cX5_toAsk 114 = .ok (.iload_n 3, 1) := dk_29 (dk_at dksX5_toAsk_4 20 rfl rfl)
theorem dX5_toAsk_115 : decode cX5_toAsk 115 = .ok (.if_icmp .le 8, 3) := dk_164 0 8 (dk_at dksX5_toAsk_4 21 rfl rfl)
theorem dX5_toAsk_118 : decode cX5_toAsk 118 = .ok (.iload 6, 2) := dk_21 6 (dk_at dksX5_toAsk_5 0 rfl rfl)
theorem dX5_toAsk_120 : decode cX5_toAsk 120 = .ok (.goto 4, 3) := dk_167 0 4 (dk_at dksX5_toAsk_5 2 rfl rfl)
theorem dX5_toAsk_123 : decode cX5_toAsk 123 = .ok (.iload_n 3, 1) := dk_29 (dk_at dksX5_toAsk_5 5 rfl rfl)
theorem dX5_toAsk_124 : decode cX5_toAsk 124 = .ok (.istore_n 3, 1) := dk_62 (dk_at dksX5_toAsk_5 6 rfl rfl)
theorem dX5_toAsk_125 : decode cX5_toAsk 125 = .ok (.iinc 4 1, 3) := dk_132 4 1 (dk_at dksX5_toAsk_5 7 rfl rfl)
theorem dX5_toAsk_128 : decode cX5_toAsk 128 = .ok (.goto (-120), 3) := dk_167 255 136 (dk_at dksX5_toAsk_5 10 rfl rfl)
theorem dX5_toAsk_131 : decode cX5_toAsk 131 = .ok (.iload_n 2, 1) := dk_28 (dk_at dksX5_toAsk_5 13 rfl rfl)
theorem dX5_toAsk_132 : decode cX5_toAsk 132 = .ok (.ireturn, 1) := dk_172 (dk_at dksX5_toAsk_5 14 rfl rfl)
abbrev cX5_build : ByteArray := prog_14_method_89_code
def yX5_build : MethodName := ⟨RX5, "build", "(II)I"⟩
def dkwX5_build_9 : List UInt8 := [132, 4, 1, 167, 255, 88, 16, 252, 172]
abbrev dktX5_build_9 : List UInt8 := dkwX5_build_9 ++ []
def dkwX5_build_8 : List UInt8 := [160, 0, 8, 16, 252, 167, 0, 5, 21, 6, 172, 132, 6, 1, 167, 255, 121, 132, 5, 1, 167, 255, 103]
abbrev dktX5_build_8 : List UInt8 := dkwX5_build_8 ++ dktX5_build_9
def dkwX5_build_7 : List UInt8 := [28, 154, 0, 8, 21, 4, 167, 0, 26, 28, 4, 160, 0, 8, 21, 5, 167, 0, 16, 21, 4, 4]
abbrev dktX5_build_7 : List UInt8 := dkwX5_build_7 ++ dktX5_build_8
def dkwX5_build_6 : List UInt8 := [21, 4, 4, 159, 0, 10, 21, 5, 21, 6, 159, 0, 47, 21, 7, 42, 180, 0, 40, 27, 46, 160, 0, 36]
abbrev dktX5_build_6 : List UInt8 := dkwX5_build_6 ++ dktX5_build_7
def dkwX5_build_5 : List UInt8 := [126, 167, 0, 20, 42, 21, 5, 182, 1, 23, 42, 21, 6, 182, 1, 23, 2, 130, 126, 29, 126, 54, 7]
abbrev dktX5_build_5 : List UInt8 := dkwX5_build_5 ++ dktX5_build_6
def dkwX5_build_4 : List UInt8 := [182, 1, 23, 167, 0, 42, 21, 4, 5, 160, 0, 19, 42, 21, 5, 182, 1, 23, 42, 21, 6, 182, 1, 23]
abbrev dktX5_build_4 : List UInt8 := dkwX5_build_4 ++ dktX5_build_5
def dkwX5_build_3 : List UInt8 := [160, 0, 7, 4, 167, 0, 7, 42, 180, 0, 114, 162, 0, 122, 21, 4, 4, 160, 0, 12, 42, 21, 5]
abbrev dktX5_build_3 : List UInt8 := dkwX5_build_3 ++ dktX5_build_4
def dkwX5_build_2 : List UInt8 := [162, 0, 168, 3, 54, 5, 21, 5, 42, 180, 0, 114, 162, 0, 150, 3, 54, 6, 21, 6, 21, 4, 4]
abbrev dktX5_build_2 : List UInt8 := dkwX5_build_2 ++ dktX5_build_3
def dkwX5_build_1 : List UInt8 := [184, 0, 137, 154, 0, 5, 2, 172, 4, 42, 180, 0, 108, 120, 4, 100, 62, 4, 54, 4, 21, 4, 7]
abbrev dktX5_build_1 : List UInt8 := dkwX5_build_1 ++ dktX5_build_2
def dkwX5_build_0 : List UInt8 := [27, 133, 9, 42, 180, 0, 111, 4, 100, 133, 184, 0, 137, 153, 0, 15, 28, 133, 9, 20, 1, 34]
abbrev dktX5_build_0 : List UInt8 := dkwX5_build_0 ++ dktX5_build_1
theorem dksX5_build_0 : cX5_build.data.toList.drop 0 = dktX5_build_0 := by decide +kernel
theorem dksX5_build_1 : cX5_build.data.toList.drop 22 = dktX5_build_1 := dk_seg dksX5_build_0 22 rfl rfl
theorem dksX5_build_2 : cX5_build.data.toList.drop 45 = dktX5_build_2 := dk_seg dksX5_build_1 23 rfl rfl
theorem dksX5_build_3 : cX5_build.data.toList.drop 68 = dktX5_build_3 := dk_seg dksX5_build_2 23 rfl rfl
theorem dksX5_build_4 : cX5_build.data.toList.drop 91 = dktX5_build_4 := dk_seg dksX5_build_3 23 rfl rfl
theorem dksX5_build_5 : cX5_build.data.toList.drop 115 = dktX5_build_5 := dk_seg dksX5_build_4 24 rfl rfl
theorem dksX5_build_6 : cX5_build.data.toList.drop 138 = dktX5_build_6 := dk_seg dksX5_build_5 23 rfl rfl
theorem dksX5_build_7 : cX5_build.data.toList.drop 162 = dktX5_build_7 := dk_seg dksX5_build_6 24 rfl rfl
theorem dksX5_build_8 : cX5_build.data.toList.drop 184 = dktX5_build_8 := dk_seg dksX5_build_7 22 rfl rfl
theorem dksX5_build_9 : cX5_build.data.toList.drop 207 = dktX5_build_9 := dk_seg dksX5_build_8 23 rfl rfl
theorem dX5_build_0 : decode cX5_build 0 = .ok (.iload_n 1, 1) := dk_27 (dk_at dksX5_build_0 0 rfl rfl)
theorem dX5_build_1 : decode cX5_build 1 = .ok (.i2l, 1) := dk_133 (dk_at dksX5_build_0 1 rfl rfl)
theorem dX5_build_2 : decode cX5_build 2 = .ok (.lconst 0, 1) := dk_9 (dk_at dksX5_build_0 2 rfl rfl)
theorem dX5_build_3 : decode cX5_build 3 = .ok (.aload_n 0, 1) := dk_42 (dk_at dksX5_build_0 3 rfl rfl)
theorem dX5_build_4 : decode cX5_build 4 = .ok (.getfield 111, 3) := dk_180 0 111 (dk_at dksX5_build_0 4 rfl rfl)
theorem dX5_build_7 : decode cX5_build 7 = .ok (.iconst 1, 1) := dk_4 (dk_at dksX5_build_0 7 rfl rfl)
theorem dX5_build_8 : decode cX5_build 8 = .ok (.isub, 1) := dk_100 (dk_at dksX5_build_0 8 rfl rfl)
theorem dX5_build_9 : decode cX5_build 9 = .ok (.i2l, 1) := dk_133 (dk_at dksX5_build_0 9 rfl rfl)
theorem dX5_build_10 : decode cX5_build 10 = .ok (.invokestatic 137, 3) := dk_184 0 137 (dk_at dksX5_build_0 10 rfl rfl)
theorem dX5_build_13 : decode cX5_build 13 = .ok (.ifCond .eq 15, 3) := dk_153 0 15 (dk_at dksX5_build_0 13 rfl rfl)
theorem dX5_build_16 : decode cX5_build 16 = .ok (.iload_n 2, 1) := dk_28 (dk_at dksX5_build_0 16 rfl rfl)
theorem dX5_build_17 : decode cX5_build 17 = .ok (.i2l, 1) := dk_133 (dk_at dksX5_build_0 17 rfl rfl)
theorem dX5_build_18 : decode cX5_build 18 = .ok (.lconst 0, 1) := dk_9 (dk_at dksX5_build_0 18 rfl rfl)
theorem dX5_build_19 : decode cX5_build 19 = .ok (.ldc2_w 290, 3) := dk_20 1 34 (dk_at dksX5_build_0 19 rfl rfl)
theorem dX5_build_22 : decode cX5_build 22 = .ok (.invokestatic 137, 3) := dk_184 0 137 (dk_at dksX5_build_1 0 rfl rfl)
theorem dX5_build_25 : decode cX5_build 25 = .ok (.ifCond .ne 5, 3) := dk_154 0 5 (dk_at dksX5_build_1 3 rfl rfl)
theorem dX5_build_28 : decode cX5_build 28 = .ok (.iconst (-1), 1) := dk_2 (dk_at dksX5_build_1 6 rfl rfl)
theorem dX5_build_29 : decode cX5_build 29 = .ok (.ireturn, 1) := dk_172 (dk_at dksX5_build_1 7 rfl rfl)
theorem dX5_build_30 : decode cX5_build 30 = .ok (.iconst 1, 1) := dk_4 (dk_at dksX5_build_1 8 rfl rfl)
theorem dX5_build_31 : decode cX5_build 31 = .ok (.aload_n 0, 1) := dk_42 (dk_at dksX5_build_1 9 rfl rfl)
theorem dX5_build_32 : decode cX5_build 32 = .ok (.getfield 108, 3) := dk_180 0 108 (dk_at dksX5_build_1 10 rfl rfl)
theorem dX5_build_35 : decode cX5_build 35 = .ok (.ishl, 1) := dk_120 (dk_at dksX5_build_1 13 rfl rfl)
theorem dX5_build_36 : decode cX5_build 36 = .ok (.iconst 1, 1) := dk_4 (dk_at dksX5_build_1 14 rfl rfl)
theorem dX5_build_37 : decode cX5_build 37 = .ok (.isub, 1) := dk_100 (dk_at dksX5_build_1 15 rfl rfl)
theorem dX5_build_38 : decode cX5_build 38 = .ok (.istore_n 3, 1) := dk_62 (dk_at dksX5_build_1 16 rfl rfl)
theorem dX5_build_39 : decode cX5_build 39 = .ok (.iconst 1, 1) := dk_4 (dk_at dksX5_build_1 17 rfl rfl)
theorem dX5_build_40 : decode cX5_build 40 = .ok (.istore 4, 2) := dk_54 4 (dk_at dksX5_build_1 18 rfl rfl)
theorem dX5_build_42 : decode cX5_build 42 = .ok (.iload 4, 2) := dk_21 4 (dk_at dksX5_build_1 20 rfl rfl)
theorem dX5_build_44 : decode cX5_build 44 = .ok (.iconst 4, 1) := dk_7 (dk_at dksX5_build_1 22 rfl rfl)
theorem dX5_build_45 : decode cX5_build 45 = .ok (.if_icmp .ge 168, 3) := dk_162 0 168 (dk_at dksX5_build_2 0 rfl rfl)
theorem dX5_build_48 : decode cX5_build 48 = .ok (.iconst 0, 1) := dk_3 (dk_at dksX5_build_2 3 rfl rfl)
theorem dX5_build_49 : decode cX5_build 49 = .ok (.istore 5, 2) := dk_54 5 (dk_at dksX5_build_2 4 rfl rfl)
theorem dX5_build_51 : decode cX5_build 51 = .ok (.iload 5, 2) := dk_21 5 (dk_at dksX5_build_2 6 rfl rfl)
theorem dX5_build_53 : decode cX5_build 53 = .ok (.aload_n 0, 1) := dk_42 (dk_at dksX5_build_2 8 rfl rfl)
theorem dX5_build_54 : decode cX5_build 54 = .ok (.getfield 114, 3) := dk_180 0 114 (dk_at dksX5_build_2 9 rfl rfl)
theorem dX5_build_57 : decode cX5_build 57 = .ok (.if_icmp .ge 150, 3) := dk_162 0 150 (dk_at dksX5_build_2 12 rfl rfl)
theorem dX5_build_60 : decode cX5_build 60 = .ok (.iconst 0, 1) := dk_3 (dk_at dksX5_build_2 15 rfl rfl)
theorem dX5_build_61 : decode cX5_build 61 = .ok (.istore 6, 2) := dk_54 6 (dk_at dksX5_build_2 16 rfl rfl)
theorem dX5_build_63 : decode cX5_build 63 = .ok (.iload 6, 2) := dk_21 6 (dk_at dksX5_build_2 18 rfl rfl)
theorem dX5_build_65 : decode cX5_build 65 = .ok (.iload 4, 2) := dk_21 4 (dk_at dksX5_build_2 20 rfl rfl)
theorem dX5_build_67 : decode cX5_build 67 = .ok (.iconst 1, 1) := dk_4 (dk_at dksX5_build_2 22 rfl rfl)
theorem dX5_build_68 : decode cX5_build 68 = .ok (.if_icmp .ne 7, 3) := dk_160 0 7 (dk_at dksX5_build_3 0 rfl rfl)
theorem dX5_build_71 : decode cX5_build 71 = .ok (.iconst 1, 1) := dk_4 (dk_at dksX5_build_3 3 rfl rfl)
theorem dX5_build_72 : decode cX5_build 72 = .ok (.goto 7, 3) := dk_167 0 7 (dk_at dksX5_build_3 4 rfl rfl)
theorem dX5_build_75 : decode cX5_build 75 = .ok (.aload_n 0, 1) := dk_42 (dk_at dksX5_build_3 7 rfl rfl)
theorem dX5_build_76 : decode cX5_build 76 = .ok (.getfield 114, 3) := dk_180 0 114 (dk_at dksX5_build_3 8 rfl rfl)
theorem dX5_build_79 : decode cX5_build 79 = .ok (.if_icmp .ge 122, 3) := dk_162 0 122 (dk_at dksX5_build_3 11 rfl rfl)
theorem dX5_build_82 : decode cX5_build 82 = .ok (.iload 4, 2) := dk_21 4 (dk_at dksX5_build_3 14 rfl rfl)
theorem dX5_build_84 : decode cX5_build 84 = .ok (.iconst 1, 1) := dk_4 (dk_at dksX5_build_3 16 rfl rfl)
theorem dX5_build_85 : decode cX5_build 85 = .ok (.if_icmp .ne 12, 3) := dk_160 0 12 (dk_at dksX5_build_3 17 rfl rfl)
theorem dX5_build_88 : decode cX5_build 88 = .ok (.aload_n 0, 1) := dk_42 (dk_at dksX5_build_3 20 rfl rfl)
theorem dX5_build_89 : decode cX5_build 89 = .ok (.iload 5, 2) := dk_21 5 (dk_at dksX5_build_3 21 rfl rfl)
theorem dX5_build_91 : decode cX5_build 91 = .ok (.invokevirtual 279, 3) := dk_182 1 23 (dk_at dksX5_build_4 0 rfl rfl)
theorem dX5_build_94 : decode cX5_build 94 = .ok (.goto 42, 3) := dk_167 0 42 (dk_at dksX5_build_4 3 rfl rfl)
theorem dX5_build_97 : decode cX5_build 97 = .ok (.iload 4, 2) := dk_21 4 (dk_at dksX5_build_4 6 rfl rfl)
theorem dX5_build_99 : decode cX5_build 99 = .ok (.iconst 2, 1) := dk_5 (dk_at dksX5_build_4 8 rfl rfl)
theorem dX5_build_100 : decode cX5_build 100 = .ok (.if_icmp .ne 19, 3) := dk_160 0 19 (dk_at dksX5_build_4 9 rfl rfl)
theorem dX5_build_103 : decode cX5_build 103 = .ok (.aload_n 0, 1) := dk_42 (dk_at dksX5_build_4 12 rfl rfl)
theorem dX5_build_104 : decode cX5_build 104 = .ok (.iload 5, 2) := dk_21 5 (dk_at dksX5_build_4 13 rfl rfl)
theorem dX5_build_106 : decode cX5_build 106 = .ok (.invokevirtual 279, 3) := dk_182 1 23 (dk_at dksX5_build_4 15 rfl rfl)
theorem dX5_build_109 : decode cX5_build 109 = .ok (.aload_n 0, 1) := dk_42 (dk_at dksX5_build_4 18 rfl rfl)
theorem dX5_build_110 : decode cX5_build 110 = .ok (.iload 6, 2) := dk_21 6 (dk_at dksX5_build_4 19 rfl rfl)
theorem dX5_build_112 : decode cX5_build 112 = .ok (.invokevirtual 279, 3) := dk_182 1 23 (dk_at dksX5_build_4 21 rfl rfl)
theorem dX5_build_115 : decode cX5_build 115 = .ok (.iand, 1) := dk_126 (dk_at dksX5_build_5 0 rfl rfl)
theorem dX5_build_116 : decode cX5_build 116 = .ok (.goto 20, 3) := dk_167 0 20 (dk_at dksX5_build_5 1 rfl rfl)
theorem dX5_build_119 : decode cX5_build 119 = .ok (.aload_n 0, 1) := dk_42 (dk_at dksX5_build_5 4 rfl rfl)
theorem dX5_build_120 : decode cX5_build 120 = .ok (.iload 5, 2) := dk_21 5 (dk_at dksX5_build_5 5 rfl rfl)
theorem dX5_build_122 : decode cX5_build 122 = .ok (.invokevirtual 279, 3) := dk_182 1 23 (dk_at dksX5_build_5 7 rfl rfl)
theorem dX5_build_125 : decode cX5_build 125 = .ok (.aload_n 0, 1) := dk_42 (dk_at dksX5_build_5 10 rfl rfl)
theorem dX5_build_126 : decode cX5_build 126 = .ok (.iload 6, 2) := dk_21 6 (dk_at dksX5_build_5 11 rfl rfl)
theorem dX5_build_128 : decode cX5_build 128 = .ok (.invokevirtual 279, 3) := dk_182 1 23 (dk_at dksX5_build_5 13 rfl rfl)
theorem dX5_build_131 : decode cX5_build 131 = .ok (.iconst (-1), 1) := dk_2 (dk_at dksX5_build_5 16 rfl rfl)
theorem dX5_build_132 : decode cX5_build 132 = .ok (.ixor, 1) := dk_130 (dk_at dksX5_build_5 17 rfl rfl)
theorem dX5_build_133 : decode cX5_build 133 = .ok (.iand, 1) := dk_126 (dk_at dksX5_build_5 18 rfl rfl)
theorem dX5_build_134 : decode cX5_build 134 = .ok (.iload_n 3, 1) := dk_29 (dk_at dksX5_build_5 19 rfl rfl)
theorem dX5_build_135 : decode cX5_build 135 = .ok (.iand, 1) := dk_126 (dk_at dksX5_build_5 20 rfl rfl)
theorem dX5_build_136 : decode cX5_build 136 = .ok (.istore 7, 2) := dk_54 7 (dk_at dksX5_build_5 21 rfl rfl)
theorem dX5_build_138 : decode cX5_build 138 = .ok (.iload 4, 2) := dk_21 4 (dk_at dksX5_build_6 0 rfl rfl)
theorem dX5_build_140 : decode cX5_build 140 = .ok (.iconst 1, 1) := dk_4 (dk_at dksX5_build_6 2 rfl rfl)
theorem dX5_build_141 : decode cX5_build 141 = .ok (.if_icmp .eq 10, 3) := dk_159 0 10 (dk_at dksX5_build_6 3 rfl rfl)
theorem dX5_build_144 : decode cX5_build 144 = .ok (.iload 5, 2) := dk_21 5 (dk_at dksX5_build_6 6 rfl rfl)
theorem dX5_build_146 : decode cX5_build 146 = .ok (.iload 6, 2) := dk_21 6 (dk_at dksX5_build_6 8 rfl rfl)
theorem dX5_build_148 : decode cX5_build 148 = .ok (.if_icmp .eq 47, 3) := dk_159 0 47 (dk_at dksX5_build_6 10 rfl rfl)
theorem dX5_build_151 : decode cX5_build 151 = .ok (.iload 7, 2) := dk_21 7 (dk_at dksX5_build_6 13 rfl rfl)
theorem dX5_build_153 : decode cX5_build 153 = .ok (.aload_n 0, 1) := dk_42 (dk_at dksX5_build_6 15 rfl rfl)
theorem dX5_build_154 : decode cX5_build 154 = .ok (.getfield 40, 3) := dk_180 0 40 (dk_at dksX5_build_6 16 rfl rfl)
theorem dX5_build_157 : decode cX5_build 157 = .ok (.iload_n 1, 1) := dk_27 (dk_at dksX5_build_6 19 rfl rfl)
theorem dX5_build_158 : decode cX5_build 158 = .ok (.iaload, 1) := dk_46 (dk_at dksX5_build_6 20 rfl rfl)
theorem dX5_build_159 : decode cX5_build 159 = .ok (.if_icmp .ne 36, 3) := dk_160 0 36 (dk_at dksX5_build_6 21 rfl rfl)
theorem dX5_build_162 : decode cX5_build 162 = .ok (.iload_n 2, 1) := dk_28 (dk_at dksX5_build_7 0 rfl rfl)
theorem dX5_build_163 : decode cX5_build 163 = .ok (.ifCond .ne 8, 3) := dk_154 0 8 (dk_at dksX5_build_7 1 rfl rfl)
theorem dX5_build_166 : decode cX5_build 166 = .ok (.iload 4, 2) := dk_21 4 (dk_at dksX5_build_7 4 rfl rfl)
theorem dX5_build_168 : decode cX5_build 168 = .ok (.goto 26, 3) := dk_167 0 26 (dk_at dksX5_build_7 6 rfl rfl)
theorem dX5_build_171 : decode cX5_build 171 = .ok (.iload_n 2, 1) := dk_28 (dk_at dksX5_build_7 9 rfl rfl)
theorem dX5_build_172 : decode cX5_build 172 = .ok (.iconst 1, 1) := dk_4 (dk_at dksX5_build_7 10 rfl rfl)
theorem dX5_build_173 : decode cX5_build 173 = .ok (.if_icmp .ne 8, 3) := dk_160 0 8 (dk_at dksX5_build_7 11 rfl rfl)
theorem dX5_build_176 : decode cX5_build 176 = .ok (.iload 5, 2) := dk_21 5 (dk_at dksX5_build_7 14 rfl rfl)
theorem dX5_build_178 : decode cX5_build 178 = .ok (.goto 16, 3) := dk_167 0 16 (dk_at dksX5_build_7 16 rfl rfl)
theorem dX5_build_181 : decode cX5_build 181 = .ok (.iload 4, 2) := dk_21 4 (dk_at dksX5_build_7 19 rfl rfl)
theorem dX5_build_183 : decode cX5_build 183 = .ok (.iconst 1, 1) := dk_4 (dk_at dksX5_build_7 21 rfl rfl)
theorem dX5_build_184 : decode cX5_build 184 = .ok (.if_icmp .ne 8, 3) := dk_160 0 8 (dk_at dksX5_build_8 0 rfl rfl)
theorem dX5_build_187 : decode cX5_build 187 = .ok (.bipush (-4), 2) := dk_16 252 (dk_at dksX5_build_8 3 rfl rfl)
theorem dX5_build_189 : decode cX5_build 189 = .ok (.goto 5, 3) := dk_167 0 5 (dk_at dksX5_build_8 5 rfl rfl)
theorem dX5_build_192 : decode cX5_build 192 = .ok (.iload 6, 2) := dk_21 6 (dk_at dksX5_build_8 8 rfl rfl)
theorem dX5_build_194 : decode cX5_build 194 = .ok (.ireturn, 1) := dk_172 (dk_at dksX5_build_8 10 rfl rfl)
theorem dX5_build_195 : decode cX5_build 195 = .ok (.iinc 6 1, 3) := dk_132 6 1 (dk_at dksX5_build_8 11 rfl rfl)
theorem dX5_build_198 : decode cX5_build 198 = .ok (.goto (-135), 3) := dk_167 255 121 (dk_at dksX5_build_8 14 rfl rfl)
theorem dX5_build_201 : decode cX5_build 201 = .ok (.iinc 5 1, 3) := dk_132 5 1 (dk_at dksX5_build_8 17 rfl rfl)
theorem dX5_build_204 : decode cX5_build 204 = .ok (.goto (-153), 3) := dk_167 255 103 (dk_at dksX5_build_8 20 rfl rfl)
theorem dX5_build_207 : decode cX5_build 207 = .ok (.iinc 4 1, 3) := dk_132 4 1 (dk_at dksX5_build_9 0 rfl rfl)
theorem dX5_build_210 : decode cX5_build 210 = .ok (.goto (-168), 3) := dk_167 255 88 (dk_at dksX5_build_9 3 rfl rfl)
theorem dX5_build_213 : decode cX5_build 213 = .ok (.bipush (-4), 2) := dk_16 252 (dk_at dksX5_build_9 6 rfl rfl)
theorem dX5_build_215 : decode cX5_build 215 = .ok (.ireturn, 1) := dk_172 (dk_at dksX5_build_9 8 rfl rfl)
abbrev cX5_draw : ByteArray := prog_14_method_90_code
def yX5_draw : MethodName := ⟨RX5, "draw", "(I)I"⟩
def dkwX5_draw_2 : List UInt8 := [161, 0, 22, 28, 42, 180, 0, 22, 8, 29, 104, 7, 96, 46, 100, 61, 132, 3, 1, 167, 255, 226, 29, 172]
abbrev dktX5_draw_2 : List UInt8 := dkwX5_draw_2 ++ []
def dkwX5_draw_1 : List UInt8 := [17, 127, 255, 126, 42, 182, 1, 71, 112, 61, 3, 62, 28, 42, 180, 0, 22, 8, 29, 104, 7, 96, 46]
abbrev dktX5_draw_1 : List UInt8 := dkwX5_draw_1 ++ dktX5_draw_2
def dkwX5_draw_0 : List UInt8 := [42, 182, 1, 71, 154, 0, 6, 16, 252, 172, 27, 19, 1, 92, 104, 17, 48, 57, 96, 16, 16, 122]
abbrev dktX5_draw_0 : List UInt8 := dkwX5_draw_0 ++ dktX5_draw_1
theorem dksX5_draw_0 : cX5_draw.data.toList.drop 0 = dktX5_draw_0 := by decide +kernel
theorem dksX5_draw_1 : cX5_draw.data.toList.drop 22 = dktX5_draw_1 := dk_seg dksX5_draw_0 22 rfl rfl
theorem dksX5_draw_2 : cX5_draw.data.toList.drop 45 = dktX5_draw_2 := dk_seg dksX5_draw_1 23 rfl rfl
theorem dX5_draw_0 : decode cX5_draw 0 = .ok (.aload_n 0, 1) := dk_42 (dk_at dksX5_draw_0 0 rfl rfl)
theorem dX5_draw_1 : decode cX5_draw 1 = .ok (.invokevirtual 327, 3) := dk_182 1 71 (dk_at dksX5_draw_0 1 rfl rfl)
theorem dX5_draw_4 : decode cX5_draw 4 = .ok (.ifCond .ne 6, 3) := dk_154 0 6 (dk_at dksX5_draw_0 4 rfl rfl)
theorem dX5_draw_7 : decode cX5_draw 7 = .ok (.bipush (-4), 2) := dk_16 252 (dk_at dksX5_draw_0 7 rfl rfl)
theorem dX5_draw_9 : decode cX5_draw 9 = .ok (.ireturn, 1) := dk_172 (dk_at dksX5_draw_0 9 rfl rfl)
theorem dX5_draw_10 : decode cX5_draw 10 = .ok (.iload_n 1, 1) := dk_27 (dk_at dksX5_draw_0 10 rfl rfl)
theorem dX5_draw_11 : decode cX5_draw 11 = .ok (.ldc_w 348, 3) := dk_19 1 92 (dk_at dksX5_draw_0 11 rfl rfl)
theorem dX5_draw_14 : decode cX5_draw 14 = .ok (.imul, 1) := dk_104 (dk_at dksX5_draw_0 14 rfl rfl)
theorem dX5_draw_15 : decode cX5_draw 15 = .ok (.sipush 12345, 3) := dk_17 48 57 (dk_at dksX5_draw_0 15 rfl rfl)
theorem dX5_draw_18 : decode cX5_draw 18 = .ok (.iadd, 1) := dk_96 (dk_at dksX5_draw_0 18 rfl rfl)
theorem dX5_draw_19 : decode cX5_draw 19 = .ok (.bipush 16, 2) := dk_16 16 (dk_at dksX5_draw_0 19 rfl rfl)
theorem dX5_draw_21 : decode cX5_draw 21 = .ok (.ishr, 1) := dk_122 (dk_at dksX5_draw_0 21 rfl rfl)
theorem dX5_draw_22 : decode cX5_draw 22 = .ok (.sipush 32767, 3) := dk_17 127 255 (dk_at dksX5_draw_1 0 rfl rfl)
theorem dX5_draw_25 : decode cX5_draw 25 = .ok (.iand, 1) := dk_126 (dk_at dksX5_draw_1 3 rfl rfl)
theorem dX5_draw_26 : decode cX5_draw 26 = .ok (.aload_n 0, 1) := dk_42 (dk_at dksX5_draw_1 4 rfl rfl)
theorem dX5_draw_27 : decode cX5_draw 27 = .ok (.invokevirtual 327, 3) := dk_182 1 71 (dk_at dksX5_draw_1 5 rfl rfl)
theorem dX5_draw_30 : decode cX5_draw 30 = .ok (.irem, 1) := dk_112 (dk_at dksX5_draw_1 8 rfl rfl)
theorem dX5_draw_31 : decode cX5_draw 31 = .ok (.istore_n 2, 1) := dk_61 (dk_at dksX5_draw_1 9 rfl rfl)
theorem dX5_draw_32 : decode cX5_draw 32 = .ok (.iconst 0, 1) := dk_3 (dk_at dksX5_draw_1 10 rfl rfl)
theorem dX5_draw_33 : decode cX5_draw 33 = .ok (.istore_n 3, 1) := dk_62 (dk_at dksX5_draw_1 11 rfl rfl)
theorem dX5_draw_34 : decode cX5_draw 34 = .ok (.iload_n 2, 1) := dk_28 (dk_at dksX5_draw_1 12 rfl rfl)
theorem dX5_draw_35 : decode cX5_draw 35 = .ok (.aload_n 0, 1) := dk_42 (dk_at dksX5_draw_1 13 rfl rfl)
theorem dX5_draw_36 : decode cX5_draw 36 = .ok (.getfield 22, 3) := dk_180 0 22 (dk_at dksX5_draw_1 14 rfl rfl)
theorem dX5_draw_39 : decode cX5_draw 39 = .ok (.iconst 5, 1) := dk_8 (dk_at dksX5_draw_1 17 rfl rfl)
theorem dX5_draw_40 : decode cX5_draw 40 = .ok (.iload_n 3, 1) := dk_29 (dk_at dksX5_draw_1 18 rfl rfl)
theorem dX5_draw_41 : decode cX5_draw 41 = .ok (.imul, 1) := dk_104 (dk_at dksX5_draw_1 19 rfl rfl)
theorem dX5_draw_42 : decode cX5_draw 42 = .ok (.iconst 4, 1) := dk_7 (dk_at dksX5_draw_1 20 rfl rfl)
theorem dX5_draw_43 : decode cX5_draw 43 = .ok (.iadd, 1) := dk_96 (dk_at dksX5_draw_1 21 rfl rfl)
theorem dX5_draw_44 : decode cX5_draw 44 = .ok (.iaload, 1) := dk_46 (dk_at dksX5_draw_1 22 rfl rfl)
theorem dX5_draw_45 : decode cX5_draw 45 = .ok (.if_icmp .lt 22, 3) := dk_161 0 22 (dk_at dksX5_draw_2 0 rfl rfl)
theorem dX5_draw_48 : decode cX5_draw 48 = .ok (.iload_n 2, 1) := dk_28 (dk_at dksX5_draw_2 3 rfl rfl)
theorem dX5_draw_49 : decode cX5_draw 49 = .ok (.aload_n 0, 1) := dk_42 (dk_at dksX5_draw_2 4 rfl rfl)
theorem dX5_draw_50 : decode cX5_draw 50 = .ok (.getfield 22, 3) := dk_180 0 22 (dk_at dksX5_draw_2 5 rfl rfl)
theorem dX5_draw_53 : decode cX5_draw 53 = .ok (.iconst 5, 1) := dk_8 (dk_at dksX5_draw_2 8 rfl rfl)
theorem dX5_draw_54 : decode cX5_draw 54 = .ok (.iload_n 3, 1) := dk_29 (dk_at dksX5_draw_2 9 rfl rfl)
theorem dX5_draw_55 : decode cX5_draw 55 = .ok (.imul, 1) := dk_104 (dk_at dksX5_draw_2 10 rfl rfl)
theorem dX5_draw_56 : decode cX5_draw 56 = .ok (.iconst 4, 1) := dk_7 (dk_at dksX5_draw_2 11 rfl rfl)
theorem dX5_draw_57 : decode cX5_draw 57 = .ok (.iadd, 1) := dk_96 (dk_at dksX5_draw_2 12 rfl rfl)
theorem dX5_draw_58 : decode cX5_draw 58 = .ok (.iaload, 1) := dk_46 (dk_at dksX5_draw_2 13 rfl rfl)
theorem dX5_draw_59 : decode cX5_draw 59 = .ok (.isub, 1) := dk_100 (dk_at dksX5_draw_2 14 rfl rfl)
theorem dX5_draw_60 : decode cX5_draw 60 = .ok (.istore_n 2, 1) := dk_61 (dk_at dksX5_draw_2 15 rfl rfl)
theorem dX5_draw_61 : decode cX5_draw 61 = .ok (.iinc 3 1, 3) := dk_132 3 1 (dk_at dksX5_draw_2 16 rfl rfl)
theorem dX5_draw_64 : decode cX5_draw 64 = .ok (.goto (-30), 3) := dk_167 255 226 (dk_at dksX5_draw_2 19 rfl rfl)
theorem dX5_draw_67 : decode cX5_draw 67 = .ok (.iload_n 3, 1) := dk_29 (dk_at dksX5_draw_2 22 rfl rfl)
theorem dX5_draw_68 : decode cX5_draw 68 = .ok (.ireturn, 1) := dk_172 (dk_at dksX5_draw_2 23 rfl rfl)
abbrev cX5_keep : ByteArray := prog_14_method_91_code
def yX5_keep : MethodName := ⟨RX5, "keep", "(I)I"⟩
def dkwX5_keep_6 : List UInt8 := [180, 0, 64, 29, 51, 184, 0, 254, 79, 132, 3, 1, 167, 255, 204, 28, 172]
abbrev dktX5_keep_6 : List UInt8 := dkwX5_keep_6 ++ []
def dkwX5_keep_5 : List UInt8 := [104, 96, 42, 180, 0, 61, 29, 46, 79, 42, 180, 0, 77, 16, 24, 27, 104, 5, 29, 104, 96, 4, 96, 42]
abbrev dktX5_keep_5 : List UInt8 := dkwX5_keep_5 ++ dktX5_keep_6
def dkwX5_keep_4 : List UInt8 := [132, 3, 1, 167, 255, 230, 3, 62, 29, 16, 12, 162, 0, 52, 42, 180, 0, 77, 16, 24, 27, 104, 5, 29]
abbrev dktX5_keep_4 : List UInt8 := dkwX5_keep_4 ++ dktX5_keep_5
def dkwX5_keep_3 : List UInt8 := [29, 16, 72, 162, 0, 26, 42, 180, 0, 74, 16, 72, 27, 104, 29, 96, 42, 180, 0, 49, 29, 46, 79]
abbrev dktX5_keep_3 : List UInt8 := dkwX5_keep_3 ++ dktX5_keep_4
def dkwX5_keep_2 : List UInt8 := [104, 4, 96, 42, 180, 0, 123, 79, 42, 180, 0, 71, 6, 27, 104, 5, 96, 42, 180, 0, 126, 79, 3, 62]
abbrev dktX5_keep_2 : List UInt8 := dkwX5_keep_2 ++ dktX5_keep_3
def dkwX5_keep_1 : List UInt8 := [180, 0, 68, 27, 4, 84, 42, 180, 0, 71, 6, 27, 104, 42, 180, 0, 120, 79, 42, 180, 0, 71, 6, 27]
abbrev dktX5_keep_1 : List UInt8 := dkwX5_keep_1 ++ dktX5_keep_2
def dkwX5_keep_0 : List UInt8 := [27, 133, 9, 10, 184, 0, 137, 154, 0, 5, 2, 172, 42, 180, 0, 68, 27, 51, 184, 0, 254, 61, 42]
abbrev dktX5_keep_0 : List UInt8 := dkwX5_keep_0 ++ dktX5_keep_1
theorem dksX5_keep_0 : cX5_keep.data.toList.drop 0 = dktX5_keep_0 := by decide +kernel
theorem dksX5_keep_1 : cX5_keep.data.toList.drop 23 = dktX5_keep_1 := dk_seg dksX5_keep_0 23 rfl rfl
theorem dksX5_keep_2 : cX5_keep.data.toList.drop 47 = dktX5_keep_2 := dk_seg dksX5_keep_1 24 rfl rfl
theorem dksX5_keep_3 : cX5_keep.data.toList.drop 71 = dktX5_keep_3 := dk_seg dksX5_keep_2 24 rfl rfl
theorem dksX5_keep_4 : cX5_keep.data.toList.drop 94 = dktX5_keep_4 := dk_seg dksX5_keep_3 23 rfl rfl
theorem dksX5_keep_5 : cX5_keep.data.toList.drop 118 = dktX5_keep_5 := dk_seg dksX5_keep_4 24 rfl rfl
theorem dksX5_keep_6 : cX5_keep.data.toList.drop 142 = dktX5_keep_6 := dk_seg dksX5_keep_5 24 rfl rfl
theorem dX5_keep_0 : decode cX5_keep 0 = .ok (.iload_n 1, 1) := dk_27 (dk_at dksX5_keep_0 0 rfl rfl)
theorem dX5_keep_1 : decode cX5_keep 1 = .ok (.i2l, 1) := dk_133 (dk_at dksX5_keep_0 1 rfl rfl)
theorem dX5_keep_2 : decode cX5_keep 2 = .ok (.lconst 0, 1) := dk_9 (dk_at dksX5_keep_0 2 rfl rfl)
theorem dX5_keep_3 : decode cX5_keep 3 = .ok (.lconst 1, 1) := dk_10 (dk_at dksX5_keep_0 3 rfl rfl)
theorem dX5_keep_4 : decode cX5_keep 4 = .ok (.invokestatic 137, 3) := dk_184 0 137 (dk_at dksX5_keep_0 4 rfl rfl)
theorem dX5_keep_7 : decode cX5_keep 7 = .ok (.ifCond .ne 5, 3) := dk_154 0 5 (dk_at dksX5_keep_0 7 rfl rfl)
theorem dX5_keep_10 : decode cX5_keep 10 = .ok (.iconst (-1), 1) := dk_2 (dk_at dksX5_keep_0 10 rfl rfl)
theorem dX5_keep_11 : decode cX5_keep 11 = .ok (.ireturn, 1) := dk_172 (dk_at dksX5_keep_0 11 rfl rfl)
theorem dX5_keep_12 : decode cX5_keep 12 = .ok (.aload_n 0, 1) := dk_42 (dk_at dksX5_keep_0 12 rfl rfl)
theorem dX5_keep_13 : decode cX5_keep 13 = .ok (.getfield 68, 3) := dk_180 0 68 (dk_at dksX5_keep_0 13 rfl rfl)
theorem dX5_keep_16 : decode cX5_keep 16 = .ok (.iload_n 1, 1) := dk_27 (dk_at dksX5_keep_0 16 rfl rfl)
theorem dX5_keep_17 : decode cX5_keep 17 = .ok (.baload, 1) := dk_51 (dk_at dksX5_keep_0 17 rfl rfl)
theorem dX5_keep_18 : decode cX5_keep 18 = .ok (.invokestatic 254, 3) := dk_184 0 254 (dk_at dksX5_keep_0 18 rfl rfl)
theorem dX5_keep_21 : decode cX5_keep 21 = .ok (.istore_n 2, 1) := dk_61 (dk_at dksX5_keep_0 21 rfl rfl)
theorem dX5_keep_22 : decode cX5_keep 22 = .ok (.aload_n 0, 1) := dk_42 (dk_at dksX5_keep_0 22 rfl rfl)
theorem dX5_keep_23 : decode cX5_keep 23 = .ok (.getfield 68, 3) := dk_180 0 68 (dk_at dksX5_keep_1 0 rfl rfl)
theorem dX5_keep_26 : decode cX5_keep 26 = .ok (.iload_n 1, 1) := dk_27 (dk_at dksX5_keep_1 3 rfl rfl)
theorem dX5_keep_27 : decode cX5_keep 27 = .ok (.iconst 1, 1) := dk_4 (dk_at dksX5_keep_1 4 rfl rfl)
theorem dX5_keep_28 : decode cX5_keep 28 = .ok (.bastore, 1) := dk_84 (dk_at dksX5_keep_1 5 rfl rfl)
theorem dX5_keep_29 : decode cX5_keep 29 = .ok (.aload_n 0, 1) := dk_42 (dk_at dksX5_keep_1 6 rfl rfl)
theorem dX5_keep_30 : decode cX5_keep 30 = .ok (.getfield 71, 3) := dk_180 0 71 (dk_at dksX5_keep_1 7 rfl rfl)
theorem dX5_keep_33 : decode cX5_keep 33 = .ok (.iconst 3, 1) := dk_6 (dk_at dksX5_keep_1 10 rfl rfl)
theorem dX5_keep_34 : decode cX5_keep 34 = .ok (.iload_n 1, 1) := dk_27 (dk_at dksX5_keep_1 11 rfl rfl)
theorem dX5_keep_35 : decode cX5_keep 35 = .ok (.imul, 1) := dk_104 (dk_at dksX5_keep_1 12 rfl rfl)
theorem dX5_keep_36 : decode cX5_keep 36 = .ok (.aload_n 0, 1) := dk_42 (dk_at dksX5_keep_1 13 rfl rfl)
theorem dX5_keep_37 : decode cX5_keep 37 = .ok (.getfield 120, 3) := dk_180 0 120 (dk_at dksX5_keep_1 14 rfl rfl)
theorem dX5_keep_40 : decode cX5_keep 40 = .ok (.iastore, 1) := dk_79 (dk_at dksX5_keep_1 17 rfl rfl)
theorem dX5_keep_41 : decode cX5_keep 41 = .ok (.aload_n 0, 1) := dk_42 (dk_at dksX5_keep_1 18 rfl rfl)
theorem dX5_keep_42 : decode cX5_keep 42 = .ok (.getfield 71, 3) := dk_180 0 71 (dk_at dksX5_keep_1 19 rfl rfl)
theorem dX5_keep_45 : decode cX5_keep 45 = .ok (.iconst 3, 1) := dk_6 (dk_at dksX5_keep_1 22 rfl rfl)
theorem dX5_keep_46 : decode cX5_keep 46 = .ok (.iload_n 1, 1) := dk_27 (dk_at dksX5_keep_1 23 rfl rfl)
theorem dX5_keep_47 : decode cX5_keep 47 = .ok (.imul, 1) := dk_104 (dk_at dksX5_keep_2 0 rfl rfl)
theorem dX5_keep_48 : decode cX5_keep 48 = .ok (.iconst 1, 1) := dk_4 (dk_at dksX5_keep_2 1 rfl rfl)
theorem dX5_keep_49 : decode cX5_keep 49 = .ok (.iadd, 1) := dk_96 (dk_at dksX5_keep_2 2 rfl rfl)
theorem dX5_keep_50 : decode cX5_keep 50 = .ok (.aload_n 0, 1) := dk_42 (dk_at dksX5_keep_2 3 rfl rfl)
theorem dX5_keep_51 : decode cX5_keep 51 = .ok (.getfield 123, 3) := dk_180 0 123 (dk_at dksX5_keep_2 4 rfl rfl)
theorem dX5_keep_54 : decode cX5_keep 54 = .ok (.iastore, 1) := dk_79 (dk_at dksX5_keep_2 7 rfl rfl)
theorem dX5_keep_55 : decode cX5_keep 55 = .ok (.aload_n 0, 1) := dk_42 (dk_at dksX5_keep_2 8 rfl rfl)
theorem dX5_keep_56 : decode cX5_keep 56 = .ok (.getfield 71, 3) := dk_180 0 71 (dk_at dksX5_keep_2 9 rfl rfl)
theorem dX5_keep_59 : decode cX5_keep 59 = .ok (.iconst 3, 1) := dk_6 (dk_at dksX5_keep_2 12 rfl rfl)
theorem dX5_keep_60 : decode cX5_keep 60 = .ok (.iload_n 1, 1) := dk_27 (dk_at dksX5_keep_2 13 rfl rfl)
theorem dX5_keep_61 : decode cX5_keep 61 = .ok (.imul, 1) := dk_104 (dk_at dksX5_keep_2 14 rfl rfl)
theorem dX5_keep_62 : decode cX5_keep 62 = .ok (.iconst 2, 1) := dk_5 (dk_at dksX5_keep_2 15 rfl rfl)
theorem dX5_keep_63 : decode cX5_keep 63 = .ok (.iadd, 1) := dk_96 (dk_at dksX5_keep_2 16 rfl rfl)
theorem dX5_keep_64 : decode cX5_keep 64 = .ok (.aload_n 0, 1) := dk_42 (dk_at dksX5_keep_2 17 rfl rfl)
theorem dX5_keep_65 : decode cX5_keep 65 = .ok (.getfield 126, 3) := dk_180 0 126 (dk_at dksX5_keep_2 18 rfl rfl)
theorem dX5_keep_68 : decode cX5_keep 68 = .ok (.iastore, 1) := dk_79 (dk_at dksX5_keep_2 21 rfl rfl)
theorem dX5_keep_69 : decode cX5_keep 69 = .ok (.iconst 0, 1) := dk_3 (dk_at dksX5_keep_2 22 rfl rfl)
theorem dX5_keep_70 : decode cX5_keep 70 = .ok (.istore_n 3, 1) := dk_62 (dk_at dksX5_keep_2 23 rfl rfl)
theorem dX5_keep_71 : decode cX5_keep 71 = .ok (.iload_n 3, 1) := dk_29 (dk_at dksX5_keep_3 0 rfl rfl)
theorem dX5_keep_72 : decode cX5_keep 72 = .ok (.bipush 72, 2) := dk_16 72 (dk_at dksX5_keep_3 1 rfl rfl)
theorem dX5_keep_74 : decode cX5_keep 74 = .ok (.if_icmp .ge 26, 3) := dk_162 0 26 (dk_at dksX5_keep_3 3 rfl rfl)
theorem dX5_keep_77 : decode cX5_keep 77 = .ok (.aload_n 0, 1) := dk_42 (dk_at dksX5_keep_3 6 rfl rfl)
theorem dX5_keep_78 : decode cX5_keep 78 = .ok (.getfield 74, 3) := dk_180 0 74 (dk_at dksX5_keep_3 7 rfl rfl)
theorem dX5_keep_81 : decode cX5_keep 81 = .ok (.bipush 72, 2) := dk_16 72 (dk_at dksX5_keep_3 10 rfl rfl)
theorem dX5_keep_83 : decode cX5_keep 83 = .ok (.iload_n 1, 1) := dk_27 (dk_at dksX5_keep_3 12 rfl rfl)
theorem dX5_keep_84 : decode cX5_keep 84 = .ok (.imul, 1) := dk_104 (dk_at dksX5_keep_3 13 rfl rfl)
theorem dX5_keep_85 : decode cX5_keep 85 = .ok (.iload_n 3, 1) := dk_29 (dk_at dksX5_keep_3 14 rfl rfl)
theorem dX5_keep_86 : decode cX5_keep 86 = .ok (.iadd, 1) := dk_96 (dk_at dksX5_keep_3 15 rfl rfl)
theorem dX5_keep_87 : decode cX5_keep 87 = .ok (.aload_n 0, 1) := dk_42 (dk_at dksX5_keep_3 16 rfl rfl)
theorem dX5_keep_88 : decode cX5_keep 88 = .ok (.getfield 49, 3) := dk_180 0 49 (dk_at dksX5_keep_3 17 rfl rfl)
theorem dX5_keep_91 : decode cX5_keep 91 = .ok (.iload_n 3, 1) := dk_29 (dk_at dksX5_keep_3 20 rfl rfl)
theorem dX5_keep_92 : decode cX5_keep 92 = .ok (.iaload, 1) := dk_46 (dk_at dksX5_keep_3 21 rfl rfl)
theorem dX5_keep_93 : decode cX5_keep 93 = .ok (.iastore, 1) := dk_79 (dk_at dksX5_keep_3 22 rfl rfl)
theorem dX5_keep_94 : decode cX5_keep 94 = .ok (.iinc 3 1, 3) := dk_132 3 1 (dk_at dksX5_keep_4 0 rfl rfl)
theorem dX5_keep_97 : decode cX5_keep 97 = .ok (.goto (-26), 3) := dk_167 255 230 (dk_at dksX5_keep_4 3 rfl rfl)
theorem dX5_keep_100 : decode cX5_keep 100 = .ok (.iconst 0, 1) := dk_3 (dk_at dksX5_keep_4 6 rfl rfl)
theorem dX5_keep_101 : decode cX5_keep 101 = .ok (.istore_n 3, 1) := dk_62 (dk_at dksX5_keep_4 7 rfl rfl)
theorem dX5_keep_102 : decode cX5_keep 102 = .ok (.iload_n 3, 1) := dk_29 (dk_at dksX5_keep_4 8 rfl rfl)
theorem dX5_keep_103 : decode cX5_keep 103 = .ok (.bipush 12, 2) := dk_16 12 (dk_at dksX5_keep_4 9 rfl rfl)
theorem dX5_keep_105 : decode cX5_keep 105 = .ok (.if_icmp .ge 52, 3) := dk_162 0 52 (dk_at dksX5_keep_4 11 rfl rfl)
theorem dX5_keep_108 : decode cX5_keep 108 = .ok (.aload_n 0, 1) := dk_42 (dk_at dksX5_keep_4 14 rfl rfl)
theorem dX5_keep_109 : decode cX5_keep 109 = .ok (.getfield 77, 3) := dk_180 0 77 (dk_at dksX5_keep_4 15 rfl rfl)
theorem dX5_keep_112 : decode cX5_keep 112 = .ok (.bipush 24, 2) := dk_16 24 (dk_at dksX5_keep_4 18 rfl rfl)
theorem dX5_keep_114 : decode cX5_keep 114 = .ok (.iload_n 1, 1) := dk_27 (dk_at dksX5_keep_4 20 rfl rfl)
theorem dX5_keep_115 : decode cX5_keep 115 = .ok (.imul, 1) := dk_104 (dk_at dksX5_keep_4 21 rfl rfl)
theorem dX5_keep_116 : decode cX5_keep 116 = .ok (.iconst 2, 1) := dk_5 (dk_at dksX5_keep_4 22 rfl rfl)
theorem dX5_keep_117 : decode cX5_keep 117 = .ok (.iload_n 3, 1) := dk_29 (dk_at dksX5_keep_4 23 rfl rfl)
theorem dX5_keep_118 : decode cX5_keep 118 = .ok (.imul, 1) := dk_104 (dk_at dksX5_keep_5 0 rfl rfl)
theorem dX5_keep_119 : decode cX5_keep 119 = .ok (.iadd, 1) := dk_96 (dk_at dksX5_keep_5 1 rfl rfl)
theorem dX5_keep_120 : decode cX5_keep 120 = .ok (.aload_n 0, 1) := dk_42 (dk_at dksX5_keep_5 2 rfl rfl)
theorem dX5_keep_121 : decode cX5_keep 121 = .ok (.getfield 61, 3) := dk_180 0 61 (dk_at dksX5_keep_5 3 rfl rfl)
theorem dX5_keep_124 : decode cX5_keep 124 = .ok (.iload_n 3, 1) := dk_29 (dk_at dksX5_keep_5 6 rfl rfl)
theorem dX5_keep_125 : decode cX5_keep 125 = .ok (.iaload, 1) := dk_46 (dk_at dksX5_keep_5 7 rfl rfl)
theorem dX5_keep_126 : decode cX5_keep 126 = .ok (.iastore, 1) := dk_79 (dk_at dksX5_keep_5 8 rfl rfl)
theorem dX5_keep_127 : decode cX5_keep 127 = .ok (.aload_n 0, 1) := dk_42 (dk_at dksX5_keep_5 9 rfl rfl)
theorem dX5_keep_128 : decode cX5_keep 128 = .ok (.getfield 77, 3) := dk_180 0 77 (dk_at dksX5_keep_5 10 rfl rfl)
theorem dX5_keep_131 : decode cX5_keep 131 = .ok (.bipush 24, 2) := dk_16 24 (dk_at dksX5_keep_5 13 rfl rfl)
theorem dX5_keep_133 : decode cX5_keep 133 = .ok (.iload_n 1, 1) := dk_27 (dk_at dksX5_keep_5 15 rfl rfl)
theorem dX5_keep_134 : decode cX5_keep 134 = .ok (.imul, 1) := dk_104 (dk_at dksX5_keep_5 16 rfl rfl)
theorem dX5_keep_135 : decode cX5_keep 135 = .ok (.iconst 2, 1) := dk_5 (dk_at dksX5_keep_5 17 rfl rfl)
theorem dX5_keep_136 : decode cX5_keep 136 = .ok (.iload_n 3, 1) := dk_29 (dk_at dksX5_keep_5 18 rfl rfl)
theorem dX5_keep_137 : decode cX5_keep 137 = .ok (.imul, 1) := dk_104 (dk_at dksX5_keep_5 19 rfl rfl)
theorem dX5_keep_138 : decode cX5_keep 138 = .ok (.iadd, 1) := dk_96 (dk_at dksX5_keep_5 20 rfl rfl)
theorem dX5_keep_139 : decode cX5_keep 139 = .ok (.iconst 1, 1) := dk_4 (dk_at dksX5_keep_5 21 rfl rfl)
theorem dX5_keep_140 : decode cX5_keep 140 = .ok (.iadd, 1) := dk_96 (dk_at dksX5_keep_5 22 rfl rfl)
theorem dX5_keep_141 : decode cX5_keep 141 = .ok (.aload_n 0, 1) := dk_42 (dk_at dksX5_keep_5 23 rfl rfl)
theorem dX5_keep_142 : decode cX5_keep 142 = .ok (.getfield 64, 3) := dk_180 0 64 (dk_at dksX5_keep_6 0 rfl rfl)
theorem dX5_keep_145 : decode cX5_keep 145 = .ok (.iload_n 3, 1) := dk_29 (dk_at dksX5_keep_6 3 rfl rfl)
theorem dX5_keep_146 : decode cX5_keep 146 = .ok (.baload, 1) := dk_51 (dk_at dksX5_keep_6 4 rfl rfl)
theorem dX5_keep_147 : decode cX5_keep 147 = .ok (.invokestatic 254, 3) := dk_184 0 254 (dk_at dksX5_keep_6 5 rfl rfl)
theorem dX5_keep_150 : decode cX5_keep 150 = .ok (.iastore, 1) := dk_79 (dk_at dksX5_keep_6 8 rfl rfl)
theorem dX5_keep_151 : decode cX5_keep 151 = .ok (.iinc 3 1, 3) := dk_132 3 1 (dk_at dksX5_keep_6 9 rfl rfl)
theorem dX5_keep_154 : decode cX5_keep 154 = .ok (.goto (-52), 3) := dk_167 255 204 (dk_at dksX5_keep_6 12 rfl rfl)
theorem dX5_keep_157 : decode cX5_keep 157 = .ok (.iload_n 2, 1) := dk_28 (dk_at dksX5_keep_6 15 rfl rfl)
theorem dX5_keep_158 : decode cX5_keep 158 = .ok (.ireturn, 1) := dk_172 (dk_at dksX5_keep_6 16 rfl rfl)
abbrev cX5_back : ByteArray := prog_14_method_92_code
def yX5_back : MethodName := ⟨RX5, "back", "(I)I"⟩
def dkwX5_back_7 : List UInt8 := [180, 0, 120, 172]
abbrev dktX5_back_7 : List UInt8 := dkwX5_back_7 ++ []
def dkwX5_back_6 : List UInt8 := [96, 46, 4, 160, 0, 7, 4, 167, 0, 4, 3, 84, 132, 2, 1, 167, 255, 198, 42, 182, 0, 129, 42]
abbrev dktX5_back_6 : List UInt8 := dkwX5_back_6 ++ dktX5_back_7
def dkwX5_back_5 : List UInt8 := [5, 28, 104, 96, 46, 79, 42, 180, 0, 64, 28, 42, 180, 0, 77, 16, 24, 27, 104, 5, 28, 104, 96, 4]
abbrev dktX5_back_5 : List UInt8 := dkwX5_back_5 ++ dktX5_back_6
def dkwX5_back_4 : List UInt8 := [167, 255, 230, 3, 61, 28, 16, 12, 162, 0, 58, 42, 180, 0, 61, 28, 42, 180, 0, 77, 16, 24, 27, 104]
abbrev dktX5_back_4 : List UInt8 := dkwX5_back_4 ++ dktX5_back_5
def dkwX5_back_3 : List UInt8 := [162, 0, 26, 42, 180, 0, 49, 28, 42, 180, 0, 74, 16, 72, 27, 104, 28, 96, 46, 79, 132, 2, 1]
abbrev dktX5_back_3 : List UInt8 := dkwX5_back_3 ++ dktX5_back_4
def dkwX5_back_2 : List UInt8 := [181, 0, 123, 42, 42, 180, 0, 71, 6, 27, 104, 5, 96, 46, 181, 0, 126, 3, 61, 28, 16, 72]
abbrev dktX5_back_2 : List UInt8 := dkwX5_back_2 ++ dktX5_back_3
def dkwX5_back_1 : List UInt8 := [42, 42, 180, 0, 71, 6, 27, 104, 46, 181, 0, 120, 42, 42, 180, 0, 71, 6, 27, 104, 4, 96, 46]
abbrev dktX5_back_1 : List UInt8 := dkwX5_back_1 ++ dktX5_back_2
def dkwX5_back_0 : List UInt8 := [27, 133, 9, 10, 184, 0, 137, 154, 0, 5, 2, 172, 42, 180, 0, 68, 27, 51, 154, 0, 6, 16, 254, 172]
abbrev dktX5_back_0 : List UInt8 := dkwX5_back_0 ++ dktX5_back_1
theorem dksX5_back_0 : cX5_back.data.toList.drop 0 = dktX5_back_0 := by decide +kernel
theorem dksX5_back_1 : cX5_back.data.toList.drop 24 = dktX5_back_1 := dk_seg dksX5_back_0 24 rfl rfl
theorem dksX5_back_2 : cX5_back.data.toList.drop 47 = dktX5_back_2 := dk_seg dksX5_back_1 23 rfl rfl
theorem dksX5_back_3 : cX5_back.data.toList.drop 69 = dktX5_back_3 := dk_seg dksX5_back_2 22 rfl rfl
theorem dksX5_back_4 : cX5_back.data.toList.drop 92 = dktX5_back_4 := dk_seg dksX5_back_3 23 rfl rfl
theorem dksX5_back_5 : cX5_back.data.toList.drop 116 = dktX5_back_5 := dk_seg dksX5_back_4 24 rfl rfl
theorem dksX5_back_6 : cX5_back.data.toList.drop 140 = dktX5_back_6 := dk_seg dksX5_back_5 24 rfl rfl
theorem dksX5_back_7 : cX5_back.data.toList.drop 163 = dktX5_back_7 := dk_seg dksX5_back_6 23 rfl rfl
theorem dX5_back_0 : decode cX5_back 0 = .ok (.iload_n 1, 1) := dk_27 (dk_at dksX5_back_0 0 rfl rfl)
theorem dX5_back_1 : decode cX5_back 1 = .ok (.i2l, 1) := dk_133 (dk_at dksX5_back_0 1 rfl rfl)
theorem dX5_back_2 : decode cX5_back 2 = .ok (.lconst 0, 1) := dk_9 (dk_at dksX5_back_0 2 rfl rfl)
theorem dX5_back_3 : decode cX5_back 3 = .ok (.lconst 1, 1) := dk_10 (dk_at dksX5_back_0 3 rfl rfl)
theorem dX5_back_4 : decode cX5_back 4 = .ok (.invokestatic 137, 3) := dk_184 0 137 (dk_at dksX5_back_0 4 rfl rfl)
theorem dX5_back_7 : decode cX5_back 7 = .ok (.ifCond .ne 5, 3) := dk_154 0 5 (dk_at dksX5_back_0 7 rfl rfl)
theorem dX5_back_10 : decode cX5_back 10 = .ok (.iconst (-1), 1) := dk_2 (dk_at dksX5_back_0 10 rfl rfl)
theorem dX5_back_11 : decode cX5_back 11 = .ok (.ireturn, 1) := dk_172 (dk_at dksX5_back_0 11 rfl rfl)
theorem dX5_back_12 : decode cX5_back 12 = .ok (.aload_n 0, 1) := dk_42 (dk_at dksX5_back_0 12 rfl rfl)
theorem dX5_back_13 : decode cX5_back 13 = .ok (.getfield 68, 3) := dk_180 0 68 (dk_at dksX5_back_0 13 rfl rfl)
theorem dX5_back_16 : decode cX5_back 16 = .ok (.iload_n 1, 1) := dk_27 (dk_at dksX5_back_0 16 rfl rfl)
theorem dX5_back_17 : decode cX5_back 17 = .ok (.baload, 1) := dk_51 (dk_at dksX5_back_0 17 rfl rfl)
theorem dX5_back_18 : decode cX5_back 18 = .ok (.ifCond .ne 6, 3) := dk_154 0 6 (dk_at dksX5_back_0 18 rfl rfl)
theorem dX5_back_21 : decode cX5_back 21 = .ok (.bipush (-2), 2) := dk_16 254 (dk_at dksX5_back_0 21 rfl rfl)
theorem dX5_back_23 : decode cX5_back 23 = .ok (.ireturn, 1) := dk_172 (dk_at dksX5_back_0 23 rfl rfl)
theorem dX5_back_24 : decode cX5_back 24 = .ok (.aload_n 0, 1) := dk_42 (dk_at dksX5_back_1 0 rfl rfl)
theorem dX5_back_25 : decode cX5_back 25 = .ok (.aload_n 0, 1) := dk_42 (dk_at dksX5_back_1 1 rfl rfl)
theorem dX5_back_26 : decode cX5_back 26 = .ok (.getfield 71, 3) := dk_180 0 71 (dk_at dksX5_back_1 2 rfl rfl)
theorem dX5_back_29 : decode cX5_back 29 = .ok (.iconst 3, 1) := dk_6 (dk_at dksX5_back_1 5 rfl rfl)
theorem dX5_back_30 : decode cX5_back 30 = .ok (.iload_n 1, 1) := dk_27 (dk_at dksX5_back_1 6 rfl rfl)
theorem dX5_back_31 : decode cX5_back 31 = .ok (.imul, 1) := dk_104 (dk_at dksX5_back_1 7 rfl rfl)
theorem dX5_back_32 : decode cX5_back 32 = .ok (.iaload, 1) := dk_46 (dk_at dksX5_back_1 8 rfl rfl)
theorem dX5_back_33 : decode cX5_back 33 = .ok (.putfield 120, 3) := dk_181 0 120 (dk_at dksX5_back_1 9 rfl rfl)
theorem dX5_back_36 : decode cX5_back 36 = .ok (.aload_n 0, 1) := dk_42 (dk_at dksX5_back_1 12 rfl rfl)
theorem dX5_back_37 : decode cX5_back 37 = .ok (.aload_n 0, 1) := dk_42 (dk_at dksX5_back_1 13 rfl rfl)
theorem dX5_back_38 : decode cX5_back 38 = .ok (.getfield 71, 3) := dk_180 0 71 (dk_at dksX5_back_1 14 rfl rfl)
theorem dX5_back_41 : decode cX5_back 41 = .ok (.iconst 3, 1) := dk_6 (dk_at dksX5_back_1 17 rfl rfl)
theorem dX5_back_42 : decode cX5_back 42 = .ok (.iload_n 1, 1) := dk_27 (dk_at dksX5_back_1 18 rfl rfl)
theorem dX5_back_43 : decode cX5_back 43 = .ok (.imul, 1) := dk_104 (dk_at dksX5_back_1 19 rfl rfl)
theorem dX5_back_44 : decode cX5_back 44 = .ok (.iconst 1, 1) := dk_4 (dk_at dksX5_back_1 20 rfl rfl)
theorem dX5_back_45 : decode cX5_back 45 = .ok (.iadd, 1) := dk_96 (dk_at dksX5_back_1 21 rfl rfl)
theorem dX5_back_46 : decode cX5_back 46 = .ok (.iaload, 1) := dk_46 (dk_at dksX5_back_1 22 rfl rfl)
theorem dX5_back_47 : decode cX5_back 47 = .ok (.putfield 123, 3) := dk_181 0 123 (dk_at dksX5_back_2 0 rfl rfl)
theorem dX5_back_50 : decode cX5_back 50 = .ok (.aload_n 0, 1) := dk_42 (dk_at dksX5_back_2 3 rfl rfl)
theorem dX5_back_51 : decode cX5_back 51 = .ok (.aload_n 0, 1) := dk_42 (dk_at dksX5_back_2 4 rfl rfl)
theorem dX5_back_52 : decode cX5_back 52 = .ok (.getfield 71, 3) := dk_180 0 71 (dk_at dksX5_back_2 5 rfl rfl)
theorem dX5_back_55 : decode cX5_back 55 = .ok (.iconst 3, 1) := dk_6 (dk_at dksX5_back_2 8 rfl rfl)
theorem dX5_back_56 : decode cX5_back 56 = .ok (.iload_n 1, 1) := dk_27 (dk_at dksX5_back_2 9 rfl rfl)
theorem dX5_back_57 : decode cX5_back 57 = .ok (.imul, 1) := dk_104 (dk_at dksX5_back_2 10 rfl rfl)
theorem dX5_back_58 : decode cX5_back 58 = .ok (.iconst 2, 1) := dk_5 (dk_at dksX5_back_2 11 rfl rfl)
theorem dX5_back_59 : decode cX5_back 59 = .ok (.iadd, 1) := dk_96 (dk_at dksX5_back_2 12 rfl rfl)
theorem dX5_back_60 : decode cX5_back 60 = .ok (.iaload, 1) := dk_46 (dk_at dksX5_back_2 13 rfl rfl)
theorem dX5_back_61 : decode cX5_back 61 = .ok (.putfield 126, 3) := dk_181 0 126 (dk_at dksX5_back_2 14 rfl rfl)
theorem dX5_back_64 : decode cX5_back 64 = .ok (.iconst 0, 1) := dk_3 (dk_at dksX5_back_2 17 rfl rfl)
theorem dX5_back_65 : decode cX5_back 65 = .ok (.istore_n 2, 1) := dk_61 (dk_at dksX5_back_2 18 rfl rfl)
theorem dX5_back_66 : decode cX5_back 66 = .ok (.iload_n 2, 1) := dk_28 (dk_at dksX5_back_2 19 rfl rfl)
theorem dX5_back_67 : decode cX5_back 67 = .ok (.bipush 72, 2) := dk_16 72 (dk_at dksX5_back_2 20 rfl rfl)
theorem dX5_back_69 : decode cX5_back 69 = .ok (.if_icmp .ge 26, 3) := dk_162 0 26 (dk_at dksX5_back_3 0 rfl rfl)
theorem dX5_back_72 : decode cX5_back 72 = .ok (.aload_n 0, 1) := dk_42 (dk_at dksX5_back_3 3 rfl rfl)
theorem dX5_back_73 : decode cX5_back 73 = .ok (.getfield 49, 3) := dk_180 0 49 (dk_at dksX5_back_3 4 rfl rfl)
theorem dX5_back_76 : decode cX5_back 76 = .ok (.iload_n 2, 1) := dk_28 (dk_at dksX5_back_3 7 rfl rfl)
theorem dX5_back_77 : decode cX5_back 77 = .ok (.aload_n 0, 1) := dk_42 (dk_at dksX5_back_3 8 rfl rfl)
theorem dX5_back_78 : decode cX5_back 78 = .ok (.getfield 74, 3) := dk_180 0 74 (dk_at dksX5_back_3 9 rfl rfl)
theorem dX5_back_81 : decode cX5_back 81 = .ok (.bipush 72, 2) := dk_16 72 (dk_at dksX5_back_3 12 rfl rfl)
theorem dX5_back_83 : decode cX5_back 83 = .ok (.iload_n 1, 1) := dk_27 (dk_at dksX5_back_3 14 rfl rfl)
theorem dX5_back_84 : decode cX5_back 84 = .ok (.imul, 1) := dk_104 (dk_at dksX5_back_3 15 rfl rfl)
theorem dX5_back_85 : decode cX5_back 85 = .ok (.iload_n 2, 1) := dk_28 (dk_at dksX5_back_3 16 rfl rfl)
theorem dX5_back_86 : decode cX5_back 86 = .ok (.iadd, 1) := dk_96 (dk_at dksX5_back_3 17 rfl rfl)
theorem dX5_back_87 : decode cX5_back 87 = .ok (.iaload, 1) := dk_46 (dk_at dksX5_back_3 18 rfl rfl)
theorem dX5_back_88 : decode cX5_back 88 = .ok (.iastore, 1) := dk_79 (dk_at dksX5_back_3 19 rfl rfl)
theorem dX5_back_89 : decode cX5_back 89 = .ok (.iinc 2 1, 3) := dk_132 2 1 (dk_at dksX5_back_3 20 rfl rfl)
theorem dX5_back_92 : decode cX5_back 92 = .ok (.goto (-26), 3) := dk_167 255 230 (dk_at dksX5_back_4 0 rfl rfl)
theorem dX5_back_95 : decode cX5_back 95 = .ok (.iconst 0, 1) := dk_3 (dk_at dksX5_back_4 3 rfl rfl)
theorem dX5_back_96 : decode cX5_back 96 = .ok (.istore_n 2, 1) := dk_61 (dk_at dksX5_back_4 4 rfl rfl)
theorem dX5_back_97 : decode cX5_back 97 = .ok (.iload_n 2, 1) := dk_28 (dk_at dksX5_back_4 5 rfl rfl)
theorem dX5_back_98 : decode cX5_back 98 = .ok (.bipush 12, 2) := dk_16 12 (dk_at dksX5_back_4 6 rfl rfl)
theorem dX5_back_100 : decode cX5_back 100 = .ok (.if_icmp .ge 58, 3) := dk_162 0 58 (dk_at dksX5_back_4 8 rfl rfl)
theorem dX5_back_103 : decode cX5_back 103 = .ok (.aload_n 0, 1) := dk_42 (dk_at dksX5_back_4 11 rfl rfl)
theorem dX5_back_104 : decode cX5_back 104 = .ok (.getfield 61, 3) := dk_180 0 61 (dk_at dksX5_back_4 12 rfl rfl)
theorem dX5_back_107 : decode cX5_back 107 = .ok (.iload_n 2, 1) := dk_28 (dk_at dksX5_back_4 15 rfl rfl)
theorem dX5_back_108 : decode cX5_back 108 = .ok (.aload_n 0, 1) := dk_42 (dk_at dksX5_back_4 16 rfl rfl)
theorem dX5_back_109 : decode cX5_back 109 = .ok (.getfield 77, 3) := dk_180 0 77 (dk_at dksX5_back_4 17 rfl rfl)
theorem dX5_back_112 : decode cX5_back 112 = .ok (.bipush 24, 2) := dk_16 24 (dk_at dksX5_back_4 20 rfl rfl)
theorem dX5_back_114 : decode cX5_back 114 = .ok (.iload_n 1, 1) := dk_27 (dk_at dksX5_back_4 22 rfl rfl)
theorem dX5_back_115 : decode cX5_back 115 = .ok (.imul, 1) := dk_104 (dk_at dksX5_back_4 23 rfl rfl)
theorem dX5_back_116 : decode cX5_back 116 = .ok (.iconst 2, 1) := dk_5 (dk_at dksX5_back_5 0 rfl rfl)
theorem dX5_back_117 : decode cX5_back 117 = .ok (.iload_n 2, 1) := dk_28 (dk_at dksX5_back_5 1 rfl rfl)
theorem dX5_back_118 : decode cX5_back 118 = .ok (.imul, 1) := dk_104 (dk_at dksX5_back_5 2 rfl rfl)
theorem dX5_back_119 : decode cX5_back 119 = .ok (.iadd, 1) := dk_96 (dk_at dksX5_back_5 3 rfl rfl)
theorem dX5_back_120 : decode cX5_back 120 = .ok (.iaload, 1) := dk_46 (dk_at dksX5_back_5 4 rfl rfl)
theorem dX5_back_121 : decode cX5_back 121 = .ok (.iastore, 1) := dk_79 (dk_at dksX5_back_5 5 rfl rfl)
theorem dX5_back_122 : decode cX5_back 122 = .ok (.aload_n 0, 1) := dk_42 (dk_at dksX5_back_5 6 rfl rfl)
theorem dX5_back_123 : decode cX5_back 123 = .ok (.getfield 64, 3) := dk_180 0 64 (dk_at dksX5_back_5 7 rfl rfl)
theorem dX5_back_126 : decode cX5_back 126 = .ok (.iload_n 2, 1) := dk_28 (dk_at dksX5_back_5 10 rfl rfl)
theorem dX5_back_127 : decode cX5_back 127 = .ok (.aload_n 0, 1) := dk_42 (dk_at dksX5_back_5 11 rfl rfl)
theorem dX5_back_128 : decode cX5_back 128 = .ok (.getfield 77, 3) := dk_180 0 77 (dk_at dksX5_back_5 12 rfl rfl)
theorem dX5_back_131 : decode cX5_back 131 = .ok (.bipush 24, 2) := dk_16 24 (dk_at dksX5_back_5 15 rfl rfl)
theorem dX5_back_133 : decode cX5_back 133 = .ok (.iload_n 1, 1) := dk_27 (dk_at dksX5_back_5 17 rfl rfl)
theorem dX5_back_134 : decode cX5_back 134 = .ok (.imul, 1) := dk_104 (dk_at dksX5_back_5 18 rfl rfl)
theorem dX5_back_135 : decode cX5_back 135 = .ok (.iconst 2, 1) := dk_5 (dk_at dksX5_back_5 19 rfl rfl)
theorem dX5_back_136 : decode cX5_back 136 = .ok (.iload_n 2, 1) := dk_28 (dk_at dksX5_back_5 20 rfl rfl)
theorem dX5_back_137 : decode cX5_back 137 = .ok (.imul, 1) := dk_104 (dk_at dksX5_back_5 21 rfl rfl)
theorem dX5_back_138 : decode cX5_back 138 = .ok (.iadd, 1) := dk_96 (dk_at dksX5_back_5 22 rfl rfl)
theorem dX5_back_139 : decode cX5_back 139 = .ok (.iconst 1, 1) := dk_4 (dk_at dksX5_back_5 23 rfl rfl)
theorem dX5_back_140 : decode cX5_back 140 = .ok (.iadd, 1) := dk_96 (dk_at dksX5_back_6 0 rfl rfl)
theorem dX5_back_141 : decode cX5_back 141 = .ok (.iaload, 1) := dk_46 (dk_at dksX5_back_6 1 rfl rfl)
theorem dX5_back_142 : decode cX5_back 142 = .ok (.iconst 1, 1) := dk_4 (dk_at dksX5_back_6 2 rfl rfl)
theorem dX5_back_143 : decode cX5_back 143 = .ok (.if_icmp .ne 7, 3) := dk_160 0 7 (dk_at dksX5_back_6 3 rfl rfl)
theorem dX5_back_146 : decode cX5_back 146 = .ok (.iconst 1, 1) := dk_4 (dk_at dksX5_back_6 6 rfl rfl)
theorem dX5_back_147 : decode cX5_back 147 = .ok (.goto 4, 3) := dk_167 0 4 (dk_at dksX5_back_6 7 rfl rfl)
theorem dX5_back_150 : decode cX5_back 150 = .ok (.iconst 0, 1) := dk_3 (dk_at dksX5_back_6 10 rfl rfl)
theorem dX5_back_151 : decode cX5_back 151 = .ok (.bastore, 1) := dk_84 (dk_at dksX5_back_6 11 rfl rfl)
theorem dX5_back_152 : decode cX5_back 152 = .ok (.iinc 2 1, 3) := dk_132 2 1 (dk_at dksX5_back_6 12 rfl rfl)
theorem dX5_back_155 : decode cX5_back 155 = .ok (.goto (-58), 3) := dk_167 255 198 (dk_at dksX5_back_6 15 rfl rfl)
theorem dX5_back_158 : decode cX5_back 158 = .ok (.aload_n 0, 1) := dk_42 (dk_at dksX5_back_6 18 rfl rfl)
theorem dX5_back_159 : decode cX5_back 159 = .ok (.invokevirtual 129, 3) := dk_182 0 129 (dk_at dksX5_back_6 19 rfl rfl)
theorem dX5_back_162 : decode cX5_back 162 = .ok (.aload_n 0, 1) := dk_42 (dk_at dksX5_back_6 22 rfl rfl)
theorem dX5_back_163 : decode cX5_back 163 = .ok (.getfield 120, 3) := dk_180 0 120 (dk_at dksX5_back_7 0 rfl rfl)
theorem dX5_back_166 : decode cX5_back 166 = .ok (.ireturn, 1) := dk_172 (dk_at dksX5_back_7 3 rfl rfl)
abbrev cX5_sheet : ByteArray := prog_14_method_94_code
def yX5_sheet : MethodName := ⟨RX5, "sheet", "(III)I"⟩
def dkwX5_sheet_2 : List UInt8 := [180, 0, 86, 16, 40, 27, 104, 21, 4, 96, 3, 79, 132, 4, 1, 167, 255, 233, 4, 172]
abbrev dktX5_sheet_2 : List UInt8 := dkwX5_sheet_2 ++ []
def dkwX5_sheet_1 : List UInt8 := [180, 0, 80, 27, 28, 79, 42, 180, 0, 83, 27, 29, 79, 3, 54, 4, 21, 4, 16, 40, 162, 0, 22, 42]
abbrev dktX5_sheet_1 : List UInt8 := dkwX5_sheet_1 ++ dktX5_sheet_2
def dkwX5_sheet_0 : List UInt8 := [27, 28, 184, 1, 93, 153, 0, 9, 29, 16, 40, 164, 0, 5, 2, 172, 29, 156, 0, 6, 16, 242, 172, 42]
abbrev dktX5_sheet_0 : List UInt8 := dkwX5_sheet_0 ++ dktX5_sheet_1
theorem dksX5_sheet_0 : cX5_sheet.data.toList.drop 0 = dktX5_sheet_0 := by decide +kernel
theorem dksX5_sheet_1 : cX5_sheet.data.toList.drop 24 = dktX5_sheet_1 := dk_seg dksX5_sheet_0 24 rfl rfl
theorem dksX5_sheet_2 : cX5_sheet.data.toList.drop 48 = dktX5_sheet_2 := dk_seg dksX5_sheet_1 24 rfl rfl
theorem dX5_sheet_0 : decode cX5_sheet 0 = .ok (.iload_n 1, 1) := dk_27 (dk_at dksX5_sheet_0 0 rfl rfl)
theorem dX5_sheet_1 : decode cX5_sheet 1 = .ok (.iload_n 2, 1) := dk_28 (dk_at dksX5_sheet_0 1 rfl rfl)
theorem dX5_sheet_2 : decode cX5_sheet 2 = .ok (.invokestatic 349, 3) := dk_184 1 93 (dk_at dksX5_sheet_0 2 rfl rfl)
theorem dX5_sheet_5 : decode cX5_sheet 5 = .ok (.ifCond .eq 9, 3) := dk_153 0 9 (dk_at dksX5_sheet_0 5 rfl rfl)
theorem dX5_sheet_8 : decode cX5_sheet 8 = .ok (.iload_n 3, 1) := dk_29 (dk_at dksX5_sheet_0 8 rfl rfl)
theorem dX5_sheet_9 : decode cX5_sheet 9 = .ok (.bipush 40, 2) := dk_16 40 (dk_at dksX5_sheet_0 9 rfl rfl)
theorem dX5_sheet_11 : decode cX5_sheet 11 = .ok (.if_icmp .le 5, 3) := dk_164 0 5 (dk_at dksX5_sheet_0 11 rfl rfl)
theorem dX5_sheet_14 : decode cX5_sheet 14 = .ok (.iconst (-1), 1) := dk_2 (dk_at dksX5_sheet_0 14 rfl rfl)
theorem dX5_sheet_15 : decode cX5_sheet 15 = .ok (.ireturn, 1) := dk_172 (dk_at dksX5_sheet_0 15 rfl rfl)
theorem dX5_sheet_16 : decode cX5_sheet 16 = .ok (.iload_n 3, 1) := dk_29 (dk_at dksX5_sheet_0 16 rfl rfl)
theorem dX5_sheet_17 : decode cX5_sheet 17 = .ok (.ifCond .ge 6, 3) := dk_156 0 6 (dk_at dksX5_sheet_0 17 rfl rfl)
theorem dX5_sheet_20 : decode cX5_sheet 20 = .ok (.bipush (-14), 2) := dk_16 242 (dk_at dksX5_sheet_0 20 rfl rfl)
theorem dX5_sheet_22 : decode cX5_sheet 22 = .ok (.ireturn, 1) := dk_172 (dk_at dksX5_sheet_0 22 rfl rfl)
theorem dX5_sheet_23 : decode cX5_sheet 23 = .ok (.aload_n 0, 1) := dk_42 (dk_at dksX5_sheet_0 23 rfl rfl)
theorem dX5_sheet_24 : decode cX5_sheet 24 = .ok (.getfield 80, 3) := dk_180 0 80 (dk_at dksX5_sheet_1 0 rfl rfl)
theorem dX5_sheet_27 : decode cX5_sheet 27 = .ok (.iload_n 1, 1) := dk_27 (dk_at dksX5_sheet_1 3 rfl rfl)
theorem dX5_sheet_28 : decode cX5_sheet 28 = .ok (.iload_n 2, 1) := dk_28 (dk_at dksX5_sheet_1 4 rfl rfl)
theorem dX5_sheet_29 : decode cX5_sheet 29 = .ok (.iastore, 1) := dk_79 (dk_at dksX5_sheet_1 5 rfl rfl)
theorem dX5_sheet_30 : decode cX5_sheet 30 = .ok (.aload_n 0, 1) := dk_42 (dk_at dksX5_sheet_1 6 rfl rfl)
theorem dX5_sheet_31 : decode cX5_sheet 31 = .ok (.getfield 83, 3) := dk_180 0 83 (dk_at dksX5_sheet_1 7 rfl rfl)
theorem dX5_sheet_34 : decode cX5_sheet 34 = .ok (.iload_n 1, 1) := dk_27 (dk_at dksX5_sheet_1 10 rfl rfl)
theorem dX5_sheet_35 : decode cX5_sheet 35 = .ok (.iload_n 3, 1) := dk_29 (dk_at dksX5_sheet_1 11 rfl rfl)
theorem dX5_sheet_36 : decode cX5_sheet 36 = .ok (.iastore, 1) := dk_79 (dk_at dksX5_sheet_1 12 rfl rfl)
theorem dX5_sheet_37 : decode cX5_sheet 37 = .ok (.iconst 0, 1) := dk_3 (dk_at dksX5_sheet_1 13 rfl rfl)
theorem dX5_sheet_38 : decode cX5_sheet 38 = .ok (.istore 4, 2) := dk_54 4 (dk_at dksX5_sheet_1 14 rfl rfl)
theorem dX5_sheet_40 : decode cX5_sheet 40 = .ok (.iload 4, 2) := dk_21 4 (dk_at dksX5_sheet_1 16 rfl rfl)
theorem dX5_sheet_42 : decode cX5_sheet 42 = .ok (.bipush 40, 2) := dk_16 40 (dk_at dksX5_sheet_1 18 rfl rfl)
theorem dX5_sheet_44 : decode cX5_sheet 44 = .ok (.if_icmp .ge 22, 3) := dk_162 0 22 (dk_at dksX5_sheet_1 20 rfl rfl)
theorem dX5_sheet_47 : decode cX5_sheet 47 = .ok (.aload_n 0, 1) := dk_42 (dk_at dksX5_sheet_1 23 rfl rfl)
theorem dX5_sheet_48 : decode cX5_sheet 48 = .ok (.getfield 86, 3) := dk_180 0 86 (dk_at dksX5_sheet_2 0 rfl rfl)
theorem dX5_sheet_51 : decode cX5_sheet 51 = .ok (.bipush 40, 2) := dk_16 40 (dk_at dksX5_sheet_2 3 rfl rfl)
theorem dX5_sheet_53 : decode cX5_sheet 53 = .ok (.iload_n 1, 1) := dk_27 (dk_at dksX5_sheet_2 5 rfl rfl)
theorem dX5_sheet_54 : decode cX5_sheet 54 = .ok (.imul, 1) := dk_104 (dk_at dksX5_sheet_2 6 rfl rfl)
theorem dX5_sheet_55 : decode cX5_sheet 55 = .ok (.iload 4, 2) := dk_21 4 (dk_at dksX5_sheet_2 7 rfl rfl)
theorem dX5_sheet_57 : decode cX5_sheet 57 = .ok (.iadd, 1) := dk_96 (dk_at dksX5_sheet_2 9 rfl rfl)
theorem dX5_sheet_58 : decode cX5_sheet 58 = .ok (.iconst 0, 1) := dk_3 (dk_at dksX5_sheet_2 10 rfl rfl)
theorem dX5_sheet_59 : decode cX5_sheet 59 = .ok (.iastore, 1) := dk_79 (dk_at dksX5_sheet_2 11 rfl rfl)
theorem dX5_sheet_60 : decode cX5_sheet 60 = .ok (.iinc 4 1, 3) := dk_132 4 1 (dk_at dksX5_sheet_2 12 rfl rfl)
theorem dX5_sheet_63 : decode cX5_sheet 63 = .ok (.goto (-23), 3) := dk_167 255 233 (dk_at dksX5_sheet_2 15 rfl rfl)
theorem dX5_sheet_66 : decode cX5_sheet 66 = .ok (.iconst 1, 1) := dk_4 (dk_at dksX5_sheet_2 18 rfl rfl)
theorem dX5_sheet_67 : decode cX5_sheet 67 = .ok (.ireturn, 1) := dk_172 (dk_at dksX5_sheet_2 19 rfl rfl)
abbrev cX5_isSheet : ByteArray := prog_14_method_93_code
def yX5_isSheet : MethodName := ⟨RX5, "isSheet", "(II)Z"⟩
def dkwX5_isSheet_1 : List UInt8 := [4, 167, 0, 4, 3, 172]
abbrev dktX5_isSheet_1 : List UInt8 := dkwX5_isSheet_1 ++ []
def dkwX5_isSheet_0 : List UInt8 := [26, 133, 9, 20, 0, 206, 184, 0, 137, 153, 0, 19, 27, 133, 9, 20, 1, 34, 184, 0, 137, 153, 0, 7]
abbrev dktX5_isSheet_0 : List UInt8 := dkwX5_isSheet_0 ++ dktX5_isSheet_1
theorem dksX5_isSheet_0 : cX5_isSheet.data.toList.drop 0 = dktX5_isSheet_0 := by decide +kernel
theorem dksX5_isSheet_1 : cX5_isSheet.data.toList.drop 24 = dktX5_isSheet_1 := dk_seg dksX5_isSheet_0 24 rfl rfl
theorem dX5_isSheet_0 : decode cX5_isSheet 0 = .ok (.iload_n 0, 1) := dk_26 (dk_at dksX5_isSheet_0 0 rfl rfl)
theorem dX5_isSheet_1 : decode cX5_isSheet 1 = .ok (.i2l, 1) := dk_133 (dk_at dksX5_isSheet_0 1 rfl rfl)
theorem dX5_isSheet_2 : decode cX5_isSheet 2 = .ok (.lconst 0, 1) := dk_9 (dk_at dksX5_isSheet_0 2 rfl rfl)
theorem dX5_isSheet_3 : decode cX5_isSheet 3 = .ok (.ldc2_w 206, 3) := dk_20 0 206 (dk_at dksX5_isSheet_0 3 rfl rfl)
theorem dX5_isSheet_6 : decode cX5_isSheet 6 = .ok (.invokestatic 137, 3) := dk_184 0 137 (dk_at dksX5_isSheet_0 6 rfl rfl)
theorem dX5_isSheet_9 : decode cX5_isSheet 9 = .ok (.ifCond .eq 19, 3) := dk_153 0 19 (dk_at dksX5_isSheet_0 9 rfl rfl)
theorem dX5_isSheet_12 : decode cX5_isSheet 12 = .ok (.iload_n 1, 1) := dk_27 (dk_at dksX5_isSheet_0 12 rfl rfl)
theorem dX5_isSheet_13 : decode cX5_isSheet 13 = .ok (.i2l, 1) := dk_133 (dk_at dksX5_isSheet_0 13 rfl rfl)
theorem dX5_isSheet_14 : decode cX5_isSheet 14 = .ok (.lconst 0, 1) := dk_9 (dk_at dksX5_isSheet_0 14 rfl rfl)
theorem dX5_isSheet_15 : decode cX5_isSheet 15 = .ok (.ldc2_w 290, 3) := dk_20 1 34 (dk_at dksX5_isSheet_0 15 rfl rfl)
theorem dX5_isSheet_18 : decode cX5_isSheet 18 = .ok (.invokestatic 137, 3) := dk_184 0 137 (dk_at dksX5_isSheet_0 18 rfl rfl)
theorem dX5_isSheet_21 : decode cX5_isSheet 21 = .ok (.ifCond .eq 7, 3) := dk_153 0 7 (dk_at dksX5_isSheet_0 21 rfl rfl)
theorem dX5_isSheet_24 : decode cX5_isSheet 24 = .ok (.iconst 1, 1) := dk_4 (dk_at dksX5_isSheet_1 0 rfl rfl)
theorem dX5_isSheet_25 : decode cX5_isSheet 25 = .ok (.goto 4, 3) := dk_167 0 4 (dk_at dksX5_isSheet_1 1 rfl rfl)
theorem dX5_isSheet_28 : decode cX5_isSheet 28 = .ok (.iconst 0, 1) := dk_3 (dk_at dksX5_isSheet_1 4 rfl rfl)
theorem dX5_isSheet_29 : decode cX5_isSheet 29 = .ok (.ireturn, 1) := dk_172 (dk_at dksX5_isSheet_1 5 rfl rfl)
abbrev cX5_lay : ByteArray := prog_14_method_95_code
def yX5_lay : MethodName := ⟨RX5, "lay", "(III)I"⟩
def dkwX5_lay_3 : List UInt8 := [180, 0, 80, 27, 46, 4, 160, 0, 8, 29, 147, 167, 0, 4, 29, 79, 4, 172]
abbrev dktX5_lay_3 : List UInt8 := dkwX5_lay_3 ++ []
def dkwX5_lay_2 : List UInt8 := [180, 0, 86, 16, 40, 27, 104, 28, 96, 42, 180, 0, 80, 27, 46, 154, 0, 8, 29, 145, 167, 0, 19, 42]
abbrev dktX5_lay_2 : List UInt8 := dkwX5_lay_2 ++ dktX5_lay_3
def dkwX5_lay_1 : List UInt8 := [28, 133, 9, 42, 180, 0, 83, 27, 46, 4, 100, 133, 184, 0, 137, 154, 0, 6, 16, 244, 172, 42]
abbrev dktX5_lay_1 : List UInt8 := dkwX5_lay_1 ++ dktX5_lay_2
def dkwX5_lay_0 : List UInt8 := [27, 3, 184, 1, 93, 154, 0, 5, 2, 172, 42, 180, 0, 80, 27, 46, 16, 252, 160, 0, 6, 16, 245, 172]
abbrev dktX5_lay_0 : List UInt8 := dkwX5_lay_0 ++ dktX5_lay_1
theorem dksX5_lay_0 : cX5_lay.data.toList.drop 0 = dktX5_lay_0 := by decide +kernel
theorem dksX5_lay_1 : cX5_lay.data.toList.drop 24 = dktX5_lay_1 := dk_seg dksX5_lay_0 24 rfl rfl
theorem dksX5_lay_2 : cX5_lay.data.toList.drop 46 = dktX5_lay_2 := dk_seg dksX5_lay_1 22 rfl rfl
theorem dksX5_lay_3 : cX5_lay.data.toList.drop 70 = dktX5_lay_3 := dk_seg dksX5_lay_2 24 rfl rfl
theorem dX5_lay_0 : decode cX5_lay 0 = .ok (.iload_n 1, 1) := dk_27 (dk_at dksX5_lay_0 0 rfl rfl)
theorem dX5_lay_1 : decode cX5_lay 1 = .ok (.iconst 0, 1) := dk_3 (dk_at dksX5_lay_0 1 rfl rfl)
theorem dX5_lay_2 : decode cX5_lay 2 = .ok (.invokestatic 349, 3) := dk_184 1 93 (dk_at dksX5_lay_0 2 rfl rfl)
theorem dX5_lay_5 : decode cX5_lay 5 = .ok (.ifCond .ne 5, 3) := dk_154 0 5 (dk_at dksX5_lay_0 5 rfl rfl)
theorem dX5_lay_8 : decode cX5_lay 8 = .ok (.iconst (-1), 1) := dk_2 (dk_at dksX5_lay_0 8 rfl rfl)
theorem dX5_lay_9 : decode cX5_lay 9 = .ok (.ireturn, 1) := dk_172 (dk_at dksX5_lay_0 9 rfl rfl)
theorem dX5_lay_10 : decode cX5_lay 10 = .ok (.aload_n 0, 1) := dk_42 (dk_at dksX5_lay_0 10 rfl rfl)
theorem dX5_lay_11 : decode cX5_lay 11 = .ok (.getfield 80, 3) := dk_180 0 80 (dk_at dksX5_lay_0 11 rfl rfl)
theorem dX5_lay_14 : decode cX5_lay 14 = .ok (.iload_n 1, 1) := dk_27 (dk_at dksX5_lay_0 14 rfl rfl)
theorem dX5_lay_15 : decode cX5_lay 15 = .ok (.iaload, 1) := dk_46 (dk_at dksX5_lay_0 15 rfl rfl)
theorem dX5_lay_16 : decode cX5_lay 16 = .ok (.bipush (-4), 2) := dk_16 252 (dk_at dksX5_lay_0 16 rfl rfl)
theorem dX5_lay_18 : decode cX5_lay 18 = .ok (.if_icmp .ne 6, 3) := dk_160 0 6 (dk_at dksX5_lay_0 18 rfl rfl)
theorem dX5_lay_21 : decode cX5_lay 21 = .ok (.bipush (-11), 2) := dk_16 245 (dk_at dksX5_lay_0 21 rfl rfl)
theorem dX5_lay_23 : decode cX5_lay 23 = .ok (.ireturn, 1) := dk_172 (dk_at dksX5_lay_0 23 rfl rfl)
theorem dX5_lay_24 : decode cX5_lay 24 = .ok (.iload_n 2, 1) := dk_28 (dk_at dksX5_lay_1 0 rfl rfl)
theorem dX5_lay_25 : decode cX5_lay 25 = .ok (.i2l, 1) := dk_133 (dk_at dksX5_lay_1 1 rfl rfl)
theorem dX5_lay_26 : decode cX5_lay 26 = .ok (.lconst 0, 1) := dk_9 (dk_at dksX5_lay_1 2 rfl rfl)
theorem dX5_lay_27 : decode cX5_lay 27 = .ok (.aload_n 0, 1) := dk_42 (dk_at dksX5_lay_1 3 rfl rfl)
theorem dX5_lay_28 : decode cX5_lay 28 = .ok (.getfield 83, 3) := dk_180 0 83 (dk_at dksX5_lay_1 4 rfl rfl)
theorem dX5_lay_31 : decode cX5_lay 31 = .ok (.iload_n 1, 1) := dk_27 (dk_at dksX5_lay_1 7 rfl rfl)
theorem dX5_lay_32 : decode cX5_lay 32 = .ok (.iaload, 1) := dk_46 (dk_at dksX5_lay_1 8 rfl rfl)
theorem dX5_lay_33 : decode cX5_lay 33 = .ok (.iconst 1, 1) := dk_4 (dk_at dksX5_lay_1 9 rfl rfl)
theorem dX5_lay_34 : decode cX5_lay 34 = .ok (.isub, 1) := dk_100 (dk_at dksX5_lay_1 10 rfl rfl)
theorem dX5_lay_35 : decode cX5_lay 35 = .ok (.i2l, 1) := dk_133 (dk_at dksX5_lay_1 11 rfl rfl)
theorem dX5_lay_36 : decode cX5_lay 36 = .ok (.invokestatic 137, 3) := dk_184 0 137 (dk_at dksX5_lay_1 12 rfl rfl)
theorem dX5_lay_39 : decode cX5_lay 39 = .ok (.ifCond .ne 6, 3) := dk_154 0 6 (dk_at dksX5_lay_1 15 rfl rfl)
theorem dX5_lay_42 : decode cX5_lay 42 = .ok (.bipush (-12), 2) := dk_16 244 (dk_at dksX5_lay_1 18 rfl rfl)
theorem dX5_lay_44 : decode cX5_lay 44 = .ok (.ireturn, 1) := dk_172 (dk_at dksX5_lay_1 20 rfl rfl)
theorem dX5_lay_45 : decode cX5_lay 45 = .ok (.aload_n 0, 1) := dk_42 (dk_at dksX5_lay_1 21 rfl rfl)
theorem dX5_lay_46 : decode cX5_lay 46 = .ok (.getfield 86, 3) := dk_180 0 86 (dk_at dksX5_lay_2 0 rfl rfl)
theorem dX5_lay_49 : decode cX5_lay 49 = .ok (.bipush 40, 2) := dk_16 40 (dk_at dksX5_lay_2 3 rfl rfl)
theorem dX5_lay_51 : decode cX5_lay 51 = .ok (.iload_n 1, 1) := dk_27 (dk_at dksX5_lay_2 5 rfl rfl)
theorem dX5_lay_52 : decode cX5_lay 52 = .ok (.imul, 1) := dk_104 (dk_at dksX5_lay_2 6 rfl rfl)
theorem dX5_lay_53 : decode cX5_lay 53 = .ok (.iload_n 2, 1) := dk_28 (dk_at dksX5_lay_2 7 rfl rfl)
theorem dX5_lay_54 : decode cX5_lay 54 = .ok (.iadd, 1) := dk_96 (dk_at dksX5_lay_2 8 rfl rfl)
theorem dX5_lay_55 : decode cX5_lay 55 = .ok (.aload_n 0, 1) := dk_42 (dk_at dksX5_lay_2 9 rfl rfl)
theorem dX5_lay_56 : decode cX5_lay 56 = .ok (.getfield 80, 3) := dk_180 0 80 (dk_at dksX5_lay_2 10 rfl rfl)
theorem dX5_lay_59 : decode cX5_lay 59 = .ok (.iload_n 1, 1) := dk_27 (dk_at dksX5_lay_2 13 rfl rfl)
theorem dX5_lay_60 : decode cX5_lay 60 = .ok (.iaload, 1) := dk_46 (dk_at dksX5_lay_2 14 rfl rfl)
theorem dX5_lay_61 : decode cX5_lay 61 = .ok (.ifCond .ne 8, 3) := dk_154 0 8 (dk_at dksX5_lay_2 15 rfl rfl)
theorem dX5_lay_64 : decode cX5_lay 64 = .ok (.iload_n 3, 1) := dk_29 (dk_at dksX5_lay_2 18 rfl rfl)
theorem dX5_lay_65 : decode cX5_lay 65 = .ok (.i2b, 1) := dk_145 (dk_at dksX5_lay_2 19 rfl rfl)
theorem dX5_lay_66 : decode cX5_lay 66 = .ok (.goto 19, 3) := dk_167 0 19 (dk_at dksX5_lay_2 20 rfl rfl)
theorem dX5_lay_69 : decode cX5_lay 69 = .ok (.aload_n 0, 1) := dk_42 (dk_at dksX5_lay_2 23 rfl rfl)
theorem dX5_lay_70 : decode cX5_lay 70 = .ok (.getfield 80, 3) := dk_180 0 80 (dk_at dksX5_lay_3 0 rfl rfl)
theorem dX5_lay_73 : decode cX5_lay 73 = .ok (.iload_n 1, 1) := dk_27 (dk_at dksX5_lay_3 3 rfl rfl)
theorem dX5_lay_74 : decode cX5_lay 74 = .ok (.iaload, 1) := dk_46 (dk_at dksX5_lay_3 4 rfl rfl)
theorem dX5_lay_75 : decode cX5_lay 75 = .ok (.iconst 1, 1) := dk_4 (dk_at dksX5_lay_3 5 rfl rfl)
theorem dX5_lay_76 : decode cX5_lay 76 = .ok (.if_icmp .ne 8, 3) := dk_160 0 8 (dk_at dksX5_lay_3 6 rfl rfl)
theorem dX5_lay_79 : decode cX5_lay 79 = .ok (.iload_n 3, 1) := dk_29 (dk_at dksX5_lay_3 9 rfl rfl)
theorem dX5_lay_80 : decode cX5_lay 80 = .ok (.i2s, 1) := dk_147 (dk_at dksX5_lay_3 10 rfl rfl)
theorem dX5_lay_81 : decode cX5_lay 81 = .ok (.goto 4, 3) := dk_167 0 4 (dk_at dksX5_lay_3 11 rfl rfl)
theorem dX5_lay_84 : decode cX5_lay 84 = .ok (.iload_n 3, 1) := dk_29 (dk_at dksX5_lay_3 14 rfl rfl)
theorem dX5_lay_85 : decode cX5_lay 85 = .ok (.iastore, 1) := dk_79 (dk_at dksX5_lay_3 15 rfl rfl)
theorem dX5_lay_86 : decode cX5_lay 86 = .ok (.iconst 1, 1) := dk_4 (dk_at dksX5_lay_3 16 rfl rfl)
theorem dX5_lay_87 : decode cX5_lay 87 = .ok (.ireturn, 1) := dk_172 (dk_at dksX5_lay_3 17 rfl rfl)
abbrev cX5_read : ByteArray := prog_14_method_96_code
def yX5_read : MethodName := ⟨RX5, "read", "(IIII)I"⟩
def dkwX5_read_12 : List UInt8 := [4, 160, 0, 7, 4, 167, 0, 4, 3, 182, 1, 26, 87, 132, 7, 1, 167, 255, 194, 21, 6, 172]
abbrev dktX5_read_12 : List UInt8 := dkwX5_read_12 ++ []
def dkwX5_read_11 : List UInt8 := [180, 0, 86, 21, 8, 46, 42, 180, 0, 86, 21, 8, 4, 96, 46, 42, 180, 0, 86, 21, 8, 5, 96, 46]
abbrev dktX5_read_11 : List UInt8 := dkwX5_read_11 ++ dktX5_read_12
def dkwX5_read_10 : List UInt8 := [54, 7, 21, 7, 21, 6, 162, 0, 61, 16, 40, 27, 104, 29, 96, 6, 21, 7, 104, 96, 54, 8, 42, 42]
abbrev dktX5_read_10 : List UInt8 := dkwX5_read_10 ++ dktX5_read_11
def dkwX5_read_9 : List UInt8 := [16, 24, 160, 0, 6, 16, 253, 172, 132, 6, 1, 132, 7, 1, 167, 255, 61, 42, 21, 5, 181, 1, 98, 3]
abbrev dktX5_read_9 : List UInt8 := dkwX5_read_9 ++ dktX5_read_10
def dkwX5_read_8 : List UInt8 := [46, 133, 9, 10, 184, 0, 137, 154, 0, 9, 16, 236, 21, 7, 100, 172, 42, 180, 0, 120, 21, 6, 96]
abbrev dktX5_read_8 : List UInt8 := dkwX5_read_8 ++ dktX5_read_9
def dkwX5_read_7 : List UInt8 := [42, 42, 180, 0, 86, 21, 8, 4, 96, 46, 182, 0, 225, 153, 0, 21, 42, 180, 0, 86, 21, 8, 5, 96]
abbrev dktX5_read_7 : List UInt8 := dkwX5_read_7 ++ dktX5_read_8
def dkwX5_read_6 : List UInt8 := [104, 29, 96, 6, 21, 7, 104, 96, 54, 8, 42, 42, 180, 0, 86, 21, 8, 46, 182, 0, 237, 153, 0, 37]
abbrev dktX5_read_6 : List UInt8 := dkwX5_read_6 ++ dktX5_read_7
def dkwX5_read_5 : List UInt8 := [155, 0, 7, 5, 167, 0, 4, 3, 54, 5, 132, 8, 1, 167, 255, 172, 21, 5, 154, 0, 88, 16, 40, 27]
abbrev dktX5_read_5 : List UInt8 := dkwX5_read_5 ++ dktX5_read_6
def dkwX5_read_4 : List UInt8 := [159, 0, 7, 6, 167, 0, 28, 22, 9, 9, 148, 155, 0, 16, 22, 9, 42, 180, 0, 83, 27, 46, 133, 148]
abbrev dktX5_read_4 : List UInt8 := dkwX5_read_4 ++ dktX5_read_5
def dkwX5_read_3 : List UInt8 := [55, 9, 42, 180, 0, 80, 27, 46, 16, 252, 160, 0, 7, 4, 167, 0, 42, 42, 180, 0, 80, 27, 46, 28]
abbrev dktX5_read_3 : List UInt8 := dkwX5_read_3 ++ dktX5_read_4
def dkwX5_read_2 : List UInt8 := [21, 8, 6, 162, 0, 84, 21, 5, 154, 0, 79, 29, 133, 6, 21, 7, 104, 133, 97, 21, 8, 133, 97]
abbrev dktX5_read_2 : List UInt8 := dkwX5_read_2 ++ dktX5_read_3
def dkwX5_read_1 : List UInt8 := [54, 5, 3, 54, 6, 3, 54, 7, 21, 7, 21, 4, 162, 0, 194, 21, 5, 154, 0, 189, 3, 54, 8]
abbrev dktX5_read_1 : List UInt8 := dkwX5_read_1 ++ dktX5_read_2
def dkwX5_read_0 : List UInt8 := [27, 28, 184, 1, 93, 153, 0, 16, 21, 4, 133, 9, 20, 1, 96, 184, 0, 137, 154, 0, 5, 2, 172, 3]
abbrev dktX5_read_0 : List UInt8 := dkwX5_read_0 ++ dktX5_read_1
theorem dksX5_read_0 : cX5_read.data.toList.drop 0 = dktX5_read_0 := by decide +kernel
theorem dksX5_read_1 : cX5_read.data.toList.drop 24 = dktX5_read_1 := dk_seg dksX5_read_0 24 rfl rfl
theorem dksX5_read_2 : cX5_read.data.toList.drop 47 = dktX5_read_2 := dk_seg dksX5_read_1 23 rfl rfl
theorem dksX5_read_3 : cX5_read.data.toList.drop 70 = dktX5_read_3 := dk_seg dksX5_read_2 23 rfl rfl
theorem dksX5_read_4 : cX5_read.data.toList.drop 94 = dktX5_read_4 := dk_seg dksX5_read_3 24 rfl rfl
theorem dksX5_read_5 : cX5_read.data.toList.drop 118 = dktX5_read_5 := dk_seg dksX5_read_4 24 rfl rfl
theorem dksX5_read_6 : cX5_read.data.toList.drop 142 = dktX5_read_6 := dk_seg dksX5_read_5 24 rfl rfl
theorem dksX5_read_7 : cX5_read.data.toList.drop 166 = dktX5_read_7 := dk_seg dksX5_read_6 24 rfl rfl
theorem dksX5_read_8 : cX5_read.data.toList.drop 190 = dktX5_read_8 := dk_seg dksX5_read_7 24 rfl rfl
theorem dksX5_read_9 : cX5_read.data.toList.drop 213 = dktX5_read_9 := dk_seg dksX5_read_8 23 rfl rfl
theorem dksX5_read_10 : cX5_read.data.toList.drop 237 = dktX5_read_10 := dk_seg dksX5_read_9 24 rfl rfl
theorem dksX5_read_11 : cX5_read.data.toList.drop 261 = dktX5_read_11 := dk_seg dksX5_read_10 24 rfl rfl
theorem dksX5_read_12 : cX5_read.data.toList.drop 285 = dktX5_read_12 := dk_seg dksX5_read_11 24 rfl rfl
theorem dX5_read_0 : decode cX5_read 0 = .ok (.iload_n 1, 1) := dk_27 (dk_at dksX5_read_0 0 rfl rfl)
theorem dX5_read_1 : decode cX5_read 1 = .ok (.iload_n 2, 1) := dk_28 (dk_at dksX5_read_0 1 rfl rfl)
theorem dX5_read_2 : decode cX5_read 2 = .ok (.invokestatic 349, 3) := dk_184 1 93 (dk_at dksX5_read_0 2 rfl rfl)
theorem dX5_read_5 : decode cX5_read 5 = .ok (.ifCond .eq 16, 3) := dk_153 0 16 (dk_at dksX5_read_0 5 rfl rfl)
theorem dX5_read_8 : decode cX5_read 8 = .ok (.iload 4, 2) := dk_21 4 (dk_at dksX5_read_0 8 rfl rfl)
theorem dX5_read_10 : decode cX5_read 10 = .ok (.i2l, 1) := dk_133 (dk_at dksX5_read_0 10 rfl rfl)
theorem dX5_read_11 : decode cX5_read 11 = .ok (.lconst 0, 1) := dk_9 (dk_at dksX5_read_0 11 rfl rfl)
theorem dX5_read_12 : decode cX5_read 12 = .ok (.ldc2_w 352, 3) := dk_20 1 96 (dk_at dksX5_read_0 12 rfl rfl)
theorem dX5_read_15 : decode cX5_read 15 = .ok (.invokestatic 137, 3) := dk_184 0 137 (dk_at dksX5_read_0 15 rfl rfl)
theorem dX5_read_18 : decode cX5_read 18 = .ok (.ifCond .ne 5, 3) := dk_154 0 5 (dk_at dksX5_read_0 18 rfl rfl)
theorem dX5_read_21 : decode cX5_read 21 = .ok (.iconst (-1), 1) := dk_2 (dk_at dksX5_read_0 21 rfl rfl)
theorem dX5_read_22 : decode cX5_read 22 = .ok (.ireturn, 1) := dk_172 (dk_at dksX5_read_0 22 rfl rfl)
theorem dX5_read_23 : decode cX5_read 23 = .ok (.iconst 0, 1) := dk_3 (dk_at dksX5_read_0 23 rfl rfl)
theorem dX5_read_24 : decode cX5_read 24 = .ok (.istore 5, 2) := dk_54 5 (dk_at dksX5_read_1 0 rfl rfl)
theorem dX5_read_26 : decode cX5_read 26 = .ok (.iconst 0, 1) := dk_3 (dk_at dksX5_read_1 2 rfl rfl)
theorem dX5_read_27 : decode cX5_read 27 = .ok (.istore 6, 2) := dk_54 6 (dk_at dksX5_read_1 3 rfl rfl)
theorem dX5_read_29 : decode cX5_read 29 = .ok (.iconst 0, 1) := dk_3 (dk_at dksX5_read_1 5 rfl rfl)
theorem dX5_read_30 : decode cX5_read 30 = .ok (.istore 7, 2) := dk_54 7 (dk_at dksX5_read_1 6 rfl rfl)
theorem dX5_read_32 : decode cX5_read 32 = .ok (.iload 7, 2) := dk_21 7 (dk_at dksX5_read_1 8 rfl rfl)
theorem dX5_read_34 : decode cX5_read 34 = .ok (.iload 4, 2) := dk_21 4 (dk_at dksX5_read_1 10 rfl rfl)
theorem dX5_read_36 : decode cX5_read 36 = .ok (.if_icmp .ge 194, 3) := dk_162 0 194 (dk_at dksX5_read_1 12 rfl rfl)
theorem dX5_read_39 : decode cX5_read 39 = .ok (.iload 5, 2) := dk_21 5 (dk_at dksX5_read_1 15 rfl rfl)
theorem dX5_read_41 : decode cX5_read 41 = .ok (.ifCond .ne 189, 3) := dk_154 0 189 (dk_at dksX5_read_1 17 rfl rfl)
theorem dX5_read_44 : decode cX5_read 44 = .ok (.iconst 0, 1) := dk_3 (dk_at dksX5_read_1 20 rfl rfl)
theorem dX5_read_45 : decode cX5_read 45 = .ok (.istore 8, 2) := dk_54 8 (dk_at dksX5_read_1 21 rfl rfl)
theorem dX5_read_47 : decode cX5_read 47 = .ok (.iload 8, 2) := dk_21 8 (dk_at dksX5_read_2 0 rfl rfl)
theorem dX5_read_49 : decode cX5_read 49 = .ok (.iconst 3, 1) := dk_6 (dk_at dksX5_read_2 2 rfl rfl)
theorem dX5_read_50 : decode cX5_read 50 = .ok (.if_icmp .ge 84, 3) := dk_162 0 84 (dk_at dksX5_read_2 3 rfl rfl)
theorem dX5_read_53 : decode cX5_read 53 = .ok (.iload 5, 2) := dk_21 5 (dk_at dksX5_read_2 6 rfl rfl)
theorem dX5_read_55 : decode cX5_read 55 = .ok (.ifCond .ne 79, 3) := dk_154 0 79 (dk_at dksX5_read_2 8 rfl rfl)
theorem dX5_read_58 : decode cX5_read 58 = .ok (.iload_n 3, 1) := dk_29 (dk_at dksX5_read_2 11 rfl rfl)
theorem dX5_read_59 : decode cX5_read 59 = .ok (.i2l, 1) := dk_133 (dk_at dksX5_read_2 12 rfl rfl)
theorem dX5_read_60 : decode cX5_read 60 = .ok (.iconst 3, 1) := dk_6 (dk_at dksX5_read_2 13 rfl rfl)
theorem dX5_read_61 : decode cX5_read 61 = .ok (.iload 7, 2) := dk_21 7 (dk_at dksX5_read_2 14 rfl rfl)
theorem dX5_read_63 : decode cX5_read 63 = .ok (.imul, 1) := dk_104 (dk_at dksX5_read_2 16 rfl rfl)
theorem dX5_read_64 : decode cX5_read 64 = .ok (.i2l, 1) := dk_133 (dk_at dksX5_read_2 17 rfl rfl)
theorem dX5_read_65 : decode cX5_read 65 = .ok (.ladd, 1) := dk_97 (dk_at dksX5_read_2 18 rfl rfl)
theorem dX5_read_66 : decode cX5_read 66 = .ok (.iload 8, 2) := dk_21 8 (dk_at dksX5_read_2 19 rfl rfl)
theorem dX5_read_68 : decode cX5_read 68 = .ok (.i2l, 1) := dk_133 (dk_at dksX5_read_2 21 rfl rfl)
theorem dX5_read_69 : decode cX5_read 69 = .ok (.ladd, 1) := dk_97 (dk_at dksX5_read_2 22 rfl rfl)
theorem dX5_read_70 : decode cX5_read 70 = .ok (.lstore 9, 2) := dk_55 9 (dk_at dksX5_read_3 0 rfl rfl)
theorem dX5_read_72 : decode cX5_read 72 = .ok (.aload_n 0, 1) := dk_42 (dk_at dksX5_read_3 2 rfl rfl)
theorem dX5_read_73 : decode cX5_read 73 = .ok (.getfield 80, 3) := dk_180 0 80 (dk_at dksX5_read_3 3 rfl rfl)
theorem dX5_read_76 : decode cX5_read 76 = .ok (.iload_n 1, 1) := dk_27 (dk_at dksX5_read_3 6 rfl rfl)
theorem dX5_read_77 : decode cX5_read 77 = .ok (.iaload, 1) := dk_46 (dk_at dksX5_read_3 7 rfl rfl)
theorem dX5_read_78 : decode cX5_read 78 = .ok (.bipush (-4), 2) := dk_16 252 (dk_at dksX5_read_3 8 rfl rfl)
theorem dX5_read_80 : decode cX5_read 80 = .ok (.if_icmp .ne 7, 3) := dk_160 0 7 (dk_at dksX5_read_3 10 rfl rfl)
theorem dX5_read_83 : decode cX5_read 83 = .ok (.iconst 1, 1) := dk_4 (dk_at dksX5_read_3 13 rfl rfl)
theorem dX5_read_84 : decode cX5_read 84 = .ok (.goto 42, 3) := dk_167 0 42 (dk_at dksX5_read_3 14 rfl rfl)
theorem dX5_read_87 : decode cX5_read 87 = .ok (.aload_n 0, 1) := dk_42 (dk_at dksX5_read_3 17 rfl rfl)
theorem dX5_read_88 : decode cX5_read 88 = .ok (.getfield 80, 3) := dk_180 0 80 (dk_at dksX5_read_3 18 rfl rfl)
theorem dX5_read_91 : decode cX5_read 91 = .ok (.iload_n 1, 1) := dk_27 (dk_at dksX5_read_3 21 rfl rfl)
theorem dX5_read_92 : decode cX5_read 92 = .ok (.iaload, 1) := dk_46 (dk_at dksX5_read_3 22 rfl rfl)
theorem dX5_read_93 : decode cX5_read 93 = .ok (.iload_n 2, 1) := dk_28 (dk_at dksX5_read_3 23 rfl rfl)
theorem dX5_read_94 : decode cX5_read 94 = .ok (.if_icmp .eq 7, 3) := dk_159 0 7 (dk_at dksX5_read_4 0 rfl rfl)
theorem dX5_read_97 : decode cX5_read 97 = .ok (.iconst 3, 1) := dk_6 (dk_at dksX5_read_4 3 rfl rfl)
theorem dX5_read_98 : decode cX5_read 98 = .ok (.goto 28, 3) := dk_167 0 28 (dk_at dksX5_read_4 4 rfl rfl)
theorem dX5_read_101 : decode cX5_read 101 = .ok (.lload 9, 2) := dk_22 9 (dk_at dksX5_read_4 7 rfl rfl)
theorem dX5_read_103 : decode cX5_read 103 = .ok (.lconst 0, 1) := dk_9 (dk_at dksX5_read_4 9 rfl rfl)
theorem dX5_read_104 : decode cX5_read 104 = .ok (.lcmp, 1) := dk_148 (dk_at dksX5_read_4 10 rfl rfl)
theorem dX5_read_105 : decode cX5_read 105 = .ok (.ifCond .lt 16, 3) := dk_155 0 16 (dk_at dksX5_read_4 11 rfl rfl)
theorem dX5_read_108 : decode cX5_read 108 = .ok (.lload 9, 2) := dk_22 9 (dk_at dksX5_read_4 14 rfl rfl)
theorem dX5_read_110 : decode cX5_read 110 = .ok (.aload_n 0, 1) := dk_42 (dk_at dksX5_read_4 16 rfl rfl)
theorem dX5_read_111 : decode cX5_read 111 = .ok (.getfield 83, 3) := dk_180 0 83 (dk_at dksX5_read_4 17 rfl rfl)
theorem dX5_read_114 : decode cX5_read 114 = .ok (.iload_n 1, 1) := dk_27 (dk_at dksX5_read_4 20 rfl rfl)
theorem dX5_read_115 : decode cX5_read 115 = .ok (.iaload, 1) := dk_46 (dk_at dksX5_read_4 21 rfl rfl)
theorem dX5_read_116 : decode cX5_read 116 = .ok (.i2l, 1) := dk_133 (dk_at dksX5_read_4 22 rfl rfl)
theorem dX5_read_117 : decode cX5_read 117 = .ok (.lcmp, 1) := dk_148 (dk_at dksX5_read_4 23 rfl rfl)
theorem dX5_read_118 : decode cX5_read 118 = .ok (.ifCond .lt 7, 3) := dk_155 0 7 (dk_at dksX5_read_5 0 rfl rfl)
theorem dX5_read_121 : decode cX5_read 121 = .ok (.iconst 2, 1) := dk_5 (dk_at dksX5_read_5 3 rfl rfl)
theorem dX5_read_122 : decode cX5_read 122 = .ok (.goto 4, 3) := dk_167 0 4 (dk_at dksX5_read_5 4 rfl rfl)
theorem dX5_read_125 : decode cX5_read 125 = .ok (.iconst 0, 1) := dk_3 (dk_at dksX5_read_5 7 rfl rfl)
theorem dX5_read_126 : decode cX5_read 126 = .ok (.istore 5, 2) := dk_54 5 (dk_at dksX5_read_5 8 rfl rfl)
theorem dX5_read_128 : decode cX5_read 128 = .ok (.iinc 8 1, 3) := dk_132 8 1 (dk_at dksX5_read_5 10 rfl rfl)
theorem dX5_read_131 : decode cX5_read 131 = .ok (.goto (-84), 3) := dk_167 255 172 (dk_at dksX5_read_5 13 rfl rfl)
theorem dX5_read_134 : decode cX5_read 134 = .ok (.iload 5, 2) := dk_21 5 (dk_at dksX5_read_5 16 rfl rfl)
theorem dX5_read_136 : decode cX5_read 136 = .ok (.ifCond .ne 88, 3) := dk_154 0 88 (dk_at dksX5_read_5 18 rfl rfl)
theorem dX5_read_139 : decode cX5_read 139 = .ok (.bipush 40, 2) := dk_16 40 (dk_at dksX5_read_5 21 rfl rfl)
theorem dX5_read_141 : decode cX5_read 141 = .ok (.iload_n 1, 1) := dk_27 (dk_at dksX5_read_5 23 rfl rfl)
theorem dX5_read_142 : decode cX5_read 142 = .ok (.imul, 1) := dk_104 (dk_at dksX5_read_6 0 rfl rfl)
theorem dX5_read_143 : decode cX5_read 143 = .ok (.iload_n 3, 1) := dk_29 (dk_at dksX5_read_6 1 rfl rfl)
theorem dX5_read_144 : decode cX5_read 144 = .ok (.iadd, 1) := dk_96 (dk_at dksX5_read_6 2 rfl rfl)
theorem dX5_read_145 : decode cX5_read 145 = .ok (.iconst 3, 1) := dk_6 (dk_at dksX5_read_6 3 rfl rfl)
theorem dX5_read_146 : decode cX5_read 146 = .ok (.iload 7, 2) := dk_21 7 (dk_at dksX5_read_6 4 rfl rfl)
theorem dX5_read_148 : decode cX5_read 148 = .ok (.imul, 1) := dk_104 (dk_at dksX5_read_6 6 rfl rfl)
theorem dX5_read_149 : decode cX5_read 149 = .ok (.iadd, 1) := dk_96 (dk_at dksX5_read_6 7 rfl rfl)
theorem dX5_read_150 : decode cX5_read 150 = .ok (.istore 8, 2) := dk_54 8 (dk_at dksX5_read_6 8 rfl rfl)
theorem dX5_read_152 : decode cX5_read 152 = .ok (.aload_n 0, 1) := dk_42 (dk_at dksX5_read_6 10 rfl rfl)
theorem dX5_read_153 : decode cX5_read 153 = .ok (.aload_n 0, 1) := dk_42 (dk_at dksX5_read_6 11 rfl rfl)
theorem dX5_read_154 : decode cX5_read 154 = .ok (.getfield 86, 3) := dk_180 0 86 (dk_at dksX5_read_6 12 rfl rfl)
theorem dX5_read_157 : decode cX5_read 157 = .ok (.iload 8, 2) := dk_21 8 (dk_at dksX5_read_6 15 rfl rfl)
theorem dX5_read_159 : decode cX5_read 159 = .ok (.iaload, 1) := dk_46 (dk_at dksX5_read_6 17 rfl rfl)
theorem dX5_read_160 : decode cX5_read 160 = .ok (.invokevirtual 237, 3) := dk_182 0 237 (dk_at dksX5_read_6 18 rfl rfl)
theorem dX5_read_163 : decode cX5_read 163 = .ok (.ifCond .eq 37, 3) := dk_153 0 37 (dk_at dksX5_read_6 21 rfl rfl)
theorem dX5_read_166 : decode cX5_read 166 = .ok (.aload_n 0, 1) := dk_42 (dk_at dksX5_read_7 0 rfl rfl)
theorem dX5_read_167 : decode cX5_read 167 = .ok (.aload_n 0, 1) := dk_42 (dk_at dksX5_read_7 1 rfl rfl)
theorem dX5_read_168 : decode cX5_read 168 = .ok (.getfield 86, 3) := dk_180 0 86 (dk_at dksX5_read_7 2 rfl rfl)
theorem dX5_read_171 : decode cX5_read 171 = .ok (.iload 8, 2) := dk_21 8 (dk_at dksX5_read_7 5 rfl rfl)
theorem dX5_read_173 : decode cX5_read 173 = .ok (.iconst 1, 1) := dk_4 (dk_at dksX5_read_7 7 rfl rfl)
theorem dX5_read_174 : decode cX5_read 174 = .ok (.iadd, 1) := dk_96 (dk_at dksX5_read_7 8 rfl rfl)
theorem dX5_read_175 : decode cX5_read 175 = .ok (.iaload, 1) := dk_46 (dk_at dksX5_read_7 9 rfl rfl)
theorem dX5_read_176 : decode cX5_read 176 = .ok (.invokevirtual 225, 3) := dk_182 0 225 (dk_at dksX5_read_7 10 rfl rfl)
theorem dX5_read_179 : decode cX5_read 179 = .ok (.ifCond .eq 21, 3) := dk_153 0 21 (dk_at dksX5_read_7 13 rfl rfl)
theorem dX5_read_182 : decode cX5_read 182 = .ok (.aload_n 0, 1) := dk_42 (dk_at dksX5_read_7 16 rfl rfl)
theorem dX5_read_183 : decode cX5_read 183 = .ok (.getfield 86, 3) := dk_180 0 86 (dk_at dksX5_read_7 17 rfl rfl)
theorem dX5_read_186 : decode cX5_read 186 = .ok (.iload 8, 2) := dk_21 8 (dk_at dksX5_read_7 20 rfl rfl)
theorem dX5_read_188 : decode cX5_read 188 = .ok (.iconst 2, 1) := dk_5 (dk_at dksX5_read_7 22 rfl rfl)
theorem dX5_read_189 : decode cX5_read 189 = .ok (.iadd, 1) := dk_96 (dk_at dksX5_read_7 23 rfl rfl)
theorem dX5_read_190 : decode cX5_read 190 = .ok (.iaload, 1) := dk_46 (dk_at dksX5_read_8 0 rfl rfl)
theorem dX5_read_191 : decode cX5_read 191 = .ok (.i2l, 1) := dk_133 (dk_at dksX5_read_8 1 rfl rfl)
theorem dX5_read_192 : decode cX5_read 192 = .ok (.lconst 0, 1) := dk_9 (dk_at dksX5_read_8 2 rfl rfl)
theorem dX5_read_193 : decode cX5_read 193 = .ok (.lconst 1, 1) := dk_10 (dk_at dksX5_read_8 3 rfl rfl)
theorem dX5_read_194 : decode cX5_read 194 = .ok (.invokestatic 137, 3) := dk_184 0 137 (dk_at dksX5_read_8 4 rfl rfl)
theorem dX5_read_197 : decode cX5_read 197 = .ok (.ifCond .ne 9, 3) := dk_154 0 9 (dk_at dksX5_read_8 7 rfl rfl)
theorem dX5_read_200 : decode cX5_read 200 = .ok (.bipush (-20), 2) := dk_16 236 (dk_at dksX5_read_8 10 rfl rfl)
theorem dX5_read_202 : decode cX5_read 202 = .ok (.iload 7, 2) := dk_21 7 (dk_at dksX5_read_8 12 rfl rfl)
theorem dX5_read_204 : decode cX5_read 204 = .ok (.isub, 1) := dk_100 (dk_at dksX5_read_8 14 rfl rfl)
theorem dX5_read_205 : decode cX5_read 205 = .ok (.ireturn, 1) := dk_172 (dk_at dksX5_read_8 15 rfl rfl)
theorem dX5_read_206 : decode cX5_read 206 = .ok (.aload_n 0, 1) := dk_42 (dk_at dksX5_read_8 16 rfl rfl)
theorem dX5_read_207 : decode cX5_read 207 = .ok (.getfield 120, 3) := dk_180 0 120 (dk_at dksX5_read_8 17 rfl rfl)
theorem dX5_read_210 : decode cX5_read 210 = .ok (.iload 6, 2) := dk_21 6 (dk_at dksX5_read_8 20 rfl rfl)
theorem dX5_read_212 : decode cX5_read 212 = .ok (.iadd, 1) := dk_96 (dk_at dksX5_read_8 22 rfl rfl)
theorem dX5_read_213 : decode cX5_read 213 = .ok (.bipush 24, 2) := dk_16 24 (dk_at dksX5_read_9 0 rfl rfl)
theorem dX5_read_215 : decode cX5_read 215 = .ok (.if_icmp .ne 6, 3) := dk_160 0 6 (dk_at dksX5_read_9 2 rfl rfl)
theorem dX5_read_218 : decode cX5_read 218 = .ok (.bipush (-3), 2) := dk_16 253 (dk_at dksX5_read_9 5 rfl rfl)
theorem dX5_read_220 : decode cX5_read 220 = .ok (.ireturn, 1) := dk_172 (dk_at dksX5_read_9 7 rfl rfl)
theorem dX5_read_221 : decode cX5_read 221 = .ok (.iinc 6 1, 3) := dk_132 6 1 (dk_at dksX5_read_9 8 rfl rfl)
theorem dX5_read_224 : decode cX5_read 224 = .ok (.iinc 7 1, 3) := dk_132 7 1 (dk_at dksX5_read_9 11 rfl rfl)
theorem dX5_read_227 : decode cX5_read 227 = .ok (.goto (-195), 3) := dk_167 255 61 (dk_at dksX5_read_9 14 rfl rfl)
theorem dX5_read_230 : decode cX5_read 230 = .ok (.aload_n 0, 1) := dk_42 (dk_at dksX5_read_9 17 rfl rfl)
theorem dX5_read_231 : decode cX5_read 231 = .ok (.iload 5, 2) := dk_21 5 (dk_at dksX5_read_9 18 rfl rfl)
theorem dX5_read_233 : decode cX5_read 233 = .ok (.putfield 354, 3) := dk_181 1 98 (dk_at dksX5_read_9 20 rfl rfl)
theorem dX5_read_236 : decode cX5_read 236 = .ok (.iconst 0, 1) := dk_3 (dk_at dksX5_read_9 23 rfl rfl)
theorem dX5_read_237 : decode cX5_read 237 = .ok (.istore 7, 2) := dk_54 7 (dk_at dksX5_read_10 0 rfl rfl)
theorem dX5_read_239 : decode cX5_read 239 = .ok (.iload 7, 2) := dk_21 7 (dk_at dksX5_read_10 2 rfl rfl)
theorem dX5_read_241 : decode cX5_read 241 = .ok (.iload 6, 2) := dk_21 6 (dk_at dksX5_read_10 4 rfl rfl)
theorem dX5_read_243 : decode cX5_read 243 = .ok (.if_icmp .ge 61, 3) := dk_162 0 61 (dk_at dksX5_read_10 6 rfl rfl)
theorem dX5_read_246 : decode cX5_read 246 = .ok (.bipush 40, 2) := dk_16 40 (dk_at dksX5_read_10 9 rfl rfl)
theorem dX5_read_248 : decode cX5_read 248 = .ok (.iload_n 1, 1) := dk_27 (dk_at dksX5_read_10 11 rfl rfl)
theorem dX5_read_249 : decode cX5_read 249 = .ok (.imul, 1) := dk_104 (dk_at dksX5_read_10 12 rfl rfl)
theorem dX5_read_250 : decode cX5_read 250 = .ok (.iload_n 3, 1) := dk_29 (dk_at dksX5_read_10 13 rfl rfl)
theorem dX5_read_251 : decode cX5_read 251 = .ok (.iadd, 1) := dk_96 (dk_at dksX5_read_10 14 rfl rfl)
theorem dX5_read_252 : decode cX5_read 252 = .ok (.iconst 3, 1) := dk_6 (dk_at dksX5_read_10 15 rfl rfl)
theorem dX5_read_253 : decode cX5_read 253 = .ok (.iload 7, 2) := dk_21 7 (dk_at dksX5_read_10 16 rfl rfl)
theorem dX5_read_255 : decode cX5_read 255 = .ok (.imul, 1) := dk_104 (dk_at dksX5_read_10 18 rfl rfl)
theorem dX5_read_256 : decode cX5_read 256 = .ok (.iadd, 1) := dk_96 (dk_at dksX5_read_10 19 rfl rfl)
theorem dX5_read_257 : decode cX5_read 257 = .ok (.istore 8, 2) := dk_54 8 (dk_at dksX5_read_10 20 rfl rfl)
theorem dX5_read_259 : decode cX5_read 259 = .ok (.aload_n 0, 1) := dk_42 (dk_at dksX5_read_10 22 rfl rfl)
theorem dX5_read_260 : decode cX5_read 260 = .ok (.aload_n 0, 1) := dk_42 (dk_at dksX5_read_10 23 rfl rfl)
theorem dX5_read_261 : decode cX5_read 261 = .ok (.getfield 86, 3) := dk_180 0 86 (dk_at dksX5_read_11 0 rfl rfl)
theorem dX5_read_264 : decode cX5_read 264 = .ok (.iload 8, 2) := dk_21 8 (dk_at dksX5_read_11 3 rfl rfl)
theorem dX5_read_266 : decode cX5_read 266 = .ok (.iaload, 1) := dk_46 (dk_at dksX5_read_11 5 rfl rfl)
theorem dX5_read_267 : decode cX5_read 267 = .ok (.aload_n 0, 1) := dk_42 (dk_at dksX5_read_11 6 rfl rfl)
theorem dX5_read_268 : decode cX5_read 268 = .ok (.getfield 86, 3) := dk_180 0 86 (dk_at dksX5_read_11 7 rfl rfl)
theorem dX5_read_271 : decode cX5_read 271 = .ok (.iload 8, 2) := dk_21 8 (dk_at dksX5_read_11 10 rfl rfl)
theorem dX5_read_273 : decode cX5_read 273 = .ok (.iconst 1, 1) := dk_4 (dk_at dksX5_read_11 12 rfl rfl)
theorem dX5_read_274 : decode cX5_read 274 = .ok (.iadd, 1) := dk_96 (dk_at dksX5_read_11 13 rfl rfl)
theorem dX5_read_275 : decode cX5_read 275 = .ok (.iaload, 1) := dk_46 (dk_at dksX5_read_11 14 rfl rfl)
theorem dX5_read_276 : decode cX5_read 276 = .ok (.aload_n 0, 1) := dk_42 (dk_at dksX5_read_11 15 rfl rfl)
theorem dX5_read_277 : decode cX5_read 277 = .ok (.getfield 86, 3) := dk_180 0 86 (dk_at dksX5_read_11 16 rfl rfl)
theorem dX5_read_280 : decode cX5_read 280 = .ok (.iload 8, 2) := dk_21 8 (dk_at dksX5_read_11 19 rfl rfl)
theorem dX5_read_282 : decode cX5_read 282 = .ok (.iconst 2, 1) := dk_5 (dk_at dksX5_read_11 21 rfl rfl)
theorem dX5_read_283 : decode cX5_read 283 = .ok (.iadd, 1) := dk_96 (dk_at dksX5_read_11 22 rfl rfl)
theorem dX5_read_284 : decode cX5_read 284 = .ok (.iaload, 1) := dk_46 (dk_at dksX5_read_11 23 rfl rfl)
theorem dX5_read_285 : decode cX5_read 285 = .ok (.iconst 1, 1) := dk_4 (dk_at dksX5_read_12 0 rfl rfl)
theorem dX5_read_286 : decode cX5_read 286 = .ok (.if_icmp .ne 7, 3) := dk_160 0 7 (dk_at dksX5_read_12 1 rfl rfl)
theorem dX5_read_289 : decode cX5_read 289 = .ok (.iconst 1, 1) := dk_4 (dk_at dksX5_read_12 4 rfl rfl)
theorem dX5_read_290 : decode cX5_read 290 = .ok (.goto 4, 3) := dk_167 0 4 (dk_at dksX5_read_12 5 rfl rfl)
theorem dX5_read_293 : decode cX5_read 293 = .ok (.iconst 0, 1) := dk_3 (dk_at dksX5_read_12 8 rfl rfl)
theorem dX5_read_294 : decode cX5_read 294 = .ok (.invokevirtual 282, 3) := dk_182 1 26 (dk_at dksX5_read_12 9 rfl rfl)
theorem dX5_read_297 : decode cX5_read 297 = .ok (.pop, 1) := dk_87 (dk_at dksX5_read_12 12 rfl rfl)
theorem dX5_read_298 : decode cX5_read 298 = .ok (.iinc 7 1, 3) := dk_132 7 1 (dk_at dksX5_read_12 13 rfl rfl)
theorem dX5_read_301 : decode cX5_read 301 = .ok (.goto (-62), 3) := dk_167 255 194 (dk_at dksX5_read_12 16 rfl rfl)
theorem dX5_read_304 : decode cX5_read 304 = .ok (.iload 6, 2) := dk_21 6 (dk_at dksX5_read_12 19 rfl rfl)
theorem dX5_read_306 : decode cX5_read 306 = .ok (.ireturn, 1) := dk_172 (dk_at dksX5_read_12 21 rfl rfl)
abbrev cX5_torn : ByteArray := prog_14_method_97_code
def yX5_torn : MethodName := ⟨RX5, "torn", "()I"⟩
theorem dX5_torn_0 : decode cX5_torn 0 = .ok (.aload_n 0, 1) := by decide +kernel
theorem dX5_torn_1 : decode cX5_torn 1 = .ok (.getfield 354, 3) := by decide +kernel
theorem dX5_torn_4 : decode cX5_torn 4 = .ok (.ireturn, 1) := by decide +kernel
abbrev cX5_count : ByteArray := prog_14_method_98_code
def yX5_count : MethodName := ⟨RX5, "count", "(I)I"⟩
def dkwX5_count_5 : List UInt8 := [180, 0, 83, 3, 46, 172, 2, 172]
abbrev dktX5_count_5 : List UInt8 := dkwX5_count_5 ++ []
def dkwX5_count_4 : List UInt8 := [96, 172, 42, 180, 0, 132, 172, 42, 180, 0, 80, 3, 46, 16, 252, 160, 0, 8, 16, 252, 167, 0, 9, 42]
abbrev dktX5_count_4 : List UInt8 := dkwX5_count_4 ++ dktX5_count_5
def dkwX5_count_3 : List UInt8 := [172, 42, 180, 0, 126, 172, 42, 180, 0, 68, 3, 51, 184, 0, 254, 42, 180, 0, 68, 4, 51, 184, 0, 254]
abbrev dktX5_count_3 : List UInt8 := dkwX5_count_3 ++ dktX5_count_4
def dkwX5_count_2 : List UInt8 := [42, 180, 0, 108, 172, 42, 180, 0, 111, 172, 42, 180, 0, 114, 172, 42, 180, 0, 117, 172, 42, 180, 0, 120]
abbrev dktX5_count_2 : List UInt8 := dkwX5_count_2 ++ dktX5_count_3
def dkwX5_count_1 : List UInt8 := [170, 0, 0, 0, 0, 0, 129, 0, 0, 0, 0, 0, 0, 0, 8, 0, 0, 0, 51, 0, 0, 0, 56, 0, 0, 0, 61, 0, 0, 0, 66, 0, 0, 0, 71, 0, 0, 0, 76, 0, 0, 0, 81, 0, 0, 0, 101, 0, 0, 0, 106]
abbrev dktX5_count_1 : List UInt8 := dkwX5_count_1 ++ dktX5_count_2
def dkwX5_count_0 : List UInt8 := [27]
abbrev dktX5_count_0 : List UInt8 := dkwX5_count_0 ++ dktX5_count_1
theorem dksX5_count_0 : cX5_count.data.toList.drop 0 = dktX5_count_0 := by decide +kernel
theorem dksX5_count_1 : cX5_count.data.toList.drop 1 = dktX5_count_1 := dk_seg dksX5_count_0 1 rfl rfl
theorem dksX5_count_2 : cX5_count.data.toList.drop 52 = dktX5_count_2 := dk_seg dksX5_count_1 51 rfl rfl
theorem dksX5_count_3 : cX5_count.data.toList.drop 76 = dktX5_count_3 := dk_seg dksX5_count_2 24 rfl rfl
theorem dksX5_count_4 : cX5_count.data.toList.drop 100 = dktX5_count_4 := dk_seg dksX5_count_3 24 rfl rfl
theorem dksX5_count_5 : cX5_count.data.toList.drop 124 = dktX5_count_5 := dk_seg dksX5_count_4 24 rfl rfl
theorem dX5_count_0 : decode cX5_count 0 = .ok (.iload_n 1, 1) := dk_27 (dk_at dksX5_count_0 0 rfl rfl)
theorem dX5_count_1 : decode cX5_count 1 = .ok (.tableswitch 129 0 8 #[51, 56, 61, 66, 71, 76, 81, 101, 106], 51) := by decide +kernel
theorem dX5_count_52 : decode cX5_count 52 = .ok (.aload_n 0, 1) := dk_42 (dk_at dksX5_count_2 0 rfl rfl)
theorem dX5_count_53 : decode cX5_count 53 = .ok (.getfield 108, 3) := dk_180 0 108 (dk_at dksX5_count_2 1 rfl rfl)
theorem dX5_count_56 : decode cX5_count 56 = .ok (.ireturn, 1) := dk_172 (dk_at dksX5_count_2 4 rfl rfl)
theorem dX5_count_57 : decode cX5_count 57 = .ok (.aload_n 0, 1) := dk_42 (dk_at dksX5_count_2 5 rfl rfl)
theorem dX5_count_58 : decode cX5_count 58 = .ok (.getfield 111, 3) := dk_180 0 111 (dk_at dksX5_count_2 6 rfl rfl)
theorem dX5_count_61 : decode cX5_count 61 = .ok (.ireturn, 1) := dk_172 (dk_at dksX5_count_2 9 rfl rfl)
theorem dX5_count_62 : decode cX5_count 62 = .ok (.aload_n 0, 1) := dk_42 (dk_at dksX5_count_2 10 rfl rfl)
theorem dX5_count_63 : decode cX5_count 63 = .ok (.getfield 114, 3) := dk_180 0 114 (dk_at dksX5_count_2 11 rfl rfl)
theorem dX5_count_66 : decode cX5_count 66 = .ok (.ireturn, 1) := dk_172 (dk_at dksX5_count_2 14 rfl rfl)
theorem dX5_count_67 : decode cX5_count 67 = .ok (.aload_n 0, 1) := dk_42 (dk_at dksX5_count_2 15 rfl rfl)
theorem dX5_count_68 : decode cX5_count 68 = .ok (.getfield 117, 3) := dk_180 0 117 (dk_at dksX5_count_2 16 rfl rfl)
theorem dX5_count_71 : decode cX5_count 71 = .ok (.ireturn, 1) := dk_172 (dk_at dksX5_count_2 19 rfl rfl)
theorem dX5_count_72 : decode cX5_count 72 = .ok (.aload_n 0, 1) := dk_42 (dk_at dksX5_count_2 20 rfl rfl)
theorem dX5_count_73 : decode cX5_count 73 = .ok (.getfield 120, 3) := dk_180 0 120 (dk_at dksX5_count_2 21 rfl rfl)
theorem dX5_count_76 : decode cX5_count 76 = .ok (.ireturn, 1) := dk_172 (dk_at dksX5_count_3 0 rfl rfl)
theorem dX5_count_77 : decode cX5_count 77 = .ok (.aload_n 0, 1) := dk_42 (dk_at dksX5_count_3 1 rfl rfl)
theorem dX5_count_78 : decode cX5_count 78 = .ok (.getfield 126, 3) := dk_180 0 126 (dk_at dksX5_count_3 2 rfl rfl)
theorem dX5_count_81 : decode cX5_count 81 = .ok (.ireturn, 1) := dk_172 (dk_at dksX5_count_3 5 rfl rfl)
theorem dX5_count_82 : decode cX5_count 82 = .ok (.aload_n 0, 1) := dk_42 (dk_at dksX5_count_3 6 rfl rfl)
theorem dX5_count_83 : decode cX5_count 83 = .ok (.getfield 68, 3) := dk_180 0 68 (dk_at dksX5_count_3 7 rfl rfl)
theorem dX5_count_86 : decode cX5_count 86 = .ok (.iconst 0, 1) := dk_3 (dk_at dksX5_count_3 10 rfl rfl)
theorem dX5_count_87 : decode cX5_count 87 = .ok (.baload, 1) := dk_51 (dk_at dksX5_count_3 11 rfl rfl)
theorem dX5_count_88 : decode cX5_count 88 = .ok (.invokestatic 254, 3) := dk_184 0 254 (dk_at dksX5_count_3 12 rfl rfl)
theorem dX5_count_91 : decode cX5_count 91 = .ok (.aload_n 0, 1) := dk_42 (dk_at dksX5_count_3 15 rfl rfl)
theorem dX5_count_92 : decode cX5_count 92 = .ok (.getfield 68, 3) := dk_180 0 68 (dk_at dksX5_count_3 16 rfl rfl)
theorem dX5_count_95 : decode cX5_count 95 = .ok (.iconst 1, 1) := dk_4 (dk_at dksX5_count_3 19 rfl rfl)
theorem dX5_count_96 : decode cX5_count 96 = .ok (.baload, 1) := dk_51 (dk_at dksX5_count_3 20 rfl rfl)
theorem dX5_count_97 : decode cX5_count 97 = .ok (.invokestatic 254, 3) := dk_184 0 254 (dk_at dksX5_count_3 21 rfl rfl)
theorem dX5_count_100 : decode cX5_count 100 = .ok (.iadd, 1) := dk_96 (dk_at dksX5_count_4 0 rfl rfl)
theorem dX5_count_101 : decode cX5_count 101 = .ok (.ireturn, 1) := dk_172 (dk_at dksX5_count_4 1 rfl rfl)
theorem dX5_count_102 : decode cX5_count 102 = .ok (.aload_n 0, 1) := dk_42 (dk_at dksX5_count_4 2 rfl rfl)
theorem dX5_count_103 : decode cX5_count 103 = .ok (.getfield 132, 3) := dk_180 0 132 (dk_at dksX5_count_4 3 rfl rfl)
theorem dX5_count_106 : decode cX5_count 106 = .ok (.ireturn, 1) := dk_172 (dk_at dksX5_count_4 6 rfl rfl)
theorem dX5_count_107 : decode cX5_count 107 = .ok (.aload_n 0, 1) := dk_42 (dk_at dksX5_count_4 7 rfl rfl)
theorem dX5_count_108 : decode cX5_count 108 = .ok (.getfield 80, 3) := dk_180 0 80 (dk_at dksX5_count_4 8 rfl rfl)
theorem dX5_count_111 : decode cX5_count 111 = .ok (.iconst 0, 1) := dk_3 (dk_at dksX5_count_4 11 rfl rfl)
theorem dX5_count_112 : decode cX5_count 112 = .ok (.iaload, 1) := dk_46 (dk_at dksX5_count_4 12 rfl rfl)
theorem dX5_count_113 : decode cX5_count 113 = .ok (.bipush (-4), 2) := dk_16 252 (dk_at dksX5_count_4 13 rfl rfl)
theorem dX5_count_115 : decode cX5_count 115 = .ok (.if_icmp .ne 8, 3) := dk_160 0 8 (dk_at dksX5_count_4 15 rfl rfl)
theorem dX5_count_118 : decode cX5_count 118 = .ok (.bipush (-4), 2) := dk_16 252 (dk_at dksX5_count_4 18 rfl rfl)
theorem dX5_count_120 : decode cX5_count 120 = .ok (.goto 9, 3) := dk_167 0 9 (dk_at dksX5_count_4 20 rfl rfl)
theorem dX5_count_123 : decode cX5_count 123 = .ok (.aload_n 0, 1) := dk_42 (dk_at dksX5_count_4 23 rfl rfl)
theorem dX5_count_124 : decode cX5_count 124 = .ok (.getfield 83, 3) := dk_180 0 83 (dk_at dksX5_count_5 0 rfl rfl)
theorem dX5_count_127 : decode cX5_count 127 = .ok (.iconst 0, 1) := dk_3 (dk_at dksX5_count_5 3 rfl rfl)
theorem dX5_count_128 : decode cX5_count 128 = .ok (.iaload, 1) := dk_46 (dk_at dksX5_count_5 4 rfl rfl)
theorem dX5_count_129 : decode cX5_count 129 = .ok (.ireturn, 1) := dk_172 (dk_at dksX5_count_5 5 rfl rfl)
theorem dX5_count_130 : decode cX5_count 130 = .ok (.iconst (-1), 1) := dk_2 (dk_at dksX5_count_5 6 rfl rfl)
theorem dX5_count_131 : decode cX5_count 131 = .ok (.ireturn, 1) := dk_172 (dk_at dksX5_count_5 7 rfl rfl)
theorem q98 : (Jvm.Cond.initialized "FirstWordsModel") ∈ lw_all := lw_g (lw_at lw_m1 7 rfl) rfl
theorem q1200 : (Jvm.Cond.instantiable "FirstWordsModel" (45 : Nat)) ∈ lw_all := lw_g (lw_at lw_m5 149 rfl) rfl
theorem q1202 : (Jvm.Cond.instanceMethod ({ cls := "FirstWordsModel", name := "<init>", desc := "()V" } : Jvm.MethodName)) ∈ lw_all := lw_g (lw_at lw_m5 151 rfl) rfl
theorem q1203 : (Jvm.Cond.code ({ cls := "FirstWordsModel", name := "<init>", desc := "()V" } : Jvm.MethodName) prog_14_method_1_code (2 : Nat) (Option.none : Option Jvm.ClassFile.FieldType)) ∈ lw_all := lw_g (lw_at lw_m5 152 rfl) rfl
theorem q1204 : (Jvm.Cond.methodLink "FirstWordsModel" (1 : Nat) ({ cls := "java/lang/Object", name := "<init>", desc := "()V" } : Jvm.MethodName)) ∈ lw_all := lw_g (lw_at lw_m5 153 rfl) rfl
theorem q1205 : (Jvm.Cond.methodLink "FirstWordsModel" (89 : Nat) ({ cls := "FirstWordsModel", name := "firstDraft", desc := "()V" } : Jvm.MethodName)) ∈ lw_all := lw_g (lw_at lw_m5 154 rfl) rfl
theorem q1206 : (Jvm.Cond.privateMethod ({ cls := "FirstWordsModel", name := "firstDraft", desc := "()V" } : Jvm.MethodName)) ∈ lw_tbl := lw_at lw_m5 155 rfl
theorem q1207 : (Jvm.Cond.instanceMethod ({ cls := "FirstWordsModel", name := "firstDraft", desc := "()V" } : Jvm.MethodName)) ∈ lw_all := lw_g (lw_at lw_m5 156 rfl) rfl
theorem q1208 : (Jvm.Cond.code ({ cls := "FirstWordsModel", name := "firstDraft", desc := "()V" } : Jvm.MethodName) prog_14_method_6_code (1 : Nat) (Option.none : Option Jvm.ClassFile.FieldType)) ∈ lw_all := lw_g (lw_at lw_m5 157 rfl) rfl
theorem q1209 : (Jvm.Cond.methodLink "FirstWordsModel" (92 : Nat) ({ cls := "FirstWordsModel", name := "keepDraft", desc := "()V" } : Jvm.MethodName)) ∈ lw_all := lw_g (lw_at lw_m5 158 rfl) rfl
theorem q1210 : (Jvm.Cond.privateMethod ({ cls := "FirstWordsModel", name := "keepDraft", desc := "()V" } : Jvm.MethodName)) ∈ lw_tbl := lw_at lw_m5 159 rfl
theorem q1211 : (Jvm.Cond.instanceMethod ({ cls := "FirstWordsModel", name := "keepDraft", desc := "()V" } : Jvm.MethodName)) ∈ lw_all := lw_g (lw_at lw_m5 160 rfl) rfl
theorem q1212 : (Jvm.Cond.code ({ cls := "FirstWordsModel", name := "keepDraft", desc := "()V" } : Jvm.MethodName) prog_14_method_7_code (3 : Nat) (Option.none : Option Jvm.ClassFile.FieldType)) ∈ lw_all := lw_g (lw_at lw_m5 161 rfl) rfl
theorem q1213 : (Jvm.Cond.methodLink "FirstWordsModel" (129 : Nat) ({ cls := "FirstWordsModel", name := "replays", desc := "()V" } : Jvm.MethodName)) ∈ lw_all := lw_g (lw_at lw_m5 162 rfl) rfl
theorem q1214 : (Jvm.Cond.privateMethod ({ cls := "FirstWordsModel", name := "replays", desc := "()V" } : Jvm.MethodName)) ∈ lw_tbl := lw_at lw_m5 163 rfl
theorem q1215 : (Jvm.Cond.instanceMethod ({ cls := "FirstWordsModel", name := "replays", desc := "()V" } : Jvm.MethodName)) ∈ lw_all := lw_g (lw_at lw_m5 164 rfl) rfl
theorem q1216 : (Jvm.Cond.code ({ cls := "FirstWordsModel", name := "replays", desc := "()V" } : Jvm.MethodName) prog_14_method_44_code (2 : Nat) (Option.none : Option Jvm.ClassFile.FieldType)) ∈ lw_all := lw_g (lw_at lw_m5 165 rfl) rfl
theorem q1217 : (Jvm.Cond.methodLink "FirstWordsModel" (273 : Nat) ({ cls := "FirstWordsModel", name := "wakes", desc := "(I)V" } : Jvm.MethodName)) ∈ lw_all := lw_g (lw_at lw_m5 166 rfl) rfl
theorem q1218 : (Jvm.Cond.privateMethod ({ cls := "FirstWordsModel", name := "wakes", desc := "(I)V" } : Jvm.MethodName)) ∈ lw_tbl := lw_at lw_m5 167 rfl
theorem q1219 : (Jvm.Cond.instanceMethod ({ cls := "FirstWordsModel", name := "wakes", desc := "(I)V" } : Jvm.MethodName)) ∈ lw_all := lw_g (lw_at lw_m5 168 rfl) rfl
theorem q1220 : (Jvm.Cond.code ({ cls := "FirstWordsModel", name := "wakes", desc := "(I)V" } : Jvm.MethodName) prog_14_method_35_code (4 : Nat) (Option.none : Option Jvm.ClassFile.FieldType)) ∈ lw_all := lw_g (lw_at lw_m5 169 rfl) rfl
theorem q1221 : (Jvm.Cond.constantLong "FirstWordsModel" (229 : Nat) (4 : Int64)) ∈ lw_all := lw_g (lw_at lw_m5 170 rfl) rfl
theorem q1222 : (Jvm.Cond.constantLong "FirstWordsModel" (190 : Nat) (7 : Int64)) ∈ lw_all := lw_g (lw_at lw_m5 171 rfl) rfl
theorem q1223 : (Jvm.Cond.methodLink "FirstWordsModel" (137 : Nat) ({ cls := "FirstWordsModel", name := "in", desc := "(JJJ)Z" } : Jvm.MethodName)) ∈ lw_all := lw_g (lw_at lw_m5 172 rfl) rfl
theorem q1224 : (Jvm.Cond.static ({ cls := "FirstWordsModel", name := "in", desc := "(JJJ)Z" } : Jvm.MethodName)) ∈ lw_all := lw_g (lw_at lw_m5 173 rfl) rfl
theorem q1225 : (Jvm.Cond.code ({ cls := "FirstWordsModel", name := "in", desc := "(JJJ)Z" } : Jvm.MethodName) prog_14_method_3_code (6 : Nat) (Option.some Jvm.ClassFile.FieldType.boolean)) ∈ lw_all := lw_g (lw_at lw_m5 174 rfl) rfl
theorem q1226 : (Jvm.Cond.methodLink "FirstWordsModel" (276 : Nat) ({ cls := "FirstWordsModel", name := "sees", desc := "(IIIIZ)V" } : Jvm.MethodName)) ∈ lw_all := lw_g (lw_at lw_m5 175 rfl) rfl
theorem q1227 : (Jvm.Cond.privateMethod ({ cls := "FirstWordsModel", name := "sees", desc := "(IIIIZ)V" } : Jvm.MethodName)) ∈ lw_tbl := lw_at lw_m5 176 rfl
theorem q1228 : (Jvm.Cond.instanceMethod ({ cls := "FirstWordsModel", name := "sees", desc := "(IIIIZ)V" } : Jvm.MethodName)) ∈ lw_all := lw_g (lw_at lw_m5 177 rfl) rfl
theorem q1229 : (Jvm.Cond.code ({ cls := "FirstWordsModel", name := "sees", desc := "(IIIIZ)V" } : Jvm.MethodName) prog_14_method_43_code (8 : Nat) (Option.none : Option Jvm.ClassFile.FieldType)) ∈ lw_all := lw_g (lw_at lw_m5 178 rfl) rfl
theorem q1230 : (Jvm.Cond.methodLink "FirstWordsModel" (265 : Nat) ({ cls := "FirstWordsModel", name := "flees", desc := "(II)V" } : Jvm.MethodName)) ∈ lw_all := lw_g (lw_at lw_m5 179 rfl) rfl
theorem q1231 : (Jvm.Cond.privateMethod ({ cls := "FirstWordsModel", name := "flees", desc := "(II)V" } : Jvm.MethodName)) ∈ lw_tbl := lw_at lw_m5 180 rfl
theorem q1232 : (Jvm.Cond.instanceMethod ({ cls := "FirstWordsModel", name := "flees", desc := "(II)V" } : Jvm.MethodName)) ∈ lw_all := lw_g (lw_at lw_m5 181 rfl) rfl
theorem q1233 : (Jvm.Cond.code ({ cls := "FirstWordsModel", name := "flees", desc := "(II)V" } : Jvm.MethodName) prog_14_method_42_code (4 : Nat) (Option.none : Option Jvm.ClassFile.FieldType)) ∈ lw_all := lw_g (lw_at lw_m5 182 rfl) rfl
theorem q1234 : (Jvm.Cond.methodLink "FirstWordsModel" (269 : Nat) ({ cls := "FirstWordsModel", name := "looks", desc := "(IIIIZ)V" } : Jvm.MethodName)) ∈ lw_all := lw_g (lw_at lw_m5 183 rfl) rfl
theorem q1235 : (Jvm.Cond.privateMethod ({ cls := "FirstWordsModel", name := "looks", desc := "(IIIIZ)V" } : Jvm.MethodName)) ∈ lw_tbl := lw_at lw_m5 184 rfl
theorem q1236 : (Jvm.Cond.instanceMethod ({ cls := "FirstWordsModel", name := "looks", desc := "(IIIIZ)V" } : Jvm.MethodName)) ∈ lw_all := lw_g (lw_at lw_m5 185 rfl) rfl
theorem q1237 : (Jvm.Cond.code ({ cls := "FirstWordsModel", name := "looks", desc := "(IIIIZ)V" } : Jvm.MethodName) prog_14_method_41_code (9 : Nat) (Option.none : Option Jvm.ClassFile.FieldType)) ∈ lw_all := lw_g (lw_at lw_m5 186 rfl) rfl
theorem q1238 : (Jvm.Cond.methodLink "FirstWordsModel" (251 : Nat) ({ cls := "FirstWordsModel", name := "allThatFit", desc := "(II)I" } : Jvm.MethodName)) ∈ lw_all := lw_g (lw_at lw_m5 187 rfl) rfl
theorem q1239 : (Jvm.Cond.privateMethod ({ cls := "FirstWordsModel", name := "allThatFit", desc := "(II)I" } : Jvm.MethodName)) ∈ lw_tbl := lw_at lw_m5 188 rfl
theorem q1240 : (Jvm.Cond.instanceMethod ({ cls := "FirstWordsModel", name := "allThatFit", desc := "(II)I" } : Jvm.MethodName)) ∈ lw_all := lw_g (lw_at lw_m5 189 rfl) rfl
theorem q1241 : (Jvm.Cond.code ({ cls := "FirstWordsModel", name := "allThatFit", desc := "(II)I" } : Jvm.MethodName) prog_14_method_37_code (5 : Nat) (Option.some Jvm.ClassFile.FieldType.int)) ∈ lw_all := lw_g (lw_at lw_m5 190 rfl) rfl
theorem q1242 : (Jvm.Cond.methodLink "FirstWordsModel" (245 : Nat) ({ cls := "FirstWordsModel", name := "fitsIn", desc := "(III)Z" } : Jvm.MethodName)) ∈ lw_all := lw_g (lw_at lw_m5 191 rfl) rfl
theorem q1243 : (Jvm.Cond.privateMethod ({ cls := "FirstWordsModel", name := "fitsIn", desc := "(III)Z" } : Jvm.MethodName)) ∈ lw_tbl := lw_at lw_m5 192 rfl
theorem q1244 : (Jvm.Cond.instanceMethod ({ cls := "FirstWordsModel", name := "fitsIn", desc := "(III)Z" } : Jvm.MethodName)) ∈ lw_all := lw_g (lw_at lw_m5 193 rfl) rfl
theorem q1245 : (Jvm.Cond.code ({ cls := "FirstWordsModel", name := "fitsIn", desc := "(III)Z" } : Jvm.MethodName) prog_14_method_36_code (4 : Nat) (Option.some Jvm.ClassFile.FieldType.boolean)) ∈ lw_all := lw_g (lw_at lw_m5 194 rfl) rfl
theorem q1246 : (Jvm.Cond.methodLink "FirstWordsModel" (231 : Nat) ({ cls := "FirstWordsModel", name := "canThink", desc := "(I)I" } : Jvm.MethodName)) ∈ lw_all := lw_g (lw_at lw_m5 195 rfl) rfl
theorem q1247 : (Jvm.Cond.privateMethod ({ cls := "FirstWordsModel", name := "canThink", desc := "(I)I" } : Jvm.MethodName)) ∈ lw_tbl := lw_at lw_m5 196 rfl
theorem q1248 : (Jvm.Cond.instanceMethod ({ cls := "FirstWordsModel", name := "canThink", desc := "(I)I" } : Jvm.MethodName)) ∈ lw_all := lw_g (lw_at lw_m5 197 rfl) rfl
theorem q1249 : (Jvm.Cond.code ({ cls := "FirstWordsModel", name := "canThink", desc := "(I)I" } : Jvm.MethodName) prog_14_method_29_code (4 : Nat) (Option.some Jvm.ClassFile.FieldType.int)) ∈ lw_all := lw_g (lw_at lw_m5 198 rfl) rfl
theorem q1250 : (Jvm.Cond.methodLink "FirstWordsModel" (254 : Nat) ({ cls := "FirstWordsModel", name := "flag", desc := "(Z)I" } : Jvm.MethodName)) ∈ lw_all := lw_g (lw_at lw_m5 199 rfl) rfl
theorem q1251 : (Jvm.Cond.static ({ cls := "FirstWordsModel", name := "flag", desc := "(Z)I" } : Jvm.MethodName)) ∈ lw_all := lw_g (lw_at lw_m5 200 rfl) rfl
theorem q1252 : (Jvm.Cond.code ({ cls := "FirstWordsModel", name := "flag", desc := "(Z)I" } : Jvm.MethodName) prog_14_method_4_code (1 : Nat) (Option.some Jvm.ClassFile.FieldType.int)) ∈ lw_all := lw_g (lw_at lw_m5 201 rfl) rfl
theorem q1253 : (Jvm.Cond.methodLink "FirstWordsModel" (258 : Nat) ({ cls := "FirstWordsModel", name := "proudLooks", desc := "(IIIZ)V" } : Jvm.MethodName)) ∈ lw_all := lw_g (lw_at lw_m5 202 rfl) rfl
theorem q1254 : (Jvm.Cond.privateMethod ({ cls := "FirstWordsModel", name := "proudLooks", desc := "(IIIZ)V" } : Jvm.MethodName)) ∈ lw_tbl := lw_at lw_m5 203 rfl
theorem q1255 : (Jvm.Cond.instanceMethod ({ cls := "FirstWordsModel", name := "proudLooks", desc := "(IIIZ)V" } : Jvm.MethodName)) ∈ lw_all := lw_g (lw_at lw_m5 204 rfl) rfl
theorem q1256 : (Jvm.Cond.code ({ cls := "FirstWordsModel", name := "proudLooks", desc := "(IIIZ)V" } : Jvm.MethodName) prog_14_method_40_code (6 : Nat) (Option.none : Option Jvm.ClassFile.FieldType)) ∈ lw_all := lw_g (lw_at lw_m5 205 rfl) rfl
theorem q1257 : (Jvm.Cond.methodLink "FirstWordsModel" (248 : Nat) ({ cls := "FirstWordsModel", name := "plainest", desc := "(I)I" } : Jvm.MethodName)) ∈ lw_all := lw_g (lw_at lw_m5 206 rfl) rfl
theorem q1258 : (Jvm.Cond.privateMethod ({ cls := "FirstWordsModel", name := "plainest", desc := "(I)I" } : Jvm.MethodName)) ∈ lw_tbl := lw_at lw_m5 207 rfl
theorem q1259 : (Jvm.Cond.instanceMethod ({ cls := "FirstWordsModel", name := "plainest", desc := "(I)I" } : Jvm.MethodName)) ∈ lw_all := lw_g (lw_at lw_m5 208 rfl) rfl
theorem q1260 : (Jvm.Cond.code ({ cls := "FirstWordsModel", name := "plainest", desc := "(I)I" } : Jvm.MethodName) prog_14_method_38_code (4 : Nat) (Option.some Jvm.ClassFile.FieldType.int)) ∈ lw_all := lw_g (lw_at lw_m5 209 rfl) rfl
theorem q1261 : (Jvm.Cond.methodLink "FirstWordsModel" (234 : Nat) ({ cls := "FirstWordsModel", name := "marksOf", desc := "(I)I" } : Jvm.MethodName)) ∈ lw_all := lw_g (lw_at lw_m5 210 rfl) rfl
theorem q1262 : (Jvm.Cond.privateMethod ({ cls := "FirstWordsModel", name := "marksOf", desc := "(I)I" } : Jvm.MethodName)) ∈ lw_tbl := lw_at lw_m5 211 rfl
theorem q1263 : (Jvm.Cond.instanceMethod ({ cls := "FirstWordsModel", name := "marksOf", desc := "(I)I" } : Jvm.MethodName)) ∈ lw_all := lw_g (lw_at lw_m5 212 rfl) rfl
theorem q1264 : (Jvm.Cond.code ({ cls := "FirstWordsModel", name := "marksOf", desc := "(I)I" } : Jvm.MethodName) prog_14_method_28_code (2 : Nat) (Option.some Jvm.ClassFile.FieldType.int)) ∈ lw_all := lw_g (lw_at lw_m5 213 rfl) rfl
theorem q1265 : (Jvm.Cond.methodLink "FirstWordsModel" (222 : Nat) ({ cls := "FirstWordsModel", name := "countOf", desc := "(I)I" } : Jvm.MethodName)) ∈ lw_all := lw_g (lw_at lw_m5 214 rfl) rfl
theorem q1266 : (Jvm.Cond.static ({ cls := "FirstWordsModel", name := "countOf", desc := "(I)I" } : Jvm.MethodName)) ∈ lw_all := lw_g (lw_at lw_m5 215 rfl) rfl
theorem q1267 : (Jvm.Cond.code ({ cls := "FirstWordsModel", name := "countOf", desc := "(I)I" } : Jvm.MethodName) prog_14_method_5_code (3 : Nat) (Option.some Jvm.ClassFile.FieldType.int)) ∈ lw_all := lw_g (lw_at lw_m5 216 rfl) rfl
theorem q1268 : (Jvm.Cond.methodLink "FirstWordsModel" (262 : Nat) ({ cls := "FirstWordsModel", name := "areAllOne", desc := "(I)Z" } : Jvm.MethodName)) ∈ lw_all := lw_g (lw_at lw_m5 217 rfl) rfl
theorem q1269 : (Jvm.Cond.privateMethod ({ cls := "FirstWordsModel", name := "areAllOne", desc := "(I)Z" } : Jvm.MethodName)) ∈ lw_tbl := lw_at lw_m5 218 rfl
theorem q1270 : (Jvm.Cond.instanceMethod ({ cls := "FirstWordsModel", name := "areAllOne", desc := "(I)Z" } : Jvm.MethodName)) ∈ lw_all := lw_g (lw_at lw_m5 219 rfl) rfl
theorem q1271 : (Jvm.Cond.code ({ cls := "FirstWordsModel", name := "areAllOne", desc := "(I)Z" } : Jvm.MethodName) prog_14_method_39_code (5 : Nat) (Option.some Jvm.ClassFile.FieldType.boolean)) ∈ lw_all := lw_g (lw_at lw_m5 220 rfl) rfl
theorem q1272 : (Jvm.Cond.fieldLink "FirstWordsModel" (108 : Nat) "FirstWordsModel" "things" "I") ∈ lw_all := lw_g (lw_at lw_m5 221 rfl) rfl
theorem q1273 : (Jvm.Cond.fieldLink "FirstWordsModel" (7 : Nat) "FirstWordsModel" "thing" "[I") ∈ lw_all := lw_g (lw_at lw_m5 222 rfl) rfl
theorem q1274 : (Jvm.Cond.fieldLink "FirstWordsModel" (111 : Nat) "FirstWordsModel" "meanings" "I") ∈ lw_all := lw_g (lw_at lw_m5 223 rfl) rfl
theorem q1275 : (Jvm.Cond.fieldLink "FirstWordsModel" (13 : Nat) "FirstWordsModel" "having" "[I") ∈ lw_all := lw_g (lw_at lw_m5 224 rfl) rfl
theorem q1276 : (Jvm.Cond.fieldLink "FirstWordsModel" (16 : Nat) "FirstWordsModel" "lacking" "[I") ∈ lw_all := lw_g (lw_at lw_m5 225 rfl) rfl
theorem q1277 : (Jvm.Cond.fieldLink "FirstWordsModel" (114 : Nat) "FirstWordsModel" "sounds" "I") ∈ lw_all := lw_g (lw_at lw_m5 226 rfl) rfl
theorem q1278 : (Jvm.Cond.fieldLink "FirstWordsModel" (19 : Nat) "FirstWordsModel" "target" "[I") ∈ lw_all := lw_g (lw_at lw_m5 227 rfl) rfl
theorem q1279 : (Jvm.Cond.fieldLink "FirstWordsModel" (117 : Nat) "FirstWordsModel" "kinds" "I") ∈ lw_all := lw_g (lw_at lw_m5 228 rfl) rfl
theorem q1280 : (Jvm.Cond.fieldLink "FirstWordsModel" (22 : Nat) "FirstWordsModel" "kind" "[I") ∈ lw_all := lw_g (lw_at lw_m5 229 rfl) rfl
theorem q1281 : (Jvm.Cond.fieldLink "FirstWordsModel" (95 : Nat) "FirstWordsModel" "dThings" "I") ∈ lw_all := lw_g (lw_at lw_m5 230 rfl) rfl
theorem q1282 : (Jvm.Cond.fieldLink "FirstWordsModel" (25 : Nat) "FirstWordsModel" "dThing" "[I") ∈ lw_all := lw_g (lw_at lw_m5 231 rfl) rfl
theorem q1283 : (Jvm.Cond.fieldLink "FirstWordsModel" (99 : Nat) "FirstWordsModel" "dMeanings" "I") ∈ lw_all := lw_g (lw_at lw_m5 232 rfl) rfl
theorem q1284 : (Jvm.Cond.fieldLink "FirstWordsModel" (28 : Nat) "FirstWordsModel" "dHaving" "[I") ∈ lw_all := lw_g (lw_at lw_m5 233 rfl) rfl
theorem q1285 : (Jvm.Cond.fieldLink "FirstWordsModel" (31 : Nat) "FirstWordsModel" "dLacking" "[I") ∈ lw_all := lw_g (lw_at lw_m5 234 rfl) rfl
theorem q1286 : (Jvm.Cond.fieldLink "FirstWordsModel" (102 : Nat) "FirstWordsModel" "dSounds" "I") ∈ lw_all := lw_g (lw_at lw_m5 235 rfl) rfl
theorem q1287 : (Jvm.Cond.fieldLink "FirstWordsModel" (34 : Nat) "FirstWordsModel" "dTarget" "[I") ∈ lw_all := lw_g (lw_at lw_m5 236 rfl) rfl
theorem q1288 : (Jvm.Cond.fieldLink "FirstWordsModel" (105 : Nat) "FirstWordsModel" "dKinds" "I") ∈ lw_all := lw_g (lw_at lw_m5 237 rfl) rfl
theorem q1289 : (Jvm.Cond.fieldLink "FirstWordsModel" (37 : Nat) "FirstWordsModel" "dKind" "[I") ∈ lw_all := lw_g (lw_at lw_m5 238 rfl) rfl
theorem q1290 : (Jvm.Cond.fieldLink "FirstWordsModel" (40 : Nat) "FirstWordsModel" "are" "[I") ∈ lw_all := lw_g (lw_at lw_m5 239 rfl) rfl
theorem q1291 : (Jvm.Cond.fieldLink "FirstWordsModel" (43 : Nat) "FirstWordsModel" "tape" "[I") ∈ lw_all := lw_g (lw_at lw_m6 0 rfl) rfl
theorem q1292 : (Jvm.Cond.fieldLink "FirstWordsModel" (132 : Nat) "FirstWordsModel" "taped" "I") ∈ lw_all := lw_g (lw_at lw_m6 1 rfl) rfl
theorem q1293 : (Jvm.Cond.fieldLink "FirstWordsModel" (150 : Nat) "FirstWordsModel" "pos" "I") ∈ lw_all := lw_g (lw_at lw_m6 2 rfl) rfl
theorem q1294 : (Jvm.Cond.fieldLink "FirstWordsModel" (144 : Nat) "FirstWordsModel" "from" "I") ∈ lw_all := lw_g (lw_at lw_m6 3 rfl) rfl
theorem q1295 : (Jvm.Cond.fieldLink "FirstWordsModel" (169 : Nat) "FirstWordsModel" "sort" "I") ∈ lw_all := lw_g (lw_at lw_m6 4 rfl) rfl
theorem q1296 : (Jvm.Cond.fieldLink "FirstWordsModel" (180 : Nat) "FirstWordsModel" "value" "I") ∈ lw_all := lw_g (lw_at lw_m6 5 rfl) rfl
theorem q1297 : (Jvm.Cond.fieldLink "FirstWordsModel" (141 : Nat) "FirstWordsModel" "fault" "I") ∈ lw_all := lw_g (lw_at lw_m6 6 rfl) rfl
theorem q1298 : (Jvm.Cond.fieldLink "FirstWordsModel" (147 : Nat) "FirstWordsModel" "wrongAt" "I") ∈ lw_all := lw_g (lw_at lw_m6 7 rfl) rfl
theorem q1299 : (Jvm.Cond.fieldLink "FirstWordsModel" (46 : Nat) "FirstWordsModel" "st" "[I") ∈ lw_all := lw_g (lw_at lw_m6 8 rfl) rfl
theorem q1300 : (Jvm.Cond.fieldLink "FirstWordsModel" (120 : Nat) "FirstWordsModel" "shows" "I") ∈ lw_all := lw_g (lw_at lw_m6 9 rfl) rfl
theorem q1301 : (Jvm.Cond.fieldLink "FirstWordsModel" (49 : Nat) "FirstWordsModel" "shown" "[I") ∈ lw_all := lw_g (lw_at lw_m6 10 rfl) rfl
theorem q1302 : (Jvm.Cond.fieldLink "FirstWordsModel" (52 : Nat) "FirstWordsModel" "row" "[I") ∈ lw_all := lw_g (lw_at lw_m6 11 rfl) rfl
theorem q1303 : (Jvm.Cond.fieldLink "FirstWordsModel" (55 : Nat) "FirstWordsModel" "way" "[I") ∈ lw_all := lw_g (lw_at lw_m6 12 rfl) rfl
theorem q1304 : (Jvm.Cond.fieldLink "FirstWordsModel" (58 : Nat) "FirstWordsModel" "bestWay" "[I") ∈ lw_all := lw_g (lw_at lw_m6 13 rfl) rfl
theorem q1305 : (Jvm.Cond.fieldLink "FirstWordsModel" (123 : Nat) "FirstWordsModel" "leftNow" "I") ∈ lw_all := lw_g (lw_at lw_m6 14 rfl) rfl
theorem q1306 : (Jvm.Cond.fieldLink "FirstWordsModel" (126 : Nat) "FirstWordsModel" "their" "I") ∈ lw_all := lw_g (lw_at lw_m6 15 rfl) rfl
theorem q1307 : (Jvm.Cond.fieldLink "FirstWordsModel" (61 : Nat) "FirstWordsModel" "theirThing" "[I") ∈ lw_all := lw_g (lw_at lw_m6 16 rfl) rfl
theorem q1308 : (Jvm.Cond.fieldLink "FirstWordsModel" (64 : Nat) "FirstWordsModel" "theirSo" "[Z") ∈ lw_all := lw_g (lw_at lw_m6 17 rfl) rfl
theorem q1309 : (Jvm.Cond.fieldLink "FirstWordsModel" (68 : Nat) "FirstWordsModel" "isKept" "[Z") ∈ lw_all := lw_g (lw_at lw_m6 18 rfl) rfl
theorem q1310 : (Jvm.Cond.fieldLink "FirstWordsModel" (71 : Nat) "FirstWordsModel" "keptMany" "[I") ∈ lw_all := lw_g (lw_at lw_m6 19 rfl) rfl
theorem q1311 : (Jvm.Cond.fieldLink "FirstWordsModel" (74 : Nat) "FirstWordsModel" "keptShown" "[I") ∈ lw_all := lw_g (lw_at lw_m6 20 rfl) rfl
theorem q1312 : (Jvm.Cond.fieldLink "FirstWordsModel" (77 : Nat) "FirstWordsModel" "keptTheirs" "[I") ∈ lw_all := lw_g (lw_at lw_m6 21 rfl) rfl
theorem q1313 : (Jvm.Cond.fieldLink "FirstWordsModel" (80 : Nat) "FirstWordsModel" "lanes" "[I") ∈ lw_all := lw_g (lw_at lw_m6 22 rfl) rfl
theorem q1314 : (Jvm.Cond.fieldLink "FirstWordsModel" (83 : Nat) "FirstWordsModel" "sizes" "[I") ∈ lw_all := lw_g (lw_at lw_m6 23 rfl) rfl
theorem q1315 : (Jvm.Cond.fieldLink "FirstWordsModel" (86 : Nat) "FirstWordsModel" "cells" "[I") ∈ lw_all := lw_g (lw_at lw_m6 24 rfl) rfl
theorem q1316 : (Jvm.Cond.fieldLink "FirstWordsModel" (354 : Nat) "FirstWordsModel" "torn" "I") ∈ lw_all := lw_g (lw_at lw_m6 25 rfl) rfl
theorem q1317 : (Jvm.Cond.lays "FirstWordsModel" "FirstWordsModel" "things" "I") ∈ lw_all := lw_g (lw_at lw_m6 26 rfl) rfl
theorem q1318 : (Jvm.Cond.soleField "FirstWordsModel" "things") ∈ lw_all := lw_g (lw_at lw_m6 27 rfl) rfl
theorem q1319 : (Jvm.Cond.laysFinal "FirstWordsModel" "FirstWordsModel" "thing" "[I") ∈ lw_all := lw_g (lw_at lw_m6 28 rfl) rfl
theorem q1320 : (Jvm.Cond.soleField "FirstWordsModel" "thing") ∈ lw_all := lw_g (lw_at lw_m6 29 rfl) rfl
theorem q1321 : (Jvm.Cond.lays "FirstWordsModel" "FirstWordsModel" "meanings" "I") ∈ lw_all := lw_g (lw_at lw_m6 30 rfl) rfl
theorem q1322 : (Jvm.Cond.soleField "FirstWordsModel" "meanings") ∈ lw_all := lw_g (lw_at lw_m6 31 rfl) rfl
theorem q1323 : (Jvm.Cond.laysFinal "FirstWordsModel" "FirstWordsModel" "having" "[I") ∈ lw_all := lw_g (lw_at lw_m6 32 rfl) rfl
theorem q1324 : (Jvm.Cond.soleField "FirstWordsModel" "having") ∈ lw_all := lw_g (lw_at lw_m6 33 rfl) rfl
theorem q1325 : (Jvm.Cond.laysFinal "FirstWordsModel" "FirstWordsModel" "lacking" "[I") ∈ lw_all := lw_g (lw_at lw_m6 34 rfl) rfl
theorem q1326 : (Jvm.Cond.soleField "FirstWordsModel" "lacking") ∈ lw_all := lw_g (lw_at lw_m6 35 rfl) rfl
theorem q1327 : (Jvm.Cond.lays "FirstWordsModel" "FirstWordsModel" "sounds" "I") ∈ lw_all := lw_g (lw_at lw_m6 36 rfl) rfl
theorem q1328 : (Jvm.Cond.soleField "FirstWordsModel" "sounds") ∈ lw_all := lw_g (lw_at lw_m6 37 rfl) rfl
theorem q1329 : (Jvm.Cond.laysFinal "FirstWordsModel" "FirstWordsModel" "target" "[I") ∈ lw_all := lw_g (lw_at lw_m6 38 rfl) rfl
theorem q1330 : (Jvm.Cond.soleField "FirstWordsModel" "target") ∈ lw_all := lw_g (lw_at lw_m6 39 rfl) rfl
theorem q1331 : (Jvm.Cond.lays "FirstWordsModel" "FirstWordsModel" "kinds" "I") ∈ lw_all := lw_g (lw_at lw_m6 40 rfl) rfl
theorem q1332 : (Jvm.Cond.soleField "FirstWordsModel" "kinds") ∈ lw_all := lw_g (lw_at lw_m6 41 rfl) rfl
theorem q1333 : (Jvm.Cond.laysFinal "FirstWordsModel" "FirstWordsModel" "kind" "[I") ∈ lw_all := lw_g (lw_at lw_m6 42 rfl) rfl
theorem q1334 : (Jvm.Cond.soleField "FirstWordsModel" "kind") ∈ lw_all := lw_g (lw_at lw_m6 43 rfl) rfl
theorem q1335 : (Jvm.Cond.lays "FirstWordsModel" "FirstWordsModel" "dThings" "I") ∈ lw_all := lw_g (lw_at lw_m6 44 rfl) rfl
theorem q1336 : (Jvm.Cond.soleField "FirstWordsModel" "dThings") ∈ lw_all := lw_g (lw_at lw_m6 45 rfl) rfl
theorem q1337 : (Jvm.Cond.laysFinal "FirstWordsModel" "FirstWordsModel" "dThing" "[I") ∈ lw_all := lw_g (lw_at lw_m6 46 rfl) rfl
theorem q1338 : (Jvm.Cond.soleField "FirstWordsModel" "dThing") ∈ lw_all := lw_g (lw_at lw_m6 47 rfl) rfl
theorem q1339 : (Jvm.Cond.lays "FirstWordsModel" "FirstWordsModel" "dMeanings" "I") ∈ lw_all := lw_g (lw_at lw_m6 48 rfl) rfl
theorem q1340 : (Jvm.Cond.soleField "FirstWordsModel" "dMeanings") ∈ lw_all := lw_g (lw_at lw_m6 49 rfl) rfl
theorem q1341 : (Jvm.Cond.laysFinal "FirstWordsModel" "FirstWordsModel" "dHaving" "[I") ∈ lw_all := lw_g (lw_at lw_m6 50 rfl) rfl
theorem q1342 : (Jvm.Cond.soleField "FirstWordsModel" "dHaving") ∈ lw_all := lw_g (lw_at lw_m6 51 rfl) rfl
theorem q1343 : (Jvm.Cond.laysFinal "FirstWordsModel" "FirstWordsModel" "dLacking" "[I") ∈ lw_all := lw_g (lw_at lw_m6 52 rfl) rfl
theorem q1344 : (Jvm.Cond.soleField "FirstWordsModel" "dLacking") ∈ lw_all := lw_g (lw_at lw_m6 53 rfl) rfl
theorem q1345 : (Jvm.Cond.lays "FirstWordsModel" "FirstWordsModel" "dSounds" "I") ∈ lw_all := lw_g (lw_at lw_m6 54 rfl) rfl
theorem q1346 : (Jvm.Cond.soleField "FirstWordsModel" "dSounds") ∈ lw_all := lw_g (lw_at lw_m6 55 rfl) rfl
theorem q1347 : (Jvm.Cond.laysFinal "FirstWordsModel" "FirstWordsModel" "dTarget" "[I") ∈ lw_all := lw_g (lw_at lw_m6 56 rfl) rfl
theorem q1348 : (Jvm.Cond.soleField "FirstWordsModel" "dTarget") ∈ lw_all := lw_g (lw_at lw_m6 57 rfl) rfl
theorem q1349 : (Jvm.Cond.lays "FirstWordsModel" "FirstWordsModel" "dKinds" "I") ∈ lw_all := lw_g (lw_at lw_m6 58 rfl) rfl
theorem q1350 : (Jvm.Cond.soleField "FirstWordsModel" "dKinds") ∈ lw_all := lw_g (lw_at lw_m6 59 rfl) rfl
theorem q1351 : (Jvm.Cond.laysFinal "FirstWordsModel" "FirstWordsModel" "dKind" "[I") ∈ lw_all := lw_g (lw_at lw_m6 60 rfl) rfl
theorem q1352 : (Jvm.Cond.soleField "FirstWordsModel" "dKind") ∈ lw_all := lw_g (lw_at lw_m6 61 rfl) rfl
theorem q1353 : (Jvm.Cond.laysFinal "FirstWordsModel" "FirstWordsModel" "are" "[I") ∈ lw_all := lw_g (lw_at lw_m6 62 rfl) rfl
theorem q1354 : (Jvm.Cond.soleField "FirstWordsModel" "are") ∈ lw_all := lw_g (lw_at lw_m6 63 rfl) rfl
theorem q1355 : (Jvm.Cond.laysFinal "FirstWordsModel" "FirstWordsModel" "tape" "[I") ∈ lw_all := lw_g (lw_at lw_m6 64 rfl) rfl
theorem q1356 : (Jvm.Cond.soleField "FirstWordsModel" "tape") ∈ lw_all := lw_g (lw_at lw_m6 65 rfl) rfl
theorem q1357 : (Jvm.Cond.lays "FirstWordsModel" "FirstWordsModel" "taped" "I") ∈ lw_all := lw_g (lw_at lw_m6 66 rfl) rfl
theorem q1358 : (Jvm.Cond.soleField "FirstWordsModel" "taped") ∈ lw_all := lw_g (lw_at lw_m6 67 rfl) rfl
theorem q1359 : (Jvm.Cond.lays "FirstWordsModel" "FirstWordsModel" "pos" "I") ∈ lw_all := lw_g (lw_at lw_m6 68 rfl) rfl
theorem q1360 : (Jvm.Cond.soleField "FirstWordsModel" "pos") ∈ lw_all := lw_g (lw_at lw_m6 69 rfl) rfl
theorem q1361 : (Jvm.Cond.lays "FirstWordsModel" "FirstWordsModel" "from" "I") ∈ lw_all := lw_g (lw_at lw_m6 70 rfl) rfl
theorem q1362 : (Jvm.Cond.soleField "FirstWordsModel" "from") ∈ lw_all := lw_g (lw_at lw_m6 71 rfl) rfl
theorem q1363 : (Jvm.Cond.lays "FirstWordsModel" "FirstWordsModel" "sort" "I") ∈ lw_all := lw_g (lw_at lw_m6 72 rfl) rfl
theorem q1364 : (Jvm.Cond.soleField "FirstWordsModel" "sort") ∈ lw_all := lw_g (lw_at lw_m6 73 rfl) rfl
theorem q1365 : (Jvm.Cond.lays "FirstWordsModel" "FirstWordsModel" "value" "I") ∈ lw_all := lw_g (lw_at lw_m6 74 rfl) rfl
theorem q1366 : (Jvm.Cond.soleField "FirstWordsModel" "value") ∈ lw_all := lw_g (lw_at lw_m6 75 rfl) rfl
theorem q1367 : (Jvm.Cond.lays "FirstWordsModel" "FirstWordsModel" "fault" "I") ∈ lw_all := lw_g (lw_at lw_m6 76 rfl) rfl
theorem q1368 : (Jvm.Cond.soleField "FirstWordsModel" "fault") ∈ lw_all := lw_g (lw_at lw_m6 77 rfl) rfl
theorem q1369 : (Jvm.Cond.lays "FirstWordsModel" "FirstWordsModel" "wrongAt" "I") ∈ lw_all := lw_g (lw_at lw_m6 78 rfl) rfl
theorem q1370 : (Jvm.Cond.soleField "FirstWordsModel" "wrongAt") ∈ lw_all := lw_g (lw_at lw_m6 79 rfl) rfl
theorem q1371 : (Jvm.Cond.laysFinal "FirstWordsModel" "FirstWordsModel" "st" "[I") ∈ lw_all := lw_g (lw_at lw_m6 80 rfl) rfl
theorem q1372 : (Jvm.Cond.soleField "FirstWordsModel" "st") ∈ lw_all := lw_g (lw_at lw_m6 81 rfl) rfl
theorem q1373 : (Jvm.Cond.lays "FirstWordsModel" "FirstWordsModel" "shows" "I") ∈ lw_all := lw_g (lw_at lw_m6 82 rfl) rfl
theorem q1374 : (Jvm.Cond.soleField "FirstWordsModel" "shows") ∈ lw_all := lw_g (lw_at lw_m6 83 rfl) rfl
theorem q1375 : (Jvm.Cond.laysFinal "FirstWordsModel" "FirstWordsModel" "shown" "[I") ∈ lw_all := lw_g (lw_at lw_m6 84 rfl) rfl
theorem q1376 : (Jvm.Cond.soleField "FirstWordsModel" "shown") ∈ lw_all := lw_g (lw_at lw_m6 85 rfl) rfl
theorem q1377 : (Jvm.Cond.laysFinal "FirstWordsModel" "FirstWordsModel" "row" "[I") ∈ lw_all := lw_g (lw_at lw_m6 86 rfl) rfl
theorem q1378 : (Jvm.Cond.soleField "FirstWordsModel" "row") ∈ lw_all := lw_g (lw_at lw_m6 87 rfl) rfl
theorem q1379 : (Jvm.Cond.laysFinal "FirstWordsModel" "FirstWordsModel" "way" "[I") ∈ lw_all := lw_g (lw_at lw_m6 88 rfl) rfl
theorem q1380 : (Jvm.Cond.soleField "FirstWordsModel" "way") ∈ lw_all := lw_g (lw_at lw_m6 89 rfl) rfl
theorem q1381 : (Jvm.Cond.laysFinal "FirstWordsModel" "FirstWordsModel" "bestWay" "[I") ∈ lw_all := lw_g (lw_at lw_m6 90 rfl) rfl
theorem q1382 : (Jvm.Cond.soleField "FirstWordsModel" "bestWay") ∈ lw_all := lw_g (lw_at lw_m6 91 rfl) rfl
theorem q1383 : (Jvm.Cond.lays "FirstWordsModel" "FirstWordsModel" "leftNow" "I") ∈ lw_all := lw_g (lw_at lw_m6 92 rfl) rfl
theorem q1384 : (Jvm.Cond.soleField "FirstWordsModel" "leftNow") ∈ lw_all := lw_g (lw_at lw_m6 93 rfl) rfl
theorem q1385 : (Jvm.Cond.lays "FirstWordsModel" "FirstWordsModel" "their" "I") ∈ lw_all := lw_g (lw_at lw_m6 94 rfl) rfl
theorem q1386 : (Jvm.Cond.soleField "FirstWordsModel" "their") ∈ lw_all := lw_g (lw_at lw_m6 95 rfl) rfl
theorem q1387 : (Jvm.Cond.laysFinal "FirstWordsModel" "FirstWordsModel" "theirThing" "[I") ∈ lw_all := lw_g (lw_at lw_m6 96 rfl) rfl
theorem q1388 : (Jvm.Cond.soleField "FirstWordsModel" "theirThing") ∈ lw_all := lw_g (lw_at lw_m6 97 rfl) rfl
theorem q1389 : (Jvm.Cond.laysFinal "FirstWordsModel" "FirstWordsModel" "theirSo" "[Z") ∈ lw_all := lw_g (lw_at lw_m6 98 rfl) rfl
theorem q1390 : (Jvm.Cond.soleField "FirstWordsModel" "theirSo") ∈ lw_all := lw_g (lw_at lw_m6 99 rfl) rfl
theorem q1391 : (Jvm.Cond.laysFinal "FirstWordsModel" "FirstWordsModel" "isKept" "[Z") ∈ lw_all := lw_g (lw_at lw_m6 100 rfl) rfl
theorem q1392 : (Jvm.Cond.soleField "FirstWordsModel" "isKept") ∈ lw_all := lw_g (lw_at lw_m6 101 rfl) rfl
theorem q1393 : (Jvm.Cond.laysFinal "FirstWordsModel" "FirstWordsModel" "keptMany" "[I") ∈ lw_all := lw_g (lw_at lw_m6 102 rfl) rfl
theorem q1394 : (Jvm.Cond.soleField "FirstWordsModel" "keptMany") ∈ lw_all := lw_g (lw_at lw_m6 103 rfl) rfl
theorem q1395 : (Jvm.Cond.laysFinal "FirstWordsModel" "FirstWordsModel" "keptShown" "[I") ∈ lw_all := lw_g (lw_at lw_m6 104 rfl) rfl
theorem q1396 : (Jvm.Cond.soleField "FirstWordsModel" "keptShown") ∈ lw_all := lw_g (lw_at lw_m6 105 rfl) rfl
theorem q1397 : (Jvm.Cond.laysFinal "FirstWordsModel" "FirstWordsModel" "keptTheirs" "[I") ∈ lw_all := lw_g (lw_at lw_m6 106 rfl) rfl
theorem q1398 : (Jvm.Cond.soleField "FirstWordsModel" "keptTheirs") ∈ lw_all := lw_g (lw_at lw_m6 107 rfl) rfl
theorem q1399 : (Jvm.Cond.laysFinal "FirstWordsModel" "FirstWordsModel" "lanes" "[I") ∈ lw_all := lw_g (lw_at lw_m6 108 rfl) rfl
theorem q1400 : (Jvm.Cond.soleField "FirstWordsModel" "lanes") ∈ lw_all := lw_g (lw_at lw_m6 109 rfl) rfl
theorem q1401 : (Jvm.Cond.laysFinal "FirstWordsModel" "FirstWordsModel" "sizes" "[I") ∈ lw_all := lw_g (lw_at lw_m6 110 rfl) rfl
theorem q1402 : (Jvm.Cond.soleField "FirstWordsModel" "sizes") ∈ lw_all := lw_g (lw_at lw_m6 111 rfl) rfl
theorem q1403 : (Jvm.Cond.laysFinal "FirstWordsModel" "FirstWordsModel" "cells" "[I") ∈ lw_all := lw_g (lw_at lw_m6 112 rfl) rfl
theorem q1404 : (Jvm.Cond.soleField "FirstWordsModel" "cells") ∈ lw_all := lw_g (lw_at lw_m6 113 rfl) rfl
theorem q1405 : (Jvm.Cond.lays "FirstWordsModel" "FirstWordsModel" "torn" "I") ∈ lw_all := lw_g (lw_at lw_m6 114 rfl) rfl
theorem q1406 : (Jvm.Cond.soleField "FirstWordsModel" "torn") ∈ lw_all := lw_g (lw_at lw_m6 115 rfl) rfl
theorem q1407 : (Jvm.Cond.superclass "FirstWordsModel" "java/lang/Object") ∈ lw_all := lw_g (lw_at lw_m6 116 rfl) rfl
theorem q1410 : (Jvm.Cond.instanceMethod ({ cls := "FirstWordsModel", name := "feed", desc := "(J)I" } : Jvm.MethodName)) ∈ lw_all := lw_g (lw_at lw_m6 119 rfl) rfl
theorem q1411 : (Jvm.Cond.selects "FirstWordsModel" ({ cls := "FirstWordsModel", name := "feed", desc := "(J)I" } : Jvm.MethodName) ({ cls := "FirstWordsModel", name := "feed", desc := "(J)I" } : Jvm.MethodName)) ∈ lw_all := lw_g (lw_at lw_m6 120 rfl) rfl
theorem q1412 : (Jvm.Cond.code ({ cls := "FirstWordsModel", name := "feed", desc := "(J)I" } : Jvm.MethodName) prog_14_method_8_code (4 : Nat) (Option.some Jvm.ClassFile.FieldType.int)) ∈ lw_all := lw_g (lw_at lw_m6 121 rfl) rfl
theorem q1413 : (Jvm.Cond.constantLong "FirstWordsModel" (135 : Nat) (255 : Int64)) ∈ lw_all := lw_g (lw_at lw_m6 122 rfl) rfl
theorem q1415 : (Jvm.Cond.instanceMethod ({ cls := "FirstWordsModel", name := "end", desc := "(I)I" } : Jvm.MethodName)) ∈ lw_all := lw_g (lw_at lw_m6 124 rfl) rfl
theorem q1416 : (Jvm.Cond.selects "FirstWordsModel" ({ cls := "FirstWordsModel", name := "end", desc := "(I)I" } : Jvm.MethodName) ({ cls := "FirstWordsModel", name := "end", desc := "(I)I" } : Jvm.MethodName)) ∈ lw_all := lw_g (lw_at lw_m6 125 rfl) rfl
theorem q1417 : (Jvm.Cond.code ({ cls := "FirstWordsModel", name := "end", desc := "(I)I" } : Jvm.MethodName) prog_14_method_9_code (3 : Nat) (Option.some Jvm.ClassFile.FieldType.int)) ∈ lw_all := lw_g (lw_at lw_m6 126 rfl) rfl
theorem q1419 : (Jvm.Cond.instanceMethod ({ cls := "FirstWordsModel", name := "text", desc := "()I" } : Jvm.MethodName)) ∈ lw_all := lw_g (lw_at lw_m6 128 rfl) rfl
theorem q1420 : (Jvm.Cond.selects "FirstWordsModel" ({ cls := "FirstWordsModel", name := "text", desc := "()I" } : Jvm.MethodName) ({ cls := "FirstWordsModel", name := "text", desc := "()I" } : Jvm.MethodName)) ∈ lw_all := lw_g (lw_at lw_m6 129 rfl) rfl
theorem q1421 : (Jvm.Cond.code ({ cls := "FirstWordsModel", name := "text", desc := "()I" } : Jvm.MethodName) prog_14_method_22_code (2 : Nat) (Option.some Jvm.ClassFile.FieldType.int)) ∈ lw_all := lw_g (lw_at lw_m6 130 rfl) rfl
theorem q1422 : (Jvm.Cond.methodLink "FirstWordsModel" (187 : Nat) ({ cls := "FirstWordsModel", name := "next", desc := "()V" } : Jvm.MethodName)) ∈ lw_all := lw_g (lw_at lw_m6 131 rfl) rfl
theorem q1423 : (Jvm.Cond.privateMethod ({ cls := "FirstWordsModel", name := "next", desc := "()V" } : Jvm.MethodName)) ∈ lw_tbl := lw_at lw_m6 132 rfl
theorem q1424 : (Jvm.Cond.instanceMethod ({ cls := "FirstWordsModel", name := "next", desc := "()V" } : Jvm.MethodName)) ∈ lw_all := lw_g (lw_at lw_m6 133 rfl) rfl
theorem q1425 : (Jvm.Cond.code ({ cls := "FirstWordsModel", name := "next", desc := "()V" } : Jvm.MethodName) prog_14_method_16_code (2 : Nat) (Option.none : Option Jvm.ClassFile.FieldType)) ∈ lw_all := lw_g (lw_at lw_m6 134 rfl) rfl
theorem q1426 : (Jvm.Cond.methodLink "FirstWordsModel" (153 : Nat) ({ cls := "FirstWordsModel", name := "look", desc := "(I)I" } : Jvm.MethodName)) ∈ lw_all := lw_g (lw_at lw_m6 135 rfl) rfl
theorem q1427 : (Jvm.Cond.privateMethod ({ cls := "FirstWordsModel", name := "look", desc := "(I)I" } : Jvm.MethodName)) ∈ lw_tbl := lw_at lw_m6 136 rfl
theorem q1428 : (Jvm.Cond.instanceMethod ({ cls := "FirstWordsModel", name := "look", desc := "(I)I" } : Jvm.MethodName)) ∈ lw_all := lw_g (lw_at lw_m6 137 rfl) rfl
theorem q1429 : (Jvm.Cond.code ({ cls := "FirstWordsModel", name := "look", desc := "(I)I" } : Jvm.MethodName) prog_14_method_11_code (2 : Nat) (Option.some Jvm.ClassFile.FieldType.int)) ∈ lw_all := lw_g (lw_at lw_m6 138 rfl) rfl
theorem q1430 : (Jvm.Cond.constantLong "FirstWordsModel" (172 : Nat) (97 : Int64)) ∈ lw_all := lw_g (lw_at lw_m6 139 rfl) rfl
theorem q1431 : (Jvm.Cond.constantLong "FirstWordsModel" (174 : Nat) (122 : Int64)) ∈ lw_all := lw_g (lw_at lw_m6 140 rfl) rfl
theorem q1432 : (Jvm.Cond.constantLong "FirstWordsModel" (176 : Nat) (48 : Int64)) ∈ lw_all := lw_g (lw_at lw_m6 141 rfl) rfl
theorem q1433 : (Jvm.Cond.constantLong "FirstWordsModel" (178 : Nat) (57 : Int64)) ∈ lw_all := lw_g (lw_at lw_m6 142 rfl) rfl
theorem q1434 : (Jvm.Cond.methodLink "FirstWordsModel" (183 : Nat) ({ cls := "FirstWordsModel", name := "needs", desc := "(ZI)V" } : Jvm.MethodName)) ∈ lw_all := lw_g (lw_at lw_m6 143 rfl) rfl
theorem q1435 : (Jvm.Cond.privateMethod ({ cls := "FirstWordsModel", name := "needs", desc := "(ZI)V" } : Jvm.MethodName)) ∈ lw_tbl := lw_at lw_m6 144 rfl
theorem q1436 : (Jvm.Cond.instanceMethod ({ cls := "FirstWordsModel", name := "needs", desc := "(ZI)V" } : Jvm.MethodName)) ∈ lw_all := lw_g (lw_at lw_m6 145 rfl) rfl
theorem q1437 : (Jvm.Cond.code ({ cls := "FirstWordsModel", name := "needs", desc := "(ZI)V" } : Jvm.MethodName) prog_14_method_10_code (3 : Nat) (Option.none : Option Jvm.ClassFile.FieldType)) ∈ lw_all := lw_g (lw_at lw_m6 146 rfl) rfl
theorem q1438 : (Jvm.Cond.methodLink "FirstWordsModel" (219 : Nat) ({ cls := "FirstWordsModel", name := "readLine", desc := "()V" } : Jvm.MethodName)) ∈ lw_all := lw_g (lw_at lw_m6 147 rfl) rfl
theorem q1439 : (Jvm.Cond.privateMethod ({ cls := "FirstWordsModel", name := "readLine", desc := "()V" } : Jvm.MethodName)) ∈ lw_tbl := lw_at lw_m6 148 rfl
theorem q1440 : (Jvm.Cond.instanceMethod ({ cls := "FirstWordsModel", name := "readLine", desc := "()V" } : Jvm.MethodName)) ∈ lw_all := lw_g (lw_at lw_m6 149 rfl) rfl
theorem q1441 : (Jvm.Cond.code ({ cls := "FirstWordsModel", name := "readLine", desc := "()V" } : Jvm.MethodName) prog_14_method_21_code (3 : Nat) (Option.none : Option Jvm.ClassFile.FieldType)) ∈ lw_all := lw_g (lw_at lw_m6 150 rfl) rfl
theorem q1442 : (Jvm.Cond.methodLink "FirstWordsModel" (192 : Nat) ({ cls := "FirstWordsModel", name := "nameNow", desc := "()I" } : Jvm.MethodName)) ∈ lw_all := lw_g (lw_at lw_m6 151 rfl) rfl
theorem q1443 : (Jvm.Cond.privateMethod ({ cls := "FirstWordsModel", name := "nameNow", desc := "()I" } : Jvm.MethodName)) ∈ lw_tbl := lw_at lw_m6 152 rfl
theorem q1444 : (Jvm.Cond.instanceMethod ({ cls := "FirstWordsModel", name := "nameNow", desc := "()I" } : Jvm.MethodName)) ∈ lw_all := lw_g (lw_at lw_m6 153 rfl) rfl
theorem q1445 : (Jvm.Cond.code ({ cls := "FirstWordsModel", name := "nameNow", desc := "()I" } : Jvm.MethodName) prog_14_method_15_code (1 : Nat) (Option.some Jvm.ClassFile.FieldType.int)) ∈ lw_all := lw_g (lw_at lw_m6 154 rfl) rfl
theorem q1446 : (Jvm.Cond.methodLink "FirstWordsModel" (165 : Nat) ({ cls := "FirstWordsModel", name := "kindNow", desc := "()I" } : Jvm.MethodName)) ∈ lw_all := lw_g (lw_at lw_m6 155 rfl) rfl
theorem q1447 : (Jvm.Cond.privateMethod ({ cls := "FirstWordsModel", name := "kindNow", desc := "()I" } : Jvm.MethodName)) ∈ lw_tbl := lw_at lw_m6 156 rfl
theorem q1448 : (Jvm.Cond.instanceMethod ({ cls := "FirstWordsModel", name := "kindNow", desc := "()I" } : Jvm.MethodName)) ∈ lw_all := lw_g (lw_at lw_m6 157 rfl) rfl
theorem q1449 : (Jvm.Cond.code ({ cls := "FirstWordsModel", name := "kindNow", desc := "()I" } : Jvm.MethodName) prog_14_method_14_code (1 : Nat) (Option.some Jvm.ClassFile.FieldType.int)) ∈ lw_all := lw_g (lw_at lw_m6 158 rfl) rfl
theorem q1450 : (Jvm.Cond.methodLink "FirstWordsModel" (157 : Nat) ({ cls := "FirstWordsModel", name := "is", desc := "(IIIII)Z" } : Jvm.MethodName)) ∈ lw_all := lw_g (lw_at lw_m6 159 rfl) rfl
theorem q1451 : (Jvm.Cond.privateMethod ({ cls := "FirstWordsModel", name := "is", desc := "(IIIII)Z" } : Jvm.MethodName)) ∈ lw_tbl := lw_at lw_m6 160 rfl
theorem q1452 : (Jvm.Cond.instanceMethod ({ cls := "FirstWordsModel", name := "is", desc := "(IIIII)Z" } : Jvm.MethodName)) ∈ lw_all := lw_g (lw_at lw_m6 161 rfl) rfl
theorem q1453 : (Jvm.Cond.code ({ cls := "FirstWordsModel", name := "is", desc := "(IIIII)Z" } : Jvm.MethodName) prog_14_method_12_code (6 : Nat) (Option.some Jvm.ClassFile.FieldType.boolean)) ∈ lw_all := lw_g (lw_at lw_m6 162 rfl) rfl
theorem q1454 : (Jvm.Cond.methodLink "FirstWordsModel" (161 : Nat) ({ cls := "FirstWordsModel", name := "goesOn", desc := "(III)Z" } : Jvm.MethodName)) ∈ lw_all := lw_g (lw_at lw_m6 163 rfl) rfl
theorem q1455 : (Jvm.Cond.privateMethod ({ cls := "FirstWordsModel", name := "goesOn", desc := "(III)Z" } : Jvm.MethodName)) ∈ lw_tbl := lw_at lw_m6 164 rfl
theorem q1456 : (Jvm.Cond.instanceMethod ({ cls := "FirstWordsModel", name := "goesOn", desc := "(III)Z" } : Jvm.MethodName)) ∈ lw_all := lw_g (lw_at lw_m6 165 rfl) rfl
theorem q1457 : (Jvm.Cond.code ({ cls := "FirstWordsModel", name := "goesOn", desc := "(III)Z" } : Jvm.MethodName) prog_14_method_13_code (4 : Nat) (Option.some Jvm.ClassFile.FieldType.boolean)) ∈ lw_all := lw_g (lw_at lw_m6 166 rfl) rfl
theorem q1458 : (Jvm.Cond.constantLong "FirstWordsModel" (206 : Nat) (3 : Int64)) ∈ lw_all := lw_g (lw_at lw_m6 167 rfl) rfl
theorem q1459 : (Jvm.Cond.constantLong "FirstWordsModel" (208 : Nat) (10 : Int64)) ∈ lw_all := lw_g (lw_at lw_m6 168 rfl) rfl
theorem q1460 : (Jvm.Cond.constantLong "FirstWordsModel" (210 : Nat) (12 : Int64)) ∈ lw_all := lw_g (lw_at lw_m6 169 rfl) rfl
theorem q1461 : (Jvm.Cond.methodLink "FirstWordsModel" (199 : Nat) ({ cls := "FirstWordsModel", name := "readMarks", desc := "(I)I" } : Jvm.MethodName)) ∈ lw_all := lw_g (lw_at lw_m6 170 rfl) rfl
theorem q1462 : (Jvm.Cond.privateMethod ({ cls := "FirstWordsModel", name := "readMarks", desc := "(I)I" } : Jvm.MethodName)) ∈ lw_tbl := lw_at lw_m6 171 rfl
theorem q1463 : (Jvm.Cond.instanceMethod ({ cls := "FirstWordsModel", name := "readMarks", desc := "(I)I" } : Jvm.MethodName)) ∈ lw_all := lw_g (lw_at lw_m6 172 rfl) rfl
theorem q1464 : (Jvm.Cond.code ({ cls := "FirstWordsModel", name := "readMarks", desc := "(I)I" } : Jvm.MethodName) prog_14_method_18_code (5 : Nat) (Option.some Jvm.ClassFile.FieldType.int)) ∈ lw_all := lw_g (lw_at lw_m6 173 rfl) rfl
theorem q1465 : (Jvm.Cond.methodLink "FirstWordsModel" (212 : Nat) ({ cls := "FirstWordsModel", name := "readMeans", desc := "()V" } : Jvm.MethodName)) ∈ lw_all := lw_g (lw_at lw_m6 174 rfl) rfl
theorem q1466 : (Jvm.Cond.privateMethod ({ cls := "FirstWordsModel", name := "readMeans", desc := "()V" } : Jvm.MethodName)) ∈ lw_tbl := lw_at lw_m6 175 rfl
theorem q1467 : (Jvm.Cond.instanceMethod ({ cls := "FirstWordsModel", name := "readMeans", desc := "()V" } : Jvm.MethodName)) ∈ lw_all := lw_g (lw_at lw_m6 176 rfl) rfl
theorem q1468 : (Jvm.Cond.code ({ cls := "FirstWordsModel", name := "readMeans", desc := "()V" } : Jvm.MethodName) prog_14_method_20_code (3 : Nat) (Option.none : Option Jvm.ClassFile.FieldType)) ∈ lw_all := lw_g (lw_at lw_m6 177 rfl) rfl
theorem q1469 : (Jvm.Cond.methodLink "FirstWordsModel" (202 : Nat) ({ cls := "FirstWordsModel", name := "readNumber", desc := "(II)I" } : Jvm.MethodName)) ∈ lw_all := lw_g (lw_at lw_m6 178 rfl) rfl
theorem q1470 : (Jvm.Cond.privateMethod ({ cls := "FirstWordsModel", name := "readNumber", desc := "(II)I" } : Jvm.MethodName)) ∈ lw_tbl := lw_at lw_m6 179 rfl
theorem q1471 : (Jvm.Cond.instanceMethod ({ cls := "FirstWordsModel", name := "readNumber", desc := "(II)I" } : Jvm.MethodName)) ∈ lw_all := lw_g (lw_at lw_m6 180 rfl) rfl
theorem q1472 : (Jvm.Cond.code ({ cls := "FirstWordsModel", name := "readNumber", desc := "(II)I" } : Jvm.MethodName) prog_14_method_17_code (4 : Nat) (Option.some Jvm.ClassFile.FieldType.int)) ∈ lw_all := lw_g (lw_at lw_m6 181 rfl) rfl
theorem q1473 : (Jvm.Cond.methodLink "FirstWordsModel" (215 : Nat) ({ cls := "FirstWordsModel", name := "readKind", desc := "(I)V" } : Jvm.MethodName)) ∈ lw_all := lw_g (lw_at lw_m6 182 rfl) rfl
theorem q1474 : (Jvm.Cond.privateMethod ({ cls := "FirstWordsModel", name := "readKind", desc := "(I)V" } : Jvm.MethodName)) ∈ lw_tbl := lw_at lw_m6 183 rfl
theorem q1475 : (Jvm.Cond.instanceMethod ({ cls := "FirstWordsModel", name := "readKind", desc := "(I)V" } : Jvm.MethodName)) ∈ lw_all := lw_g (lw_at lw_m6 184 rfl) rfl
theorem q1476 : (Jvm.Cond.code ({ cls := "FirstWordsModel", name := "readKind", desc := "(I)V" } : Jvm.MethodName) prog_14_method_19_code (8 : Nat) (Option.none : Option Jvm.ClassFile.FieldType)) ∈ lw_all := lw_g (lw_at lw_m6 185 rfl) rfl
theorem q1477 : (Jvm.Cond.constantLong "FirstWordsModel" (195 : Nat) (14 : Int64)) ∈ lw_all := lw_g (lw_at lw_m6 186 rfl) rfl
theorem q1478 : (Jvm.Cond.constantLong "FirstWordsModel" (197 : Nat) (17 : Int64)) ∈ lw_all := lw_g (lw_at lw_m6 187 rfl) rfl
theorem q1480 : (Jvm.Cond.instanceMethod ({ cls := "FirstWordsModel", name := "fault", desc := "()I" } : Jvm.MethodName)) ∈ lw_all := lw_g (lw_at lw_m6 189 rfl) rfl
theorem q1481 : (Jvm.Cond.selects "FirstWordsModel" ({ cls := "FirstWordsModel", name := "fault", desc := "()I" } : Jvm.MethodName) ({ cls := "FirstWordsModel", name := "fault", desc := "()I" } : Jvm.MethodName)) ∈ lw_all := lw_g (lw_at lw_m6 190 rfl) rfl
theorem q1482 : (Jvm.Cond.code ({ cls := "FirstWordsModel", name := "fault", desc := "()I" } : Jvm.MethodName) prog_14_method_23_code (1 : Nat) (Option.some Jvm.ClassFile.FieldType.int)) ∈ lw_all := lw_g (lw_at lw_m6 191 rfl) rfl
theorem q1484 : (Jvm.Cond.instanceMethod ({ cls := "FirstWordsModel", name := "thing", desc := "(I)I" } : Jvm.MethodName)) ∈ lw_all := lw_g (lw_at lw_m6 193 rfl) rfl
theorem q1485 : (Jvm.Cond.selects "FirstWordsModel" ({ cls := "FirstWordsModel", name := "thing", desc := "(I)I" } : Jvm.MethodName) ({ cls := "FirstWordsModel", name := "thing", desc := "(I)I" } : Jvm.MethodName)) ∈ lw_all := lw_g (lw_at lw_m6 194 rfl) rfl
theorem q1486 : (Jvm.Cond.code ({ cls := "FirstWordsModel", name := "thing", desc := "(I)I" } : Jvm.MethodName) prog_14_method_31_code (2 : Nat) (Option.some Jvm.ClassFile.FieldType.int)) ∈ lw_all := lw_g (lw_at lw_m6 195 rfl) rfl
theorem q1487 : (Jvm.Cond.methodLink "FirstWordsModel" (225 : Nat) ({ cls := "FirstWordsModel", name := "isThing", desc := "(I)Z" } : Jvm.MethodName)) ∈ lw_all := lw_g (lw_at lw_m6 196 rfl) rfl
theorem q1488 : (Jvm.Cond.privateMethod ({ cls := "FirstWordsModel", name := "isThing", desc := "(I)Z" } : Jvm.MethodName)) ∈ lw_tbl := lw_at lw_m6 197 rfl
theorem q1489 : (Jvm.Cond.instanceMethod ({ cls := "FirstWordsModel", name := "isThing", desc := "(I)Z" } : Jvm.MethodName)) ∈ lw_all := lw_g (lw_at lw_m6 198 rfl) rfl
theorem q1490 : (Jvm.Cond.code ({ cls := "FirstWordsModel", name := "isThing", desc := "(I)Z" } : Jvm.MethodName) prog_14_method_24_code (2 : Nat) (Option.some Jvm.ClassFile.FieldType.boolean)) ∈ lw_all := lw_g (lw_at lw_m6 199 rfl) rfl
theorem q1492 : (Jvm.Cond.instanceMethod ({ cls := "FirstWordsModel", name := "meaning", desc := "(II)I" } : Jvm.MethodName)) ∈ lw_all := lw_g (lw_at lw_m6 201 rfl) rfl
theorem q1493 : (Jvm.Cond.selects "FirstWordsModel" ({ cls := "FirstWordsModel", name := "meaning", desc := "(II)I" } : Jvm.MethodName) ({ cls := "FirstWordsModel", name := "meaning", desc := "(II)I" } : Jvm.MethodName)) ∈ lw_all := lw_g (lw_at lw_m6 202 rfl) rfl
theorem q1494 : (Jvm.Cond.code ({ cls := "FirstWordsModel", name := "meaning", desc := "(II)I" } : Jvm.MethodName) prog_14_method_32_code (5 : Nat) (Option.some Jvm.ClassFile.FieldType.int)) ∈ lw_all := lw_g (lw_at lw_m6 203 rfl) rfl
theorem q1496 : (Jvm.Cond.instanceMethod ({ cls := "FirstWordsModel", name := "word", desc := "(I)I" } : Jvm.MethodName)) ∈ lw_all := lw_g (lw_at lw_m6 205 rfl) rfl
theorem q1497 : (Jvm.Cond.selects "FirstWordsModel" ({ cls := "FirstWordsModel", name := "word", desc := "(I)I" } : Jvm.MethodName) ({ cls := "FirstWordsModel", name := "word", desc := "(I)I" } : Jvm.MethodName)) ∈ lw_all := lw_g (lw_at lw_m6 206 rfl) rfl
theorem q1498 : (Jvm.Cond.code ({ cls := "FirstWordsModel", name := "word", desc := "(I)I" } : Jvm.MethodName) prog_14_method_33_code (2 : Nat) (Option.some Jvm.ClassFile.FieldType.int)) ∈ lw_all := lw_g (lw_at lw_m6 207 rfl) rfl
theorem q1499 : (Jvm.Cond.methodLink "FirstWordsModel" (237 : Nat) ({ cls := "FirstWordsModel", name := "isSound", desc := "(I)Z" } : Jvm.MethodName)) ∈ lw_all := lw_g (lw_at lw_m6 208 rfl) rfl
theorem q1500 : (Jvm.Cond.privateMethod ({ cls := "FirstWordsModel", name := "isSound", desc := "(I)Z" } : Jvm.MethodName)) ∈ lw_tbl := lw_at lw_m6 209 rfl
theorem q1501 : (Jvm.Cond.instanceMethod ({ cls := "FirstWordsModel", name := "isSound", desc := "(I)Z" } : Jvm.MethodName)) ∈ lw_all := lw_g (lw_at lw_m6 210 rfl) rfl
theorem q1502 : (Jvm.Cond.code ({ cls := "FirstWordsModel", name := "isSound", desc := "(I)Z" } : Jvm.MethodName) prog_14_method_25_code (2 : Nat) (Option.some Jvm.ClassFile.FieldType.boolean)) ∈ lw_all := lw_g (lw_at lw_m6 211 rfl) rfl
theorem q1504 : (Jvm.Cond.instanceMethod ({ cls := "FirstWordsModel", name := "kind", desc := "(II)I" } : Jvm.MethodName)) ∈ lw_all := lw_g (lw_at lw_m6 213 rfl) rfl
theorem q1505 : (Jvm.Cond.selects "FirstWordsModel" ({ cls := "FirstWordsModel", name := "kind", desc := "(II)I" } : Jvm.MethodName) ({ cls := "FirstWordsModel", name := "kind", desc := "(II)I" } : Jvm.MethodName)) ∈ lw_all := lw_g (lw_at lw_m6 214 rfl) rfl
theorem q1506 : (Jvm.Cond.code ({ cls := "FirstWordsModel", name := "kind", desc := "(II)I" } : Jvm.MethodName) prog_14_method_34_code (3 : Nat) (Option.some Jvm.ClassFile.FieldType.int)) ∈ lw_all := lw_g (lw_at lw_m6 215 rfl) rfl
theorem q1507 : (Jvm.Cond.methodLink "FirstWordsModel" (240 : Nat) ({ cls := "FirstWordsModel", name := "isKind", desc := "(I)Z" } : Jvm.MethodName)) ∈ lw_all := lw_g (lw_at lw_m6 216 rfl) rfl
theorem q1508 : (Jvm.Cond.privateMethod ({ cls := "FirstWordsModel", name := "isKind", desc := "(I)Z" } : Jvm.MethodName)) ∈ lw_tbl := lw_at lw_m6 217 rfl
theorem q1509 : (Jvm.Cond.instanceMethod ({ cls := "FirstWordsModel", name := "isKind", desc := "(I)Z" } : Jvm.MethodName)) ∈ lw_all := lw_g (lw_at lw_m6 218 rfl) rfl
theorem q1510 : (Jvm.Cond.code ({ cls := "FirstWordsModel", name := "isKind", desc := "(I)Z" } : Jvm.MethodName) prog_14_method_26_code (2 : Nat) (Option.some Jvm.ClassFile.FieldType.boolean)) ∈ lw_all := lw_g (lw_at lw_m6 219 rfl) rfl
theorem q1511 : (Jvm.Cond.constantLong "FirstWordsModel" (243 : Nat) (5 : Int64)) ∈ lw_all := lw_g (lw_at lw_m6 220 rfl) rfl
theorem q1513 : (Jvm.Cond.instanceMethod ({ cls := "FirstWordsModel", name := "show", desc := "(IIZ)I" } : Jvm.MethodName)) ∈ lw_all := lw_g (lw_at lw_m6 222 rfl) rfl
theorem q1514 : (Jvm.Cond.selects "FirstWordsModel" ({ cls := "FirstWordsModel", name := "show", desc := "(IIZ)I" } : Jvm.MethodName) ({ cls := "FirstWordsModel", name := "show", desc := "(IIZ)I" } : Jvm.MethodName)) ∈ lw_all := lw_g (lw_at lw_m6 223 rfl) rfl
theorem q1515 : (Jvm.Cond.code ({ cls := "FirstWordsModel", name := "show", desc := "(IIZ)I" } : Jvm.MethodName) prog_14_method_47_code (4 : Nat) (Option.some Jvm.ClassFile.FieldType.int)) ∈ lw_all := lw_g (lw_at lw_m6 224 rfl) rfl
theorem q1516 : (Jvm.Cond.methodLink "FirstWordsModel" (282 : Nat) ({ cls := "FirstWordsModel", name := "adds", desc := "(IIZ)I" } : Jvm.MethodName)) ∈ lw_all := lw_g (lw_at lw_m6 225 rfl) rfl
theorem q1517 : (Jvm.Cond.privateMethod ({ cls := "FirstWordsModel", name := "adds", desc := "(IIZ)I" } : Jvm.MethodName)) ∈ lw_tbl := lw_at lw_m6 226 rfl
theorem q1518 : (Jvm.Cond.instanceMethod ({ cls := "FirstWordsModel", name := "adds", desc := "(IIZ)I" } : Jvm.MethodName)) ∈ lw_all := lw_g (lw_at lw_m6 227 rfl) rfl
theorem q1519 : (Jvm.Cond.code ({ cls := "FirstWordsModel", name := "adds", desc := "(IIZ)I" } : Jvm.MethodName) prog_14_method_45_code (4 : Nat) (Option.some Jvm.ClassFile.FieldType.int)) ∈ lw_all := lw_g (lw_at lw_m6 228 rfl) rfl
theorem q1521 : (Jvm.Cond.instanceMethod ({ cls := "FirstWordsModel", name := "teach", desc := "(II)I" } : Jvm.MethodName)) ∈ lw_all := lw_g (lw_at lw_m6 230 rfl) rfl
theorem q1522 : (Jvm.Cond.selects "FirstWordsModel" ({ cls := "FirstWordsModel", name := "teach", desc := "(II)I" } : Jvm.MethodName) ({ cls := "FirstWordsModel", name := "teach", desc := "(II)I" } : Jvm.MethodName)) ∈ lw_all := lw_g (lw_at lw_m6 231 rfl) rfl
theorem q1523 : (Jvm.Cond.code ({ cls := "FirstWordsModel", name := "teach", desc := "(II)I" } : Jvm.MethodName) prog_14_method_48_code (3 : Nat) (Option.some Jvm.ClassFile.FieldType.int)) ∈ lw_all := lw_g (lw_at lw_m6 232 rfl) rfl
theorem q1524 : (Jvm.Cond.methodLink "FirstWordsModel" (286 : Nat) ({ cls := "FirstWordsModel", name := "isTrue", desc := "(II)Z" } : Jvm.MethodName)) ∈ lw_all := lw_g (lw_at lw_m6 233 rfl) rfl
theorem q1525 : (Jvm.Cond.privateMethod ({ cls := "FirstWordsModel", name := "isTrue", desc := "(II)Z" } : Jvm.MethodName)) ∈ lw_tbl := lw_at lw_m6 234 rfl
theorem q1526 : (Jvm.Cond.instanceMethod ({ cls := "FirstWordsModel", name := "isTrue", desc := "(II)Z" } : Jvm.MethodName)) ∈ lw_all := lw_g (lw_at lw_m6 235 rfl) rfl
theorem q1527 : (Jvm.Cond.code ({ cls := "FirstWordsModel", name := "isTrue", desc := "(II)Z" } : Jvm.MethodName) prog_14_method_46_code (3 : Nat) (Option.some Jvm.ClassFile.FieldType.boolean)) ∈ lw_all := lw_g (lw_at lw_m6 236 rfl) rfl
theorem q1528 : (Jvm.Cond.methodLink "FirstWordsModel" (279 : Nat) ({ cls := "FirstWordsModel", name := "targetOf", desc := "(I)I" } : Jvm.MethodName)) ∈ lw_all := lw_g (lw_at lw_m6 237 rfl) rfl
theorem q1529 : (Jvm.Cond.privateMethod ({ cls := "FirstWordsModel", name := "targetOf", desc := "(I)I" } : Jvm.MethodName)) ∈ lw_tbl := lw_at lw_m6 238 rfl
theorem q1530 : (Jvm.Cond.instanceMethod ({ cls := "FirstWordsModel", name := "targetOf", desc := "(I)I" } : Jvm.MethodName)) ∈ lw_all := lw_g (lw_at lw_m6 239 rfl) rfl
theorem q1531 : (Jvm.Cond.code ({ cls := "FirstWordsModel", name := "targetOf", desc := "(I)I" } : Jvm.MethodName) prog_14_method_30_code (2 : Nat) (Option.some Jvm.ClassFile.FieldType.int)) ∈ lw_all := lw_g (lw_at lw_m7 0 rfl) rfl
theorem q1533 : (Jvm.Cond.instanceMethod ({ cls := "FirstWordsModel", name := "undo", desc := "()I" } : Jvm.MethodName)) ∈ lw_all := lw_g (lw_at lw_m7 2 rfl) rfl
theorem q1534 : (Jvm.Cond.selects "FirstWordsModel" ({ cls := "FirstWordsModel", name := "undo", desc := "()I" } : Jvm.MethodName) ({ cls := "FirstWordsModel", name := "undo", desc := "()I" } : Jvm.MethodName)) ∈ lw_all := lw_g (lw_at lw_m7 3 rfl) rfl
theorem q1535 : (Jvm.Cond.code ({ cls := "FirstWordsModel", name := "undo", desc := "()I" } : Jvm.MethodName) prog_14_method_49_code (1 : Nat) (Option.some Jvm.ClassFile.FieldType.int)) ∈ lw_all := lw_g (lw_at lw_m7 4 rfl) rfl
theorem q1537 : (Jvm.Cond.instanceMethod ({ cls := "FirstWordsModel", name := "clear", desc := "()I" } : Jvm.MethodName)) ∈ lw_all := lw_g (lw_at lw_m7 6 rfl) rfl
theorem q1538 : (Jvm.Cond.selects "FirstWordsModel" ({ cls := "FirstWordsModel", name := "clear", desc := "()I" } : Jvm.MethodName) ({ cls := "FirstWordsModel", name := "clear", desc := "()I" } : Jvm.MethodName)) ∈ lw_all := lw_g (lw_at lw_m7 7 rfl) rfl
theorem q1539 : (Jvm.Cond.code ({ cls := "FirstWordsModel", name := "clear", desc := "()I" } : Jvm.MethodName) prog_14_method_50_code (2 : Nat) (Option.some Jvm.ClassFile.FieldType.int)) ∈ lw_all := lw_g (lw_at lw_m7 8 rfl) rfl
theorem q1541 : (Jvm.Cond.instanceMethod ({ cls := "FirstWordsModel", name := "shown", desc := "(II)I" } : Jvm.MethodName)) ∈ lw_all := lw_g (lw_at lw_m7 10 rfl) rfl
theorem q1542 : (Jvm.Cond.selects "FirstWordsModel" ({ cls := "FirstWordsModel", name := "shown", desc := "(II)I" } : Jvm.MethodName) ({ cls := "FirstWordsModel", name := "shown", desc := "(II)I" } : Jvm.MethodName)) ∈ lw_all := lw_g (lw_at lw_m7 11 rfl) rfl
theorem q1543 : (Jvm.Cond.code ({ cls := "FirstWordsModel", name := "shown", desc := "(II)I" } : Jvm.MethodName) prog_14_method_51_code (3 : Nat) (Option.some Jvm.ClassFile.FieldType.int)) ∈ lw_all := lw_g (lw_at lw_m7 12 rfl) rfl
theorem q1544 : (Jvm.Cond.constantLong "FirstWordsModel" (290 : Nat) (2 : Int64)) ∈ lw_all := lw_g (lw_at lw_m7 13 rfl) rfl
theorem q1546 : (Jvm.Cond.instanceMethod ({ cls := "FirstWordsModel", name := "thinks", desc := "(II)I" } : Jvm.MethodName)) ∈ lw_all := lw_g (lw_at lw_m7 15 rfl) rfl
theorem q1547 : (Jvm.Cond.selects "FirstWordsModel" ({ cls := "FirstWordsModel", name := "thinks", desc := "(II)I" } : Jvm.MethodName) ({ cls := "FirstWordsModel", name := "thinks", desc := "(II)I" } : Jvm.MethodName)) ∈ lw_all := lw_g (lw_at lw_m7 16 rfl) rfl
theorem q1548 : (Jvm.Cond.code ({ cls := "FirstWordsModel", name := "thinks", desc := "(II)I" } : Jvm.MethodName) prog_14_method_52_code (3 : Nat) (Option.some Jvm.ClassFile.FieldType.int)) ∈ lw_all := lw_g (lw_at lw_m7 17 rfl) rfl
theorem q1550 : (Jvm.Cond.instanceMethod ({ cls := "FirstWordsModel", name := "fits", desc := "(II)I" } : Jvm.MethodName)) ∈ lw_all := lw_g (lw_at lw_m7 19 rfl) rfl
theorem q1551 : (Jvm.Cond.selects "FirstWordsModel" ({ cls := "FirstWordsModel", name := "fits", desc := "(II)I" } : Jvm.MethodName) ({ cls := "FirstWordsModel", name := "fits", desc := "(II)I" } : Jvm.MethodName)) ∈ lw_all := lw_g (lw_at lw_m7 20 rfl) rfl
theorem q1552 : (Jvm.Cond.code ({ cls := "FirstWordsModel", name := "fits", desc := "(II)I" } : Jvm.MethodName) prog_14_method_53_code (3 : Nat) (Option.some Jvm.ClassFile.FieldType.int)) ∈ lw_all := lw_g (lw_at lw_m7 21 rfl) rfl
theorem q1554 : (Jvm.Cond.instanceMethod ({ cls := "FirstWordsModel", name := "same", desc := "(II)I" } : Jvm.MethodName)) ∈ lw_all := lw_g (lw_at lw_m7 23 rfl) rfl
theorem q1555 : (Jvm.Cond.selects "FirstWordsModel" ({ cls := "FirstWordsModel", name := "same", desc := "(II)I" } : Jvm.MethodName) ({ cls := "FirstWordsModel", name := "same", desc := "(II)I" } : Jvm.MethodName)) ∈ lw_all := lw_g (lw_at lw_m7 24 rfl) rfl
theorem q1556 : (Jvm.Cond.code ({ cls := "FirstWordsModel", name := "same", desc := "(II)I" } : Jvm.MethodName) prog_14_method_55_code (3 : Nat) (Option.some Jvm.ClassFile.FieldType.int)) ∈ lw_all := lw_g (lw_at lw_m7 25 rfl) rfl
theorem q1557 : (Jvm.Cond.methodLink "FirstWordsModel" (292 : Nat) ({ cls := "FirstWordsModel", name := "isSame", desc := "(III)Z" } : Jvm.MethodName)) ∈ lw_all := lw_g (lw_at lw_m7 26 rfl) rfl
theorem q1558 : (Jvm.Cond.privateMethod ({ cls := "FirstWordsModel", name := "isSame", desc := "(III)Z" } : Jvm.MethodName)) ∈ lw_tbl := lw_at lw_m7 27 rfl
theorem q1559 : (Jvm.Cond.instanceMethod ({ cls := "FirstWordsModel", name := "isSame", desc := "(III)Z" } : Jvm.MethodName)) ∈ lw_all := lw_g (lw_at lw_m7 28 rfl) rfl
theorem q1560 : (Jvm.Cond.code ({ cls := "FirstWordsModel", name := "isSame", desc := "(III)Z" } : Jvm.MethodName) prog_14_method_54_code (5 : Nat) (Option.some Jvm.ClassFile.FieldType.boolean)) ∈ lw_all := lw_g (lw_at lw_m7 29 rfl) rfl
theorem q1562 : (Jvm.Cond.instanceMethod ({ cls := "FirstWordsModel", name := "fled", desc := "(I)I" } : Jvm.MethodName)) ∈ lw_all := lw_g (lw_at lw_m7 31 rfl) rfl
theorem q1563 : (Jvm.Cond.selects "FirstWordsModel" ({ cls := "FirstWordsModel", name := "fled", desc := "(I)I" } : Jvm.MethodName) ({ cls := "FirstWordsModel", name := "fled", desc := "(I)I" } : Jvm.MethodName)) ∈ lw_all := lw_g (lw_at lw_m7 32 rfl) rfl
theorem q1564 : (Jvm.Cond.code ({ cls := "FirstWordsModel", name := "fled", desc := "(I)I" } : Jvm.MethodName) prog_14_method_56_code (2 : Nat) (Option.some Jvm.ClassFile.FieldType.int)) ∈ lw_all := lw_g (lw_at lw_m7 33 rfl) rfl
theorem q1566 : (Jvm.Cond.instanceMethod ({ cls := "FirstWordsModel", name := "against", desc := "(II)I" } : Jvm.MethodName)) ∈ lw_all := lw_g (lw_at lw_m7 35 rfl) rfl
theorem q1567 : (Jvm.Cond.selects "FirstWordsModel" ({ cls := "FirstWordsModel", name := "against", desc := "(II)I" } : Jvm.MethodName) ({ cls := "FirstWordsModel", name := "against", desc := "(II)I" } : Jvm.MethodName)) ∈ lw_all := lw_g (lw_at lw_m7 36 rfl) rfl
theorem q1568 : (Jvm.Cond.code ({ cls := "FirstWordsModel", name := "against", desc := "(II)I" } : Jvm.MethodName) prog_14_method_57_code (3 : Nat) (Option.some Jvm.ClassFile.FieldType.int)) ∈ lw_all := lw_g (lw_at lw_m7 37 rfl) rfl
theorem q1570 : (Jvm.Cond.instanceMethod ({ cls := "FirstWordsModel", name := "common", desc := "(I)I" } : Jvm.MethodName)) ∈ lw_all := lw_g (lw_at lw_m7 39 rfl) rfl
theorem q1571 : (Jvm.Cond.selects "FirstWordsModel" ({ cls := "FirstWordsModel", name := "common", desc := "(I)I" } : Jvm.MethodName) ({ cls := "FirstWordsModel", name := "common", desc := "(I)I" } : Jvm.MethodName)) ∈ lw_all := lw_g (lw_at lw_m7 40 rfl) rfl
theorem q1572 : (Jvm.Cond.code ({ cls := "FirstWordsModel", name := "common", desc := "(I)I" } : Jvm.MethodName) prog_14_method_59_code (4 : Nat) (Option.some Jvm.ClassFile.FieldType.int)) ∈ lw_all := lw_g (lw_at lw_m7 41 rfl) rfl
theorem q1573 : (Jvm.Cond.methodLink "FirstWordsModel" (295 : Nat) ({ cls := "FirstWordsModel", name := "areKinds", desc := "(I)Z" } : Jvm.MethodName)) ∈ lw_all := lw_g (lw_at lw_m7 42 rfl) rfl
theorem q1574 : (Jvm.Cond.privateMethod ({ cls := "FirstWordsModel", name := "areKinds", desc := "(I)Z" } : Jvm.MethodName)) ∈ lw_tbl := lw_at lw_m7 43 rfl
theorem q1575 : (Jvm.Cond.instanceMethod ({ cls := "FirstWordsModel", name := "areKinds", desc := "(I)Z" } : Jvm.MethodName)) ∈ lw_all := lw_g (lw_at lw_m7 44 rfl) rfl
theorem q1576 : (Jvm.Cond.code ({ cls := "FirstWordsModel", name := "areKinds", desc := "(I)Z" } : Jvm.MethodName) prog_14_method_27_code (2 : Nat) (Option.some Jvm.ClassFile.FieldType.boolean)) ∈ lw_all := lw_g (lw_at lw_m7 45 rfl) rfl
theorem q1577 : (Jvm.Cond.methodLink "FirstWordsModel" (298 : Nat) ({ cls := "FirstWordsModel", name := "isSameForAll", desc := "(III)Z" } : Jvm.MethodName)) ∈ lw_all := lw_g (lw_at lw_m7 46 rfl) rfl
theorem q1578 : (Jvm.Cond.privateMethod ({ cls := "FirstWordsModel", name := "isSameForAll", desc := "(III)Z" } : Jvm.MethodName)) ∈ lw_tbl := lw_at lw_m7 47 rfl
theorem q1579 : (Jvm.Cond.instanceMethod ({ cls := "FirstWordsModel", name := "isSameForAll", desc := "(III)Z" } : Jvm.MethodName)) ∈ lw_all := lw_g (lw_at lw_m7 48 rfl) rfl
theorem q1580 : (Jvm.Cond.code ({ cls := "FirstWordsModel", name := "isSameForAll", desc := "(III)Z" } : Jvm.MethodName) prog_14_method_58_code (6 : Nat) (Option.some Jvm.ClassFile.FieldType.boolean)) ∈ lw_all := lw_g (lw_at lw_m7 49 rfl) rfl
theorem q1582 : (Jvm.Cond.instanceMethod ({ cls := "FirstWordsModel", name := "teaching", desc := "(III)I" } : Jvm.MethodName)) ∈ lw_all := lw_g (lw_at lw_m7 51 rfl) rfl
theorem q1583 : (Jvm.Cond.selects "FirstWordsModel" ({ cls := "FirstWordsModel", name := "teaching", desc := "(III)I" } : Jvm.MethodName) ({ cls := "FirstWordsModel", name := "teaching", desc := "(III)I" } : Jvm.MethodName)) ∈ lw_all := lw_g (lw_at lw_m7 52 rfl) rfl
theorem q1584 : (Jvm.Cond.code ({ cls := "FirstWordsModel", name := "teaching", desc := "(III)I" } : Jvm.MethodName) prog_14_method_65_code (5 : Nat) (Option.some Jvm.ClassFile.FieldType.int)) ∈ lw_all := lw_g (lw_at lw_m7 53 rfl) rfl
theorem q1585 : (Jvm.Cond.methodLink "FirstWordsModel" (301 : Nat) ({ cls := "FirstWordsModel", name := "copies", desc := "(II)V" } : Jvm.MethodName)) ∈ lw_all := lw_g (lw_at lw_m7 54 rfl) rfl
theorem q1586 : (Jvm.Cond.privateMethod ({ cls := "FirstWordsModel", name := "copies", desc := "(II)V" } : Jvm.MethodName)) ∈ lw_tbl := lw_at lw_m7 55 rfl
theorem q1587 : (Jvm.Cond.instanceMethod ({ cls := "FirstWordsModel", name := "copies", desc := "(II)V" } : Jvm.MethodName)) ∈ lw_all := lw_g (lw_at lw_m7 56 rfl) rfl
theorem q1588 : (Jvm.Cond.code ({ cls := "FirstWordsModel", name := "copies", desc := "(II)V" } : Jvm.MethodName) prog_14_method_60_code (4 : Nat) (Option.none : Option Jvm.ClassFile.FieldType)) ∈ lw_all := lw_g (lw_at lw_m7 57 rfl) rfl
theorem q1589 : (Jvm.Cond.methodLink "FirstWordsModel" (313 : Nat) ({ cls := "FirstWordsModel", name := "fewest", desc := "(III)I" } : Jvm.MethodName)) ∈ lw_all := lw_g (lw_at lw_m7 58 rfl) rfl
theorem q1590 : (Jvm.Cond.privateMethod ({ cls := "FirstWordsModel", name := "fewest", desc := "(III)I" } : Jvm.MethodName)) ∈ lw_tbl := lw_at lw_m7 59 rfl
theorem q1591 : (Jvm.Cond.instanceMethod ({ cls := "FirstWordsModel", name := "fewest", desc := "(III)I" } : Jvm.MethodName)) ∈ lw_all := lw_g (lw_at lw_m7 60 rfl) rfl
theorem q1592 : (Jvm.Cond.code ({ cls := "FirstWordsModel", name := "fewest", desc := "(III)I" } : Jvm.MethodName) prog_14_method_64_code (6 : Nat) (Option.some Jvm.ClassFile.FieldType.int)) ∈ lw_all := lw_g (lw_at lw_m7 61 rfl) rfl
theorem q1593 : (Jvm.Cond.methodLink "FirstWordsModel" (307 : Nat) ({ cls := "FirstWordsModel", name := "teaches", desc := "(III)Z" } : Jvm.MethodName)) ∈ lw_all := lw_g (lw_at lw_m7 62 rfl) rfl
theorem q1594 : (Jvm.Cond.privateMethod ({ cls := "FirstWordsModel", name := "teaches", desc := "(III)Z" } : Jvm.MethodName)) ∈ lw_tbl := lw_at lw_m7 63 rfl
theorem q1595 : (Jvm.Cond.instanceMethod ({ cls := "FirstWordsModel", name := "teaches", desc := "(III)Z" } : Jvm.MethodName)) ∈ lw_all := lw_g (lw_at lw_m7 64 rfl) rfl
theorem q1596 : (Jvm.Cond.code ({ cls := "FirstWordsModel", name := "teaches", desc := "(III)Z" } : Jvm.MethodName) prog_14_method_63_code (5 : Nat) (Option.some Jvm.ClassFile.FieldType.boolean)) ∈ lw_all := lw_g (lw_at lw_m7 65 rfl) rfl
theorem q1597 : (Jvm.Cond.methodLink "FirstWordsModel" (304 : Nat) ({ cls := "FirstWordsModel", name := "hasFled", desc := "(II)Z" } : Jvm.MethodName)) ∈ lw_all := lw_g (lw_at lw_m7 66 rfl) rfl
theorem q1598 : (Jvm.Cond.privateMethod ({ cls := "FirstWordsModel", name := "hasFled", desc := "(II)Z" } : Jvm.MethodName)) ∈ lw_tbl := lw_at lw_m7 67 rfl
theorem q1599 : (Jvm.Cond.instanceMethod ({ cls := "FirstWordsModel", name := "hasFled", desc := "(II)Z" } : Jvm.MethodName)) ∈ lw_all := lw_g (lw_at lw_m7 68 rfl) rfl
theorem q1600 : (Jvm.Cond.code ({ cls := "FirstWordsModel", name := "hasFled", desc := "(II)Z" } : Jvm.MethodName) prog_14_method_61_code (5 : Nat) (Option.some Jvm.ClassFile.FieldType.boolean)) ∈ lw_all := lw_g (lw_at lw_m7 69 rfl) rfl
theorem q1601 : (Jvm.Cond.methodLink "FirstWordsModel" (310 : Nat) ({ cls := "FirstWordsModel", name := "nextRow", desc := "(I)Z" } : Jvm.MethodName)) ∈ lw_all := lw_g (lw_at lw_m7 70 rfl) rfl
theorem q1602 : (Jvm.Cond.privateMethod ({ cls := "FirstWordsModel", name := "nextRow", desc := "(I)Z" } : Jvm.MethodName)) ∈ lw_tbl := lw_at lw_m7 71 rfl
theorem q1603 : (Jvm.Cond.instanceMethod ({ cls := "FirstWordsModel", name := "nextRow", desc := "(I)Z" } : Jvm.MethodName)) ∈ lw_all := lw_g (lw_at lw_m7 72 rfl) rfl
theorem q1604 : (Jvm.Cond.code ({ cls := "FirstWordsModel", name := "nextRow", desc := "(I)Z" } : Jvm.MethodName) prog_14_method_62_code (3 : Nat) (Option.some Jvm.ClassFile.FieldType.boolean)) ∈ lw_all := lw_g (lw_at lw_m7 73 rfl) rfl
theorem q1606 : (Jvm.Cond.instanceMethod ({ cls := "FirstWordsModel", name := "never", desc := "(II)I" } : Jvm.MethodName)) ∈ lw_all := lw_g (lw_at lw_m7 75 rfl) rfl
theorem q1607 : (Jvm.Cond.selects "FirstWordsModel" ({ cls := "FirstWordsModel", name := "never", desc := "(II)I" } : Jvm.MethodName) ({ cls := "FirstWordsModel", name := "never", desc := "(II)I" } : Jvm.MethodName)) ∈ lw_all := lw_g (lw_at lw_m7 76 rfl) rfl
theorem q1608 : (Jvm.Cond.code ({ cls := "FirstWordsModel", name := "never", desc := "(II)I" } : Jvm.MethodName) prog_14_method_66_code (5 : Nat) (Option.some Jvm.ClassFile.FieldType.int)) ∈ lw_all := lw_g (lw_at lw_m7 77 rfl) rfl
theorem q1610 : (Jvm.Cond.instanceMethod ({ cls := "FirstWordsModel", name := "order", desc := "(II)I" } : Jvm.MethodName)) ∈ lw_all := lw_g (lw_at lw_m7 79 rfl) rfl
theorem q1611 : (Jvm.Cond.selects "FirstWordsModel" ({ cls := "FirstWordsModel", name := "order", desc := "(II)I" } : Jvm.MethodName) ({ cls := "FirstWordsModel", name := "order", desc := "(II)I" } : Jvm.MethodName)) ∈ lw_all := lw_g (lw_at lw_m7 80 rfl) rfl
theorem q1612 : (Jvm.Cond.code ({ cls := "FirstWordsModel", name := "order", desc := "(II)I" } : Jvm.MethodName) prog_14_method_69_code (9 : Nat) (Option.some Jvm.ClassFile.FieldType.int)) ∈ lw_all := lw_g (lw_at lw_m7 81 rfl) rfl
theorem q1613 : (Jvm.Cond.methodLink "FirstWordsModel" (317 : Nat) ({ cls := "FirstWordsModel", name := "areUnlike", desc := "()Z" } : Jvm.MethodName)) ∈ lw_all := lw_g (lw_at lw_m7 82 rfl) rfl
theorem q1614 : (Jvm.Cond.privateMethod ({ cls := "FirstWordsModel", name := "areUnlike", desc := "()Z" } : Jvm.MethodName)) ∈ lw_tbl := lw_at lw_m7 83 rfl
theorem q1615 : (Jvm.Cond.instanceMethod ({ cls := "FirstWordsModel", name := "areUnlike", desc := "()Z" } : Jvm.MethodName)) ∈ lw_all := lw_g (lw_at lw_m7 84 rfl) rfl
theorem q1616 : (Jvm.Cond.code ({ cls := "FirstWordsModel", name := "areUnlike", desc := "()Z" } : Jvm.MethodName) prog_14_method_68_code (3 : Nat) (Option.some Jvm.ClassFile.FieldType.boolean)) ∈ lw_all := lw_g (lw_at lw_m7 85 rfl) rfl
theorem q1617 : (Jvm.Cond.methodLink "FirstWordsModel" (321 : Nat) ({ cls := "FirstWordsModel", name := "taken", desc := "(I)I" } : Jvm.MethodName)) ∈ lw_all := lw_g (lw_at lw_m7 86 rfl) rfl
theorem q1618 : (Jvm.Cond.privateMethod ({ cls := "FirstWordsModel", name := "taken", desc := "(I)I" } : Jvm.MethodName)) ∈ lw_tbl := lw_at lw_m7 87 rfl
theorem q1619 : (Jvm.Cond.instanceMethod ({ cls := "FirstWordsModel", name := "taken", desc := "(I)I" } : Jvm.MethodName)) ∈ lw_all := lw_g (lw_at lw_m7 88 rfl) rfl
theorem q1620 : (Jvm.Cond.code ({ cls := "FirstWordsModel", name := "taken", desc := "(I)I" } : Jvm.MethodName) prog_14_method_67_code (5 : Nat) (Option.some Jvm.ClassFile.FieldType.int)) ∈ lw_all := lw_g (lw_at lw_m7 89 rfl) rfl
theorem q1622 : (Jvm.Cond.instanceMethod ({ cls := "FirstWordsModel", name := "first", desc := "(II)I" } : Jvm.MethodName)) ∈ lw_all := lw_g (lw_at lw_m7 91 rfl) rfl
theorem q1623 : (Jvm.Cond.selects "FirstWordsModel" ({ cls := "FirstWordsModel", name := "first", desc := "(II)I" } : Jvm.MethodName) ({ cls := "FirstWordsModel", name := "first", desc := "(II)I" } : Jvm.MethodName)) ∈ lw_all := lw_g (lw_at lw_m7 92 rfl) rfl
theorem q1624 : (Jvm.Cond.code ({ cls := "FirstWordsModel", name := "first", desc := "(II)I" } : Jvm.MethodName) prog_14_method_74_code (8 : Nat) (Option.some Jvm.ClassFile.FieldType.int)) ∈ lw_all := lw_g (lw_at lw_m7 93 rfl) rfl
theorem q1625 : (Jvm.Cond.methodLink "FirstWordsModel" (327 : Nat) ({ cls := "FirstWordsModel", name := "allChances", desc := "()I" } : Jvm.MethodName)) ∈ lw_all := lw_g (lw_at lw_m7 94 rfl) rfl
theorem q1626 : (Jvm.Cond.privateMethod ({ cls := "FirstWordsModel", name := "allChances", desc := "()I" } : Jvm.MethodName)) ∈ lw_tbl := lw_at lw_m7 95 rfl
theorem q1627 : (Jvm.Cond.instanceMethod ({ cls := "FirstWordsModel", name := "allChances", desc := "()I" } : Jvm.MethodName)) ∈ lw_all := lw_g (lw_at lw_m7 96 rfl) rfl
theorem q1628 : (Jvm.Cond.code ({ cls := "FirstWordsModel", name := "allChances", desc := "()I" } : Jvm.MethodName) prog_14_method_71_code (1 : Nat) (Option.some Jvm.ClassFile.FieldType.int)) ∈ lw_all := lw_g (lw_at lw_m7 97 rfl) rfl
theorem q1629 : (Jvm.Cond.methodLink "FirstWordsModel" (324 : Nat) ({ cls := "FirstWordsModel", name := "chanceOf", desc := "(I)I" } : Jvm.MethodName)) ∈ lw_all := lw_g (lw_at lw_m7 98 rfl) rfl
theorem q1630 : (Jvm.Cond.privateMethod ({ cls := "FirstWordsModel", name := "chanceOf", desc := "(I)I" } : Jvm.MethodName)) ∈ lw_tbl := lw_at lw_m7 99 rfl
theorem q1631 : (Jvm.Cond.instanceMethod ({ cls := "FirstWordsModel", name := "chanceOf", desc := "(I)I" } : Jvm.MethodName)) ∈ lw_all := lw_g (lw_at lw_m7 100 rfl) rfl
theorem q1632 : (Jvm.Cond.code ({ cls := "FirstWordsModel", name := "chanceOf", desc := "(I)I" } : Jvm.MethodName) prog_14_method_70_code (4 : Nat) (Option.some Jvm.ClassFile.FieldType.int)) ∈ lw_all := lw_g (lw_at lw_m7 101 rfl) rfl
theorem q1633 : (Jvm.Cond.methodLink "FirstWordsModel" (330 : Nat) ({ cls := "FirstWordsModel", name := "feared", desc := "(Z)I" } : Jvm.MethodName)) ∈ lw_all := lw_g (lw_at lw_m7 102 rfl) rfl
theorem q1634 : (Jvm.Cond.privateMethod ({ cls := "FirstWordsModel", name := "feared", desc := "(Z)I" } : Jvm.MethodName)) ∈ lw_tbl := lw_at lw_m7 103 rfl
theorem q1635 : (Jvm.Cond.instanceMethod ({ cls := "FirstWordsModel", name := "feared", desc := "(Z)I" } : Jvm.MethodName)) ∈ lw_all := lw_g (lw_at lw_m7 104 rfl) rfl
theorem q1636 : (Jvm.Cond.code ({ cls := "FirstWordsModel", name := "feared", desc := "(Z)I" } : Jvm.MethodName) prog_14_method_72_code (5 : Nat) (Option.some Jvm.ClassFile.FieldType.int)) ∈ lw_all := lw_g (lw_at lw_m7 105 rfl) rfl
theorem q1637 : (Jvm.Cond.methodLink "FirstWordsModel" (333 : Nat) ({ cls := "FirstWordsModel", name := "lowest", desc := "(III)I" } : Jvm.MethodName)) ∈ lw_all := lw_g (lw_at lw_m7 106 rfl) rfl
theorem q1638 : (Jvm.Cond.static ({ cls := "FirstWordsModel", name := "lowest", desc := "(III)I" } : Jvm.MethodName)) ∈ lw_all := lw_g (lw_at lw_m7 107 rfl) rfl
theorem q1639 : (Jvm.Cond.code ({ cls := "FirstWordsModel", name := "lowest", desc := "(III)I" } : Jvm.MethodName) prog_14_method_73_code (6 : Nat) (Option.some Jvm.ClassFile.FieldType.int)) ∈ lw_all := lw_g (lw_at lw_m7 108 rfl) rfl
theorem q1641 : (Jvm.Cond.instanceMethod ({ cls := "FirstWordsModel", name := "fears", desc := "(I)I" } : Jvm.MethodName)) ∈ lw_all := lw_g (lw_at lw_m7 110 rfl) rfl
theorem q1642 : (Jvm.Cond.selects "FirstWordsModel" ({ cls := "FirstWordsModel", name := "fears", desc := "(I)I" } : Jvm.MethodName) ({ cls := "FirstWordsModel", name := "fears", desc := "(I)I" } : Jvm.MethodName)) ∈ lw_all := lw_g (lw_at lw_m7 111 rfl) rfl
theorem q1643 : (Jvm.Cond.code ({ cls := "FirstWordsModel", name := "fears", desc := "(I)I" } : Jvm.MethodName) prog_14_method_75_code (2 : Nat) (Option.some Jvm.ClassFile.FieldType.int)) ∈ lw_all := lw_g (lw_at lw_m7 112 rfl) rfl
theorem q1645 : (Jvm.Cond.instanceMethod ({ cls := "FirstWordsModel", name := "answer", desc := "(III)I" } : Jvm.MethodName)) ∈ lw_all := lw_g (lw_at lw_m7 114 rfl) rfl
theorem q1646 : (Jvm.Cond.selects "FirstWordsModel" ({ cls := "FirstWordsModel", name := "answer", desc := "(III)I" } : Jvm.MethodName) ({ cls := "FirstWordsModel", name := "answer", desc := "(III)I" } : Jvm.MethodName)) ∈ lw_all := lw_g (lw_at lw_m7 115 rfl) rfl
theorem q1647 : (Jvm.Cond.code ({ cls := "FirstWordsModel", name := "answer", desc := "(III)I" } : Jvm.MethodName) prog_14_method_77_code (4 : Nat) (Option.some Jvm.ClassFile.FieldType.int)) ∈ lw_all := lw_g (lw_at lw_m7 116 rfl) rfl
theorem q1648 : (Jvm.Cond.methodLink "FirstWordsModel" (336 : Nat) ({ cls := "FirstWordsModel", name := "answerOf", desc := "(III)I" } : Jvm.MethodName)) ∈ lw_all := lw_g (lw_at lw_m7 117 rfl) rfl
theorem q1649 : (Jvm.Cond.privateMethod ({ cls := "FirstWordsModel", name := "answerOf", desc := "(III)I" } : Jvm.MethodName)) ∈ lw_tbl := lw_at lw_m7 118 rfl
theorem q1650 : (Jvm.Cond.instanceMethod ({ cls := "FirstWordsModel", name := "answerOf", desc := "(III)I" } : Jvm.MethodName)) ∈ lw_all := lw_g (lw_at lw_m7 119 rfl) rfl
theorem q1651 : (Jvm.Cond.code ({ cls := "FirstWordsModel", name := "answerOf", desc := "(III)I" } : Jvm.MethodName) prog_14_method_76_code (5 : Nat) (Option.some Jvm.ClassFile.FieldType.int)) ∈ lw_all := lw_g (lw_at lw_m7 120 rfl) rfl
theorem q1653 : (Jvm.Cond.instanceMethod ({ cls := "FirstWordsModel", name := "heard", desc := "(III)I" } : Jvm.MethodName)) ∈ lw_all := lw_g (lw_at lw_m7 122 rfl) rfl
theorem q1654 : (Jvm.Cond.selects "FirstWordsModel" ({ cls := "FirstWordsModel", name := "heard", desc := "(III)I" } : Jvm.MethodName) ({ cls := "FirstWordsModel", name := "heard", desc := "(III)I" } : Jvm.MethodName)) ∈ lw_all := lw_g (lw_at lw_m7 123 rfl) rfl
theorem q1655 : (Jvm.Cond.code ({ cls := "FirstWordsModel", name := "heard", desc := "(III)I" } : Jvm.MethodName) prog_14_method_79_code (4 : Nat) (Option.some Jvm.ClassFile.FieldType.int)) ∈ lw_all := lw_g (lw_at lw_m7 124 rfl) rfl
theorem q1656 : (Jvm.Cond.methodLink "FirstWordsModel" (339 : Nat) ({ cls := "FirstWordsModel", name := "whoSay", desc := "(III)I" } : Jvm.MethodName)) ∈ lw_all := lw_g (lw_at lw_m7 125 rfl) rfl
theorem q1657 : (Jvm.Cond.privateMethod ({ cls := "FirstWordsModel", name := "whoSay", desc := "(III)I" } : Jvm.MethodName)) ∈ lw_tbl := lw_at lw_m7 126 rfl
theorem q1658 : (Jvm.Cond.instanceMethod ({ cls := "FirstWordsModel", name := "whoSay", desc := "(III)I" } : Jvm.MethodName)) ∈ lw_all := lw_g (lw_at lw_m7 127 rfl) rfl
theorem q1659 : (Jvm.Cond.code ({ cls := "FirstWordsModel", name := "whoSay", desc := "(III)I" } : Jvm.MethodName) prog_14_method_78_code (6 : Nat) (Option.some Jvm.ClassFile.FieldType.int)) ∈ lw_all := lw_g (lw_at lw_m7 128 rfl) rfl
theorem q1661 : (Jvm.Cond.instanceMethod ({ cls := "FirstWordsModel", name := "left", desc := "(I)I" } : Jvm.MethodName)) ∈ lw_all := lw_g (lw_at lw_m7 130 rfl) rfl
theorem q1662 : (Jvm.Cond.selects "FirstWordsModel" ({ cls := "FirstWordsModel", name := "left", desc := "(I)I" } : Jvm.MethodName) ({ cls := "FirstWordsModel", name := "left", desc := "(I)I" } : Jvm.MethodName)) ∈ lw_all := lw_g (lw_at lw_m7 131 rfl) rfl
theorem q1663 : (Jvm.Cond.code ({ cls := "FirstWordsModel", name := "left", desc := "(I)I" } : Jvm.MethodName) prog_14_method_80_code (2 : Nat) (Option.some Jvm.ClassFile.FieldType.int)) ∈ lw_all := lw_g (lw_at lw_m7 132 rfl) rfl
theorem q1665 : (Jvm.Cond.instanceMethod ({ cls := "FirstWordsModel", name := "ask", desc := "(I)I" } : Jvm.MethodName)) ∈ lw_all := lw_g (lw_at lw_m7 134 rfl) rfl
theorem q1666 : (Jvm.Cond.selects "FirstWordsModel" ({ cls := "FirstWordsModel", name := "ask", desc := "(I)I" } : Jvm.MethodName) ({ cls := "FirstWordsModel", name := "ask", desc := "(I)I" } : Jvm.MethodName)) ∈ lw_all := lw_g (lw_at lw_m7 135 rfl) rfl
theorem q1667 : (Jvm.Cond.code ({ cls := "FirstWordsModel", name := "ask", desc := "(I)I" } : Jvm.MethodName) prog_14_method_81_code (9 : Nat) (Option.some Jvm.ClassFile.FieldType.int)) ∈ lw_all := lw_g (lw_at lw_m7 136 rfl) rfl
theorem q1669 : (Jvm.Cond.instanceMethod ({ cls := "FirstWordsModel", name := "sure", desc := "(II)I" } : Jvm.MethodName)) ∈ lw_all := lw_g (lw_at lw_m7 138 rfl) rfl
theorem q1670 : (Jvm.Cond.selects "FirstWordsModel" ({ cls := "FirstWordsModel", name := "sure", desc := "(II)I" } : Jvm.MethodName) ({ cls := "FirstWordsModel", name := "sure", desc := "(II)I" } : Jvm.MethodName)) ∈ lw_all := lw_g (lw_at lw_m7 139 rfl) rfl
theorem q1671 : (Jvm.Cond.code ({ cls := "FirstWordsModel", name := "sure", desc := "(II)I" } : Jvm.MethodName) prog_14_method_82_code (9 : Nat) (Option.some Jvm.ClassFile.FieldType.int)) ∈ lw_all := lw_g (lw_at lw_m7 140 rfl) rfl
theorem q1673 : (Jvm.Cond.instanceMethod ({ cls := "FirstWordsModel", name := "likely", desc := "(II)I" } : Jvm.MethodName)) ∈ lw_all := lw_g (lw_at lw_m7 142 rfl) rfl
theorem q1674 : (Jvm.Cond.selects "FirstWordsModel" ({ cls := "FirstWordsModel", name := "likely", desc := "(II)I" } : Jvm.MethodName) ({ cls := "FirstWordsModel", name := "likely", desc := "(II)I" } : Jvm.MethodName)) ∈ lw_all := lw_g (lw_at lw_m7 143 rfl) rfl
theorem q1675 : (Jvm.Cond.code ({ cls := "FirstWordsModel", name := "likely", desc := "(II)I" } : Jvm.MethodName) prog_14_method_83_code (5 : Nat) (Option.some Jvm.ClassFile.FieldType.int)) ∈ lw_all := lw_g (lw_at lw_m7 144 rfl) rfl
theorem q1677 : (Jvm.Cond.instanceMethod ({ cls := "FirstWordsModel", name := "theirs", desc := "(IZ)I" } : Jvm.MethodName)) ∈ lw_all := lw_g (lw_at lw_m7 146 rfl) rfl
theorem q1678 : (Jvm.Cond.selects "FirstWordsModel" ({ cls := "FirstWordsModel", name := "theirs", desc := "(IZ)I" } : Jvm.MethodName) ({ cls := "FirstWordsModel", name := "theirs", desc := "(IZ)I" } : Jvm.MethodName)) ∈ lw_all := lw_g (lw_at lw_m7 147 rfl) rfl
theorem q1679 : (Jvm.Cond.code ({ cls := "FirstWordsModel", name := "theirs", desc := "(IZ)I" } : Jvm.MethodName) prog_14_method_84_code (3 : Nat) (Option.some Jvm.ClassFile.FieldType.int)) ∈ lw_all := lw_g (lw_at lw_m7 148 rfl) rfl
theorem q1681 : (Jvm.Cond.instanceMethod ({ cls := "FirstWordsModel", name := "hush", desc := "()I" } : Jvm.MethodName)) ∈ lw_all := lw_g (lw_at lw_m7 150 rfl) rfl
theorem q1682 : (Jvm.Cond.selects "FirstWordsModel" ({ cls := "FirstWordsModel", name := "hush", desc := "()I" } : Jvm.MethodName) ({ cls := "FirstWordsModel", name := "hush", desc := "()I" } : Jvm.MethodName)) ∈ lw_all := lw_g (lw_at lw_m7 151 rfl) rfl
theorem q1683 : (Jvm.Cond.code ({ cls := "FirstWordsModel", name := "hush", desc := "()I" } : Jvm.MethodName) prog_14_method_85_code (2 : Nat) (Option.some Jvm.ClassFile.FieldType.int)) ∈ lw_all := lw_g (lw_at lw_m7 152 rfl) rfl
theorem q1685 : (Jvm.Cond.instanceMethod ({ cls := "FirstWordsModel", name := "meant", desc := "(I)I" } : Jvm.MethodName)) ∈ lw_all := lw_g (lw_at lw_m7 154 rfl) rfl
theorem q1686 : (Jvm.Cond.selects "FirstWordsModel" ({ cls := "FirstWordsModel", name := "meant", desc := "(I)I" } : Jvm.MethodName) ({ cls := "FirstWordsModel", name := "meant", desc := "(I)I" } : Jvm.MethodName)) ∈ lw_all := lw_g (lw_at lw_m7 155 rfl) rfl
theorem q1687 : (Jvm.Cond.code ({ cls := "FirstWordsModel", name := "meant", desc := "(I)I" } : Jvm.MethodName) prog_14_method_88_code (3 : Nat) (Option.some Jvm.ClassFile.FieldType.int)) ∈ lw_all := lw_g (lw_at lw_m7 156 rfl) rfl
theorem q1688 : (Jvm.Cond.methodLink "FirstWordsModel" (342 : Nat) ({ cls := "FirstWordsModel", name := "fitsTheirs", desc := "()I" } : Jvm.MethodName)) ∈ lw_all := lw_g (lw_at lw_m7 157 rfl) rfl
theorem q1689 : (Jvm.Cond.privateMethod ({ cls := "FirstWordsModel", name := "fitsTheirs", desc := "()I" } : Jvm.MethodName)) ∈ lw_tbl := lw_at lw_m7 158 rfl
theorem q1690 : (Jvm.Cond.instanceMethod ({ cls := "FirstWordsModel", name := "fitsTheirs", desc := "()I" } : Jvm.MethodName)) ∈ lw_all := lw_g (lw_at lw_m7 159 rfl) rfl
theorem q1691 : (Jvm.Cond.code ({ cls := "FirstWordsModel", name := "fitsTheirs", desc := "()I" } : Jvm.MethodName) prog_14_method_86_code (5 : Nat) (Option.some Jvm.ClassFile.FieldType.int)) ∈ lw_all := lw_g (lw_at lw_m7 160 rfl) rfl
theorem q1692 : (Jvm.Cond.methodLink "FirstWordsModel" (345 : Nat) ({ cls := "FirstWordsModel", name := "toAsk", desc := "(I)I" } : Jvm.MethodName)) ∈ lw_all := lw_g (lw_at lw_m7 161 rfl) rfl
theorem q1693 : (Jvm.Cond.privateMethod ({ cls := "FirstWordsModel", name := "toAsk", desc := "(I)I" } : Jvm.MethodName)) ∈ lw_tbl := lw_at lw_m7 162 rfl
theorem q1694 : (Jvm.Cond.instanceMethod ({ cls := "FirstWordsModel", name := "toAsk", desc := "(I)I" } : Jvm.MethodName)) ∈ lw_all := lw_g (lw_at lw_m7 163 rfl) rfl
theorem q1695 : (Jvm.Cond.code ({ cls := "FirstWordsModel", name := "toAsk", desc := "(I)I" } : Jvm.MethodName) prog_14_method_87_code (7 : Nat) (Option.some Jvm.ClassFile.FieldType.int)) ∈ lw_all := lw_g (lw_at lw_m7 164 rfl) rfl
theorem q1697 : (Jvm.Cond.instanceMethod ({ cls := "FirstWordsModel", name := "build", desc := "(II)I" } : Jvm.MethodName)) ∈ lw_all := lw_g (lw_at lw_m7 166 rfl) rfl
theorem q1698 : (Jvm.Cond.selects "FirstWordsModel" ({ cls := "FirstWordsModel", name := "build", desc := "(II)I" } : Jvm.MethodName) ({ cls := "FirstWordsModel", name := "build", desc := "(II)I" } : Jvm.MethodName)) ∈ lw_all := lw_g (lw_at lw_m7 167 rfl) rfl
theorem q1699 : (Jvm.Cond.code ({ cls := "FirstWordsModel", name := "build", desc := "(II)I" } : Jvm.MethodName) prog_14_method_89_code (8 : Nat) (Option.some Jvm.ClassFile.FieldType.int)) ∈ lw_all := lw_g (lw_at lw_m7 168 rfl) rfl
theorem q1701 : (Jvm.Cond.instanceMethod ({ cls := "FirstWordsModel", name := "draw", desc := "(I)I" } : Jvm.MethodName)) ∈ lw_all := lw_g (lw_at lw_m7 170 rfl) rfl
theorem q1702 : (Jvm.Cond.selects "FirstWordsModel" ({ cls := "FirstWordsModel", name := "draw", desc := "(I)I" } : Jvm.MethodName) ({ cls := "FirstWordsModel", name := "draw", desc := "(I)I" } : Jvm.MethodName)) ∈ lw_all := lw_g (lw_at lw_m7 171 rfl) rfl
theorem q1703 : (Jvm.Cond.code ({ cls := "FirstWordsModel", name := "draw", desc := "(I)I" } : Jvm.MethodName) prog_14_method_90_code (4 : Nat) (Option.some Jvm.ClassFile.FieldType.int)) ∈ lw_all := lw_g (lw_at lw_m7 172 rfl) rfl
theorem q1704 : (Jvm.Cond.constant "FirstWordsModel" (348 : Nat) (1103515245 : Int32)) ∈ lw_all := lw_g (lw_at lw_m7 173 rfl) rfl
theorem q1706 : (Jvm.Cond.instanceMethod ({ cls := "FirstWordsModel", name := "keep", desc := "(I)I" } : Jvm.MethodName)) ∈ lw_all := lw_g (lw_at lw_m7 175 rfl) rfl
theorem q1707 : (Jvm.Cond.selects "FirstWordsModel" ({ cls := "FirstWordsModel", name := "keep", desc := "(I)I" } : Jvm.MethodName) ({ cls := "FirstWordsModel", name := "keep", desc := "(I)I" } : Jvm.MethodName)) ∈ lw_all := lw_g (lw_at lw_m7 176 rfl) rfl
theorem q1708 : (Jvm.Cond.code ({ cls := "FirstWordsModel", name := "keep", desc := "(I)I" } : Jvm.MethodName) prog_14_method_91_code (4 : Nat) (Option.some Jvm.ClassFile.FieldType.int)) ∈ lw_all := lw_g (lw_at lw_m7 177 rfl) rfl
theorem q1710 : (Jvm.Cond.instanceMethod ({ cls := "FirstWordsModel", name := "back", desc := "(I)I" } : Jvm.MethodName)) ∈ lw_all := lw_g (lw_at lw_m7 179 rfl) rfl
theorem q1711 : (Jvm.Cond.selects "FirstWordsModel" ({ cls := "FirstWordsModel", name := "back", desc := "(I)I" } : Jvm.MethodName) ({ cls := "FirstWordsModel", name := "back", desc := "(I)I" } : Jvm.MethodName)) ∈ lw_all := lw_g (lw_at lw_m7 180 rfl) rfl
theorem q1712 : (Jvm.Cond.code ({ cls := "FirstWordsModel", name := "back", desc := "(I)I" } : Jvm.MethodName) prog_14_method_92_code (3 : Nat) (Option.some Jvm.ClassFile.FieldType.int)) ∈ lw_all := lw_g (lw_at lw_m7 181 rfl) rfl
theorem q1714 : (Jvm.Cond.instanceMethod ({ cls := "FirstWordsModel", name := "sheet", desc := "(III)I" } : Jvm.MethodName)) ∈ lw_all := lw_g (lw_at lw_m7 183 rfl) rfl
theorem q1715 : (Jvm.Cond.selects "FirstWordsModel" ({ cls := "FirstWordsModel", name := "sheet", desc := "(III)I" } : Jvm.MethodName) ({ cls := "FirstWordsModel", name := "sheet", desc := "(III)I" } : Jvm.MethodName)) ∈ lw_all := lw_g (lw_at lw_m7 184 rfl) rfl
theorem q1716 : (Jvm.Cond.code ({ cls := "FirstWordsModel", name := "sheet", desc := "(III)I" } : Jvm.MethodName) prog_14_method_94_code (5 : Nat) (Option.some Jvm.ClassFile.FieldType.int)) ∈ lw_all := lw_g (lw_at lw_m7 185 rfl) rfl
theorem q1717 : (Jvm.Cond.methodLink "FirstWordsModel" (349 : Nat) ({ cls := "FirstWordsModel", name := "isSheet", desc := "(II)Z" } : Jvm.MethodName)) ∈ lw_all := lw_g (lw_at lw_m7 186 rfl) rfl
theorem q1718 : (Jvm.Cond.static ({ cls := "FirstWordsModel", name := "isSheet", desc := "(II)Z" } : Jvm.MethodName)) ∈ lw_all := lw_g (lw_at lw_m7 187 rfl) rfl
theorem q1719 : (Jvm.Cond.code ({ cls := "FirstWordsModel", name := "isSheet", desc := "(II)Z" } : Jvm.MethodName) prog_14_method_93_code (2 : Nat) (Option.some Jvm.ClassFile.FieldType.boolean)) ∈ lw_all := lw_g (lw_at lw_m7 188 rfl) rfl
theorem q1721 : (Jvm.Cond.instanceMethod ({ cls := "FirstWordsModel", name := "lay", desc := "(III)I" } : Jvm.MethodName)) ∈ lw_all := lw_g (lw_at lw_m7 190 rfl) rfl
theorem q1722 : (Jvm.Cond.selects "FirstWordsModel" ({ cls := "FirstWordsModel", name := "lay", desc := "(III)I" } : Jvm.MethodName) ({ cls := "FirstWordsModel", name := "lay", desc := "(III)I" } : Jvm.MethodName)) ∈ lw_all := lw_g (lw_at lw_m7 191 rfl) rfl
theorem q1723 : (Jvm.Cond.code ({ cls := "FirstWordsModel", name := "lay", desc := "(III)I" } : Jvm.MethodName) prog_14_method_95_code (4 : Nat) (Option.some Jvm.ClassFile.FieldType.int)) ∈ lw_all := lw_g (lw_at lw_m7 192 rfl) rfl
theorem q1725 : (Jvm.Cond.instanceMethod ({ cls := "FirstWordsModel", name := "read", desc := "(IIII)I" } : Jvm.MethodName)) ∈ lw_all := lw_g (lw_at lw_m7 194 rfl) rfl
theorem q1726 : (Jvm.Cond.selects "FirstWordsModel" ({ cls := "FirstWordsModel", name := "read", desc := "(IIII)I" } : Jvm.MethodName) ({ cls := "FirstWordsModel", name := "read", desc := "(IIII)I" } : Jvm.MethodName)) ∈ lw_all := lw_g (lw_at lw_m7 195 rfl) rfl
theorem q1727 : (Jvm.Cond.code ({ cls := "FirstWordsModel", name := "read", desc := "(IIII)I" } : Jvm.MethodName) prog_14_method_96_code (11 : Nat) (Option.some Jvm.ClassFile.FieldType.int)) ∈ lw_all := lw_g (lw_at lw_m7 196 rfl) rfl
theorem q1728 : (Jvm.Cond.constantLong "FirstWordsModel" (352 : Nat) (13 : Int64)) ∈ lw_all := lw_g (lw_at lw_m7 197 rfl) rfl
theorem q1730 : (Jvm.Cond.instanceMethod ({ cls := "FirstWordsModel", name := "torn", desc := "()I" } : Jvm.MethodName)) ∈ lw_all := lw_g (lw_at lw_m7 199 rfl) rfl
theorem q1731 : (Jvm.Cond.selects "FirstWordsModel" ({ cls := "FirstWordsModel", name := "torn", desc := "()I" } : Jvm.MethodName) ({ cls := "FirstWordsModel", name := "torn", desc := "()I" } : Jvm.MethodName)) ∈ lw_all := lw_g (lw_at lw_m7 200 rfl) rfl
theorem q1732 : (Jvm.Cond.code ({ cls := "FirstWordsModel", name := "torn", desc := "()I" } : Jvm.MethodName) prog_14_method_97_code (1 : Nat) (Option.some Jvm.ClassFile.FieldType.int)) ∈ lw_all := lw_g (lw_at lw_m7 201 rfl) rfl
theorem q1734 : (Jvm.Cond.instanceMethod ({ cls := "FirstWordsModel", name := "count", desc := "(I)I" } : Jvm.MethodName)) ∈ lw_all := lw_g (lw_at lw_m7 203 rfl) rfl
theorem q1735 : (Jvm.Cond.selects "FirstWordsModel" ({ cls := "FirstWordsModel", name := "count", desc := "(I)I" } : Jvm.MethodName) ({ cls := "FirstWordsModel", name := "count", desc := "(I)I" } : Jvm.MethodName)) ∈ lw_all := lw_g (lw_at lw_m7 204 rfl) rfl
theorem q1736 : (Jvm.Cond.code ({ cls := "FirstWordsModel", name := "count", desc := "(I)I" } : Jvm.MethodName) prog_14_method_98_code (2 : Nat) (Option.some Jvm.ClassFile.FieldType.int)) ∈ lw_all := lw_g (lw_at lw_m7 205 rfl) rfl
theorem in_X5 : ∀ w ∈ wsX50, w ∈ lw_all := lw_in wsX50 [1317, 1319, 1321, 1323, 1325, 1327, 1329, 1331, 1333, 1335, 1337, 1339, 1341, 1343, 1345, 1347, 1349, 1351, 1353, 1355, 1357, 1359, 1361, 1363, 1365, 1367, 1369, 1371, 1373, 1375, 1377, 1379, 1381, 1383, 1385, 1387, 1389, 1391, 1393, 1395, 1397, 1399, 1401, 1403, 1405] (by decide +kernel) (by decide +kernel)
