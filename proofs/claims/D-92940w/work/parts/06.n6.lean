/-! FirstWords$Reader -/
set_option maxRecDepth 100000
def RX6 : String := "FirstWords$Reader"
def TX6 : u_T := fun k => match k with
  | 0 => ("FirstWords$Reader", "t", "[B", true)
  | 1 => ("FirstWords$Reader", "intoMarks", "[I", true)
  | 2 => ("FirstWords$Reader", "intoThings", "I", false)
  | 3 => ("FirstWords$Reader", "intoMeanings", "[LFirstWords$Meaning;", true)
  | 4 => ("FirstWords$Reader", "intoMany", "I", false)
  | 5 => ("FirstWords$Reader", "intoWords", "[I", true)
  | 6 => ("FirstWords$Reader", "intoSounds", "I", false)
  | 7 => ("FirstWords$Reader", "intoStrangers", "[LFirstWords$Stranger;", true)
  | 8 => ("FirstWords$Reader", "intoKinds", "I", false)
  | 9 => ("FirstWords$Reader", "lines", "I", false)
  | 10 => ("FirstWords$Reader", "from", "I", false)
  | 11 => ("FirstWords$Reader", "to", "I", false)
  | 12 => ("FirstWords$Reader", "kind", "I", false)
  | 13 => ("FirstWords$Reader", "value", "I", false)
  | _ => ("FirstWords$Reader", "this$0", "LFirstWords;", true)
def tyX6 : Nat → FieldType := fun k => match k with
  | 0 => .array .byte
  | 1 => .array .int
  | 2 => .int
  | 3 => .array (.object "FirstWords$Meaning")
  | 4 => .int
  | 5 => .array .int
  | 6 => .int
  | 7 => .array (.object "FirstWords$Stranger")
  | 8 => .int
  | 9 => .int
  | 10 => .int
  | 11 => .int
  | 12 => .int
  | 13 => .int
  | _ => .object "FirstWords"
abbrev wsX60 : List Cond := u_ws RX6 TX6 15
set_option maxRecDepth 100000 in
theorem nmX6 : ∀ a, a < 15 → ∀ b, b < 15 → a ≠ b → (TX6 a).2.1 ≠ (TX6 b).2.1 := by decide +kernel
set_option maxRecDepth 100000 in
theorem tyX6_ok : ∀ k, k < 15 → parseFieldDescriptor (TX6 k).2.2.1 = some (tyX6 k) := by decide +kernel
abbrev cX6_init : ByteArray := prog_9_method_1_code
def yX6_init : MethodName := ⟨RX6, "<init>", "(LFirstWords;[B)V"⟩
def dkwX6_init_2 : List UInt8 := [42, 182, 0, 38, 177]
abbrev dktX6_init_2 : List UInt8 := dkwX6_init_2 ++ []
def dkwX6_init_1 : List UInt8 := [181, 0, 21, 42, 7, 188, 10, 181, 0, 25, 42, 16, 6, 189, 0, 28, 181, 0, 30, 42, 44, 181, 0, 34]
abbrev dktX6_init_1 : List UInt8 := dkwX6_init_1 ++ dktX6_init_2
def dkwX6_init_0 : List UInt8 := [42, 43, 181, 0, 3, 42, 183, 0, 9, 42, 16, 8, 188, 10, 181, 0, 15, 42, 16, 12, 189, 0, 19]
abbrev dktX6_init_0 : List UInt8 := dkwX6_init_0 ++ dktX6_init_1
theorem dksX6_init_0 : cX6_init.data.toList.drop 0 = dktX6_init_0 := by decide +kernel
theorem dksX6_init_1 : cX6_init.data.toList.drop 23 = dktX6_init_1 := dk_seg dksX6_init_0 23 rfl rfl
theorem dksX6_init_2 : cX6_init.data.toList.drop 47 = dktX6_init_2 := dk_seg dksX6_init_1 24 rfl rfl
theorem dX6_init_0 : decode cX6_init 0 = .ok (.aload_n 0, 1) := dk_42 (dk_at dksX6_init_0 0 rfl rfl)
theorem dX6_init_1 : decode cX6_init 1 = .ok (.aload_n 1, 1) := dk_43 (dk_at dksX6_init_0 1 rfl rfl)
theorem dX6_init_2 : decode cX6_init 2 = .ok (.putfield 3, 3) := dk_181 0 3 (dk_at dksX6_init_0 2 rfl rfl)
theorem dX6_init_5 : decode cX6_init 5 = .ok (.aload_n 0, 1) := dk_42 (dk_at dksX6_init_0 5 rfl rfl)
theorem dX6_init_6 : decode cX6_init 6 = .ok (.invokespecial 9, 3) := dk_183 0 9 (dk_at dksX6_init_0 6 rfl rfl)
theorem dX6_init_9 : decode cX6_init 9 = .ok (.aload_n 0, 1) := dk_42 (dk_at dksX6_init_0 9 rfl rfl)
theorem dX6_init_10 : decode cX6_init 10 = .ok (.bipush 8, 2) := dk_16 8 (dk_at dksX6_init_0 10 rfl rfl)
theorem dX6_init_12 : decode cX6_init 12 = .ok (.newarray .int, 2) := dk_188_10 (dk_at dksX6_init_0 12 rfl rfl)
theorem dX6_init_14 : decode cX6_init 14 = .ok (.putfield 15, 3) := dk_181 0 15 (dk_at dksX6_init_0 14 rfl rfl)
theorem dX6_init_17 : decode cX6_init 17 = .ok (.aload_n 0, 1) := dk_42 (dk_at dksX6_init_0 17 rfl rfl)
theorem dX6_init_18 : decode cX6_init 18 = .ok (.bipush 12, 2) := dk_16 12 (dk_at dksX6_init_0 18 rfl rfl)
theorem dX6_init_20 : decode cX6_init 20 = .ok (.anewarray 19, 3) := dk_189 0 19 (dk_at dksX6_init_0 20 rfl rfl)
theorem dX6_init_23 : decode cX6_init 23 = .ok (.putfield 21, 3) := dk_181 0 21 (dk_at dksX6_init_1 0 rfl rfl)
theorem dX6_init_26 : decode cX6_init 26 = .ok (.aload_n 0, 1) := dk_42 (dk_at dksX6_init_1 3 rfl rfl)
theorem dX6_init_27 : decode cX6_init 27 = .ok (.iconst 4, 1) := dk_7 (dk_at dksX6_init_1 4 rfl rfl)
theorem dX6_init_28 : decode cX6_init 28 = .ok (.newarray .int, 2) := dk_188_10 (dk_at dksX6_init_1 5 rfl rfl)
theorem dX6_init_30 : decode cX6_init 30 = .ok (.putfield 25, 3) := dk_181 0 25 (dk_at dksX6_init_1 7 rfl rfl)
theorem dX6_init_33 : decode cX6_init 33 = .ok (.aload_n 0, 1) := dk_42 (dk_at dksX6_init_1 10 rfl rfl)
theorem dX6_init_34 : decode cX6_init 34 = .ok (.bipush 6, 2) := dk_16 6 (dk_at dksX6_init_1 11 rfl rfl)
theorem dX6_init_36 : decode cX6_init 36 = .ok (.anewarray 28, 3) := dk_189 0 28 (dk_at dksX6_init_1 13 rfl rfl)
theorem dX6_init_39 : decode cX6_init 39 = .ok (.putfield 30, 3) := dk_181 0 30 (dk_at dksX6_init_1 16 rfl rfl)
theorem dX6_init_42 : decode cX6_init 42 = .ok (.aload_n 0, 1) := dk_42 (dk_at dksX6_init_1 19 rfl rfl)
theorem dX6_init_43 : decode cX6_init 43 = .ok (.aload_n 2, 1) := dk_44 (dk_at dksX6_init_1 20 rfl rfl)
theorem dX6_init_44 : decode cX6_init 44 = .ok (.putfield 34, 3) := dk_181 0 34 (dk_at dksX6_init_1 21 rfl rfl)
theorem dX6_init_47 : decode cX6_init 47 = .ok (.aload_n 0, 1) := dk_42 (dk_at dksX6_init_2 0 rfl rfl)
theorem dX6_init_48 : decode cX6_init 48 = .ok (.invokevirtual 38, 3) := dk_182 0 38 (dk_at dksX6_init_2 1 rfl rfl)
theorem dX6_init_51 : decode cX6_init 51 = .ok (.return_, 1) := dk_177 (dk_at dksX6_init_2 4 rfl rfl)
abbrev cX6_next : ByteArray := prog_9_method_5_code
def yX6_next : MethodName := ⟨RX6, "next", "()V"⟩
def dkwX6_next_12 : List UInt8 := [159, 0, 9, 27, 16, 45, 160, 0, 7, 4, 167, 0, 4, 3, 4, 182, 0, 85, 42, 6, 181, 0, 50, 177]
abbrev dktX6_next_12 : List UInt8 := dkwX6_next_12 ++ []
def dkwX6_next_11 : List UInt8 := [163, 0, 7, 4, 167, 0, 4, 3, 4, 182, 0, 85, 42, 5, 181, 0, 50, 167, 0, 30, 42, 27, 16, 59]
abbrev dktX6_next_11 : List UInt8 := dkwX6_next_11 ++ dktX6_next_12
def dkwX6_next_10 : List UInt8 := [180, 0, 59, 4, 96, 181, 0, 59, 167, 255, 182, 42, 42, 180, 0, 59, 42, 180, 0, 43, 100, 5]
abbrev dktX6_next_10 : List UInt8 := dkwX6_next_10 ++ dktX6_next_11
def dkwX6_next_9 : List UInt8 := [180, 0, 59, 182, 0, 66, 96, 16, 48, 100, 167, 0, 7, 42, 180, 0, 70, 181, 0, 70, 42, 89]
abbrev dktX6_next_9 : List UInt8 := dkwX6_next_9 ++ dktX6_next_10
def dkwX6_next_8 : List UInt8 := [42, 42, 180, 0, 59, 42, 180, 0, 43, 100, 5, 162, 0, 25, 16, 10, 42, 180, 0, 70, 104, 42, 42]
abbrev dktX6_next_8 : List UInt8 := dkwX6_next_8 ++ dktX6_next_9
def dkwX6_next_7 : List UInt8 := [181, 0, 70, 42, 42, 180, 0, 59, 182, 0, 66, 133, 20, 0, 81, 20, 0, 83, 184, 0, 77, 153, 0, 59]
abbrev dktX6_next_7 : List UInt8 := dkwX6_next_7 ++ dktX6_next_8
def dkwX6_next_6 : List UInt8 := [20, 0, 81, 20, 0, 83, 184, 0, 77, 153, 0, 124, 42, 42, 180, 0, 43, 181, 0, 59, 42, 3]
abbrev dktX6_next_6 : List UInt8 := dkwX6_next_6 ++ dktX6_next_7
def dkwX6_next_5 : List UInt8 := [42, 89, 180, 0, 59, 4, 96, 181, 0, 59, 167, 255, 225, 42, 4, 181, 0, 50, 167, 0, 165, 27, 133]
abbrev dktX6_next_5 : List UInt8 := dkwX6_next_5 ++ dktX6_next_6
def dkwX6_next_4 : List UInt8 := [153, 0, 45, 42, 42, 180, 0, 59, 182, 0, 66, 133, 20, 0, 73, 20, 0, 75, 184, 0, 77, 153, 0, 16]
abbrev dktX6_next_4 : List UInt8 := dkwX6_next_4 ++ dktX6_next_5
def dkwX6_next_3 : List UInt8 := [181, 0, 59, 42, 3, 181, 0, 50, 167, 0, 221, 27, 133, 20, 0, 73, 20, 0, 75, 184, 0, 77]
abbrev dktX6_next_3 : List UInt8 := dkwX6_next_3 ++ dktX6_next_4
def dkwX6_next_2 : List UInt8 := [180, 0, 43, 4, 96, 181, 0, 59, 42, 27, 181, 0, 70, 27, 16, 252, 160, 0, 19, 42, 42, 180, 0, 43]
abbrev dktX6_next_2 : List UInt8 := dkwX6_next_2 ++ dktX6_next_3
def dkwX6_next_1 : List UInt8 := [180, 0, 43, 4, 96, 181, 0, 43, 167, 255, 233, 42, 42, 180, 0, 43, 182, 0, 66, 60, 42, 42]
abbrev dktX6_next_1 : List UInt8 := dkwX6_next_1 ++ dktX6_next_2
def dkwX6_next_0 : List UInt8 := [42, 42, 180, 0, 59, 181, 0, 43, 42, 42, 180, 0, 43, 182, 0, 66, 16, 32, 160, 0, 16, 42, 89]
abbrev dktX6_next_0 : List UInt8 := dkwX6_next_0 ++ dktX6_next_1
theorem dksX6_next_0 : cX6_next.data.toList.drop 0 = dktX6_next_0 := by decide +kernel
theorem dksX6_next_1 : cX6_next.data.toList.drop 23 = dktX6_next_1 := dk_seg dksX6_next_0 23 rfl rfl
theorem dksX6_next_2 : cX6_next.data.toList.drop 45 = dktX6_next_2 := dk_seg dksX6_next_1 22 rfl rfl
theorem dksX6_next_3 : cX6_next.data.toList.drop 69 = dktX6_next_3 := dk_seg dksX6_next_2 24 rfl rfl
theorem dksX6_next_4 : cX6_next.data.toList.drop 91 = dktX6_next_4 := dk_seg dksX6_next_3 22 rfl rfl
theorem dksX6_next_5 : cX6_next.data.toList.drop 115 = dktX6_next_5 := dk_seg dksX6_next_4 24 rfl rfl
theorem dksX6_next_6 : cX6_next.data.toList.drop 138 = dktX6_next_6 := dk_seg dksX6_next_5 23 rfl rfl
theorem dksX6_next_7 : cX6_next.data.toList.drop 160 = dktX6_next_7 := dk_seg dksX6_next_6 22 rfl rfl
theorem dksX6_next_8 : cX6_next.data.toList.drop 184 = dktX6_next_8 := dk_seg dksX6_next_7 24 rfl rfl
theorem dksX6_next_9 : cX6_next.data.toList.drop 207 = dktX6_next_9 := dk_seg dksX6_next_8 23 rfl rfl
theorem dksX6_next_10 : cX6_next.data.toList.drop 229 = dktX6_next_10 := dk_seg dksX6_next_9 22 rfl rfl
theorem dksX6_next_11 : cX6_next.data.toList.drop 251 = dktX6_next_11 := dk_seg dksX6_next_10 22 rfl rfl
theorem dksX6_next_12 : cX6_next.data.toList.drop 275 = dktX6_next_12 := dk_seg dksX6_next_11 24 rfl rfl
theorem dX6_next_0 : decode cX6_next 0 = .ok (.aload_n 0, 1) := dk_42 (dk_at dksX6_next_0 0 rfl rfl)
theorem dX6_next_1 : decode cX6_next 1 = .ok (.aload_n 0, 1) := dk_42 (dk_at dksX6_next_0 1 rfl rfl)
theorem dX6_next_2 : decode cX6_next 2 = .ok (.getfield 59, 3) := dk_180 0 59 (dk_at dksX6_next_0 2 rfl rfl)
theorem dX6_next_5 : decode cX6_next 5 = .ok (.putfield 43, 3) := dk_181 0 43 (dk_at dksX6_next_0 5 rfl rfl)
theorem dX6_next_8 : decode cX6_next 8 = .ok (.aload_n 0, 1) := dk_42 (dk_at dksX6_next_0 8 rfl rfl)
theorem dX6_next_9 : decode cX6_next 9 = .ok (.aload_n 0, 1) := dk_42 (dk_at dksX6_next_0 9 rfl rfl)
theorem dX6_next_10 : decode cX6_next 10 = .ok (.getfield 43, 3) := dk_180 0 43 (dk_at dksX6_next_0 10 rfl rfl)
theorem dX6_next_13 : decode cX6_next 13 = .ok (.invokevirtual 66, 3) := dk_182 0 66 (dk_at dksX6_next_0 13 rfl rfl)
theorem dX6_next_16 : decode cX6_next 16 = .ok (.bipush 32, 2) := dk_16 32 (dk_at dksX6_next_0 16 rfl rfl)
theorem dX6_next_18 : decode cX6_next 18 = .ok (.if_icmp .ne 16, 3) := dk_160 0 16 (dk_at dksX6_next_0 18 rfl rfl)
theorem dX6_next_21 : decode cX6_next 21 = .ok (.aload_n 0, 1) := dk_42 (dk_at dksX6_next_0 21 rfl rfl)
theorem dX6_next_22 : decode cX6_next 22 = .ok (.dup, 1) := dk_89 (dk_at dksX6_next_0 22 rfl rfl)
theorem dX6_next_23 : decode cX6_next 23 = .ok (.getfield 43, 3) := dk_180 0 43 (dk_at dksX6_next_1 0 rfl rfl)
theorem dX6_next_26 : decode cX6_next 26 = .ok (.iconst 1, 1) := dk_4 (dk_at dksX6_next_1 3 rfl rfl)
theorem dX6_next_27 : decode cX6_next 27 = .ok (.iadd, 1) := dk_96 (dk_at dksX6_next_1 4 rfl rfl)
theorem dX6_next_28 : decode cX6_next 28 = .ok (.putfield 43, 3) := dk_181 0 43 (dk_at dksX6_next_1 5 rfl rfl)
theorem dX6_next_31 : decode cX6_next 31 = .ok (.goto (-23), 3) := dk_167 255 233 (dk_at dksX6_next_1 8 rfl rfl)
theorem dX6_next_34 : decode cX6_next 34 = .ok (.aload_n 0, 1) := dk_42 (dk_at dksX6_next_1 11 rfl rfl)
theorem dX6_next_35 : decode cX6_next 35 = .ok (.aload_n 0, 1) := dk_42 (dk_at dksX6_next_1 12 rfl rfl)
theorem dX6_next_36 : decode cX6_next 36 = .ok (.getfield 43, 3) := dk_180 0 43 (dk_at dksX6_next_1 13 rfl rfl)
theorem dX6_next_39 : decode cX6_next 39 = .ok (.invokevirtual 66, 3) := dk_182 0 66 (dk_at dksX6_next_1 16 rfl rfl)
theorem dX6_next_42 : decode cX6_next 42 = .ok (.istore_n 1, 1) := dk_60 (dk_at dksX6_next_1 19 rfl rfl)
theorem dX6_next_43 : decode cX6_next 43 = .ok (.aload_n 0, 1) := dk_42 (dk_at dksX6_next_1 20 rfl rfl)
theorem dX6_next_44 : decode cX6_next 44 = .ok (.aload_n 0, 1) := dk_42 (dk_at dksX6_next_1 21 rfl rfl)
theorem dX6_next_45 : decode cX6_next 45 = .ok (.getfield 43, 3) := dk_180 0 43 (dk_at dksX6_next_2 0 rfl rfl)
theorem dX6_next_48 : decode cX6_next 48 = .ok (.iconst 1, 1) := dk_4 (dk_at dksX6_next_2 3 rfl rfl)
theorem dX6_next_49 : decode cX6_next 49 = .ok (.iadd, 1) := dk_96 (dk_at dksX6_next_2 4 rfl rfl)
theorem dX6_next_50 : decode cX6_next 50 = .ok (.putfield 59, 3) := dk_181 0 59 (dk_at dksX6_next_2 5 rfl rfl)
theorem dX6_next_53 : decode cX6_next 53 = .ok (.aload_n 0, 1) := dk_42 (dk_at dksX6_next_2 8 rfl rfl)
theorem dX6_next_54 : decode cX6_next 54 = .ok (.iload_n 1, 1) := dk_27 (dk_at dksX6_next_2 9 rfl rfl)
theorem dX6_next_55 : decode cX6_next 55 = .ok (.putfield 70, 3) := dk_181 0 70 (dk_at dksX6_next_2 10 rfl rfl)
theorem dX6_next_58 : decode cX6_next 58 = .ok (.iload_n 1, 1) := dk_27 (dk_at dksX6_next_2 13 rfl rfl)
theorem dX6_next_59 : decode cX6_next 59 = .ok (.bipush (-4), 2) := dk_16 252 (dk_at dksX6_next_2 14 rfl rfl)
theorem dX6_next_61 : decode cX6_next 61 = .ok (.if_icmp .ne 19, 3) := dk_160 0 19 (dk_at dksX6_next_2 16 rfl rfl)
theorem dX6_next_64 : decode cX6_next 64 = .ok (.aload_n 0, 1) := dk_42 (dk_at dksX6_next_2 19 rfl rfl)
theorem dX6_next_65 : decode cX6_next 65 = .ok (.aload_n 0, 1) := dk_42 (dk_at dksX6_next_2 20 rfl rfl)
theorem dX6_next_66 : decode cX6_next 66 = .ok (.getfield 43, 3) := dk_180 0 43 (dk_at dksX6_next_2 21 rfl rfl)
theorem dX6_next_69 : decode cX6_next 69 = .ok (.putfield 59, 3) := dk_181 0 59 (dk_at dksX6_next_3 0 rfl rfl)
theorem dX6_next_72 : decode cX6_next 72 = .ok (.aload_n 0, 1) := dk_42 (dk_at dksX6_next_3 3 rfl rfl)
theorem dX6_next_73 : decode cX6_next 73 = .ok (.iconst 0, 1) := dk_3 (dk_at dksX6_next_3 4 rfl rfl)
theorem dX6_next_74 : decode cX6_next 74 = .ok (.putfield 50, 3) := dk_181 0 50 (dk_at dksX6_next_3 5 rfl rfl)
theorem dX6_next_77 : decode cX6_next 77 = .ok (.goto 221, 3) := dk_167 0 221 (dk_at dksX6_next_3 8 rfl rfl)
theorem dX6_next_80 : decode cX6_next 80 = .ok (.iload_n 1, 1) := dk_27 (dk_at dksX6_next_3 11 rfl rfl)
theorem dX6_next_81 : decode cX6_next 81 = .ok (.i2l, 1) := dk_133 (dk_at dksX6_next_3 12 rfl rfl)
theorem dX6_next_82 : decode cX6_next 82 = .ok (.ldc2_w 73, 3) := dk_20 0 73 (dk_at dksX6_next_3 13 rfl rfl)
theorem dX6_next_85 : decode cX6_next 85 = .ok (.ldc2_w 75, 3) := dk_20 0 75 (dk_at dksX6_next_3 16 rfl rfl)
theorem dX6_next_88 : decode cX6_next 88 = .ok (.invokestatic 77, 3) := dk_184 0 77 (dk_at dksX6_next_3 19 rfl rfl)
theorem dX6_next_91 : decode cX6_next 91 = .ok (.ifCond .eq 45, 3) := dk_153 0 45 (dk_at dksX6_next_4 0 rfl rfl)
theorem dX6_next_94 : decode cX6_next 94 = .ok (.aload_n 0, 1) := dk_42 (dk_at dksX6_next_4 3 rfl rfl)
theorem dX6_next_95 : decode cX6_next 95 = .ok (.aload_n 0, 1) := dk_42 (dk_at dksX6_next_4 4 rfl rfl)
theorem dX6_next_96 : decode cX6_next 96 = .ok (.getfield 59, 3) := dk_180 0 59 (dk_at dksX6_next_4 5 rfl rfl)
theorem dX6_next_99 : decode cX6_next 99 = .ok (.invokevirtual 66, 3) := dk_182 0 66 (dk_at dksX6_next_4 8 rfl rfl)
theorem dX6_next_102 : decode cX6_next 102 = .ok (.i2l, 1) := dk_133 (dk_at dksX6_next_4 11 rfl rfl)
theorem dX6_next_103 : decode cX6_next 103 = .ok (.ldc2_w 73, 3) := dk_20 0 73 (dk_at dksX6_next_4 12 rfl rfl)
theorem dX6_next_106 : decode cX6_next 106 = .ok (.ldc2_w 75, 3) := dk_20 0 75 (dk_at dksX6_next_4 15 rfl rfl)
theorem dX6_next_109 : decode cX6_next 109 = .ok (.invokestatic 77, 3) := dk_184 0 77 (dk_at dksX6_next_4 18 rfl rfl)
theorem dX6_next_112 : decode cX6_next 112 = .ok (.ifCond .eq 16, 3) := dk_153 0 16 (dk_at dksX6_next_4 21 rfl rfl)
theorem dX6_next_115 : decode cX6_next 115 = .ok (.aload_n 0, 1) := dk_42 (dk_at dksX6_next_5 0 rfl rfl)
theorem dX6_next_116 : decode cX6_next 116 = .ok (.dup, 1) := dk_89 (dk_at dksX6_next_5 1 rfl rfl)
theorem dX6_next_117 : decode cX6_next 117 = .ok (.getfield 59, 3) := dk_180 0 59 (dk_at dksX6_next_5 2 rfl rfl)
theorem dX6_next_120 : decode cX6_next 120 = .ok (.iconst 1, 1) := dk_4 (dk_at dksX6_next_5 5 rfl rfl)
theorem dX6_next_121 : decode cX6_next 121 = .ok (.iadd, 1) := dk_96 (dk_at dksX6_next_5 6 rfl rfl)
theorem dX6_next_122 : decode cX6_next 122 = .ok (.putfield 59, 3) := dk_181 0 59 (dk_at dksX6_next_5 7 rfl rfl)
theorem dX6_next_125 : decode cX6_next 125 = .ok (.goto (-31), 3) := dk_167 255 225 (dk_at dksX6_next_5 10 rfl rfl)
theorem dX6_next_128 : decode cX6_next 128 = .ok (.aload_n 0, 1) := dk_42 (dk_at dksX6_next_5 13 rfl rfl)
theorem dX6_next_129 : decode cX6_next 129 = .ok (.iconst 1, 1) := dk_4 (dk_at dksX6_next_5 14 rfl rfl)
theorem dX6_next_130 : decode cX6_next 130 = .ok (.putfield 50, 3) := dk_181 0 50 (dk_at dksX6_next_5 15 rfl rfl)
theorem dX6_next_133 : decode cX6_next 133 = .ok (.goto 165, 3) := dk_167 0 165 (dk_at dksX6_next_5 18 rfl rfl)
theorem dX6_next_136 : decode cX6_next 136 = .ok (.iload_n 1, 1) := dk_27 (dk_at dksX6_next_5 21 rfl rfl)
theorem dX6_next_137 : decode cX6_next 137 = .ok (.i2l, 1) := dk_133 (dk_at dksX6_next_5 22 rfl rfl)
theorem dX6_next_138 : decode cX6_next 138 = .ok (.ldc2_w 81, 3) := dk_20 0 81 (dk_at dksX6_next_6 0 rfl rfl)
theorem dX6_next_141 : decode cX6_next 141 = .ok (.ldc2_w 83, 3) := dk_20 0 83 (dk_at dksX6_next_6 3 rfl rfl)
theorem dX6_next_144 : decode cX6_next 144 = .ok (.invokestatic 77, 3) := dk_184 0 77 (dk_at dksX6_next_6 6 rfl rfl)
theorem dX6_next_147 : decode cX6_next 147 = .ok (.ifCond .eq 124, 3) := dk_153 0 124 (dk_at dksX6_next_6 9 rfl rfl)
theorem dX6_next_150 : decode cX6_next 150 = .ok (.aload_n 0, 1) := dk_42 (dk_at dksX6_next_6 12 rfl rfl)
theorem dX6_next_151 : decode cX6_next 151 = .ok (.aload_n 0, 1) := dk_42 (dk_at dksX6_next_6 13 rfl rfl)
theorem dX6_next_152 : decode cX6_next 152 = .ok (.getfield 43, 3) := dk_180 0 43 (dk_at dksX6_next_6 14 rfl rfl)
theorem dX6_next_155 : decode cX6_next 155 = .ok (.putfield 59, 3) := dk_181 0 59 (dk_at dksX6_next_6 17 rfl rfl)
theorem dX6_next_158 : decode cX6_next 158 = .ok (.aload_n 0, 1) := dk_42 (dk_at dksX6_next_6 20 rfl rfl)
theorem dX6_next_159 : decode cX6_next 159 = .ok (.iconst 0, 1) := dk_3 (dk_at dksX6_next_6 21 rfl rfl)
theorem dX6_next_160 : decode cX6_next 160 = .ok (.putfield 70, 3) := dk_181 0 70 (dk_at dksX6_next_7 0 rfl rfl)
theorem dX6_next_163 : decode cX6_next 163 = .ok (.aload_n 0, 1) := dk_42 (dk_at dksX6_next_7 3 rfl rfl)
theorem dX6_next_164 : decode cX6_next 164 = .ok (.aload_n 0, 1) := dk_42 (dk_at dksX6_next_7 4 rfl rfl)
theorem dX6_next_165 : decode cX6_next 165 = .ok (.getfield 59, 3) := dk_180 0 59 (dk_at dksX6_next_7 5 rfl rfl)
theorem dX6_next_168 : decode cX6_next 168 = .ok (.invokevirtual 66, 3) := dk_182 0 66 (dk_at dksX6_next_7 8 rfl rfl)
theorem dX6_next_171 : decode cX6_next 171 = .ok (.i2l, 1) := dk_133 (dk_at dksX6_next_7 11 rfl rfl)
theorem dX6_next_172 : decode cX6_next 172 = .ok (.ldc2_w 81, 3) := dk_20 0 81 (dk_at dksX6_next_7 12 rfl rfl)
theorem dX6_next_175 : decode cX6_next 175 = .ok (.ldc2_w 83, 3) := dk_20 0 83 (dk_at dksX6_next_7 15 rfl rfl)
theorem dX6_next_178 : decode cX6_next 178 = .ok (.invokestatic 77, 3) := dk_184 0 77 (dk_at dksX6_next_7 18 rfl rfl)
theorem dX6_next_181 : decode cX6_next 181 = .ok (.ifCond .eq 59, 3) := dk_153 0 59 (dk_at dksX6_next_7 21 rfl rfl)
theorem dX6_next_184 : decode cX6_next 184 = .ok (.aload_n 0, 1) := dk_42 (dk_at dksX6_next_8 0 rfl rfl)
theorem dX6_next_185 : decode cX6_next 185 = .ok (.aload_n 0, 1) := dk_42 (dk_at dksX6_next_8 1 rfl rfl)
theorem dX6_next_186 : decode cX6_next 186 = .ok (.getfield 59, 3) := dk_180 0 59 (dk_at dksX6_next_8 2 rfl rfl)
theorem dX6_next_189 : decode cX6_next 189 = .ok (.aload_n 0, 1) := dk_42 (dk_at dksX6_next_8 5 rfl rfl)
theorem dX6_next_190 : decode cX6_next 190 = .ok (.getfield 43, 3) := dk_180 0 43 (dk_at dksX6_next_8 6 rfl rfl)
theorem dX6_next_193 : decode cX6_next 193 = .ok (.isub, 1) := dk_100 (dk_at dksX6_next_8 9 rfl rfl)
theorem dX6_next_194 : decode cX6_next 194 = .ok (.iconst 2, 1) := dk_5 (dk_at dksX6_next_8 10 rfl rfl)
theorem dX6_next_195 : decode cX6_next 195 = .ok (.if_icmp .ge 25, 3) := dk_162 0 25 (dk_at dksX6_next_8 11 rfl rfl)
theorem dX6_next_198 : decode cX6_next 198 = .ok (.bipush 10, 2) := dk_16 10 (dk_at dksX6_next_8 14 rfl rfl)
theorem dX6_next_200 : decode cX6_next 200 = .ok (.aload_n 0, 1) := dk_42 (dk_at dksX6_next_8 16 rfl rfl)
theorem dX6_next_201 : decode cX6_next 201 = .ok (.getfield 70, 3) := dk_180 0 70 (dk_at dksX6_next_8 17 rfl rfl)
theorem dX6_next_204 : decode cX6_next 204 = .ok (.imul, 1) := dk_104 (dk_at dksX6_next_8 20 rfl rfl)
theorem dX6_next_205 : decode cX6_next 205 = .ok (.aload_n 0, 1) := dk_42 (dk_at dksX6_next_8 21 rfl rfl)
theorem dX6_next_206 : decode cX6_next 206 = .ok (.aload_n 0, 1) := dk_42 (dk_at dksX6_next_8 22 rfl rfl)
theorem dX6_next_207 : decode cX6_next 207 = .ok (.getfield 59, 3) := dk_180 0 59 (dk_at dksX6_next_9 0 rfl rfl)
theorem dX6_next_210 : decode cX6_next 210 = .ok (.invokevirtual 66, 3) := dk_182 0 66 (dk_at dksX6_next_9 3 rfl rfl)
theorem dX6_next_213 : decode cX6_next 213 = .ok (.iadd, 1) := dk_96 (dk_at dksX6_next_9 6 rfl rfl)
theorem dX6_next_214 : decode cX6_next 214 = .ok (.bipush 48, 2) := dk_16 48 (dk_at dksX6_next_9 7 rfl rfl)
theorem dX6_next_216 : decode cX6_next 216 = .ok (.isub, 1) := dk_100 (dk_at dksX6_next_9 9 rfl rfl)
theorem dX6_next_217 : decode cX6_next 217 = .ok (.goto 7, 3) := dk_167 0 7 (dk_at dksX6_next_9 10 rfl rfl)
theorem dX6_next_220 : decode cX6_next 220 = .ok (.aload_n 0, 1) := dk_42 (dk_at dksX6_next_9 13 rfl rfl)
theorem dX6_next_221 : decode cX6_next 221 = .ok (.getfield 70, 3) := dk_180 0 70 (dk_at dksX6_next_9 14 rfl rfl)
theorem dX6_next_224 : decode cX6_next 224 = .ok (.putfield 70, 3) := dk_181 0 70 (dk_at dksX6_next_9 17 rfl rfl)
theorem dX6_next_227 : decode cX6_next 227 = .ok (.aload_n 0, 1) := dk_42 (dk_at dksX6_next_9 20 rfl rfl)
theorem dX6_next_228 : decode cX6_next 228 = .ok (.dup, 1) := dk_89 (dk_at dksX6_next_9 21 rfl rfl)
theorem dX6_next_229 : decode cX6_next 229 = .ok (.getfield 59, 3) := dk_180 0 59 (dk_at dksX6_next_10 0 rfl rfl)
theorem dX6_next_232 : decode cX6_next 232 = .ok (.iconst 1, 1) := dk_4 (dk_at dksX6_next_10 3 rfl rfl)
theorem dX6_next_233 : decode cX6_next 233 = .ok (.iadd, 1) := dk_96 (dk_at dksX6_next_10 4 rfl rfl)
theorem dX6_next_234 : decode cX6_next 234 = .ok (.putfield 59, 3) := dk_181 0 59 (dk_at dksX6_next_10 5 rfl rfl)
theorem dX6_next_237 : decode cX6_next 237 = .ok (.goto (-74), 3) := dk_167 255 182 (dk_at dksX6_next_10 8 rfl rfl)
theorem dX6_next_240 : decode cX6_next 240 = .ok (.aload_n 0, 1) := dk_42 (dk_at dksX6_next_10 11 rfl rfl)
theorem dX6_next_241 : decode cX6_next 241 = .ok (.aload_n 0, 1) := dk_42 (dk_at dksX6_next_10 12 rfl rfl)
theorem dX6_next_242 : decode cX6_next 242 = .ok (.getfield 59, 3) := dk_180 0 59 (dk_at dksX6_next_10 13 rfl rfl)
theorem dX6_next_245 : decode cX6_next 245 = .ok (.aload_n 0, 1) := dk_42 (dk_at dksX6_next_10 16 rfl rfl)
theorem dX6_next_246 : decode cX6_next 246 = .ok (.getfield 43, 3) := dk_180 0 43 (dk_at dksX6_next_10 17 rfl rfl)
theorem dX6_next_249 : decode cX6_next 249 = .ok (.isub, 1) := dk_100 (dk_at dksX6_next_10 20 rfl rfl)
theorem dX6_next_250 : decode cX6_next 250 = .ok (.iconst 2, 1) := dk_5 (dk_at dksX6_next_10 21 rfl rfl)
theorem dX6_next_251 : decode cX6_next 251 = .ok (.if_icmp .gt 7, 3) := dk_163 0 7 (dk_at dksX6_next_11 0 rfl rfl)
theorem dX6_next_254 : decode cX6_next 254 = .ok (.iconst 1, 1) := dk_4 (dk_at dksX6_next_11 3 rfl rfl)
theorem dX6_next_255 : decode cX6_next 255 = .ok (.goto 4, 3) := dk_167 0 4 (dk_at dksX6_next_11 4 rfl rfl)
theorem dX6_next_258 : decode cX6_next 258 = .ok (.iconst 0, 1) := dk_3 (dk_at dksX6_next_11 7 rfl rfl)
theorem dX6_next_259 : decode cX6_next 259 = .ok (.iconst 1, 1) := dk_4 (dk_at dksX6_next_11 8 rfl rfl)
theorem dX6_next_260 : decode cX6_next 260 = .ok (.invokevirtual 85, 3) := dk_182 0 85 (dk_at dksX6_next_11 9 rfl rfl)
theorem dX6_next_263 : decode cX6_next 263 = .ok (.aload_n 0, 1) := dk_42 (dk_at dksX6_next_11 12 rfl rfl)
theorem dX6_next_264 : decode cX6_next 264 = .ok (.iconst 2, 1) := dk_5 (dk_at dksX6_next_11 13 rfl rfl)
theorem dX6_next_265 : decode cX6_next 265 = .ok (.putfield 50, 3) := dk_181 0 50 (dk_at dksX6_next_11 14 rfl rfl)
theorem dX6_next_268 : decode cX6_next 268 = .ok (.goto 30, 3) := dk_167 0 30 (dk_at dksX6_next_11 17 rfl rfl)
theorem dX6_next_271 : decode cX6_next 271 = .ok (.aload_n 0, 1) := dk_42 (dk_at dksX6_next_11 20 rfl rfl)
theorem dX6_next_272 : decode cX6_next 272 = .ok (.iload_n 1, 1) := dk_27 (dk_at dksX6_next_11 21 rfl rfl)
theorem dX6_next_273 : decode cX6_next 273 = .ok (.bipush 59, 2) := dk_16 59 (dk_at dksX6_next_11 22 rfl rfl)
theorem dX6_next_275 : decode cX6_next 275 = .ok (.if_icmp .eq 9, 3) := dk_159 0 9 (dk_at dksX6_next_12 0 rfl rfl)
theorem dX6_next_278 : decode cX6_next 278 = .ok (.iload_n 1, 1) := dk_27 (dk_at dksX6_next_12 3 rfl rfl)
theorem dX6_next_279 : decode cX6_next 279 = .ok (.bipush 45, 2) := dk_16 45 (dk_at dksX6_next_12 4 rfl rfl)
theorem dX6_next_281 : decode cX6_next 281 = .ok (.if_icmp .ne 7, 3) := dk_160 0 7 (dk_at dksX6_next_12 6 rfl rfl)
theorem dX6_next_284 : decode cX6_next 284 = .ok (.iconst 1, 1) := dk_4 (dk_at dksX6_next_12 9 rfl rfl)
theorem dX6_next_285 : decode cX6_next 285 = .ok (.goto 4, 3) := dk_167 0 4 (dk_at dksX6_next_12 10 rfl rfl)
theorem dX6_next_288 : decode cX6_next 288 = .ok (.iconst 0, 1) := dk_3 (dk_at dksX6_next_12 13 rfl rfl)
theorem dX6_next_289 : decode cX6_next 289 = .ok (.iconst 1, 1) := dk_4 (dk_at dksX6_next_12 14 rfl rfl)
theorem dX6_next_290 : decode cX6_next 290 = .ok (.invokevirtual 85, 3) := dk_182 0 85 (dk_at dksX6_next_12 15 rfl rfl)
theorem dX6_next_293 : decode cX6_next 293 = .ok (.aload_n 0, 1) := dk_42 (dk_at dksX6_next_12 18 rfl rfl)
theorem dX6_next_294 : decode cX6_next 294 = .ok (.iconst 3, 1) := dk_6 (dk_at dksX6_next_12 19 rfl rfl)
theorem dX6_next_295 : decode cX6_next 295 = .ok (.putfield 50, 3) := dk_181 0 50 (dk_at dksX6_next_12 20 rfl rfl)
theorem dX6_next_298 : decode cX6_next 298 = .ok (.return_, 1) := dk_177 (dk_at dksX6_next_12 23 rfl rfl)
abbrev cX6_at : ByteArray := prog_9_method_2_code
def yX6_at : MethodName := ⟨RX6, "at", "(I)I"⟩
def dkwX6_at_1 : List UInt8 := [172]
abbrev dktX6_at_1 : List UInt8 := dkwX6_at_1 ++ []
def dkwX6_at_0 : List UInt8 := [27, 42, 180, 0, 34, 190, 162, 0, 16, 42, 180, 0, 34, 27, 51, 17, 0, 255, 126, 167, 0, 5, 16, 252]
abbrev dktX6_at_0 : List UInt8 := dkwX6_at_0 ++ dktX6_at_1
theorem dksX6_at_0 : cX6_at.data.toList.drop 0 = dktX6_at_0 := by decide +kernel
theorem dksX6_at_1 : cX6_at.data.toList.drop 24 = dktX6_at_1 := dk_seg dksX6_at_0 24 rfl rfl
theorem dX6_at_0 : decode cX6_at 0 = .ok (.iload_n 1, 1) := dk_27 (dk_at dksX6_at_0 0 rfl rfl)
theorem dX6_at_1 : decode cX6_at 1 = .ok (.aload_n 0, 1) := dk_42 (dk_at dksX6_at_0 1 rfl rfl)
theorem dX6_at_2 : decode cX6_at 2 = .ok (.getfield 34, 3) := dk_180 0 34 (dk_at dksX6_at_0 2 rfl rfl)
theorem dX6_at_5 : decode cX6_at 5 = .ok (.arraylength, 1) := dk_190 (dk_at dksX6_at_0 5 rfl rfl)
theorem dX6_at_6 : decode cX6_at 6 = .ok (.if_icmp .ge 16, 3) := dk_162 0 16 (dk_at dksX6_at_0 6 rfl rfl)
theorem dX6_at_9 : decode cX6_at 9 = .ok (.aload_n 0, 1) := dk_42 (dk_at dksX6_at_0 9 rfl rfl)
theorem dX6_at_10 : decode cX6_at 10 = .ok (.getfield 34, 3) := dk_180 0 34 (dk_at dksX6_at_0 10 rfl rfl)
theorem dX6_at_13 : decode cX6_at 13 = .ok (.iload_n 1, 1) := dk_27 (dk_at dksX6_at_0 13 rfl rfl)
theorem dX6_at_14 : decode cX6_at 14 = .ok (.baload, 1) := dk_51 (dk_at dksX6_at_0 14 rfl rfl)
theorem dX6_at_15 : decode cX6_at 15 = .ok (.sipush 255, 3) := dk_17 0 255 (dk_at dksX6_at_0 15 rfl rfl)
theorem dX6_at_18 : decode cX6_at 18 = .ok (.iand, 1) := dk_126 (dk_at dksX6_at_0 18 rfl rfl)
theorem dX6_at_19 : decode cX6_at 19 = .ok (.goto 5, 3) := dk_167 0 5 (dk_at dksX6_at_0 19 rfl rfl)
theorem dX6_at_22 : decode cX6_at 22 = .ok (.bipush (-4), 2) := dk_16 252 (dk_at dksX6_at_0 22 rfl rfl)
theorem dX6_at_24 : decode cX6_at 24 = .ok (.ireturn, 1) := dk_172 (dk_at dksX6_at_1 0 rfl rfl)
abbrev cX6_must : ByteArray := prog_9_method_3_code
def yX6_must : MethodName := ⟨RX6, "must", "(ZI)V"⟩
def dkwX6_must_0 : List UInt8 := [27, 154, 0, 16, 187, 0, 41, 89, 28, 42, 180, 0, 43, 183, 0, 47, 191, 177]
abbrev dktX6_must_0 : List UInt8 := dkwX6_must_0 ++ []
theorem dksX6_must_0 : cX6_must.data.toList.drop 0 = dktX6_must_0 := by decide +kernel
theorem dX6_must_0 : decode cX6_must 0 = .ok (.iload_n 1, 1) := dk_27 (dk_at dksX6_must_0 0 rfl rfl)
theorem dX6_must_1 : decode cX6_must 1 = .ok (.ifCond .ne 16, 3) := dk_154 0 16 (dk_at dksX6_must_0 1 rfl rfl)
theorem dX6_must_4 : decode cX6_must 4 = .ok (.new 41, 3) := dk_187 0 41 (dk_at dksX6_must_0 4 rfl rfl)
theorem dX6_must_7 : decode cX6_must 7 = .ok (.dup, 1) := dk_89 (dk_at dksX6_must_0 7 rfl rfl)
theorem dX6_must_8 : decode cX6_must 8 = .ok (.iload_n 2, 1) := dk_28 (dk_at dksX6_must_0 8 rfl rfl)
theorem dX6_must_9 : decode cX6_must 9 = .ok (.aload_n 0, 1) := dk_42 (dk_at dksX6_must_0 9 rfl rfl)
theorem dX6_must_10 : decode cX6_must 10 = .ok (.getfield 43, 3) := dk_180 0 43 (dk_at dksX6_must_0 10 rfl rfl)
theorem dX6_must_13 : decode cX6_must 13 = .ok (.invokespecial 47, 3) := dk_183 0 47 (dk_at dksX6_must_0 13 rfl rfl)
theorem dX6_must_16 : decode cX6_must 16 = .ok (.athrow, 1) := dk_191 (dk_at dksX6_must_0 16 rfl rfl)
theorem dX6_must_17 : decode cX6_must 17 = .ok (.return_, 1) := dk_177 (dk_at dksX6_must_0 17 rfl rfl)
abbrev cX6_all : ByteArray := prog_9_method_13_code
def yX6_all : MethodName := ⟨RX6, "all", "()V"⟩
def dkwX6_all_12 : List UInt8 := [167, 255, 165, 132, 1, 1, 167, 255, 79, 177]
abbrev dktX6_all_12 : List UInt8 := dkwX6_all_12 ++ []
def dkwX6_all_11 : List UInt8 := [89, 180, 0, 206, 29, 153, 0, 9, 4, 27, 120, 167, 0, 4, 3, 128, 181, 0, 206, 132, 2, 1]
abbrev dktX6_all_11 : List UInt8 := dkwX6_all_11 ++ dktX6_all_12
def dkwX6_all_10 : List UInt8 := [180, 0, 98, 2, 130, 126, 154, 0, 7, 4, 167, 0, 4, 3, 62, 42, 180, 0, 3, 180, 0, 188, 28, 50]
abbrev dktX6_all_10 : List UInt8 := dkwX6_all_10 ++ dktX6_all_11
def dkwX6_all_9 : List UInt8 := [42, 180, 0, 3, 180, 0, 176, 27, 50, 180, 0, 204, 128, 42, 180, 0, 3, 180, 0, 188, 28, 50]
abbrev dktX6_all_9 : List UInt8 := dkwX6_all_9 ++ dktX6_all_10
def dkwX6_all_8 : List UInt8 := [61, 28, 42, 180, 0, 3, 180, 0, 191, 162, 0, 86, 42, 180, 0, 3, 180, 0, 176, 27, 50, 180, 0, 201]
abbrev dktX6_all_8 : List UInt8 := dkwX6_all_8 ++ dktX6_all_9
def dkwX6_all_7 : List UInt8 := [182, 0, 197, 153, 0, 9, 4, 28, 120, 167, 0, 4, 3, 128, 181, 0, 194, 132, 2, 1, 167, 255, 194, 3]
abbrev dktX6_all_7 : List UInt8 := dkwX6_all_7 ++ dktX6_all_8
def dkwX6_all_6 : List UInt8 := [50, 89, 180, 0, 194, 42, 180, 0, 3, 180, 0, 176, 27, 50, 42, 180, 0, 3, 180, 0, 170, 28, 46]
abbrev dktX6_all_6 : List UInt8 := dkwX6_all_6 ++ dktX6_all_7
def dkwX6_all_5 : List UInt8 := [162, 0, 172, 3, 61, 28, 42, 180, 0, 3, 180, 0, 173, 162, 0, 57, 42, 180, 0, 3, 180, 0, 176, 27]
abbrev dktX6_all_5 : List UInt8 := dkwX6_all_5 ++ dktX6_all_6
def dkwX6_all_4 : List UInt8 := [181, 0, 188, 42, 180, 0, 3, 42, 180, 0, 118, 181, 0, 191, 3, 60, 27, 42, 180, 0, 3, 180, 0, 179]
abbrev dktX6_all_4 : List UInt8 := dkwX6_all_4 ++ dktX6_all_5
def dkwX6_all_3 : List UInt8 := [181, 0, 182, 42, 180, 0, 3, 42, 180, 0, 157, 181, 0, 185, 42, 180, 0, 3, 42, 180, 0, 30]
abbrev dktX6_all_3 : List UInt8 := dkwX6_all_3 ++ dktX6_all_4
def dkwX6_all_2 : List UInt8 := [181, 0, 176, 42, 180, 0, 3, 42, 180, 0, 145, 181, 0, 179, 42, 180, 0, 3, 42, 180, 0, 25]
abbrev dktX6_all_2 : List UInt8 := dkwX6_all_2 ++ dktX6_all_3
def dkwX6_all_1 : List UInt8 := [181, 0, 170, 42, 180, 0, 3, 42, 180, 0, 101, 181, 0, 173, 42, 180, 0, 3, 42, 180, 0, 21]
abbrev dktX6_all_1 : List UInt8 := dkwX6_all_1 ++ dktX6_all_2
def dkwX6_all_0 : List UInt8 := [42, 180, 0, 50, 153, 0, 10, 42, 182, 0, 167, 167, 255, 245, 42, 180, 0, 3, 42, 180, 0, 15]
abbrev dktX6_all_0 : List UInt8 := dkwX6_all_0 ++ dktX6_all_1
theorem dksX6_all_0 : cX6_all.data.toList.drop 0 = dktX6_all_0 := by decide +kernel
theorem dksX6_all_1 : cX6_all.data.toList.drop 22 = dktX6_all_1 := dk_seg dksX6_all_0 22 rfl rfl
theorem dksX6_all_2 : cX6_all.data.toList.drop 44 = dktX6_all_2 := dk_seg dksX6_all_1 22 rfl rfl
theorem dksX6_all_3 : cX6_all.data.toList.drop 66 = dktX6_all_3 := dk_seg dksX6_all_2 22 rfl rfl
theorem dksX6_all_4 : cX6_all.data.toList.drop 88 = dktX6_all_4 := dk_seg dksX6_all_3 22 rfl rfl
theorem dksX6_all_5 : cX6_all.data.toList.drop 112 = dktX6_all_5 := dk_seg dksX6_all_4 24 rfl rfl
theorem dksX6_all_6 : cX6_all.data.toList.drop 136 = dktX6_all_6 := dk_seg dksX6_all_5 24 rfl rfl
theorem dksX6_all_7 : cX6_all.data.toList.drop 159 = dktX6_all_7 := dk_seg dksX6_all_6 23 rfl rfl
theorem dksX6_all_8 : cX6_all.data.toList.drop 183 = dktX6_all_8 := dk_seg dksX6_all_7 24 rfl rfl
theorem dksX6_all_9 : cX6_all.data.toList.drop 207 = dktX6_all_9 := dk_seg dksX6_all_8 24 rfl rfl
theorem dksX6_all_10 : cX6_all.data.toList.drop 229 = dktX6_all_10 := dk_seg dksX6_all_9 22 rfl rfl
theorem dksX6_all_11 : cX6_all.data.toList.drop 253 = dktX6_all_11 := dk_seg dksX6_all_10 24 rfl rfl
theorem dksX6_all_12 : cX6_all.data.toList.drop 275 = dktX6_all_12 := dk_seg dksX6_all_11 22 rfl rfl
theorem dX6_all_0 : decode cX6_all 0 = .ok (.aload_n 0, 1) := dk_42 (dk_at dksX6_all_0 0 rfl rfl)
theorem dX6_all_1 : decode cX6_all 1 = .ok (.getfield 50, 3) := dk_180 0 50 (dk_at dksX6_all_0 1 rfl rfl)
theorem dX6_all_4 : decode cX6_all 4 = .ok (.ifCond .eq 10, 3) := dk_153 0 10 (dk_at dksX6_all_0 4 rfl rfl)
theorem dX6_all_7 : decode cX6_all 7 = .ok (.aload_n 0, 1) := dk_42 (dk_at dksX6_all_0 7 rfl rfl)
theorem dX6_all_8 : decode cX6_all 8 = .ok (.invokevirtual 167, 3) := dk_182 0 167 (dk_at dksX6_all_0 8 rfl rfl)
theorem dX6_all_11 : decode cX6_all 11 = .ok (.goto (-11), 3) := dk_167 255 245 (dk_at dksX6_all_0 11 rfl rfl)
theorem dX6_all_14 : decode cX6_all 14 = .ok (.aload_n 0, 1) := dk_42 (dk_at dksX6_all_0 14 rfl rfl)
theorem dX6_all_15 : decode cX6_all 15 = .ok (.getfield 3, 3) := dk_180 0 3 (dk_at dksX6_all_0 15 rfl rfl)
theorem dX6_all_18 : decode cX6_all 18 = .ok (.aload_n 0, 1) := dk_42 (dk_at dksX6_all_0 18 rfl rfl)
theorem dX6_all_19 : decode cX6_all 19 = .ok (.getfield 15, 3) := dk_180 0 15 (dk_at dksX6_all_0 19 rfl rfl)
theorem dX6_all_22 : decode cX6_all 22 = .ok (.putfield 170, 3) := dk_181 0 170 (dk_at dksX6_all_1 0 rfl rfl)
theorem dX6_all_25 : decode cX6_all 25 = .ok (.aload_n 0, 1) := dk_42 (dk_at dksX6_all_1 3 rfl rfl)
theorem dX6_all_26 : decode cX6_all 26 = .ok (.getfield 3, 3) := dk_180 0 3 (dk_at dksX6_all_1 4 rfl rfl)
theorem dX6_all_29 : decode cX6_all 29 = .ok (.aload_n 0, 1) := dk_42 (dk_at dksX6_all_1 7 rfl rfl)
theorem dX6_all_30 : decode cX6_all 30 = .ok (.getfield 101, 3) := dk_180 0 101 (dk_at dksX6_all_1 8 rfl rfl)
theorem dX6_all_33 : decode cX6_all 33 = .ok (.putfield 173, 3) := dk_181 0 173 (dk_at dksX6_all_1 11 rfl rfl)
theorem dX6_all_36 : decode cX6_all 36 = .ok (.aload_n 0, 1) := dk_42 (dk_at dksX6_all_1 14 rfl rfl)
theorem dX6_all_37 : decode cX6_all 37 = .ok (.getfield 3, 3) := dk_180 0 3 (dk_at dksX6_all_1 15 rfl rfl)
theorem dX6_all_40 : decode cX6_all 40 = .ok (.aload_n 0, 1) := dk_42 (dk_at dksX6_all_1 18 rfl rfl)
theorem dX6_all_41 : decode cX6_all 41 = .ok (.getfield 21, 3) := dk_180 0 21 (dk_at dksX6_all_1 19 rfl rfl)
theorem dX6_all_44 : decode cX6_all 44 = .ok (.putfield 176, 3) := dk_181 0 176 (dk_at dksX6_all_2 0 rfl rfl)
theorem dX6_all_47 : decode cX6_all 47 = .ok (.aload_n 0, 1) := dk_42 (dk_at dksX6_all_2 3 rfl rfl)
theorem dX6_all_48 : decode cX6_all 48 = .ok (.getfield 3, 3) := dk_180 0 3 (dk_at dksX6_all_2 4 rfl rfl)
theorem dX6_all_51 : decode cX6_all 51 = .ok (.aload_n 0, 1) := dk_42 (dk_at dksX6_all_2 7 rfl rfl)
theorem dX6_all_52 : decode cX6_all 52 = .ok (.getfield 145, 3) := dk_180 0 145 (dk_at dksX6_all_2 8 rfl rfl)
theorem dX6_all_55 : decode cX6_all 55 = .ok (.putfield 179, 3) := dk_181 0 179 (dk_at dksX6_all_2 11 rfl rfl)
theorem dX6_all_58 : decode cX6_all 58 = .ok (.aload_n 0, 1) := dk_42 (dk_at dksX6_all_2 14 rfl rfl)
theorem dX6_all_59 : decode cX6_all 59 = .ok (.getfield 3, 3) := dk_180 0 3 (dk_at dksX6_all_2 15 rfl rfl)
theorem dX6_all_62 : decode cX6_all 62 = .ok (.aload_n 0, 1) := dk_42 (dk_at dksX6_all_2 18 rfl rfl)
theorem dX6_all_63 : decode cX6_all 63 = .ok (.getfield 25, 3) := dk_180 0 25 (dk_at dksX6_all_2 19 rfl rfl)
theorem dX6_all_66 : decode cX6_all 66 = .ok (.putfield 182, 3) := dk_181 0 182 (dk_at dksX6_all_3 0 rfl rfl)
theorem dX6_all_69 : decode cX6_all 69 = .ok (.aload_n 0, 1) := dk_42 (dk_at dksX6_all_3 3 rfl rfl)
theorem dX6_all_70 : decode cX6_all 70 = .ok (.getfield 3, 3) := dk_180 0 3 (dk_at dksX6_all_3 4 rfl rfl)
theorem dX6_all_73 : decode cX6_all 73 = .ok (.aload_n 0, 1) := dk_42 (dk_at dksX6_all_3 7 rfl rfl)
theorem dX6_all_74 : decode cX6_all 74 = .ok (.getfield 157, 3) := dk_180 0 157 (dk_at dksX6_all_3 8 rfl rfl)
theorem dX6_all_77 : decode cX6_all 77 = .ok (.putfield 185, 3) := dk_181 0 185 (dk_at dksX6_all_3 11 rfl rfl)
theorem dX6_all_80 : decode cX6_all 80 = .ok (.aload_n 0, 1) := dk_42 (dk_at dksX6_all_3 14 rfl rfl)
theorem dX6_all_81 : decode cX6_all 81 = .ok (.getfield 3, 3) := dk_180 0 3 (dk_at dksX6_all_3 15 rfl rfl)
theorem dX6_all_84 : decode cX6_all 84 = .ok (.aload_n 0, 1) := dk_42 (dk_at dksX6_all_3 18 rfl rfl)
theorem dX6_all_85 : decode cX6_all 85 = .ok (.getfield 30, 3) := dk_180 0 30 (dk_at dksX6_all_3 19 rfl rfl)
theorem dX6_all_88 : decode cX6_all 88 = .ok (.putfield 188, 3) := dk_181 0 188 (dk_at dksX6_all_4 0 rfl rfl)
theorem dX6_all_91 : decode cX6_all 91 = .ok (.aload_n 0, 1) := dk_42 (dk_at dksX6_all_4 3 rfl rfl)
theorem dX6_all_92 : decode cX6_all 92 = .ok (.getfield 3, 3) := dk_180 0 3 (dk_at dksX6_all_4 4 rfl rfl)
theorem dX6_all_95 : decode cX6_all 95 = .ok (.aload_n 0, 1) := dk_42 (dk_at dksX6_all_4 7 rfl rfl)
theorem dX6_all_96 : decode cX6_all 96 = .ok (.getfield 118, 3) := dk_180 0 118 (dk_at dksX6_all_4 8 rfl rfl)
theorem dX6_all_99 : decode cX6_all 99 = .ok (.putfield 191, 3) := dk_181 0 191 (dk_at dksX6_all_4 11 rfl rfl)
theorem dX6_all_102 : decode cX6_all 102 = .ok (.iconst 0, 1) := dk_3 (dk_at dksX6_all_4 14 rfl rfl)
theorem dX6_all_103 : decode cX6_all 103 = .ok (.istore_n 1, 1) := dk_60 (dk_at dksX6_all_4 15 rfl rfl)
theorem dX6_all_104 : decode cX6_all 104 = .ok (.iload_n 1, 1) := dk_27 (dk_at dksX6_all_4 16 rfl rfl)
theorem dX6_all_105 : decode cX6_all 105 = .ok (.aload_n 0, 1) := dk_42 (dk_at dksX6_all_4 17 rfl rfl)
theorem dX6_all_106 : decode cX6_all 106 = .ok (.getfield 3, 3) := dk_180 0 3 (dk_at dksX6_all_4 18 rfl rfl)
theorem dX6_all_109 : decode cX6_all 109 = .ok (.getfield 179, 3) := dk_180 0 179 (dk_at dksX6_all_4 21 rfl rfl)
theorem dX6_all_112 : decode cX6_all 112 = .ok (.if_icmp .ge 172, 3) := dk_162 0 172 (dk_at dksX6_all_5 0 rfl rfl)
theorem dX6_all_115 : decode cX6_all 115 = .ok (.iconst 0, 1) := dk_3 (dk_at dksX6_all_5 3 rfl rfl)
theorem dX6_all_116 : decode cX6_all 116 = .ok (.istore_n 2, 1) := dk_61 (dk_at dksX6_all_5 4 rfl rfl)
theorem dX6_all_117 : decode cX6_all 117 = .ok (.iload_n 2, 1) := dk_28 (dk_at dksX6_all_5 5 rfl rfl)
theorem dX6_all_118 : decode cX6_all 118 = .ok (.aload_n 0, 1) := dk_42 (dk_at dksX6_all_5 6 rfl rfl)
theorem dX6_all_119 : decode cX6_all 119 = .ok (.getfield 3, 3) := dk_180 0 3 (dk_at dksX6_all_5 7 rfl rfl)
theorem dX6_all_122 : decode cX6_all 122 = .ok (.getfield 173, 3) := dk_180 0 173 (dk_at dksX6_all_5 10 rfl rfl)
theorem dX6_all_125 : decode cX6_all 125 = .ok (.if_icmp .ge 57, 3) := dk_162 0 57 (dk_at dksX6_all_5 13 rfl rfl)
theorem dX6_all_128 : decode cX6_all 128 = .ok (.aload_n 0, 1) := dk_42 (dk_at dksX6_all_5 16 rfl rfl)
theorem dX6_all_129 : decode cX6_all 129 = .ok (.getfield 3, 3) := dk_180 0 3 (dk_at dksX6_all_5 17 rfl rfl)
theorem dX6_all_132 : decode cX6_all 132 = .ok (.getfield 176, 3) := dk_180 0 176 (dk_at dksX6_all_5 20 rfl rfl)
theorem dX6_all_135 : decode cX6_all 135 = .ok (.iload_n 1, 1) := dk_27 (dk_at dksX6_all_5 23 rfl rfl)
theorem dX6_all_136 : decode cX6_all 136 = .ok (.aaload, 1) := dk_50 (dk_at dksX6_all_6 0 rfl rfl)
theorem dX6_all_137 : decode cX6_all 137 = .ok (.dup, 1) := dk_89 (dk_at dksX6_all_6 1 rfl rfl)
theorem dX6_all_138 : decode cX6_all 138 = .ok (.getfield 194, 3) := dk_180 0 194 (dk_at dksX6_all_6 2 rfl rfl)
theorem dX6_all_141 : decode cX6_all 141 = .ok (.aload_n 0, 1) := dk_42 (dk_at dksX6_all_6 5 rfl rfl)
theorem dX6_all_142 : decode cX6_all 142 = .ok (.getfield 3, 3) := dk_180 0 3 (dk_at dksX6_all_6 6 rfl rfl)
theorem dX6_all_145 : decode cX6_all 145 = .ok (.getfield 176, 3) := dk_180 0 176 (dk_at dksX6_all_6 9 rfl rfl)
theorem dX6_all_148 : decode cX6_all 148 = .ok (.iload_n 1, 1) := dk_27 (dk_at dksX6_all_6 12 rfl rfl)
theorem dX6_all_149 : decode cX6_all 149 = .ok (.aaload, 1) := dk_50 (dk_at dksX6_all_6 13 rfl rfl)
theorem dX6_all_150 : decode cX6_all 150 = .ok (.aload_n 0, 1) := dk_42 (dk_at dksX6_all_6 14 rfl rfl)
theorem dX6_all_151 : decode cX6_all 151 = .ok (.getfield 3, 3) := dk_180 0 3 (dk_at dksX6_all_6 15 rfl rfl)
theorem dX6_all_154 : decode cX6_all 154 = .ok (.getfield 170, 3) := dk_180 0 170 (dk_at dksX6_all_6 18 rfl rfl)
theorem dX6_all_157 : decode cX6_all 157 = .ok (.iload_n 2, 1) := dk_28 (dk_at dksX6_all_6 21 rfl rfl)
theorem dX6_all_158 : decode cX6_all 158 = .ok (.iaload, 1) := dk_46 (dk_at dksX6_all_6 22 rfl rfl)
theorem dX6_all_159 : decode cX6_all 159 = .ok (.invokevirtual 197, 3) := dk_182 0 197 (dk_at dksX6_all_7 0 rfl rfl)
theorem dX6_all_162 : decode cX6_all 162 = .ok (.ifCond .eq 9, 3) := dk_153 0 9 (dk_at dksX6_all_7 3 rfl rfl)
theorem dX6_all_165 : decode cX6_all 165 = .ok (.iconst 1, 1) := dk_4 (dk_at dksX6_all_7 6 rfl rfl)
theorem dX6_all_166 : decode cX6_all 166 = .ok (.iload_n 2, 1) := dk_28 (dk_at dksX6_all_7 7 rfl rfl)
theorem dX6_all_167 : decode cX6_all 167 = .ok (.ishl, 1) := dk_120 (dk_at dksX6_all_7 8 rfl rfl)
theorem dX6_all_168 : decode cX6_all 168 = .ok (.goto 4, 3) := dk_167 0 4 (dk_at dksX6_all_7 9 rfl rfl)
theorem dX6_all_171 : decode cX6_all 171 = .ok (.iconst 0, 1) := dk_3 (dk_at dksX6_all_7 12 rfl rfl)
theorem dX6_all_172 : decode cX6_all 172 = .ok (.ior, 1) := dk_128 (dk_at dksX6_all_7 13 rfl rfl)
theorem dX6_all_173 : decode cX6_all 173 = .ok (.putfield 194, 3) := dk_181 0 194 (dk_at dksX6_all_7 14 rfl rfl)
theorem dX6_all_176 : decode cX6_all 176 = .ok (.iinc 2 1, 3) := dk_132 2 1 (dk_at dksX6_all_7 17 rfl rfl)
theorem dX6_all_179 : decode cX6_all 179 = .ok (.goto (-62), 3) := dk_167 255 194 (dk_at dksX6_all_7 20 rfl rfl)
theorem dX6_all_182 : decode cX6_all 182 = .ok (.iconst 0, 1) := dk_3 (dk_at dksX6_all_7 23 rfl rfl)
theorem dX6_all_183 : decode cX6_all 183 = .ok (.istore_n 2, 1) := dk_61 (dk_at dksX6_all_8 0 rfl rfl)
theorem dX6_all_184 : decode cX6_all 184 = .ok (.iload_n 2, 1) := dk_28 (dk_at dksX6_all_8 1 rfl rfl)
theorem dX6_all_185 : decode cX6_all 185 = .ok (.aload_n 0, 1) := dk_42 (dk_at dksX6_all_8 2 rfl rfl)
theorem dX6_all_186 : decode cX6_all 186 = .ok (.getfield 3, 3) := dk_180 0 3 (dk_at dksX6_all_8 3 rfl rfl)
theorem dX6_all_189 : decode cX6_all 189 = .ok (.getfield 191, 3) := dk_180 0 191 (dk_at dksX6_all_8 6 rfl rfl)
theorem dX6_all_192 : decode cX6_all 192 = .ok (.if_icmp .ge 86, 3) := dk_162 0 86 (dk_at dksX6_all_8 9 rfl rfl)
theorem dX6_all_195 : decode cX6_all 195 = .ok (.aload_n 0, 1) := dk_42 (dk_at dksX6_all_8 12 rfl rfl)
theorem dX6_all_196 : decode cX6_all 196 = .ok (.getfield 3, 3) := dk_180 0 3 (dk_at dksX6_all_8 13 rfl rfl)
theorem dX6_all_199 : decode cX6_all 199 = .ok (.getfield 176, 3) := dk_180 0 176 (dk_at dksX6_all_8 16 rfl rfl)
theorem dX6_all_202 : decode cX6_all 202 = .ok (.iload_n 1, 1) := dk_27 (dk_at dksX6_all_8 19 rfl rfl)
theorem dX6_all_203 : decode cX6_all 203 = .ok (.aaload, 1) := dk_50 (dk_at dksX6_all_8 20 rfl rfl)
theorem dX6_all_204 : decode cX6_all 204 = .ok (.getfield 201, 3) := dk_180 0 201 (dk_at dksX6_all_8 21 rfl rfl)
theorem dX6_all_207 : decode cX6_all 207 = .ok (.aload_n 0, 1) := dk_42 (dk_at dksX6_all_9 0 rfl rfl)
theorem dX6_all_208 : decode cX6_all 208 = .ok (.getfield 3, 3) := dk_180 0 3 (dk_at dksX6_all_9 1 rfl rfl)
theorem dX6_all_211 : decode cX6_all 211 = .ok (.getfield 176, 3) := dk_180 0 176 (dk_at dksX6_all_9 4 rfl rfl)
theorem dX6_all_214 : decode cX6_all 214 = .ok (.iload_n 1, 1) := dk_27 (dk_at dksX6_all_9 7 rfl rfl)
theorem dX6_all_215 : decode cX6_all 215 = .ok (.aaload, 1) := dk_50 (dk_at dksX6_all_9 8 rfl rfl)
theorem dX6_all_216 : decode cX6_all 216 = .ok (.getfield 204, 3) := dk_180 0 204 (dk_at dksX6_all_9 9 rfl rfl)
theorem dX6_all_219 : decode cX6_all 219 = .ok (.ior, 1) := dk_128 (dk_at dksX6_all_9 12 rfl rfl)
theorem dX6_all_220 : decode cX6_all 220 = .ok (.aload_n 0, 1) := dk_42 (dk_at dksX6_all_9 13 rfl rfl)
theorem dX6_all_221 : decode cX6_all 221 = .ok (.getfield 3, 3) := dk_180 0 3 (dk_at dksX6_all_9 14 rfl rfl)
theorem dX6_all_224 : decode cX6_all 224 = .ok (.getfield 188, 3) := dk_180 0 188 (dk_at dksX6_all_9 17 rfl rfl)
theorem dX6_all_227 : decode cX6_all 227 = .ok (.iload_n 2, 1) := dk_28 (dk_at dksX6_all_9 20 rfl rfl)
theorem dX6_all_228 : decode cX6_all 228 = .ok (.aaload, 1) := dk_50 (dk_at dksX6_all_9 21 rfl rfl)
theorem dX6_all_229 : decode cX6_all 229 = .ok (.getfield 98, 3) := dk_180 0 98 (dk_at dksX6_all_10 0 rfl rfl)
theorem dX6_all_232 : decode cX6_all 232 = .ok (.iconst (-1), 1) := dk_2 (dk_at dksX6_all_10 3 rfl rfl)
theorem dX6_all_233 : decode cX6_all 233 = .ok (.ixor, 1) := dk_130 (dk_at dksX6_all_10 4 rfl rfl)
theorem dX6_all_234 : decode cX6_all 234 = .ok (.iand, 1) := dk_126 (dk_at dksX6_all_10 5 rfl rfl)
theorem dX6_all_235 : decode cX6_all 235 = .ok (.ifCond .ne 7, 3) := dk_154 0 7 (dk_at dksX6_all_10 6 rfl rfl)
theorem dX6_all_238 : decode cX6_all 238 = .ok (.iconst 1, 1) := dk_4 (dk_at dksX6_all_10 9 rfl rfl)
theorem dX6_all_239 : decode cX6_all 239 = .ok (.goto 4, 3) := dk_167 0 4 (dk_at dksX6_all_10 10 rfl rfl)
theorem dX6_all_242 : decode cX6_all 242 = .ok (.iconst 0, 1) := dk_3 (dk_at dksX6_all_10 13 rfl rfl)
theorem dX6_all_243 : decode cX6_all 243 = .ok (.istore_n 3, 1) := dk_62 (dk_at dksX6_all_10 14 rfl rfl)
theorem dX6_all_244 : decode cX6_all 244 = .ok (.aload_n 0, 1) := dk_42 (dk_at dksX6_all_10 15 rfl rfl)
theorem dX6_all_245 : decode cX6_all 245 = .ok (.getfield 3, 3) := dk_180 0 3 (dk_at dksX6_all_10 16 rfl rfl)
theorem dX6_all_248 : decode cX6_all 248 = .ok (.getfield 188, 3) := dk_180 0 188 (dk_at dksX6_all_10 19 rfl rfl)
theorem dX6_all_251 : decode cX6_all 251 = .ok (.iload_n 2, 1) := dk_28 (dk_at dksX6_all_10 22 rfl rfl)
theorem dX6_all_252 : decode cX6_all 252 = .ok (.aaload, 1) := dk_50 (dk_at dksX6_all_10 23 rfl rfl)
theorem dX6_all_253 : decode cX6_all 253 = .ok (.dup, 1) := dk_89 (dk_at dksX6_all_11 0 rfl rfl)
theorem dX6_all_254 : decode cX6_all 254 = .ok (.getfield 206, 3) := dk_180 0 206 (dk_at dksX6_all_11 1 rfl rfl)
theorem dX6_all_257 : decode cX6_all 257 = .ok (.iload_n 3, 1) := dk_29 (dk_at dksX6_all_11 4 rfl rfl)
theorem dX6_all_258 : decode cX6_all 258 = .ok (.ifCond .eq 9, 3) := dk_153 0 9 (dk_at dksX6_all_11 5 rfl rfl)
theorem dX6_all_261 : decode cX6_all 261 = .ok (.iconst 1, 1) := dk_4 (dk_at dksX6_all_11 8 rfl rfl)
theorem dX6_all_262 : decode cX6_all 262 = .ok (.iload_n 1, 1) := dk_27 (dk_at dksX6_all_11 9 rfl rfl)
theorem dX6_all_263 : decode cX6_all 263 = .ok (.ishl, 1) := dk_120 (dk_at dksX6_all_11 10 rfl rfl)
theorem dX6_all_264 : decode cX6_all 264 = .ok (.goto 4, 3) := dk_167 0 4 (dk_at dksX6_all_11 11 rfl rfl)
theorem dX6_all_267 : decode cX6_all 267 = .ok (.iconst 0, 1) := dk_3 (dk_at dksX6_all_11 14 rfl rfl)
theorem dX6_all_268 : decode cX6_all 268 = .ok (.ior, 1) := dk_128 (dk_at dksX6_all_11 15 rfl rfl)
theorem dX6_all_269 : decode cX6_all 269 = .ok (.putfield 206, 3) := dk_181 0 206 (dk_at dksX6_all_11 16 rfl rfl)
theorem dX6_all_272 : decode cX6_all 272 = .ok (.iinc 2 1, 3) := dk_132 2 1 (dk_at dksX6_all_11 19 rfl rfl)
theorem dX6_all_275 : decode cX6_all 275 = .ok (.goto (-91), 3) := dk_167 255 165 (dk_at dksX6_all_12 0 rfl rfl)
theorem dX6_all_278 : decode cX6_all 278 = .ok (.iinc 1 1, 3) := dk_132 1 1 (dk_at dksX6_all_12 3 rfl rfl)
theorem dX6_all_281 : decode cX6_all 281 = .ok (.goto (-177), 3) := dk_167 255 79 (dk_at dksX6_all_12 6 rfl rfl)
theorem dX6_all_284 : decode cX6_all 284 = .ok (.return_, 1) := dk_177 (dk_at dksX6_all_12 9 rfl rfl)
abbrev cX6_line : ByteArray := prog_9_method_12_code
def yX6_line : MethodName := ⟨RX6, "line", "()V"⟩
def dkwX6_line_9 : List UInt8 := [181, 0, 164, 42, 182, 0, 38, 177]
abbrev dktX6_line_9 : List UInt8 := dkwX6_line_9 ++ []
def dkwX6_line_8 : List UInt8 := [180, 0, 70, 16, 59, 160, 0, 7, 4, 167, 0, 4, 3, 5, 182, 0, 85, 42, 89, 180, 0, 164, 4, 96]
abbrev dktX6_line_8 : List UInt8 := dkwX6_line_8 ++ dktX6_line_9
def dkwX6_line_7 : List UInt8 := [4, 96, 181, 0, 157, 167, 0, 8, 42, 27, 182, 0, 160, 42, 42, 180, 0, 50, 6, 160, 0, 16, 42]
abbrev dktX6_line_7 : List UInt8 := dkwX6_line_7 ++ dktX6_line_8
def dkwX6_line_6 : List UInt8 := [180, 0, 25, 42, 180, 0, 157, 42, 3, 42, 180, 0, 145, 4, 100, 182, 0, 104, 79, 42, 89, 180, 0, 157]
abbrev dktX6_line_6 : List UInt8 := dkwX6_line_6 ++ dktX6_line_7
def dkwX6_line_5 : List UInt8 := [42, 180, 0, 157, 7, 162, 0, 7, 4, 167, 0, 4, 3, 8, 182, 0, 85, 42, 182, 0, 38, 42]
abbrev dktX6_line_5 : List UInt8 := dkwX6_line_5 ++ dktX6_line_6
def dkwX6_line_4 : List UInt8 := [181, 0, 101, 167, 0, 80, 27, 4, 160, 0, 10, 42, 182, 0, 154, 167, 0, 68, 27, 5, 160, 0, 58, 42]
abbrev dktX6_line_4 : List UInt8 := dkwX6_line_4 ++ dktX6_line_5
def dkwX6_line_3 : List UInt8 := [182, 0, 38, 42, 180, 0, 15, 42, 180, 0, 101, 42, 3, 182, 0, 95, 79, 42, 89, 180, 0, 101, 4, 96]
abbrev dktX6_line_3 : List UInt8 := dkwX6_line_3 ++ dktX6_line_4
def dkwX6_line_2 : List UInt8 := [154, 0, 53, 42, 42, 180, 0, 101, 16, 8, 162, 0, 7, 4, 167, 0, 4, 3, 8, 182, 0, 85, 42]
abbrev dktX6_line_2 : List UInt8 := dkwX6_line_2 ++ dktX6_line_3
def dkwX6_line_1 : List UInt8 := [182, 0, 137, 60, 42, 27, 178, 0, 151, 190, 162, 0, 7, 4, 167, 0, 4, 3, 5, 182, 0, 85, 27]
abbrev dktX6_line_1 : List UInt8 := dkwX6_line_1 ++ dktX6_line_2
def dkwX6_line_0 : List UInt8 := [42, 42, 180, 0, 50, 4, 160, 0, 7, 4, 167, 0, 4, 3, 5, 182, 0, 85, 42, 178, 0, 151]
abbrev dktX6_line_0 : List UInt8 := dkwX6_line_0 ++ dktX6_line_1
theorem dksX6_line_0 : cX6_line.data.toList.drop 0 = dktX6_line_0 := by decide +kernel
theorem dksX6_line_1 : cX6_line.data.toList.drop 22 = dktX6_line_1 := dk_seg dksX6_line_0 22 rfl rfl
theorem dksX6_line_2 : cX6_line.data.toList.drop 45 = dktX6_line_2 := dk_seg dksX6_line_1 23 rfl rfl
theorem dksX6_line_3 : cX6_line.data.toList.drop 68 = dktX6_line_3 := dk_seg dksX6_line_2 23 rfl rfl
theorem dksX6_line_4 : cX6_line.data.toList.drop 92 = dktX6_line_4 := dk_seg dksX6_line_3 24 rfl rfl
theorem dksX6_line_5 : cX6_line.data.toList.drop 116 = dktX6_line_5 := dk_seg dksX6_line_4 24 rfl rfl
theorem dksX6_line_6 : cX6_line.data.toList.drop 138 = dktX6_line_6 := dk_seg dksX6_line_5 22 rfl rfl
theorem dksX6_line_7 : cX6_line.data.toList.drop 162 = dktX6_line_7 := dk_seg dksX6_line_6 24 rfl rfl
theorem dksX6_line_8 : cX6_line.data.toList.drop 185 = dktX6_line_8 := dk_seg dksX6_line_7 23 rfl rfl
theorem dksX6_line_9 : cX6_line.data.toList.drop 209 = dktX6_line_9 := dk_seg dksX6_line_8 24 rfl rfl
theorem dX6_line_0 : decode cX6_line 0 = .ok (.aload_n 0, 1) := dk_42 (dk_at dksX6_line_0 0 rfl rfl)
theorem dX6_line_1 : decode cX6_line 1 = .ok (.aload_n 0, 1) := dk_42 (dk_at dksX6_line_0 1 rfl rfl)
theorem dX6_line_2 : decode cX6_line 2 = .ok (.getfield 50, 3) := dk_180 0 50 (dk_at dksX6_line_0 2 rfl rfl)
theorem dX6_line_5 : decode cX6_line 5 = .ok (.iconst 1, 1) := dk_4 (dk_at dksX6_line_0 5 rfl rfl)
theorem dX6_line_6 : decode cX6_line 6 = .ok (.if_icmp .ne 7, 3) := dk_160 0 7 (dk_at dksX6_line_0 6 rfl rfl)
theorem dX6_line_9 : decode cX6_line 9 = .ok (.iconst 1, 1) := dk_4 (dk_at dksX6_line_0 9 rfl rfl)
theorem dX6_line_10 : decode cX6_line 10 = .ok (.goto 4, 3) := dk_167 0 4 (dk_at dksX6_line_0 10 rfl rfl)
theorem dX6_line_13 : decode cX6_line 13 = .ok (.iconst 0, 1) := dk_3 (dk_at dksX6_line_0 13 rfl rfl)
theorem dX6_line_14 : decode cX6_line 14 = .ok (.iconst 2, 1) := dk_5 (dk_at dksX6_line_0 14 rfl rfl)
theorem dX6_line_15 : decode cX6_line 15 = .ok (.invokevirtual 85, 3) := dk_182 0 85 (dk_at dksX6_line_0 15 rfl rfl)
theorem dX6_line_18 : decode cX6_line 18 = .ok (.aload_n 0, 1) := dk_42 (dk_at dksX6_line_0 18 rfl rfl)
theorem dX6_line_19 : decode cX6_line 19 = .ok (.getstatic 151, 3) := dk_178 0 151 (dk_at dksX6_line_0 19 rfl rfl)
theorem dX6_line_22 : decode cX6_line 22 = .ok (.invokevirtual 137, 3) := dk_182 0 137 (dk_at dksX6_line_1 0 rfl rfl)
theorem dX6_line_25 : decode cX6_line 25 = .ok (.istore_n 1, 1) := dk_60 (dk_at dksX6_line_1 3 rfl rfl)
theorem dX6_line_26 : decode cX6_line 26 = .ok (.aload_n 0, 1) := dk_42 (dk_at dksX6_line_1 4 rfl rfl)
theorem dX6_line_27 : decode cX6_line 27 = .ok (.iload_n 1, 1) := dk_27 (dk_at dksX6_line_1 5 rfl rfl)
theorem dX6_line_28 : decode cX6_line 28 = .ok (.getstatic 151, 3) := dk_178 0 151 (dk_at dksX6_line_1 6 rfl rfl)
theorem dX6_line_31 : decode cX6_line 31 = .ok (.arraylength, 1) := dk_190 (dk_at dksX6_line_1 9 rfl rfl)
theorem dX6_line_32 : decode cX6_line 32 = .ok (.if_icmp .ge 7, 3) := dk_162 0 7 (dk_at dksX6_line_1 10 rfl rfl)
theorem dX6_line_35 : decode cX6_line 35 = .ok (.iconst 1, 1) := dk_4 (dk_at dksX6_line_1 13 rfl rfl)
theorem dX6_line_36 : decode cX6_line 36 = .ok (.goto 4, 3) := dk_167 0 4 (dk_at dksX6_line_1 14 rfl rfl)
theorem dX6_line_39 : decode cX6_line 39 = .ok (.iconst 0, 1) := dk_3 (dk_at dksX6_line_1 17 rfl rfl)
theorem dX6_line_40 : decode cX6_line 40 = .ok (.iconst 2, 1) := dk_5 (dk_at dksX6_line_1 18 rfl rfl)
theorem dX6_line_41 : decode cX6_line 41 = .ok (.invokevirtual 85, 3) := dk_182 0 85 (dk_at dksX6_line_1 19 rfl rfl)
theorem dX6_line_44 : decode cX6_line 44 = .ok (.iload_n 1, 1) := dk_27 (dk_at dksX6_line_1 22 rfl rfl)
theorem dX6_line_45 : decode cX6_line 45 = .ok (.ifCond .ne 53, 3) := dk_154 0 53 (dk_at dksX6_line_2 0 rfl rfl)
theorem dX6_line_48 : decode cX6_line 48 = .ok (.aload_n 0, 1) := dk_42 (dk_at dksX6_line_2 3 rfl rfl)
theorem dX6_line_49 : decode cX6_line 49 = .ok (.aload_n 0, 1) := dk_42 (dk_at dksX6_line_2 4 rfl rfl)
theorem dX6_line_50 : decode cX6_line 50 = .ok (.getfield 101, 3) := dk_180 0 101 (dk_at dksX6_line_2 5 rfl rfl)
theorem dX6_line_53 : decode cX6_line 53 = .ok (.bipush 8, 2) := dk_16 8 (dk_at dksX6_line_2 8 rfl rfl)
theorem dX6_line_55 : decode cX6_line 55 = .ok (.if_icmp .ge 7, 3) := dk_162 0 7 (dk_at dksX6_line_2 10 rfl rfl)
theorem dX6_line_58 : decode cX6_line 58 = .ok (.iconst 1, 1) := dk_4 (dk_at dksX6_line_2 13 rfl rfl)
theorem dX6_line_59 : decode cX6_line 59 = .ok (.goto 4, 3) := dk_167 0 4 (dk_at dksX6_line_2 14 rfl rfl)
theorem dX6_line_62 : decode cX6_line 62 = .ok (.iconst 0, 1) := dk_3 (dk_at dksX6_line_2 17 rfl rfl)
theorem dX6_line_63 : decode cX6_line 63 = .ok (.iconst 5, 1) := dk_8 (dk_at dksX6_line_2 18 rfl rfl)
theorem dX6_line_64 : decode cX6_line 64 = .ok (.invokevirtual 85, 3) := dk_182 0 85 (dk_at dksX6_line_2 19 rfl rfl)
theorem dX6_line_67 : decode cX6_line 67 = .ok (.aload_n 0, 1) := dk_42 (dk_at dksX6_line_2 22 rfl rfl)
theorem dX6_line_68 : decode cX6_line 68 = .ok (.invokevirtual 38, 3) := dk_182 0 38 (dk_at dksX6_line_3 0 rfl rfl)
theorem dX6_line_71 : decode cX6_line 71 = .ok (.aload_n 0, 1) := dk_42 (dk_at dksX6_line_3 3 rfl rfl)
theorem dX6_line_72 : decode cX6_line 72 = .ok (.getfield 15, 3) := dk_180 0 15 (dk_at dksX6_line_3 4 rfl rfl)
theorem dX6_line_75 : decode cX6_line 75 = .ok (.aload_n 0, 1) := dk_42 (dk_at dksX6_line_3 7 rfl rfl)
theorem dX6_line_76 : decode cX6_line 76 = .ok (.getfield 101, 3) := dk_180 0 101 (dk_at dksX6_line_3 8 rfl rfl)
theorem dX6_line_79 : decode cX6_line 79 = .ok (.aload_n 0, 1) := dk_42 (dk_at dksX6_line_3 11 rfl rfl)
theorem dX6_line_80 : decode cX6_line 80 = .ok (.iconst 0, 1) := dk_3 (dk_at dksX6_line_3 12 rfl rfl)
theorem dX6_line_81 : decode cX6_line 81 = .ok (.invokevirtual 95, 3) := dk_182 0 95 (dk_at dksX6_line_3 13 rfl rfl)
theorem dX6_line_84 : decode cX6_line 84 = .ok (.iastore, 1) := dk_79 (dk_at dksX6_line_3 16 rfl rfl)
theorem dX6_line_85 : decode cX6_line 85 = .ok (.aload_n 0, 1) := dk_42 (dk_at dksX6_line_3 17 rfl rfl)
theorem dX6_line_86 : decode cX6_line 86 = .ok (.dup, 1) := dk_89 (dk_at dksX6_line_3 18 rfl rfl)
theorem dX6_line_87 : decode cX6_line 87 = .ok (.getfield 101, 3) := dk_180 0 101 (dk_at dksX6_line_3 19 rfl rfl)
theorem dX6_line_90 : decode cX6_line 90 = .ok (.iconst 1, 1) := dk_4 (dk_at dksX6_line_3 22 rfl rfl)
theorem dX6_line_91 : decode cX6_line 91 = .ok (.iadd, 1) := dk_96 (dk_at dksX6_line_3 23 rfl rfl)
theorem dX6_line_92 : decode cX6_line 92 = .ok (.putfield 101, 3) := dk_181 0 101 (dk_at dksX6_line_4 0 rfl rfl)
theorem dX6_line_95 : decode cX6_line 95 = .ok (.goto 80, 3) := dk_167 0 80 (dk_at dksX6_line_4 3 rfl rfl)
theorem dX6_line_98 : decode cX6_line 98 = .ok (.iload_n 1, 1) := dk_27 (dk_at dksX6_line_4 6 rfl rfl)
theorem dX6_line_99 : decode cX6_line 99 = .ok (.iconst 1, 1) := dk_4 (dk_at dksX6_line_4 7 rfl rfl)
theorem dX6_line_100 : decode cX6_line 100 = .ok (.if_icmp .ne 10, 3) := dk_160 0 10 (dk_at dksX6_line_4 8 rfl rfl)
theorem dX6_line_103 : decode cX6_line 103 = .ok (.aload_n 0, 1) := dk_42 (dk_at dksX6_line_4 11 rfl rfl)
theorem dX6_line_104 : decode cX6_line 104 = .ok (.invokevirtual 154, 3) := dk_182 0 154 (dk_at dksX6_line_4 12 rfl rfl)
theorem dX6_line_107 : decode cX6_line 107 = .ok (.goto 68, 3) := dk_167 0 68 (dk_at dksX6_line_4 15 rfl rfl)
theorem dX6_line_110 : decode cX6_line 110 = .ok (.iload_n 1, 1) := dk_27 (dk_at dksX6_line_4 18 rfl rfl)
theorem dX6_line_111 : decode cX6_line 111 = .ok (.iconst 2, 1) := dk_5 (dk_at dksX6_line_4 19 rfl rfl)
theorem dX6_line_112 : decode cX6_line 112 = .ok (.if_icmp .ne 58, 3) := dk_160 0 58 (dk_at dksX6_line_4 20 rfl rfl)
theorem dX6_line_115 : decode cX6_line 115 = .ok (.aload_n 0, 1) := dk_42 (dk_at dksX6_line_4 23 rfl rfl)
theorem dX6_line_116 : decode cX6_line 116 = .ok (.aload_n 0, 1) := dk_42 (dk_at dksX6_line_5 0 rfl rfl)
theorem dX6_line_117 : decode cX6_line 117 = .ok (.getfield 157, 3) := dk_180 0 157 (dk_at dksX6_line_5 1 rfl rfl)
theorem dX6_line_120 : decode cX6_line 120 = .ok (.iconst 4, 1) := dk_7 (dk_at dksX6_line_5 4 rfl rfl)
theorem dX6_line_121 : decode cX6_line 121 = .ok (.if_icmp .ge 7, 3) := dk_162 0 7 (dk_at dksX6_line_5 5 rfl rfl)
theorem dX6_line_124 : decode cX6_line 124 = .ok (.iconst 1, 1) := dk_4 (dk_at dksX6_line_5 8 rfl rfl)
theorem dX6_line_125 : decode cX6_line 125 = .ok (.goto 4, 3) := dk_167 0 4 (dk_at dksX6_line_5 9 rfl rfl)
theorem dX6_line_128 : decode cX6_line 128 = .ok (.iconst 0, 1) := dk_3 (dk_at dksX6_line_5 12 rfl rfl)
theorem dX6_line_129 : decode cX6_line 129 = .ok (.iconst 5, 1) := dk_8 (dk_at dksX6_line_5 13 rfl rfl)
theorem dX6_line_130 : decode cX6_line 130 = .ok (.invokevirtual 85, 3) := dk_182 0 85 (dk_at dksX6_line_5 14 rfl rfl)
theorem dX6_line_133 : decode cX6_line 133 = .ok (.aload_n 0, 1) := dk_42 (dk_at dksX6_line_5 17 rfl rfl)
theorem dX6_line_134 : decode cX6_line 134 = .ok (.invokevirtual 38, 3) := dk_182 0 38 (dk_at dksX6_line_5 18 rfl rfl)
theorem dX6_line_137 : decode cX6_line 137 = .ok (.aload_n 0, 1) := dk_42 (dk_at dksX6_line_5 21 rfl rfl)
theorem dX6_line_138 : decode cX6_line 138 = .ok (.getfield 25, 3) := dk_180 0 25 (dk_at dksX6_line_6 0 rfl rfl)
theorem dX6_line_141 : decode cX6_line 141 = .ok (.aload_n 0, 1) := dk_42 (dk_at dksX6_line_6 3 rfl rfl)
theorem dX6_line_142 : decode cX6_line 142 = .ok (.getfield 157, 3) := dk_180 0 157 (dk_at dksX6_line_6 4 rfl rfl)
theorem dX6_line_145 : decode cX6_line 145 = .ok (.aload_n 0, 1) := dk_42 (dk_at dksX6_line_6 7 rfl rfl)
theorem dX6_line_146 : decode cX6_line 146 = .ok (.iconst 0, 1) := dk_3 (dk_at dksX6_line_6 8 rfl rfl)
theorem dX6_line_147 : decode cX6_line 147 = .ok (.aload_n 0, 1) := dk_42 (dk_at dksX6_line_6 9 rfl rfl)
theorem dX6_line_148 : decode cX6_line 148 = .ok (.getfield 145, 3) := dk_180 0 145 (dk_at dksX6_line_6 10 rfl rfl)
theorem dX6_line_151 : decode cX6_line 151 = .ok (.iconst 1, 1) := dk_4 (dk_at dksX6_line_6 13 rfl rfl)
theorem dX6_line_152 : decode cX6_line 152 = .ok (.isub, 1) := dk_100 (dk_at dksX6_line_6 14 rfl rfl)
theorem dX6_line_153 : decode cX6_line 153 = .ok (.invokevirtual 104, 3) := dk_182 0 104 (dk_at dksX6_line_6 15 rfl rfl)
theorem dX6_line_156 : decode cX6_line 156 = .ok (.iastore, 1) := dk_79 (dk_at dksX6_line_6 18 rfl rfl)
theorem dX6_line_157 : decode cX6_line 157 = .ok (.aload_n 0, 1) := dk_42 (dk_at dksX6_line_6 19 rfl rfl)
theorem dX6_line_158 : decode cX6_line 158 = .ok (.dup, 1) := dk_89 (dk_at dksX6_line_6 20 rfl rfl)
theorem dX6_line_159 : decode cX6_line 159 = .ok (.getfield 157, 3) := dk_180 0 157 (dk_at dksX6_line_6 21 rfl rfl)
theorem dX6_line_162 : decode cX6_line 162 = .ok (.iconst 1, 1) := dk_4 (dk_at dksX6_line_7 0 rfl rfl)
theorem dX6_line_163 : decode cX6_line 163 = .ok (.iadd, 1) := dk_96 (dk_at dksX6_line_7 1 rfl rfl)
theorem dX6_line_164 : decode cX6_line 164 = .ok (.putfield 157, 3) := dk_181 0 157 (dk_at dksX6_line_7 2 rfl rfl)
theorem dX6_line_167 : decode cX6_line 167 = .ok (.goto 8, 3) := dk_167 0 8 (dk_at dksX6_line_7 5 rfl rfl)
theorem dX6_line_170 : decode cX6_line 170 = .ok (.aload_n 0, 1) := dk_42 (dk_at dksX6_line_7 8 rfl rfl)
theorem dX6_line_171 : decode cX6_line 171 = .ok (.iload_n 1, 1) := dk_27 (dk_at dksX6_line_7 9 rfl rfl)
theorem dX6_line_172 : decode cX6_line 172 = .ok (.invokevirtual 160, 3) := dk_182 0 160 (dk_at dksX6_line_7 10 rfl rfl)
theorem dX6_line_175 : decode cX6_line 175 = .ok (.aload_n 0, 1) := dk_42 (dk_at dksX6_line_7 13 rfl rfl)
theorem dX6_line_176 : decode cX6_line 176 = .ok (.aload_n 0, 1) := dk_42 (dk_at dksX6_line_7 14 rfl rfl)
theorem dX6_line_177 : decode cX6_line 177 = .ok (.getfield 50, 3) := dk_180 0 50 (dk_at dksX6_line_7 15 rfl rfl)
theorem dX6_line_180 : decode cX6_line 180 = .ok (.iconst 3, 1) := dk_6 (dk_at dksX6_line_7 18 rfl rfl)
theorem dX6_line_181 : decode cX6_line 181 = .ok (.if_icmp .ne 16, 3) := dk_160 0 16 (dk_at dksX6_line_7 19 rfl rfl)
theorem dX6_line_184 : decode cX6_line 184 = .ok (.aload_n 0, 1) := dk_42 (dk_at dksX6_line_7 22 rfl rfl)
theorem dX6_line_185 : decode cX6_line 185 = .ok (.getfield 70, 3) := dk_180 0 70 (dk_at dksX6_line_8 0 rfl rfl)
theorem dX6_line_188 : decode cX6_line 188 = .ok (.bipush 59, 2) := dk_16 59 (dk_at dksX6_line_8 3 rfl rfl)
theorem dX6_line_190 : decode cX6_line 190 = .ok (.if_icmp .ne 7, 3) := dk_160 0 7 (dk_at dksX6_line_8 5 rfl rfl)
theorem dX6_line_193 : decode cX6_line 193 = .ok (.iconst 1, 1) := dk_4 (dk_at dksX6_line_8 8 rfl rfl)
theorem dX6_line_194 : decode cX6_line 194 = .ok (.goto 4, 3) := dk_167 0 4 (dk_at dksX6_line_8 9 rfl rfl)
theorem dX6_line_197 : decode cX6_line 197 = .ok (.iconst 0, 1) := dk_3 (dk_at dksX6_line_8 12 rfl rfl)
theorem dX6_line_198 : decode cX6_line 198 = .ok (.iconst 2, 1) := dk_5 (dk_at dksX6_line_8 13 rfl rfl)
theorem dX6_line_199 : decode cX6_line 199 = .ok (.invokevirtual 85, 3) := dk_182 0 85 (dk_at dksX6_line_8 14 rfl rfl)
theorem dX6_line_202 : decode cX6_line 202 = .ok (.aload_n 0, 1) := dk_42 (dk_at dksX6_line_8 17 rfl rfl)
theorem dX6_line_203 : decode cX6_line 203 = .ok (.dup, 1) := dk_89 (dk_at dksX6_line_8 18 rfl rfl)
theorem dX6_line_204 : decode cX6_line 204 = .ok (.getfield 164, 3) := dk_180 0 164 (dk_at dksX6_line_8 19 rfl rfl)
theorem dX6_line_207 : decode cX6_line 207 = .ok (.iconst 1, 1) := dk_4 (dk_at dksX6_line_8 22 rfl rfl)
theorem dX6_line_208 : decode cX6_line 208 = .ok (.iadd, 1) := dk_96 (dk_at dksX6_line_8 23 rfl rfl)
theorem dX6_line_209 : decode cX6_line 209 = .ok (.putfield 164, 3) := dk_181 0 164 (dk_at dksX6_line_9 0 rfl rfl)
theorem dX6_line_212 : decode cX6_line 212 = .ok (.aload_n 0, 1) := dk_42 (dk_at dksX6_line_9 3 rfl rfl)
theorem dX6_line_213 : decode cX6_line 213 = .ok (.invokevirtual 38, 3) := dk_182 0 38 (dk_at dksX6_line_9 4 rfl rfl)
theorem dX6_line_216 : decode cX6_line 216 = .ok (.return_, 1) := dk_177 (dk_at dksX6_line_9 7 rfl rfl)
abbrev cX6_which : ByteArray := prog_9_method_8_code
def yX6_which : MethodName := ⟨RX6, "which", "([Ljava/lang/String;)I"⟩
def dkwX6_which_1 : List UInt8 := [28, 172]
abbrev dktX6_which_1 : List UInt8 := dkwX6_which_1 ++ []
def dkwX6_which_0 : List UInt8 := [3, 61, 28, 43, 190, 162, 0, 19, 42, 43, 28, 50, 182, 0, 91, 154, 0, 9, 132, 2, 1, 167, 255, 237]
abbrev dktX6_which_0 : List UInt8 := dkwX6_which_0 ++ dktX6_which_1
theorem dksX6_which_0 : cX6_which.data.toList.drop 0 = dktX6_which_0 := by decide +kernel
theorem dksX6_which_1 : cX6_which.data.toList.drop 24 = dktX6_which_1 := dk_seg dksX6_which_0 24 rfl rfl
theorem dX6_which_0 : decode cX6_which 0 = .ok (.iconst 0, 1) := dk_3 (dk_at dksX6_which_0 0 rfl rfl)
theorem dX6_which_1 : decode cX6_which 1 = .ok (.istore_n 2, 1) := dk_61 (dk_at dksX6_which_0 1 rfl rfl)
theorem dX6_which_2 : decode cX6_which 2 = .ok (.iload_n 2, 1) := dk_28 (dk_at dksX6_which_0 2 rfl rfl)
theorem dX6_which_3 : decode cX6_which 3 = .ok (.aload_n 1, 1) := dk_43 (dk_at dksX6_which_0 3 rfl rfl)
theorem dX6_which_4 : decode cX6_which 4 = .ok (.arraylength, 1) := dk_190 (dk_at dksX6_which_0 4 rfl rfl)
theorem dX6_which_5 : decode cX6_which 5 = .ok (.if_icmp .ge 19, 3) := dk_162 0 19 (dk_at dksX6_which_0 5 rfl rfl)
theorem dX6_which_8 : decode cX6_which 8 = .ok (.aload_n 0, 1) := dk_42 (dk_at dksX6_which_0 8 rfl rfl)
theorem dX6_which_9 : decode cX6_which 9 = .ok (.aload_n 1, 1) := dk_43 (dk_at dksX6_which_0 9 rfl rfl)
theorem dX6_which_10 : decode cX6_which 10 = .ok (.iload_n 2, 1) := dk_28 (dk_at dksX6_which_0 10 rfl rfl)
theorem dX6_which_11 : decode cX6_which 11 = .ok (.aaload, 1) := dk_50 (dk_at dksX6_which_0 11 rfl rfl)
theorem dX6_which_12 : decode cX6_which 12 = .ok (.invokevirtual 91, 3) := dk_182 0 91 (dk_at dksX6_which_0 12 rfl rfl)
theorem dX6_which_15 : decode cX6_which 15 = .ok (.ifCond .ne 9, 3) := dk_154 0 9 (dk_at dksX6_which_0 15 rfl rfl)
theorem dX6_which_18 : decode cX6_which 18 = .ok (.iinc 2 1, 3) := dk_132 2 1 (dk_at dksX6_which_0 18 rfl rfl)
theorem dX6_which_21 : decode cX6_which 21 = .ok (.goto (-19), 3) := dk_167 255 237 (dk_at dksX6_which_0 21 rfl rfl)
theorem dX6_which_24 : decode cX6_which 24 = .ok (.iload_n 2, 1) := dk_28 (dk_at dksX6_which_1 0 rfl rfl)
theorem dX6_which_25 : decode cX6_which 25 = .ok (.ireturn, 1) := dk_172 (dk_at dksX6_which_1 1 rfl rfl)
abbrev cX6_isWord : ByteArray := prog_9_method_4_code
def yX6_isWord : MethodName := ⟨RX6, "isWord", "(Ljava/lang/String;)Z"⟩
def dkwX6_isWord_3 : List UInt8 := [132, 3, 1, 167, 255, 217, 28, 172]
abbrev dktX6_isWord_3 : List UInt8 := dkwX6_isWord_3 ++ []
def dkwX6_isWord_2 : List UInt8 := [182, 0, 62, 42, 42, 180, 0, 43, 29, 96, 182, 0, 66, 160, 0, 7, 4, 167, 0, 4, 3, 61]
abbrev dktX6_isWord_2 : List UInt8 := dkwX6_isWord_2 ++ dktX6_isWord_3
def dkwX6_isWord_1 : List UInt8 := [4, 167, 0, 4, 3, 61, 3, 62, 29, 43, 182, 0, 53, 162, 0, 37, 28, 153, 0, 33, 43, 29]
abbrev dktX6_isWord_1 : List UInt8 := dkwX6_isWord_1 ++ dktX6_isWord_2
def dkwX6_isWord_0 : List UInt8 := [42, 180, 0, 50, 4, 160, 0, 23, 43, 182, 0, 53, 42, 180, 0, 59, 42, 180, 0, 43, 100, 160, 0, 7]
abbrev dktX6_isWord_0 : List UInt8 := dkwX6_isWord_0 ++ dktX6_isWord_1
theorem dksX6_isWord_0 : cX6_isWord.data.toList.drop 0 = dktX6_isWord_0 := by decide +kernel
theorem dksX6_isWord_1 : cX6_isWord.data.toList.drop 24 = dktX6_isWord_1 := dk_seg dksX6_isWord_0 24 rfl rfl
theorem dksX6_isWord_2 : cX6_isWord.data.toList.drop 46 = dktX6_isWord_2 := dk_seg dksX6_isWord_1 22 rfl rfl
theorem dksX6_isWord_3 : cX6_isWord.data.toList.drop 68 = dktX6_isWord_3 := dk_seg dksX6_isWord_2 22 rfl rfl
theorem dX6_isWord_0 : decode cX6_isWord 0 = .ok (.aload_n 0, 1) := dk_42 (dk_at dksX6_isWord_0 0 rfl rfl)
theorem dX6_isWord_1 : decode cX6_isWord 1 = .ok (.getfield 50, 3) := dk_180 0 50 (dk_at dksX6_isWord_0 1 rfl rfl)
theorem dX6_isWord_4 : decode cX6_isWord 4 = .ok (.iconst 1, 1) := dk_4 (dk_at dksX6_isWord_0 4 rfl rfl)
theorem dX6_isWord_5 : decode cX6_isWord 5 = .ok (.if_icmp .ne 23, 3) := dk_160 0 23 (dk_at dksX6_isWord_0 5 rfl rfl)
theorem dX6_isWord_8 : decode cX6_isWord 8 = .ok (.aload_n 1, 1) := dk_43 (dk_at dksX6_isWord_0 8 rfl rfl)
theorem dX6_isWord_9 : decode cX6_isWord 9 = .ok (.invokevirtual 53, 3) := dk_182 0 53 (dk_at dksX6_isWord_0 9 rfl rfl)
theorem dX6_isWord_12 : decode cX6_isWord 12 = .ok (.aload_n 0, 1) := dk_42 (dk_at dksX6_isWord_0 12 rfl rfl)
theorem dX6_isWord_13 : decode cX6_isWord 13 = .ok (.getfield 59, 3) := dk_180 0 59 (dk_at dksX6_isWord_0 13 rfl rfl)
theorem dX6_isWord_16 : decode cX6_isWord 16 = .ok (.aload_n 0, 1) := dk_42 (dk_at dksX6_isWord_0 16 rfl rfl)
theorem dX6_isWord_17 : decode cX6_isWord 17 = .ok (.getfield 43, 3) := dk_180 0 43 (dk_at dksX6_isWord_0 17 rfl rfl)
theorem dX6_isWord_20 : decode cX6_isWord 20 = .ok (.isub, 1) := dk_100 (dk_at dksX6_isWord_0 20 rfl rfl)
theorem dX6_isWord_21 : decode cX6_isWord 21 = .ok (.if_icmp .ne 7, 3) := dk_160 0 7 (dk_at dksX6_isWord_0 21 rfl rfl)
theorem dX6_isWord_24 : decode cX6_isWord 24 = .ok (.iconst 1, 1) := dk_4 (dk_at dksX6_isWord_1 0 rfl rfl)
theorem dX6_isWord_25 : decode cX6_isWord 25 = .ok (.goto 4, 3) := dk_167 0 4 (dk_at dksX6_isWord_1 1 rfl rfl)
theorem dX6_isWord_28 : decode cX6_isWord 28 = .ok (.iconst 0, 1) := dk_3 (dk_at dksX6_isWord_1 4 rfl rfl)
theorem dX6_isWord_29 : decode cX6_isWord 29 = .ok (.istore_n 2, 1) := dk_61 (dk_at dksX6_isWord_1 5 rfl rfl)
theorem dX6_isWord_30 : decode cX6_isWord 30 = .ok (.iconst 0, 1) := dk_3 (dk_at dksX6_isWord_1 6 rfl rfl)
theorem dX6_isWord_31 : decode cX6_isWord 31 = .ok (.istore_n 3, 1) := dk_62 (dk_at dksX6_isWord_1 7 rfl rfl)
theorem dX6_isWord_32 : decode cX6_isWord 32 = .ok (.iload_n 3, 1) := dk_29 (dk_at dksX6_isWord_1 8 rfl rfl)
theorem dX6_isWord_33 : decode cX6_isWord 33 = .ok (.aload_n 1, 1) := dk_43 (dk_at dksX6_isWord_1 9 rfl rfl)
theorem dX6_isWord_34 : decode cX6_isWord 34 = .ok (.invokevirtual 53, 3) := dk_182 0 53 (dk_at dksX6_isWord_1 10 rfl rfl)
theorem dX6_isWord_37 : decode cX6_isWord 37 = .ok (.if_icmp .ge 37, 3) := dk_162 0 37 (dk_at dksX6_isWord_1 13 rfl rfl)
theorem dX6_isWord_40 : decode cX6_isWord 40 = .ok (.iload_n 2, 1) := dk_28 (dk_at dksX6_isWord_1 16 rfl rfl)
theorem dX6_isWord_41 : decode cX6_isWord 41 = .ok (.ifCond .eq 33, 3) := dk_153 0 33 (dk_at dksX6_isWord_1 17 rfl rfl)
theorem dX6_isWord_44 : decode cX6_isWord 44 = .ok (.aload_n 1, 1) := dk_43 (dk_at dksX6_isWord_1 20 rfl rfl)
theorem dX6_isWord_45 : decode cX6_isWord 45 = .ok (.iload_n 3, 1) := dk_29 (dk_at dksX6_isWord_1 21 rfl rfl)
theorem dX6_isWord_46 : decode cX6_isWord 46 = .ok (.invokevirtual 62, 3) := dk_182 0 62 (dk_at dksX6_isWord_2 0 rfl rfl)
theorem dX6_isWord_49 : decode cX6_isWord 49 = .ok (.aload_n 0, 1) := dk_42 (dk_at dksX6_isWord_2 3 rfl rfl)
theorem dX6_isWord_50 : decode cX6_isWord 50 = .ok (.aload_n 0, 1) := dk_42 (dk_at dksX6_isWord_2 4 rfl rfl)
theorem dX6_isWord_51 : decode cX6_isWord 51 = .ok (.getfield 43, 3) := dk_180 0 43 (dk_at dksX6_isWord_2 5 rfl rfl)
theorem dX6_isWord_54 : decode cX6_isWord 54 = .ok (.iload_n 3, 1) := dk_29 (dk_at dksX6_isWord_2 8 rfl rfl)
theorem dX6_isWord_55 : decode cX6_isWord 55 = .ok (.iadd, 1) := dk_96 (dk_at dksX6_isWord_2 9 rfl rfl)
theorem dX6_isWord_56 : decode cX6_isWord 56 = .ok (.invokevirtual 66, 3) := dk_182 0 66 (dk_at dksX6_isWord_2 10 rfl rfl)
theorem dX6_isWord_59 : decode cX6_isWord 59 = .ok (.if_icmp .ne 7, 3) := dk_160 0 7 (dk_at dksX6_isWord_2 13 rfl rfl)
theorem dX6_isWord_62 : decode cX6_isWord 62 = .ok (.iconst 1, 1) := dk_4 (dk_at dksX6_isWord_2 16 rfl rfl)
theorem dX6_isWord_63 : decode cX6_isWord 63 = .ok (.goto 4, 3) := dk_167 0 4 (dk_at dksX6_isWord_2 17 rfl rfl)
theorem dX6_isWord_66 : decode cX6_isWord 66 = .ok (.iconst 0, 1) := dk_3 (dk_at dksX6_isWord_2 20 rfl rfl)
theorem dX6_isWord_67 : decode cX6_isWord 67 = .ok (.istore_n 2, 1) := dk_61 (dk_at dksX6_isWord_2 21 rfl rfl)
theorem dX6_isWord_68 : decode cX6_isWord 68 = .ok (.iinc 3 1, 3) := dk_132 3 1 (dk_at dksX6_isWord_3 0 rfl rfl)
theorem dX6_isWord_71 : decode cX6_isWord 71 = .ok (.goto (-39), 3) := dk_167 255 217 (dk_at dksX6_isWord_3 3 rfl rfl)
theorem dX6_isWord_74 : decode cX6_isWord 74 = .ok (.iload_n 2, 1) := dk_28 (dk_at dksX6_isWord_3 6 rfl rfl)
theorem dX6_isWord_75 : decode cX6_isWord 75 = .ok (.ireturn, 1) := dk_172 (dk_at dksX6_isWord_3 7 rfl rfl)
abbrev cX6_letters : ByteArray := prog_9_method_7_code
def yX6_letters : MethodName := ⟨RX6, "letters", "(I)I"⟩
def dkwX6_letters_4 : List UInt8 := [4, 21, 4, 120, 128, 61, 132, 3, 1, 167, 255, 194, 42, 182, 0, 38, 28, 172]
abbrev dktX6_letters_4 : List UInt8 := dkwX6_letters_4 ++ []
def dkwX6_letters_3 : List UInt8 := [153, 0, 18, 28, 27, 128, 21, 4, 122, 4, 126, 154, 0, 7, 4, 167, 0, 4, 3, 6, 182, 0, 85, 28]
abbrev dktX6_letters_3 : List UInt8 := dkwX6_letters_3 ++ dktX6_letters_4
def dkwX6_letters_2 : List UInt8 := [162, 0, 60, 42, 29, 182, 0, 66, 16, 97, 100, 54, 4, 42, 21, 4, 133, 9, 20, 0, 89, 184, 0, 77]
abbrev dktX6_letters_2 : List UInt8 := dkwX6_letters_2 ++ dktX6_letters_3
def dkwX6_letters_1 : List UInt8 := [4, 160, 0, 7, 4, 167, 0, 4, 3, 5, 182, 0, 85, 42, 180, 0, 43, 62, 29, 42, 180, 0, 59]
abbrev dktX6_letters_1 : List UInt8 := dkwX6_letters_1 ++ dktX6_letters_2
def dkwX6_letters_0 : List UInt8 := [3, 61, 42, 180, 0, 50, 6, 160, 0, 12, 42, 180, 0, 70, 16, 45, 159, 0, 91, 42, 42, 180, 0, 50]
abbrev dktX6_letters_0 : List UInt8 := dkwX6_letters_0 ++ dktX6_letters_1
theorem dksX6_letters_0 : cX6_letters.data.toList.drop 0 = dktX6_letters_0 := by decide +kernel
theorem dksX6_letters_1 : cX6_letters.data.toList.drop 24 = dktX6_letters_1 := dk_seg dksX6_letters_0 24 rfl rfl
theorem dksX6_letters_2 : cX6_letters.data.toList.drop 47 = dktX6_letters_2 := dk_seg dksX6_letters_1 23 rfl rfl
theorem dksX6_letters_3 : cX6_letters.data.toList.drop 71 = dktX6_letters_3 := dk_seg dksX6_letters_2 24 rfl rfl
theorem dksX6_letters_4 : cX6_letters.data.toList.drop 95 = dktX6_letters_4 := dk_seg dksX6_letters_3 24 rfl rfl
theorem dX6_letters_0 : decode cX6_letters 0 = .ok (.iconst 0, 1) := dk_3 (dk_at dksX6_letters_0 0 rfl rfl)
theorem dX6_letters_1 : decode cX6_letters 1 = .ok (.istore_n 2, 1) := dk_61 (dk_at dksX6_letters_0 1 rfl rfl)
theorem dX6_letters_2 : decode cX6_letters 2 = .ok (.aload_n 0, 1) := dk_42 (dk_at dksX6_letters_0 2 rfl rfl)
theorem dX6_letters_3 : decode cX6_letters 3 = .ok (.getfield 50, 3) := dk_180 0 50 (dk_at dksX6_letters_0 3 rfl rfl)
theorem dX6_letters_6 : decode cX6_letters 6 = .ok (.iconst 3, 1) := dk_6 (dk_at dksX6_letters_0 6 rfl rfl)
theorem dX6_letters_7 : decode cX6_letters 7 = .ok (.if_icmp .ne 12, 3) := dk_160 0 12 (dk_at dksX6_letters_0 7 rfl rfl)
theorem dX6_letters_10 : decode cX6_letters 10 = .ok (.aload_n 0, 1) := dk_42 (dk_at dksX6_letters_0 10 rfl rfl)
theorem dX6_letters_11 : decode cX6_letters 11 = .ok (.getfield 70, 3) := dk_180 0 70 (dk_at dksX6_letters_0 11 rfl rfl)
theorem dX6_letters_14 : decode cX6_letters 14 = .ok (.bipush 45, 2) := dk_16 45 (dk_at dksX6_letters_0 14 rfl rfl)
theorem dX6_letters_16 : decode cX6_letters 16 = .ok (.if_icmp .eq 91, 3) := dk_159 0 91 (dk_at dksX6_letters_0 16 rfl rfl)
theorem dX6_letters_19 : decode cX6_letters 19 = .ok (.aload_n 0, 1) := dk_42 (dk_at dksX6_letters_0 19 rfl rfl)
theorem dX6_letters_20 : decode cX6_letters 20 = .ok (.aload_n 0, 1) := dk_42 (dk_at dksX6_letters_0 20 rfl rfl)
theorem dX6_letters_21 : decode cX6_letters 21 = .ok (.getfield 50, 3) := dk_180 0 50 (dk_at dksX6_letters_0 21 rfl rfl)
theorem dX6_letters_24 : decode cX6_letters 24 = .ok (.iconst 1, 1) := dk_4 (dk_at dksX6_letters_1 0 rfl rfl)
theorem dX6_letters_25 : decode cX6_letters 25 = .ok (.if_icmp .ne 7, 3) := dk_160 0 7 (dk_at dksX6_letters_1 1 rfl rfl)
theorem dX6_letters_28 : decode cX6_letters 28 = .ok (.iconst 1, 1) := dk_4 (dk_at dksX6_letters_1 4 rfl rfl)
theorem dX6_letters_29 : decode cX6_letters 29 = .ok (.goto 4, 3) := dk_167 0 4 (dk_at dksX6_letters_1 5 rfl rfl)
theorem dX6_letters_32 : decode cX6_letters 32 = .ok (.iconst 0, 1) := dk_3 (dk_at dksX6_letters_1 8 rfl rfl)
theorem dX6_letters_33 : decode cX6_letters 33 = .ok (.iconst 2, 1) := dk_5 (dk_at dksX6_letters_1 9 rfl rfl)
theorem dX6_letters_34 : decode cX6_letters 34 = .ok (.invokevirtual 85, 3) := dk_182 0 85 (dk_at dksX6_letters_1 10 rfl rfl)
theorem dX6_letters_37 : decode cX6_letters 37 = .ok (.aload_n 0, 1) := dk_42 (dk_at dksX6_letters_1 13 rfl rfl)
theorem dX6_letters_38 : decode cX6_letters 38 = .ok (.getfield 43, 3) := dk_180 0 43 (dk_at dksX6_letters_1 14 rfl rfl)
theorem dX6_letters_41 : decode cX6_letters 41 = .ok (.istore_n 3, 1) := dk_62 (dk_at dksX6_letters_1 17 rfl rfl)
theorem dX6_letters_42 : decode cX6_letters 42 = .ok (.iload_n 3, 1) := dk_29 (dk_at dksX6_letters_1 18 rfl rfl)
theorem dX6_letters_43 : decode cX6_letters 43 = .ok (.aload_n 0, 1) := dk_42 (dk_at dksX6_letters_1 19 rfl rfl)
theorem dX6_letters_44 : decode cX6_letters 44 = .ok (.getfield 59, 3) := dk_180 0 59 (dk_at dksX6_letters_1 20 rfl rfl)
theorem dX6_letters_47 : decode cX6_letters 47 = .ok (.if_icmp .ge 60, 3) := dk_162 0 60 (dk_at dksX6_letters_2 0 rfl rfl)
theorem dX6_letters_50 : decode cX6_letters 50 = .ok (.aload_n 0, 1) := dk_42 (dk_at dksX6_letters_2 3 rfl rfl)
theorem dX6_letters_51 : decode cX6_letters 51 = .ok (.iload_n 3, 1) := dk_29 (dk_at dksX6_letters_2 4 rfl rfl)
theorem dX6_letters_52 : decode cX6_letters 52 = .ok (.invokevirtual 66, 3) := dk_182 0 66 (dk_at dksX6_letters_2 5 rfl rfl)
theorem dX6_letters_55 : decode cX6_letters 55 = .ok (.bipush 97, 2) := dk_16 97 (dk_at dksX6_letters_2 8 rfl rfl)
theorem dX6_letters_57 : decode cX6_letters 57 = .ok (.isub, 1) := dk_100 (dk_at dksX6_letters_2 10 rfl rfl)
theorem dX6_letters_58 : decode cX6_letters 58 = .ok (.istore 4, 2) := dk_54 4 (dk_at dksX6_letters_2 11 rfl rfl)
theorem dX6_letters_60 : decode cX6_letters 60 = .ok (.aload_n 0, 1) := dk_42 (dk_at dksX6_letters_2 13 rfl rfl)
theorem dX6_letters_61 : decode cX6_letters 61 = .ok (.iload 4, 2) := dk_21 4 (dk_at dksX6_letters_2 14 rfl rfl)
theorem dX6_letters_63 : decode cX6_letters 63 = .ok (.i2l, 1) := dk_133 (dk_at dksX6_letters_2 16 rfl rfl)
theorem dX6_letters_64 : decode cX6_letters 64 = .ok (.lconst 0, 1) := dk_9 (dk_at dksX6_letters_2 17 rfl rfl)
theorem dX6_letters_65 : decode cX6_letters 65 = .ok (.ldc2_w 89, 3) := dk_20 0 89 (dk_at dksX6_letters_2 18 rfl rfl)
theorem dX6_letters_68 : decode cX6_letters 68 = .ok (.invokestatic 77, 3) := dk_184 0 77 (dk_at dksX6_letters_2 21 rfl rfl)
theorem dX6_letters_71 : decode cX6_letters 71 = .ok (.ifCond .eq 18, 3) := dk_153 0 18 (dk_at dksX6_letters_3 0 rfl rfl)
theorem dX6_letters_74 : decode cX6_letters 74 = .ok (.iload_n 2, 1) := dk_28 (dk_at dksX6_letters_3 3 rfl rfl)
theorem dX6_letters_75 : decode cX6_letters 75 = .ok (.iload_n 1, 1) := dk_27 (dk_at dksX6_letters_3 4 rfl rfl)
theorem dX6_letters_76 : decode cX6_letters 76 = .ok (.ior, 1) := dk_128 (dk_at dksX6_letters_3 5 rfl rfl)
theorem dX6_letters_77 : decode cX6_letters 77 = .ok (.iload 4, 2) := dk_21 4 (dk_at dksX6_letters_3 6 rfl rfl)
theorem dX6_letters_79 : decode cX6_letters 79 = .ok (.ishr, 1) := dk_122 (dk_at dksX6_letters_3 8 rfl rfl)
theorem dX6_letters_80 : decode cX6_letters 80 = .ok (.iconst 1, 1) := dk_4 (dk_at dksX6_letters_3 9 rfl rfl)
theorem dX6_letters_81 : decode cX6_letters 81 = .ok (.iand, 1) := dk_126 (dk_at dksX6_letters_3 10 rfl rfl)
theorem dX6_letters_82 : decode cX6_letters 82 = .ok (.ifCond .ne 7, 3) := dk_154 0 7 (dk_at dksX6_letters_3 11 rfl rfl)
theorem dX6_letters_85 : decode cX6_letters 85 = .ok (.iconst 1, 1) := dk_4 (dk_at dksX6_letters_3 14 rfl rfl)
theorem dX6_letters_86 : decode cX6_letters 86 = .ok (.goto 4, 3) := dk_167 0 4 (dk_at dksX6_letters_3 15 rfl rfl)
theorem dX6_letters_89 : decode cX6_letters 89 = .ok (.iconst 0, 1) := dk_3 (dk_at dksX6_letters_3 18 rfl rfl)
theorem dX6_letters_90 : decode cX6_letters 90 = .ok (.iconst 3, 1) := dk_6 (dk_at dksX6_letters_3 19 rfl rfl)
theorem dX6_letters_91 : decode cX6_letters 91 = .ok (.invokevirtual 85, 3) := dk_182 0 85 (dk_at dksX6_letters_3 20 rfl rfl)
theorem dX6_letters_94 : decode cX6_letters 94 = .ok (.iload_n 2, 1) := dk_28 (dk_at dksX6_letters_3 23 rfl rfl)
theorem dX6_letters_95 : decode cX6_letters 95 = .ok (.iconst 1, 1) := dk_4 (dk_at dksX6_letters_4 0 rfl rfl)
theorem dX6_letters_96 : decode cX6_letters 96 = .ok (.iload 4, 2) := dk_21 4 (dk_at dksX6_letters_4 1 rfl rfl)
theorem dX6_letters_98 : decode cX6_letters 98 = .ok (.ishl, 1) := dk_120 (dk_at dksX6_letters_4 3 rfl rfl)
theorem dX6_letters_99 : decode cX6_letters 99 = .ok (.ior, 1) := dk_128 (dk_at dksX6_letters_4 4 rfl rfl)
theorem dX6_letters_100 : decode cX6_letters 100 = .ok (.istore_n 2, 1) := dk_61 (dk_at dksX6_letters_4 5 rfl rfl)
theorem dX6_letters_101 : decode cX6_letters 101 = .ok (.iinc 3 1, 3) := dk_132 3 1 (dk_at dksX6_letters_4 6 rfl rfl)
theorem dX6_letters_104 : decode cX6_letters 104 = .ok (.goto (-62), 3) := dk_167 255 194 (dk_at dksX6_letters_4 9 rfl rfl)
theorem dX6_letters_107 : decode cX6_letters 107 = .ok (.aload_n 0, 1) := dk_42 (dk_at dksX6_letters_4 12 rfl rfl)
theorem dX6_letters_108 : decode cX6_letters 108 = .ok (.invokevirtual 38, 3) := dk_182 0 38 (dk_at dksX6_letters_4 13 rfl rfl)
theorem dX6_letters_111 : decode cX6_letters 111 = .ok (.iload_n 2, 1) := dk_28 (dk_at dksX6_letters_4 16 rfl rfl)
theorem dX6_letters_112 : decode cX6_letters 112 = .ok (.ireturn, 1) := dk_172 (dk_at dksX6_letters_4 17 rfl rfl)
abbrev cX6_meaning : ByteArray := prog_9_method_11_code
def yX6_meaning : MethodName := ⟨RX6, "meaning", "()V"⟩
def dkwX6_meaning_3 : List UInt8 := [180, 0, 145, 4, 96, 181, 0, 145, 177]
abbrev dktX6_meaning_3 : List UInt8 := dkwX6_meaning_3 ++ []
def dkwX6_meaning_2 : List UInt8 := [182, 0, 95, 61, 42, 180, 0, 21, 42, 180, 0, 145, 187, 0, 19, 89, 27, 28, 183, 0, 150, 83, 42, 89]
abbrev dktX6_meaning_2 : List UInt8 := dkwX6_meaning_2 ++ dktX6_meaning_3
def dkwX6_meaning_1 : List UInt8 := [3, 182, 0, 95, 60, 3, 61, 42, 18, 148, 182, 0, 91, 153, 0, 13, 42, 182, 0, 38, 42, 27]
abbrev dktX6_meaning_1 : List UInt8 := dkwX6_meaning_1 ++ dktX6_meaning_2
def dkwX6_meaning_0 : List UInt8 := [42, 42, 180, 0, 145, 16, 12, 162, 0, 7, 4, 167, 0, 4, 3, 8, 182, 0, 85, 42, 182, 0, 38, 42]
abbrev dktX6_meaning_0 : List UInt8 := dkwX6_meaning_0 ++ dktX6_meaning_1
theorem dksX6_meaning_0 : cX6_meaning.data.toList.drop 0 = dktX6_meaning_0 := by decide +kernel
theorem dksX6_meaning_1 : cX6_meaning.data.toList.drop 24 = dktX6_meaning_1 := dk_seg dksX6_meaning_0 24 rfl rfl
theorem dksX6_meaning_2 : cX6_meaning.data.toList.drop 46 = dktX6_meaning_2 := dk_seg dksX6_meaning_1 22 rfl rfl
theorem dksX6_meaning_3 : cX6_meaning.data.toList.drop 70 = dktX6_meaning_3 := dk_seg dksX6_meaning_2 24 rfl rfl
theorem dX6_meaning_0 : decode cX6_meaning 0 = .ok (.aload_n 0, 1) := dk_42 (dk_at dksX6_meaning_0 0 rfl rfl)
theorem dX6_meaning_1 : decode cX6_meaning 1 = .ok (.aload_n 0, 1) := dk_42 (dk_at dksX6_meaning_0 1 rfl rfl)
theorem dX6_meaning_2 : decode cX6_meaning 2 = .ok (.getfield 145, 3) := dk_180 0 145 (dk_at dksX6_meaning_0 2 rfl rfl)
theorem dX6_meaning_5 : decode cX6_meaning 5 = .ok (.bipush 12, 2) := dk_16 12 (dk_at dksX6_meaning_0 5 rfl rfl)
theorem dX6_meaning_7 : decode cX6_meaning 7 = .ok (.if_icmp .ge 7, 3) := dk_162 0 7 (dk_at dksX6_meaning_0 7 rfl rfl)
theorem dX6_meaning_10 : decode cX6_meaning 10 = .ok (.iconst 1, 1) := dk_4 (dk_at dksX6_meaning_0 10 rfl rfl)
theorem dX6_meaning_11 : decode cX6_meaning 11 = .ok (.goto 4, 3) := dk_167 0 4 (dk_at dksX6_meaning_0 11 rfl rfl)
theorem dX6_meaning_14 : decode cX6_meaning 14 = .ok (.iconst 0, 1) := dk_3 (dk_at dksX6_meaning_0 14 rfl rfl)
theorem dX6_meaning_15 : decode cX6_meaning 15 = .ok (.iconst 5, 1) := dk_8 (dk_at dksX6_meaning_0 15 rfl rfl)
theorem dX6_meaning_16 : decode cX6_meaning 16 = .ok (.invokevirtual 85, 3) := dk_182 0 85 (dk_at dksX6_meaning_0 16 rfl rfl)
theorem dX6_meaning_19 : decode cX6_meaning 19 = .ok (.aload_n 0, 1) := dk_42 (dk_at dksX6_meaning_0 19 rfl rfl)
theorem dX6_meaning_20 : decode cX6_meaning 20 = .ok (.invokevirtual 38, 3) := dk_182 0 38 (dk_at dksX6_meaning_0 20 rfl rfl)
theorem dX6_meaning_23 : decode cX6_meaning 23 = .ok (.aload_n 0, 1) := dk_42 (dk_at dksX6_meaning_0 23 rfl rfl)
theorem dX6_meaning_24 : decode cX6_meaning 24 = .ok (.iconst 0, 1) := dk_3 (dk_at dksX6_meaning_1 0 rfl rfl)
theorem dX6_meaning_25 : decode cX6_meaning 25 = .ok (.invokevirtual 95, 3) := dk_182 0 95 (dk_at dksX6_meaning_1 1 rfl rfl)
theorem dX6_meaning_28 : decode cX6_meaning 28 = .ok (.istore_n 1, 1) := dk_60 (dk_at dksX6_meaning_1 4 rfl rfl)
theorem dX6_meaning_29 : decode cX6_meaning 29 = .ok (.iconst 0, 1) := dk_3 (dk_at dksX6_meaning_1 5 rfl rfl)
theorem dX6_meaning_30 : decode cX6_meaning 30 = .ok (.istore_n 2, 1) := dk_61 (dk_at dksX6_meaning_1 6 rfl rfl)
theorem dX6_meaning_31 : decode cX6_meaning 31 = .ok (.aload_n 0, 1) := dk_42 (dk_at dksX6_meaning_1 7 rfl rfl)
theorem dX6_meaning_32 : decode cX6_meaning 32 = .ok (.ldc 148, 2) := dk_18 148 (dk_at dksX6_meaning_1 8 rfl rfl)
theorem dX6_meaning_34 : decode cX6_meaning 34 = .ok (.invokevirtual 91, 3) := dk_182 0 91 (dk_at dksX6_meaning_1 10 rfl rfl)
theorem dX6_meaning_37 : decode cX6_meaning 37 = .ok (.ifCond .eq 13, 3) := dk_153 0 13 (dk_at dksX6_meaning_1 13 rfl rfl)
theorem dX6_meaning_40 : decode cX6_meaning 40 = .ok (.aload_n 0, 1) := dk_42 (dk_at dksX6_meaning_1 16 rfl rfl)
theorem dX6_meaning_41 : decode cX6_meaning 41 = .ok (.invokevirtual 38, 3) := dk_182 0 38 (dk_at dksX6_meaning_1 17 rfl rfl)
theorem dX6_meaning_44 : decode cX6_meaning 44 = .ok (.aload_n 0, 1) := dk_42 (dk_at dksX6_meaning_1 20 rfl rfl)
theorem dX6_meaning_45 : decode cX6_meaning 45 = .ok (.iload_n 1, 1) := dk_27 (dk_at dksX6_meaning_1 21 rfl rfl)
theorem dX6_meaning_46 : decode cX6_meaning 46 = .ok (.invokevirtual 95, 3) := dk_182 0 95 (dk_at dksX6_meaning_2 0 rfl rfl)
theorem dX6_meaning_49 : decode cX6_meaning 49 = .ok (.istore_n 2, 1) := dk_61 (dk_at dksX6_meaning_2 3 rfl rfl)
theorem dX6_meaning_50 : decode cX6_meaning 50 = .ok (.aload_n 0, 1) := dk_42 (dk_at dksX6_meaning_2 4 rfl rfl)
theorem dX6_meaning_51 : decode cX6_meaning 51 = .ok (.getfield 21, 3) := dk_180 0 21 (dk_at dksX6_meaning_2 5 rfl rfl)
theorem dX6_meaning_54 : decode cX6_meaning 54 = .ok (.aload_n 0, 1) := dk_42 (dk_at dksX6_meaning_2 8 rfl rfl)
theorem dX6_meaning_55 : decode cX6_meaning 55 = .ok (.getfield 145, 3) := dk_180 0 145 (dk_at dksX6_meaning_2 9 rfl rfl)
theorem dX6_meaning_58 : decode cX6_meaning 58 = .ok (.new 19, 3) := dk_187 0 19 (dk_at dksX6_meaning_2 12 rfl rfl)
theorem dX6_meaning_61 : decode cX6_meaning 61 = .ok (.dup, 1) := dk_89 (dk_at dksX6_meaning_2 15 rfl rfl)
theorem dX6_meaning_62 : decode cX6_meaning 62 = .ok (.iload_n 1, 1) := dk_27 (dk_at dksX6_meaning_2 16 rfl rfl)
theorem dX6_meaning_63 : decode cX6_meaning 63 = .ok (.iload_n 2, 1) := dk_28 (dk_at dksX6_meaning_2 17 rfl rfl)
theorem dX6_meaning_64 : decode cX6_meaning 64 = .ok (.invokespecial 150, 3) := dk_183 0 150 (dk_at dksX6_meaning_2 18 rfl rfl)
theorem dX6_meaning_67 : decode cX6_meaning 67 = .ok (.aastore, 1) := dk_83 (dk_at dksX6_meaning_2 21 rfl rfl)
theorem dX6_meaning_68 : decode cX6_meaning 68 = .ok (.aload_n 0, 1) := dk_42 (dk_at dksX6_meaning_2 22 rfl rfl)
theorem dX6_meaning_69 : decode cX6_meaning 69 = .ok (.dup, 1) := dk_89 (dk_at dksX6_meaning_2 23 rfl rfl)
theorem dX6_meaning_70 : decode cX6_meaning 70 = .ok (.getfield 145, 3) := dk_180 0 145 (dk_at dksX6_meaning_3 0 rfl rfl)
theorem dX6_meaning_73 : decode cX6_meaning 73 = .ok (.iconst 1, 1) := dk_4 (dk_at dksX6_meaning_3 3 rfl rfl)
theorem dX6_meaning_74 : decode cX6_meaning 74 = .ok (.iadd, 1) := dk_96 (dk_at dksX6_meaning_3 4 rfl rfl)
theorem dX6_meaning_75 : decode cX6_meaning 75 = .ok (.putfield 145, 3) := dk_181 0 145 (dk_at dksX6_meaning_3 5 rfl rfl)
theorem dX6_meaning_78 : decode cX6_meaning 78 = .ok (.return_, 1) := dk_177 (dk_at dksX6_meaning_3 8 rfl rfl)
abbrev cX6_number : ByteArray := prog_9_method_6_code
def yX6_number : MethodName := ⟨RX6, "number", "(II)I"⟩
def dkwX6_number_1 : List UInt8 := [27, 133, 28, 133, 184, 0, 77, 6, 182, 0, 85, 42, 180, 0, 70, 62, 42, 182, 0, 38, 29, 172]
abbrev dktX6_number_1 : List UInt8 := dkwX6_number_1 ++ []
def dkwX6_number_0 : List UInt8 := [42, 42, 180, 0, 50, 5, 160, 0, 7, 4, 167, 0, 4, 3, 5, 182, 0, 85, 42, 42, 180, 0, 70, 133]
abbrev dktX6_number_0 : List UInt8 := dkwX6_number_0 ++ dktX6_number_1
theorem dksX6_number_0 : cX6_number.data.toList.drop 0 = dktX6_number_0 := by decide +kernel
theorem dksX6_number_1 : cX6_number.data.toList.drop 24 = dktX6_number_1 := dk_seg dksX6_number_0 24 rfl rfl
theorem dX6_number_0 : decode cX6_number 0 = .ok (.aload_n 0, 1) := dk_42 (dk_at dksX6_number_0 0 rfl rfl)
theorem dX6_number_1 : decode cX6_number 1 = .ok (.aload_n 0, 1) := dk_42 (dk_at dksX6_number_0 1 rfl rfl)
theorem dX6_number_2 : decode cX6_number 2 = .ok (.getfield 50, 3) := dk_180 0 50 (dk_at dksX6_number_0 2 rfl rfl)
theorem dX6_number_5 : decode cX6_number 5 = .ok (.iconst 2, 1) := dk_5 (dk_at dksX6_number_0 5 rfl rfl)
theorem dX6_number_6 : decode cX6_number 6 = .ok (.if_icmp .ne 7, 3) := dk_160 0 7 (dk_at dksX6_number_0 6 rfl rfl)
theorem dX6_number_9 : decode cX6_number 9 = .ok (.iconst 1, 1) := dk_4 (dk_at dksX6_number_0 9 rfl rfl)
theorem dX6_number_10 : decode cX6_number 10 = .ok (.goto 4, 3) := dk_167 0 4 (dk_at dksX6_number_0 10 rfl rfl)
theorem dX6_number_13 : decode cX6_number 13 = .ok (.iconst 0, 1) := dk_3 (dk_at dksX6_number_0 13 rfl rfl)
theorem dX6_number_14 : decode cX6_number 14 = .ok (.iconst 2, 1) := dk_5 (dk_at dksX6_number_0 14 rfl rfl)
theorem dX6_number_15 : decode cX6_number 15 = .ok (.invokevirtual 85, 3) := dk_182 0 85 (dk_at dksX6_number_0 15 rfl rfl)
theorem dX6_number_18 : decode cX6_number 18 = .ok (.aload_n 0, 1) := dk_42 (dk_at dksX6_number_0 18 rfl rfl)
theorem dX6_number_19 : decode cX6_number 19 = .ok (.aload_n 0, 1) := dk_42 (dk_at dksX6_number_0 19 rfl rfl)
theorem dX6_number_20 : decode cX6_number 20 = .ok (.getfield 70, 3) := dk_180 0 70 (dk_at dksX6_number_0 20 rfl rfl)
theorem dX6_number_23 : decode cX6_number 23 = .ok (.i2l, 1) := dk_133 (dk_at dksX6_number_0 23 rfl rfl)
theorem dX6_number_24 : decode cX6_number 24 = .ok (.iload_n 1, 1) := dk_27 (dk_at dksX6_number_1 0 rfl rfl)
theorem dX6_number_25 : decode cX6_number 25 = .ok (.i2l, 1) := dk_133 (dk_at dksX6_number_1 1 rfl rfl)
theorem dX6_number_26 : decode cX6_number 26 = .ok (.iload_n 2, 1) := dk_28 (dk_at dksX6_number_1 2 rfl rfl)
theorem dX6_number_27 : decode cX6_number 27 = .ok (.i2l, 1) := dk_133 (dk_at dksX6_number_1 3 rfl rfl)
theorem dX6_number_28 : decode cX6_number 28 = .ok (.invokestatic 77, 3) := dk_184 0 77 (dk_at dksX6_number_1 4 rfl rfl)
theorem dX6_number_31 : decode cX6_number 31 = .ok (.iconst 3, 1) := dk_6 (dk_at dksX6_number_1 7 rfl rfl)
theorem dX6_number_32 : decode cX6_number 32 = .ok (.invokevirtual 85, 3) := dk_182 0 85 (dk_at dksX6_number_1 8 rfl rfl)
theorem dX6_number_35 : decode cX6_number 35 = .ok (.aload_n 0, 1) := dk_42 (dk_at dksX6_number_1 11 rfl rfl)
theorem dX6_number_36 : decode cX6_number 36 = .ok (.getfield 70, 3) := dk_180 0 70 (dk_at dksX6_number_1 12 rfl rfl)
theorem dX6_number_39 : decode cX6_number 39 = .ok (.istore_n 3, 1) := dk_62 (dk_at dksX6_number_1 15 rfl rfl)
theorem dX6_number_40 : decode cX6_number 40 = .ok (.aload_n 0, 1) := dk_42 (dk_at dksX6_number_1 16 rfl rfl)
theorem dX6_number_41 : decode cX6_number 41 = .ok (.invokevirtual 38, 3) := dk_182 0 38 (dk_at dksX6_number_1 17 rfl rfl)
theorem dX6_number_44 : decode cX6_number 44 = .ok (.iload_n 3, 1) := dk_29 (dk_at dksX6_number_1 20 rfl rfl)
theorem dX6_number_45 : decode cX6_number 45 = .ok (.ireturn, 1) := dk_172 (dk_at dksX6_number_1 21 rfl rfl)
abbrev cX6_stranger : ByteArray := prog_9_method_10_code
def yX6_stranger : MethodName := ⟨RX6, "stranger", "(I)V"⟩
def dkwX6_stranger_7 : List UInt8 := [83, 42, 89, 180, 0, 118, 4, 96, 181, 0, 118, 177]
abbrev dktX6_stranger_7 : List UInt8 := dkwX6_stranger_7 ++ []
def dkwX6_stranger_6 : List UInt8 := [182, 0, 141, 42, 178, 0, 133, 182, 0, 137, 54, 4, 167, 255, 205, 42, 180, 0, 30, 42, 180, 0, 118, 44]
abbrev dktX6_stranger_6 : List UInt8 := dkwX6_stranger_6 ++ dktX6_stranger_7
def dkwX6_stranger_5 : List UInt8 := [154, 0, 7, 4, 167, 0, 4, 3, 7, 182, 0, 85, 29, 4, 21, 4, 120, 128, 62, 42, 44, 21, 4]
abbrev dktX6_stranger_5 : List UInt8 := dkwX6_stranger_5 ++ dktX6_stranger_6
def dkwX6_stranger_4 : List UInt8 := [178, 0, 133, 182, 0, 137, 54, 4, 21, 4, 178, 0, 133, 190, 162, 0, 48, 42, 29, 21, 4, 122, 4, 126]
abbrev dktX6_stranger_4 : List UInt8 := dkwX6_stranger_4 ++ dktX6_stranger_5
def dkwX6_stranger_3 : List UInt8 := [180, 0, 3, 183, 0, 129, 167, 0, 14, 187, 0, 130, 89, 42, 180, 0, 3, 183, 0, 132, 77, 3, 62, 42]
abbrev dktX6_stranger_3 : List UInt8 := dkwX6_stranger_3 ++ dktX6_stranger_4
def dkwX6_stranger_2 : List UInt8 := [187, 0, 124, 89, 42, 180, 0, 3, 183, 0, 126, 167, 0, 33, 27, 8, 160, 0, 17, 187, 0, 127, 89, 42]
abbrev dktX6_stranger_2 : List UInt8 := dkwX6_stranger_2 ++ dktX6_stranger_3
def dkwX6_stranger_1 : List UInt8 := [6, 160, 0, 17, 187, 0, 28, 89, 42, 180, 0, 3, 183, 0, 121, 167, 0, 52, 27, 7, 160, 0, 17]
abbrev dktX6_stranger_1 : List UInt8 := dkwX6_stranger_1 ++ dktX6_stranger_2
def dkwX6_stranger_0 : List UInt8 := [42, 42, 180, 0, 118, 16, 6, 162, 0, 7, 4, 167, 0, 4, 3, 8, 182, 0, 85, 42, 182, 0, 38, 27]
abbrev dktX6_stranger_0 : List UInt8 := dkwX6_stranger_0 ++ dktX6_stranger_1
theorem dksX6_stranger_0 : cX6_stranger.data.toList.drop 0 = dktX6_stranger_0 := by decide +kernel
theorem dksX6_stranger_1 : cX6_stranger.data.toList.drop 24 = dktX6_stranger_1 := dk_seg dksX6_stranger_0 24 rfl rfl
theorem dksX6_stranger_2 : cX6_stranger.data.toList.drop 47 = dktX6_stranger_2 := dk_seg dksX6_stranger_1 23 rfl rfl
theorem dksX6_stranger_3 : cX6_stranger.data.toList.drop 71 = dktX6_stranger_3 := dk_seg dksX6_stranger_2 24 rfl rfl
theorem dksX6_stranger_4 : cX6_stranger.data.toList.drop 95 = dktX6_stranger_4 := dk_seg dksX6_stranger_3 24 rfl rfl
theorem dksX6_stranger_5 : cX6_stranger.data.toList.drop 119 = dktX6_stranger_5 := dk_seg dksX6_stranger_4 24 rfl rfl
theorem dksX6_stranger_6 : cX6_stranger.data.toList.drop 142 = dktX6_stranger_6 := dk_seg dksX6_stranger_5 23 rfl rfl
theorem dksX6_stranger_7 : cX6_stranger.data.toList.drop 166 = dktX6_stranger_7 := dk_seg dksX6_stranger_6 24 rfl rfl
theorem dX6_stranger_0 : decode cX6_stranger 0 = .ok (.aload_n 0, 1) := dk_42 (dk_at dksX6_stranger_0 0 rfl rfl)
theorem dX6_stranger_1 : decode cX6_stranger 1 = .ok (.aload_n 0, 1) := dk_42 (dk_at dksX6_stranger_0 1 rfl rfl)
theorem dX6_stranger_2 : decode cX6_stranger 2 = .ok (.getfield 118, 3) := dk_180 0 118 (dk_at dksX6_stranger_0 2 rfl rfl)
theorem dX6_stranger_5 : decode cX6_stranger 5 = .ok (.bipush 6, 2) := dk_16 6 (dk_at dksX6_stranger_0 5 rfl rfl)
theorem dX6_stranger_7 : decode cX6_stranger 7 = .ok (.if_icmp .ge 7, 3) := dk_162 0 7 (dk_at dksX6_stranger_0 7 rfl rfl)
theorem dX6_stranger_10 : decode cX6_stranger 10 = .ok (.iconst 1, 1) := dk_4 (dk_at dksX6_stranger_0 10 rfl rfl)
theorem dX6_stranger_11 : decode cX6_stranger 11 = .ok (.goto 4, 3) := dk_167 0 4 (dk_at dksX6_stranger_0 11 rfl rfl)
theorem dX6_stranger_14 : decode cX6_stranger 14 = .ok (.iconst 0, 1) := dk_3 (dk_at dksX6_stranger_0 14 rfl rfl)
theorem dX6_stranger_15 : decode cX6_stranger 15 = .ok (.iconst 5, 1) := dk_8 (dk_at dksX6_stranger_0 15 rfl rfl)
theorem dX6_stranger_16 : decode cX6_stranger 16 = .ok (.invokevirtual 85, 3) := dk_182 0 85 (dk_at dksX6_stranger_0 16 rfl rfl)
theorem dX6_stranger_19 : decode cX6_stranger 19 = .ok (.aload_n 0, 1) := dk_42 (dk_at dksX6_stranger_0 19 rfl rfl)
theorem dX6_stranger_20 : decode cX6_stranger 20 = .ok (.invokevirtual 38, 3) := dk_182 0 38 (dk_at dksX6_stranger_0 20 rfl rfl)
theorem dX6_stranger_23 : decode cX6_stranger 23 = .ok (.iload_n 1, 1) := dk_27 (dk_at dksX6_stranger_0 23 rfl rfl)
theorem dX6_stranger_24 : decode cX6_stranger 24 = .ok (.iconst 3, 1) := dk_6 (dk_at dksX6_stranger_1 0 rfl rfl)
theorem dX6_stranger_25 : decode cX6_stranger 25 = .ok (.if_icmp .ne 17, 3) := dk_160 0 17 (dk_at dksX6_stranger_1 1 rfl rfl)
theorem dX6_stranger_28 : decode cX6_stranger 28 = .ok (.new 28, 3) := dk_187 0 28 (dk_at dksX6_stranger_1 4 rfl rfl)
theorem dX6_stranger_31 : decode cX6_stranger 31 = .ok (.dup, 1) := dk_89 (dk_at dksX6_stranger_1 7 rfl rfl)
theorem dX6_stranger_32 : decode cX6_stranger 32 = .ok (.aload_n 0, 1) := dk_42 (dk_at dksX6_stranger_1 8 rfl rfl)
theorem dX6_stranger_33 : decode cX6_stranger 33 = .ok (.getfield 3, 3) := dk_180 0 3 (dk_at dksX6_stranger_1 9 rfl rfl)
theorem dX6_stranger_36 : decode cX6_stranger 36 = .ok (.invokespecial 121, 3) := dk_183 0 121 (dk_at dksX6_stranger_1 12 rfl rfl)
theorem dX6_stranger_39 : decode cX6_stranger 39 = .ok (.goto 52, 3) := dk_167 0 52 (dk_at dksX6_stranger_1 15 rfl rfl)
theorem dX6_stranger_42 : decode cX6_stranger 42 = .ok (.iload_n 1, 1) := dk_27 (dk_at dksX6_stranger_1 18 rfl rfl)
theorem dX6_stranger_43 : decode cX6_stranger 43 = .ok (.iconst 4, 1) := dk_7 (dk_at dksX6_stranger_1 19 rfl rfl)
theorem dX6_stranger_44 : decode cX6_stranger 44 = .ok (.if_icmp .ne 17, 3) := dk_160 0 17 (dk_at dksX6_stranger_1 20 rfl rfl)
theorem dX6_stranger_47 : decode cX6_stranger 47 = .ok (.new 124, 3) := dk_187 0 124 (dk_at dksX6_stranger_2 0 rfl rfl)
theorem dX6_stranger_50 : decode cX6_stranger 50 = .ok (.dup, 1) := dk_89 (dk_at dksX6_stranger_2 3 rfl rfl)
theorem dX6_stranger_51 : decode cX6_stranger 51 = .ok (.aload_n 0, 1) := dk_42 (dk_at dksX6_stranger_2 4 rfl rfl)
theorem dX6_stranger_52 : decode cX6_stranger 52 = .ok (.getfield 3, 3) := dk_180 0 3 (dk_at dksX6_stranger_2 5 rfl rfl)
theorem dX6_stranger_55 : decode cX6_stranger 55 = .ok (.invokespecial 126, 3) := dk_183 0 126 (dk_at dksX6_stranger_2 8 rfl rfl)
theorem dX6_stranger_58 : decode cX6_stranger 58 = .ok (.goto 33, 3) := dk_167 0 33 (dk_at dksX6_stranger_2 11 rfl rfl)
theorem dX6_stranger_61 : decode cX6_stranger 61 = .ok (.iload_n 1, 1) := dk_27 (dk_at dksX6_stranger_2 14 rfl rfl)
theorem dX6_stranger_62 : decode cX6_stranger 62 = .ok (.iconst 5, 1) := dk_8 (dk_at dksX6_stranger_2 15 rfl rfl)
theorem dX6_stranger_63 : decode cX6_stranger 63 = .ok (.if_icmp .ne 17, 3) := dk_160 0 17 (dk_at dksX6_stranger_2 16 rfl rfl)
theorem dX6_stranger_66 : decode cX6_stranger 66 = .ok (.new 127, 3) := dk_187 0 127 (dk_at dksX6_stranger_2 19 rfl rfl)
theorem dX6_stranger_69 : decode cX6_stranger 69 = .ok (.dup, 1) := dk_89 (dk_at dksX6_stranger_2 22 rfl rfl)
theorem dX6_stranger_70 : decode cX6_stranger 70 = .ok (.aload_n 0, 1) := dk_42 (dk_at dksX6_stranger_2 23 rfl rfl)
theorem dX6_stranger_71 : decode cX6_stranger 71 = .ok (.getfield 3, 3) := dk_180 0 3 (dk_at dksX6_stranger_3 0 rfl rfl)
theorem dX6_stranger_74 : decode cX6_stranger 74 = .ok (.invokespecial 129, 3) := dk_183 0 129 (dk_at dksX6_stranger_3 3 rfl rfl)
theorem dX6_stranger_77 : decode cX6_stranger 77 = .ok (.goto 14, 3) := dk_167 0 14 (dk_at dksX6_stranger_3 6 rfl rfl)
theorem dX6_stranger_80 : decode cX6_stranger 80 = .ok (.new 130, 3) := dk_187 0 130 (dk_at dksX6_stranger_3 9 rfl rfl)
theorem dX6_stranger_83 : decode cX6_stranger 83 = .ok (.dup, 1) := dk_89 (dk_at dksX6_stranger_3 12 rfl rfl)
theorem dX6_stranger_84 : decode cX6_stranger 84 = .ok (.aload_n 0, 1) := dk_42 (dk_at dksX6_stranger_3 13 rfl rfl)
theorem dX6_stranger_85 : decode cX6_stranger 85 = .ok (.getfield 3, 3) := dk_180 0 3 (dk_at dksX6_stranger_3 14 rfl rfl)
theorem dX6_stranger_88 : decode cX6_stranger 88 = .ok (.invokespecial 132, 3) := dk_183 0 132 (dk_at dksX6_stranger_3 17 rfl rfl)
theorem dX6_stranger_91 : decode cX6_stranger 91 = .ok (.astore_n 2, 1) := dk_77 (dk_at dksX6_stranger_3 20 rfl rfl)
theorem dX6_stranger_92 : decode cX6_stranger 92 = .ok (.iconst 0, 1) := dk_3 (dk_at dksX6_stranger_3 21 rfl rfl)
theorem dX6_stranger_93 : decode cX6_stranger 93 = .ok (.istore_n 3, 1) := dk_62 (dk_at dksX6_stranger_3 22 rfl rfl)
theorem dX6_stranger_94 : decode cX6_stranger 94 = .ok (.aload_n 0, 1) := dk_42 (dk_at dksX6_stranger_3 23 rfl rfl)
theorem dX6_stranger_95 : decode cX6_stranger 95 = .ok (.getstatic 133, 3) := dk_178 0 133 (dk_at dksX6_stranger_4 0 rfl rfl)
theorem dX6_stranger_98 : decode cX6_stranger 98 = .ok (.invokevirtual 137, 3) := dk_182 0 137 (dk_at dksX6_stranger_4 3 rfl rfl)
theorem dX6_stranger_101 : decode cX6_stranger 101 = .ok (.istore 4, 2) := dk_54 4 (dk_at dksX6_stranger_4 6 rfl rfl)
theorem dX6_stranger_103 : decode cX6_stranger 103 = .ok (.iload 4, 2) := dk_21 4 (dk_at dksX6_stranger_4 8 rfl rfl)
theorem dX6_stranger_105 : decode cX6_stranger 105 = .ok (.getstatic 133, 3) := dk_178 0 133 (dk_at dksX6_stranger_4 10 rfl rfl)
theorem dX6_stranger_108 : decode cX6_stranger 108 = .ok (.arraylength, 1) := dk_190 (dk_at dksX6_stranger_4 13 rfl rfl)
theorem dX6_stranger_109 : decode cX6_stranger 109 = .ok (.if_icmp .ge 48, 3) := dk_162 0 48 (dk_at dksX6_stranger_4 14 rfl rfl)
theorem dX6_stranger_112 : decode cX6_stranger 112 = .ok (.aload_n 0, 1) := dk_42 (dk_at dksX6_stranger_4 17 rfl rfl)
theorem dX6_stranger_113 : decode cX6_stranger 113 = .ok (.iload_n 3, 1) := dk_29 (dk_at dksX6_stranger_4 18 rfl rfl)
theorem dX6_stranger_114 : decode cX6_stranger 114 = .ok (.iload 4, 2) := dk_21 4 (dk_at dksX6_stranger_4 19 rfl rfl)
theorem dX6_stranger_116 : decode cX6_stranger 116 = .ok (.ishr, 1) := dk_122 (dk_at dksX6_stranger_4 21 rfl rfl)
theorem dX6_stranger_117 : decode cX6_stranger 117 = .ok (.iconst 1, 1) := dk_4 (dk_at dksX6_stranger_4 22 rfl rfl)
theorem dX6_stranger_118 : decode cX6_stranger 118 = .ok (.iand, 1) := dk_126 (dk_at dksX6_stranger_4 23 rfl rfl)
theorem dX6_stranger_119 : decode cX6_stranger 119 = .ok (.ifCond .ne 7, 3) := dk_154 0 7 (dk_at dksX6_stranger_5 0 rfl rfl)
theorem dX6_stranger_122 : decode cX6_stranger 122 = .ok (.iconst 1, 1) := dk_4 (dk_at dksX6_stranger_5 3 rfl rfl)
theorem dX6_stranger_123 : decode cX6_stranger 123 = .ok (.goto 4, 3) := dk_167 0 4 (dk_at dksX6_stranger_5 4 rfl rfl)
theorem dX6_stranger_126 : decode cX6_stranger 126 = .ok (.iconst 0, 1) := dk_3 (dk_at dksX6_stranger_5 7 rfl rfl)
theorem dX6_stranger_127 : decode cX6_stranger 127 = .ok (.iconst 4, 1) := dk_7 (dk_at dksX6_stranger_5 8 rfl rfl)
theorem dX6_stranger_128 : decode cX6_stranger 128 = .ok (.invokevirtual 85, 3) := dk_182 0 85 (dk_at dksX6_stranger_5 9 rfl rfl)
theorem dX6_stranger_131 : decode cX6_stranger 131 = .ok (.iload_n 3, 1) := dk_29 (dk_at dksX6_stranger_5 12 rfl rfl)
theorem dX6_stranger_132 : decode cX6_stranger 132 = .ok (.iconst 1, 1) := dk_4 (dk_at dksX6_stranger_5 13 rfl rfl)
theorem dX6_stranger_133 : decode cX6_stranger 133 = .ok (.iload 4, 2) := dk_21 4 (dk_at dksX6_stranger_5 14 rfl rfl)
theorem dX6_stranger_135 : decode cX6_stranger 135 = .ok (.ishl, 1) := dk_120 (dk_at dksX6_stranger_5 16 rfl rfl)
theorem dX6_stranger_136 : decode cX6_stranger 136 = .ok (.ior, 1) := dk_128 (dk_at dksX6_stranger_5 17 rfl rfl)
theorem dX6_stranger_137 : decode cX6_stranger 137 = .ok (.istore_n 3, 1) := dk_62 (dk_at dksX6_stranger_5 18 rfl rfl)
theorem dX6_stranger_138 : decode cX6_stranger 138 = .ok (.aload_n 0, 1) := dk_42 (dk_at dksX6_stranger_5 19 rfl rfl)
theorem dX6_stranger_139 : decode cX6_stranger 139 = .ok (.aload_n 2, 1) := dk_44 (dk_at dksX6_stranger_5 20 rfl rfl)
theorem dX6_stranger_140 : decode cX6_stranger 140 = .ok (.iload 4, 2) := dk_21 4 (dk_at dksX6_stranger_5 21 rfl rfl)
theorem dX6_stranger_142 : decode cX6_stranger 142 = .ok (.invokevirtual 141, 3) := dk_182 0 141 (dk_at dksX6_stranger_6 0 rfl rfl)
theorem dX6_stranger_145 : decode cX6_stranger 145 = .ok (.aload_n 0, 1) := dk_42 (dk_at dksX6_stranger_6 3 rfl rfl)
theorem dX6_stranger_146 : decode cX6_stranger 146 = .ok (.getstatic 133, 3) := dk_178 0 133 (dk_at dksX6_stranger_6 4 rfl rfl)
theorem dX6_stranger_149 : decode cX6_stranger 149 = .ok (.invokevirtual 137, 3) := dk_182 0 137 (dk_at dksX6_stranger_6 7 rfl rfl)
theorem dX6_stranger_152 : decode cX6_stranger 152 = .ok (.istore 4, 2) := dk_54 4 (dk_at dksX6_stranger_6 10 rfl rfl)
theorem dX6_stranger_154 : decode cX6_stranger 154 = .ok (.goto (-51), 3) := dk_167 255 205 (dk_at dksX6_stranger_6 12 rfl rfl)
theorem dX6_stranger_157 : decode cX6_stranger 157 = .ok (.aload_n 0, 1) := dk_42 (dk_at dksX6_stranger_6 15 rfl rfl)
theorem dX6_stranger_158 : decode cX6_stranger 158 = .ok (.getfield 30, 3) := dk_180 0 30 (dk_at dksX6_stranger_6 16 rfl rfl)
theorem dX6_stranger_161 : decode cX6_stranger 161 = .ok (.aload_n 0, 1) := dk_42 (dk_at dksX6_stranger_6 19 rfl rfl)
theorem dX6_stranger_162 : decode cX6_stranger 162 = .ok (.getfield 118, 3) := dk_180 0 118 (dk_at dksX6_stranger_6 20 rfl rfl)
theorem dX6_stranger_165 : decode cX6_stranger 165 = .ok (.aload_n 2, 1) := dk_44 (dk_at dksX6_stranger_6 23 rfl rfl)
theorem dX6_stranger_166 : decode cX6_stranger 166 = .ok (.aastore, 1) := dk_83 (dk_at dksX6_stranger_7 0 rfl rfl)
theorem dX6_stranger_167 : decode cX6_stranger 167 = .ok (.aload_n 0, 1) := dk_42 (dk_at dksX6_stranger_7 1 rfl rfl)
theorem dX6_stranger_168 : decode cX6_stranger 168 = .ok (.dup, 1) := dk_89 (dk_at dksX6_stranger_7 2 rfl rfl)
theorem dX6_stranger_169 : decode cX6_stranger 169 = .ok (.getfield 118, 3) := dk_180 0 118 (dk_at dksX6_stranger_7 3 rfl rfl)
theorem dX6_stranger_172 : decode cX6_stranger 172 = .ok (.iconst 1, 1) := dk_4 (dk_at dksX6_stranger_7 6 rfl rfl)
theorem dX6_stranger_173 : decode cX6_stranger 173 = .ok (.iadd, 1) := dk_96 (dk_at dksX6_stranger_7 7 rfl rfl)
theorem dX6_stranger_174 : decode cX6_stranger 174 = .ok (.putfield 118, 3) := dk_181 0 118 (dk_at dksX6_stranger_7 8 rfl rfl)
theorem dX6_stranger_177 : decode cX6_stranger 177 = .ok (.return_, 1) := dk_177 (dk_at dksX6_stranger_7 11 rfl rfl)
abbrev cX6_with : ByteArray := prog_9_method_9_code
def yX6_with : MethodName := ⟨RX6, "with", "(LFirstWords$Stranger;I)V"⟩
def dkwX6_with_2 : List UInt8 := [160, 0, 11, 43, 4, 181, 0, 111, 167, 0, 14, 43, 42, 3, 16, 9, 182, 0, 104, 181, 0, 115, 177]
abbrev dktX6_with_2 : List UInt8 := dkwX6_with_2 ++ []
def dkwX6_with_1 : List UInt8 := [160, 0, 21, 43, 42, 3, 42, 180, 0, 101, 4, 100, 182, 0, 104, 181, 0, 108, 167, 0, 27, 28, 5]
abbrev dktX6_with_1 : List UInt8 := dkwX6_with_1 ++ dktX6_with_2
def dkwX6_with_0 : List UInt8 := [42, 182, 0, 38, 28, 154, 0, 15, 43, 42, 3, 182, 0, 95, 181, 0, 98, 167, 0, 50, 28, 4]
abbrev dktX6_with_0 : List UInt8 := dkwX6_with_0 ++ dktX6_with_1
theorem dksX6_with_0 : cX6_with.data.toList.drop 0 = dktX6_with_0 := by decide +kernel
theorem dksX6_with_1 : cX6_with.data.toList.drop 22 = dktX6_with_1 := dk_seg dksX6_with_0 22 rfl rfl
theorem dksX6_with_2 : cX6_with.data.toList.drop 45 = dktX6_with_2 := dk_seg dksX6_with_1 23 rfl rfl
theorem dX6_with_0 : decode cX6_with 0 = .ok (.aload_n 0, 1) := dk_42 (dk_at dksX6_with_0 0 rfl rfl)
theorem dX6_with_1 : decode cX6_with 1 = .ok (.invokevirtual 38, 3) := dk_182 0 38 (dk_at dksX6_with_0 1 rfl rfl)
theorem dX6_with_4 : decode cX6_with 4 = .ok (.iload_n 2, 1) := dk_28 (dk_at dksX6_with_0 4 rfl rfl)
theorem dX6_with_5 : decode cX6_with 5 = .ok (.ifCond .ne 15, 3) := dk_154 0 15 (dk_at dksX6_with_0 5 rfl rfl)
theorem dX6_with_8 : decode cX6_with 8 = .ok (.aload_n 1, 1) := dk_43 (dk_at dksX6_with_0 8 rfl rfl)
theorem dX6_with_9 : decode cX6_with 9 = .ok (.aload_n 0, 1) := dk_42 (dk_at dksX6_with_0 9 rfl rfl)
theorem dX6_with_10 : decode cX6_with 10 = .ok (.iconst 0, 1) := dk_3 (dk_at dksX6_with_0 10 rfl rfl)
theorem dX6_with_11 : decode cX6_with 11 = .ok (.invokevirtual 95, 3) := dk_182 0 95 (dk_at dksX6_with_0 11 rfl rfl)
theorem dX6_with_14 : decode cX6_with 14 = .ok (.putfield 98, 3) := dk_181 0 98 (dk_at dksX6_with_0 14 rfl rfl)
theorem dX6_with_17 : decode cX6_with 17 = .ok (.goto 50, 3) := dk_167 0 50 (dk_at dksX6_with_0 17 rfl rfl)
theorem dX6_with_20 : decode cX6_with 20 = .ok (.iload_n 2, 1) := dk_28 (dk_at dksX6_with_0 20 rfl rfl)
theorem dX6_with_21 : decode cX6_with 21 = .ok (.iconst 1, 1) := dk_4 (dk_at dksX6_with_0 21 rfl rfl)
theorem dX6_with_22 : decode cX6_with 22 = .ok (.if_icmp .ne 21, 3) := dk_160 0 21 (dk_at dksX6_with_1 0 rfl rfl)
theorem dX6_with_25 : decode cX6_with 25 = .ok (.aload_n 1, 1) := dk_43 (dk_at dksX6_with_1 3 rfl rfl)
theorem dX6_with_26 : decode cX6_with 26 = .ok (.aload_n 0, 1) := dk_42 (dk_at dksX6_with_1 4 rfl rfl)
theorem dX6_with_27 : decode cX6_with 27 = .ok (.iconst 0, 1) := dk_3 (dk_at dksX6_with_1 5 rfl rfl)
theorem dX6_with_28 : decode cX6_with 28 = .ok (.aload_n 0, 1) := dk_42 (dk_at dksX6_with_1 6 rfl rfl)
theorem dX6_with_29 : decode cX6_with 29 = .ok (.getfield 101, 3) := dk_180 0 101 (dk_at dksX6_with_1 7 rfl rfl)
theorem dX6_with_32 : decode cX6_with 32 = .ok (.iconst 1, 1) := dk_4 (dk_at dksX6_with_1 10 rfl rfl)
theorem dX6_with_33 : decode cX6_with 33 = .ok (.isub, 1) := dk_100 (dk_at dksX6_with_1 11 rfl rfl)
theorem dX6_with_34 : decode cX6_with 34 = .ok (.invokevirtual 104, 3) := dk_182 0 104 (dk_at dksX6_with_1 12 rfl rfl)
theorem dX6_with_37 : decode cX6_with 37 = .ok (.putfield 108, 3) := dk_181 0 108 (dk_at dksX6_with_1 15 rfl rfl)
theorem dX6_with_40 : decode cX6_with 40 = .ok (.goto 27, 3) := dk_167 0 27 (dk_at dksX6_with_1 18 rfl rfl)
theorem dX6_with_43 : decode cX6_with 43 = .ok (.iload_n 2, 1) := dk_28 (dk_at dksX6_with_1 21 rfl rfl)
theorem dX6_with_44 : decode cX6_with 44 = .ok (.iconst 2, 1) := dk_5 (dk_at dksX6_with_1 22 rfl rfl)
theorem dX6_with_45 : decode cX6_with 45 = .ok (.if_icmp .ne 11, 3) := dk_160 0 11 (dk_at dksX6_with_2 0 rfl rfl)
theorem dX6_with_48 : decode cX6_with 48 = .ok (.aload_n 1, 1) := dk_43 (dk_at dksX6_with_2 3 rfl rfl)
theorem dX6_with_49 : decode cX6_with 49 = .ok (.iconst 1, 1) := dk_4 (dk_at dksX6_with_2 4 rfl rfl)
theorem dX6_with_50 : decode cX6_with 50 = .ok (.putfield 111, 3) := dk_181 0 111 (dk_at dksX6_with_2 5 rfl rfl)
theorem dX6_with_53 : decode cX6_with 53 = .ok (.goto 14, 3) := dk_167 0 14 (dk_at dksX6_with_2 8 rfl rfl)
theorem dX6_with_56 : decode cX6_with 56 = .ok (.aload_n 1, 1) := dk_43 (dk_at dksX6_with_2 11 rfl rfl)
theorem dX6_with_57 : decode cX6_with 57 = .ok (.aload_n 0, 1) := dk_42 (dk_at dksX6_with_2 12 rfl rfl)
theorem dX6_with_58 : decode cX6_with 58 = .ok (.iconst 0, 1) := dk_3 (dk_at dksX6_with_2 13 rfl rfl)
theorem dX6_with_59 : decode cX6_with 59 = .ok (.bipush 9, 2) := dk_16 9 (dk_at dksX6_with_2 14 rfl rfl)
theorem dX6_with_61 : decode cX6_with 61 = .ok (.invokevirtual 104, 3) := dk_182 0 104 (dk_at dksX6_with_2 16 rfl rfl)
theorem dX6_with_64 : decode cX6_with 64 = .ok (.putfield 115, 3) := dk_181 0 115 (dk_at dksX6_with_2 19 rfl rfl)
theorem dX6_with_67 : decode cX6_with 67 = .ok (.return_, 1) := dk_177 (dk_at dksX6_with_2 22 rfl rfl)
theorem q100 : (Jvm.Cond.initialized "FirstWords$Reader") ∈ lw_all := lw_g (lw_at lw_m1 9 rfl) rfl
theorem q141 : (Jvm.Cond.instantiable "FirstWords$Reader" (15 : Nat)) ∈ lw_all := lw_g (lw_at lw_m1 50 rfl) rfl
theorem q143 : (Jvm.Cond.instanceMethod ({ cls := "FirstWords$Reader", name := "<init>", desc := "(LFirstWords;[B)V" } : Jvm.MethodName)) ∈ lw_all := lw_g (lw_at lw_m1 52 rfl) rfl
theorem q144 : (Jvm.Cond.code ({ cls := "FirstWords$Reader", name := "<init>", desc := "(LFirstWords;[B)V" } : Jvm.MethodName) prog_9_method_1_code (3 : Nat) (Option.none : Option Jvm.ClassFile.FieldType)) ∈ lw_all := lw_g (lw_at lw_m1 53 rfl) rfl
theorem q145 : (Jvm.Cond.methodLink "FirstWords$Reader" (9 : Nat) ({ cls := "java/lang/Object", name := "<init>", desc := "()V" } : Jvm.MethodName)) ∈ lw_all := lw_g (lw_at lw_m1 54 rfl) rfl
theorem q148 : (Jvm.Cond.classLink "FirstWords$Reader" (19 : Nat) "FirstWords$Meaning") ∈ lw_all := lw_g (lw_at lw_m1 57 rfl) rfl
theorem q150 : (Jvm.Cond.classLink "FirstWords$Reader" (28 : Nat) "FirstWords$Stranger") ∈ lw_all := lw_g (lw_at lw_m1 59 rfl) rfl
theorem q152 : (Jvm.Cond.methodLink "FirstWords$Reader" (38 : Nat) ({ cls := "FirstWords$Reader", name := "next", desc := "()V" } : Jvm.MethodName)) ∈ lw_all := lw_g (lw_at lw_m1 61 rfl) rfl
theorem q153 : (Jvm.Cond.privateMethod ({ cls := "FirstWords$Reader", name := "next", desc := "()V" } : Jvm.MethodName)) ∈ lw_tbl := lw_at lw_m1 62 rfl
theorem q154 : (Jvm.Cond.instanceMethod ({ cls := "FirstWords$Reader", name := "next", desc := "()V" } : Jvm.MethodName)) ∈ lw_all := lw_g (lw_at lw_m1 63 rfl) rfl
theorem q155 : (Jvm.Cond.code ({ cls := "FirstWords$Reader", name := "next", desc := "()V" } : Jvm.MethodName) prog_9_method_5_code (2 : Nat) (Option.none : Option Jvm.ClassFile.FieldType)) ∈ lw_all := lw_g (lw_at lw_m1 64 rfl) rfl
theorem q156 : (Jvm.Cond.methodLink "FirstWords$Reader" (66 : Nat) ({ cls := "FirstWords$Reader", name := "at", desc := "(I)I" } : Jvm.MethodName)) ∈ lw_all := lw_g (lw_at lw_m1 65 rfl) rfl
theorem q157 : (Jvm.Cond.privateMethod ({ cls := "FirstWords$Reader", name := "at", desc := "(I)I" } : Jvm.MethodName)) ∈ lw_tbl := lw_at lw_m1 66 rfl
theorem q158 : (Jvm.Cond.instanceMethod ({ cls := "FirstWords$Reader", name := "at", desc := "(I)I" } : Jvm.MethodName)) ∈ lw_all := lw_g (lw_at lw_m1 67 rfl) rfl
theorem q159 : (Jvm.Cond.code ({ cls := "FirstWords$Reader", name := "at", desc := "(I)I" } : Jvm.MethodName) prog_9_method_2_code (2 : Nat) (Option.some Jvm.ClassFile.FieldType.int)) ∈ lw_all := lw_g (lw_at lw_m1 68 rfl) rfl
theorem q160 : (Jvm.Cond.constantLong "FirstWords$Reader" (73 : Nat) (97 : Int64)) ∈ lw_all := lw_g (lw_at lw_m1 69 rfl) rfl
theorem q161 : (Jvm.Cond.constantLong "FirstWords$Reader" (75 : Nat) (122 : Int64)) ∈ lw_all := lw_g (lw_at lw_m1 70 rfl) rfl
theorem q162 : (Jvm.Cond.methodLinkNest "FirstWords$Reader" (77 : Nat) ({ cls := "FirstWords", name := "isIn", desc := "(JJJ)Z" } : Jvm.MethodName) "FirstWords") ∈ lw_tbl := lw_at lw_m1 71 rfl
theorem q163 : (Jvm.Cond.constantLong "FirstWords$Reader" (81 : Nat) (48 : Int64)) ∈ lw_all := lw_g (lw_at lw_m1 72 rfl) rfl
theorem q164 : (Jvm.Cond.constantLong "FirstWords$Reader" (83 : Nat) (57 : Int64)) ∈ lw_all := lw_g (lw_at lw_m1 73 rfl) rfl
theorem q165 : (Jvm.Cond.methodLink "FirstWords$Reader" (85 : Nat) ({ cls := "FirstWords$Reader", name := "must", desc := "(ZI)V" } : Jvm.MethodName)) ∈ lw_all := lw_g (lw_at lw_m1 74 rfl) rfl
theorem q166 : (Jvm.Cond.privateMethod ({ cls := "FirstWords$Reader", name := "must", desc := "(ZI)V" } : Jvm.MethodName)) ∈ lw_tbl := lw_at lw_m1 75 rfl
theorem q167 : (Jvm.Cond.instanceMethod ({ cls := "FirstWords$Reader", name := "must", desc := "(ZI)V" } : Jvm.MethodName)) ∈ lw_all := lw_g (lw_at lw_m1 76 rfl) rfl
theorem q168 : (Jvm.Cond.code ({ cls := "FirstWords$Reader", name := "must", desc := "(ZI)V" } : Jvm.MethodName) prog_9_method_3_code (3 : Nat) (Option.none : Option Jvm.ClassFile.FieldType)) ∈ lw_all := lw_g (lw_at lw_m1 77 rfl) rfl
theorem q169 : (Jvm.Cond.classLink "FirstWords$Reader" (41 : Nat) "FirstWords$Fault") ∈ lw_all := lw_g (lw_at lw_m1 78 rfl) rfl
theorem q225 : (Jvm.Cond.methodLink "FirstWords$Reader" (47 : Nat) ({ cls := "FirstWords$Fault", name := "<init>", desc := "(II)V" } : Jvm.MethodName)) ∈ lw_all := lw_g (lw_at lw_m1 134 rfl) rfl
theorem q260 : (Jvm.Cond.fieldLink "FirstWords$Reader" (34 : Nat) "FirstWords$Reader" "t" "[B") ∈ lw_all := lw_g (lw_at lw_m1 169 rfl) rfl
theorem q261 : (Jvm.Cond.fieldLink "FirstWords$Reader" (15 : Nat) "FirstWords$Reader" "intoMarks" "[I") ∈ lw_all := lw_g (lw_at lw_m1 170 rfl) rfl
theorem q262 : (Jvm.Cond.fieldLink "FirstWords$Reader" (101 : Nat) "FirstWords$Reader" "intoThings" "I") ∈ lw_all := lw_g (lw_at lw_m1 171 rfl) rfl
theorem q263 : (Jvm.Cond.fieldLink "FirstWords$Reader" (21 : Nat) "FirstWords$Reader" "intoMeanings" "[LFirstWords$Meaning;") ∈ lw_all := lw_g (lw_at lw_m1 172 rfl) rfl
theorem q264 : (Jvm.Cond.fieldLink "FirstWords$Reader" (145 : Nat) "FirstWords$Reader" "intoMany" "I") ∈ lw_all := lw_g (lw_at lw_m1 173 rfl) rfl
theorem q265 : (Jvm.Cond.fieldLink "FirstWords$Reader" (25 : Nat) "FirstWords$Reader" "intoWords" "[I") ∈ lw_all := lw_g (lw_at lw_m1 174 rfl) rfl
theorem q266 : (Jvm.Cond.fieldLink "FirstWords$Reader" (157 : Nat) "FirstWords$Reader" "intoSounds" "I") ∈ lw_all := lw_g (lw_at lw_m1 175 rfl) rfl
theorem q267 : (Jvm.Cond.fieldLink "FirstWords$Reader" (30 : Nat) "FirstWords$Reader" "intoStrangers" "[LFirstWords$Stranger;") ∈ lw_all := lw_g (lw_at lw_m1 176 rfl) rfl
theorem q268 : (Jvm.Cond.fieldLink "FirstWords$Reader" (118 : Nat) "FirstWords$Reader" "intoKinds" "I") ∈ lw_all := lw_g (lw_at lw_m1 177 rfl) rfl
theorem q270 : (Jvm.Cond.fieldLink "FirstWords$Reader" (164 : Nat) "FirstWords$Reader" "lines" "I") ∈ lw_all := lw_g (lw_at lw_m1 179 rfl) rfl
theorem q271 : (Jvm.Cond.fieldLink "FirstWords$Reader" (43 : Nat) "FirstWords$Reader" "from" "I") ∈ lw_all := lw_g (lw_at lw_m1 180 rfl) rfl
theorem q272 : (Jvm.Cond.fieldLink "FirstWords$Reader" (59 : Nat) "FirstWords$Reader" "to" "I") ∈ lw_all := lw_g (lw_at lw_m1 181 rfl) rfl
theorem q273 : (Jvm.Cond.fieldLink "FirstWords$Reader" (50 : Nat) "FirstWords$Reader" "kind" "I") ∈ lw_all := lw_g (lw_at lw_m1 182 rfl) rfl
theorem q274 : (Jvm.Cond.fieldLink "FirstWords$Reader" (70 : Nat) "FirstWords$Reader" "value" "I") ∈ lw_all := lw_g (lw_at lw_m1 183 rfl) rfl
theorem q275 : (Jvm.Cond.fieldLink "FirstWords$Reader" (3 : Nat) "FirstWords$Reader" "this$0" "LFirstWords;") ∈ lw_all := lw_g (lw_at lw_m1 184 rfl) rfl
theorem q276 : (Jvm.Cond.laysFinal "FirstWords$Reader" "FirstWords$Reader" "t" "[B") ∈ lw_all := lw_g (lw_at lw_m1 185 rfl) rfl
theorem q277 : (Jvm.Cond.soleField "FirstWords$Reader" "t") ∈ lw_all := lw_g (lw_at lw_m1 186 rfl) rfl
theorem q278 : (Jvm.Cond.laysFinal "FirstWords$Reader" "FirstWords$Reader" "intoMarks" "[I") ∈ lw_all := lw_g (lw_at lw_m1 187 rfl) rfl
theorem q279 : (Jvm.Cond.soleField "FirstWords$Reader" "intoMarks") ∈ lw_all := lw_g (lw_at lw_m1 188 rfl) rfl
theorem q280 : (Jvm.Cond.lays "FirstWords$Reader" "FirstWords$Reader" "intoThings" "I") ∈ lw_all := lw_g (lw_at lw_m1 189 rfl) rfl
theorem q281 : (Jvm.Cond.soleField "FirstWords$Reader" "intoThings") ∈ lw_all := lw_g (lw_at lw_m1 190 rfl) rfl
theorem q282 : (Jvm.Cond.laysFinal "FirstWords$Reader" "FirstWords$Reader" "intoMeanings" "[LFirstWords$Meaning;") ∈ lw_all := lw_g (lw_at lw_m1 191 rfl) rfl
theorem q283 : (Jvm.Cond.soleField "FirstWords$Reader" "intoMeanings") ∈ lw_all := lw_g (lw_at lw_m1 192 rfl) rfl
theorem q284 : (Jvm.Cond.lays "FirstWords$Reader" "FirstWords$Reader" "intoMany" "I") ∈ lw_all := lw_g (lw_at lw_m1 193 rfl) rfl
theorem q285 : (Jvm.Cond.soleField "FirstWords$Reader" "intoMany") ∈ lw_all := lw_g (lw_at lw_m1 194 rfl) rfl
theorem q286 : (Jvm.Cond.laysFinal "FirstWords$Reader" "FirstWords$Reader" "intoWords" "[I") ∈ lw_all := lw_g (lw_at lw_m1 195 rfl) rfl
theorem q287 : (Jvm.Cond.soleField "FirstWords$Reader" "intoWords") ∈ lw_all := lw_g (lw_at lw_m1 196 rfl) rfl
theorem q288 : (Jvm.Cond.lays "FirstWords$Reader" "FirstWords$Reader" "intoSounds" "I") ∈ lw_all := lw_g (lw_at lw_m1 197 rfl) rfl
theorem q289 : (Jvm.Cond.soleField "FirstWords$Reader" "intoSounds") ∈ lw_all := lw_g (lw_at lw_m1 198 rfl) rfl
theorem q290 : (Jvm.Cond.laysFinal "FirstWords$Reader" "FirstWords$Reader" "intoStrangers" "[LFirstWords$Stranger;") ∈ lw_all := lw_g (lw_at lw_m1 199 rfl) rfl
theorem q291 : (Jvm.Cond.soleField "FirstWords$Reader" "intoStrangers") ∈ lw_all := lw_g (lw_at lw_m1 200 rfl) rfl
theorem q292 : (Jvm.Cond.lays "FirstWords$Reader" "FirstWords$Reader" "intoKinds" "I") ∈ lw_all := lw_g (lw_at lw_m1 201 rfl) rfl
theorem q293 : (Jvm.Cond.soleField "FirstWords$Reader" "intoKinds") ∈ lw_all := lw_g (lw_at lw_m1 202 rfl) rfl
theorem q294 : (Jvm.Cond.lays "FirstWords$Reader" "FirstWords$Reader" "lines" "I") ∈ lw_all := lw_g (lw_at lw_m1 203 rfl) rfl
theorem q295 : (Jvm.Cond.soleField "FirstWords$Reader" "lines") ∈ lw_all := lw_g (lw_at lw_m1 204 rfl) rfl
theorem q296 : (Jvm.Cond.lays "FirstWords$Reader" "FirstWords$Reader" "from" "I") ∈ lw_all := lw_g (lw_at lw_m1 205 rfl) rfl
theorem q297 : (Jvm.Cond.soleField "FirstWords$Reader" "from") ∈ lw_all := lw_g (lw_at lw_m1 206 rfl) rfl
theorem q298 : (Jvm.Cond.lays "FirstWords$Reader" "FirstWords$Reader" "to" "I") ∈ lw_all := lw_g (lw_at lw_m1 207 rfl) rfl
theorem q299 : (Jvm.Cond.soleField "FirstWords$Reader" "to") ∈ lw_all := lw_g (lw_at lw_m1 208 rfl) rfl
theorem q300 : (Jvm.Cond.lays "FirstWords$Reader" "FirstWords$Reader" "kind" "I") ∈ lw_all := lw_g (lw_at lw_m1 209 rfl) rfl
theorem q301 : (Jvm.Cond.soleField "FirstWords$Reader" "kind") ∈ lw_all := lw_g (lw_at lw_m1 210 rfl) rfl
theorem q302 : (Jvm.Cond.lays "FirstWords$Reader" "FirstWords$Reader" "value" "I") ∈ lw_all := lw_g (lw_at lw_m1 211 rfl) rfl
theorem q303 : (Jvm.Cond.soleField "FirstWords$Reader" "value") ∈ lw_all := lw_g (lw_at lw_m1 212 rfl) rfl
theorem q304 : (Jvm.Cond.laysFinal "FirstWords$Reader" "FirstWords$Reader" "this$0" "LFirstWords;") ∈ lw_all := lw_g (lw_at lw_m1 213 rfl) rfl
theorem q305 : (Jvm.Cond.soleField "FirstWords$Reader" "this$0") ∈ lw_all := lw_g (lw_at lw_m1 214 rfl) rfl
theorem q306 : (Jvm.Cond.superclass "FirstWords$Reader" "java/lang/Object") ∈ lw_all := lw_g (lw_at lw_m1 215 rfl) rfl
theorem q308 : (Jvm.Cond.instanceMethod ({ cls := "FirstWords$Reader", name := "all", desc := "()V" } : Jvm.MethodName)) ∈ lw_all := lw_g (lw_at lw_m1 217 rfl) rfl
theorem q309 : (Jvm.Cond.selects "FirstWords$Reader" ({ cls := "FirstWords$Reader", name := "all", desc := "()V" } : Jvm.MethodName) ({ cls := "FirstWords$Reader", name := "all", desc := "()V" } : Jvm.MethodName)) ∈ lw_all := lw_g (lw_at lw_m1 218 rfl) rfl
theorem q310 : (Jvm.Cond.code ({ cls := "FirstWords$Reader", name := "all", desc := "()V" } : Jvm.MethodName) prog_9_method_13_code (4 : Nat) (Option.none : Option Jvm.ClassFile.FieldType)) ∈ lw_all := lw_g (lw_at lw_m1 219 rfl) rfl
theorem q311 : (Jvm.Cond.methodLink "FirstWords$Reader" (167 : Nat) ({ cls := "FirstWords$Reader", name := "line", desc := "()V" } : Jvm.MethodName)) ∈ lw_all := lw_g (lw_at lw_m1 220 rfl) rfl
theorem q312 : (Jvm.Cond.privateMethod ({ cls := "FirstWords$Reader", name := "line", desc := "()V" } : Jvm.MethodName)) ∈ lw_tbl := lw_at lw_m1 221 rfl
theorem q313 : (Jvm.Cond.instanceMethod ({ cls := "FirstWords$Reader", name := "line", desc := "()V" } : Jvm.MethodName)) ∈ lw_all := lw_g (lw_at lw_m1 222 rfl) rfl
theorem q314 : (Jvm.Cond.code ({ cls := "FirstWords$Reader", name := "line", desc := "()V" } : Jvm.MethodName) prog_9_method_12_code (2 : Nat) (Option.none : Option Jvm.ClassFile.FieldType)) ∈ lw_all := lw_g (lw_at lw_m1 223 rfl) rfl
theorem q315 : (Jvm.Cond.fieldLinkNest "FirstWords$Reader" (151 : Nat) "FirstWords" "NAMES" "[Ljava/lang/String;" "FirstWords") ∈ lw_tbl := lw_at lw_m1 224 rfl
theorem q317 : (Jvm.Cond.methodLink "FirstWords$Reader" (137 : Nat) ({ cls := "FirstWords$Reader", name := "which", desc := "([Ljava/lang/String;)I" } : Jvm.MethodName)) ∈ lw_all := lw_g (lw_at lw_m1 226 rfl) rfl
theorem q318 : (Jvm.Cond.privateMethod ({ cls := "FirstWords$Reader", name := "which", desc := "([Ljava/lang/String;)I" } : Jvm.MethodName)) ∈ lw_tbl := lw_at lw_m1 227 rfl
theorem q319 : (Jvm.Cond.instanceMethod ({ cls := "FirstWords$Reader", name := "which", desc := "([Ljava/lang/String;)I" } : Jvm.MethodName)) ∈ lw_all := lw_g (lw_at lw_m1 228 rfl) rfl
theorem q320 : (Jvm.Cond.code ({ cls := "FirstWords$Reader", name := "which", desc := "([Ljava/lang/String;)I" } : Jvm.MethodName) prog_9_method_8_code (3 : Nat) (Option.some Jvm.ClassFile.FieldType.int)) ∈ lw_all := lw_g (lw_at lw_m1 229 rfl) rfl
theorem q321 : (Jvm.Cond.methodLink "FirstWords$Reader" (91 : Nat) ({ cls := "FirstWords$Reader", name := "isWord", desc := "(Ljava/lang/String;)Z" } : Jvm.MethodName)) ∈ lw_all := lw_g (lw_at lw_m1 230 rfl) rfl
theorem q322 : (Jvm.Cond.privateMethod ({ cls := "FirstWords$Reader", name := "isWord", desc := "(Ljava/lang/String;)Z" } : Jvm.MethodName)) ∈ lw_tbl := lw_at lw_m1 231 rfl
theorem q323 : (Jvm.Cond.instanceMethod ({ cls := "FirstWords$Reader", name := "isWord", desc := "(Ljava/lang/String;)Z" } : Jvm.MethodName)) ∈ lw_all := lw_g (lw_at lw_m1 232 rfl) rfl
theorem q324 : (Jvm.Cond.code ({ cls := "FirstWords$Reader", name := "isWord", desc := "(Ljava/lang/String;)Z" } : Jvm.MethodName) prog_9_method_4_code (4 : Nat) (Option.some Jvm.ClassFile.FieldType.boolean)) ∈ lw_all := lw_g (lw_at lw_m1 233 rfl) rfl
theorem q325 : (Jvm.Cond.methodLink "FirstWords$Reader" (53 : Nat) ({ cls := "java/lang/String", name := "length", desc := "()I" } : Jvm.MethodName)) ∈ lw_all := lw_g (lw_at lw_m1 234 rfl) rfl
theorem q335 : (Jvm.Cond.methodLink "FirstWords$Reader" (62 : Nat) ({ cls := "java/lang/String", name := "charAt", desc := "(I)C" } : Jvm.MethodName)) ∈ lw_all := lw_g (lw_at lw_m2 4 rfl) rfl
theorem q373 : (Jvm.Cond.methodLink "FirstWords$Reader" (95 : Nat) ({ cls := "FirstWords$Reader", name := "letters", desc := "(I)I" } : Jvm.MethodName)) ∈ lw_all := lw_g (lw_at lw_m2 42 rfl) rfl
theorem q374 : (Jvm.Cond.privateMethod ({ cls := "FirstWords$Reader", name := "letters", desc := "(I)I" } : Jvm.MethodName)) ∈ lw_tbl := lw_at lw_m2 43 rfl
theorem q375 : (Jvm.Cond.instanceMethod ({ cls := "FirstWords$Reader", name := "letters", desc := "(I)I" } : Jvm.MethodName)) ∈ lw_all := lw_g (lw_at lw_m2 44 rfl) rfl
theorem q376 : (Jvm.Cond.code ({ cls := "FirstWords$Reader", name := "letters", desc := "(I)I" } : Jvm.MethodName) prog_9_method_7_code (5 : Nat) (Option.some Jvm.ClassFile.FieldType.int)) ∈ lw_all := lw_g (lw_at lw_m2 45 rfl) rfl
theorem q377 : (Jvm.Cond.constantLong "FirstWords$Reader" (89 : Nat) (7 : Int64)) ∈ lw_all := lw_g (lw_at lw_m2 46 rfl) rfl
theorem q378 : (Jvm.Cond.methodLink "FirstWords$Reader" (154 : Nat) ({ cls := "FirstWords$Reader", name := "meaning", desc := "()V" } : Jvm.MethodName)) ∈ lw_all := lw_g (lw_at lw_m2 47 rfl) rfl
theorem q379 : (Jvm.Cond.privateMethod ({ cls := "FirstWords$Reader", name := "meaning", desc := "()V" } : Jvm.MethodName)) ∈ lw_tbl := lw_at lw_m2 48 rfl
theorem q380 : (Jvm.Cond.instanceMethod ({ cls := "FirstWords$Reader", name := "meaning", desc := "()V" } : Jvm.MethodName)) ∈ lw_all := lw_g (lw_at lw_m2 49 rfl) rfl
theorem q381 : (Jvm.Cond.code ({ cls := "FirstWords$Reader", name := "meaning", desc := "()V" } : Jvm.MethodName) prog_9_method_11_code (3 : Nat) (Option.none : Option Jvm.ClassFile.FieldType)) ∈ lw_all := lw_g (lw_at lw_m2 50 rfl) rfl
theorem q382 : (Jvm.Cond.stringRef "FirstWords$Reader" (148 : Nat) "not") ∈ lw_tbl := lw_at lw_m2 51 rfl
theorem q384 : (Jvm.Cond.methodLink "FirstWords$Reader" (150 : Nat) ({ cls := "FirstWords$Meaning", name := "<init>", desc := "(II)V" } : Jvm.MethodName)) ∈ lw_all := lw_g (lw_at lw_m2 53 rfl) rfl
theorem q390 : (Jvm.Cond.fieldLinkNest "FirstWords$Reader" (201 : Nat) "FirstWords$Meaning" "has" "I" "FirstWords") ∈ lw_tbl := lw_at lw_m2 59 rfl
theorem q393 : (Jvm.Cond.fieldLinkNest "FirstWords$Reader" (204 : Nat) "FirstWords$Meaning" "not" "I" "FirstWords") ∈ lw_tbl := lw_at lw_m2 62 rfl
theorem q397 : (Jvm.Cond.fieldLinkNest "FirstWords$Reader" (194 : Nat) "FirstWords$Meaning" "things" "I" "FirstWords") ∈ lw_tbl := lw_at lw_m2 66 rfl
theorem q405 : (Jvm.Cond.methodLink "FirstWords$Reader" (104 : Nat) ({ cls := "FirstWords$Reader", name := "number", desc := "(II)I" } : Jvm.MethodName)) ∈ lw_all := lw_g (lw_at lw_m2 74 rfl) rfl
theorem q406 : (Jvm.Cond.privateMethod ({ cls := "FirstWords$Reader", name := "number", desc := "(II)I" } : Jvm.MethodName)) ∈ lw_tbl := lw_at lw_m2 75 rfl
theorem q407 : (Jvm.Cond.instanceMethod ({ cls := "FirstWords$Reader", name := "number", desc := "(II)I" } : Jvm.MethodName)) ∈ lw_all := lw_g (lw_at lw_m2 76 rfl) rfl
theorem q408 : (Jvm.Cond.code ({ cls := "FirstWords$Reader", name := "number", desc := "(II)I" } : Jvm.MethodName) prog_9_method_6_code (4 : Nat) (Option.some Jvm.ClassFile.FieldType.int)) ∈ lw_all := lw_g (lw_at lw_m2 77 rfl) rfl
theorem q409 : (Jvm.Cond.methodLink "FirstWords$Reader" (160 : Nat) ({ cls := "FirstWords$Reader", name := "stranger", desc := "(I)V" } : Jvm.MethodName)) ∈ lw_all := lw_g (lw_at lw_m2 78 rfl) rfl
theorem q410 : (Jvm.Cond.privateMethod ({ cls := "FirstWords$Reader", name := "stranger", desc := "(I)V" } : Jvm.MethodName)) ∈ lw_tbl := lw_at lw_m2 79 rfl
theorem q411 : (Jvm.Cond.instanceMethod ({ cls := "FirstWords$Reader", name := "stranger", desc := "(I)V" } : Jvm.MethodName)) ∈ lw_all := lw_g (lw_at lw_m2 80 rfl) rfl
theorem q412 : (Jvm.Cond.code ({ cls := "FirstWords$Reader", name := "stranger", desc := "(I)V" } : Jvm.MethodName) prog_9_method_10_code (5 : Nat) (Option.none : Option Jvm.ClassFile.FieldType)) ∈ lw_all := lw_g (lw_at lw_m2 81 rfl) rfl
theorem q414 : (Jvm.Cond.methodLinkNest "FirstWords$Reader" (121 : Nat) ({ cls := "FirstWords$Stranger", name := "<init>", desc := "(LFirstWords;)V" } : Jvm.MethodName) "FirstWords") ∈ lw_tbl := lw_at lw_m2 83 rfl
theorem q419 : (Jvm.Cond.fieldLink "FirstWords$Reader" (98 : Nat) "FirstWords$Stranger" "sees" "I") ∈ lw_all := lw_g (lw_at lw_m2 88 rfl) rfl
theorem q422 : (Jvm.Cond.fieldLink "FirstWords$Reader" (108 : Nat) "FirstWords$Stranger" "fears" "I") ∈ lw_all := lw_g (lw_at lw_m2 91 rfl) rfl
theorem q425 : (Jvm.Cond.fieldLink "FirstWords$Reader" (111 : Nat) "FirstWords$Stranger" "isUnlike" "Z") ∈ lw_all := lw_g (lw_at lw_m2 94 rfl) rfl
theorem q428 : (Jvm.Cond.fieldLink "FirstWords$Reader" (115 : Nat) "FirstWords$Stranger" "chance" "I") ∈ lw_all := lw_g (lw_at lw_m2 97 rfl) rfl
theorem q432 : (Jvm.Cond.fieldLink "FirstWords$Reader" (206 : Nat) "FirstWords$Stranger" "can" "I") ∈ lw_all := lw_g (lw_at lw_m2 101 rfl) rfl
theorem q447 : (Jvm.Cond.classLink "FirstWords$Reader" (124 : Nat) "FirstWords$Last") ∈ lw_all := lw_g (lw_at lw_m2 116 rfl) rfl
theorem q449 : (Jvm.Cond.methodLinkNest "FirstWords$Reader" (126 : Nat) ({ cls := "FirstWords$Last", name := "<init>", desc := "(LFirstWords;)V" } : Jvm.MethodName) "FirstWords") ∈ lw_tbl := lw_at lw_m2 118 rfl
theorem q463 : (Jvm.Cond.classLink "FirstWords$Reader" (127 : Nat) "FirstWords$Careful") ∈ lw_all := lw_g (lw_at lw_m2 132 rfl) rfl
theorem q465 : (Jvm.Cond.methodLinkNest "FirstWords$Reader" (129 : Nat) ({ cls := "FirstWords$Careful", name := "<init>", desc := "(LFirstWords;)V" } : Jvm.MethodName) "FirstWords") ∈ lw_tbl := lw_at lw_m2 134 rfl
theorem q479 : (Jvm.Cond.classLink "FirstWords$Reader" (130 : Nat) "FirstWords$Proud") ∈ lw_all := lw_g (lw_at lw_m2 148 rfl) rfl
theorem q481 : (Jvm.Cond.methodLinkNest "FirstWords$Reader" (132 : Nat) ({ cls := "FirstWords$Proud", name := "<init>", desc := "(LFirstWords;)V" } : Jvm.MethodName) "FirstWords") ∈ lw_tbl := lw_at lw_m2 150 rfl
theorem q496 : (Jvm.Cond.fieldLinkNest "FirstWords$Reader" (133 : Nat) "FirstWords" "WITHS" "[Ljava/lang/String;" "FirstWords") ∈ lw_tbl := lw_at lw_m2 165 rfl
theorem q498 : (Jvm.Cond.methodLink "FirstWords$Reader" (141 : Nat) ({ cls := "FirstWords$Reader", name := "with", desc := "(LFirstWords$Stranger;I)V" } : Jvm.MethodName)) ∈ lw_all := lw_g (lw_at lw_m2 167 rfl) rfl
theorem q499 : (Jvm.Cond.privateMethod ({ cls := "FirstWords$Reader", name := "with", desc := "(LFirstWords$Stranger;I)V" } : Jvm.MethodName)) ∈ lw_tbl := lw_at lw_m2 168 rfl
theorem q500 : (Jvm.Cond.instanceMethod ({ cls := "FirstWords$Reader", name := "with", desc := "(LFirstWords$Stranger;I)V" } : Jvm.MethodName)) ∈ lw_all := lw_g (lw_at lw_m2 169 rfl) rfl
theorem q501 : (Jvm.Cond.code ({ cls := "FirstWords$Reader", name := "with", desc := "(LFirstWords$Stranger;I)V" } : Jvm.MethodName) prog_9_method_9_code (3 : Nat) (Option.none : Option Jvm.ClassFile.FieldType)) ∈ lw_all := lw_g (lw_at lw_m2 170 rfl) rfl
theorem q502 : (Jvm.Cond.methodLink "FirstWords$Reader" (197 : Nat) ({ cls := "FirstWords$Meaning", name := "fits", desc := "(I)Z" } : Jvm.MethodName)) ∈ lw_all := lw_g (lw_at lw_m2 171 rfl) rfl
theorem q975 : (Jvm.Cond.fieldLinkNest "FirstWords$Reader" (170 : Nat) "FirstWords" "marks" "[I" "FirstWords") ∈ lw_tbl := lw_at lw_m4 164 rfl
theorem q978 : (Jvm.Cond.fieldLinkNest "FirstWords$Reader" (173 : Nat) "FirstWords" "thingMany" "I" "FirstWords") ∈ lw_tbl := lw_at lw_m4 167 rfl
theorem q982 : (Jvm.Cond.fieldLinkNest "FirstWords$Reader" (176 : Nat) "FirstWords" "meanings" "[LFirstWords$Meaning;" "FirstWords") ∈ lw_tbl := lw_at lw_m4 171 rfl
theorem q985 : (Jvm.Cond.fieldLinkNest "FirstWords$Reader" (179 : Nat) "FirstWords" "meaningMany" "I" "FirstWords") ∈ lw_tbl := lw_at lw_m4 174 rfl
theorem q987 : (Jvm.Cond.fieldLinkNest "FirstWords$Reader" (182 : Nat) "FirstWords" "words" "[I" "FirstWords") ∈ lw_tbl := lw_at lw_m4 176 rfl
theorem q989 : (Jvm.Cond.fieldLinkNest "FirstWords$Reader" (185 : Nat) "FirstWords" "soundMany" "I" "FirstWords") ∈ lw_tbl := lw_at lw_m4 178 rfl
theorem q992 : (Jvm.Cond.fieldLinkNest "FirstWords$Reader" (188 : Nat) "FirstWords" "strangers" "[LFirstWords$Stranger;" "FirstWords") ∈ lw_tbl := lw_at lw_m4 181 rfl
theorem q995 : (Jvm.Cond.fieldLinkNest "FirstWords$Reader" (191 : Nat) "FirstWords" "kindMany" "I" "FirstWords") ∈ lw_tbl := lw_at lw_m4 184 rfl
theorem in_X6 : ∀ w ∈ wsX60, w ∈ lw_all := lw_in wsX60 [276, 278, 280, 282, 284, 286, 288, 290, 292, 294, 296, 298, 300, 302, 304] (by decide +kernel) (by decide +kernel)
