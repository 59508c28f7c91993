/-! FirstWords -/
set_option maxRecDepth 100000
def RX0 : String := "FirstWords"
def TX0 : u_T := fun k => match k with
  | 0 => ("FirstWords", "marks", "[I", false)
  | 1 => ("FirstWords", "thingMany", "I", false)
  | 2 => ("FirstWords", "meanings", "[LFirstWords$Meaning;", false)
  | 3 => ("FirstWords", "meaningMany", "I", false)
  | 4 => ("FirstWords", "words", "[I", false)
  | 5 => ("FirstWords", "soundMany", "I", false)
  | 6 => ("FirstWords", "strangers", "[LFirstWords$Stranger;", false)
  | 7 => ("FirstWords", "kindMany", "I", false)
  | 8 => ("FirstWords", "tape", "[B", true)
  | 9 => ("FirstWords", "taped", "I", false)
  | 10 => ("FirstWords", "fault", "I", false)
  | 11 => ("FirstWords", "shown", "[[I", true)
  | 12 => ("FirstWords", "shownMany", "I", false)
  | 13 => ("FirstWords", "left", "I", false)
  | 14 => ("FirstWords", "minds", "[LFirstWords$Mind;", true)
  | 15 => ("FirstWords", "fit", "[I", true)
  | 16 => ("FirstWords", "lesson", "LFirstWords$Teaching;", true)
  | 17 => ("FirstWords", "pupils", "[LFirstWords$Mind;", true)
  | 18 => ("FirstWords", "order", "[I", true)
  | 19 => ("FirstWords", "bestOrder", "[I", true)
  | 20 => ("FirstWords", "bestSum", "I", false)
  | 21 => ("FirstWords", "sums", "[I", true)
  | 22 => ("FirstWords", "theirs", "[[I", true)
  | 23 => ("FirstWords", "theirMany", "I", false)
  | 24 => ("FirstWords", "images", "[LFirstWords$Image;", true)
  | 25 => ("FirstWords", "sheets", "[LFirstWords$Sheet;", true)
  | 26 => ("FirstWords", "torn", "I", false)
  | 27 => ("FirstWords", "came", "[I", true)
  | 28 => ("FirstWords", "cameMany", "I", false)
  | _ => ("FirstWords", "refused", "I", false)
def tyX0 : Nat → FieldType := fun k => match k with
  | 0 => .array .int
  | 1 => .int
  | 2 => .array (.object "FirstWords$Meaning")
  | 3 => .int
  | 4 => .array .int
  | 5 => .int
  | 6 => .array (.object "FirstWords$Stranger")
  | 7 => .int
  | 8 => .array .byte
  | 9 => .int
  | 10 => .int
  | 11 => .array (.array .int)
  | 12 => .int
  | 13 => .int
  | 14 => .array (.object "FirstWords$Mind")
  | 15 => .array .int
  | 16 => .object "FirstWords$Teaching"
  | 17 => .array (.object "FirstWords$Mind")
  | 18 => .array .int
  | 19 => .array .int
  | 20 => .int
  | 21 => .array .int
  | 22 => .array (.array .int)
  | 23 => .int
  | 24 => .array (.object "FirstWords$Image")
  | 25 => .array (.object "FirstWords$Sheet")
  | 26 => .int
  | 27 => .array .int
  | 28 => .int
  | _ => .int
abbrev wsX00 : List Cond := u_ws RX0 TX0 30
set_option maxRecDepth 100000 in
theorem nmX0 : ∀ a, a < 30 → ∀ b, b < 30 → a ≠ b → (TX0 a).2.1 ≠ (TX0 b).2.1 := by decide +kernel
set_option maxRecDepth 100000 in
theorem tyX0_ok : ∀ k, k < 30 → parseFieldDescriptor (TX0 k).2.2.1 = some (tyX0 k) := by decide +kernel
abbrev cX0_feed : ByteArray := prog_1_method_3_code
def yX0_feed : MethodName := ⟨RX0, "feed", "(J)I"⟩
def dkwX0_feed_2 : List UInt8 := [132, 3, 248, 167, 255, 225, 42, 180, 0, 17, 172]
abbrev dktX0_feed_2 : List UInt8 := dkwX0_feed_2 ++ []
def dkwX0_feed_1 : List UInt8 := [180, 0, 20, 42, 180, 0, 17, 31, 29, 123, 136, 145, 84, 42, 89, 180, 0, 17, 4, 96, 181, 0, 17]
abbrev dktX0_feed_1 : List UInt8 := dkwX0_feed_1 ++ dktX0_feed_2
def dkwX0_feed_0 : List UInt8 := [42, 180, 0, 17, 16, 8, 96, 17, 1, 144, 164, 0, 6, 16, 253, 172, 16, 56, 62, 29, 155, 0, 33, 42]
abbrev dktX0_feed_0 : List UInt8 := dkwX0_feed_0 ++ dktX0_feed_1
theorem dksX0_feed_0 : cX0_feed.data.toList.drop 0 = dktX0_feed_0 := by decide +kernel
theorem dksX0_feed_1 : cX0_feed.data.toList.drop 24 = dktX0_feed_1 := dk_seg dksX0_feed_0 24 rfl rfl
theorem dksX0_feed_2 : cX0_feed.data.toList.drop 47 = dktX0_feed_2 := dk_seg dksX0_feed_1 23 rfl rfl
theorem dX0_feed_0 : decode cX0_feed 0 = .ok (.aload_n 0, 1) := dk_42 (dk_at dksX0_feed_0 0 rfl rfl)
theorem dX0_feed_1 : decode cX0_feed 1 = .ok (.getfield 17, 3) := dk_180 0 17 (dk_at dksX0_feed_0 1 rfl rfl)
theorem dX0_feed_4 : decode cX0_feed 4 = .ok (.bipush 8, 2) := dk_16 8 (dk_at dksX0_feed_0 4 rfl rfl)
theorem dX0_feed_6 : decode cX0_feed 6 = .ok (.iadd, 1) := dk_96 (dk_at dksX0_feed_0 6 rfl rfl)
theorem dX0_feed_7 : decode cX0_feed 7 = .ok (.sipush 400, 3) := dk_17 1 144 (dk_at dksX0_feed_0 7 rfl rfl)
theorem dX0_feed_10 : decode cX0_feed 10 = .ok (.if_icmp .le 6, 3) := dk_164 0 6 (dk_at dksX0_feed_0 10 rfl rfl)
theorem dX0_feed_13 : decode cX0_feed 13 = .ok (.bipush (-3), 2) := dk_16 253 (dk_at dksX0_feed_0 13 rfl rfl)
theorem dX0_feed_15 : decode cX0_feed 15 = .ok (.ireturn, 1) := dk_172 (dk_at dksX0_feed_0 15 rfl rfl)
theorem dX0_feed_16 : decode cX0_feed 16 = .ok (.bipush 56, 2) := dk_16 56 (dk_at dksX0_feed_0 16 rfl rfl)
theorem dX0_feed_18 : decode cX0_feed 18 = .ok (.istore_n 3, 1) := dk_62 (dk_at dksX0_feed_0 18 rfl rfl)
theorem dX0_feed_19 : decode cX0_feed 19 = .ok (.iload_n 3, 1) := dk_29 (dk_at dksX0_feed_0 19 rfl rfl)
theorem dX0_feed_20 : decode cX0_feed 20 = .ok (.ifCond .lt 33, 3) := dk_155 0 33 (dk_at dksX0_feed_0 20 rfl rfl)
theorem dX0_feed_23 : decode cX0_feed 23 = .ok (.aload_n 0, 1) := dk_42 (dk_at dksX0_feed_0 23 rfl rfl)
theorem dX0_feed_24 : decode cX0_feed 24 = .ok (.getfield 20, 3) := dk_180 0 20 (dk_at dksX0_feed_1 0 rfl rfl)
theorem dX0_feed_27 : decode cX0_feed 27 = .ok (.aload_n 0, 1) := dk_42 (dk_at dksX0_feed_1 3 rfl rfl)
theorem dX0_feed_28 : decode cX0_feed 28 = .ok (.getfield 17, 3) := dk_180 0 17 (dk_at dksX0_feed_1 4 rfl rfl)
theorem dX0_feed_31 : decode cX0_feed 31 = .ok (.lload_n 1, 1) := dk_31 (dk_at dksX0_feed_1 7 rfl rfl)
theorem dX0_feed_32 : decode cX0_feed 32 = .ok (.iload_n 3, 1) := dk_29 (dk_at dksX0_feed_1 8 rfl rfl)
theorem dX0_feed_33 : decode cX0_feed 33 = .ok (.lshr, 1) := dk_123 (dk_at dksX0_feed_1 9 rfl rfl)
theorem dX0_feed_34 : decode cX0_feed 34 = .ok (.l2i, 1) := dk_136 (dk_at dksX0_feed_1 10 rfl rfl)
theorem dX0_feed_35 : decode cX0_feed 35 = .ok (.i2b, 1) := dk_145 (dk_at dksX0_feed_1 11 rfl rfl)
theorem dX0_feed_36 : decode cX0_feed 36 = .ok (.bastore, 1) := dk_84 (dk_at dksX0_feed_1 12 rfl rfl)
theorem dX0_feed_37 : decode cX0_feed 37 = .ok (.aload_n 0, 1) := dk_42 (dk_at dksX0_feed_1 13 rfl rfl)
theorem dX0_feed_38 : decode cX0_feed 38 = .ok (.dup, 1) := dk_89 (dk_at dksX0_feed_1 14 rfl rfl)
theorem dX0_feed_39 : decode cX0_feed 39 = .ok (.getfield 17, 3) := dk_180 0 17 (dk_at dksX0_feed_1 15 rfl rfl)
theorem dX0_feed_42 : decode cX0_feed 42 = .ok (.iconst 1, 1) := dk_4 (dk_at dksX0_feed_1 18 rfl rfl)
theorem dX0_feed_43 : decode cX0_feed 43 = .ok (.iadd, 1) := dk_96 (dk_at dksX0_feed_1 19 rfl rfl)
theorem dX0_feed_44 : decode cX0_feed 44 = .ok (.putfield 17, 3) := dk_181 0 17 (dk_at dksX0_feed_1 20 rfl rfl)
theorem dX0_feed_47 : decode cX0_feed 47 = .ok (.iinc 3 (-8), 3) := dk_132 3 248 (dk_at dksX0_feed_2 0 rfl rfl)
theorem dX0_feed_50 : decode cX0_feed 50 = .ok (.goto (-31), 3) := dk_167 255 225 (dk_at dksX0_feed_2 3 rfl rfl)
theorem dX0_feed_53 : decode cX0_feed 53 = .ok (.aload_n 0, 1) := dk_42 (dk_at dksX0_feed_2 6 rfl rfl)
theorem dX0_feed_54 : decode cX0_feed 54 = .ok (.getfield 17, 3) := dk_180 0 17 (dk_at dksX0_feed_2 7 rfl rfl)
theorem dX0_feed_57 : decode cX0_feed 57 = .ok (.ireturn, 1) := dk_172 (dk_at dksX0_feed_2 10 rfl rfl)
abbrev cX0_end : ByteArray := prog_1_method_4_code
def yX0_end : MethodName := ⟨RX0, "end", "(I)I"⟩
def dkwX0_end_1 : List UInt8 := [181, 0, 17, 28, 172]
abbrev dktX0_end_1 : List UInt8 := dkwX0_end_1 ++ []
def dkwX0_end_0 : List UInt8 := [27, 133, 9, 42, 180, 0, 17, 133, 184, 0, 24, 154, 0, 5, 2, 172, 42, 180, 0, 17, 61, 42, 27]
abbrev dktX0_end_0 : List UInt8 := dkwX0_end_0 ++ dktX0_end_1
theorem dksX0_end_0 : cX0_end.data.toList.drop 0 = dktX0_end_0 := by decide +kernel
theorem dksX0_end_1 : cX0_end.data.toList.drop 23 = dktX0_end_1 := dk_seg dksX0_end_0 23 rfl rfl
theorem dX0_end_0 : decode cX0_end 0 = .ok (.iload_n 1, 1) := dk_27 (dk_at dksX0_end_0 0 rfl rfl)
theorem dX0_end_1 : decode cX0_end 1 = .ok (.i2l, 1) := dk_133 (dk_at dksX0_end_0 1 rfl rfl)
theorem dX0_end_2 : decode cX0_end 2 = .ok (.lconst 0, 1) := dk_9 (dk_at dksX0_end_0 2 rfl rfl)
theorem dX0_end_3 : decode cX0_end 3 = .ok (.aload_n 0, 1) := dk_42 (dk_at dksX0_end_0 3 rfl rfl)
theorem dX0_end_4 : decode cX0_end 4 = .ok (.getfield 17, 3) := dk_180 0 17 (dk_at dksX0_end_0 4 rfl rfl)
theorem dX0_end_7 : decode cX0_end 7 = .ok (.i2l, 1) := dk_133 (dk_at dksX0_end_0 7 rfl rfl)
theorem dX0_end_8 : decode cX0_end 8 = .ok (.invokestatic 24, 3) := dk_184 0 24 (dk_at dksX0_end_0 8 rfl rfl)
theorem dX0_end_11 : decode cX0_end 11 = .ok (.ifCond .ne 5, 3) := dk_154 0 5 (dk_at dksX0_end_0 11 rfl rfl)
theorem dX0_end_14 : decode cX0_end 14 = .ok (.iconst (-1), 1) := dk_2 (dk_at dksX0_end_0 14 rfl rfl)
theorem dX0_end_15 : decode cX0_end 15 = .ok (.ireturn, 1) := dk_172 (dk_at dksX0_end_0 15 rfl rfl)
theorem dX0_end_16 : decode cX0_end 16 = .ok (.aload_n 0, 1) := dk_42 (dk_at dksX0_end_0 16 rfl rfl)
theorem dX0_end_17 : decode cX0_end 17 = .ok (.getfield 17, 3) := dk_180 0 17 (dk_at dksX0_end_0 17 rfl rfl)
theorem dX0_end_20 : decode cX0_end 20 = .ok (.istore_n 2, 1) := dk_61 (dk_at dksX0_end_0 20 rfl rfl)
theorem dX0_end_21 : decode cX0_end 21 = .ok (.aload_n 0, 1) := dk_42 (dk_at dksX0_end_0 21 rfl rfl)
theorem dX0_end_22 : decode cX0_end 22 = .ok (.iload_n 1, 1) := dk_27 (dk_at dksX0_end_0 22 rfl rfl)
theorem dX0_end_23 : decode cX0_end 23 = .ok (.putfield 17, 3) := dk_181 0 17 (dk_at dksX0_end_1 0 rfl rfl)
theorem dX0_end_26 : decode cX0_end 26 = .ok (.iload_n 2, 1) := dk_28 (dk_at dksX0_end_1 3 rfl rfl)
theorem dX0_end_27 : decode cX0_end 27 = .ok (.ireturn, 1) := dk_172 (dk_at dksX0_end_1 4 rfl rfl)
abbrev cX0_isIn : ByteArray := prog_1_method_1_code
def yX0_isIn : MethodName := ⟨RX0, "isIn", "(JJJ)Z"⟩
def dkwX0_isIn_0 : List UInt8 := [30, 32, 148, 155, 0, 14, 30, 22, 4, 148, 157, 0, 7, 4, 167, 0, 4, 3, 172]
abbrev dktX0_isIn_0 : List UInt8 := dkwX0_isIn_0 ++ []
theorem dksX0_isIn_0 : cX0_isIn.data.toList.drop 0 = dktX0_isIn_0 := by decide +kernel
theorem dX0_isIn_0 : decode cX0_isIn 0 = .ok (.lload_n 0, 1) := dk_30 (dk_at dksX0_isIn_0 0 rfl rfl)
theorem dX0_isIn_1 : decode cX0_isIn 1 = .ok (.lload_n 2, 1) := dk_32 (dk_at dksX0_isIn_0 1 rfl rfl)
theorem dX0_isIn_2 : decode cX0_isIn 2 = .ok (.lcmp, 1) := dk_148 (dk_at dksX0_isIn_0 2 rfl rfl)
theorem dX0_isIn_3 : decode cX0_isIn 3 = .ok (.ifCond .lt 14, 3) := dk_155 0 14 (dk_at dksX0_isIn_0 3 rfl rfl)
theorem dX0_isIn_6 : decode cX0_isIn 6 = .ok (.lload_n 0, 1) := dk_30 (dk_at dksX0_isIn_0 6 rfl rfl)
theorem dX0_isIn_7 : decode cX0_isIn 7 = .ok (.lload 4, 2) := dk_22 4 (dk_at dksX0_isIn_0 7 rfl rfl)
theorem dX0_isIn_9 : decode cX0_isIn 9 = .ok (.lcmp, 1) := dk_148 (dk_at dksX0_isIn_0 9 rfl rfl)
theorem dX0_isIn_10 : decode cX0_isIn 10 = .ok (.ifCond .gt 7, 3) := dk_157 0 7 (dk_at dksX0_isIn_0 10 rfl rfl)
theorem dX0_isIn_13 : decode cX0_isIn 13 = .ok (.iconst 1, 1) := dk_4 (dk_at dksX0_isIn_0 13 rfl rfl)
theorem dX0_isIn_14 : decode cX0_isIn 14 = .ok (.goto 4, 3) := dk_167 0 4 (dk_at dksX0_isIn_0 14 rfl rfl)
theorem dX0_isIn_17 : decode cX0_isIn 17 = .ok (.iconst 0, 1) := dk_3 (dk_at dksX0_isIn_0 17 rfl rfl)
theorem dX0_isIn_18 : decode cX0_isIn 18 = .ok (.ireturn, 1) := dk_172 (dk_at dksX0_isIn_0 18 rfl rfl)
abbrev cX0_text : ByteArray := prog_1_method_5_code
def yX0_text : MethodName := ⟨RX0, "text", "()I"⟩
def dkwX0_text_4 : List UInt8 := [100, 172]
abbrev dktX0_text_4 : List UInt8 := dkwX0_text_4 ++ []
def dkwX0_text_3 : List UInt8 := [3, 181, 0, 60, 44, 180, 0, 63, 172, 77, 42, 44, 180, 0, 68, 181, 0, 60, 16, 246, 44, 180, 0, 71]
abbrev dktX0_text_3 : List UInt8 := dkwX0_text_3 ++ dktX0_text_4
def dkwX0_text_2 : List UInt8 := [181, 0, 47, 42, 180, 0, 50, 3, 50, 3, 181, 0, 54, 42, 180, 0, 50, 4, 50, 3, 181, 0, 54, 42]
abbrev dktX0_text_2 : List UInt8 := dkwX0_text_2 ++ dktX0_text_3
def dkwX0_text_1 : List UInt8 := [181, 0, 17, 187, 0, 34, 89, 42, 43, 183, 0, 36, 77, 44, 182, 0, 40, 42, 182, 0, 44, 42, 3]
abbrev dktX0_text_1 : List UInt8 := dkwX0_text_1 ++ dktX0_text_2
def dkwX0_text_0 : List UInt8 := [42, 180, 0, 17, 188, 8, 76, 42, 180, 0, 20, 3, 43, 3, 42, 180, 0, 17, 184, 0, 28, 42, 3]
abbrev dktX0_text_0 : List UInt8 := dkwX0_text_0 ++ dktX0_text_1
theorem dksX0_text_0 : cX0_text.data.toList.drop 0 = dktX0_text_0 := by decide +kernel
theorem dksX0_text_1 : cX0_text.data.toList.drop 23 = dktX0_text_1 := dk_seg dksX0_text_0 23 rfl rfl
theorem dksX0_text_2 : cX0_text.data.toList.drop 46 = dktX0_text_2 := dk_seg dksX0_text_1 23 rfl rfl
theorem dksX0_text_3 : cX0_text.data.toList.drop 70 = dktX0_text_3 := dk_seg dksX0_text_2 24 rfl rfl
theorem dksX0_text_4 : cX0_text.data.toList.drop 94 = dktX0_text_4 := dk_seg dksX0_text_3 24 rfl rfl
theorem dX0_text_0 : decode cX0_text 0 = .ok (.aload_n 0, 1) := dk_42 (dk_at dksX0_text_0 0 rfl rfl)
theorem dX0_text_1 : decode cX0_text 1 = .ok (.getfield 17, 3) := dk_180 0 17 (dk_at dksX0_text_0 1 rfl rfl)
theorem dX0_text_4 : decode cX0_text 4 = .ok (.newarray .byte, 2) := dk_188_8 (dk_at dksX0_text_0 4 rfl rfl)
theorem dX0_text_6 : decode cX0_text 6 = .ok (.astore_n 1, 1) := dk_76 (dk_at dksX0_text_0 6 rfl rfl)
theorem dX0_text_7 : decode cX0_text 7 = .ok (.aload_n 0, 1) := dk_42 (dk_at dksX0_text_0 7 rfl rfl)
theorem dX0_text_8 : decode cX0_text 8 = .ok (.getfield 20, 3) := dk_180 0 20 (dk_at dksX0_text_0 8 rfl rfl)
theorem dX0_text_11 : decode cX0_text 11 = .ok (.iconst 0, 1) := dk_3 (dk_at dksX0_text_0 11 rfl rfl)
theorem dX0_text_12 : decode cX0_text 12 = .ok (.aload_n 1, 1) := dk_43 (dk_at dksX0_text_0 12 rfl rfl)
theorem dX0_text_13 : decode cX0_text 13 = .ok (.iconst 0, 1) := dk_3 (dk_at dksX0_text_0 13 rfl rfl)
theorem dX0_text_14 : decode cX0_text 14 = .ok (.aload_n 0, 1) := dk_42 (dk_at dksX0_text_0 14 rfl rfl)
theorem dX0_text_15 : decode cX0_text 15 = .ok (.getfield 17, 3) := dk_180 0 17 (dk_at dksX0_text_0 15 rfl rfl)
theorem dX0_text_18 : decode cX0_text 18 = .ok (.invokestatic 28, 3) := dk_184 0 28 (dk_at dksX0_text_0 18 rfl rfl)
theorem dX0_text_21 : decode cX0_text 21 = .ok (.aload_n 0, 1) := dk_42 (dk_at dksX0_text_0 21 rfl rfl)
theorem dX0_text_22 : decode cX0_text 22 = .ok (.iconst 0, 1) := dk_3 (dk_at dksX0_text_0 22 rfl rfl)
theorem dX0_text_23 : decode cX0_text 23 = .ok (.putfield 17, 3) := dk_181 0 17 (dk_at dksX0_text_1 0 rfl rfl)
theorem dX0_text_26 : decode cX0_text 26 = .ok (.new 34, 3) := dk_187 0 34 (dk_at dksX0_text_1 3 rfl rfl)
theorem dX0_text_29 : decode cX0_text 29 = .ok (.dup, 1) := dk_89 (dk_at dksX0_text_1 6 rfl rfl)
theorem dX0_text_30 : decode cX0_text 30 = .ok (.aload_n 0, 1) := dk_42 (dk_at dksX0_text_1 7 rfl rfl)
theorem dX0_text_31 : decode cX0_text 31 = .ok (.aload_n 1, 1) := dk_43 (dk_at dksX0_text_1 8 rfl rfl)
theorem dX0_text_32 : decode cX0_text 32 = .ok (.invokespecial 36, 3) := dk_183 0 36 (dk_at dksX0_text_1 9 rfl rfl)
theorem dX0_text_35 : decode cX0_text 35 = .ok (.astore_n 2, 1) := dk_77 (dk_at dksX0_text_1 12 rfl rfl)
theorem dX0_text_36 : decode cX0_text 36 = .ok (.aload_n 2, 1) := dk_44 (dk_at dksX0_text_1 13 rfl rfl)
theorem dX0_text_37 : decode cX0_text 37 = .ok (.invokevirtual 40, 3) := dk_182 0 40 (dk_at dksX0_text_1 14 rfl rfl)
theorem dX0_text_40 : decode cX0_text 40 = .ok (.aload_n 0, 1) := dk_42 (dk_at dksX0_text_1 17 rfl rfl)
theorem dX0_text_41 : decode cX0_text 41 = .ok (.invokevirtual 44, 3) := dk_182 0 44 (dk_at dksX0_text_1 18 rfl rfl)
theorem dX0_text_44 : decode cX0_text 44 = .ok (.aload_n 0, 1) := dk_42 (dk_at dksX0_text_1 21 rfl rfl)
theorem dX0_text_45 : decode cX0_text 45 = .ok (.iconst 0, 1) := dk_3 (dk_at dksX0_text_1 22 rfl rfl)
theorem dX0_text_46 : decode cX0_text 46 = .ok (.putfield 47, 3) := dk_181 0 47 (dk_at dksX0_text_2 0 rfl rfl)
theorem dX0_text_49 : decode cX0_text 49 = .ok (.aload_n 0, 1) := dk_42 (dk_at dksX0_text_2 3 rfl rfl)
theorem dX0_text_50 : decode cX0_text 50 = .ok (.getfield 50, 3) := dk_180 0 50 (dk_at dksX0_text_2 4 rfl rfl)
theorem dX0_text_53 : decode cX0_text 53 = .ok (.iconst 0, 1) := dk_3 (dk_at dksX0_text_2 7 rfl rfl)
theorem dX0_text_54 : decode cX0_text 54 = .ok (.aaload, 1) := dk_50 (dk_at dksX0_text_2 8 rfl rfl)
theorem dX0_text_55 : decode cX0_text 55 = .ok (.iconst 0, 1) := dk_3 (dk_at dksX0_text_2 9 rfl rfl)
theorem dX0_text_56 : decode cX0_text 56 = .ok (.putfield 54, 3) := dk_181 0 54 (dk_at dksX0_text_2 10 rfl rfl)
theorem dX0_text_59 : decode cX0_text 59 = .ok (.aload_n 0, 1) := dk_42 (dk_at dksX0_text_2 13 rfl rfl)
theorem dX0_text_60 : decode cX0_text 60 = .ok (.getfield 50, 3) := dk_180 0 50 (dk_at dksX0_text_2 14 rfl rfl)
theorem dX0_text_63 : decode cX0_text 63 = .ok (.iconst 1, 1) := dk_4 (dk_at dksX0_text_2 17 rfl rfl)
theorem dX0_text_64 : decode cX0_text 64 = .ok (.aaload, 1) := dk_50 (dk_at dksX0_text_2 18 rfl rfl)
theorem dX0_text_65 : decode cX0_text 65 = .ok (.iconst 0, 1) := dk_3 (dk_at dksX0_text_2 19 rfl rfl)
theorem dX0_text_66 : decode cX0_text 66 = .ok (.putfield 54, 3) := dk_181 0 54 (dk_at dksX0_text_2 20 rfl rfl)
theorem dX0_text_69 : decode cX0_text 69 = .ok (.aload_n 0, 1) := dk_42 (dk_at dksX0_text_2 23 rfl rfl)
theorem dX0_text_70 : decode cX0_text 70 = .ok (.iconst 0, 1) := dk_3 (dk_at dksX0_text_3 0 rfl rfl)
theorem dX0_text_71 : decode cX0_text 71 = .ok (.putfield 60, 3) := dk_181 0 60 (dk_at dksX0_text_3 1 rfl rfl)
theorem dX0_text_74 : decode cX0_text 74 = .ok (.aload_n 2, 1) := dk_44 (dk_at dksX0_text_3 4 rfl rfl)
theorem dX0_text_75 : decode cX0_text 75 = .ok (.getfield 63, 3) := dk_180 0 63 (dk_at dksX0_text_3 5 rfl rfl)
theorem dX0_text_78 : decode cX0_text 78 = .ok (.ireturn, 1) := dk_172 (dk_at dksX0_text_3 8 rfl rfl)
theorem dX0_text_79 : decode cX0_text 79 = .ok (.astore_n 2, 1) := dk_77 (dk_at dksX0_text_3 9 rfl rfl)
theorem dX0_text_80 : decode cX0_text 80 = .ok (.aload_n 0, 1) := dk_42 (dk_at dksX0_text_3 10 rfl rfl)
theorem dX0_text_81 : decode cX0_text 81 = .ok (.aload_n 2, 1) := dk_44 (dk_at dksX0_text_3 11 rfl rfl)
theorem dX0_text_82 : decode cX0_text 82 = .ok (.getfield 68, 3) := dk_180 0 68 (dk_at dksX0_text_3 12 rfl rfl)
theorem dX0_text_85 : decode cX0_text 85 = .ok (.putfield 60, 3) := dk_181 0 60 (dk_at dksX0_text_3 15 rfl rfl)
theorem dX0_text_88 : decode cX0_text 88 = .ok (.bipush (-10), 2) := dk_16 246 (dk_at dksX0_text_3 18 rfl rfl)
theorem dX0_text_90 : decode cX0_text 90 = .ok (.aload_n 2, 1) := dk_44 (dk_at dksX0_text_3 20 rfl rfl)
theorem dX0_text_91 : decode cX0_text 91 = .ok (.getfield 71, 3) := dk_180 0 71 (dk_at dksX0_text_3 21 rfl rfl)
theorem dX0_text_94 : decode cX0_text 94 = .ok (.isub, 1) := dk_100 (dk_at dksX0_text_4 0 rfl rfl)
theorem dX0_text_95 : decode cX0_text 95 = .ok (.ireturn, 1) := dk_172 (dk_at dksX0_text_4 1 rfl rfl)
abbrev cX0_begins : ByteArray := prog_1_method_16_code
def yX0_begins : MethodName := ⟨RX0, "begins", "()V"⟩
def dkwX0_begins_0 : List UInt8 := [42, 3, 181, 0, 154, 42, 4, 42, 180, 0, 80, 120, 4, 100, 181, 0, 157, 42, 182, 0, 160, 177]
abbrev dktX0_begins_0 : List UInt8 := dkwX0_begins_0 ++ []
theorem dksX0_begins_0 : cX0_begins.data.toList.drop 0 = dktX0_begins_0 := by decide +kernel
theorem dX0_begins_0 : decode cX0_begins 0 = .ok (.aload_n 0, 1) := dk_42 (dk_at dksX0_begins_0 0 rfl rfl)
theorem dX0_begins_1 : decode cX0_begins 1 = .ok (.iconst 0, 1) := dk_3 (dk_at dksX0_begins_0 1 rfl rfl)
theorem dX0_begins_2 : decode cX0_begins 2 = .ok (.putfield 154, 3) := dk_181 0 154 (dk_at dksX0_begins_0 2 rfl rfl)
theorem dX0_begins_5 : decode cX0_begins 5 = .ok (.aload_n 0, 1) := dk_42 (dk_at dksX0_begins_0 5 rfl rfl)
theorem dX0_begins_6 : decode cX0_begins 6 = .ok (.iconst 1, 1) := dk_4 (dk_at dksX0_begins_0 6 rfl rfl)
theorem dX0_begins_7 : decode cX0_begins 7 = .ok (.aload_n 0, 1) := dk_42 (dk_at dksX0_begins_0 7 rfl rfl)
theorem dX0_begins_8 : decode cX0_begins 8 = .ok (.getfield 80, 3) := dk_180 0 80 (dk_at dksX0_begins_0 8 rfl rfl)
theorem dX0_begins_11 : decode cX0_begins 11 = .ok (.ishl, 1) := dk_120 (dk_at dksX0_begins_0 11 rfl rfl)
theorem dX0_begins_12 : decode cX0_begins 12 = .ok (.iconst 1, 1) := dk_4 (dk_at dksX0_begins_0 12 rfl rfl)
theorem dX0_begins_13 : decode cX0_begins 13 = .ok (.isub, 1) := dk_100 (dk_at dksX0_begins_0 13 rfl rfl)
theorem dX0_begins_14 : decode cX0_begins 14 = .ok (.putfield 157, 3) := dk_181 0 157 (dk_at dksX0_begins_0 14 rfl rfl)
theorem dX0_begins_17 : decode cX0_begins 17 = .ok (.aload_n 0, 1) := dk_42 (dk_at dksX0_begins_0 17 rfl rfl)
theorem dX0_begins_18 : decode cX0_begins 18 = .ok (.invokevirtual 160, 3) := dk_182 0 160 (dk_at dksX0_begins_0 18 rfl rfl)
theorem dX0_begins_21 : decode cX0_begins 21 = .ok (.return_, 1) := dk_177 (dk_at dksX0_begins_0 21 rfl rfl)
abbrev cX0_isNew : ByteArray := prog_1_method_15_code
def yX0_isNew : MethodName := ⟨RX0, "isNew", "()V"⟩
def dkwX0_isNew_2 : List UInt8 := [177]
abbrev dktX0_isNew_2 : List UInt8 := dkwX0_isNew_2 ++ []
def dkwX0_isNew_1 : List UInt8 := [182, 0, 140, 132, 3, 1, 167, 255, 238, 42, 180, 0, 145, 4, 42, 180, 0, 3, 120, 4, 100, 184, 0, 148]
abbrev dktX0_isNew_1 : List UInt8 := dkwX0_isNew_1 ++ dktX0_isNew_2
def dkwX0_isNew_0 : List UInt8 := [42, 180, 0, 136, 76, 43, 190, 61, 3, 62, 29, 28, 162, 0, 19, 43, 29, 50, 58, 4, 25, 4]
abbrev dktX0_isNew_0 : List UInt8 := dkwX0_isNew_0 ++ dktX0_isNew_1
theorem dksX0_isNew_0 : cX0_isNew.data.toList.drop 0 = dktX0_isNew_0 := by decide +kernel
theorem dksX0_isNew_1 : cX0_isNew.data.toList.drop 22 = dktX0_isNew_1 := dk_seg dksX0_isNew_0 22 rfl rfl
theorem dksX0_isNew_2 : cX0_isNew.data.toList.drop 46 = dktX0_isNew_2 := dk_seg dksX0_isNew_1 24 rfl rfl
theorem dX0_isNew_0 : decode cX0_isNew 0 = .ok (.aload_n 0, 1) := dk_42 (dk_at dksX0_isNew_0 0 rfl rfl)
theorem dX0_isNew_1 : decode cX0_isNew 1 = .ok (.getfield 136, 3) := dk_180 0 136 (dk_at dksX0_isNew_0 1 rfl rfl)
theorem dX0_isNew_4 : decode cX0_isNew 4 = .ok (.astore_n 1, 1) := dk_76 (dk_at dksX0_isNew_0 4 rfl rfl)
theorem dX0_isNew_5 : decode cX0_isNew 5 = .ok (.aload_n 1, 1) := dk_43 (dk_at dksX0_isNew_0 5 rfl rfl)
theorem dX0_isNew_6 : decode cX0_isNew 6 = .ok (.arraylength, 1) := dk_190 (dk_at dksX0_isNew_0 6 rfl rfl)
theorem dX0_isNew_7 : decode cX0_isNew 7 = .ok (.istore_n 2, 1) := dk_61 (dk_at dksX0_isNew_0 7 rfl rfl)
theorem dX0_isNew_8 : decode cX0_isNew 8 = .ok (.iconst 0, 1) := dk_3 (dk_at dksX0_isNew_0 8 rfl rfl)
theorem dX0_isNew_9 : decode cX0_isNew 9 = .ok (.istore_n 3, 1) := dk_62 (dk_at dksX0_isNew_0 9 rfl rfl)
theorem dX0_isNew_10 : decode cX0_isNew 10 = .ok (.iload_n 3, 1) := dk_29 (dk_at dksX0_isNew_0 10 rfl rfl)
theorem dX0_isNew_11 : decode cX0_isNew 11 = .ok (.iload_n 2, 1) := dk_28 (dk_at dksX0_isNew_0 11 rfl rfl)
theorem dX0_isNew_12 : decode cX0_isNew 12 = .ok (.if_icmp .ge 19, 3) := dk_162 0 19 (dk_at dksX0_isNew_0 12 rfl rfl)
theorem dX0_isNew_15 : decode cX0_isNew 15 = .ok (.aload_n 1, 1) := dk_43 (dk_at dksX0_isNew_0 15 rfl rfl)
theorem dX0_isNew_16 : decode cX0_isNew 16 = .ok (.iload_n 3, 1) := dk_29 (dk_at dksX0_isNew_0 16 rfl rfl)
theorem dX0_isNew_17 : decode cX0_isNew 17 = .ok (.aaload, 1) := dk_50 (dk_at dksX0_isNew_0 17 rfl rfl)
theorem dX0_isNew_18 : decode cX0_isNew 18 = .ok (.astore 4, 2) := dk_58 4 (dk_at dksX0_isNew_0 18 rfl rfl)
theorem dX0_isNew_20 : decode cX0_isNew 20 = .ok (.aload 4, 2) := dk_25 4 (dk_at dksX0_isNew_0 20 rfl rfl)
theorem dX0_isNew_22 : decode cX0_isNew 22 = .ok (.invokevirtual 140, 3) := dk_182 0 140 (dk_at dksX0_isNew_1 0 rfl rfl)
theorem dX0_isNew_25 : decode cX0_isNew 25 = .ok (.iinc 3 1, 3) := dk_132 3 1 (dk_at dksX0_isNew_1 3 rfl rfl)
theorem dX0_isNew_28 : decode cX0_isNew 28 = .ok (.goto (-18), 3) := dk_167 255 238 (dk_at dksX0_isNew_1 6 rfl rfl)
theorem dX0_isNew_31 : decode cX0_isNew 31 = .ok (.aload_n 0, 1) := dk_42 (dk_at dksX0_isNew_1 9 rfl rfl)
theorem dX0_isNew_32 : decode cX0_isNew 32 = .ok (.getfield 145, 3) := dk_180 0 145 (dk_at dksX0_isNew_1 10 rfl rfl)
theorem dX0_isNew_35 : decode cX0_isNew 35 = .ok (.iconst 1, 1) := dk_4 (dk_at dksX0_isNew_1 13 rfl rfl)
theorem dX0_isNew_36 : decode cX0_isNew 36 = .ok (.aload_n 0, 1) := dk_42 (dk_at dksX0_isNew_1 14 rfl rfl)
theorem dX0_isNew_37 : decode cX0_isNew 37 = .ok (.getfield 3, 3) := dk_180 0 3 (dk_at dksX0_isNew_1 15 rfl rfl)
theorem dX0_isNew_40 : decode cX0_isNew 40 = .ok (.ishl, 1) := dk_120 (dk_at dksX0_isNew_1 18 rfl rfl)
theorem dX0_isNew_41 : decode cX0_isNew 41 = .ok (.iconst 1, 1) := dk_4 (dk_at dksX0_isNew_1 19 rfl rfl)
theorem dX0_isNew_42 : decode cX0_isNew 42 = .ok (.isub, 1) := dk_100 (dk_at dksX0_isNew_1 20 rfl rfl)
theorem dX0_isNew_43 : decode cX0_isNew 43 = .ok (.invokestatic 148, 3) := dk_184 0 148 (dk_at dksX0_isNew_1 21 rfl rfl)
theorem dX0_isNew_46 : decode cX0_isNew 46 = .ok (.return_, 1) := dk_177 (dk_at dksX0_isNew_2 0 rfl rfl)
abbrev cX0_fault : ByteArray := prog_1_method_6_code
def yX0_fault : MethodName := ⟨RX0, "fault", "()I"⟩
theorem dX0_fault_0 : decode cX0_fault 0 = .ok (.aload_n 0, 1) := by decide +kernel
theorem dX0_fault_1 : decode cX0_fault 1 = .ok (.getfield 60, 3) := by decide +kernel
theorem dX0_fault_4 : decode cX0_fault 4 = .ok (.ireturn, 1) := by decide +kernel
abbrev cX0_thing : ByteArray := prog_1_method_11_code
def yX0_thing : MethodName := ⟨RX0, "thing", "(I)I"⟩
def dkwX0_thing_0 : List UInt8 := [42, 27, 182, 0, 83, 153, 0, 12, 42, 180, 0, 87, 27, 46, 167, 0, 4, 2, 172]
abbrev dktX0_thing_0 : List UInt8 := dkwX0_thing_0 ++ []
theorem dksX0_thing_0 : cX0_thing.data.toList.drop 0 = dktX0_thing_0 := by decide +kernel
theorem dX0_thing_0 : decode cX0_thing 0 = .ok (.aload_n 0, 1) := dk_42 (dk_at dksX0_thing_0 0 rfl rfl)
theorem dX0_thing_1 : decode cX0_thing 1 = .ok (.iload_n 1, 1) := dk_27 (dk_at dksX0_thing_0 1 rfl rfl)
theorem dX0_thing_2 : decode cX0_thing 2 = .ok (.invokevirtual 83, 3) := dk_182 0 83 (dk_at dksX0_thing_0 2 rfl rfl)
theorem dX0_thing_5 : decode cX0_thing 5 = .ok (.ifCond .eq 12, 3) := dk_153 0 12 (dk_at dksX0_thing_0 5 rfl rfl)
theorem dX0_thing_8 : decode cX0_thing 8 = .ok (.aload_n 0, 1) := dk_42 (dk_at dksX0_thing_0 8 rfl rfl)
theorem dX0_thing_9 : decode cX0_thing 9 = .ok (.getfield 87, 3) := dk_180 0 87 (dk_at dksX0_thing_0 9 rfl rfl)
theorem dX0_thing_12 : decode cX0_thing 12 = .ok (.iload_n 1, 1) := dk_27 (dk_at dksX0_thing_0 12 rfl rfl)
theorem dX0_thing_13 : decode cX0_thing 13 = .ok (.iaload, 1) := dk_46 (dk_at dksX0_thing_0 13 rfl rfl)
theorem dX0_thing_14 : decode cX0_thing 14 = .ok (.goto 4, 3) := dk_167 0 4 (dk_at dksX0_thing_0 14 rfl rfl)
theorem dX0_thing_17 : decode cX0_thing 17 = .ok (.iconst (-1), 1) := dk_2 (dk_at dksX0_thing_0 17 rfl rfl)
theorem dX0_thing_18 : decode cX0_thing 18 = .ok (.ireturn, 1) := dk_172 (dk_at dksX0_thing_0 18 rfl rfl)
abbrev cX0_isThing : ByteArray := prog_1_method_7_code
def yX0_isThing : MethodName := ⟨RX0, "isThing", "(I)Z"⟩
def dkwX0_isThing_0 : List UInt8 := [27, 133, 9, 42, 180, 0, 74, 4, 100, 133, 184, 0, 24, 172]
abbrev dktX0_isThing_0 : List UInt8 := dkwX0_isThing_0 ++ []
theorem dksX0_isThing_0 : cX0_isThing.data.toList.drop 0 = dktX0_isThing_0 := by decide +kernel
theorem dX0_isThing_0 : decode cX0_isThing 0 = .ok (.iload_n 1, 1) := dk_27 (dk_at dksX0_isThing_0 0 rfl rfl)
theorem dX0_isThing_1 : decode cX0_isThing 1 = .ok (.i2l, 1) := dk_133 (dk_at dksX0_isThing_0 1 rfl rfl)
theorem dX0_isThing_2 : decode cX0_isThing 2 = .ok (.lconst 0, 1) := dk_9 (dk_at dksX0_isThing_0 2 rfl rfl)
theorem dX0_isThing_3 : decode cX0_isThing 3 = .ok (.aload_n 0, 1) := dk_42 (dk_at dksX0_isThing_0 3 rfl rfl)
theorem dX0_isThing_4 : decode cX0_isThing 4 = .ok (.getfield 74, 3) := dk_180 0 74 (dk_at dksX0_isThing_0 4 rfl rfl)
theorem dX0_isThing_7 : decode cX0_isThing 7 = .ok (.iconst 1, 1) := dk_4 (dk_at dksX0_isThing_0 7 rfl rfl)
theorem dX0_isThing_8 : decode cX0_isThing 8 = .ok (.isub, 1) := dk_100 (dk_at dksX0_isThing_0 8 rfl rfl)
theorem dX0_isThing_9 : decode cX0_isThing 9 = .ok (.i2l, 1) := dk_133 (dk_at dksX0_isThing_0 9 rfl rfl)
theorem dX0_isThing_10 : decode cX0_isThing 10 = .ok (.invokestatic 24, 3) := dk_184 0 24 (dk_at dksX0_isThing_0 10 rfl rfl)
theorem dX0_isThing_13 : decode cX0_isThing 13 = .ok (.ireturn, 1) := dk_172 (dk_at dksX0_isThing_0 13 rfl rfl)
abbrev cX0_meaning : ByteArray := prog_1_method_12_code
def yX0_meaning : MethodName := ⟨RX0, "meaning", "(II)I"⟩
def dkwX0_meaning_5 : List UInt8 := [172]
abbrev dktX0_meaning_5 : List UInt8 := dkwX0_meaning_5 ++ []
def dkwX0_meaning_4 : List UInt8 := [45, 180, 0, 103, 172, 45, 180, 0, 106, 172, 45, 182, 0, 11, 172, 45, 180, 0, 109, 172, 21, 4, 172, 2]
abbrev dktX0_meaning_4 : List UInt8 := dkwX0_meaning_4 ++ dktX0_meaning_5
def dkwX0_meaning_3 : List UInt8 := [170, 0, 0, 0, 0, 0, 58, 0, 0, 0, 0, 0, 0, 0, 4, 0, 0, 0, 35, 0, 0, 0, 40, 0, 0, 0, 45, 0, 0, 0, 50, 0, 0, 0, 55]
abbrev dktX0_meaning_3 : List UInt8 := dkwX0_meaning_3 ++ dktX0_meaning_4
def dkwX0_meaning_2 : List UInt8 := [126, 21, 5, 120, 128, 54, 4, 132, 5, 1, 167, 255, 222, 28]
abbrev dktX0_meaning_2 : List UInt8 := dkwX0_meaning_2 ++ dktX0_meaning_3
def dkwX0_meaning_1 : List UInt8 := [21, 5, 42, 180, 0, 80, 162, 0, 31, 21, 4, 42, 180, 0, 94, 21, 5, 50, 180, 0, 98, 27, 122, 4]
abbrev dktX0_meaning_1 : List UInt8 := dkwX0_meaning_1 ++ dktX0_meaning_2
def dkwX0_meaning_0 : List UInt8 := [42, 27, 182, 0, 91, 154, 0, 5, 2, 172, 42, 180, 0, 7, 27, 50, 78, 3, 54, 4, 3, 54, 5]
abbrev dktX0_meaning_0 : List UInt8 := dkwX0_meaning_0 ++ dktX0_meaning_1
theorem dksX0_meaning_0 : cX0_meaning.data.toList.drop 0 = dktX0_meaning_0 := by decide +kernel
theorem dksX0_meaning_1 : cX0_meaning.data.toList.drop 23 = dktX0_meaning_1 := dk_seg dksX0_meaning_0 23 rfl rfl
theorem dksX0_meaning_2 : cX0_meaning.data.toList.drop 47 = dktX0_meaning_2 := dk_seg dksX0_meaning_1 24 rfl rfl
theorem dksX0_meaning_3 : cX0_meaning.data.toList.drop 61 = dktX0_meaning_3 := dk_seg dksX0_meaning_2 14 rfl rfl
theorem dksX0_meaning_4 : cX0_meaning.data.toList.drop 96 = dktX0_meaning_4 := dk_seg dksX0_meaning_3 35 rfl rfl
theorem dksX0_meaning_5 : cX0_meaning.data.toList.drop 120 = dktX0_meaning_5 := dk_seg dksX0_meaning_4 24 rfl rfl
theorem dX0_meaning_0 : decode cX0_meaning 0 = .ok (.aload_n 0, 1) := dk_42 (dk_at dksX0_meaning_0 0 rfl rfl)
theorem dX0_meaning_1 : decode cX0_meaning 1 = .ok (.iload_n 1, 1) := dk_27 (dk_at dksX0_meaning_0 1 rfl rfl)
theorem dX0_meaning_2 : decode cX0_meaning 2 = .ok (.invokevirtual 91, 3) := dk_182 0 91 (dk_at dksX0_meaning_0 2 rfl rfl)
theorem dX0_meaning_5 : decode cX0_meaning 5 = .ok (.ifCond .ne 5, 3) := dk_154 0 5 (dk_at dksX0_meaning_0 5 rfl rfl)
theorem dX0_meaning_8 : decode cX0_meaning 8 = .ok (.iconst (-1), 1) := dk_2 (dk_at dksX0_meaning_0 8 rfl rfl)
theorem dX0_meaning_9 : decode cX0_meaning 9 = .ok (.ireturn, 1) := dk_172 (dk_at dksX0_meaning_0 9 rfl rfl)
theorem dX0_meaning_10 : decode cX0_meaning 10 = .ok (.aload_n 0, 1) := dk_42 (dk_at dksX0_meaning_0 10 rfl rfl)
theorem dX0_meaning_11 : decode cX0_meaning 11 = .ok (.getfield 7, 3) := dk_180 0 7 (dk_at dksX0_meaning_0 11 rfl rfl)
theorem dX0_meaning_14 : decode cX0_meaning 14 = .ok (.iload_n 1, 1) := dk_27 (dk_at dksX0_meaning_0 14 rfl rfl)
theorem dX0_meaning_15 : decode cX0_meaning 15 = .ok (.aaload, 1) := dk_50 (dk_at dksX0_meaning_0 15 rfl rfl)
theorem dX0_meaning_16 : decode cX0_meaning 16 = .ok (.astore_n 3, 1) := dk_78 (dk_at dksX0_meaning_0 16 rfl rfl)
theorem dX0_meaning_17 : decode cX0_meaning 17 = .ok (.iconst 0, 1) := dk_3 (dk_at dksX0_meaning_0 17 rfl rfl)
theorem dX0_meaning_18 : decode cX0_meaning 18 = .ok (.istore 4, 2) := dk_54 4 (dk_at dksX0_meaning_0 18 rfl rfl)
theorem dX0_meaning_20 : decode cX0_meaning 20 = .ok (.iconst 0, 1) := dk_3 (dk_at dksX0_meaning_0 20 rfl rfl)
theorem dX0_meaning_21 : decode cX0_meaning 21 = .ok (.istore 5, 2) := dk_54 5 (dk_at dksX0_meaning_0 21 rfl rfl)
theorem dX0_meaning_23 : decode cX0_meaning 23 = .ok (.iload 5, 2) := dk_21 5 (dk_at dksX0_meaning_1 0 rfl rfl)
theorem dX0_meaning_25 : decode cX0_meaning 25 = .ok (.aload_n 0, 1) := dk_42 (dk_at dksX0_meaning_1 2 rfl rfl)
theorem dX0_meaning_26 : decode cX0_meaning 26 = .ok (.getfield 80, 3) := dk_180 0 80 (dk_at dksX0_meaning_1 3 rfl rfl)
theorem dX0_meaning_29 : decode cX0_meaning 29 = .ok (.if_icmp .ge 31, 3) := dk_162 0 31 (dk_at dksX0_meaning_1 6 rfl rfl)
theorem dX0_meaning_32 : decode cX0_meaning 32 = .ok (.iload 4, 2) := dk_21 4 (dk_at dksX0_meaning_1 9 rfl rfl)
theorem dX0_meaning_34 : decode cX0_meaning 34 = .ok (.aload_n 0, 1) := dk_42 (dk_at dksX0_meaning_1 11 rfl rfl)
theorem dX0_meaning_35 : decode cX0_meaning 35 = .ok (.getfield 94, 3) := dk_180 0 94 (dk_at dksX0_meaning_1 12 rfl rfl)
theorem dX0_meaning_38 : decode cX0_meaning 38 = .ok (.iload 5, 2) := dk_21 5 (dk_at dksX0_meaning_1 15 rfl rfl)
theorem dX0_meaning_40 : decode cX0_meaning 40 = .ok (.aaload, 1) := dk_50 (dk_at dksX0_meaning_1 17 rfl rfl)
theorem dX0_meaning_41 : decode cX0_meaning 41 = .ok (.getfield 98, 3) := dk_180 0 98 (dk_at dksX0_meaning_1 18 rfl rfl)
theorem dX0_meaning_44 : decode cX0_meaning 44 = .ok (.iload_n 1, 1) := dk_27 (dk_at dksX0_meaning_1 21 rfl rfl)
theorem dX0_meaning_45 : decode cX0_meaning 45 = .ok (.ishr, 1) := dk_122 (dk_at dksX0_meaning_1 22 rfl rfl)
theorem dX0_meaning_46 : decode cX0_meaning 46 = .ok (.iconst 1, 1) := dk_4 (dk_at dksX0_meaning_1 23 rfl rfl)
theorem dX0_meaning_47 : decode cX0_meaning 47 = .ok (.iand, 1) := dk_126 (dk_at dksX0_meaning_2 0 rfl rfl)
theorem dX0_meaning_48 : decode cX0_meaning 48 = .ok (.iload 5, 2) := dk_21 5 (dk_at dksX0_meaning_2 1 rfl rfl)
theorem dX0_meaning_50 : decode cX0_meaning 50 = .ok (.ishl, 1) := dk_120 (dk_at dksX0_meaning_2 3 rfl rfl)
theorem dX0_meaning_51 : decode cX0_meaning 51 = .ok (.ior, 1) := dk_128 (dk_at dksX0_meaning_2 4 rfl rfl)
theorem dX0_meaning_52 : decode cX0_meaning 52 = .ok (.istore 4, 2) := dk_54 4 (dk_at dksX0_meaning_2 5 rfl rfl)
theorem dX0_meaning_54 : decode cX0_meaning 54 = .ok (.iinc 5 1, 3) := dk_132 5 1 (dk_at dksX0_meaning_2 7 rfl rfl)
theorem dX0_meaning_57 : decode cX0_meaning 57 = .ok (.goto (-34), 3) := dk_167 255 222 (dk_at dksX0_meaning_2 10 rfl rfl)
theorem dX0_meaning_60 : decode cX0_meaning 60 = .ok (.iload_n 2, 1) := dk_28 (dk_at dksX0_meaning_2 13 rfl rfl)
theorem dX0_meaning_61 : decode cX0_meaning 61 = .ok (.tableswitch 58 0 4 #[35, 40, 45, 50, 55], 35) := by decide +kernel
theorem dX0_meaning_96 : decode cX0_meaning 96 = .ok (.aload_n 3, 1) := dk_45 (dk_at dksX0_meaning_4 0 rfl rfl)
theorem dX0_meaning_97 : decode cX0_meaning 97 = .ok (.getfield 103, 3) := dk_180 0 103 (dk_at dksX0_meaning_4 1 rfl rfl)
theorem dX0_meaning_100 : decode cX0_meaning 100 = .ok (.ireturn, 1) := dk_172 (dk_at dksX0_meaning_4 4 rfl rfl)
theorem dX0_meaning_101 : decode cX0_meaning 101 = .ok (.aload_n 3, 1) := dk_45 (dk_at dksX0_meaning_4 5 rfl rfl)
theorem dX0_meaning_102 : decode cX0_meaning 102 = .ok (.getfield 106, 3) := dk_180 0 106 (dk_at dksX0_meaning_4 6 rfl rfl)
theorem dX0_meaning_105 : decode cX0_meaning 105 = .ok (.ireturn, 1) := dk_172 (dk_at dksX0_meaning_4 9 rfl rfl)
theorem dX0_meaning_106 : decode cX0_meaning 106 = .ok (.aload_n 3, 1) := dk_45 (dk_at dksX0_meaning_4 10 rfl rfl)
theorem dX0_meaning_107 : decode cX0_meaning 107 = .ok (.invokevirtual 11, 3) := dk_182 0 11 (dk_at dksX0_meaning_4 11 rfl rfl)
theorem dX0_meaning_110 : decode cX0_meaning 110 = .ok (.ireturn, 1) := dk_172 (dk_at dksX0_meaning_4 14 rfl rfl)
theorem dX0_meaning_111 : decode cX0_meaning 111 = .ok (.aload_n 3, 1) := dk_45 (dk_at dksX0_meaning_4 15 rfl rfl)
theorem dX0_meaning_112 : decode cX0_meaning 112 = .ok (.getfield 109, 3) := dk_180 0 109 (dk_at dksX0_meaning_4 16 rfl rfl)
theorem dX0_meaning_115 : decode cX0_meaning 115 = .ok (.ireturn, 1) := dk_172 (dk_at dksX0_meaning_4 19 rfl rfl)
theorem dX0_meaning_116 : decode cX0_meaning 116 = .ok (.iload 4, 2) := dk_21 4 (dk_at dksX0_meaning_4 20 rfl rfl)
theorem dX0_meaning_118 : decode cX0_meaning 118 = .ok (.ireturn, 1) := dk_172 (dk_at dksX0_meaning_4 22 rfl rfl)
theorem dX0_meaning_119 : decode cX0_meaning 119 = .ok (.iconst (-1), 1) := dk_2 (dk_at dksX0_meaning_4 23 rfl rfl)
theorem dX0_meaning_120 : decode cX0_meaning 120 = .ok (.ireturn, 1) := dk_172 (dk_at dksX0_meaning_5 0 rfl rfl)
abbrev cX0_isMeaning : ByteArray := prog_1_method_8_code
def yX0_isMeaning : MethodName := ⟨RX0, "isMeaning", "(I)Z"⟩
def dkwX0_isMeaning_0 : List UInt8 := [27, 133, 9, 42, 180, 0, 3, 4, 100, 133, 184, 0, 24, 172]
abbrev dktX0_isMeaning_0 : List UInt8 := dkwX0_isMeaning_0 ++ []
theorem dksX0_isMeaning_0 : cX0_isMeaning.data.toList.drop 0 = dktX0_isMeaning_0 := by decide +kernel
theorem dX0_isMeaning_0 : decode cX0_isMeaning 0 = .ok (.iload_n 1, 1) := dk_27 (dk_at dksX0_isMeaning_0 0 rfl rfl)
theorem dX0_isMeaning_1 : decode cX0_isMeaning 1 = .ok (.i2l, 1) := dk_133 (dk_at dksX0_isMeaning_0 1 rfl rfl)
theorem dX0_isMeaning_2 : decode cX0_isMeaning 2 = .ok (.lconst 0, 1) := dk_9 (dk_at dksX0_isMeaning_0 2 rfl rfl)
theorem dX0_isMeaning_3 : decode cX0_isMeaning 3 = .ok (.aload_n 0, 1) := dk_42 (dk_at dksX0_isMeaning_0 3 rfl rfl)
theorem dX0_isMeaning_4 : decode cX0_isMeaning 4 = .ok (.getfield 3, 3) := dk_180 0 3 (dk_at dksX0_isMeaning_0 4 rfl rfl)
theorem dX0_isMeaning_7 : decode cX0_isMeaning 7 = .ok (.iconst 1, 1) := dk_4 (dk_at dksX0_isMeaning_0 7 rfl rfl)
theorem dX0_isMeaning_8 : decode cX0_isMeaning 8 = .ok (.isub, 1) := dk_100 (dk_at dksX0_isMeaning_0 8 rfl rfl)
theorem dX0_isMeaning_9 : decode cX0_isMeaning 9 = .ok (.i2l, 1) := dk_133 (dk_at dksX0_isMeaning_0 9 rfl rfl)
theorem dX0_isMeaning_10 : decode cX0_isMeaning 10 = .ok (.invokestatic 24, 3) := dk_184 0 24 (dk_at dksX0_isMeaning_0 10 rfl rfl)
theorem dX0_isMeaning_13 : decode cX0_isMeaning 13 = .ok (.ireturn, 1) := dk_172 (dk_at dksX0_isMeaning_0 13 rfl rfl)
abbrev cX0_word : ByteArray := prog_1_method_13_code
def yX0_word : MethodName := ⟨RX0, "word", "(I)I"⟩
def dkwX0_word_0 : List UInt8 := [42, 27, 182, 0, 112, 153, 0, 12, 42, 180, 0, 115, 27, 46, 167, 0, 4, 2, 172]
abbrev dktX0_word_0 : List UInt8 := dkwX0_word_0 ++ []
theorem dksX0_word_0 : cX0_word.data.toList.drop 0 = dktX0_word_0 := by decide +kernel
theorem dX0_word_0 : decode cX0_word 0 = .ok (.aload_n 0, 1) := dk_42 (dk_at dksX0_word_0 0 rfl rfl)
theorem dX0_word_1 : decode cX0_word 1 = .ok (.iload_n 1, 1) := dk_27 (dk_at dksX0_word_0 1 rfl rfl)
theorem dX0_word_2 : decode cX0_word 2 = .ok (.invokevirtual 112, 3) := dk_182 0 112 (dk_at dksX0_word_0 2 rfl rfl)
theorem dX0_word_5 : decode cX0_word 5 = .ok (.ifCond .eq 12, 3) := dk_153 0 12 (dk_at dksX0_word_0 5 rfl rfl)
theorem dX0_word_8 : decode cX0_word 8 = .ok (.aload_n 0, 1) := dk_42 (dk_at dksX0_word_0 8 rfl rfl)
theorem dX0_word_9 : decode cX0_word 9 = .ok (.getfield 115, 3) := dk_180 0 115 (dk_at dksX0_word_0 9 rfl rfl)
theorem dX0_word_12 : decode cX0_word 12 = .ok (.iload_n 1, 1) := dk_27 (dk_at dksX0_word_0 12 rfl rfl)
theorem dX0_word_13 : decode cX0_word 13 = .ok (.iaload, 1) := dk_46 (dk_at dksX0_word_0 13 rfl rfl)
theorem dX0_word_14 : decode cX0_word 14 = .ok (.goto 4, 3) := dk_167 0 4 (dk_at dksX0_word_0 14 rfl rfl)
theorem dX0_word_17 : decode cX0_word 17 = .ok (.iconst (-1), 1) := dk_2 (dk_at dksX0_word_0 17 rfl rfl)
theorem dX0_word_18 : decode cX0_word 18 = .ok (.ireturn, 1) := dk_172 (dk_at dksX0_word_0 18 rfl rfl)
abbrev cX0_isSound : ByteArray := prog_1_method_9_code
def yX0_isSound : MethodName := ⟨RX0, "isSound", "(I)Z"⟩
def dkwX0_isSound_0 : List UInt8 := [27, 133, 9, 42, 180, 0, 77, 4, 100, 133, 184, 0, 24, 172]
abbrev dktX0_isSound_0 : List UInt8 := dkwX0_isSound_0 ++ []
theorem dksX0_isSound_0 : cX0_isSound.data.toList.drop 0 = dktX0_isSound_0 := by decide +kernel
theorem dX0_isSound_0 : decode cX0_isSound 0 = .ok (.iload_n 1, 1) := dk_27 (dk_at dksX0_isSound_0 0 rfl rfl)
theorem dX0_isSound_1 : decode cX0_isSound 1 = .ok (.i2l, 1) := dk_133 (dk_at dksX0_isSound_0 1 rfl rfl)
theorem dX0_isSound_2 : decode cX0_isSound 2 = .ok (.lconst 0, 1) := dk_9 (dk_at dksX0_isSound_0 2 rfl rfl)
theorem dX0_isSound_3 : decode cX0_isSound 3 = .ok (.aload_n 0, 1) := dk_42 (dk_at dksX0_isSound_0 3 rfl rfl)
theorem dX0_isSound_4 : decode cX0_isSound 4 = .ok (.getfield 77, 3) := dk_180 0 77 (dk_at dksX0_isSound_0 4 rfl rfl)
theorem dX0_isSound_7 : decode cX0_isSound 7 = .ok (.iconst 1, 1) := dk_4 (dk_at dksX0_isSound_0 7 rfl rfl)
theorem dX0_isSound_8 : decode cX0_isSound 8 = .ok (.isub, 1) := dk_100 (dk_at dksX0_isSound_0 8 rfl rfl)
theorem dX0_isSound_9 : decode cX0_isSound 9 = .ok (.i2l, 1) := dk_133 (dk_at dksX0_isSound_0 9 rfl rfl)
theorem dX0_isSound_10 : decode cX0_isSound 10 = .ok (.invokestatic 24, 3) := dk_184 0 24 (dk_at dksX0_isSound_0 10 rfl rfl)
theorem dX0_isSound_13 : decode cX0_isSound 13 = .ok (.ireturn, 1) := dk_172 (dk_at dksX0_isSound_0 13 rfl rfl)
abbrev cX0_kind : ByteArray := prog_1_method_14_code
def yX0_kind : MethodName := ⟨RX0, "kind", "(II)I"⟩
def dkwX0_kind_3 : List UInt8 := [167, 0, 4, 3, 172, 45, 180, 0, 133, 172, 45, 180, 0, 98, 172, 2, 172]
abbrev dktX0_kind_3 : List UInt8 := dkwX0_kind_3 ++ []
def dkwX0_kind_2 : List UInt8 := [45, 182, 0, 121, 172, 45, 180, 0, 124, 172, 45, 180, 0, 127, 172, 45, 180, 0, 130, 153, 0, 7, 4]
abbrev dktX0_kind_2 : List UInt8 := dkwX0_kind_2 ++ dktX0_kind_3
def dkwX0_kind_1 : List UInt8 := [170, 0, 0, 0, 0, 76, 0, 0, 0, 0, 0, 0, 0, 5, 0, 0, 0, 38, 0, 0, 0, 43, 0, 0, 0, 48, 0, 0, 0, 53, 0, 0, 0, 66, 0, 0, 0, 71]
abbrev dktX0_kind_1 : List UInt8 := dkwX0_kind_1 ++ dktX0_kind_2
def dkwX0_kind_0 : List UInt8 := [42, 27, 182, 0, 118, 154, 0, 5, 2, 172, 42, 180, 0, 94, 27, 50, 78, 28]
abbrev dktX0_kind_0 : List UInt8 := dkwX0_kind_0 ++ dktX0_kind_1
theorem dksX0_kind_0 : cX0_kind.data.toList.drop 0 = dktX0_kind_0 := by decide +kernel
theorem dksX0_kind_1 : cX0_kind.data.toList.drop 18 = dktX0_kind_1 := dk_seg dksX0_kind_0 18 rfl rfl
theorem dksX0_kind_2 : cX0_kind.data.toList.drop 56 = dktX0_kind_2 := dk_seg dksX0_kind_1 38 rfl rfl
theorem dksX0_kind_3 : cX0_kind.data.toList.drop 79 = dktX0_kind_3 := dk_seg dksX0_kind_2 23 rfl rfl
theorem dX0_kind_0 : decode cX0_kind 0 = .ok (.aload_n 0, 1) := dk_42 (dk_at dksX0_kind_0 0 rfl rfl)
theorem dX0_kind_1 : decode cX0_kind 1 = .ok (.iload_n 1, 1) := dk_27 (dk_at dksX0_kind_0 1 rfl rfl)
theorem dX0_kind_2 : decode cX0_kind 2 = .ok (.invokevirtual 118, 3) := dk_182 0 118 (dk_at dksX0_kind_0 2 rfl rfl)
theorem dX0_kind_5 : decode cX0_kind 5 = .ok (.ifCond .ne 5, 3) := dk_154 0 5 (dk_at dksX0_kind_0 5 rfl rfl)
theorem dX0_kind_8 : decode cX0_kind 8 = .ok (.iconst (-1), 1) := dk_2 (dk_at dksX0_kind_0 8 rfl rfl)
theorem dX0_kind_9 : decode cX0_kind 9 = .ok (.ireturn, 1) := dk_172 (dk_at dksX0_kind_0 9 rfl rfl)
theorem dX0_kind_10 : decode cX0_kind 10 = .ok (.aload_n 0, 1) := dk_42 (dk_at dksX0_kind_0 10 rfl rfl)
theorem dX0_kind_11 : decode cX0_kind 11 = .ok (.getfield 94, 3) := dk_180 0 94 (dk_at dksX0_kind_0 11 rfl rfl)
theorem dX0_kind_14 : decode cX0_kind 14 = .ok (.iload_n 1, 1) := dk_27 (dk_at dksX0_kind_0 14 rfl rfl)
theorem dX0_kind_15 : decode cX0_kind 15 = .ok (.aaload, 1) := dk_50 (dk_at dksX0_kind_0 15 rfl rfl)
theorem dX0_kind_16 : decode cX0_kind 16 = .ok (.astore_n 3, 1) := dk_78 (dk_at dksX0_kind_0 16 rfl rfl)
theorem dX0_kind_17 : decode cX0_kind 17 = .ok (.iload_n 2, 1) := dk_28 (dk_at dksX0_kind_0 17 rfl rfl)
theorem dX0_kind_18 : decode cX0_kind 18 = .ok (.tableswitch 76 0 5 #[38, 43, 48, 53, 66, 71], 38) := by decide +kernel
theorem dX0_kind_56 : decode cX0_kind 56 = .ok (.aload_n 3, 1) := dk_45 (dk_at dksX0_kind_2 0 rfl rfl)
theorem dX0_kind_57 : decode cX0_kind 57 = .ok (.invokevirtual 121, 3) := dk_182 0 121 (dk_at dksX0_kind_2 1 rfl rfl)
theorem dX0_kind_60 : decode cX0_kind 60 = .ok (.ireturn, 1) := dk_172 (dk_at dksX0_kind_2 4 rfl rfl)
theorem dX0_kind_61 : decode cX0_kind 61 = .ok (.aload_n 3, 1) := dk_45 (dk_at dksX0_kind_2 5 rfl rfl)
theorem dX0_kind_62 : decode cX0_kind 62 = .ok (.getfield 124, 3) := dk_180 0 124 (dk_at dksX0_kind_2 6 rfl rfl)
theorem dX0_kind_65 : decode cX0_kind 65 = .ok (.ireturn, 1) := dk_172 (dk_at dksX0_kind_2 9 rfl rfl)
theorem dX0_kind_66 : decode cX0_kind 66 = .ok (.aload_n 3, 1) := dk_45 (dk_at dksX0_kind_2 10 rfl rfl)
theorem dX0_kind_67 : decode cX0_kind 67 = .ok (.getfield 127, 3) := dk_180 0 127 (dk_at dksX0_kind_2 11 rfl rfl)
theorem dX0_kind_70 : decode cX0_kind 70 = .ok (.ireturn, 1) := dk_172 (dk_at dksX0_kind_2 14 rfl rfl)
theorem dX0_kind_71 : decode cX0_kind 71 = .ok (.aload_n 3, 1) := dk_45 (dk_at dksX0_kind_2 15 rfl rfl)
theorem dX0_kind_72 : decode cX0_kind 72 = .ok (.getfield 130, 3) := dk_180 0 130 (dk_at dksX0_kind_2 16 rfl rfl)
theorem dX0_kind_75 : decode cX0_kind 75 = .ok (.ifCond .eq 7, 3) := dk_153 0 7 (dk_at dksX0_kind_2 19 rfl rfl)
theorem dX0_kind_78 : decode cX0_kind 78 = .ok (.iconst 1, 1) := dk_4 (dk_at dksX0_kind_2 22 rfl rfl)
theorem dX0_kind_79 : decode cX0_kind 79 = .ok (.goto 4, 3) := dk_167 0 4 (dk_at dksX0_kind_3 0 rfl rfl)
theorem dX0_kind_82 : decode cX0_kind 82 = .ok (.iconst 0, 1) := dk_3 (dk_at dksX0_kind_3 3 rfl rfl)
theorem dX0_kind_83 : decode cX0_kind 83 = .ok (.ireturn, 1) := dk_172 (dk_at dksX0_kind_3 4 rfl rfl)
theorem dX0_kind_84 : decode cX0_kind 84 = .ok (.aload_n 3, 1) := dk_45 (dk_at dksX0_kind_3 5 rfl rfl)
theorem dX0_kind_85 : decode cX0_kind 85 = .ok (.getfield 133, 3) := dk_180 0 133 (dk_at dksX0_kind_3 6 rfl rfl)
theorem dX0_kind_88 : decode cX0_kind 88 = .ok (.ireturn, 1) := dk_172 (dk_at dksX0_kind_3 9 rfl rfl)
theorem dX0_kind_89 : decode cX0_kind 89 = .ok (.aload_n 3, 1) := dk_45 (dk_at dksX0_kind_3 10 rfl rfl)
theorem dX0_kind_90 : decode cX0_kind 90 = .ok (.getfield 98, 3) := dk_180 0 98 (dk_at dksX0_kind_3 11 rfl rfl)
theorem dX0_kind_93 : decode cX0_kind 93 = .ok (.ireturn, 1) := dk_172 (dk_at dksX0_kind_3 14 rfl rfl)
theorem dX0_kind_94 : decode cX0_kind 94 = .ok (.iconst (-1), 1) := dk_2 (dk_at dksX0_kind_3 15 rfl rfl)
theorem dX0_kind_95 : decode cX0_kind 95 = .ok (.ireturn, 1) := dk_172 (dk_at dksX0_kind_3 16 rfl rfl)
abbrev cX0_isKind : ByteArray := prog_1_method_10_code
def yX0_isKind : MethodName := ⟨RX0, "isKind", "(I)Z"⟩
def dkwX0_isKind_0 : List UInt8 := [27, 133, 9, 42, 180, 0, 80, 4, 100, 133, 184, 0, 24, 172]
abbrev dktX0_isKind_0 : List UInt8 := dkwX0_isKind_0 ++ []
theorem dksX0_isKind_0 : cX0_isKind.data.toList.drop 0 = dktX0_isKind_0 := by decide +kernel
theorem dX0_isKind_0 : decode cX0_isKind 0 = .ok (.iload_n 1, 1) := dk_27 (dk_at dksX0_isKind_0 0 rfl rfl)
theorem dX0_isKind_1 : decode cX0_isKind 1 = .ok (.i2l, 1) := dk_133 (dk_at dksX0_isKind_0 1 rfl rfl)
theorem dX0_isKind_2 : decode cX0_isKind 2 = .ok (.lconst 0, 1) := dk_9 (dk_at dksX0_isKind_0 2 rfl rfl)
theorem dX0_isKind_3 : decode cX0_isKind 3 = .ok (.aload_n 0, 1) := dk_42 (dk_at dksX0_isKind_0 3 rfl rfl)
theorem dX0_isKind_4 : decode cX0_isKind 4 = .ok (.getfield 80, 3) := dk_180 0 80 (dk_at dksX0_isKind_0 4 rfl rfl)
theorem dX0_isKind_7 : decode cX0_isKind 7 = .ok (.iconst 1, 1) := dk_4 (dk_at dksX0_isKind_0 7 rfl rfl)
theorem dX0_isKind_8 : decode cX0_isKind 8 = .ok (.isub, 1) := dk_100 (dk_at dksX0_isKind_0 8 rfl rfl)
theorem dX0_isKind_9 : decode cX0_isKind 9 = .ok (.i2l, 1) := dk_133 (dk_at dksX0_isKind_0 9 rfl rfl)
theorem dX0_isKind_10 : decode cX0_isKind 10 = .ok (.invokestatic 24, 3) := dk_184 0 24 (dk_at dksX0_isKind_0 10 rfl rfl)
theorem dX0_isKind_13 : decode cX0_isKind 13 = .ok (.ireturn, 1) := dk_172 (dk_at dksX0_isKind_0 13 rfl rfl)
abbrev cX0_show : ByteArray := prog_1_method_22_code
def yX0_show : MethodName := ⟨RX0, "show", "(IIZ)I"⟩
def dkwX0_show_0 : List UInt8 := [42, 27, 28, 29, 182, 0, 183, 172]
abbrev dktX0_show_0 : List UInt8 := dkwX0_show_0 ++ []
theorem dksX0_show_0 : cX0_show.data.toList.drop 0 = dktX0_show_0 := by decide +kernel
theorem dX0_show_0 : decode cX0_show 0 = .ok (.aload_n 0, 1) := dk_42 (dk_at dksX0_show_0 0 rfl rfl)
theorem dX0_show_1 : decode cX0_show 1 = .ok (.iload_n 1, 1) := dk_27 (dk_at dksX0_show_0 1 rfl rfl)
theorem dX0_show_2 : decode cX0_show 2 = .ok (.iload_n 2, 1) := dk_28 (dk_at dksX0_show_0 2 rfl rfl)
theorem dX0_show_3 : decode cX0_show 3 = .ok (.iload_n 3, 1) := dk_29 (dk_at dksX0_show_0 3 rfl rfl)
theorem dX0_show_4 : decode cX0_show 4 = .ok (.invokevirtual 183, 3) := dk_182 0 183 (dk_at dksX0_show_0 4 rfl rfl)
theorem dX0_show_7 : decode cX0_show 7 = .ok (.ireturn, 1) := dk_172 (dk_at dksX0_show_0 7 rfl rfl)
abbrev cX0_shows : ByteArray := prog_1_method_20_code
def yX0_shows : MethodName := ⟨RX0, "shows", "(IIZ)I"⟩
def dkwX0_shows_1 : List UInt8 := [160, 0, 6, 16, 253, 172, 42, 27, 28, 29, 182, 0, 179, 42, 180, 0, 154, 172]
abbrev dktX0_shows_1 : List UInt8 := dkwX0_shows_1 ++ []
def dkwX0_shows_0 : List UInt8 := [42, 27, 182, 0, 112, 153, 0, 11, 42, 28, 182, 0, 83, 154, 0, 5, 2, 172, 42, 180, 0, 154, 16, 24]
abbrev dktX0_shows_0 : List UInt8 := dkwX0_shows_0 ++ dktX0_shows_1
theorem dksX0_shows_0 : cX0_shows.data.toList.drop 0 = dktX0_shows_0 := by decide +kernel
theorem dksX0_shows_1 : cX0_shows.data.toList.drop 24 = dktX0_shows_1 := dk_seg dksX0_shows_0 24 rfl rfl
theorem dX0_shows_0 : decode cX0_shows 0 = .ok (.aload_n 0, 1) := dk_42 (dk_at dksX0_shows_0 0 rfl rfl)
theorem dX0_shows_1 : decode cX0_shows 1 = .ok (.iload_n 1, 1) := dk_27 (dk_at dksX0_shows_0 1 rfl rfl)
theorem dX0_shows_2 : decode cX0_shows 2 = .ok (.invokevirtual 112, 3) := dk_182 0 112 (dk_at dksX0_shows_0 2 rfl rfl)
theorem dX0_shows_5 : decode cX0_shows 5 = .ok (.ifCond .eq 11, 3) := dk_153 0 11 (dk_at dksX0_shows_0 5 rfl rfl)
theorem dX0_shows_8 : decode cX0_shows 8 = .ok (.aload_n 0, 1) := dk_42 (dk_at dksX0_shows_0 8 rfl rfl)
theorem dX0_shows_9 : decode cX0_shows 9 = .ok (.iload_n 2, 1) := dk_28 (dk_at dksX0_shows_0 9 rfl rfl)
theorem dX0_shows_10 : decode cX0_shows 10 = .ok (.invokevirtual 83, 3) := dk_182 0 83 (dk_at dksX0_shows_0 10 rfl rfl)
theorem dX0_shows_13 : decode cX0_shows 13 = .ok (.ifCond .ne 5, 3) := dk_154 0 5 (dk_at dksX0_shows_0 13 rfl rfl)
theorem dX0_shows_16 : decode cX0_shows 16 = .ok (.iconst (-1), 1) := dk_2 (dk_at dksX0_shows_0 16 rfl rfl)
theorem dX0_shows_17 : decode cX0_shows 17 = .ok (.ireturn, 1) := dk_172 (dk_at dksX0_shows_0 17 rfl rfl)
theorem dX0_shows_18 : decode cX0_shows 18 = .ok (.aload_n 0, 1) := dk_42 (dk_at dksX0_shows_0 18 rfl rfl)
theorem dX0_shows_19 : decode cX0_shows 19 = .ok (.getfield 154, 3) := dk_180 0 154 (dk_at dksX0_shows_0 19 rfl rfl)
theorem dX0_shows_22 : decode cX0_shows 22 = .ok (.bipush 24, 2) := dk_16 24 (dk_at dksX0_shows_0 22 rfl rfl)
theorem dX0_shows_24 : decode cX0_shows 24 = .ok (.if_icmp .ne 6, 3) := dk_160 0 6 (dk_at dksX0_shows_1 0 rfl rfl)
theorem dX0_shows_27 : decode cX0_shows 27 = .ok (.bipush (-3), 2) := dk_16 253 (dk_at dksX0_shows_1 3 rfl rfl)
theorem dX0_shows_29 : decode cX0_shows 29 = .ok (.ireturn, 1) := dk_172 (dk_at dksX0_shows_1 5 rfl rfl)
theorem dX0_shows_30 : decode cX0_shows 30 = .ok (.aload_n 0, 1) := dk_42 (dk_at dksX0_shows_1 6 rfl rfl)
theorem dX0_shows_31 : decode cX0_shows 31 = .ok (.iload_n 1, 1) := dk_27 (dk_at dksX0_shows_1 7 rfl rfl)
theorem dX0_shows_32 : decode cX0_shows 32 = .ok (.iload_n 2, 1) := dk_28 (dk_at dksX0_shows_1 8 rfl rfl)
theorem dX0_shows_33 : decode cX0_shows 33 = .ok (.iload_n 3, 1) := dk_29 (dk_at dksX0_shows_1 9 rfl rfl)
theorem dX0_shows_34 : decode cX0_shows 34 = .ok (.invokevirtual 179, 3) := dk_182 0 179 (dk_at dksX0_shows_1 10 rfl rfl)
theorem dX0_shows_37 : decode cX0_shows 37 = .ok (.aload_n 0, 1) := dk_42 (dk_at dksX0_shows_1 13 rfl rfl)
theorem dX0_shows_38 : decode cX0_shows 38 = .ok (.getfield 154, 3) := dk_180 0 154 (dk_at dksX0_shows_1 14 rfl rfl)
theorem dX0_shows_41 : decode cX0_shows 41 = .ok (.ireturn, 1) := dk_172 (dk_at dksX0_shows_1 17 rfl rfl)
abbrev cX0_adds : ByteArray := prog_1_method_21_code
def yX0_adds : MethodName := ⟨RX0, "adds", "(IIZ)V"⟩
def dkwX0_adds_2 : List UInt8 := [180, 0, 154, 27, 28, 29, 182, 0, 175, 42, 89, 180, 0, 154, 4, 96, 181, 0, 154, 177]
abbrev dktX0_adds_2 : List UInt8 := dkwX0_adds_2 ++ []
def dkwX0_adds_1 : List UInt8 := [42, 180, 0, 171, 42, 180, 0, 154, 50, 5, 29, 153, 0, 7, 4, 167, 0, 4, 3, 79, 42, 42]
abbrev dktX0_adds_1 : List UInt8 := dkwX0_adds_1 ++ dktX0_adds_2
def dkwX0_adds_0 : List UInt8 := [42, 180, 0, 171, 42, 180, 0, 154, 50, 3, 27, 79, 42, 180, 0, 171, 42, 180, 0, 154, 50, 4, 28, 79]
abbrev dktX0_adds_0 : List UInt8 := dkwX0_adds_0 ++ dktX0_adds_1
theorem dksX0_adds_0 : cX0_adds.data.toList.drop 0 = dktX0_adds_0 := by decide +kernel
theorem dksX0_adds_1 : cX0_adds.data.toList.drop 24 = dktX0_adds_1 := dk_seg dksX0_adds_0 24 rfl rfl
theorem dksX0_adds_2 : cX0_adds.data.toList.drop 46 = dktX0_adds_2 := dk_seg dksX0_adds_1 22 rfl rfl
theorem dX0_adds_0 : decode cX0_adds 0 = .ok (.aload_n 0, 1) := dk_42 (dk_at dksX0_adds_0 0 rfl rfl)
theorem dX0_adds_1 : decode cX0_adds 1 = .ok (.getfield 171, 3) := dk_180 0 171 (dk_at dksX0_adds_0 1 rfl rfl)
theorem dX0_adds_4 : decode cX0_adds 4 = .ok (.aload_n 0, 1) := dk_42 (dk_at dksX0_adds_0 4 rfl rfl)
theorem dX0_adds_5 : decode cX0_adds 5 = .ok (.getfield 154, 3) := dk_180 0 154 (dk_at dksX0_adds_0 5 rfl rfl)
theorem dX0_adds_8 : decode cX0_adds 8 = .ok (.aaload, 1) := dk_50 (dk_at dksX0_adds_0 8 rfl rfl)
theorem dX0_adds_9 : decode cX0_adds 9 = .ok (.iconst 0, 1) := dk_3 (dk_at dksX0_adds_0 9 rfl rfl)
theorem dX0_adds_10 : decode cX0_adds 10 = .ok (.iload_n 1, 1) := dk_27 (dk_at dksX0_adds_0 10 rfl rfl)
theorem dX0_adds_11 : decode cX0_adds 11 = .ok (.iastore, 1) := dk_79 (dk_at dksX0_adds_0 11 rfl rfl)
theorem dX0_adds_12 : decode cX0_adds 12 = .ok (.aload_n 0, 1) := dk_42 (dk_at dksX0_adds_0 12 rfl rfl)
theorem dX0_adds_13 : decode cX0_adds 13 = .ok (.getfield 171, 3) := dk_180 0 171 (dk_at dksX0_adds_0 13 rfl rfl)
theorem dX0_adds_16 : decode cX0_adds 16 = .ok (.aload_n 0, 1) := dk_42 (dk_at dksX0_adds_0 16 rfl rfl)
theorem dX0_adds_17 : decode cX0_adds 17 = .ok (.getfield 154, 3) := dk_180 0 154 (dk_at dksX0_adds_0 17 rfl rfl)
theorem dX0_adds_20 : decode cX0_adds 20 = .ok (.aaload, 1) := dk_50 (dk_at dksX0_adds_0 20 rfl rfl)
theorem dX0_adds_21 : decode cX0_adds 21 = .ok (.iconst 1, 1) := dk_4 (dk_at dksX0_adds_0 21 rfl rfl)
theorem dX0_adds_22 : decode cX0_adds 22 = .ok (.iload_n 2, 1) := dk_28 (dk_at dksX0_adds_0 22 rfl rfl)
theorem dX0_adds_23 : decode cX0_adds 23 = .ok (.iastore, 1) := dk_79 (dk_at dksX0_adds_0 23 rfl rfl)
theorem dX0_adds_24 : decode cX0_adds 24 = .ok (.aload_n 0, 1) := dk_42 (dk_at dksX0_adds_1 0 rfl rfl)
theorem dX0_adds_25 : decode cX0_adds 25 = .ok (.getfield 171, 3) := dk_180 0 171 (dk_at dksX0_adds_1 1 rfl rfl)
theorem dX0_adds_28 : decode cX0_adds 28 = .ok (.aload_n 0, 1) := dk_42 (dk_at dksX0_adds_1 4 rfl rfl)
theorem dX0_adds_29 : decode cX0_adds 29 = .ok (.getfield 154, 3) := dk_180 0 154 (dk_at dksX0_adds_1 5 rfl rfl)
theorem dX0_adds_32 : decode cX0_adds 32 = .ok (.aaload, 1) := dk_50 (dk_at dksX0_adds_1 8 rfl rfl)
theorem dX0_adds_33 : decode cX0_adds 33 = .ok (.iconst 2, 1) := dk_5 (dk_at dksX0_adds_1 9 rfl rfl)
theorem dX0_adds_34 : decode cX0_adds 34 = .ok (.iload_n 3, 1) := dk_29 (dk_at dksX0_adds_1 10 rfl rfl)
theorem dX0_adds_35 : decode cX0_adds 35 = .ok (.ifCond .eq 7, 3) := dk_153 0 7 (dk_at dksX0_adds_1 11 rfl rfl)
theorem dX0_adds_38 : decode cX0_adds 38 = .ok (.iconst 1, 1) := dk_4 (dk_at dksX0_adds_1 14 rfl rfl)
theorem dX0_adds_39 : decode cX0_adds 39 = .ok (.goto 4, 3) := dk_167 0 4 (dk_at dksX0_adds_1 15 rfl rfl)
theorem dX0_adds_42 : decode cX0_adds 42 = .ok (.iconst 0, 1) := dk_3 (dk_at dksX0_adds_1 18 rfl rfl)
theorem dX0_adds_43 : decode cX0_adds 43 = .ok (.iastore, 1) := dk_79 (dk_at dksX0_adds_1 19 rfl rfl)
theorem dX0_adds_44 : decode cX0_adds 44 = .ok (.aload_n 0, 1) := dk_42 (dk_at dksX0_adds_1 20 rfl rfl)
theorem dX0_adds_45 : decode cX0_adds 45 = .ok (.aload_n 0, 1) := dk_42 (dk_at dksX0_adds_1 21 rfl rfl)
theorem dX0_adds_46 : decode cX0_adds 46 = .ok (.getfield 154, 3) := dk_180 0 154 (dk_at dksX0_adds_2 0 rfl rfl)
theorem dX0_adds_49 : decode cX0_adds 49 = .ok (.iload_n 1, 1) := dk_27 (dk_at dksX0_adds_2 3 rfl rfl)
theorem dX0_adds_50 : decode cX0_adds 50 = .ok (.iload_n 2, 1) := dk_28 (dk_at dksX0_adds_2 4 rfl rfl)
theorem dX0_adds_51 : decode cX0_adds 51 = .ok (.iload_n 3, 1) := dk_29 (dk_at dksX0_adds_2 5 rfl rfl)
theorem dX0_adds_52 : decode cX0_adds 52 = .ok (.invokevirtual 175, 3) := dk_182 0 175 (dk_at dksX0_adds_2 6 rfl rfl)
theorem dX0_adds_55 : decode cX0_adds 55 = .ok (.aload_n 0, 1) := dk_42 (dk_at dksX0_adds_2 9 rfl rfl)
theorem dX0_adds_56 : decode cX0_adds 56 = .ok (.dup, 1) := dk_89 (dk_at dksX0_adds_2 10 rfl rfl)
theorem dX0_adds_57 : decode cX0_adds 57 = .ok (.getfield 154, 3) := dk_180 0 154 (dk_at dksX0_adds_2 11 rfl rfl)
theorem dX0_adds_60 : decode cX0_adds 60 = .ok (.iconst 1, 1) := dk_4 (dk_at dksX0_adds_2 14 rfl rfl)
theorem dX0_adds_61 : decode cX0_adds 61 = .ok (.iadd, 1) := dk_96 (dk_at dksX0_adds_2 15 rfl rfl)
theorem dX0_adds_62 : decode cX0_adds 62 = .ok (.putfield 154, 3) := dk_181 0 154 (dk_at dksX0_adds_2 16 rfl rfl)
theorem dX0_adds_65 : decode cX0_adds 65 = .ok (.return_, 1) := dk_177 (dk_at dksX0_adds_2 19 rfl rfl)
abbrev cX0_goes : ByteArray := prog_1_method_18_code
def yX0_goes : MethodName := ⟨RX0, "goes", "(IIIZ)V"⟩
def dkwX0_goes_2 : List UInt8 := [21, 4, 42, 180, 0, 145, 28, 46, 182, 0, 168, 132, 5, 1, 167, 255, 216, 177]
abbrev dktX0_goes_2 : List UInt8 := dkwX0_goes_2 ++ []
def dkwX0_goes_1 : List UInt8 := [42, 180, 0, 80, 162, 0, 37, 42, 180, 0, 94, 21, 5, 50, 42, 180, 0, 136, 21, 5, 50, 27, 28, 29]
abbrev dktX0_goes_1 : List UInt8 := dkwX0_goes_1 ++ dktX0_goes_2
def dkwX0_goes_0 : List UInt8 := [42, 180, 0, 145, 28, 42, 42, 180, 0, 145, 28, 46, 29, 21, 4, 182, 0, 164, 79, 3, 54, 5, 21, 5]
abbrev dktX0_goes_0 : List UInt8 := dkwX0_goes_0 ++ dktX0_goes_1
theorem dksX0_goes_0 : cX0_goes.data.toList.drop 0 = dktX0_goes_0 := by decide +kernel
theorem dksX0_goes_1 : cX0_goes.data.toList.drop 24 = dktX0_goes_1 := dk_seg dksX0_goes_0 24 rfl rfl
theorem dksX0_goes_2 : cX0_goes.data.toList.drop 48 = dktX0_goes_2 := dk_seg dksX0_goes_1 24 rfl rfl
theorem dX0_goes_0 : decode cX0_goes 0 = .ok (.aload_n 0, 1) := dk_42 (dk_at dksX0_goes_0 0 rfl rfl)
theorem dX0_goes_1 : decode cX0_goes 1 = .ok (.getfield 145, 3) := dk_180 0 145 (dk_at dksX0_goes_0 1 rfl rfl)
theorem dX0_goes_4 : decode cX0_goes 4 = .ok (.iload_n 2, 1) := dk_28 (dk_at dksX0_goes_0 4 rfl rfl)
theorem dX0_goes_5 : decode cX0_goes 5 = .ok (.aload_n 0, 1) := dk_42 (dk_at dksX0_goes_0 5 rfl rfl)
theorem dX0_goes_6 : decode cX0_goes 6 = .ok (.aload_n 0, 1) := dk_42 (dk_at dksX0_goes_0 6 rfl rfl)
theorem dX0_goes_7 : decode cX0_goes 7 = .ok (.getfield 145, 3) := dk_180 0 145 (dk_at dksX0_goes_0 7 rfl rfl)
theorem dX0_goes_10 : decode cX0_goes 10 = .ok (.iload_n 2, 1) := dk_28 (dk_at dksX0_goes_0 10 rfl rfl)
theorem dX0_goes_11 : decode cX0_goes 11 = .ok (.iaload, 1) := dk_46 (dk_at dksX0_goes_0 11 rfl rfl)
theorem dX0_goes_12 : decode cX0_goes 12 = .ok (.iload_n 3, 1) := dk_29 (dk_at dksX0_goes_0 12 rfl rfl)
theorem dX0_goes_13 : decode cX0_goes 13 = .ok (.iload 4, 2) := dk_21 4 (dk_at dksX0_goes_0 13 rfl rfl)
theorem dX0_goes_15 : decode cX0_goes 15 = .ok (.invokevirtual 164, 3) := dk_182 0 164 (dk_at dksX0_goes_0 15 rfl rfl)
theorem dX0_goes_18 : decode cX0_goes 18 = .ok (.iastore, 1) := dk_79 (dk_at dksX0_goes_0 18 rfl rfl)
theorem dX0_goes_19 : decode cX0_goes 19 = .ok (.iconst 0, 1) := dk_3 (dk_at dksX0_goes_0 19 rfl rfl)
theorem dX0_goes_20 : decode cX0_goes 20 = .ok (.istore 5, 2) := dk_54 5 (dk_at dksX0_goes_0 20 rfl rfl)
theorem dX0_goes_22 : decode cX0_goes 22 = .ok (.iload 5, 2) := dk_21 5 (dk_at dksX0_goes_0 22 rfl rfl)
theorem dX0_goes_24 : decode cX0_goes 24 = .ok (.aload_n 0, 1) := dk_42 (dk_at dksX0_goes_1 0 rfl rfl)
theorem dX0_goes_25 : decode cX0_goes 25 = .ok (.getfield 80, 3) := dk_180 0 80 (dk_at dksX0_goes_1 1 rfl rfl)
theorem dX0_goes_28 : decode cX0_goes 28 = .ok (.if_icmp .ge 37, 3) := dk_162 0 37 (dk_at dksX0_goes_1 4 rfl rfl)
theorem dX0_goes_31 : decode cX0_goes 31 = .ok (.aload_n 0, 1) := dk_42 (dk_at dksX0_goes_1 7 rfl rfl)
theorem dX0_goes_32 : decode cX0_goes 32 = .ok (.getfield 94, 3) := dk_180 0 94 (dk_at dksX0_goes_1 8 rfl rfl)
theorem dX0_goes_35 : decode cX0_goes 35 = .ok (.iload 5, 2) := dk_21 5 (dk_at dksX0_goes_1 11 rfl rfl)
theorem dX0_goes_37 : decode cX0_goes 37 = .ok (.aaload, 1) := dk_50 (dk_at dksX0_goes_1 13 rfl rfl)
theorem dX0_goes_38 : decode cX0_goes 38 = .ok (.aload_n 0, 1) := dk_42 (dk_at dksX0_goes_1 14 rfl rfl)
theorem dX0_goes_39 : decode cX0_goes 39 = .ok (.getfield 136, 3) := dk_180 0 136 (dk_at dksX0_goes_1 15 rfl rfl)
theorem dX0_goes_42 : decode cX0_goes 42 = .ok (.iload 5, 2) := dk_21 5 (dk_at dksX0_goes_1 18 rfl rfl)
theorem dX0_goes_44 : decode cX0_goes 44 = .ok (.aaload, 1) := dk_50 (dk_at dksX0_goes_1 20 rfl rfl)
theorem dX0_goes_45 : decode cX0_goes 45 = .ok (.iload_n 1, 1) := dk_27 (dk_at dksX0_goes_1 21 rfl rfl)
theorem dX0_goes_46 : decode cX0_goes 46 = .ok (.iload_n 2, 1) := dk_28 (dk_at dksX0_goes_1 22 rfl rfl)
theorem dX0_goes_47 : decode cX0_goes 47 = .ok (.iload_n 3, 1) := dk_29 (dk_at dksX0_goes_1 23 rfl rfl)
theorem dX0_goes_48 : decode cX0_goes 48 = .ok (.iload 4, 2) := dk_21 4 (dk_at dksX0_goes_2 0 rfl rfl)
theorem dX0_goes_50 : decode cX0_goes 50 = .ok (.aload_n 0, 1) := dk_42 (dk_at dksX0_goes_2 2 rfl rfl)
theorem dX0_goes_51 : decode cX0_goes 51 = .ok (.getfield 145, 3) := dk_180 0 145 (dk_at dksX0_goes_2 3 rfl rfl)
theorem dX0_goes_54 : decode cX0_goes 54 = .ok (.iload_n 2, 1) := dk_28 (dk_at dksX0_goes_2 6 rfl rfl)
theorem dX0_goes_55 : decode cX0_goes 55 = .ok (.iaload, 1) := dk_46 (dk_at dksX0_goes_2 7 rfl rfl)
theorem dX0_goes_56 : decode cX0_goes 56 = .ok (.invokevirtual 168, 3) := dk_182 0 168 (dk_at dksX0_goes_2 8 rfl rfl)
theorem dX0_goes_59 : decode cX0_goes 59 = .ok (.iinc 5 1, 3) := dk_132 5 1 (dk_at dksX0_goes_2 11 rfl rfl)
theorem dX0_goes_62 : decode cX0_goes 62 = .ok (.goto (-40), 3) := dk_167 255 216 (dk_at dksX0_goes_2 14 rfl rfl)
theorem dX0_goes_65 : decode cX0_goes 65 = .ok (.return_, 1) := dk_177 (dk_at dksX0_goes_2 17 rfl rfl)
abbrev cX0_fitting : ByteArray := prog_1_method_17_code
def yX0_fitting : MethodName := ⟨RX0, "fitting", "(IIZ)I"⟩
def dkwX0_fitting_2 : List UInt8 := [132, 5, 1, 167, 255, 213, 21, 4, 172]
abbrev dktX0_fitting_2 : List UInt8 := dkwX0_fitting_2 ++ []
def dkwX0_fitting_1 : List UInt8 := [28, 182, 0, 161, 29, 160, 0, 8, 21, 4, 167, 0, 9, 4, 21, 5, 120, 2, 130, 126, 54, 4]
abbrev dktX0_fitting_1 : List UInt8 := dkwX0_fitting_1 ++ dktX0_fitting_2
def dkwX0_fitting_0 : List UInt8 := [27, 54, 4, 3, 54, 5, 21, 5, 42, 180, 0, 3, 162, 0, 40, 21, 4, 42, 180, 0, 7, 21, 5, 50]
abbrev dktX0_fitting_0 : List UInt8 := dkwX0_fitting_0 ++ dktX0_fitting_1
theorem dksX0_fitting_0 : cX0_fitting.data.toList.drop 0 = dktX0_fitting_0 := by decide +kernel
theorem dksX0_fitting_1 : cX0_fitting.data.toList.drop 24 = dktX0_fitting_1 := dk_seg dksX0_fitting_0 24 rfl rfl
theorem dksX0_fitting_2 : cX0_fitting.data.toList.drop 46 = dktX0_fitting_2 := dk_seg dksX0_fitting_1 22 rfl rfl
theorem dX0_fitting_0 : decode cX0_fitting 0 = .ok (.iload_n 1, 1) := dk_27 (dk_at dksX0_fitting_0 0 rfl rfl)
theorem dX0_fitting_1 : decode cX0_fitting 1 = .ok (.istore 4, 2) := dk_54 4 (dk_at dksX0_fitting_0 1 rfl rfl)
theorem dX0_fitting_3 : decode cX0_fitting 3 = .ok (.iconst 0, 1) := dk_3 (dk_at dksX0_fitting_0 3 rfl rfl)
theorem dX0_fitting_4 : decode cX0_fitting 4 = .ok (.istore 5, 2) := dk_54 5 (dk_at dksX0_fitting_0 4 rfl rfl)
theorem dX0_fitting_6 : decode cX0_fitting 6 = .ok (.iload 5, 2) := dk_21 5 (dk_at dksX0_fitting_0 6 rfl rfl)
theorem dX0_fitting_8 : decode cX0_fitting 8 = .ok (.aload_n 0, 1) := dk_42 (dk_at dksX0_fitting_0 8 rfl rfl)
theorem dX0_fitting_9 : decode cX0_fitting 9 = .ok (.getfield 3, 3) := dk_180 0 3 (dk_at dksX0_fitting_0 9 rfl rfl)
theorem dX0_fitting_12 : decode cX0_fitting 12 = .ok (.if_icmp .ge 40, 3) := dk_162 0 40 (dk_at dksX0_fitting_0 12 rfl rfl)
theorem dX0_fitting_15 : decode cX0_fitting 15 = .ok (.iload 4, 2) := dk_21 4 (dk_at dksX0_fitting_0 15 rfl rfl)
theorem dX0_fitting_17 : decode cX0_fitting 17 = .ok (.aload_n 0, 1) := dk_42 (dk_at dksX0_fitting_0 17 rfl rfl)
theorem dX0_fitting_18 : decode cX0_fitting 18 = .ok (.getfield 7, 3) := dk_180 0 7 (dk_at dksX0_fitting_0 18 rfl rfl)
theorem dX0_fitting_21 : decode cX0_fitting 21 = .ok (.iload 5, 2) := dk_21 5 (dk_at dksX0_fitting_0 21 rfl rfl)
theorem dX0_fitting_23 : decode cX0_fitting 23 = .ok (.aaload, 1) := dk_50 (dk_at dksX0_fitting_0 23 rfl rfl)
theorem dX0_fitting_24 : decode cX0_fitting 24 = .ok (.iload_n 2, 1) := dk_28 (dk_at dksX0_fitting_1 0 rfl rfl)
theorem dX0_fitting_25 : decode cX0_fitting 25 = .ok (.invokevirtual 161, 3) := dk_182 0 161 (dk_at dksX0_fitting_1 1 rfl rfl)
theorem dX0_fitting_28 : decode cX0_fitting 28 = .ok (.iload_n 3, 1) := dk_29 (dk_at dksX0_fitting_1 4 rfl rfl)
theorem dX0_fitting_29 : decode cX0_fitting 29 = .ok (.if_icmp .ne 8, 3) := dk_160 0 8 (dk_at dksX0_fitting_1 5 rfl rfl)
theorem dX0_fitting_32 : decode cX0_fitting 32 = .ok (.iload 4, 2) := dk_21 4 (dk_at dksX0_fitting_1 8 rfl rfl)
theorem dX0_fitting_34 : decode cX0_fitting 34 = .ok (.goto 9, 3) := dk_167 0 9 (dk_at dksX0_fitting_1 10 rfl rfl)
theorem dX0_fitting_37 : decode cX0_fitting 37 = .ok (.iconst 1, 1) := dk_4 (dk_at dksX0_fitting_1 13 rfl rfl)
theorem dX0_fitting_38 : decode cX0_fitting 38 = .ok (.iload 5, 2) := dk_21 5 (dk_at dksX0_fitting_1 14 rfl rfl)
theorem dX0_fitting_40 : decode cX0_fitting 40 = .ok (.ishl, 1) := dk_120 (dk_at dksX0_fitting_1 16 rfl rfl)
theorem dX0_fitting_41 : decode cX0_fitting 41 = .ok (.iconst (-1), 1) := dk_2 (dk_at dksX0_fitting_1 17 rfl rfl)
theorem dX0_fitting_42 : decode cX0_fitting 42 = .ok (.ixor, 1) := dk_130 (dk_at dksX0_fitting_1 18 rfl rfl)
theorem dX0_fitting_43 : decode cX0_fitting 43 = .ok (.iand, 1) := dk_126 (dk_at dksX0_fitting_1 19 rfl rfl)
theorem dX0_fitting_44 : decode cX0_fitting 44 = .ok (.istore 4, 2) := dk_54 4 (dk_at dksX0_fitting_1 20 rfl rfl)
theorem dX0_fitting_46 : decode cX0_fitting 46 = .ok (.iinc 5 1, 3) := dk_132 5 1 (dk_at dksX0_fitting_2 0 rfl rfl)
theorem dX0_fitting_49 : decode cX0_fitting 49 = .ok (.goto (-43), 3) := dk_167 255 213 (dk_at dksX0_fitting_2 3 rfl rfl)
theorem dX0_fitting_52 : decode cX0_fitting 52 = .ok (.iload 4, 2) := dk_21 4 (dk_at dksX0_fitting_2 6 rfl rfl)
theorem dX0_fitting_54 : decode cX0_fitting 54 = .ok (.ireturn, 1) := dk_172 (dk_at dksX0_fitting_2 8 rfl rfl)
abbrev cX0_plainest : ByteArray := prog_1_method_2_code
def yX0_plainest : MethodName := ⟨RX0, "plainest", "(I)I"⟩
def dkwX0_plainest_3 : List UInt8 := [167, 255, 191, 28, 172]
abbrev dktX0_plainest_3 : List UInt8 := dkwX0_plainest_3 ++ []
def dkwX0_plainest_2 : List UInt8 := [182, 0, 11, 42, 180, 0, 7, 28, 50, 182, 0, 11, 162, 0, 7, 29, 167, 0, 4, 28, 61, 132, 3, 1]
abbrev dktX0_plainest_2 : List UInt8 := dkwX0_plainest_2 ++ dktX0_plainest_3
def dkwX0_plainest_1 : List UInt8 := [167, 0, 4, 3, 54, 4, 21, 4, 153, 0, 34, 28, 16, 252, 159, 0, 24, 42, 180, 0, 7, 29, 50]
abbrev dktX0_plainest_1 : List UInt8 := dkwX0_plainest_1 ++ dktX0_plainest_2
def dkwX0_plainest_0 : List UInt8 := [16, 252, 61, 3, 62, 29, 42, 180, 0, 3, 162, 0, 63, 27, 29, 122, 4, 126, 4, 160, 0, 7, 4]
abbrev dktX0_plainest_0 : List UInt8 := dkwX0_plainest_0 ++ dktX0_plainest_1
theorem dksX0_plainest_0 : cX0_plainest.data.toList.drop 0 = dktX0_plainest_0 := by decide +kernel
theorem dksX0_plainest_1 : cX0_plainest.data.toList.drop 23 = dktX0_plainest_1 := dk_seg dksX0_plainest_0 23 rfl rfl
theorem dksX0_plainest_2 : cX0_plainest.data.toList.drop 46 = dktX0_plainest_2 := dk_seg dksX0_plainest_1 23 rfl rfl
theorem dksX0_plainest_3 : cX0_plainest.data.toList.drop 70 = dktX0_plainest_3 := dk_seg dksX0_plainest_2 24 rfl rfl
theorem dX0_plainest_0 : decode cX0_plainest 0 = .ok (.bipush (-4), 2) := dk_16 252 (dk_at dksX0_plainest_0 0 rfl rfl)
theorem dX0_plainest_2 : decode cX0_plainest 2 = .ok (.istore_n 2, 1) := dk_61 (dk_at dksX0_plainest_0 2 rfl rfl)
theorem dX0_plainest_3 : decode cX0_plainest 3 = .ok (.iconst 0, 1) := dk_3 (dk_at dksX0_plainest_0 3 rfl rfl)
theorem dX0_plainest_4 : decode cX0_plainest 4 = .ok (.istore_n 3, 1) := dk_62 (dk_at dksX0_plainest_0 4 rfl rfl)
theorem dX0_plainest_5 : decode cX0_plainest 5 = .ok (.iload_n 3, 1) := dk_29 (dk_at dksX0_plainest_0 5 rfl rfl)
theorem dX0_plainest_6 : decode cX0_plainest 6 = .ok (.aload_n 0, 1) := dk_42 (dk_at dksX0_plainest_0 6 rfl rfl)
theorem dX0_plainest_7 : decode cX0_plainest 7 = .ok (.getfield 3, 3) := dk_180 0 3 (dk_at dksX0_plainest_0 7 rfl rfl)
theorem dX0_plainest_10 : decode cX0_plainest 10 = .ok (.if_icmp .ge 63, 3) := dk_162 0 63 (dk_at dksX0_plainest_0 10 rfl rfl)
theorem dX0_plainest_13 : decode cX0_plainest 13 = .ok (.iload_n 1, 1) := dk_27 (dk_at dksX0_plainest_0 13 rfl rfl)
theorem dX0_plainest_14 : decode cX0_plainest 14 = .ok (.iload_n 3, 1) := dk_29 (dk_at dksX0_plainest_0 14 rfl rfl)
theorem dX0_plainest_15 : decode cX0_plainest 15 = .ok (.ishr, 1) := dk_122 (dk_at dksX0_plainest_0 15 rfl rfl)
theorem dX0_plainest_16 : decode cX0_plainest 16 = .ok (.iconst 1, 1) := dk_4 (dk_at dksX0_plainest_0 16 rfl rfl)
theorem dX0_plainest_17 : decode cX0_plainest 17 = .ok (.iand, 1) := dk_126 (dk_at dksX0_plainest_0 17 rfl rfl)
theorem dX0_plainest_18 : decode cX0_plainest 18 = .ok (.iconst 1, 1) := dk_4 (dk_at dksX0_plainest_0 18 rfl rfl)
theorem dX0_plainest_19 : decode cX0_plainest 19 = .ok (.if_icmp .ne 7, 3) := dk_160 0 7 (dk_at dksX0_plainest_0 19 rfl rfl)
theorem dX0_plainest_22 : decode cX0_plainest 22 = .ok (.iconst 1, 1) := dk_4 (dk_at dksX0_plainest_0 22 rfl rfl)
theorem dX0_plainest_23 : decode cX0_plainest 23 = .ok (.goto 4, 3) := dk_167 0 4 (dk_at dksX0_plainest_1 0 rfl rfl)
theorem dX0_plainest_26 : decode cX0_plainest 26 = .ok (.iconst 0, 1) := dk_3 (dk_at dksX0_plainest_1 3 rfl rfl)
theorem dX0_plainest_27 : decode cX0_plainest 27 = .ok (.istore 4, 2) := dk_54 4 (dk_at dksX0_plainest_1 4 rfl rfl)
theorem dX0_plainest_29 : decode cX0_plainest 29 = .ok (.iload 4, 2) := dk_21 4 (dk_at dksX0_plainest_1 6 rfl rfl)
theorem dX0_plainest_31 : decode cX0_plainest 31 = .ok (.ifCond .eq 34, 3) := dk_153 0 34 (dk_at dksX0_plainest_1 8 rfl rfl)
theorem dX0_plainest_34 : decode cX0_plainest 34 = .ok (.iload_n 2, 1) := dk_28 (dk_at dksX0_plainest_1 11 rfl rfl)
theorem dX0_plainest_35 : decode cX0_plainest 35 = .ok (.bipush (-4), 2) := dk_16 252 (dk_at dksX0_plainest_1 12 rfl rfl)
theorem dX0_plainest_37 : decode cX0_plainest 37 = .ok (.if_icmp .eq 24, 3) := dk_159 0 24 (dk_at dksX0_plainest_1 14 rfl rfl)
theorem dX0_plainest_40 : decode cX0_plainest 40 = .ok (.aload_n 0, 1) := dk_42 (dk_at dksX0_plainest_1 17 rfl rfl)
theorem dX0_plainest_41 : decode cX0_plainest 41 = .ok (.getfield 7, 3) := dk_180 0 7 (dk_at dksX0_plainest_1 18 rfl rfl)
theorem dX0_plainest_44 : decode cX0_plainest 44 = .ok (.iload_n 3, 1) := dk_29 (dk_at dksX0_plainest_1 21 rfl rfl)
theorem dX0_plainest_45 : decode cX0_plainest 45 = .ok (.aaload, 1) := dk_50 (dk_at dksX0_plainest_1 22 rfl rfl)
theorem dX0_plainest_46 : decode cX0_plainest 46 = .ok (.invokevirtual 11, 3) := dk_182 0 11 (dk_at dksX0_plainest_2 0 rfl rfl)
theorem dX0_plainest_49 : decode cX0_plainest 49 = .ok (.aload_n 0, 1) := dk_42 (dk_at dksX0_plainest_2 3 rfl rfl)
theorem dX0_plainest_50 : decode cX0_plainest 50 = .ok (.getfield 7, 3) := dk_180 0 7 (dk_at dksX0_plainest_2 4 rfl rfl)
theorem dX0_plainest_53 : decode cX0_plainest 53 = .ok (.iload_n 2, 1) := dk_28 (dk_at dksX0_plainest_2 7 rfl rfl)
theorem dX0_plainest_54 : decode cX0_plainest 54 = .ok (.aaload, 1) := dk_50 (dk_at dksX0_plainest_2 8 rfl rfl)
theorem dX0_plainest_55 : decode cX0_plainest 55 = .ok (.invokevirtual 11, 3) := dk_182 0 11 (dk_at dksX0_plainest_2 9 rfl rfl)
theorem dX0_plainest_58 : decode cX0_plainest 58 = .ok (.if_icmp .ge 7, 3) := dk_162 0 7 (dk_at dksX0_plainest_2 12 rfl rfl)
theorem dX0_plainest_61 : decode cX0_plainest 61 = .ok (.iload_n 3, 1) := dk_29 (dk_at dksX0_plainest_2 15 rfl rfl)
theorem dX0_plainest_62 : decode cX0_plainest 62 = .ok (.goto 4, 3) := dk_167 0 4 (dk_at dksX0_plainest_2 16 rfl rfl)
theorem dX0_plainest_65 : decode cX0_plainest 65 = .ok (.iload_n 2, 1) := dk_28 (dk_at dksX0_plainest_2 19 rfl rfl)
theorem dX0_plainest_66 : decode cX0_plainest 66 = .ok (.istore_n 2, 1) := dk_61 (dk_at dksX0_plainest_2 20 rfl rfl)
theorem dX0_plainest_67 : decode cX0_plainest 67 = .ok (.iinc 3 1, 3) := dk_132 3 1 (dk_at dksX0_plainest_2 21 rfl rfl)
theorem dX0_plainest_70 : decode cX0_plainest 70 = .ok (.goto (-65), 3) := dk_167 255 191 (dk_at dksX0_plainest_3 0 rfl rfl)
theorem dX0_plainest_73 : decode cX0_plainest 73 = .ok (.iload_n 2, 1) := dk_28 (dk_at dksX0_plainest_3 3 rfl rfl)
theorem dX0_plainest_74 : decode cX0_plainest 74 = .ok (.ireturn, 1) := dk_172 (dk_at dksX0_plainest_3 4 rfl rfl)
abbrev cX0_teach : ByteArray := prog_1_method_24_code
def yX0_teach : MethodName := ⟨RX0, "teach", "(II)I"⟩
def dkwX0_teach_1 : List UInt8 := [28, 182, 0, 161, 153, 0, 7, 4, 167, 0, 4, 3, 182, 0, 183, 172]
abbrev dktX0_teach_1 : List UInt8 := dkwX0_teach_1 ++ []
def dkwX0_teach_0 : List UInt8 := [42, 27, 28, 42, 27, 182, 0, 112, 153, 0, 27, 42, 28, 182, 0, 83, 153, 0, 19, 42, 27, 182, 0, 186]
abbrev dktX0_teach_0 : List UInt8 := dkwX0_teach_0 ++ dktX0_teach_1
theorem dksX0_teach_0 : cX0_teach.data.toList.drop 0 = dktX0_teach_0 := by decide +kernel
theorem dksX0_teach_1 : cX0_teach.data.toList.drop 24 = dktX0_teach_1 := dk_seg dksX0_teach_0 24 rfl rfl
theorem dX0_teach_0 : decode cX0_teach 0 = .ok (.aload_n 0, 1) := dk_42 (dk_at dksX0_teach_0 0 rfl rfl)
theorem dX0_teach_1 : decode cX0_teach 1 = .ok (.iload_n 1, 1) := dk_27 (dk_at dksX0_teach_0 1 rfl rfl)
theorem dX0_teach_2 : decode cX0_teach 2 = .ok (.iload_n 2, 1) := dk_28 (dk_at dksX0_teach_0 2 rfl rfl)
theorem dX0_teach_3 : decode cX0_teach 3 = .ok (.aload_n 0, 1) := dk_42 (dk_at dksX0_teach_0 3 rfl rfl)
theorem dX0_teach_4 : decode cX0_teach 4 = .ok (.iload_n 1, 1) := dk_27 (dk_at dksX0_teach_0 4 rfl rfl)
theorem dX0_teach_5 : decode cX0_teach 5 = .ok (.invokevirtual 112, 3) := dk_182 0 112 (dk_at dksX0_teach_0 5 rfl rfl)
theorem dX0_teach_8 : decode cX0_teach 8 = .ok (.ifCond .eq 27, 3) := dk_153 0 27 (dk_at dksX0_teach_0 8 rfl rfl)
theorem dX0_teach_11 : decode cX0_teach 11 = .ok (.aload_n 0, 1) := dk_42 (dk_at dksX0_teach_0 11 rfl rfl)
theorem dX0_teach_12 : decode cX0_teach 12 = .ok (.iload_n 2, 1) := dk_28 (dk_at dksX0_teach_0 12 rfl rfl)
theorem dX0_teach_13 : decode cX0_teach 13 = .ok (.invokevirtual 83, 3) := dk_182 0 83 (dk_at dksX0_teach_0 13 rfl rfl)
theorem dX0_teach_16 : decode cX0_teach 16 = .ok (.ifCond .eq 19, 3) := dk_153 0 19 (dk_at dksX0_teach_0 16 rfl rfl)
theorem dX0_teach_19 : decode cX0_teach 19 = .ok (.aload_n 0, 1) := dk_42 (dk_at dksX0_teach_0 19 rfl rfl)
theorem dX0_teach_20 : decode cX0_teach 20 = .ok (.iload_n 1, 1) := dk_27 (dk_at dksX0_teach_0 20 rfl rfl)
theorem dX0_teach_21 : decode cX0_teach 21 = .ok (.invokevirtual 186, 3) := dk_182 0 186 (dk_at dksX0_teach_0 21 rfl rfl)
theorem dX0_teach_24 : decode cX0_teach 24 = .ok (.iload_n 2, 1) := dk_28 (dk_at dksX0_teach_1 0 rfl rfl)
theorem dX0_teach_25 : decode cX0_teach 25 = .ok (.invokevirtual 161, 3) := dk_182 0 161 (dk_at dksX0_teach_1 1 rfl rfl)
theorem dX0_teach_28 : decode cX0_teach 28 = .ok (.ifCond .eq 7, 3) := dk_153 0 7 (dk_at dksX0_teach_1 4 rfl rfl)
theorem dX0_teach_31 : decode cX0_teach 31 = .ok (.iconst 1, 1) := dk_4 (dk_at dksX0_teach_1 7 rfl rfl)
theorem dX0_teach_32 : decode cX0_teach 32 = .ok (.goto 4, 3) := dk_167 0 4 (dk_at dksX0_teach_1 8 rfl rfl)
theorem dX0_teach_35 : decode cX0_teach 35 = .ok (.iconst 0, 1) := dk_3 (dk_at dksX0_teach_1 11 rfl rfl)
theorem dX0_teach_36 : decode cX0_teach 36 = .ok (.invokevirtual 183, 3) := dk_182 0 183 (dk_at dksX0_teach_1 12 rfl rfl)
theorem dX0_teach_39 : decode cX0_teach 39 = .ok (.ireturn, 1) := dk_172 (dk_at dksX0_teach_1 15 rfl rfl)
abbrev cX0_target : ByteArray := prog_1_method_23_code
def yX0_target : MethodName := ⟨RX0, "target", "(I)LFirstWords$Meaning;"⟩
def dkwX0_target_0 : List UInt8 := [42, 180, 0, 7, 42, 180, 0, 115, 27, 46, 50, 176]
abbrev dktX0_target_0 : List UInt8 := dkwX0_target_0 ++ []
theorem dksX0_target_0 : cX0_target.data.toList.drop 0 = dktX0_target_0 := by decide +kernel
theorem dX0_target_0 : decode cX0_target 0 = .ok (.aload_n 0, 1) := dk_42 (dk_at dksX0_target_0 0 rfl rfl)
theorem dX0_target_1 : decode cX0_target 1 = .ok (.getfield 7, 3) := dk_180 0 7 (dk_at dksX0_target_0 1 rfl rfl)
theorem dX0_target_4 : decode cX0_target 4 = .ok (.aload_n 0, 1) := dk_42 (dk_at dksX0_target_0 4 rfl rfl)
theorem dX0_target_5 : decode cX0_target 5 = .ok (.getfield 115, 3) := dk_180 0 115 (dk_at dksX0_target_0 5 rfl rfl)
theorem dX0_target_8 : decode cX0_target 8 = .ok (.iload_n 1, 1) := dk_27 (dk_at dksX0_target_0 8 rfl rfl)
theorem dX0_target_9 : decode cX0_target 9 = .ok (.iaload, 1) := dk_46 (dk_at dksX0_target_0 9 rfl rfl)
theorem dX0_target_10 : decode cX0_target 10 = .ok (.aaload, 1) := dk_50 (dk_at dksX0_target_0 10 rfl rfl)
theorem dX0_target_11 : decode cX0_target 11 = .ok (.areturn, 1) := dk_176 (dk_at dksX0_target_0 11 rfl rfl)
abbrev cX0_undo : ByteArray := prog_1_method_25_code
def yX0_undo : MethodName := ⟨RX0, "undo", "()I"⟩
def dkwX0_undo_1 : List UInt8 := [42, 180, 0, 154, 172]
abbrev dktX0_undo_1 : List UInt8 := dkwX0_undo_1 ++ []
def dkwX0_undo_0 : List UInt8 := [42, 180, 0, 154, 154, 0, 6, 16, 252, 172, 42, 89, 180, 0, 154, 4, 100, 181, 0, 154, 42, 182, 0, 190]
abbrev dktX0_undo_0 : List UInt8 := dkwX0_undo_0 ++ dktX0_undo_1
theorem dksX0_undo_0 : cX0_undo.data.toList.drop 0 = dktX0_undo_0 := by decide +kernel
theorem dksX0_undo_1 : cX0_undo.data.toList.drop 24 = dktX0_undo_1 := dk_seg dksX0_undo_0 24 rfl rfl
theorem dX0_undo_0 : decode cX0_undo 0 = .ok (.aload_n 0, 1) := dk_42 (dk_at dksX0_undo_0 0 rfl rfl)
theorem dX0_undo_1 : decode cX0_undo 1 = .ok (.getfield 154, 3) := dk_180 0 154 (dk_at dksX0_undo_0 1 rfl rfl)
theorem dX0_undo_4 : decode cX0_undo 4 = .ok (.ifCond .ne 6, 3) := dk_154 0 6 (dk_at dksX0_undo_0 4 rfl rfl)
theorem dX0_undo_7 : decode cX0_undo 7 = .ok (.bipush (-4), 2) := dk_16 252 (dk_at dksX0_undo_0 7 rfl rfl)
theorem dX0_undo_9 : decode cX0_undo 9 = .ok (.ireturn, 1) := dk_172 (dk_at dksX0_undo_0 9 rfl rfl)
theorem dX0_undo_10 : decode cX0_undo 10 = .ok (.aload_n 0, 1) := dk_42 (dk_at dksX0_undo_0 10 rfl rfl)
theorem dX0_undo_11 : decode cX0_undo 11 = .ok (.dup, 1) := dk_89 (dk_at dksX0_undo_0 11 rfl rfl)
theorem dX0_undo_12 : decode cX0_undo 12 = .ok (.getfield 154, 3) := dk_180 0 154 (dk_at dksX0_undo_0 12 rfl rfl)
theorem dX0_undo_15 : decode cX0_undo 15 = .ok (.iconst 1, 1) := dk_4 (dk_at dksX0_undo_0 15 rfl rfl)
theorem dX0_undo_16 : decode cX0_undo 16 = .ok (.isub, 1) := dk_100 (dk_at dksX0_undo_0 16 rfl rfl)
theorem dX0_undo_17 : decode cX0_undo 17 = .ok (.putfield 154, 3) := dk_181 0 154 (dk_at dksX0_undo_0 17 rfl rfl)
theorem dX0_undo_20 : decode cX0_undo 20 = .ok (.aload_n 0, 1) := dk_42 (dk_at dksX0_undo_0 20 rfl rfl)
theorem dX0_undo_21 : decode cX0_undo 21 = .ok (.invokevirtual 190, 3) := dk_182 0 190 (dk_at dksX0_undo_0 21 rfl rfl)
theorem dX0_undo_24 : decode cX0_undo 24 = .ok (.aload_n 0, 1) := dk_42 (dk_at dksX0_undo_1 0 rfl rfl)
theorem dX0_undo_25 : decode cX0_undo 25 = .ok (.getfield 154, 3) := dk_180 0 154 (dk_at dksX0_undo_1 1 rfl rfl)
theorem dX0_undo_28 : decode cX0_undo 28 = .ok (.ireturn, 1) := dk_172 (dk_at dksX0_undo_1 4 rfl rfl)
abbrev cX0_goesAll : ByteArray := prog_1_method_19_code
def yX0_goesAll : MethodName := ⟨RX0, "goesAll", "()V"⟩
def dkwX0_goesAll_2 : List UInt8 := [3, 182, 0, 175, 132, 1, 1, 167, 255, 207, 177]
abbrev dktX0_goesAll_2 : List UInt8 := dkwX0_goesAll_2 ++ []
def dkwX0_goesAll_1 : List UInt8 := [42, 180, 0, 171, 27, 50, 4, 46, 42, 180, 0, 171, 27, 50, 5, 46, 4, 160, 0, 7, 4, 167, 0, 4]
abbrev dktX0_goesAll_1 : List UInt8 := dkwX0_goesAll_1 ++ dktX0_goesAll_2
def dkwX0_goesAll_0 : List UInt8 := [42, 182, 0, 160, 3, 60, 27, 42, 180, 0, 154, 162, 0, 47, 42, 27, 42, 180, 0, 171, 27, 50, 3, 46]
abbrev dktX0_goesAll_0 : List UInt8 := dkwX0_goesAll_0 ++ dktX0_goesAll_1
theorem dksX0_goesAll_0 : cX0_goesAll.data.toList.drop 0 = dktX0_goesAll_0 := by decide +kernel
theorem dksX0_goesAll_1 : cX0_goesAll.data.toList.drop 24 = dktX0_goesAll_1 := dk_seg dksX0_goesAll_0 24 rfl rfl
theorem dksX0_goesAll_2 : cX0_goesAll.data.toList.drop 48 = dktX0_goesAll_2 := dk_seg dksX0_goesAll_1 24 rfl rfl
theorem dX0_goesAll_0 : decode cX0_goesAll 0 = .ok (.aload_n 0, 1) := dk_42 (dk_at dksX0_goesAll_0 0 rfl rfl)
theorem dX0_goesAll_1 : decode cX0_goesAll 1 = .ok (.invokevirtual 160, 3) := dk_182 0 160 (dk_at dksX0_goesAll_0 1 rfl rfl)
theorem dX0_goesAll_4 : decode cX0_goesAll 4 = .ok (.iconst 0, 1) := dk_3 (dk_at dksX0_goesAll_0 4 rfl rfl)
theorem dX0_goesAll_5 : decode cX0_goesAll 5 = .ok (.istore_n 1, 1) := dk_60 (dk_at dksX0_goesAll_0 5 rfl rfl)
theorem dX0_goesAll_6 : decode cX0_goesAll 6 = .ok (.iload_n 1, 1) := dk_27 (dk_at dksX0_goesAll_0 6 rfl rfl)
theorem dX0_goesAll_7 : decode cX0_goesAll 7 = .ok (.aload_n 0, 1) := dk_42 (dk_at dksX0_goesAll_0 7 rfl rfl)
theorem dX0_goesAll_8 : decode cX0_goesAll 8 = .ok (.getfield 154, 3) := dk_180 0 154 (dk_at dksX0_goesAll_0 8 rfl rfl)
theorem dX0_goesAll_11 : decode cX0_goesAll 11 = .ok (.if_icmp .ge 47, 3) := dk_162 0 47 (dk_at dksX0_goesAll_0 11 rfl rfl)
theorem dX0_goesAll_14 : decode cX0_goesAll 14 = .ok (.aload_n 0, 1) := dk_42 (dk_at dksX0_goesAll_0 14 rfl rfl)
theorem dX0_goesAll_15 : decode cX0_goesAll 15 = .ok (.iload_n 1, 1) := dk_27 (dk_at dksX0_goesAll_0 15 rfl rfl)
theorem dX0_goesAll_16 : decode cX0_goesAll 16 = .ok (.aload_n 0, 1) := dk_42 (dk_at dksX0_goesAll_0 16 rfl rfl)
theorem dX0_goesAll_17 : decode cX0_goesAll 17 = .ok (.getfield 171, 3) := dk_180 0 171 (dk_at dksX0_goesAll_0 17 rfl rfl)
theorem dX0_goesAll_20 : decode cX0_goesAll 20 = .ok (.iload_n 1, 1) := dk_27 (dk_at dksX0_goesAll_0 20 rfl rfl)
theorem dX0_goesAll_21 : decode cX0_goesAll 21 = .ok (.aaload, 1) := dk_50 (dk_at dksX0_goesAll_0 21 rfl rfl)
theorem dX0_goesAll_22 : decode cX0_goesAll 22 = .ok (.iconst 0, 1) := dk_3 (dk_at dksX0_goesAll_0 22 rfl rfl)
theorem dX0_goesAll_23 : decode cX0_goesAll 23 = .ok (.iaload, 1) := dk_46 (dk_at dksX0_goesAll_0 23 rfl rfl)
theorem dX0_goesAll_24 : decode cX0_goesAll 24 = .ok (.aload_n 0, 1) := dk_42 (dk_at dksX0_goesAll_1 0 rfl rfl)
theorem dX0_goesAll_25 : decode cX0_goesAll 25 = .ok (.getfield 171, 3) := dk_180 0 171 (dk_at dksX0_goesAll_1 1 rfl rfl)
theorem dX0_goesAll_28 : decode cX0_goesAll 28 = .ok (.iload_n 1, 1) := dk_27 (dk_at dksX0_goesAll_1 4 rfl rfl)
theorem dX0_goesAll_29 : decode cX0_goesAll 29 = .ok (.aaload, 1) := dk_50 (dk_at dksX0_goesAll_1 5 rfl rfl)
theorem dX0_goesAll_30 : decode cX0_goesAll 30 = .ok (.iconst 1, 1) := dk_4 (dk_at dksX0_goesAll_1 6 rfl rfl)
theorem dX0_goesAll_31 : decode cX0_goesAll 31 = .ok (.iaload, 1) := dk_46 (dk_at dksX0_goesAll_1 7 rfl rfl)
theorem dX0_goesAll_32 : decode cX0_goesAll 32 = .ok (.aload_n 0, 1) := dk_42 (dk_at dksX0_goesAll_1 8 rfl rfl)
theorem dX0_goesAll_33 : decode cX0_goesAll 33 = .ok (.getfield 171, 3) := dk_180 0 171 (dk_at dksX0_goesAll_1 9 rfl rfl)
theorem dX0_goesAll_36 : decode cX0_goesAll 36 = .ok (.iload_n 1, 1) := dk_27 (dk_at dksX0_goesAll_1 12 rfl rfl)
theorem dX0_goesAll_37 : decode cX0_goesAll 37 = .ok (.aaload, 1) := dk_50 (dk_at dksX0_goesAll_1 13 rfl rfl)
theorem dX0_goesAll_38 : decode cX0_goesAll 38 = .ok (.iconst 2, 1) := dk_5 (dk_at dksX0_goesAll_1 14 rfl rfl)
theorem dX0_goesAll_39 : decode cX0_goesAll 39 = .ok (.iaload, 1) := dk_46 (dk_at dksX0_goesAll_1 15 rfl rfl)
theorem dX0_goesAll_40 : decode cX0_goesAll 40 = .ok (.iconst 1, 1) := dk_4 (dk_at dksX0_goesAll_1 16 rfl rfl)
theorem dX0_goesAll_41 : decode cX0_goesAll 41 = .ok (.if_icmp .ne 7, 3) := dk_160 0 7 (dk_at dksX0_goesAll_1 17 rfl rfl)
theorem dX0_goesAll_44 : decode cX0_goesAll 44 = .ok (.iconst 1, 1) := dk_4 (dk_at dksX0_goesAll_1 20 rfl rfl)
theorem dX0_goesAll_45 : decode cX0_goesAll 45 = .ok (.goto 4, 3) := dk_167 0 4 (dk_at dksX0_goesAll_1 21 rfl rfl)
theorem dX0_goesAll_48 : decode cX0_goesAll 48 = .ok (.iconst 0, 1) := dk_3 (dk_at dksX0_goesAll_2 0 rfl rfl)
theorem dX0_goesAll_49 : decode cX0_goesAll 49 = .ok (.invokevirtual 175, 3) := dk_182 0 175 (dk_at dksX0_goesAll_2 1 rfl rfl)
theorem dX0_goesAll_52 : decode cX0_goesAll 52 = .ok (.iinc 1 1, 3) := dk_132 1 1 (dk_at dksX0_goesAll_2 4 rfl rfl)
theorem dX0_goesAll_55 : decode cX0_goesAll 55 = .ok (.goto (-49), 3) := dk_167 255 207 (dk_at dksX0_goesAll_2 7 rfl rfl)
theorem dX0_goesAll_58 : decode cX0_goesAll 58 = .ok (.return_, 1) := dk_177 (dk_at dksX0_goesAll_2 10 rfl rfl)
abbrev cX0_clear : ByteArray := prog_1_method_26_code
def yX0_clear : MethodName := ⟨RX0, "clear", "()I"⟩
def dkwX0_clear_0 : List UInt8 := [42, 180, 0, 154, 60, 42, 182, 0, 44, 27, 172]
abbrev dktX0_clear_0 : List UInt8 := dkwX0_clear_0 ++ []
theorem dksX0_clear_0 : cX0_clear.data.toList.drop 0 = dktX0_clear_0 := by decide +kernel
theorem dX0_clear_0 : decode cX0_clear 0 = .ok (.aload_n 0, 1) := dk_42 (dk_at dksX0_clear_0 0 rfl rfl)
theorem dX0_clear_1 : decode cX0_clear 1 = .ok (.getfield 154, 3) := dk_180 0 154 (dk_at dksX0_clear_0 1 rfl rfl)
theorem dX0_clear_4 : decode cX0_clear 4 = .ok (.istore_n 1, 1) := dk_60 (dk_at dksX0_clear_0 4 rfl rfl)
theorem dX0_clear_5 : decode cX0_clear 5 = .ok (.aload_n 0, 1) := dk_42 (dk_at dksX0_clear_0 5 rfl rfl)
theorem dX0_clear_6 : decode cX0_clear 6 = .ok (.invokevirtual 44, 3) := dk_182 0 44 (dk_at dksX0_clear_0 6 rfl rfl)
theorem dX0_clear_9 : decode cX0_clear 9 = .ok (.iload_n 1, 1) := dk_27 (dk_at dksX0_clear_0 9 rfl rfl)
theorem dX0_clear_10 : decode cX0_clear 10 = .ok (.ireturn, 1) := dk_172 (dk_at dksX0_clear_0 10 rfl rfl)
abbrev cX0_shown : ByteArray := prog_1_method_27_code
def yX0_shown : MethodName := ⟨RX0, "shown", "(II)I"⟩
def dkwX0_shown_1 : List UInt8 := [184, 0, 24, 153, 0, 14, 42, 180, 0, 171, 27, 50, 28, 46, 167, 0, 4, 2, 172]
abbrev dktX0_shown_1 : List UInt8 := dkwX0_shown_1 ++ []
def dkwX0_shown_0 : List UInt8 := [27, 133, 9, 42, 180, 0, 154, 4, 100, 133, 184, 0, 24, 153, 0, 26, 28, 133, 9, 20, 0, 193]
abbrev dktX0_shown_0 : List UInt8 := dkwX0_shown_0 ++ dktX0_shown_1
theorem dksX0_shown_0 : cX0_shown.data.toList.drop 0 = dktX0_shown_0 := by decide +kernel
theorem dksX0_shown_1 : cX0_shown.data.toList.drop 22 = dktX0_shown_1 := dk_seg dksX0_shown_0 22 rfl rfl
theorem dX0_shown_0 : decode cX0_shown 0 = .ok (.iload_n 1, 1) := dk_27 (dk_at dksX0_shown_0 0 rfl rfl)
theorem dX0_shown_1 : decode cX0_shown 1 = .ok (.i2l, 1) := dk_133 (dk_at dksX0_shown_0 1 rfl rfl)
theorem dX0_shown_2 : decode cX0_shown 2 = .ok (.lconst 0, 1) := dk_9 (dk_at dksX0_shown_0 2 rfl rfl)
theorem dX0_shown_3 : decode cX0_shown 3 = .ok (.aload_n 0, 1) := dk_42 (dk_at dksX0_shown_0 3 rfl rfl)
theorem dX0_shown_4 : decode cX0_shown 4 = .ok (.getfield 154, 3) := dk_180 0 154 (dk_at dksX0_shown_0 4 rfl rfl)
theorem dX0_shown_7 : decode cX0_shown 7 = .ok (.iconst 1, 1) := dk_4 (dk_at dksX0_shown_0 7 rfl rfl)
theorem dX0_shown_8 : decode cX0_shown 8 = .ok (.isub, 1) := dk_100 (dk_at dksX0_shown_0 8 rfl rfl)
theorem dX0_shown_9 : decode cX0_shown 9 = .ok (.i2l, 1) := dk_133 (dk_at dksX0_shown_0 9 rfl rfl)
theorem dX0_shown_10 : decode cX0_shown 10 = .ok (.invokestatic 24, 3) := dk_184 0 24 (dk_at dksX0_shown_0 10 rfl rfl)
theorem dX0_shown_13 : decode cX0_shown 13 = .ok (.ifCond .eq 26, 3) := dk_153 0 26 (dk_at dksX0_shown_0 13 rfl rfl)
theorem dX0_shown_16 : decode cX0_shown 16 = .ok (.iload_n 2, 1) := dk_28 (dk_at dksX0_shown_0 16 rfl rfl)
theorem dX0_shown_17 : decode cX0_shown 17 = .ok (.i2l, 1) := dk_133 (dk_at dksX0_shown_0 17 rfl rfl)
theorem dX0_shown_18 : decode cX0_shown 18 = .ok (.lconst 0, 1) := dk_9 (dk_at dksX0_shown_0 18 rfl rfl)
theorem dX0_shown_19 : decode cX0_shown 19 = .ok (.ldc2_w 193, 3) := dk_20 0 193 (dk_at dksX0_shown_0 19 rfl rfl)
theorem dX0_shown_22 : decode cX0_shown 22 = .ok (.invokestatic 24, 3) := dk_184 0 24 (dk_at dksX0_shown_1 0 rfl rfl)
theorem dX0_shown_25 : decode cX0_shown 25 = .ok (.ifCond .eq 14, 3) := dk_153 0 14 (dk_at dksX0_shown_1 3 rfl rfl)
theorem dX0_shown_28 : decode cX0_shown 28 = .ok (.aload_n 0, 1) := dk_42 (dk_at dksX0_shown_1 6 rfl rfl)
theorem dX0_shown_29 : decode cX0_shown 29 = .ok (.getfield 171, 3) := dk_180 0 171 (dk_at dksX0_shown_1 7 rfl rfl)
theorem dX0_shown_32 : decode cX0_shown 32 = .ok (.iload_n 1, 1) := dk_27 (dk_at dksX0_shown_1 10 rfl rfl)
theorem dX0_shown_33 : decode cX0_shown 33 = .ok (.aaload, 1) := dk_50 (dk_at dksX0_shown_1 11 rfl rfl)
theorem dX0_shown_34 : decode cX0_shown 34 = .ok (.iload_n 2, 1) := dk_28 (dk_at dksX0_shown_1 12 rfl rfl)
theorem dX0_shown_35 : decode cX0_shown 35 = .ok (.iaload, 1) := dk_46 (dk_at dksX0_shown_1 13 rfl rfl)
theorem dX0_shown_36 : decode cX0_shown 36 = .ok (.goto 4, 3) := dk_167 0 4 (dk_at dksX0_shown_1 14 rfl rfl)
theorem dX0_shown_39 : decode cX0_shown 39 = .ok (.iconst (-1), 1) := dk_2 (dk_at dksX0_shown_1 17 rfl rfl)
theorem dX0_shown_40 : decode cX0_shown 40 = .ok (.ireturn, 1) := dk_172 (dk_at dksX0_shown_1 18 rfl rfl)
abbrev cX0_thinks : ByteArray := prog_1_method_28_code
def yX0_thinks : MethodName := ⟨RX0, "thinks", "(II)I"⟩
def dkwX0_thinks_1 : List UInt8 := [180, 0, 195, 28, 46, 167, 0, 4, 2, 172]
abbrev dktX0_thinks_1 : List UInt8 := dkwX0_thinks_1 ++ []
def dkwX0_thinks_0 : List UInt8 := [42, 27, 182, 0, 118, 153, 0, 25, 42, 28, 182, 0, 112, 153, 0, 17, 42, 180, 0, 136, 27, 50]
abbrev dktX0_thinks_0 : List UInt8 := dkwX0_thinks_0 ++ dktX0_thinks_1
theorem dksX0_thinks_0 : cX0_thinks.data.toList.drop 0 = dktX0_thinks_0 := by decide +kernel
theorem dksX0_thinks_1 : cX0_thinks.data.toList.drop 22 = dktX0_thinks_1 := dk_seg dksX0_thinks_0 22 rfl rfl
theorem dX0_thinks_0 : decode cX0_thinks 0 = .ok (.aload_n 0, 1) := dk_42 (dk_at dksX0_thinks_0 0 rfl rfl)
theorem dX0_thinks_1 : decode cX0_thinks 1 = .ok (.iload_n 1, 1) := dk_27 (dk_at dksX0_thinks_0 1 rfl rfl)
theorem dX0_thinks_2 : decode cX0_thinks 2 = .ok (.invokevirtual 118, 3) := dk_182 0 118 (dk_at dksX0_thinks_0 2 rfl rfl)
theorem dX0_thinks_5 : decode cX0_thinks 5 = .ok (.ifCond .eq 25, 3) := dk_153 0 25 (dk_at dksX0_thinks_0 5 rfl rfl)
theorem dX0_thinks_8 : decode cX0_thinks 8 = .ok (.aload_n 0, 1) := dk_42 (dk_at dksX0_thinks_0 8 rfl rfl)
theorem dX0_thinks_9 : decode cX0_thinks 9 = .ok (.iload_n 2, 1) := dk_28 (dk_at dksX0_thinks_0 9 rfl rfl)
theorem dX0_thinks_10 : decode cX0_thinks 10 = .ok (.invokevirtual 112, 3) := dk_182 0 112 (dk_at dksX0_thinks_0 10 rfl rfl)
theorem dX0_thinks_13 : decode cX0_thinks 13 = .ok (.ifCond .eq 17, 3) := dk_153 0 17 (dk_at dksX0_thinks_0 13 rfl rfl)
theorem dX0_thinks_16 : decode cX0_thinks 16 = .ok (.aload_n 0, 1) := dk_42 (dk_at dksX0_thinks_0 16 rfl rfl)
theorem dX0_thinks_17 : decode cX0_thinks 17 = .ok (.getfield 136, 3) := dk_180 0 136 (dk_at dksX0_thinks_0 17 rfl rfl)
theorem dX0_thinks_20 : decode cX0_thinks 20 = .ok (.iload_n 1, 1) := dk_27 (dk_at dksX0_thinks_0 20 rfl rfl)
theorem dX0_thinks_21 : decode cX0_thinks 21 = .ok (.aaload, 1) := dk_50 (dk_at dksX0_thinks_0 21 rfl rfl)
theorem dX0_thinks_22 : decode cX0_thinks 22 = .ok (.getfield 195, 3) := dk_180 0 195 (dk_at dksX0_thinks_1 0 rfl rfl)
theorem dX0_thinks_25 : decode cX0_thinks 25 = .ok (.iload_n 2, 1) := dk_28 (dk_at dksX0_thinks_1 3 rfl rfl)
theorem dX0_thinks_26 : decode cX0_thinks 26 = .ok (.iaload, 1) := dk_46 (dk_at dksX0_thinks_1 4 rfl rfl)
theorem dX0_thinks_27 : decode cX0_thinks 27 = .ok (.goto 4, 3) := dk_167 0 4 (dk_at dksX0_thinks_1 5 rfl rfl)
theorem dX0_thinks_30 : decode cX0_thinks 30 = .ok (.iconst (-1), 1) := dk_2 (dk_at dksX0_thinks_1 8 rfl rfl)
theorem dX0_thinks_31 : decode cX0_thinks 31 = .ok (.ireturn, 1) := dk_172 (dk_at dksX0_thinks_1 9 rfl rfl)
abbrev cX0_fits : ByteArray := prog_1_method_29_code
def yX0_fits : MethodName := ⟨RX0, "fits", "(II)I"⟩
def dkwX0_fits_1 : List UInt8 := [180, 0, 94, 27, 50, 180, 0, 98, 126, 167, 0, 4, 2, 172]
abbrev dktX0_fits_1 : List UInt8 := dkwX0_fits_1 ++ []
def dkwX0_fits_0 : List UInt8 := [42, 27, 182, 0, 118, 153, 0, 30, 42, 28, 182, 0, 112, 153, 0, 22, 42, 180, 0, 145, 28, 46, 42]
abbrev dktX0_fits_0 : List UInt8 := dkwX0_fits_0 ++ dktX0_fits_1
theorem dksX0_fits_0 : cX0_fits.data.toList.drop 0 = dktX0_fits_0 := by decide +kernel
theorem dksX0_fits_1 : cX0_fits.data.toList.drop 23 = dktX0_fits_1 := dk_seg dksX0_fits_0 23 rfl rfl
theorem dX0_fits_0 : decode cX0_fits 0 = .ok (.aload_n 0, 1) := dk_42 (dk_at dksX0_fits_0 0 rfl rfl)
theorem dX0_fits_1 : decode cX0_fits 1 = .ok (.iload_n 1, 1) := dk_27 (dk_at dksX0_fits_0 1 rfl rfl)
theorem dX0_fits_2 : decode cX0_fits 2 = .ok (.invokevirtual 118, 3) := dk_182 0 118 (dk_at dksX0_fits_0 2 rfl rfl)
theorem dX0_fits_5 : decode cX0_fits 5 = .ok (.ifCond .eq 30, 3) := dk_153 0 30 (dk_at dksX0_fits_0 5 rfl rfl)
theorem dX0_fits_8 : decode cX0_fits 8 = .ok (.aload_n 0, 1) := dk_42 (dk_at dksX0_fits_0 8 rfl rfl)
theorem dX0_fits_9 : decode cX0_fits 9 = .ok (.iload_n 2, 1) := dk_28 (dk_at dksX0_fits_0 9 rfl rfl)
theorem dX0_fits_10 : decode cX0_fits 10 = .ok (.invokevirtual 112, 3) := dk_182 0 112 (dk_at dksX0_fits_0 10 rfl rfl)
theorem dX0_fits_13 : decode cX0_fits 13 = .ok (.ifCond .eq 22, 3) := dk_153 0 22 (dk_at dksX0_fits_0 13 rfl rfl)
theorem dX0_fits_16 : decode cX0_fits 16 = .ok (.aload_n 0, 1) := dk_42 (dk_at dksX0_fits_0 16 rfl rfl)
theorem dX0_fits_17 : decode cX0_fits 17 = .ok (.getfield 145, 3) := dk_180 0 145 (dk_at dksX0_fits_0 17 rfl rfl)
theorem dX0_fits_20 : decode cX0_fits 20 = .ok (.iload_n 2, 1) := dk_28 (dk_at dksX0_fits_0 20 rfl rfl)
theorem dX0_fits_21 : decode cX0_fits 21 = .ok (.iaload, 1) := dk_46 (dk_at dksX0_fits_0 21 rfl rfl)
theorem dX0_fits_22 : decode cX0_fits 22 = .ok (.aload_n 0, 1) := dk_42 (dk_at dksX0_fits_0 22 rfl rfl)
theorem dX0_fits_23 : decode cX0_fits 23 = .ok (.getfield 94, 3) := dk_180 0 94 (dk_at dksX0_fits_1 0 rfl rfl)
theorem dX0_fits_26 : decode cX0_fits 26 = .ok (.iload_n 1, 1) := dk_27 (dk_at dksX0_fits_1 3 rfl rfl)
theorem dX0_fits_27 : decode cX0_fits 27 = .ok (.aaload, 1) := dk_50 (dk_at dksX0_fits_1 4 rfl rfl)
theorem dX0_fits_28 : decode cX0_fits 28 = .ok (.getfield 98, 3) := dk_180 0 98 (dk_at dksX0_fits_1 5 rfl rfl)
theorem dX0_fits_31 : decode cX0_fits 31 = .ok (.iand, 1) := dk_126 (dk_at dksX0_fits_1 8 rfl rfl)
theorem dX0_fits_32 : decode cX0_fits 32 = .ok (.goto 4, 3) := dk_167 0 4 (dk_at dksX0_fits_1 9 rfl rfl)
theorem dX0_fits_35 : decode cX0_fits 35 = .ok (.iconst (-1), 1) := dk_2 (dk_at dksX0_fits_1 12 rfl rfl)
theorem dX0_fits_36 : decode cX0_fits 36 = .ok (.ireturn, 1) := dk_172 (dk_at dksX0_fits_1 13 rfl rfl)
abbrev cX0_same : ByteArray := prog_1_method_31_code
def yX0_same : MethodName := ⟨RX0, "same", "(II)I"⟩
def dkwX0_same_1 : List UInt8 := [182, 0, 198, 153, 0, 7, 4, 167, 0, 8, 3, 167, 0, 4, 2, 172]
abbrev dktX0_same_1 : List UInt8 := dkwX0_same_1 ++ []
def dkwX0_same_0 : List UInt8 := [42, 27, 182, 0, 118, 153, 0, 33, 42, 28, 182, 0, 112, 153, 0, 25, 42, 42, 180, 0, 136, 27, 50, 28]
abbrev dktX0_same_0 : List UInt8 := dkwX0_same_0 ++ dktX0_same_1
theorem dksX0_same_0 : cX0_same.data.toList.drop 0 = dktX0_same_0 := by decide +kernel
theorem dksX0_same_1 : cX0_same.data.toList.drop 24 = dktX0_same_1 := dk_seg dksX0_same_0 24 rfl rfl
theorem dX0_same_0 : decode cX0_same 0 = .ok (.aload_n 0, 1) := dk_42 (dk_at dksX0_same_0 0 rfl rfl)
theorem dX0_same_1 : decode cX0_same 1 = .ok (.iload_n 1, 1) := dk_27 (dk_at dksX0_same_0 1 rfl rfl)
theorem dX0_same_2 : decode cX0_same 2 = .ok (.invokevirtual 118, 3) := dk_182 0 118 (dk_at dksX0_same_0 2 rfl rfl)
theorem dX0_same_5 : decode cX0_same 5 = .ok (.ifCond .eq 33, 3) := dk_153 0 33 (dk_at dksX0_same_0 5 rfl rfl)
theorem dX0_same_8 : decode cX0_same 8 = .ok (.aload_n 0, 1) := dk_42 (dk_at dksX0_same_0 8 rfl rfl)
theorem dX0_same_9 : decode cX0_same 9 = .ok (.iload_n 2, 1) := dk_28 (dk_at dksX0_same_0 9 rfl rfl)
theorem dX0_same_10 : decode cX0_same 10 = .ok (.invokevirtual 112, 3) := dk_182 0 112 (dk_at dksX0_same_0 10 rfl rfl)
theorem dX0_same_13 : decode cX0_same 13 = .ok (.ifCond .eq 25, 3) := dk_153 0 25 (dk_at dksX0_same_0 13 rfl rfl)
theorem dX0_same_16 : decode cX0_same 16 = .ok (.aload_n 0, 1) := dk_42 (dk_at dksX0_same_0 16 rfl rfl)
theorem dX0_same_17 : decode cX0_same 17 = .ok (.aload_n 0, 1) := dk_42 (dk_at dksX0_same_0 17 rfl rfl)
theorem dX0_same_18 : decode cX0_same 18 = .ok (.getfield 136, 3) := dk_180 0 136 (dk_at dksX0_same_0 18 rfl rfl)
theorem dX0_same_21 : decode cX0_same 21 = .ok (.iload_n 1, 1) := dk_27 (dk_at dksX0_same_0 21 rfl rfl)
theorem dX0_same_22 : decode cX0_same 22 = .ok (.aaload, 1) := dk_50 (dk_at dksX0_same_0 22 rfl rfl)
theorem dX0_same_23 : decode cX0_same 23 = .ok (.iload_n 2, 1) := dk_28 (dk_at dksX0_same_0 23 rfl rfl)
theorem dX0_same_24 : decode cX0_same 24 = .ok (.invokevirtual 198, 3) := dk_182 0 198 (dk_at dksX0_same_1 0 rfl rfl)
theorem dX0_same_27 : decode cX0_same 27 = .ok (.ifCond .eq 7, 3) := dk_153 0 7 (dk_at dksX0_same_1 3 rfl rfl)
theorem dX0_same_30 : decode cX0_same 30 = .ok (.iconst 1, 1) := dk_4 (dk_at dksX0_same_1 6 rfl rfl)
theorem dX0_same_31 : decode cX0_same 31 = .ok (.goto 8, 3) := dk_167 0 8 (dk_at dksX0_same_1 7 rfl rfl)
theorem dX0_same_34 : decode cX0_same 34 = .ok (.iconst 0, 1) := dk_3 (dk_at dksX0_same_1 10 rfl rfl)
theorem dX0_same_35 : decode cX0_same 35 = .ok (.goto 4, 3) := dk_167 0 4 (dk_at dksX0_same_1 11 rfl rfl)
theorem dX0_same_38 : decode cX0_same 38 = .ok (.iconst (-1), 1) := dk_2 (dk_at dksX0_same_1 14 rfl rfl)
theorem dX0_same_39 : decode cX0_same 39 = .ok (.ireturn, 1) := dk_172 (dk_at dksX0_same_1 15 rfl rfl)
abbrev cX0_isSame : ByteArray := prog_1_method_30_code
def yX0_isSame : MethodName := ⟨RX0, "isSame", "(LFirstWords$Mind;I)Z"⟩
def dkwX0_isSame_1 : List UInt8 := [180, 0, 109, 42, 28, 182, 0, 186, 180, 0, 109, 160, 0, 7, 4, 167, 0, 4, 3, 172]
abbrev dktX0_isSame_1 : List UInt8 := dkwX0_isSame_1 ++ []
def dkwX0_isSame_0 : List UInt8 := [43, 180, 0, 195, 28, 46, 16, 252, 159, 0, 32, 42, 180, 0, 7, 43, 180, 0, 195, 28, 46, 50]
abbrev dktX0_isSame_0 : List UInt8 := dkwX0_isSame_0 ++ dktX0_isSame_1
theorem dksX0_isSame_0 : cX0_isSame.data.toList.drop 0 = dktX0_isSame_0 := by decide +kernel
theorem dksX0_isSame_1 : cX0_isSame.data.toList.drop 22 = dktX0_isSame_1 := dk_seg dksX0_isSame_0 22 rfl rfl
theorem dX0_isSame_0 : decode cX0_isSame 0 = .ok (.aload_n 1, 1) := dk_43 (dk_at dksX0_isSame_0 0 rfl rfl)
theorem dX0_isSame_1 : decode cX0_isSame 1 = .ok (.getfield 195, 3) := dk_180 0 195 (dk_at dksX0_isSame_0 1 rfl rfl)
theorem dX0_isSame_4 : decode cX0_isSame 4 = .ok (.iload_n 2, 1) := dk_28 (dk_at dksX0_isSame_0 4 rfl rfl)
theorem dX0_isSame_5 : decode cX0_isSame 5 = .ok (.iaload, 1) := dk_46 (dk_at dksX0_isSame_0 5 rfl rfl)
theorem dX0_isSame_6 : decode cX0_isSame 6 = .ok (.bipush (-4), 2) := dk_16 252 (dk_at dksX0_isSame_0 6 rfl rfl)
theorem dX0_isSame_8 : decode cX0_isSame 8 = .ok (.if_icmp .eq 32, 3) := dk_159 0 32 (dk_at dksX0_isSame_0 8 rfl rfl)
theorem dX0_isSame_11 : decode cX0_isSame 11 = .ok (.aload_n 0, 1) := dk_42 (dk_at dksX0_isSame_0 11 rfl rfl)
theorem dX0_isSame_12 : decode cX0_isSame 12 = .ok (.getfield 7, 3) := dk_180 0 7 (dk_at dksX0_isSame_0 12 rfl rfl)
theorem dX0_isSame_15 : decode cX0_isSame 15 = .ok (.aload_n 1, 1) := dk_43 (dk_at dksX0_isSame_0 15 rfl rfl)
theorem dX0_isSame_16 : decode cX0_isSame 16 = .ok (.getfield 195, 3) := dk_180 0 195 (dk_at dksX0_isSame_0 16 rfl rfl)
theorem dX0_isSame_19 : decode cX0_isSame 19 = .ok (.iload_n 2, 1) := dk_28 (dk_at dksX0_isSame_0 19 rfl rfl)
theorem dX0_isSame_20 : decode cX0_isSame 20 = .ok (.iaload, 1) := dk_46 (dk_at dksX0_isSame_0 20 rfl rfl)
theorem dX0_isSame_21 : decode cX0_isSame 21 = .ok (.aaload, 1) := dk_50 (dk_at dksX0_isSame_0 21 rfl rfl)
theorem dX0_isSame_22 : decode cX0_isSame 22 = .ok (.getfield 109, 3) := dk_180 0 109 (dk_at dksX0_isSame_1 0 rfl rfl)
theorem dX0_isSame_25 : decode cX0_isSame 25 = .ok (.aload_n 0, 1) := dk_42 (dk_at dksX0_isSame_1 3 rfl rfl)
theorem dX0_isSame_26 : decode cX0_isSame 26 = .ok (.iload_n 2, 1) := dk_28 (dk_at dksX0_isSame_1 4 rfl rfl)
theorem dX0_isSame_27 : decode cX0_isSame 27 = .ok (.invokevirtual 186, 3) := dk_182 0 186 (dk_at dksX0_isSame_1 5 rfl rfl)
theorem dX0_isSame_30 : decode cX0_isSame 30 = .ok (.getfield 109, 3) := dk_180 0 109 (dk_at dksX0_isSame_1 8 rfl rfl)
theorem dX0_isSame_33 : decode cX0_isSame 33 = .ok (.if_icmp .ne 7, 3) := dk_160 0 7 (dk_at dksX0_isSame_1 11 rfl rfl)
theorem dX0_isSame_36 : decode cX0_isSame 36 = .ok (.iconst 1, 1) := dk_4 (dk_at dksX0_isSame_1 14 rfl rfl)
theorem dX0_isSame_37 : decode cX0_isSame 37 = .ok (.goto 4, 3) := dk_167 0 4 (dk_at dksX0_isSame_1 15 rfl rfl)
theorem dX0_isSame_40 : decode cX0_isSame 40 = .ok (.iconst 0, 1) := dk_3 (dk_at dksX0_isSame_1 18 rfl rfl)
theorem dX0_isSame_41 : decode cX0_isSame 41 = .ok (.ireturn, 1) := dk_172 (dk_at dksX0_isSame_1 19 rfl rfl)
abbrev cX0_fled : ByteArray := prog_1_method_32_code
def yX0_fled : MethodName := ⟨RX0, "fled", "(I)I"⟩
def dkwX0_fled_0 : List UInt8 := [42, 27, 182, 0, 118, 153, 0, 15, 42, 180, 0, 136, 27, 50, 180, 0, 202, 167, 0, 4, 2, 172]
abbrev dktX0_fled_0 : List UInt8 := dkwX0_fled_0 ++ []
theorem dksX0_fled_0 : cX0_fled.data.toList.drop 0 = dktX0_fled_0 := by decide +kernel
theorem dX0_fled_0 : decode cX0_fled 0 = .ok (.aload_n 0, 1) := dk_42 (dk_at dksX0_fled_0 0 rfl rfl)
theorem dX0_fled_1 : decode cX0_fled 1 = .ok (.iload_n 1, 1) := dk_27 (dk_at dksX0_fled_0 1 rfl rfl)
theorem dX0_fled_2 : decode cX0_fled 2 = .ok (.invokevirtual 118, 3) := dk_182 0 118 (dk_at dksX0_fled_0 2 rfl rfl)
theorem dX0_fled_5 : decode cX0_fled 5 = .ok (.ifCond .eq 15, 3) := dk_153 0 15 (dk_at dksX0_fled_0 5 rfl rfl)
theorem dX0_fled_8 : decode cX0_fled 8 = .ok (.aload_n 0, 1) := dk_42 (dk_at dksX0_fled_0 8 rfl rfl)
theorem dX0_fled_9 : decode cX0_fled 9 = .ok (.getfield 136, 3) := dk_180 0 136 (dk_at dksX0_fled_0 9 rfl rfl)
theorem dX0_fled_12 : decode cX0_fled 12 = .ok (.iload_n 1, 1) := dk_27 (dk_at dksX0_fled_0 12 rfl rfl)
theorem dX0_fled_13 : decode cX0_fled 13 = .ok (.aaload, 1) := dk_50 (dk_at dksX0_fled_0 13 rfl rfl)
theorem dX0_fled_14 : decode cX0_fled 14 = .ok (.getfield 202, 3) := dk_180 0 202 (dk_at dksX0_fled_0 14 rfl rfl)
theorem dX0_fled_17 : decode cX0_fled 17 = .ok (.goto 4, 3) := dk_167 0 4 (dk_at dksX0_fled_0 17 rfl rfl)
theorem dX0_fled_20 : decode cX0_fled 20 = .ok (.iconst (-1), 1) := dk_2 (dk_at dksX0_fled_0 20 rfl rfl)
theorem dX0_fled_21 : decode cX0_fled 21 = .ok (.ireturn, 1) := dk_172 (dk_at dksX0_fled_0 21 rfl rfl)
abbrev cX0_against : ByteArray := prog_1_method_33_code
def yX0_against : MethodName := ⟨RX0, "against", "(II)I"⟩
def dkwX0_against_1 : List UInt8 := [180, 0, 205, 28, 46, 167, 0, 4, 2, 172]
abbrev dktX0_against_1 : List UInt8 := dkwX0_against_1 ++ []
def dkwX0_against_0 : List UInt8 := [42, 27, 182, 0, 118, 153, 0, 25, 42, 28, 182, 0, 112, 153, 0, 17, 42, 180, 0, 136, 27, 50]
abbrev dktX0_against_0 : List UInt8 := dkwX0_against_0 ++ dktX0_against_1
theorem dksX0_against_0 : cX0_against.data.toList.drop 0 = dktX0_against_0 := by decide +kernel
theorem dksX0_against_1 : cX0_against.data.toList.drop 22 = dktX0_against_1 := dk_seg dksX0_against_0 22 rfl rfl
theorem dX0_against_0 : decode cX0_against 0 = .ok (.aload_n 0, 1) := dk_42 (dk_at dksX0_against_0 0 rfl rfl)
theorem dX0_against_1 : decode cX0_against 1 = .ok (.iload_n 1, 1) := dk_27 (dk_at dksX0_against_0 1 rfl rfl)
theorem dX0_against_2 : decode cX0_against 2 = .ok (.invokevirtual 118, 3) := dk_182 0 118 (dk_at dksX0_against_0 2 rfl rfl)
theorem dX0_against_5 : decode cX0_against 5 = .ok (.ifCond .eq 25, 3) := dk_153 0 25 (dk_at dksX0_against_0 5 rfl rfl)
theorem dX0_against_8 : decode cX0_against 8 = .ok (.aload_n 0, 1) := dk_42 (dk_at dksX0_against_0 8 rfl rfl)
theorem dX0_against_9 : decode cX0_against 9 = .ok (.iload_n 2, 1) := dk_28 (dk_at dksX0_against_0 9 rfl rfl)
theorem dX0_against_10 : decode cX0_against 10 = .ok (.invokevirtual 112, 3) := dk_182 0 112 (dk_at dksX0_against_0 10 rfl rfl)
theorem dX0_against_13 : decode cX0_against 13 = .ok (.ifCond .eq 17, 3) := dk_153 0 17 (dk_at dksX0_against_0 13 rfl rfl)
theorem dX0_against_16 : decode cX0_against 16 = .ok (.aload_n 0, 1) := dk_42 (dk_at dksX0_against_0 16 rfl rfl)
theorem dX0_against_17 : decode cX0_against 17 = .ok (.getfield 136, 3) := dk_180 0 136 (dk_at dksX0_against_0 17 rfl rfl)
theorem dX0_against_20 : decode cX0_against 20 = .ok (.iload_n 1, 1) := dk_27 (dk_at dksX0_against_0 20 rfl rfl)
theorem dX0_against_21 : decode cX0_against 21 = .ok (.aaload, 1) := dk_50 (dk_at dksX0_against_0 21 rfl rfl)
theorem dX0_against_22 : decode cX0_against 22 = .ok (.getfield 205, 3) := dk_180 0 205 (dk_at dksX0_against_1 0 rfl rfl)
theorem dX0_against_25 : decode cX0_against 25 = .ok (.iload_n 2, 1) := dk_28 (dk_at dksX0_against_1 3 rfl rfl)
theorem dX0_against_26 : decode cX0_against 26 = .ok (.iaload, 1) := dk_46 (dk_at dksX0_against_1 4 rfl rfl)
theorem dX0_against_27 : decode cX0_against 27 = .ok (.goto 4, 3) := dk_167 0 4 (dk_at dksX0_against_1 5 rfl rfl)
theorem dX0_against_30 : decode cX0_against 30 = .ok (.iconst (-1), 1) := dk_2 (dk_at dksX0_against_1 8 rfl rfl)
theorem dX0_against_31 : decode cX0_against 31 = .ok (.ireturn, 1) := dk_172 (dk_at dksX0_against_1 9 rfl rfl)
abbrev cX0_common : ByteArray := prog_1_method_36_code
def yX0_common : MethodName := ⟨RX0, "common", "(I)I"⟩
def dkwX0_common_4 : List UInt8 := [3, 128, 61, 132, 3, 1, 167, 255, 173, 28, 172]
abbrev dktX0_common_4 : List UInt8 := dkwX0_common_4 ++ []
def dkwX0_common_3 : List UInt8 := [167, 0, 4, 3, 54, 4, 132, 5, 1, 167, 255, 208, 28, 21, 4, 153, 0, 9, 4, 29, 120, 167, 0, 4]
abbrev dktX0_common_3 : List UInt8 := dkwX0_common_3 ++ dktX0_common_4
def dkwX0_common_2 : List UInt8 := [184, 0, 211, 153, 0, 18, 42, 42, 180, 0, 136, 21, 5, 50, 29, 182, 0, 198, 153, 0, 7, 4]
abbrev dktX0_common_2 : List UInt8 := dkwX0_common_2 ++ dktX0_common_3
def dkwX0_common_1 : List UInt8 := [54, 4, 3, 54, 5, 21, 5, 42, 180, 0, 80, 162, 0, 45, 21, 4, 153, 0, 31, 27, 21, 5]
abbrev dktX0_common_1 : List UInt8 := dkwX0_common_1 ++ dktX0_common_2
def dkwX0_common_0 : List UInt8 := [42, 27, 182, 0, 208, 154, 0, 5, 2, 172, 3, 61, 3, 62, 29, 42, 180, 0, 77, 162, 0, 81, 4]
abbrev dktX0_common_0 : List UInt8 := dkwX0_common_0 ++ dktX0_common_1
theorem dksX0_common_0 : cX0_common.data.toList.drop 0 = dktX0_common_0 := by decide +kernel
theorem dksX0_common_1 : cX0_common.data.toList.drop 23 = dktX0_common_1 := dk_seg dksX0_common_0 23 rfl rfl
theorem dksX0_common_2 : cX0_common.data.toList.drop 45 = dktX0_common_2 := dk_seg dksX0_common_1 22 rfl rfl
theorem dksX0_common_3 : cX0_common.data.toList.drop 67 = dktX0_common_3 := dk_seg dksX0_common_2 22 rfl rfl
theorem dksX0_common_4 : cX0_common.data.toList.drop 91 = dktX0_common_4 := dk_seg dksX0_common_3 24 rfl rfl
theorem dX0_common_0 : decode cX0_common 0 = .ok (.aload_n 0, 1) := dk_42 (dk_at dksX0_common_0 0 rfl rfl)
theorem dX0_common_1 : decode cX0_common 1 = .ok (.iload_n 1, 1) := dk_27 (dk_at dksX0_common_0 1 rfl rfl)
theorem dX0_common_2 : decode cX0_common 2 = .ok (.invokevirtual 208, 3) := dk_182 0 208 (dk_at dksX0_common_0 2 rfl rfl)
theorem dX0_common_5 : decode cX0_common 5 = .ok (.ifCond .ne 5, 3) := dk_154 0 5 (dk_at dksX0_common_0 5 rfl rfl)
theorem dX0_common_8 : decode cX0_common 8 = .ok (.iconst (-1), 1) := dk_2 (dk_at dksX0_common_0 8 rfl rfl)
theorem dX0_common_9 : decode cX0_common 9 = .ok (.ireturn, 1) := dk_172 (dk_at dksX0_common_0 9 rfl rfl)
theorem dX0_common_10 : decode cX0_common 10 = .ok (.iconst 0, 1) := dk_3 (dk_at dksX0_common_0 10 rfl rfl)
theorem dX0_common_11 : decode cX0_common 11 = .ok (.istore_n 2, 1) := dk_61 (dk_at dksX0_common_0 11 rfl rfl)
theorem dX0_common_12 : decode cX0_common 12 = .ok (.iconst 0, 1) := dk_3 (dk_at dksX0_common_0 12 rfl rfl)
theorem dX0_common_13 : decode cX0_common 13 = .ok (.istore_n 3, 1) := dk_62 (dk_at dksX0_common_0 13 rfl rfl)
theorem dX0_common_14 : decode cX0_common 14 = .ok (.iload_n 3, 1) := dk_29 (dk_at dksX0_common_0 14 rfl rfl)
theorem dX0_common_15 : decode cX0_common 15 = .ok (.aload_n 0, 1) := dk_42 (dk_at dksX0_common_0 15 rfl rfl)
theorem dX0_common_16 : decode cX0_common 16 = .ok (.getfield 77, 3) := dk_180 0 77 (dk_at dksX0_common_0 16 rfl rfl)
theorem dX0_common_19 : decode cX0_common 19 = .ok (.if_icmp .ge 81, 3) := dk_162 0 81 (dk_at dksX0_common_0 19 rfl rfl)
theorem dX0_common_22 : decode cX0_common 22 = .ok (.iconst 1, 1) := dk_4 (dk_at dksX0_common_0 22 rfl rfl)
theorem dX0_common_23 : decode cX0_common 23 = .ok (.istore 4, 2) := dk_54 4 (dk_at dksX0_common_1 0 rfl rfl)
theorem dX0_common_25 : decode cX0_common 25 = .ok (.iconst 0, 1) := dk_3 (dk_at dksX0_common_1 2 rfl rfl)
theorem dX0_common_26 : decode cX0_common 26 = .ok (.istore 5, 2) := dk_54 5 (dk_at dksX0_common_1 3 rfl rfl)
theorem dX0_common_28 : decode cX0_common 28 = .ok (.iload 5, 2) := dk_21 5 (dk_at dksX0_common_1 5 rfl rfl)
theorem dX0_common_30 : decode cX0_common 30 = .ok (.aload_n 0, 1) := dk_42 (dk_at dksX0_common_1 7 rfl rfl)
theorem dX0_common_31 : decode cX0_common 31 = .ok (.getfield 80, 3) := dk_180 0 80 (dk_at dksX0_common_1 8 rfl rfl)
theorem dX0_common_34 : decode cX0_common 34 = .ok (.if_icmp .ge 45, 3) := dk_162 0 45 (dk_at dksX0_common_1 11 rfl rfl)
theorem dX0_common_37 : decode cX0_common 37 = .ok (.iload 4, 2) := dk_21 4 (dk_at dksX0_common_1 14 rfl rfl)
theorem dX0_common_39 : decode cX0_common 39 = .ok (.ifCond .eq 31, 3) := dk_153 0 31 (dk_at dksX0_common_1 16 rfl rfl)
theorem dX0_common_42 : decode cX0_common 42 = .ok (.iload_n 1, 1) := dk_27 (dk_at dksX0_common_1 19 rfl rfl)
theorem dX0_common_43 : decode cX0_common 43 = .ok (.iload 5, 2) := dk_21 5 (dk_at dksX0_common_1 20 rfl rfl)
theorem dX0_common_45 : decode cX0_common 45 = .ok (.invokestatic 211, 3) := dk_184 0 211 (dk_at dksX0_common_2 0 rfl rfl)
theorem dX0_common_48 : decode cX0_common 48 = .ok (.ifCond .eq 18, 3) := dk_153 0 18 (dk_at dksX0_common_2 3 rfl rfl)
theorem dX0_common_51 : decode cX0_common 51 = .ok (.aload_n 0, 1) := dk_42 (dk_at dksX0_common_2 6 rfl rfl)
theorem dX0_common_52 : decode cX0_common 52 = .ok (.aload_n 0, 1) := dk_42 (dk_at dksX0_common_2 7 rfl rfl)
theorem dX0_common_53 : decode cX0_common 53 = .ok (.getfield 136, 3) := dk_180 0 136 (dk_at dksX0_common_2 8 rfl rfl)
theorem dX0_common_56 : decode cX0_common 56 = .ok (.iload 5, 2) := dk_21 5 (dk_at dksX0_common_2 11 rfl rfl)
theorem dX0_common_58 : decode cX0_common 58 = .ok (.aaload, 1) := dk_50 (dk_at dksX0_common_2 13 rfl rfl)
theorem dX0_common_59 : decode cX0_common 59 = .ok (.iload_n 3, 1) := dk_29 (dk_at dksX0_common_2 14 rfl rfl)
theorem dX0_common_60 : decode cX0_common 60 = .ok (.invokevirtual 198, 3) := dk_182 0 198 (dk_at dksX0_common_2 15 rfl rfl)
theorem dX0_common_63 : decode cX0_common 63 = .ok (.ifCond .eq 7, 3) := dk_153 0 7 (dk_at dksX0_common_2 18 rfl rfl)
theorem dX0_common_66 : decode cX0_common 66 = .ok (.iconst 1, 1) := dk_4 (dk_at dksX0_common_2 21 rfl rfl)
theorem dX0_common_67 : decode cX0_common 67 = .ok (.goto 4, 3) := dk_167 0 4 (dk_at dksX0_common_3 0 rfl rfl)
theorem dX0_common_70 : decode cX0_common 70 = .ok (.iconst 0, 1) := dk_3 (dk_at dksX0_common_3 3 rfl rfl)
theorem dX0_common_71 : decode cX0_common 71 = .ok (.istore 4, 2) := dk_54 4 (dk_at dksX0_common_3 4 rfl rfl)
theorem dX0_common_73 : decode cX0_common 73 = .ok (.iinc 5 1, 3) := dk_132 5 1 (dk_at dksX0_common_3 6 rfl rfl)
theorem dX0_common_76 : decode cX0_common 76 = .ok (.goto (-48), 3) := dk_167 255 208 (dk_at dksX0_common_3 9 rfl rfl)
theorem dX0_common_79 : decode cX0_common 79 = .ok (.iload_n 2, 1) := dk_28 (dk_at dksX0_common_3 12 rfl rfl)
theorem dX0_common_80 : decode cX0_common 80 = .ok (.iload 4, 2) := dk_21 4 (dk_at dksX0_common_3 13 rfl rfl)
theorem dX0_common_82 : decode cX0_common 82 = .ok (.ifCond .eq 9, 3) := dk_153 0 9 (dk_at dksX0_common_3 15 rfl rfl)
theorem dX0_common_85 : decode cX0_common 85 = .ok (.iconst 1, 1) := dk_4 (dk_at dksX0_common_3 18 rfl rfl)
theorem dX0_common_86 : decode cX0_common 86 = .ok (.iload_n 3, 1) := dk_29 (dk_at dksX0_common_3 19 rfl rfl)
theorem dX0_common_87 : decode cX0_common 87 = .ok (.ishl, 1) := dk_120 (dk_at dksX0_common_3 20 rfl rfl)
theorem dX0_common_88 : decode cX0_common 88 = .ok (.goto 4, 3) := dk_167 0 4 (dk_at dksX0_common_3 21 rfl rfl)
theorem dX0_common_91 : decode cX0_common 91 = .ok (.iconst 0, 1) := dk_3 (dk_at dksX0_common_4 0 rfl rfl)
theorem dX0_common_92 : decode cX0_common 92 = .ok (.ior, 1) := dk_128 (dk_at dksX0_common_4 1 rfl rfl)
theorem dX0_common_93 : decode cX0_common 93 = .ok (.istore_n 2, 1) := dk_61 (dk_at dksX0_common_4 2 rfl rfl)
theorem dX0_common_94 : decode cX0_common 94 = .ok (.iinc 3 1, 3) := dk_132 3 1 (dk_at dksX0_common_4 3 rfl rfl)
theorem dX0_common_97 : decode cX0_common 97 = .ok (.goto (-83), 3) := dk_167 255 173 (dk_at dksX0_common_4 6 rfl rfl)
theorem dX0_common_100 : decode cX0_common 100 = .ok (.iload_n 2, 1) := dk_28 (dk_at dksX0_common_4 9 rfl rfl)
theorem dX0_common_101 : decode cX0_common 101 = .ok (.ireturn, 1) := dk_172 (dk_at dksX0_common_4 10 rfl rfl)
abbrev cX0_areKinds : ByteArray := prog_1_method_34_code
def yX0_areKinds : MethodName := ⟨RX0, "areKinds", "(I)Z"⟩
def dkwX0_areKinds_0 : List UInt8 := [27, 133, 9, 4, 42, 180, 0, 80, 120, 4, 100, 133, 184, 0, 24, 172]
abbrev dktX0_areKinds_0 : List UInt8 := dkwX0_areKinds_0 ++ []
theorem dksX0_areKinds_0 : cX0_areKinds.data.toList.drop 0 = dktX0_areKinds_0 := by decide +kernel
theorem dX0_areKinds_0 : decode cX0_areKinds 0 = .ok (.iload_n 1, 1) := dk_27 (dk_at dksX0_areKinds_0 0 rfl rfl)
theorem dX0_areKinds_1 : decode cX0_areKinds 1 = .ok (.i2l, 1) := dk_133 (dk_at dksX0_areKinds_0 1 rfl rfl)
theorem dX0_areKinds_2 : decode cX0_areKinds 2 = .ok (.lconst 0, 1) := dk_9 (dk_at dksX0_areKinds_0 2 rfl rfl)
theorem dX0_areKinds_3 : decode cX0_areKinds 3 = .ok (.iconst 1, 1) := dk_4 (dk_at dksX0_areKinds_0 3 rfl rfl)
theorem dX0_areKinds_4 : decode cX0_areKinds 4 = .ok (.aload_n 0, 1) := dk_42 (dk_at dksX0_areKinds_0 4 rfl rfl)
theorem dX0_areKinds_5 : decode cX0_areKinds 5 = .ok (.getfield 80, 3) := dk_180 0 80 (dk_at dksX0_areKinds_0 5 rfl rfl)
theorem dX0_areKinds_8 : decode cX0_areKinds 8 = .ok (.ishl, 1) := dk_120 (dk_at dksX0_areKinds_0 8 rfl rfl)
theorem dX0_areKinds_9 : decode cX0_areKinds 9 = .ok (.iconst 1, 1) := dk_4 (dk_at dksX0_areKinds_0 9 rfl rfl)
theorem dX0_areKinds_10 : decode cX0_areKinds 10 = .ok (.isub, 1) := dk_100 (dk_at dksX0_areKinds_0 10 rfl rfl)
theorem dX0_areKinds_11 : decode cX0_areKinds 11 = .ok (.i2l, 1) := dk_133 (dk_at dksX0_areKinds_0 11 rfl rfl)
theorem dX0_areKinds_12 : decode cX0_areKinds 12 = .ok (.invokestatic 24, 3) := dk_184 0 24 (dk_at dksX0_areKinds_0 12 rfl rfl)
theorem dX0_areKinds_15 : decode cX0_areKinds 15 = .ok (.ireturn, 1) := dk_172 (dk_at dksX0_areKinds_0 15 rfl rfl)
abbrev cX0_isOf : ByteArray := prog_1_method_35_code
def yX0_isOf : MethodName := ⟨RX0, "isOf", "(II)Z"⟩
def dkwX0_isOf_0 : List UInt8 := [26, 27, 122, 4, 126, 4, 160, 0, 7, 4, 167, 0, 4, 3, 172]
abbrev dktX0_isOf_0 : List UInt8 := dkwX0_isOf_0 ++ []
theorem dksX0_isOf_0 : cX0_isOf.data.toList.drop 0 = dktX0_isOf_0 := by decide +kernel
theorem dX0_isOf_0 : decode cX0_isOf 0 = .ok (.iload_n 0, 1) := dk_26 (dk_at dksX0_isOf_0 0 rfl rfl)
theorem dX0_isOf_1 : decode cX0_isOf 1 = .ok (.iload_n 1, 1) := dk_27 (dk_at dksX0_isOf_0 1 rfl rfl)
theorem dX0_isOf_2 : decode cX0_isOf 2 = .ok (.ishr, 1) := dk_122 (dk_at dksX0_isOf_0 2 rfl rfl)
theorem dX0_isOf_3 : decode cX0_isOf 3 = .ok (.iconst 1, 1) := dk_4 (dk_at dksX0_isOf_0 3 rfl rfl)
theorem dX0_isOf_4 : decode cX0_isOf 4 = .ok (.iand, 1) := dk_126 (dk_at dksX0_isOf_0 4 rfl rfl)
theorem dX0_isOf_5 : decode cX0_isOf 5 = .ok (.iconst 1, 1) := dk_4 (dk_at dksX0_isOf_0 5 rfl rfl)
theorem dX0_isOf_6 : decode cX0_isOf 6 = .ok (.if_icmp .ne 7, 3) := dk_160 0 7 (dk_at dksX0_isOf_0 6 rfl rfl)
theorem dX0_isOf_9 : decode cX0_isOf 9 = .ok (.iconst 1, 1) := dk_4 (dk_at dksX0_isOf_0 9 rfl rfl)
theorem dX0_isOf_10 : decode cX0_isOf 10 = .ok (.goto 4, 3) := dk_167 0 4 (dk_at dksX0_isOf_0 10 rfl rfl)
theorem dX0_isOf_13 : decode cX0_isOf 13 = .ok (.iconst 0, 1) := dk_3 (dk_at dksX0_isOf_0 13 rfl rfl)
theorem dX0_isOf_14 : decode cX0_isOf 14 = .ok (.ireturn, 1) := dk_172 (dk_at dksX0_isOf_0 14 rfl rfl)
abbrev cX0_teaching : ByteArray := prog_1_method_37_code
def yX0_teaching : MethodName := ⟨RX0, "teaching", "(III)I"⟩
def dkwX0_teaching_4 : List UInt8 := [100, 46, 167, 0, 4, 2, 172]
abbrev dktX0_teaching_4 : List UInt8 := dkwX0_teaching_4 ++ []
def dkwX0_teaching_3 : List UInt8 := [21, 4, 167, 0, 28, 29, 16, 10, 100, 21, 4, 162, 0, 18, 42, 180, 0, 218, 180, 0, 232, 29, 16, 10]
abbrev dktX0_teaching_3 : List UInt8 := dkwX0_teaching_3 ++ dktX0_teaching_4
def dkwX0_teaching_2 : List UInt8 := [180, 0, 145, 28, 46, 182, 0, 222, 42, 180, 0, 218, 28, 8, 182, 0, 228, 54, 4, 29, 154, 0, 8]
abbrev dktX0_teaching_2 : List UInt8 := dkwX0_teaching_2 ++ dktX0_teaching_3
def dkwX0_teaching_1 : List UInt8 := [20, 0, 214, 20, 0, 216, 184, 0, 24, 154, 0, 5, 2, 172, 42, 180, 0, 218, 27, 42, 180, 0, 136, 42]
abbrev dktX0_teaching_1 : List UInt8 := dkwX0_teaching_1 ++ dktX0_teaching_2
def dkwX0_teaching_0 : List UInt8 := [42, 27, 182, 0, 208, 153, 0, 29, 42, 28, 182, 0, 112, 153, 0, 21, 29, 153, 0, 19, 29, 133]
abbrev dktX0_teaching_0 : List UInt8 := dkwX0_teaching_0 ++ dktX0_teaching_1
theorem dksX0_teaching_0 : cX0_teaching.data.toList.drop 0 = dktX0_teaching_0 := by decide +kernel
theorem dksX0_teaching_1 : cX0_teaching.data.toList.drop 22 = dktX0_teaching_1 := dk_seg dksX0_teaching_0 22 rfl rfl
theorem dksX0_teaching_2 : cX0_teaching.data.toList.drop 46 = dktX0_teaching_2 := dk_seg dksX0_teaching_1 24 rfl rfl
theorem dksX0_teaching_3 : cX0_teaching.data.toList.drop 69 = dktX0_teaching_3 := dk_seg dksX0_teaching_2 23 rfl rfl
theorem dksX0_teaching_4 : cX0_teaching.data.toList.drop 93 = dktX0_teaching_4 := dk_seg dksX0_teaching_3 24 rfl rfl
theorem dX0_teaching_0 : decode cX0_teaching 0 = .ok (.aload_n 0, 1) := dk_42 (dk_at dksX0_teaching_0 0 rfl rfl)
theorem dX0_teaching_1 : decode cX0_teaching 1 = .ok (.iload_n 1, 1) := dk_27 (dk_at dksX0_teaching_0 1 rfl rfl)
theorem dX0_teaching_2 : decode cX0_teaching 2 = .ok (.invokevirtual 208, 3) := dk_182 0 208 (dk_at dksX0_teaching_0 2 rfl rfl)
theorem dX0_teaching_5 : decode cX0_teaching 5 = .ok (.ifCond .eq 29, 3) := dk_153 0 29 (dk_at dksX0_teaching_0 5 rfl rfl)
theorem dX0_teaching_8 : decode cX0_teaching 8 = .ok (.aload_n 0, 1) := dk_42 (dk_at dksX0_teaching_0 8 rfl rfl)
theorem dX0_teaching_9 : decode cX0_teaching 9 = .ok (.iload_n 2, 1) := dk_28 (dk_at dksX0_teaching_0 9 rfl rfl)
theorem dX0_teaching_10 : decode cX0_teaching 10 = .ok (.invokevirtual 112, 3) := dk_182 0 112 (dk_at dksX0_teaching_0 10 rfl rfl)
theorem dX0_teaching_13 : decode cX0_teaching 13 = .ok (.ifCond .eq 21, 3) := dk_153 0 21 (dk_at dksX0_teaching_0 13 rfl rfl)
theorem dX0_teaching_16 : decode cX0_teaching 16 = .ok (.iload_n 3, 1) := dk_29 (dk_at dksX0_teaching_0 16 rfl rfl)
theorem dX0_teaching_17 : decode cX0_teaching 17 = .ok (.ifCond .eq 19, 3) := dk_153 0 19 (dk_at dksX0_teaching_0 17 rfl rfl)
theorem dX0_teaching_20 : decode cX0_teaching 20 = .ok (.iload_n 3, 1) := dk_29 (dk_at dksX0_teaching_0 20 rfl rfl)
theorem dX0_teaching_21 : decode cX0_teaching 21 = .ok (.i2l, 1) := dk_133 (dk_at dksX0_teaching_0 21 rfl rfl)
theorem dX0_teaching_22 : decode cX0_teaching 22 = .ok (.ldc2_w 214, 3) := dk_20 0 214 (dk_at dksX0_teaching_1 0 rfl rfl)
theorem dX0_teaching_25 : decode cX0_teaching 25 = .ok (.ldc2_w 216, 3) := dk_20 0 216 (dk_at dksX0_teaching_1 3 rfl rfl)
theorem dX0_teaching_28 : decode cX0_teaching 28 = .ok (.invokestatic 24, 3) := dk_184 0 24 (dk_at dksX0_teaching_1 6 rfl rfl)
theorem dX0_teaching_31 : decode cX0_teaching 31 = .ok (.ifCond .ne 5, 3) := dk_154 0 5 (dk_at dksX0_teaching_1 9 rfl rfl)
theorem dX0_teaching_34 : decode cX0_teaching 34 = .ok (.iconst (-1), 1) := dk_2 (dk_at dksX0_teaching_1 12 rfl rfl)
theorem dX0_teaching_35 : decode cX0_teaching 35 = .ok (.ireturn, 1) := dk_172 (dk_at dksX0_teaching_1 13 rfl rfl)
theorem dX0_teaching_36 : decode cX0_teaching 36 = .ok (.aload_n 0, 1) := dk_42 (dk_at dksX0_teaching_1 14 rfl rfl)
theorem dX0_teaching_37 : decode cX0_teaching 37 = .ok (.getfield 218, 3) := dk_180 0 218 (dk_at dksX0_teaching_1 15 rfl rfl)
theorem dX0_teaching_40 : decode cX0_teaching 40 = .ok (.iload_n 1, 1) := dk_27 (dk_at dksX0_teaching_1 18 rfl rfl)
theorem dX0_teaching_41 : decode cX0_teaching 41 = .ok (.aload_n 0, 1) := dk_42 (dk_at dksX0_teaching_1 19 rfl rfl)
theorem dX0_teaching_42 : decode cX0_teaching 42 = .ok (.getfield 136, 3) := dk_180 0 136 (dk_at dksX0_teaching_1 20 rfl rfl)
theorem dX0_teaching_45 : decode cX0_teaching 45 = .ok (.aload_n 0, 1) := dk_42 (dk_at dksX0_teaching_1 23 rfl rfl)
theorem dX0_teaching_46 : decode cX0_teaching 46 = .ok (.getfield 145, 3) := dk_180 0 145 (dk_at dksX0_teaching_2 0 rfl rfl)
theorem dX0_teaching_49 : decode cX0_teaching 49 = .ok (.iload_n 2, 1) := dk_28 (dk_at dksX0_teaching_2 3 rfl rfl)
theorem dX0_teaching_50 : decode cX0_teaching 50 = .ok (.iaload, 1) := dk_46 (dk_at dksX0_teaching_2 4 rfl rfl)
theorem dX0_teaching_51 : decode cX0_teaching 51 = .ok (.invokevirtual 222, 3) := dk_182 0 222 (dk_at dksX0_teaching_2 5 rfl rfl)
theorem dX0_teaching_54 : decode cX0_teaching 54 = .ok (.aload_n 0, 1) := dk_42 (dk_at dksX0_teaching_2 8 rfl rfl)
theorem dX0_teaching_55 : decode cX0_teaching 55 = .ok (.getfield 218, 3) := dk_180 0 218 (dk_at dksX0_teaching_2 9 rfl rfl)
theorem dX0_teaching_58 : decode cX0_teaching 58 = .ok (.iload_n 2, 1) := dk_28 (dk_at dksX0_teaching_2 12 rfl rfl)
theorem dX0_teaching_59 : decode cX0_teaching 59 = .ok (.iconst 5, 1) := dk_8 (dk_at dksX0_teaching_2 13 rfl rfl)
theorem dX0_teaching_60 : decode cX0_teaching 60 = .ok (.invokevirtual 228, 3) := dk_182 0 228 (dk_at dksX0_teaching_2 14 rfl rfl)
theorem dX0_teaching_63 : decode cX0_teaching 63 = .ok (.istore 4, 2) := dk_54 4 (dk_at dksX0_teaching_2 17 rfl rfl)
theorem dX0_teaching_65 : decode cX0_teaching 65 = .ok (.iload_n 3, 1) := dk_29 (dk_at dksX0_teaching_2 19 rfl rfl)
theorem dX0_teaching_66 : decode cX0_teaching 66 = .ok (.ifCond .ne 8, 3) := dk_154 0 8 (dk_at dksX0_teaching_2 20 rfl rfl)
theorem dX0_teaching_69 : decode cX0_teaching 69 = .ok (.iload 4, 2) := dk_21 4 (dk_at dksX0_teaching_3 0 rfl rfl)
theorem dX0_teaching_71 : decode cX0_teaching 71 = .ok (.goto 28, 3) := dk_167 0 28 (dk_at dksX0_teaching_3 2 rfl rfl)
theorem dX0_teaching_74 : decode cX0_teaching 74 = .ok (.iload_n 3, 1) := dk_29 (dk_at dksX0_teaching_3 5 rfl rfl)
theorem dX0_teaching_75 : decode cX0_teaching 75 = .ok (.bipush 10, 2) := dk_16 10 (dk_at dksX0_teaching_3 6 rfl rfl)
theorem dX0_teaching_77 : decode cX0_teaching 77 = .ok (.isub, 1) := dk_100 (dk_at dksX0_teaching_3 8 rfl rfl)
theorem dX0_teaching_78 : decode cX0_teaching 78 = .ok (.iload 4, 2) := dk_21 4 (dk_at dksX0_teaching_3 9 rfl rfl)
theorem dX0_teaching_80 : decode cX0_teaching 80 = .ok (.if_icmp .ge 18, 3) := dk_162 0 18 (dk_at dksX0_teaching_3 11 rfl rfl)
theorem dX0_teaching_83 : decode cX0_teaching 83 = .ok (.aload_n 0, 1) := dk_42 (dk_at dksX0_teaching_3 14 rfl rfl)
theorem dX0_teaching_84 : decode cX0_teaching 84 = .ok (.getfield 218, 3) := dk_180 0 218 (dk_at dksX0_teaching_3 15 rfl rfl)
theorem dX0_teaching_87 : decode cX0_teaching 87 = .ok (.getfield 232, 3) := dk_180 0 232 (dk_at dksX0_teaching_3 18 rfl rfl)
theorem dX0_teaching_90 : decode cX0_teaching 90 = .ok (.iload_n 3, 1) := dk_29 (dk_at dksX0_teaching_3 21 rfl rfl)
theorem dX0_teaching_91 : decode cX0_teaching 91 = .ok (.bipush 10, 2) := dk_16 10 (dk_at dksX0_teaching_3 22 rfl rfl)
theorem dX0_teaching_93 : decode cX0_teaching 93 = .ok (.isub, 1) := dk_100 (dk_at dksX0_teaching_4 0 rfl rfl)
theorem dX0_teaching_94 : decode cX0_teaching 94 = .ok (.iaload, 1) := dk_46 (dk_at dksX0_teaching_4 1 rfl rfl)
theorem dX0_teaching_95 : decode cX0_teaching 95 = .ok (.goto 4, 3) := dk_167 0 4 (dk_at dksX0_teaching_4 2 rfl rfl)
theorem dX0_teaching_98 : decode cX0_teaching 98 = .ok (.iconst (-1), 1) := dk_2 (dk_at dksX0_teaching_4 5 rfl rfl)
theorem dX0_teaching_99 : decode cX0_teaching 99 = .ok (.ireturn, 1) := dk_172 (dk_at dksX0_teaching_4 6 rfl rfl)
abbrev cX0_never : ByteArray := prog_1_method_38_code
def yX0_never : MethodName := ⟨RX0, "never", "(II)I"⟩
def dkwX0_never_4 : List UInt8 := [172]
abbrev dktX0_never_4 : List UInt8 := dkwX0_never_4 ++ []
def dkwX0_never_3 : List UInt8 := [160, 0, 7, 4, 167, 0, 4, 3, 62, 132, 4, 1, 167, 255, 196, 29, 153, 0, 7, 3, 167, 0, 4, 4]
abbrev dktX0_never_3 : List UInt8 := dkwX0_never_3 ++ dktX0_never_4
def dkwX0_never_2 : List UInt8 := [184, 0, 211, 153, 0, 28, 42, 180, 0, 7, 21, 4, 50, 180, 0, 109, 42, 28, 182, 0, 186, 180, 0, 109]
abbrev dktX0_never_2 : List UInt8 := dkwX0_never_2 ++ dktX0_never_3
def dkwX0_never_1 : List UInt8 := [21, 4, 42, 180, 0, 3, 162, 0, 57, 29, 154, 0, 41, 42, 180, 0, 94, 27, 50, 180, 0, 98, 21, 4]
abbrev dktX0_never_1 : List UInt8 := dkwX0_never_1 ++ dktX0_never_2
def dkwX0_never_0 : List UInt8 := [42, 27, 182, 0, 118, 153, 0, 11, 42, 28, 182, 0, 112, 154, 0, 5, 2, 172, 3, 62, 3, 54, 4]
abbrev dktX0_never_0 : List UInt8 := dkwX0_never_0 ++ dktX0_never_1
theorem dksX0_never_0 : cX0_never.data.toList.drop 0 = dktX0_never_0 := by decide +kernel
theorem dksX0_never_1 : cX0_never.data.toList.drop 23 = dktX0_never_1 := dk_seg dksX0_never_0 23 rfl rfl
theorem dksX0_never_2 : cX0_never.data.toList.drop 47 = dktX0_never_2 := dk_seg dksX0_never_1 24 rfl rfl
theorem dksX0_never_3 : cX0_never.data.toList.drop 71 = dktX0_never_3 := dk_seg dksX0_never_2 24 rfl rfl
theorem dksX0_never_4 : cX0_never.data.toList.drop 95 = dktX0_never_4 := dk_seg dksX0_never_3 24 rfl rfl
theorem dX0_never_0 : decode cX0_never 0 = .ok (.aload_n 0, 1) := dk_42 (dk_at dksX0_never_0 0 rfl rfl)
theorem dX0_never_1 : decode cX0_never 1 = .ok (.iload_n 1, 1) := dk_27 (dk_at dksX0_never_0 1 rfl rfl)
theorem dX0_never_2 : decode cX0_never 2 = .ok (.invokevirtual 118, 3) := dk_182 0 118 (dk_at dksX0_never_0 2 rfl rfl)
theorem dX0_never_5 : decode cX0_never 5 = .ok (.ifCond .eq 11, 3) := dk_153 0 11 (dk_at dksX0_never_0 5 rfl rfl)
theorem dX0_never_8 : decode cX0_never 8 = .ok (.aload_n 0, 1) := dk_42 (dk_at dksX0_never_0 8 rfl rfl)
theorem dX0_never_9 : decode cX0_never 9 = .ok (.iload_n 2, 1) := dk_28 (dk_at dksX0_never_0 9 rfl rfl)
theorem dX0_never_10 : decode cX0_never 10 = .ok (.invokevirtual 112, 3) := dk_182 0 112 (dk_at dksX0_never_0 10 rfl rfl)
theorem dX0_never_13 : decode cX0_never 13 = .ok (.ifCond .ne 5, 3) := dk_154 0 5 (dk_at dksX0_never_0 13 rfl rfl)
theorem dX0_never_16 : decode cX0_never 16 = .ok (.iconst (-1), 1) := dk_2 (dk_at dksX0_never_0 16 rfl rfl)
theorem dX0_never_17 : decode cX0_never 17 = .ok (.ireturn, 1) := dk_172 (dk_at dksX0_never_0 17 rfl rfl)
theorem dX0_never_18 : decode cX0_never 18 = .ok (.iconst 0, 1) := dk_3 (dk_at dksX0_never_0 18 rfl rfl)
theorem dX0_never_19 : decode cX0_never 19 = .ok (.istore_n 3, 1) := dk_62 (dk_at dksX0_never_0 19 rfl rfl)
theorem dX0_never_20 : decode cX0_never 20 = .ok (.iconst 0, 1) := dk_3 (dk_at dksX0_never_0 20 rfl rfl)
theorem dX0_never_21 : decode cX0_never 21 = .ok (.istore 4, 2) := dk_54 4 (dk_at dksX0_never_0 21 rfl rfl)
theorem dX0_never_23 : decode cX0_never 23 = .ok (.iload 4, 2) := dk_21 4 (dk_at dksX0_never_1 0 rfl rfl)
theorem dX0_never_25 : decode cX0_never 25 = .ok (.aload_n 0, 1) := dk_42 (dk_at dksX0_never_1 2 rfl rfl)
theorem dX0_never_26 : decode cX0_never 26 = .ok (.getfield 3, 3) := dk_180 0 3 (dk_at dksX0_never_1 3 rfl rfl)
theorem dX0_never_29 : decode cX0_never 29 = .ok (.if_icmp .ge 57, 3) := dk_162 0 57 (dk_at dksX0_never_1 6 rfl rfl)
theorem dX0_never_32 : decode cX0_never 32 = .ok (.iload_n 3, 1) := dk_29 (dk_at dksX0_never_1 9 rfl rfl)
theorem dX0_never_33 : decode cX0_never 33 = .ok (.ifCond .ne 41, 3) := dk_154 0 41 (dk_at dksX0_never_1 10 rfl rfl)
theorem dX0_never_36 : decode cX0_never 36 = .ok (.aload_n 0, 1) := dk_42 (dk_at dksX0_never_1 13 rfl rfl)
theorem dX0_never_37 : decode cX0_never 37 = .ok (.getfield 94, 3) := dk_180 0 94 (dk_at dksX0_never_1 14 rfl rfl)
theorem dX0_never_40 : decode cX0_never 40 = .ok (.iload_n 1, 1) := dk_27 (dk_at dksX0_never_1 17 rfl rfl)
theorem dX0_never_41 : decode cX0_never 41 = .ok (.aaload, 1) := dk_50 (dk_at dksX0_never_1 18 rfl rfl)
theorem dX0_never_42 : decode cX0_never 42 = .ok (.getfield 98, 3) := dk_180 0 98 (dk_at dksX0_never_1 19 rfl rfl)
theorem dX0_never_45 : decode cX0_never 45 = .ok (.iload 4, 2) := dk_21 4 (dk_at dksX0_never_1 22 rfl rfl)
theorem dX0_never_47 : decode cX0_never 47 = .ok (.invokestatic 211, 3) := dk_184 0 211 (dk_at dksX0_never_2 0 rfl rfl)
theorem dX0_never_50 : decode cX0_never 50 = .ok (.ifCond .eq 28, 3) := dk_153 0 28 (dk_at dksX0_never_2 3 rfl rfl)
theorem dX0_never_53 : decode cX0_never 53 = .ok (.aload_n 0, 1) := dk_42 (dk_at dksX0_never_2 6 rfl rfl)
theorem dX0_never_54 : decode cX0_never 54 = .ok (.getfield 7, 3) := dk_180 0 7 (dk_at dksX0_never_2 7 rfl rfl)
theorem dX0_never_57 : decode cX0_never 57 = .ok (.iload 4, 2) := dk_21 4 (dk_at dksX0_never_2 10 rfl rfl)
theorem dX0_never_59 : decode cX0_never 59 = .ok (.aaload, 1) := dk_50 (dk_at dksX0_never_2 12 rfl rfl)
theorem dX0_never_60 : decode cX0_never 60 = .ok (.getfield 109, 3) := dk_180 0 109 (dk_at dksX0_never_2 13 rfl rfl)
theorem dX0_never_63 : decode cX0_never 63 = .ok (.aload_n 0, 1) := dk_42 (dk_at dksX0_never_2 16 rfl rfl)
theorem dX0_never_64 : decode cX0_never 64 = .ok (.iload_n 2, 1) := dk_28 (dk_at dksX0_never_2 17 rfl rfl)
theorem dX0_never_65 : decode cX0_never 65 = .ok (.invokevirtual 186, 3) := dk_182 0 186 (dk_at dksX0_never_2 18 rfl rfl)
theorem dX0_never_68 : decode cX0_never 68 = .ok (.getfield 109, 3) := dk_180 0 109 (dk_at dksX0_never_2 21 rfl rfl)
theorem dX0_never_71 : decode cX0_never 71 = .ok (.if_icmp .ne 7, 3) := dk_160 0 7 (dk_at dksX0_never_3 0 rfl rfl)
theorem dX0_never_74 : decode cX0_never 74 = .ok (.iconst 1, 1) := dk_4 (dk_at dksX0_never_3 3 rfl rfl)
theorem dX0_never_75 : decode cX0_never 75 = .ok (.goto 4, 3) := dk_167 0 4 (dk_at dksX0_never_3 4 rfl rfl)
theorem dX0_never_78 : decode cX0_never 78 = .ok (.iconst 0, 1) := dk_3 (dk_at dksX0_never_3 7 rfl rfl)
theorem dX0_never_79 : decode cX0_never 79 = .ok (.istore_n 3, 1) := dk_62 (dk_at dksX0_never_3 8 rfl rfl)
theorem dX0_never_80 : decode cX0_never 80 = .ok (.iinc 4 1, 3) := dk_132 4 1 (dk_at dksX0_never_3 9 rfl rfl)
theorem dX0_never_83 : decode cX0_never 83 = .ok (.goto (-60), 3) := dk_167 255 196 (dk_at dksX0_never_3 12 rfl rfl)
theorem dX0_never_86 : decode cX0_never 86 = .ok (.iload_n 3, 1) := dk_29 (dk_at dksX0_never_3 15 rfl rfl)
theorem dX0_never_87 : decode cX0_never 87 = .ok (.ifCond .eq 7, 3) := dk_153 0 7 (dk_at dksX0_never_3 16 rfl rfl)
theorem dX0_never_90 : decode cX0_never 90 = .ok (.iconst 0, 1) := dk_3 (dk_at dksX0_never_3 19 rfl rfl)
theorem dX0_never_91 : decode cX0_never 91 = .ok (.goto 4, 3) := dk_167 0 4 (dk_at dksX0_never_3 20 rfl rfl)
theorem dX0_never_94 : decode cX0_never 94 = .ok (.iconst 1, 1) := dk_4 (dk_at dksX0_never_3 23 rfl rfl)
theorem dX0_never_95 : decode cX0_never 95 = .ok (.ireturn, 1) := dk_172 (dk_at dksX0_never_4 0 rfl rfl)
abbrev cX0_order : ByteArray := prog_1_method_41_code
def yX0_order : MethodName := ⟨RX0, "order", "(II)I"⟩
def dkwX0_order_3 : List UInt8 := [16, 10, 100, 46, 172]
abbrev dktX0_order_3 : List UInt8 := dkwX0_order_3 ++ []
def dkwX0_order_2 : List UInt8 := [180, 0, 253, 16, 252, 159, 0, 7, 28, 154, 0, 10, 42, 180, 0, 253, 167, 0, 12, 42, 180, 1, 0, 28]
abbrev dktX0_order_2 : List UInt8 := dkwX0_order_2 ++ dktX0_order_3
def dkwX0_order_1 : List UInt8 := [133, 184, 0, 24, 154, 0, 5, 2, 172, 42, 16, 252, 181, 0, 253, 42, 27, 3, 3, 182, 1, 3, 42]
abbrev dktX0_order_1 : List UInt8 := dkwX0_order_1 ++ dktX0_order_2
def dkwX0_order_0 : List UInt8 := [42, 27, 182, 0, 208, 153, 0, 26, 28, 153, 0, 24, 28, 133, 20, 0, 214, 16, 9, 42, 180, 0, 77, 96]
abbrev dktX0_order_0 : List UInt8 := dkwX0_order_0 ++ dktX0_order_1
theorem dksX0_order_0 : cX0_order.data.toList.drop 0 = dktX0_order_0 := by decide +kernel
theorem dksX0_order_1 : cX0_order.data.toList.drop 24 = dktX0_order_1 := dk_seg dksX0_order_0 24 rfl rfl
theorem dksX0_order_2 : cX0_order.data.toList.drop 47 = dktX0_order_2 := dk_seg dksX0_order_1 23 rfl rfl
theorem dksX0_order_3 : cX0_order.data.toList.drop 71 = dktX0_order_3 := dk_seg dksX0_order_2 24 rfl rfl
theorem dX0_order_0 : decode cX0_order 0 = .ok (.aload_n 0, 1) := dk_42 (dk_at dksX0_order_0 0 rfl rfl)
theorem dX0_order_1 : decode cX0_order 1 = .ok (.iload_n 1, 1) := dk_27 (dk_at dksX0_order_0 1 rfl rfl)
theorem dX0_order_2 : decode cX0_order 2 = .ok (.invokevirtual 208, 3) := dk_182 0 208 (dk_at dksX0_order_0 2 rfl rfl)
theorem dX0_order_5 : decode cX0_order 5 = .ok (.ifCond .eq 26, 3) := dk_153 0 26 (dk_at dksX0_order_0 5 rfl rfl)
theorem dX0_order_8 : decode cX0_order 8 = .ok (.iload_n 2, 1) := dk_28 (dk_at dksX0_order_0 8 rfl rfl)
theorem dX0_order_9 : decode cX0_order 9 = .ok (.ifCond .eq 24, 3) := dk_153 0 24 (dk_at dksX0_order_0 9 rfl rfl)
theorem dX0_order_12 : decode cX0_order 12 = .ok (.iload_n 2, 1) := dk_28 (dk_at dksX0_order_0 12 rfl rfl)
theorem dX0_order_13 : decode cX0_order 13 = .ok (.i2l, 1) := dk_133 (dk_at dksX0_order_0 13 rfl rfl)
theorem dX0_order_14 : decode cX0_order 14 = .ok (.ldc2_w 214, 3) := dk_20 0 214 (dk_at dksX0_order_0 14 rfl rfl)
theorem dX0_order_17 : decode cX0_order 17 = .ok (.bipush 9, 2) := dk_16 9 (dk_at dksX0_order_0 17 rfl rfl)
theorem dX0_order_19 : decode cX0_order 19 = .ok (.aload_n 0, 1) := dk_42 (dk_at dksX0_order_0 19 rfl rfl)
theorem dX0_order_20 : decode cX0_order 20 = .ok (.getfield 77, 3) := dk_180 0 77 (dk_at dksX0_order_0 20 rfl rfl)
theorem dX0_order_23 : decode cX0_order 23 = .ok (.iadd, 1) := dk_96 (dk_at dksX0_order_0 23 rfl rfl)
theorem dX0_order_24 : decode cX0_order 24 = .ok (.i2l, 1) := dk_133 (dk_at dksX0_order_1 0 rfl rfl)
theorem dX0_order_25 : decode cX0_order 25 = .ok (.invokestatic 24, 3) := dk_184 0 24 (dk_at dksX0_order_1 1 rfl rfl)
theorem dX0_order_28 : decode cX0_order 28 = .ok (.ifCond .ne 5, 3) := dk_154 0 5 (dk_at dksX0_order_1 4 rfl rfl)
theorem dX0_order_31 : decode cX0_order 31 = .ok (.iconst (-1), 1) := dk_2 (dk_at dksX0_order_1 7 rfl rfl)
theorem dX0_order_32 : decode cX0_order 32 = .ok (.ireturn, 1) := dk_172 (dk_at dksX0_order_1 8 rfl rfl)
theorem dX0_order_33 : decode cX0_order 33 = .ok (.aload_n 0, 1) := dk_42 (dk_at dksX0_order_1 9 rfl rfl)
theorem dX0_order_34 : decode cX0_order 34 = .ok (.bipush (-4), 2) := dk_16 252 (dk_at dksX0_order_1 10 rfl rfl)
theorem dX0_order_36 : decode cX0_order 36 = .ok (.putfield 253, 3) := dk_181 0 253 (dk_at dksX0_order_1 12 rfl rfl)
theorem dX0_order_39 : decode cX0_order 39 = .ok (.aload_n 0, 1) := dk_42 (dk_at dksX0_order_1 15 rfl rfl)
theorem dX0_order_40 : decode cX0_order 40 = .ok (.iload_n 1, 1) := dk_27 (dk_at dksX0_order_1 16 rfl rfl)
theorem dX0_order_41 : decode cX0_order 41 = .ok (.iconst 0, 1) := dk_3 (dk_at dksX0_order_1 17 rfl rfl)
theorem dX0_order_42 : decode cX0_order 42 = .ok (.iconst 0, 1) := dk_3 (dk_at dksX0_order_1 18 rfl rfl)
theorem dX0_order_43 : decode cX0_order 43 = .ok (.invokevirtual 259, 3) := dk_182 1 3 (dk_at dksX0_order_1 19 rfl rfl)
theorem dX0_order_46 : decode cX0_order 46 = .ok (.aload_n 0, 1) := dk_42 (dk_at dksX0_order_1 22 rfl rfl)
theorem dX0_order_47 : decode cX0_order 47 = .ok (.getfield 253, 3) := dk_180 0 253 (dk_at dksX0_order_2 0 rfl rfl)
theorem dX0_order_50 : decode cX0_order 50 = .ok (.bipush (-4), 2) := dk_16 252 (dk_at dksX0_order_2 3 rfl rfl)
theorem dX0_order_52 : decode cX0_order 52 = .ok (.if_icmp .eq 7, 3) := dk_159 0 7 (dk_at dksX0_order_2 5 rfl rfl)
theorem dX0_order_55 : decode cX0_order 55 = .ok (.iload_n 2, 1) := dk_28 (dk_at dksX0_order_2 8 rfl rfl)
theorem dX0_order_56 : decode cX0_order 56 = .ok (.ifCond .ne 10, 3) := dk_154 0 10 (dk_at dksX0_order_2 9 rfl rfl)
theorem dX0_order_59 : decode cX0_order 59 = .ok (.aload_n 0, 1) := dk_42 (dk_at dksX0_order_2 12 rfl rfl)
theorem dX0_order_60 : decode cX0_order 60 = .ok (.getfield 253, 3) := dk_180 0 253 (dk_at dksX0_order_2 13 rfl rfl)
theorem dX0_order_63 : decode cX0_order 63 = .ok (.goto 12, 3) := dk_167 0 12 (dk_at dksX0_order_2 16 rfl rfl)
theorem dX0_order_66 : decode cX0_order 66 = .ok (.aload_n 0, 1) := dk_42 (dk_at dksX0_order_2 19 rfl rfl)
theorem dX0_order_67 : decode cX0_order 67 = .ok (.getfield 256, 3) := dk_180 1 0 (dk_at dksX0_order_2 20 rfl rfl)
theorem dX0_order_70 : decode cX0_order 70 = .ok (.iload_n 2, 1) := dk_28 (dk_at dksX0_order_2 23 rfl rfl)
theorem dX0_order_71 : decode cX0_order 71 = .ok (.bipush 10, 2) := dk_16 10 (dk_at dksX0_order_3 0 rfl rfl)
theorem dX0_order_73 : decode cX0_order 73 = .ok (.isub, 1) := dk_100 (dk_at dksX0_order_3 2 rfl rfl)
theorem dX0_order_74 : decode cX0_order 74 = .ok (.iaload, 1) := dk_46 (dk_at dksX0_order_3 3 rfl rfl)
theorem dX0_order_75 : decode cX0_order 75 = .ok (.ireturn, 1) := dk_172 (dk_at dksX0_order_3 4 rfl rfl)
abbrev cX0_orders : ByteArray := prog_1_method_40_code
def yX0_orders : MethodName := ⟨RX0, "orders", "(III)V"⟩
def dkwX0_orders_4 : List UInt8 := [96, 29, 4, 21, 4, 120, 128, 182, 1, 3, 132, 4, 1, 167, 255, 213, 177]
abbrev dktX0_orders_4 : List UInt8 := dkwX0_orders_4 ++ []
def dkwX0_orders_3 : List UInt8 := [162, 0, 40, 29, 21, 4, 184, 0, 211, 154, 0, 25, 42, 180, 0, 238, 28, 21, 4, 79, 42, 27, 28, 4]
abbrev dktX0_orders_3 : List UInt8 := dkwX0_orders_3 ++ dktX0_orders_4
def dkwX0_orders_2 : List UInt8 := [180, 0, 238, 3, 42, 180, 1, 0, 3, 7, 184, 0, 28, 177, 3, 54, 4, 21, 4, 42, 180, 0, 77]
abbrev dktX0_orders_2 : List UInt8 := dkwX0_orders_2 ++ dktX0_orders_3
def dkwX0_orders_1 : List UInt8 := [180, 0, 253, 16, 252, 159, 0, 12, 21, 4, 42, 180, 0, 253, 162, 0, 23, 42, 21, 4, 181, 0, 253, 42]
abbrev dktX0_orders_1 : List UInt8 := dkwX0_orders_1 ++ dktX0_orders_2
def dkwX0_orders_0 : List UInt8 := [28, 42, 180, 0, 77, 160, 0, 56, 42, 27, 182, 0, 249, 54, 4, 21, 4, 16, 252, 159, 0, 41, 42]
abbrev dktX0_orders_0 : List UInt8 := dkwX0_orders_0 ++ dktX0_orders_1
theorem dksX0_orders_0 : cX0_orders.data.toList.drop 0 = dktX0_orders_0 := by decide +kernel
theorem dksX0_orders_1 : cX0_orders.data.toList.drop 23 = dktX0_orders_1 := dk_seg dksX0_orders_0 23 rfl rfl
theorem dksX0_orders_2 : cX0_orders.data.toList.drop 47 = dktX0_orders_2 := dk_seg dksX0_orders_1 24 rfl rfl
theorem dksX0_orders_3 : cX0_orders.data.toList.drop 70 = dktX0_orders_3 := dk_seg dksX0_orders_2 23 rfl rfl
theorem dksX0_orders_4 : cX0_orders.data.toList.drop 94 = dktX0_orders_4 := dk_seg dksX0_orders_3 24 rfl rfl
theorem dX0_orders_0 : decode cX0_orders 0 = .ok (.iload_n 2, 1) := dk_28 (dk_at dksX0_orders_0 0 rfl rfl)
theorem dX0_orders_1 : decode cX0_orders 1 = .ok (.aload_n 0, 1) := dk_42 (dk_at dksX0_orders_0 1 rfl rfl)
theorem dX0_orders_2 : decode cX0_orders 2 = .ok (.getfield 77, 3) := dk_180 0 77 (dk_at dksX0_orders_0 2 rfl rfl)
theorem dX0_orders_5 : decode cX0_orders 5 = .ok (.if_icmp .ne 56, 3) := dk_160 0 56 (dk_at dksX0_orders_0 5 rfl rfl)
theorem dX0_orders_8 : decode cX0_orders 8 = .ok (.aload_n 0, 1) := dk_42 (dk_at dksX0_orders_0 8 rfl rfl)
theorem dX0_orders_9 : decode cX0_orders 9 = .ok (.iload_n 1, 1) := dk_27 (dk_at dksX0_orders_0 9 rfl rfl)
theorem dX0_orders_10 : decode cX0_orders 10 = .ok (.invokevirtual 249, 3) := dk_182 0 249 (dk_at dksX0_orders_0 10 rfl rfl)
theorem dX0_orders_13 : decode cX0_orders 13 = .ok (.istore 4, 2) := dk_54 4 (dk_at dksX0_orders_0 13 rfl rfl)
theorem dX0_orders_15 : decode cX0_orders 15 = .ok (.iload 4, 2) := dk_21 4 (dk_at dksX0_orders_0 15 rfl rfl)
theorem dX0_orders_17 : decode cX0_orders 17 = .ok (.bipush (-4), 2) := dk_16 252 (dk_at dksX0_orders_0 17 rfl rfl)
theorem dX0_orders_19 : decode cX0_orders 19 = .ok (.if_icmp .eq 41, 3) := dk_159 0 41 (dk_at dksX0_orders_0 19 rfl rfl)
theorem dX0_orders_22 : decode cX0_orders 22 = .ok (.aload_n 0, 1) := dk_42 (dk_at dksX0_orders_0 22 rfl rfl)
theorem dX0_orders_23 : decode cX0_orders 23 = .ok (.getfield 253, 3) := dk_180 0 253 (dk_at dksX0_orders_1 0 rfl rfl)
theorem dX0_orders_26 : decode cX0_orders 26 = .ok (.bipush (-4), 2) := dk_16 252 (dk_at dksX0_orders_1 3 rfl rfl)
theorem dX0_orders_28 : decode cX0_orders 28 = .ok (.if_icmp .eq 12, 3) := dk_159 0 12 (dk_at dksX0_orders_1 5 rfl rfl)
theorem dX0_orders_31 : decode cX0_orders 31 = .ok (.iload 4, 2) := dk_21 4 (dk_at dksX0_orders_1 8 rfl rfl)
theorem dX0_orders_33 : decode cX0_orders 33 = .ok (.aload_n 0, 1) := dk_42 (dk_at dksX0_orders_1 10 rfl rfl)
theorem dX0_orders_34 : decode cX0_orders 34 = .ok (.getfield 253, 3) := dk_180 0 253 (dk_at dksX0_orders_1 11 rfl rfl)
theorem dX0_orders_37 : decode cX0_orders 37 = .ok (.if_icmp .ge 23, 3) := dk_162 0 23 (dk_at dksX0_orders_1 14 rfl rfl)
theorem dX0_orders_40 : decode cX0_orders 40 = .ok (.aload_n 0, 1) := dk_42 (dk_at dksX0_orders_1 17 rfl rfl)
theorem dX0_orders_41 : decode cX0_orders 41 = .ok (.iload 4, 2) := dk_21 4 (dk_at dksX0_orders_1 18 rfl rfl)
theorem dX0_orders_43 : decode cX0_orders 43 = .ok (.putfield 253, 3) := dk_181 0 253 (dk_at dksX0_orders_1 20 rfl rfl)
theorem dX0_orders_46 : decode cX0_orders 46 = .ok (.aload_n 0, 1) := dk_42 (dk_at dksX0_orders_1 23 rfl rfl)
theorem dX0_orders_47 : decode cX0_orders 47 = .ok (.getfield 238, 3) := dk_180 0 238 (dk_at dksX0_orders_2 0 rfl rfl)
theorem dX0_orders_50 : decode cX0_orders 50 = .ok (.iconst 0, 1) := dk_3 (dk_at dksX0_orders_2 3 rfl rfl)
theorem dX0_orders_51 : decode cX0_orders 51 = .ok (.aload_n 0, 1) := dk_42 (dk_at dksX0_orders_2 4 rfl rfl)
theorem dX0_orders_52 : decode cX0_orders 52 = .ok (.getfield 256, 3) := dk_180 1 0 (dk_at dksX0_orders_2 5 rfl rfl)
theorem dX0_orders_55 : decode cX0_orders 55 = .ok (.iconst 0, 1) := dk_3 (dk_at dksX0_orders_2 8 rfl rfl)
theorem dX0_orders_56 : decode cX0_orders 56 = .ok (.iconst 4, 1) := dk_7 (dk_at dksX0_orders_2 9 rfl rfl)
theorem dX0_orders_57 : decode cX0_orders 57 = .ok (.invokestatic 28, 3) := dk_184 0 28 (dk_at dksX0_orders_2 10 rfl rfl)
theorem dX0_orders_60 : decode cX0_orders 60 = .ok (.return_, 1) := dk_177 (dk_at dksX0_orders_2 13 rfl rfl)
theorem dX0_orders_61 : decode cX0_orders 61 = .ok (.iconst 0, 1) := dk_3 (dk_at dksX0_orders_2 14 rfl rfl)
theorem dX0_orders_62 : decode cX0_orders 62 = .ok (.istore 4, 2) := dk_54 4 (dk_at dksX0_orders_2 15 rfl rfl)
theorem dX0_orders_64 : decode cX0_orders 64 = .ok (.iload 4, 2) := dk_21 4 (dk_at dksX0_orders_2 17 rfl rfl)
theorem dX0_orders_66 : decode cX0_orders 66 = .ok (.aload_n 0, 1) := dk_42 (dk_at dksX0_orders_2 19 rfl rfl)
theorem dX0_orders_67 : decode cX0_orders 67 = .ok (.getfield 77, 3) := dk_180 0 77 (dk_at dksX0_orders_2 20 rfl rfl)
theorem dX0_orders_70 : decode cX0_orders 70 = .ok (.if_icmp .ge 40, 3) := dk_162 0 40 (dk_at dksX0_orders_3 0 rfl rfl)
theorem dX0_orders_73 : decode cX0_orders 73 = .ok (.iload_n 3, 1) := dk_29 (dk_at dksX0_orders_3 3 rfl rfl)
theorem dX0_orders_74 : decode cX0_orders 74 = .ok (.iload 4, 2) := dk_21 4 (dk_at dksX0_orders_3 4 rfl rfl)
theorem dX0_orders_76 : decode cX0_orders 76 = .ok (.invokestatic 211, 3) := dk_184 0 211 (dk_at dksX0_orders_3 6 rfl rfl)
theorem dX0_orders_79 : decode cX0_orders 79 = .ok (.ifCond .ne 25, 3) := dk_154 0 25 (dk_at dksX0_orders_3 9 rfl rfl)
theorem dX0_orders_82 : decode cX0_orders 82 = .ok (.aload_n 0, 1) := dk_42 (dk_at dksX0_orders_3 12 rfl rfl)
theorem dX0_orders_83 : decode cX0_orders 83 = .ok (.getfield 238, 3) := dk_180 0 238 (dk_at dksX0_orders_3 13 rfl rfl)
theorem dX0_orders_86 : decode cX0_orders 86 = .ok (.iload_n 2, 1) := dk_28 (dk_at dksX0_orders_3 16 rfl rfl)
theorem dX0_orders_87 : decode cX0_orders 87 = .ok (.iload 4, 2) := dk_21 4 (dk_at dksX0_orders_3 17 rfl rfl)
theorem dX0_orders_89 : decode cX0_orders 89 = .ok (.iastore, 1) := dk_79 (dk_at dksX0_orders_3 19 rfl rfl)
theorem dX0_orders_90 : decode cX0_orders 90 = .ok (.aload_n 0, 1) := dk_42 (dk_at dksX0_orders_3 20 rfl rfl)
theorem dX0_orders_91 : decode cX0_orders 91 = .ok (.iload_n 1, 1) := dk_27 (dk_at dksX0_orders_3 21 rfl rfl)
theorem dX0_orders_92 : decode cX0_orders 92 = .ok (.iload_n 2, 1) := dk_28 (dk_at dksX0_orders_3 22 rfl rfl)
theorem dX0_orders_93 : decode cX0_orders 93 = .ok (.iconst 1, 1) := dk_4 (dk_at dksX0_orders_3 23 rfl rfl)
theorem dX0_orders_94 : decode cX0_orders 94 = .ok (.iadd, 1) := dk_96 (dk_at dksX0_orders_4 0 rfl rfl)
theorem dX0_orders_95 : decode cX0_orders 95 = .ok (.iload_n 3, 1) := dk_29 (dk_at dksX0_orders_4 1 rfl rfl)
theorem dX0_orders_96 : decode cX0_orders 96 = .ok (.iconst 1, 1) := dk_4 (dk_at dksX0_orders_4 2 rfl rfl)
theorem dX0_orders_97 : decode cX0_orders 97 = .ok (.iload 4, 2) := dk_21 4 (dk_at dksX0_orders_4 3 rfl rfl)
theorem dX0_orders_99 : decode cX0_orders 99 = .ok (.ishl, 1) := dk_120 (dk_at dksX0_orders_4 5 rfl rfl)
theorem dX0_orders_100 : decode cX0_orders 100 = .ok (.ior, 1) := dk_128 (dk_at dksX0_orders_4 6 rfl rfl)
theorem dX0_orders_101 : decode cX0_orders 101 = .ok (.invokevirtual 259, 3) := dk_182 1 3 (dk_at dksX0_orders_4 7 rfl rfl)
theorem dX0_orders_104 : decode cX0_orders 104 = .ok (.iinc 4 1, 3) := dk_132 4 1 (dk_at dksX0_orders_4 10 rfl rfl)
theorem dX0_orders_107 : decode cX0_orders 107 = .ok (.goto (-43), 3) := dk_167 255 213 (dk_at dksX0_orders_4 13 rfl rfl)
theorem dX0_orders_110 : decode cX0_orders 110 = .ok (.return_, 1) := dk_177 (dk_at dksX0_orders_4 16 rfl rfl)
abbrev cX0_ordered : ByteArray := prog_1_method_39_code
def yX0_ordered : MethodName := ⟨RX0, "ordered", "(I)I"⟩
def dkwX0_ordered_6 : List UInt8 := [16, 252, 160, 0, 8, 16, 252, 167, 0, 7, 28, 21, 4, 96, 61, 132, 3, 1, 167, 255, 138, 28, 172]
abbrev dktX0_ordered_6 : List UInt8 := dkwX0_ordered_6 ++ []
def dkwX0_ordered_5 : List UInt8 := [180, 0, 218, 180, 0, 241, 21, 4, 50, 21, 5, 50, 182, 0, 245, 132, 5, 1, 167, 255, 214, 21, 4]
abbrev dktX0_ordered_5 : List UInt8 := dkwX0_ordered_5 ++ dktX0_ordered_6
def dkwX0_ordered_4 : List UInt8 := [42, 180, 0, 80, 162, 0, 39, 21, 4, 16, 252, 159, 0, 32, 42, 180, 0, 235, 21, 5, 50, 42]
abbrev dktX0_ordered_4 : List UInt8 := dkwX0_ordered_4 ++ dktX0_ordered_5
def dkwX0_ordered_3 : List UInt8 := [182, 0, 222, 42, 180, 0, 218, 42, 180, 0, 238, 29, 46, 6, 182, 0, 228, 54, 4, 3, 54, 5, 21, 5]
abbrev dktX0_ordered_3 : List UInt8 := dkwX0_ordered_3 ++ dktX0_ordered_4
def dkwX0_ordered_2 : List UInt8 := [16, 252, 159, 0, 110, 42, 180, 0, 218, 27, 42, 180, 0, 235, 4, 42, 180, 0, 3, 120, 4, 100]
abbrev dktX0_ordered_2 : List UInt8 := dkwX0_ordered_2 ++ dktX0_ordered_3
def dkwX0_ordered_1 : List UInt8 := [25, 5, 182, 0, 140, 132, 4, 1, 167, 255, 236, 3, 61, 3, 62, 29, 42, 180, 0, 77, 162, 0, 116, 28]
abbrev dktX0_ordered_1 : List UInt8 := dkwX0_ordered_1 ++ dktX0_ordered_2
def dkwX0_ordered_0 : List UInt8 := [42, 180, 0, 235, 77, 44, 190, 62, 3, 54, 4, 21, 4, 29, 162, 0, 20, 44, 21, 4, 50, 58, 5]
abbrev dktX0_ordered_0 : List UInt8 := dkwX0_ordered_0 ++ dktX0_ordered_1
theorem dksX0_ordered_0 : cX0_ordered.data.toList.drop 0 = dktX0_ordered_0 := by decide +kernel
theorem dksX0_ordered_1 : cX0_ordered.data.toList.drop 23 = dktX0_ordered_1 := dk_seg dksX0_ordered_0 23 rfl rfl
theorem dksX0_ordered_2 : cX0_ordered.data.toList.drop 47 = dktX0_ordered_2 := dk_seg dksX0_ordered_1 24 rfl rfl
theorem dksX0_ordered_3 : cX0_ordered.data.toList.drop 69 = dktX0_ordered_3 := dk_seg dksX0_ordered_2 22 rfl rfl
theorem dksX0_ordered_4 : cX0_ordered.data.toList.drop 93 = dktX0_ordered_4 := dk_seg dksX0_ordered_3 24 rfl rfl
theorem dksX0_ordered_5 : cX0_ordered.data.toList.drop 115 = dktX0_ordered_5 := dk_seg dksX0_ordered_4 22 rfl rfl
theorem dksX0_ordered_6 : cX0_ordered.data.toList.drop 138 = dktX0_ordered_6 := dk_seg dksX0_ordered_5 23 rfl rfl
theorem dX0_ordered_0 : decode cX0_ordered 0 = .ok (.aload_n 0, 1) := dk_42 (dk_at dksX0_ordered_0 0 rfl rfl)
theorem dX0_ordered_1 : decode cX0_ordered 1 = .ok (.getfield 235, 3) := dk_180 0 235 (dk_at dksX0_ordered_0 1 rfl rfl)
theorem dX0_ordered_4 : decode cX0_ordered 4 = .ok (.astore_n 2, 1) := dk_77 (dk_at dksX0_ordered_0 4 rfl rfl)
theorem dX0_ordered_5 : decode cX0_ordered 5 = .ok (.aload_n 2, 1) := dk_44 (dk_at dksX0_ordered_0 5 rfl rfl)
theorem dX0_ordered_6 : decode cX0_ordered 6 = .ok (.arraylength, 1) := dk_190 (dk_at dksX0_ordered_0 6 rfl rfl)
theorem dX0_ordered_7 : decode cX0_ordered 7 = .ok (.istore_n 3, 1) := dk_62 (dk_at dksX0_ordered_0 7 rfl rfl)
theorem dX0_ordered_8 : decode cX0_ordered 8 = .ok (.iconst 0, 1) := dk_3 (dk_at dksX0_ordered_0 8 rfl rfl)
theorem dX0_ordered_9 : decode cX0_ordered 9 = .ok (.istore 4, 2) := dk_54 4 (dk_at dksX0_ordered_0 9 rfl rfl)
theorem dX0_ordered_11 : decode cX0_ordered 11 = .ok (.iload 4, 2) := dk_21 4 (dk_at dksX0_ordered_0 11 rfl rfl)
theorem dX0_ordered_13 : decode cX0_ordered 13 = .ok (.iload_n 3, 1) := dk_29 (dk_at dksX0_ordered_0 13 rfl rfl)
theorem dX0_ordered_14 : decode cX0_ordered 14 = .ok (.if_icmp .ge 20, 3) := dk_162 0 20 (dk_at dksX0_ordered_0 14 rfl rfl)
theorem dX0_ordered_17 : decode cX0_ordered 17 = .ok (.aload_n 2, 1) := dk_44 (dk_at dksX0_ordered_0 17 rfl rfl)
theorem dX0_ordered_18 : decode cX0_ordered 18 = .ok (.iload 4, 2) := dk_21 4 (dk_at dksX0_ordered_0 18 rfl rfl)
theorem dX0_ordered_20 : decode cX0_ordered 20 = .ok (.aaload, 1) := dk_50 (dk_at dksX0_ordered_0 20 rfl rfl)
theorem dX0_ordered_21 : decode cX0_ordered 21 = .ok (.astore 5, 2) := dk_58 5 (dk_at dksX0_ordered_0 21 rfl rfl)
theorem dX0_ordered_23 : decode cX0_ordered 23 = .ok (.aload 5, 2) := dk_25 5 (dk_at dksX0_ordered_1 0 rfl rfl)
theorem dX0_ordered_25 : decode cX0_ordered 25 = .ok (.invokevirtual 140, 3) := dk_182 0 140 (dk_at dksX0_ordered_1 2 rfl rfl)
theorem dX0_ordered_28 : decode cX0_ordered 28 = .ok (.iinc 4 1, 3) := dk_132 4 1 (dk_at dksX0_ordered_1 5 rfl rfl)
theorem dX0_ordered_31 : decode cX0_ordered 31 = .ok (.goto (-20), 3) := dk_167 255 236 (dk_at dksX0_ordered_1 8 rfl rfl)
theorem dX0_ordered_34 : decode cX0_ordered 34 = .ok (.iconst 0, 1) := dk_3 (dk_at dksX0_ordered_1 11 rfl rfl)
theorem dX0_ordered_35 : decode cX0_ordered 35 = .ok (.istore_n 2, 1) := dk_61 (dk_at dksX0_ordered_1 12 rfl rfl)
theorem dX0_ordered_36 : decode cX0_ordered 36 = .ok (.iconst 0, 1) := dk_3 (dk_at dksX0_ordered_1 13 rfl rfl)
theorem dX0_ordered_37 : decode cX0_ordered 37 = .ok (.istore_n 3, 1) := dk_62 (dk_at dksX0_ordered_1 14 rfl rfl)
theorem dX0_ordered_38 : decode cX0_ordered 38 = .ok (.iload_n 3, 1) := dk_29 (dk_at dksX0_ordered_1 15 rfl rfl)
theorem dX0_ordered_39 : decode cX0_ordered 39 = .ok (.aload_n 0, 1) := dk_42 (dk_at dksX0_ordered_1 16 rfl rfl)
theorem dX0_ordered_40 : decode cX0_ordered 40 = .ok (.getfield 77, 3) := dk_180 0 77 (dk_at dksX0_ordered_1 17 rfl rfl)
theorem dX0_ordered_43 : decode cX0_ordered 43 = .ok (.if_icmp .ge 116, 3) := dk_162 0 116 (dk_at dksX0_ordered_1 20 rfl rfl)
theorem dX0_ordered_46 : decode cX0_ordered 46 = .ok (.iload_n 2, 1) := dk_28 (dk_at dksX0_ordered_1 23 rfl rfl)
theorem dX0_ordered_47 : decode cX0_ordered 47 = .ok (.bipush (-4), 2) := dk_16 252 (dk_at dksX0_ordered_2 0 rfl rfl)
theorem dX0_ordered_49 : decode cX0_ordered 49 = .ok (.if_icmp .eq 110, 3) := dk_159 0 110 (dk_at dksX0_ordered_2 2 rfl rfl)
theorem dX0_ordered_52 : decode cX0_ordered 52 = .ok (.aload_n 0, 1) := dk_42 (dk_at dksX0_ordered_2 5 rfl rfl)
theorem dX0_ordered_53 : decode cX0_ordered 53 = .ok (.getfield 218, 3) := dk_180 0 218 (dk_at dksX0_ordered_2 6 rfl rfl)
theorem dX0_ordered_56 : decode cX0_ordered 56 = .ok (.iload_n 1, 1) := dk_27 (dk_at dksX0_ordered_2 9 rfl rfl)
theorem dX0_ordered_57 : decode cX0_ordered 57 = .ok (.aload_n 0, 1) := dk_42 (dk_at dksX0_ordered_2 10 rfl rfl)
theorem dX0_ordered_58 : decode cX0_ordered 58 = .ok (.getfield 235, 3) := dk_180 0 235 (dk_at dksX0_ordered_2 11 rfl rfl)
theorem dX0_ordered_61 : decode cX0_ordered 61 = .ok (.iconst 1, 1) := dk_4 (dk_at dksX0_ordered_2 14 rfl rfl)
theorem dX0_ordered_62 : decode cX0_ordered 62 = .ok (.aload_n 0, 1) := dk_42 (dk_at dksX0_ordered_2 15 rfl rfl)
theorem dX0_ordered_63 : decode cX0_ordered 63 = .ok (.getfield 3, 3) := dk_180 0 3 (dk_at dksX0_ordered_2 16 rfl rfl)
theorem dX0_ordered_66 : decode cX0_ordered 66 = .ok (.ishl, 1) := dk_120 (dk_at dksX0_ordered_2 19 rfl rfl)
theorem dX0_ordered_67 : decode cX0_ordered 67 = .ok (.iconst 1, 1) := dk_4 (dk_at dksX0_ordered_2 20 rfl rfl)
theorem dX0_ordered_68 : decode cX0_ordered 68 = .ok (.isub, 1) := dk_100 (dk_at dksX0_ordered_2 21 rfl rfl)
theorem dX0_ordered_69 : decode cX0_ordered 69 = .ok (.invokevirtual 222, 3) := dk_182 0 222 (dk_at dksX0_ordered_3 0 rfl rfl)
theorem dX0_ordered_72 : decode cX0_ordered 72 = .ok (.aload_n 0, 1) := dk_42 (dk_at dksX0_ordered_3 3 rfl rfl)
theorem dX0_ordered_73 : decode cX0_ordered 73 = .ok (.getfield 218, 3) := dk_180 0 218 (dk_at dksX0_ordered_3 4 rfl rfl)
theorem dX0_ordered_76 : decode cX0_ordered 76 = .ok (.aload_n 0, 1) := dk_42 (dk_at dksX0_ordered_3 7 rfl rfl)
theorem dX0_ordered_77 : decode cX0_ordered 77 = .ok (.getfield 238, 3) := dk_180 0 238 (dk_at dksX0_ordered_3 8 rfl rfl)
theorem dX0_ordered_80 : decode cX0_ordered 80 = .ok (.iload_n 3, 1) := dk_29 (dk_at dksX0_ordered_3 11 rfl rfl)
theorem dX0_ordered_81 : decode cX0_ordered 81 = .ok (.iaload, 1) := dk_46 (dk_at dksX0_ordered_3 12 rfl rfl)
theorem dX0_ordered_82 : decode cX0_ordered 82 = .ok (.iconst 3, 1) := dk_6 (dk_at dksX0_ordered_3 13 rfl rfl)
theorem dX0_ordered_83 : decode cX0_ordered 83 = .ok (.invokevirtual 228, 3) := dk_182 0 228 (dk_at dksX0_ordered_3 14 rfl rfl)
theorem dX0_ordered_86 : decode cX0_ordered 86 = .ok (.istore 4, 2) := dk_54 4 (dk_at dksX0_ordered_3 17 rfl rfl)
theorem dX0_ordered_88 : decode cX0_ordered 88 = .ok (.iconst 0, 1) := dk_3 (dk_at dksX0_ordered_3 19 rfl rfl)
theorem dX0_ordered_89 : decode cX0_ordered 89 = .ok (.istore 5, 2) := dk_54 5 (dk_at dksX0_ordered_3 20 rfl rfl)
theorem dX0_ordered_91 : decode cX0_ordered 91 = .ok (.iload 5, 2) := dk_21 5 (dk_at dksX0_ordered_3 22 rfl rfl)
theorem dX0_ordered_93 : decode cX0_ordered 93 = .ok (.aload_n 0, 1) := dk_42 (dk_at dksX0_ordered_4 0 rfl rfl)
theorem dX0_ordered_94 : decode cX0_ordered 94 = .ok (.getfield 80, 3) := dk_180 0 80 (dk_at dksX0_ordered_4 1 rfl rfl)
theorem dX0_ordered_97 : decode cX0_ordered 97 = .ok (.if_icmp .ge 39, 3) := dk_162 0 39 (dk_at dksX0_ordered_4 4 rfl rfl)
theorem dX0_ordered_100 : decode cX0_ordered 100 = .ok (.iload 4, 2) := dk_21 4 (dk_at dksX0_ordered_4 7 rfl rfl)
theorem dX0_ordered_102 : decode cX0_ordered 102 = .ok (.bipush (-4), 2) := dk_16 252 (dk_at dksX0_ordered_4 9 rfl rfl)
theorem dX0_ordered_104 : decode cX0_ordered 104 = .ok (.if_icmp .eq 32, 3) := dk_159 0 32 (dk_at dksX0_ordered_4 11 rfl rfl)
theorem dX0_ordered_107 : decode cX0_ordered 107 = .ok (.aload_n 0, 1) := dk_42 (dk_at dksX0_ordered_4 14 rfl rfl)
theorem dX0_ordered_108 : decode cX0_ordered 108 = .ok (.getfield 235, 3) := dk_180 0 235 (dk_at dksX0_ordered_4 15 rfl rfl)
theorem dX0_ordered_111 : decode cX0_ordered 111 = .ok (.iload 5, 2) := dk_21 5 (dk_at dksX0_ordered_4 18 rfl rfl)
theorem dX0_ordered_113 : decode cX0_ordered 113 = .ok (.aaload, 1) := dk_50 (dk_at dksX0_ordered_4 20 rfl rfl)
theorem dX0_ordered_114 : decode cX0_ordered 114 = .ok (.aload_n 0, 1) := dk_42 (dk_at dksX0_ordered_4 21 rfl rfl)
theorem dX0_ordered_115 : decode cX0_ordered 115 = .ok (.getfield 218, 3) := dk_180 0 218 (dk_at dksX0_ordered_5 0 rfl rfl)
theorem dX0_ordered_118 : decode cX0_ordered 118 = .ok (.getfield 241, 3) := dk_180 0 241 (dk_at dksX0_ordered_5 3 rfl rfl)
theorem dX0_ordered_121 : decode cX0_ordered 121 = .ok (.iload 4, 2) := dk_21 4 (dk_at dksX0_ordered_5 6 rfl rfl)
theorem dX0_ordered_123 : decode cX0_ordered 123 = .ok (.aaload, 1) := dk_50 (dk_at dksX0_ordered_5 8 rfl rfl)
theorem dX0_ordered_124 : decode cX0_ordered 124 = .ok (.iload 5, 2) := dk_21 5 (dk_at dksX0_ordered_5 9 rfl rfl)
theorem dX0_ordered_126 : decode cX0_ordered 126 = .ok (.aaload, 1) := dk_50 (dk_at dksX0_ordered_5 11 rfl rfl)
theorem dX0_ordered_127 : decode cX0_ordered 127 = .ok (.invokevirtual 245, 3) := dk_182 0 245 (dk_at dksX0_ordered_5 12 rfl rfl)
theorem dX0_ordered_130 : decode cX0_ordered 130 = .ok (.iinc 5 1, 3) := dk_132 5 1 (dk_at dksX0_ordered_5 15 rfl rfl)
theorem dX0_ordered_133 : decode cX0_ordered 133 = .ok (.goto (-42), 3) := dk_167 255 214 (dk_at dksX0_ordered_5 18 rfl rfl)
theorem dX0_ordered_136 : decode cX0_ordered 136 = .ok (.iload 4, 2) := dk_21 4 (dk_at dksX0_ordered_5 21 rfl rfl)
theorem dX0_ordered_138 : decode cX0_ordered 138 = .ok (.bipush (-4), 2) := dk_16 252 (dk_at dksX0_ordered_6 0 rfl rfl)
theorem dX0_ordered_140 : decode cX0_ordered 140 = .ok (.if_icmp .ne 8, 3) := dk_160 0 8 (dk_at dksX0_ordered_6 2 rfl rfl)
theorem dX0_ordered_143 : decode cX0_ordered 143 = .ok (.bipush (-4), 2) := dk_16 252 (dk_at dksX0_ordered_6 5 rfl rfl)
theorem dX0_ordered_145 : decode cX0_ordered 145 = .ok (.goto 7, 3) := dk_167 0 7 (dk_at dksX0_ordered_6 7 rfl rfl)
theorem dX0_ordered_148 : decode cX0_ordered 148 = .ok (.iload_n 2, 1) := dk_28 (dk_at dksX0_ordered_6 10 rfl rfl)
theorem dX0_ordered_149 : decode cX0_ordered 149 = .ok (.iload 4, 2) := dk_21 4 (dk_at dksX0_ordered_6 11 rfl rfl)
theorem dX0_ordered_151 : decode cX0_ordered 151 = .ok (.iadd, 1) := dk_96 (dk_at dksX0_ordered_6 13 rfl rfl)
theorem dX0_ordered_152 : decode cX0_ordered 152 = .ok (.istore_n 2, 1) := dk_61 (dk_at dksX0_ordered_6 14 rfl rfl)
theorem dX0_ordered_153 : decode cX0_ordered 153 = .ok (.iinc 3 1, 3) := dk_132 3 1 (dk_at dksX0_ordered_6 15 rfl rfl)
theorem dX0_ordered_156 : decode cX0_ordered 156 = .ok (.goto (-118), 3) := dk_167 255 138 (dk_at dksX0_ordered_6 18 rfl rfl)
theorem dX0_ordered_159 : decode cX0_ordered 159 = .ok (.iload_n 2, 1) := dk_28 (dk_at dksX0_ordered_6 21 rfl rfl)
theorem dX0_ordered_160 : decode cX0_ordered 160 = .ok (.ireturn, 1) := dk_172 (dk_at dksX0_ordered_6 22 rfl rfl)
abbrev cX0_first : ByteArray := prog_1_method_46_code
def yX0_first : MethodName := ⟨RX0, "first", "(II)I"⟩
def dkwX0_first_11 : List UInt8 := [184, 1, 17, 172]
abbrev dktX0_first_11 : List UInt8 := dkwX0_first_11 ++ []
def dkwX0_first_10 : List UInt8 := [21, 4, 16, 252, 159, 0, 7, 28, 154, 0, 8, 21, 4, 167, 0, 12, 21, 5, 29, 28, 4, 100]
abbrev dktX0_first_10 : List UInt8 := dkwX0_first_10 ++ dktX0_first_11
def dkwX0_first_9 : List UInt8 := [21, 4, 54, 4, 21, 11, 153, 0, 8, 21, 10, 167, 0, 5, 21, 5, 54, 5, 132, 8, 1, 167, 255, 80]
abbrev dktX0_first_9 : List UInt8 := dkwX0_first_9 ++ dktX0_first_10
def dkwX0_first_8 : List UInt8 := [21, 10, 21, 5, 164, 0, 7, 4, 167, 0, 4, 3, 54, 11, 21, 11, 153, 0, 8, 21, 8, 167, 0, 5]
abbrev dktX0_first_8 : List UInt8 := dkwX0_first_8 ++ dktX0_first_9
def dkwX0_first_7 : List UInt8 := [132, 11, 1, 167, 255, 176, 21, 6, 21, 8, 184, 0, 211, 154, 0, 21, 21, 4, 16, 252, 159, 0, 10]
abbrev dktX0_first_7 : List UInt8 := dkwX0_first_7 ++ dktX0_first_8
def dkwX0_first_6 : List UInt8 := [182, 0, 198, 153, 0, 16, 42, 180, 0, 94, 21, 11, 50, 180, 0, 133, 167, 0, 4, 3, 96, 54, 10]
abbrev dktX0_first_6 : List UInt8 := dkwX0_first_6 ++ dktX0_first_7
def dkwX0_first_5 : List UInt8 := [4, 42, 180, 0, 3, 120, 4, 100, 21, 8, 21, 9, 182, 0, 164, 182, 0, 168, 21, 10, 42, 25, 7, 27]
abbrev dktX0_first_5 : List UInt8 := dkwX0_first_5 ++ dktX0_first_6
def dkwX0_first_4 : List UInt8 := [162, 0, 77, 25, 7, 182, 0, 140, 42, 180, 0, 94, 21, 11, 50, 25, 7, 3, 27, 21, 8, 21, 9, 42]
abbrev dktX0_first_4 : List UInt8 := dkwX0_first_4 ++ dktX0_first_5
def dkwX0_first_3 : List UInt8 := [27, 182, 0, 186, 21, 8, 182, 0, 161, 54, 9, 3, 54, 10, 3, 54, 11, 21, 11, 42, 180, 0, 80]
abbrev dktX0_first_3 : List UInt8 := dkwX0_first_3 ++ dktX0_first_4
def dkwX0_first_2 : List UInt8 := [180, 0, 235, 3, 50, 58, 7, 3, 54, 8, 21, 8, 42, 180, 0, 74, 162, 0, 173, 29, 158, 0, 169, 42]
abbrev dktX0_first_2 : List UInt8 := dkwX0_first_2 ++ dktX0_first_3
def dkwX0_first_1 : List UInt8 := [182, 1, 7, 182, 1, 10, 62, 16, 252, 54, 4, 3, 54, 5, 42, 3, 182, 1, 13, 54, 6, 42]
abbrev dktX0_first_1 : List UInt8 := dkwX0_first_1 ++ dktX0_first_2
def dkwX0_first_0 : List UInt8 := [42, 27, 182, 0, 112, 153, 0, 15, 28, 133, 9, 20, 0, 193, 184, 0, 24, 154, 0, 5, 2, 172, 42, 42]
abbrev dktX0_first_0 : List UInt8 := dkwX0_first_0 ++ dktX0_first_1
theorem dksX0_first_0 : cX0_first.data.toList.drop 0 = dktX0_first_0 := by decide +kernel
theorem dksX0_first_1 : cX0_first.data.toList.drop 24 = dktX0_first_1 := dk_seg dksX0_first_0 24 rfl rfl
theorem dksX0_first_2 : cX0_first.data.toList.drop 46 = dktX0_first_2 := dk_seg dksX0_first_1 22 rfl rfl
theorem dksX0_first_3 : cX0_first.data.toList.drop 70 = dktX0_first_3 := dk_seg dksX0_first_2 24 rfl rfl
theorem dksX0_first_4 : cX0_first.data.toList.drop 93 = dktX0_first_4 := dk_seg dksX0_first_3 23 rfl rfl
theorem dksX0_first_5 : cX0_first.data.toList.drop 117 = dktX0_first_5 := dk_seg dksX0_first_4 24 rfl rfl
theorem dksX0_first_6 : cX0_first.data.toList.drop 141 = dktX0_first_6 := dk_seg dksX0_first_5 24 rfl rfl
theorem dksX0_first_7 : cX0_first.data.toList.drop 164 = dktX0_first_7 := dk_seg dksX0_first_6 23 rfl rfl
theorem dksX0_first_8 : cX0_first.data.toList.drop 187 = dktX0_first_8 := dk_seg dksX0_first_7 23 rfl rfl
theorem dksX0_first_9 : cX0_first.data.toList.drop 211 = dktX0_first_9 := dk_seg dksX0_first_8 24 rfl rfl
theorem dksX0_first_10 : cX0_first.data.toList.drop 235 = dktX0_first_10 := dk_seg dksX0_first_9 24 rfl rfl
theorem dksX0_first_11 : cX0_first.data.toList.drop 257 = dktX0_first_11 := dk_seg dksX0_first_10 22 rfl rfl
theorem dX0_first_0 : decode cX0_first 0 = .ok (.aload_n 0, 1) := dk_42 (dk_at dksX0_first_0 0 rfl rfl)
theorem dX0_first_1 : decode cX0_first 1 = .ok (.iload_n 1, 1) := dk_27 (dk_at dksX0_first_0 1 rfl rfl)
theorem dX0_first_2 : decode cX0_first 2 = .ok (.invokevirtual 112, 3) := dk_182 0 112 (dk_at dksX0_first_0 2 rfl rfl)
theorem dX0_first_5 : decode cX0_first 5 = .ok (.ifCond .eq 15, 3) := dk_153 0 15 (dk_at dksX0_first_0 5 rfl rfl)
theorem dX0_first_8 : decode cX0_first 8 = .ok (.iload_n 2, 1) := dk_28 (dk_at dksX0_first_0 8 rfl rfl)
theorem dX0_first_9 : decode cX0_first 9 = .ok (.i2l, 1) := dk_133 (dk_at dksX0_first_0 9 rfl rfl)
theorem dX0_first_10 : decode cX0_first 10 = .ok (.lconst 0, 1) := dk_9 (dk_at dksX0_first_0 10 rfl rfl)
theorem dX0_first_11 : decode cX0_first 11 = .ok (.ldc2_w 193, 3) := dk_20 0 193 (dk_at dksX0_first_0 11 rfl rfl)
theorem dX0_first_14 : decode cX0_first 14 = .ok (.invokestatic 24, 3) := dk_184 0 24 (dk_at dksX0_first_0 14 rfl rfl)
theorem dX0_first_17 : decode cX0_first 17 = .ok (.ifCond .ne 5, 3) := dk_154 0 5 (dk_at dksX0_first_0 17 rfl rfl)
theorem dX0_first_20 : decode cX0_first 20 = .ok (.iconst (-1), 1) := dk_2 (dk_at dksX0_first_0 20 rfl rfl)
theorem dX0_first_21 : decode cX0_first 21 = .ok (.ireturn, 1) := dk_172 (dk_at dksX0_first_0 21 rfl rfl)
theorem dX0_first_22 : decode cX0_first 22 = .ok (.aload_n 0, 1) := dk_42 (dk_at dksX0_first_0 22 rfl rfl)
theorem dX0_first_23 : decode cX0_first 23 = .ok (.aload_n 0, 1) := dk_42 (dk_at dksX0_first_0 23 rfl rfl)
theorem dX0_first_24 : decode cX0_first 24 = .ok (.invokevirtual 263, 3) := dk_182 1 7 (dk_at dksX0_first_1 0 rfl rfl)
theorem dX0_first_27 : decode cX0_first 27 = .ok (.invokevirtual 266, 3) := dk_182 1 10 (dk_at dksX0_first_1 3 rfl rfl)
theorem dX0_first_30 : decode cX0_first 30 = .ok (.istore_n 3, 1) := dk_62 (dk_at dksX0_first_1 6 rfl rfl)
theorem dX0_first_31 : decode cX0_first 31 = .ok (.bipush (-4), 2) := dk_16 252 (dk_at dksX0_first_1 7 rfl rfl)
theorem dX0_first_33 : decode cX0_first 33 = .ok (.istore 4, 2) := dk_54 4 (dk_at dksX0_first_1 9 rfl rfl)
theorem dX0_first_35 : decode cX0_first 35 = .ok (.iconst 0, 1) := dk_3 (dk_at dksX0_first_1 11 rfl rfl)
theorem dX0_first_36 : decode cX0_first 36 = .ok (.istore 5, 2) := dk_54 5 (dk_at dksX0_first_1 12 rfl rfl)
theorem dX0_first_38 : decode cX0_first 38 = .ok (.aload_n 0, 1) := dk_42 (dk_at dksX0_first_1 14 rfl rfl)
theorem dX0_first_39 : decode cX0_first 39 = .ok (.iconst 0, 1) := dk_3 (dk_at dksX0_first_1 15 rfl rfl)
theorem dX0_first_40 : decode cX0_first 40 = .ok (.invokevirtual 269, 3) := dk_182 1 13 (dk_at dksX0_first_1 16 rfl rfl)
theorem dX0_first_43 : decode cX0_first 43 = .ok (.istore 6, 2) := dk_54 6 (dk_at dksX0_first_1 19 rfl rfl)
theorem dX0_first_45 : decode cX0_first 45 = .ok (.aload_n 0, 1) := dk_42 (dk_at dksX0_first_1 21 rfl rfl)
theorem dX0_first_46 : decode cX0_first 46 = .ok (.getfield 235, 3) := dk_180 0 235 (dk_at dksX0_first_2 0 rfl rfl)
theorem dX0_first_49 : decode cX0_first 49 = .ok (.iconst 0, 1) := dk_3 (dk_at dksX0_first_2 3 rfl rfl)
theorem dX0_first_50 : decode cX0_first 50 = .ok (.aaload, 1) := dk_50 (dk_at dksX0_first_2 4 rfl rfl)
theorem dX0_first_51 : decode cX0_first 51 = .ok (.astore 7, 2) := dk_58 7 (dk_at dksX0_first_2 5 rfl rfl)
theorem dX0_first_53 : decode cX0_first 53 = .ok (.iconst 0, 1) := dk_3 (dk_at dksX0_first_2 7 rfl rfl)
theorem dX0_first_54 : decode cX0_first 54 = .ok (.istore 8, 2) := dk_54 8 (dk_at dksX0_first_2 8 rfl rfl)
theorem dX0_first_56 : decode cX0_first 56 = .ok (.iload 8, 2) := dk_21 8 (dk_at dksX0_first_2 10 rfl rfl)
theorem dX0_first_58 : decode cX0_first 58 = .ok (.aload_n 0, 1) := dk_42 (dk_at dksX0_first_2 12 rfl rfl)
theorem dX0_first_59 : decode cX0_first 59 = .ok (.getfield 74, 3) := dk_180 0 74 (dk_at dksX0_first_2 13 rfl rfl)
theorem dX0_first_62 : decode cX0_first 62 = .ok (.if_icmp .ge 173, 3) := dk_162 0 173 (dk_at dksX0_first_2 16 rfl rfl)
theorem dX0_first_65 : decode cX0_first 65 = .ok (.iload_n 3, 1) := dk_29 (dk_at dksX0_first_2 19 rfl rfl)
theorem dX0_first_66 : decode cX0_first 66 = .ok (.ifCond .le 169, 3) := dk_158 0 169 (dk_at dksX0_first_2 20 rfl rfl)
theorem dX0_first_69 : decode cX0_first 69 = .ok (.aload_n 0, 1) := dk_42 (dk_at dksX0_first_2 23 rfl rfl)
theorem dX0_first_70 : decode cX0_first 70 = .ok (.iload_n 1, 1) := dk_27 (dk_at dksX0_first_3 0 rfl rfl)
theorem dX0_first_71 : decode cX0_first 71 = .ok (.invokevirtual 186, 3) := dk_182 0 186 (dk_at dksX0_first_3 1 rfl rfl)
theorem dX0_first_74 : decode cX0_first 74 = .ok (.iload 8, 2) := dk_21 8 (dk_at dksX0_first_3 4 rfl rfl)
theorem dX0_first_76 : decode cX0_first 76 = .ok (.invokevirtual 161, 3) := dk_182 0 161 (dk_at dksX0_first_3 6 rfl rfl)
theorem dX0_first_79 : decode cX0_first 79 = .ok (.istore 9, 2) := dk_54 9 (dk_at dksX0_first_3 9 rfl rfl)
theorem dX0_first_81 : decode cX0_first 81 = .ok (.iconst 0, 1) := dk_3 (dk_at dksX0_first_3 11 rfl rfl)
theorem dX0_first_82 : decode cX0_first 82 = .ok (.istore 10, 2) := dk_54 10 (dk_at dksX0_first_3 12 rfl rfl)
theorem dX0_first_84 : decode cX0_first 84 = .ok (.iconst 0, 1) := dk_3 (dk_at dksX0_first_3 14 rfl rfl)
theorem dX0_first_85 : decode cX0_first 85 = .ok (.istore 11, 2) := dk_54 11 (dk_at dksX0_first_3 15 rfl rfl)
theorem dX0_first_87 : decode cX0_first 87 = .ok (.iload 11, 2) := dk_21 11 (dk_at dksX0_first_3 17 rfl rfl)
theorem dX0_first_89 : decode cX0_first 89 = .ok (.aload_n 0, 1) := dk_42 (dk_at dksX0_first_3 19 rfl rfl)
theorem dX0_first_90 : decode cX0_first 90 = .ok (.getfield 80, 3) := dk_180 0 80 (dk_at dksX0_first_3 20 rfl rfl)
theorem dX0_first_93 : decode cX0_first 93 = .ok (.if_icmp .ge 77, 3) := dk_162 0 77 (dk_at dksX0_first_4 0 rfl rfl)
theorem dX0_first_96 : decode cX0_first 96 = .ok (.aload 7, 2) := dk_25 7 (dk_at dksX0_first_4 3 rfl rfl)
theorem dX0_first_98 : decode cX0_first 98 = .ok (.invokevirtual 140, 3) := dk_182 0 140 (dk_at dksX0_first_4 5 rfl rfl)
theorem dX0_first_101 : decode cX0_first 101 = .ok (.aload_n 0, 1) := dk_42 (dk_at dksX0_first_4 8 rfl rfl)
theorem dX0_first_102 : decode cX0_first 102 = .ok (.getfield 94, 3) := dk_180 0 94 (dk_at dksX0_first_4 9 rfl rfl)
theorem dX0_first_105 : decode cX0_first 105 = .ok (.iload 11, 2) := dk_21 11 (dk_at dksX0_first_4 12 rfl rfl)
theorem dX0_first_107 : decode cX0_first 107 = .ok (.aaload, 1) := dk_50 (dk_at dksX0_first_4 14 rfl rfl)
theorem dX0_first_108 : decode cX0_first 108 = .ok (.aload 7, 2) := dk_25 7 (dk_at dksX0_first_4 15 rfl rfl)
theorem dX0_first_110 : decode cX0_first 110 = .ok (.iconst 0, 1) := dk_3 (dk_at dksX0_first_4 17 rfl rfl)
theorem dX0_first_111 : decode cX0_first 111 = .ok (.iload_n 1, 1) := dk_27 (dk_at dksX0_first_4 18 rfl rfl)
theorem dX0_first_112 : decode cX0_first 112 = .ok (.iload 8, 2) := dk_21 8 (dk_at dksX0_first_4 19 rfl rfl)
theorem dX0_first_114 : decode cX0_first 114 = .ok (.iload 9, 2) := dk_21 9 (dk_at dksX0_first_4 21 rfl rfl)
theorem dX0_first_116 : decode cX0_first 116 = .ok (.aload_n 0, 1) := dk_42 (dk_at dksX0_first_4 23 rfl rfl)
theorem dX0_first_117 : decode cX0_first 117 = .ok (.iconst 1, 1) := dk_4 (dk_at dksX0_first_5 0 rfl rfl)
theorem dX0_first_118 : decode cX0_first 118 = .ok (.aload_n 0, 1) := dk_42 (dk_at dksX0_first_5 1 rfl rfl)
theorem dX0_first_119 : decode cX0_first 119 = .ok (.getfield 3, 3) := dk_180 0 3 (dk_at dksX0_first_5 2 rfl rfl)
theorem dX0_first_122 : decode cX0_first 122 = .ok (.ishl, 1) := dk_120 (dk_at dksX0_first_5 5 rfl rfl)
theorem dX0_first_123 : decode cX0_first 123 = .ok (.iconst 1, 1) := dk_4 (dk_at dksX0_first_5 6 rfl rfl)
theorem dX0_first_124 : decode cX0_first 124 = .ok (.isub, 1) := dk_100 (dk_at dksX0_first_5 7 rfl rfl)
theorem dX0_first_125 : decode cX0_first 125 = .ok (.iload 8, 2) := dk_21 8 (dk_at dksX0_first_5 8 rfl rfl)
theorem dX0_first_127 : decode cX0_first 127 = .ok (.iload 9, 2) := dk_21 9 (dk_at dksX0_first_5 10 rfl rfl)
theorem dX0_first_129 : decode cX0_first 129 = .ok (.invokevirtual 164, 3) := dk_182 0 164 (dk_at dksX0_first_5 12 rfl rfl)
theorem dX0_first_132 : decode cX0_first 132 = .ok (.invokevirtual 168, 3) := dk_182 0 168 (dk_at dksX0_first_5 15 rfl rfl)
theorem dX0_first_135 : decode cX0_first 135 = .ok (.iload 10, 2) := dk_21 10 (dk_at dksX0_first_5 18 rfl rfl)
theorem dX0_first_137 : decode cX0_first 137 = .ok (.aload_n 0, 1) := dk_42 (dk_at dksX0_first_5 20 rfl rfl)
theorem dX0_first_138 : decode cX0_first 138 = .ok (.aload 7, 2) := dk_25 7 (dk_at dksX0_first_5 21 rfl rfl)
theorem dX0_first_140 : decode cX0_first 140 = .ok (.iload_n 1, 1) := dk_27 (dk_at dksX0_first_5 23 rfl rfl)
theorem dX0_first_141 : decode cX0_first 141 = .ok (.invokevirtual 198, 3) := dk_182 0 198 (dk_at dksX0_first_6 0 rfl rfl)
theorem dX0_first_144 : decode cX0_first 144 = .ok (.ifCond .eq 16, 3) := dk_153 0 16 (dk_at dksX0_first_6 3 rfl rfl)
theorem dX0_first_147 : decode cX0_first 147 = .ok (.aload_n 0, 1) := dk_42 (dk_at dksX0_first_6 6 rfl rfl)
theorem dX0_first_148 : decode cX0_first 148 = .ok (.getfield 94, 3) := dk_180 0 94 (dk_at dksX0_first_6 7 rfl rfl)
theorem dX0_first_151 : decode cX0_first 151 = .ok (.iload 11, 2) := dk_21 11 (dk_at dksX0_first_6 10 rfl rfl)
theorem dX0_first_153 : decode cX0_first 153 = .ok (.aaload, 1) := dk_50 (dk_at dksX0_first_6 12 rfl rfl)
theorem dX0_first_154 : decode cX0_first 154 = .ok (.getfield 133, 3) := dk_180 0 133 (dk_at dksX0_first_6 13 rfl rfl)
theorem dX0_first_157 : decode cX0_first 157 = .ok (.goto 4, 3) := dk_167 0 4 (dk_at dksX0_first_6 16 rfl rfl)
theorem dX0_first_160 : decode cX0_first 160 = .ok (.iconst 0, 1) := dk_3 (dk_at dksX0_first_6 19 rfl rfl)
theorem dX0_first_161 : decode cX0_first 161 = .ok (.iadd, 1) := dk_96 (dk_at dksX0_first_6 20 rfl rfl)
theorem dX0_first_162 : decode cX0_first 162 = .ok (.istore 10, 2) := dk_54 10 (dk_at dksX0_first_6 21 rfl rfl)
theorem dX0_first_164 : decode cX0_first 164 = .ok (.iinc 11 1, 3) := dk_132 11 1 (dk_at dksX0_first_7 0 rfl rfl)
theorem dX0_first_167 : decode cX0_first 167 = .ok (.goto (-80), 3) := dk_167 255 176 (dk_at dksX0_first_7 3 rfl rfl)
theorem dX0_first_170 : decode cX0_first 170 = .ok (.iload 6, 2) := dk_21 6 (dk_at dksX0_first_7 6 rfl rfl)
theorem dX0_first_172 : decode cX0_first 172 = .ok (.iload 8, 2) := dk_21 8 (dk_at dksX0_first_7 8 rfl rfl)
theorem dX0_first_174 : decode cX0_first 174 = .ok (.invokestatic 211, 3) := dk_184 0 211 (dk_at dksX0_first_7 10 rfl rfl)
theorem dX0_first_177 : decode cX0_first 177 = .ok (.ifCond .ne 21, 3) := dk_154 0 21 (dk_at dksX0_first_7 13 rfl rfl)
theorem dX0_first_180 : decode cX0_first 180 = .ok (.iload 4, 2) := dk_21 4 (dk_at dksX0_first_7 16 rfl rfl)
theorem dX0_first_182 : decode cX0_first 182 = .ok (.bipush (-4), 2) := dk_16 252 (dk_at dksX0_first_7 18 rfl rfl)
theorem dX0_first_184 : decode cX0_first 184 = .ok (.if_icmp .eq 10, 3) := dk_159 0 10 (dk_at dksX0_first_7 20 rfl rfl)
theorem dX0_first_187 : decode cX0_first 187 = .ok (.iload 10, 2) := dk_21 10 (dk_at dksX0_first_8 0 rfl rfl)
theorem dX0_first_189 : decode cX0_first 189 = .ok (.iload 5, 2) := dk_21 5 (dk_at dksX0_first_8 2 rfl rfl)
theorem dX0_first_191 : decode cX0_first 191 = .ok (.if_icmp .le 7, 3) := dk_164 0 7 (dk_at dksX0_first_8 4 rfl rfl)
theorem dX0_first_194 : decode cX0_first 194 = .ok (.iconst 1, 1) := dk_4 (dk_at dksX0_first_8 7 rfl rfl)
theorem dX0_first_195 : decode cX0_first 195 = .ok (.goto 4, 3) := dk_167 0 4 (dk_at dksX0_first_8 8 rfl rfl)
theorem dX0_first_198 : decode cX0_first 198 = .ok (.iconst 0, 1) := dk_3 (dk_at dksX0_first_8 11 rfl rfl)
theorem dX0_first_199 : decode cX0_first 199 = .ok (.istore 11, 2) := dk_54 11 (dk_at dksX0_first_8 12 rfl rfl)
theorem dX0_first_201 : decode cX0_first 201 = .ok (.iload 11, 2) := dk_21 11 (dk_at dksX0_first_8 14 rfl rfl)
theorem dX0_first_203 : decode cX0_first 203 = .ok (.ifCond .eq 8, 3) := dk_153 0 8 (dk_at dksX0_first_8 16 rfl rfl)
theorem dX0_first_206 : decode cX0_first 206 = .ok (.iload 8, 2) := dk_21 8 (dk_at dksX0_first_8 19 rfl rfl)
theorem dX0_first_208 : decode cX0_first 208 = .ok (.goto 5, 3) := dk_167 0 5 (dk_at dksX0_first_8 21 rfl rfl)
theorem dX0_first_211 : decode cX0_first 211 = .ok (.iload 4, 2) := dk_21 4 (dk_at dksX0_first_9 0 rfl rfl)
theorem dX0_first_213 : decode cX0_first 213 = .ok (.istore 4, 2) := dk_54 4 (dk_at dksX0_first_9 2 rfl rfl)
theorem dX0_first_215 : decode cX0_first 215 = .ok (.iload 11, 2) := dk_21 11 (dk_at dksX0_first_9 4 rfl rfl)
theorem dX0_first_217 : decode cX0_first 217 = .ok (.ifCond .eq 8, 3) := dk_153 0 8 (dk_at dksX0_first_9 6 rfl rfl)
theorem dX0_first_220 : decode cX0_first 220 = .ok (.iload 10, 2) := dk_21 10 (dk_at dksX0_first_9 9 rfl rfl)
theorem dX0_first_222 : decode cX0_first 222 = .ok (.goto 5, 3) := dk_167 0 5 (dk_at dksX0_first_9 11 rfl rfl)
theorem dX0_first_225 : decode cX0_first 225 = .ok (.iload 5, 2) := dk_21 5 (dk_at dksX0_first_9 14 rfl rfl)
theorem dX0_first_227 : decode cX0_first 227 = .ok (.istore 5, 2) := dk_54 5 (dk_at dksX0_first_9 16 rfl rfl)
theorem dX0_first_229 : decode cX0_first 229 = .ok (.iinc 8 1, 3) := dk_132 8 1 (dk_at dksX0_first_9 18 rfl rfl)
theorem dX0_first_232 : decode cX0_first 232 = .ok (.goto (-176), 3) := dk_167 255 80 (dk_at dksX0_first_9 21 rfl rfl)
theorem dX0_first_235 : decode cX0_first 235 = .ok (.iload 4, 2) := dk_21 4 (dk_at dksX0_first_10 0 rfl rfl)
theorem dX0_first_237 : decode cX0_first 237 = .ok (.bipush (-4), 2) := dk_16 252 (dk_at dksX0_first_10 2 rfl rfl)
theorem dX0_first_239 : decode cX0_first 239 = .ok (.if_icmp .eq 7, 3) := dk_159 0 7 (dk_at dksX0_first_10 4 rfl rfl)
theorem dX0_first_242 : decode cX0_first 242 = .ok (.iload_n 2, 1) := dk_28 (dk_at dksX0_first_10 7 rfl rfl)
theorem dX0_first_243 : decode cX0_first 243 = .ok (.ifCond .ne 8, 3) := dk_154 0 8 (dk_at dksX0_first_10 8 rfl rfl)
theorem dX0_first_246 : decode cX0_first 246 = .ok (.iload 4, 2) := dk_21 4 (dk_at dksX0_first_10 11 rfl rfl)
theorem dX0_first_248 : decode cX0_first 248 = .ok (.goto 12, 3) := dk_167 0 12 (dk_at dksX0_first_10 13 rfl rfl)
theorem dX0_first_251 : decode cX0_first 251 = .ok (.iload 5, 2) := dk_21 5 (dk_at dksX0_first_10 16 rfl rfl)
theorem dX0_first_253 : decode cX0_first 253 = .ok (.iload_n 3, 1) := dk_29 (dk_at dksX0_first_10 18 rfl rfl)
theorem dX0_first_254 : decode cX0_first 254 = .ok (.iload_n 2, 1) := dk_28 (dk_at dksX0_first_10 19 rfl rfl)
theorem dX0_first_255 : decode cX0_first 255 = .ok (.iconst 1, 1) := dk_4 (dk_at dksX0_first_10 20 rfl rfl)
theorem dX0_first_256 : decode cX0_first 256 = .ok (.isub, 1) := dk_100 (dk_at dksX0_first_10 21 rfl rfl)
theorem dX0_first_257 : decode cX0_first 257 = .ok (.invokestatic 273, 3) := dk_184 1 17 (dk_at dksX0_first_11 0 rfl rfl)
theorem dX0_first_260 : decode cX0_first 260 = .ok (.ireturn, 1) := dk_172 (dk_at dksX0_first_11 3 rfl rfl)
abbrev cX0_allKinds : ByteArray := prog_1_method_43_code
def yX0_allKinds : MethodName := ⟨RX0, "allKinds", "()I"⟩
def dkwX0_allKinds_0 : List UInt8 := [4, 42, 180, 0, 80, 120, 4, 100, 172]
abbrev dktX0_allKinds_0 : List UInt8 := dkwX0_allKinds_0 ++ []
theorem dksX0_allKinds_0 : cX0_allKinds.data.toList.drop 0 = dktX0_allKinds_0 := by decide +kernel
theorem dX0_allKinds_0 : decode cX0_allKinds 0 = .ok (.iconst 1, 1) := dk_4 (dk_at dksX0_allKinds_0 0 rfl rfl)
theorem dX0_allKinds_1 : decode cX0_allKinds 1 = .ok (.aload_n 0, 1) := dk_42 (dk_at dksX0_allKinds_0 1 rfl rfl)
theorem dX0_allKinds_2 : decode cX0_allKinds 2 = .ok (.getfield 80, 3) := dk_180 0 80 (dk_at dksX0_allKinds_0 2 rfl rfl)
theorem dX0_allKinds_5 : decode cX0_allKinds 5 = .ok (.ishl, 1) := dk_120 (dk_at dksX0_allKinds_0 5 rfl rfl)
theorem dX0_allKinds_6 : decode cX0_allKinds 6 = .ok (.iconst 1, 1) := dk_4 (dk_at dksX0_allKinds_0 6 rfl rfl)
theorem dX0_allKinds_7 : decode cX0_allKinds 7 = .ok (.isub, 1) := dk_100 (dk_at dksX0_allKinds_0 7 rfl rfl)
theorem dX0_allKinds_8 : decode cX0_allKinds 8 = .ok (.ireturn, 1) := dk_172 (dk_at dksX0_allKinds_0 8 rfl rfl)
abbrev cX0_chances : ByteArray := prog_1_method_42_code
def yX0_chances : MethodName := ⟨RX0, "chances", "(I)I"⟩
def dkwX0_chances_1 : List UInt8 := [180, 0, 94, 29, 50, 180, 0, 133, 167, 0, 4, 3, 96, 61, 132, 3, 1, 167, 255, 221, 28, 172]
abbrev dktX0_chances_1 : List UInt8 := dkwX0_chances_1 ++ []
def dkwX0_chances_0 : List UInt8 := [3, 61, 3, 62, 29, 42, 180, 0, 80, 162, 0, 33, 28, 27, 29, 184, 0, 211, 153, 0, 15, 42]
abbrev dktX0_chances_0 : List UInt8 := dkwX0_chances_0 ++ dktX0_chances_1
theorem dksX0_chances_0 : cX0_chances.data.toList.drop 0 = dktX0_chances_0 := by decide +kernel
theorem dksX0_chances_1 : cX0_chances.data.toList.drop 22 = dktX0_chances_1 := dk_seg dksX0_chances_0 22 rfl rfl
theorem dX0_chances_0 : decode cX0_chances 0 = .ok (.iconst 0, 1) := dk_3 (dk_at dksX0_chances_0 0 rfl rfl)
theorem dX0_chances_1 : decode cX0_chances 1 = .ok (.istore_n 2, 1) := dk_61 (dk_at dksX0_chances_0 1 rfl rfl)
theorem dX0_chances_2 : decode cX0_chances 2 = .ok (.iconst 0, 1) := dk_3 (dk_at dksX0_chances_0 2 rfl rfl)
theorem dX0_chances_3 : decode cX0_chances 3 = .ok (.istore_n 3, 1) := dk_62 (dk_at dksX0_chances_0 3 rfl rfl)
theorem dX0_chances_4 : decode cX0_chances 4 = .ok (.iload_n 3, 1) := dk_29 (dk_at dksX0_chances_0 4 rfl rfl)
theorem dX0_chances_5 : decode cX0_chances 5 = .ok (.aload_n 0, 1) := dk_42 (dk_at dksX0_chances_0 5 rfl rfl)
theorem dX0_chances_6 : decode cX0_chances 6 = .ok (.getfield 80, 3) := dk_180 0 80 (dk_at dksX0_chances_0 6 rfl rfl)
theorem dX0_chances_9 : decode cX0_chances 9 = .ok (.if_icmp .ge 33, 3) := dk_162 0 33 (dk_at dksX0_chances_0 9 rfl rfl)
theorem dX0_chances_12 : decode cX0_chances 12 = .ok (.iload_n 2, 1) := dk_28 (dk_at dksX0_chances_0 12 rfl rfl)
theorem dX0_chances_13 : decode cX0_chances 13 = .ok (.iload_n 1, 1) := dk_27 (dk_at dksX0_chances_0 13 rfl rfl)
theorem dX0_chances_14 : decode cX0_chances 14 = .ok (.iload_n 3, 1) := dk_29 (dk_at dksX0_chances_0 14 rfl rfl)
theorem dX0_chances_15 : decode cX0_chances 15 = .ok (.invokestatic 211, 3) := dk_184 0 211 (dk_at dksX0_chances_0 15 rfl rfl)
theorem dX0_chances_18 : decode cX0_chances 18 = .ok (.ifCond .eq 15, 3) := dk_153 0 15 (dk_at dksX0_chances_0 18 rfl rfl)
theorem dX0_chances_21 : decode cX0_chances 21 = .ok (.aload_n 0, 1) := dk_42 (dk_at dksX0_chances_0 21 rfl rfl)
theorem dX0_chances_22 : decode cX0_chances 22 = .ok (.getfield 94, 3) := dk_180 0 94 (dk_at dksX0_chances_1 0 rfl rfl)
theorem dX0_chances_25 : decode cX0_chances 25 = .ok (.iload_n 3, 1) := dk_29 (dk_at dksX0_chances_1 3 rfl rfl)
theorem dX0_chances_26 : decode cX0_chances 26 = .ok (.aaload, 1) := dk_50 (dk_at dksX0_chances_1 4 rfl rfl)
theorem dX0_chances_27 : decode cX0_chances 27 = .ok (.getfield 133, 3) := dk_180 0 133 (dk_at dksX0_chances_1 5 rfl rfl)
theorem dX0_chances_30 : decode cX0_chances 30 = .ok (.goto 4, 3) := dk_167 0 4 (dk_at dksX0_chances_1 8 rfl rfl)
theorem dX0_chances_33 : decode cX0_chances 33 = .ok (.iconst 0, 1) := dk_3 (dk_at dksX0_chances_1 11 rfl rfl)
theorem dX0_chances_34 : decode cX0_chances 34 = .ok (.iadd, 1) := dk_96 (dk_at dksX0_chances_1 12 rfl rfl)
theorem dX0_chances_35 : decode cX0_chances 35 = .ok (.istore_n 2, 1) := dk_61 (dk_at dksX0_chances_1 13 rfl rfl)
theorem dX0_chances_36 : decode cX0_chances 36 = .ok (.iinc 3 1, 3) := dk_132 3 1 (dk_at dksX0_chances_1 14 rfl rfl)
theorem dX0_chances_39 : decode cX0_chances 39 = .ok (.goto (-35), 3) := dk_167 255 221 (dk_at dksX0_chances_1 17 rfl rfl)
theorem dX0_chances_42 : decode cX0_chances 42 = .ok (.iload_n 2, 1) := dk_28 (dk_at dksX0_chances_1 20 rfl rfl)
theorem dX0_chances_43 : decode cX0_chances 43 = .ok (.ireturn, 1) := dk_172 (dk_at dksX0_chances_1 21 rfl rfl)
abbrev cX0_feared : ByteArray := prog_1_method_45_code
def yX0_feared : MethodName := ⟨RX0, "feared", "(Z)I"⟩
def dkwX0_feared_3 : List UInt8 := [61, 132, 3, 1, 167, 255, 185, 28, 172]
abbrev dktX0_feared_3 : List UInt8 := dkwX0_feared_3 ++ []
def dkwX0_feared_2 : List UInt8 := [54, 4, 28, 21, 4, 153, 0, 17, 4, 42, 180, 0, 94, 29, 50, 180, 0, 127, 120, 167, 0, 4, 3, 128]
abbrev dktX0_feared_2 : List UInt8 := dkwX0_feared_2 ++ dktX0_feared_3
def dkwX0_feared_1 : List UInt8 := [159, 0, 23, 27, 154, 0, 15, 42, 180, 0, 94, 29, 50, 180, 0, 133, 158, 0, 7, 4, 167, 0, 4, 3]
abbrev dktX0_feared_1 : List UInt8 := dkwX0_feared_1 ++ dktX0_feared_2
def dkwX0_feared_0 : List UInt8 := [3, 61, 3, 62, 29, 42, 180, 0, 80, 162, 0, 69, 42, 180, 0, 94, 29, 50, 180, 0, 127, 16, 252]
abbrev dktX0_feared_0 : List UInt8 := dkwX0_feared_0 ++ dktX0_feared_1
theorem dksX0_feared_0 : cX0_feared.data.toList.drop 0 = dktX0_feared_0 := by decide +kernel
theorem dksX0_feared_1 : cX0_feared.data.toList.drop 23 = dktX0_feared_1 := dk_seg dksX0_feared_0 23 rfl rfl
theorem dksX0_feared_2 : cX0_feared.data.toList.drop 47 = dktX0_feared_2 := dk_seg dksX0_feared_1 24 rfl rfl
theorem dksX0_feared_3 : cX0_feared.data.toList.drop 71 = dktX0_feared_3 := dk_seg dksX0_feared_2 24 rfl rfl
theorem dX0_feared_0 : decode cX0_feared 0 = .ok (.iconst 0, 1) := dk_3 (dk_at dksX0_feared_0 0 rfl rfl)
theorem dX0_feared_1 : decode cX0_feared 1 = .ok (.istore_n 2, 1) := dk_61 (dk_at dksX0_feared_0 1 rfl rfl)
theorem dX0_feared_2 : decode cX0_feared 2 = .ok (.iconst 0, 1) := dk_3 (dk_at dksX0_feared_0 2 rfl rfl)
theorem dX0_feared_3 : decode cX0_feared 3 = .ok (.istore_n 3, 1) := dk_62 (dk_at dksX0_feared_0 3 rfl rfl)
theorem dX0_feared_4 : decode cX0_feared 4 = .ok (.iload_n 3, 1) := dk_29 (dk_at dksX0_feared_0 4 rfl rfl)
theorem dX0_feared_5 : decode cX0_feared 5 = .ok (.aload_n 0, 1) := dk_42 (dk_at dksX0_feared_0 5 rfl rfl)
theorem dX0_feared_6 : decode cX0_feared 6 = .ok (.getfield 80, 3) := dk_180 0 80 (dk_at dksX0_feared_0 6 rfl rfl)
theorem dX0_feared_9 : decode cX0_feared 9 = .ok (.if_icmp .ge 69, 3) := dk_162 0 69 (dk_at dksX0_feared_0 9 rfl rfl)
theorem dX0_feared_12 : decode cX0_feared 12 = .ok (.aload_n 0, 1) := dk_42 (dk_at dksX0_feared_0 12 rfl rfl)
theorem dX0_feared_13 : decode cX0_feared 13 = .ok (.getfield 94, 3) := dk_180 0 94 (dk_at dksX0_feared_0 13 rfl rfl)
theorem dX0_feared_16 : decode cX0_feared 16 = .ok (.iload_n 3, 1) := dk_29 (dk_at dksX0_feared_0 16 rfl rfl)
theorem dX0_feared_17 : decode cX0_feared 17 = .ok (.aaload, 1) := dk_50 (dk_at dksX0_feared_0 17 rfl rfl)
theorem dX0_feared_18 : decode cX0_feared 18 = .ok (.getfield 127, 3) := dk_180 0 127 (dk_at dksX0_feared_0 18 rfl rfl)
theorem dX0_feared_21 : decode cX0_feared 21 = .ok (.bipush (-4), 2) := dk_16 252 (dk_at dksX0_feared_0 21 rfl rfl)
theorem dX0_feared_23 : decode cX0_feared 23 = .ok (.if_icmp .eq 23, 3) := dk_159 0 23 (dk_at dksX0_feared_1 0 rfl rfl)
theorem dX0_feared_26 : decode cX0_feared 26 = .ok (.iload_n 1, 1) := dk_27 (dk_at dksX0_feared_1 3 rfl rfl)
theorem dX0_feared_27 : decode cX0_feared 27 = .ok (.ifCond .ne 15, 3) := dk_154 0 15 (dk_at dksX0_feared_1 4 rfl rfl)
theorem dX0_feared_30 : decode cX0_feared 30 = .ok (.aload_n 0, 1) := dk_42 (dk_at dksX0_feared_1 7 rfl rfl)
theorem dX0_feared_31 : decode cX0_feared 31 = .ok (.getfield 94, 3) := dk_180 0 94 (dk_at dksX0_feared_1 8 rfl rfl)
theorem dX0_feared_34 : decode cX0_feared 34 = .ok (.iload_n 3, 1) := dk_29 (dk_at dksX0_feared_1 11 rfl rfl)
theorem dX0_feared_35 : decode cX0_feared 35 = .ok (.aaload, 1) := dk_50 (dk_at dksX0_feared_1 12 rfl rfl)
theorem dX0_feared_36 : decode cX0_feared 36 = .ok (.getfield 133, 3) := dk_180 0 133 (dk_at dksX0_feared_1 13 rfl rfl)
theorem dX0_feared_39 : decode cX0_feared 39 = .ok (.ifCond .le 7, 3) := dk_158 0 7 (dk_at dksX0_feared_1 16 rfl rfl)
theorem dX0_feared_42 : decode cX0_feared 42 = .ok (.iconst 1, 1) := dk_4 (dk_at dksX0_feared_1 19 rfl rfl)
theorem dX0_feared_43 : decode cX0_feared 43 = .ok (.goto 4, 3) := dk_167 0 4 (dk_at dksX0_feared_1 20 rfl rfl)
theorem dX0_feared_46 : decode cX0_feared 46 = .ok (.iconst 0, 1) := dk_3 (dk_at dksX0_feared_1 23 rfl rfl)
theorem dX0_feared_47 : decode cX0_feared 47 = .ok (.istore 4, 2) := dk_54 4 (dk_at dksX0_feared_2 0 rfl rfl)
theorem dX0_feared_49 : decode cX0_feared 49 = .ok (.iload_n 2, 1) := dk_28 (dk_at dksX0_feared_2 2 rfl rfl)
theorem dX0_feared_50 : decode cX0_feared 50 = .ok (.iload 4, 2) := dk_21 4 (dk_at dksX0_feared_2 3 rfl rfl)
theorem dX0_feared_52 : decode cX0_feared 52 = .ok (.ifCond .eq 17, 3) := dk_153 0 17 (dk_at dksX0_feared_2 5 rfl rfl)
theorem dX0_feared_55 : decode cX0_feared 55 = .ok (.iconst 1, 1) := dk_4 (dk_at dksX0_feared_2 8 rfl rfl)
theorem dX0_feared_56 : decode cX0_feared 56 = .ok (.aload_n 0, 1) := dk_42 (dk_at dksX0_feared_2 9 rfl rfl)
theorem dX0_feared_57 : decode cX0_feared 57 = .ok (.getfield 94, 3) := dk_180 0 94 (dk_at dksX0_feared_2 10 rfl rfl)
theorem dX0_feared_60 : decode cX0_feared 60 = .ok (.iload_n 3, 1) := dk_29 (dk_at dksX0_feared_2 13 rfl rfl)
theorem dX0_feared_61 : decode cX0_feared 61 = .ok (.aaload, 1) := dk_50 (dk_at dksX0_feared_2 14 rfl rfl)
theorem dX0_feared_62 : decode cX0_feared 62 = .ok (.getfield 127, 3) := dk_180 0 127 (dk_at dksX0_feared_2 15 rfl rfl)
theorem dX0_feared_65 : decode cX0_feared 65 = .ok (.ishl, 1) := dk_120 (dk_at dksX0_feared_2 18 rfl rfl)
theorem dX0_feared_66 : decode cX0_feared 66 = .ok (.goto 4, 3) := dk_167 0 4 (dk_at dksX0_feared_2 19 rfl rfl)
theorem dX0_feared_69 : decode cX0_feared 69 = .ok (.iconst 0, 1) := dk_3 (dk_at dksX0_feared_2 22 rfl rfl)
theorem dX0_feared_70 : decode cX0_feared 70 = .ok (.ior, 1) := dk_128 (dk_at dksX0_feared_2 23 rfl rfl)
theorem dX0_feared_71 : decode cX0_feared 71 = .ok (.istore_n 2, 1) := dk_61 (dk_at dksX0_feared_3 0 rfl rfl)
theorem dX0_feared_72 : decode cX0_feared 72 = .ok (.iinc 3 1, 3) := dk_132 3 1 (dk_at dksX0_feared_3 1 rfl rfl)
theorem dX0_feared_75 : decode cX0_feared 75 = .ok (.goto (-71), 3) := dk_167 255 185 (dk_at dksX0_feared_3 4 rfl rfl)
theorem dX0_feared_78 : decode cX0_feared 78 = .ok (.iload_n 2, 1) := dk_28 (dk_at dksX0_feared_3 7 rfl rfl)
theorem dX0_feared_79 : decode cX0_feared 79 = .ok (.ireturn, 1) := dk_172 (dk_at dksX0_feared_3 8 rfl rfl)
abbrev cX0_lowest : ByteArray := prog_1_method_44_code
def yX0_lowest : MethodName := ⟨RX0, "lowest", "(III)I"⟩
def dkwX0_lowest_1 : List UInt8 := [167, 255, 238, 28, 154, 0, 7, 26, 167, 0, 4, 27, 29, 108, 172]
abbrev dktX0_lowest_1 : List UInt8 := dkwX0_lowest_1 ++ []
def dkwX0_lowest_0 : List UInt8 := [26, 62, 27, 54, 4, 21, 4, 153, 0, 19, 29, 21, 4, 112, 54, 5, 21, 4, 62, 21, 5, 54, 4]
abbrev dktX0_lowest_0 : List UInt8 := dkwX0_lowest_0 ++ dktX0_lowest_1
theorem dksX0_lowest_0 : cX0_lowest.data.toList.drop 0 = dktX0_lowest_0 := by decide +kernel
theorem dksX0_lowest_1 : cX0_lowest.data.toList.drop 23 = dktX0_lowest_1 := dk_seg dksX0_lowest_0 23 rfl rfl
theorem dX0_lowest_0 : decode cX0_lowest 0 = .ok (.iload_n 0, 1) := dk_26 (dk_at dksX0_lowest_0 0 rfl rfl)
theorem dX0_lowest_1 : decode cX0_lowest 1 = .ok (.istore_n 3, 1) := dk_62 (dk_at dksX0_lowest_0 1 rfl rfl)
theorem dX0_lowest_2 : decode cX0_lowest 2 = .ok (.iload_n 1, 1) := dk_27 (dk_at dksX0_lowest_0 2 rfl rfl)
theorem dX0_lowest_3 : decode cX0_lowest 3 = .ok (.istore 4, 2) := dk_54 4 (dk_at dksX0_lowest_0 3 rfl rfl)
theorem dX0_lowest_5 : decode cX0_lowest 5 = .ok (.iload 4, 2) := dk_21 4 (dk_at dksX0_lowest_0 5 rfl rfl)
theorem dX0_lowest_7 : decode cX0_lowest 7 = .ok (.ifCond .eq 19, 3) := dk_153 0 19 (dk_at dksX0_lowest_0 7 rfl rfl)
theorem dX0_lowest_10 : decode cX0_lowest 10 = .ok (.iload_n 3, 1) := dk_29 (dk_at dksX0_lowest_0 10 rfl rfl)
theorem dX0_lowest_11 : decode cX0_lowest 11 = .ok (.iload 4, 2) := dk_21 4 (dk_at dksX0_lowest_0 11 rfl rfl)
theorem dX0_lowest_13 : decode cX0_lowest 13 = .ok (.irem, 1) := dk_112 (dk_at dksX0_lowest_0 13 rfl rfl)
theorem dX0_lowest_14 : decode cX0_lowest 14 = .ok (.istore 5, 2) := dk_54 5 (dk_at dksX0_lowest_0 14 rfl rfl)
theorem dX0_lowest_16 : decode cX0_lowest 16 = .ok (.iload 4, 2) := dk_21 4 (dk_at dksX0_lowest_0 16 rfl rfl)
theorem dX0_lowest_18 : decode cX0_lowest 18 = .ok (.istore_n 3, 1) := dk_62 (dk_at dksX0_lowest_0 18 rfl rfl)
theorem dX0_lowest_19 : decode cX0_lowest 19 = .ok (.iload 5, 2) := dk_21 5 (dk_at dksX0_lowest_0 19 rfl rfl)
theorem dX0_lowest_21 : decode cX0_lowest 21 = .ok (.istore 4, 2) := dk_54 4 (dk_at dksX0_lowest_0 21 rfl rfl)
theorem dX0_lowest_23 : decode cX0_lowest 23 = .ok (.goto (-18), 3) := dk_167 255 238 (dk_at dksX0_lowest_1 0 rfl rfl)
theorem dX0_lowest_26 : decode cX0_lowest 26 = .ok (.iload_n 2, 1) := dk_28 (dk_at dksX0_lowest_1 3 rfl rfl)
theorem dX0_lowest_27 : decode cX0_lowest 27 = .ok (.ifCond .ne 7, 3) := dk_154 0 7 (dk_at dksX0_lowest_1 4 rfl rfl)
theorem dX0_lowest_30 : decode cX0_lowest 30 = .ok (.iload_n 0, 1) := dk_26 (dk_at dksX0_lowest_1 7 rfl rfl)
theorem dX0_lowest_31 : decode cX0_lowest 31 = .ok (.goto 4, 3) := dk_167 0 4 (dk_at dksX0_lowest_1 8 rfl rfl)
theorem dX0_lowest_34 : decode cX0_lowest 34 = .ok (.iload_n 1, 1) := dk_27 (dk_at dksX0_lowest_1 11 rfl rfl)
theorem dX0_lowest_35 : decode cX0_lowest 35 = .ok (.iload_n 3, 1) := dk_29 (dk_at dksX0_lowest_1 12 rfl rfl)
theorem dX0_lowest_36 : decode cX0_lowest 36 = .ok (.idiv, 1) := dk_108 (dk_at dksX0_lowest_1 13 rfl rfl)
theorem dX0_lowest_37 : decode cX0_lowest 37 = .ok (.ireturn, 1) := dk_172 (dk_at dksX0_lowest_1 14 rfl rfl)
abbrev cX0_fears : ByteArray := prog_1_method_47_code
def yX0_fears : MethodName := ⟨RX0, "fears", "(I)I"⟩
def dkwX0_fears_1 : List UInt8 := [100, 42, 4, 182, 1, 13, 2, 130, 126, 167, 0, 4, 2, 172]
abbrev dktX0_fears_1 : List UInt8 := dkwX0_fears_1 ++ []
def dkwX0_fears_0 : List UInt8 := [27, 154, 0, 11, 42, 3, 182, 1, 13, 167, 0, 28, 27, 4, 160, 0, 22, 4, 42, 180, 0, 74, 120, 4]
abbrev dktX0_fears_0 : List UInt8 := dkwX0_fears_0 ++ dktX0_fears_1
theorem dksX0_fears_0 : cX0_fears.data.toList.drop 0 = dktX0_fears_0 := by decide +kernel
theorem dksX0_fears_1 : cX0_fears.data.toList.drop 24 = dktX0_fears_1 := dk_seg dksX0_fears_0 24 rfl rfl
theorem dX0_fears_0 : decode cX0_fears 0 = .ok (.iload_n 1, 1) := dk_27 (dk_at dksX0_fears_0 0 rfl rfl)
theorem dX0_fears_1 : decode cX0_fears 1 = .ok (.ifCond .ne 11, 3) := dk_154 0 11 (dk_at dksX0_fears_0 1 rfl rfl)
theorem dX0_fears_4 : decode cX0_fears 4 = .ok (.aload_n 0, 1) := dk_42 (dk_at dksX0_fears_0 4 rfl rfl)
theorem dX0_fears_5 : decode cX0_fears 5 = .ok (.iconst 0, 1) := dk_3 (dk_at dksX0_fears_0 5 rfl rfl)
theorem dX0_fears_6 : decode cX0_fears 6 = .ok (.invokevirtual 269, 3) := dk_182 1 13 (dk_at dksX0_fears_0 6 rfl rfl)
theorem dX0_fears_9 : decode cX0_fears 9 = .ok (.goto 28, 3) := dk_167 0 28 (dk_at dksX0_fears_0 9 rfl rfl)
theorem dX0_fears_12 : decode cX0_fears 12 = .ok (.iload_n 1, 1) := dk_27 (dk_at dksX0_fears_0 12 rfl rfl)
theorem dX0_fears_13 : decode cX0_fears 13 = .ok (.iconst 1, 1) := dk_4 (dk_at dksX0_fears_0 13 rfl rfl)
theorem dX0_fears_14 : decode cX0_fears 14 = .ok (.if_icmp .ne 22, 3) := dk_160 0 22 (dk_at dksX0_fears_0 14 rfl rfl)
theorem dX0_fears_17 : decode cX0_fears 17 = .ok (.iconst 1, 1) := dk_4 (dk_at dksX0_fears_0 17 rfl rfl)
theorem dX0_fears_18 : decode cX0_fears 18 = .ok (.aload_n 0, 1) := dk_42 (dk_at dksX0_fears_0 18 rfl rfl)
theorem dX0_fears_19 : decode cX0_fears 19 = .ok (.getfield 74, 3) := dk_180 0 74 (dk_at dksX0_fears_0 19 rfl rfl)
theorem dX0_fears_22 : decode cX0_fears 22 = .ok (.ishl, 1) := dk_120 (dk_at dksX0_fears_0 22 rfl rfl)
theorem dX0_fears_23 : decode cX0_fears 23 = .ok (.iconst 1, 1) := dk_4 (dk_at dksX0_fears_0 23 rfl rfl)
theorem dX0_fears_24 : decode cX0_fears 24 = .ok (.isub, 1) := dk_100 (dk_at dksX0_fears_1 0 rfl rfl)
theorem dX0_fears_25 : decode cX0_fears 25 = .ok (.aload_n 0, 1) := dk_42 (dk_at dksX0_fears_1 1 rfl rfl)
theorem dX0_fears_26 : decode cX0_fears 26 = .ok (.iconst 1, 1) := dk_4 (dk_at dksX0_fears_1 2 rfl rfl)
theorem dX0_fears_27 : decode cX0_fears 27 = .ok (.invokevirtual 269, 3) := dk_182 1 13 (dk_at dksX0_fears_1 3 rfl rfl)
theorem dX0_fears_30 : decode cX0_fears 30 = .ok (.iconst (-1), 1) := dk_2 (dk_at dksX0_fears_1 6 rfl rfl)
theorem dX0_fears_31 : decode cX0_fears 31 = .ok (.ixor, 1) := dk_130 (dk_at dksX0_fears_1 7 rfl rfl)
theorem dX0_fears_32 : decode cX0_fears 32 = .ok (.iand, 1) := dk_126 (dk_at dksX0_fears_1 8 rfl rfl)
theorem dX0_fears_33 : decode cX0_fears 33 = .ok (.goto 4, 3) := dk_167 0 4 (dk_at dksX0_fears_1 9 rfl rfl)
theorem dX0_fears_36 : decode cX0_fears 36 = .ok (.iconst (-1), 1) := dk_2 (dk_at dksX0_fears_1 12 rfl rfl)
theorem dX0_fears_37 : decode cX0_fears 37 = .ok (.ireturn, 1) := dk_172 (dk_at dksX0_fears_1 13 rfl rfl)
abbrev cX0_answer : ByteArray := prog_1_method_49_code
def yX0_answer : MethodName := ⟨RX0, "answer", "(III)I"⟩
def dkwX0_answer_1 : List UInt8 := [42, 27, 28, 29, 182, 1, 21, 167, 0, 4, 2, 172]
abbrev dktX0_answer_1 : List UInt8 := dkwX0_answer_1 ++ []
def dkwX0_answer_0 : List UInt8 := [42, 27, 182, 0, 118, 153, 0, 29, 42, 28, 182, 0, 112, 153, 0, 21, 42, 29, 182, 0, 83, 153, 0, 13]
abbrev dktX0_answer_0 : List UInt8 := dkwX0_answer_0 ++ dktX0_answer_1
theorem dksX0_answer_0 : cX0_answer.data.toList.drop 0 = dktX0_answer_0 := by decide +kernel
theorem dksX0_answer_1 : cX0_answer.data.toList.drop 24 = dktX0_answer_1 := dk_seg dksX0_answer_0 24 rfl rfl
theorem dX0_answer_0 : decode cX0_answer 0 = .ok (.aload_n 0, 1) := dk_42 (dk_at dksX0_answer_0 0 rfl rfl)
theorem dX0_answer_1 : decode cX0_answer 1 = .ok (.iload_n 1, 1) := dk_27 (dk_at dksX0_answer_0 1 rfl rfl)
theorem dX0_answer_2 : decode cX0_answer 2 = .ok (.invokevirtual 118, 3) := dk_182 0 118 (dk_at dksX0_answer_0 2 rfl rfl)
theorem dX0_answer_5 : decode cX0_answer 5 = .ok (.ifCond .eq 29, 3) := dk_153 0 29 (dk_at dksX0_answer_0 5 rfl rfl)
theorem dX0_answer_8 : decode cX0_answer 8 = .ok (.aload_n 0, 1) := dk_42 (dk_at dksX0_answer_0 8 rfl rfl)
theorem dX0_answer_9 : decode cX0_answer 9 = .ok (.iload_n 2, 1) := dk_28 (dk_at dksX0_answer_0 9 rfl rfl)
theorem dX0_answer_10 : decode cX0_answer 10 = .ok (.invokevirtual 112, 3) := dk_182 0 112 (dk_at dksX0_answer_0 10 rfl rfl)
theorem dX0_answer_13 : decode cX0_answer 13 = .ok (.ifCond .eq 21, 3) := dk_153 0 21 (dk_at dksX0_answer_0 13 rfl rfl)
theorem dX0_answer_16 : decode cX0_answer 16 = .ok (.aload_n 0, 1) := dk_42 (dk_at dksX0_answer_0 16 rfl rfl)
theorem dX0_answer_17 : decode cX0_answer 17 = .ok (.iload_n 3, 1) := dk_29 (dk_at dksX0_answer_0 17 rfl rfl)
theorem dX0_answer_18 : decode cX0_answer 18 = .ok (.invokevirtual 83, 3) := dk_182 0 83 (dk_at dksX0_answer_0 18 rfl rfl)
theorem dX0_answer_21 : decode cX0_answer 21 = .ok (.ifCond .eq 13, 3) := dk_153 0 13 (dk_at dksX0_answer_0 21 rfl rfl)
theorem dX0_answer_24 : decode cX0_answer 24 = .ok (.aload_n 0, 1) := dk_42 (dk_at dksX0_answer_1 0 rfl rfl)
theorem dX0_answer_25 : decode cX0_answer 25 = .ok (.iload_n 1, 1) := dk_27 (dk_at dksX0_answer_1 1 rfl rfl)
theorem dX0_answer_26 : decode cX0_answer 26 = .ok (.iload_n 2, 1) := dk_28 (dk_at dksX0_answer_1 2 rfl rfl)
theorem dX0_answer_27 : decode cX0_answer 27 = .ok (.iload_n 3, 1) := dk_29 (dk_at dksX0_answer_1 3 rfl rfl)
theorem dX0_answer_28 : decode cX0_answer 28 = .ok (.invokevirtual 277, 3) := dk_182 1 21 (dk_at dksX0_answer_1 4 rfl rfl)
theorem dX0_answer_31 : decode cX0_answer 31 = .ok (.goto 4, 3) := dk_167 0 4 (dk_at dksX0_answer_1 7 rfl rfl)
theorem dX0_answer_34 : decode cX0_answer 34 = .ok (.iconst (-1), 1) := dk_2 (dk_at dksX0_answer_1 10 rfl rfl)
theorem dX0_answer_35 : decode cX0_answer 35 = .ok (.ireturn, 1) := dk_172 (dk_at dksX0_answer_1 11 rfl rfl)
abbrev cX0_answers : ByteArray := prog_1_method_48_code
def yX0_answers : MethodName := ⟨RX0, "answers", "(III)I"⟩
def dkwX0_answers_1 : List UInt8 := [167, 0, 22, 42, 180, 0, 7, 21, 4, 50, 29, 182, 0, 161, 153, 0, 7, 4, 167, 0, 4, 3, 172]
abbrev dktX0_answers_1 : List UInt8 := dkwX0_answers_1 ++ []
def dkwX0_answers_0 : List UInt8 := [42, 180, 0, 136, 27, 50, 180, 0, 195, 28, 46, 54, 4, 21, 4, 16, 252, 160, 0, 8, 16, 252]
abbrev dktX0_answers_0 : List UInt8 := dkwX0_answers_0 ++ dktX0_answers_1
theorem dksX0_answers_0 : cX0_answers.data.toList.drop 0 = dktX0_answers_0 := by decide +kernel
theorem dksX0_answers_1 : cX0_answers.data.toList.drop 22 = dktX0_answers_1 := dk_seg dksX0_answers_0 22 rfl rfl
theorem dX0_answers_0 : decode cX0_answers 0 = .ok (.aload_n 0, 1) := dk_42 (dk_at dksX0_answers_0 0 rfl rfl)
theorem dX0_answers_1 : decode cX0_answers 1 = .ok (.getfield 136, 3) := dk_180 0 136 (dk_at dksX0_answers_0 1 rfl rfl)
theorem dX0_answers_4 : decode cX0_answers 4 = .ok (.iload_n 1, 1) := dk_27 (dk_at dksX0_answers_0 4 rfl rfl)
theorem dX0_answers_5 : decode cX0_answers 5 = .ok (.aaload, 1) := dk_50 (dk_at dksX0_answers_0 5 rfl rfl)
theorem dX0_answers_6 : decode cX0_answers 6 = .ok (.getfield 195, 3) := dk_180 0 195 (dk_at dksX0_answers_0 6 rfl rfl)
theorem dX0_answers_9 : decode cX0_answers 9 = .ok (.iload_n 2, 1) := dk_28 (dk_at dksX0_answers_0 9 rfl rfl)
theorem dX0_answers_10 : decode cX0_answers 10 = .ok (.iaload, 1) := dk_46 (dk_at dksX0_answers_0 10 rfl rfl)
theorem dX0_answers_11 : decode cX0_answers 11 = .ok (.istore 4, 2) := dk_54 4 (dk_at dksX0_answers_0 11 rfl rfl)
theorem dX0_answers_13 : decode cX0_answers 13 = .ok (.iload 4, 2) := dk_21 4 (dk_at dksX0_answers_0 13 rfl rfl)
theorem dX0_answers_15 : decode cX0_answers 15 = .ok (.bipush (-4), 2) := dk_16 252 (dk_at dksX0_answers_0 15 rfl rfl)
theorem dX0_answers_17 : decode cX0_answers 17 = .ok (.if_icmp .ne 8, 3) := dk_160 0 8 (dk_at dksX0_answers_0 17 rfl rfl)
theorem dX0_answers_20 : decode cX0_answers 20 = .ok (.bipush (-4), 2) := dk_16 252 (dk_at dksX0_answers_0 20 rfl rfl)
theorem dX0_answers_22 : decode cX0_answers 22 = .ok (.goto 22, 3) := dk_167 0 22 (dk_at dksX0_answers_1 0 rfl rfl)
theorem dX0_answers_25 : decode cX0_answers 25 = .ok (.aload_n 0, 1) := dk_42 (dk_at dksX0_answers_1 3 rfl rfl)
theorem dX0_answers_26 : decode cX0_answers 26 = .ok (.getfield 7, 3) := dk_180 0 7 (dk_at dksX0_answers_1 4 rfl rfl)
theorem dX0_answers_29 : decode cX0_answers 29 = .ok (.iload 4, 2) := dk_21 4 (dk_at dksX0_answers_1 7 rfl rfl)
theorem dX0_answers_31 : decode cX0_answers 31 = .ok (.aaload, 1) := dk_50 (dk_at dksX0_answers_1 9 rfl rfl)
theorem dX0_answers_32 : decode cX0_answers 32 = .ok (.iload_n 3, 1) := dk_29 (dk_at dksX0_answers_1 10 rfl rfl)
theorem dX0_answers_33 : decode cX0_answers 33 = .ok (.invokevirtual 161, 3) := dk_182 0 161 (dk_at dksX0_answers_1 11 rfl rfl)
theorem dX0_answers_36 : decode cX0_answers 36 = .ok (.ifCond .eq 7, 3) := dk_153 0 7 (dk_at dksX0_answers_1 14 rfl rfl)
theorem dX0_answers_39 : decode cX0_answers 39 = .ok (.iconst 1, 1) := dk_4 (dk_at dksX0_answers_1 17 rfl rfl)
theorem dX0_answers_40 : decode cX0_answers 40 = .ok (.goto 4, 3) := dk_167 0 4 (dk_at dksX0_answers_1 18 rfl rfl)
theorem dX0_answers_43 : decode cX0_answers 43 = .ok (.iconst 0, 1) := dk_3 (dk_at dksX0_answers_1 21 rfl rfl)
theorem dX0_answers_44 : decode cX0_answers 44 = .ok (.ireturn, 1) := dk_172 (dk_at dksX0_answers_1 22 rfl rfl)
abbrev cX0_heard : ByteArray := prog_1_method_50_code
def yX0_heard : MethodName := ⟨RX0, "heard", "(III)I"⟩
def dkwX0_heard_3 : List UInt8 := [21, 4, 120, 2, 130, 126, 181, 0, 157, 132, 4, 1, 167, 255, 210, 42, 180, 0, 157, 172]
abbrev dktX0_heard_3 : List UInt8 := dkwX0_heard_3 ++ []
def dkwX0_heard_2 : List UInt8 := [89, 180, 0, 157, 42, 21, 4, 27, 28, 182, 1, 21, 29, 160, 0, 10, 42, 180, 0, 157, 167, 0, 9, 4]
abbrev dktX0_heard_2 : List UInt8 := dkwX0_heard_2 ++ dktX0_heard_3
def dkwX0_heard_1 : List UInt8 := [154, 0, 11, 29, 16, 252, 159, 0, 5, 2, 172, 3, 54, 4, 21, 4, 42, 180, 0, 80, 162, 0, 43, 42]
abbrev dktX0_heard_1 : List UInt8 := dkwX0_heard_1 ++ dktX0_heard_2
def dkwX0_heard_0 : List UInt8 := [42, 27, 182, 0, 112, 153, 0, 27, 42, 28, 182, 0, 83, 153, 0, 19, 29, 133, 9, 10, 184, 0, 24]
abbrev dktX0_heard_0 : List UInt8 := dkwX0_heard_0 ++ dktX0_heard_1
theorem dksX0_heard_0 : cX0_heard.data.toList.drop 0 = dktX0_heard_0 := by decide +kernel
theorem dksX0_heard_1 : cX0_heard.data.toList.drop 23 = dktX0_heard_1 := dk_seg dksX0_heard_0 23 rfl rfl
theorem dksX0_heard_2 : cX0_heard.data.toList.drop 47 = dktX0_heard_2 := dk_seg dksX0_heard_1 24 rfl rfl
theorem dksX0_heard_3 : cX0_heard.data.toList.drop 71 = dktX0_heard_3 := dk_seg dksX0_heard_2 24 rfl rfl
theorem dX0_heard_0 : decode cX0_heard 0 = .ok (.aload_n 0, 1) := dk_42 (dk_at dksX0_heard_0 0 rfl rfl)
theorem dX0_heard_1 : decode cX0_heard 1 = .ok (.iload_n 1, 1) := dk_27 (dk_at dksX0_heard_0 1 rfl rfl)
theorem dX0_heard_2 : decode cX0_heard 2 = .ok (.invokevirtual 112, 3) := dk_182 0 112 (dk_at dksX0_heard_0 2 rfl rfl)
theorem dX0_heard_5 : decode cX0_heard 5 = .ok (.ifCond .eq 27, 3) := dk_153 0 27 (dk_at dksX0_heard_0 5 rfl rfl)
theorem dX0_heard_8 : decode cX0_heard 8 = .ok (.aload_n 0, 1) := dk_42 (dk_at dksX0_heard_0 8 rfl rfl)
theorem dX0_heard_9 : decode cX0_heard 9 = .ok (.iload_n 2, 1) := dk_28 (dk_at dksX0_heard_0 9 rfl rfl)
theorem dX0_heard_10 : decode cX0_heard 10 = .ok (.invokevirtual 83, 3) := dk_182 0 83 (dk_at dksX0_heard_0 10 rfl rfl)
theorem dX0_heard_13 : decode cX0_heard 13 = .ok (.ifCond .eq 19, 3) := dk_153 0 19 (dk_at dksX0_heard_0 13 rfl rfl)
theorem dX0_heard_16 : decode cX0_heard 16 = .ok (.iload_n 3, 1) := dk_29 (dk_at dksX0_heard_0 16 rfl rfl)
theorem dX0_heard_17 : decode cX0_heard 17 = .ok (.i2l, 1) := dk_133 (dk_at dksX0_heard_0 17 rfl rfl)
theorem dX0_heard_18 : decode cX0_heard 18 = .ok (.lconst 0, 1) := dk_9 (dk_at dksX0_heard_0 18 rfl rfl)
theorem dX0_heard_19 : decode cX0_heard 19 = .ok (.lconst 1, 1) := dk_10 (dk_at dksX0_heard_0 19 rfl rfl)
theorem dX0_heard_20 : decode cX0_heard 20 = .ok (.invokestatic 24, 3) := dk_184 0 24 (dk_at dksX0_heard_0 20 rfl rfl)
theorem dX0_heard_23 : decode cX0_heard 23 = .ok (.ifCond .ne 11, 3) := dk_154 0 11 (dk_at dksX0_heard_1 0 rfl rfl)
theorem dX0_heard_26 : decode cX0_heard 26 = .ok (.iload_n 3, 1) := dk_29 (dk_at dksX0_heard_1 3 rfl rfl)
theorem dX0_heard_27 : decode cX0_heard 27 = .ok (.bipush (-4), 2) := dk_16 252 (dk_at dksX0_heard_1 4 rfl rfl)
theorem dX0_heard_29 : decode cX0_heard 29 = .ok (.if_icmp .eq 5, 3) := dk_159 0 5 (dk_at dksX0_heard_1 6 rfl rfl)
theorem dX0_heard_32 : decode cX0_heard 32 = .ok (.iconst (-1), 1) := dk_2 (dk_at dksX0_heard_1 9 rfl rfl)
theorem dX0_heard_33 : decode cX0_heard 33 = .ok (.ireturn, 1) := dk_172 (dk_at dksX0_heard_1 10 rfl rfl)
theorem dX0_heard_34 : decode cX0_heard 34 = .ok (.iconst 0, 1) := dk_3 (dk_at dksX0_heard_1 11 rfl rfl)
theorem dX0_heard_35 : decode cX0_heard 35 = .ok (.istore 4, 2) := dk_54 4 (dk_at dksX0_heard_1 12 rfl rfl)
theorem dX0_heard_37 : decode cX0_heard 37 = .ok (.iload 4, 2) := dk_21 4 (dk_at dksX0_heard_1 14 rfl rfl)
theorem dX0_heard_39 : decode cX0_heard 39 = .ok (.aload_n 0, 1) := dk_42 (dk_at dksX0_heard_1 16 rfl rfl)
theorem dX0_heard_40 : decode cX0_heard 40 = .ok (.getfield 80, 3) := dk_180 0 80 (dk_at dksX0_heard_1 17 rfl rfl)
theorem dX0_heard_43 : decode cX0_heard 43 = .ok (.if_icmp .ge 43, 3) := dk_162 0 43 (dk_at dksX0_heard_1 20 rfl rfl)
theorem dX0_heard_46 : decode cX0_heard 46 = .ok (.aload_n 0, 1) := dk_42 (dk_at dksX0_heard_1 23 rfl rfl)
theorem dX0_heard_47 : decode cX0_heard 47 = .ok (.dup, 1) := dk_89 (dk_at dksX0_heard_2 0 rfl rfl)
theorem dX0_heard_48 : decode cX0_heard 48 = .ok (.getfield 157, 3) := dk_180 0 157 (dk_at dksX0_heard_2 1 rfl rfl)
theorem dX0_heard_51 : decode cX0_heard 51 = .ok (.aload_n 0, 1) := dk_42 (dk_at dksX0_heard_2 4 rfl rfl)
theorem dX0_heard_52 : decode cX0_heard 52 = .ok (.iload 4, 2) := dk_21 4 (dk_at dksX0_heard_2 5 rfl rfl)
theorem dX0_heard_54 : decode cX0_heard 54 = .ok (.iload_n 1, 1) := dk_27 (dk_at dksX0_heard_2 7 rfl rfl)
theorem dX0_heard_55 : decode cX0_heard 55 = .ok (.iload_n 2, 1) := dk_28 (dk_at dksX0_heard_2 8 rfl rfl)
theorem dX0_heard_56 : decode cX0_heard 56 = .ok (.invokevirtual 277, 3) := dk_182 1 21 (dk_at dksX0_heard_2 9 rfl rfl)
theorem dX0_heard_59 : decode cX0_heard 59 = .ok (.iload_n 3, 1) := dk_29 (dk_at dksX0_heard_2 12 rfl rfl)
theorem dX0_heard_60 : decode cX0_heard 60 = .ok (.if_icmp .ne 10, 3) := dk_160 0 10 (dk_at dksX0_heard_2 13 rfl rfl)
theorem dX0_heard_63 : decode cX0_heard 63 = .ok (.aload_n 0, 1) := dk_42 (dk_at dksX0_heard_2 16 rfl rfl)
theorem dX0_heard_64 : decode cX0_heard 64 = .ok (.getfield 157, 3) := dk_180 0 157 (dk_at dksX0_heard_2 17 rfl rfl)
theorem dX0_heard_67 : decode cX0_heard 67 = .ok (.goto 9, 3) := dk_167 0 9 (dk_at dksX0_heard_2 20 rfl rfl)
theorem dX0_heard_70 : decode cX0_heard 70 = .ok (.iconst 1, 1) := dk_4 (dk_at dksX0_heard_2 23 rfl rfl)
theorem dX0_heard_71 : decode cX0_heard 71 = .ok (.iload 4, 2) := dk_21 4 (dk_at dksX0_heard_3 0 rfl rfl)
theorem dX0_heard_73 : decode cX0_heard 73 = .ok (.ishl, 1) := dk_120 (dk_at dksX0_heard_3 2 rfl rfl)
theorem dX0_heard_74 : decode cX0_heard 74 = .ok (.iconst (-1), 1) := dk_2 (dk_at dksX0_heard_3 3 rfl rfl)
theorem dX0_heard_75 : decode cX0_heard 75 = .ok (.ixor, 1) := dk_130 (dk_at dksX0_heard_3 4 rfl rfl)
theorem dX0_heard_76 : decode cX0_heard 76 = .ok (.iand, 1) := dk_126 (dk_at dksX0_heard_3 5 rfl rfl)
theorem dX0_heard_77 : decode cX0_heard 77 = .ok (.putfield 157, 3) := dk_181 0 157 (dk_at dksX0_heard_3 6 rfl rfl)
theorem dX0_heard_80 : decode cX0_heard 80 = .ok (.iinc 4 1, 3) := dk_132 4 1 (dk_at dksX0_heard_3 9 rfl rfl)
theorem dX0_heard_83 : decode cX0_heard 83 = .ok (.goto (-46), 3) := dk_167 255 210 (dk_at dksX0_heard_3 12 rfl rfl)
theorem dX0_heard_86 : decode cX0_heard 86 = .ok (.aload_n 0, 1) := dk_42 (dk_at dksX0_heard_3 15 rfl rfl)
theorem dX0_heard_87 : decode cX0_heard 87 = .ok (.getfield 157, 3) := dk_180 0 157 (dk_at dksX0_heard_3 16 rfl rfl)
theorem dX0_heard_90 : decode cX0_heard 90 = .ok (.ireturn, 1) := dk_172 (dk_at dksX0_heard_3 19 rfl rfl)
abbrev cX0_left : ByteArray := prog_1_method_51_code
def yX0_left : MethodName := ⟨RX0, "left", "(I)I"⟩
def dkwX0_left_1 : List UInt8 := [167, 0, 20, 27, 5, 160, 0, 14, 42, 42, 182, 1, 7, 182, 1, 10, 167, 0, 4, 2, 172]
abbrev dktX0_left_1 : List UInt8 := dkwX0_left_1 ++ []
def dkwX0_left_0 : List UInt8 := [27, 154, 0, 10, 42, 180, 0, 157, 167, 0, 36, 27, 4, 160, 0, 14, 42, 42, 180, 0, 157, 182, 1, 10]
abbrev dktX0_left_0 : List UInt8 := dkwX0_left_0 ++ dktX0_left_1
theorem dksX0_left_0 : cX0_left.data.toList.drop 0 = dktX0_left_0 := by decide +kernel
theorem dksX0_left_1 : cX0_left.data.toList.drop 24 = dktX0_left_1 := dk_seg dksX0_left_0 24 rfl rfl
theorem dX0_left_0 : decode cX0_left 0 = .ok (.iload_n 1, 1) := dk_27 (dk_at dksX0_left_0 0 rfl rfl)
theorem dX0_left_1 : decode cX0_left 1 = .ok (.ifCond .ne 10, 3) := dk_154 0 10 (dk_at dksX0_left_0 1 rfl rfl)
theorem dX0_left_4 : decode cX0_left 4 = .ok (.aload_n 0, 1) := dk_42 (dk_at dksX0_left_0 4 rfl rfl)
theorem dX0_left_5 : decode cX0_left 5 = .ok (.getfield 157, 3) := dk_180 0 157 (dk_at dksX0_left_0 5 rfl rfl)
theorem dX0_left_8 : decode cX0_left 8 = .ok (.goto 36, 3) := dk_167 0 36 (dk_at dksX0_left_0 8 rfl rfl)
theorem dX0_left_11 : decode cX0_left 11 = .ok (.iload_n 1, 1) := dk_27 (dk_at dksX0_left_0 11 rfl rfl)
theorem dX0_left_12 : decode cX0_left 12 = .ok (.iconst 1, 1) := dk_4 (dk_at dksX0_left_0 12 rfl rfl)
theorem dX0_left_13 : decode cX0_left 13 = .ok (.if_icmp .ne 14, 3) := dk_160 0 14 (dk_at dksX0_left_0 13 rfl rfl)
theorem dX0_left_16 : decode cX0_left 16 = .ok (.aload_n 0, 1) := dk_42 (dk_at dksX0_left_0 16 rfl rfl)
theorem dX0_left_17 : decode cX0_left 17 = .ok (.aload_n 0, 1) := dk_42 (dk_at dksX0_left_0 17 rfl rfl)
theorem dX0_left_18 : decode cX0_left 18 = .ok (.getfield 157, 3) := dk_180 0 157 (dk_at dksX0_left_0 18 rfl rfl)
theorem dX0_left_21 : decode cX0_left 21 = .ok (.invokevirtual 266, 3) := dk_182 1 10 (dk_at dksX0_left_0 21 rfl rfl)
theorem dX0_left_24 : decode cX0_left 24 = .ok (.goto 20, 3) := dk_167 0 20 (dk_at dksX0_left_1 0 rfl rfl)
theorem dX0_left_27 : decode cX0_left 27 = .ok (.iload_n 1, 1) := dk_27 (dk_at dksX0_left_1 3 rfl rfl)
theorem dX0_left_28 : decode cX0_left 28 = .ok (.iconst 2, 1) := dk_5 (dk_at dksX0_left_1 4 rfl rfl)
theorem dX0_left_29 : decode cX0_left 29 = .ok (.if_icmp .ne 14, 3) := dk_160 0 14 (dk_at dksX0_left_1 5 rfl rfl)
theorem dX0_left_32 : decode cX0_left 32 = .ok (.aload_n 0, 1) := dk_42 (dk_at dksX0_left_1 8 rfl rfl)
theorem dX0_left_33 : decode cX0_left 33 = .ok (.aload_n 0, 1) := dk_42 (dk_at dksX0_left_1 9 rfl rfl)
theorem dX0_left_34 : decode cX0_left 34 = .ok (.invokevirtual 263, 3) := dk_182 1 7 (dk_at dksX0_left_1 10 rfl rfl)
theorem dX0_left_37 : decode cX0_left 37 = .ok (.invokevirtual 266, 3) := dk_182 1 10 (dk_at dksX0_left_1 13 rfl rfl)
theorem dX0_left_40 : decode cX0_left 40 = .ok (.goto 4, 3) := dk_167 0 4 (dk_at dksX0_left_1 16 rfl rfl)
theorem dX0_left_43 : decode cX0_left 43 = .ok (.iconst (-1), 1) := dk_2 (dk_at dksX0_left_1 19 rfl rfl)
theorem dX0_left_44 : decode cX0_left 44 = .ok (.ireturn, 1) := dk_172 (dk_at dksX0_left_1 20 rfl rfl)
abbrev cX0_ask : ByteArray := prog_1_method_53_code
def yX0_ask : MethodName := ⟨RX0, "ask", "(I)I"⟩
def dkwX0_ask_6 : List UInt8 := [27, 4, 160, 0, 7, 29, 167, 0, 5, 21, 4, 172]
abbrev dktX0_ask_6 : List UInt8 := dkwX0_ask_6 ++ []
def dkwX0_ask_5 : List UInt8 := [21, 4, 54, 4, 132, 6, 1, 167, 255, 175, 132, 5, 1, 167, 255, 150, 27, 154, 0, 7, 28, 167, 0, 14]
abbrev dktX0_ask_5 : List UInt8 := dkwX0_ask_5 ++ dktX0_ask_6
def dkwX0_ask_4 : List UInt8 := [28, 61, 21, 8, 153, 0, 8, 21, 6, 167, 0, 4, 29, 62, 21, 8, 153, 0, 8, 21, 7, 167, 0, 5]
abbrev dktX0_ask_4 : List UInt8 := dkwX0_ask_4 ++ dktX0_ask_5
def dkwX0_ask_3 : List UInt8 := [21, 7, 21, 4, 162, 0, 7, 4, 167, 0, 4, 3, 54, 8, 21, 8, 153, 0, 8, 21, 5, 167, 0, 4]
abbrev dktX0_ask_3 : List UInt8 := dkwX0_ask_3 ++ dktX0_ask_4
def dkwX0_ask_2 : List UInt8 := [42, 180, 0, 74, 162, 0, 78, 42, 21, 5, 21, 6, 182, 1, 32, 54, 7, 21, 4, 16, 252, 159, 0, 10]
abbrev dktX0_ask_2 : List UInt8 := dkwX0_ask_2 ++ dktX0_ask_3
def dkwX0_ask_1 : List UInt8 := [3, 54, 5, 21, 5, 42, 180, 0, 77, 162, 0, 103, 42, 180, 0, 157, 153, 0, 96, 3, 54, 6, 21, 6]
abbrev dktX0_ask_1 : List UInt8 := dkwX0_ask_1 ++ dktX0_ask_2
def dkwX0_ask_0 : List UInt8 := [27, 133, 9, 20, 0, 193, 184, 0, 24, 154, 0, 5, 2, 172, 16, 252, 61, 16, 252, 62, 16, 252, 54, 4]
abbrev dktX0_ask_0 : List UInt8 := dkwX0_ask_0 ++ dktX0_ask_1
theorem dksX0_ask_0 : cX0_ask.data.toList.drop 0 = dktX0_ask_0 := by decide +kernel
theorem dksX0_ask_1 : cX0_ask.data.toList.drop 24 = dktX0_ask_1 := dk_seg dksX0_ask_0 24 rfl rfl
theorem dksX0_ask_2 : cX0_ask.data.toList.drop 48 = dktX0_ask_2 := dk_seg dksX0_ask_1 24 rfl rfl
theorem dksX0_ask_3 : cX0_ask.data.toList.drop 72 = dktX0_ask_3 := dk_seg dksX0_ask_2 24 rfl rfl
theorem dksX0_ask_4 : cX0_ask.data.toList.drop 96 = dktX0_ask_4 := dk_seg dksX0_ask_3 24 rfl rfl
theorem dksX0_ask_5 : cX0_ask.data.toList.drop 120 = dktX0_ask_5 := dk_seg dksX0_ask_4 24 rfl rfl
theorem dksX0_ask_6 : cX0_ask.data.toList.drop 144 = dktX0_ask_6 := dk_seg dksX0_ask_5 24 rfl rfl
theorem dX0_ask_0 : decode cX0_ask 0 = .ok (.iload_n 1, 1) := dk_27 (dk_at dksX0_ask_0 0 rfl rfl)
theorem dX0_ask_1 : decode cX0_ask 1 = .ok (.i2l, 1) := dk_133 (dk_at dksX0_ask_0 1 rfl rfl)
theorem dX0_ask_2 : decode cX0_ask 2 = .ok (.lconst 0, 1) := dk_9 (dk_at dksX0_ask_0 2 rfl rfl)
theorem dX0_ask_3 : decode cX0_ask 3 = .ok (.ldc2_w 193, 3) := dk_20 0 193 (dk_at dksX0_ask_0 3 rfl rfl)
theorem dX0_ask_6 : decode cX0_ask 6 = .ok (.invokestatic 24, 3) := dk_184 0 24 (dk_at dksX0_ask_0 6 rfl rfl)
theorem dX0_ask_9 : decode cX0_ask 9 = .ok (.ifCond .ne 5, 3) := dk_154 0 5 (dk_at dksX0_ask_0 9 rfl rfl)
theorem dX0_ask_12 : decode cX0_ask 12 = .ok (.iconst (-1), 1) := dk_2 (dk_at dksX0_ask_0 12 rfl rfl)
theorem dX0_ask_13 : decode cX0_ask 13 = .ok (.ireturn, 1) := dk_172 (dk_at dksX0_ask_0 13 rfl rfl)
theorem dX0_ask_14 : decode cX0_ask 14 = .ok (.bipush (-4), 2) := dk_16 252 (dk_at dksX0_ask_0 14 rfl rfl)
theorem dX0_ask_16 : decode cX0_ask 16 = .ok (.istore_n 2, 1) := dk_61 (dk_at dksX0_ask_0 16 rfl rfl)
theorem dX0_ask_17 : decode cX0_ask 17 = .ok (.bipush (-4), 2) := dk_16 252 (dk_at dksX0_ask_0 17 rfl rfl)
theorem dX0_ask_19 : decode cX0_ask 19 = .ok (.istore_n 3, 1) := dk_62 (dk_at dksX0_ask_0 19 rfl rfl)
theorem dX0_ask_20 : decode cX0_ask 20 = .ok (.bipush (-4), 2) := dk_16 252 (dk_at dksX0_ask_0 20 rfl rfl)
theorem dX0_ask_22 : decode cX0_ask 22 = .ok (.istore 4, 2) := dk_54 4 (dk_at dksX0_ask_0 22 rfl rfl)
theorem dX0_ask_24 : decode cX0_ask 24 = .ok (.iconst 0, 1) := dk_3 (dk_at dksX0_ask_1 0 rfl rfl)
theorem dX0_ask_25 : decode cX0_ask 25 = .ok (.istore 5, 2) := dk_54 5 (dk_at dksX0_ask_1 1 rfl rfl)
theorem dX0_ask_27 : decode cX0_ask 27 = .ok (.iload 5, 2) := dk_21 5 (dk_at dksX0_ask_1 3 rfl rfl)
theorem dX0_ask_29 : decode cX0_ask 29 = .ok (.aload_n 0, 1) := dk_42 (dk_at dksX0_ask_1 5 rfl rfl)
theorem dX0_ask_30 : decode cX0_ask 30 = .ok (.getfield 77, 3) := dk_180 0 77 (dk_at dksX0_ask_1 6 rfl rfl)
theorem dX0_ask_33 : decode cX0_ask 33 = .ok (.if_icmp .ge 103, 3) := dk_162 0 103 (dk_at dksX0_ask_1 9 rfl rfl)
theorem dX0_ask_36 : decode cX0_ask 36 = .ok (.aload_n 0, 1) := dk_42 (dk_at dksX0_ask_1 12 rfl rfl)
theorem dX0_ask_37 : decode cX0_ask 37 = .ok (.getfield 157, 3) := dk_180 0 157 (dk_at dksX0_ask_1 13 rfl rfl)
theorem dX0_ask_40 : decode cX0_ask 40 = .ok (.ifCond .eq 96, 3) := dk_153 0 96 (dk_at dksX0_ask_1 16 rfl rfl)
theorem dX0_ask_43 : decode cX0_ask 43 = .ok (.iconst 0, 1) := dk_3 (dk_at dksX0_ask_1 19 rfl rfl)
theorem dX0_ask_44 : decode cX0_ask 44 = .ok (.istore 6, 2) := dk_54 6 (dk_at dksX0_ask_1 20 rfl rfl)
theorem dX0_ask_46 : decode cX0_ask 46 = .ok (.iload 6, 2) := dk_21 6 (dk_at dksX0_ask_1 22 rfl rfl)
theorem dX0_ask_48 : decode cX0_ask 48 = .ok (.aload_n 0, 1) := dk_42 (dk_at dksX0_ask_2 0 rfl rfl)
theorem dX0_ask_49 : decode cX0_ask 49 = .ok (.getfield 74, 3) := dk_180 0 74 (dk_at dksX0_ask_2 1 rfl rfl)
theorem dX0_ask_52 : decode cX0_ask 52 = .ok (.if_icmp .ge 78, 3) := dk_162 0 78 (dk_at dksX0_ask_2 4 rfl rfl)
theorem dX0_ask_55 : decode cX0_ask 55 = .ok (.aload_n 0, 1) := dk_42 (dk_at dksX0_ask_2 7 rfl rfl)
theorem dX0_ask_56 : decode cX0_ask 56 = .ok (.iload 5, 2) := dk_21 5 (dk_at dksX0_ask_2 8 rfl rfl)
theorem dX0_ask_58 : decode cX0_ask 58 = .ok (.iload 6, 2) := dk_21 6 (dk_at dksX0_ask_2 10 rfl rfl)
theorem dX0_ask_60 : decode cX0_ask 60 = .ok (.invokevirtual 288, 3) := dk_182 1 32 (dk_at dksX0_ask_2 12 rfl rfl)
theorem dX0_ask_63 : decode cX0_ask 63 = .ok (.istore 7, 2) := dk_54 7 (dk_at dksX0_ask_2 15 rfl rfl)
theorem dX0_ask_65 : decode cX0_ask 65 = .ok (.iload 4, 2) := dk_21 4 (dk_at dksX0_ask_2 17 rfl rfl)
theorem dX0_ask_67 : decode cX0_ask 67 = .ok (.bipush (-4), 2) := dk_16 252 (dk_at dksX0_ask_2 19 rfl rfl)
theorem dX0_ask_69 : decode cX0_ask 69 = .ok (.if_icmp .eq 10, 3) := dk_159 0 10 (dk_at dksX0_ask_2 21 rfl rfl)
theorem dX0_ask_72 : decode cX0_ask 72 = .ok (.iload 7, 2) := dk_21 7 (dk_at dksX0_ask_3 0 rfl rfl)
theorem dX0_ask_74 : decode cX0_ask 74 = .ok (.iload 4, 2) := dk_21 4 (dk_at dksX0_ask_3 2 rfl rfl)
theorem dX0_ask_76 : decode cX0_ask 76 = .ok (.if_icmp .ge 7, 3) := dk_162 0 7 (dk_at dksX0_ask_3 4 rfl rfl)
theorem dX0_ask_79 : decode cX0_ask 79 = .ok (.iconst 1, 1) := dk_4 (dk_at dksX0_ask_3 7 rfl rfl)
theorem dX0_ask_80 : decode cX0_ask 80 = .ok (.goto 4, 3) := dk_167 0 4 (dk_at dksX0_ask_3 8 rfl rfl)
theorem dX0_ask_83 : decode cX0_ask 83 = .ok (.iconst 0, 1) := dk_3 (dk_at dksX0_ask_3 11 rfl rfl)
theorem dX0_ask_84 : decode cX0_ask 84 = .ok (.istore 8, 2) := dk_54 8 (dk_at dksX0_ask_3 12 rfl rfl)
theorem dX0_ask_86 : decode cX0_ask 86 = .ok (.iload 8, 2) := dk_21 8 (dk_at dksX0_ask_3 14 rfl rfl)
theorem dX0_ask_88 : decode cX0_ask 88 = .ok (.ifCond .eq 8, 3) := dk_153 0 8 (dk_at dksX0_ask_3 16 rfl rfl)
theorem dX0_ask_91 : decode cX0_ask 91 = .ok (.iload 5, 2) := dk_21 5 (dk_at dksX0_ask_3 19 rfl rfl)
theorem dX0_ask_93 : decode cX0_ask 93 = .ok (.goto 4, 3) := dk_167 0 4 (dk_at dksX0_ask_3 21 rfl rfl)
theorem dX0_ask_96 : decode cX0_ask 96 = .ok (.iload_n 2, 1) := dk_28 (dk_at dksX0_ask_4 0 rfl rfl)
theorem dX0_ask_97 : decode cX0_ask 97 = .ok (.istore_n 2, 1) := dk_61 (dk_at dksX0_ask_4 1 rfl rfl)
theorem dX0_ask_98 : decode cX0_ask 98 = .ok (.iload 8, 2) := dk_21 8 (dk_at dksX0_ask_4 2 rfl rfl)
theorem dX0_ask_100 : decode cX0_ask 100 = .ok (.ifCond .eq 8, 3) := dk_153 0 8 (dk_at dksX0_ask_4 4 rfl rfl)
theorem dX0_ask_103 : decode cX0_ask 103 = .ok (.iload 6, 2) := dk_21 6 (dk_at dksX0_ask_4 7 rfl rfl)
theorem dX0_ask_105 : decode cX0_ask 105 = .ok (.goto 4, 3) := dk_167 0 4 (dk_at dksX0_ask_4 9 rfl rfl)
theorem dX0_ask_108 : decode cX0_ask 108 = .ok (.iload_n 3, 1) := dk_29 (dk_at dksX0_ask_4 12 rfl rfl)
theorem dX0_ask_109 : decode cX0_ask 109 = .ok (.istore_n 3, 1) := dk_62 (dk_at dksX0_ask_4 13 rfl rfl)
theorem dX0_ask_110 : decode cX0_ask 110 = .ok (.iload 8, 2) := dk_21 8 (dk_at dksX0_ask_4 14 rfl rfl)
theorem dX0_ask_112 : decode cX0_ask 112 = .ok (.ifCond .eq 8, 3) := dk_153 0 8 (dk_at dksX0_ask_4 16 rfl rfl)
theorem dX0_ask_115 : decode cX0_ask 115 = .ok (.iload 7, 2) := dk_21 7 (dk_at dksX0_ask_4 19 rfl rfl)
theorem dX0_ask_117 : decode cX0_ask 117 = .ok (.goto 5, 3) := dk_167 0 5 (dk_at dksX0_ask_4 21 rfl rfl)
theorem dX0_ask_120 : decode cX0_ask 120 = .ok (.iload 4, 2) := dk_21 4 (dk_at dksX0_ask_5 0 rfl rfl)
theorem dX0_ask_122 : decode cX0_ask 122 = .ok (.istore 4, 2) := dk_54 4 (dk_at dksX0_ask_5 2 rfl rfl)
theorem dX0_ask_124 : decode cX0_ask 124 = .ok (.iinc 6 1, 3) := dk_132 6 1 (dk_at dksX0_ask_5 4 rfl rfl)
theorem dX0_ask_127 : decode cX0_ask 127 = .ok (.goto (-81), 3) := dk_167 255 175 (dk_at dksX0_ask_5 7 rfl rfl)
theorem dX0_ask_130 : decode cX0_ask 130 = .ok (.iinc 5 1, 3) := dk_132 5 1 (dk_at dksX0_ask_5 10 rfl rfl)
theorem dX0_ask_133 : decode cX0_ask 133 = .ok (.goto (-106), 3) := dk_167 255 150 (dk_at dksX0_ask_5 13 rfl rfl)
theorem dX0_ask_136 : decode cX0_ask 136 = .ok (.iload_n 1, 1) := dk_27 (dk_at dksX0_ask_5 16 rfl rfl)
theorem dX0_ask_137 : decode cX0_ask 137 = .ok (.ifCond .ne 7, 3) := dk_154 0 7 (dk_at dksX0_ask_5 17 rfl rfl)
theorem dX0_ask_140 : decode cX0_ask 140 = .ok (.iload_n 2, 1) := dk_28 (dk_at dksX0_ask_5 20 rfl rfl)
theorem dX0_ask_141 : decode cX0_ask 141 = .ok (.goto 14, 3) := dk_167 0 14 (dk_at dksX0_ask_5 21 rfl rfl)
theorem dX0_ask_144 : decode cX0_ask 144 = .ok (.iload_n 1, 1) := dk_27 (dk_at dksX0_ask_6 0 rfl rfl)
theorem dX0_ask_145 : decode cX0_ask 145 = .ok (.iconst 1, 1) := dk_4 (dk_at dksX0_ask_6 1 rfl rfl)
theorem dX0_ask_146 : decode cX0_ask 146 = .ok (.if_icmp .ne 7, 3) := dk_160 0 7 (dk_at dksX0_ask_6 2 rfl rfl)
theorem dX0_ask_149 : decode cX0_ask 149 = .ok (.iload_n 3, 1) := dk_29 (dk_at dksX0_ask_6 5 rfl rfl)
theorem dX0_ask_150 : decode cX0_ask 150 = .ok (.goto 5, 3) := dk_167 0 5 (dk_at dksX0_ask_6 6 rfl rfl)
theorem dX0_ask_153 : decode cX0_ask 153 = .ok (.iload 4, 2) := dk_21 4 (dk_at dksX0_ask_6 9 rfl rfl)
theorem dX0_ask_155 : decode cX0_ask 155 = .ok (.ireturn, 1) := dk_172 (dk_at dksX0_ask_6 11 rfl rfl)
abbrev cX0_worst : ByteArray := prog_1_method_52_code
def yX0_worst : MethodName := ⟨RX0, "worst", "(II)I"⟩
def dkwX0_worst_4 : List UInt8 := [5, 46, 184, 1, 27, 184, 1, 27, 172]
abbrev dktX0_worst_4 : List UInt8 := dkwX0_worst_4 ++ []
def dkwX0_worst_3 : List UInt8 := [96, 79, 132, 3, 1, 167, 255, 191, 42, 180, 1, 24, 3, 46, 42, 180, 1, 24, 4, 46, 42, 180, 1, 24]
abbrev dktX0_worst_3 : List UInt8 := dkwX0_worst_3 ++ dktX0_worst_4
def dkwX0_worst_2 : List UInt8 := [42, 180, 0, 157, 29, 184, 0, 211, 153, 0, 15, 42, 180, 0, 94, 29, 50, 180, 0, 133, 167, 0, 4, 3]
abbrev dktX0_worst_2 : List UInt8 := dkwX0_worst_2 ++ dktX0_worst_3
def dkwX0_worst_1 : List UInt8 := [182, 1, 21, 54, 4, 42, 180, 1, 24, 21, 4, 16, 252, 160, 0, 7, 5, 167, 0, 5, 21, 4, 92, 46]
abbrev dktX0_worst_1 : List UInt8 := dkwX0_worst_1 ++ dktX0_worst_2
def dkwX0_worst_0 : List UInt8 := [42, 180, 1, 24, 3, 184, 0, 148, 3, 62, 29, 42, 180, 0, 80, 162, 0, 63, 42, 29, 27, 28]
abbrev dktX0_worst_0 : List UInt8 := dkwX0_worst_0 ++ dktX0_worst_1
theorem dksX0_worst_0 : cX0_worst.data.toList.drop 0 = dktX0_worst_0 := by decide +kernel
theorem dksX0_worst_1 : cX0_worst.data.toList.drop 22 = dktX0_worst_1 := dk_seg dksX0_worst_0 22 rfl rfl
theorem dksX0_worst_2 : cX0_worst.data.toList.drop 46 = dktX0_worst_2 := dk_seg dksX0_worst_1 24 rfl rfl
theorem dksX0_worst_3 : cX0_worst.data.toList.drop 70 = dktX0_worst_3 := dk_seg dksX0_worst_2 24 rfl rfl
theorem dksX0_worst_4 : cX0_worst.data.toList.drop 94 = dktX0_worst_4 := dk_seg dksX0_worst_3 24 rfl rfl
theorem dX0_worst_0 : decode cX0_worst 0 = .ok (.aload_n 0, 1) := dk_42 (dk_at dksX0_worst_0 0 rfl rfl)
theorem dX0_worst_1 : decode cX0_worst 1 = .ok (.getfield 280, 3) := dk_180 1 24 (dk_at dksX0_worst_0 1 rfl rfl)
theorem dX0_worst_4 : decode cX0_worst 4 = .ok (.iconst 0, 1) := dk_3 (dk_at dksX0_worst_0 4 rfl rfl)
theorem dX0_worst_5 : decode cX0_worst 5 = .ok (.invokestatic 148, 3) := dk_184 0 148 (dk_at dksX0_worst_0 5 rfl rfl)
theorem dX0_worst_8 : decode cX0_worst 8 = .ok (.iconst 0, 1) := dk_3 (dk_at dksX0_worst_0 8 rfl rfl)
theorem dX0_worst_9 : decode cX0_worst 9 = .ok (.istore_n 3, 1) := dk_62 (dk_at dksX0_worst_0 9 rfl rfl)
theorem dX0_worst_10 : decode cX0_worst 10 = .ok (.iload_n 3, 1) := dk_29 (dk_at dksX0_worst_0 10 rfl rfl)
theorem dX0_worst_11 : decode cX0_worst 11 = .ok (.aload_n 0, 1) := dk_42 (dk_at dksX0_worst_0 11 rfl rfl)
theorem dX0_worst_12 : decode cX0_worst 12 = .ok (.getfield 80, 3) := dk_180 0 80 (dk_at dksX0_worst_0 12 rfl rfl)
theorem dX0_worst_15 : decode cX0_worst 15 = .ok (.if_icmp .ge 63, 3) := dk_162 0 63 (dk_at dksX0_worst_0 15 rfl rfl)
theorem dX0_worst_18 : decode cX0_worst 18 = .ok (.aload_n 0, 1) := dk_42 (dk_at dksX0_worst_0 18 rfl rfl)
theorem dX0_worst_19 : decode cX0_worst 19 = .ok (.iload_n 3, 1) := dk_29 (dk_at dksX0_worst_0 19 rfl rfl)
theorem dX0_worst_20 : decode cX0_worst 20 = .ok (.iload_n 1, 1) := dk_27 (dk_at dksX0_worst_0 20 rfl rfl)
theorem dX0_worst_21 : decode cX0_worst 21 = .ok (.iload_n 2, 1) := dk_28 (dk_at dksX0_worst_0 21 rfl rfl)
theorem dX0_worst_22 : decode cX0_worst 22 = .ok (.invokevirtual 277, 3) := dk_182 1 21 (dk_at dksX0_worst_1 0 rfl rfl)
theorem dX0_worst_25 : decode cX0_worst 25 = .ok (.istore 4, 2) := dk_54 4 (dk_at dksX0_worst_1 3 rfl rfl)
theorem dX0_worst_27 : decode cX0_worst 27 = .ok (.aload_n 0, 1) := dk_42 (dk_at dksX0_worst_1 5 rfl rfl)
theorem dX0_worst_28 : decode cX0_worst 28 = .ok (.getfield 280, 3) := dk_180 1 24 (dk_at dksX0_worst_1 6 rfl rfl)
theorem dX0_worst_31 : decode cX0_worst 31 = .ok (.iload 4, 2) := dk_21 4 (dk_at dksX0_worst_1 9 rfl rfl)
theorem dX0_worst_33 : decode cX0_worst 33 = .ok (.bipush (-4), 2) := dk_16 252 (dk_at dksX0_worst_1 11 rfl rfl)
theorem dX0_worst_35 : decode cX0_worst 35 = .ok (.if_icmp .ne 7, 3) := dk_160 0 7 (dk_at dksX0_worst_1 13 rfl rfl)
theorem dX0_worst_38 : decode cX0_worst 38 = .ok (.iconst 2, 1) := dk_5 (dk_at dksX0_worst_1 16 rfl rfl)
theorem dX0_worst_39 : decode cX0_worst 39 = .ok (.goto 5, 3) := dk_167 0 5 (dk_at dksX0_worst_1 17 rfl rfl)
theorem dX0_worst_42 : decode cX0_worst 42 = .ok (.iload 4, 2) := dk_21 4 (dk_at dksX0_worst_1 20 rfl rfl)
theorem dX0_worst_44 : decode cX0_worst 44 = .ok (.dup2, 1) := dk_92 (dk_at dksX0_worst_1 22 rfl rfl)
theorem dX0_worst_45 : decode cX0_worst 45 = .ok (.iaload, 1) := dk_46 (dk_at dksX0_worst_1 23 rfl rfl)
theorem dX0_worst_46 : decode cX0_worst 46 = .ok (.aload_n 0, 1) := dk_42 (dk_at dksX0_worst_2 0 rfl rfl)
theorem dX0_worst_47 : decode cX0_worst 47 = .ok (.getfield 157, 3) := dk_180 0 157 (dk_at dksX0_worst_2 1 rfl rfl)
theorem dX0_worst_50 : decode cX0_worst 50 = .ok (.iload_n 3, 1) := dk_29 (dk_at dksX0_worst_2 4 rfl rfl)
theorem dX0_worst_51 : decode cX0_worst 51 = .ok (.invokestatic 211, 3) := dk_184 0 211 (dk_at dksX0_worst_2 5 rfl rfl)
theorem dX0_worst_54 : decode cX0_worst 54 = .ok (.ifCond .eq 15, 3) := dk_153 0 15 (dk_at dksX0_worst_2 8 rfl rfl)
theorem dX0_worst_57 : decode cX0_worst 57 = .ok (.aload_n 0, 1) := dk_42 (dk_at dksX0_worst_2 11 rfl rfl)
theorem dX0_worst_58 : decode cX0_worst 58 = .ok (.getfield 94, 3) := dk_180 0 94 (dk_at dksX0_worst_2 12 rfl rfl)
theorem dX0_worst_61 : decode cX0_worst 61 = .ok (.iload_n 3, 1) := dk_29 (dk_at dksX0_worst_2 15 rfl rfl)
theorem dX0_worst_62 : decode cX0_worst 62 = .ok (.aaload, 1) := dk_50 (dk_at dksX0_worst_2 16 rfl rfl)
theorem dX0_worst_63 : decode cX0_worst 63 = .ok (.getfield 133, 3) := dk_180 0 133 (dk_at dksX0_worst_2 17 rfl rfl)
theorem dX0_worst_66 : decode cX0_worst 66 = .ok (.goto 4, 3) := dk_167 0 4 (dk_at dksX0_worst_2 20 rfl rfl)
theorem dX0_worst_69 : decode cX0_worst 69 = .ok (.iconst 0, 1) := dk_3 (dk_at dksX0_worst_2 23 rfl rfl)
theorem dX0_worst_70 : decode cX0_worst 70 = .ok (.iadd, 1) := dk_96 (dk_at dksX0_worst_3 0 rfl rfl)
theorem dX0_worst_71 : decode cX0_worst 71 = .ok (.iastore, 1) := dk_79 (dk_at dksX0_worst_3 1 rfl rfl)
theorem dX0_worst_72 : decode cX0_worst 72 = .ok (.iinc 3 1, 3) := dk_132 3 1 (dk_at dksX0_worst_3 2 rfl rfl)
theorem dX0_worst_75 : decode cX0_worst 75 = .ok (.goto (-65), 3) := dk_167 255 191 (dk_at dksX0_worst_3 5 rfl rfl)
theorem dX0_worst_78 : decode cX0_worst 78 = .ok (.aload_n 0, 1) := dk_42 (dk_at dksX0_worst_3 8 rfl rfl)
theorem dX0_worst_79 : decode cX0_worst 79 = .ok (.getfield 280, 3) := dk_180 1 24 (dk_at dksX0_worst_3 9 rfl rfl)
theorem dX0_worst_82 : decode cX0_worst 82 = .ok (.iconst 0, 1) := dk_3 (dk_at dksX0_worst_3 12 rfl rfl)
theorem dX0_worst_83 : decode cX0_worst 83 = .ok (.iaload, 1) := dk_46 (dk_at dksX0_worst_3 13 rfl rfl)
theorem dX0_worst_84 : decode cX0_worst 84 = .ok (.aload_n 0, 1) := dk_42 (dk_at dksX0_worst_3 14 rfl rfl)
theorem dX0_worst_85 : decode cX0_worst 85 = .ok (.getfield 280, 3) := dk_180 1 24 (dk_at dksX0_worst_3 15 rfl rfl)
theorem dX0_worst_88 : decode cX0_worst 88 = .ok (.iconst 1, 1) := dk_4 (dk_at dksX0_worst_3 18 rfl rfl)
theorem dX0_worst_89 : decode cX0_worst 89 = .ok (.iaload, 1) := dk_46 (dk_at dksX0_worst_3 19 rfl rfl)
theorem dX0_worst_90 : decode cX0_worst 90 = .ok (.aload_n 0, 1) := dk_42 (dk_at dksX0_worst_3 20 rfl rfl)
theorem dX0_worst_91 : decode cX0_worst 91 = .ok (.getfield 280, 3) := dk_180 1 24 (dk_at dksX0_worst_3 21 rfl rfl)
theorem dX0_worst_94 : decode cX0_worst 94 = .ok (.iconst 2, 1) := dk_5 (dk_at dksX0_worst_4 0 rfl rfl)
theorem dX0_worst_95 : decode cX0_worst 95 = .ok (.iaload, 1) := dk_46 (dk_at dksX0_worst_4 1 rfl rfl)
theorem dX0_worst_96 : decode cX0_worst 96 = .ok (.invokestatic 283, 3) := dk_184 1 27 (dk_at dksX0_worst_4 2 rfl rfl)
theorem dX0_worst_99 : decode cX0_worst 99 = .ok (.invokestatic 283, 3) := dk_184 1 27 (dk_at dksX0_worst_4 5 rfl rfl)
theorem dX0_worst_102 : decode cX0_worst 102 = .ok (.ireturn, 1) := dk_172 (dk_at dksX0_worst_4 8 rfl rfl)
abbrev cX0_sure : ByteArray := prog_1_method_55_code
def yX0_sure : MethodName := ⟨RX0, "sure", "(II)I"⟩
def dkwX0_sure_3 : List UInt8 := [167, 0, 4, 29, 62, 132, 4, 1, 167, 255, 213, 28, 154, 0, 10, 29, 184, 1, 38, 167, 0, 4, 29, 172]
abbrev dktX0_sure_3 : List UInt8 := dkwX0_sure_3 ++ []
def dkwX0_sure_2 : List UInt8 := [184, 1, 38, 29, 184, 1, 38, 162, 0, 18, 42, 27, 21, 4, 182, 1, 43, 153, 0, 8, 21, 4]
abbrev dktX0_sure_2 : List UInt8 := dkwX0_sure_2 ++ dktX0_sure_3
def dkwX0_sure_1 : List UInt8 := [180, 0, 74, 120, 4, 100, 62, 3, 54, 4, 21, 4, 4, 42, 180, 0, 74, 120, 162, 0, 38, 21, 4]
abbrev dktX0_sure_1 : List UInt8 := dkwX0_sure_1 ++ dktX0_sure_2
def dkwX0_sure_0 : List UInt8 := [42, 27, 182, 0, 112, 153, 0, 13, 28, 133, 9, 10, 184, 0, 24, 154, 0, 5, 2, 172, 4, 42]
abbrev dktX0_sure_0 : List UInt8 := dkwX0_sure_0 ++ dktX0_sure_1
theorem dksX0_sure_0 : cX0_sure.data.toList.drop 0 = dktX0_sure_0 := by decide +kernel
theorem dksX0_sure_1 : cX0_sure.data.toList.drop 22 = dktX0_sure_1 := dk_seg dksX0_sure_0 22 rfl rfl
theorem dksX0_sure_2 : cX0_sure.data.toList.drop 45 = dktX0_sure_2 := dk_seg dksX0_sure_1 23 rfl rfl
theorem dksX0_sure_3 : cX0_sure.data.toList.drop 67 = dktX0_sure_3 := dk_seg dksX0_sure_2 22 rfl rfl
theorem dX0_sure_0 : decode cX0_sure 0 = .ok (.aload_n 0, 1) := dk_42 (dk_at dksX0_sure_0 0 rfl rfl)
theorem dX0_sure_1 : decode cX0_sure 1 = .ok (.iload_n 1, 1) := dk_27 (dk_at dksX0_sure_0 1 rfl rfl)
theorem dX0_sure_2 : decode cX0_sure 2 = .ok (.invokevirtual 112, 3) := dk_182 0 112 (dk_at dksX0_sure_0 2 rfl rfl)
theorem dX0_sure_5 : decode cX0_sure 5 = .ok (.ifCond .eq 13, 3) := dk_153 0 13 (dk_at dksX0_sure_0 5 rfl rfl)
theorem dX0_sure_8 : decode cX0_sure 8 = .ok (.iload_n 2, 1) := dk_28 (dk_at dksX0_sure_0 8 rfl rfl)
theorem dX0_sure_9 : decode cX0_sure 9 = .ok (.i2l, 1) := dk_133 (dk_at dksX0_sure_0 9 rfl rfl)
theorem dX0_sure_10 : decode cX0_sure 10 = .ok (.lconst 0, 1) := dk_9 (dk_at dksX0_sure_0 10 rfl rfl)
theorem dX0_sure_11 : decode cX0_sure 11 = .ok (.lconst 1, 1) := dk_10 (dk_at dksX0_sure_0 11 rfl rfl)
theorem dX0_sure_12 : decode cX0_sure 12 = .ok (.invokestatic 24, 3) := dk_184 0 24 (dk_at dksX0_sure_0 12 rfl rfl)
theorem dX0_sure_15 : decode cX0_sure 15 = .ok (.ifCond .ne 5, 3) := dk_154 0 5 (dk_at dksX0_sure_0 15 rfl rfl)
theorem dX0_sure_18 : decode cX0_sure 18 = .ok (.iconst (-1), 1) := dk_2 (dk_at dksX0_sure_0 18 rfl rfl)
theorem dX0_sure_19 : decode cX0_sure 19 = .ok (.ireturn, 1) := dk_172 (dk_at dksX0_sure_0 19 rfl rfl)
theorem dX0_sure_20 : decode cX0_sure 20 = .ok (.iconst 1, 1) := dk_4 (dk_at dksX0_sure_0 20 rfl rfl)
theorem dX0_sure_21 : decode cX0_sure 21 = .ok (.aload_n 0, 1) := dk_42 (dk_at dksX0_sure_0 21 rfl rfl)
theorem dX0_sure_22 : decode cX0_sure 22 = .ok (.getfield 74, 3) := dk_180 0 74 (dk_at dksX0_sure_1 0 rfl rfl)
theorem dX0_sure_25 : decode cX0_sure 25 = .ok (.ishl, 1) := dk_120 (dk_at dksX0_sure_1 3 rfl rfl)
theorem dX0_sure_26 : decode cX0_sure 26 = .ok (.iconst 1, 1) := dk_4 (dk_at dksX0_sure_1 4 rfl rfl)
theorem dX0_sure_27 : decode cX0_sure 27 = .ok (.isub, 1) := dk_100 (dk_at dksX0_sure_1 5 rfl rfl)
theorem dX0_sure_28 : decode cX0_sure 28 = .ok (.istore_n 3, 1) := dk_62 (dk_at dksX0_sure_1 6 rfl rfl)
theorem dX0_sure_29 : decode cX0_sure 29 = .ok (.iconst 0, 1) := dk_3 (dk_at dksX0_sure_1 7 rfl rfl)
theorem dX0_sure_30 : decode cX0_sure 30 = .ok (.istore 4, 2) := dk_54 4 (dk_at dksX0_sure_1 8 rfl rfl)
theorem dX0_sure_32 : decode cX0_sure 32 = .ok (.iload 4, 2) := dk_21 4 (dk_at dksX0_sure_1 10 rfl rfl)
theorem dX0_sure_34 : decode cX0_sure 34 = .ok (.iconst 1, 1) := dk_4 (dk_at dksX0_sure_1 12 rfl rfl)
theorem dX0_sure_35 : decode cX0_sure 35 = .ok (.aload_n 0, 1) := dk_42 (dk_at dksX0_sure_1 13 rfl rfl)
theorem dX0_sure_36 : decode cX0_sure 36 = .ok (.getfield 74, 3) := dk_180 0 74 (dk_at dksX0_sure_1 14 rfl rfl)
theorem dX0_sure_39 : decode cX0_sure 39 = .ok (.ishl, 1) := dk_120 (dk_at dksX0_sure_1 17 rfl rfl)
theorem dX0_sure_40 : decode cX0_sure 40 = .ok (.if_icmp .ge 38, 3) := dk_162 0 38 (dk_at dksX0_sure_1 18 rfl rfl)
theorem dX0_sure_43 : decode cX0_sure 43 = .ok (.iload 4, 2) := dk_21 4 (dk_at dksX0_sure_1 21 rfl rfl)
theorem dX0_sure_45 : decode cX0_sure 45 = .ok (.invokestatic 294, 3) := dk_184 1 38 (dk_at dksX0_sure_2 0 rfl rfl)
theorem dX0_sure_48 : decode cX0_sure 48 = .ok (.iload_n 3, 1) := dk_29 (dk_at dksX0_sure_2 3 rfl rfl)
theorem dX0_sure_49 : decode cX0_sure 49 = .ok (.invokestatic 294, 3) := dk_184 1 38 (dk_at dksX0_sure_2 4 rfl rfl)
theorem dX0_sure_52 : decode cX0_sure 52 = .ok (.if_icmp .ge 18, 3) := dk_162 0 18 (dk_at dksX0_sure_2 7 rfl rfl)
theorem dX0_sure_55 : decode cX0_sure 55 = .ok (.aload_n 0, 1) := dk_42 (dk_at dksX0_sure_2 10 rfl rfl)
theorem dX0_sure_56 : decode cX0_sure 56 = .ok (.iload_n 1, 1) := dk_27 (dk_at dksX0_sure_2 11 rfl rfl)
theorem dX0_sure_57 : decode cX0_sure 57 = .ok (.iload 4, 2) := dk_21 4 (dk_at dksX0_sure_2 12 rfl rfl)
theorem dX0_sure_59 : decode cX0_sure 59 = .ok (.invokevirtual 299, 3) := dk_182 1 43 (dk_at dksX0_sure_2 14 rfl rfl)
theorem dX0_sure_62 : decode cX0_sure 62 = .ok (.ifCond .eq 8, 3) := dk_153 0 8 (dk_at dksX0_sure_2 17 rfl rfl)
theorem dX0_sure_65 : decode cX0_sure 65 = .ok (.iload 4, 2) := dk_21 4 (dk_at dksX0_sure_2 20 rfl rfl)
theorem dX0_sure_67 : decode cX0_sure 67 = .ok (.goto 4, 3) := dk_167 0 4 (dk_at dksX0_sure_3 0 rfl rfl)
theorem dX0_sure_70 : decode cX0_sure 70 = .ok (.iload_n 3, 1) := dk_29 (dk_at dksX0_sure_3 3 rfl rfl)
theorem dX0_sure_71 : decode cX0_sure 71 = .ok (.istore_n 3, 1) := dk_62 (dk_at dksX0_sure_3 4 rfl rfl)
theorem dX0_sure_72 : decode cX0_sure 72 = .ok (.iinc 4 1, 3) := dk_132 4 1 (dk_at dksX0_sure_3 5 rfl rfl)
theorem dX0_sure_75 : decode cX0_sure 75 = .ok (.goto (-43), 3) := dk_167 255 213 (dk_at dksX0_sure_3 8 rfl rfl)
theorem dX0_sure_78 : decode cX0_sure 78 = .ok (.iload_n 2, 1) := dk_28 (dk_at dksX0_sure_3 11 rfl rfl)
theorem dX0_sure_79 : decode cX0_sure 79 = .ok (.ifCond .ne 10, 3) := dk_154 0 10 (dk_at dksX0_sure_3 12 rfl rfl)
theorem dX0_sure_82 : decode cX0_sure 82 = .ok (.iload_n 3, 1) := dk_29 (dk_at dksX0_sure_3 15 rfl rfl)
theorem dX0_sure_83 : decode cX0_sure 83 = .ok (.invokestatic 294, 3) := dk_184 1 38 (dk_at dksX0_sure_3 16 rfl rfl)
theorem dX0_sure_86 : decode cX0_sure 86 = .ok (.goto 4, 3) := dk_167 0 4 (dk_at dksX0_sure_3 19 rfl rfl)
theorem dX0_sure_89 : decode cX0_sure 89 = .ok (.iload_n 3, 1) := dk_29 (dk_at dksX0_sure_3 22 rfl rfl)
theorem dX0_sure_90 : decode cX0_sure 90 = .ok (.ireturn, 1) := dk_172 (dk_at dksX0_sure_3 23 rfl rfl)
abbrev cX0_tells : ByteArray := prog_1_method_54_code
def yX0_tells : MethodName := ⟨RX0, "tells", "(II)Z"⟩
def dkwX0_tells_3 : List UInt8 := [167, 255, 191, 29, 172]
abbrev dktX0_tells_3 : List UInt8 := dkwX0_tells_3 ++ []
def dkwX0_tells_2 : List UInt8 := [154, 0, 13, 42, 21, 4, 7, 182, 1, 35, 154, 0, 7, 4, 167, 0, 4, 3, 62, 132, 4, 1]
abbrev dktX0_tells_2 : List UInt8 := dkwX0_tells_2 ++ dktX0_tells_3
def dkwX0_tells_1 : List UInt8 := [42, 27, 182, 0, 186, 180, 0, 109, 130, 54, 5, 29, 153, 0, 29, 21, 5, 153, 0, 20, 21, 5, 28, 126]
abbrev dktX0_tells_1 : List UInt8 := dkwX0_tells_1 ++ dktX0_tells_2
def dkwX0_tells_0 : List UInt8 := [4, 62, 3, 54, 4, 21, 4, 42, 180, 0, 3, 162, 0, 62, 42, 180, 0, 7, 21, 4, 50, 180, 0, 109]
abbrev dktX0_tells_0 : List UInt8 := dkwX0_tells_0 ++ dktX0_tells_1
theorem dksX0_tells_0 : cX0_tells.data.toList.drop 0 = dktX0_tells_0 := by decide +kernel
theorem dksX0_tells_1 : cX0_tells.data.toList.drop 24 = dktX0_tells_1 := dk_seg dksX0_tells_0 24 rfl rfl
theorem dksX0_tells_2 : cX0_tells.data.toList.drop 48 = dktX0_tells_2 := dk_seg dksX0_tells_1 24 rfl rfl
theorem dksX0_tells_3 : cX0_tells.data.toList.drop 70 = dktX0_tells_3 := dk_seg dksX0_tells_2 22 rfl rfl
theorem dX0_tells_0 : decode cX0_tells 0 = .ok (.iconst 1, 1) := dk_4 (dk_at dksX0_tells_0 0 rfl rfl)
theorem dX0_tells_1 : decode cX0_tells 1 = .ok (.istore_n 3, 1) := dk_62 (dk_at dksX0_tells_0 1 rfl rfl)
theorem dX0_tells_2 : decode cX0_tells 2 = .ok (.iconst 0, 1) := dk_3 (dk_at dksX0_tells_0 2 rfl rfl)
theorem dX0_tells_3 : decode cX0_tells 3 = .ok (.istore 4, 2) := dk_54 4 (dk_at dksX0_tells_0 3 rfl rfl)
theorem dX0_tells_5 : decode cX0_tells 5 = .ok (.iload 4, 2) := dk_21 4 (dk_at dksX0_tells_0 5 rfl rfl)
theorem dX0_tells_7 : decode cX0_tells 7 = .ok (.aload_n 0, 1) := dk_42 (dk_at dksX0_tells_0 7 rfl rfl)
theorem dX0_tells_8 : decode cX0_tells 8 = .ok (.getfield 3, 3) := dk_180 0 3 (dk_at dksX0_tells_0 8 rfl rfl)
theorem dX0_tells_11 : decode cX0_tells 11 = .ok (.if_icmp .ge 62, 3) := dk_162 0 62 (dk_at dksX0_tells_0 11 rfl rfl)
theorem dX0_tells_14 : decode cX0_tells 14 = .ok (.aload_n 0, 1) := dk_42 (dk_at dksX0_tells_0 14 rfl rfl)
theorem dX0_tells_15 : decode cX0_tells 15 = .ok (.getfield 7, 3) := dk_180 0 7 (dk_at dksX0_tells_0 15 rfl rfl)
theorem dX0_tells_18 : decode cX0_tells 18 = .ok (.iload 4, 2) := dk_21 4 (dk_at dksX0_tells_0 18 rfl rfl)
theorem dX0_tells_20 : decode cX0_tells 20 = .ok (.aaload, 1) := dk_50 (dk_at dksX0_tells_0 20 rfl rfl)
theorem dX0_tells_21 : decode cX0_tells 21 = .ok (.getfield 109, 3) := dk_180 0 109 (dk_at dksX0_tells_0 21 rfl rfl)
theorem dX0_tells_24 : decode cX0_tells 24 = .ok (.aload_n 0, 1) := dk_42 (dk_at dksX0_tells_1 0 rfl rfl)
theorem dX0_tells_25 : decode cX0_tells 25 = .ok (.iload_n 1, 1) := dk_27 (dk_at dksX0_tells_1 1 rfl rfl)
theorem dX0_tells_26 : decode cX0_tells 26 = .ok (.invokevirtual 186, 3) := dk_182 0 186 (dk_at dksX0_tells_1 2 rfl rfl)
theorem dX0_tells_29 : decode cX0_tells 29 = .ok (.getfield 109, 3) := dk_180 0 109 (dk_at dksX0_tells_1 5 rfl rfl)
theorem dX0_tells_32 : decode cX0_tells 32 = .ok (.ixor, 1) := dk_130 (dk_at dksX0_tells_1 8 rfl rfl)
theorem dX0_tells_33 : decode cX0_tells 33 = .ok (.istore 5, 2) := dk_54 5 (dk_at dksX0_tells_1 9 rfl rfl)
theorem dX0_tells_35 : decode cX0_tells 35 = .ok (.iload_n 3, 1) := dk_29 (dk_at dksX0_tells_1 11 rfl rfl)
theorem dX0_tells_36 : decode cX0_tells 36 = .ok (.ifCond .eq 29, 3) := dk_153 0 29 (dk_at dksX0_tells_1 12 rfl rfl)
theorem dX0_tells_39 : decode cX0_tells 39 = .ok (.iload 5, 2) := dk_21 5 (dk_at dksX0_tells_1 15 rfl rfl)
theorem dX0_tells_41 : decode cX0_tells 41 = .ok (.ifCond .eq 20, 3) := dk_153 0 20 (dk_at dksX0_tells_1 17 rfl rfl)
theorem dX0_tells_44 : decode cX0_tells 44 = .ok (.iload 5, 2) := dk_21 5 (dk_at dksX0_tells_1 20 rfl rfl)
theorem dX0_tells_46 : decode cX0_tells 46 = .ok (.iload_n 2, 1) := dk_28 (dk_at dksX0_tells_1 22 rfl rfl)
theorem dX0_tells_47 : decode cX0_tells 47 = .ok (.iand, 1) := dk_126 (dk_at dksX0_tells_1 23 rfl rfl)
theorem dX0_tells_48 : decode cX0_tells 48 = .ok (.ifCond .ne 13, 3) := dk_154 0 13 (dk_at dksX0_tells_2 0 rfl rfl)
theorem dX0_tells_51 : decode cX0_tells 51 = .ok (.aload_n 0, 1) := dk_42 (dk_at dksX0_tells_2 3 rfl rfl)
theorem dX0_tells_52 : decode cX0_tells 52 = .ok (.iload 4, 2) := dk_21 4 (dk_at dksX0_tells_2 4 rfl rfl)
theorem dX0_tells_54 : decode cX0_tells 54 = .ok (.iconst 4, 1) := dk_7 (dk_at dksX0_tells_2 6 rfl rfl)
theorem dX0_tells_55 : decode cX0_tells 55 = .ok (.invokevirtual 291, 3) := dk_182 1 35 (dk_at dksX0_tells_2 7 rfl rfl)
theorem dX0_tells_58 : decode cX0_tells 58 = .ok (.ifCond .ne 7, 3) := dk_154 0 7 (dk_at dksX0_tells_2 10 rfl rfl)
theorem dX0_tells_61 : decode cX0_tells 61 = .ok (.iconst 1, 1) := dk_4 (dk_at dksX0_tells_2 13 rfl rfl)
theorem dX0_tells_62 : decode cX0_tells 62 = .ok (.goto 4, 3) := dk_167 0 4 (dk_at dksX0_tells_2 14 rfl rfl)
theorem dX0_tells_65 : decode cX0_tells 65 = .ok (.iconst 0, 1) := dk_3 (dk_at dksX0_tells_2 17 rfl rfl)
theorem dX0_tells_66 : decode cX0_tells 66 = .ok (.istore_n 3, 1) := dk_62 (dk_at dksX0_tells_2 18 rfl rfl)
theorem dX0_tells_67 : decode cX0_tells 67 = .ok (.iinc 4 1, 3) := dk_132 4 1 (dk_at dksX0_tells_2 19 rfl rfl)
theorem dX0_tells_70 : decode cX0_tells 70 = .ok (.goto (-65), 3) := dk_167 255 191 (dk_at dksX0_tells_3 0 rfl rfl)
theorem dX0_tells_73 : decode cX0_tells 73 = .ok (.iload_n 3, 1) := dk_29 (dk_at dksX0_tells_3 3 rfl rfl)
theorem dX0_tells_74 : decode cX0_tells 74 = .ok (.ireturn, 1) := dk_172 (dk_at dksX0_tells_3 4 rfl rfl)
abbrev cX0_likely : ByteArray := prog_1_method_56_code
def yX0_likely : MethodName := ⟨RX0, "likely", "(II)I"⟩
def dkwX0_likely_4 : List UInt8 := [21, 4, 28, 184, 1, 17, 172]
abbrev dktX0_likely_4 : List UInt8 := dkwX0_likely_4 ++ []
def dkwX0_likely_3 : List UInt8 := [167, 255, 212, 42, 42, 182, 1, 7, 182, 1, 10, 54, 4, 21, 4, 154, 0, 8, 16, 252, 167, 0, 10, 29]
abbrev dktX0_likely_3 : List UInt8 := dkwX0_likely_3 ++ dktX0_likely_4
def dkwX0_likely_2 : List UInt8 := [153, 0, 16, 42, 180, 0, 94, 21, 4, 50, 180, 0, 133, 167, 0, 4, 3, 96, 62, 132, 4, 1]
abbrev dktX0_likely_2 : List UInt8 := dkwX0_likely_2 ++ dktX0_likely_3
def dkwX0_likely_1 : List UInt8 := [54, 4, 21, 4, 42, 180, 0, 80, 162, 0, 41, 29, 42, 42, 180, 0, 136, 21, 4, 50, 27, 182, 0, 198]
abbrev dktX0_likely_1 : List UInt8 := dkwX0_likely_1 ++ dktX0_likely_2
def dkwX0_likely_0 : List UInt8 := [42, 27, 182, 0, 112, 153, 0, 13, 28, 133, 9, 10, 184, 0, 24, 154, 0, 5, 2, 172, 3, 62, 3]
abbrev dktX0_likely_0 : List UInt8 := dkwX0_likely_0 ++ dktX0_likely_1
theorem dksX0_likely_0 : cX0_likely.data.toList.drop 0 = dktX0_likely_0 := by decide +kernel
theorem dksX0_likely_1 : cX0_likely.data.toList.drop 23 = dktX0_likely_1 := dk_seg dksX0_likely_0 23 rfl rfl
theorem dksX0_likely_2 : cX0_likely.data.toList.drop 47 = dktX0_likely_2 := dk_seg dksX0_likely_1 24 rfl rfl
theorem dksX0_likely_3 : cX0_likely.data.toList.drop 69 = dktX0_likely_3 := dk_seg dksX0_likely_2 22 rfl rfl
theorem dksX0_likely_4 : cX0_likely.data.toList.drop 93 = dktX0_likely_4 := dk_seg dksX0_likely_3 24 rfl rfl
theorem dX0_likely_0 : decode cX0_likely 0 = .ok (.aload_n 0, 1) := dk_42 (dk_at dksX0_likely_0 0 rfl rfl)
theorem dX0_likely_1 : decode cX0_likely 1 = .ok (.iload_n 1, 1) := dk_27 (dk_at dksX0_likely_0 1 rfl rfl)
theorem dX0_likely_2 : decode cX0_likely 2 = .ok (.invokevirtual 112, 3) := dk_182 0 112 (dk_at dksX0_likely_0 2 rfl rfl)
theorem dX0_likely_5 : decode cX0_likely 5 = .ok (.ifCond .eq 13, 3) := dk_153 0 13 (dk_at dksX0_likely_0 5 rfl rfl)
theorem dX0_likely_8 : decode cX0_likely 8 = .ok (.iload_n 2, 1) := dk_28 (dk_at dksX0_likely_0 8 rfl rfl)
theorem dX0_likely_9 : decode cX0_likely 9 = .ok (.i2l, 1) := dk_133 (dk_at dksX0_likely_0 9 rfl rfl)
theorem dX0_likely_10 : decode cX0_likely 10 = .ok (.lconst 0, 1) := dk_9 (dk_at dksX0_likely_0 10 rfl rfl)
theorem dX0_likely_11 : decode cX0_likely 11 = .ok (.lconst 1, 1) := dk_10 (dk_at dksX0_likely_0 11 rfl rfl)
theorem dX0_likely_12 : decode cX0_likely 12 = .ok (.invokestatic 24, 3) := dk_184 0 24 (dk_at dksX0_likely_0 12 rfl rfl)
theorem dX0_likely_15 : decode cX0_likely 15 = .ok (.ifCond .ne 5, 3) := dk_154 0 5 (dk_at dksX0_likely_0 15 rfl rfl)
theorem dX0_likely_18 : decode cX0_likely 18 = .ok (.iconst (-1), 1) := dk_2 (dk_at dksX0_likely_0 18 rfl rfl)
theorem dX0_likely_19 : decode cX0_likely 19 = .ok (.ireturn, 1) := dk_172 (dk_at dksX0_likely_0 19 rfl rfl)
theorem dX0_likely_20 : decode cX0_likely 20 = .ok (.iconst 0, 1) := dk_3 (dk_at dksX0_likely_0 20 rfl rfl)
theorem dX0_likely_21 : decode cX0_likely 21 = .ok (.istore_n 3, 1) := dk_62 (dk_at dksX0_likely_0 21 rfl rfl)
theorem dX0_likely_22 : decode cX0_likely 22 = .ok (.iconst 0, 1) := dk_3 (dk_at dksX0_likely_0 22 rfl rfl)
theorem dX0_likely_23 : decode cX0_likely 23 = .ok (.istore 4, 2) := dk_54 4 (dk_at dksX0_likely_1 0 rfl rfl)
theorem dX0_likely_25 : decode cX0_likely 25 = .ok (.iload 4, 2) := dk_21 4 (dk_at dksX0_likely_1 2 rfl rfl)
theorem dX0_likely_27 : decode cX0_likely 27 = .ok (.aload_n 0, 1) := dk_42 (dk_at dksX0_likely_1 4 rfl rfl)
theorem dX0_likely_28 : decode cX0_likely 28 = .ok (.getfield 80, 3) := dk_180 0 80 (dk_at dksX0_likely_1 5 rfl rfl)
theorem dX0_likely_31 : decode cX0_likely 31 = .ok (.if_icmp .ge 41, 3) := dk_162 0 41 (dk_at dksX0_likely_1 8 rfl rfl)
theorem dX0_likely_34 : decode cX0_likely 34 = .ok (.iload_n 3, 1) := dk_29 (dk_at dksX0_likely_1 11 rfl rfl)
theorem dX0_likely_35 : decode cX0_likely 35 = .ok (.aload_n 0, 1) := dk_42 (dk_at dksX0_likely_1 12 rfl rfl)
theorem dX0_likely_36 : decode cX0_likely 36 = .ok (.aload_n 0, 1) := dk_42 (dk_at dksX0_likely_1 13 rfl rfl)
theorem dX0_likely_37 : decode cX0_likely 37 = .ok (.getfield 136, 3) := dk_180 0 136 (dk_at dksX0_likely_1 14 rfl rfl)
theorem dX0_likely_40 : decode cX0_likely 40 = .ok (.iload 4, 2) := dk_21 4 (dk_at dksX0_likely_1 17 rfl rfl)
theorem dX0_likely_42 : decode cX0_likely 42 = .ok (.aaload, 1) := dk_50 (dk_at dksX0_likely_1 19 rfl rfl)
theorem dX0_likely_43 : decode cX0_likely 43 = .ok (.iload_n 1, 1) := dk_27 (dk_at dksX0_likely_1 20 rfl rfl)
theorem dX0_likely_44 : decode cX0_likely 44 = .ok (.invokevirtual 198, 3) := dk_182 0 198 (dk_at dksX0_likely_1 21 rfl rfl)
theorem dX0_likely_47 : decode cX0_likely 47 = .ok (.ifCond .eq 16, 3) := dk_153 0 16 (dk_at dksX0_likely_2 0 rfl rfl)
theorem dX0_likely_50 : decode cX0_likely 50 = .ok (.aload_n 0, 1) := dk_42 (dk_at dksX0_likely_2 3 rfl rfl)
theorem dX0_likely_51 : decode cX0_likely 51 = .ok (.getfield 94, 3) := dk_180 0 94 (dk_at dksX0_likely_2 4 rfl rfl)
theorem dX0_likely_54 : decode cX0_likely 54 = .ok (.iload 4, 2) := dk_21 4 (dk_at dksX0_likely_2 7 rfl rfl)
theorem dX0_likely_56 : decode cX0_likely 56 = .ok (.aaload, 1) := dk_50 (dk_at dksX0_likely_2 9 rfl rfl)
theorem dX0_likely_57 : decode cX0_likely 57 = .ok (.getfield 133, 3) := dk_180 0 133 (dk_at dksX0_likely_2 10 rfl rfl)
theorem dX0_likely_60 : decode cX0_likely 60 = .ok (.goto 4, 3) := dk_167 0 4 (dk_at dksX0_likely_2 13 rfl rfl)
theorem dX0_likely_63 : decode cX0_likely 63 = .ok (.iconst 0, 1) := dk_3 (dk_at dksX0_likely_2 16 rfl rfl)
theorem dX0_likely_64 : decode cX0_likely 64 = .ok (.iadd, 1) := dk_96 (dk_at dksX0_likely_2 17 rfl rfl)
theorem dX0_likely_65 : decode cX0_likely 65 = .ok (.istore_n 3, 1) := dk_62 (dk_at dksX0_likely_2 18 rfl rfl)
theorem dX0_likely_66 : decode cX0_likely 66 = .ok (.iinc 4 1, 3) := dk_132 4 1 (dk_at dksX0_likely_2 19 rfl rfl)
theorem dX0_likely_69 : decode cX0_likely 69 = .ok (.goto (-44), 3) := dk_167 255 212 (dk_at dksX0_likely_3 0 rfl rfl)
theorem dX0_likely_72 : decode cX0_likely 72 = .ok (.aload_n 0, 1) := dk_42 (dk_at dksX0_likely_3 3 rfl rfl)
theorem dX0_likely_73 : decode cX0_likely 73 = .ok (.aload_n 0, 1) := dk_42 (dk_at dksX0_likely_3 4 rfl rfl)
theorem dX0_likely_74 : decode cX0_likely 74 = .ok (.invokevirtual 263, 3) := dk_182 1 7 (dk_at dksX0_likely_3 5 rfl rfl)
theorem dX0_likely_77 : decode cX0_likely 77 = .ok (.invokevirtual 266, 3) := dk_182 1 10 (dk_at dksX0_likely_3 8 rfl rfl)
theorem dX0_likely_80 : decode cX0_likely 80 = .ok (.istore 4, 2) := dk_54 4 (dk_at dksX0_likely_3 11 rfl rfl)
theorem dX0_likely_82 : decode cX0_likely 82 = .ok (.iload 4, 2) := dk_21 4 (dk_at dksX0_likely_3 13 rfl rfl)
theorem dX0_likely_84 : decode cX0_likely 84 = .ok (.ifCond .ne 8, 3) := dk_154 0 8 (dk_at dksX0_likely_3 15 rfl rfl)
theorem dX0_likely_87 : decode cX0_likely 87 = .ok (.bipush (-4), 2) := dk_16 252 (dk_at dksX0_likely_3 18 rfl rfl)
theorem dX0_likely_89 : decode cX0_likely 89 = .ok (.goto 10, 3) := dk_167 0 10 (dk_at dksX0_likely_3 20 rfl rfl)
theorem dX0_likely_92 : decode cX0_likely 92 = .ok (.iload_n 3, 1) := dk_29 (dk_at dksX0_likely_3 23 rfl rfl)
theorem dX0_likely_93 : decode cX0_likely 93 = .ok (.iload 4, 2) := dk_21 4 (dk_at dksX0_likely_4 0 rfl rfl)
theorem dX0_likely_95 : decode cX0_likely 95 = .ok (.iload_n 2, 1) := dk_28 (dk_at dksX0_likely_4 2 rfl rfl)
theorem dX0_likely_96 : decode cX0_likely 96 = .ok (.invokestatic 273, 3) := dk_184 1 17 (dk_at dksX0_likely_4 3 rfl rfl)
theorem dX0_likely_99 : decode cX0_likely 99 = .ok (.ireturn, 1) := dk_172 (dk_at dksX0_likely_4 6 rfl rfl)
abbrev cX0_theirs : ByteArray := prog_1_method_57_code
def yX0_theirs : MethodName := ⟨RX0, "theirs", "(IZ)I"⟩
def dkwX0_theirs_2 : List UInt8 := [153, 0, 7, 4, 167, 0, 4, 3, 79, 42, 89, 180, 0, 47, 4, 96, 181, 0, 47, 42, 180, 0, 47, 172]
abbrev dktX0_theirs_2 : List UInt8 := dkwX0_theirs_2 ++ []
def dkwX0_theirs_1 : List UInt8 := [180, 1, 46, 42, 180, 0, 47, 50, 3, 27, 79, 42, 180, 1, 46, 42, 180, 0, 47, 50, 4, 28]
abbrev dktX0_theirs_1 : List UInt8 := dkwX0_theirs_1 ++ dktX0_theirs_2
def dkwX0_theirs_0 : List UInt8 := [42, 27, 182, 0, 83, 154, 0, 5, 2, 172, 42, 180, 0, 47, 16, 12, 160, 0, 6, 16, 253, 172, 42]
abbrev dktX0_theirs_0 : List UInt8 := dkwX0_theirs_0 ++ dktX0_theirs_1
theorem dksX0_theirs_0 : cX0_theirs.data.toList.drop 0 = dktX0_theirs_0 := by decide +kernel
theorem dksX0_theirs_1 : cX0_theirs.data.toList.drop 23 = dktX0_theirs_1 := dk_seg dksX0_theirs_0 23 rfl rfl
theorem dksX0_theirs_2 : cX0_theirs.data.toList.drop 45 = dktX0_theirs_2 := dk_seg dksX0_theirs_1 22 rfl rfl
theorem dX0_theirs_0 : decode cX0_theirs 0 = .ok (.aload_n 0, 1) := dk_42 (dk_at dksX0_theirs_0 0 rfl rfl)
theorem dX0_theirs_1 : decode cX0_theirs 1 = .ok (.iload_n 1, 1) := dk_27 (dk_at dksX0_theirs_0 1 rfl rfl)
theorem dX0_theirs_2 : decode cX0_theirs 2 = .ok (.invokevirtual 83, 3) := dk_182 0 83 (dk_at dksX0_theirs_0 2 rfl rfl)
theorem dX0_theirs_5 : decode cX0_theirs 5 = .ok (.ifCond .ne 5, 3) := dk_154 0 5 (dk_at dksX0_theirs_0 5 rfl rfl)
theorem dX0_theirs_8 : decode cX0_theirs 8 = .ok (.iconst (-1), 1) := dk_2 (dk_at dksX0_theirs_0 8 rfl rfl)
theorem dX0_theirs_9 : decode cX0_theirs 9 = .ok (.ireturn, 1) := dk_172 (dk_at dksX0_theirs_0 9 rfl rfl)
theorem dX0_theirs_10 : decode cX0_theirs 10 = .ok (.aload_n 0, 1) := dk_42 (dk_at dksX0_theirs_0 10 rfl rfl)
theorem dX0_theirs_11 : decode cX0_theirs 11 = .ok (.getfield 47, 3) := dk_180 0 47 (dk_at dksX0_theirs_0 11 rfl rfl)
theorem dX0_theirs_14 : decode cX0_theirs 14 = .ok (.bipush 12, 2) := dk_16 12 (dk_at dksX0_theirs_0 14 rfl rfl)
theorem dX0_theirs_16 : decode cX0_theirs 16 = .ok (.if_icmp .ne 6, 3) := dk_160 0 6 (dk_at dksX0_theirs_0 16 rfl rfl)
theorem dX0_theirs_19 : decode cX0_theirs 19 = .ok (.bipush (-3), 2) := dk_16 253 (dk_at dksX0_theirs_0 19 rfl rfl)
theorem dX0_theirs_21 : decode cX0_theirs 21 = .ok (.ireturn, 1) := dk_172 (dk_at dksX0_theirs_0 21 rfl rfl)
theorem dX0_theirs_22 : decode cX0_theirs 22 = .ok (.aload_n 0, 1) := dk_42 (dk_at dksX0_theirs_0 22 rfl rfl)
theorem dX0_theirs_23 : decode cX0_theirs 23 = .ok (.getfield 302, 3) := dk_180 1 46 (dk_at dksX0_theirs_1 0 rfl rfl)
theorem dX0_theirs_26 : decode cX0_theirs 26 = .ok (.aload_n 0, 1) := dk_42 (dk_at dksX0_theirs_1 3 rfl rfl)
theorem dX0_theirs_27 : decode cX0_theirs 27 = .ok (.getfield 47, 3) := dk_180 0 47 (dk_at dksX0_theirs_1 4 rfl rfl)
theorem dX0_theirs_30 : decode cX0_theirs 30 = .ok (.aaload, 1) := dk_50 (dk_at dksX0_theirs_1 7 rfl rfl)
theorem dX0_theirs_31 : decode cX0_theirs 31 = .ok (.iconst 0, 1) := dk_3 (dk_at dksX0_theirs_1 8 rfl rfl)
theorem dX0_theirs_32 : decode cX0_theirs 32 = .ok (.iload_n 1, 1) := dk_27 (dk_at dksX0_theirs_1 9 rfl rfl)
theorem dX0_theirs_33 : decode cX0_theirs 33 = .ok (.iastore, 1) := dk_79 (dk_at dksX0_theirs_1 10 rfl rfl)
theorem dX0_theirs_34 : decode cX0_theirs 34 = .ok (.aload_n 0, 1) := dk_42 (dk_at dksX0_theirs_1 11 rfl rfl)
theorem dX0_theirs_35 : decode cX0_theirs 35 = .ok (.getfield 302, 3) := dk_180 1 46 (dk_at dksX0_theirs_1 12 rfl rfl)
theorem dX0_theirs_38 : decode cX0_theirs 38 = .ok (.aload_n 0, 1) := dk_42 (dk_at dksX0_theirs_1 15 rfl rfl)
theorem dX0_theirs_39 : decode cX0_theirs 39 = .ok (.getfield 47, 3) := dk_180 0 47 (dk_at dksX0_theirs_1 16 rfl rfl)
theorem dX0_theirs_42 : decode cX0_theirs 42 = .ok (.aaload, 1) := dk_50 (dk_at dksX0_theirs_1 19 rfl rfl)
theorem dX0_theirs_43 : decode cX0_theirs 43 = .ok (.iconst 1, 1) := dk_4 (dk_at dksX0_theirs_1 20 rfl rfl)
theorem dX0_theirs_44 : decode cX0_theirs 44 = .ok (.iload_n 2, 1) := dk_28 (dk_at dksX0_theirs_1 21 rfl rfl)
theorem dX0_theirs_45 : decode cX0_theirs 45 = .ok (.ifCond .eq 7, 3) := dk_153 0 7 (dk_at dksX0_theirs_2 0 rfl rfl)
theorem dX0_theirs_48 : decode cX0_theirs 48 = .ok (.iconst 1, 1) := dk_4 (dk_at dksX0_theirs_2 3 rfl rfl)
theorem dX0_theirs_49 : decode cX0_theirs 49 = .ok (.goto 4, 3) := dk_167 0 4 (dk_at dksX0_theirs_2 4 rfl rfl)
theorem dX0_theirs_52 : decode cX0_theirs 52 = .ok (.iconst 0, 1) := dk_3 (dk_at dksX0_theirs_2 7 rfl rfl)
theorem dX0_theirs_53 : decode cX0_theirs 53 = .ok (.iastore, 1) := dk_79 (dk_at dksX0_theirs_2 8 rfl rfl)
theorem dX0_theirs_54 : decode cX0_theirs 54 = .ok (.aload_n 0, 1) := dk_42 (dk_at dksX0_theirs_2 9 rfl rfl)
theorem dX0_theirs_55 : decode cX0_theirs 55 = .ok (.dup, 1) := dk_89 (dk_at dksX0_theirs_2 10 rfl rfl)
theorem dX0_theirs_56 : decode cX0_theirs 56 = .ok (.getfield 47, 3) := dk_180 0 47 (dk_at dksX0_theirs_2 11 rfl rfl)
theorem dX0_theirs_59 : decode cX0_theirs 59 = .ok (.iconst 1, 1) := dk_4 (dk_at dksX0_theirs_2 14 rfl rfl)
theorem dX0_theirs_60 : decode cX0_theirs 60 = .ok (.iadd, 1) := dk_96 (dk_at dksX0_theirs_2 15 rfl rfl)
theorem dX0_theirs_61 : decode cX0_theirs 61 = .ok (.putfield 47, 3) := dk_181 0 47 (dk_at dksX0_theirs_2 16 rfl rfl)
theorem dX0_theirs_64 : decode cX0_theirs 64 = .ok (.aload_n 0, 1) := dk_42 (dk_at dksX0_theirs_2 19 rfl rfl)
theorem dX0_theirs_65 : decode cX0_theirs 65 = .ok (.getfield 47, 3) := dk_180 0 47 (dk_at dksX0_theirs_2 20 rfl rfl)
theorem dX0_theirs_68 : decode cX0_theirs 68 = .ok (.ireturn, 1) := dk_172 (dk_at dksX0_theirs_2 23 rfl rfl)
abbrev cX0_hush : ByteArray := prog_1_method_58_code
def yX0_hush : MethodName := ⟨RX0, "hush", "()I"⟩
def dkwX0_hush_0 : List UInt8 := [42, 180, 0, 47, 60, 42, 3, 181, 0, 47, 27, 172]
abbrev dktX0_hush_0 : List UInt8 := dkwX0_hush_0 ++ []
theorem dksX0_hush_0 : cX0_hush.data.toList.drop 0 = dktX0_hush_0 := by decide +kernel
theorem dX0_hush_0 : decode cX0_hush 0 = .ok (.aload_n 0, 1) := dk_42 (dk_at dksX0_hush_0 0 rfl rfl)
theorem dX0_hush_1 : decode cX0_hush 1 = .ok (.getfield 47, 3) := dk_180 0 47 (dk_at dksX0_hush_0 1 rfl rfl)
theorem dX0_hush_4 : decode cX0_hush 4 = .ok (.istore_n 1, 1) := dk_60 (dk_at dksX0_hush_0 4 rfl rfl)
theorem dX0_hush_5 : decode cX0_hush 5 = .ok (.aload_n 0, 1) := dk_42 (dk_at dksX0_hush_0 5 rfl rfl)
theorem dX0_hush_6 : decode cX0_hush 6 = .ok (.iconst 0, 1) := dk_3 (dk_at dksX0_hush_0 6 rfl rfl)
theorem dX0_hush_7 : decode cX0_hush 7 = .ok (.putfield 47, 3) := dk_181 0 47 (dk_at dksX0_hush_0 7 rfl rfl)
theorem dX0_hush_10 : decode cX0_hush 10 = .ok (.iload_n 1, 1) := dk_27 (dk_at dksX0_hush_0 10 rfl rfl)
theorem dX0_hush_11 : decode cX0_hush 11 = .ok (.ireturn, 1) := dk_172 (dk_at dksX0_hush_0 11 rfl rfl)
abbrev cX0_meant : ByteArray := prog_1_method_59_code
def yX0_meant : MethodName := ⟨RX0, "meant", "(I)I"⟩
def dkwX0_meant_7 : List UInt8 := [182, 1, 54, 167, 0, 13, 27, 5, 160, 0, 7, 28, 167, 0, 4, 29, 172]
abbrev dktX0_meant_7 : List UInt8 := dkwX0_meant_7 ++ []
def dkwX0_meant_6 : List UInt8 := [132, 5, 1, 167, 255, 190, 27, 154, 0, 10, 28, 184, 1, 38, 167, 0, 26, 27, 4, 160, 0, 11, 42, 28]
abbrev dktX0_meant_6 : List UInt8 := dkwX0_meant_6 ++ dktX0_meant_7
def dkwX0_meant_5 : List UInt8 := [21, 7, 21, 4, 164, 0, 8, 21, 5, 167, 0, 4, 29, 62, 21, 4, 21, 7, 184, 1, 27, 54, 4]
abbrev dktX0_meant_5 : List UInt8 := dkwX0_meant_5 ++ dktX0_meant_6
def dkwX0_meant_4 : List UInt8 := [4, 182, 0, 164, 184, 1, 38, 54, 6, 21, 6, 28, 184, 1, 38, 21, 6, 100, 184, 1, 51, 54, 7]
abbrev dktX0_meant_4 : List UInt8 := dkwX0_meant_4 ++ dktX0_meant_5
def dkwX0_meant_3 : List UInt8 := [62, 2, 54, 4, 3, 54, 5, 21, 5, 42, 180, 0, 74, 162, 0, 63, 28, 153, 0, 59, 42, 28, 21, 5]
abbrev dktX0_meant_3 : List UInt8 := dkwX0_meant_3 ++ dktX0_meant_4
def dkwX0_meant_2 : List UInt8 := [50, 4, 46, 4, 160, 0, 7, 4, 167, 0, 4, 3, 182, 0, 164, 61, 132, 3, 1, 167, 255, 214, 16, 252]
abbrev dktX0_meant_2 : List UInt8 := dkwX0_meant_2 ++ dktX0_meant_3
def dkwX0_meant_1 : List UInt8 := [62, 29, 42, 180, 0, 47, 162, 0, 40, 42, 28, 42, 180, 1, 46, 29, 50, 3, 46, 42, 180, 1, 46, 29]
abbrev dktX0_meant_1 : List UInt8 := dkwX0_meant_1 ++ dktX0_meant_2
def dkwX0_meant_0 : List UInt8 := [27, 133, 9, 20, 1, 49, 184, 0, 24, 154, 0, 5, 2, 172, 4, 42, 180, 0, 3, 120, 4, 100, 61, 3]
abbrev dktX0_meant_0 : List UInt8 := dkwX0_meant_0 ++ dktX0_meant_1
theorem dksX0_meant_0 : cX0_meant.data.toList.drop 0 = dktX0_meant_0 := by decide +kernel
theorem dksX0_meant_1 : cX0_meant.data.toList.drop 24 = dktX0_meant_1 := dk_seg dksX0_meant_0 24 rfl rfl
theorem dksX0_meant_2 : cX0_meant.data.toList.drop 48 = dktX0_meant_2 := dk_seg dksX0_meant_1 24 rfl rfl
theorem dksX0_meant_3 : cX0_meant.data.toList.drop 72 = dktX0_meant_3 := dk_seg dksX0_meant_2 24 rfl rfl
theorem dksX0_meant_4 : cX0_meant.data.toList.drop 96 = dktX0_meant_4 := dk_seg dksX0_meant_3 24 rfl rfl
theorem dksX0_meant_5 : cX0_meant.data.toList.drop 119 = dktX0_meant_5 := dk_seg dksX0_meant_4 23 rfl rfl
theorem dksX0_meant_6 : cX0_meant.data.toList.drop 142 = dktX0_meant_6 := dk_seg dksX0_meant_5 23 rfl rfl
theorem dksX0_meant_7 : cX0_meant.data.toList.drop 166 = dktX0_meant_7 := dk_seg dksX0_meant_6 24 rfl rfl
theorem dX0_meant_0 : decode cX0_meant 0 = .ok (.iload_n 1, 1) := dk_27 (dk_at dksX0_meant_0 0 rfl rfl)
theorem dX0_meant_1 : decode cX0_meant 1 = .ok (.i2l, 1) := dk_133 (dk_at dksX0_meant_0 1 rfl rfl)
theorem dX0_meant_2 : decode cX0_meant 2 = .ok (.lconst 0, 1) := dk_9 (dk_at dksX0_meant_0 2 rfl rfl)
theorem dX0_meant_3 : decode cX0_meant 3 = .ok (.ldc2_w 305, 3) := dk_20 1 49 (dk_at dksX0_meant_0 3 rfl rfl)
theorem dX0_meant_6 : decode cX0_meant 6 = .ok (.invokestatic 24, 3) := dk_184 0 24 (dk_at dksX0_meant_0 6 rfl rfl)
theorem dX0_meant_9 : decode cX0_meant 9 = .ok (.ifCond .ne 5, 3) := dk_154 0 5 (dk_at dksX0_meant_0 9 rfl rfl)
theorem dX0_meant_12 : decode cX0_meant 12 = .ok (.iconst (-1), 1) := dk_2 (dk_at dksX0_meant_0 12 rfl rfl)
theorem dX0_meant_13 : decode cX0_meant 13 = .ok (.ireturn, 1) := dk_172 (dk_at dksX0_meant_0 13 rfl rfl)
theorem dX0_meant_14 : decode cX0_meant 14 = .ok (.iconst 1, 1) := dk_4 (dk_at dksX0_meant_0 14 rfl rfl)
theorem dX0_meant_15 : decode cX0_meant 15 = .ok (.aload_n 0, 1) := dk_42 (dk_at dksX0_meant_0 15 rfl rfl)
theorem dX0_meant_16 : decode cX0_meant 16 = .ok (.getfield 3, 3) := dk_180 0 3 (dk_at dksX0_meant_0 16 rfl rfl)
theorem dX0_meant_19 : decode cX0_meant 19 = .ok (.ishl, 1) := dk_120 (dk_at dksX0_meant_0 19 rfl rfl)
theorem dX0_meant_20 : decode cX0_meant 20 = .ok (.iconst 1, 1) := dk_4 (dk_at dksX0_meant_0 20 rfl rfl)
theorem dX0_meant_21 : decode cX0_meant 21 = .ok (.isub, 1) := dk_100 (dk_at dksX0_meant_0 21 rfl rfl)
theorem dX0_meant_22 : decode cX0_meant 22 = .ok (.istore_n 2, 1) := dk_61 (dk_at dksX0_meant_0 22 rfl rfl)
theorem dX0_meant_23 : decode cX0_meant 23 = .ok (.iconst 0, 1) := dk_3 (dk_at dksX0_meant_0 23 rfl rfl)
theorem dX0_meant_24 : decode cX0_meant 24 = .ok (.istore_n 3, 1) := dk_62 (dk_at dksX0_meant_1 0 rfl rfl)
theorem dX0_meant_25 : decode cX0_meant 25 = .ok (.iload_n 3, 1) := dk_29 (dk_at dksX0_meant_1 1 rfl rfl)
theorem dX0_meant_26 : decode cX0_meant 26 = .ok (.aload_n 0, 1) := dk_42 (dk_at dksX0_meant_1 2 rfl rfl)
theorem dX0_meant_27 : decode cX0_meant 27 = .ok (.getfield 47, 3) := dk_180 0 47 (dk_at dksX0_meant_1 3 rfl rfl)
theorem dX0_meant_30 : decode cX0_meant 30 = .ok (.if_icmp .ge 40, 3) := dk_162 0 40 (dk_at dksX0_meant_1 6 rfl rfl)
theorem dX0_meant_33 : decode cX0_meant 33 = .ok (.aload_n 0, 1) := dk_42 (dk_at dksX0_meant_1 9 rfl rfl)
theorem dX0_meant_34 : decode cX0_meant 34 = .ok (.iload_n 2, 1) := dk_28 (dk_at dksX0_meant_1 10 rfl rfl)
theorem dX0_meant_35 : decode cX0_meant 35 = .ok (.aload_n 0, 1) := dk_42 (dk_at dksX0_meant_1 11 rfl rfl)
theorem dX0_meant_36 : decode cX0_meant 36 = .ok (.getfield 302, 3) := dk_180 1 46 (dk_at dksX0_meant_1 12 rfl rfl)
theorem dX0_meant_39 : decode cX0_meant 39 = .ok (.iload_n 3, 1) := dk_29 (dk_at dksX0_meant_1 15 rfl rfl)
theorem dX0_meant_40 : decode cX0_meant 40 = .ok (.aaload, 1) := dk_50 (dk_at dksX0_meant_1 16 rfl rfl)
theorem dX0_meant_41 : decode cX0_meant 41 = .ok (.iconst 0, 1) := dk_3 (dk_at dksX0_meant_1 17 rfl rfl)
theorem dX0_meant_42 : decode cX0_meant 42 = .ok (.iaload, 1) := dk_46 (dk_at dksX0_meant_1 18 rfl rfl)
theorem dX0_meant_43 : decode cX0_meant 43 = .ok (.aload_n 0, 1) := dk_42 (dk_at dksX0_meant_1 19 rfl rfl)
theorem dX0_meant_44 : decode cX0_meant 44 = .ok (.getfield 302, 3) := dk_180 1 46 (dk_at dksX0_meant_1 20 rfl rfl)
theorem dX0_meant_47 : decode cX0_meant 47 = .ok (.iload_n 3, 1) := dk_29 (dk_at dksX0_meant_1 23 rfl rfl)
theorem dX0_meant_48 : decode cX0_meant 48 = .ok (.aaload, 1) := dk_50 (dk_at dksX0_meant_2 0 rfl rfl)
theorem dX0_meant_49 : decode cX0_meant 49 = .ok (.iconst 1, 1) := dk_4 (dk_at dksX0_meant_2 1 rfl rfl)
theorem dX0_meant_50 : decode cX0_meant 50 = .ok (.iaload, 1) := dk_46 (dk_at dksX0_meant_2 2 rfl rfl)
theorem dX0_meant_51 : decode cX0_meant 51 = .ok (.iconst 1, 1) := dk_4 (dk_at dksX0_meant_2 3 rfl rfl)
theorem dX0_meant_52 : decode cX0_meant 52 = .ok (.if_icmp .ne 7, 3) := dk_160 0 7 (dk_at dksX0_meant_2 4 rfl rfl)
theorem dX0_meant_55 : decode cX0_meant 55 = .ok (.iconst 1, 1) := dk_4 (dk_at dksX0_meant_2 7 rfl rfl)
theorem dX0_meant_56 : decode cX0_meant 56 = .ok (.goto 4, 3) := dk_167 0 4 (dk_at dksX0_meant_2 8 rfl rfl)
theorem dX0_meant_59 : decode cX0_meant 59 = .ok (.iconst 0, 1) := dk_3 (dk_at dksX0_meant_2 11 rfl rfl)
theorem dX0_meant_60 : decode cX0_meant 60 = .ok (.invokevirtual 164, 3) := dk_182 0 164 (dk_at dksX0_meant_2 12 rfl rfl)
theorem dX0_meant_63 : decode cX0_meant 63 = .ok (.istore_n 2, 1) := dk_61 (dk_at dksX0_meant_2 15 rfl rfl)
theorem dX0_meant_64 : decode cX0_meant 64 = .ok (.iinc 3 1, 3) := dk_132 3 1 (dk_at dksX0_meant_2 16 rfl rfl)
theorem dX0_meant_67 : decode cX0_meant 67 = .ok (.goto (-42), 3) := dk_167 255 214 (dk_at dksX0_meant_2 19 rfl rfl)
theorem dX0_meant_70 : decode cX0_meant 70 = .ok (.bipush (-4), 2) := dk_16 252 (dk_at dksX0_meant_2 22 rfl rfl)
theorem dX0_meant_72 : decode cX0_meant 72 = .ok (.istore_n 3, 1) := dk_62 (dk_at dksX0_meant_3 0 rfl rfl)
theorem dX0_meant_73 : decode cX0_meant 73 = .ok (.iconst (-1), 1) := dk_2 (dk_at dksX0_meant_3 1 rfl rfl)
theorem dX0_meant_74 : decode cX0_meant 74 = .ok (.istore 4, 2) := dk_54 4 (dk_at dksX0_meant_3 2 rfl rfl)
theorem dX0_meant_76 : decode cX0_meant 76 = .ok (.iconst 0, 1) := dk_3 (dk_at dksX0_meant_3 4 rfl rfl)
theorem dX0_meant_77 : decode cX0_meant 77 = .ok (.istore 5, 2) := dk_54 5 (dk_at dksX0_meant_3 5 rfl rfl)
theorem dX0_meant_79 : decode cX0_meant 79 = .ok (.iload 5, 2) := dk_21 5 (dk_at dksX0_meant_3 7 rfl rfl)
theorem dX0_meant_81 : decode cX0_meant 81 = .ok (.aload_n 0, 1) := dk_42 (dk_at dksX0_meant_3 9 rfl rfl)
theorem dX0_meant_82 : decode cX0_meant 82 = .ok (.getfield 74, 3) := dk_180 0 74 (dk_at dksX0_meant_3 10 rfl rfl)
theorem dX0_meant_85 : decode cX0_meant 85 = .ok (.if_icmp .ge 63, 3) := dk_162 0 63 (dk_at dksX0_meant_3 13 rfl rfl)
theorem dX0_meant_88 : decode cX0_meant 88 = .ok (.iload_n 2, 1) := dk_28 (dk_at dksX0_meant_3 16 rfl rfl)
theorem dX0_meant_89 : decode cX0_meant 89 = .ok (.ifCond .eq 59, 3) := dk_153 0 59 (dk_at dksX0_meant_3 17 rfl rfl)
theorem dX0_meant_92 : decode cX0_meant 92 = .ok (.aload_n 0, 1) := dk_42 (dk_at dksX0_meant_3 20 rfl rfl)
theorem dX0_meant_93 : decode cX0_meant 93 = .ok (.iload_n 2, 1) := dk_28 (dk_at dksX0_meant_3 21 rfl rfl)
theorem dX0_meant_94 : decode cX0_meant 94 = .ok (.iload 5, 2) := dk_21 5 (dk_at dksX0_meant_3 22 rfl rfl)
theorem dX0_meant_96 : decode cX0_meant 96 = .ok (.iconst 1, 1) := dk_4 (dk_at dksX0_meant_4 0 rfl rfl)
theorem dX0_meant_97 : decode cX0_meant 97 = .ok (.invokevirtual 164, 3) := dk_182 0 164 (dk_at dksX0_meant_4 1 rfl rfl)
theorem dX0_meant_100 : decode cX0_meant 100 = .ok (.invokestatic 294, 3) := dk_184 1 38 (dk_at dksX0_meant_4 4 rfl rfl)
theorem dX0_meant_103 : decode cX0_meant 103 = .ok (.istore 6, 2) := dk_54 6 (dk_at dksX0_meant_4 7 rfl rfl)
theorem dX0_meant_105 : decode cX0_meant 105 = .ok (.iload 6, 2) := dk_21 6 (dk_at dksX0_meant_4 9 rfl rfl)
theorem dX0_meant_107 : decode cX0_meant 107 = .ok (.iload_n 2, 1) := dk_28 (dk_at dksX0_meant_4 11 rfl rfl)
theorem dX0_meant_108 : decode cX0_meant 108 = .ok (.invokestatic 294, 3) := dk_184 1 38 (dk_at dksX0_meant_4 12 rfl rfl)
theorem dX0_meant_111 : decode cX0_meant 111 = .ok (.iload 6, 2) := dk_21 6 (dk_at dksX0_meant_4 15 rfl rfl)
theorem dX0_meant_113 : decode cX0_meant 113 = .ok (.isub, 1) := dk_100 (dk_at dksX0_meant_4 17 rfl rfl)
theorem dX0_meant_114 : decode cX0_meant 114 = .ok (.invokestatic 307, 3) := dk_184 1 51 (dk_at dksX0_meant_4 18 rfl rfl)
theorem dX0_meant_117 : decode cX0_meant 117 = .ok (.istore 7, 2) := dk_54 7 (dk_at dksX0_meant_4 21 rfl rfl)
theorem dX0_meant_119 : decode cX0_meant 119 = .ok (.iload 7, 2) := dk_21 7 (dk_at dksX0_meant_5 0 rfl rfl)
theorem dX0_meant_121 : decode cX0_meant 121 = .ok (.iload 4, 2) := dk_21 4 (dk_at dksX0_meant_5 2 rfl rfl)
theorem dX0_meant_123 : decode cX0_meant 123 = .ok (.if_icmp .le 8, 3) := dk_164 0 8 (dk_at dksX0_meant_5 4 rfl rfl)
theorem dX0_meant_126 : decode cX0_meant 126 = .ok (.iload 5, 2) := dk_21 5 (dk_at dksX0_meant_5 7 rfl rfl)
theorem dX0_meant_128 : decode cX0_meant 128 = .ok (.goto 4, 3) := dk_167 0 4 (dk_at dksX0_meant_5 9 rfl rfl)
theorem dX0_meant_131 : decode cX0_meant 131 = .ok (.iload_n 3, 1) := dk_29 (dk_at dksX0_meant_5 12 rfl rfl)
theorem dX0_meant_132 : decode cX0_meant 132 = .ok (.istore_n 3, 1) := dk_62 (dk_at dksX0_meant_5 13 rfl rfl)
theorem dX0_meant_133 : decode cX0_meant 133 = .ok (.iload 4, 2) := dk_21 4 (dk_at dksX0_meant_5 14 rfl rfl)
theorem dX0_meant_135 : decode cX0_meant 135 = .ok (.iload 7, 2) := dk_21 7 (dk_at dksX0_meant_5 16 rfl rfl)
theorem dX0_meant_137 : decode cX0_meant 137 = .ok (.invokestatic 283, 3) := dk_184 1 27 (dk_at dksX0_meant_5 18 rfl rfl)
theorem dX0_meant_140 : decode cX0_meant 140 = .ok (.istore 4, 2) := dk_54 4 (dk_at dksX0_meant_5 21 rfl rfl)
theorem dX0_meant_142 : decode cX0_meant 142 = .ok (.iinc 5 1, 3) := dk_132 5 1 (dk_at dksX0_meant_6 0 rfl rfl)
theorem dX0_meant_145 : decode cX0_meant 145 = .ok (.goto (-66), 3) := dk_167 255 190 (dk_at dksX0_meant_6 3 rfl rfl)
theorem dX0_meant_148 : decode cX0_meant 148 = .ok (.iload_n 1, 1) := dk_27 (dk_at dksX0_meant_6 6 rfl rfl)
theorem dX0_meant_149 : decode cX0_meant 149 = .ok (.ifCond .ne 10, 3) := dk_154 0 10 (dk_at dksX0_meant_6 7 rfl rfl)
theorem dX0_meant_152 : decode cX0_meant 152 = .ok (.iload_n 2, 1) := dk_28 (dk_at dksX0_meant_6 10 rfl rfl)
theorem dX0_meant_153 : decode cX0_meant 153 = .ok (.invokestatic 294, 3) := dk_184 1 38 (dk_at dksX0_meant_6 11 rfl rfl)
theorem dX0_meant_156 : decode cX0_meant 156 = .ok (.goto 26, 3) := dk_167 0 26 (dk_at dksX0_meant_6 14 rfl rfl)
theorem dX0_meant_159 : decode cX0_meant 159 = .ok (.iload_n 1, 1) := dk_27 (dk_at dksX0_meant_6 17 rfl rfl)
theorem dX0_meant_160 : decode cX0_meant 160 = .ok (.iconst 1, 1) := dk_4 (dk_at dksX0_meant_6 18 rfl rfl)
theorem dX0_meant_161 : decode cX0_meant 161 = .ok (.if_icmp .ne 11, 3) := dk_160 0 11 (dk_at dksX0_meant_6 19 rfl rfl)
theorem dX0_meant_164 : decode cX0_meant 164 = .ok (.aload_n 0, 1) := dk_42 (dk_at dksX0_meant_6 22 rfl rfl)
theorem dX0_meant_165 : decode cX0_meant 165 = .ok (.iload_n 2, 1) := dk_28 (dk_at dksX0_meant_6 23 rfl rfl)
theorem dX0_meant_166 : decode cX0_meant 166 = .ok (.invokevirtual 310, 3) := dk_182 1 54 (dk_at dksX0_meant_7 0 rfl rfl)
theorem dX0_meant_169 : decode cX0_meant 169 = .ok (.goto 13, 3) := dk_167 0 13 (dk_at dksX0_meant_7 3 rfl rfl)
theorem dX0_meant_172 : decode cX0_meant 172 = .ok (.iload_n 1, 1) := dk_27 (dk_at dksX0_meant_7 6 rfl rfl)
theorem dX0_meant_173 : decode cX0_meant 173 = .ok (.iconst 2, 1) := dk_5 (dk_at dksX0_meant_7 7 rfl rfl)
theorem dX0_meant_174 : decode cX0_meant 174 = .ok (.if_icmp .ne 7, 3) := dk_160 0 7 (dk_at dksX0_meant_7 8 rfl rfl)
theorem dX0_meant_177 : decode cX0_meant 177 = .ok (.iload_n 2, 1) := dk_28 (dk_at dksX0_meant_7 11 rfl rfl)
theorem dX0_meant_178 : decode cX0_meant 178 = .ok (.goto 4, 3) := dk_167 0 4 (dk_at dksX0_meant_7 12 rfl rfl)
theorem dX0_meant_181 : decode cX0_meant 181 = .ok (.iload_n 3, 1) := dk_29 (dk_at dksX0_meant_7 15 rfl rfl)
theorem dX0_meant_182 : decode cX0_meant 182 = .ok (.ireturn, 1) := dk_172 (dk_at dksX0_meant_7 16 rfl rfl)
abbrev cX0_build : ByteArray := prog_1_method_60_code
def yX0_build : MethodName := ⟨RX0, "build", "(II)I"⟩
def dkwX0_build_8 : List UInt8 := [167, 255, 126, 132, 5, 1, 167, 255, 108, 132, 4, 1, 167, 255, 93, 16, 252, 172]
abbrev dktX0_build_8 : List UInt8 := dkwX0_build_8 ++ []
def dkwX0_build_7 : List UInt8 := [21, 5, 167, 0, 16, 21, 4, 4, 160, 0, 8, 16, 252, 167, 0, 5, 21, 6, 172, 132, 6, 1]
abbrev dktX0_build_7 : List UInt8 := dkwX0_build_7 ++ dktX0_build_8
def dkwX0_build_6 : List UInt8 := [159, 0, 10, 21, 5, 21, 6, 159, 0, 36, 28, 154, 0, 8, 21, 4, 167, 0, 26, 28, 4, 160, 0, 8]
abbrev dktX0_build_6 : List UInt8 := dkwX0_build_6 ++ dktX0_build_7
def dkwX0_build_5 : List UInt8 := [21, 8, 126, 167, 0, 10, 21, 7, 21, 8, 2, 130, 126, 54, 9, 21, 9, 29, 160, 0, 49, 21, 4, 4]
abbrev dktX0_build_5 : List UInt8 := dkwX0_build_5 ++ dktX0_build_6
def dkwX0_build_4 : List UInt8 := [180, 0, 109, 54, 8, 21, 4, 4, 160, 0, 8, 21, 7, 167, 0, 24, 21, 4, 5, 160, 0, 11, 21, 7]
abbrev dktX0_build_4 : List UInt8 := dkwX0_build_4 ++ dktX0_build_5
def dkwX0_build_3 : List UInt8 := [180, 0, 77, 162, 0, 117, 42, 21, 5, 182, 0, 186, 180, 0, 109, 54, 7, 42, 21, 6, 182, 0, 186]
abbrev dktX0_build_3 : List UInt8 := dkwX0_build_3 ++ dktX0_build_4
def dkwX0_build_2 : List UInt8 := [180, 0, 77, 162, 0, 145, 3, 54, 6, 21, 6, 21, 4, 4, 160, 0, 7, 4, 167, 0, 7, 42]
abbrev dktX0_build_2 : List UInt8 := dkwX0_build_2 ++ dktX0_build_3
def dkwX0_build_1 : List UInt8 := [180, 0, 7, 27, 50, 180, 0, 109, 62, 4, 54, 4, 21, 4, 7, 162, 0, 163, 3, 54, 5, 21, 5, 42]
abbrev dktX0_build_1 : List UInt8 := dkwX0_build_1 ++ dktX0_build_2
def dkwX0_build_0 : List UInt8 := [42, 27, 182, 0, 91, 153, 0, 15, 28, 133, 9, 20, 0, 193, 184, 0, 24, 154, 0, 5, 2, 172, 42]
abbrev dktX0_build_0 : List UInt8 := dkwX0_build_0 ++ dktX0_build_1
theorem dksX0_build_0 : cX0_build.data.toList.drop 0 = dktX0_build_0 := by decide +kernel
theorem dksX0_build_1 : cX0_build.data.toList.drop 23 = dktX0_build_1 := dk_seg dksX0_build_0 23 rfl rfl
theorem dksX0_build_2 : cX0_build.data.toList.drop 47 = dktX0_build_2 := dk_seg dksX0_build_1 24 rfl rfl
theorem dksX0_build_3 : cX0_build.data.toList.drop 69 = dktX0_build_3 := dk_seg dksX0_build_2 22 rfl rfl
theorem dksX0_build_4 : cX0_build.data.toList.drop 92 = dktX0_build_4 := dk_seg dksX0_build_3 23 rfl rfl
theorem dksX0_build_5 : cX0_build.data.toList.drop 116 = dktX0_build_5 := dk_seg dksX0_build_4 24 rfl rfl
theorem dksX0_build_6 : cX0_build.data.toList.drop 140 = dktX0_build_6 := dk_seg dksX0_build_5 24 rfl rfl
theorem dksX0_build_7 : cX0_build.data.toList.drop 164 = dktX0_build_7 := dk_seg dksX0_build_6 24 rfl rfl
theorem dksX0_build_8 : cX0_build.data.toList.drop 186 = dktX0_build_8 := dk_seg dksX0_build_7 22 rfl rfl
theorem dX0_build_0 : decode cX0_build 0 = .ok (.aload_n 0, 1) := dk_42 (dk_at dksX0_build_0 0 rfl rfl)
theorem dX0_build_1 : decode cX0_build 1 = .ok (.iload_n 1, 1) := dk_27 (dk_at dksX0_build_0 1 rfl rfl)
theorem dX0_build_2 : decode cX0_build 2 = .ok (.invokevirtual 91, 3) := dk_182 0 91 (dk_at dksX0_build_0 2 rfl rfl)
theorem dX0_build_5 : decode cX0_build 5 = .ok (.ifCond .eq 15, 3) := dk_153 0 15 (dk_at dksX0_build_0 5 rfl rfl)
theorem dX0_build_8 : decode cX0_build 8 = .ok (.iload_n 2, 1) := dk_28 (dk_at dksX0_build_0 8 rfl rfl)
theorem dX0_build_9 : decode cX0_build 9 = .ok (.i2l, 1) := dk_133 (dk_at dksX0_build_0 9 rfl rfl)
theorem dX0_build_10 : decode cX0_build 10 = .ok (.lconst 0, 1) := dk_9 (dk_at dksX0_build_0 10 rfl rfl)
theorem dX0_build_11 : decode cX0_build 11 = .ok (.ldc2_w 193, 3) := dk_20 0 193 (dk_at dksX0_build_0 11 rfl rfl)
theorem dX0_build_14 : decode cX0_build 14 = .ok (.invokestatic 24, 3) := dk_184 0 24 (dk_at dksX0_build_0 14 rfl rfl)
theorem dX0_build_17 : decode cX0_build 17 = .ok (.ifCond .ne 5, 3) := dk_154 0 5 (dk_at dksX0_build_0 17 rfl rfl)
theorem dX0_build_20 : decode cX0_build 20 = .ok (.iconst (-1), 1) := dk_2 (dk_at dksX0_build_0 20 rfl rfl)
theorem dX0_build_21 : decode cX0_build 21 = .ok (.ireturn, 1) := dk_172 (dk_at dksX0_build_0 21 rfl rfl)
theorem dX0_build_22 : decode cX0_build 22 = .ok (.aload_n 0, 1) := dk_42 (dk_at dksX0_build_0 22 rfl rfl)
theorem dX0_build_23 : decode cX0_build 23 = .ok (.getfield 7, 3) := dk_180 0 7 (dk_at dksX0_build_1 0 rfl rfl)
theorem dX0_build_26 : decode cX0_build 26 = .ok (.iload_n 1, 1) := dk_27 (dk_at dksX0_build_1 3 rfl rfl)
theorem dX0_build_27 : decode cX0_build 27 = .ok (.aaload, 1) := dk_50 (dk_at dksX0_build_1 4 rfl rfl)
theorem dX0_build_28 : decode cX0_build 28 = .ok (.getfield 109, 3) := dk_180 0 109 (dk_at dksX0_build_1 5 rfl rfl)
theorem dX0_build_31 : decode cX0_build 31 = .ok (.istore_n 3, 1) := dk_62 (dk_at dksX0_build_1 8 rfl rfl)
theorem dX0_build_32 : decode cX0_build 32 = .ok (.iconst 1, 1) := dk_4 (dk_at dksX0_build_1 9 rfl rfl)
theorem dX0_build_33 : decode cX0_build 33 = .ok (.istore 4, 2) := dk_54 4 (dk_at dksX0_build_1 10 rfl rfl)
theorem dX0_build_35 : decode cX0_build 35 = .ok (.iload 4, 2) := dk_21 4 (dk_at dksX0_build_1 12 rfl rfl)
theorem dX0_build_37 : decode cX0_build 37 = .ok (.iconst 4, 1) := dk_7 (dk_at dksX0_build_1 14 rfl rfl)
theorem dX0_build_38 : decode cX0_build 38 = .ok (.if_icmp .ge 163, 3) := dk_162 0 163 (dk_at dksX0_build_1 15 rfl rfl)
theorem dX0_build_41 : decode cX0_build 41 = .ok (.iconst 0, 1) := dk_3 (dk_at dksX0_build_1 18 rfl rfl)
theorem dX0_build_42 : decode cX0_build 42 = .ok (.istore 5, 2) := dk_54 5 (dk_at dksX0_build_1 19 rfl rfl)
theorem dX0_build_44 : decode cX0_build 44 = .ok (.iload 5, 2) := dk_21 5 (dk_at dksX0_build_1 21 rfl rfl)
theorem dX0_build_46 : decode cX0_build 46 = .ok (.aload_n 0, 1) := dk_42 (dk_at dksX0_build_1 23 rfl rfl)
theorem dX0_build_47 : decode cX0_build 47 = .ok (.getfield 77, 3) := dk_180 0 77 (dk_at dksX0_build_2 0 rfl rfl)
theorem dX0_build_50 : decode cX0_build 50 = .ok (.if_icmp .ge 145, 3) := dk_162 0 145 (dk_at dksX0_build_2 3 rfl rfl)
theorem dX0_build_53 : decode cX0_build 53 = .ok (.iconst 0, 1) := dk_3 (dk_at dksX0_build_2 6 rfl rfl)
theorem dX0_build_54 : decode cX0_build 54 = .ok (.istore 6, 2) := dk_54 6 (dk_at dksX0_build_2 7 rfl rfl)
theorem dX0_build_56 : decode cX0_build 56 = .ok (.iload 6, 2) := dk_21 6 (dk_at dksX0_build_2 9 rfl rfl)
theorem dX0_build_58 : decode cX0_build 58 = .ok (.iload 4, 2) := dk_21 4 (dk_at dksX0_build_2 11 rfl rfl)
theorem dX0_build_60 : decode cX0_build 60 = .ok (.iconst 1, 1) := dk_4 (dk_at dksX0_build_2 13 rfl rfl)
theorem dX0_build_61 : decode cX0_build 61 = .ok (.if_icmp .ne 7, 3) := dk_160 0 7 (dk_at dksX0_build_2 14 rfl rfl)
theorem dX0_build_64 : decode cX0_build 64 = .ok (.iconst 1, 1) := dk_4 (dk_at dksX0_build_2 17 rfl rfl)
theorem dX0_build_65 : decode cX0_build 65 = .ok (.goto 7, 3) := dk_167 0 7 (dk_at dksX0_build_2 18 rfl rfl)
theorem dX0_build_68 : decode cX0_build 68 = .ok (.aload_n 0, 1) := dk_42 (dk_at dksX0_build_2 21 rfl rfl)
theorem dX0_build_69 : decode cX0_build 69 = .ok (.getfield 77, 3) := dk_180 0 77 (dk_at dksX0_build_3 0 rfl rfl)
theorem dX0_build_72 : decode cX0_build 72 = .ok (.if_icmp .ge 117, 3) := dk_162 0 117 (dk_at dksX0_build_3 3 rfl rfl)
theorem dX0_build_75 : decode cX0_build 75 = .ok (.aload_n 0, 1) := dk_42 (dk_at dksX0_build_3 6 rfl rfl)
theorem dX0_build_76 : decode cX0_build 76 = .ok (.iload 5, 2) := dk_21 5 (dk_at dksX0_build_3 7 rfl rfl)
theorem dX0_build_78 : decode cX0_build 78 = .ok (.invokevirtual 186, 3) := dk_182 0 186 (dk_at dksX0_build_3 9 rfl rfl)
theorem dX0_build_81 : decode cX0_build 81 = .ok (.getfield 109, 3) := dk_180 0 109 (dk_at dksX0_build_3 12 rfl rfl)
theorem dX0_build_84 : decode cX0_build 84 = .ok (.istore 7, 2) := dk_54 7 (dk_at dksX0_build_3 15 rfl rfl)
theorem dX0_build_86 : decode cX0_build 86 = .ok (.aload_n 0, 1) := dk_42 (dk_at dksX0_build_3 17 rfl rfl)
theorem dX0_build_87 : decode cX0_build 87 = .ok (.iload 6, 2) := dk_21 6 (dk_at dksX0_build_3 18 rfl rfl)
theorem dX0_build_89 : decode cX0_build 89 = .ok (.invokevirtual 186, 3) := dk_182 0 186 (dk_at dksX0_build_3 20 rfl rfl)
theorem dX0_build_92 : decode cX0_build 92 = .ok (.getfield 109, 3) := dk_180 0 109 (dk_at dksX0_build_4 0 rfl rfl)
theorem dX0_build_95 : decode cX0_build 95 = .ok (.istore 8, 2) := dk_54 8 (dk_at dksX0_build_4 3 rfl rfl)
theorem dX0_build_97 : decode cX0_build 97 = .ok (.iload 4, 2) := dk_21 4 (dk_at dksX0_build_4 5 rfl rfl)
theorem dX0_build_99 : decode cX0_build 99 = .ok (.iconst 1, 1) := dk_4 (dk_at dksX0_build_4 7 rfl rfl)
theorem dX0_build_100 : decode cX0_build 100 = .ok (.if_icmp .ne 8, 3) := dk_160 0 8 (dk_at dksX0_build_4 8 rfl rfl)
theorem dX0_build_103 : decode cX0_build 103 = .ok (.iload 7, 2) := dk_21 7 (dk_at dksX0_build_4 11 rfl rfl)
theorem dX0_build_105 : decode cX0_build 105 = .ok (.goto 24, 3) := dk_167 0 24 (dk_at dksX0_build_4 13 rfl rfl)
theorem dX0_build_108 : decode cX0_build 108 = .ok (.iload 4, 2) := dk_21 4 (dk_at dksX0_build_4 16 rfl rfl)
theorem dX0_build_110 : decode cX0_build 110 = .ok (.iconst 2, 1) := dk_5 (dk_at dksX0_build_4 18 rfl rfl)
theorem dX0_build_111 : decode cX0_build 111 = .ok (.if_icmp .ne 11, 3) := dk_160 0 11 (dk_at dksX0_build_4 19 rfl rfl)
theorem dX0_build_114 : decode cX0_build 114 = .ok (.iload 7, 2) := dk_21 7 (dk_at dksX0_build_4 22 rfl rfl)
theorem dX0_build_116 : decode cX0_build 116 = .ok (.iload 8, 2) := dk_21 8 (dk_at dksX0_build_5 0 rfl rfl)
theorem dX0_build_118 : decode cX0_build 118 = .ok (.iand, 1) := dk_126 (dk_at dksX0_build_5 2 rfl rfl)
theorem dX0_build_119 : decode cX0_build 119 = .ok (.goto 10, 3) := dk_167 0 10 (dk_at dksX0_build_5 3 rfl rfl)
theorem dX0_build_122 : decode cX0_build 122 = .ok (.iload 7, 2) := dk_21 7 (dk_at dksX0_build_5 6 rfl rfl)
theorem dX0_build_124 : decode cX0_build 124 = .ok (.iload 8, 2) := dk_21 8 (dk_at dksX0_build_5 8 rfl rfl)
theorem dX0_build_126 : decode cX0_build 126 = .ok (.iconst (-1), 1) := dk_2 (dk_at dksX0_build_5 10 rfl rfl)
theorem dX0_build_127 : decode cX0_build 127 = .ok (.ixor, 1) := dk_130 (dk_at dksX0_build_5 11 rfl rfl)
theorem dX0_build_128 : decode cX0_build 128 = .ok (.iand, 1) := dk_126 (dk_at dksX0_build_5 12 rfl rfl)
theorem dX0_build_129 : decode cX0_build 129 = .ok (.istore 9, 2) := dk_54 9 (dk_at dksX0_build_5 13 rfl rfl)
theorem dX0_build_131 : decode cX0_build 131 = .ok (.iload 9, 2) := dk_21 9 (dk_at dksX0_build_5 15 rfl rfl)
theorem dX0_build_133 : decode cX0_build 133 = .ok (.iload_n 3, 1) := dk_29 (dk_at dksX0_build_5 17 rfl rfl)
theorem dX0_build_134 : decode cX0_build 134 = .ok (.if_icmp .ne 49, 3) := dk_160 0 49 (dk_at dksX0_build_5 18 rfl rfl)
theorem dX0_build_137 : decode cX0_build 137 = .ok (.iload 4, 2) := dk_21 4 (dk_at dksX0_build_5 21 rfl rfl)
theorem dX0_build_139 : decode cX0_build 139 = .ok (.iconst 1, 1) := dk_4 (dk_at dksX0_build_5 23 rfl rfl)
theorem dX0_build_140 : decode cX0_build 140 = .ok (.if_icmp .eq 10, 3) := dk_159 0 10 (dk_at dksX0_build_6 0 rfl rfl)
theorem dX0_build_143 : decode cX0_build 143 = .ok (.iload 5, 2) := dk_21 5 (dk_at dksX0_build_6 3 rfl rfl)
theorem dX0_build_145 : decode cX0_build 145 = .ok (.iload 6, 2) := dk_21 6 (dk_at dksX0_build_6 5 rfl rfl)
theorem dX0_build_147 : decode cX0_build 147 = .ok (.if_icmp .eq 36, 3) := dk_159 0 36 (dk_at dksX0_build_6 7 rfl rfl)
theorem dX0_build_150 : decode cX0_build 150 = .ok (.iload_n 2, 1) := dk_28 (dk_at dksX0_build_6 10 rfl rfl)
theorem dX0_build_151 : decode cX0_build 151 = .ok (.ifCond .ne 8, 3) := dk_154 0 8 (dk_at dksX0_build_6 11 rfl rfl)
theorem dX0_build_154 : decode cX0_build 154 = .ok (.iload 4, 2) := dk_21 4 (dk_at dksX0_build_6 14 rfl rfl)
theorem dX0_build_156 : decode cX0_build 156 = .ok (.goto 26, 3) := dk_167 0 26 (dk_at dksX0_build_6 16 rfl rfl)
theorem dX0_build_159 : decode cX0_build 159 = .ok (.iload_n 2, 1) := dk_28 (dk_at dksX0_build_6 19 rfl rfl)
theorem dX0_build_160 : decode cX0_build 160 = .ok (.iconst 1, 1) := dk_4 (dk_at dksX0_build_6 20 rfl rfl)
theorem dX0_build_161 : decode cX0_build 161 = .ok (.if_icmp .ne 8, 3) := dk_160 0 8 (dk_at dksX0_build_6 21 rfl rfl)
theorem dX0_build_164 : decode cX0_build 164 = .ok (.iload 5, 2) := dk_21 5 (dk_at dksX0_build_7 0 rfl rfl)
theorem dX0_build_166 : decode cX0_build 166 = .ok (.goto 16, 3) := dk_167 0 16 (dk_at dksX0_build_7 2 rfl rfl)
theorem dX0_build_169 : decode cX0_build 169 = .ok (.iload 4, 2) := dk_21 4 (dk_at dksX0_build_7 5 rfl rfl)
theorem dX0_build_171 : decode cX0_build 171 = .ok (.iconst 1, 1) := dk_4 (dk_at dksX0_build_7 7 rfl rfl)
theorem dX0_build_172 : decode cX0_build 172 = .ok (.if_icmp .ne 8, 3) := dk_160 0 8 (dk_at dksX0_build_7 8 rfl rfl)
theorem dX0_build_175 : decode cX0_build 175 = .ok (.bipush (-4), 2) := dk_16 252 (dk_at dksX0_build_7 11 rfl rfl)
theorem dX0_build_177 : decode cX0_build 177 = .ok (.goto 5, 3) := dk_167 0 5 (dk_at dksX0_build_7 13 rfl rfl)
theorem dX0_build_180 : decode cX0_build 180 = .ok (.iload 6, 2) := dk_21 6 (dk_at dksX0_build_7 16 rfl rfl)
theorem dX0_build_182 : decode cX0_build 182 = .ok (.ireturn, 1) := dk_172 (dk_at dksX0_build_7 18 rfl rfl)
theorem dX0_build_183 : decode cX0_build 183 = .ok (.iinc 6 1, 3) := dk_132 6 1 (dk_at dksX0_build_7 19 rfl rfl)
theorem dX0_build_186 : decode cX0_build 186 = .ok (.goto (-130), 3) := dk_167 255 126 (dk_at dksX0_build_8 0 rfl rfl)
theorem dX0_build_189 : decode cX0_build 189 = .ok (.iinc 5 1, 3) := dk_132 5 1 (dk_at dksX0_build_8 3 rfl rfl)
theorem dX0_build_192 : decode cX0_build 192 = .ok (.goto (-148), 3) := dk_167 255 108 (dk_at dksX0_build_8 6 rfl rfl)
theorem dX0_build_195 : decode cX0_build 195 = .ok (.iinc 4 1, 3) := dk_132 4 1 (dk_at dksX0_build_8 9 rfl rfl)
theorem dX0_build_198 : decode cX0_build 198 = .ok (.goto (-163), 3) := dk_167 255 93 (dk_at dksX0_build_8 12 rfl rfl)
theorem dX0_build_201 : decode cX0_build 201 = .ok (.bipush (-4), 2) := dk_16 252 (dk_at dksX0_build_8 15 rfl rfl)
theorem dX0_build_203 : decode cX0_build 203 = .ok (.ireturn, 1) := dk_172 (dk_at dksX0_build_8 17 rfl rfl)
abbrev cX0_draw : ByteArray := prog_1_method_61_code
def yX0_draw : MethodName := ⟨RX0, "draw", "(I)I"⟩
def dkwX0_draw_3 : List UInt8 := [167, 255, 226, 21, 4, 172]
abbrev dktX0_draw_3 : List UInt8 := dkwX0_draw_3 ++ []
def dkwX0_draw_2 : List UInt8 := [180, 0, 133, 161, 0, 22, 29, 42, 180, 0, 94, 21, 4, 50, 180, 0, 133, 100, 62, 132, 4, 1]
abbrev dktX0_draw_2 : List UInt8 := dkwX0_draw_2 ++ dktX0_draw_3
def dkwX0_draw_1 : List UInt8 := [96, 16, 16, 122, 17, 127, 255, 126, 28, 112, 62, 3, 54, 4, 29, 42, 180, 0, 94, 21, 4, 50]
abbrev dktX0_draw_1 : List UInt8 := dkwX0_draw_1 ++ dktX0_draw_2
def dkwX0_draw_0 : List UInt8 := [42, 42, 182, 1, 7, 182, 1, 10, 61, 28, 154, 0, 6, 16, 252, 172, 27, 19, 1, 57, 104, 17, 48, 57]
abbrev dktX0_draw_0 : List UInt8 := dkwX0_draw_0 ++ dktX0_draw_1
theorem dksX0_draw_0 : cX0_draw.data.toList.drop 0 = dktX0_draw_0 := by decide +kernel
theorem dksX0_draw_1 : cX0_draw.data.toList.drop 24 = dktX0_draw_1 := dk_seg dksX0_draw_0 24 rfl rfl
theorem dksX0_draw_2 : cX0_draw.data.toList.drop 46 = dktX0_draw_2 := dk_seg dksX0_draw_1 22 rfl rfl
theorem dksX0_draw_3 : cX0_draw.data.toList.drop 68 = dktX0_draw_3 := dk_seg dksX0_draw_2 22 rfl rfl
theorem dX0_draw_0 : decode cX0_draw 0 = .ok (.aload_n 0, 1) := dk_42 (dk_at dksX0_draw_0 0 rfl rfl)
theorem dX0_draw_1 : decode cX0_draw 1 = .ok (.aload_n 0, 1) := dk_42 (dk_at dksX0_draw_0 1 rfl rfl)
theorem dX0_draw_2 : decode cX0_draw 2 = .ok (.invokevirtual 263, 3) := dk_182 1 7 (dk_at dksX0_draw_0 2 rfl rfl)
theorem dX0_draw_5 : decode cX0_draw 5 = .ok (.invokevirtual 266, 3) := dk_182 1 10 (dk_at dksX0_draw_0 5 rfl rfl)
theorem dX0_draw_8 : decode cX0_draw 8 = .ok (.istore_n 2, 1) := dk_61 (dk_at dksX0_draw_0 8 rfl rfl)
theorem dX0_draw_9 : decode cX0_draw 9 = .ok (.iload_n 2, 1) := dk_28 (dk_at dksX0_draw_0 9 rfl rfl)
theorem dX0_draw_10 : decode cX0_draw 10 = .ok (.ifCond .ne 6, 3) := dk_154 0 6 (dk_at dksX0_draw_0 10 rfl rfl)
theorem dX0_draw_13 : decode cX0_draw 13 = .ok (.bipush (-4), 2) := dk_16 252 (dk_at dksX0_draw_0 13 rfl rfl)
theorem dX0_draw_15 : decode cX0_draw 15 = .ok (.ireturn, 1) := dk_172 (dk_at dksX0_draw_0 15 rfl rfl)
theorem dX0_draw_16 : decode cX0_draw 16 = .ok (.iload_n 1, 1) := dk_27 (dk_at dksX0_draw_0 16 rfl rfl)
theorem dX0_draw_17 : decode cX0_draw 17 = .ok (.ldc_w 313, 3) := dk_19 1 57 (dk_at dksX0_draw_0 17 rfl rfl)
theorem dX0_draw_20 : decode cX0_draw 20 = .ok (.imul, 1) := dk_104 (dk_at dksX0_draw_0 20 rfl rfl)
theorem dX0_draw_21 : decode cX0_draw 21 = .ok (.sipush 12345, 3) := dk_17 48 57 (dk_at dksX0_draw_0 21 rfl rfl)
theorem dX0_draw_24 : decode cX0_draw 24 = .ok (.iadd, 1) := dk_96 (dk_at dksX0_draw_1 0 rfl rfl)
theorem dX0_draw_25 : decode cX0_draw 25 = .ok (.bipush 16, 2) := dk_16 16 (dk_at dksX0_draw_1 1 rfl rfl)
theorem dX0_draw_27 : decode cX0_draw 27 = .ok (.ishr, 1) := dk_122 (dk_at dksX0_draw_1 3 rfl rfl)
theorem dX0_draw_28 : decode cX0_draw 28 = .ok (.sipush 32767, 3) := dk_17 127 255 (dk_at dksX0_draw_1 4 rfl rfl)
theorem dX0_draw_31 : decode cX0_draw 31 = .ok (.iand, 1) := dk_126 (dk_at dksX0_draw_1 7 rfl rfl)
theorem dX0_draw_32 : decode cX0_draw 32 = .ok (.iload_n 2, 1) := dk_28 (dk_at dksX0_draw_1 8 rfl rfl)
theorem dX0_draw_33 : decode cX0_draw 33 = .ok (.irem, 1) := dk_112 (dk_at dksX0_draw_1 9 rfl rfl)
theorem dX0_draw_34 : decode cX0_draw 34 = .ok (.istore_n 3, 1) := dk_62 (dk_at dksX0_draw_1 10 rfl rfl)
theorem dX0_draw_35 : decode cX0_draw 35 = .ok (.iconst 0, 1) := dk_3 (dk_at dksX0_draw_1 11 rfl rfl)
theorem dX0_draw_36 : decode cX0_draw 36 = .ok (.istore 4, 2) := dk_54 4 (dk_at dksX0_draw_1 12 rfl rfl)
theorem dX0_draw_38 : decode cX0_draw 38 = .ok (.iload_n 3, 1) := dk_29 (dk_at dksX0_draw_1 14 rfl rfl)
theorem dX0_draw_39 : decode cX0_draw 39 = .ok (.aload_n 0, 1) := dk_42 (dk_at dksX0_draw_1 15 rfl rfl)
theorem dX0_draw_40 : decode cX0_draw 40 = .ok (.getfield 94, 3) := dk_180 0 94 (dk_at dksX0_draw_1 16 rfl rfl)
theorem dX0_draw_43 : decode cX0_draw 43 = .ok (.iload 4, 2) := dk_21 4 (dk_at dksX0_draw_1 19 rfl rfl)
theorem dX0_draw_45 : decode cX0_draw 45 = .ok (.aaload, 1) := dk_50 (dk_at dksX0_draw_1 21 rfl rfl)
theorem dX0_draw_46 : decode cX0_draw 46 = .ok (.getfield 133, 3) := dk_180 0 133 (dk_at dksX0_draw_2 0 rfl rfl)
theorem dX0_draw_49 : decode cX0_draw 49 = .ok (.if_icmp .lt 22, 3) := dk_161 0 22 (dk_at dksX0_draw_2 3 rfl rfl)
theorem dX0_draw_52 : decode cX0_draw 52 = .ok (.iload_n 3, 1) := dk_29 (dk_at dksX0_draw_2 6 rfl rfl)
theorem dX0_draw_53 : decode cX0_draw 53 = .ok (.aload_n 0, 1) := dk_42 (dk_at dksX0_draw_2 7 rfl rfl)
theorem dX0_draw_54 : decode cX0_draw 54 = .ok (.getfield 94, 3) := dk_180 0 94 (dk_at dksX0_draw_2 8 rfl rfl)
theorem dX0_draw_57 : decode cX0_draw 57 = .ok (.iload 4, 2) := dk_21 4 (dk_at dksX0_draw_2 11 rfl rfl)
theorem dX0_draw_59 : decode cX0_draw 59 = .ok (.aaload, 1) := dk_50 (dk_at dksX0_draw_2 13 rfl rfl)
theorem dX0_draw_60 : decode cX0_draw 60 = .ok (.getfield 133, 3) := dk_180 0 133 (dk_at dksX0_draw_2 14 rfl rfl)
theorem dX0_draw_63 : decode cX0_draw 63 = .ok (.isub, 1) := dk_100 (dk_at dksX0_draw_2 17 rfl rfl)
theorem dX0_draw_64 : decode cX0_draw 64 = .ok (.istore_n 3, 1) := dk_62 (dk_at dksX0_draw_2 18 rfl rfl)
theorem dX0_draw_65 : decode cX0_draw 65 = .ok (.iinc 4 1, 3) := dk_132 4 1 (dk_at dksX0_draw_2 19 rfl rfl)
theorem dX0_draw_68 : decode cX0_draw 68 = .ok (.goto (-30), 3) := dk_167 255 226 (dk_at dksX0_draw_3 0 rfl rfl)
theorem dX0_draw_71 : decode cX0_draw 71 = .ok (.iload 4, 2) := dk_21 4 (dk_at dksX0_draw_3 3 rfl rfl)
theorem dX0_draw_73 : decode cX0_draw 73 = .ok (.ireturn, 1) := dk_172 (dk_at dksX0_draw_3 5 rfl rfl)
abbrev cX0_keep : ByteArray := prog_1_method_63_code
def yX0_keep : MethodName := ⟨RX0, "keep", "(I)I"⟩
def dkwX0_keep_3 : List UInt8 := [42, 180, 0, 157, 181, 1, 66, 44, 4, 181, 0, 54, 29, 172]
abbrev dktX0_keep_3 : List UInt8 := dkwX0_keep_3 ++ []
def dkwX0_keep_2 : List UInt8 := [44, 180, 1, 63, 184, 1, 59, 44, 42, 180, 0, 154, 181, 1, 64, 44, 42, 180, 0, 47, 181, 1, 65, 44]
abbrev dktX0_keep_2 : List UInt8 := dkwX0_keep_2 ++ dktX0_keep_3
def dkwX0_keep_1 : List UInt8 := [153, 0, 7, 4, 167, 0, 4, 3, 62, 42, 180, 0, 171, 44, 180, 1, 58, 184, 1, 59, 42, 180, 1, 46]
abbrev dktX0_keep_1 : List UInt8 := dkwX0_keep_1 ++ dktX0_keep_2
def dkwX0_keep_0 : List UInt8 := [27, 133, 9, 10, 184, 0, 24, 154, 0, 5, 2, 172, 42, 180, 0, 50, 27, 50, 77, 44, 180, 0, 54]
abbrev dktX0_keep_0 : List UInt8 := dkwX0_keep_0 ++ dktX0_keep_1
theorem dksX0_keep_0 : cX0_keep.data.toList.drop 0 = dktX0_keep_0 := by decide +kernel
theorem dksX0_keep_1 : cX0_keep.data.toList.drop 23 = dktX0_keep_1 := dk_seg dksX0_keep_0 23 rfl rfl
theorem dksX0_keep_2 : cX0_keep.data.toList.drop 47 = dktX0_keep_2 := dk_seg dksX0_keep_1 24 rfl rfl
theorem dksX0_keep_3 : cX0_keep.data.toList.drop 71 = dktX0_keep_3 := dk_seg dksX0_keep_2 24 rfl rfl
theorem dX0_keep_0 : decode cX0_keep 0 = .ok (.iload_n 1, 1) := dk_27 (dk_at dksX0_keep_0 0 rfl rfl)
theorem dX0_keep_1 : decode cX0_keep 1 = .ok (.i2l, 1) := dk_133 (dk_at dksX0_keep_0 1 rfl rfl)
theorem dX0_keep_2 : decode cX0_keep 2 = .ok (.lconst 0, 1) := dk_9 (dk_at dksX0_keep_0 2 rfl rfl)
theorem dX0_keep_3 : decode cX0_keep 3 = .ok (.lconst 1, 1) := dk_10 (dk_at dksX0_keep_0 3 rfl rfl)
theorem dX0_keep_4 : decode cX0_keep 4 = .ok (.invokestatic 24, 3) := dk_184 0 24 (dk_at dksX0_keep_0 4 rfl rfl)
theorem dX0_keep_7 : decode cX0_keep 7 = .ok (.ifCond .ne 5, 3) := dk_154 0 5 (dk_at dksX0_keep_0 7 rfl rfl)
theorem dX0_keep_10 : decode cX0_keep 10 = .ok (.iconst (-1), 1) := dk_2 (dk_at dksX0_keep_0 10 rfl rfl)
theorem dX0_keep_11 : decode cX0_keep 11 = .ok (.ireturn, 1) := dk_172 (dk_at dksX0_keep_0 11 rfl rfl)
theorem dX0_keep_12 : decode cX0_keep 12 = .ok (.aload_n 0, 1) := dk_42 (dk_at dksX0_keep_0 12 rfl rfl)
theorem dX0_keep_13 : decode cX0_keep 13 = .ok (.getfield 50, 3) := dk_180 0 50 (dk_at dksX0_keep_0 13 rfl rfl)
theorem dX0_keep_16 : decode cX0_keep 16 = .ok (.iload_n 1, 1) := dk_27 (dk_at dksX0_keep_0 16 rfl rfl)
theorem dX0_keep_17 : decode cX0_keep 17 = .ok (.aaload, 1) := dk_50 (dk_at dksX0_keep_0 17 rfl rfl)
theorem dX0_keep_18 : decode cX0_keep 18 = .ok (.astore_n 2, 1) := dk_77 (dk_at dksX0_keep_0 18 rfl rfl)
theorem dX0_keep_19 : decode cX0_keep 19 = .ok (.aload_n 2, 1) := dk_44 (dk_at dksX0_keep_0 19 rfl rfl)
theorem dX0_keep_20 : decode cX0_keep 20 = .ok (.getfield 54, 3) := dk_180 0 54 (dk_at dksX0_keep_0 20 rfl rfl)
theorem dX0_keep_23 : decode cX0_keep 23 = .ok (.ifCond .eq 7, 3) := dk_153 0 7 (dk_at dksX0_keep_1 0 rfl rfl)
theorem dX0_keep_26 : decode cX0_keep 26 = .ok (.iconst 1, 1) := dk_4 (dk_at dksX0_keep_1 3 rfl rfl)
theorem dX0_keep_27 : decode cX0_keep 27 = .ok (.goto 4, 3) := dk_167 0 4 (dk_at dksX0_keep_1 4 rfl rfl)
theorem dX0_keep_30 : decode cX0_keep 30 = .ok (.iconst 0, 1) := dk_3 (dk_at dksX0_keep_1 7 rfl rfl)
theorem dX0_keep_31 : decode cX0_keep 31 = .ok (.istore_n 3, 1) := dk_62 (dk_at dksX0_keep_1 8 rfl rfl)
theorem dX0_keep_32 : decode cX0_keep 32 = .ok (.aload_n 0, 1) := dk_42 (dk_at dksX0_keep_1 9 rfl rfl)
theorem dX0_keep_33 : decode cX0_keep 33 = .ok (.getfield 171, 3) := dk_180 0 171 (dk_at dksX0_keep_1 10 rfl rfl)
theorem dX0_keep_36 : decode cX0_keep 36 = .ok (.aload_n 2, 1) := dk_44 (dk_at dksX0_keep_1 13 rfl rfl)
theorem dX0_keep_37 : decode cX0_keep 37 = .ok (.getfield 314, 3) := dk_180 1 58 (dk_at dksX0_keep_1 14 rfl rfl)
theorem dX0_keep_40 : decode cX0_keep 40 = .ok (.invokestatic 315, 3) := dk_184 1 59 (dk_at dksX0_keep_1 17 rfl rfl)
theorem dX0_keep_43 : decode cX0_keep 43 = .ok (.aload_n 0, 1) := dk_42 (dk_at dksX0_keep_1 20 rfl rfl)
theorem dX0_keep_44 : decode cX0_keep 44 = .ok (.getfield 302, 3) := dk_180 1 46 (dk_at dksX0_keep_1 21 rfl rfl)
theorem dX0_keep_47 : decode cX0_keep 47 = .ok (.aload_n 2, 1) := dk_44 (dk_at dksX0_keep_2 0 rfl rfl)
theorem dX0_keep_48 : decode cX0_keep 48 = .ok (.getfield 319, 3) := dk_180 1 63 (dk_at dksX0_keep_2 1 rfl rfl)
theorem dX0_keep_51 : decode cX0_keep 51 = .ok (.invokestatic 315, 3) := dk_184 1 59 (dk_at dksX0_keep_2 4 rfl rfl)
theorem dX0_keep_54 : decode cX0_keep 54 = .ok (.aload_n 2, 1) := dk_44 (dk_at dksX0_keep_2 7 rfl rfl)
theorem dX0_keep_55 : decode cX0_keep 55 = .ok (.aload_n 0, 1) := dk_42 (dk_at dksX0_keep_2 8 rfl rfl)
theorem dX0_keep_56 : decode cX0_keep 56 = .ok (.getfield 154, 3) := dk_180 0 154 (dk_at dksX0_keep_2 9 rfl rfl)
theorem dX0_keep_59 : decode cX0_keep 59 = .ok (.putfield 320, 3) := dk_181 1 64 (dk_at dksX0_keep_2 12 rfl rfl)
theorem dX0_keep_62 : decode cX0_keep 62 = .ok (.aload_n 2, 1) := dk_44 (dk_at dksX0_keep_2 15 rfl rfl)
theorem dX0_keep_63 : decode cX0_keep 63 = .ok (.aload_n 0, 1) := dk_42 (dk_at dksX0_keep_2 16 rfl rfl)
theorem dX0_keep_64 : decode cX0_keep 64 = .ok (.getfield 47, 3) := dk_180 0 47 (dk_at dksX0_keep_2 17 rfl rfl)
theorem dX0_keep_67 : decode cX0_keep 67 = .ok (.putfield 321, 3) := dk_181 1 65 (dk_at dksX0_keep_2 20 rfl rfl)
theorem dX0_keep_70 : decode cX0_keep 70 = .ok (.aload_n 2, 1) := dk_44 (dk_at dksX0_keep_2 23 rfl rfl)
theorem dX0_keep_71 : decode cX0_keep 71 = .ok (.aload_n 0, 1) := dk_42 (dk_at dksX0_keep_3 0 rfl rfl)
theorem dX0_keep_72 : decode cX0_keep 72 = .ok (.getfield 157, 3) := dk_180 0 157 (dk_at dksX0_keep_3 1 rfl rfl)
theorem dX0_keep_75 : decode cX0_keep 75 = .ok (.putfield 322, 3) := dk_181 1 66 (dk_at dksX0_keep_3 4 rfl rfl)
theorem dX0_keep_78 : decode cX0_keep 78 = .ok (.aload_n 2, 1) := dk_44 (dk_at dksX0_keep_3 7 rfl rfl)
theorem dX0_keep_79 : decode cX0_keep 79 = .ok (.iconst 1, 1) := dk_4 (dk_at dksX0_keep_3 8 rfl rfl)
theorem dX0_keep_80 : decode cX0_keep 80 = .ok (.putfield 54, 3) := dk_181 0 54 (dk_at dksX0_keep_3 9 rfl rfl)
theorem dX0_keep_83 : decode cX0_keep 83 = .ok (.iload_n 3, 1) := dk_29 (dk_at dksX0_keep_3 12 rfl rfl)
theorem dX0_keep_84 : decode cX0_keep 84 = .ok (.ireturn, 1) := dk_172 (dk_at dksX0_keep_3 13 rfl rfl)
abbrev cX0_copies : ByteArray := prog_1_method_62_code
def yX0_copies : MethodName := ⟨RX0, "copies", "([[I[[I)V"⟩
def dkwX0_copies_1 : List UInt8 := [132, 2, 1, 167, 255, 232, 177]
abbrev dktX0_copies_1 : List UInt8 := dkwX0_copies_1 ++ []
def dkwX0_copies_0 : List UInt8 := [3, 61, 28, 42, 190, 162, 0, 24, 42, 28, 50, 3, 43, 28, 50, 3, 42, 28, 50, 190, 184, 0, 28]
abbrev dktX0_copies_0 : List UInt8 := dkwX0_copies_0 ++ dktX0_copies_1
theorem dksX0_copies_0 : cX0_copies.data.toList.drop 0 = dktX0_copies_0 := by decide +kernel
theorem dksX0_copies_1 : cX0_copies.data.toList.drop 23 = dktX0_copies_1 := dk_seg dksX0_copies_0 23 rfl rfl
theorem dX0_copies_0 : decode cX0_copies 0 = .ok (.iconst 0, 1) := dk_3 (dk_at dksX0_copies_0 0 rfl rfl)
theorem dX0_copies_1 : decode cX0_copies 1 = .ok (.istore_n 2, 1) := dk_61 (dk_at dksX0_copies_0 1 rfl rfl)
theorem dX0_copies_2 : decode cX0_copies 2 = .ok (.iload_n 2, 1) := dk_28 (dk_at dksX0_copies_0 2 rfl rfl)
theorem dX0_copies_3 : decode cX0_copies 3 = .ok (.aload_n 0, 1) := dk_42 (dk_at dksX0_copies_0 3 rfl rfl)
theorem dX0_copies_4 : decode cX0_copies 4 = .ok (.arraylength, 1) := dk_190 (dk_at dksX0_copies_0 4 rfl rfl)
theorem dX0_copies_5 : decode cX0_copies 5 = .ok (.if_icmp .ge 24, 3) := dk_162 0 24 (dk_at dksX0_copies_0 5 rfl rfl)
theorem dX0_copies_8 : decode cX0_copies 8 = .ok (.aload_n 0, 1) := dk_42 (dk_at dksX0_copies_0 8 rfl rfl)
theorem dX0_copies_9 : decode cX0_copies 9 = .ok (.iload_n 2, 1) := dk_28 (dk_at dksX0_copies_0 9 rfl rfl)
theorem dX0_copies_10 : decode cX0_copies 10 = .ok (.aaload, 1) := dk_50 (dk_at dksX0_copies_0 10 rfl rfl)
theorem dX0_copies_11 : decode cX0_copies 11 = .ok (.iconst 0, 1) := dk_3 (dk_at dksX0_copies_0 11 rfl rfl)
theorem dX0_copies_12 : decode cX0_copies 12 = .ok (.aload_n 1, 1) := dk_43 (dk_at dksX0_copies_0 12 rfl rfl)
theorem dX0_copies_13 : decode cX0_copies 13 = .ok (.iload_n 2, 1) := dk_28 (dk_at dksX0_copies_0 13 rfl rfl)
theorem dX0_copies_14 : decode cX0_copies 14 = .ok (.aaload, 1) := dk_50 (dk_at dksX0_copies_0 14 rfl rfl)
theorem dX0_copies_15 : decode cX0_copies 15 = .ok (.iconst 0, 1) := dk_3 (dk_at dksX0_copies_0 15 rfl rfl)
theorem dX0_copies_16 : decode cX0_copies 16 = .ok (.aload_n 0, 1) := dk_42 (dk_at dksX0_copies_0 16 rfl rfl)
theorem dX0_copies_17 : decode cX0_copies 17 = .ok (.iload_n 2, 1) := dk_28 (dk_at dksX0_copies_0 17 rfl rfl)
theorem dX0_copies_18 : decode cX0_copies 18 = .ok (.aaload, 1) := dk_50 (dk_at dksX0_copies_0 18 rfl rfl)
theorem dX0_copies_19 : decode cX0_copies 19 = .ok (.arraylength, 1) := dk_190 (dk_at dksX0_copies_0 19 rfl rfl)
theorem dX0_copies_20 : decode cX0_copies 20 = .ok (.invokestatic 28, 3) := dk_184 0 28 (dk_at dksX0_copies_0 20 rfl rfl)
theorem dX0_copies_23 : decode cX0_copies 23 = .ok (.iinc 2 1, 3) := dk_132 2 1 (dk_at dksX0_copies_1 0 rfl rfl)
theorem dX0_copies_26 : decode cX0_copies 26 = .ok (.goto (-24), 3) := dk_167 255 232 (dk_at dksX0_copies_1 3 rfl rfl)
theorem dX0_copies_29 : decode cX0_copies 29 = .ok (.return_, 1) := dk_177 (dk_at dksX0_copies_1 6 rfl rfl)
abbrev cX0_back : ByteArray := prog_1_method_64_code
def yX0_back : MethodName := ⟨RX0, "back", "(I)I"⟩
def dkwX0_back_3 : List UInt8 := [180, 1, 66, 181, 0, 157, 42, 182, 0, 190, 42, 180, 0, 154, 172]
abbrev dktX0_back_3 : List UInt8 := dkwX0_back_3 ++ []
def dkwX0_back_2 : List UInt8 := [180, 1, 46, 184, 1, 59, 42, 44, 180, 1, 64, 181, 0, 154, 42, 44, 180, 1, 65, 181, 0, 47, 42, 44]
abbrev dktX0_back_2 : List UInt8 := dkwX0_back_2 ++ dktX0_back_3
def dkwX0_back_1 : List UInt8 := [154, 0, 6, 16, 254, 172, 44, 180, 1, 58, 42, 180, 0, 171, 184, 1, 59, 44, 180, 1, 63, 42]
abbrev dktX0_back_1 : List UInt8 := dkwX0_back_1 ++ dktX0_back_2
def dkwX0_back_0 : List UInt8 := [27, 133, 9, 10, 184, 0, 24, 154, 0, 5, 2, 172, 42, 180, 0, 50, 27, 50, 77, 44, 180, 0, 54]
abbrev dktX0_back_0 : List UInt8 := dkwX0_back_0 ++ dktX0_back_1
theorem dksX0_back_0 : cX0_back.data.toList.drop 0 = dktX0_back_0 := by decide +kernel
theorem dksX0_back_1 : cX0_back.data.toList.drop 23 = dktX0_back_1 := dk_seg dksX0_back_0 23 rfl rfl
theorem dksX0_back_2 : cX0_back.data.toList.drop 45 = dktX0_back_2 := dk_seg dksX0_back_1 22 rfl rfl
theorem dksX0_back_3 : cX0_back.data.toList.drop 69 = dktX0_back_3 := dk_seg dksX0_back_2 24 rfl rfl
theorem dX0_back_0 : decode cX0_back 0 = .ok (.iload_n 1, 1) := dk_27 (dk_at dksX0_back_0 0 rfl rfl)
theorem dX0_back_1 : decode cX0_back 1 = .ok (.i2l, 1) := dk_133 (dk_at dksX0_back_0 1 rfl rfl)
theorem dX0_back_2 : decode cX0_back 2 = .ok (.lconst 0, 1) := dk_9 (dk_at dksX0_back_0 2 rfl rfl)
theorem dX0_back_3 : decode cX0_back 3 = .ok (.lconst 1, 1) := dk_10 (dk_at dksX0_back_0 3 rfl rfl)
theorem dX0_back_4 : decode cX0_back 4 = .ok (.invokestatic 24, 3) := dk_184 0 24 (dk_at dksX0_back_0 4 rfl rfl)
theorem dX0_back_7 : decode cX0_back 7 = .ok (.ifCond .ne 5, 3) := dk_154 0 5 (dk_at dksX0_back_0 7 rfl rfl)
theorem dX0_back_10 : decode cX0_back 10 = .ok (.iconst (-1), 1) := dk_2 (dk_at dksX0_back_0 10 rfl rfl)
theorem dX0_back_11 : decode cX0_back 11 = .ok (.ireturn, 1) := dk_172 (dk_at dksX0_back_0 11 rfl rfl)
theorem dX0_back_12 : decode cX0_back 12 = .ok (.aload_n 0, 1) := dk_42 (dk_at dksX0_back_0 12 rfl rfl)
theorem dX0_back_13 : decode cX0_back 13 = .ok (.getfield 50, 3) := dk_180 0 50 (dk_at dksX0_back_0 13 rfl rfl)
theorem dX0_back_16 : decode cX0_back 16 = .ok (.iload_n 1, 1) := dk_27 (dk_at dksX0_back_0 16 rfl rfl)
theorem dX0_back_17 : decode cX0_back 17 = .ok (.aaload, 1) := dk_50 (dk_at dksX0_back_0 17 rfl rfl)
theorem dX0_back_18 : decode cX0_back 18 = .ok (.astore_n 2, 1) := dk_77 (dk_at dksX0_back_0 18 rfl rfl)
theorem dX0_back_19 : decode cX0_back 19 = .ok (.aload_n 2, 1) := dk_44 (dk_at dksX0_back_0 19 rfl rfl)
theorem dX0_back_20 : decode cX0_back 20 = .ok (.getfield 54, 3) := dk_180 0 54 (dk_at dksX0_back_0 20 rfl rfl)
theorem dX0_back_23 : decode cX0_back 23 = .ok (.ifCond .ne 6, 3) := dk_154 0 6 (dk_at dksX0_back_1 0 rfl rfl)
theorem dX0_back_26 : decode cX0_back 26 = .ok (.bipush (-2), 2) := dk_16 254 (dk_at dksX0_back_1 3 rfl rfl)
theorem dX0_back_28 : decode cX0_back 28 = .ok (.ireturn, 1) := dk_172 (dk_at dksX0_back_1 5 rfl rfl)
theorem dX0_back_29 : decode cX0_back 29 = .ok (.aload_n 2, 1) := dk_44 (dk_at dksX0_back_1 6 rfl rfl)
theorem dX0_back_30 : decode cX0_back 30 = .ok (.getfield 314, 3) := dk_180 1 58 (dk_at dksX0_back_1 7 rfl rfl)
theorem dX0_back_33 : decode cX0_back 33 = .ok (.aload_n 0, 1) := dk_42 (dk_at dksX0_back_1 10 rfl rfl)
theorem dX0_back_34 : decode cX0_back 34 = .ok (.getfield 171, 3) := dk_180 0 171 (dk_at dksX0_back_1 11 rfl rfl)
theorem dX0_back_37 : decode cX0_back 37 = .ok (.invokestatic 315, 3) := dk_184 1 59 (dk_at dksX0_back_1 14 rfl rfl)
theorem dX0_back_40 : decode cX0_back 40 = .ok (.aload_n 2, 1) := dk_44 (dk_at dksX0_back_1 17 rfl rfl)
theorem dX0_back_41 : decode cX0_back 41 = .ok (.getfield 319, 3) := dk_180 1 63 (dk_at dksX0_back_1 18 rfl rfl)
theorem dX0_back_44 : decode cX0_back 44 = .ok (.aload_n 0, 1) := dk_42 (dk_at dksX0_back_1 21 rfl rfl)
theorem dX0_back_45 : decode cX0_back 45 = .ok (.getfield 302, 3) := dk_180 1 46 (dk_at dksX0_back_2 0 rfl rfl)
theorem dX0_back_48 : decode cX0_back 48 = .ok (.invokestatic 315, 3) := dk_184 1 59 (dk_at dksX0_back_2 3 rfl rfl)
theorem dX0_back_51 : decode cX0_back 51 = .ok (.aload_n 0, 1) := dk_42 (dk_at dksX0_back_2 6 rfl rfl)
theorem dX0_back_52 : decode cX0_back 52 = .ok (.aload_n 2, 1) := dk_44 (dk_at dksX0_back_2 7 rfl rfl)
theorem dX0_back_53 : decode cX0_back 53 = .ok (.getfield 320, 3) := dk_180 1 64 (dk_at dksX0_back_2 8 rfl rfl)
theorem dX0_back_56 : decode cX0_back 56 = .ok (.putfield 154, 3) := dk_181 0 154 (dk_at dksX0_back_2 11 rfl rfl)
theorem dX0_back_59 : decode cX0_back 59 = .ok (.aload_n 0, 1) := dk_42 (dk_at dksX0_back_2 14 rfl rfl)
theorem dX0_back_60 : decode cX0_back 60 = .ok (.aload_n 2, 1) := dk_44 (dk_at dksX0_back_2 15 rfl rfl)
theorem dX0_back_61 : decode cX0_back 61 = .ok (.getfield 321, 3) := dk_180 1 65 (dk_at dksX0_back_2 16 rfl rfl)
theorem dX0_back_64 : decode cX0_back 64 = .ok (.putfield 47, 3) := dk_181 0 47 (dk_at dksX0_back_2 19 rfl rfl)
theorem dX0_back_67 : decode cX0_back 67 = .ok (.aload_n 0, 1) := dk_42 (dk_at dksX0_back_2 22 rfl rfl)
theorem dX0_back_68 : decode cX0_back 68 = .ok (.aload_n 2, 1) := dk_44 (dk_at dksX0_back_2 23 rfl rfl)
theorem dX0_back_69 : decode cX0_back 69 = .ok (.getfield 322, 3) := dk_180 1 66 (dk_at dksX0_back_3 0 rfl rfl)
theorem dX0_back_72 : decode cX0_back 72 = .ok (.putfield 157, 3) := dk_181 0 157 (dk_at dksX0_back_3 3 rfl rfl)
theorem dX0_back_75 : decode cX0_back 75 = .ok (.aload_n 0, 1) := dk_42 (dk_at dksX0_back_3 6 rfl rfl)
theorem dX0_back_76 : decode cX0_back 76 = .ok (.invokevirtual 190, 3) := dk_182 0 190 (dk_at dksX0_back_3 7 rfl rfl)
theorem dX0_back_79 : decode cX0_back 79 = .ok (.aload_n 0, 1) := dk_42 (dk_at dksX0_back_3 10 rfl rfl)
theorem dX0_back_80 : decode cX0_back 80 = .ok (.getfield 154, 3) := dk_180 0 154 (dk_at dksX0_back_3 11 rfl rfl)
theorem dX0_back_83 : decode cX0_back 83 = .ok (.ireturn, 1) := dk_172 (dk_at dksX0_back_3 14 rfl rfl)
abbrev cX0_init : ByteArray := prog_1_method_65_code
def yX0_init : MethodName := ⟨RX0, "<init>", "()V"⟩
def dkwX0_init_14 : List UInt8 := [181, 1, 84, 42, 182, 0, 160, 177]
abbrev dktX0_init_14 : List UInt8 := dkwX0_init_14 ++ []
def dkwX0_init_13 : List UInt8 := [183, 1, 79, 83, 89, 6, 187, 1, 77, 89, 183, 1, 79, 83, 181, 1, 80, 42, 16, 39, 188, 10]
abbrev dktX0_init_13 : List UInt8 := dkwX0_init_13 ++ dktX0_init_14
def dkwX0_init_12 : List UInt8 := [187, 1, 77, 89, 183, 1, 79, 83, 89, 4, 187, 1, 77, 89, 183, 1, 79, 83, 89, 5, 187, 1, 77, 89]
abbrev dktX0_init_12 : List UInt8 := dkwX0_init_12 ++ dktX0_init_13
def dkwX0_init_11 : List UInt8 := [183, 1, 76, 83, 89, 4, 187, 0, 55, 89, 183, 1, 76, 83, 181, 0, 50, 42, 7, 189, 1, 77, 89, 3]
abbrev dktX0_init_11 : List UInt8 := dkwX0_init_11 ++ dktX0_init_12
def dkwX0_init_10 : List UInt8 := [42, 16, 12, 5, 197, 1, 71, 2, 181, 1, 46, 42, 5, 189, 0, 55, 89, 3, 187, 0, 55, 89]
abbrev dktX0_init_10 : List UInt8 := dkwX0_init_10 ++ dktX0_init_11
def dkwX0_init_9 : List UInt8 := [181, 0, 235, 42, 7, 188, 10, 181, 0, 238, 42, 7, 188, 10, 181, 1, 0, 42, 6, 188, 10, 181, 1, 24]
abbrev dktX0_init_9 : List UInt8 := dkwX0_init_9 ++ dktX0_init_10
def dkwX0_init_8 : List UInt8 := [183, 1, 72, 83, 89, 7, 187, 0, 141, 89, 183, 1, 72, 83, 89, 8, 187, 0, 141, 89, 183, 1, 72, 83]
abbrev dktX0_init_8 : List UInt8 := dkwX0_init_8 ++ dktX0_init_9
def dkwX0_init_7 : List UInt8 := [187, 0, 141, 89, 183, 1, 72, 83, 89, 5, 187, 0, 141, 89, 183, 1, 72, 83, 89, 6, 187, 0, 141, 89]
abbrev dktX0_init_7 : List UInt8 := dkwX0_init_7 ++ dktX0_init_8
def dkwX0_init_6 : List UInt8 := [183, 1, 73, 181, 0, 218, 42, 16, 6, 189, 0, 141, 89, 3, 187, 0, 141, 89, 183, 1, 72, 83, 89, 4]
abbrev dktX0_init_6 : List UInt8 := dkwX0_init_6 ++ dktX0_init_7
def dkwX0_init_5 : List UInt8 := [187, 0, 141, 89, 183, 1, 72, 83, 181, 0, 136, 42, 7, 188, 10, 181, 0, 145, 42, 187, 0, 223, 89, 42]
abbrev dktX0_init_5 : List UInt8 := dkwX0_init_5 ++ dktX0_init_6
def dkwX0_init_4 : List UInt8 := [89, 6, 187, 0, 141, 89, 183, 1, 72, 83, 89, 7, 187, 0, 141, 89, 183, 1, 72, 83, 89, 8]
abbrev dktX0_init_4 : List UInt8 := dkwX0_init_4 ++ dktX0_init_5
def dkwX0_init_3 : List UInt8 := [183, 1, 72, 83, 89, 4, 187, 0, 141, 89, 183, 1, 72, 83, 89, 5, 187, 0, 141, 89, 183, 1, 72, 83]
abbrev dktX0_init_3 : List UInt8 := dkwX0_init_3 ++ dktX0_init_4
def dkwX0_init_2 : List UInt8 := [16, 24, 6, 197, 1, 71, 2, 181, 0, 171, 42, 16, 6, 189, 0, 141, 89, 3, 187, 0, 141, 89]
abbrev dktX0_init_2 : List UInt8 := dkwX0_init_2 ++ dktX0_init_3
def dkwX0_init_1 : List UInt8 := [188, 10, 181, 0, 115, 42, 16, 6, 189, 0, 99, 181, 0, 94, 42, 17, 1, 144, 188, 8, 181, 0, 20, 42]
abbrev dktX0_init_1 : List UInt8 := dkwX0_init_1 ++ dktX0_init_2
def dkwX0_init_0 : List UInt8 := [42, 183, 1, 67, 42, 16, 8, 188, 10, 181, 0, 87, 42, 16, 12, 189, 0, 12, 181, 0, 7, 42, 7]
abbrev dktX0_init_0 : List UInt8 := dkwX0_init_0 ++ dktX0_init_1
theorem dksX0_init_0 : cX0_init.data.toList.drop 0 = dktX0_init_0 := by decide +kernel
theorem dksX0_init_1 : cX0_init.data.toList.drop 23 = dktX0_init_1 := dk_seg dksX0_init_0 23 rfl rfl
theorem dksX0_init_2 : cX0_init.data.toList.drop 47 = dktX0_init_2 := dk_seg dksX0_init_1 24 rfl rfl
theorem dksX0_init_3 : cX0_init.data.toList.drop 69 = dktX0_init_3 := dk_seg dksX0_init_2 22 rfl rfl
theorem dksX0_init_4 : cX0_init.data.toList.drop 93 = dktX0_init_4 := dk_seg dksX0_init_3 24 rfl rfl
theorem dksX0_init_5 : cX0_init.data.toList.drop 115 = dktX0_init_5 := dk_seg dksX0_init_4 22 rfl rfl
theorem dksX0_init_6 : cX0_init.data.toList.drop 139 = dktX0_init_6 := dk_seg dksX0_init_5 24 rfl rfl
theorem dksX0_init_7 : cX0_init.data.toList.drop 163 = dktX0_init_7 := dk_seg dksX0_init_6 24 rfl rfl
theorem dksX0_init_8 : cX0_init.data.toList.drop 187 = dktX0_init_8 := dk_seg dksX0_init_7 24 rfl rfl
theorem dksX0_init_9 : cX0_init.data.toList.drop 211 = dktX0_init_9 := dk_seg dksX0_init_8 24 rfl rfl
theorem dksX0_init_10 : cX0_init.data.toList.drop 235 = dktX0_init_10 := dk_seg dksX0_init_9 24 rfl rfl
theorem dksX0_init_11 : cX0_init.data.toList.drop 257 = dktX0_init_11 := dk_seg dksX0_init_10 22 rfl rfl
theorem dksX0_init_12 : cX0_init.data.toList.drop 281 = dktX0_init_12 := dk_seg dksX0_init_11 24 rfl rfl
theorem dksX0_init_13 : cX0_init.data.toList.drop 305 = dktX0_init_13 := dk_seg dksX0_init_12 24 rfl rfl
theorem dksX0_init_14 : cX0_init.data.toList.drop 327 = dktX0_init_14 := dk_seg dksX0_init_13 22 rfl rfl
theorem dX0_init_0 : decode cX0_init 0 = .ok (.aload_n 0, 1) := dk_42 (dk_at dksX0_init_0 0 rfl rfl)
theorem dX0_init_1 : decode cX0_init 1 = .ok (.invokespecial 323, 3) := dk_183 1 67 (dk_at dksX0_init_0 1 rfl rfl)
theorem dX0_init_4 : decode cX0_init 4 = .ok (.aload_n 0, 1) := dk_42 (dk_at dksX0_init_0 4 rfl rfl)
theorem dX0_init_5 : decode cX0_init 5 = .ok (.bipush 8, 2) := dk_16 8 (dk_at dksX0_init_0 5 rfl rfl)
theorem dX0_init_7 : decode cX0_init 7 = .ok (.newarray .int, 2) := dk_188_10 (dk_at dksX0_init_0 7 rfl rfl)
theorem dX0_init_9 : decode cX0_init 9 = .ok (.putfield 87, 3) := dk_181 0 87 (dk_at dksX0_init_0 9 rfl rfl)
theorem dX0_init_12 : decode cX0_init 12 = .ok (.aload_n 0, 1) := dk_42 (dk_at dksX0_init_0 12 rfl rfl)
theorem dX0_init_13 : decode cX0_init 13 = .ok (.bipush 12, 2) := dk_16 12 (dk_at dksX0_init_0 13 rfl rfl)
theorem dX0_init_15 : decode cX0_init 15 = .ok (.anewarray 12, 3) := dk_189 0 12 (dk_at dksX0_init_0 15 rfl rfl)
theorem dX0_init_18 : decode cX0_init 18 = .ok (.putfield 7, 3) := dk_181 0 7 (dk_at dksX0_init_0 18 rfl rfl)
theorem dX0_init_21 : decode cX0_init 21 = .ok (.aload_n 0, 1) := dk_42 (dk_at dksX0_init_0 21 rfl rfl)
theorem dX0_init_22 : decode cX0_init 22 = .ok (.iconst 4, 1) := dk_7 (dk_at dksX0_init_0 22 rfl rfl)
theorem dX0_init_23 : decode cX0_init 23 = .ok (.newarray .int, 2) := dk_188_10 (dk_at dksX0_init_1 0 rfl rfl)
theorem dX0_init_25 : decode cX0_init 25 = .ok (.putfield 115, 3) := dk_181 0 115 (dk_at dksX0_init_1 2 rfl rfl)
theorem dX0_init_28 : decode cX0_init 28 = .ok (.aload_n 0, 1) := dk_42 (dk_at dksX0_init_1 5 rfl rfl)
theorem dX0_init_29 : decode cX0_init 29 = .ok (.bipush 6, 2) := dk_16 6 (dk_at dksX0_init_1 6 rfl rfl)
theorem dX0_init_31 : decode cX0_init 31 = .ok (.anewarray 99, 3) := dk_189 0 99 (dk_at dksX0_init_1 8 rfl rfl)
theorem dX0_init_34 : decode cX0_init 34 = .ok (.putfield 94, 3) := dk_181 0 94 (dk_at dksX0_init_1 11 rfl rfl)
theorem dX0_init_37 : decode cX0_init 37 = .ok (.aload_n 0, 1) := dk_42 (dk_at dksX0_init_1 14 rfl rfl)
theorem dX0_init_38 : decode cX0_init 38 = .ok (.sipush 400, 3) := dk_17 1 144 (dk_at dksX0_init_1 15 rfl rfl)
theorem dX0_init_41 : decode cX0_init 41 = .ok (.newarray .byte, 2) := dk_188_8 (dk_at dksX0_init_1 18 rfl rfl)
theorem dX0_init_43 : decode cX0_init 43 = .ok (.putfield 20, 3) := dk_181 0 20 (dk_at dksX0_init_1 20 rfl rfl)
theorem dX0_init_46 : decode cX0_init 46 = .ok (.aload_n 0, 1) := dk_42 (dk_at dksX0_init_1 23 rfl rfl)
theorem dX0_init_47 : decode cX0_init 47 = .ok (.bipush 24, 2) := dk_16 24 (dk_at dksX0_init_2 0 rfl rfl)
theorem dX0_init_49 : decode cX0_init 49 = .ok (.iconst 3, 1) := dk_6 (dk_at dksX0_init_2 2 rfl rfl)
theorem dX0_init_50 : decode cX0_init 50 = .ok (.multianewarray 327 2, 4) := by decide +kernel
theorem dX0_init_54 : decode cX0_init 54 = .ok (.putfield 171, 3) := dk_181 0 171 (dk_at dksX0_init_2 7 rfl rfl)
theorem dX0_init_57 : decode cX0_init 57 = .ok (.aload_n 0, 1) := dk_42 (dk_at dksX0_init_2 10 rfl rfl)
theorem dX0_init_58 : decode cX0_init 58 = .ok (.bipush 6, 2) := dk_16 6 (dk_at dksX0_init_2 11 rfl rfl)
theorem dX0_init_60 : decode cX0_init 60 = .ok (.anewarray 141, 3) := dk_189 0 141 (dk_at dksX0_init_2 13 rfl rfl)
theorem dX0_init_63 : decode cX0_init 63 = .ok (.dup, 1) := dk_89 (dk_at dksX0_init_2 16 rfl rfl)
theorem dX0_init_64 : decode cX0_init 64 = .ok (.iconst 0, 1) := dk_3 (dk_at dksX0_init_2 17 rfl rfl)
theorem dX0_init_65 : decode cX0_init 65 = .ok (.new 141, 3) := dk_187 0 141 (dk_at dksX0_init_2 18 rfl rfl)
theorem dX0_init_68 : decode cX0_init 68 = .ok (.dup, 1) := dk_89 (dk_at dksX0_init_2 21 rfl rfl)
theorem dX0_init_69 : decode cX0_init 69 = .ok (.invokespecial 328, 3) := dk_183 1 72 (dk_at dksX0_init_3 0 rfl rfl)
theorem dX0_init_72 : decode cX0_init 72 = .ok (.aastore, 1) := dk_83 (dk_at dksX0_init_3 3 rfl rfl)
theorem dX0_init_73 : decode cX0_init 73 = .ok (.dup, 1) := dk_89 (dk_at dksX0_init_3 4 rfl rfl)
theorem dX0_init_74 : decode cX0_init 74 = .ok (.iconst 1, 1) := dk_4 (dk_at dksX0_init_3 5 rfl rfl)
theorem dX0_init_75 : decode cX0_init 75 = .ok (.new 141, 3) := dk_187 0 141 (dk_at dksX0_init_3 6 rfl rfl)
theorem dX0_init_78 : decode cX0_init 78 = .ok (.dup, 1) := dk_89 (dk_at dksX0_init_3 9 rfl rfl)
theorem dX0_init_79 : decode cX0_init 79 = .ok (.invokespecial 328, 3) := dk_183 1 72 (dk_at dksX0_init_3 10 rfl rfl)
theorem dX0_init_82 : decode cX0_init 82 = .ok (.aastore, 1) := dk_83 (dk_at dksX0_init_3 13 rfl rfl)
theorem dX0_init_83 : decode cX0_init 83 = .ok (.dup, 1) := dk_89 (dk_at dksX0_init_3 14 rfl rfl)
theorem dX0_init_84 : decode cX0_init 84 = .ok (.iconst 2, 1) := dk_5 (dk_at dksX0_init_3 15 rfl rfl)
theorem dX0_init_85 : decode cX0_init 85 = .ok (.new 141, 3) := dk_187 0 141 (dk_at dksX0_init_3 16 rfl rfl)
theorem dX0_init_88 : decode cX0_init 88 = .ok (.dup, 1) := dk_89 (dk_at dksX0_init_3 19 rfl rfl)
theorem dX0_init_89 : decode cX0_init 89 = .ok (.invokespecial 328, 3) := dk_183 1 72 (dk_at dksX0_init_3 20 rfl rfl)
theorem dX0_init_92 : decode cX0_init 92 = .ok (.aastore, 1) := dk_83 (dk_at dksX0_init_3 23 rfl rfl)
theorem dX0_init_93 : decode cX0_init 93 = .ok (.dup, 1) := dk_89 (dk_at dksX0_init_4 0 rfl rfl)
theorem dX0_init_94 : decode cX0_init 94 = .ok (.iconst 3, 1) := dk_6 (dk_at dksX0_init_4 1 rfl rfl)
theorem dX0_init_95 : decode cX0_init 95 = .ok (.new 141, 3) := dk_187 0 141 (dk_at dksX0_init_4 2 rfl rfl)
theorem dX0_init_98 : decode cX0_init 98 = .ok (.dup, 1) := dk_89 (dk_at dksX0_init_4 5 rfl rfl)
theorem dX0_init_99 : decode cX0_init 99 = .ok (.invokespecial 328, 3) := dk_183 1 72 (dk_at dksX0_init_4 6 rfl rfl)
theorem dX0_init_102 : decode cX0_init 102 = .ok (.aastore, 1) := dk_83 (dk_at dksX0_init_4 9 rfl rfl)
theorem dX0_init_103 : decode cX0_init 103 = .ok (.dup, 1) := dk_89 (dk_at dksX0_init_4 10 rfl rfl)
theorem dX0_init_104 : decode cX0_init 104 = .ok (.iconst 4, 1) := dk_7 (dk_at dksX0_init_4 11 rfl rfl)
theorem dX0_init_105 : decode cX0_init 105 = .ok (.new 141, 3) := dk_187 0 141 (dk_at dksX0_init_4 12 rfl rfl)
theorem dX0_init_108 : decode cX0_init 108 = .ok (.dup, 1) := dk_89 (dk_at dksX0_init_4 15 rfl rfl)
theorem dX0_init_109 : decode cX0_init 109 = .ok (.invokespecial 328, 3) := dk_183 1 72 (dk_at dksX0_init_4 16 rfl rfl)
theorem dX0_init_112 : decode cX0_init 112 = .ok (.aastore, 1) := dk_83 (dk_at dksX0_init_4 19 rfl rfl)
theorem dX0_init_113 : decode cX0_init 113 = .ok (.dup, 1) := dk_89 (dk_at dksX0_init_4 20 rfl rfl)
theorem dX0_init_114 : decode cX0_init 114 = .ok (.iconst 5, 1) := dk_8 (dk_at dksX0_init_4 21 rfl rfl)
theorem dX0_init_115 : decode cX0_init 115 = .ok (.new 141, 3) := dk_187 0 141 (dk_at dksX0_init_5 0 rfl rfl)
theorem dX0_init_118 : decode cX0_init 118 = .ok (.dup, 1) := dk_89 (dk_at dksX0_init_5 3 rfl rfl)
theorem dX0_init_119 : decode cX0_init 119 = .ok (.invokespecial 328, 3) := dk_183 1 72 (dk_at dksX0_init_5 4 rfl rfl)
theorem dX0_init_122 : decode cX0_init 122 = .ok (.aastore, 1) := dk_83 (dk_at dksX0_init_5 7 rfl rfl)
theorem dX0_init_123 : decode cX0_init 123 = .ok (.putfield 136, 3) := dk_181 0 136 (dk_at dksX0_init_5 8 rfl rfl)
theorem dX0_init_126 : decode cX0_init 126 = .ok (.aload_n 0, 1) := dk_42 (dk_at dksX0_init_5 11 rfl rfl)
theorem dX0_init_127 : decode cX0_init 127 = .ok (.iconst 4, 1) := dk_7 (dk_at dksX0_init_5 12 rfl rfl)
theorem dX0_init_128 : decode cX0_init 128 = .ok (.newarray .int, 2) := dk_188_10 (dk_at dksX0_init_5 13 rfl rfl)
theorem dX0_init_130 : decode cX0_init 130 = .ok (.putfield 145, 3) := dk_181 0 145 (dk_at dksX0_init_5 15 rfl rfl)
theorem dX0_init_133 : decode cX0_init 133 = .ok (.aload_n 0, 1) := dk_42 (dk_at dksX0_init_5 18 rfl rfl)
theorem dX0_init_134 : decode cX0_init 134 = .ok (.new 223, 3) := dk_187 0 223 (dk_at dksX0_init_5 19 rfl rfl)
theorem dX0_init_137 : decode cX0_init 137 = .ok (.dup, 1) := dk_89 (dk_at dksX0_init_5 22 rfl rfl)
theorem dX0_init_138 : decode cX0_init 138 = .ok (.aload_n 0, 1) := dk_42 (dk_at dksX0_init_5 23 rfl rfl)
theorem dX0_init_139 : decode cX0_init 139 = .ok (.invokespecial 329, 3) := dk_183 1 73 (dk_at dksX0_init_6 0 rfl rfl)
theorem dX0_init_142 : decode cX0_init 142 = .ok (.putfield 218, 3) := dk_181 0 218 (dk_at dksX0_init_6 3 rfl rfl)
theorem dX0_init_145 : decode cX0_init 145 = .ok (.aload_n 0, 1) := dk_42 (dk_at dksX0_init_6 6 rfl rfl)
theorem dX0_init_146 : decode cX0_init 146 = .ok (.bipush 6, 2) := dk_16 6 (dk_at dksX0_init_6 7 rfl rfl)
theorem dX0_init_148 : decode cX0_init 148 = .ok (.anewarray 141, 3) := dk_189 0 141 (dk_at dksX0_init_6 9 rfl rfl)
theorem dX0_init_151 : decode cX0_init 151 = .ok (.dup, 1) := dk_89 (dk_at dksX0_init_6 12 rfl rfl)
theorem dX0_init_152 : decode cX0_init 152 = .ok (.iconst 0, 1) := dk_3 (dk_at dksX0_init_6 13 rfl rfl)
theorem dX0_init_153 : decode cX0_init 153 = .ok (.new 141, 3) := dk_187 0 141 (dk_at dksX0_init_6 14 rfl rfl)
theorem dX0_init_156 : decode cX0_init 156 = .ok (.dup, 1) := dk_89 (dk_at dksX0_init_6 17 rfl rfl)
theorem dX0_init_157 : decode cX0_init 157 = .ok (.invokespecial 328, 3) := dk_183 1 72 (dk_at dksX0_init_6 18 rfl rfl)
theorem dX0_init_160 : decode cX0_init 160 = .ok (.aastore, 1) := dk_83 (dk_at dksX0_init_6 21 rfl rfl)
theorem dX0_init_161 : decode cX0_init 161 = .ok (.dup, 1) := dk_89 (dk_at dksX0_init_6 22 rfl rfl)
theorem dX0_init_162 : decode cX0_init 162 = .ok (.iconst 1, 1) := dk_4 (dk_at dksX0_init_6 23 rfl rfl)
theorem dX0_init_163 : decode cX0_init 163 = .ok (.new 141, 3) := dk_187 0 141 (dk_at dksX0_init_7 0 rfl rfl)
theorem dX0_init_166 : decode cX0_init 166 = .ok (.dup, 1) := dk_89 (dk_at dksX0_init_7 3 rfl rfl)
theorem dX0_init_167 : decode cX0_init 167 = .ok (.invokespecial 328, 3) := dk_183 1 72 (dk_at dksX0_init_7 4 rfl rfl)
theorem dX0_init_170 : decode cX0_init 170 = .ok (.aastore, 1) := dk_83 (dk_at dksX0_init_7 7 rfl rfl)
theorem dX0_init_171 : decode cX0_init 171 = .ok (.dup, 1) := dk_89 (dk_at dksX0_init_7 8 rfl rfl)
theorem dX0_init_172 : decode cX0_init 172 = .ok (.iconst 2, 1) := dk_5 (dk_at dksX0_init_7 9 rfl rfl)
theorem dX0_init_173 : decode cX0_init 173 = .ok (.new 141, 3) := dk_187 0 141 (dk_at dksX0_init_7 10 rfl rfl)
theorem dX0_init_176 : decode cX0_init 176 = .ok (.dup, 1) := dk_89 (dk_at dksX0_init_7 13 rfl rfl)
theorem dX0_init_177 : decode cX0_init 177 = .ok (.invokespecial 328, 3) := dk_183 1 72 (dk_at dksX0_init_7 14 rfl rfl)
theorem dX0_init_180 : decode cX0_init 180 = .ok (.aastore, 1) := dk_83 (dk_at dksX0_init_7 17 rfl rfl)
theorem dX0_init_181 : decode cX0_init 181 = .ok (.dup, 1) := dk_89 (dk_at dksX0_init_7 18 rfl rfl)
theorem dX0_init_182 : decode cX0_init 182 = .ok (.iconst 3, 1) := dk_6 (dk_at dksX0_init_7 19 rfl rfl)
theorem dX0_init_183 : decode cX0_init 183 = .ok (.new 141, 3) := dk_187 0 141 (dk_at dksX0_init_7 20 rfl rfl)
theorem dX0_init_186 : decode cX0_init 186 = .ok (.dup, 1) := dk_89 (dk_at dksX0_init_7 23 rfl rfl)
theorem dX0_init_187 : decode cX0_init 187 = .ok (.invokespecial 328, 3) := dk_183 1 72 (dk_at dksX0_init_8 0 rfl rfl)
theorem dX0_init_190 : decode cX0_init 190 = .ok (.aastore, 1) := dk_83 (dk_at dksX0_init_8 3 rfl rfl)
theorem dX0_init_191 : decode cX0_init 191 = .ok (.dup, 1) := dk_89 (dk_at dksX0_init_8 4 rfl rfl)
theorem dX0_init_192 : decode cX0_init 192 = .ok (.iconst 4, 1) := dk_7 (dk_at dksX0_init_8 5 rfl rfl)
theorem dX0_init_193 : decode cX0_init 193 = .ok (.new 141, 3) := dk_187 0 141 (dk_at dksX0_init_8 6 rfl rfl)
theorem dX0_init_196 : decode cX0_init 196 = .ok (.dup, 1) := dk_89 (dk_at dksX0_init_8 9 rfl rfl)
theorem dX0_init_197 : decode cX0_init 197 = .ok (.invokespecial 328, 3) := dk_183 1 72 (dk_at dksX0_init_8 10 rfl rfl)
theorem dX0_init_200 : decode cX0_init 200 = .ok (.aastore, 1) := dk_83 (dk_at dksX0_init_8 13 rfl rfl)
theorem dX0_init_201 : decode cX0_init 201 = .ok (.dup, 1) := dk_89 (dk_at dksX0_init_8 14 rfl rfl)
theorem dX0_init_202 : decode cX0_init 202 = .ok (.iconst 5, 1) := dk_8 (dk_at dksX0_init_8 15 rfl rfl)
theorem dX0_init_203 : decode cX0_init 203 = .ok (.new 141, 3) := dk_187 0 141 (dk_at dksX0_init_8 16 rfl rfl)
theorem dX0_init_206 : decode cX0_init 206 = .ok (.dup, 1) := dk_89 (dk_at dksX0_init_8 19 rfl rfl)
theorem dX0_init_207 : decode cX0_init 207 = .ok (.invokespecial 328, 3) := dk_183 1 72 (dk_at dksX0_init_8 20 rfl rfl)
theorem dX0_init_210 : decode cX0_init 210 = .ok (.aastore, 1) := dk_83 (dk_at dksX0_init_8 23 rfl rfl)
theorem dX0_init_211 : decode cX0_init 211 = .ok (.putfield 235, 3) := dk_181 0 235 (dk_at dksX0_init_9 0 rfl rfl)
theorem dX0_init_214 : decode cX0_init 214 = .ok (.aload_n 0, 1) := dk_42 (dk_at dksX0_init_9 3 rfl rfl)
theorem dX0_init_215 : decode cX0_init 215 = .ok (.iconst 4, 1) := dk_7 (dk_at dksX0_init_9 4 rfl rfl)
theorem dX0_init_216 : decode cX0_init 216 = .ok (.newarray .int, 2) := dk_188_10 (dk_at dksX0_init_9 5 rfl rfl)
theorem dX0_init_218 : decode cX0_init 218 = .ok (.putfield 238, 3) := dk_181 0 238 (dk_at dksX0_init_9 7 rfl rfl)
theorem dX0_init_221 : decode cX0_init 221 = .ok (.aload_n 0, 1) := dk_42 (dk_at dksX0_init_9 10 rfl rfl)
theorem dX0_init_222 : decode cX0_init 222 = .ok (.iconst 4, 1) := dk_7 (dk_at dksX0_init_9 11 rfl rfl)
theorem dX0_init_223 : decode cX0_init 223 = .ok (.newarray .int, 2) := dk_188_10 (dk_at dksX0_init_9 12 rfl rfl)
theorem dX0_init_225 : decode cX0_init 225 = .ok (.putfield 256, 3) := dk_181 1 0 (dk_at dksX0_init_9 14 rfl rfl)
theorem dX0_init_228 : decode cX0_init 228 = .ok (.aload_n 0, 1) := dk_42 (dk_at dksX0_init_9 17 rfl rfl)
theorem dX0_init_229 : decode cX0_init 229 = .ok (.iconst 3, 1) := dk_6 (dk_at dksX0_init_9 18 rfl rfl)
theorem dX0_init_230 : decode cX0_init 230 = .ok (.newarray .int, 2) := dk_188_10 (dk_at dksX0_init_9 19 rfl rfl)
theorem dX0_init_232 : decode cX0_init 232 = .ok (.putfield 280, 3) := dk_181 1 24 (dk_at dksX0_init_9 21 rfl rfl)
theorem dX0_init_235 : decode cX0_init 235 = .ok (.aload_n 0, 1) := dk_42 (dk_at dksX0_init_10 0 rfl rfl)
theorem dX0_init_236 : decode cX0_init 236 = .ok (.bipush 12, 2) := dk_16 12 (dk_at dksX0_init_10 1 rfl rfl)
theorem dX0_init_238 : decode cX0_init 238 = .ok (.iconst 2, 1) := dk_5 (dk_at dksX0_init_10 3 rfl rfl)
theorem dX0_init_239 : decode cX0_init 239 = .ok (.multianewarray 327 2, 4) := by decide +kernel
theorem dX0_init_243 : decode cX0_init 243 = .ok (.putfield 302, 3) := dk_181 1 46 (dk_at dksX0_init_10 8 rfl rfl)
theorem dX0_init_246 : decode cX0_init 246 = .ok (.aload_n 0, 1) := dk_42 (dk_at dksX0_init_10 11 rfl rfl)
theorem dX0_init_247 : decode cX0_init 247 = .ok (.iconst 2, 1) := dk_5 (dk_at dksX0_init_10 12 rfl rfl)
theorem dX0_init_248 : decode cX0_init 248 = .ok (.anewarray 55, 3) := dk_189 0 55 (dk_at dksX0_init_10 13 rfl rfl)
theorem dX0_init_251 : decode cX0_init 251 = .ok (.dup, 1) := dk_89 (dk_at dksX0_init_10 16 rfl rfl)
theorem dX0_init_252 : decode cX0_init 252 = .ok (.iconst 0, 1) := dk_3 (dk_at dksX0_init_10 17 rfl rfl)
theorem dX0_init_253 : decode cX0_init 253 = .ok (.new 55, 3) := dk_187 0 55 (dk_at dksX0_init_10 18 rfl rfl)
theorem dX0_init_256 : decode cX0_init 256 = .ok (.dup, 1) := dk_89 (dk_at dksX0_init_10 21 rfl rfl)
theorem dX0_init_257 : decode cX0_init 257 = .ok (.invokespecial 332, 3) := dk_183 1 76 (dk_at dksX0_init_11 0 rfl rfl)
theorem dX0_init_260 : decode cX0_init 260 = .ok (.aastore, 1) := dk_83 (dk_at dksX0_init_11 3 rfl rfl)
theorem dX0_init_261 : decode cX0_init 261 = .ok (.dup, 1) := dk_89 (dk_at dksX0_init_11 4 rfl rfl)
theorem dX0_init_262 : decode cX0_init 262 = .ok (.iconst 1, 1) := dk_4 (dk_at dksX0_init_11 5 rfl rfl)
theorem dX0_init_263 : decode cX0_init 263 = .ok (.new 55, 3) := dk_187 0 55 (dk_at dksX0_init_11 6 rfl rfl)
theorem dX0_init_266 : decode cX0_init 266 = .ok (.dup, 1) := dk_89 (dk_at dksX0_init_11 9 rfl rfl)
theorem dX0_init_267 : decode cX0_init 267 = .ok (.invokespecial 332, 3) := dk_183 1 76 (dk_at dksX0_init_11 10 rfl rfl)
theorem dX0_init_270 : decode cX0_init 270 = .ok (.aastore, 1) := dk_83 (dk_at dksX0_init_11 13 rfl rfl)
theorem dX0_init_271 : decode cX0_init 271 = .ok (.putfield 50, 3) := dk_181 0 50 (dk_at dksX0_init_11 14 rfl rfl)
theorem dX0_init_274 : decode cX0_init 274 = .ok (.aload_n 0, 1) := dk_42 (dk_at dksX0_init_11 17 rfl rfl)
theorem dX0_init_275 : decode cX0_init 275 = .ok (.iconst 4, 1) := dk_7 (dk_at dksX0_init_11 18 rfl rfl)
theorem dX0_init_276 : decode cX0_init 276 = .ok (.anewarray 333, 3) := dk_189 1 77 (dk_at dksX0_init_11 19 rfl rfl)
theorem dX0_init_279 : decode cX0_init 279 = .ok (.dup, 1) := dk_89 (dk_at dksX0_init_11 22 rfl rfl)
theorem dX0_init_280 : decode cX0_init 280 = .ok (.iconst 0, 1) := dk_3 (dk_at dksX0_init_11 23 rfl rfl)
theorem dX0_init_281 : decode cX0_init 281 = .ok (.new 333, 3) := dk_187 1 77 (dk_at dksX0_init_12 0 rfl rfl)
theorem dX0_init_284 : decode cX0_init 284 = .ok (.dup, 1) := dk_89 (dk_at dksX0_init_12 3 rfl rfl)
theorem dX0_init_285 : decode cX0_init 285 = .ok (.invokespecial 335, 3) := dk_183 1 79 (dk_at dksX0_init_12 4 rfl rfl)
theorem dX0_init_288 : decode cX0_init 288 = .ok (.aastore, 1) := dk_83 (dk_at dksX0_init_12 7 rfl rfl)
theorem dX0_init_289 : decode cX0_init 289 = .ok (.dup, 1) := dk_89 (dk_at dksX0_init_12 8 rfl rfl)
theorem dX0_init_290 : decode cX0_init 290 = .ok (.iconst 1, 1) := dk_4 (dk_at dksX0_init_12 9 rfl rfl)
theorem dX0_init_291 : decode cX0_init 291 = .ok (.new 333, 3) := dk_187 1 77 (dk_at dksX0_init_12 10 rfl rfl)
theorem dX0_init_294 : decode cX0_init 294 = .ok (.dup, 1) := dk_89 (dk_at dksX0_init_12 13 rfl rfl)
theorem dX0_init_295 : decode cX0_init 295 = .ok (.invokespecial 335, 3) := dk_183 1 79 (dk_at dksX0_init_12 14 rfl rfl)
theorem dX0_init_298 : decode cX0_init 298 = .ok (.aastore, 1) := dk_83 (dk_at dksX0_init_12 17 rfl rfl)
theorem dX0_init_299 : decode cX0_init 299 = .ok (.dup, 1) := dk_89 (dk_at dksX0_init_12 18 rfl rfl)
theorem dX0_init_300 : decode cX0_init 300 = .ok (.iconst 2, 1) := dk_5 (dk_at dksX0_init_12 19 rfl rfl)
theorem dX0_init_301 : decode cX0_init 301 = .ok (.new 333, 3) := dk_187 1 77 (dk_at dksX0_init_12 20 rfl rfl)
theorem dX0_init_304 : decode cX0_init 304 = .ok (.dup, 1) := dk_89 (dk_at dksX0_init_12 23 rfl rfl)
theorem dX0_init_305 : decode cX0_init 305 = .ok (.invokespecial 335, 3) := dk_183 1 79 (dk_at dksX0_init_13 0 rfl rfl)
theorem dX0_init_308 : decode cX0_init 308 = .ok (.aastore, 1) := dk_83 (dk_at dksX0_init_13 3 rfl rfl)
theorem dX0_init_309 : decode cX0_init 309 = .ok (.dup, 1) := dk_89 (dk_at dksX0_init_13 4 rfl rfl)
theorem dX0_init_310 : decode cX0_init 310 = .ok (.iconst 3, 1) := dk_6 (dk_at dksX0_init_13 5 rfl rfl)
theorem dX0_init_311 : decode cX0_init 311 = .ok (.new 333, 3) := dk_187 1 77 (dk_at dksX0_init_13 6 rfl rfl)
theorem dX0_init_314 : decode cX0_init 314 = .ok (.dup, 1) := dk_89 (dk_at dksX0_init_13 9 rfl rfl)
theorem dX0_init_315 : decode cX0_init 315 = .ok (.invokespecial 335, 3) := dk_183 1 79 (dk_at dksX0_init_13 10 rfl rfl)
theorem dX0_init_318 : decode cX0_init 318 = .ok (.aastore, 1) := dk_83 (dk_at dksX0_init_13 13 rfl rfl)
theorem dX0_init_319 : decode cX0_init 319 = .ok (.putfield 336, 3) := dk_181 1 80 (dk_at dksX0_init_13 14 rfl rfl)
theorem dX0_init_322 : decode cX0_init 322 = .ok (.aload_n 0, 1) := dk_42 (dk_at dksX0_init_13 17 rfl rfl)
theorem dX0_init_323 : decode cX0_init 323 = .ok (.bipush 39, 2) := dk_16 39 (dk_at dksX0_init_13 18 rfl rfl)
theorem dX0_init_325 : decode cX0_init 325 = .ok (.newarray .int, 2) := dk_188_10 (dk_at dksX0_init_13 20 rfl rfl)
theorem dX0_init_327 : decode cX0_init 327 = .ok (.putfield 340, 3) := dk_181 1 84 (dk_at dksX0_init_14 0 rfl rfl)
theorem dX0_init_330 : decode cX0_init 330 = .ok (.aload_n 0, 1) := dk_42 (dk_at dksX0_init_14 3 rfl rfl)
theorem dX0_init_331 : decode cX0_init 331 = .ok (.invokevirtual 160, 3) := dk_182 0 160 (dk_at dksX0_init_14 4 rfl rfl)
theorem dX0_init_334 : decode cX0_init 334 = .ok (.return_, 1) := dk_177 (dk_at dksX0_init_14 7 rfl rfl)
abbrev cX0_sheet : ByteArray := prog_1_method_67_code
def yX0_sheet : MethodName := ⟨RX0, "sheet", "(III)I"⟩
def dkwX0_sheet_2 : List UInt8 := [180, 1, 80, 27, 50, 29, 181, 1, 94, 4, 172, 58, 4, 16, 242, 172]
abbrev dktX0_sheet_2 : List UInt8 := dkwX0_sheet_2 ++ []
def dkwX0_sheet_1 : List UInt8 := [29, 16, 40, 164, 0, 5, 2, 172, 42, 180, 1, 80, 27, 50, 28, 29, 184, 1, 87, 181, 1, 91, 42]
abbrev dktX0_sheet_1 : List UInt8 := dkwX0_sheet_1 ++ dktX0_sheet_2
def dkwX0_sheet_0 : List UInt8 := [27, 133, 9, 20, 1, 49, 184, 0, 24, 153, 0, 21, 28, 133, 9, 20, 0, 193, 184, 0, 24, 153, 0, 9]
abbrev dktX0_sheet_0 : List UInt8 := dkwX0_sheet_0 ++ dktX0_sheet_1
theorem dksX0_sheet_0 : cX0_sheet.data.toList.drop 0 = dktX0_sheet_0 := by decide +kernel
theorem dksX0_sheet_1 : cX0_sheet.data.toList.drop 24 = dktX0_sheet_1 := dk_seg dksX0_sheet_0 24 rfl rfl
theorem dksX0_sheet_2 : cX0_sheet.data.toList.drop 47 = dktX0_sheet_2 := dk_seg dksX0_sheet_1 23 rfl rfl
theorem dX0_sheet_0 : decode cX0_sheet 0 = .ok (.iload_n 1, 1) := dk_27 (dk_at dksX0_sheet_0 0 rfl rfl)
theorem dX0_sheet_1 : decode cX0_sheet 1 = .ok (.i2l, 1) := dk_133 (dk_at dksX0_sheet_0 1 rfl rfl)
theorem dX0_sheet_2 : decode cX0_sheet 2 = .ok (.lconst 0, 1) := dk_9 (dk_at dksX0_sheet_0 2 rfl rfl)
theorem dX0_sheet_3 : decode cX0_sheet 3 = .ok (.ldc2_w 305, 3) := dk_20 1 49 (dk_at dksX0_sheet_0 3 rfl rfl)
theorem dX0_sheet_6 : decode cX0_sheet 6 = .ok (.invokestatic 24, 3) := dk_184 0 24 (dk_at dksX0_sheet_0 6 rfl rfl)
theorem dX0_sheet_9 : decode cX0_sheet 9 = .ok (.ifCond .eq 21, 3) := dk_153 0 21 (dk_at dksX0_sheet_0 9 rfl rfl)
theorem dX0_sheet_12 : decode cX0_sheet 12 = .ok (.iload_n 2, 1) := dk_28 (dk_at dksX0_sheet_0 12 rfl rfl)
theorem dX0_sheet_13 : decode cX0_sheet 13 = .ok (.i2l, 1) := dk_133 (dk_at dksX0_sheet_0 13 rfl rfl)
theorem dX0_sheet_14 : decode cX0_sheet 14 = .ok (.lconst 0, 1) := dk_9 (dk_at dksX0_sheet_0 14 rfl rfl)
theorem dX0_sheet_15 : decode cX0_sheet 15 = .ok (.ldc2_w 193, 3) := dk_20 0 193 (dk_at dksX0_sheet_0 15 rfl rfl)
theorem dX0_sheet_18 : decode cX0_sheet 18 = .ok (.invokestatic 24, 3) := dk_184 0 24 (dk_at dksX0_sheet_0 18 rfl rfl)
theorem dX0_sheet_21 : decode cX0_sheet 21 = .ok (.ifCond .eq 9, 3) := dk_153 0 9 (dk_at dksX0_sheet_0 21 rfl rfl)
theorem dX0_sheet_24 : decode cX0_sheet 24 = .ok (.iload_n 3, 1) := dk_29 (dk_at dksX0_sheet_1 0 rfl rfl)
theorem dX0_sheet_25 : decode cX0_sheet 25 = .ok (.bipush 40, 2) := dk_16 40 (dk_at dksX0_sheet_1 1 rfl rfl)
theorem dX0_sheet_27 : decode cX0_sheet 27 = .ok (.if_icmp .le 5, 3) := dk_164 0 5 (dk_at dksX0_sheet_1 3 rfl rfl)
theorem dX0_sheet_30 : decode cX0_sheet 30 = .ok (.iconst (-1), 1) := dk_2 (dk_at dksX0_sheet_1 6 rfl rfl)
theorem dX0_sheet_31 : decode cX0_sheet 31 = .ok (.ireturn, 1) := dk_172 (dk_at dksX0_sheet_1 7 rfl rfl)
theorem dX0_sheet_32 : decode cX0_sheet 32 = .ok (.aload_n 0, 1) := dk_42 (dk_at dksX0_sheet_1 8 rfl rfl)
theorem dX0_sheet_33 : decode cX0_sheet 33 = .ok (.getfield 336, 3) := dk_180 1 80 (dk_at dksX0_sheet_1 9 rfl rfl)
theorem dX0_sheet_36 : decode cX0_sheet 36 = .ok (.iload_n 1, 1) := dk_27 (dk_at dksX0_sheet_1 12 rfl rfl)
theorem dX0_sheet_37 : decode cX0_sheet 37 = .ok (.aaload, 1) := dk_50 (dk_at dksX0_sheet_1 13 rfl rfl)
theorem dX0_sheet_38 : decode cX0_sheet 38 = .ok (.iload_n 2, 1) := dk_28 (dk_at dksX0_sheet_1 14 rfl rfl)
theorem dX0_sheet_39 : decode cX0_sheet 39 = .ok (.iload_n 3, 1) := dk_29 (dk_at dksX0_sheet_1 15 rfl rfl)
theorem dX0_sheet_40 : decode cX0_sheet 40 = .ok (.invokestatic 343, 3) := dk_184 1 87 (dk_at dksX0_sheet_1 16 rfl rfl)
theorem dX0_sheet_43 : decode cX0_sheet 43 = .ok (.putfield 347, 3) := dk_181 1 91 (dk_at dksX0_sheet_1 19 rfl rfl)
theorem dX0_sheet_46 : decode cX0_sheet 46 = .ok (.aload_n 0, 1) := dk_42 (dk_at dksX0_sheet_1 22 rfl rfl)
theorem dX0_sheet_47 : decode cX0_sheet 47 = .ok (.getfield 336, 3) := dk_180 1 80 (dk_at dksX0_sheet_2 0 rfl rfl)
theorem dX0_sheet_50 : decode cX0_sheet 50 = .ok (.iload_n 1, 1) := dk_27 (dk_at dksX0_sheet_2 3 rfl rfl)
theorem dX0_sheet_51 : decode cX0_sheet 51 = .ok (.aaload, 1) := dk_50 (dk_at dksX0_sheet_2 4 rfl rfl)
theorem dX0_sheet_52 : decode cX0_sheet 52 = .ok (.iload_n 3, 1) := dk_29 (dk_at dksX0_sheet_2 5 rfl rfl)
theorem dX0_sheet_53 : decode cX0_sheet 53 = .ok (.putfield 350, 3) := dk_181 1 94 (dk_at dksX0_sheet_2 6 rfl rfl)
theorem dX0_sheet_56 : decode cX0_sheet 56 = .ok (.iconst 1, 1) := dk_4 (dk_at dksX0_sheet_2 9 rfl rfl)
theorem dX0_sheet_57 : decode cX0_sheet 57 = .ok (.ireturn, 1) := dk_172 (dk_at dksX0_sheet_2 10 rfl rfl)
theorem dX0_sheet_58 : decode cX0_sheet 58 = .ok (.astore 4, 2) := dk_58 4 (dk_at dksX0_sheet_2 11 rfl rfl)
theorem dX0_sheet_60 : decode cX0_sheet 60 = .ok (.bipush (-14), 2) := dk_16 242 (dk_at dksX0_sheet_2 13 rfl rfl)
theorem dX0_sheet_62 : decode cX0_sheet 62 = .ok (.ireturn, 1) := dk_172 (dk_at dksX0_sheet_2 15 rfl rfl)
abbrev cX0_newRow : ByteArray := prog_1_method_66_code
def yX0_newRow : MethodName := ⟨RX0, "newRow", "(II)Ljava/lang/Object;"⟩
def dkwX0_newRow_2 : List UInt8 := [27, 188, 8, 176, 27, 188, 9, 176, 27, 188, 10, 176]
abbrev dktX0_newRow_2 : List UInt8 := dkwX0_newRow_2 ++ []
def dkwX0_newRow_1 : List UInt8 := [171, 0, 0, 0, 0, 0, 35, 0, 0, 0, 2, 0, 0, 0, 0, 0, 0, 0, 27, 0, 0, 0, 1, 0, 0, 0, 31]
abbrev dktX0_newRow_1 : List UInt8 := dkwX0_newRow_1 ++ dktX0_newRow_2
def dkwX0_newRow_0 : List UInt8 := [26]
abbrev dktX0_newRow_0 : List UInt8 := dkwX0_newRow_0 ++ dktX0_newRow_1
theorem dksX0_newRow_0 : cX0_newRow.data.toList.drop 0 = dktX0_newRow_0 := by decide +kernel
theorem dksX0_newRow_1 : cX0_newRow.data.toList.drop 1 = dktX0_newRow_1 := dk_seg dksX0_newRow_0 1 rfl rfl
theorem dksX0_newRow_2 : cX0_newRow.data.toList.drop 28 = dktX0_newRow_2 := dk_seg dksX0_newRow_1 27 rfl rfl
theorem dX0_newRow_0 : decode cX0_newRow 0 = .ok (.iload_n 0, 1) := dk_26 (dk_at dksX0_newRow_0 0 rfl rfl)
theorem dX0_newRow_1 : decode cX0_newRow 1 = .ok (.lookupswitch 35 #[(0, 27), (1, 31)], 27) := by decide +kernel
theorem dX0_newRow_28 : decode cX0_newRow 28 = .ok (.iload_n 1, 1) := dk_27 (dk_at dksX0_newRow_2 0 rfl rfl)
theorem dX0_newRow_29 : decode cX0_newRow 29 = .ok (.newarray .byte, 2) := dk_188_8 (dk_at dksX0_newRow_2 1 rfl rfl)
theorem dX0_newRow_31 : decode cX0_newRow 31 = .ok (.areturn, 1) := dk_176 (dk_at dksX0_newRow_2 3 rfl rfl)
theorem dX0_newRow_32 : decode cX0_newRow 32 = .ok (.iload_n 1, 1) := dk_27 (dk_at dksX0_newRow_2 4 rfl rfl)
theorem dX0_newRow_33 : decode cX0_newRow 33 = .ok (.newarray .short, 2) := dk_188_9 (dk_at dksX0_newRow_2 5 rfl rfl)
theorem dX0_newRow_35 : decode cX0_newRow 35 = .ok (.areturn, 1) := dk_176 (dk_at dksX0_newRow_2 7 rfl rfl)
theorem dX0_newRow_36 : decode cX0_newRow 36 = .ok (.iload_n 1, 1) := dk_27 (dk_at dksX0_newRow_2 8 rfl rfl)
theorem dX0_newRow_37 : decode cX0_newRow 37 = .ok (.newarray .int, 2) := dk_188_10 (dk_at dksX0_newRow_2 9 rfl rfl)
theorem dX0_newRow_39 : decode cX0_newRow 39 = .ok (.areturn, 1) := dk_176 (dk_at dksX0_newRow_2 11 rfl rfl)
abbrev cX0_lay : ByteArray := prog_1_method_68_code
def yX0_lay : MethodName := ⟨RX0, "lay", "(III)I"⟩
def dkwX0_lay_3 : List UInt8 := [29, 79, 4, 172, 58, 5, 16, 245, 172, 58, 5, 16, 244, 172]
abbrev dktX0_lay_3 : List UInt8 := dkwX0_lay_3 ++ []
def dkwX0_lay_2 : List UInt8 := [193, 1, 100, 153, 0, 15, 25, 4, 192, 1, 100, 28, 29, 147, 86, 167, 0, 11, 25, 4, 192, 1, 102, 28]
abbrev dktX0_lay_2 : List UInt8 := dkwX0_lay_2 ++ dktX0_lay_3
def dkwX0_lay_1 : List UInt8 := [58, 4, 25, 4, 193, 1, 99, 153, 0, 15, 25, 4, 192, 1, 99, 28, 29, 145, 84, 167, 0, 31, 25, 4]
abbrev dktX0_lay_1 : List UInt8 := dkwX0_lay_1 ++ dktX0_lay_2
def dkwX0_lay_0 : List UInt8 := [27, 133, 9, 20, 1, 49, 184, 0, 24, 154, 0, 5, 2, 172, 42, 180, 1, 80, 27, 50, 180, 1, 91]
abbrev dktX0_lay_0 : List UInt8 := dkwX0_lay_0 ++ dktX0_lay_1
theorem dksX0_lay_0 : cX0_lay.data.toList.drop 0 = dktX0_lay_0 := by decide +kernel
theorem dksX0_lay_1 : cX0_lay.data.toList.drop 23 = dktX0_lay_1 := dk_seg dksX0_lay_0 23 rfl rfl
theorem dksX0_lay_2 : cX0_lay.data.toList.drop 47 = dktX0_lay_2 := dk_seg dksX0_lay_1 24 rfl rfl
theorem dksX0_lay_3 : cX0_lay.data.toList.drop 71 = dktX0_lay_3 := dk_seg dksX0_lay_2 24 rfl rfl
theorem dX0_lay_0 : decode cX0_lay 0 = .ok (.iload_n 1, 1) := dk_27 (dk_at dksX0_lay_0 0 rfl rfl)
theorem dX0_lay_1 : decode cX0_lay 1 = .ok (.i2l, 1) := dk_133 (dk_at dksX0_lay_0 1 rfl rfl)
theorem dX0_lay_2 : decode cX0_lay 2 = .ok (.lconst 0, 1) := dk_9 (dk_at dksX0_lay_0 2 rfl rfl)
theorem dX0_lay_3 : decode cX0_lay 3 = .ok (.ldc2_w 305, 3) := dk_20 1 49 (dk_at dksX0_lay_0 3 rfl rfl)
theorem dX0_lay_6 : decode cX0_lay 6 = .ok (.invokestatic 24, 3) := dk_184 0 24 (dk_at dksX0_lay_0 6 rfl rfl)
theorem dX0_lay_9 : decode cX0_lay 9 = .ok (.ifCond .ne 5, 3) := dk_154 0 5 (dk_at dksX0_lay_0 9 rfl rfl)
theorem dX0_lay_12 : decode cX0_lay 12 = .ok (.iconst (-1), 1) := dk_2 (dk_at dksX0_lay_0 12 rfl rfl)
theorem dX0_lay_13 : decode cX0_lay 13 = .ok (.ireturn, 1) := dk_172 (dk_at dksX0_lay_0 13 rfl rfl)
theorem dX0_lay_14 : decode cX0_lay 14 = .ok (.aload_n 0, 1) := dk_42 (dk_at dksX0_lay_0 14 rfl rfl)
theorem dX0_lay_15 : decode cX0_lay 15 = .ok (.getfield 336, 3) := dk_180 1 80 (dk_at dksX0_lay_0 15 rfl rfl)
theorem dX0_lay_18 : decode cX0_lay 18 = .ok (.iload_n 1, 1) := dk_27 (dk_at dksX0_lay_0 18 rfl rfl)
theorem dX0_lay_19 : decode cX0_lay 19 = .ok (.aaload, 1) := dk_50 (dk_at dksX0_lay_0 19 rfl rfl)
theorem dX0_lay_20 : decode cX0_lay 20 = .ok (.getfield 347, 3) := dk_180 1 91 (dk_at dksX0_lay_0 20 rfl rfl)
theorem dX0_lay_23 : decode cX0_lay 23 = .ok (.astore 4, 2) := dk_58 4 (dk_at dksX0_lay_1 0 rfl rfl)
theorem dX0_lay_25 : decode cX0_lay 25 = .ok (.aload 4, 2) := dk_25 4 (dk_at dksX0_lay_1 2 rfl rfl)
theorem dX0_lay_27 : decode cX0_lay 27 = .ok (.instanceof 355, 3) := dk_193 1 99 (dk_at dksX0_lay_1 4 rfl rfl)
theorem dX0_lay_30 : decode cX0_lay 30 = .ok (.ifCond .eq 15, 3) := dk_153 0 15 (dk_at dksX0_lay_1 7 rfl rfl)
theorem dX0_lay_33 : decode cX0_lay 33 = .ok (.aload 4, 2) := dk_25 4 (dk_at dksX0_lay_1 10 rfl rfl)
theorem dX0_lay_35 : decode cX0_lay 35 = .ok (.checkcast 355, 3) := dk_192 1 99 (dk_at dksX0_lay_1 12 rfl rfl)
theorem dX0_lay_38 : decode cX0_lay 38 = .ok (.iload_n 2, 1) := dk_28 (dk_at dksX0_lay_1 15 rfl rfl)
theorem dX0_lay_39 : decode cX0_lay 39 = .ok (.iload_n 3, 1) := dk_29 (dk_at dksX0_lay_1 16 rfl rfl)
theorem dX0_lay_40 : decode cX0_lay 40 = .ok (.i2b, 1) := dk_145 (dk_at dksX0_lay_1 17 rfl rfl)
theorem dX0_lay_41 : decode cX0_lay 41 = .ok (.bastore, 1) := dk_84 (dk_at dksX0_lay_1 18 rfl rfl)
theorem dX0_lay_42 : decode cX0_lay 42 = .ok (.goto 31, 3) := dk_167 0 31 (dk_at dksX0_lay_1 19 rfl rfl)
theorem dX0_lay_45 : decode cX0_lay 45 = .ok (.aload 4, 2) := dk_25 4 (dk_at dksX0_lay_1 22 rfl rfl)
theorem dX0_lay_47 : decode cX0_lay 47 = .ok (.instanceof 356, 3) := dk_193 1 100 (dk_at dksX0_lay_2 0 rfl rfl)
theorem dX0_lay_50 : decode cX0_lay 50 = .ok (.ifCond .eq 15, 3) := dk_153 0 15 (dk_at dksX0_lay_2 3 rfl rfl)
theorem dX0_lay_53 : decode cX0_lay 53 = .ok (.aload 4, 2) := dk_25 4 (dk_at dksX0_lay_2 6 rfl rfl)
theorem dX0_lay_55 : decode cX0_lay 55 = .ok (.checkcast 356, 3) := dk_192 1 100 (dk_at dksX0_lay_2 8 rfl rfl)
theorem dX0_lay_58 : decode cX0_lay 58 = .ok (.iload_n 2, 1) := dk_28 (dk_at dksX0_lay_2 11 rfl rfl)
theorem dX0_lay_59 : decode cX0_lay 59 = .ok (.iload_n 3, 1) := dk_29 (dk_at dksX0_lay_2 12 rfl rfl)
theorem dX0_lay_60 : decode cX0_lay 60 = .ok (.i2s, 1) := dk_147 (dk_at dksX0_lay_2 13 rfl rfl)
theorem dX0_lay_61 : decode cX0_lay 61 = .ok (.sastore, 1) := dk_86 (dk_at dksX0_lay_2 14 rfl rfl)
theorem dX0_lay_62 : decode cX0_lay 62 = .ok (.goto 11, 3) := dk_167 0 11 (dk_at dksX0_lay_2 15 rfl rfl)
theorem dX0_lay_65 : decode cX0_lay 65 = .ok (.aload 4, 2) := dk_25 4 (dk_at dksX0_lay_2 18 rfl rfl)
theorem dX0_lay_67 : decode cX0_lay 67 = .ok (.checkcast 358, 3) := dk_192 1 102 (dk_at dksX0_lay_2 20 rfl rfl)
theorem dX0_lay_70 : decode cX0_lay 70 = .ok (.iload_n 2, 1) := dk_28 (dk_at dksX0_lay_2 23 rfl rfl)
theorem dX0_lay_71 : decode cX0_lay 71 = .ok (.iload_n 3, 1) := dk_29 (dk_at dksX0_lay_3 0 rfl rfl)
theorem dX0_lay_72 : decode cX0_lay 72 = .ok (.iastore, 1) := dk_79 (dk_at dksX0_lay_3 1 rfl rfl)
theorem dX0_lay_73 : decode cX0_lay 73 = .ok (.iconst 1, 1) := dk_4 (dk_at dksX0_lay_3 2 rfl rfl)
theorem dX0_lay_74 : decode cX0_lay 74 = .ok (.ireturn, 1) := dk_172 (dk_at dksX0_lay_3 3 rfl rfl)
theorem dX0_lay_75 : decode cX0_lay 75 = .ok (.astore 5, 2) := dk_58 5 (dk_at dksX0_lay_3 4 rfl rfl)
theorem dX0_lay_77 : decode cX0_lay 77 = .ok (.bipush (-11), 2) := dk_16 245 (dk_at dksX0_lay_3 6 rfl rfl)
theorem dX0_lay_79 : decode cX0_lay 79 = .ok (.ireturn, 1) := dk_172 (dk_at dksX0_lay_3 8 rfl rfl)
theorem dX0_lay_80 : decode cX0_lay 80 = .ok (.astore 5, 2) := dk_58 5 (dk_at dksX0_lay_3 9 rfl rfl)
theorem dX0_lay_82 : decode cX0_lay 82 = .ok (.bipush (-12), 2) := dk_16 244 (dk_at dksX0_lay_3 11 rfl rfl)
theorem dX0_lay_84 : decode cX0_lay 84 = .ok (.ireturn, 1) := dk_172 (dk_at dksX0_lay_3 13 rfl rfl)
abbrev cX0_read : ByteArray := prog_1_method_71_code
def yX0_read : MethodName := ⟨RX0, "read", "(IIII)I"⟩
def dkwX0_read_6 : List UInt8 := [172]
abbrev dktX0_read_6 : List UInt8 := dkwX0_read_6 ++ []
def dkwX0_read_5 : List UInt8 := [96, 46, 4, 160, 0, 7, 4, 167, 0, 4, 3, 182, 0, 179, 132, 6, 1, 167, 255, 200, 42, 180, 1, 107]
abbrev dktX0_read_5 : List UInt8 := dkwX0_read_5 ++ dktX0_read_6
def dkwX0_read_4 : List UInt8 := [21, 6, 104, 46, 42, 180, 1, 84, 6, 21, 6, 104, 4, 96, 46, 42, 180, 1, 84, 6, 21, 6, 104, 5]
abbrev dktX0_read_4 : List UInt8 := dkwX0_read_4 ++ dktX0_read_5
def dkwX0_read_3 : List UInt8 := [42, 21, 5, 181, 1, 125, 3, 54, 6, 21, 6, 42, 180, 1, 107, 162, 0, 53, 42, 42, 180, 1, 84, 6]
abbrev dktX0_read_3 : List UInt8 := dkwX0_read_3 ++ dktX0_read_4
def dkwX0_read_2 : List UInt8 := [180, 1, 91, 28, 29, 21, 4, 182, 1, 121, 54, 5, 42, 180, 1, 110, 153, 0, 8, 42, 180, 1, 110, 172]
abbrev dktX0_read_2 : List UInt8 := dkwX0_read_2 ++ dktX0_read_3
def dkwX0_read_1 : List UInt8 := [21, 4, 133, 9, 20, 1, 119, 184, 0, 24, 154, 0, 5, 2, 172, 42, 42, 180, 1, 80, 27, 50]
abbrev dktX0_read_1 : List UInt8 := dkwX0_read_1 ++ dktX0_read_2
def dkwX0_read_0 : List UInt8 := [27, 133, 9, 20, 1, 49, 184, 0, 24, 153, 0, 28, 28, 133, 9, 20, 0, 193, 184, 0, 24, 153, 0, 16]
abbrev dktX0_read_0 : List UInt8 := dkwX0_read_0 ++ dktX0_read_1
theorem dksX0_read_0 : cX0_read.data.toList.drop 0 = dktX0_read_0 := by decide +kernel
theorem dksX0_read_1 : cX0_read.data.toList.drop 24 = dktX0_read_1 := dk_seg dksX0_read_0 24 rfl rfl
theorem dksX0_read_2 : cX0_read.data.toList.drop 46 = dktX0_read_2 := dk_seg dksX0_read_1 22 rfl rfl
theorem dksX0_read_3 : cX0_read.data.toList.drop 70 = dktX0_read_3 := dk_seg dksX0_read_2 24 rfl rfl
theorem dksX0_read_4 : cX0_read.data.toList.drop 94 = dktX0_read_4 := dk_seg dksX0_read_3 24 rfl rfl
theorem dksX0_read_5 : cX0_read.data.toList.drop 118 = dktX0_read_5 := dk_seg dksX0_read_4 24 rfl rfl
theorem dksX0_read_6 : cX0_read.data.toList.drop 142 = dktX0_read_6 := dk_seg dksX0_read_5 24 rfl rfl
theorem dX0_read_0 : decode cX0_read 0 = .ok (.iload_n 1, 1) := dk_27 (dk_at dksX0_read_0 0 rfl rfl)
theorem dX0_read_1 : decode cX0_read 1 = .ok (.i2l, 1) := dk_133 (dk_at dksX0_read_0 1 rfl rfl)
theorem dX0_read_2 : decode cX0_read 2 = .ok (.lconst 0, 1) := dk_9 (dk_at dksX0_read_0 2 rfl rfl)
theorem dX0_read_3 : decode cX0_read 3 = .ok (.ldc2_w 305, 3) := dk_20 1 49 (dk_at dksX0_read_0 3 rfl rfl)
theorem dX0_read_6 : decode cX0_read 6 = .ok (.invokestatic 24, 3) := dk_184 0 24 (dk_at dksX0_read_0 6 rfl rfl)
theorem dX0_read_9 : decode cX0_read 9 = .ok (.ifCond .eq 28, 3) := dk_153 0 28 (dk_at dksX0_read_0 9 rfl rfl)
theorem dX0_read_12 : decode cX0_read 12 = .ok (.iload_n 2, 1) := dk_28 (dk_at dksX0_read_0 12 rfl rfl)
theorem dX0_read_13 : decode cX0_read 13 = .ok (.i2l, 1) := dk_133 (dk_at dksX0_read_0 13 rfl rfl)
theorem dX0_read_14 : decode cX0_read 14 = .ok (.lconst 0, 1) := dk_9 (dk_at dksX0_read_0 14 rfl rfl)
theorem dX0_read_15 : decode cX0_read 15 = .ok (.ldc2_w 193, 3) := dk_20 0 193 (dk_at dksX0_read_0 15 rfl rfl)
theorem dX0_read_18 : decode cX0_read 18 = .ok (.invokestatic 24, 3) := dk_184 0 24 (dk_at dksX0_read_0 18 rfl rfl)
theorem dX0_read_21 : decode cX0_read 21 = .ok (.ifCond .eq 16, 3) := dk_153 0 16 (dk_at dksX0_read_0 21 rfl rfl)
theorem dX0_read_24 : decode cX0_read 24 = .ok (.iload 4, 2) := dk_21 4 (dk_at dksX0_read_1 0 rfl rfl)
theorem dX0_read_26 : decode cX0_read 26 = .ok (.i2l, 1) := dk_133 (dk_at dksX0_read_1 2 rfl rfl)
theorem dX0_read_27 : decode cX0_read 27 = .ok (.lconst 0, 1) := dk_9 (dk_at dksX0_read_1 3 rfl rfl)
theorem dX0_read_28 : decode cX0_read 28 = .ok (.ldc2_w 375, 3) := dk_20 1 119 (dk_at dksX0_read_1 4 rfl rfl)
theorem dX0_read_31 : decode cX0_read 31 = .ok (.invokestatic 24, 3) := dk_184 0 24 (dk_at dksX0_read_1 7 rfl rfl)
theorem dX0_read_34 : decode cX0_read 34 = .ok (.ifCond .ne 5, 3) := dk_154 0 5 (dk_at dksX0_read_1 10 rfl rfl)
theorem dX0_read_37 : decode cX0_read 37 = .ok (.iconst (-1), 1) := dk_2 (dk_at dksX0_read_1 13 rfl rfl)
theorem dX0_read_38 : decode cX0_read 38 = .ok (.ireturn, 1) := dk_172 (dk_at dksX0_read_1 14 rfl rfl)
theorem dX0_read_39 : decode cX0_read 39 = .ok (.aload_n 0, 1) := dk_42 (dk_at dksX0_read_1 15 rfl rfl)
theorem dX0_read_40 : decode cX0_read 40 = .ok (.aload_n 0, 1) := dk_42 (dk_at dksX0_read_1 16 rfl rfl)
theorem dX0_read_41 : decode cX0_read 41 = .ok (.getfield 336, 3) := dk_180 1 80 (dk_at dksX0_read_1 17 rfl rfl)
theorem dX0_read_44 : decode cX0_read 44 = .ok (.iload_n 1, 1) := dk_27 (dk_at dksX0_read_1 20 rfl rfl)
theorem dX0_read_45 : decode cX0_read 45 = .ok (.aaload, 1) := dk_50 (dk_at dksX0_read_1 21 rfl rfl)
theorem dX0_read_46 : decode cX0_read 46 = .ok (.getfield 347, 3) := dk_180 1 91 (dk_at dksX0_read_2 0 rfl rfl)
theorem dX0_read_49 : decode cX0_read 49 = .ok (.iload_n 2, 1) := dk_28 (dk_at dksX0_read_2 3 rfl rfl)
theorem dX0_read_50 : decode cX0_read 50 = .ok (.iload_n 3, 1) := dk_29 (dk_at dksX0_read_2 4 rfl rfl)
theorem dX0_read_51 : decode cX0_read 51 = .ok (.iload 4, 2) := dk_21 4 (dk_at dksX0_read_2 5 rfl rfl)
theorem dX0_read_53 : decode cX0_read 53 = .ok (.invokevirtual 377, 3) := dk_182 1 121 (dk_at dksX0_read_2 7 rfl rfl)
theorem dX0_read_56 : decode cX0_read 56 = .ok (.istore 5, 2) := dk_54 5 (dk_at dksX0_read_2 10 rfl rfl)
theorem dX0_read_58 : decode cX0_read 58 = .ok (.aload_n 0, 1) := dk_42 (dk_at dksX0_read_2 12 rfl rfl)
theorem dX0_read_59 : decode cX0_read 59 = .ok (.getfield 366, 3) := dk_180 1 110 (dk_at dksX0_read_2 13 rfl rfl)
theorem dX0_read_62 : decode cX0_read 62 = .ok (.ifCond .eq 8, 3) := dk_153 0 8 (dk_at dksX0_read_2 16 rfl rfl)
theorem dX0_read_65 : decode cX0_read 65 = .ok (.aload_n 0, 1) := dk_42 (dk_at dksX0_read_2 19 rfl rfl)
theorem dX0_read_66 : decode cX0_read 66 = .ok (.getfield 366, 3) := dk_180 1 110 (dk_at dksX0_read_2 20 rfl rfl)
theorem dX0_read_69 : decode cX0_read 69 = .ok (.ireturn, 1) := dk_172 (dk_at dksX0_read_2 23 rfl rfl)
theorem dX0_read_70 : decode cX0_read 70 = .ok (.aload_n 0, 1) := dk_42 (dk_at dksX0_read_3 0 rfl rfl)
theorem dX0_read_71 : decode cX0_read 71 = .ok (.iload 5, 2) := dk_21 5 (dk_at dksX0_read_3 1 rfl rfl)
theorem dX0_read_73 : decode cX0_read 73 = .ok (.putfield 381, 3) := dk_181 1 125 (dk_at dksX0_read_3 3 rfl rfl)
theorem dX0_read_76 : decode cX0_read 76 = .ok (.iconst 0, 1) := dk_3 (dk_at dksX0_read_3 6 rfl rfl)
theorem dX0_read_77 : decode cX0_read 77 = .ok (.istore 6, 2) := dk_54 6 (dk_at dksX0_read_3 7 rfl rfl)
theorem dX0_read_79 : decode cX0_read 79 = .ok (.iload 6, 2) := dk_21 6 (dk_at dksX0_read_3 9 rfl rfl)
theorem dX0_read_81 : decode cX0_read 81 = .ok (.aload_n 0, 1) := dk_42 (dk_at dksX0_read_3 11 rfl rfl)
theorem dX0_read_82 : decode cX0_read 82 = .ok (.getfield 363, 3) := dk_180 1 107 (dk_at dksX0_read_3 12 rfl rfl)
theorem dX0_read_85 : decode cX0_read 85 = .ok (.if_icmp .ge 53, 3) := dk_162 0 53 (dk_at dksX0_read_3 15 rfl rfl)
theorem dX0_read_88 : decode cX0_read 88 = .ok (.aload_n 0, 1) := dk_42 (dk_at dksX0_read_3 18 rfl rfl)
theorem dX0_read_89 : decode cX0_read 89 = .ok (.aload_n 0, 1) := dk_42 (dk_at dksX0_read_3 19 rfl rfl)
theorem dX0_read_90 : decode cX0_read 90 = .ok (.getfield 340, 3) := dk_180 1 84 (dk_at dksX0_read_3 20 rfl rfl)
theorem dX0_read_93 : decode cX0_read 93 = .ok (.iconst 3, 1) := dk_6 (dk_at dksX0_read_3 23 rfl rfl)
theorem dX0_read_94 : decode cX0_read 94 = .ok (.iload 6, 2) := dk_21 6 (dk_at dksX0_read_4 0 rfl rfl)
theorem dX0_read_96 : decode cX0_read 96 = .ok (.imul, 1) := dk_104 (dk_at dksX0_read_4 2 rfl rfl)
theorem dX0_read_97 : decode cX0_read 97 = .ok (.iaload, 1) := dk_46 (dk_at dksX0_read_4 3 rfl rfl)
theorem dX0_read_98 : decode cX0_read 98 = .ok (.aload_n 0, 1) := dk_42 (dk_at dksX0_read_4 4 rfl rfl)
theorem dX0_read_99 : decode cX0_read 99 = .ok (.getfield 340, 3) := dk_180 1 84 (dk_at dksX0_read_4 5 rfl rfl)
theorem dX0_read_102 : decode cX0_read 102 = .ok (.iconst 3, 1) := dk_6 (dk_at dksX0_read_4 8 rfl rfl)
theorem dX0_read_103 : decode cX0_read 103 = .ok (.iload 6, 2) := dk_21 6 (dk_at dksX0_read_4 9 rfl rfl)
theorem dX0_read_105 : decode cX0_read 105 = .ok (.imul, 1) := dk_104 (dk_at dksX0_read_4 11 rfl rfl)
theorem dX0_read_106 : decode cX0_read 106 = .ok (.iconst 1, 1) := dk_4 (dk_at dksX0_read_4 12 rfl rfl)
theorem dX0_read_107 : decode cX0_read 107 = .ok (.iadd, 1) := dk_96 (dk_at dksX0_read_4 13 rfl rfl)
theorem dX0_read_108 : decode cX0_read 108 = .ok (.iaload, 1) := dk_46 (dk_at dksX0_read_4 14 rfl rfl)
theorem dX0_read_109 : decode cX0_read 109 = .ok (.aload_n 0, 1) := dk_42 (dk_at dksX0_read_4 15 rfl rfl)
theorem dX0_read_110 : decode cX0_read 110 = .ok (.getfield 340, 3) := dk_180 1 84 (dk_at dksX0_read_4 16 rfl rfl)
theorem dX0_read_113 : decode cX0_read 113 = .ok (.iconst 3, 1) := dk_6 (dk_at dksX0_read_4 19 rfl rfl)
theorem dX0_read_114 : decode cX0_read 114 = .ok (.iload 6, 2) := dk_21 6 (dk_at dksX0_read_4 20 rfl rfl)
theorem dX0_read_116 : decode cX0_read 116 = .ok (.imul, 1) := dk_104 (dk_at dksX0_read_4 22 rfl rfl)
theorem dX0_read_117 : decode cX0_read 117 = .ok (.iconst 2, 1) := dk_5 (dk_at dksX0_read_4 23 rfl rfl)
theorem dX0_read_118 : decode cX0_read 118 = .ok (.iadd, 1) := dk_96 (dk_at dksX0_read_5 0 rfl rfl)
theorem dX0_read_119 : decode cX0_read 119 = .ok (.iaload, 1) := dk_46 (dk_at dksX0_read_5 1 rfl rfl)
theorem dX0_read_120 : decode cX0_read 120 = .ok (.iconst 1, 1) := dk_4 (dk_at dksX0_read_5 2 rfl rfl)
theorem dX0_read_121 : decode cX0_read 121 = .ok (.if_icmp .ne 7, 3) := dk_160 0 7 (dk_at dksX0_read_5 3 rfl rfl)
theorem dX0_read_124 : decode cX0_read 124 = .ok (.iconst 1, 1) := dk_4 (dk_at dksX0_read_5 6 rfl rfl)
theorem dX0_read_125 : decode cX0_read 125 = .ok (.goto 4, 3) := dk_167 0 4 (dk_at dksX0_read_5 7 rfl rfl)
theorem dX0_read_128 : decode cX0_read 128 = .ok (.iconst 0, 1) := dk_3 (dk_at dksX0_read_5 10 rfl rfl)
theorem dX0_read_129 : decode cX0_read 129 = .ok (.invokevirtual 179, 3) := dk_182 0 179 (dk_at dksX0_read_5 11 rfl rfl)
theorem dX0_read_132 : decode cX0_read 132 = .ok (.iinc 6 1, 3) := dk_132 6 1 (dk_at dksX0_read_5 14 rfl rfl)
theorem dX0_read_135 : decode cX0_read 135 = .ok (.goto (-56), 3) := dk_167 255 200 (dk_at dksX0_read_5 17 rfl rfl)
theorem dX0_read_138 : decode cX0_read 138 = .ok (.aload_n 0, 1) := dk_42 (dk_at dksX0_read_5 20 rfl rfl)
theorem dX0_read_139 : decode cX0_read 139 = .ok (.getfield 363, 3) := dk_180 1 107 (dk_at dksX0_read_5 21 rfl rfl)
theorem dX0_read_142 : decode cX0_read 142 = .ok (.ireturn, 1) := dk_172 (dk_at dksX0_read_6 0 rfl rfl)
abbrev cX0_reads : ByteArray := prog_1_method_70_code
def yX0_reads : MethodName := ⟨RX0, "reads", "(Ljava/lang/Object;III)I"⟩
def dkwX0_reads_8 : List UInt8 := [172]
abbrev dktX0_reads_8 : List UInt8 := dkwX0_reads_8 ++ []
def dkwX0_reads_7 : List UInt8 := [180, 1, 107, 4, 96, 181, 1, 107, 167, 255, 91, 3, 172, 58, 5, 4, 172, 58, 5, 6, 172, 58, 5, 5]
abbrev dktX0_reads_7 : List UInt8 := dkwX0_reads_7 ++ dktX0_reads_8
def dkwX0_reads_6 : List UInt8 := [180, 0, 154, 42, 180, 1, 107, 96, 16, 24, 161, 0, 8, 16, 253, 167, 0, 4, 3, 181, 1, 110, 42, 89]
abbrev dktX0_reads_6 : List UInt8 := dkwX0_reads_6 ++ dktX0_reads_7
def dkwX0_reads_5 : List UInt8 := [4, 167, 0, 4, 3, 54, 6, 42, 21, 6, 154, 0, 13, 16, 236, 42, 180, 1, 107, 100, 167, 0, 23, 42]
abbrev dktX0_reads_5 : List UInt8 := dkwX0_reads_5 ++ dktX0_reads_6
def dkwX0_reads_4 : List UInt8 := [182, 0, 83, 153, 0, 25, 42, 180, 1, 84, 21, 5, 5, 96, 46, 133, 9, 10, 184, 0, 24, 153, 0, 7]
abbrev dktX0_reads_4 : List UInt8 := dkwX0_reads_4 ++ dktX0_reads_5
def dkwX0_reads_3 : List UInt8 := [42, 42, 180, 1, 84, 21, 5, 46, 182, 0, 112, 153, 0, 41, 42, 42, 180, 1, 84, 21, 5, 4, 96, 46]
abbrev dktX0_reads_3 : List UInt8 := dkwX0_reads_3 ++ dktX0_reads_4
def dkwX0_reads_2 : List UInt8 := [21, 5, 21, 6, 96, 43, 28, 29, 21, 5, 96, 21, 6, 96, 184, 1, 113, 79, 132, 6, 1, 167, 255, 225]
abbrev dktX0_reads_2 : List UInt8 := dkwX0_reads_2 ++ dktX0_reads_3
def dkwX0_reads_1 : List UInt8 := [154, 0, 155, 6, 42, 180, 1, 107, 104, 54, 5, 3, 54, 6, 21, 6, 6, 162, 0, 31, 42, 180, 1, 84]
abbrev dktX0_reads_1 : List UInt8 := dkwX0_reads_1 ++ dktX0_reads_2
def dkwX0_reads_0 : List UInt8 := [42, 3, 181, 1, 107, 42, 3, 181, 1, 110, 42, 180, 1, 107, 21, 4, 162, 0, 162, 42, 180, 1, 110]
abbrev dktX0_reads_0 : List UInt8 := dkwX0_reads_0 ++ dktX0_reads_1
theorem dksX0_reads_0 : cX0_reads.data.toList.drop 0 = dktX0_reads_0 := by decide +kernel
theorem dksX0_reads_1 : cX0_reads.data.toList.drop 23 = dktX0_reads_1 := dk_seg dksX0_reads_0 23 rfl rfl
theorem dksX0_reads_2 : cX0_reads.data.toList.drop 47 = dktX0_reads_2 := dk_seg dksX0_reads_1 24 rfl rfl
theorem dksX0_reads_3 : cX0_reads.data.toList.drop 71 = dktX0_reads_3 := dk_seg dksX0_reads_2 24 rfl rfl
theorem dksX0_reads_4 : cX0_reads.data.toList.drop 95 = dktX0_reads_4 := dk_seg dksX0_reads_3 24 rfl rfl
theorem dksX0_reads_5 : cX0_reads.data.toList.drop 119 = dktX0_reads_5 := dk_seg dksX0_reads_4 24 rfl rfl
theorem dksX0_reads_6 : cX0_reads.data.toList.drop 143 = dktX0_reads_6 := dk_seg dksX0_reads_5 24 rfl rfl
theorem dksX0_reads_7 : cX0_reads.data.toList.drop 167 = dktX0_reads_7 := dk_seg dksX0_reads_6 24 rfl rfl
theorem dksX0_reads_8 : cX0_reads.data.toList.drop 191 = dktX0_reads_8 := dk_seg dksX0_reads_7 24 rfl rfl
theorem dX0_reads_0 : decode cX0_reads 0 = .ok (.aload_n 0, 1) := dk_42 (dk_at dksX0_reads_0 0 rfl rfl)
theorem dX0_reads_1 : decode cX0_reads 1 = .ok (.iconst 0, 1) := dk_3 (dk_at dksX0_reads_0 1 rfl rfl)
theorem dX0_reads_2 : decode cX0_reads 2 = .ok (.putfield 363, 3) := dk_181 1 107 (dk_at dksX0_reads_0 2 rfl rfl)
theorem dX0_reads_5 : decode cX0_reads 5 = .ok (.aload_n 0, 1) := dk_42 (dk_at dksX0_reads_0 5 rfl rfl)
theorem dX0_reads_6 : decode cX0_reads 6 = .ok (.iconst 0, 1) := dk_3 (dk_at dksX0_reads_0 6 rfl rfl)
theorem dX0_reads_7 : decode cX0_reads 7 = .ok (.putfield 366, 3) := dk_181 1 110 (dk_at dksX0_reads_0 7 rfl rfl)
theorem dX0_reads_10 : decode cX0_reads 10 = .ok (.aload_n 0, 1) := dk_42 (dk_at dksX0_reads_0 10 rfl rfl)
theorem dX0_reads_11 : decode cX0_reads 11 = .ok (.getfield 363, 3) := dk_180 1 107 (dk_at dksX0_reads_0 11 rfl rfl)
theorem dX0_reads_14 : decode cX0_reads 14 = .ok (.iload 4, 2) := dk_21 4 (dk_at dksX0_reads_0 14 rfl rfl)
theorem dX0_reads_16 : decode cX0_reads 16 = .ok (.if_icmp .ge 162, 3) := dk_162 0 162 (dk_at dksX0_reads_0 16 rfl rfl)
theorem dX0_reads_19 : decode cX0_reads 19 = .ok (.aload_n 0, 1) := dk_42 (dk_at dksX0_reads_0 19 rfl rfl)
theorem dX0_reads_20 : decode cX0_reads 20 = .ok (.getfield 366, 3) := dk_180 1 110 (dk_at dksX0_reads_0 20 rfl rfl)
theorem dX0_reads_23 : decode cX0_reads 23 = .ok (.ifCond .ne 155, 3) := dk_154 0 155 (dk_at dksX0_reads_1 0 rfl rfl)
theorem dX0_reads_26 : decode cX0_reads 26 = .ok (.iconst 3, 1) := dk_6 (dk_at dksX0_reads_1 3 rfl rfl)
theorem dX0_reads_27 : decode cX0_reads 27 = .ok (.aload_n 0, 1) := dk_42 (dk_at dksX0_reads_1 4 rfl rfl)
theorem dX0_reads_28 : decode cX0_reads 28 = .ok (.getfield 363, 3) := dk_180 1 107 (dk_at dksX0_reads_1 5 rfl rfl)
theorem dX0_reads_31 : decode cX0_reads 31 = .ok (.imul, 1) := dk_104 (dk_at dksX0_reads_1 8 rfl rfl)
theorem dX0_reads_32 : decode cX0_reads 32 = .ok (.istore 5, 2) := dk_54 5 (dk_at dksX0_reads_1 9 rfl rfl)
theorem dX0_reads_34 : decode cX0_reads 34 = .ok (.iconst 0, 1) := dk_3 (dk_at dksX0_reads_1 11 rfl rfl)
theorem dX0_reads_35 : decode cX0_reads 35 = .ok (.istore 6, 2) := dk_54 6 (dk_at dksX0_reads_1 12 rfl rfl)
theorem dX0_reads_37 : decode cX0_reads 37 = .ok (.iload 6, 2) := dk_21 6 (dk_at dksX0_reads_1 14 rfl rfl)
theorem dX0_reads_39 : decode cX0_reads 39 = .ok (.iconst 3, 1) := dk_6 (dk_at dksX0_reads_1 16 rfl rfl)
theorem dX0_reads_40 : decode cX0_reads 40 = .ok (.if_icmp .ge 31, 3) := dk_162 0 31 (dk_at dksX0_reads_1 17 rfl rfl)
theorem dX0_reads_43 : decode cX0_reads 43 = .ok (.aload_n 0, 1) := dk_42 (dk_at dksX0_reads_1 20 rfl rfl)
theorem dX0_reads_44 : decode cX0_reads 44 = .ok (.getfield 340, 3) := dk_180 1 84 (dk_at dksX0_reads_1 21 rfl rfl)
theorem dX0_reads_47 : decode cX0_reads 47 = .ok (.iload 5, 2) := dk_21 5 (dk_at dksX0_reads_2 0 rfl rfl)
theorem dX0_reads_49 : decode cX0_reads 49 = .ok (.iload 6, 2) := dk_21 6 (dk_at dksX0_reads_2 2 rfl rfl)
theorem dX0_reads_51 : decode cX0_reads 51 = .ok (.iadd, 1) := dk_96 (dk_at dksX0_reads_2 4 rfl rfl)
theorem dX0_reads_52 : decode cX0_reads 52 = .ok (.aload_n 1, 1) := dk_43 (dk_at dksX0_reads_2 5 rfl rfl)
theorem dX0_reads_53 : decode cX0_reads 53 = .ok (.iload_n 2, 1) := dk_28 (dk_at dksX0_reads_2 6 rfl rfl)
theorem dX0_reads_54 : decode cX0_reads 54 = .ok (.iload_n 3, 1) := dk_29 (dk_at dksX0_reads_2 7 rfl rfl)
theorem dX0_reads_55 : decode cX0_reads 55 = .ok (.iload 5, 2) := dk_21 5 (dk_at dksX0_reads_2 8 rfl rfl)
theorem dX0_reads_57 : decode cX0_reads 57 = .ok (.iadd, 1) := dk_96 (dk_at dksX0_reads_2 10 rfl rfl)
theorem dX0_reads_58 : decode cX0_reads 58 = .ok (.iload 6, 2) := dk_21 6 (dk_at dksX0_reads_2 11 rfl rfl)
theorem dX0_reads_60 : decode cX0_reads 60 = .ok (.iadd, 1) := dk_96 (dk_at dksX0_reads_2 13 rfl rfl)
theorem dX0_reads_61 : decode cX0_reads 61 = .ok (.invokestatic 369, 3) := dk_184 1 113 (dk_at dksX0_reads_2 14 rfl rfl)
theorem dX0_reads_64 : decode cX0_reads 64 = .ok (.iastore, 1) := dk_79 (dk_at dksX0_reads_2 17 rfl rfl)
theorem dX0_reads_65 : decode cX0_reads 65 = .ok (.iinc 6 1, 3) := dk_132 6 1 (dk_at dksX0_reads_2 18 rfl rfl)
theorem dX0_reads_68 : decode cX0_reads 68 = .ok (.goto (-31), 3) := dk_167 255 225 (dk_at dksX0_reads_2 21 rfl rfl)
theorem dX0_reads_71 : decode cX0_reads 71 = .ok (.aload_n 0, 1) := dk_42 (dk_at dksX0_reads_3 0 rfl rfl)
theorem dX0_reads_72 : decode cX0_reads 72 = .ok (.aload_n 0, 1) := dk_42 (dk_at dksX0_reads_3 1 rfl rfl)
theorem dX0_reads_73 : decode cX0_reads 73 = .ok (.getfield 340, 3) := dk_180 1 84 (dk_at dksX0_reads_3 2 rfl rfl)
theorem dX0_reads_76 : decode cX0_reads 76 = .ok (.iload 5, 2) := dk_21 5 (dk_at dksX0_reads_3 5 rfl rfl)
theorem dX0_reads_78 : decode cX0_reads 78 = .ok (.iaload, 1) := dk_46 (dk_at dksX0_reads_3 7 rfl rfl)
theorem dX0_reads_79 : decode cX0_reads 79 = .ok (.invokevirtual 112, 3) := dk_182 0 112 (dk_at dksX0_reads_3 8 rfl rfl)
theorem dX0_reads_82 : decode cX0_reads 82 = .ok (.ifCond .eq 41, 3) := dk_153 0 41 (dk_at dksX0_reads_3 11 rfl rfl)
theorem dX0_reads_85 : decode cX0_reads 85 = .ok (.aload_n 0, 1) := dk_42 (dk_at dksX0_reads_3 14 rfl rfl)
theorem dX0_reads_86 : decode cX0_reads 86 = .ok (.aload_n 0, 1) := dk_42 (dk_at dksX0_reads_3 15 rfl rfl)
theorem dX0_reads_87 : decode cX0_reads 87 = .ok (.getfield 340, 3) := dk_180 1 84 (dk_at dksX0_reads_3 16 rfl rfl)
theorem dX0_reads_90 : decode cX0_reads 90 = .ok (.iload 5, 2) := dk_21 5 (dk_at dksX0_reads_3 19 rfl rfl)
theorem dX0_reads_92 : decode cX0_reads 92 = .ok (.iconst 1, 1) := dk_4 (dk_at dksX0_reads_3 21 rfl rfl)
theorem dX0_reads_93 : decode cX0_reads 93 = .ok (.iadd, 1) := dk_96 (dk_at dksX0_reads_3 22 rfl rfl)
theorem dX0_reads_94 : decode cX0_reads 94 = .ok (.iaload, 1) := dk_46 (dk_at dksX0_reads_3 23 rfl rfl)
theorem dX0_reads_95 : decode cX0_reads 95 = .ok (.invokevirtual 83, 3) := dk_182 0 83 (dk_at dksX0_reads_4 0 rfl rfl)
theorem dX0_reads_98 : decode cX0_reads 98 = .ok (.ifCond .eq 25, 3) := dk_153 0 25 (dk_at dksX0_reads_4 3 rfl rfl)
theorem dX0_reads_101 : decode cX0_reads 101 = .ok (.aload_n 0, 1) := dk_42 (dk_at dksX0_reads_4 6 rfl rfl)
theorem dX0_reads_102 : decode cX0_reads 102 = .ok (.getfield 340, 3) := dk_180 1 84 (dk_at dksX0_reads_4 7 rfl rfl)
theorem dX0_reads_105 : decode cX0_reads 105 = .ok (.iload 5, 2) := dk_21 5 (dk_at dksX0_reads_4 10 rfl rfl)
theorem dX0_reads_107 : decode cX0_reads 107 = .ok (.iconst 2, 1) := dk_5 (dk_at dksX0_reads_4 12 rfl rfl)
theorem dX0_reads_108 : decode cX0_reads 108 = .ok (.iadd, 1) := dk_96 (dk_at dksX0_reads_4 13 rfl rfl)
theorem dX0_reads_109 : decode cX0_reads 109 = .ok (.iaload, 1) := dk_46 (dk_at dksX0_reads_4 14 rfl rfl)
theorem dX0_reads_110 : decode cX0_reads 110 = .ok (.i2l, 1) := dk_133 (dk_at dksX0_reads_4 15 rfl rfl)
theorem dX0_reads_111 : decode cX0_reads 111 = .ok (.lconst 0, 1) := dk_9 (dk_at dksX0_reads_4 16 rfl rfl)
theorem dX0_reads_112 : decode cX0_reads 112 = .ok (.lconst 1, 1) := dk_10 (dk_at dksX0_reads_4 17 rfl rfl)
theorem dX0_reads_113 : decode cX0_reads 113 = .ok (.invokestatic 24, 3) := dk_184 0 24 (dk_at dksX0_reads_4 18 rfl rfl)
theorem dX0_reads_116 : decode cX0_reads 116 = .ok (.ifCond .eq 7, 3) := dk_153 0 7 (dk_at dksX0_reads_4 21 rfl rfl)
theorem dX0_reads_119 : decode cX0_reads 119 = .ok (.iconst 1, 1) := dk_4 (dk_at dksX0_reads_5 0 rfl rfl)
theorem dX0_reads_120 : decode cX0_reads 120 = .ok (.goto 4, 3) := dk_167 0 4 (dk_at dksX0_reads_5 1 rfl rfl)
theorem dX0_reads_123 : decode cX0_reads 123 = .ok (.iconst 0, 1) := dk_3 (dk_at dksX0_reads_5 4 rfl rfl)
theorem dX0_reads_124 : decode cX0_reads 124 = .ok (.istore 6, 2) := dk_54 6 (dk_at dksX0_reads_5 5 rfl rfl)
theorem dX0_reads_126 : decode cX0_reads 126 = .ok (.aload_n 0, 1) := dk_42 (dk_at dksX0_reads_5 7 rfl rfl)
theorem dX0_reads_127 : decode cX0_reads 127 = .ok (.iload 6, 2) := dk_21 6 (dk_at dksX0_reads_5 8 rfl rfl)
theorem dX0_reads_129 : decode cX0_reads 129 = .ok (.ifCond .ne 13, 3) := dk_154 0 13 (dk_at dksX0_reads_5 10 rfl rfl)
theorem dX0_reads_132 : decode cX0_reads 132 = .ok (.bipush (-20), 2) := dk_16 236 (dk_at dksX0_reads_5 13 rfl rfl)
theorem dX0_reads_134 : decode cX0_reads 134 = .ok (.aload_n 0, 1) := dk_42 (dk_at dksX0_reads_5 15 rfl rfl)
theorem dX0_reads_135 : decode cX0_reads 135 = .ok (.getfield 363, 3) := dk_180 1 107 (dk_at dksX0_reads_5 16 rfl rfl)
theorem dX0_reads_138 : decode cX0_reads 138 = .ok (.isub, 1) := dk_100 (dk_at dksX0_reads_5 19 rfl rfl)
theorem dX0_reads_139 : decode cX0_reads 139 = .ok (.goto 23, 3) := dk_167 0 23 (dk_at dksX0_reads_5 20 rfl rfl)
theorem dX0_reads_142 : decode cX0_reads 142 = .ok (.aload_n 0, 1) := dk_42 (dk_at dksX0_reads_5 23 rfl rfl)
theorem dX0_reads_143 : decode cX0_reads 143 = .ok (.getfield 154, 3) := dk_180 0 154 (dk_at dksX0_reads_6 0 rfl rfl)
theorem dX0_reads_146 : decode cX0_reads 146 = .ok (.aload_n 0, 1) := dk_42 (dk_at dksX0_reads_6 3 rfl rfl)
theorem dX0_reads_147 : decode cX0_reads 147 = .ok (.getfield 363, 3) := dk_180 1 107 (dk_at dksX0_reads_6 4 rfl rfl)
theorem dX0_reads_150 : decode cX0_reads 150 = .ok (.iadd, 1) := dk_96 (dk_at dksX0_reads_6 7 rfl rfl)
theorem dX0_reads_151 : decode cX0_reads 151 = .ok (.bipush 24, 2) := dk_16 24 (dk_at dksX0_reads_6 8 rfl rfl)
theorem dX0_reads_153 : decode cX0_reads 153 = .ok (.if_icmp .lt 8, 3) := dk_161 0 8 (dk_at dksX0_reads_6 10 rfl rfl)
theorem dX0_reads_156 : decode cX0_reads 156 = .ok (.bipush (-3), 2) := dk_16 253 (dk_at dksX0_reads_6 13 rfl rfl)
theorem dX0_reads_158 : decode cX0_reads 158 = .ok (.goto 4, 3) := dk_167 0 4 (dk_at dksX0_reads_6 15 rfl rfl)
theorem dX0_reads_161 : decode cX0_reads 161 = .ok (.iconst 0, 1) := dk_3 (dk_at dksX0_reads_6 18 rfl rfl)
theorem dX0_reads_162 : decode cX0_reads 162 = .ok (.putfield 366, 3) := dk_181 1 110 (dk_at dksX0_reads_6 19 rfl rfl)
theorem dX0_reads_165 : decode cX0_reads 165 = .ok (.aload_n 0, 1) := dk_42 (dk_at dksX0_reads_6 22 rfl rfl)
theorem dX0_reads_166 : decode cX0_reads 166 = .ok (.dup, 1) := dk_89 (dk_at dksX0_reads_6 23 rfl rfl)
theorem dX0_reads_167 : decode cX0_reads 167 = .ok (.getfield 363, 3) := dk_180 1 107 (dk_at dksX0_reads_7 0 rfl rfl)
theorem dX0_reads_170 : decode cX0_reads 170 = .ok (.iconst 1, 1) := dk_4 (dk_at dksX0_reads_7 3 rfl rfl)
theorem dX0_reads_171 : decode cX0_reads 171 = .ok (.iadd, 1) := dk_96 (dk_at dksX0_reads_7 4 rfl rfl)
theorem dX0_reads_172 : decode cX0_reads 172 = .ok (.putfield 363, 3) := dk_181 1 107 (dk_at dksX0_reads_7 5 rfl rfl)
theorem dX0_reads_175 : decode cX0_reads 175 = .ok (.goto (-165), 3) := dk_167 255 91 (dk_at dksX0_reads_7 8 rfl rfl)
theorem dX0_reads_178 : decode cX0_reads 178 = .ok (.iconst 0, 1) := dk_3 (dk_at dksX0_reads_7 11 rfl rfl)
theorem dX0_reads_179 : decode cX0_reads 179 = .ok (.ireturn, 1) := dk_172 (dk_at dksX0_reads_7 12 rfl rfl)
theorem dX0_reads_180 : decode cX0_reads 180 = .ok (.astore 5, 2) := dk_58 5 (dk_at dksX0_reads_7 13 rfl rfl)
theorem dX0_reads_182 : decode cX0_reads 182 = .ok (.iconst 1, 1) := dk_4 (dk_at dksX0_reads_7 15 rfl rfl)
theorem dX0_reads_183 : decode cX0_reads 183 = .ok (.ireturn, 1) := dk_172 (dk_at dksX0_reads_7 16 rfl rfl)
theorem dX0_reads_184 : decode cX0_reads 184 = .ok (.astore 5, 2) := dk_58 5 (dk_at dksX0_reads_7 17 rfl rfl)
theorem dX0_reads_186 : decode cX0_reads 186 = .ok (.iconst 3, 1) := dk_6 (dk_at dksX0_reads_7 19 rfl rfl)
theorem dX0_reads_187 : decode cX0_reads 187 = .ok (.ireturn, 1) := dk_172 (dk_at dksX0_reads_7 20 rfl rfl)
theorem dX0_reads_188 : decode cX0_reads 188 = .ok (.astore 5, 2) := dk_58 5 (dk_at dksX0_reads_7 21 rfl rfl)
theorem dX0_reads_190 : decode cX0_reads 190 = .ok (.iconst 2, 1) := dk_5 (dk_at dksX0_reads_7 23 rfl rfl)
theorem dX0_reads_191 : decode cX0_reads 191 = .ok (.ireturn, 1) := dk_172 (dk_at dksX0_reads_8 0 rfl rfl)
abbrev cX0_cell : ByteArray := prog_1_method_69_code
def yX0_cell : MethodName := ⟨RX0, "cell", "(Ljava/lang/Object;II)I"⟩
def dkwX0_cell_1 : List UInt8 := [167, 0, 9, 42, 192, 1, 102, 28, 46, 172]
abbrev dktX0_cell_1 : List UInt8 := dkwX0_cell_1 ++ []
def dkwX0_cell_0 : List UInt8 := [27, 154, 0, 12, 42, 192, 1, 99, 28, 51, 167, 0, 23, 27, 4, 160, 0, 12, 42, 192, 1, 100, 28, 53]
abbrev dktX0_cell_0 : List UInt8 := dkwX0_cell_0 ++ dktX0_cell_1
theorem dksX0_cell_0 : cX0_cell.data.toList.drop 0 = dktX0_cell_0 := by decide +kernel
theorem dksX0_cell_1 : cX0_cell.data.toList.drop 24 = dktX0_cell_1 := dk_seg dksX0_cell_0 24 rfl rfl
theorem dX0_cell_0 : decode cX0_cell 0 = .ok (.iload_n 1, 1) := dk_27 (dk_at dksX0_cell_0 0 rfl rfl)
theorem dX0_cell_1 : decode cX0_cell 1 = .ok (.ifCond .ne 12, 3) := dk_154 0 12 (dk_at dksX0_cell_0 1 rfl rfl)
theorem dX0_cell_4 : decode cX0_cell 4 = .ok (.aload_n 0, 1) := dk_42 (dk_at dksX0_cell_0 4 rfl rfl)
theorem dX0_cell_5 : decode cX0_cell 5 = .ok (.checkcast 355, 3) := dk_192 1 99 (dk_at dksX0_cell_0 5 rfl rfl)
theorem dX0_cell_8 : decode cX0_cell 8 = .ok (.iload_n 2, 1) := dk_28 (dk_at dksX0_cell_0 8 rfl rfl)
theorem dX0_cell_9 : decode cX0_cell 9 = .ok (.baload, 1) := dk_51 (dk_at dksX0_cell_0 9 rfl rfl)
theorem dX0_cell_10 : decode cX0_cell 10 = .ok (.goto 23, 3) := dk_167 0 23 (dk_at dksX0_cell_0 10 rfl rfl)
theorem dX0_cell_13 : decode cX0_cell 13 = .ok (.iload_n 1, 1) := dk_27 (dk_at dksX0_cell_0 13 rfl rfl)
theorem dX0_cell_14 : decode cX0_cell 14 = .ok (.iconst 1, 1) := dk_4 (dk_at dksX0_cell_0 14 rfl rfl)
theorem dX0_cell_15 : decode cX0_cell 15 = .ok (.if_icmp .ne 12, 3) := dk_160 0 12 (dk_at dksX0_cell_0 15 rfl rfl)
theorem dX0_cell_18 : decode cX0_cell 18 = .ok (.aload_n 0, 1) := dk_42 (dk_at dksX0_cell_0 18 rfl rfl)
theorem dX0_cell_19 : decode cX0_cell 19 = .ok (.checkcast 356, 3) := dk_192 1 100 (dk_at dksX0_cell_0 19 rfl rfl)
theorem dX0_cell_22 : decode cX0_cell 22 = .ok (.iload_n 2, 1) := dk_28 (dk_at dksX0_cell_0 22 rfl rfl)
theorem dX0_cell_23 : decode cX0_cell 23 = .ok (.saload, 1) := dk_53 (dk_at dksX0_cell_0 23 rfl rfl)
theorem dX0_cell_24 : decode cX0_cell 24 = .ok (.goto 9, 3) := dk_167 0 9 (dk_at dksX0_cell_1 0 rfl rfl)
theorem dX0_cell_27 : decode cX0_cell 27 = .ok (.aload_n 0, 1) := dk_42 (dk_at dksX0_cell_1 3 rfl rfl)
theorem dX0_cell_28 : decode cX0_cell 28 = .ok (.checkcast 358, 3) := dk_192 1 102 (dk_at dksX0_cell_1 4 rfl rfl)
theorem dX0_cell_31 : decode cX0_cell 31 = .ok (.iload_n 2, 1) := dk_28 (dk_at dksX0_cell_1 7 rfl rfl)
theorem dX0_cell_32 : decode cX0_cell 32 = .ok (.iaload, 1) := dk_46 (dk_at dksX0_cell_1 8 rfl rfl)
theorem dX0_cell_33 : decode cX0_cell 33 = .ok (.ireturn, 1) := dk_172 (dk_at dksX0_cell_1 9 rfl rfl)
abbrev cX0_torn : ByteArray := prog_1_method_72_code
def yX0_torn : MethodName := ⟨RX0, "torn", "()I"⟩
theorem dX0_torn_0 : decode cX0_torn 0 = .ok (.aload_n 0, 1) := by decide +kernel
theorem dX0_torn_1 : decode cX0_torn 1 = .ok (.getfield 381, 3) := by decide +kernel
theorem dX0_torn_4 : decode cX0_torn 4 = .ok (.ireturn, 1) := by decide +kernel
abbrev cX0_count : ByteArray := prog_1_method_73_code
def yX0_count : MethodName := ⟨RX0, "count", "(I)I"⟩
def dkwX0_count_6 : List UInt8 := [180, 1, 94, 172, 2, 172]
abbrev dktX0_count_6 : List UInt8 := dkwX0_count_6 ++ []
def dkwX0_count_5 : List UInt8 := [180, 1, 80, 3, 50, 180, 1, 91, 199, 0, 8, 16, 252, 167, 0, 12, 42, 180, 1, 80, 3, 50]
abbrev dktX0_count_5 : List UInt8 := dkwX0_count_5 ++ dktX0_count_6
def dkwX0_count_4 : List UInt8 := [180, 0, 50, 4, 50, 180, 0, 54, 153, 0, 7, 4, 167, 0, 4, 3, 96, 172, 42, 180, 0, 17, 172, 42]
abbrev dktX0_count_4 : List UInt8 := dkwX0_count_4 ++ dktX0_count_5
def dkwX0_count_3 : List UInt8 := [172, 42, 180, 0, 47, 172, 42, 180, 0, 50, 3, 50, 180, 0, 54, 153, 0, 7, 4, 167, 0, 4, 3, 42]
abbrev dktX0_count_3 : List UInt8 := dkwX0_count_3 ++ dktX0_count_4
def dkwX0_count_2 : List UInt8 := [42, 180, 0, 74, 172, 42, 180, 0, 3, 172, 42, 180, 0, 77, 172, 42, 180, 0, 80, 172, 42, 180, 0, 154]
abbrev dktX0_count_2 : List UInt8 := dkwX0_count_2 ++ dktX0_count_3
def dkwX0_count_1 : List UInt8 := [170, 0, 0, 0, 0, 0, 149, 0, 0, 0, 0, 0, 0, 0, 8, 0, 0, 0, 51, 0, 0, 0, 56, 0, 0, 0, 61, 0, 0, 0, 66, 0, 0, 0, 71, 0, 0, 0, 76, 0, 0, 0, 81, 0, 0, 0, 117, 0, 0, 0, 122]
abbrev dktX0_count_1 : List UInt8 := dkwX0_count_1 ++ dktX0_count_2
def dkwX0_count_0 : List UInt8 := [27]
abbrev dktX0_count_0 : List UInt8 := dkwX0_count_0 ++ dktX0_count_1
theorem dksX0_count_0 : cX0_count.data.toList.drop 0 = dktX0_count_0 := by decide +kernel
theorem dksX0_count_1 : cX0_count.data.toList.drop 1 = dktX0_count_1 := dk_seg dksX0_count_0 1 rfl rfl
theorem dksX0_count_2 : cX0_count.data.toList.drop 52 = dktX0_count_2 := dk_seg dksX0_count_1 51 rfl rfl
theorem dksX0_count_3 : cX0_count.data.toList.drop 76 = dktX0_count_3 := dk_seg dksX0_count_2 24 rfl rfl
theorem dksX0_count_4 : cX0_count.data.toList.drop 100 = dktX0_count_4 := dk_seg dksX0_count_3 24 rfl rfl
theorem dksX0_count_5 : cX0_count.data.toList.drop 124 = dktX0_count_5 := dk_seg dksX0_count_4 24 rfl rfl
theorem dksX0_count_6 : cX0_count.data.toList.drop 146 = dktX0_count_6 := dk_seg dksX0_count_5 22 rfl rfl
theorem dX0_count_0 : decode cX0_count 0 = .ok (.iload_n 1, 1) := dk_27 (dk_at dksX0_count_0 0 rfl rfl)
theorem dX0_count_1 : decode cX0_count 1 = .ok (.tableswitch 149 0 8 #[51, 56, 61, 66, 71, 76, 81, 117, 122], 51) := by decide +kernel
theorem dX0_count_52 : decode cX0_count 52 = .ok (.aload_n 0, 1) := dk_42 (dk_at dksX0_count_2 0 rfl rfl)
theorem dX0_count_53 : decode cX0_count 53 = .ok (.getfield 74, 3) := dk_180 0 74 (dk_at dksX0_count_2 1 rfl rfl)
theorem dX0_count_56 : decode cX0_count 56 = .ok (.ireturn, 1) := dk_172 (dk_at dksX0_count_2 4 rfl rfl)
theorem dX0_count_57 : decode cX0_count 57 = .ok (.aload_n 0, 1) := dk_42 (dk_at dksX0_count_2 5 rfl rfl)
theorem dX0_count_58 : decode cX0_count 58 = .ok (.getfield 3, 3) := dk_180 0 3 (dk_at dksX0_count_2 6 rfl rfl)
theorem dX0_count_61 : decode cX0_count 61 = .ok (.ireturn, 1) := dk_172 (dk_at dksX0_count_2 9 rfl rfl)
theorem dX0_count_62 : decode cX0_count 62 = .ok (.aload_n 0, 1) := dk_42 (dk_at dksX0_count_2 10 rfl rfl)
theorem dX0_count_63 : decode cX0_count 63 = .ok (.getfield 77, 3) := dk_180 0 77 (dk_at dksX0_count_2 11 rfl rfl)
theorem dX0_count_66 : decode cX0_count 66 = .ok (.ireturn, 1) := dk_172 (dk_at dksX0_count_2 14 rfl rfl)
theorem dX0_count_67 : decode cX0_count 67 = .ok (.aload_n 0, 1) := dk_42 (dk_at dksX0_count_2 15 rfl rfl)
theorem dX0_count_68 : decode cX0_count 68 = .ok (.getfield 80, 3) := dk_180 0 80 (dk_at dksX0_count_2 16 rfl rfl)
theorem dX0_count_71 : decode cX0_count 71 = .ok (.ireturn, 1) := dk_172 (dk_at dksX0_count_2 19 rfl rfl)
theorem dX0_count_72 : decode cX0_count 72 = .ok (.aload_n 0, 1) := dk_42 (dk_at dksX0_count_2 20 rfl rfl)
theorem dX0_count_73 : decode cX0_count 73 = .ok (.getfield 154, 3) := dk_180 0 154 (dk_at dksX0_count_2 21 rfl rfl)
theorem dX0_count_76 : decode cX0_count 76 = .ok (.ireturn, 1) := dk_172 (dk_at dksX0_count_3 0 rfl rfl)
theorem dX0_count_77 : decode cX0_count 77 = .ok (.aload_n 0, 1) := dk_42 (dk_at dksX0_count_3 1 rfl rfl)
theorem dX0_count_78 : decode cX0_count 78 = .ok (.getfield 47, 3) := dk_180 0 47 (dk_at dksX0_count_3 2 rfl rfl)
theorem dX0_count_81 : decode cX0_count 81 = .ok (.ireturn, 1) := dk_172 (dk_at dksX0_count_3 5 rfl rfl)
theorem dX0_count_82 : decode cX0_count 82 = .ok (.aload_n 0, 1) := dk_42 (dk_at dksX0_count_3 6 rfl rfl)
theorem dX0_count_83 : decode cX0_count 83 = .ok (.getfield 50, 3) := dk_180 0 50 (dk_at dksX0_count_3 7 rfl rfl)
theorem dX0_count_86 : decode cX0_count 86 = .ok (.iconst 0, 1) := dk_3 (dk_at dksX0_count_3 10 rfl rfl)
theorem dX0_count_87 : decode cX0_count 87 = .ok (.aaload, 1) := dk_50 (dk_at dksX0_count_3 11 rfl rfl)
theorem dX0_count_88 : decode cX0_count 88 = .ok (.getfield 54, 3) := dk_180 0 54 (dk_at dksX0_count_3 12 rfl rfl)
theorem dX0_count_91 : decode cX0_count 91 = .ok (.ifCond .eq 7, 3) := dk_153 0 7 (dk_at dksX0_count_3 15 rfl rfl)
theorem dX0_count_94 : decode cX0_count 94 = .ok (.iconst 1, 1) := dk_4 (dk_at dksX0_count_3 18 rfl rfl)
theorem dX0_count_95 : decode cX0_count 95 = .ok (.goto 4, 3) := dk_167 0 4 (dk_at dksX0_count_3 19 rfl rfl)
theorem dX0_count_98 : decode cX0_count 98 = .ok (.iconst 0, 1) := dk_3 (dk_at dksX0_count_3 22 rfl rfl)
theorem dX0_count_99 : decode cX0_count 99 = .ok (.aload_n 0, 1) := dk_42 (dk_at dksX0_count_3 23 rfl rfl)
theorem dX0_count_100 : decode cX0_count 100 = .ok (.getfield 50, 3) := dk_180 0 50 (dk_at dksX0_count_4 0 rfl rfl)
theorem dX0_count_103 : decode cX0_count 103 = .ok (.iconst 1, 1) := dk_4 (dk_at dksX0_count_4 3 rfl rfl)
theorem dX0_count_104 : decode cX0_count 104 = .ok (.aaload, 1) := dk_50 (dk_at dksX0_count_4 4 rfl rfl)
theorem dX0_count_105 : decode cX0_count 105 = .ok (.getfield 54, 3) := dk_180 0 54 (dk_at dksX0_count_4 5 rfl rfl)
theorem dX0_count_108 : decode cX0_count 108 = .ok (.ifCond .eq 7, 3) := dk_153 0 7 (dk_at dksX0_count_4 8 rfl rfl)
theorem dX0_count_111 : decode cX0_count 111 = .ok (.iconst 1, 1) := dk_4 (dk_at dksX0_count_4 11 rfl rfl)
theorem dX0_count_112 : decode cX0_count 112 = .ok (.goto 4, 3) := dk_167 0 4 (dk_at dksX0_count_4 12 rfl rfl)
theorem dX0_count_115 : decode cX0_count 115 = .ok (.iconst 0, 1) := dk_3 (dk_at dksX0_count_4 15 rfl rfl)
theorem dX0_count_116 : decode cX0_count 116 = .ok (.iadd, 1) := dk_96 (dk_at dksX0_count_4 16 rfl rfl)
theorem dX0_count_117 : decode cX0_count 117 = .ok (.ireturn, 1) := dk_172 (dk_at dksX0_count_4 17 rfl rfl)
theorem dX0_count_118 : decode cX0_count 118 = .ok (.aload_n 0, 1) := dk_42 (dk_at dksX0_count_4 18 rfl rfl)
theorem dX0_count_119 : decode cX0_count 119 = .ok (.getfield 17, 3) := dk_180 0 17 (dk_at dksX0_count_4 19 rfl rfl)
theorem dX0_count_122 : decode cX0_count 122 = .ok (.ireturn, 1) := dk_172 (dk_at dksX0_count_4 22 rfl rfl)
theorem dX0_count_123 : decode cX0_count 123 = .ok (.aload_n 0, 1) := dk_42 (dk_at dksX0_count_4 23 rfl rfl)
theorem dX0_count_124 : decode cX0_count 124 = .ok (.getfield 336, 3) := dk_180 1 80 (dk_at dksX0_count_5 0 rfl rfl)
theorem dX0_count_127 : decode cX0_count 127 = .ok (.iconst 0, 1) := dk_3 (dk_at dksX0_count_5 3 rfl rfl)
theorem dX0_count_128 : decode cX0_count 128 = .ok (.aaload, 1) := dk_50 (dk_at dksX0_count_5 4 rfl rfl)
theorem dX0_count_129 : decode cX0_count 129 = .ok (.getfield 347, 3) := dk_180 1 91 (dk_at dksX0_count_5 5 rfl rfl)
theorem dX0_count_132 : decode cX0_count 132 = .ok (.ifnonnull 8, 3) := dk_199 0 8 (dk_at dksX0_count_5 8 rfl rfl)
theorem dX0_count_135 : decode cX0_count 135 = .ok (.bipush (-4), 2) := dk_16 252 (dk_at dksX0_count_5 11 rfl rfl)
theorem dX0_count_137 : decode cX0_count 137 = .ok (.goto 12, 3) := dk_167 0 12 (dk_at dksX0_count_5 13 rfl rfl)
theorem dX0_count_140 : decode cX0_count 140 = .ok (.aload_n 0, 1) := dk_42 (dk_at dksX0_count_5 16 rfl rfl)
theorem dX0_count_141 : decode cX0_count 141 = .ok (.getfield 336, 3) := dk_180 1 80 (dk_at dksX0_count_5 17 rfl rfl)
theorem dX0_count_144 : decode cX0_count 144 = .ok (.iconst 0, 1) := dk_3 (dk_at dksX0_count_5 20 rfl rfl)
theorem dX0_count_145 : decode cX0_count 145 = .ok (.aaload, 1) := dk_50 (dk_at dksX0_count_5 21 rfl rfl)
theorem dX0_count_146 : decode cX0_count 146 = .ok (.getfield 350, 3) := dk_180 1 94 (dk_at dksX0_count_6 0 rfl rfl)
theorem dX0_count_149 : decode cX0_count 149 = .ok (.ireturn, 1) := dk_172 (dk_at dksX0_count_6 3 rfl rfl)
theorem dX0_count_150 : decode cX0_count 150 = .ok (.iconst (-1), 1) := dk_2 (dk_at dksX0_count_6 4 rfl rfl)
theorem dX0_count_151 : decode cX0_count 151 = .ok (.ireturn, 1) := dk_172 (dk_at dksX0_count_6 5 rfl rfl)
theorem q92 : (Jvm.Cond.initialized "FirstWords") ∈ lw_all := lw_g (lw_at lw_m1 1 rfl) rfl
theorem q122 : (Jvm.Cond.instanceMethod ({ cls := "FirstWords", name := "feed", desc := "(J)I" } : Jvm.MethodName)) ∈ lw_all := lw_g (lw_at lw_m1 31 rfl) rfl
theorem q123 : (Jvm.Cond.selects "FirstWords" ({ cls := "FirstWords", name := "feed", desc := "(J)I" } : Jvm.MethodName) ({ cls := "FirstWords", name := "feed", desc := "(J)I" } : Jvm.MethodName)) ∈ lw_all := lw_g (lw_at lw_m1 32 rfl) rfl
theorem q124 : (Jvm.Cond.code ({ cls := "FirstWords", name := "feed", desc := "(J)I" } : Jvm.MethodName) prog_1_method_3_code (4 : Nat) (Option.some Jvm.ClassFile.FieldType.int)) ∈ lw_all := lw_g (lw_at lw_m1 33 rfl) rfl
theorem q126 : (Jvm.Cond.instanceMethod ({ cls := "FirstWords", name := "end", desc := "(I)I" } : Jvm.MethodName)) ∈ lw_all := lw_g (lw_at lw_m1 35 rfl) rfl
theorem q127 : (Jvm.Cond.selects "FirstWords" ({ cls := "FirstWords", name := "end", desc := "(I)I" } : Jvm.MethodName) ({ cls := "FirstWords", name := "end", desc := "(I)I" } : Jvm.MethodName)) ∈ lw_all := lw_g (lw_at lw_m1 36 rfl) rfl
theorem q128 : (Jvm.Cond.code ({ cls := "FirstWords", name := "end", desc := "(I)I" } : Jvm.MethodName) prog_1_method_4_code (3 : Nat) (Option.some Jvm.ClassFile.FieldType.int)) ∈ lw_all := lw_g (lw_at lw_m1 37 rfl) rfl
theorem q129 : (Jvm.Cond.methodLink "FirstWords" (24 : Nat) ({ cls := "FirstWords", name := "isIn", desc := "(JJJ)Z" } : Jvm.MethodName)) ∈ lw_all := lw_g (lw_at lw_m1 38 rfl) rfl
theorem q130 : (Jvm.Cond.static ({ cls := "FirstWords", name := "isIn", desc := "(JJJ)Z" } : Jvm.MethodName)) ∈ lw_all := lw_g (lw_at lw_m1 39 rfl) rfl
theorem q131 : (Jvm.Cond.code ({ cls := "FirstWords", name := "isIn", desc := "(JJJ)Z" } : Jvm.MethodName) prog_1_method_1_code (6 : Nat) (Option.some Jvm.ClassFile.FieldType.boolean)) ∈ lw_all := lw_g (lw_at lw_m1 40 rfl) rfl
theorem q133 : (Jvm.Cond.instanceMethod ({ cls := "FirstWords", name := "text", desc := "()I" } : Jvm.MethodName)) ∈ lw_all := lw_g (lw_at lw_m1 42 rfl) rfl
theorem q134 : (Jvm.Cond.selects "FirstWords" ({ cls := "FirstWords", name := "text", desc := "()I" } : Jvm.MethodName) ({ cls := "FirstWords", name := "text", desc := "()I" } : Jvm.MethodName)) ∈ lw_all := lw_g (lw_at lw_m1 43 rfl) rfl
theorem q135 : (Jvm.Cond.codeWith ({ cls := "FirstWords", name := "text", desc := "()I" } : Jvm.MethodName) prog_1_method_5_code (3 : Nat) (Option.some Jvm.ClassFile.FieldType.int) [((26 : Nat), (78 : Nat), (79 : Nat), (66 : Nat))]) ∈ lw_all := lw_g (lw_at lw_m1 44 rfl) rfl
theorem q136 : (Jvm.Cond.classLink "FirstWords" (66 : Nat) "FirstWords$Fault") ∈ lw_all := lw_g (lw_at lw_m1 45 rfl) rfl
theorem q137 : (Jvm.Cond.methodLink "FirstWords" (28 : Nat) ({ cls := "java/lang/System", name := "arraycopy", desc := "(Ljava/lang/Object;ILjava/lang/Object;II)V" } : Jvm.MethodName)) ∈ lw_all := lw_g (lw_at lw_m1 46 rfl) rfl
theorem q140 : (Jvm.Cond.classLink "FirstWords" (34 : Nat) "FirstWords$Reader") ∈ lw_all := lw_g (lw_at lw_m1 49 rfl) rfl
theorem q142 : (Jvm.Cond.methodLink "FirstWords" (36 : Nat) ({ cls := "FirstWords$Reader", name := "<init>", desc := "(LFirstWords;[B)V" } : Jvm.MethodName)) ∈ lw_all := lw_g (lw_at lw_m1 51 rfl) rfl
theorem q238 : (Jvm.Cond.fieldLinkNest "FirstWords" (68 : Nat) "FirstWords$Fault" "code" "I" "FirstWords") ∈ lw_tbl := lw_at lw_m1 147 rfl
theorem q240 : (Jvm.Cond.fieldLinkNest "FirstWords" (71 : Nat) "FirstWords$Fault" "place" "I" "FirstWords") ∈ lw_tbl := lw_at lw_m1 149 rfl
theorem q269 : (Jvm.Cond.fieldLinkNest "FirstWords" (63 : Nat) "FirstWords$Reader" "lines" "I" "FirstWords") ∈ lw_tbl := lw_at lw_m1 178 rfl
theorem q307 : (Jvm.Cond.methodLink "FirstWords" (40 : Nat) ({ cls := "FirstWords$Reader", name := "all", desc := "()V" } : Jvm.MethodName)) ∈ lw_all := lw_g (lw_at lw_m1 216 rfl) rfl
theorem q316 : (Jvm.Cond.laysStatic "FirstWords" "NAMES" "[Ljava/lang/String;") ∈ lw_tbl := lw_at lw_m1 225 rfl
theorem q389 : (Jvm.Cond.fieldLinkNest "FirstWords" (103 : Nat) "FirstWords$Meaning" "has" "I" "FirstWords") ∈ lw_tbl := lw_at lw_m2 58 rfl
theorem q392 : (Jvm.Cond.fieldLinkNest "FirstWords" (106 : Nat) "FirstWords$Meaning" "not" "I" "FirstWords") ∈ lw_tbl := lw_at lw_m2 61 rfl
theorem q396 : (Jvm.Cond.fieldLinkNest "FirstWords" (109 : Nat) "FirstWords$Meaning" "things" "I" "FirstWords") ∈ lw_tbl := lw_at lw_m2 65 rfl
theorem q420 : (Jvm.Cond.fieldLink "FirstWords" (124 : Nat) "FirstWords$Stranger" "sees" "I") ∈ lw_all := lw_g (lw_at lw_m2 89 rfl) rfl
theorem q423 : (Jvm.Cond.fieldLink "FirstWords" (127 : Nat) "FirstWords$Stranger" "fears" "I") ∈ lw_all := lw_g (lw_at lw_m2 92 rfl) rfl
theorem q426 : (Jvm.Cond.fieldLink "FirstWords" (130 : Nat) "FirstWords$Stranger" "isUnlike" "Z") ∈ lw_all := lw_g (lw_at lw_m2 95 rfl) rfl
theorem q429 : (Jvm.Cond.fieldLink "FirstWords" (133 : Nat) "FirstWords$Stranger" "chance" "I") ∈ lw_all := lw_g (lw_at lw_m2 98 rfl) rfl
theorem q431 : (Jvm.Cond.fieldLink "FirstWords" (98 : Nat) "FirstWords$Stranger" "can" "I") ∈ lw_all := lw_g (lw_at lw_m2 100 rfl) rfl
theorem q497 : (Jvm.Cond.laysStatic "FirstWords" "WITHS" "[Ljava/lang/String;") ∈ lw_tbl := lw_at lw_m2 166 rfl
theorem q506 : (Jvm.Cond.methodLink "FirstWords" (44 : Nat) ({ cls := "FirstWords", name := "begins", desc := "()V" } : Jvm.MethodName)) ∈ lw_all := lw_g (lw_at lw_m2 175 rfl) rfl
theorem q507 : (Jvm.Cond.privateMethod ({ cls := "FirstWords", name := "begins", desc := "()V" } : Jvm.MethodName)) ∈ lw_tbl := lw_at lw_m2 176 rfl
theorem q508 : (Jvm.Cond.instanceMethod ({ cls := "FirstWords", name := "begins", desc := "()V" } : Jvm.MethodName)) ∈ lw_all := lw_g (lw_at lw_m2 177 rfl) rfl
theorem q509 : (Jvm.Cond.instantiable "FirstWords" (30 : Nat)) ∈ lw_all := lw_g (lw_at lw_m2 178 rfl) rfl
theorem q510 : (Jvm.Cond.code ({ cls := "FirstWords", name := "begins", desc := "()V" } : Jvm.MethodName) prog_1_method_16_code (1 : Nat) (Option.none : Option Jvm.ClassFile.FieldType)) ∈ lw_all := lw_g (lw_at lw_m2 179 rfl) rfl
theorem q511 : (Jvm.Cond.methodLink "FirstWords" (160 : Nat) ({ cls := "FirstWords", name := "isNew", desc := "()V" } : Jvm.MethodName)) ∈ lw_all := lw_g (lw_at lw_m2 180 rfl) rfl
theorem q512 : (Jvm.Cond.privateMethod ({ cls := "FirstWords", name := "isNew", desc := "()V" } : Jvm.MethodName)) ∈ lw_tbl := lw_at lw_m2 181 rfl
theorem q513 : (Jvm.Cond.instanceMethod ({ cls := "FirstWords", name := "isNew", desc := "()V" } : Jvm.MethodName)) ∈ lw_all := lw_g (lw_at lw_m2 182 rfl) rfl
theorem q514 : (Jvm.Cond.code ({ cls := "FirstWords", name := "isNew", desc := "()V" } : Jvm.MethodName) prog_1_method_15_code (5 : Nat) (Option.none : Option Jvm.ClassFile.FieldType)) ∈ lw_all := lw_g (lw_at lw_m2 183 rfl) rfl
theorem q515 : (Jvm.Cond.methodLink "FirstWords" (140 : Nat) ({ cls := "FirstWords$Mind", name := "isNew", desc := "()V" } : Jvm.MethodName)) ∈ lw_all := lw_g (lw_at lw_m2 184 rfl) rfl
theorem q522 : (Jvm.Cond.methodLink "FirstWords" (148 : Nat) ({ cls := "java/util/Arrays", name := "fill", desc := "([II)V" } : Jvm.MethodName)) ∈ lw_all := lw_g (lw_at lw_m2 191 rfl) rfl
theorem q524 : (Jvm.Cond.instanceMethod ({ cls := "FirstWords", name := "fault", desc := "()I" } : Jvm.MethodName)) ∈ lw_all := lw_g (lw_at lw_m2 193 rfl) rfl
theorem q525 : (Jvm.Cond.selects "FirstWords" ({ cls := "FirstWords", name := "fault", desc := "()I" } : Jvm.MethodName) ({ cls := "FirstWords", name := "fault", desc := "()I" } : Jvm.MethodName)) ∈ lw_all := lw_g (lw_at lw_m2 194 rfl) rfl
theorem q526 : (Jvm.Cond.code ({ cls := "FirstWords", name := "fault", desc := "()I" } : Jvm.MethodName) prog_1_method_6_code (1 : Nat) (Option.some Jvm.ClassFile.FieldType.int)) ∈ lw_all := lw_g (lw_at lw_m2 195 rfl) rfl
theorem q528 : (Jvm.Cond.instanceMethod ({ cls := "FirstWords", name := "thing", desc := "(I)I" } : Jvm.MethodName)) ∈ lw_all := lw_g (lw_at lw_m2 197 rfl) rfl
theorem q529 : (Jvm.Cond.selects "FirstWords" ({ cls := "FirstWords", name := "thing", desc := "(I)I" } : Jvm.MethodName) ({ cls := "FirstWords", name := "thing", desc := "(I)I" } : Jvm.MethodName)) ∈ lw_all := lw_g (lw_at lw_m2 198 rfl) rfl
theorem q530 : (Jvm.Cond.code ({ cls := "FirstWords", name := "thing", desc := "(I)I" } : Jvm.MethodName) prog_1_method_11_code (2 : Nat) (Option.some Jvm.ClassFile.FieldType.int)) ∈ lw_all := lw_g (lw_at lw_m2 199 rfl) rfl
theorem q531 : (Jvm.Cond.methodLink "FirstWords" (83 : Nat) ({ cls := "FirstWords", name := "isThing", desc := "(I)Z" } : Jvm.MethodName)) ∈ lw_all := lw_g (lw_at lw_m2 200 rfl) rfl
theorem q532 : (Jvm.Cond.privateMethod ({ cls := "FirstWords", name := "isThing", desc := "(I)Z" } : Jvm.MethodName)) ∈ lw_tbl := lw_at lw_m2 201 rfl
theorem q533 : (Jvm.Cond.instanceMethod ({ cls := "FirstWords", name := "isThing", desc := "(I)Z" } : Jvm.MethodName)) ∈ lw_all := lw_g (lw_at lw_m2 202 rfl) rfl
theorem q534 : (Jvm.Cond.code ({ cls := "FirstWords", name := "isThing", desc := "(I)Z" } : Jvm.MethodName) prog_1_method_7_code (2 : Nat) (Option.some Jvm.ClassFile.FieldType.boolean)) ∈ lw_all := lw_g (lw_at lw_m2 203 rfl) rfl
theorem q536 : (Jvm.Cond.instanceMethod ({ cls := "FirstWords", name := "meaning", desc := "(II)I" } : Jvm.MethodName)) ∈ lw_all := lw_g (lw_at lw_m2 205 rfl) rfl
theorem q537 : (Jvm.Cond.selects "FirstWords" ({ cls := "FirstWords", name := "meaning", desc := "(II)I" } : Jvm.MethodName) ({ cls := "FirstWords", name := "meaning", desc := "(II)I" } : Jvm.MethodName)) ∈ lw_all := lw_g (lw_at lw_m2 206 rfl) rfl
theorem q538 : (Jvm.Cond.code ({ cls := "FirstWords", name := "meaning", desc := "(II)I" } : Jvm.MethodName) prog_1_method_12_code (6 : Nat) (Option.some Jvm.ClassFile.FieldType.int)) ∈ lw_all := lw_g (lw_at lw_m2 207 rfl) rfl
theorem q539 : (Jvm.Cond.methodLink "FirstWords" (91 : Nat) ({ cls := "FirstWords", name := "isMeaning", desc := "(I)Z" } : Jvm.MethodName)) ∈ lw_all := lw_g (lw_at lw_m2 208 rfl) rfl
theorem q540 : (Jvm.Cond.privateMethod ({ cls := "FirstWords", name := "isMeaning", desc := "(I)Z" } : Jvm.MethodName)) ∈ lw_tbl := lw_at lw_m2 209 rfl
theorem q541 : (Jvm.Cond.instanceMethod ({ cls := "FirstWords", name := "isMeaning", desc := "(I)Z" } : Jvm.MethodName)) ∈ lw_all := lw_g (lw_at lw_m2 210 rfl) rfl
theorem q542 : (Jvm.Cond.code ({ cls := "FirstWords", name := "isMeaning", desc := "(I)Z" } : Jvm.MethodName) prog_1_method_8_code (2 : Nat) (Option.some Jvm.ClassFile.FieldType.boolean)) ∈ lw_all := lw_g (lw_at lw_m2 211 rfl) rfl
theorem q543 : (Jvm.Cond.methodLink "FirstWords" (11 : Nat) ({ cls := "FirstWords$Meaning", name := "asks", desc := "()I" } : Jvm.MethodName)) ∈ lw_all := lw_g (lw_at lw_m2 212 rfl) rfl
theorem q554 : (Jvm.Cond.instanceMethod ({ cls := "FirstWords", name := "word", desc := "(I)I" } : Jvm.MethodName)) ∈ lw_all := lw_g (lw_at lw_m2 223 rfl) rfl
theorem q555 : (Jvm.Cond.selects "FirstWords" ({ cls := "FirstWords", name := "word", desc := "(I)I" } : Jvm.MethodName) ({ cls := "FirstWords", name := "word", desc := "(I)I" } : Jvm.MethodName)) ∈ lw_all := lw_g (lw_at lw_m2 224 rfl) rfl
theorem q556 : (Jvm.Cond.code ({ cls := "FirstWords", name := "word", desc := "(I)I" } : Jvm.MethodName) prog_1_method_13_code (2 : Nat) (Option.some Jvm.ClassFile.FieldType.int)) ∈ lw_all := lw_g (lw_at lw_m2 225 rfl) rfl
theorem q557 : (Jvm.Cond.methodLink "FirstWords" (112 : Nat) ({ cls := "FirstWords", name := "isSound", desc := "(I)Z" } : Jvm.MethodName)) ∈ lw_all := lw_g (lw_at lw_m2 226 rfl) rfl
theorem q558 : (Jvm.Cond.privateMethod ({ cls := "FirstWords", name := "isSound", desc := "(I)Z" } : Jvm.MethodName)) ∈ lw_tbl := lw_at lw_m2 227 rfl
theorem q559 : (Jvm.Cond.instanceMethod ({ cls := "FirstWords", name := "isSound", desc := "(I)Z" } : Jvm.MethodName)) ∈ lw_all := lw_g (lw_at lw_m2 228 rfl) rfl
theorem q560 : (Jvm.Cond.code ({ cls := "FirstWords", name := "isSound", desc := "(I)Z" } : Jvm.MethodName) prog_1_method_9_code (2 : Nat) (Option.some Jvm.ClassFile.FieldType.boolean)) ∈ lw_all := lw_g (lw_at lw_m2 229 rfl) rfl
theorem q562 : (Jvm.Cond.instanceMethod ({ cls := "FirstWords", name := "kind", desc := "(II)I" } : Jvm.MethodName)) ∈ lw_all := lw_g (lw_at lw_m2 231 rfl) rfl
theorem q563 : (Jvm.Cond.selects "FirstWords" ({ cls := "FirstWords", name := "kind", desc := "(II)I" } : Jvm.MethodName) ({ cls := "FirstWords", name := "kind", desc := "(II)I" } : Jvm.MethodName)) ∈ lw_all := lw_g (lw_at lw_m2 232 rfl) rfl
theorem q564 : (Jvm.Cond.code ({ cls := "FirstWords", name := "kind", desc := "(II)I" } : Jvm.MethodName) prog_1_method_14_code (4 : Nat) (Option.some Jvm.ClassFile.FieldType.int)) ∈ lw_all := lw_g (lw_at lw_m2 233 rfl) rfl
theorem q565 : (Jvm.Cond.methodLink "FirstWords" (118 : Nat) ({ cls := "FirstWords", name := "isKind", desc := "(I)Z" } : Jvm.MethodName)) ∈ lw_all := lw_g (lw_at lw_m2 234 rfl) rfl
theorem q566 : (Jvm.Cond.privateMethod ({ cls := "FirstWords", name := "isKind", desc := "(I)Z" } : Jvm.MethodName)) ∈ lw_tbl := lw_at lw_m2 235 rfl
theorem q567 : (Jvm.Cond.instanceMethod ({ cls := "FirstWords", name := "isKind", desc := "(I)Z" } : Jvm.MethodName)) ∈ lw_all := lw_g (lw_at lw_m2 236 rfl) rfl
theorem q568 : (Jvm.Cond.code ({ cls := "FirstWords", name := "isKind", desc := "(I)Z" } : Jvm.MethodName) prog_1_method_10_code (2 : Nat) (Option.some Jvm.ClassFile.FieldType.boolean)) ∈ lw_all := lw_g (lw_at lw_m2 237 rfl) rfl
theorem q569 : (Jvm.Cond.methodLink "FirstWords" (121 : Nat) ({ cls := "FirstWords$Stranger", name := "kind", desc := "()I" } : Jvm.MethodName)) ∈ lw_all := lw_g (lw_at lw_m2 238 rfl) rfl
theorem q587 : (Jvm.Cond.instanceMethod ({ cls := "FirstWords", name := "show", desc := "(IIZ)I" } : Jvm.MethodName)) ∈ lw_all := lw_g (lw_at lw_m3 16 rfl) rfl
theorem q588 : (Jvm.Cond.selects "FirstWords" ({ cls := "FirstWords", name := "show", desc := "(IIZ)I" } : Jvm.MethodName) ({ cls := "FirstWords", name := "show", desc := "(IIZ)I" } : Jvm.MethodName)) ∈ lw_all := lw_g (lw_at lw_m3 17 rfl) rfl
theorem q589 : (Jvm.Cond.code ({ cls := "FirstWords", name := "show", desc := "(IIZ)I" } : Jvm.MethodName) prog_1_method_22_code (4 : Nat) (Option.some Jvm.ClassFile.FieldType.int)) ∈ lw_all := lw_g (lw_at lw_m3 18 rfl) rfl
theorem q590 : (Jvm.Cond.methodLink "FirstWords" (183 : Nat) ({ cls := "FirstWords", name := "shows", desc := "(IIZ)I" } : Jvm.MethodName)) ∈ lw_all := lw_g (lw_at lw_m3 19 rfl) rfl
theorem q591 : (Jvm.Cond.privateMethod ({ cls := "FirstWords", name := "shows", desc := "(IIZ)I" } : Jvm.MethodName)) ∈ lw_tbl := lw_at lw_m3 20 rfl
theorem q592 : (Jvm.Cond.instanceMethod ({ cls := "FirstWords", name := "shows", desc := "(IIZ)I" } : Jvm.MethodName)) ∈ lw_all := lw_g (lw_at lw_m3 21 rfl) rfl
theorem q593 : (Jvm.Cond.code ({ cls := "FirstWords", name := "shows", desc := "(IIZ)I" } : Jvm.MethodName) prog_1_method_20_code (4 : Nat) (Option.some Jvm.ClassFile.FieldType.int)) ∈ lw_all := lw_g (lw_at lw_m3 22 rfl) rfl
theorem q594 : (Jvm.Cond.methodLink "FirstWords" (179 : Nat) ({ cls := "FirstWords", name := "adds", desc := "(IIZ)V" } : Jvm.MethodName)) ∈ lw_all := lw_g (lw_at lw_m3 23 rfl) rfl
theorem q595 : (Jvm.Cond.privateMethod ({ cls := "FirstWords", name := "adds", desc := "(IIZ)V" } : Jvm.MethodName)) ∈ lw_tbl := lw_at lw_m3 24 rfl
theorem q596 : (Jvm.Cond.instanceMethod ({ cls := "FirstWords", name := "adds", desc := "(IIZ)V" } : Jvm.MethodName)) ∈ lw_all := lw_g (lw_at lw_m3 25 rfl) rfl
theorem q597 : (Jvm.Cond.code ({ cls := "FirstWords", name := "adds", desc := "(IIZ)V" } : Jvm.MethodName) prog_1_method_21_code (4 : Nat) (Option.none : Option Jvm.ClassFile.FieldType)) ∈ lw_all := lw_g (lw_at lw_m3 26 rfl) rfl
theorem q598 : (Jvm.Cond.methodLink "FirstWords" (175 : Nat) ({ cls := "FirstWords", name := "goes", desc := "(IIIZ)V" } : Jvm.MethodName)) ∈ lw_all := lw_g (lw_at lw_m3 27 rfl) rfl
theorem q599 : (Jvm.Cond.privateMethod ({ cls := "FirstWords", name := "goes", desc := "(IIIZ)V" } : Jvm.MethodName)) ∈ lw_tbl := lw_at lw_m3 28 rfl
theorem q600 : (Jvm.Cond.instanceMethod ({ cls := "FirstWords", name := "goes", desc := "(IIIZ)V" } : Jvm.MethodName)) ∈ lw_all := lw_g (lw_at lw_m3 29 rfl) rfl
theorem q601 : (Jvm.Cond.code ({ cls := "FirstWords", name := "goes", desc := "(IIIZ)V" } : Jvm.MethodName) prog_1_method_18_code (6 : Nat) (Option.none : Option Jvm.ClassFile.FieldType)) ∈ lw_all := lw_g (lw_at lw_m3 30 rfl) rfl
theorem q602 : (Jvm.Cond.methodLink "FirstWords" (164 : Nat) ({ cls := "FirstWords", name := "fitting", desc := "(IIZ)I" } : Jvm.MethodName)) ∈ lw_all := lw_g (lw_at lw_m3 31 rfl) rfl
theorem q603 : (Jvm.Cond.privateMethod ({ cls := "FirstWords", name := "fitting", desc := "(IIZ)I" } : Jvm.MethodName)) ∈ lw_tbl := lw_at lw_m3 32 rfl
theorem q604 : (Jvm.Cond.instanceMethod ({ cls := "FirstWords", name := "fitting", desc := "(IIZ)I" } : Jvm.MethodName)) ∈ lw_all := lw_g (lw_at lw_m3 33 rfl) rfl
theorem q605 : (Jvm.Cond.code ({ cls := "FirstWords", name := "fitting", desc := "(IIZ)I" } : Jvm.MethodName) prog_1_method_17_code (6 : Nat) (Option.some Jvm.ClassFile.FieldType.int)) ∈ lw_all := lw_g (lw_at lw_m3 34 rfl) rfl
theorem q606 : (Jvm.Cond.methodLink "FirstWords" (161 : Nat) ({ cls := "FirstWords$Meaning", name := "isOf", desc := "(I)Z" } : Jvm.MethodName)) ∈ lw_all := lw_g (lw_at lw_m3 35 rfl) rfl
theorem q610 : (Jvm.Cond.methodLink "FirstWords" (168 : Nat) ({ cls := "FirstWords$Stranger", name := "sees", desc := "(LFirstWords$Mind;IIIZI)V" } : Jvm.MethodName)) ∈ lw_all := lw_g (lw_at lw_m3 39 rfl) rfl
theorem q640 : (Jvm.Cond.privateMethod ({ cls := "FirstWords", name := "plainest", desc := "(I)I" } : Jvm.MethodName)) ∈ lw_tbl := lw_at lw_m3 69 rfl
theorem q641 : (Jvm.Cond.instanceMethod ({ cls := "FirstWords", name := "plainest", desc := "(I)I" } : Jvm.MethodName)) ∈ lw_all := lw_g (lw_at lw_m3 70 rfl) rfl
theorem q642 : (Jvm.Cond.code ({ cls := "FirstWords", name := "plainest", desc := "(I)I" } : Jvm.MethodName) prog_1_method_2_code (5 : Nat) (Option.some Jvm.ClassFile.FieldType.int)) ∈ lw_all := lw_g (lw_at lw_m3 71 rfl) rfl
theorem q646 : (Jvm.Cond.instanceMethod ({ cls := "FirstWords", name := "teach", desc := "(II)I" } : Jvm.MethodName)) ∈ lw_all := lw_g (lw_at lw_m3 75 rfl) rfl
theorem q647 : (Jvm.Cond.selects "FirstWords" ({ cls := "FirstWords", name := "teach", desc := "(II)I" } : Jvm.MethodName) ({ cls := "FirstWords", name := "teach", desc := "(II)I" } : Jvm.MethodName)) ∈ lw_all := lw_g (lw_at lw_m3 76 rfl) rfl
theorem q648 : (Jvm.Cond.code ({ cls := "FirstWords", name := "teach", desc := "(II)I" } : Jvm.MethodName) prog_1_method_24_code (3 : Nat) (Option.some Jvm.ClassFile.FieldType.int)) ∈ lw_all := lw_g (lw_at lw_m3 77 rfl) rfl
theorem q649 : (Jvm.Cond.methodLink "FirstWords" (186 : Nat) ({ cls := "FirstWords", name := "target", desc := "(I)LFirstWords$Meaning;" } : Jvm.MethodName)) ∈ lw_all := lw_g (lw_at lw_m3 78 rfl) rfl
theorem q650 : (Jvm.Cond.privateMethod ({ cls := "FirstWords", name := "target", desc := "(I)LFirstWords$Meaning;" } : Jvm.MethodName)) ∈ lw_tbl := lw_at lw_m3 79 rfl
theorem q651 : (Jvm.Cond.instanceMethod ({ cls := "FirstWords", name := "target", desc := "(I)LFirstWords$Meaning;" } : Jvm.MethodName)) ∈ lw_all := lw_g (lw_at lw_m3 80 rfl) rfl
theorem q652 : (Jvm.Cond.code ({ cls := "FirstWords", name := "target", desc := "(I)LFirstWords$Meaning;" } : Jvm.MethodName) prog_1_method_23_code (2 : Nat) (Option.some (Jvm.ClassFile.FieldType.object "FirstWords$Meaning"))) ∈ lw_all := lw_g (lw_at lw_m3 81 rfl) rfl
theorem q654 : (Jvm.Cond.instanceMethod ({ cls := "FirstWords", name := "undo", desc := "()I" } : Jvm.MethodName)) ∈ lw_all := lw_g (lw_at lw_m3 83 rfl) rfl
theorem q655 : (Jvm.Cond.selects "FirstWords" ({ cls := "FirstWords", name := "undo", desc := "()I" } : Jvm.MethodName) ({ cls := "FirstWords", name := "undo", desc := "()I" } : Jvm.MethodName)) ∈ lw_all := lw_g (lw_at lw_m3 84 rfl) rfl
theorem q656 : (Jvm.Cond.code ({ cls := "FirstWords", name := "undo", desc := "()I" } : Jvm.MethodName) prog_1_method_25_code (1 : Nat) (Option.some Jvm.ClassFile.FieldType.int)) ∈ lw_all := lw_g (lw_at lw_m3 85 rfl) rfl
theorem q657 : (Jvm.Cond.methodLink "FirstWords" (190 : Nat) ({ cls := "FirstWords", name := "goesAll", desc := "()V" } : Jvm.MethodName)) ∈ lw_all := lw_g (lw_at lw_m3 86 rfl) rfl
theorem q658 : (Jvm.Cond.privateMethod ({ cls := "FirstWords", name := "goesAll", desc := "()V" } : Jvm.MethodName)) ∈ lw_tbl := lw_at lw_m3 87 rfl
theorem q659 : (Jvm.Cond.instanceMethod ({ cls := "FirstWords", name := "goesAll", desc := "()V" } : Jvm.MethodName)) ∈ lw_all := lw_g (lw_at lw_m3 88 rfl) rfl
theorem q660 : (Jvm.Cond.code ({ cls := "FirstWords", name := "goesAll", desc := "()V" } : Jvm.MethodName) prog_1_method_19_code (2 : Nat) (Option.none : Option Jvm.ClassFile.FieldType)) ∈ lw_all := lw_g (lw_at lw_m3 89 rfl) rfl
theorem q662 : (Jvm.Cond.instanceMethod ({ cls := "FirstWords", name := "clear", desc := "()I" } : Jvm.MethodName)) ∈ lw_all := lw_g (lw_at lw_m3 91 rfl) rfl
theorem q663 : (Jvm.Cond.selects "FirstWords" ({ cls := "FirstWords", name := "clear", desc := "()I" } : Jvm.MethodName) ({ cls := "FirstWords", name := "clear", desc := "()I" } : Jvm.MethodName)) ∈ lw_all := lw_g (lw_at lw_m3 92 rfl) rfl
theorem q664 : (Jvm.Cond.code ({ cls := "FirstWords", name := "clear", desc := "()I" } : Jvm.MethodName) prog_1_method_26_code (2 : Nat) (Option.some Jvm.ClassFile.FieldType.int)) ∈ lw_all := lw_g (lw_at lw_m3 93 rfl) rfl
theorem q666 : (Jvm.Cond.instanceMethod ({ cls := "FirstWords", name := "shown", desc := "(II)I" } : Jvm.MethodName)) ∈ lw_all := lw_g (lw_at lw_m3 95 rfl) rfl
theorem q667 : (Jvm.Cond.selects "FirstWords" ({ cls := "FirstWords", name := "shown", desc := "(II)I" } : Jvm.MethodName) ({ cls := "FirstWords", name := "shown", desc := "(II)I" } : Jvm.MethodName)) ∈ lw_all := lw_g (lw_at lw_m3 96 rfl) rfl
theorem q668 : (Jvm.Cond.code ({ cls := "FirstWords", name := "shown", desc := "(II)I" } : Jvm.MethodName) prog_1_method_27_code (3 : Nat) (Option.some Jvm.ClassFile.FieldType.int)) ∈ lw_all := lw_g (lw_at lw_m3 97 rfl) rfl
theorem q669 : (Jvm.Cond.constantLong "FirstWords" (193 : Nat) (2 : Int64)) ∈ lw_all := lw_g (lw_at lw_m3 98 rfl) rfl
theorem q671 : (Jvm.Cond.instanceMethod ({ cls := "FirstWords", name := "thinks", desc := "(II)I" } : Jvm.MethodName)) ∈ lw_all := lw_g (lw_at lw_m3 100 rfl) rfl
theorem q672 : (Jvm.Cond.selects "FirstWords" ({ cls := "FirstWords", name := "thinks", desc := "(II)I" } : Jvm.MethodName) ({ cls := "FirstWords", name := "thinks", desc := "(II)I" } : Jvm.MethodName)) ∈ lw_all := lw_g (lw_at lw_m3 101 rfl) rfl
theorem q673 : (Jvm.Cond.code ({ cls := "FirstWords", name := "thinks", desc := "(II)I" } : Jvm.MethodName) prog_1_method_28_code (3 : Nat) (Option.some Jvm.ClassFile.FieldType.int)) ∈ lw_all := lw_g (lw_at lw_m3 102 rfl) rfl
theorem q675 : (Jvm.Cond.instanceMethod ({ cls := "FirstWords", name := "fits", desc := "(II)I" } : Jvm.MethodName)) ∈ lw_all := lw_g (lw_at lw_m3 104 rfl) rfl
theorem q676 : (Jvm.Cond.selects "FirstWords" ({ cls := "FirstWords", name := "fits", desc := "(II)I" } : Jvm.MethodName) ({ cls := "FirstWords", name := "fits", desc := "(II)I" } : Jvm.MethodName)) ∈ lw_all := lw_g (lw_at lw_m3 105 rfl) rfl
theorem q677 : (Jvm.Cond.code ({ cls := "FirstWords", name := "fits", desc := "(II)I" } : Jvm.MethodName) prog_1_method_29_code (3 : Nat) (Option.some Jvm.ClassFile.FieldType.int)) ∈ lw_all := lw_g (lw_at lw_m3 106 rfl) rfl
theorem q679 : (Jvm.Cond.instanceMethod ({ cls := "FirstWords", name := "same", desc := "(II)I" } : Jvm.MethodName)) ∈ lw_all := lw_g (lw_at lw_m3 108 rfl) rfl
theorem q680 : (Jvm.Cond.selects "FirstWords" ({ cls := "FirstWords", name := "same", desc := "(II)I" } : Jvm.MethodName) ({ cls := "FirstWords", name := "same", desc := "(II)I" } : Jvm.MethodName)) ∈ lw_all := lw_g (lw_at lw_m3 109 rfl) rfl
theorem q681 : (Jvm.Cond.code ({ cls := "FirstWords", name := "same", desc := "(II)I" } : Jvm.MethodName) prog_1_method_31_code (3 : Nat) (Option.some Jvm.ClassFile.FieldType.int)) ∈ lw_all := lw_g (lw_at lw_m3 110 rfl) rfl
theorem q682 : (Jvm.Cond.methodLink "FirstWords" (198 : Nat) ({ cls := "FirstWords", name := "isSame", desc := "(LFirstWords$Mind;I)Z" } : Jvm.MethodName)) ∈ lw_all := lw_g (lw_at lw_m3 111 rfl) rfl
theorem q683 : (Jvm.Cond.privateMethod ({ cls := "FirstWords", name := "isSame", desc := "(LFirstWords$Mind;I)Z" } : Jvm.MethodName)) ∈ lw_tbl := lw_at lw_m3 112 rfl
theorem q684 : (Jvm.Cond.instanceMethod ({ cls := "FirstWords", name := "isSame", desc := "(LFirstWords$Mind;I)Z" } : Jvm.MethodName)) ∈ lw_all := lw_g (lw_at lw_m3 113 rfl) rfl
theorem q685 : (Jvm.Cond.code ({ cls := "FirstWords", name := "isSame", desc := "(LFirstWords$Mind;I)Z" } : Jvm.MethodName) prog_1_method_30_code (3 : Nat) (Option.some Jvm.ClassFile.FieldType.boolean)) ∈ lw_all := lw_g (lw_at lw_m3 114 rfl) rfl
theorem q687 : (Jvm.Cond.instanceMethod ({ cls := "FirstWords", name := "fled", desc := "(I)I" } : Jvm.MethodName)) ∈ lw_all := lw_g (lw_at lw_m3 116 rfl) rfl
theorem q688 : (Jvm.Cond.selects "FirstWords" ({ cls := "FirstWords", name := "fled", desc := "(I)I" } : Jvm.MethodName) ({ cls := "FirstWords", name := "fled", desc := "(I)I" } : Jvm.MethodName)) ∈ lw_all := lw_g (lw_at lw_m3 117 rfl) rfl
theorem q689 : (Jvm.Cond.code ({ cls := "FirstWords", name := "fled", desc := "(I)I" } : Jvm.MethodName) prog_1_method_32_code (2 : Nat) (Option.some Jvm.ClassFile.FieldType.int)) ∈ lw_all := lw_g (lw_at lw_m3 118 rfl) rfl
theorem q691 : (Jvm.Cond.instanceMethod ({ cls := "FirstWords", name := "against", desc := "(II)I" } : Jvm.MethodName)) ∈ lw_all := lw_g (lw_at lw_m3 120 rfl) rfl
theorem q692 : (Jvm.Cond.selects "FirstWords" ({ cls := "FirstWords", name := "against", desc := "(II)I" } : Jvm.MethodName) ({ cls := "FirstWords", name := "against", desc := "(II)I" } : Jvm.MethodName)) ∈ lw_all := lw_g (lw_at lw_m3 121 rfl) rfl
theorem q693 : (Jvm.Cond.code ({ cls := "FirstWords", name := "against", desc := "(II)I" } : Jvm.MethodName) prog_1_method_33_code (3 : Nat) (Option.some Jvm.ClassFile.FieldType.int)) ∈ lw_all := lw_g (lw_at lw_m3 122 rfl) rfl
theorem q695 : (Jvm.Cond.instanceMethod ({ cls := "FirstWords", name := "common", desc := "(I)I" } : Jvm.MethodName)) ∈ lw_all := lw_g (lw_at lw_m3 124 rfl) rfl
theorem q696 : (Jvm.Cond.selects "FirstWords" ({ cls := "FirstWords", name := "common", desc := "(I)I" } : Jvm.MethodName) ({ cls := "FirstWords", name := "common", desc := "(I)I" } : Jvm.MethodName)) ∈ lw_all := lw_g (lw_at lw_m3 125 rfl) rfl
theorem q697 : (Jvm.Cond.code ({ cls := "FirstWords", name := "common", desc := "(I)I" } : Jvm.MethodName) prog_1_method_36_code (6 : Nat) (Option.some Jvm.ClassFile.FieldType.int)) ∈ lw_all := lw_g (lw_at lw_m3 126 rfl) rfl
theorem q698 : (Jvm.Cond.methodLink "FirstWords" (208 : Nat) ({ cls := "FirstWords", name := "areKinds", desc := "(I)Z" } : Jvm.MethodName)) ∈ lw_all := lw_g (lw_at lw_m3 127 rfl) rfl
theorem q699 : (Jvm.Cond.privateMethod ({ cls := "FirstWords", name := "areKinds", desc := "(I)Z" } : Jvm.MethodName)) ∈ lw_tbl := lw_at lw_m3 128 rfl
theorem q700 : (Jvm.Cond.instanceMethod ({ cls := "FirstWords", name := "areKinds", desc := "(I)Z" } : Jvm.MethodName)) ∈ lw_all := lw_g (lw_at lw_m3 129 rfl) rfl
theorem q701 : (Jvm.Cond.code ({ cls := "FirstWords", name := "areKinds", desc := "(I)Z" } : Jvm.MethodName) prog_1_method_34_code (2 : Nat) (Option.some Jvm.ClassFile.FieldType.boolean)) ∈ lw_all := lw_g (lw_at lw_m3 130 rfl) rfl
theorem q702 : (Jvm.Cond.methodLink "FirstWords" (211 : Nat) ({ cls := "FirstWords", name := "isOf", desc := "(II)Z" } : Jvm.MethodName)) ∈ lw_all := lw_g (lw_at lw_m3 131 rfl) rfl
theorem q703 : (Jvm.Cond.static ({ cls := "FirstWords", name := "isOf", desc := "(II)Z" } : Jvm.MethodName)) ∈ lw_all := lw_g (lw_at lw_m3 132 rfl) rfl
theorem q704 : (Jvm.Cond.code ({ cls := "FirstWords", name := "isOf", desc := "(II)Z" } : Jvm.MethodName) prog_1_method_35_code (2 : Nat) (Option.some Jvm.ClassFile.FieldType.boolean)) ∈ lw_all := lw_g (lw_at lw_m3 133 rfl) rfl
theorem q706 : (Jvm.Cond.instanceMethod ({ cls := "FirstWords", name := "teaching", desc := "(III)I" } : Jvm.MethodName)) ∈ lw_all := lw_g (lw_at lw_m3 135 rfl) rfl
theorem q707 : (Jvm.Cond.selects "FirstWords" ({ cls := "FirstWords", name := "teaching", desc := "(III)I" } : Jvm.MethodName) ({ cls := "FirstWords", name := "teaching", desc := "(III)I" } : Jvm.MethodName)) ∈ lw_all := lw_g (lw_at lw_m3 136 rfl) rfl
theorem q708 : (Jvm.Cond.code ({ cls := "FirstWords", name := "teaching", desc := "(III)I" } : Jvm.MethodName) prog_1_method_37_code (5 : Nat) (Option.some Jvm.ClassFile.FieldType.int)) ∈ lw_all := lw_g (lw_at lw_m3 137 rfl) rfl
theorem q709 : (Jvm.Cond.constantLong "FirstWords" (214 : Nat) (10 : Int64)) ∈ lw_all := lw_g (lw_at lw_m3 138 rfl) rfl
theorem q710 : (Jvm.Cond.constantLong "FirstWords" (216 : Nat) (14 : Int64)) ∈ lw_all := lw_g (lw_at lw_m3 139 rfl) rfl
theorem q711 : (Jvm.Cond.methodLinkNest "FirstWords" (222 : Nat) ({ cls := "FirstWords$Teaching", name := "from", desc := "(I[LFirstWords$Mind;I)V" } : Jvm.MethodName) "FirstWords") ∈ lw_tbl := lw_at lw_m3 140 rfl
theorem q721 : (Jvm.Cond.methodLinkNest "FirstWords" (228 : Nat) ({ cls := "FirstWords$Teaching", name := "fewest", desc := "(II)I" } : Jvm.MethodName) "FirstWords") ∈ lw_tbl := lw_at lw_m3 150 rfl
theorem q744 : (Jvm.Cond.instanceMethod ({ cls := "FirstWords", name := "never", desc := "(II)I" } : Jvm.MethodName)) ∈ lw_all := lw_g (lw_at lw_m3 173 rfl) rfl
theorem q745 : (Jvm.Cond.selects "FirstWords" ({ cls := "FirstWords", name := "never", desc := "(II)I" } : Jvm.MethodName) ({ cls := "FirstWords", name := "never", desc := "(II)I" } : Jvm.MethodName)) ∈ lw_all := lw_g (lw_at lw_m3 174 rfl) rfl
theorem q746 : (Jvm.Cond.code ({ cls := "FirstWords", name := "never", desc := "(II)I" } : Jvm.MethodName) prog_1_method_38_code (5 : Nat) (Option.some Jvm.ClassFile.FieldType.int)) ∈ lw_all := lw_g (lw_at lw_m3 175 rfl) rfl
theorem q748 : (Jvm.Cond.instanceMethod ({ cls := "FirstWords", name := "order", desc := "(II)I" } : Jvm.MethodName)) ∈ lw_all := lw_g (lw_at lw_m3 177 rfl) rfl
theorem q749 : (Jvm.Cond.selects "FirstWords" ({ cls := "FirstWords", name := "order", desc := "(II)I" } : Jvm.MethodName) ({ cls := "FirstWords", name := "order", desc := "(II)I" } : Jvm.MethodName)) ∈ lw_all := lw_g (lw_at lw_m3 178 rfl) rfl
theorem q750 : (Jvm.Cond.code ({ cls := "FirstWords", name := "order", desc := "(II)I" } : Jvm.MethodName) prog_1_method_41_code (3 : Nat) (Option.some Jvm.ClassFile.FieldType.int)) ∈ lw_all := lw_g (lw_at lw_m3 179 rfl) rfl
theorem q751 : (Jvm.Cond.methodLink "FirstWords" (259 : Nat) ({ cls := "FirstWords", name := "orders", desc := "(III)V" } : Jvm.MethodName)) ∈ lw_all := lw_g (lw_at lw_m3 180 rfl) rfl
theorem q752 : (Jvm.Cond.privateMethod ({ cls := "FirstWords", name := "orders", desc := "(III)V" } : Jvm.MethodName)) ∈ lw_tbl := lw_at lw_m3 181 rfl
theorem q753 : (Jvm.Cond.instanceMethod ({ cls := "FirstWords", name := "orders", desc := "(III)V" } : Jvm.MethodName)) ∈ lw_all := lw_g (lw_at lw_m3 182 rfl) rfl
theorem q754 : (Jvm.Cond.code ({ cls := "FirstWords", name := "orders", desc := "(III)V" } : Jvm.MethodName) prog_1_method_40_code (5 : Nat) (Option.none : Option Jvm.ClassFile.FieldType)) ∈ lw_all := lw_g (lw_at lw_m3 183 rfl) rfl
theorem q755 : (Jvm.Cond.methodLink "FirstWords" (249 : Nat) ({ cls := "FirstWords", name := "ordered", desc := "(I)I" } : Jvm.MethodName)) ∈ lw_all := lw_g (lw_at lw_m3 184 rfl) rfl
theorem q756 : (Jvm.Cond.privateMethod ({ cls := "FirstWords", name := "ordered", desc := "(I)I" } : Jvm.MethodName)) ∈ lw_tbl := lw_at lw_m3 185 rfl
theorem q757 : (Jvm.Cond.instanceMethod ({ cls := "FirstWords", name := "ordered", desc := "(I)I" } : Jvm.MethodName)) ∈ lw_all := lw_g (lw_at lw_m3 186 rfl) rfl
theorem q758 : (Jvm.Cond.code ({ cls := "FirstWords", name := "ordered", desc := "(I)I" } : Jvm.MethodName) prog_1_method_39_code (6 : Nat) (Option.some Jvm.ClassFile.FieldType.int)) ∈ lw_all := lw_g (lw_at lw_m3 187 rfl) rfl
theorem q759 : (Jvm.Cond.methodLink "FirstWords" (245 : Nat) ({ cls := "FirstWords$Mind", name := "becomes", desc := "(LFirstWords$Mind;)V" } : Jvm.MethodName)) ∈ lw_all := lw_g (lw_at lw_m3 188 rfl) rfl
theorem q761 : (Jvm.Cond.instanceMethod ({ cls := "FirstWords", name := "first", desc := "(II)I" } : Jvm.MethodName)) ∈ lw_all := lw_g (lw_at lw_m3 190 rfl) rfl
theorem q762 : (Jvm.Cond.selects "FirstWords" ({ cls := "FirstWords", name := "first", desc := "(II)I" } : Jvm.MethodName) ({ cls := "FirstWords", name := "first", desc := "(II)I" } : Jvm.MethodName)) ∈ lw_all := lw_g (lw_at lw_m3 191 rfl) rfl
theorem q763 : (Jvm.Cond.code ({ cls := "FirstWords", name := "first", desc := "(II)I" } : Jvm.MethodName) prog_1_method_46_code (12 : Nat) (Option.some Jvm.ClassFile.FieldType.int)) ∈ lw_all := lw_g (lw_at lw_m3 192 rfl) rfl
theorem q764 : (Jvm.Cond.methodLink "FirstWords" (263 : Nat) ({ cls := "FirstWords", name := "allKinds", desc := "()I" } : Jvm.MethodName)) ∈ lw_all := lw_g (lw_at lw_m3 193 rfl) rfl
theorem q765 : (Jvm.Cond.privateMethod ({ cls := "FirstWords", name := "allKinds", desc := "()I" } : Jvm.MethodName)) ∈ lw_tbl := lw_at lw_m3 194 rfl
theorem q766 : (Jvm.Cond.instanceMethod ({ cls := "FirstWords", name := "allKinds", desc := "()I" } : Jvm.MethodName)) ∈ lw_all := lw_g (lw_at lw_m3 195 rfl) rfl
theorem q767 : (Jvm.Cond.code ({ cls := "FirstWords", name := "allKinds", desc := "()I" } : Jvm.MethodName) prog_1_method_43_code (1 : Nat) (Option.some Jvm.ClassFile.FieldType.int)) ∈ lw_all := lw_g (lw_at lw_m3 196 rfl) rfl
theorem q768 : (Jvm.Cond.methodLink "FirstWords" (266 : Nat) ({ cls := "FirstWords", name := "chances", desc := "(I)I" } : Jvm.MethodName)) ∈ lw_all := lw_g (lw_at lw_m3 197 rfl) rfl
theorem q769 : (Jvm.Cond.privateMethod ({ cls := "FirstWords", name := "chances", desc := "(I)I" } : Jvm.MethodName)) ∈ lw_tbl := lw_at lw_m3 198 rfl
theorem q770 : (Jvm.Cond.instanceMethod ({ cls := "FirstWords", name := "chances", desc := "(I)I" } : Jvm.MethodName)) ∈ lw_all := lw_g (lw_at lw_m3 199 rfl) rfl
theorem q771 : (Jvm.Cond.code ({ cls := "FirstWords", name := "chances", desc := "(I)I" } : Jvm.MethodName) prog_1_method_42_code (4 : Nat) (Option.some Jvm.ClassFile.FieldType.int)) ∈ lw_all := lw_g (lw_at lw_m3 200 rfl) rfl
theorem q772 : (Jvm.Cond.methodLink "FirstWords" (269 : Nat) ({ cls := "FirstWords", name := "feared", desc := "(Z)I" } : Jvm.MethodName)) ∈ lw_all := lw_g (lw_at lw_m3 201 rfl) rfl
theorem q773 : (Jvm.Cond.privateMethod ({ cls := "FirstWords", name := "feared", desc := "(Z)I" } : Jvm.MethodName)) ∈ lw_tbl := lw_at lw_m3 202 rfl
theorem q774 : (Jvm.Cond.instanceMethod ({ cls := "FirstWords", name := "feared", desc := "(Z)I" } : Jvm.MethodName)) ∈ lw_all := lw_g (lw_at lw_m3 203 rfl) rfl
theorem q775 : (Jvm.Cond.code ({ cls := "FirstWords", name := "feared", desc := "(Z)I" } : Jvm.MethodName) prog_1_method_45_code (5 : Nat) (Option.some Jvm.ClassFile.FieldType.int)) ∈ lw_all := lw_g (lw_at lw_m3 204 rfl) rfl
theorem q776 : (Jvm.Cond.methodLink "FirstWords" (273 : Nat) ({ cls := "FirstWords", name := "lowest", desc := "(III)I" } : Jvm.MethodName)) ∈ lw_all := lw_g (lw_at lw_m3 205 rfl) rfl
theorem q777 : (Jvm.Cond.static ({ cls := "FirstWords", name := "lowest", desc := "(III)I" } : Jvm.MethodName)) ∈ lw_all := lw_g (lw_at lw_m3 206 rfl) rfl
theorem q778 : (Jvm.Cond.code ({ cls := "FirstWords", name := "lowest", desc := "(III)I" } : Jvm.MethodName) prog_1_method_44_code (6 : Nat) (Option.some Jvm.ClassFile.FieldType.int)) ∈ lw_all := lw_g (lw_at lw_m3 207 rfl) rfl
theorem q780 : (Jvm.Cond.instanceMethod ({ cls := "FirstWords", name := "fears", desc := "(I)I" } : Jvm.MethodName)) ∈ lw_all := lw_g (lw_at lw_m3 209 rfl) rfl
theorem q781 : (Jvm.Cond.selects "FirstWords" ({ cls := "FirstWords", name := "fears", desc := "(I)I" } : Jvm.MethodName) ({ cls := "FirstWords", name := "fears", desc := "(I)I" } : Jvm.MethodName)) ∈ lw_all := lw_g (lw_at lw_m3 210 rfl) rfl
theorem q782 : (Jvm.Cond.code ({ cls := "FirstWords", name := "fears", desc := "(I)I" } : Jvm.MethodName) prog_1_method_47_code (2 : Nat) (Option.some Jvm.ClassFile.FieldType.int)) ∈ lw_all := lw_g (lw_at lw_m3 211 rfl) rfl
theorem q784 : (Jvm.Cond.instanceMethod ({ cls := "FirstWords", name := "answer", desc := "(III)I" } : Jvm.MethodName)) ∈ lw_all := lw_g (lw_at lw_m3 213 rfl) rfl
theorem q785 : (Jvm.Cond.selects "FirstWords" ({ cls := "FirstWords", name := "answer", desc := "(III)I" } : Jvm.MethodName) ({ cls := "FirstWords", name := "answer", desc := "(III)I" } : Jvm.MethodName)) ∈ lw_all := lw_g (lw_at lw_m3 214 rfl) rfl
theorem q786 : (Jvm.Cond.code ({ cls := "FirstWords", name := "answer", desc := "(III)I" } : Jvm.MethodName) prog_1_method_49_code (4 : Nat) (Option.some Jvm.ClassFile.FieldType.int)) ∈ lw_all := lw_g (lw_at lw_m3 215 rfl) rfl
theorem q787 : (Jvm.Cond.methodLink "FirstWords" (277 : Nat) ({ cls := "FirstWords", name := "answers", desc := "(III)I" } : Jvm.MethodName)) ∈ lw_all := lw_g (lw_at lw_m3 216 rfl) rfl
theorem q788 : (Jvm.Cond.privateMethod ({ cls := "FirstWords", name := "answers", desc := "(III)I" } : Jvm.MethodName)) ∈ lw_tbl := lw_at lw_m3 217 rfl
theorem q789 : (Jvm.Cond.instanceMethod ({ cls := "FirstWords", name := "answers", desc := "(III)I" } : Jvm.MethodName)) ∈ lw_all := lw_g (lw_at lw_m3 218 rfl) rfl
theorem q790 : (Jvm.Cond.code ({ cls := "FirstWords", name := "answers", desc := "(III)I" } : Jvm.MethodName) prog_1_method_48_code (5 : Nat) (Option.some Jvm.ClassFile.FieldType.int)) ∈ lw_all := lw_g (lw_at lw_m3 219 rfl) rfl
theorem q792 : (Jvm.Cond.instanceMethod ({ cls := "FirstWords", name := "heard", desc := "(III)I" } : Jvm.MethodName)) ∈ lw_all := lw_g (lw_at lw_m3 221 rfl) rfl
theorem q793 : (Jvm.Cond.selects "FirstWords" ({ cls := "FirstWords", name := "heard", desc := "(III)I" } : Jvm.MethodName) ({ cls := "FirstWords", name := "heard", desc := "(III)I" } : Jvm.MethodName)) ∈ lw_all := lw_g (lw_at lw_m3 222 rfl) rfl
theorem q794 : (Jvm.Cond.code ({ cls := "FirstWords", name := "heard", desc := "(III)I" } : Jvm.MethodName) prog_1_method_50_code (5 : Nat) (Option.some Jvm.ClassFile.FieldType.int)) ∈ lw_all := lw_g (lw_at lw_m3 223 rfl) rfl
theorem q796 : (Jvm.Cond.instanceMethod ({ cls := "FirstWords", name := "left", desc := "(I)I" } : Jvm.MethodName)) ∈ lw_all := lw_g (lw_at lw_m3 225 rfl) rfl
theorem q797 : (Jvm.Cond.selects "FirstWords" ({ cls := "FirstWords", name := "left", desc := "(I)I" } : Jvm.MethodName) ({ cls := "FirstWords", name := "left", desc := "(I)I" } : Jvm.MethodName)) ∈ lw_all := lw_g (lw_at lw_m3 226 rfl) rfl
theorem q798 : (Jvm.Cond.code ({ cls := "FirstWords", name := "left", desc := "(I)I" } : Jvm.MethodName) prog_1_method_51_code (2 : Nat) (Option.some Jvm.ClassFile.FieldType.int)) ∈ lw_all := lw_g (lw_at lw_m3 227 rfl) rfl
theorem q800 : (Jvm.Cond.instanceMethod ({ cls := "FirstWords", name := "ask", desc := "(I)I" } : Jvm.MethodName)) ∈ lw_all := lw_g (lw_at lw_m3 229 rfl) rfl
theorem q801 : (Jvm.Cond.selects "FirstWords" ({ cls := "FirstWords", name := "ask", desc := "(I)I" } : Jvm.MethodName) ({ cls := "FirstWords", name := "ask", desc := "(I)I" } : Jvm.MethodName)) ∈ lw_all := lw_g (lw_at lw_m3 230 rfl) rfl
theorem q802 : (Jvm.Cond.code ({ cls := "FirstWords", name := "ask", desc := "(I)I" } : Jvm.MethodName) prog_1_method_53_code (9 : Nat) (Option.some Jvm.ClassFile.FieldType.int)) ∈ lw_all := lw_g (lw_at lw_m3 231 rfl) rfl
theorem q803 : (Jvm.Cond.methodLink "FirstWords" (288 : Nat) ({ cls := "FirstWords", name := "worst", desc := "(II)I" } : Jvm.MethodName)) ∈ lw_all := lw_g (lw_at lw_m3 232 rfl) rfl
theorem q804 : (Jvm.Cond.privateMethod ({ cls := "FirstWords", name := "worst", desc := "(II)I" } : Jvm.MethodName)) ∈ lw_tbl := lw_at lw_m3 233 rfl
theorem q805 : (Jvm.Cond.instanceMethod ({ cls := "FirstWords", name := "worst", desc := "(II)I" } : Jvm.MethodName)) ∈ lw_all := lw_g (lw_at lw_m3 234 rfl) rfl
theorem q806 : (Jvm.Cond.code ({ cls := "FirstWords", name := "worst", desc := "(II)I" } : Jvm.MethodName) prog_1_method_52_code (5 : Nat) (Option.some Jvm.ClassFile.FieldType.int)) ∈ lw_all := lw_g (lw_at lw_m3 235 rfl) rfl
theorem q807 : (Jvm.Cond.methodLink "FirstWords" (283 : Nat) ({ cls := "java/lang/Math", name := "max", desc := "(II)I" } : Jvm.MethodName)) ∈ lw_all := lw_g (lw_at lw_m3 236 rfl) rfl
theorem q811 : (Jvm.Cond.instanceMethod ({ cls := "FirstWords", name := "sure", desc := "(II)I" } : Jvm.MethodName)) ∈ lw_all := lw_g (lw_at lw_m4 0 rfl) rfl
theorem q812 : (Jvm.Cond.selects "FirstWords" ({ cls := "FirstWords", name := "sure", desc := "(II)I" } : Jvm.MethodName) ({ cls := "FirstWords", name := "sure", desc := "(II)I" } : Jvm.MethodName)) ∈ lw_all := lw_g (lw_at lw_m4 1 rfl) rfl
theorem q813 : (Jvm.Cond.code ({ cls := "FirstWords", name := "sure", desc := "(II)I" } : Jvm.MethodName) prog_1_method_55_code (5 : Nat) (Option.some Jvm.ClassFile.FieldType.int)) ∈ lw_all := lw_g (lw_at lw_m4 2 rfl) rfl
theorem q814 : (Jvm.Cond.methodLink "FirstWords" (294 : Nat) ({ cls := "java/lang/Integer", name := "bitCount", desc := "(I)I" } : Jvm.MethodName)) ∈ lw_all := lw_g (lw_at lw_m4 3 rfl) rfl
theorem q815 : (Jvm.Cond.methodLink "FirstWords" (299 : Nat) ({ cls := "FirstWords", name := "tells", desc := "(II)Z" } : Jvm.MethodName)) ∈ lw_all := lw_g (lw_at lw_m4 4 rfl) rfl
theorem q816 : (Jvm.Cond.privateMethod ({ cls := "FirstWords", name := "tells", desc := "(II)Z" } : Jvm.MethodName)) ∈ lw_tbl := lw_at lw_m4 5 rfl
theorem q817 : (Jvm.Cond.instanceMethod ({ cls := "FirstWords", name := "tells", desc := "(II)Z" } : Jvm.MethodName)) ∈ lw_all := lw_g (lw_at lw_m4 6 rfl) rfl
theorem q818 : (Jvm.Cond.code ({ cls := "FirstWords", name := "tells", desc := "(II)Z" } : Jvm.MethodName) prog_1_method_54_code (6 : Nat) (Option.some Jvm.ClassFile.FieldType.boolean)) ∈ lw_all := lw_g (lw_at lw_m4 7 rfl) rfl
theorem q819 : (Jvm.Cond.methodLink "FirstWords" (291 : Nat) ({ cls := "FirstWords", name := "meaning", desc := "(II)I" } : Jvm.MethodName)) ∈ lw_all := lw_g (lw_at lw_m4 8 rfl) rfl
theorem q821 : (Jvm.Cond.instanceMethod ({ cls := "FirstWords", name := "likely", desc := "(II)I" } : Jvm.MethodName)) ∈ lw_all := lw_g (lw_at lw_m4 10 rfl) rfl
theorem q822 : (Jvm.Cond.selects "FirstWords" ({ cls := "FirstWords", name := "likely", desc := "(II)I" } : Jvm.MethodName) ({ cls := "FirstWords", name := "likely", desc := "(II)I" } : Jvm.MethodName)) ∈ lw_all := lw_g (lw_at lw_m4 11 rfl) rfl
theorem q823 : (Jvm.Cond.code ({ cls := "FirstWords", name := "likely", desc := "(II)I" } : Jvm.MethodName) prog_1_method_56_code (5 : Nat) (Option.some Jvm.ClassFile.FieldType.int)) ∈ lw_all := lw_g (lw_at lw_m4 12 rfl) rfl
theorem q825 : (Jvm.Cond.instanceMethod ({ cls := "FirstWords", name := "theirs", desc := "(IZ)I" } : Jvm.MethodName)) ∈ lw_all := lw_g (lw_at lw_m4 14 rfl) rfl
theorem q826 : (Jvm.Cond.selects "FirstWords" ({ cls := "FirstWords", name := "theirs", desc := "(IZ)I" } : Jvm.MethodName) ({ cls := "FirstWords", name := "theirs", desc := "(IZ)I" } : Jvm.MethodName)) ∈ lw_all := lw_g (lw_at lw_m4 15 rfl) rfl
theorem q827 : (Jvm.Cond.code ({ cls := "FirstWords", name := "theirs", desc := "(IZ)I" } : Jvm.MethodName) prog_1_method_57_code (3 : Nat) (Option.some Jvm.ClassFile.FieldType.int)) ∈ lw_all := lw_g (lw_at lw_m4 16 rfl) rfl
theorem q829 : (Jvm.Cond.instanceMethod ({ cls := "FirstWords", name := "hush", desc := "()I" } : Jvm.MethodName)) ∈ lw_all := lw_g (lw_at lw_m4 18 rfl) rfl
theorem q830 : (Jvm.Cond.selects "FirstWords" ({ cls := "FirstWords", name := "hush", desc := "()I" } : Jvm.MethodName) ({ cls := "FirstWords", name := "hush", desc := "()I" } : Jvm.MethodName)) ∈ lw_all := lw_g (lw_at lw_m4 19 rfl) rfl
theorem q831 : (Jvm.Cond.code ({ cls := "FirstWords", name := "hush", desc := "()I" } : Jvm.MethodName) prog_1_method_58_code (2 : Nat) (Option.some Jvm.ClassFile.FieldType.int)) ∈ lw_all := lw_g (lw_at lw_m4 20 rfl) rfl
theorem q833 : (Jvm.Cond.instanceMethod ({ cls := "FirstWords", name := "meant", desc := "(I)I" } : Jvm.MethodName)) ∈ lw_all := lw_g (lw_at lw_m4 22 rfl) rfl
theorem q834 : (Jvm.Cond.selects "FirstWords" ({ cls := "FirstWords", name := "meant", desc := "(I)I" } : Jvm.MethodName) ({ cls := "FirstWords", name := "meant", desc := "(I)I" } : Jvm.MethodName)) ∈ lw_all := lw_g (lw_at lw_m4 23 rfl) rfl
theorem q835 : (Jvm.Cond.code ({ cls := "FirstWords", name := "meant", desc := "(I)I" } : Jvm.MethodName) prog_1_method_59_code (8 : Nat) (Option.some Jvm.ClassFile.FieldType.int)) ∈ lw_all := lw_g (lw_at lw_m4 24 rfl) rfl
theorem q836 : (Jvm.Cond.constantLong "FirstWords" (305 : Nat) (3 : Int64)) ∈ lw_all := lw_g (lw_at lw_m4 25 rfl) rfl
theorem q837 : (Jvm.Cond.methodLink "FirstWords" (307 : Nat) ({ cls := "java/lang/Math", name := "min", desc := "(II)I" } : Jvm.MethodName)) ∈ lw_all := lw_g (lw_at lw_m4 26 rfl) rfl
theorem q840 : (Jvm.Cond.methodLink "FirstWords" (310 : Nat) ({ cls := "FirstWords", name := "plainest", desc := "(I)I" } : Jvm.MethodName)) ∈ lw_all := lw_g (lw_at lw_m4 29 rfl) rfl
theorem q842 : (Jvm.Cond.instanceMethod ({ cls := "FirstWords", name := "build", desc := "(II)I" } : Jvm.MethodName)) ∈ lw_all := lw_g (lw_at lw_m4 31 rfl) rfl
theorem q843 : (Jvm.Cond.selects "FirstWords" ({ cls := "FirstWords", name := "build", desc := "(II)I" } : Jvm.MethodName) ({ cls := "FirstWords", name := "build", desc := "(II)I" } : Jvm.MethodName)) ∈ lw_all := lw_g (lw_at lw_m4 32 rfl) rfl
theorem q844 : (Jvm.Cond.code ({ cls := "FirstWords", name := "build", desc := "(II)I" } : Jvm.MethodName) prog_1_method_60_code (10 : Nat) (Option.some Jvm.ClassFile.FieldType.int)) ∈ lw_all := lw_g (lw_at lw_m4 33 rfl) rfl
theorem q846 : (Jvm.Cond.instanceMethod ({ cls := "FirstWords", name := "draw", desc := "(I)I" } : Jvm.MethodName)) ∈ lw_all := lw_g (lw_at lw_m4 35 rfl) rfl
theorem q847 : (Jvm.Cond.selects "FirstWords" ({ cls := "FirstWords", name := "draw", desc := "(I)I" } : Jvm.MethodName) ({ cls := "FirstWords", name := "draw", desc := "(I)I" } : Jvm.MethodName)) ∈ lw_all := lw_g (lw_at lw_m4 36 rfl) rfl
theorem q848 : (Jvm.Cond.code ({ cls := "FirstWords", name := "draw", desc := "(I)I" } : Jvm.MethodName) prog_1_method_61_code (5 : Nat) (Option.some Jvm.ClassFile.FieldType.int)) ∈ lw_all := lw_g (lw_at lw_m4 37 rfl) rfl
theorem q849 : (Jvm.Cond.constant "FirstWords" (313 : Nat) (1103515245 : Int32)) ∈ lw_all := lw_g (lw_at lw_m4 38 rfl) rfl
theorem q851 : (Jvm.Cond.instanceMethod ({ cls := "FirstWords", name := "keep", desc := "(I)I" } : Jvm.MethodName)) ∈ lw_all := lw_g (lw_at lw_m4 40 rfl) rfl
theorem q852 : (Jvm.Cond.selects "FirstWords" ({ cls := "FirstWords", name := "keep", desc := "(I)I" } : Jvm.MethodName) ({ cls := "FirstWords", name := "keep", desc := "(I)I" } : Jvm.MethodName)) ∈ lw_all := lw_g (lw_at lw_m4 41 rfl) rfl
theorem q853 : (Jvm.Cond.code ({ cls := "FirstWords", name := "keep", desc := "(I)I" } : Jvm.MethodName) prog_1_method_63_code (4 : Nat) (Option.some Jvm.ClassFile.FieldType.int)) ∈ lw_all := lw_g (lw_at lw_m4 42 rfl) rfl
theorem q854 : (Jvm.Cond.methodLink "FirstWords" (315 : Nat) ({ cls := "FirstWords", name := "copies", desc := "([[I[[I)V" } : Jvm.MethodName)) ∈ lw_all := lw_g (lw_at lw_m4 43 rfl) rfl
theorem q855 : (Jvm.Cond.static ({ cls := "FirstWords", name := "copies", desc := "([[I[[I)V" } : Jvm.MethodName)) ∈ lw_all := lw_g (lw_at lw_m4 44 rfl) rfl
theorem q856 : (Jvm.Cond.code ({ cls := "FirstWords", name := "copies", desc := "([[I[[I)V" } : Jvm.MethodName) prog_1_method_62_code (3 : Nat) (Option.none : Option Jvm.ClassFile.FieldType)) ∈ lw_all := lw_g (lw_at lw_m4 45 rfl) rfl
theorem q858 : (Jvm.Cond.instanceMethod ({ cls := "FirstWords", name := "back", desc := "(I)I" } : Jvm.MethodName)) ∈ lw_all := lw_g (lw_at lw_m4 47 rfl) rfl
theorem q859 : (Jvm.Cond.selects "FirstWords" ({ cls := "FirstWords", name := "back", desc := "(I)I" } : Jvm.MethodName) ({ cls := "FirstWords", name := "back", desc := "(I)I" } : Jvm.MethodName)) ∈ lw_all := lw_g (lw_at lw_m4 48 rfl) rfl
theorem q860 : (Jvm.Cond.code ({ cls := "FirstWords", name := "back", desc := "(I)I" } : Jvm.MethodName) prog_1_method_64_code (3 : Nat) (Option.some Jvm.ClassFile.FieldType.int)) ∈ lw_all := lw_g (lw_at lw_m4 49 rfl) rfl
theorem q863 : (Jvm.Cond.instanceMethod ({ cls := "FirstWords", name := "<init>", desc := "()V" } : Jvm.MethodName)) ∈ lw_all := lw_g (lw_at lw_m4 52 rfl) rfl
theorem q864 : (Jvm.Cond.code ({ cls := "FirstWords", name := "<init>", desc := "()V" } : Jvm.MethodName) prog_1_method_65_code (1 : Nat) (Option.none : Option Jvm.ClassFile.FieldType)) ∈ lw_all := lw_g (lw_at lw_m4 53 rfl) rfl
theorem q865 : (Jvm.Cond.methodLink "FirstWords" (323 : Nat) ({ cls := "java/lang/Object", name := "<init>", desc := "()V" } : Jvm.MethodName)) ∈ lw_all := lw_g (lw_at lw_m4 54 rfl) rfl
theorem q866 : (Jvm.Cond.classLink "FirstWords" (12 : Nat) "FirstWords$Meaning") ∈ lw_all := lw_g (lw_at lw_m4 55 rfl) rfl
theorem q867 : (Jvm.Cond.classLink "FirstWords" (99 : Nat) "FirstWords$Stranger") ∈ lw_all := lw_g (lw_at lw_m4 56 rfl) rfl
theorem q868 : (Jvm.Cond.classLink "FirstWords" (327 : Nat) "[[I") ∈ lw_all := lw_g (lw_at lw_m4 57 rfl) rfl
theorem q870 : (Jvm.Cond.classLink "FirstWords" (141 : Nat) "FirstWords$Mind") ∈ lw_all := lw_g (lw_at lw_m4 59 rfl) rfl
theorem q873 : (Jvm.Cond.methodLinkNest "FirstWords" (328 : Nat) ({ cls := "FirstWords$Mind", name := "<init>", desc := "()V" } : Jvm.MethodName) "FirstWords") ∈ lw_tbl := lw_at lw_m4 62 rfl
theorem q880 : (Jvm.Cond.fieldLinkNest "FirstWords" (195 : Nat) "FirstWords$Mind" "thinks" "[I" "FirstWords") ∈ lw_tbl := lw_at lw_m4 69 rfl
theorem q884 : (Jvm.Cond.fieldLinkNest "FirstWords" (205 : Nat) "FirstWords$Mind" "against" "[I" "FirstWords") ∈ lw_tbl := lw_at lw_m4 73 rfl
theorem q891 : (Jvm.Cond.fieldLinkNest "FirstWords" (202 : Nat) "FirstWords$Mind" "fled" "I" "FirstWords") ∈ lw_tbl := lw_at lw_m4 80 rfl
theorem q901 : (Jvm.Cond.classLink "FirstWords" (223 : Nat) "FirstWords$Teaching") ∈ lw_all := lw_g (lw_at lw_m4 90 rfl) rfl
theorem q902 : (Jvm.Cond.methodLink "FirstWords" (329 : Nat) ({ cls := "FirstWords$Teaching", name := "<init>", desc := "(LFirstWords;)V" } : Jvm.MethodName)) ∈ lw_all := lw_g (lw_at lw_m4 91 rfl) rfl
theorem q912 : (Jvm.Cond.fieldLinkNest "FirstWords" (241 : Nat) "FirstWords$Teaching" "steps" "[[LFirstWords$Mind;" "FirstWords") ∈ lw_tbl := lw_at lw_m4 101 rfl
theorem q915 : (Jvm.Cond.fieldLinkNest "FirstWords" (232 : Nat) "FirstWords$Teaching" "row" "[I" "FirstWords") ∈ lw_tbl := lw_at lw_m4 104 rfl
theorem q931 : (Jvm.Cond.classLink "FirstWords" (55 : Nat) "FirstWords$Image") ∈ lw_all := lw_g (lw_at lw_m4 120 rfl) rfl
theorem q934 : (Jvm.Cond.methodLinkNest "FirstWords" (332 : Nat) ({ cls := "FirstWords$Image", name := "<init>", desc := "()V" } : Jvm.MethodName) "FirstWords") ∈ lw_tbl := lw_at lw_m4 123 rfl
theorem q940 : (Jvm.Cond.fieldLinkNest "FirstWords" (314 : Nat) "FirstWords$Image" "shown" "[[I" "FirstWords") ∈ lw_tbl := lw_at lw_m4 129 rfl
theorem q942 : (Jvm.Cond.fieldLinkNest "FirstWords" (319 : Nat) "FirstWords$Image" "theirs" "[[I" "FirstWords") ∈ lw_tbl := lw_at lw_m4 131 rfl
theorem q943 : (Jvm.Cond.fieldLinkNest "FirstWords" (320 : Nat) "FirstWords$Image" "shownMany" "I" "FirstWords") ∈ lw_tbl := lw_at lw_m4 132 rfl
theorem q944 : (Jvm.Cond.fieldLinkNest "FirstWords" (321 : Nat) "FirstWords$Image" "theirMany" "I" "FirstWords") ∈ lw_tbl := lw_at lw_m4 133 rfl
theorem q945 : (Jvm.Cond.fieldLinkNest "FirstWords" (322 : Nat) "FirstWords$Image" "left" "I" "FirstWords") ∈ lw_tbl := lw_at lw_m4 134 rfl
theorem q946 : (Jvm.Cond.fieldLinkNest "FirstWords" (54 : Nat) "FirstWords$Image" "isKept" "Z" "FirstWords") ∈ lw_tbl := lw_at lw_m4 135 rfl
theorem q960 : (Jvm.Cond.classLink "FirstWords" (333 : Nat) "FirstWords$Sheet") ∈ lw_all := lw_g (lw_at lw_m4 149 rfl) rfl
theorem q963 : (Jvm.Cond.methodLinkNest "FirstWords" (335 : Nat) ({ cls := "FirstWords$Sheet", name := "<init>", desc := "()V" } : Jvm.MethodName) "FirstWords") ∈ lw_tbl := lw_at lw_m4 152 rfl
theorem q967 : (Jvm.Cond.fieldLinkNest "FirstWords" (347 : Nat) "FirstWords$Sheet" "row" "Ljava/lang/Object;" "FirstWords") ∈ lw_tbl := lw_at lw_m4 156 rfl
theorem q968 : (Jvm.Cond.fieldLinkNest "FirstWords" (350 : Nat) "FirstWords$Sheet" "size" "I" "FirstWords") ∈ lw_tbl := lw_at lw_m4 157 rfl
theorem q974 : (Jvm.Cond.fieldLink "FirstWords" (87 : Nat) "FirstWords" "marks" "[I") ∈ lw_all := lw_g (lw_at lw_m4 163 rfl) rfl
theorem q977 : (Jvm.Cond.fieldLink "FirstWords" (74 : Nat) "FirstWords" "thingMany" "I") ∈ lw_all := lw_g (lw_at lw_m4 166 rfl) rfl
theorem q979 : (Jvm.Cond.fieldLink "FirstWords" (7 : Nat) "FirstWords" "meanings" "[LFirstWords$Meaning;") ∈ lw_all := lw_g (lw_at lw_m4 168 rfl) rfl
theorem q983 : (Jvm.Cond.fieldLink "FirstWords" (3 : Nat) "FirstWords" "meaningMany" "I") ∈ lw_all := lw_g (lw_at lw_m4 172 rfl) rfl
theorem q986 : (Jvm.Cond.fieldLink "FirstWords" (115 : Nat) "FirstWords" "words" "[I") ∈ lw_all := lw_g (lw_at lw_m4 175 rfl) rfl
theorem q988 : (Jvm.Cond.fieldLink "FirstWords" (77 : Nat) "FirstWords" "soundMany" "I") ∈ lw_all := lw_g (lw_at lw_m4 177 rfl) rfl
theorem q991 : (Jvm.Cond.fieldLink "FirstWords" (94 : Nat) "FirstWords" "strangers" "[LFirstWords$Stranger;") ∈ lw_all := lw_g (lw_at lw_m4 180 rfl) rfl
theorem q994 : (Jvm.Cond.fieldLink "FirstWords" (80 : Nat) "FirstWords" "kindMany" "I") ∈ lw_all := lw_g (lw_at lw_m4 183 rfl) rfl
theorem q996 : (Jvm.Cond.fieldLink "FirstWords" (20 : Nat) "FirstWords" "tape" "[B") ∈ lw_all := lw_g (lw_at lw_m4 185 rfl) rfl
theorem q997 : (Jvm.Cond.fieldLink "FirstWords" (17 : Nat) "FirstWords" "taped" "I") ∈ lw_all := lw_g (lw_at lw_m4 186 rfl) rfl
theorem q998 : (Jvm.Cond.fieldLink "FirstWords" (60 : Nat) "FirstWords" "fault" "I") ∈ lw_all := lw_g (lw_at lw_m4 187 rfl) rfl
theorem q999 : (Jvm.Cond.fieldLink "FirstWords" (171 : Nat) "FirstWords" "shown" "[[I") ∈ lw_all := lw_g (lw_at lw_m4 188 rfl) rfl
theorem q1000 : (Jvm.Cond.fieldLink "FirstWords" (154 : Nat) "FirstWords" "shownMany" "I") ∈ lw_all := lw_g (lw_at lw_m4 189 rfl) rfl
theorem q1001 : (Jvm.Cond.fieldLink "FirstWords" (157 : Nat) "FirstWords" "left" "I") ∈ lw_all := lw_g (lw_at lw_m4 190 rfl) rfl
theorem q1002 : (Jvm.Cond.fieldLink "FirstWords" (136 : Nat) "FirstWords" "minds" "[LFirstWords$Mind;") ∈ lw_all := lw_g (lw_at lw_m4 191 rfl) rfl
theorem q1003 : (Jvm.Cond.fieldLink "FirstWords" (145 : Nat) "FirstWords" "fit" "[I") ∈ lw_all := lw_g (lw_at lw_m4 192 rfl) rfl
theorem q1004 : (Jvm.Cond.fieldLink "FirstWords" (218 : Nat) "FirstWords" "lesson" "LFirstWords$Teaching;") ∈ lw_all := lw_g (lw_at lw_m4 193 rfl) rfl
theorem q1005 : (Jvm.Cond.fieldLink "FirstWords" (235 : Nat) "FirstWords" "pupils" "[LFirstWords$Mind;") ∈ lw_all := lw_g (lw_at lw_m4 194 rfl) rfl
theorem q1006 : (Jvm.Cond.fieldLink "FirstWords" (238 : Nat) "FirstWords" "order" "[I") ∈ lw_all := lw_g (lw_at lw_m4 195 rfl) rfl
theorem q1007 : (Jvm.Cond.fieldLink "FirstWords" (256 : Nat) "FirstWords" "bestOrder" "[I") ∈ lw_all := lw_g (lw_at lw_m4 196 rfl) rfl
theorem q1008 : (Jvm.Cond.fieldLink "FirstWords" (253 : Nat) "FirstWords" "bestSum" "I") ∈ lw_all := lw_g (lw_at lw_m4 197 rfl) rfl
theorem q1009 : (Jvm.Cond.fieldLink "FirstWords" (280 : Nat) "FirstWords" "sums" "[I") ∈ lw_all := lw_g (lw_at lw_m4 198 rfl) rfl
theorem q1010 : (Jvm.Cond.fieldLink "FirstWords" (302 : Nat) "FirstWords" "theirs" "[[I") ∈ lw_all := lw_g (lw_at lw_m4 199 rfl) rfl
theorem q1011 : (Jvm.Cond.fieldLink "FirstWords" (47 : Nat) "FirstWords" "theirMany" "I") ∈ lw_all := lw_g (lw_at lw_m4 200 rfl) rfl
theorem q1012 : (Jvm.Cond.fieldLink "FirstWords" (50 : Nat) "FirstWords" "images" "[LFirstWords$Image;") ∈ lw_all := lw_g (lw_at lw_m4 201 rfl) rfl
theorem q1013 : (Jvm.Cond.fieldLink "FirstWords" (336 : Nat) "FirstWords" "sheets" "[LFirstWords$Sheet;") ∈ lw_all := lw_g (lw_at lw_m4 202 rfl) rfl
theorem q1014 : (Jvm.Cond.fieldLink "FirstWords" (381 : Nat) "FirstWords" "torn" "I") ∈ lw_all := lw_g (lw_at lw_m4 203 rfl) rfl
theorem q1015 : (Jvm.Cond.fieldLink "FirstWords" (340 : Nat) "FirstWords" "came" "[I") ∈ lw_all := lw_g (lw_at lw_m4 204 rfl) rfl
theorem q1016 : (Jvm.Cond.fieldLink "FirstWords" (363 : Nat) "FirstWords" "cameMany" "I") ∈ lw_all := lw_g (lw_at lw_m4 205 rfl) rfl
theorem q1017 : (Jvm.Cond.fieldLink "FirstWords" (366 : Nat) "FirstWords" "refused" "I") ∈ lw_all := lw_g (lw_at lw_m4 206 rfl) rfl
theorem q1018 : (Jvm.Cond.lays "FirstWords" "FirstWords" "marks" "[I") ∈ lw_all := lw_g (lw_at lw_m4 207 rfl) rfl
theorem q1019 : (Jvm.Cond.soleField "FirstWords" "marks") ∈ lw_all := lw_g (lw_at lw_m4 208 rfl) rfl
theorem q1020 : (Jvm.Cond.lays "FirstWords" "FirstWords" "thingMany" "I") ∈ lw_all := lw_g (lw_at lw_m4 209 rfl) rfl
theorem q1021 : (Jvm.Cond.soleField "FirstWords" "thingMany") ∈ lw_all := lw_g (lw_at lw_m4 210 rfl) rfl
theorem q1022 : (Jvm.Cond.lays "FirstWords" "FirstWords" "meanings" "[LFirstWords$Meaning;") ∈ lw_all := lw_g (lw_at lw_m4 211 rfl) rfl
theorem q1023 : (Jvm.Cond.soleField "FirstWords" "meanings") ∈ lw_all := lw_g (lw_at lw_m4 212 rfl) rfl
theorem q1024 : (Jvm.Cond.lays "FirstWords" "FirstWords" "meaningMany" "I") ∈ lw_all := lw_g (lw_at lw_m4 213 rfl) rfl
theorem q1025 : (Jvm.Cond.soleField "FirstWords" "meaningMany") ∈ lw_all := lw_g (lw_at lw_m4 214 rfl) rfl
theorem q1026 : (Jvm.Cond.lays "FirstWords" "FirstWords" "words" "[I") ∈ lw_all := lw_g (lw_at lw_m4 215 rfl) rfl
theorem q1027 : (Jvm.Cond.soleField "FirstWords" "words") ∈ lw_all := lw_g (lw_at lw_m4 216 rfl) rfl
theorem q1028 : (Jvm.Cond.lays "FirstWords" "FirstWords" "soundMany" "I") ∈ lw_all := lw_g (lw_at lw_m4 217 rfl) rfl
theorem q1029 : (Jvm.Cond.soleField "FirstWords" "soundMany") ∈ lw_all := lw_g (lw_at lw_m4 218 rfl) rfl
theorem q1030 : (Jvm.Cond.lays "FirstWords" "FirstWords" "strangers" "[LFirstWords$Stranger;") ∈ lw_all := lw_g (lw_at lw_m4 219 rfl) rfl
theorem q1031 : (Jvm.Cond.soleField "FirstWords" "strangers") ∈ lw_all := lw_g (lw_at lw_m4 220 rfl) rfl
theorem q1032 : (Jvm.Cond.lays "FirstWords" "FirstWords" "kindMany" "I") ∈ lw_all := lw_g (lw_at lw_m4 221 rfl) rfl
theorem q1033 : (Jvm.Cond.soleField "FirstWords" "kindMany") ∈ lw_all := lw_g (lw_at lw_m4 222 rfl) rfl
theorem q1034 : (Jvm.Cond.laysFinal "FirstWords" "FirstWords" "tape" "[B") ∈ lw_all := lw_g (lw_at lw_m4 223 rfl) rfl
theorem q1035 : (Jvm.Cond.soleField "FirstWords" "tape") ∈ lw_all := lw_g (lw_at lw_m4 224 rfl) rfl
theorem q1036 : (Jvm.Cond.lays "FirstWords" "FirstWords" "taped" "I") ∈ lw_all := lw_g (lw_at lw_m4 225 rfl) rfl
theorem q1037 : (Jvm.Cond.soleField "FirstWords" "taped") ∈ lw_all := lw_g (lw_at lw_m4 226 rfl) rfl
theorem q1038 : (Jvm.Cond.lays "FirstWords" "FirstWords" "fault" "I") ∈ lw_all := lw_g (lw_at lw_m4 227 rfl) rfl
theorem q1039 : (Jvm.Cond.soleField "FirstWords" "fault") ∈ lw_all := lw_g (lw_at lw_m4 228 rfl) rfl
theorem q1040 : (Jvm.Cond.laysFinal "FirstWords" "FirstWords" "shown" "[[I") ∈ lw_all := lw_g (lw_at lw_m4 229 rfl) rfl
theorem q1041 : (Jvm.Cond.soleField "FirstWords" "shown") ∈ lw_all := lw_g (lw_at lw_m4 230 rfl) rfl
theorem q1042 : (Jvm.Cond.lays "FirstWords" "FirstWords" "shownMany" "I") ∈ lw_all := lw_g (lw_at lw_m4 231 rfl) rfl
theorem q1043 : (Jvm.Cond.soleField "FirstWords" "shownMany") ∈ lw_all := lw_g (lw_at lw_m4 232 rfl) rfl
theorem q1044 : (Jvm.Cond.lays "FirstWords" "FirstWords" "left" "I") ∈ lw_all := lw_g (lw_at lw_m4 233 rfl) rfl
theorem q1045 : (Jvm.Cond.soleField "FirstWords" "left") ∈ lw_all := lw_g (lw_at lw_m4 234 rfl) rfl
theorem q1046 : (Jvm.Cond.laysFinal "FirstWords" "FirstWords" "minds" "[LFirstWords$Mind;") ∈ lw_all := lw_g (lw_at lw_m4 235 rfl) rfl
theorem q1047 : (Jvm.Cond.soleField "FirstWords" "minds") ∈ lw_all := lw_g (lw_at lw_m4 236 rfl) rfl
theorem q1048 : (Jvm.Cond.laysFinal "FirstWords" "FirstWords" "fit" "[I") ∈ lw_all := lw_g (lw_at lw_m4 237 rfl) rfl
theorem q1049 : (Jvm.Cond.soleField "FirstWords" "fit") ∈ lw_all := lw_g (lw_at lw_m4 238 rfl) rfl
theorem q1050 : (Jvm.Cond.laysFinal "FirstWords" "FirstWords" "lesson" "LFirstWords$Teaching;") ∈ lw_all := lw_g (lw_at lw_m4 239 rfl) rfl
theorem q1051 : (Jvm.Cond.soleField "FirstWords" "lesson") ∈ lw_all := lw_g (lw_at lw_m5 0 rfl) rfl
theorem q1052 : (Jvm.Cond.laysFinal "FirstWords" "FirstWords" "pupils" "[LFirstWords$Mind;") ∈ lw_all := lw_g (lw_at lw_m5 1 rfl) rfl
theorem q1053 : (Jvm.Cond.soleField "FirstWords" "pupils") ∈ lw_all := lw_g (lw_at lw_m5 2 rfl) rfl
theorem q1054 : (Jvm.Cond.laysFinal "FirstWords" "FirstWords" "order" "[I") ∈ lw_all := lw_g (lw_at lw_m5 3 rfl) rfl
theorem q1055 : (Jvm.Cond.soleField "FirstWords" "order") ∈ lw_all := lw_g (lw_at lw_m5 4 rfl) rfl
theorem q1056 : (Jvm.Cond.laysFinal "FirstWords" "FirstWords" "bestOrder" "[I") ∈ lw_all := lw_g (lw_at lw_m5 5 rfl) rfl
theorem q1057 : (Jvm.Cond.soleField "FirstWords" "bestOrder") ∈ lw_all := lw_g (lw_at lw_m5 6 rfl) rfl
theorem q1058 : (Jvm.Cond.lays "FirstWords" "FirstWords" "bestSum" "I") ∈ lw_all := lw_g (lw_at lw_m5 7 rfl) rfl
theorem q1059 : (Jvm.Cond.soleField "FirstWords" "bestSum") ∈ lw_all := lw_g (lw_at lw_m5 8 rfl) rfl
theorem q1060 : (Jvm.Cond.laysFinal "FirstWords" "FirstWords" "sums" "[I") ∈ lw_all := lw_g (lw_at lw_m5 9 rfl) rfl
theorem q1061 : (Jvm.Cond.soleField "FirstWords" "sums") ∈ lw_all := lw_g (lw_at lw_m5 10 rfl) rfl
theorem q1062 : (Jvm.Cond.laysFinal "FirstWords" "FirstWords" "theirs" "[[I") ∈ lw_all := lw_g (lw_at lw_m5 11 rfl) rfl
theorem q1063 : (Jvm.Cond.soleField "FirstWords" "theirs") ∈ lw_all := lw_g (lw_at lw_m5 12 rfl) rfl
theorem q1064 : (Jvm.Cond.lays "FirstWords" "FirstWords" "theirMany" "I") ∈ lw_all := lw_g (lw_at lw_m5 13 rfl) rfl
theorem q1065 : (Jvm.Cond.soleField "FirstWords" "theirMany") ∈ lw_all := lw_g (lw_at lw_m5 14 rfl) rfl
theorem q1066 : (Jvm.Cond.laysFinal "FirstWords" "FirstWords" "images" "[LFirstWords$Image;") ∈ lw_all := lw_g (lw_at lw_m5 15 rfl) rfl
theorem q1067 : (Jvm.Cond.soleField "FirstWords" "images") ∈ lw_all := lw_g (lw_at lw_m5 16 rfl) rfl
theorem q1068 : (Jvm.Cond.laysFinal "FirstWords" "FirstWords" "sheets" "[LFirstWords$Sheet;") ∈ lw_all := lw_g (lw_at lw_m5 17 rfl) rfl
theorem q1069 : (Jvm.Cond.soleField "FirstWords" "sheets") ∈ lw_all := lw_g (lw_at lw_m5 18 rfl) rfl
theorem q1070 : (Jvm.Cond.lays "FirstWords" "FirstWords" "torn" "I") ∈ lw_all := lw_g (lw_at lw_m5 19 rfl) rfl
theorem q1071 : (Jvm.Cond.soleField "FirstWords" "torn") ∈ lw_all := lw_g (lw_at lw_m5 20 rfl) rfl
theorem q1072 : (Jvm.Cond.laysFinal "FirstWords" "FirstWords" "came" "[I") ∈ lw_all := lw_g (lw_at lw_m5 21 rfl) rfl
theorem q1073 : (Jvm.Cond.soleField "FirstWords" "came") ∈ lw_all := lw_g (lw_at lw_m5 22 rfl) rfl
theorem q1074 : (Jvm.Cond.lays "FirstWords" "FirstWords" "cameMany" "I") ∈ lw_all := lw_g (lw_at lw_m5 23 rfl) rfl
theorem q1075 : (Jvm.Cond.soleField "FirstWords" "cameMany") ∈ lw_all := lw_g (lw_at lw_m5 24 rfl) rfl
theorem q1076 : (Jvm.Cond.lays "FirstWords" "FirstWords" "refused" "I") ∈ lw_all := lw_g (lw_at lw_m5 25 rfl) rfl
theorem q1077 : (Jvm.Cond.soleField "FirstWords" "refused") ∈ lw_all := lw_g (lw_at lw_m5 26 rfl) rfl
theorem q1078 : (Jvm.Cond.superclass "FirstWords" "java/lang/Object") ∈ lw_all := lw_g (lw_at lw_m5 27 rfl) rfl
theorem q1080 : (Jvm.Cond.instanceMethod ({ cls := "FirstWords", name := "sheet", desc := "(III)I" } : Jvm.MethodName)) ∈ lw_all := lw_g (lw_at lw_m5 29 rfl) rfl
theorem q1081 : (Jvm.Cond.selects "FirstWords" ({ cls := "FirstWords", name := "sheet", desc := "(III)I" } : Jvm.MethodName) ({ cls := "FirstWords", name := "sheet", desc := "(III)I" } : Jvm.MethodName)) ∈ lw_all := lw_g (lw_at lw_m5 30 rfl) rfl
theorem q1082 : (Jvm.Cond.codeWith ({ cls := "FirstWords", name := "sheet", desc := "(III)I" } : Jvm.MethodName) prog_1_method_67_code (5 : Nat) (Option.some Jvm.ClassFile.FieldType.int) [((32 : Nat), (57 : Nat), (58 : Nat), (353 : Nat))]) ∈ lw_all := lw_g (lw_at lw_m5 31 rfl) rfl
theorem q1083 : (Jvm.Cond.classLink "FirstWords" (353 : Nat) "java/lang/NegativeArraySizeException") ∈ lw_all := lw_g (lw_at lw_m5 32 rfl) rfl
theorem q1110 : (Jvm.Cond.methodLink "FirstWords" (343 : Nat) ({ cls := "FirstWords", name := "newRow", desc := "(II)Ljava/lang/Object;" } : Jvm.MethodName)) ∈ lw_all := lw_g (lw_at lw_m5 59 rfl) rfl
theorem q1111 : (Jvm.Cond.static ({ cls := "FirstWords", name := "newRow", desc := "(II)Ljava/lang/Object;" } : Jvm.MethodName)) ∈ lw_all := lw_g (lw_at lw_m5 60 rfl) rfl
theorem q1112 : (Jvm.Cond.code ({ cls := "FirstWords", name := "newRow", desc := "(II)Ljava/lang/Object;" } : Jvm.MethodName) prog_1_method_66_code (2 : Nat) (Option.some (Jvm.ClassFile.FieldType.object "java/lang/Object"))) ∈ lw_all := lw_g (lw_at lw_m5 61 rfl) rfl
theorem q1115 : (Jvm.Cond.instanceMethod ({ cls := "FirstWords", name := "lay", desc := "(III)I" } : Jvm.MethodName)) ∈ lw_all := lw_g (lw_at lw_m5 64 rfl) rfl
theorem q1116 : (Jvm.Cond.selects "FirstWords" ({ cls := "FirstWords", name := "lay", desc := "(III)I" } : Jvm.MethodName) ({ cls := "FirstWords", name := "lay", desc := "(III)I" } : Jvm.MethodName)) ∈ lw_all := lw_g (lw_at lw_m5 65 rfl) rfl
theorem q1117 : (Jvm.Cond.codeWith ({ cls := "FirstWords", name := "lay", desc := "(III)I" } : Jvm.MethodName) prog_1_method_68_code (6 : Nat) (Option.some Jvm.ClassFile.FieldType.int) [((25 : Nat), (74 : Nat), (75 : Nat), (359 : Nat)), ((25 : Nat), (74 : Nat), (80 : Nat), (361 : Nat))]) ∈ lw_all := lw_g (lw_at lw_m5 66 rfl) rfl
theorem q1118 : (Jvm.Cond.classLink "FirstWords" (359 : Nat) "java/lang/NullPointerException") ∈ lw_all := lw_g (lw_at lw_m5 67 rfl) rfl
theorem q1143 : (Jvm.Cond.classLink "FirstWords" (361 : Nat) "java/lang/ArrayIndexOutOfBoundsException") ∈ lw_all := lw_g (lw_at lw_m5 92 rfl) rfl
theorem q1162 : (Jvm.Cond.classLink "FirstWords" (355 : Nat) "[B") ∈ lw_all := lw_g (lw_at lw_m5 111 rfl) rfl
theorem q1163 : (Jvm.Cond.classLink "FirstWords" (356 : Nat) "[S") ∈ lw_all := lw_g (lw_at lw_m5 112 rfl) rfl
theorem q1164 : (Jvm.Cond.classLink "FirstWords" (358 : Nat) "[I") ∈ lw_all := lw_g (lw_at lw_m5 113 rfl) rfl
theorem q1166 : (Jvm.Cond.instanceMethod ({ cls := "FirstWords", name := "read", desc := "(IIII)I" } : Jvm.MethodName)) ∈ lw_all := lw_g (lw_at lw_m5 115 rfl) rfl
theorem q1167 : (Jvm.Cond.selects "FirstWords" ({ cls := "FirstWords", name := "read", desc := "(IIII)I" } : Jvm.MethodName) ({ cls := "FirstWords", name := "read", desc := "(IIII)I" } : Jvm.MethodName)) ∈ lw_all := lw_g (lw_at lw_m5 116 rfl) rfl
theorem q1168 : (Jvm.Cond.code ({ cls := "FirstWords", name := "read", desc := "(IIII)I" } : Jvm.MethodName) prog_1_method_71_code (7 : Nat) (Option.some Jvm.ClassFile.FieldType.int)) ∈ lw_all := lw_g (lw_at lw_m5 117 rfl) rfl
theorem q1169 : (Jvm.Cond.constantLong "FirstWords" (375 : Nat) (13 : Int64)) ∈ lw_all := lw_g (lw_at lw_m5 118 rfl) rfl
theorem q1170 : (Jvm.Cond.methodLink "FirstWords" (377 : Nat) ({ cls := "FirstWords", name := "reads", desc := "(Ljava/lang/Object;III)I" } : Jvm.MethodName)) ∈ lw_all := lw_g (lw_at lw_m5 119 rfl) rfl
theorem q1171 : (Jvm.Cond.privateMethod ({ cls := "FirstWords", name := "reads", desc := "(Ljava/lang/Object;III)I" } : Jvm.MethodName)) ∈ lw_tbl := lw_at lw_m5 120 rfl
theorem q1172 : (Jvm.Cond.instanceMethod ({ cls := "FirstWords", name := "reads", desc := "(Ljava/lang/Object;III)I" } : Jvm.MethodName)) ∈ lw_all := lw_g (lw_at lw_m5 121 rfl) rfl
theorem q1173 : (Jvm.Cond.codeWith ({ cls := "FirstWords", name := "reads", desc := "(Ljava/lang/Object;III)I" } : Jvm.MethodName) prog_1_method_70_code (7 : Nat) (Option.some Jvm.ClassFile.FieldType.int) [((10 : Nat), (179 : Nat), (180 : Nat), (359 : Nat)), ((10 : Nat), (179 : Nat), (184 : Nat), (373 : Nat)), ((10 : Nat), (179 : Nat), (188 : Nat), (361 : Nat))]) ∈ lw_all := lw_g (lw_at lw_m5 122 rfl) rfl
theorem q1174 : (Jvm.Cond.classLink "FirstWords" (373 : Nat) "java/lang/ClassCastException") ∈ lw_all := lw_g (lw_at lw_m5 123 rfl) rfl
theorem q1188 : (Jvm.Cond.methodLink "FirstWords" (369 : Nat) ({ cls := "FirstWords", name := "cell", desc := "(Ljava/lang/Object;II)I" } : Jvm.MethodName)) ∈ lw_all := lw_g (lw_at lw_m5 137 rfl) rfl
theorem q1189 : (Jvm.Cond.static ({ cls := "FirstWords", name := "cell", desc := "(Ljava/lang/Object;II)I" } : Jvm.MethodName)) ∈ lw_all := lw_g (lw_at lw_m5 138 rfl) rfl
theorem q1190 : (Jvm.Cond.code ({ cls := "FirstWords", name := "cell", desc := "(Ljava/lang/Object;II)I" } : Jvm.MethodName) prog_1_method_69_code (3 : Nat) (Option.some Jvm.ClassFile.FieldType.int)) ∈ lw_all := lw_g (lw_at lw_m5 139 rfl) rfl
theorem q1192 : (Jvm.Cond.instanceMethod ({ cls := "FirstWords", name := "torn", desc := "()I" } : Jvm.MethodName)) ∈ lw_all := lw_g (lw_at lw_m5 141 rfl) rfl
theorem q1193 : (Jvm.Cond.selects "FirstWords" ({ cls := "FirstWords", name := "torn", desc := "()I" } : Jvm.MethodName) ({ cls := "FirstWords", name := "torn", desc := "()I" } : Jvm.MethodName)) ∈ lw_all := lw_g (lw_at lw_m5 142 rfl) rfl
theorem q1194 : (Jvm.Cond.code ({ cls := "FirstWords", name := "torn", desc := "()I" } : Jvm.MethodName) prog_1_method_72_code (1 : Nat) (Option.some Jvm.ClassFile.FieldType.int)) ∈ lw_all := lw_g (lw_at lw_m5 143 rfl) rfl
theorem q1196 : (Jvm.Cond.instanceMethod ({ cls := "FirstWords", name := "count", desc := "(I)I" } : Jvm.MethodName)) ∈ lw_all := lw_g (lw_at lw_m5 145 rfl) rfl
theorem q1197 : (Jvm.Cond.selects "FirstWords" ({ cls := "FirstWords", name := "count", desc := "(I)I" } : Jvm.MethodName) ({ cls := "FirstWords", name := "count", desc := "(I)I" } : Jvm.MethodName)) ∈ lw_all := lw_g (lw_at lw_m5 146 rfl) rfl
theorem q1198 : (Jvm.Cond.code ({ cls := "FirstWords", name := "count", desc := "(I)I" } : Jvm.MethodName) prog_1_method_73_code (2 : Nat) (Option.some Jvm.ClassFile.FieldType.int)) ∈ lw_all := lw_g (lw_at lw_m5 147 rfl) rfl
theorem q1745 : (Jvm.Cond.stringRef "FirstWords" (386 : Nat) "thing") ∈ lw_tbl := lw_at lw_m7 214 rfl
theorem q1746 : (Jvm.Cond.stringRef "FirstWords" (388 : Nat) "means") ∈ lw_tbl := lw_at lw_m7 215 rfl
theorem q1747 : (Jvm.Cond.stringRef "FirstWords" (390 : Nat) "word") ∈ lw_tbl := lw_at lw_m7 216 rfl
theorem q1748 : (Jvm.Cond.stringRef "FirstWords" (392 : Nat) "plain") ∈ lw_tbl := lw_at lw_m7 217 rfl
theorem q1749 : (Jvm.Cond.stringRef "FirstWords" (394 : Nat) "last") ∈ lw_tbl := lw_at lw_m7 218 rfl
theorem q1750 : (Jvm.Cond.stringRef "FirstWords" (396 : Nat) "careful") ∈ lw_tbl := lw_at lw_m7 219 rfl
theorem q1751 : (Jvm.Cond.stringRef "FirstWords" (398 : Nat) "proud") ∈ lw_tbl := lw_at lw_m7 220 rfl
theorem q1753 : (Jvm.Cond.stringRef "FirstWords" (404 : Nat) "sees") ∈ lw_tbl := lw_at lw_m7 222 rfl
theorem q1754 : (Jvm.Cond.stringRef "FirstWords" (405 : Nat) "fears") ∈ lw_tbl := lw_at lw_m7 223 rfl
theorem q1755 : (Jvm.Cond.stringRef "FirstWords" (406 : Nat) "unlike") ∈ lw_tbl := lw_at lw_m7 224 rfl
theorem q1756 : (Jvm.Cond.stringRef "FirstWords" (408 : Nat) "chance") ∈ lw_tbl := lw_at lw_m7 225 rfl
theorem in_X0 : ∀ w ∈ wsX00, w ∈ lw_all := lw_in wsX00 [1018, 1020, 1022, 1024, 1026, 1028, 1030, 1032, 1034, 1036, 1038, 1040, 1042, 1044, 1046, 1048, 1050, 1052, 1054, 1056, 1058, 1060, 1062, 1064, 1066, 1068, 1070, 1072, 1074, 1076] (by decide +kernel) (by decide +kernel)
