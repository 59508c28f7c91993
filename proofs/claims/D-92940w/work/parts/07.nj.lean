/-! java/util/Arrays -/
set_option maxRecDepth 100000
def RJ0 : String := "java/util/Arrays"
abbrev cJ0_fill : ByteArray := prog_29_method_103_code
def yJ0_fill : MethodName := ⟨RJ0, "fill", "([II)V"⟩
def dkwJ0_fill_0 : List UInt8 := [3, 61, 42, 190, 62, 28, 29, 162, 0, 13, 42, 28, 27, 79, 132, 2, 1, 167, 255, 244, 177]
abbrev dktJ0_fill_0 : List UInt8 := dkwJ0_fill_0 ++ []
theorem dksJ0_fill_0 : cJ0_fill.data.toList.drop 0 = dktJ0_fill_0 := by decide +kernel
theorem dJ0_fill_0 : decode cJ0_fill 0 = .ok (.iconst 0, 1) := dk_3 (dk_at dksJ0_fill_0 0 rfl rfl)
theorem dJ0_fill_1 : decode cJ0_fill 1 = .ok (.istore_n 2, 1) := dk_61 (dk_at dksJ0_fill_0 1 rfl rfl)
theorem dJ0_fill_2 : decode cJ0_fill 2 = .ok (.aload_n 0, 1) := dk_42 (dk_at dksJ0_fill_0 2 rfl rfl)
theorem dJ0_fill_3 : decode cJ0_fill 3 = .ok (.arraylength, 1) := dk_190 (dk_at dksJ0_fill_0 3 rfl rfl)
theorem dJ0_fill_4 : decode cJ0_fill 4 = .ok (.istore_n 3, 1) := dk_62 (dk_at dksJ0_fill_0 4 rfl rfl)
theorem dJ0_fill_5 : decode cJ0_fill 5 = .ok (.iload_n 2, 1) := dk_28 (dk_at dksJ0_fill_0 5 rfl rfl)
theorem dJ0_fill_6 : decode cJ0_fill 6 = .ok (.iload_n 3, 1) := dk_29 (dk_at dksJ0_fill_0 6 rfl rfl)
theorem dJ0_fill_7 : decode cJ0_fill 7 = .ok (.if_icmp .ge 13, 3) := dk_162 0 13 (dk_at dksJ0_fill_0 7 rfl rfl)
theorem dJ0_fill_10 : decode cJ0_fill 10 = .ok (.aload_n 0, 1) := dk_42 (dk_at dksJ0_fill_0 10 rfl rfl)
theorem dJ0_fill_11 : decode cJ0_fill 11 = .ok (.iload_n 2, 1) := dk_28 (dk_at dksJ0_fill_0 11 rfl rfl)
theorem dJ0_fill_12 : decode cJ0_fill 12 = .ok (.iload_n 1, 1) := dk_27 (dk_at dksJ0_fill_0 12 rfl rfl)
theorem dJ0_fill_13 : decode cJ0_fill 13 = .ok (.iastore, 1) := dk_79 (dk_at dksJ0_fill_0 13 rfl rfl)
theorem dJ0_fill_14 : decode cJ0_fill 14 = .ok (.iinc 2 1, 3) := dk_132 2 1 (dk_at dksJ0_fill_0 14 rfl rfl)
theorem dJ0_fill_17 : decode cJ0_fill 17 = .ok (.goto (-12), 3) := dk_167 255 244 (dk_at dksJ0_fill_0 17 rfl rfl)
theorem dJ0_fill_20 : decode cJ0_fill 20 = .ok (.return_, 1) := dk_177 (dk_at dksJ0_fill_0 20 rfl rfl)
theorem q97 : (Jvm.Cond.initialized "java/util/Arrays") ∈ lw_all := lw_g (lw_at lw_m1 6 rfl) rfl
theorem q520 : (Jvm.Cond.static ({ cls := "java/util/Arrays", name := "fill", desc := "([II)V" } : Jvm.MethodName)) ∈ lw_all := lw_g (lw_at lw_m2 189 rfl) rfl
theorem q521 : (Jvm.Cond.code ({ cls := "java/util/Arrays", name := "fill", desc := "([II)V" } : Jvm.MethodName) prog_29_method_103_code (4 : Nat) (Option.none : Option Jvm.ClassFile.FieldType)) ∈ lw_all := lw_g (lw_at lw_m2 190 rfl) rfl
/-! java/lang/Throwable -/
set_option maxRecDepth 100000
def RJ1 : String := "java/lang/Throwable"
def TJ1 : u_T := fun k => match k with
  | 0 => ("java/lang/Throwable", "cause", "Ljava/lang/Throwable;", false)
  | 1 => ("java/lang/Throwable", "stackTrace", "[Ljava/lang/StackTraceElement;", false)
  | 2 => ("java/lang/Throwable", "suppressedExceptions", "Ljava/util/List;", false)
  | 3 => ("java/lang/Throwable", "detailMessage", "Ljava/lang/String;", false)
  | _ => ("java/lang/Throwable", "backtrace", "Ljava/lang/Object;", false)
def tyJ1 : Nat → FieldType := fun k => match k with
  | 0 => .object "java/lang/Throwable"
  | 1 => .array (.object "java/lang/StackTraceElement")
  | 2 => .object "java/util/List"
  | 3 => .object "java/lang/String"
  | _ => .object "java/lang/Object"
abbrev wsJ10 : List Cond := u_ws RJ1 TJ1 5
theorem nmJ1 : ∀ a, a < 5 → ∀ b, b < 5 → a ≠ b → (TJ1 a).2.1 ≠ (TJ1 b).2.1 := by decide +kernel
theorem tyJ1_ok : ∀ k, k < 5 → parseFieldDescriptor (TJ1 k).2.2.1 = some (tyJ1 k) := by decide +kernel
abbrev cJ1_init : ByteArray := prog_28_method_1_code
def yJ1_init : MethodName := ⟨RJ1, "<init>", "()V"⟩
def dkwJ1_init_1 : List UInt8 := [182, 0, 27, 87, 177]
abbrev dktJ1_init_1 : List UInt8 := dkwJ1_init_1 ++ []
def dkwJ1_init_0 : List UInt8 := [42, 183, 0, 1, 42, 42, 181, 0, 7, 42, 178, 0, 13, 181, 0, 17, 42, 178, 0, 20, 181, 0, 24, 42]
abbrev dktJ1_init_0 : List UInt8 := dkwJ1_init_0 ++ dktJ1_init_1
theorem dksJ1_init_0 : cJ1_init.data.toList.drop 0 = dktJ1_init_0 := by decide +kernel
theorem dksJ1_init_1 : cJ1_init.data.toList.drop 24 = dktJ1_init_1 := dk_seg dksJ1_init_0 24 rfl rfl
theorem dJ1_init_0 : decode cJ1_init 0 = .ok (.aload_n 0, 1) := dk_42 (dk_at dksJ1_init_0 0 rfl rfl)
theorem dJ1_init_1 : decode cJ1_init 1 = .ok (.invokespecial 1, 3) := dk_183 0 1 (dk_at dksJ1_init_0 1 rfl rfl)
theorem dJ1_init_4 : decode cJ1_init 4 = .ok (.aload_n 0, 1) := dk_42 (dk_at dksJ1_init_0 4 rfl rfl)
theorem dJ1_init_5 : decode cJ1_init 5 = .ok (.aload_n 0, 1) := dk_42 (dk_at dksJ1_init_0 5 rfl rfl)
theorem dJ1_init_6 : decode cJ1_init 6 = .ok (.putfield 7, 3) := dk_181 0 7 (dk_at dksJ1_init_0 6 rfl rfl)
theorem dJ1_init_9 : decode cJ1_init 9 = .ok (.aload_n 0, 1) := dk_42 (dk_at dksJ1_init_0 9 rfl rfl)
theorem dJ1_init_10 : decode cJ1_init 10 = .ok (.getstatic 13, 3) := dk_178 0 13 (dk_at dksJ1_init_0 10 rfl rfl)
theorem dJ1_init_13 : decode cJ1_init 13 = .ok (.putfield 17, 3) := dk_181 0 17 (dk_at dksJ1_init_0 13 rfl rfl)
theorem dJ1_init_16 : decode cJ1_init 16 = .ok (.aload_n 0, 1) := dk_42 (dk_at dksJ1_init_0 16 rfl rfl)
theorem dJ1_init_17 : decode cJ1_init 17 = .ok (.getstatic 20, 3) := dk_178 0 20 (dk_at dksJ1_init_0 17 rfl rfl)
theorem dJ1_init_20 : decode cJ1_init 20 = .ok (.putfield 24, 3) := dk_181 0 24 (dk_at dksJ1_init_0 20 rfl rfl)
theorem dJ1_init_23 : decode cJ1_init 23 = .ok (.aload_n 0, 1) := dk_42 (dk_at dksJ1_init_0 23 rfl rfl)
theorem dJ1_init_24 : decode cJ1_init 24 = .ok (.invokevirtual 27, 3) := dk_182 0 27 (dk_at dksJ1_init_1 0 rfl rfl)
theorem dJ1_init_27 : decode cJ1_init 27 = .ok (.pop, 1) := dk_87 (dk_at dksJ1_init_1 3 rfl rfl)
theorem dJ1_init_28 : decode cJ1_init 28 = .ok (.return_, 1) := dk_177 (dk_at dksJ1_init_1 4 rfl rfl)
abbrev cJ1_init_2 : ByteArray := prog_28_method_5_code
def yJ1_init_2 : MethodName := ⟨RJ1, "<init>", "(Ljava/lang/String;Ljava/lang/Throwable;ZZ)V"⟩
def dkwJ1_init_2_2 : List UInt8 := [44, 181, 0, 7, 29, 154, 0, 8, 42, 1, 181, 0, 24, 177]
abbrev dktJ1_init_2_2 : List UInt8 := dkwJ1_init_2_2 ++ []
def dkwJ1_init_2_1 : List UInt8 := [21, 4, 153, 0, 11, 42, 182, 0, 27, 87, 167, 0, 8, 42, 1, 181, 0, 17, 42, 43, 181, 0, 31, 42]
abbrev dktJ1_init_2_1 : List UInt8 := dkwJ1_init_2_1 ++ dktJ1_init_2_2
def dkwJ1_init_2_0 : List UInt8 := [42, 183, 0, 1, 42, 42, 181, 0, 7, 42, 178, 0, 13, 181, 0, 17, 42, 178, 0, 20, 181, 0, 24]
abbrev dktJ1_init_2_0 : List UInt8 := dkwJ1_init_2_0 ++ dktJ1_init_2_1
theorem dksJ1_init_2_0 : cJ1_init_2.data.toList.drop 0 = dktJ1_init_2_0 := by decide +kernel
theorem dksJ1_init_2_1 : cJ1_init_2.data.toList.drop 23 = dktJ1_init_2_1 := dk_seg dksJ1_init_2_0 23 rfl rfl
theorem dksJ1_init_2_2 : cJ1_init_2.data.toList.drop 47 = dktJ1_init_2_2 := dk_seg dksJ1_init_2_1 24 rfl rfl
theorem dJ1_init_2_0 : decode cJ1_init_2 0 = .ok (.aload_n 0, 1) := dk_42 (dk_at dksJ1_init_2_0 0 rfl rfl)
theorem dJ1_init_2_1 : decode cJ1_init_2 1 = .ok (.invokespecial 1, 3) := dk_183 0 1 (dk_at dksJ1_init_2_0 1 rfl rfl)
theorem dJ1_init_2_4 : decode cJ1_init_2 4 = .ok (.aload_n 0, 1) := dk_42 (dk_at dksJ1_init_2_0 4 rfl rfl)
theorem dJ1_init_2_5 : decode cJ1_init_2 5 = .ok (.aload_n 0, 1) := dk_42 (dk_at dksJ1_init_2_0 5 rfl rfl)
theorem dJ1_init_2_6 : decode cJ1_init_2 6 = .ok (.putfield 7, 3) := dk_181 0 7 (dk_at dksJ1_init_2_0 6 rfl rfl)
theorem dJ1_init_2_9 : decode cJ1_init_2 9 = .ok (.aload_n 0, 1) := dk_42 (dk_at dksJ1_init_2_0 9 rfl rfl)
theorem dJ1_init_2_10 : decode cJ1_init_2 10 = .ok (.getstatic 13, 3) := dk_178 0 13 (dk_at dksJ1_init_2_0 10 rfl rfl)
theorem dJ1_init_2_13 : decode cJ1_init_2 13 = .ok (.putfield 17, 3) := dk_181 0 17 (dk_at dksJ1_init_2_0 13 rfl rfl)
theorem dJ1_init_2_16 : decode cJ1_init_2 16 = .ok (.aload_n 0, 1) := dk_42 (dk_at dksJ1_init_2_0 16 rfl rfl)
theorem dJ1_init_2_17 : decode cJ1_init_2 17 = .ok (.getstatic 20, 3) := dk_178 0 20 (dk_at dksJ1_init_2_0 17 rfl rfl)
theorem dJ1_init_2_20 : decode cJ1_init_2 20 = .ok (.putfield 24, 3) := dk_181 0 24 (dk_at dksJ1_init_2_0 20 rfl rfl)
theorem dJ1_init_2_23 : decode cJ1_init_2 23 = .ok (.iload 4, 2) := dk_21 4 (dk_at dksJ1_init_2_1 0 rfl rfl)
theorem dJ1_init_2_25 : decode cJ1_init_2 25 = .ok (.ifCond .eq 11, 3) := dk_153 0 11 (dk_at dksJ1_init_2_1 2 rfl rfl)
theorem dJ1_init_2_28 : decode cJ1_init_2 28 = .ok (.aload_n 0, 1) := dk_42 (dk_at dksJ1_init_2_1 5 rfl rfl)
theorem dJ1_init_2_29 : decode cJ1_init_2 29 = .ok (.invokevirtual 27, 3) := dk_182 0 27 (dk_at dksJ1_init_2_1 6 rfl rfl)
theorem dJ1_init_2_32 : decode cJ1_init_2 32 = .ok (.pop, 1) := dk_87 (dk_at dksJ1_init_2_1 9 rfl rfl)
theorem dJ1_init_2_33 : decode cJ1_init_2 33 = .ok (.goto 8, 3) := dk_167 0 8 (dk_at dksJ1_init_2_1 10 rfl rfl)
theorem dJ1_init_2_36 : decode cJ1_init_2 36 = .ok (.aload_n 0, 1) := dk_42 (dk_at dksJ1_init_2_1 13 rfl rfl)
theorem dJ1_init_2_37 : decode cJ1_init_2 37 = .ok (.aconst_null, 1) := dk_1 (dk_at dksJ1_init_2_1 14 rfl rfl)
theorem dJ1_init_2_38 : decode cJ1_init_2 38 = .ok (.putfield 17, 3) := dk_181 0 17 (dk_at dksJ1_init_2_1 15 rfl rfl)
theorem dJ1_init_2_41 : decode cJ1_init_2 41 = .ok (.aload_n 0, 1) := dk_42 (dk_at dksJ1_init_2_1 18 rfl rfl)
theorem dJ1_init_2_42 : decode cJ1_init_2 42 = .ok (.aload_n 1, 1) := dk_43 (dk_at dksJ1_init_2_1 19 rfl rfl)
theorem dJ1_init_2_43 : decode cJ1_init_2 43 = .ok (.putfield 31, 3) := dk_181 0 31 (dk_at dksJ1_init_2_1 20 rfl rfl)
theorem dJ1_init_2_46 : decode cJ1_init_2 46 = .ok (.aload_n 0, 1) := dk_42 (dk_at dksJ1_init_2_1 23 rfl rfl)
theorem dJ1_init_2_47 : decode cJ1_init_2 47 = .ok (.aload_n 2, 1) := dk_44 (dk_at dksJ1_init_2_2 0 rfl rfl)
theorem dJ1_init_2_48 : decode cJ1_init_2 48 = .ok (.putfield 7, 3) := dk_181 0 7 (dk_at dksJ1_init_2_2 1 rfl rfl)
theorem dJ1_init_2_51 : decode cJ1_init_2 51 = .ok (.iload_n 3, 1) := dk_29 (dk_at dksJ1_init_2_2 4 rfl rfl)
theorem dJ1_init_2_52 : decode cJ1_init_2 52 = .ok (.ifCond .ne 8, 3) := dk_154 0 8 (dk_at dksJ1_init_2_2 5 rfl rfl)
theorem dJ1_init_2_55 : decode cJ1_init_2 55 = .ok (.aload_n 0, 1) := dk_42 (dk_at dksJ1_init_2_2 8 rfl rfl)
theorem dJ1_init_2_56 : decode cJ1_init_2 56 = .ok (.aconst_null, 1) := dk_1 (dk_at dksJ1_init_2_2 9 rfl rfl)
theorem dJ1_init_2_57 : decode cJ1_init_2 57 = .ok (.putfield 24, 3) := dk_181 0 24 (dk_at dksJ1_init_2_2 10 rfl rfl)
theorem dJ1_init_2_60 : decode cJ1_init_2 60 = .ok (.return_, 1) := dk_177 (dk_at dksJ1_init_2_2 13 rfl rfl)
abbrev cJ1_init_3 : ByteArray := prog_28_method_2_code
def yJ1_init_3 : MethodName := ⟨RJ1, "<init>", "(Ljava/lang/String;)V"⟩
def dkwJ1_init_3_1 : List UInt8 := [182, 0, 27, 87, 42, 43, 181, 0, 31, 177]
abbrev dktJ1_init_3_1 : List UInt8 := dkwJ1_init_3_1 ++ []
def dkwJ1_init_3_0 : List UInt8 := [42, 183, 0, 1, 42, 42, 181, 0, 7, 42, 178, 0, 13, 181, 0, 17, 42, 178, 0, 20, 181, 0, 24, 42]
abbrev dktJ1_init_3_0 : List UInt8 := dkwJ1_init_3_0 ++ dktJ1_init_3_1
theorem dksJ1_init_3_0 : cJ1_init_3.data.toList.drop 0 = dktJ1_init_3_0 := by decide +kernel
theorem dksJ1_init_3_1 : cJ1_init_3.data.toList.drop 24 = dktJ1_init_3_1 := dk_seg dksJ1_init_3_0 24 rfl rfl
theorem dJ1_init_3_0 : decode cJ1_init_3 0 = .ok (.aload_n 0, 1) := dk_42 (dk_at dksJ1_init_3_0 0 rfl rfl)
theorem dJ1_init_3_1 : decode cJ1_init_3 1 = .ok (.invokespecial 1, 3) := dk_183 0 1 (dk_at dksJ1_init_3_0 1 rfl rfl)
theorem dJ1_init_3_4 : decode cJ1_init_3 4 = .ok (.aload_n 0, 1) := dk_42 (dk_at dksJ1_init_3_0 4 rfl rfl)
theorem dJ1_init_3_5 : decode cJ1_init_3 5 = .ok (.aload_n 0, 1) := dk_42 (dk_at dksJ1_init_3_0 5 rfl rfl)
theorem dJ1_init_3_6 : decode cJ1_init_3 6 = .ok (.putfield 7, 3) := dk_181 0 7 (dk_at dksJ1_init_3_0 6 rfl rfl)
theorem dJ1_init_3_9 : decode cJ1_init_3 9 = .ok (.aload_n 0, 1) := dk_42 (dk_at dksJ1_init_3_0 9 rfl rfl)
theorem dJ1_init_3_10 : decode cJ1_init_3 10 = .ok (.getstatic 13, 3) := dk_178 0 13 (dk_at dksJ1_init_3_0 10 rfl rfl)
theorem dJ1_init_3_13 : decode cJ1_init_3 13 = .ok (.putfield 17, 3) := dk_181 0 17 (dk_at dksJ1_init_3_0 13 rfl rfl)
theorem dJ1_init_3_16 : decode cJ1_init_3 16 = .ok (.aload_n 0, 1) := dk_42 (dk_at dksJ1_init_3_0 16 rfl rfl)
theorem dJ1_init_3_17 : decode cJ1_init_3 17 = .ok (.getstatic 20, 3) := dk_178 0 20 (dk_at dksJ1_init_3_0 17 rfl rfl)
theorem dJ1_init_3_20 : decode cJ1_init_3 20 = .ok (.putfield 24, 3) := dk_181 0 24 (dk_at dksJ1_init_3_0 20 rfl rfl)
theorem dJ1_init_3_23 : decode cJ1_init_3 23 = .ok (.aload_n 0, 1) := dk_42 (dk_at dksJ1_init_3_0 23 rfl rfl)
theorem dJ1_init_3_24 : decode cJ1_init_3 24 = .ok (.invokevirtual 27, 3) := dk_182 0 27 (dk_at dksJ1_init_3_1 0 rfl rfl)
theorem dJ1_init_3_27 : decode cJ1_init_3 27 = .ok (.pop, 1) := dk_87 (dk_at dksJ1_init_3_1 3 rfl rfl)
theorem dJ1_init_3_28 : decode cJ1_init_3 28 = .ok (.aload_n 0, 1) := dk_42 (dk_at dksJ1_init_3_1 4 rfl rfl)
theorem dJ1_init_3_29 : decode cJ1_init_3 29 = .ok (.aload_n 1, 1) := dk_43 (dk_at dksJ1_init_3_1 5 rfl rfl)
theorem dJ1_init_3_30 : decode cJ1_init_3 30 = .ok (.putfield 31, 3) := dk_181 0 31 (dk_at dksJ1_init_3_1 6 rfl rfl)
theorem dJ1_init_3_33 : decode cJ1_init_3 33 = .ok (.return_, 1) := dk_177 (dk_at dksJ1_init_3_1 9 rfl rfl)
theorem q101 : (Jvm.Cond.initialized "java/lang/Throwable") ∈ lw_all := lw_g (lw_at lw_m1 10 rfl) rfl
theorem q176 : (Jvm.Cond.declares ({ cls := "java/lang/Throwable", name := "<init>", desc := "()V" } : Jvm.MethodName)) ∈ lw_tbl := lw_at lw_m1 85 rfl
theorem q177 : (Jvm.Cond.declares ({ cls := "java/lang/Throwable", name := "<init>", desc := "(Ljava/lang/String;)V" } : Jvm.MethodName)) ∈ lw_tbl := lw_at lw_m1 86 rfl
theorem q181 : (Jvm.Cond.lays "java/lang/Throwable" "java/lang/Throwable" "cause" "Ljava/lang/Throwable;") ∈ lw_all := lw_g (lw_at lw_m1 90 rfl) rfl
theorem q183 : (Jvm.Cond.lays "java/lang/Throwable" "java/lang/Throwable" "stackTrace" "[Ljava/lang/StackTraceElement;") ∈ lw_all := lw_g (lw_at lw_m1 92 rfl) rfl
theorem q185 : (Jvm.Cond.lays "java/lang/Throwable" "java/lang/Throwable" "suppressedExceptions" "Ljava/util/List;") ∈ lw_all := lw_g (lw_at lw_m1 94 rfl) rfl
theorem q187 : (Jvm.Cond.lays "java/lang/Throwable" "java/lang/Throwable" "detailMessage" "Ljava/lang/String;") ∈ lw_all := lw_g (lw_at lw_m1 96 rfl) rfl
theorem q189 : (Jvm.Cond.lays "java/lang/Throwable" "java/lang/Throwable" "backtrace" "Ljava/lang/Object;") ∈ lw_all := lw_g (lw_at lw_m1 98 rfl) rfl
theorem q190 : (Jvm.Cond.fieldLink "java/lang/Throwable" (198 : Nat) "java/lang/Throwable" "backtrace" "Ljava/lang/Object;") ∈ lw_all := lw_g (lw_at lw_m1 99 rfl) rfl
theorem q191 : (Jvm.Cond.superclass "java/lang/Throwable" "java/lang/Object") ∈ lw_all := lw_g (lw_at lw_m1 100 rfl) rfl
theorem q192 : (Jvm.Cond.instanceMethod ({ cls := "java/lang/Throwable", name := "<init>", desc := "()V" } : Jvm.MethodName)) ∈ lw_all := lw_g (lw_at lw_m1 101 rfl) rfl
theorem q193 : (Jvm.Cond.code ({ cls := "java/lang/Throwable", name := "<init>", desc := "()V" } : Jvm.MethodName) prog_28_method_1_code (1 : Nat) (Option.none : Option Jvm.ClassFile.FieldType)) ∈ lw_all := lw_g (lw_at lw_m1 102 rfl) rfl
theorem q194 : (Jvm.Cond.methodLink "java/lang/Throwable" (1 : Nat) ({ cls := "java/lang/Object", name := "<init>", desc := "()V" } : Jvm.MethodName)) ∈ lw_all := lw_g (lw_at lw_m1 103 rfl) rfl
theorem q195 : (Jvm.Cond.fieldLink "java/lang/Throwable" (13 : Nat) "java/lang/Throwable" "UNASSIGNED_STACK" "[Ljava/lang/StackTraceElement;") ∈ lw_all := lw_g (lw_at lw_m1 104 rfl) rfl
theorem q196 : (Jvm.Cond.laysStatic "java/lang/Throwable" "UNASSIGNED_STACK" "[Ljava/lang/StackTraceElement;") ∈ lw_tbl := lw_at lw_m1 105 rfl
theorem q197 : (Jvm.Cond.fieldLink "java/lang/Throwable" (20 : Nat) "java/lang/Throwable" "SUPPRESSED_SENTINEL" "Ljava/util/List;") ∈ lw_all := lw_g (lw_at lw_m1 106 rfl) rfl
theorem q198 : (Jvm.Cond.laysStatic "java/lang/Throwable" "SUPPRESSED_SENTINEL" "Ljava/util/List;") ∈ lw_tbl := lw_at lw_m1 107 rfl
theorem q199 : (Jvm.Cond.methodLink "java/lang/Throwable" (27 : Nat) ({ cls := "java/lang/Throwable", name := "fillInStackTrace", desc := "()Ljava/lang/Throwable;" } : Jvm.MethodName)) ∈ lw_all := lw_g (lw_at lw_m1 108 rfl) rfl
theorem q200 : (Jvm.Cond.instanceMethod ({ cls := "java/lang/Throwable", name := "fillInStackTrace", desc := "()Ljava/lang/Throwable;" } : Jvm.MethodName)) ∈ lw_all := lw_g (lw_at lw_m1 109 rfl) rfl
theorem q201 : (Jvm.Cond.sameMethod "java/lang/Throwable" "java/lang/Throwable" "fillInStackTrace" "()Ljava/lang/Throwable;") ∈ lw_all := lw_g (lw_at lw_m1 110 rfl) rfl
theorem q215 : (Jvm.Cond.declares ({ cls := "java/lang/Throwable", name := "fillInStackTrace", desc := "()Ljava/lang/Throwable;" } : Jvm.MethodName)) ∈ lw_tbl := lw_at lw_m1 124 rfl
theorem q219 : (Jvm.Cond.codeSync ({ cls := "java/lang/Throwable", name := "fillInStackTrace", desc := "()Ljava/lang/Throwable;" } : Jvm.MethodName) prog_28_method_18_code (1 : Nat) (Option.some (Jvm.ClassFile.FieldType.object "java/lang/Throwable"))) ∈ lw_all := lw_g (lw_at lw_m1 128 rfl) rfl
theorem q220 : (Jvm.Cond.methodLink "java/lang/Throwable" (202 : Nat) ({ cls := "java/lang/Throwable", name := "fillInStackTrace", desc := "(I)Ljava/lang/Throwable;" } : Jvm.MethodName)) ∈ lw_all := lw_g (lw_at lw_m1 129 rfl) rfl
theorem q221 : (Jvm.Cond.privateMethod ({ cls := "java/lang/Throwable", name := "fillInStackTrace", desc := "(I)Ljava/lang/Throwable;" } : Jvm.MethodName)) ∈ lw_tbl := lw_at lw_m1 130 rfl
theorem q222 : (Jvm.Cond.instanceMethod ({ cls := "java/lang/Throwable", name := "fillInStackTrace", desc := "(I)Ljava/lang/Throwable;" } : Jvm.MethodName)) ∈ lw_all := lw_g (lw_at lw_m1 131 rfl) rfl
theorem q223 : (Jvm.Cond.instantiable "java/lang/Throwable" (6 : Nat)) ∈ lw_all := lw_g (lw_at lw_m1 132 rfl) rfl
theorem q224 : (Jvm.Cond.native ({ cls := "java/lang/Throwable", name := "fillInStackTrace", desc := "(I)Ljava/lang/Throwable;" } : Jvm.MethodName)) ∈ lw_all := lw_g (lw_at lw_m1 133 rfl) rfl
theorem q235 : (Jvm.Cond.instanceMethod ({ cls := "java/lang/Throwable", name := "<init>", desc := "(Ljava/lang/String;Ljava/lang/Throwable;ZZ)V" } : Jvm.MethodName)) ∈ lw_all := lw_g (lw_at lw_m1 144 rfl) rfl
theorem q236 : (Jvm.Cond.code ({ cls := "java/lang/Throwable", name := "<init>", desc := "(Ljava/lang/String;Ljava/lang/Throwable;ZZ)V" } : Jvm.MethodName) prog_28_method_5_code (5 : Nat) (Option.none : Option Jvm.ClassFile.FieldType)) ∈ lw_all := lw_g (lw_at lw_m1 145 rfl) rfl
theorem q241 : (Jvm.Cond.fieldLink "java/lang/Throwable" (198 : Nat) "java/lang/Throwable" "backtrace" "Ljava/lang/Object;") ∈ lw_all := lw_g (lw_at lw_m1 150 rfl) rfl
theorem q242 : (Jvm.Cond.fieldLink "java/lang/Throwable" (31 : Nat) "java/lang/Throwable" "detailMessage" "Ljava/lang/String;") ∈ lw_all := lw_g (lw_at lw_m1 151 rfl) rfl
theorem q243 : (Jvm.Cond.fieldLink "java/lang/Throwable" (7 : Nat) "java/lang/Throwable" "cause" "Ljava/lang/Throwable;") ∈ lw_all := lw_g (lw_at lw_m1 152 rfl) rfl
theorem q244 : (Jvm.Cond.fieldLink "java/lang/Throwable" (17 : Nat) "java/lang/Throwable" "stackTrace" "[Ljava/lang/StackTraceElement;") ∈ lw_all := lw_g (lw_at lw_m1 153 rfl) rfl
theorem q245 : (Jvm.Cond.fieldLink "java/lang/Throwable" (24 : Nat) "java/lang/Throwable" "suppressedExceptions" "Ljava/util/List;") ∈ lw_all := lw_g (lw_at lw_m1 154 rfl) rfl
theorem q250 : (Jvm.Cond.soleField "java/lang/Throwable" "backtrace") ∈ lw_all := lw_g (lw_at lw_m1 159 rfl) rfl
theorem q251 : (Jvm.Cond.soleField "java/lang/Throwable" "detailMessage") ∈ lw_all := lw_g (lw_at lw_m1 160 rfl) rfl
theorem q252 : (Jvm.Cond.soleField "java/lang/Throwable" "cause") ∈ lw_all := lw_g (lw_at lw_m1 161 rfl) rfl
theorem q253 : (Jvm.Cond.soleField "java/lang/Throwable" "stackTrace") ∈ lw_all := lw_g (lw_at lw_m1 162 rfl) rfl
theorem q255 : (Jvm.Cond.soleField "java/lang/Throwable" "depth") ∈ lw_all := lw_g (lw_at lw_m1 164 rfl) rfl
theorem q256 : (Jvm.Cond.soleField "java/lang/Throwable" "suppressedExceptions") ∈ lw_all := lw_g (lw_at lw_m1 165 rfl) rfl
theorem q1094 : (Jvm.Cond.instanceMethod ({ cls := "java/lang/Throwable", name := "<init>", desc := "(Ljava/lang/String;)V" } : Jvm.MethodName)) ∈ lw_all := lw_g (lw_at lw_m5 43 rfl) rfl
theorem q1095 : (Jvm.Cond.code ({ cls := "java/lang/Throwable", name := "<init>", desc := "(Ljava/lang/String;)V" } : Jvm.MethodName) prog_28_method_2_code (2 : Nat) (Option.none : Option Jvm.ClassFile.FieldType)) ∈ lw_all := lw_g (lw_at lw_m5 44 rfl) rfl
theorem q1738 : (Jvm.Cond.sameMethod "java/lang/Throwable" "java/lang/Throwable" "fillInStackTrace" "(I)Ljava/lang/Throwable;") ∈ lw_all := lw_g (lw_at lw_m7 207 rfl) rfl
theorem in_J1 : ∀ w ∈ wsJ10, w ∈ lw_all := lw_in wsJ10 [181, 183, 185, 187, 189] (by decide +kernel) (by decide +kernel)
/-! java/lang/NegativeArraySizeException -/
set_option maxRecDepth 100000
def RJ10 : String := "java/lang/NegativeArraySizeException"
def TJ10 : u_T := fun k => match k with
  | 0 => ("java/lang/Throwable", "backtrace", "Ljava/lang/Object;", false)
  | 1 => ("java/lang/Throwable", "detailMessage", "Ljava/lang/String;", false)
  | 2 => ("java/lang/Throwable", "cause", "Ljava/lang/Throwable;", false)
  | 3 => ("java/lang/Throwable", "stackTrace", "[Ljava/lang/StackTraceElement;", false)
  | 4 => ("java/lang/Throwable", "depth", "I", false)
  | _ => ("java/lang/Throwable", "suppressedExceptions", "Ljava/util/List;", false)
def tyJ10 : Nat → FieldType := fun k => match k with
  | 0 => .object "java/lang/Object"
  | 1 => .object "java/lang/String"
  | 2 => .object "java/lang/Throwable"
  | 3 => .array (.object "java/lang/StackTraceElement")
  | 4 => .int
  | _ => .object "java/util/List"
abbrev wsJ100 : List Cond := u_ws RJ10 TJ10 6
theorem nmJ10 : ∀ a, a < 6 → ∀ b, b < 6 → a ≠ b → (TJ10 a).2.1 ≠ (TJ10 b).2.1 := by decide +kernel
theorem tyJ10_ok : ∀ k, k < 6 → parseFieldDescriptor (TJ10 k).2.2.1 = some (tyJ10 k) := by decide +kernel
abbrev cJ10_init : ByteArray := prog_21_method_2_code
def yJ10_init : MethodName := ⟨RJ10, "<init>", "(Ljava/lang/String;)V"⟩
def dkwJ10_init_0 : List UInt8 := [42, 43, 183, 0, 7, 177]
abbrev dktJ10_init_0 : List UInt8 := dkwJ10_init_0 ++ []
theorem dksJ10_init_0 : cJ10_init.data.toList.drop 0 = dktJ10_init_0 := by decide +kernel
theorem dJ10_init_0 : decode cJ10_init 0 = .ok (.aload_n 0, 1) := dk_42 (dk_at dksJ10_init_0 0 rfl rfl)
theorem dJ10_init_1 : decode cJ10_init 1 = .ok (.aload_n 1, 1) := dk_43 (dk_at dksJ10_init_0 1 rfl rfl)
theorem dJ10_init_2 : decode cJ10_init 2 = .ok (.invokespecial 7, 3) := dk_183 0 7 (dk_at dksJ10_init_0 2 rfl rfl)
theorem dJ10_init_5 : decode cJ10_init 5 = .ok (.return_, 1) := dk_177 (dk_at dksJ10_init_0 5 rfl rfl)
theorem q116 : (Jvm.Cond.initialized "java/lang/NegativeArraySizeException") ∈ lw_all := lw_g (lw_at lw_m1 25 rfl) rfl
theorem q204 : (Jvm.Cond.selects "java/lang/NegativeArraySizeException" ({ cls := "java/lang/Throwable", name := "fillInStackTrace", desc := "()Ljava/lang/Throwable;" } : Jvm.MethodName) ({ cls := "java/lang/Throwable", name := "fillInStackTrace", desc := "()Ljava/lang/Throwable;" } : Jvm.MethodName)) ∈ lw_all := lw_g (lw_at lw_m1 113 rfl) rfl
theorem q1084 : (Jvm.Cond.instantiable "java/lang/NegativeArraySizeException" (6 : Nat)) ∈ lw_all := lw_g (lw_at lw_m5 33 rfl) rfl
theorem q1085 : (Jvm.Cond.instanceMethod ({ cls := "java/lang/NegativeArraySizeException", name := "<init>", desc := "(Ljava/lang/String;)V" } : Jvm.MethodName)) ∈ lw_all := lw_g (lw_at lw_m5 34 rfl) rfl
theorem q1086 : (Jvm.Cond.code ({ cls := "java/lang/NegativeArraySizeException", name := "<init>", desc := "(Ljava/lang/String;)V" } : Jvm.MethodName) prog_21_method_2_code (2 : Nat) (Option.none : Option Jvm.ClassFile.FieldType)) ∈ lw_all := lw_g (lw_at lw_m5 35 rfl) rfl
theorem q1087 : (Jvm.Cond.methodLink "java/lang/NegativeArraySizeException" (7 : Nat) ({ cls := "java/lang/RuntimeException", name := "<init>", desc := "(Ljava/lang/String;)V" } : Jvm.MethodName)) ∈ lw_all := lw_g (lw_at lw_m5 36 rfl) rfl
theorem q1096 : (Jvm.Cond.lays "java/lang/NegativeArraySizeException" "java/lang/Throwable" "backtrace" "Ljava/lang/Object;") ∈ lw_all := lw_g (lw_at lw_m5 45 rfl) rfl
theorem q1097 : (Jvm.Cond.lays "java/lang/NegativeArraySizeException" "java/lang/Throwable" "detailMessage" "Ljava/lang/String;") ∈ lw_all := lw_g (lw_at lw_m5 46 rfl) rfl
theorem q1098 : (Jvm.Cond.lays "java/lang/NegativeArraySizeException" "java/lang/Throwable" "cause" "Ljava/lang/Throwable;") ∈ lw_all := lw_g (lw_at lw_m5 47 rfl) rfl
theorem q1099 : (Jvm.Cond.lays "java/lang/NegativeArraySizeException" "java/lang/Throwable" "stackTrace" "[Ljava/lang/StackTraceElement;") ∈ lw_all := lw_g (lw_at lw_m5 48 rfl) rfl
theorem q1100 : (Jvm.Cond.lays "java/lang/NegativeArraySizeException" "java/lang/Throwable" "depth" "I") ∈ lw_all := lw_g (lw_at lw_m5 49 rfl) rfl
theorem q1101 : (Jvm.Cond.lays "java/lang/NegativeArraySizeException" "java/lang/Throwable" "suppressedExceptions" "Ljava/util/List;") ∈ lw_all := lw_g (lw_at lw_m5 50 rfl) rfl
theorem q1102 : (Jvm.Cond.superclass "java/lang/NegativeArraySizeException" "java/lang/RuntimeException") ∈ lw_all := lw_g (lw_at lw_m5 51 rfl) rfl
theorem q1103 : (Jvm.Cond.castable "java/lang/NegativeArraySizeException" "java/lang/NegativeArraySizeException") ∈ lw_tbl := lw_at lw_m5 52 rfl
theorem q1104 : (Jvm.Cond.selects "java/lang/NegativeArraySizeException" ({ cls := "java/lang/Throwable", name := "fillInStackTrace", desc := "(I)Ljava/lang/Throwable;" } : Jvm.MethodName) ({ cls := "java/lang/Throwable", name := "fillInStackTrace", desc := "(I)Ljava/lang/Throwable;" } : Jvm.MethodName)) ∈ lw_all := lw_g (lw_at lw_m5 53 rfl) rfl
theorem in_J10 : ∀ w ∈ wsJ100, w ∈ lw_all := lw_in wsJ100 [1096, 1097, 1098, 1099, 1100, 1101] (by decide +kernel) (by decide +kernel)
/-! java/lang/NullPointerException -/
set_option maxRecDepth 100000
def RJ11 : String := "java/lang/NullPointerException"
def TJ11 : u_T := fun k => match k with
  | 0 => ("java/lang/Throwable", "backtrace", "Ljava/lang/Object;", false)
  | 1 => ("java/lang/Throwable", "detailMessage", "Ljava/lang/String;", false)
  | 2 => ("java/lang/Throwable", "cause", "Ljava/lang/Throwable;", false)
  | 3 => ("java/lang/Throwable", "stackTrace", "[Ljava/lang/StackTraceElement;", false)
  | 4 => ("java/lang/Throwable", "depth", "I", false)
  | 5 => ("java/lang/Throwable", "suppressedExceptions", "Ljava/util/List;", false)
  | 6 => ("java/lang/NullPointerException", "extendedMessageState", "I", false)
  | _ => ("java/lang/NullPointerException", "extendedMessage", "Ljava/lang/String;", false)
def tyJ11 : Nat → FieldType := fun k => match k with
  | 0 => .object "java/lang/Object"
  | 1 => .object "java/lang/String"
  | 2 => .object "java/lang/Throwable"
  | 3 => .array (.object "java/lang/StackTraceElement")
  | 4 => .int
  | 5 => .object "java/util/List"
  | 6 => .int
  | _ => .object "java/lang/String"
abbrev wsJ110 : List Cond := u_ws RJ11 TJ11 8
theorem nmJ11 : ∀ a, a < 8 → ∀ b, b < 8 → a ≠ b → (TJ11 a).2.1 ≠ (TJ11 b).2.1 := by decide +kernel
theorem tyJ11_ok : ∀ k, k < 8 → parseFieldDescriptor (TJ11 k).2.2.1 = some (tyJ11 k) := by decide +kernel
abbrev cJ11_init : ByteArray := prog_22_method_1_code
def yJ11_init : MethodName := ⟨RJ11, "<init>", "()V"⟩
theorem dJ11_init_0 : decode cJ11_init 0 = .ok (.aload_n 0, 1) := by decide +kernel
theorem dJ11_init_1 : decode cJ11_init 1 = .ok (.invokespecial 1, 3) := by decide +kernel
theorem dJ11_init_4 : decode cJ11_init 4 = .ok (.return_, 1) := by decide +kernel
theorem q117 : (Jvm.Cond.initialized "java/lang/NullPointerException") ∈ lw_all := lw_g (lw_at lw_m1 26 rfl) rfl
theorem q205 : (Jvm.Cond.selects "java/lang/NullPointerException" ({ cls := "java/lang/Throwable", name := "fillInStackTrace", desc := "()Ljava/lang/Throwable;" } : Jvm.MethodName) ({ cls := "java/lang/NullPointerException", name := "fillInStackTrace", desc := "()Ljava/lang/Throwable;" } : Jvm.MethodName)) ∈ lw_all := lw_g (lw_at lw_m1 114 rfl) rfl
theorem q206 : (Jvm.Cond.instanceMethod ({ cls := "java/lang/NullPointerException", name := "fillInStackTrace", desc := "()Ljava/lang/Throwable;" } : Jvm.MethodName)) ∈ lw_all := lw_g (lw_at lw_m1 115 rfl) rfl
theorem q207 : (Jvm.Cond.codeSync ({ cls := "java/lang/NullPointerException", name := "fillInStackTrace", desc := "()Ljava/lang/Throwable;" } : Jvm.MethodName) prog_22_method_3_code (1 : Nat) (Option.some (Jvm.ClassFile.FieldType.object "java/lang/Throwable"))) ∈ lw_all := lw_g (lw_at lw_m1 116 rfl) rfl
theorem q208 : (Jvm.Cond.methodLink "java/lang/NullPointerException" (16 : Nat) ({ cls := "java/lang/NullPointerException", name := "getExtendedNPEMessage", desc := "()Ljava/lang/String;" } : Jvm.MethodName)) ∈ lw_all := lw_g (lw_at lw_m1 117 rfl) rfl
theorem q209 : (Jvm.Cond.privateMethod ({ cls := "java/lang/NullPointerException", name := "getExtendedNPEMessage", desc := "()Ljava/lang/String;" } : Jvm.MethodName)) ∈ lw_tbl := lw_at lw_m1 118 rfl
theorem q210 : (Jvm.Cond.instanceMethod ({ cls := "java/lang/NullPointerException", name := "getExtendedNPEMessage", desc := "()Ljava/lang/String;" } : Jvm.MethodName)) ∈ lw_all := lw_g (lw_at lw_m1 119 rfl) rfl
theorem q211 : (Jvm.Cond.instantiable "java/lang/NullPointerException" (8 : Nat)) ∈ lw_all := lw_g (lw_at lw_m1 120 rfl) rfl
theorem q212 : (Jvm.Cond.native ({ cls := "java/lang/NullPointerException", name := "getExtendedNPEMessage", desc := "()Ljava/lang/String;" } : Jvm.MethodName)) ∈ lw_all := lw_g (lw_at lw_m1 121 rfl) rfl
theorem q213 : (Jvm.Cond.methodLink "java/lang/NullPointerException" (24 : Nat) ({ cls := "java/lang/RuntimeException", name := "fillInStackTrace", desc := "()Ljava/lang/Throwable;" } : Jvm.MethodName)) ∈ lw_all := lw_g (lw_at lw_m1 122 rfl) rfl
theorem q216 : (Jvm.Cond.superclass "java/lang/NullPointerException" "java/lang/RuntimeException") ∈ lw_all := lw_g (lw_at lw_m1 125 rfl) rfl
theorem q1119 : (Jvm.Cond.instanceMethod ({ cls := "java/lang/NullPointerException", name := "<init>", desc := "()V" } : Jvm.MethodName)) ∈ lw_all := lw_g (lw_at lw_m5 68 rfl) rfl
theorem q1120 : (Jvm.Cond.code ({ cls := "java/lang/NullPointerException", name := "<init>", desc := "()V" } : Jvm.MethodName) prog_22_method_1_code (1 : Nat) (Option.none : Option Jvm.ClassFile.FieldType)) ∈ lw_all := lw_g (lw_at lw_m5 69 rfl) rfl
theorem q1121 : (Jvm.Cond.methodLink "java/lang/NullPointerException" (1 : Nat) ({ cls := "java/lang/RuntimeException", name := "<init>", desc := "()V" } : Jvm.MethodName)) ∈ lw_all := lw_g (lw_at lw_m5 70 rfl) rfl
theorem q1128 : (Jvm.Cond.fieldLink "java/lang/NullPointerException" (10 : Nat) "java/lang/NullPointerException" "extendedMessageState" "I") ∈ lw_all := lw_g (lw_at lw_m5 77 rfl) rfl
theorem q1129 : (Jvm.Cond.fieldLink "java/lang/NullPointerException" (20 : Nat) "java/lang/NullPointerException" "extendedMessage" "Ljava/lang/String;") ∈ lw_all := lw_g (lw_at lw_m5 78 rfl) rfl
theorem q1130 : (Jvm.Cond.lays "java/lang/NullPointerException" "java/lang/NullPointerException" "extendedMessageState" "I") ∈ lw_all := lw_g (lw_at lw_m5 79 rfl) rfl
theorem q1131 : (Jvm.Cond.soleField "java/lang/NullPointerException" "extendedMessageState") ∈ lw_all := lw_g (lw_at lw_m5 80 rfl) rfl
theorem q1132 : (Jvm.Cond.lays "java/lang/NullPointerException" "java/lang/NullPointerException" "extendedMessage" "Ljava/lang/String;") ∈ lw_all := lw_g (lw_at lw_m5 81 rfl) rfl
theorem q1133 : (Jvm.Cond.soleField "java/lang/NullPointerException" "extendedMessage") ∈ lw_all := lw_g (lw_at lw_m5 82 rfl) rfl
theorem q1134 : (Jvm.Cond.lays "java/lang/NullPointerException" "java/lang/Throwable" "backtrace" "Ljava/lang/Object;") ∈ lw_all := lw_g (lw_at lw_m5 83 rfl) rfl
theorem q1135 : (Jvm.Cond.lays "java/lang/NullPointerException" "java/lang/Throwable" "detailMessage" "Ljava/lang/String;") ∈ lw_all := lw_g (lw_at lw_m5 84 rfl) rfl
theorem q1136 : (Jvm.Cond.lays "java/lang/NullPointerException" "java/lang/Throwable" "cause" "Ljava/lang/Throwable;") ∈ lw_all := lw_g (lw_at lw_m5 85 rfl) rfl
theorem q1137 : (Jvm.Cond.lays "java/lang/NullPointerException" "java/lang/Throwable" "stackTrace" "[Ljava/lang/StackTraceElement;") ∈ lw_all := lw_g (lw_at lw_m5 86 rfl) rfl
theorem q1138 : (Jvm.Cond.lays "java/lang/NullPointerException" "java/lang/Throwable" "depth" "I") ∈ lw_all := lw_g (lw_at lw_m5 87 rfl) rfl
theorem q1139 : (Jvm.Cond.lays "java/lang/NullPointerException" "java/lang/Throwable" "suppressedExceptions" "Ljava/util/List;") ∈ lw_all := lw_g (lw_at lw_m5 88 rfl) rfl
theorem q1140 : (Jvm.Cond.castable "java/lang/NullPointerException" "java/lang/NullPointerException") ∈ lw_tbl := lw_at lw_m5 89 rfl
theorem q1141 : (Jvm.Cond.selects "java/lang/NullPointerException" ({ cls := "java/lang/Throwable", name := "fillInStackTrace", desc := "(I)Ljava/lang/Throwable;" } : Jvm.MethodName) ({ cls := "java/lang/Throwable", name := "fillInStackTrace", desc := "(I)Ljava/lang/Throwable;" } : Jvm.MethodName)) ∈ lw_all := lw_g (lw_at lw_m5 90 rfl) rfl
theorem in_J11 : ∀ w ∈ wsJ110, w ∈ lw_all := lw_in wsJ110 [1134, 1135, 1136, 1137, 1138, 1139, 1130, 1132] (by decide +kernel) (by decide +kernel)
/-! java/lang/IndexOutOfBoundsException -/
set_option maxRecDepth 100000
def RJ12 : String := "java/lang/IndexOutOfBoundsException"
abbrev cJ12_init : ByteArray := prog_18_method_2_code
def yJ12_init : MethodName := ⟨RJ12, "<init>", "(Ljava/lang/String;)V"⟩
def dkwJ12_init_0 : List UInt8 := [42, 43, 183, 0, 7, 177]
abbrev dktJ12_init_0 : List UInt8 := dkwJ12_init_0 ++ []
theorem dksJ12_init_0 : cJ12_init.data.toList.drop 0 = dktJ12_init_0 := by decide +kernel
theorem dJ12_init_0 : decode cJ12_init 0 = .ok (.aload_n 0, 1) := dk_42 (dk_at dksJ12_init_0 0 rfl rfl)
theorem dJ12_init_1 : decode cJ12_init 1 = .ok (.aload_n 1, 1) := dk_43 (dk_at dksJ12_init_0 1 rfl rfl)
theorem dJ12_init_2 : decode cJ12_init 2 = .ok (.invokespecial 7, 3) := dk_183 0 7 (dk_at dksJ12_init_0 2 rfl rfl)
theorem dJ12_init_5 : decode cJ12_init 5 = .ok (.return_, 1) := dk_177 (dk_at dksJ12_init_0 5 rfl rfl)
theorem q118 : (Jvm.Cond.initialized "java/lang/IndexOutOfBoundsException") ∈ lw_all := lw_g (lw_at lw_m1 27 rfl) rfl
theorem q1148 : (Jvm.Cond.instanceMethod ({ cls := "java/lang/IndexOutOfBoundsException", name := "<init>", desc := "(Ljava/lang/String;)V" } : Jvm.MethodName)) ∈ lw_all := lw_g (lw_at lw_m5 97 rfl) rfl
theorem q1149 : (Jvm.Cond.code ({ cls := "java/lang/IndexOutOfBoundsException", name := "<init>", desc := "(Ljava/lang/String;)V" } : Jvm.MethodName) prog_18_method_2_code (2 : Nat) (Option.none : Option Jvm.ClassFile.FieldType)) ∈ lw_all := lw_g (lw_at lw_m5 98 rfl) rfl
theorem q1150 : (Jvm.Cond.methodLink "java/lang/IndexOutOfBoundsException" (7 : Nat) ({ cls := "java/lang/RuntimeException", name := "<init>", desc := "(Ljava/lang/String;)V" } : Jvm.MethodName)) ∈ lw_all := lw_g (lw_at lw_m5 99 rfl) rfl
theorem q1159 : (Jvm.Cond.declares ({ cls := "java/lang/IndexOutOfBoundsException", name := "<init>", desc := "()V" } : Jvm.MethodName)) ∈ lw_tbl := lw_at lw_m5 108 rfl
theorem q1160 : (Jvm.Cond.declares ({ cls := "java/lang/IndexOutOfBoundsException", name := "<init>", desc := "(Ljava/lang/String;)V" } : Jvm.MethodName)) ∈ lw_tbl := lw_at lw_m5 109 rfl
/-! java/lang/ArrayIndexOutOfBoundsException -/
set_option maxRecDepth 100000
def RJ13 : String := "java/lang/ArrayIndexOutOfBoundsException"
def TJ13 : u_T := fun k => match k with
  | 0 => ("java/lang/Throwable", "backtrace", "Ljava/lang/Object;", false)
  | 1 => ("java/lang/Throwable", "detailMessage", "Ljava/lang/String;", false)
  | 2 => ("java/lang/Throwable", "cause", "Ljava/lang/Throwable;", false)
  | 3 => ("java/lang/Throwable", "stackTrace", "[Ljava/lang/StackTraceElement;", false)
  | 4 => ("java/lang/Throwable", "depth", "I", false)
  | _ => ("java/lang/Throwable", "suppressedExceptions", "Ljava/util/List;", false)
def tyJ13 : Nat → FieldType := fun k => match k with
  | 0 => .object "java/lang/Object"
  | 1 => .object "java/lang/String"
  | 2 => .object "java/lang/Throwable"
  | 3 => .array (.object "java/lang/StackTraceElement")
  | 4 => .int
  | _ => .object "java/util/List"
abbrev wsJ130 : List Cond := u_ws RJ13 TJ13 6
theorem nmJ13 : ∀ a, a < 6 → ∀ b, b < 6 → a ≠ b → (TJ13 a).2.1 ≠ (TJ13 b).2.1 := by decide +kernel
theorem tyJ13_ok : ∀ k, k < 6 → parseFieldDescriptor (TJ13 k).2.2.1 = some (tyJ13 k) := by decide +kernel
abbrev cJ13_init : ByteArray := prog_15_method_2_code
def yJ13_init : MethodName := ⟨RJ13, "<init>", "(Ljava/lang/String;)V"⟩
def dkwJ13_init_0 : List UInt8 := [42, 43, 183, 0, 7, 177]
abbrev dktJ13_init_0 : List UInt8 := dkwJ13_init_0 ++ []
theorem dksJ13_init_0 : cJ13_init.data.toList.drop 0 = dktJ13_init_0 := by decide +kernel
theorem dJ13_init_0 : decode cJ13_init 0 = .ok (.aload_n 0, 1) := dk_42 (dk_at dksJ13_init_0 0 rfl rfl)
theorem dJ13_init_1 : decode cJ13_init 1 = .ok (.aload_n 1, 1) := dk_43 (dk_at dksJ13_init_0 1 rfl rfl)
theorem dJ13_init_2 : decode cJ13_init 2 = .ok (.invokespecial 7, 3) := dk_183 0 7 (dk_at dksJ13_init_0 2 rfl rfl)
theorem dJ13_init_5 : decode cJ13_init 5 = .ok (.return_, 1) := dk_177 (dk_at dksJ13_init_0 5 rfl rfl)
theorem q119 : (Jvm.Cond.initialized "java/lang/ArrayIndexOutOfBoundsException") ∈ lw_all := lw_g (lw_at lw_m1 28 rfl) rfl
theorem q202 : (Jvm.Cond.selects "java/lang/ArrayIndexOutOfBoundsException" ({ cls := "java/lang/Throwable", name := "fillInStackTrace", desc := "()Ljava/lang/Throwable;" } : Jvm.MethodName) ({ cls := "java/lang/Throwable", name := "fillInStackTrace", desc := "()Ljava/lang/Throwable;" } : Jvm.MethodName)) ∈ lw_all := lw_g (lw_at lw_m1 111 rfl) rfl
theorem q1144 : (Jvm.Cond.instantiable "java/lang/ArrayIndexOutOfBoundsException" (6 : Nat)) ∈ lw_all := lw_g (lw_at lw_m5 93 rfl) rfl
theorem q1145 : (Jvm.Cond.instanceMethod ({ cls := "java/lang/ArrayIndexOutOfBoundsException", name := "<init>", desc := "(Ljava/lang/String;)V" } : Jvm.MethodName)) ∈ lw_all := lw_g (lw_at lw_m5 94 rfl) rfl
theorem q1146 : (Jvm.Cond.code ({ cls := "java/lang/ArrayIndexOutOfBoundsException", name := "<init>", desc := "(Ljava/lang/String;)V" } : Jvm.MethodName) prog_15_method_2_code (2 : Nat) (Option.none : Option Jvm.ClassFile.FieldType)) ∈ lw_all := lw_g (lw_at lw_m5 95 rfl) rfl
theorem q1147 : (Jvm.Cond.methodLink "java/lang/ArrayIndexOutOfBoundsException" (7 : Nat) ({ cls := "java/lang/IndexOutOfBoundsException", name := "<init>", desc := "(Ljava/lang/String;)V" } : Jvm.MethodName)) ∈ lw_all := lw_g (lw_at lw_m5 96 rfl) rfl
theorem q1151 : (Jvm.Cond.lays "java/lang/ArrayIndexOutOfBoundsException" "java/lang/Throwable" "backtrace" "Ljava/lang/Object;") ∈ lw_all := lw_g (lw_at lw_m5 100 rfl) rfl
theorem q1152 : (Jvm.Cond.lays "java/lang/ArrayIndexOutOfBoundsException" "java/lang/Throwable" "detailMessage" "Ljava/lang/String;") ∈ lw_all := lw_g (lw_at lw_m5 101 rfl) rfl
theorem q1153 : (Jvm.Cond.lays "java/lang/ArrayIndexOutOfBoundsException" "java/lang/Throwable" "cause" "Ljava/lang/Throwable;") ∈ lw_all := lw_g (lw_at lw_m5 102 rfl) rfl
theorem q1154 : (Jvm.Cond.lays "java/lang/ArrayIndexOutOfBoundsException" "java/lang/Throwable" "stackTrace" "[Ljava/lang/StackTraceElement;") ∈ lw_all := lw_g (lw_at lw_m5 103 rfl) rfl
theorem q1155 : (Jvm.Cond.lays "java/lang/ArrayIndexOutOfBoundsException" "java/lang/Throwable" "depth" "I") ∈ lw_all := lw_g (lw_at lw_m5 104 rfl) rfl
theorem q1156 : (Jvm.Cond.lays "java/lang/ArrayIndexOutOfBoundsException" "java/lang/Throwable" "suppressedExceptions" "Ljava/util/List;") ∈ lw_all := lw_g (lw_at lw_m5 105 rfl) rfl
theorem q1157 : (Jvm.Cond.superclass "java/lang/ArrayIndexOutOfBoundsException" "java/lang/IndexOutOfBoundsException") ∈ lw_all := lw_g (lw_at lw_m5 106 rfl) rfl
theorem q1158 : (Jvm.Cond.castable "java/lang/ArrayIndexOutOfBoundsException" "java/lang/ArrayIndexOutOfBoundsException") ∈ lw_tbl := lw_at lw_m5 107 rfl
theorem q1161 : (Jvm.Cond.selects "java/lang/ArrayIndexOutOfBoundsException" ({ cls := "java/lang/Throwable", name := "fillInStackTrace", desc := "(I)Ljava/lang/Throwable;" } : Jvm.MethodName) ({ cls := "java/lang/Throwable", name := "fillInStackTrace", desc := "(I)Ljava/lang/Throwable;" } : Jvm.MethodName)) ∈ lw_all := lw_g (lw_at lw_m5 110 rfl) rfl
theorem in_J13 : ∀ w ∈ wsJ130, w ∈ lw_all := lw_in wsJ130 [1151, 1152, 1153, 1154, 1155, 1156] (by decide +kernel) (by decide +kernel)
/-! java/lang/ClassCastException -/
set_option maxRecDepth 100000
def RJ14 : String := "java/lang/ClassCastException"
def TJ14 : u_T := fun k => match k with
  | 0 => ("java/lang/Throwable", "backtrace", "Ljava/lang/Object;", false)
  | 1 => ("java/lang/Throwable", "detailMessage", "Ljava/lang/String;", false)
  | 2 => ("java/lang/Throwable", "cause", "Ljava/lang/Throwable;", false)
  | 3 => ("java/lang/Throwable", "stackTrace", "[Ljava/lang/StackTraceElement;", false)
  | 4 => ("java/lang/Throwable", "depth", "I", false)
  | _ => ("java/lang/Throwable", "suppressedExceptions", "Ljava/util/List;", false)
def tyJ14 : Nat → FieldType := fun k => match k with
  | 0 => .object "java/lang/Object"
  | 1 => .object "java/lang/String"
  | 2 => .object "java/lang/Throwable"
  | 3 => .array (.object "java/lang/StackTraceElement")
  | 4 => .int
  | _ => .object "java/util/List"
abbrev wsJ140 : List Cond := u_ws RJ14 TJ14 6
theorem nmJ14 : ∀ a, a < 6 → ∀ b, b < 6 → a ≠ b → (TJ14 a).2.1 ≠ (TJ14 b).2.1 := by decide +kernel
theorem tyJ14_ok : ∀ k, k < 6 → parseFieldDescriptor (TJ14 k).2.2.1 = some (tyJ14 k) := by decide +kernel
abbrev cJ14_init : ByteArray := prog_16_method_2_code
def yJ14_init : MethodName := ⟨RJ14, "<init>", "(Ljava/lang/String;)V"⟩
def dkwJ14_init_0 : List UInt8 := [42, 43, 183, 0, 7, 177]
abbrev dktJ14_init_0 : List UInt8 := dkwJ14_init_0 ++ []
theorem dksJ14_init_0 : cJ14_init.data.toList.drop 0 = dktJ14_init_0 := by decide +kernel
theorem dJ14_init_0 : decode cJ14_init 0 = .ok (.aload_n 0, 1) := dk_42 (dk_at dksJ14_init_0 0 rfl rfl)
theorem dJ14_init_1 : decode cJ14_init 1 = .ok (.aload_n 1, 1) := dk_43 (dk_at dksJ14_init_0 1 rfl rfl)
theorem dJ14_init_2 : decode cJ14_init 2 = .ok (.invokespecial 7, 3) := dk_183 0 7 (dk_at dksJ14_init_0 2 rfl rfl)
theorem dJ14_init_5 : decode cJ14_init 5 = .ok (.return_, 1) := dk_177 (dk_at dksJ14_init_0 5 rfl rfl)
theorem q120 : (Jvm.Cond.initialized "java/lang/ClassCastException") ∈ lw_all := lw_g (lw_at lw_m1 29 rfl) rfl
theorem q203 : (Jvm.Cond.selects "java/lang/ClassCastException" ({ cls := "java/lang/Throwable", name := "fillInStackTrace", desc := "()Ljava/lang/Throwable;" } : Jvm.MethodName) ({ cls := "java/lang/Throwable", name := "fillInStackTrace", desc := "()Ljava/lang/Throwable;" } : Jvm.MethodName)) ∈ lw_all := lw_g (lw_at lw_m1 112 rfl) rfl
theorem q1175 : (Jvm.Cond.instantiable "java/lang/ClassCastException" (6 : Nat)) ∈ lw_all := lw_g (lw_at lw_m5 124 rfl) rfl
theorem q1176 : (Jvm.Cond.instanceMethod ({ cls := "java/lang/ClassCastException", name := "<init>", desc := "(Ljava/lang/String;)V" } : Jvm.MethodName)) ∈ lw_all := lw_g (lw_at lw_m5 125 rfl) rfl
theorem q1177 : (Jvm.Cond.code ({ cls := "java/lang/ClassCastException", name := "<init>", desc := "(Ljava/lang/String;)V" } : Jvm.MethodName) prog_16_method_2_code (2 : Nat) (Option.none : Option Jvm.ClassFile.FieldType)) ∈ lw_all := lw_g (lw_at lw_m5 126 rfl) rfl
theorem q1178 : (Jvm.Cond.methodLink "java/lang/ClassCastException" (7 : Nat) ({ cls := "java/lang/RuntimeException", name := "<init>", desc := "(Ljava/lang/String;)V" } : Jvm.MethodName)) ∈ lw_all := lw_g (lw_at lw_m5 127 rfl) rfl
theorem q1179 : (Jvm.Cond.lays "java/lang/ClassCastException" "java/lang/Throwable" "backtrace" "Ljava/lang/Object;") ∈ lw_all := lw_g (lw_at lw_m5 128 rfl) rfl
theorem q1180 : (Jvm.Cond.lays "java/lang/ClassCastException" "java/lang/Throwable" "detailMessage" "Ljava/lang/String;") ∈ lw_all := lw_g (lw_at lw_m5 129 rfl) rfl
theorem q1181 : (Jvm.Cond.lays "java/lang/ClassCastException" "java/lang/Throwable" "cause" "Ljava/lang/Throwable;") ∈ lw_all := lw_g (lw_at lw_m5 130 rfl) rfl
theorem q1182 : (Jvm.Cond.lays "java/lang/ClassCastException" "java/lang/Throwable" "stackTrace" "[Ljava/lang/StackTraceElement;") ∈ lw_all := lw_g (lw_at lw_m5 131 rfl) rfl
theorem q1183 : (Jvm.Cond.lays "java/lang/ClassCastException" "java/lang/Throwable" "depth" "I") ∈ lw_all := lw_g (lw_at lw_m5 132 rfl) rfl
theorem q1184 : (Jvm.Cond.lays "java/lang/ClassCastException" "java/lang/Throwable" "suppressedExceptions" "Ljava/util/List;") ∈ lw_all := lw_g (lw_at lw_m5 133 rfl) rfl
theorem q1185 : (Jvm.Cond.superclass "java/lang/ClassCastException" "java/lang/RuntimeException") ∈ lw_all := lw_g (lw_at lw_m5 134 rfl) rfl
theorem q1186 : (Jvm.Cond.castable "java/lang/ClassCastException" "java/lang/ClassCastException") ∈ lw_tbl := lw_at lw_m5 135 rfl
theorem q1187 : (Jvm.Cond.selects "java/lang/ClassCastException" ({ cls := "java/lang/Throwable", name := "fillInStackTrace", desc := "(I)Ljava/lang/Throwable;" } : Jvm.MethodName) ({ cls := "java/lang/Throwable", name := "fillInStackTrace", desc := "(I)Ljava/lang/Throwable;" } : Jvm.MethodName)) ∈ lw_all := lw_g (lw_at lw_m5 136 rfl) rfl
theorem in_J14 : ∀ w ∈ wsJ140, w ∈ lw_all := lw_in wsJ140 [1179, 1180, 1181, 1182, 1183, 1184] (by decide +kernel) (by decide +kernel)
/-! java/lang/Object -/
set_option maxRecDepth 100000
def RJ15 : String := "java/lang/Object"
abbrev cJ15_init : ByteArray := object_method_1_code
def yJ15_init : MethodName := ⟨RJ15, "<init>", "()V"⟩
theorem dJ15_init_0 : decode cJ15_init 0 = .ok (.return_, 1) := by decide +kernel
theorem q146 : (Jvm.Cond.instanceMethod ({ cls := "java/lang/Object", name := "<init>", desc := "()V" } : Jvm.MethodName)) ∈ lw_all := lw_g (lw_at lw_m1 55 rfl) rfl
theorem q147 : (Jvm.Cond.code ({ cls := "java/lang/Object", name := "<init>", desc := "()V" } : Jvm.MethodName) object_method_1_code (1 : Nat) (Option.none : Option Jvm.ClassFile.FieldType)) ∈ lw_all := lw_g (lw_at lw_m1 56 rfl) rfl
/-! java/lang/Exception -/
set_option maxRecDepth 100000
def RJ2 : String := "java/lang/Exception"
abbrev cJ2_init : ByteArray := prog_17_method_5_code
def yJ2_init : MethodName := ⟨RJ2, "<init>", "(Ljava/lang/String;Ljava/lang/Throwable;ZZ)V"⟩
def dkwJ2_init_0 : List UInt8 := [42, 43, 44, 29, 21, 4, 183, 0, 16, 177]
abbrev dktJ2_init_0 : List UInt8 := dkwJ2_init_0 ++ []
theorem dksJ2_init_0 : cJ2_init.data.toList.drop 0 = dktJ2_init_0 := by decide +kernel
theorem dJ2_init_0 : decode cJ2_init 0 = .ok (.aload_n 0, 1) := dk_42 (dk_at dksJ2_init_0 0 rfl rfl)
theorem dJ2_init_1 : decode cJ2_init 1 = .ok (.aload_n 1, 1) := dk_43 (dk_at dksJ2_init_0 1 rfl rfl)
theorem dJ2_init_2 : decode cJ2_init 2 = .ok (.aload_n 2, 1) := dk_44 (dk_at dksJ2_init_0 2 rfl rfl)
theorem dJ2_init_3 : decode cJ2_init 3 = .ok (.iload_n 3, 1) := dk_29 (dk_at dksJ2_init_0 3 rfl rfl)
theorem dJ2_init_4 : decode cJ2_init 4 = .ok (.iload 4, 2) := dk_21 4 (dk_at dksJ2_init_0 4 rfl rfl)
theorem dJ2_init_6 : decode cJ2_init 6 = .ok (.invokespecial 16, 3) := dk_183 0 16 (dk_at dksJ2_init_0 6 rfl rfl)
theorem dJ2_init_9 : decode cJ2_init 9 = .ok (.return_, 1) := dk_177 (dk_at dksJ2_init_0 9 rfl rfl)
abbrev cJ2_init_2 : ByteArray := prog_17_method_2_code
def yJ2_init_2 : MethodName := ⟨RJ2, "<init>", "(Ljava/lang/String;)V"⟩
def dkwJ2_init_2_0 : List UInt8 := [42, 43, 183, 0, 7, 177]
abbrev dktJ2_init_2_0 : List UInt8 := dkwJ2_init_2_0 ++ []
theorem dksJ2_init_2_0 : cJ2_init_2.data.toList.drop 0 = dktJ2_init_2_0 := by decide +kernel
theorem dJ2_init_2_0 : decode cJ2_init_2 0 = .ok (.aload_n 0, 1) := dk_42 (dk_at dksJ2_init_2_0 0 rfl rfl)
theorem dJ2_init_2_1 : decode cJ2_init_2 1 = .ok (.aload_n 1, 1) := dk_43 (dk_at dksJ2_init_2_0 1 rfl rfl)
theorem dJ2_init_2_2 : decode cJ2_init_2 2 = .ok (.invokespecial 7, 3) := dk_183 0 7 (dk_at dksJ2_init_2_0 2 rfl rfl)
theorem dJ2_init_2_5 : decode cJ2_init_2 5 = .ok (.return_, 1) := dk_177 (dk_at dksJ2_init_2_0 5 rfl rfl)
abbrev cJ2_init_3 : ByteArray := prog_17_method_1_code
def yJ2_init_3 : MethodName := ⟨RJ2, "<init>", "()V"⟩
theorem dJ2_init_3_0 : decode cJ2_init_3 0 = .ok (.aload_n 0, 1) := by decide +kernel
theorem dJ2_init_3_1 : decode cJ2_init_3 1 = .ok (.invokespecial 1, 3) := by decide +kernel
theorem dJ2_init_3_4 : decode cJ2_init_3 4 = .ok (.return_, 1) := by decide +kernel
theorem q102 : (Jvm.Cond.initialized "java/lang/Exception") ∈ lw_all := lw_g (lw_at lw_m1 11 rfl) rfl
theorem q174 : (Jvm.Cond.declares ({ cls := "java/lang/Exception", name := "<init>", desc := "()V" } : Jvm.MethodName)) ∈ lw_tbl := lw_at lw_m1 83 rfl
theorem q175 : (Jvm.Cond.declares ({ cls := "java/lang/Exception", name := "<init>", desc := "(Ljava/lang/String;)V" } : Jvm.MethodName)) ∈ lw_tbl := lw_at lw_m1 84 rfl
theorem q218 : (Jvm.Cond.superclass "java/lang/Exception" "java/lang/Throwable") ∈ lw_all := lw_g (lw_at lw_m1 127 rfl) rfl
theorem q232 : (Jvm.Cond.instanceMethod ({ cls := "java/lang/Exception", name := "<init>", desc := "(Ljava/lang/String;Ljava/lang/Throwable;ZZ)V" } : Jvm.MethodName)) ∈ lw_all := lw_g (lw_at lw_m1 141 rfl) rfl
theorem q233 : (Jvm.Cond.code ({ cls := "java/lang/Exception", name := "<init>", desc := "(Ljava/lang/String;Ljava/lang/Throwable;ZZ)V" } : Jvm.MethodName) prog_17_method_5_code (5 : Nat) (Option.none : Option Jvm.ClassFile.FieldType)) ∈ lw_all := lw_g (lw_at lw_m1 142 rfl) rfl
theorem q234 : (Jvm.Cond.methodLink "java/lang/Exception" (16 : Nat) ({ cls := "java/lang/Throwable", name := "<init>", desc := "(Ljava/lang/String;Ljava/lang/Throwable;ZZ)V" } : Jvm.MethodName)) ∈ lw_all := lw_g (lw_at lw_m1 143 rfl) rfl
theorem q1091 : (Jvm.Cond.instanceMethod ({ cls := "java/lang/Exception", name := "<init>", desc := "(Ljava/lang/String;)V" } : Jvm.MethodName)) ∈ lw_all := lw_g (lw_at lw_m5 40 rfl) rfl
theorem q1092 : (Jvm.Cond.code ({ cls := "java/lang/Exception", name := "<init>", desc := "(Ljava/lang/String;)V" } : Jvm.MethodName) prog_17_method_2_code (2 : Nat) (Option.none : Option Jvm.ClassFile.FieldType)) ∈ lw_all := lw_g (lw_at lw_m5 41 rfl) rfl
theorem q1093 : (Jvm.Cond.methodLink "java/lang/Exception" (7 : Nat) ({ cls := "java/lang/Throwable", name := "<init>", desc := "(Ljava/lang/String;)V" } : Jvm.MethodName)) ∈ lw_all := lw_g (lw_at lw_m5 42 rfl) rfl
theorem q1125 : (Jvm.Cond.instanceMethod ({ cls := "java/lang/Exception", name := "<init>", desc := "()V" } : Jvm.MethodName)) ∈ lw_all := lw_g (lw_at lw_m5 74 rfl) rfl
theorem q1126 : (Jvm.Cond.code ({ cls := "java/lang/Exception", name := "<init>", desc := "()V" } : Jvm.MethodName) prog_17_method_1_code (1 : Nat) (Option.none : Option Jvm.ClassFile.FieldType)) ∈ lw_all := lw_g (lw_at lw_m5 75 rfl) rfl
theorem q1127 : (Jvm.Cond.methodLink "java/lang/Exception" (1 : Nat) ({ cls := "java/lang/Throwable", name := "<init>", desc := "()V" } : Jvm.MethodName)) ∈ lw_all := lw_g (lw_at lw_m5 76 rfl) rfl
/-! java/lang/RuntimeException -/
set_option maxRecDepth 100000
def RJ3 : String := "java/lang/RuntimeException"
abbrev cJ3_init : ByteArray := prog_23_method_5_code
def yJ3_init : MethodName := ⟨RJ3, "<init>", "(Ljava/lang/String;Ljava/lang/Throwable;ZZ)V"⟩
def dkwJ3_init_0 : List UInt8 := [42, 43, 44, 29, 21, 4, 183, 0, 16, 177]
abbrev dktJ3_init_0 : List UInt8 := dkwJ3_init_0 ++ []
theorem dksJ3_init_0 : cJ3_init.data.toList.drop 0 = dktJ3_init_0 := by decide +kernel
theorem dJ3_init_0 : decode cJ3_init 0 = .ok (.aload_n 0, 1) := dk_42 (dk_at dksJ3_init_0 0 rfl rfl)
theorem dJ3_init_1 : decode cJ3_init 1 = .ok (.aload_n 1, 1) := dk_43 (dk_at dksJ3_init_0 1 rfl rfl)
theorem dJ3_init_2 : decode cJ3_init 2 = .ok (.aload_n 2, 1) := dk_44 (dk_at dksJ3_init_0 2 rfl rfl)
theorem dJ3_init_3 : decode cJ3_init 3 = .ok (.iload_n 3, 1) := dk_29 (dk_at dksJ3_init_0 3 rfl rfl)
theorem dJ3_init_4 : decode cJ3_init 4 = .ok (.iload 4, 2) := dk_21 4 (dk_at dksJ3_init_0 4 rfl rfl)
theorem dJ3_init_6 : decode cJ3_init 6 = .ok (.invokespecial 16, 3) := dk_183 0 16 (dk_at dksJ3_init_0 6 rfl rfl)
theorem dJ3_init_9 : decode cJ3_init 9 = .ok (.return_, 1) := dk_177 (dk_at dksJ3_init_0 9 rfl rfl)
abbrev cJ3_init_2 : ByteArray := prog_23_method_2_code
def yJ3_init_2 : MethodName := ⟨RJ3, "<init>", "(Ljava/lang/String;)V"⟩
def dkwJ3_init_2_0 : List UInt8 := [42, 43, 183, 0, 7, 177]
abbrev dktJ3_init_2_0 : List UInt8 := dkwJ3_init_2_0 ++ []
theorem dksJ3_init_2_0 : cJ3_init_2.data.toList.drop 0 = dktJ3_init_2_0 := by decide +kernel
theorem dJ3_init_2_0 : decode cJ3_init_2 0 = .ok (.aload_n 0, 1) := dk_42 (dk_at dksJ3_init_2_0 0 rfl rfl)
theorem dJ3_init_2_1 : decode cJ3_init_2 1 = .ok (.aload_n 1, 1) := dk_43 (dk_at dksJ3_init_2_0 1 rfl rfl)
theorem dJ3_init_2_2 : decode cJ3_init_2 2 = .ok (.invokespecial 7, 3) := dk_183 0 7 (dk_at dksJ3_init_2_0 2 rfl rfl)
theorem dJ3_init_2_5 : decode cJ3_init_2 5 = .ok (.return_, 1) := dk_177 (dk_at dksJ3_init_2_0 5 rfl rfl)
abbrev cJ3_init_3 : ByteArray := prog_23_method_1_code
def yJ3_init_3 : MethodName := ⟨RJ3, "<init>", "()V"⟩
theorem dJ3_init_3_0 : decode cJ3_init_3 0 = .ok (.aload_n 0, 1) := by decide +kernel
theorem dJ3_init_3_1 : decode cJ3_init_3 1 = .ok (.invokespecial 1, 3) := by decide +kernel
theorem dJ3_init_3_4 : decode cJ3_init_3 4 = .ok (.return_, 1) := by decide +kernel
theorem q103 : (Jvm.Cond.initialized "java/lang/RuntimeException") ∈ lw_all := lw_g (lw_at lw_m1 12 rfl) rfl
theorem q172 : (Jvm.Cond.declares ({ cls := "java/lang/RuntimeException", name := "<init>", desc := "()V" } : Jvm.MethodName)) ∈ lw_tbl := lw_at lw_m1 81 rfl
theorem q173 : (Jvm.Cond.declares ({ cls := "java/lang/RuntimeException", name := "<init>", desc := "(Ljava/lang/String;)V" } : Jvm.MethodName)) ∈ lw_tbl := lw_at lw_m1 82 rfl
theorem q214 : (Jvm.Cond.sameMethod "java/lang/RuntimeException" "java/lang/Throwable" "fillInStackTrace" "()Ljava/lang/Throwable;") ∈ lw_all := lw_g (lw_at lw_m1 123 rfl) rfl
theorem q217 : (Jvm.Cond.superclass "java/lang/RuntimeException" "java/lang/Exception") ∈ lw_all := lw_g (lw_at lw_m1 126 rfl) rfl
theorem q229 : (Jvm.Cond.instanceMethod ({ cls := "java/lang/RuntimeException", name := "<init>", desc := "(Ljava/lang/String;Ljava/lang/Throwable;ZZ)V" } : Jvm.MethodName)) ∈ lw_all := lw_g (lw_at lw_m1 138 rfl) rfl
theorem q230 : (Jvm.Cond.code ({ cls := "java/lang/RuntimeException", name := "<init>", desc := "(Ljava/lang/String;Ljava/lang/Throwable;ZZ)V" } : Jvm.MethodName) prog_23_method_5_code (5 : Nat) (Option.none : Option Jvm.ClassFile.FieldType)) ∈ lw_all := lw_g (lw_at lw_m1 139 rfl) rfl
theorem q231 : (Jvm.Cond.methodLink "java/lang/RuntimeException" (16 : Nat) ({ cls := "java/lang/Exception", name := "<init>", desc := "(Ljava/lang/String;Ljava/lang/Throwable;ZZ)V" } : Jvm.MethodName)) ∈ lw_all := lw_g (lw_at lw_m1 140 rfl) rfl
theorem q1088 : (Jvm.Cond.instanceMethod ({ cls := "java/lang/RuntimeException", name := "<init>", desc := "(Ljava/lang/String;)V" } : Jvm.MethodName)) ∈ lw_all := lw_g (lw_at lw_m5 37 rfl) rfl
theorem q1089 : (Jvm.Cond.code ({ cls := "java/lang/RuntimeException", name := "<init>", desc := "(Ljava/lang/String;)V" } : Jvm.MethodName) prog_23_method_2_code (2 : Nat) (Option.none : Option Jvm.ClassFile.FieldType)) ∈ lw_all := lw_g (lw_at lw_m5 38 rfl) rfl
theorem q1090 : (Jvm.Cond.methodLink "java/lang/RuntimeException" (7 : Nat) ({ cls := "java/lang/Exception", name := "<init>", desc := "(Ljava/lang/String;)V" } : Jvm.MethodName)) ∈ lw_all := lw_g (lw_at lw_m5 39 rfl) rfl
theorem q1122 : (Jvm.Cond.instanceMethod ({ cls := "java/lang/RuntimeException", name := "<init>", desc := "()V" } : Jvm.MethodName)) ∈ lw_all := lw_g (lw_at lw_m5 71 rfl) rfl
theorem q1123 : (Jvm.Cond.code ({ cls := "java/lang/RuntimeException", name := "<init>", desc := "()V" } : Jvm.MethodName) prog_23_method_1_code (1 : Nat) (Option.none : Option Jvm.ClassFile.FieldType)) ∈ lw_all := lw_g (lw_at lw_m5 72 rfl) rfl
theorem q1124 : (Jvm.Cond.methodLink "java/lang/RuntimeException" (1 : Nat) ({ cls := "java/lang/Exception", name := "<init>", desc := "()V" } : Jvm.MethodName)) ∈ lw_all := lw_g (lw_at lw_m5 73 rfl) rfl
theorem q1142 : (Jvm.Cond.castable "java/lang/RuntimeException" "java/lang/Throwable") ∈ lw_tbl := lw_at lw_m5 91 rfl
/-! java/lang/String -/
set_option maxRecDepth 100000
def RJ4 : String := "java/lang/String"
def TJ4 : u_T := fun k => match k with
  | 0 => ("java/lang/String", "value", "[B", true)
  | _ => ("java/lang/String", "coder", "B", true)
def tyJ4 : Nat → FieldType := fun k => match k with
  | 0 => .array .byte
  | _ => .byte
abbrev wsJ40 : List Cond := u_ws RJ4 TJ4 2
theorem nmJ4 : ∀ a, a < 2 → ∀ b, b < 2 → a ≠ b → (TJ4 a).2.1 ≠ (TJ4 b).2.1 := by decide +kernel
theorem tyJ4_ok : ∀ k, k < 2 → parseFieldDescriptor (TJ4 k).2.2.1 = some (tyJ4 k) := by decide +kernel
abbrev cJ4_length : ByteArray := prog_24_method_54_code
def yJ4_length : MethodName := ⟨RJ4, "length", "()I"⟩
def dkwJ4_length_0 : List UInt8 := [42, 180, 0, 9, 190, 42, 182, 1, 79, 122, 172]
abbrev dktJ4_length_0 : List UInt8 := dkwJ4_length_0 ++ []
theorem dksJ4_length_0 : cJ4_length.data.toList.drop 0 = dktJ4_length_0 := by decide +kernel
theorem dJ4_length_0 : decode cJ4_length 0 = .ok (.aload_n 0, 1) := dk_42 (dk_at dksJ4_length_0 0 rfl rfl)
theorem dJ4_length_1 : decode cJ4_length 1 = .ok (.getfield 9, 3) := dk_180 0 9 (dk_at dksJ4_length_0 1 rfl rfl)
theorem dJ4_length_4 : decode cJ4_length 4 = .ok (.arraylength, 1) := dk_190 (dk_at dksJ4_length_0 4 rfl rfl)
theorem dJ4_length_5 : decode cJ4_length 5 = .ok (.aload_n 0, 1) := dk_42 (dk_at dksJ4_length_0 5 rfl rfl)
theorem dJ4_length_6 : decode cJ4_length 6 = .ok (.invokevirtual 335, 3) := dk_182 1 79 (dk_at dksJ4_length_0 6 rfl rfl)
theorem dJ4_length_9 : decode cJ4_length 9 = .ok (.ishr, 1) := dk_122 (dk_at dksJ4_length_0 9 rfl rfl)
theorem dJ4_length_10 : decode cJ4_length 10 = .ok (.ireturn, 1) := dk_172 (dk_at dksJ4_length_0 10 rfl rfl)
abbrev cJ4_coder : ByteArray := prog_24_method_152_code
def yJ4_coder : MethodName := ⟨RJ4, "coder", "()B"⟩
def dkwJ4_coder_0 : List UInt8 := [178, 0, 38, 153, 0, 10, 42, 180, 0, 15, 167, 0, 4, 4, 172]
abbrev dktJ4_coder_0 : List UInt8 := dkwJ4_coder_0 ++ []
theorem dksJ4_coder_0 : cJ4_coder.data.toList.drop 0 = dktJ4_coder_0 := by decide +kernel
theorem dJ4_coder_0 : decode cJ4_coder 0 = .ok (.getstatic 38, 3) := dk_178 0 38 (dk_at dksJ4_coder_0 0 rfl rfl)
theorem dJ4_coder_3 : decode cJ4_coder 3 = .ok (.ifCond .eq 10, 3) := dk_153 0 10 (dk_at dksJ4_coder_0 3 rfl rfl)
theorem dJ4_coder_6 : decode cJ4_coder 6 = .ok (.aload_n 0, 1) := dk_42 (dk_at dksJ4_coder_0 6 rfl rfl)
theorem dJ4_coder_7 : decode cJ4_coder 7 = .ok (.getfield 15, 3) := dk_180 0 15 (dk_at dksJ4_coder_0 7 rfl rfl)
theorem dJ4_coder_10 : decode cJ4_coder 10 = .ok (.goto 4, 3) := dk_167 0 4 (dk_at dksJ4_coder_0 10 rfl rfl)
theorem dJ4_coder_13 : decode cJ4_coder 13 = .ok (.iconst 1, 1) := dk_4 (dk_at dksJ4_coder_0 13 rfl rfl)
theorem dJ4_coder_14 : decode cJ4_coder 14 = .ok (.ireturn, 1) := dk_172 (dk_at dksJ4_coder_0 14 rfl rfl)
abbrev cJ4_charAt : ByteArray := prog_24_method_56_code
def yJ4_charAt : MethodName := ⟨RJ4, "charAt", "(I)C"⟩
def dkwJ4_charAt_1 : List UInt8 := [172]
abbrev dktJ4_charAt_1 : List UInt8 := dkwJ4_charAt_1 ++ []
def dkwJ4_charAt_0 : List UInt8 := [42, 182, 1, 236, 153, 0, 12, 42, 180, 0, 9, 27, 184, 1, 239, 172, 42, 180, 0, 9, 27, 184, 1, 242]
abbrev dktJ4_charAt_0 : List UInt8 := dkwJ4_charAt_0 ++ dktJ4_charAt_1
theorem dksJ4_charAt_0 : cJ4_charAt.data.toList.drop 0 = dktJ4_charAt_0 := by decide +kernel
theorem dksJ4_charAt_1 : cJ4_charAt.data.toList.drop 24 = dktJ4_charAt_1 := dk_seg dksJ4_charAt_0 24 rfl rfl
theorem dJ4_charAt_0 : decode cJ4_charAt 0 = .ok (.aload_n 0, 1) := dk_42 (dk_at dksJ4_charAt_0 0 rfl rfl)
theorem dJ4_charAt_1 : decode cJ4_charAt 1 = .ok (.invokevirtual 492, 3) := dk_182 1 236 (dk_at dksJ4_charAt_0 1 rfl rfl)
theorem dJ4_charAt_4 : decode cJ4_charAt 4 = .ok (.ifCond .eq 12, 3) := dk_153 0 12 (dk_at dksJ4_charAt_0 4 rfl rfl)
theorem dJ4_charAt_7 : decode cJ4_charAt 7 = .ok (.aload_n 0, 1) := dk_42 (dk_at dksJ4_charAt_0 7 rfl rfl)
theorem dJ4_charAt_8 : decode cJ4_charAt 8 = .ok (.getfield 9, 3) := dk_180 0 9 (dk_at dksJ4_charAt_0 8 rfl rfl)
theorem dJ4_charAt_11 : decode cJ4_charAt 11 = .ok (.iload_n 1, 1) := dk_27 (dk_at dksJ4_charAt_0 11 rfl rfl)
theorem dJ4_charAt_12 : decode cJ4_charAt 12 = .ok (.invokestatic 495, 3) := dk_184 1 239 (dk_at dksJ4_charAt_0 12 rfl rfl)
theorem dJ4_charAt_15 : decode cJ4_charAt 15 = .ok (.ireturn, 1) := dk_172 (dk_at dksJ4_charAt_0 15 rfl rfl)
theorem dJ4_charAt_16 : decode cJ4_charAt 16 = .ok (.aload_n 0, 1) := dk_42 (dk_at dksJ4_charAt_0 16 rfl rfl)
theorem dJ4_charAt_17 : decode cJ4_charAt 17 = .ok (.getfield 9, 3) := dk_180 0 9 (dk_at dksJ4_charAt_0 17 rfl rfl)
theorem dJ4_charAt_20 : decode cJ4_charAt 20 = .ok (.iload_n 1, 1) := dk_27 (dk_at dksJ4_charAt_0 20 rfl rfl)
theorem dJ4_charAt_21 : decode cJ4_charAt 21 = .ok (.invokestatic 498, 3) := dk_184 1 242 (dk_at dksJ4_charAt_0 21 rfl rfl)
theorem dJ4_charAt_24 : decode cJ4_charAt 24 = .ok (.ireturn, 1) := dk_172 (dk_at dksJ4_charAt_1 0 rfl rfl)
abbrev cJ4_isLatin1 : ByteArray := prog_24_method_154_code
def yJ4_isLatin1 : MethodName := ⟨RJ4, "isLatin1", "()Z"⟩
def dkwJ4_isLatin1_0 : List UInt8 := [178, 0, 38, 153, 0, 14, 42, 180, 0, 15, 154, 0, 7, 4, 167, 0, 4, 3, 172]
abbrev dktJ4_isLatin1_0 : List UInt8 := dkwJ4_isLatin1_0 ++ []
theorem dksJ4_isLatin1_0 : cJ4_isLatin1.data.toList.drop 0 = dktJ4_isLatin1_0 := by decide +kernel
theorem dJ4_isLatin1_0 : decode cJ4_isLatin1 0 = .ok (.getstatic 38, 3) := dk_178 0 38 (dk_at dksJ4_isLatin1_0 0 rfl rfl)
theorem dJ4_isLatin1_3 : decode cJ4_isLatin1 3 = .ok (.ifCond .eq 14, 3) := dk_153 0 14 (dk_at dksJ4_isLatin1_0 3 rfl rfl)
theorem dJ4_isLatin1_6 : decode cJ4_isLatin1 6 = .ok (.aload_n 0, 1) := dk_42 (dk_at dksJ4_isLatin1_0 6 rfl rfl)
theorem dJ4_isLatin1_7 : decode cJ4_isLatin1 7 = .ok (.getfield 15, 3) := dk_180 0 15 (dk_at dksJ4_isLatin1_0 7 rfl rfl)
theorem dJ4_isLatin1_10 : decode cJ4_isLatin1 10 = .ok (.ifCond .ne 7, 3) := dk_154 0 7 (dk_at dksJ4_isLatin1_0 10 rfl rfl)
theorem dJ4_isLatin1_13 : decode cJ4_isLatin1 13 = .ok (.iconst 1, 1) := dk_4 (dk_at dksJ4_isLatin1_0 13 rfl rfl)
theorem dJ4_isLatin1_14 : decode cJ4_isLatin1 14 = .ok (.goto 4, 3) := dk_167 0 4 (dk_at dksJ4_isLatin1_0 14 rfl rfl)
theorem dJ4_isLatin1_17 : decode cJ4_isLatin1 17 = .ok (.iconst 0, 1) := dk_3 (dk_at dksJ4_isLatin1_0 17 rfl rfl)
theorem dJ4_isLatin1_18 : decode cJ4_isLatin1 18 = .ok (.ireturn, 1) := dk_172 (dk_at dksJ4_isLatin1_0 18 rfl rfl)
abbrev cJ4_checkIndex : ByteArray := prog_24_method_155_code
def yJ4_checkIndex : MethodName := ⟨RJ4, "checkIndex", "(II)V"⟩
def dkwJ4_checkIndex_0 : List UInt8 := [26, 27, 178, 4, 29, 184, 4, 35, 87, 177]
abbrev dktJ4_checkIndex_0 : List UInt8 := dkwJ4_checkIndex_0 ++ []
theorem dksJ4_checkIndex_0 : cJ4_checkIndex.data.toList.drop 0 = dktJ4_checkIndex_0 := by decide +kernel
theorem dJ4_checkIndex_0 : decode cJ4_checkIndex 0 = .ok (.iload_n 0, 1) := dk_26 (dk_at dksJ4_checkIndex_0 0 rfl rfl)
theorem dJ4_checkIndex_1 : decode cJ4_checkIndex 1 = .ok (.iload_n 1, 1) := dk_27 (dk_at dksJ4_checkIndex_0 1 rfl rfl)
theorem dJ4_checkIndex_2 : decode cJ4_checkIndex 2 = .ok (.getstatic 1053, 3) := dk_178 4 29 (dk_at dksJ4_checkIndex_0 2 rfl rfl)
theorem dJ4_checkIndex_5 : decode cJ4_checkIndex 5 = .ok (.invokestatic 1059, 3) := dk_184 4 35 (dk_at dksJ4_checkIndex_0 5 rfl rfl)
theorem dJ4_checkIndex_8 : decode cJ4_checkIndex 8 = .ok (.pop, 1) := dk_87 (dk_at dksJ4_checkIndex_0 8 rfl rfl)
theorem dJ4_checkIndex_9 : decode cJ4_checkIndex 9 = .ok (.return_, 1) := dk_177 (dk_at dksJ4_checkIndex_0 9 rfl rfl)
theorem q105 : (Jvm.Cond.initialized "java/lang/String") ∈ lw_all := lw_g (lw_at lw_m1 14 rfl) rfl
theorem q326 : (Jvm.Cond.instanceMethod ({ cls := "java/lang/String", name := "length", desc := "()I" } : Jvm.MethodName)) ∈ lw_all := lw_g (lw_at lw_m1 235 rfl) rfl
theorem q327 : (Jvm.Cond.selects "java/lang/String" ({ cls := "java/lang/String", name := "length", desc := "()I" } : Jvm.MethodName) ({ cls := "java/lang/String", name := "length", desc := "()I" } : Jvm.MethodName)) ∈ lw_all := lw_g (lw_at lw_m1 236 rfl) rfl
theorem q328 : (Jvm.Cond.code ({ cls := "java/lang/String", name := "length", desc := "()I" } : Jvm.MethodName) prog_24_method_54_code (1 : Nat) (Option.some Jvm.ClassFile.FieldType.int)) ∈ lw_all := lw_g (lw_at lw_m1 237 rfl) rfl
theorem q329 : (Jvm.Cond.methodLink "java/lang/String" (335 : Nat) ({ cls := "java/lang/String", name := "coder", desc := "()B" } : Jvm.MethodName)) ∈ lw_all := lw_g (lw_at lw_m1 238 rfl) rfl
theorem q330 : (Jvm.Cond.instanceMethod ({ cls := "java/lang/String", name := "coder", desc := "()B" } : Jvm.MethodName)) ∈ lw_all := lw_g (lw_at lw_m1 239 rfl) rfl
theorem q331 : (Jvm.Cond.selects "java/lang/String" ({ cls := "java/lang/String", name := "coder", desc := "()B" } : Jvm.MethodName) ({ cls := "java/lang/String", name := "coder", desc := "()B" } : Jvm.MethodName)) ∈ lw_all := lw_g (lw_at lw_m2 0 rfl) rfl
theorem q332 : (Jvm.Cond.code ({ cls := "java/lang/String", name := "coder", desc := "()B" } : Jvm.MethodName) prog_24_method_152_code (1 : Nat) (Option.some Jvm.ClassFile.FieldType.byte)) ∈ lw_all := lw_g (lw_at lw_m2 1 rfl) rfl
theorem q333 : (Jvm.Cond.fieldLink "java/lang/String" (38 : Nat) "java/lang/String" "COMPACT_STRINGS" "Z") ∈ lw_all := lw_g (lw_at lw_m2 2 rfl) rfl
theorem q334 : (Jvm.Cond.laysStatic "java/lang/String" "COMPACT_STRINGS" "Z") ∈ lw_tbl := lw_at lw_m2 3 rfl
theorem q336 : (Jvm.Cond.instanceMethod ({ cls := "java/lang/String", name := "charAt", desc := "(I)C" } : Jvm.MethodName)) ∈ lw_all := lw_g (lw_at lw_m2 5 rfl) rfl
theorem q337 : (Jvm.Cond.selects "java/lang/String" ({ cls := "java/lang/String", name := "charAt", desc := "(I)C" } : Jvm.MethodName) ({ cls := "java/lang/String", name := "charAt", desc := "(I)C" } : Jvm.MethodName)) ∈ lw_all := lw_g (lw_at lw_m2 6 rfl) rfl
theorem q338 : (Jvm.Cond.code ({ cls := "java/lang/String", name := "charAt", desc := "(I)C" } : Jvm.MethodName) prog_24_method_56_code (2 : Nat) (Option.some Jvm.ClassFile.FieldType.char)) ∈ lw_all := lw_g (lw_at lw_m2 7 rfl) rfl
theorem q339 : (Jvm.Cond.methodLink "java/lang/String" (492 : Nat) ({ cls := "java/lang/String", name := "isLatin1", desc := "()Z" } : Jvm.MethodName)) ∈ lw_all := lw_g (lw_at lw_m2 8 rfl) rfl
theorem q340 : (Jvm.Cond.instanceMethod ({ cls := "java/lang/String", name := "isLatin1", desc := "()Z" } : Jvm.MethodName)) ∈ lw_all := lw_g (lw_at lw_m2 9 rfl) rfl
theorem q341 : (Jvm.Cond.selects "java/lang/String" ({ cls := "java/lang/String", name := "isLatin1", desc := "()Z" } : Jvm.MethodName) ({ cls := "java/lang/String", name := "isLatin1", desc := "()Z" } : Jvm.MethodName)) ∈ lw_all := lw_g (lw_at lw_m2 10 rfl) rfl
theorem q342 : (Jvm.Cond.code ({ cls := "java/lang/String", name := "isLatin1", desc := "()Z" } : Jvm.MethodName) prog_24_method_154_code (1 : Nat) (Option.some Jvm.ClassFile.FieldType.boolean)) ∈ lw_all := lw_g (lw_at lw_m2 11 rfl) rfl
theorem q343 : (Jvm.Cond.methodLink "java/lang/String" (495 : Nat) ({ cls := "java/lang/StringLatin1", name := "charAt", desc := "([BI)C" } : Jvm.MethodName)) ∈ lw_all := lw_g (lw_at lw_m2 12 rfl) rfl
theorem q347 : (Jvm.Cond.static ({ cls := "java/lang/String", name := "checkIndex", desc := "(II)V" } : Jvm.MethodName)) ∈ lw_all := lw_g (lw_at lw_m2 16 rfl) rfl
theorem q348 : (Jvm.Cond.code ({ cls := "java/lang/String", name := "checkIndex", desc := "(II)V" } : Jvm.MethodName) prog_24_method_155_code (2 : Nat) (Option.none : Option Jvm.ClassFile.FieldType)) ∈ lw_all := lw_g (lw_at lw_m2 17 rfl) rfl
theorem q349 : (Jvm.Cond.fieldLink "java/lang/String" (1053 : Nat) "jdk/internal/util/Preconditions" "SIOOBE_FORMATTER" "Ljava/util/function/BiFunction;") ∈ lw_all := lw_g (lw_at lw_m2 18 rfl) rfl
theorem q351 : (Jvm.Cond.methodLink "java/lang/String" (1059 : Nat) ({ cls := "jdk/internal/util/Preconditions", name := "checkIndex", desc := "(IILjava/util/function/BiFunction;)I" } : Jvm.MethodName)) ∈ lw_all := lw_g (lw_at lw_m2 20 rfl) rfl
theorem q354 : (Jvm.Cond.methodLink "java/lang/String" (498 : Nat) ({ cls := "java/lang/StringUTF16", name := "charAt", desc := "([BI)C" } : Jvm.MethodName)) ∈ lw_all := lw_g (lw_at lw_m2 23 rfl) rfl
theorem q1105 : (Jvm.Cond.instantiable "java/lang/String" (4 : Nat)) ∈ lw_all := lw_g (lw_at lw_m5 54 rfl) rfl
theorem q1106 : (Jvm.Cond.laysFinal "java/lang/String" "java/lang/String" "value" "[B") ∈ lw_all := lw_g (lw_at lw_m5 55 rfl) rfl
theorem q1107 : (Jvm.Cond.soleField "java/lang/String" "value") ∈ lw_all := lw_g (lw_at lw_m5 56 rfl) rfl
theorem q1108 : (Jvm.Cond.laysFinal "java/lang/String" "java/lang/String" "coder" "B") ∈ lw_all := lw_g (lw_at lw_m5 57 rfl) rfl
theorem q1109 : (Jvm.Cond.soleField "java/lang/String" "coder") ∈ lw_all := lw_g (lw_at lw_m5 58 rfl) rfl
theorem q1743 : (Jvm.Cond.fieldLink "java/lang/String" (9 : Nat) "java/lang/String" "value" "[B") ∈ lw_all := lw_g (lw_at lw_m7 212 rfl) rfl
theorem q1744 : (Jvm.Cond.fieldLink "java/lang/String" (15 : Nat) "java/lang/String" "coder" "B") ∈ lw_all := lw_g (lw_at lw_m7 213 rfl) rfl
theorem in_J4 : ∀ w ∈ wsJ40, w ∈ lw_all := lw_in wsJ40 [1106, 1108] (by decide +kernel) (by decide +kernel)
/-! java/lang/StringLatin1 -/
set_option maxRecDepth 100000
def RJ5 : String := "java/lang/StringLatin1"
abbrev cJ5_charAt : ByteArray := prog_25_method_2_code
def yJ5_charAt : MethodName := ⟨RJ5, "charAt", "([BI)C"⟩
def dkwJ5_charAt_0 : List UInt8 := [27, 42, 190, 184, 0, 9, 42, 27, 51, 17, 0, 255, 126, 146, 172]
abbrev dktJ5_charAt_0 : List UInt8 := dkwJ5_charAt_0 ++ []
theorem dksJ5_charAt_0 : cJ5_charAt.data.toList.drop 0 = dktJ5_charAt_0 := by decide +kernel
theorem dJ5_charAt_0 : decode cJ5_charAt 0 = .ok (.iload_n 1, 1) := dk_27 (dk_at dksJ5_charAt_0 0 rfl rfl)
theorem dJ5_charAt_1 : decode cJ5_charAt 1 = .ok (.aload_n 0, 1) := dk_42 (dk_at dksJ5_charAt_0 1 rfl rfl)
theorem dJ5_charAt_2 : decode cJ5_charAt 2 = .ok (.arraylength, 1) := dk_190 (dk_at dksJ5_charAt_0 2 rfl rfl)
theorem dJ5_charAt_3 : decode cJ5_charAt 3 = .ok (.invokestatic 9, 3) := dk_184 0 9 (dk_at dksJ5_charAt_0 3 rfl rfl)
theorem dJ5_charAt_6 : decode cJ5_charAt 6 = .ok (.aload_n 0, 1) := dk_42 (dk_at dksJ5_charAt_0 6 rfl rfl)
theorem dJ5_charAt_7 : decode cJ5_charAt 7 = .ok (.iload_n 1, 1) := dk_27 (dk_at dksJ5_charAt_0 7 rfl rfl)
theorem dJ5_charAt_8 : decode cJ5_charAt 8 = .ok (.baload, 1) := dk_51 (dk_at dksJ5_charAt_0 8 rfl rfl)
theorem dJ5_charAt_9 : decode cJ5_charAt 9 = .ok (.sipush 255, 3) := dk_17 0 255 (dk_at dksJ5_charAt_0 9 rfl rfl)
theorem dJ5_charAt_12 : decode cJ5_charAt 12 = .ok (.iand, 1) := dk_126 (dk_at dksJ5_charAt_0 12 rfl rfl)
theorem dJ5_charAt_13 : decode cJ5_charAt 13 = .ok (.i2c, 1) := dk_146 (dk_at dksJ5_charAt_0 13 rfl rfl)
theorem dJ5_charAt_14 : decode cJ5_charAt 14 = .ok (.ireturn, 1) := dk_172 (dk_at dksJ5_charAt_0 14 rfl rfl)
theorem q106 : (Jvm.Cond.initialized "java/lang/StringLatin1") ∈ lw_all := lw_g (lw_at lw_m1 15 rfl) rfl
theorem q344 : (Jvm.Cond.static ({ cls := "java/lang/StringLatin1", name := "charAt", desc := "([BI)C" } : Jvm.MethodName)) ∈ lw_all := lw_g (lw_at lw_m2 13 rfl) rfl
theorem q345 : (Jvm.Cond.code ({ cls := "java/lang/StringLatin1", name := "charAt", desc := "([BI)C" } : Jvm.MethodName) prog_25_method_2_code (2 : Nat) (Option.some Jvm.ClassFile.FieldType.char)) ∈ lw_all := lw_g (lw_at lw_m2 14 rfl) rfl
theorem q346 : (Jvm.Cond.methodLink "java/lang/StringLatin1" (9 : Nat) ({ cls := "java/lang/String", name := "checkIndex", desc := "(II)V" } : Jvm.MethodName)) ∈ lw_all := lw_g (lw_at lw_m2 15 rfl) rfl
/-! jdk/internal/util/Preconditions -/
set_option maxRecDepth 100000
def RJ6 : String := "jdk/internal/util/Preconditions"
abbrev cJ6_checkIndex : ByteArray := prog_30_method_11_code
def yJ6_checkIndex : MethodName := ⟨RJ6, "checkIndex", "(IILjava/util/function/BiFunction;)I"⟩
def dkwJ6_checkIndex_0 : List UInt8 := [26, 155, 0, 8, 26, 27, 161, 0, 10, 44, 26, 27, 184, 0, 95, 191, 26, 172]
abbrev dktJ6_checkIndex_0 : List UInt8 := dkwJ6_checkIndex_0 ++ []
theorem dksJ6_checkIndex_0 : cJ6_checkIndex.data.toList.drop 0 = dktJ6_checkIndex_0 := by decide +kernel
theorem dJ6_checkIndex_0 : decode cJ6_checkIndex 0 = .ok (.iload_n 0, 1) := dk_26 (dk_at dksJ6_checkIndex_0 0 rfl rfl)
theorem dJ6_checkIndex_1 : decode cJ6_checkIndex 1 = .ok (.ifCond .lt 8, 3) := dk_155 0 8 (dk_at dksJ6_checkIndex_0 1 rfl rfl)
theorem dJ6_checkIndex_4 : decode cJ6_checkIndex 4 = .ok (.iload_n 0, 1) := dk_26 (dk_at dksJ6_checkIndex_0 4 rfl rfl)
theorem dJ6_checkIndex_5 : decode cJ6_checkIndex 5 = .ok (.iload_n 1, 1) := dk_27 (dk_at dksJ6_checkIndex_0 5 rfl rfl)
theorem dJ6_checkIndex_6 : decode cJ6_checkIndex 6 = .ok (.if_icmp .lt 10, 3) := dk_161 0 10 (dk_at dksJ6_checkIndex_0 6 rfl rfl)
theorem dJ6_checkIndex_9 : decode cJ6_checkIndex 9 = .ok (.aload_n 2, 1) := dk_44 (dk_at dksJ6_checkIndex_0 9 rfl rfl)
theorem dJ6_checkIndex_10 : decode cJ6_checkIndex 10 = .ok (.iload_n 0, 1) := dk_26 (dk_at dksJ6_checkIndex_0 10 rfl rfl)
theorem dJ6_checkIndex_11 : decode cJ6_checkIndex 11 = .ok (.iload_n 1, 1) := dk_27 (dk_at dksJ6_checkIndex_0 11 rfl rfl)
theorem dJ6_checkIndex_12 : decode cJ6_checkIndex 12 = .ok (.invokestatic 95, 3) := dk_184 0 95 (dk_at dksJ6_checkIndex_0 12 rfl rfl)
theorem dJ6_checkIndex_15 : decode cJ6_checkIndex 15 = .ok (.athrow, 1) := dk_191 (dk_at dksJ6_checkIndex_0 15 rfl rfl)
theorem dJ6_checkIndex_16 : decode cJ6_checkIndex 16 = .ok (.iload_n 0, 1) := dk_26 (dk_at dksJ6_checkIndex_0 16 rfl rfl)
theorem dJ6_checkIndex_17 : decode cJ6_checkIndex 17 = .ok (.ireturn, 1) := dk_172 (dk_at dksJ6_checkIndex_0 17 rfl rfl)
theorem q107 : (Jvm.Cond.initialized "jdk/internal/util/Preconditions") ∈ lw_all := lw_g (lw_at lw_m1 16 rfl) rfl
theorem q350 : (Jvm.Cond.laysStatic "jdk/internal/util/Preconditions" "SIOOBE_FORMATTER" "Ljava/util/function/BiFunction;") ∈ lw_tbl := lw_at lw_m2 19 rfl
theorem q352 : (Jvm.Cond.static ({ cls := "jdk/internal/util/Preconditions", name := "checkIndex", desc := "(IILjava/util/function/BiFunction;)I" } : Jvm.MethodName)) ∈ lw_all := lw_g (lw_at lw_m2 21 rfl) rfl
theorem q353 : (Jvm.Cond.code ({ cls := "jdk/internal/util/Preconditions", name := "checkIndex", desc := "(IILjava/util/function/BiFunction;)I" } : Jvm.MethodName) prog_30_method_11_code (3 : Nat) (Option.some Jvm.ClassFile.FieldType.int)) ∈ lw_all := lw_g (lw_at lw_m2 22 rfl) rfl
/-! java/lang/StringUTF16 -/
set_option maxRecDepth 100000
def RJ7 : String := "java/lang/StringUTF16"
abbrev cJ7_charAt : ByteArray := prog_26_method_83_code
def yJ7_charAt : MethodName := ⟨RJ7, "charAt", "([BI)C"⟩
def dkwJ7_charAt_0 : List UInt8 := [27, 42, 184, 0, 67, 42, 27, 184, 0, 71, 172]
abbrev dktJ7_charAt_0 : List UInt8 := dkwJ7_charAt_0 ++ []
theorem dksJ7_charAt_0 : cJ7_charAt.data.toList.drop 0 = dktJ7_charAt_0 := by decide +kernel
theorem dJ7_charAt_0 : decode cJ7_charAt 0 = .ok (.iload_n 1, 1) := dk_27 (dk_at dksJ7_charAt_0 0 rfl rfl)
theorem dJ7_charAt_1 : decode cJ7_charAt 1 = .ok (.aload_n 0, 1) := dk_42 (dk_at dksJ7_charAt_0 1 rfl rfl)
theorem dJ7_charAt_2 : decode cJ7_charAt 2 = .ok (.invokestatic 67, 3) := dk_184 0 67 (dk_at dksJ7_charAt_0 2 rfl rfl)
theorem dJ7_charAt_5 : decode cJ7_charAt 5 = .ok (.aload_n 0, 1) := dk_42 (dk_at dksJ7_charAt_0 5 rfl rfl)
theorem dJ7_charAt_6 : decode cJ7_charAt 6 = .ok (.iload_n 1, 1) := dk_27 (dk_at dksJ7_charAt_0 6 rfl rfl)
theorem dJ7_charAt_7 : decode cJ7_charAt 7 = .ok (.invokestatic 71, 3) := dk_184 0 71 (dk_at dksJ7_charAt_0 7 rfl rfl)
theorem dJ7_charAt_10 : decode cJ7_charAt 10 = .ok (.ireturn, 1) := dk_172 (dk_at dksJ7_charAt_0 10 rfl rfl)
abbrev cJ7_checkIndex : ByteArray := prog_26_method_91_code
def yJ7_checkIndex : MethodName := ⟨RJ7, "checkIndex", "(I[B)V"⟩
def dkwJ7_checkIndex_0 : List UInt8 := [26, 43, 184, 0, 48, 184, 1, 158, 177]
abbrev dktJ7_checkIndex_0 : List UInt8 := dkwJ7_checkIndex_0 ++ []
theorem dksJ7_checkIndex_0 : cJ7_checkIndex.data.toList.drop 0 = dktJ7_checkIndex_0 := by decide +kernel
theorem dJ7_checkIndex_0 : decode cJ7_checkIndex 0 = .ok (.iload_n 0, 1) := dk_26 (dk_at dksJ7_checkIndex_0 0 rfl rfl)
theorem dJ7_checkIndex_1 : decode cJ7_checkIndex 1 = .ok (.aload_n 1, 1) := dk_43 (dk_at dksJ7_checkIndex_0 1 rfl rfl)
theorem dJ7_checkIndex_2 : decode cJ7_checkIndex 2 = .ok (.invokestatic 48, 3) := dk_184 0 48 (dk_at dksJ7_checkIndex_0 2 rfl rfl)
theorem dJ7_checkIndex_5 : decode cJ7_checkIndex 5 = .ok (.invokestatic 414, 3) := dk_184 1 158 (dk_at dksJ7_checkIndex_0 5 rfl rfl)
theorem dJ7_checkIndex_8 : decode cJ7_checkIndex 8 = .ok (.return_, 1) := dk_177 (dk_at dksJ7_checkIndex_0 8 rfl rfl)
abbrev cJ7_length : ByteArray := prog_26_method_6_code
def yJ7_length : MethodName := ⟨RJ7, "length", "([B)I"⟩
def dkwJ7_length_0 : List UInt8 := [42, 190, 4, 122, 172]
abbrev dktJ7_length_0 : List UInt8 := dkwJ7_length_0 ++ []
theorem dksJ7_length_0 : cJ7_length.data.toList.drop 0 = dktJ7_length_0 := by decide +kernel
theorem dJ7_length_0 : decode cJ7_length 0 = .ok (.aload_n 0, 1) := dk_42 (dk_at dksJ7_length_0 0 rfl rfl)
theorem dJ7_length_1 : decode cJ7_length 1 = .ok (.arraylength, 1) := dk_190 (dk_at dksJ7_length_0 1 rfl rfl)
theorem dJ7_length_2 : decode cJ7_length 2 = .ok (.iconst 1, 1) := dk_4 (dk_at dksJ7_length_0 2 rfl rfl)
theorem dJ7_length_3 : decode cJ7_length 3 = .ok (.ishr, 1) := dk_122 (dk_at dksJ7_length_0 3 rfl rfl)
theorem dJ7_length_4 : decode cJ7_length 4 = .ok (.ireturn, 1) := dk_172 (dk_at dksJ7_length_0 4 rfl rfl)
abbrev cJ7_getChar : ByteArray := prog_26_method_5_code
def yJ7_getChar : MethodName := ⟨RJ7, "getChar", "([BI)C"⟩
def dkwJ7_getChar_2 : List UInt8 := [51, 17, 0, 255, 126, 178, 0, 63, 120, 128, 146, 172]
abbrev dktJ7_getChar_2 : List UInt8 := dkwJ7_getChar_2 ++ []
def dkwJ7_getChar_1 : List UInt8 := [183, 0, 56, 191, 27, 4, 120, 60, 42, 27, 132, 1, 1, 51, 17, 0, 255, 126, 178, 0, 59, 120, 42, 27]
abbrev dktJ7_getChar_1 : List UInt8 := dkwJ7_getChar_1 ++ dktJ7_getChar_2
def dkwJ7_getChar_0 : List UInt8 := [178, 0, 44, 154, 0, 25, 27, 155, 0, 11, 27, 42, 184, 0, 48, 161, 0, 13, 187, 0, 52, 89, 18, 54]
abbrev dktJ7_getChar_0 : List UInt8 := dkwJ7_getChar_0 ++ dktJ7_getChar_1
theorem dksJ7_getChar_0 : cJ7_getChar.data.toList.drop 0 = dktJ7_getChar_0 := by decide +kernel
theorem dksJ7_getChar_1 : cJ7_getChar.data.toList.drop 24 = dktJ7_getChar_1 := dk_seg dksJ7_getChar_0 24 rfl rfl
theorem dksJ7_getChar_2 : cJ7_getChar.data.toList.drop 48 = dktJ7_getChar_2 := dk_seg dksJ7_getChar_1 24 rfl rfl
theorem dJ7_getChar_0 : decode cJ7_getChar 0 = .ok (.getstatic 44, 3) := dk_178 0 44 (dk_at dksJ7_getChar_0 0 rfl rfl)
theorem dJ7_getChar_3 : decode cJ7_getChar 3 = .ok (.ifCond .ne 25, 3) := dk_154 0 25 (dk_at dksJ7_getChar_0 3 rfl rfl)
theorem dJ7_getChar_6 : decode cJ7_getChar 6 = .ok (.iload_n 1, 1) := dk_27 (dk_at dksJ7_getChar_0 6 rfl rfl)
theorem dJ7_getChar_7 : decode cJ7_getChar 7 = .ok (.ifCond .lt 11, 3) := dk_155 0 11 (dk_at dksJ7_getChar_0 7 rfl rfl)
theorem dJ7_getChar_10 : decode cJ7_getChar 10 = .ok (.iload_n 1, 1) := dk_27 (dk_at dksJ7_getChar_0 10 rfl rfl)
theorem dJ7_getChar_11 : decode cJ7_getChar 11 = .ok (.aload_n 0, 1) := dk_42 (dk_at dksJ7_getChar_0 11 rfl rfl)
theorem dJ7_getChar_12 : decode cJ7_getChar 12 = .ok (.invokestatic 48, 3) := dk_184 0 48 (dk_at dksJ7_getChar_0 12 rfl rfl)
theorem dJ7_getChar_15 : decode cJ7_getChar 15 = .ok (.if_icmp .lt 13, 3) := dk_161 0 13 (dk_at dksJ7_getChar_0 15 rfl rfl)
theorem dJ7_getChar_18 : decode cJ7_getChar 18 = .ok (.new 52, 3) := dk_187 0 52 (dk_at dksJ7_getChar_0 18 rfl rfl)
theorem dJ7_getChar_21 : decode cJ7_getChar 21 = .ok (.dup, 1) := dk_89 (dk_at dksJ7_getChar_0 21 rfl rfl)
theorem dJ7_getChar_22 : decode cJ7_getChar 22 = .ok (.ldc 54, 2) := dk_18 54 (dk_at dksJ7_getChar_0 22 rfl rfl)
theorem dJ7_getChar_24 : decode cJ7_getChar 24 = .ok (.invokespecial 56, 3) := dk_183 0 56 (dk_at dksJ7_getChar_1 0 rfl rfl)
theorem dJ7_getChar_27 : decode cJ7_getChar 27 = .ok (.athrow, 1) := dk_191 (dk_at dksJ7_getChar_1 3 rfl rfl)
theorem dJ7_getChar_28 : decode cJ7_getChar 28 = .ok (.iload_n 1, 1) := dk_27 (dk_at dksJ7_getChar_1 4 rfl rfl)
theorem dJ7_getChar_29 : decode cJ7_getChar 29 = .ok (.iconst 1, 1) := dk_4 (dk_at dksJ7_getChar_1 5 rfl rfl)
theorem dJ7_getChar_30 : decode cJ7_getChar 30 = .ok (.ishl, 1) := dk_120 (dk_at dksJ7_getChar_1 6 rfl rfl)
theorem dJ7_getChar_31 : decode cJ7_getChar 31 = .ok (.istore_n 1, 1) := dk_60 (dk_at dksJ7_getChar_1 7 rfl rfl)
theorem dJ7_getChar_32 : decode cJ7_getChar 32 = .ok (.aload_n 0, 1) := dk_42 (dk_at dksJ7_getChar_1 8 rfl rfl)
theorem dJ7_getChar_33 : decode cJ7_getChar 33 = .ok (.iload_n 1, 1) := dk_27 (dk_at dksJ7_getChar_1 9 rfl rfl)
theorem dJ7_getChar_34 : decode cJ7_getChar 34 = .ok (.iinc 1 1, 3) := dk_132 1 1 (dk_at dksJ7_getChar_1 10 rfl rfl)
theorem dJ7_getChar_37 : decode cJ7_getChar 37 = .ok (.baload, 1) := dk_51 (dk_at dksJ7_getChar_1 13 rfl rfl)
theorem dJ7_getChar_38 : decode cJ7_getChar 38 = .ok (.sipush 255, 3) := dk_17 0 255 (dk_at dksJ7_getChar_1 14 rfl rfl)
theorem dJ7_getChar_41 : decode cJ7_getChar 41 = .ok (.iand, 1) := dk_126 (dk_at dksJ7_getChar_1 17 rfl rfl)
theorem dJ7_getChar_42 : decode cJ7_getChar 42 = .ok (.getstatic 59, 3) := dk_178 0 59 (dk_at dksJ7_getChar_1 18 rfl rfl)
theorem dJ7_getChar_45 : decode cJ7_getChar 45 = .ok (.ishl, 1) := dk_120 (dk_at dksJ7_getChar_1 21 rfl rfl)
theorem dJ7_getChar_46 : decode cJ7_getChar 46 = .ok (.aload_n 0, 1) := dk_42 (dk_at dksJ7_getChar_1 22 rfl rfl)
theorem dJ7_getChar_47 : decode cJ7_getChar 47 = .ok (.iload_n 1, 1) := dk_27 (dk_at dksJ7_getChar_1 23 rfl rfl)
theorem dJ7_getChar_48 : decode cJ7_getChar 48 = .ok (.baload, 1) := dk_51 (dk_at dksJ7_getChar_2 0 rfl rfl)
theorem dJ7_getChar_49 : decode cJ7_getChar 49 = .ok (.sipush 255, 3) := dk_17 0 255 (dk_at dksJ7_getChar_2 1 rfl rfl)
theorem dJ7_getChar_52 : decode cJ7_getChar 52 = .ok (.iand, 1) := dk_126 (dk_at dksJ7_getChar_2 4 rfl rfl)
theorem dJ7_getChar_53 : decode cJ7_getChar 53 = .ok (.getstatic 63, 3) := dk_178 0 63 (dk_at dksJ7_getChar_2 5 rfl rfl)
theorem dJ7_getChar_56 : decode cJ7_getChar 56 = .ok (.ishl, 1) := dk_120 (dk_at dksJ7_getChar_2 8 rfl rfl)
theorem dJ7_getChar_57 : decode cJ7_getChar 57 = .ok (.ior, 1) := dk_128 (dk_at dksJ7_getChar_2 9 rfl rfl)
theorem dJ7_getChar_58 : decode cJ7_getChar 58 = .ok (.i2c, 1) := dk_146 (dk_at dksJ7_getChar_2 10 rfl rfl)
theorem dJ7_getChar_59 : decode cJ7_getChar 59 = .ok (.ireturn, 1) := dk_172 (dk_at dksJ7_getChar_2 11 rfl rfl)
theorem q108 : (Jvm.Cond.initialized "java/lang/StringUTF16") ∈ lw_all := lw_g (lw_at lw_m1 17 rfl) rfl
theorem q355 : (Jvm.Cond.static ({ cls := "java/lang/StringUTF16", name := "charAt", desc := "([BI)C" } : Jvm.MethodName)) ∈ lw_all := lw_g (lw_at lw_m2 24 rfl) rfl
theorem q356 : (Jvm.Cond.code ({ cls := "java/lang/StringUTF16", name := "charAt", desc := "([BI)C" } : Jvm.MethodName) prog_26_method_83_code (2 : Nat) (Option.some Jvm.ClassFile.FieldType.char)) ∈ lw_all := lw_g (lw_at lw_m2 25 rfl) rfl
theorem q357 : (Jvm.Cond.methodLink "java/lang/StringUTF16" (67 : Nat) ({ cls := "java/lang/StringUTF16", name := "checkIndex", desc := "(I[B)V" } : Jvm.MethodName)) ∈ lw_all := lw_g (lw_at lw_m2 26 rfl) rfl
theorem q358 : (Jvm.Cond.static ({ cls := "java/lang/StringUTF16", name := "checkIndex", desc := "(I[B)V" } : Jvm.MethodName)) ∈ lw_all := lw_g (lw_at lw_m2 27 rfl) rfl
theorem q359 : (Jvm.Cond.code ({ cls := "java/lang/StringUTF16", name := "checkIndex", desc := "(I[B)V" } : Jvm.MethodName) prog_26_method_91_code (2 : Nat) (Option.none : Option Jvm.ClassFile.FieldType)) ∈ lw_all := lw_g (lw_at lw_m2 28 rfl) rfl
theorem q360 : (Jvm.Cond.methodLink "java/lang/StringUTF16" (48 : Nat) ({ cls := "java/lang/StringUTF16", name := "length", desc := "([B)I" } : Jvm.MethodName)) ∈ lw_all := lw_g (lw_at lw_m2 29 rfl) rfl
theorem q361 : (Jvm.Cond.static ({ cls := "java/lang/StringUTF16", name := "length", desc := "([B)I" } : Jvm.MethodName)) ∈ lw_all := lw_g (lw_at lw_m2 30 rfl) rfl
theorem q362 : (Jvm.Cond.code ({ cls := "java/lang/StringUTF16", name := "length", desc := "([B)I" } : Jvm.MethodName) prog_26_method_6_code (1 : Nat) (Option.some Jvm.ClassFile.FieldType.int)) ∈ lw_all := lw_g (lw_at lw_m2 31 rfl) rfl
theorem q363 : (Jvm.Cond.methodLink "java/lang/StringUTF16" (414 : Nat) ({ cls := "java/lang/String", name := "checkIndex", desc := "(II)V" } : Jvm.MethodName)) ∈ lw_all := lw_g (lw_at lw_m2 32 rfl) rfl
theorem q364 : (Jvm.Cond.methodLink "java/lang/StringUTF16" (71 : Nat) ({ cls := "java/lang/StringUTF16", name := "getChar", desc := "([BI)C" } : Jvm.MethodName)) ∈ lw_all := lw_g (lw_at lw_m2 33 rfl) rfl
theorem q365 : (Jvm.Cond.static ({ cls := "java/lang/StringUTF16", name := "getChar", desc := "([BI)C" } : Jvm.MethodName)) ∈ lw_all := lw_g (lw_at lw_m2 34 rfl) rfl
theorem q366 : (Jvm.Cond.code ({ cls := "java/lang/StringUTF16", name := "getChar", desc := "([BI)C" } : Jvm.MethodName) prog_26_method_5_code (2 : Nat) (Option.some Jvm.ClassFile.FieldType.char)) ∈ lw_all := lw_g (lw_at lw_m2 35 rfl) rfl
theorem q367 : (Jvm.Cond.fieldLink "java/lang/StringUTF16" (44 : Nat) "java/lang/StringUTF16" "$assertionsDisabled" "Z") ∈ lw_all := lw_g (lw_at lw_m2 36 rfl) rfl
theorem q368 : (Jvm.Cond.laysStatic "java/lang/StringUTF16" "$assertionsDisabled" "Z") ∈ lw_tbl := lw_at lw_m2 37 rfl
theorem q369 : (Jvm.Cond.fieldLink "java/lang/StringUTF16" (59 : Nat) "java/lang/StringUTF16" "HI_BYTE_SHIFT" "I") ∈ lw_all := lw_g (lw_at lw_m2 38 rfl) rfl
theorem q370 : (Jvm.Cond.laysStatic "java/lang/StringUTF16" "HI_BYTE_SHIFT" "I") ∈ lw_tbl := lw_at lw_m2 39 rfl
theorem q371 : (Jvm.Cond.fieldLink "java/lang/StringUTF16" (63 : Nat) "java/lang/StringUTF16" "LO_BYTE_SHIFT" "I") ∈ lw_all := lw_g (lw_at lw_m2 40 rfl) rfl
theorem q372 : (Jvm.Cond.laysStatic "java/lang/StringUTF16" "LO_BYTE_SHIFT" "I") ∈ lw_tbl := lw_at lw_m2 41 rfl
/-! java/lang/Integer -/
set_option maxRecDepth 100000
def RJ8 : String := "java/lang/Integer"
abbrev cJ8_bitCount : ByteArray := prog_19_method_49_code
def yJ8_bitCount : MethodName := ⟨RJ8, "bitCount", "(I)I"⟩
def dkwJ8_bitCount_2 : List UInt8 := [26, 16, 63, 126, 172]
abbrev dktJ8_bitCount_2 : List UInt8 := dkwJ8_bitCount_2 ++ []
def dkwJ8_bitCount_1 : List UInt8 := [26, 26, 7, 124, 96, 19, 1, 11, 126, 59, 26, 26, 16, 8, 124, 96, 59, 26, 26, 16, 16, 124, 96, 59]
abbrev dktJ8_bitCount_1 : List UInt8 := dkwJ8_bitCount_1 ++ dktJ8_bitCount_2
def dkwJ8_bitCount_0 : List UInt8 := [26, 26, 4, 124, 19, 1, 9, 126, 100, 59, 26, 19, 1, 10, 126, 26, 5, 124, 19, 1, 10, 126, 96, 59]
abbrev dktJ8_bitCount_0 : List UInt8 := dkwJ8_bitCount_0 ++ dktJ8_bitCount_1
theorem dksJ8_bitCount_0 : cJ8_bitCount.data.toList.drop 0 = dktJ8_bitCount_0 := by decide +kernel
theorem dksJ8_bitCount_1 : cJ8_bitCount.data.toList.drop 24 = dktJ8_bitCount_1 := dk_seg dksJ8_bitCount_0 24 rfl rfl
theorem dksJ8_bitCount_2 : cJ8_bitCount.data.toList.drop 48 = dktJ8_bitCount_2 := dk_seg dksJ8_bitCount_1 24 rfl rfl
theorem dJ8_bitCount_0 : decode cJ8_bitCount 0 = .ok (.iload_n 0, 1) := dk_26 (dk_at dksJ8_bitCount_0 0 rfl rfl)
theorem dJ8_bitCount_1 : decode cJ8_bitCount 1 = .ok (.iload_n 0, 1) := dk_26 (dk_at dksJ8_bitCount_0 1 rfl rfl)
theorem dJ8_bitCount_2 : decode cJ8_bitCount 2 = .ok (.iconst 1, 1) := dk_4 (dk_at dksJ8_bitCount_0 2 rfl rfl)
theorem dJ8_bitCount_3 : decode cJ8_bitCount 3 = .ok (.iushr, 1) := dk_124 (dk_at dksJ8_bitCount_0 3 rfl rfl)
theorem dJ8_bitCount_4 : decode cJ8_bitCount 4 = .ok (.ldc_w 265, 3) := dk_19 1 9 (dk_at dksJ8_bitCount_0 4 rfl rfl)
theorem dJ8_bitCount_7 : decode cJ8_bitCount 7 = .ok (.iand, 1) := dk_126 (dk_at dksJ8_bitCount_0 7 rfl rfl)
theorem dJ8_bitCount_8 : decode cJ8_bitCount 8 = .ok (.isub, 1) := dk_100 (dk_at dksJ8_bitCount_0 8 rfl rfl)
theorem dJ8_bitCount_9 : decode cJ8_bitCount 9 = .ok (.istore_n 0, 1) := dk_59 (dk_at dksJ8_bitCount_0 9 rfl rfl)
theorem dJ8_bitCount_10 : decode cJ8_bitCount 10 = .ok (.iload_n 0, 1) := dk_26 (dk_at dksJ8_bitCount_0 10 rfl rfl)
theorem dJ8_bitCount_11 : decode cJ8_bitCount 11 = .ok (.ldc_w 266, 3) := dk_19 1 10 (dk_at dksJ8_bitCount_0 11 rfl rfl)
theorem dJ8_bitCount_14 : decode cJ8_bitCount 14 = .ok (.iand, 1) := dk_126 (dk_at dksJ8_bitCount_0 14 rfl rfl)
theorem dJ8_bitCount_15 : decode cJ8_bitCount 15 = .ok (.iload_n 0, 1) := dk_26 (dk_at dksJ8_bitCount_0 15 rfl rfl)
theorem dJ8_bitCount_16 : decode cJ8_bitCount 16 = .ok (.iconst 2, 1) := dk_5 (dk_at dksJ8_bitCount_0 16 rfl rfl)
theorem dJ8_bitCount_17 : decode cJ8_bitCount 17 = .ok (.iushr, 1) := dk_124 (dk_at dksJ8_bitCount_0 17 rfl rfl)
theorem dJ8_bitCount_18 : decode cJ8_bitCount 18 = .ok (.ldc_w 266, 3) := dk_19 1 10 (dk_at dksJ8_bitCount_0 18 rfl rfl)
theorem dJ8_bitCount_21 : decode cJ8_bitCount 21 = .ok (.iand, 1) := dk_126 (dk_at dksJ8_bitCount_0 21 rfl rfl)
theorem dJ8_bitCount_22 : decode cJ8_bitCount 22 = .ok (.iadd, 1) := dk_96 (dk_at dksJ8_bitCount_0 22 rfl rfl)
theorem dJ8_bitCount_23 : decode cJ8_bitCount 23 = .ok (.istore_n 0, 1) := dk_59 (dk_at dksJ8_bitCount_0 23 rfl rfl)
theorem dJ8_bitCount_24 : decode cJ8_bitCount 24 = .ok (.iload_n 0, 1) := dk_26 (dk_at dksJ8_bitCount_1 0 rfl rfl)
theorem dJ8_bitCount_25 : decode cJ8_bitCount 25 = .ok (.iload_n 0, 1) := dk_26 (dk_at dksJ8_bitCount_1 1 rfl rfl)
theorem dJ8_bitCount_26 : decode cJ8_bitCount 26 = .ok (.iconst 4, 1) := dk_7 (dk_at dksJ8_bitCount_1 2 rfl rfl)
theorem dJ8_bitCount_27 : decode cJ8_bitCount 27 = .ok (.iushr, 1) := dk_124 (dk_at dksJ8_bitCount_1 3 rfl rfl)
theorem dJ8_bitCount_28 : decode cJ8_bitCount 28 = .ok (.iadd, 1) := dk_96 (dk_at dksJ8_bitCount_1 4 rfl rfl)
theorem dJ8_bitCount_29 : decode cJ8_bitCount 29 = .ok (.ldc_w 267, 3) := dk_19 1 11 (dk_at dksJ8_bitCount_1 5 rfl rfl)
theorem dJ8_bitCount_32 : decode cJ8_bitCount 32 = .ok (.iand, 1) := dk_126 (dk_at dksJ8_bitCount_1 8 rfl rfl)
theorem dJ8_bitCount_33 : decode cJ8_bitCount 33 = .ok (.istore_n 0, 1) := dk_59 (dk_at dksJ8_bitCount_1 9 rfl rfl)
theorem dJ8_bitCount_34 : decode cJ8_bitCount 34 = .ok (.iload_n 0, 1) := dk_26 (dk_at dksJ8_bitCount_1 10 rfl rfl)
theorem dJ8_bitCount_35 : decode cJ8_bitCount 35 = .ok (.iload_n 0, 1) := dk_26 (dk_at dksJ8_bitCount_1 11 rfl rfl)
theorem dJ8_bitCount_36 : decode cJ8_bitCount 36 = .ok (.bipush 8, 2) := dk_16 8 (dk_at dksJ8_bitCount_1 12 rfl rfl)
theorem dJ8_bitCount_38 : decode cJ8_bitCount 38 = .ok (.iushr, 1) := dk_124 (dk_at dksJ8_bitCount_1 14 rfl rfl)
theorem dJ8_bitCount_39 : decode cJ8_bitCount 39 = .ok (.iadd, 1) := dk_96 (dk_at dksJ8_bitCount_1 15 rfl rfl)
theorem dJ8_bitCount_40 : decode cJ8_bitCount 40 = .ok (.istore_n 0, 1) := dk_59 (dk_at dksJ8_bitCount_1 16 rfl rfl)
theorem dJ8_bitCount_41 : decode cJ8_bitCount 41 = .ok (.iload_n 0, 1) := dk_26 (dk_at dksJ8_bitCount_1 17 rfl rfl)
theorem dJ8_bitCount_42 : decode cJ8_bitCount 42 = .ok (.iload_n 0, 1) := dk_26 (dk_at dksJ8_bitCount_1 18 rfl rfl)
theorem dJ8_bitCount_43 : decode cJ8_bitCount 43 = .ok (.bipush 16, 2) := dk_16 16 (dk_at dksJ8_bitCount_1 19 rfl rfl)
theorem dJ8_bitCount_45 : decode cJ8_bitCount 45 = .ok (.iushr, 1) := dk_124 (dk_at dksJ8_bitCount_1 21 rfl rfl)
theorem dJ8_bitCount_46 : decode cJ8_bitCount 46 = .ok (.iadd, 1) := dk_96 (dk_at dksJ8_bitCount_1 22 rfl rfl)
theorem dJ8_bitCount_47 : decode cJ8_bitCount 47 = .ok (.istore_n 0, 1) := dk_59 (dk_at dksJ8_bitCount_1 23 rfl rfl)
theorem dJ8_bitCount_48 : decode cJ8_bitCount 48 = .ok (.iload_n 0, 1) := dk_26 (dk_at dksJ8_bitCount_2 0 rfl rfl)
theorem dJ8_bitCount_49 : decode cJ8_bitCount 49 = .ok (.bipush 63, 2) := dk_16 63 (dk_at dksJ8_bitCount_2 1 rfl rfl)
theorem dJ8_bitCount_51 : decode cJ8_bitCount 51 = .ok (.iand, 1) := dk_126 (dk_at dksJ8_bitCount_2 3 rfl rfl)
theorem dJ8_bitCount_52 : decode cJ8_bitCount 52 = .ok (.ireturn, 1) := dk_172 (dk_at dksJ8_bitCount_2 4 rfl rfl)
theorem q114 : (Jvm.Cond.initialized "java/lang/Integer") ∈ lw_all := lw_g (lw_at lw_m1 23 rfl) rfl
theorem q548 : (Jvm.Cond.static ({ cls := "java/lang/Integer", name := "bitCount", desc := "(I)I" } : Jvm.MethodName)) ∈ lw_all := lw_g (lw_at lw_m2 217 rfl) rfl
theorem q549 : (Jvm.Cond.code ({ cls := "java/lang/Integer", name := "bitCount", desc := "(I)I" } : Jvm.MethodName) prog_19_method_49_code (1 : Nat) (Option.some Jvm.ClassFile.FieldType.int)) ∈ lw_all := lw_g (lw_at lw_m2 218 rfl) rfl
theorem q550 : (Jvm.Cond.constant "java/lang/Integer" (265 : Nat) (1431655765 : Int32)) ∈ lw_all := lw_g (lw_at lw_m2 219 rfl) rfl
theorem q551 : (Jvm.Cond.constant "java/lang/Integer" (266 : Nat) (858993459 : Int32)) ∈ lw_all := lw_g (lw_at lw_m2 220 rfl) rfl
theorem q552 : (Jvm.Cond.constant "java/lang/Integer" (267 : Nat) (252645135 : Int32)) ∈ lw_all := lw_g (lw_at lw_m2 221 rfl) rfl
/-! java/lang/Math -/
set_option maxRecDepth 100000
def RJ9 : String := "java/lang/Math"
abbrev cJ9_max : ByteArray := prog_20_method_65_code
def yJ9_max : MethodName := ⟨RJ9, "max", "(II)I"⟩
def dkwJ9_max_0 : List UInt8 := [26, 27, 161, 0, 7, 26, 167, 0, 4, 27, 172]
abbrev dktJ9_max_0 : List UInt8 := dkwJ9_max_0 ++ []
theorem dksJ9_max_0 : cJ9_max.data.toList.drop 0 = dktJ9_max_0 := by decide +kernel
theorem dJ9_max_0 : decode cJ9_max 0 = .ok (.iload_n 0, 1) := dk_26 (dk_at dksJ9_max_0 0 rfl rfl)
theorem dJ9_max_1 : decode cJ9_max 1 = .ok (.iload_n 1, 1) := dk_27 (dk_at dksJ9_max_0 1 rfl rfl)
theorem dJ9_max_2 : decode cJ9_max 2 = .ok (.if_icmp .lt 7, 3) := dk_161 0 7 (dk_at dksJ9_max_0 2 rfl rfl)
theorem dJ9_max_5 : decode cJ9_max 5 = .ok (.iload_n 0, 1) := dk_26 (dk_at dksJ9_max_0 5 rfl rfl)
theorem dJ9_max_6 : decode cJ9_max 6 = .ok (.goto 4, 3) := dk_167 0 4 (dk_at dksJ9_max_0 6 rfl rfl)
theorem dJ9_max_9 : decode cJ9_max 9 = .ok (.iload_n 1, 1) := dk_27 (dk_at dksJ9_max_0 9 rfl rfl)
theorem dJ9_max_10 : decode cJ9_max 10 = .ok (.ireturn, 1) := dk_172 (dk_at dksJ9_max_0 10 rfl rfl)
abbrev cJ9_min : ByteArray := prog_20_method_69_code
def yJ9_min : MethodName := ⟨RJ9, "min", "(II)I"⟩
def dkwJ9_min_0 : List UInt8 := [26, 27, 163, 0, 7, 26, 167, 0, 4, 27, 172]
abbrev dktJ9_min_0 : List UInt8 := dkwJ9_min_0 ++ []
theorem dksJ9_min_0 : cJ9_min.data.toList.drop 0 = dktJ9_min_0 := by decide +kernel
theorem dJ9_min_0 : decode cJ9_min 0 = .ok (.iload_n 0, 1) := dk_26 (dk_at dksJ9_min_0 0 rfl rfl)
theorem dJ9_min_1 : decode cJ9_min 1 = .ok (.iload_n 1, 1) := dk_27 (dk_at dksJ9_min_0 1 rfl rfl)
theorem dJ9_min_2 : decode cJ9_min 2 = .ok (.if_icmp .gt 7, 3) := dk_163 0 7 (dk_at dksJ9_min_0 2 rfl rfl)
theorem dJ9_min_5 : decode cJ9_min 5 = .ok (.iload_n 0, 1) := dk_26 (dk_at dksJ9_min_0 5 rfl rfl)
theorem dJ9_min_6 : decode cJ9_min 6 = .ok (.goto 4, 3) := dk_167 0 4 (dk_at dksJ9_min_0 6 rfl rfl)
theorem dJ9_min_9 : decode cJ9_min 9 = .ok (.iload_n 1, 1) := dk_27 (dk_at dksJ9_min_0 9 rfl rfl)
theorem dJ9_min_10 : decode cJ9_min 10 = .ok (.ireturn, 1) := dk_172 (dk_at dksJ9_min_0 10 rfl rfl)
theorem q115 : (Jvm.Cond.initialized "java/lang/Math") ∈ lw_all := lw_g (lw_at lw_m1 24 rfl) rfl
theorem q808 : (Jvm.Cond.static ({ cls := "java/lang/Math", name := "max", desc := "(II)I" } : Jvm.MethodName)) ∈ lw_all := lw_g (lw_at lw_m3 237 rfl) rfl
theorem q809 : (Jvm.Cond.code ({ cls := "java/lang/Math", name := "max", desc := "(II)I" } : Jvm.MethodName) prog_20_method_65_code (2 : Nat) (Option.some Jvm.ClassFile.FieldType.int)) ∈ lw_all := lw_g (lw_at lw_m3 238 rfl) rfl
theorem q838 : (Jvm.Cond.static ({ cls := "java/lang/Math", name := "min", desc := "(II)I" } : Jvm.MethodName)) ∈ lw_all := lw_g (lw_at lw_m4 27 rfl) rfl
theorem q839 : (Jvm.Cond.code ({ cls := "java/lang/Math", name := "min", desc := "(II)I" } : Jvm.MethodName) prog_20_method_69_code (2 : Nat) (Option.some Jvm.ClassFile.FieldType.int)) ∈ lw_all := lw_g (lw_at lw_m4 28 rfl) rfl
