/-! FirstWords$Mind -/
set_option maxRecDepth 100000
def RX1 : String := "FirstWords$Mind"
def TX1 : u_T := fun k => match k with
  | 0 => ("FirstWords$Mind", "thinks", "[I", true)
  | 1 => ("FirstWords$Mind", "against", "[I", true)
  | 2 => ("FirstWords$Mind", "latest", "I", false)
  | _ => ("FirstWords$Mind", "fled", "I", false)
def tyX1 : Nat → FieldType := fun k => match k with
  | 0 => .array .int
  | 1 => .array .int
  | 2 => .int
  | _ => .int
abbrev wsX10 : List Cond := u_ws RX1 TX1 4
theorem nmX1 : ∀ a, a < 4 → ∀ b, b < 4 → a ≠ b → (TX1 a).2.1 ≠ (TX1 b).2.1 := by decide +kernel
theorem tyX1_ok : ∀ k, k < 4 → parseFieldDescriptor (TX1 k).2.2.1 = some (tyX1 k) := by decide +kernel
abbrev cX1_isNew : ByteArray := prog_7_method_2_code
def yX1_isNew : MethodName := ⟨RX1, "isNew", "()V"⟩
def dkwX1_isNew_1 : List UInt8 := [16, 252, 181, 0, 28, 177]
abbrev dktX1_isNew_1 : List UInt8 := dkwX1_isNew_1 ++ []
def dkwX1_isNew_0 : List UInt8 := [42, 180, 0, 9, 16, 252, 184, 0, 18, 42, 180, 0, 15, 3, 184, 0, 18, 42, 16, 252, 181, 0, 24, 42]
abbrev dktX1_isNew_0 : List UInt8 := dkwX1_isNew_0 ++ dktX1_isNew_1
theorem dksX1_isNew_0 : cX1_isNew.data.toList.drop 0 = dktX1_isNew_0 := by decide +kernel
theorem dksX1_isNew_1 : cX1_isNew.data.toList.drop 24 = dktX1_isNew_1 := dk_seg dksX1_isNew_0 24 rfl rfl
theorem dX1_isNew_0 : decode cX1_isNew 0 = .ok (.aload_n 0, 1) := dk_42 (dk_at dksX1_isNew_0 0 rfl rfl)
theorem dX1_isNew_1 : decode cX1_isNew 1 = .ok (.getfield 9, 3) := dk_180 0 9 (dk_at dksX1_isNew_0 1 rfl rfl)
theorem dX1_isNew_4 : decode cX1_isNew 4 = .ok (.bipush (-4), 2) := dk_16 252 (dk_at dksX1_isNew_0 4 rfl rfl)
theorem dX1_isNew_6 : decode cX1_isNew 6 = .ok (.invokestatic 18, 3) := dk_184 0 18 (dk_at dksX1_isNew_0 6 rfl rfl)
theorem dX1_isNew_9 : decode cX1_isNew 9 = .ok (.aload_n 0, 1) := dk_42 (dk_at dksX1_isNew_0 9 rfl rfl)
theorem dX1_isNew_10 : decode cX1_isNew 10 = .ok (.getfield 15, 3) := dk_180 0 15 (dk_at dksX1_isNew_0 10 rfl rfl)
theorem dX1_isNew_13 : decode cX1_isNew 13 = .ok (.iconst 0, 1) := dk_3 (dk_at dksX1_isNew_0 13 rfl rfl)
theorem dX1_isNew_14 : decode cX1_isNew 14 = .ok (.invokestatic 18, 3) := dk_184 0 18 (dk_at dksX1_isNew_0 14 rfl rfl)
theorem dX1_isNew_17 : decode cX1_isNew 17 = .ok (.aload_n 0, 1) := dk_42 (dk_at dksX1_isNew_0 17 rfl rfl)
theorem dX1_isNew_18 : decode cX1_isNew 18 = .ok (.bipush (-4), 2) := dk_16 252 (dk_at dksX1_isNew_0 18 rfl rfl)
theorem dX1_isNew_20 : decode cX1_isNew 20 = .ok (.putfield 24, 3) := dk_181 0 24 (dk_at dksX1_isNew_0 20 rfl rfl)
theorem dX1_isNew_23 : decode cX1_isNew 23 = .ok (.aload_n 0, 1) := dk_42 (dk_at dksX1_isNew_0 23 rfl rfl)
theorem dX1_isNew_24 : decode cX1_isNew 24 = .ok (.bipush (-4), 2) := dk_16 252 (dk_at dksX1_isNew_1 0 rfl rfl)
theorem dX1_isNew_26 : decode cX1_isNew 26 = .ok (.putfield 28, 3) := dk_181 0 28 (dk_at dksX1_isNew_1 2 rfl rfl)
theorem dX1_isNew_29 : decode cX1_isNew 29 = .ok (.return_, 1) := dk_177 (dk_at dksX1_isNew_1 5 rfl rfl)
abbrev cX1_others : ByteArray := prog_7_method_4_code
def yX1_others : MethodName := ⟨RX1, "others", "(I)I"⟩
def dkwX1_others_2 : List UInt8 := [172]
abbrev dktX1_others_2 : List UInt8 := dkwX1_others_2 ++ []
def dkwX1_others_1 : List UInt8 := [159, 0, 14, 4, 42, 180, 0, 9, 29, 46, 120, 167, 0, 4, 3, 128, 61, 132, 3, 1, 167, 255, 217, 28]
abbrev dktX1_others_1 : List UInt8 := dkwX1_others_1 ++ dktX1_others_2
def dkwX1_others_0 : List UInt8 := [3, 61, 3, 62, 29, 7, 162, 0, 40, 28, 29, 27, 159, 0, 25, 42, 180, 0, 9, 29, 46, 16, 252]
abbrev dktX1_others_0 : List UInt8 := dkwX1_others_0 ++ dktX1_others_1
theorem dksX1_others_0 : cX1_others.data.toList.drop 0 = dktX1_others_0 := by decide +kernel
theorem dksX1_others_1 : cX1_others.data.toList.drop 23 = dktX1_others_1 := dk_seg dksX1_others_0 23 rfl rfl
theorem dksX1_others_2 : cX1_others.data.toList.drop 47 = dktX1_others_2 := dk_seg dksX1_others_1 24 rfl rfl
theorem dX1_others_0 : decode cX1_others 0 = .ok (.iconst 0, 1) := dk_3 (dk_at dksX1_others_0 0 rfl rfl)
theorem dX1_others_1 : decode cX1_others 1 = .ok (.istore_n 2, 1) := dk_61 (dk_at dksX1_others_0 1 rfl rfl)
theorem dX1_others_2 : decode cX1_others 2 = .ok (.iconst 0, 1) := dk_3 (dk_at dksX1_others_0 2 rfl rfl)
theorem dX1_others_3 : decode cX1_others 3 = .ok (.istore_n 3, 1) := dk_62 (dk_at dksX1_others_0 3 rfl rfl)
theorem dX1_others_4 : decode cX1_others 4 = .ok (.iload_n 3, 1) := dk_29 (dk_at dksX1_others_0 4 rfl rfl)
theorem dX1_others_5 : decode cX1_others 5 = .ok (.iconst 4, 1) := dk_7 (dk_at dksX1_others_0 5 rfl rfl)
theorem dX1_others_6 : decode cX1_others 6 = .ok (.if_icmp .ge 40, 3) := dk_162 0 40 (dk_at dksX1_others_0 6 rfl rfl)
theorem dX1_others_9 : decode cX1_others 9 = .ok (.iload_n 2, 1) := dk_28 (dk_at dksX1_others_0 9 rfl rfl)
theorem dX1_others_10 : decode cX1_others 10 = .ok (.iload_n 3, 1) := dk_29 (dk_at dksX1_others_0 10 rfl rfl)
theorem dX1_others_11 : decode cX1_others 11 = .ok (.iload_n 1, 1) := dk_27 (dk_at dksX1_others_0 11 rfl rfl)
theorem dX1_others_12 : decode cX1_others 12 = .ok (.if_icmp .eq 25, 3) := dk_159 0 25 (dk_at dksX1_others_0 12 rfl rfl)
theorem dX1_others_15 : decode cX1_others 15 = .ok (.aload_n 0, 1) := dk_42 (dk_at dksX1_others_0 15 rfl rfl)
theorem dX1_others_16 : decode cX1_others 16 = .ok (.getfield 9, 3) := dk_180 0 9 (dk_at dksX1_others_0 16 rfl rfl)
theorem dX1_others_19 : decode cX1_others 19 = .ok (.iload_n 3, 1) := dk_29 (dk_at dksX1_others_0 19 rfl rfl)
theorem dX1_others_20 : decode cX1_others 20 = .ok (.iaload, 1) := dk_46 (dk_at dksX1_others_0 20 rfl rfl)
theorem dX1_others_21 : decode cX1_others 21 = .ok (.bipush (-4), 2) := dk_16 252 (dk_at dksX1_others_0 21 rfl rfl)
theorem dX1_others_23 : decode cX1_others 23 = .ok (.if_icmp .eq 14, 3) := dk_159 0 14 (dk_at dksX1_others_1 0 rfl rfl)
theorem dX1_others_26 : decode cX1_others 26 = .ok (.iconst 1, 1) := dk_4 (dk_at dksX1_others_1 3 rfl rfl)
theorem dX1_others_27 : decode cX1_others 27 = .ok (.aload_n 0, 1) := dk_42 (dk_at dksX1_others_1 4 rfl rfl)
theorem dX1_others_28 : decode cX1_others 28 = .ok (.getfield 9, 3) := dk_180 0 9 (dk_at dksX1_others_1 5 rfl rfl)
theorem dX1_others_31 : decode cX1_others 31 = .ok (.iload_n 3, 1) := dk_29 (dk_at dksX1_others_1 8 rfl rfl)
theorem dX1_others_32 : decode cX1_others 32 = .ok (.iaload, 1) := dk_46 (dk_at dksX1_others_1 9 rfl rfl)
theorem dX1_others_33 : decode cX1_others 33 = .ok (.ishl, 1) := dk_120 (dk_at dksX1_others_1 10 rfl rfl)
theorem dX1_others_34 : decode cX1_others 34 = .ok (.goto 4, 3) := dk_167 0 4 (dk_at dksX1_others_1 11 rfl rfl)
theorem dX1_others_37 : decode cX1_others 37 = .ok (.iconst 0, 1) := dk_3 (dk_at dksX1_others_1 14 rfl rfl)
theorem dX1_others_38 : decode cX1_others 38 = .ok (.ior, 1) := dk_128 (dk_at dksX1_others_1 15 rfl rfl)
theorem dX1_others_39 : decode cX1_others 39 = .ok (.istore_n 2, 1) := dk_61 (dk_at dksX1_others_1 16 rfl rfl)
theorem dX1_others_40 : decode cX1_others 40 = .ok (.iinc 3 1, 3) := dk_132 3 1 (dk_at dksX1_others_1 17 rfl rfl)
theorem dX1_others_43 : decode cX1_others 43 = .ok (.goto (-39), 3) := dk_167 255 217 (dk_at dksX1_others_1 20 rfl rfl)
theorem dX1_others_46 : decode cX1_others 46 = .ok (.iload_n 2, 1) := dk_28 (dk_at dksX1_others_1 23 rfl rfl)
theorem dX1_others_47 : decode cX1_others 47 = .ok (.ireturn, 1) := dk_172 (dk_at dksX1_others_2 0 rfl rfl)
abbrev cX1_becomes : ByteArray := prog_7_method_3_code
def yX1_becomes : MethodName := ⟨RX1, "becomes", "(LFirstWords$Mind;)V"⟩
def dkwX1_becomes_1 : List UInt8 := [7, 184, 0, 31, 42, 43, 180, 0, 24, 181, 0, 24, 42, 43, 180, 0, 28, 181, 0, 28, 177]
abbrev dktX1_becomes_1 : List UInt8 := dkwX1_becomes_1 ++ []
def dkwX1_becomes_0 : List UInt8 := [43, 180, 0, 9, 3, 42, 180, 0, 9, 3, 7, 184, 0, 31, 43, 180, 0, 15, 3, 42, 180, 0, 15, 3]
abbrev dktX1_becomes_0 : List UInt8 := dkwX1_becomes_0 ++ dktX1_becomes_1
theorem dksX1_becomes_0 : cX1_becomes.data.toList.drop 0 = dktX1_becomes_0 := by decide +kernel
theorem dksX1_becomes_1 : cX1_becomes.data.toList.drop 24 = dktX1_becomes_1 := dk_seg dksX1_becomes_0 24 rfl rfl
theorem dX1_becomes_0 : decode cX1_becomes 0 = .ok (.aload_n 1, 1) := dk_43 (dk_at dksX1_becomes_0 0 rfl rfl)
theorem dX1_becomes_1 : decode cX1_becomes 1 = .ok (.getfield 9, 3) := dk_180 0 9 (dk_at dksX1_becomes_0 1 rfl rfl)
theorem dX1_becomes_4 : decode cX1_becomes 4 = .ok (.iconst 0, 1) := dk_3 (dk_at dksX1_becomes_0 4 rfl rfl)
theorem dX1_becomes_5 : decode cX1_becomes 5 = .ok (.aload_n 0, 1) := dk_42 (dk_at dksX1_becomes_0 5 rfl rfl)
theorem dX1_becomes_6 : decode cX1_becomes 6 = .ok (.getfield 9, 3) := dk_180 0 9 (dk_at dksX1_becomes_0 6 rfl rfl)
theorem dX1_becomes_9 : decode cX1_becomes 9 = .ok (.iconst 0, 1) := dk_3 (dk_at dksX1_becomes_0 9 rfl rfl)
theorem dX1_becomes_10 : decode cX1_becomes 10 = .ok (.iconst 4, 1) := dk_7 (dk_at dksX1_becomes_0 10 rfl rfl)
theorem dX1_becomes_11 : decode cX1_becomes 11 = .ok (.invokestatic 31, 3) := dk_184 0 31 (dk_at dksX1_becomes_0 11 rfl rfl)
theorem dX1_becomes_14 : decode cX1_becomes 14 = .ok (.aload_n 1, 1) := dk_43 (dk_at dksX1_becomes_0 14 rfl rfl)
theorem dX1_becomes_15 : decode cX1_becomes 15 = .ok (.getfield 15, 3) := dk_180 0 15 (dk_at dksX1_becomes_0 15 rfl rfl)
theorem dX1_becomes_18 : decode cX1_becomes 18 = .ok (.iconst 0, 1) := dk_3 (dk_at dksX1_becomes_0 18 rfl rfl)
theorem dX1_becomes_19 : decode cX1_becomes 19 = .ok (.aload_n 0, 1) := dk_42 (dk_at dksX1_becomes_0 19 rfl rfl)
theorem dX1_becomes_20 : decode cX1_becomes 20 = .ok (.getfield 15, 3) := dk_180 0 15 (dk_at dksX1_becomes_0 20 rfl rfl)
theorem dX1_becomes_23 : decode cX1_becomes 23 = .ok (.iconst 0, 1) := dk_3 (dk_at dksX1_becomes_0 23 rfl rfl)
theorem dX1_becomes_24 : decode cX1_becomes 24 = .ok (.iconst 4, 1) := dk_7 (dk_at dksX1_becomes_1 0 rfl rfl)
theorem dX1_becomes_25 : decode cX1_becomes 25 = .ok (.invokestatic 31, 3) := dk_184 0 31 (dk_at dksX1_becomes_1 1 rfl rfl)
theorem dX1_becomes_28 : decode cX1_becomes 28 = .ok (.aload_n 0, 1) := dk_42 (dk_at dksX1_becomes_1 4 rfl rfl)
theorem dX1_becomes_29 : decode cX1_becomes 29 = .ok (.aload_n 1, 1) := dk_43 (dk_at dksX1_becomes_1 5 rfl rfl)
theorem dX1_becomes_30 : decode cX1_becomes 30 = .ok (.getfield 24, 3) := dk_180 0 24 (dk_at dksX1_becomes_1 6 rfl rfl)
theorem dX1_becomes_33 : decode cX1_becomes 33 = .ok (.putfield 24, 3) := dk_181 0 24 (dk_at dksX1_becomes_1 9 rfl rfl)
theorem dX1_becomes_36 : decode cX1_becomes 36 = .ok (.aload_n 0, 1) := dk_42 (dk_at dksX1_becomes_1 12 rfl rfl)
theorem dX1_becomes_37 : decode cX1_becomes 37 = .ok (.aload_n 1, 1) := dk_43 (dk_at dksX1_becomes_1 13 rfl rfl)
theorem dX1_becomes_38 : decode cX1_becomes 38 = .ok (.getfield 28, 3) := dk_180 0 28 (dk_at dksX1_becomes_1 14 rfl rfl)
theorem dX1_becomes_41 : decode cX1_becomes 41 = .ok (.putfield 28, 3) := dk_181 0 28 (dk_at dksX1_becomes_1 17 rfl rfl)
theorem dX1_becomes_44 : decode cX1_becomes 44 = .ok (.return_, 1) := dk_177 (dk_at dksX1_becomes_1 20 rfl rfl)
abbrev cX1_init : ByteArray := prog_7_method_1_code
def yX1_init : MethodName := ⟨RX1, "<init>", "()V"⟩
def dkwX1_init_0 : List UInt8 := [42, 183, 0, 3, 42, 7, 188, 10, 181, 0, 9, 42, 7, 188, 10, 181, 0, 15, 177]
abbrev dktX1_init_0 : List UInt8 := dkwX1_init_0 ++ []
theorem dksX1_init_0 : cX1_init.data.toList.drop 0 = dktX1_init_0 := by decide +kernel
theorem dX1_init_0 : decode cX1_init 0 = .ok (.aload_n 0, 1) := dk_42 (dk_at dksX1_init_0 0 rfl rfl)
theorem dX1_init_1 : decode cX1_init 1 = .ok (.invokespecial 3, 3) := dk_183 0 3 (dk_at dksX1_init_0 1 rfl rfl)
theorem dX1_init_4 : decode cX1_init 4 = .ok (.aload_n 0, 1) := dk_42 (dk_at dksX1_init_0 4 rfl rfl)
theorem dX1_init_5 : decode cX1_init 5 = .ok (.iconst 4, 1) := dk_7 (dk_at dksX1_init_0 5 rfl rfl)
theorem dX1_init_6 : decode cX1_init 6 = .ok (.newarray .int, 2) := dk_188_10 (dk_at dksX1_init_0 6 rfl rfl)
theorem dX1_init_8 : decode cX1_init 8 = .ok (.putfield 9, 3) := dk_181 0 9 (dk_at dksX1_init_0 8 rfl rfl)
theorem dX1_init_11 : decode cX1_init 11 = .ok (.aload_n 0, 1) := dk_42 (dk_at dksX1_init_0 11 rfl rfl)
theorem dX1_init_12 : decode cX1_init 12 = .ok (.iconst 4, 1) := dk_7 (dk_at dksX1_init_0 12 rfl rfl)
theorem dX1_init_13 : decode cX1_init 13 = .ok (.newarray .int, 2) := dk_188_10 (dk_at dksX1_init_0 13 rfl rfl)
theorem dX1_init_15 : decode cX1_init 15 = .ok (.putfield 15, 3) := dk_181 0 15 (dk_at dksX1_init_0 15 rfl rfl)
theorem dX1_init_18 : decode cX1_init 18 = .ok (.return_, 1) := dk_177 (dk_at dksX1_init_0 18 rfl rfl)
theorem q93 : (Jvm.Cond.initialized "FirstWords$Mind") ∈ lw_all := lw_g (lw_at lw_m1 2 rfl) rfl
theorem q516 : (Jvm.Cond.instanceMethod ({ cls := "FirstWords$Mind", name := "isNew", desc := "()V" } : Jvm.MethodName)) ∈ lw_all := lw_g (lw_at lw_m2 185 rfl) rfl
theorem q517 : (Jvm.Cond.selects "FirstWords$Mind" ({ cls := "FirstWords$Mind", name := "isNew", desc := "()V" } : Jvm.MethodName) ({ cls := "FirstWords$Mind", name := "isNew", desc := "()V" } : Jvm.MethodName)) ∈ lw_all := lw_g (lw_at lw_m2 186 rfl) rfl
theorem q518 : (Jvm.Cond.code ({ cls := "FirstWords$Mind", name := "isNew", desc := "()V" } : Jvm.MethodName) prog_7_method_2_code (1 : Nat) (Option.none : Option Jvm.ClassFile.FieldType)) ∈ lw_all := lw_g (lw_at lw_m2 187 rfl) rfl
theorem q519 : (Jvm.Cond.methodLink "FirstWords$Mind" (18 : Nat) ({ cls := "java/util/Arrays", name := "fill", desc := "([II)V" } : Jvm.MethodName)) ∈ lw_all := lw_g (lw_at lw_m2 188 rfl) rfl
theorem q620 : (Jvm.Cond.instanceMethod ({ cls := "FirstWords$Mind", name := "others", desc := "(I)I" } : Jvm.MethodName)) ∈ lw_all := lw_g (lw_at lw_m3 49 rfl) rfl
theorem q621 : (Jvm.Cond.selects "FirstWords$Mind" ({ cls := "FirstWords$Mind", name := "others", desc := "(I)I" } : Jvm.MethodName) ({ cls := "FirstWords$Mind", name := "others", desc := "(I)I" } : Jvm.MethodName)) ∈ lw_all := lw_g (lw_at lw_m3 50 rfl) rfl
theorem q622 : (Jvm.Cond.code ({ cls := "FirstWords$Mind", name := "others", desc := "(I)I" } : Jvm.MethodName) prog_7_method_4_code (4 : Nat) (Option.some Jvm.ClassFile.FieldType.int)) ∈ lw_all := lw_g (lw_at lw_m3 51 rfl) rfl
theorem q717 : (Jvm.Cond.instanceMethod ({ cls := "FirstWords$Mind", name := "becomes", desc := "(LFirstWords$Mind;)V" } : Jvm.MethodName)) ∈ lw_all := lw_g (lw_at lw_m3 146 rfl) rfl
theorem q718 : (Jvm.Cond.selects "FirstWords$Mind" ({ cls := "FirstWords$Mind", name := "becomes", desc := "(LFirstWords$Mind;)V" } : Jvm.MethodName) ({ cls := "FirstWords$Mind", name := "becomes", desc := "(LFirstWords$Mind;)V" } : Jvm.MethodName)) ∈ lw_all := lw_g (lw_at lw_m3 147 rfl) rfl
theorem q719 : (Jvm.Cond.code ({ cls := "FirstWords$Mind", name := "becomes", desc := "(LFirstWords$Mind;)V" } : Jvm.MethodName) prog_7_method_3_code (2 : Nat) (Option.none : Option Jvm.ClassFile.FieldType)) ∈ lw_all := lw_g (lw_at lw_m3 148 rfl) rfl
theorem q720 : (Jvm.Cond.methodLink "FirstWords$Mind" (31 : Nat) ({ cls := "java/lang/System", name := "arraycopy", desc := "(Ljava/lang/Object;ILjava/lang/Object;II)V" } : Jvm.MethodName)) ∈ lw_all := lw_g (lw_at lw_m3 149 rfl) rfl
theorem q872 : (Jvm.Cond.instantiable "FirstWords$Mind" (4 : Nat)) ∈ lw_all := lw_g (lw_at lw_m4 61 rfl) rfl
theorem q874 : (Jvm.Cond.instanceMethod ({ cls := "FirstWords$Mind", name := "<init>", desc := "()V" } : Jvm.MethodName)) ∈ lw_all := lw_g (lw_at lw_m4 63 rfl) rfl
theorem q875 : (Jvm.Cond.code ({ cls := "FirstWords$Mind", name := "<init>", desc := "()V" } : Jvm.MethodName) prog_7_method_1_code (1 : Nat) (Option.none : Option Jvm.ClassFile.FieldType)) ∈ lw_all := lw_g (lw_at lw_m4 64 rfl) rfl
theorem q876 : (Jvm.Cond.methodLink "FirstWords$Mind" (3 : Nat) ({ cls := "java/lang/Object", name := "<init>", desc := "()V" } : Jvm.MethodName)) ∈ lw_all := lw_g (lw_at lw_m4 65 rfl) rfl
theorem q877 : (Jvm.Cond.fieldLink "FirstWords$Mind" (9 : Nat) "FirstWords$Mind" "thinks" "[I") ∈ lw_all := lw_g (lw_at lw_m4 66 rfl) rfl
theorem q881 : (Jvm.Cond.fieldLink "FirstWords$Mind" (15 : Nat) "FirstWords$Mind" "against" "[I") ∈ lw_all := lw_g (lw_at lw_m4 70 rfl) rfl
theorem q885 : (Jvm.Cond.fieldLink "FirstWords$Mind" (24 : Nat) "FirstWords$Mind" "latest" "I") ∈ lw_all := lw_g (lw_at lw_m4 74 rfl) rfl
theorem q888 : (Jvm.Cond.fieldLink "FirstWords$Mind" (28 : Nat) "FirstWords$Mind" "fled" "I") ∈ lw_all := lw_g (lw_at lw_m4 77 rfl) rfl
theorem q892 : (Jvm.Cond.laysFinal "FirstWords$Mind" "FirstWords$Mind" "thinks" "[I") ∈ lw_all := lw_g (lw_at lw_m4 81 rfl) rfl
theorem q893 : (Jvm.Cond.soleField "FirstWords$Mind" "thinks") ∈ lw_all := lw_g (lw_at lw_m4 82 rfl) rfl
theorem q894 : (Jvm.Cond.laysFinal "FirstWords$Mind" "FirstWords$Mind" "against" "[I") ∈ lw_all := lw_g (lw_at lw_m4 83 rfl) rfl
theorem q895 : (Jvm.Cond.soleField "FirstWords$Mind" "against") ∈ lw_all := lw_g (lw_at lw_m4 84 rfl) rfl
theorem q896 : (Jvm.Cond.lays "FirstWords$Mind" "FirstWords$Mind" "latest" "I") ∈ lw_all := lw_g (lw_at lw_m4 85 rfl) rfl
theorem q897 : (Jvm.Cond.soleField "FirstWords$Mind" "latest") ∈ lw_all := lw_g (lw_at lw_m4 86 rfl) rfl
theorem q898 : (Jvm.Cond.lays "FirstWords$Mind" "FirstWords$Mind" "fled" "I") ∈ lw_all := lw_g (lw_at lw_m4 87 rfl) rfl
theorem q899 : (Jvm.Cond.soleField "FirstWords$Mind" "fled") ∈ lw_all := lw_g (lw_at lw_m4 88 rfl) rfl
theorem q900 : (Jvm.Cond.superclass "FirstWords$Mind" "java/lang/Object") ∈ lw_all := lw_g (lw_at lw_m4 89 rfl) rfl
theorem in_X1 : ∀ w ∈ wsX10, w ∈ lw_all := lw_in wsX10 [892, 894, 896, 898] (by decide +kernel) (by decide +kernel)
/-! FirstWords$Teaching -/
set_option maxRecDepth 100000
def RX2 : String := "FirstWords$Teaching"
def TX2 : u_T := fun k => match k with
  | 0 => ("FirstWords$Teaching", "kinds", "I", false)
  | 1 => ("FirstWords$Teaching", "steps", "[[LFirstWords$Mind;", true)
  | 2 => ("FirstWords$Teaching", "fits", "[I", true)
  | 3 => ("FirstWords$Teaching", "row", "[I", true)
  | 4 => ("FirstWords$Teaching", "size", "I", false)
  | _ => ("FirstWords$Teaching", "this$0", "LFirstWords;", true)
def tyX2 : Nat → FieldType := fun k => match k with
  | 0 => .int
  | 1 => .array (.array (.object "FirstWords$Mind"))
  | 2 => .array .int
  | 3 => .array .int
  | 4 => .int
  | _ => .object "FirstWords"
abbrev wsX20 : List Cond := u_ws RX2 TX2 6
theorem nmX2 : ∀ a, a < 6 → ∀ b, b < 6 → a ≠ b → (TX2 a).2.1 ≠ (TX2 b).2.1 := by decide +kernel
theorem tyX2_ok : ∀ k, k < 6 → parseFieldDescriptor (TX2 k).2.2.1 = some (tyX2 k) := by decide +kernel
abbrev cX2_from : ByteArray := prog_12_method_6_code
def yX2_from : MethodName := ⟨RX2, "from", "(I[LFirstWords$Mind;I)V"⟩
def dkwX2_from_2 : List UInt8 := [79, 177]
abbrev dktX2_from_2 : List UInt8 := dkwX2_from_2 ++ []
def dkwX2_from_1 : List UInt8 := [3, 50, 21, 4, 50, 44, 21, 4, 50, 182, 0, 70, 132, 4, 1, 167, 255, 225, 42, 180, 0, 20, 3, 29]
abbrev dktX2_from_1 : List UInt8 := dkwX2_from_1 ++ dktX2_from_2
def dkwX2_from_0 : List UInt8 := [42, 27, 181, 0, 34, 3, 54, 4, 21, 4, 42, 180, 0, 3, 180, 0, 30, 162, 0, 25, 42, 180, 0, 17]
abbrev dktX2_from_0 : List UInt8 := dkwX2_from_0 ++ dktX2_from_1
theorem dksX2_from_0 : cX2_from.data.toList.drop 0 = dktX2_from_0 := by decide +kernel
theorem dksX2_from_1 : cX2_from.data.toList.drop 24 = dktX2_from_1 := dk_seg dksX2_from_0 24 rfl rfl
theorem dksX2_from_2 : cX2_from.data.toList.drop 48 = dktX2_from_2 := dk_seg dksX2_from_1 24 rfl rfl
theorem dX2_from_0 : decode cX2_from 0 = .ok (.aload_n 0, 1) := dk_42 (dk_at dksX2_from_0 0 rfl rfl)
theorem dX2_from_1 : decode cX2_from 1 = .ok (.iload_n 1, 1) := dk_27 (dk_at dksX2_from_0 1 rfl rfl)
theorem dX2_from_2 : decode cX2_from 2 = .ok (.putfield 34, 3) := dk_181 0 34 (dk_at dksX2_from_0 2 rfl rfl)
theorem dX2_from_5 : decode cX2_from 5 = .ok (.iconst 0, 1) := dk_3 (dk_at dksX2_from_0 5 rfl rfl)
theorem dX2_from_6 : decode cX2_from 6 = .ok (.istore 4, 2) := dk_54 4 (dk_at dksX2_from_0 6 rfl rfl)
theorem dX2_from_8 : decode cX2_from 8 = .ok (.iload 4, 2) := dk_21 4 (dk_at dksX2_from_0 8 rfl rfl)
theorem dX2_from_10 : decode cX2_from 10 = .ok (.aload_n 0, 1) := dk_42 (dk_at dksX2_from_0 10 rfl rfl)
theorem dX2_from_11 : decode cX2_from 11 = .ok (.getfield 3, 3) := dk_180 0 3 (dk_at dksX2_from_0 11 rfl rfl)
theorem dX2_from_14 : decode cX2_from 14 = .ok (.getfield 30, 3) := dk_180 0 30 (dk_at dksX2_from_0 14 rfl rfl)
theorem dX2_from_17 : decode cX2_from 17 = .ok (.if_icmp .ge 25, 3) := dk_162 0 25 (dk_at dksX2_from_0 17 rfl rfl)
theorem dX2_from_20 : decode cX2_from 20 = .ok (.aload_n 0, 1) := dk_42 (dk_at dksX2_from_0 20 rfl rfl)
theorem dX2_from_21 : decode cX2_from 21 = .ok (.getfield 17, 3) := dk_180 0 17 (dk_at dksX2_from_0 21 rfl rfl)
theorem dX2_from_24 : decode cX2_from 24 = .ok (.iconst 0, 1) := dk_3 (dk_at dksX2_from_1 0 rfl rfl)
theorem dX2_from_25 : decode cX2_from 25 = .ok (.aaload, 1) := dk_50 (dk_at dksX2_from_1 1 rfl rfl)
theorem dX2_from_26 : decode cX2_from 26 = .ok (.iload 4, 2) := dk_21 4 (dk_at dksX2_from_1 2 rfl rfl)
theorem dX2_from_28 : decode cX2_from 28 = .ok (.aaload, 1) := dk_50 (dk_at dksX2_from_1 4 rfl rfl)
theorem dX2_from_29 : decode cX2_from 29 = .ok (.aload_n 2, 1) := dk_44 (dk_at dksX2_from_1 5 rfl rfl)
theorem dX2_from_30 : decode cX2_from 30 = .ok (.iload 4, 2) := dk_21 4 (dk_at dksX2_from_1 6 rfl rfl)
theorem dX2_from_32 : decode cX2_from 32 = .ok (.aaload, 1) := dk_50 (dk_at dksX2_from_1 8 rfl rfl)
theorem dX2_from_33 : decode cX2_from 33 = .ok (.invokevirtual 70, 3) := dk_182 0 70 (dk_at dksX2_from_1 9 rfl rfl)
theorem dX2_from_36 : decode cX2_from 36 = .ok (.iinc 4 1, 3) := dk_132 4 1 (dk_at dksX2_from_1 12 rfl rfl)
theorem dX2_from_39 : decode cX2_from 39 = .ok (.goto (-31), 3) := dk_167 255 225 (dk_at dksX2_from_1 15 rfl rfl)
theorem dX2_from_42 : decode cX2_from 42 = .ok (.aload_n 0, 1) := dk_42 (dk_at dksX2_from_1 18 rfl rfl)
theorem dX2_from_43 : decode cX2_from 43 = .ok (.getfield 20, 3) := dk_180 0 20 (dk_at dksX2_from_1 19 rfl rfl)
theorem dX2_from_46 : decode cX2_from 46 = .ok (.iconst 0, 1) := dk_3 (dk_at dksX2_from_1 22 rfl rfl)
theorem dX2_from_47 : decode cX2_from 47 = .ok (.iload_n 3, 1) := dk_29 (dk_at dksX2_from_1 23 rfl rfl)
theorem dX2_from_48 : decode cX2_from 48 = .ok (.iastore, 1) := dk_79 (dk_at dksX2_from_2 0 rfl rfl)
theorem dX2_from_49 : decode cX2_from 49 = .ok (.return_, 1) := dk_177 (dk_at dksX2_from_2 1 rfl rfl)
abbrev cX2_fewest : ByteArray := prog_12_method_5_code
def yX2_fewest : MethodName := ⟨RX2, "fewest", "(II)I"⟩
def dkwX2_fewest_2 : List UInt8 := [89, 180, 0, 48, 4, 100, 181, 0, 48, 29, 153, 0, 10, 42, 180, 0, 48, 167, 0, 5, 16, 252, 172]
abbrev dktX2_fewest_2 : List UInt8 := dkwX2_fewest_2 ++ []
def dkwX2_fewest_1 : List UInt8 := [153, 0, 23, 42, 27, 3, 182, 0, 87, 62, 42, 89, 180, 0, 48, 4, 96, 181, 0, 48, 167, 255, 219, 42]
abbrev dktX2_fewest_1 : List UInt8 := dkwX2_fewest_1 ++ dktX2_fewest_2
def dkwX2_fewest_0 : List UInt8 := [3, 62, 42, 3, 181, 0, 48, 42, 180, 0, 48, 28, 163, 0, 35, 29, 154, 0, 31, 42, 3, 182, 0, 84]
abbrev dktX2_fewest_0 : List UInt8 := dkwX2_fewest_0 ++ dktX2_fewest_1
theorem dksX2_fewest_0 : cX2_fewest.data.toList.drop 0 = dktX2_fewest_0 := by decide +kernel
theorem dksX2_fewest_1 : cX2_fewest.data.toList.drop 24 = dktX2_fewest_1 := dk_seg dksX2_fewest_0 24 rfl rfl
theorem dksX2_fewest_2 : cX2_fewest.data.toList.drop 48 = dktX2_fewest_2 := dk_seg dksX2_fewest_1 24 rfl rfl
theorem dX2_fewest_0 : decode cX2_fewest 0 = .ok (.iconst 0, 1) := dk_3 (dk_at dksX2_fewest_0 0 rfl rfl)
theorem dX2_fewest_1 : decode cX2_fewest 1 = .ok (.istore_n 3, 1) := dk_62 (dk_at dksX2_fewest_0 1 rfl rfl)
theorem dX2_fewest_2 : decode cX2_fewest 2 = .ok (.aload_n 0, 1) := dk_42 (dk_at dksX2_fewest_0 2 rfl rfl)
theorem dX2_fewest_3 : decode cX2_fewest 3 = .ok (.iconst 0, 1) := dk_3 (dk_at dksX2_fewest_0 3 rfl rfl)
theorem dX2_fewest_4 : decode cX2_fewest 4 = .ok (.putfield 48, 3) := dk_181 0 48 (dk_at dksX2_fewest_0 4 rfl rfl)
theorem dX2_fewest_7 : decode cX2_fewest 7 = .ok (.aload_n 0, 1) := dk_42 (dk_at dksX2_fewest_0 7 rfl rfl)
theorem dX2_fewest_8 : decode cX2_fewest 8 = .ok (.getfield 48, 3) := dk_180 0 48 (dk_at dksX2_fewest_0 8 rfl rfl)
theorem dX2_fewest_11 : decode cX2_fewest 11 = .ok (.iload_n 2, 1) := dk_28 (dk_at dksX2_fewest_0 11 rfl rfl)
theorem dX2_fewest_12 : decode cX2_fewest 12 = .ok (.if_icmp .gt 35, 3) := dk_163 0 35 (dk_at dksX2_fewest_0 12 rfl rfl)
theorem dX2_fewest_15 : decode cX2_fewest 15 = .ok (.iload_n 3, 1) := dk_29 (dk_at dksX2_fewest_0 15 rfl rfl)
theorem dX2_fewest_16 : decode cX2_fewest 16 = .ok (.ifCond .ne 31, 3) := dk_154 0 31 (dk_at dksX2_fewest_0 16 rfl rfl)
theorem dX2_fewest_19 : decode cX2_fewest 19 = .ok (.aload_n 0, 1) := dk_42 (dk_at dksX2_fewest_0 19 rfl rfl)
theorem dX2_fewest_20 : decode cX2_fewest 20 = .ok (.iconst 0, 1) := dk_3 (dk_at dksX2_fewest_0 20 rfl rfl)
theorem dX2_fewest_21 : decode cX2_fewest 21 = .ok (.invokevirtual 84, 3) := dk_182 0 84 (dk_at dksX2_fewest_0 21 rfl rfl)
theorem dX2_fewest_24 : decode cX2_fewest 24 = .ok (.ifCond .eq 23, 3) := dk_153 0 23 (dk_at dksX2_fewest_1 0 rfl rfl)
theorem dX2_fewest_27 : decode cX2_fewest 27 = .ok (.aload_n 0, 1) := dk_42 (dk_at dksX2_fewest_1 3 rfl rfl)
theorem dX2_fewest_28 : decode cX2_fewest 28 = .ok (.iload_n 1, 1) := dk_27 (dk_at dksX2_fewest_1 4 rfl rfl)
theorem dX2_fewest_29 : decode cX2_fewest 29 = .ok (.iconst 0, 1) := dk_3 (dk_at dksX2_fewest_1 5 rfl rfl)
theorem dX2_fewest_30 : decode cX2_fewest 30 = .ok (.invokevirtual 87, 3) := dk_182 0 87 (dk_at dksX2_fewest_1 6 rfl rfl)
theorem dX2_fewest_33 : decode cX2_fewest 33 = .ok (.istore_n 3, 1) := dk_62 (dk_at dksX2_fewest_1 9 rfl rfl)
theorem dX2_fewest_34 : decode cX2_fewest 34 = .ok (.aload_n 0, 1) := dk_42 (dk_at dksX2_fewest_1 10 rfl rfl)
theorem dX2_fewest_35 : decode cX2_fewest 35 = .ok (.dup, 1) := dk_89 (dk_at dksX2_fewest_1 11 rfl rfl)
theorem dX2_fewest_36 : decode cX2_fewest 36 = .ok (.getfield 48, 3) := dk_180 0 48 (dk_at dksX2_fewest_1 12 rfl rfl)
theorem dX2_fewest_39 : decode cX2_fewest 39 = .ok (.iconst 1, 1) := dk_4 (dk_at dksX2_fewest_1 15 rfl rfl)
theorem dX2_fewest_40 : decode cX2_fewest 40 = .ok (.iadd, 1) := dk_96 (dk_at dksX2_fewest_1 16 rfl rfl)
theorem dX2_fewest_41 : decode cX2_fewest 41 = .ok (.putfield 48, 3) := dk_181 0 48 (dk_at dksX2_fewest_1 17 rfl rfl)
theorem dX2_fewest_44 : decode cX2_fewest 44 = .ok (.goto (-37), 3) := dk_167 255 219 (dk_at dksX2_fewest_1 20 rfl rfl)
theorem dX2_fewest_47 : decode cX2_fewest 47 = .ok (.aload_n 0, 1) := dk_42 (dk_at dksX2_fewest_1 23 rfl rfl)
theorem dX2_fewest_48 : decode cX2_fewest 48 = .ok (.dup, 1) := dk_89 (dk_at dksX2_fewest_2 0 rfl rfl)
theorem dX2_fewest_49 : decode cX2_fewest 49 = .ok (.getfield 48, 3) := dk_180 0 48 (dk_at dksX2_fewest_2 1 rfl rfl)
theorem dX2_fewest_52 : decode cX2_fewest 52 = .ok (.iconst 1, 1) := dk_4 (dk_at dksX2_fewest_2 4 rfl rfl)
theorem dX2_fewest_53 : decode cX2_fewest 53 = .ok (.isub, 1) := dk_100 (dk_at dksX2_fewest_2 5 rfl rfl)
theorem dX2_fewest_54 : decode cX2_fewest 54 = .ok (.putfield 48, 3) := dk_181 0 48 (dk_at dksX2_fewest_2 6 rfl rfl)
theorem dX2_fewest_57 : decode cX2_fewest 57 = .ok (.iload_n 3, 1) := dk_29 (dk_at dksX2_fewest_2 9 rfl rfl)
theorem dX2_fewest_58 : decode cX2_fewest 58 = .ok (.ifCond .eq 10, 3) := dk_153 0 10 (dk_at dksX2_fewest_2 10 rfl rfl)
theorem dX2_fewest_61 : decode cX2_fewest 61 = .ok (.aload_n 0, 1) := dk_42 (dk_at dksX2_fewest_2 13 rfl rfl)
theorem dX2_fewest_62 : decode cX2_fewest 62 = .ok (.getfield 48, 3) := dk_180 0 48 (dk_at dksX2_fewest_2 14 rfl rfl)
theorem dX2_fewest_65 : decode cX2_fewest 65 = .ok (.goto 5, 3) := dk_167 0 5 (dk_at dksX2_fewest_2 17 rfl rfl)
theorem dX2_fewest_68 : decode cX2_fewest 68 = .ok (.bipush (-4), 2) := dk_16 252 (dk_at dksX2_fewest_2 20 rfl rfl)
theorem dX2_fewest_70 : decode cX2_fewest 70 = .ok (.ireturn, 1) := dk_172 (dk_at dksX2_fewest_2 22 rfl rfl)
abbrev cX2_isCalm : ByteArray := prog_12_method_3_code
def yX2_isCalm : MethodName := ⟨RX2, "isCalm", "(I)Z"⟩
def dkwX2_isCalm_2 : List UInt8 := [167, 0, 4, 3, 61, 132, 3, 1, 167, 255, 205, 28, 172]
abbrev dktX2_isCalm_2 : List UInt8 := dkwX2_isCalm_2 ++ []
def dkwX2_isCalm_1 : List UInt8 := [184, 0, 37, 153, 0, 19, 42, 180, 0, 17, 27, 50, 29, 50, 180, 0, 45, 16, 252, 160, 0, 7, 4]
abbrev dktX2_isCalm_1 : List UInt8 := dkwX2_isCalm_1 ++ dktX2_isCalm_2
def dkwX2_isCalm_0 : List UInt8 := [4, 61, 3, 62, 29, 42, 180, 0, 3, 180, 0, 30, 162, 0, 46, 28, 153, 0, 34, 42, 180, 0, 34, 29]
abbrev dktX2_isCalm_0 : List UInt8 := dkwX2_isCalm_0 ++ dktX2_isCalm_1
theorem dksX2_isCalm_0 : cX2_isCalm.data.toList.drop 0 = dktX2_isCalm_0 := by decide +kernel
theorem dksX2_isCalm_1 : cX2_isCalm.data.toList.drop 24 = dktX2_isCalm_1 := dk_seg dksX2_isCalm_0 24 rfl rfl
theorem dksX2_isCalm_2 : cX2_isCalm.data.toList.drop 47 = dktX2_isCalm_2 := dk_seg dksX2_isCalm_1 23 rfl rfl
theorem dX2_isCalm_0 : decode cX2_isCalm 0 = .ok (.iconst 1, 1) := dk_4 (dk_at dksX2_isCalm_0 0 rfl rfl)
theorem dX2_isCalm_1 : decode cX2_isCalm 1 = .ok (.istore_n 2, 1) := dk_61 (dk_at dksX2_isCalm_0 1 rfl rfl)
theorem dX2_isCalm_2 : decode cX2_isCalm 2 = .ok (.iconst 0, 1) := dk_3 (dk_at dksX2_isCalm_0 2 rfl rfl)
theorem dX2_isCalm_3 : decode cX2_isCalm 3 = .ok (.istore_n 3, 1) := dk_62 (dk_at dksX2_isCalm_0 3 rfl rfl)
theorem dX2_isCalm_4 : decode cX2_isCalm 4 = .ok (.iload_n 3, 1) := dk_29 (dk_at dksX2_isCalm_0 4 rfl rfl)
theorem dX2_isCalm_5 : decode cX2_isCalm 5 = .ok (.aload_n 0, 1) := dk_42 (dk_at dksX2_isCalm_0 5 rfl rfl)
theorem dX2_isCalm_6 : decode cX2_isCalm 6 = .ok (.getfield 3, 3) := dk_180 0 3 (dk_at dksX2_isCalm_0 6 rfl rfl)
theorem dX2_isCalm_9 : decode cX2_isCalm 9 = .ok (.getfield 30, 3) := dk_180 0 30 (dk_at dksX2_isCalm_0 9 rfl rfl)
theorem dX2_isCalm_12 : decode cX2_isCalm 12 = .ok (.if_icmp .ge 46, 3) := dk_162 0 46 (dk_at dksX2_isCalm_0 12 rfl rfl)
theorem dX2_isCalm_15 : decode cX2_isCalm 15 = .ok (.iload_n 2, 1) := dk_28 (dk_at dksX2_isCalm_0 15 rfl rfl)
theorem dX2_isCalm_16 : decode cX2_isCalm 16 = .ok (.ifCond .eq 34, 3) := dk_153 0 34 (dk_at dksX2_isCalm_0 16 rfl rfl)
theorem dX2_isCalm_19 : decode cX2_isCalm 19 = .ok (.aload_n 0, 1) := dk_42 (dk_at dksX2_isCalm_0 19 rfl rfl)
theorem dX2_isCalm_20 : decode cX2_isCalm 20 = .ok (.getfield 34, 3) := dk_180 0 34 (dk_at dksX2_isCalm_0 20 rfl rfl)
theorem dX2_isCalm_23 : decode cX2_isCalm 23 = .ok (.iload_n 3, 1) := dk_29 (dk_at dksX2_isCalm_0 23 rfl rfl)
theorem dX2_isCalm_24 : decode cX2_isCalm 24 = .ok (.invokestatic 37, 3) := dk_184 0 37 (dk_at dksX2_isCalm_1 0 rfl rfl)
theorem dX2_isCalm_27 : decode cX2_isCalm 27 = .ok (.ifCond .eq 19, 3) := dk_153 0 19 (dk_at dksX2_isCalm_1 3 rfl rfl)
theorem dX2_isCalm_30 : decode cX2_isCalm 30 = .ok (.aload_n 0, 1) := dk_42 (dk_at dksX2_isCalm_1 6 rfl rfl)
theorem dX2_isCalm_31 : decode cX2_isCalm 31 = .ok (.getfield 17, 3) := dk_180 0 17 (dk_at dksX2_isCalm_1 7 rfl rfl)
theorem dX2_isCalm_34 : decode cX2_isCalm 34 = .ok (.iload_n 1, 1) := dk_27 (dk_at dksX2_isCalm_1 10 rfl rfl)
theorem dX2_isCalm_35 : decode cX2_isCalm 35 = .ok (.aaload, 1) := dk_50 (dk_at dksX2_isCalm_1 11 rfl rfl)
theorem dX2_isCalm_36 : decode cX2_isCalm 36 = .ok (.iload_n 3, 1) := dk_29 (dk_at dksX2_isCalm_1 12 rfl rfl)
theorem dX2_isCalm_37 : decode cX2_isCalm 37 = .ok (.aaload, 1) := dk_50 (dk_at dksX2_isCalm_1 13 rfl rfl)
theorem dX2_isCalm_38 : decode cX2_isCalm 38 = .ok (.getfield 45, 3) := dk_180 0 45 (dk_at dksX2_isCalm_1 14 rfl rfl)
theorem dX2_isCalm_41 : decode cX2_isCalm 41 = .ok (.bipush (-4), 2) := dk_16 252 (dk_at dksX2_isCalm_1 17 rfl rfl)
theorem dX2_isCalm_43 : decode cX2_isCalm 43 = .ok (.if_icmp .ne 7, 3) := dk_160 0 7 (dk_at dksX2_isCalm_1 19 rfl rfl)
theorem dX2_isCalm_46 : decode cX2_isCalm 46 = .ok (.iconst 1, 1) := dk_4 (dk_at dksX2_isCalm_1 22 rfl rfl)
theorem dX2_isCalm_47 : decode cX2_isCalm 47 = .ok (.goto 4, 3) := dk_167 0 4 (dk_at dksX2_isCalm_2 0 rfl rfl)
theorem dX2_isCalm_50 : decode cX2_isCalm 50 = .ok (.iconst 0, 1) := dk_3 (dk_at dksX2_isCalm_2 3 rfl rfl)
theorem dX2_isCalm_51 : decode cX2_isCalm 51 = .ok (.istore_n 2, 1) := dk_61 (dk_at dksX2_isCalm_2 4 rfl rfl)
theorem dX2_isCalm_52 : decode cX2_isCalm 52 = .ok (.iinc 3 1, 3) := dk_132 3 1 (dk_at dksX2_isCalm_2 5 rfl rfl)
theorem dX2_isCalm_55 : decode cX2_isCalm 55 = .ok (.goto (-51), 3) := dk_167 255 205 (dk_at dksX2_isCalm_2 8 rfl rfl)
theorem dX2_isCalm_58 : decode cX2_isCalm 58 = .ok (.iload_n 2, 1) := dk_28 (dk_at dksX2_isCalm_2 11 rfl rfl)
theorem dX2_isCalm_59 : decode cX2_isCalm 59 = .ok (.ireturn, 1) := dk_172 (dk_at dksX2_isCalm_2 12 rfl rfl)
abbrev cX2_tries : ByteArray := prog_12_method_4_code
def yX2_tries : MethodName := ⟨RX2, "tries", "(II)Z"⟩
def dkwX2_tries_7 : List UInt8 := [153, 0, 16, 42, 27, 28, 4, 96, 182, 0, 87, 153, 0, 5, 4, 172, 132, 3, 1, 167, 255, 93, 3, 172]
abbrev dktX2_tries_7 : List UInt8 := dkwX2_tries_7 ++ []
def dkwX2_tries_6 : List UInt8 := [182, 0, 78, 132, 5, 1, 167, 255, 181, 42, 180, 0, 24, 28, 29, 79, 42, 28, 4, 96, 182, 0, 84]
abbrev dktX2_tries_6 : List UInt8 := dkwX2_tries_6 ++ dktX2_tries_7
def dkwX2_tries_5 : List UInt8 := [180, 0, 17, 28, 4, 96, 50, 21, 5, 50, 3, 27, 29, 21, 4, 42, 180, 0, 20, 28, 4, 96, 46]
abbrev dktX2_tries_5 : List UInt8 := dkwX2_tries_5 ++ dktX2_tries_6
def dkwX2_tries_4 : List UInt8 := [180, 0, 17, 28, 50, 21, 5, 50, 182, 0, 70, 42, 180, 0, 3, 180, 0, 74, 21, 5, 50, 42]
abbrev dktX2_tries_4 : List UInt8 := dkwX2_tries_4 ++ dktX2_tries_5
def dkwX2_tries_3 : List UInt8 := [21, 5, 42, 180, 0, 3, 180, 0, 30, 162, 0, 69, 42, 180, 0, 17, 28, 4, 96, 50, 21, 5, 50, 42]
abbrev dktX2_tries_3 : List UInt8 := dkwX2_tries_3 ++ dktX2_tries_4
def dkwX2_tries_2 : List UInt8 := [28, 4, 96, 42, 180, 0, 3, 42, 180, 0, 20, 28, 46, 29, 21, 4, 182, 0, 66, 79, 3, 54, 5]
abbrev dktX2_tries_2 : List UInt8 := dkwX2_tries_2 ++ dktX2_tries_3
def dkwX2_tries_1 : List UInt8 := [180, 0, 54, 162, 0, 158, 42, 180, 0, 3, 27, 182, 0, 57, 29, 182, 0, 61, 54, 4, 42, 180, 0, 20]
abbrev dktX2_tries_1 : List UInt8 := dkwX2_tries_1 ++ dktX2_tries_2
def dkwX2_tries_0 : List UInt8 := [28, 42, 180, 0, 48, 160, 0, 10, 42, 27, 28, 182, 0, 51, 172, 3, 62, 29, 42, 180, 0, 3]
abbrev dktX2_tries_0 : List UInt8 := dkwX2_tries_0 ++ dktX2_tries_1
theorem dksX2_tries_0 : cX2_tries.data.toList.drop 0 = dktX2_tries_0 := by decide +kernel
theorem dksX2_tries_1 : cX2_tries.data.toList.drop 22 = dktX2_tries_1 := dk_seg dksX2_tries_0 22 rfl rfl
theorem dksX2_tries_2 : cX2_tries.data.toList.drop 46 = dktX2_tries_2 := dk_seg dksX2_tries_1 24 rfl rfl
theorem dksX2_tries_3 : cX2_tries.data.toList.drop 69 = dktX2_tries_3 := dk_seg dksX2_tries_2 23 rfl rfl
theorem dksX2_tries_4 : cX2_tries.data.toList.drop 93 = dktX2_tries_4 := dk_seg dksX2_tries_3 24 rfl rfl
theorem dksX2_tries_5 : cX2_tries.data.toList.drop 115 = dktX2_tries_5 := dk_seg dksX2_tries_4 22 rfl rfl
theorem dksX2_tries_6 : cX2_tries.data.toList.drop 138 = dktX2_tries_6 := dk_seg dksX2_tries_5 23 rfl rfl
theorem dksX2_tries_7 : cX2_tries.data.toList.drop 161 = dktX2_tries_7 := dk_seg dksX2_tries_6 23 rfl rfl
theorem dX2_tries_0 : decode cX2_tries 0 = .ok (.iload_n 2, 1) := dk_28 (dk_at dksX2_tries_0 0 rfl rfl)
theorem dX2_tries_1 : decode cX2_tries 1 = .ok (.aload_n 0, 1) := dk_42 (dk_at dksX2_tries_0 1 rfl rfl)
theorem dX2_tries_2 : decode cX2_tries 2 = .ok (.getfield 48, 3) := dk_180 0 48 (dk_at dksX2_tries_0 2 rfl rfl)
theorem dX2_tries_5 : decode cX2_tries 5 = .ok (.if_icmp .ne 10, 3) := dk_160 0 10 (dk_at dksX2_tries_0 5 rfl rfl)
theorem dX2_tries_8 : decode cX2_tries 8 = .ok (.aload_n 0, 1) := dk_42 (dk_at dksX2_tries_0 8 rfl rfl)
theorem dX2_tries_9 : decode cX2_tries 9 = .ok (.iload_n 1, 1) := dk_27 (dk_at dksX2_tries_0 9 rfl rfl)
theorem dX2_tries_10 : decode cX2_tries 10 = .ok (.iload_n 2, 1) := dk_28 (dk_at dksX2_tries_0 10 rfl rfl)
theorem dX2_tries_11 : decode cX2_tries 11 = .ok (.invokevirtual 51, 3) := dk_182 0 51 (dk_at dksX2_tries_0 11 rfl rfl)
theorem dX2_tries_14 : decode cX2_tries 14 = .ok (.ireturn, 1) := dk_172 (dk_at dksX2_tries_0 14 rfl rfl)
theorem dX2_tries_15 : decode cX2_tries 15 = .ok (.iconst 0, 1) := dk_3 (dk_at dksX2_tries_0 15 rfl rfl)
theorem dX2_tries_16 : decode cX2_tries 16 = .ok (.istore_n 3, 1) := dk_62 (dk_at dksX2_tries_0 16 rfl rfl)
theorem dX2_tries_17 : decode cX2_tries 17 = .ok (.iload_n 3, 1) := dk_29 (dk_at dksX2_tries_0 17 rfl rfl)
theorem dX2_tries_18 : decode cX2_tries 18 = .ok (.aload_n 0, 1) := dk_42 (dk_at dksX2_tries_0 18 rfl rfl)
theorem dX2_tries_19 : decode cX2_tries 19 = .ok (.getfield 3, 3) := dk_180 0 3 (dk_at dksX2_tries_0 19 rfl rfl)
theorem dX2_tries_22 : decode cX2_tries 22 = .ok (.getfield 54, 3) := dk_180 0 54 (dk_at dksX2_tries_1 0 rfl rfl)
theorem dX2_tries_25 : decode cX2_tries 25 = .ok (.if_icmp .ge 158, 3) := dk_162 0 158 (dk_at dksX2_tries_1 3 rfl rfl)
theorem dX2_tries_28 : decode cX2_tries 28 = .ok (.aload_n 0, 1) := dk_42 (dk_at dksX2_tries_1 6 rfl rfl)
theorem dX2_tries_29 : decode cX2_tries 29 = .ok (.getfield 3, 3) := dk_180 0 3 (dk_at dksX2_tries_1 7 rfl rfl)
theorem dX2_tries_32 : decode cX2_tries 32 = .ok (.iload_n 1, 1) := dk_27 (dk_at dksX2_tries_1 10 rfl rfl)
theorem dX2_tries_33 : decode cX2_tries 33 = .ok (.invokevirtual 57, 3) := dk_182 0 57 (dk_at dksX2_tries_1 11 rfl rfl)
theorem dX2_tries_36 : decode cX2_tries 36 = .ok (.iload_n 3, 1) := dk_29 (dk_at dksX2_tries_1 14 rfl rfl)
theorem dX2_tries_37 : decode cX2_tries 37 = .ok (.invokevirtual 61, 3) := dk_182 0 61 (dk_at dksX2_tries_1 15 rfl rfl)
theorem dX2_tries_40 : decode cX2_tries 40 = .ok (.istore 4, 2) := dk_54 4 (dk_at dksX2_tries_1 18 rfl rfl)
theorem dX2_tries_42 : decode cX2_tries 42 = .ok (.aload_n 0, 1) := dk_42 (dk_at dksX2_tries_1 20 rfl rfl)
theorem dX2_tries_43 : decode cX2_tries 43 = .ok (.getfield 20, 3) := dk_180 0 20 (dk_at dksX2_tries_1 21 rfl rfl)
theorem dX2_tries_46 : decode cX2_tries 46 = .ok (.iload_n 2, 1) := dk_28 (dk_at dksX2_tries_2 0 rfl rfl)
theorem dX2_tries_47 : decode cX2_tries 47 = .ok (.iconst 1, 1) := dk_4 (dk_at dksX2_tries_2 1 rfl rfl)
theorem dX2_tries_48 : decode cX2_tries 48 = .ok (.iadd, 1) := dk_96 (dk_at dksX2_tries_2 2 rfl rfl)
theorem dX2_tries_49 : decode cX2_tries 49 = .ok (.aload_n 0, 1) := dk_42 (dk_at dksX2_tries_2 3 rfl rfl)
theorem dX2_tries_50 : decode cX2_tries 50 = .ok (.getfield 3, 3) := dk_180 0 3 (dk_at dksX2_tries_2 4 rfl rfl)
theorem dX2_tries_53 : decode cX2_tries 53 = .ok (.aload_n 0, 1) := dk_42 (dk_at dksX2_tries_2 7 rfl rfl)
theorem dX2_tries_54 : decode cX2_tries 54 = .ok (.getfield 20, 3) := dk_180 0 20 (dk_at dksX2_tries_2 8 rfl rfl)
theorem dX2_tries_57 : decode cX2_tries 57 = .ok (.iload_n 2, 1) := dk_28 (dk_at dksX2_tries_2 11 rfl rfl)
theorem dX2_tries_58 : decode cX2_tries 58 = .ok (.iaload, 1) := dk_46 (dk_at dksX2_tries_2 12 rfl rfl)
theorem dX2_tries_59 : decode cX2_tries 59 = .ok (.iload_n 3, 1) := dk_29 (dk_at dksX2_tries_2 13 rfl rfl)
theorem dX2_tries_60 : decode cX2_tries 60 = .ok (.iload 4, 2) := dk_21 4 (dk_at dksX2_tries_2 14 rfl rfl)
theorem dX2_tries_62 : decode cX2_tries 62 = .ok (.invokevirtual 66, 3) := dk_182 0 66 (dk_at dksX2_tries_2 16 rfl rfl)
theorem dX2_tries_65 : decode cX2_tries 65 = .ok (.iastore, 1) := dk_79 (dk_at dksX2_tries_2 19 rfl rfl)
theorem dX2_tries_66 : decode cX2_tries 66 = .ok (.iconst 0, 1) := dk_3 (dk_at dksX2_tries_2 20 rfl rfl)
theorem dX2_tries_67 : decode cX2_tries 67 = .ok (.istore 5, 2) := dk_54 5 (dk_at dksX2_tries_2 21 rfl rfl)
theorem dX2_tries_69 : decode cX2_tries 69 = .ok (.iload 5, 2) := dk_21 5 (dk_at dksX2_tries_3 0 rfl rfl)
theorem dX2_tries_71 : decode cX2_tries 71 = .ok (.aload_n 0, 1) := dk_42 (dk_at dksX2_tries_3 2 rfl rfl)
theorem dX2_tries_72 : decode cX2_tries 72 = .ok (.getfield 3, 3) := dk_180 0 3 (dk_at dksX2_tries_3 3 rfl rfl)
theorem dX2_tries_75 : decode cX2_tries 75 = .ok (.getfield 30, 3) := dk_180 0 30 (dk_at dksX2_tries_3 6 rfl rfl)
theorem dX2_tries_78 : decode cX2_tries 78 = .ok (.if_icmp .ge 69, 3) := dk_162 0 69 (dk_at dksX2_tries_3 9 rfl rfl)
theorem dX2_tries_81 : decode cX2_tries 81 = .ok (.aload_n 0, 1) := dk_42 (dk_at dksX2_tries_3 12 rfl rfl)
theorem dX2_tries_82 : decode cX2_tries 82 = .ok (.getfield 17, 3) := dk_180 0 17 (dk_at dksX2_tries_3 13 rfl rfl)
theorem dX2_tries_85 : decode cX2_tries 85 = .ok (.iload_n 2, 1) := dk_28 (dk_at dksX2_tries_3 16 rfl rfl)
theorem dX2_tries_86 : decode cX2_tries 86 = .ok (.iconst 1, 1) := dk_4 (dk_at dksX2_tries_3 17 rfl rfl)
theorem dX2_tries_87 : decode cX2_tries 87 = .ok (.iadd, 1) := dk_96 (dk_at dksX2_tries_3 18 rfl rfl)
theorem dX2_tries_88 : decode cX2_tries 88 = .ok (.aaload, 1) := dk_50 (dk_at dksX2_tries_3 19 rfl rfl)
theorem dX2_tries_89 : decode cX2_tries 89 = .ok (.iload 5, 2) := dk_21 5 (dk_at dksX2_tries_3 20 rfl rfl)
theorem dX2_tries_91 : decode cX2_tries 91 = .ok (.aaload, 1) := dk_50 (dk_at dksX2_tries_3 22 rfl rfl)
theorem dX2_tries_92 : decode cX2_tries 92 = .ok (.aload_n 0, 1) := dk_42 (dk_at dksX2_tries_3 23 rfl rfl)
theorem dX2_tries_93 : decode cX2_tries 93 = .ok (.getfield 17, 3) := dk_180 0 17 (dk_at dksX2_tries_4 0 rfl rfl)
theorem dX2_tries_96 : decode cX2_tries 96 = .ok (.iload_n 2, 1) := dk_28 (dk_at dksX2_tries_4 3 rfl rfl)
theorem dX2_tries_97 : decode cX2_tries 97 = .ok (.aaload, 1) := dk_50 (dk_at dksX2_tries_4 4 rfl rfl)
theorem dX2_tries_98 : decode cX2_tries 98 = .ok (.iload 5, 2) := dk_21 5 (dk_at dksX2_tries_4 5 rfl rfl)
theorem dX2_tries_100 : decode cX2_tries 100 = .ok (.aaload, 1) := dk_50 (dk_at dksX2_tries_4 7 rfl rfl)
theorem dX2_tries_101 : decode cX2_tries 101 = .ok (.invokevirtual 70, 3) := dk_182 0 70 (dk_at dksX2_tries_4 8 rfl rfl)
theorem dX2_tries_104 : decode cX2_tries 104 = .ok (.aload_n 0, 1) := dk_42 (dk_at dksX2_tries_4 11 rfl rfl)
theorem dX2_tries_105 : decode cX2_tries 105 = .ok (.getfield 3, 3) := dk_180 0 3 (dk_at dksX2_tries_4 12 rfl rfl)
theorem dX2_tries_108 : decode cX2_tries 108 = .ok (.getfield 74, 3) := dk_180 0 74 (dk_at dksX2_tries_4 15 rfl rfl)
theorem dX2_tries_111 : decode cX2_tries 111 = .ok (.iload 5, 2) := dk_21 5 (dk_at dksX2_tries_4 18 rfl rfl)
theorem dX2_tries_113 : decode cX2_tries 113 = .ok (.aaload, 1) := dk_50 (dk_at dksX2_tries_4 20 rfl rfl)
theorem dX2_tries_114 : decode cX2_tries 114 = .ok (.aload_n 0, 1) := dk_42 (dk_at dksX2_tries_4 21 rfl rfl)
theorem dX2_tries_115 : decode cX2_tries 115 = .ok (.getfield 17, 3) := dk_180 0 17 (dk_at dksX2_tries_5 0 rfl rfl)
theorem dX2_tries_118 : decode cX2_tries 118 = .ok (.iload_n 2, 1) := dk_28 (dk_at dksX2_tries_5 3 rfl rfl)
theorem dX2_tries_119 : decode cX2_tries 119 = .ok (.iconst 1, 1) := dk_4 (dk_at dksX2_tries_5 4 rfl rfl)
theorem dX2_tries_120 : decode cX2_tries 120 = .ok (.iadd, 1) := dk_96 (dk_at dksX2_tries_5 5 rfl rfl)
theorem dX2_tries_121 : decode cX2_tries 121 = .ok (.aaload, 1) := dk_50 (dk_at dksX2_tries_5 6 rfl rfl)
theorem dX2_tries_122 : decode cX2_tries 122 = .ok (.iload 5, 2) := dk_21 5 (dk_at dksX2_tries_5 7 rfl rfl)
theorem dX2_tries_124 : decode cX2_tries 124 = .ok (.aaload, 1) := dk_50 (dk_at dksX2_tries_5 9 rfl rfl)
theorem dX2_tries_125 : decode cX2_tries 125 = .ok (.iconst 0, 1) := dk_3 (dk_at dksX2_tries_5 10 rfl rfl)
theorem dX2_tries_126 : decode cX2_tries 126 = .ok (.iload_n 1, 1) := dk_27 (dk_at dksX2_tries_5 11 rfl rfl)
theorem dX2_tries_127 : decode cX2_tries 127 = .ok (.iload_n 3, 1) := dk_29 (dk_at dksX2_tries_5 12 rfl rfl)
theorem dX2_tries_128 : decode cX2_tries 128 = .ok (.iload 4, 2) := dk_21 4 (dk_at dksX2_tries_5 13 rfl rfl)
theorem dX2_tries_130 : decode cX2_tries 130 = .ok (.aload_n 0, 1) := dk_42 (dk_at dksX2_tries_5 15 rfl rfl)
theorem dX2_tries_131 : decode cX2_tries 131 = .ok (.getfield 20, 3) := dk_180 0 20 (dk_at dksX2_tries_5 16 rfl rfl)
theorem dX2_tries_134 : decode cX2_tries 134 = .ok (.iload_n 2, 1) := dk_28 (dk_at dksX2_tries_5 19 rfl rfl)
theorem dX2_tries_135 : decode cX2_tries 135 = .ok (.iconst 1, 1) := dk_4 (dk_at dksX2_tries_5 20 rfl rfl)
theorem dX2_tries_136 : decode cX2_tries 136 = .ok (.iadd, 1) := dk_96 (dk_at dksX2_tries_5 21 rfl rfl)
theorem dX2_tries_137 : decode cX2_tries 137 = .ok (.iaload, 1) := dk_46 (dk_at dksX2_tries_5 22 rfl rfl)
theorem dX2_tries_138 : decode cX2_tries 138 = .ok (.invokevirtual 78, 3) := dk_182 0 78 (dk_at dksX2_tries_6 0 rfl rfl)
theorem dX2_tries_141 : decode cX2_tries 141 = .ok (.iinc 5 1, 3) := dk_132 5 1 (dk_at dksX2_tries_6 3 rfl rfl)
theorem dX2_tries_144 : decode cX2_tries 144 = .ok (.goto (-75), 3) := dk_167 255 181 (dk_at dksX2_tries_6 6 rfl rfl)
theorem dX2_tries_147 : decode cX2_tries 147 = .ok (.aload_n 0, 1) := dk_42 (dk_at dksX2_tries_6 9 rfl rfl)
theorem dX2_tries_148 : decode cX2_tries 148 = .ok (.getfield 24, 3) := dk_180 0 24 (dk_at dksX2_tries_6 10 rfl rfl)
theorem dX2_tries_151 : decode cX2_tries 151 = .ok (.iload_n 2, 1) := dk_28 (dk_at dksX2_tries_6 13 rfl rfl)
theorem dX2_tries_152 : decode cX2_tries 152 = .ok (.iload_n 3, 1) := dk_29 (dk_at dksX2_tries_6 14 rfl rfl)
theorem dX2_tries_153 : decode cX2_tries 153 = .ok (.iastore, 1) := dk_79 (dk_at dksX2_tries_6 15 rfl rfl)
theorem dX2_tries_154 : decode cX2_tries 154 = .ok (.aload_n 0, 1) := dk_42 (dk_at dksX2_tries_6 16 rfl rfl)
theorem dX2_tries_155 : decode cX2_tries 155 = .ok (.iload_n 2, 1) := dk_28 (dk_at dksX2_tries_6 17 rfl rfl)
theorem dX2_tries_156 : decode cX2_tries 156 = .ok (.iconst 1, 1) := dk_4 (dk_at dksX2_tries_6 18 rfl rfl)
theorem dX2_tries_157 : decode cX2_tries 157 = .ok (.iadd, 1) := dk_96 (dk_at dksX2_tries_6 19 rfl rfl)
theorem dX2_tries_158 : decode cX2_tries 158 = .ok (.invokevirtual 84, 3) := dk_182 0 84 (dk_at dksX2_tries_6 20 rfl rfl)
theorem dX2_tries_161 : decode cX2_tries 161 = .ok (.ifCond .eq 16, 3) := dk_153 0 16 (dk_at dksX2_tries_7 0 rfl rfl)
theorem dX2_tries_164 : decode cX2_tries 164 = .ok (.aload_n 0, 1) := dk_42 (dk_at dksX2_tries_7 3 rfl rfl)
theorem dX2_tries_165 : decode cX2_tries 165 = .ok (.iload_n 1, 1) := dk_27 (dk_at dksX2_tries_7 4 rfl rfl)
theorem dX2_tries_166 : decode cX2_tries 166 = .ok (.iload_n 2, 1) := dk_28 (dk_at dksX2_tries_7 5 rfl rfl)
theorem dX2_tries_167 : decode cX2_tries 167 = .ok (.iconst 1, 1) := dk_4 (dk_at dksX2_tries_7 6 rfl rfl)
theorem dX2_tries_168 : decode cX2_tries 168 = .ok (.iadd, 1) := dk_96 (dk_at dksX2_tries_7 7 rfl rfl)
theorem dX2_tries_169 : decode cX2_tries 169 = .ok (.invokevirtual 87, 3) := dk_182 0 87 (dk_at dksX2_tries_7 8 rfl rfl)
theorem dX2_tries_172 : decode cX2_tries 172 = .ok (.ifCond .eq 5, 3) := dk_153 0 5 (dk_at dksX2_tries_7 11 rfl rfl)
theorem dX2_tries_175 : decode cX2_tries 175 = .ok (.iconst 1, 1) := dk_4 (dk_at dksX2_tries_7 14 rfl rfl)
theorem dX2_tries_176 : decode cX2_tries 176 = .ok (.ireturn, 1) := dk_172 (dk_at dksX2_tries_7 15 rfl rfl)
theorem dX2_tries_177 : decode cX2_tries 177 = .ok (.iinc 3 1, 3) := dk_132 3 1 (dk_at dksX2_tries_7 16 rfl rfl)
theorem dX2_tries_180 : decode cX2_tries 180 = .ok (.goto (-163), 3) := dk_167 255 93 (dk_at dksX2_tries_7 19 rfl rfl)
theorem dX2_tries_183 : decode cX2_tries 183 = .ok (.iconst 0, 1) := dk_3 (dk_at dksX2_tries_7 22 rfl rfl)
theorem dX2_tries_184 : decode cX2_tries 184 = .ok (.ireturn, 1) := dk_172 (dk_at dksX2_tries_7 23 rfl rfl)
abbrev cX2_isDone : ByteArray := prog_12_method_2_code
def yX2_isDone : MethodName := ⟨RX2, "isDone", "(II)Z"⟩
def dkwX2_isDone_2 : List UInt8 := [27, 182, 0, 41, 153, 0, 7, 4, 167, 0, 4, 3, 62, 132, 4, 1, 167, 255, 199, 29, 172]
abbrev dktX2_isDone_2 : List UInt8 := dkwX2_isDone_2 ++ []
def dkwX2_isDone_1 : List UInt8 := [180, 0, 34, 21, 4, 184, 0, 37, 153, 0, 23, 42, 180, 0, 3, 42, 180, 0, 17, 28, 50, 21, 4, 50]
abbrev dktX2_isDone_1 : List UInt8 := dkwX2_isDone_1 ++ dktX2_isDone_2
def dkwX2_isDone_0 : List UInt8 := [4, 62, 3, 54, 4, 21, 4, 42, 180, 0, 3, 180, 0, 30, 162, 0, 51, 29, 153, 0, 39, 42]
abbrev dktX2_isDone_0 : List UInt8 := dkwX2_isDone_0 ++ dktX2_isDone_1
theorem dksX2_isDone_0 : cX2_isDone.data.toList.drop 0 = dktX2_isDone_0 := by decide +kernel
theorem dksX2_isDone_1 : cX2_isDone.data.toList.drop 22 = dktX2_isDone_1 := dk_seg dksX2_isDone_0 22 rfl rfl
theorem dksX2_isDone_2 : cX2_isDone.data.toList.drop 46 = dktX2_isDone_2 := dk_seg dksX2_isDone_1 24 rfl rfl
theorem dX2_isDone_0 : decode cX2_isDone 0 = .ok (.iconst 1, 1) := dk_4 (dk_at dksX2_isDone_0 0 rfl rfl)
theorem dX2_isDone_1 : decode cX2_isDone 1 = .ok (.istore_n 3, 1) := dk_62 (dk_at dksX2_isDone_0 1 rfl rfl)
theorem dX2_isDone_2 : decode cX2_isDone 2 = .ok (.iconst 0, 1) := dk_3 (dk_at dksX2_isDone_0 2 rfl rfl)
theorem dX2_isDone_3 : decode cX2_isDone 3 = .ok (.istore 4, 2) := dk_54 4 (dk_at dksX2_isDone_0 3 rfl rfl)
theorem dX2_isDone_5 : decode cX2_isDone 5 = .ok (.iload 4, 2) := dk_21 4 (dk_at dksX2_isDone_0 5 rfl rfl)
theorem dX2_isDone_7 : decode cX2_isDone 7 = .ok (.aload_n 0, 1) := dk_42 (dk_at dksX2_isDone_0 7 rfl rfl)
theorem dX2_isDone_8 : decode cX2_isDone 8 = .ok (.getfield 3, 3) := dk_180 0 3 (dk_at dksX2_isDone_0 8 rfl rfl)
theorem dX2_isDone_11 : decode cX2_isDone 11 = .ok (.getfield 30, 3) := dk_180 0 30 (dk_at dksX2_isDone_0 11 rfl rfl)
theorem dX2_isDone_14 : decode cX2_isDone 14 = .ok (.if_icmp .ge 51, 3) := dk_162 0 51 (dk_at dksX2_isDone_0 14 rfl rfl)
theorem dX2_isDone_17 : decode cX2_isDone 17 = .ok (.iload_n 3, 1) := dk_29 (dk_at dksX2_isDone_0 17 rfl rfl)
theorem dX2_isDone_18 : decode cX2_isDone 18 = .ok (.ifCond .eq 39, 3) := dk_153 0 39 (dk_at dksX2_isDone_0 18 rfl rfl)
theorem dX2_isDone_21 : decode cX2_isDone 21 = .ok (.aload_n 0, 1) := dk_42 (dk_at dksX2_isDone_0 21 rfl rfl)
theorem dX2_isDone_22 : decode cX2_isDone 22 = .ok (.getfield 34, 3) := dk_180 0 34 (dk_at dksX2_isDone_1 0 rfl rfl)
theorem dX2_isDone_25 : decode cX2_isDone 25 = .ok (.iload 4, 2) := dk_21 4 (dk_at dksX2_isDone_1 3 rfl rfl)
theorem dX2_isDone_27 : decode cX2_isDone 27 = .ok (.invokestatic 37, 3) := dk_184 0 37 (dk_at dksX2_isDone_1 5 rfl rfl)
theorem dX2_isDone_30 : decode cX2_isDone 30 = .ok (.ifCond .eq 23, 3) := dk_153 0 23 (dk_at dksX2_isDone_1 8 rfl rfl)
theorem dX2_isDone_33 : decode cX2_isDone 33 = .ok (.aload_n 0, 1) := dk_42 (dk_at dksX2_isDone_1 11 rfl rfl)
theorem dX2_isDone_34 : decode cX2_isDone 34 = .ok (.getfield 3, 3) := dk_180 0 3 (dk_at dksX2_isDone_1 12 rfl rfl)
theorem dX2_isDone_37 : decode cX2_isDone 37 = .ok (.aload_n 0, 1) := dk_42 (dk_at dksX2_isDone_1 15 rfl rfl)
theorem dX2_isDone_38 : decode cX2_isDone 38 = .ok (.getfield 17, 3) := dk_180 0 17 (dk_at dksX2_isDone_1 16 rfl rfl)
theorem dX2_isDone_41 : decode cX2_isDone 41 = .ok (.iload_n 2, 1) := dk_28 (dk_at dksX2_isDone_1 19 rfl rfl)
theorem dX2_isDone_42 : decode cX2_isDone 42 = .ok (.aaload, 1) := dk_50 (dk_at dksX2_isDone_1 20 rfl rfl)
theorem dX2_isDone_43 : decode cX2_isDone 43 = .ok (.iload 4, 2) := dk_21 4 (dk_at dksX2_isDone_1 21 rfl rfl)
theorem dX2_isDone_45 : decode cX2_isDone 45 = .ok (.aaload, 1) := dk_50 (dk_at dksX2_isDone_1 23 rfl rfl)
theorem dX2_isDone_46 : decode cX2_isDone 46 = .ok (.iload_n 1, 1) := dk_27 (dk_at dksX2_isDone_2 0 rfl rfl)
theorem dX2_isDone_47 : decode cX2_isDone 47 = .ok (.invokevirtual 41, 3) := dk_182 0 41 (dk_at dksX2_isDone_2 1 rfl rfl)
theorem dX2_isDone_50 : decode cX2_isDone 50 = .ok (.ifCond .eq 7, 3) := dk_153 0 7 (dk_at dksX2_isDone_2 4 rfl rfl)
theorem dX2_isDone_53 : decode cX2_isDone 53 = .ok (.iconst 1, 1) := dk_4 (dk_at dksX2_isDone_2 7 rfl rfl)
theorem dX2_isDone_54 : decode cX2_isDone 54 = .ok (.goto 4, 3) := dk_167 0 4 (dk_at dksX2_isDone_2 8 rfl rfl)
theorem dX2_isDone_57 : decode cX2_isDone 57 = .ok (.iconst 0, 1) := dk_3 (dk_at dksX2_isDone_2 11 rfl rfl)
theorem dX2_isDone_58 : decode cX2_isDone 58 = .ok (.istore_n 3, 1) := dk_62 (dk_at dksX2_isDone_2 12 rfl rfl)
theorem dX2_isDone_59 : decode cX2_isDone 59 = .ok (.iinc 4 1, 3) := dk_132 4 1 (dk_at dksX2_isDone_2 13 rfl rfl)
theorem dX2_isDone_62 : decode cX2_isDone 62 = .ok (.goto (-57), 3) := dk_167 255 199 (dk_at dksX2_isDone_2 16 rfl rfl)
theorem dX2_isDone_65 : decode cX2_isDone 65 = .ok (.iload_n 3, 1) := dk_29 (dk_at dksX2_isDone_2 19 rfl rfl)
theorem dX2_isDone_66 : decode cX2_isDone 66 = .ok (.ireturn, 1) := dk_172 (dk_at dksX2_isDone_2 20 rfl rfl)
abbrev cX2_init : ByteArray := prog_12_method_1_code
def yX2_init : MethodName := ⟨RX2, "<init>", "(LFirstWords;)V"⟩
def dkwX2_init_3 : List UInt8 := [132, 2, 1, 167, 255, 219, 177]
abbrev dktX2_init_3 : List UInt8 := dkwX2_init_3 ++ []
def dkwX2_init_2 : List UInt8 := [162, 0, 24, 42, 180, 0, 17, 28, 50, 29, 187, 0, 27, 89, 183, 0, 29, 83, 132, 3, 1, 167, 255, 232]
abbrev dktX2_init_2 : List UInt8 := dkwX2_init_2 ++ dktX2_init_3
def dkwX2_init_1 : List UInt8 := [188, 10, 181, 0, 20, 42, 8, 188, 10, 181, 0, 24, 3, 61, 28, 8, 163, 0, 38, 3, 62, 29, 16, 6]
abbrev dktX2_init_1 : List UInt8 := dkwX2_init_1 ++ dktX2_init_2
def dkwX2_init_0 : List UInt8 := [42, 43, 181, 0, 3, 42, 183, 0, 9, 42, 16, 6, 16, 6, 197, 0, 15, 2, 181, 0, 17, 42, 16, 6]
abbrev dktX2_init_0 : List UInt8 := dkwX2_init_0 ++ dktX2_init_1
theorem dksX2_init_0 : cX2_init.data.toList.drop 0 = dktX2_init_0 := by decide +kernel
theorem dksX2_init_1 : cX2_init.data.toList.drop 24 = dktX2_init_1 := dk_seg dksX2_init_0 24 rfl rfl
theorem dksX2_init_2 : cX2_init.data.toList.drop 48 = dktX2_init_2 := dk_seg dksX2_init_1 24 rfl rfl
theorem dksX2_init_3 : cX2_init.data.toList.drop 72 = dktX2_init_3 := dk_seg dksX2_init_2 24 rfl rfl
theorem dX2_init_0 : decode cX2_init 0 = .ok (.aload_n 0, 1) := dk_42 (dk_at dksX2_init_0 0 rfl rfl)
theorem dX2_init_1 : decode cX2_init 1 = .ok (.aload_n 1, 1) := dk_43 (dk_at dksX2_init_0 1 rfl rfl)
theorem dX2_init_2 : decode cX2_init 2 = .ok (.putfield 3, 3) := dk_181 0 3 (dk_at dksX2_init_0 2 rfl rfl)
theorem dX2_init_5 : decode cX2_init 5 = .ok (.aload_n 0, 1) := dk_42 (dk_at dksX2_init_0 5 rfl rfl)
theorem dX2_init_6 : decode cX2_init 6 = .ok (.invokespecial 9, 3) := dk_183 0 9 (dk_at dksX2_init_0 6 rfl rfl)
theorem dX2_init_9 : decode cX2_init 9 = .ok (.aload_n 0, 1) := dk_42 (dk_at dksX2_init_0 9 rfl rfl)
theorem dX2_init_10 : decode cX2_init 10 = .ok (.bipush 6, 2) := dk_16 6 (dk_at dksX2_init_0 10 rfl rfl)
theorem dX2_init_12 : decode cX2_init 12 = .ok (.bipush 6, 2) := dk_16 6 (dk_at dksX2_init_0 12 rfl rfl)
theorem dX2_init_14 : decode cX2_init 14 = .ok (.multianewarray 15 2, 4) := by decide +kernel
theorem dX2_init_18 : decode cX2_init 18 = .ok (.putfield 17, 3) := dk_181 0 17 (dk_at dksX2_init_0 18 rfl rfl)
theorem dX2_init_21 : decode cX2_init 21 = .ok (.aload_n 0, 1) := dk_42 (dk_at dksX2_init_0 21 rfl rfl)
theorem dX2_init_22 : decode cX2_init 22 = .ok (.bipush 6, 2) := dk_16 6 (dk_at dksX2_init_0 22 rfl rfl)
theorem dX2_init_24 : decode cX2_init 24 = .ok (.newarray .int, 2) := dk_188_10 (dk_at dksX2_init_1 0 rfl rfl)
theorem dX2_init_26 : decode cX2_init 26 = .ok (.putfield 20, 3) := dk_181 0 20 (dk_at dksX2_init_1 2 rfl rfl)
theorem dX2_init_29 : decode cX2_init 29 = .ok (.aload_n 0, 1) := dk_42 (dk_at dksX2_init_1 5 rfl rfl)
theorem dX2_init_30 : decode cX2_init 30 = .ok (.iconst 5, 1) := dk_8 (dk_at dksX2_init_1 6 rfl rfl)
theorem dX2_init_31 : decode cX2_init 31 = .ok (.newarray .int, 2) := dk_188_10 (dk_at dksX2_init_1 7 rfl rfl)
theorem dX2_init_33 : decode cX2_init 33 = .ok (.putfield 24, 3) := dk_181 0 24 (dk_at dksX2_init_1 9 rfl rfl)
theorem dX2_init_36 : decode cX2_init 36 = .ok (.iconst 0, 1) := dk_3 (dk_at dksX2_init_1 12 rfl rfl)
theorem dX2_init_37 : decode cX2_init 37 = .ok (.istore_n 2, 1) := dk_61 (dk_at dksX2_init_1 13 rfl rfl)
theorem dX2_init_38 : decode cX2_init 38 = .ok (.iload_n 2, 1) := dk_28 (dk_at dksX2_init_1 14 rfl rfl)
theorem dX2_init_39 : decode cX2_init 39 = .ok (.iconst 5, 1) := dk_8 (dk_at dksX2_init_1 15 rfl rfl)
theorem dX2_init_40 : decode cX2_init 40 = .ok (.if_icmp .gt 38, 3) := dk_163 0 38 (dk_at dksX2_init_1 16 rfl rfl)
theorem dX2_init_43 : decode cX2_init 43 = .ok (.iconst 0, 1) := dk_3 (dk_at dksX2_init_1 19 rfl rfl)
theorem dX2_init_44 : decode cX2_init 44 = .ok (.istore_n 3, 1) := dk_62 (dk_at dksX2_init_1 20 rfl rfl)
theorem dX2_init_45 : decode cX2_init 45 = .ok (.iload_n 3, 1) := dk_29 (dk_at dksX2_init_1 21 rfl rfl)
theorem dX2_init_46 : decode cX2_init 46 = .ok (.bipush 6, 2) := dk_16 6 (dk_at dksX2_init_1 22 rfl rfl)
theorem dX2_init_48 : decode cX2_init 48 = .ok (.if_icmp .ge 24, 3) := dk_162 0 24 (dk_at dksX2_init_2 0 rfl rfl)
theorem dX2_init_51 : decode cX2_init 51 = .ok (.aload_n 0, 1) := dk_42 (dk_at dksX2_init_2 3 rfl rfl)
theorem dX2_init_52 : decode cX2_init 52 = .ok (.getfield 17, 3) := dk_180 0 17 (dk_at dksX2_init_2 4 rfl rfl)
theorem dX2_init_55 : decode cX2_init 55 = .ok (.iload_n 2, 1) := dk_28 (dk_at dksX2_init_2 7 rfl rfl)
theorem dX2_init_56 : decode cX2_init 56 = .ok (.aaload, 1) := dk_50 (dk_at dksX2_init_2 8 rfl rfl)
theorem dX2_init_57 : decode cX2_init 57 = .ok (.iload_n 3, 1) := dk_29 (dk_at dksX2_init_2 9 rfl rfl)
theorem dX2_init_58 : decode cX2_init 58 = .ok (.new 27, 3) := dk_187 0 27 (dk_at dksX2_init_2 10 rfl rfl)
theorem dX2_init_61 : decode cX2_init 61 = .ok (.dup, 1) := dk_89 (dk_at dksX2_init_2 13 rfl rfl)
theorem dX2_init_62 : decode cX2_init 62 = .ok (.invokespecial 29, 3) := dk_183 0 29 (dk_at dksX2_init_2 14 rfl rfl)
theorem dX2_init_65 : decode cX2_init 65 = .ok (.aastore, 1) := dk_83 (dk_at dksX2_init_2 17 rfl rfl)
theorem dX2_init_66 : decode cX2_init 66 = .ok (.iinc 3 1, 3) := dk_132 3 1 (dk_at dksX2_init_2 18 rfl rfl)
theorem dX2_init_69 : decode cX2_init 69 = .ok (.goto (-24), 3) := dk_167 255 232 (dk_at dksX2_init_2 21 rfl rfl)
theorem dX2_init_72 : decode cX2_init 72 = .ok (.iinc 2 1, 3) := dk_132 2 1 (dk_at dksX2_init_3 0 rfl rfl)
theorem dX2_init_75 : decode cX2_init 75 = .ok (.goto (-37), 3) := dk_167 255 219 (dk_at dksX2_init_3 3 rfl rfl)
theorem dX2_init_78 : decode cX2_init 78 = .ok (.return_, 1) := dk_177 (dk_at dksX2_init_3 6 rfl rfl)
theorem q94 : (Jvm.Cond.initialized "FirstWords$Teaching") ∈ lw_all := lw_g (lw_at lw_m1 3 rfl) rfl
theorem q712 : (Jvm.Cond.privateMethod ({ cls := "FirstWords$Teaching", name := "from", desc := "(I[LFirstWords$Mind;I)V" } : Jvm.MethodName)) ∈ lw_tbl := lw_at lw_m3 141 rfl
theorem q713 : (Jvm.Cond.instanceMethod ({ cls := "FirstWords$Teaching", name := "from", desc := "(I[LFirstWords$Mind;I)V" } : Jvm.MethodName)) ∈ lw_all := lw_g (lw_at lw_m3 142 rfl) rfl
theorem q714 : (Jvm.Cond.instantiable "FirstWords$Teaching" (6 : Nat)) ∈ lw_all := lw_g (lw_at lw_m3 143 rfl) rfl
theorem q715 : (Jvm.Cond.code ({ cls := "FirstWords$Teaching", name := "from", desc := "(I[LFirstWords$Mind;I)V" } : Jvm.MethodName) prog_12_method_6_code (5 : Nat) (Option.none : Option Jvm.ClassFile.FieldType)) ∈ lw_all := lw_g (lw_at lw_m3 144 rfl) rfl
theorem q716 : (Jvm.Cond.methodLink "FirstWords$Teaching" (70 : Nat) ({ cls := "FirstWords$Mind", name := "becomes", desc := "(LFirstWords$Mind;)V" } : Jvm.MethodName)) ∈ lw_all := lw_g (lw_at lw_m3 145 rfl) rfl
theorem q722 : (Jvm.Cond.privateMethod ({ cls := "FirstWords$Teaching", name := "fewest", desc := "(II)I" } : Jvm.MethodName)) ∈ lw_tbl := lw_at lw_m3 151 rfl
theorem q723 : (Jvm.Cond.instanceMethod ({ cls := "FirstWords$Teaching", name := "fewest", desc := "(II)I" } : Jvm.MethodName)) ∈ lw_all := lw_g (lw_at lw_m3 152 rfl) rfl
theorem q724 : (Jvm.Cond.code ({ cls := "FirstWords$Teaching", name := "fewest", desc := "(II)I" } : Jvm.MethodName) prog_12_method_5_code (4 : Nat) (Option.some Jvm.ClassFile.FieldType.int)) ∈ lw_all := lw_g (lw_at lw_m3 153 rfl) rfl
theorem q725 : (Jvm.Cond.methodLink "FirstWords$Teaching" (84 : Nat) ({ cls := "FirstWords$Teaching", name := "isCalm", desc := "(I)Z" } : Jvm.MethodName)) ∈ lw_all := lw_g (lw_at lw_m3 154 rfl) rfl
theorem q726 : (Jvm.Cond.privateMethod ({ cls := "FirstWords$Teaching", name := "isCalm", desc := "(I)Z" } : Jvm.MethodName)) ∈ lw_tbl := lw_at lw_m3 155 rfl
theorem q727 : (Jvm.Cond.instanceMethod ({ cls := "FirstWords$Teaching", name := "isCalm", desc := "(I)Z" } : Jvm.MethodName)) ∈ lw_all := lw_g (lw_at lw_m3 156 rfl) rfl
theorem q728 : (Jvm.Cond.code ({ cls := "FirstWords$Teaching", name := "isCalm", desc := "(I)Z" } : Jvm.MethodName) prog_12_method_3_code (4 : Nat) (Option.some Jvm.ClassFile.FieldType.boolean)) ∈ lw_all := lw_g (lw_at lw_m3 157 rfl) rfl
theorem q729 : (Jvm.Cond.methodLinkNest "FirstWords$Teaching" (37 : Nat) ({ cls := "FirstWords", name := "isOf", desc := "(II)Z" } : Jvm.MethodName) "FirstWords") ∈ lw_tbl := lw_at lw_m3 158 rfl
theorem q730 : (Jvm.Cond.methodLink "FirstWords$Teaching" (87 : Nat) ({ cls := "FirstWords$Teaching", name := "tries", desc := "(II)Z" } : Jvm.MethodName)) ∈ lw_all := lw_g (lw_at lw_m3 159 rfl) rfl
theorem q731 : (Jvm.Cond.privateMethod ({ cls := "FirstWords$Teaching", name := "tries", desc := "(II)Z" } : Jvm.MethodName)) ∈ lw_tbl := lw_at lw_m3 160 rfl
theorem q732 : (Jvm.Cond.instanceMethod ({ cls := "FirstWords$Teaching", name := "tries", desc := "(II)Z" } : Jvm.MethodName)) ∈ lw_all := lw_g (lw_at lw_m3 161 rfl) rfl
theorem q733 : (Jvm.Cond.code ({ cls := "FirstWords$Teaching", name := "tries", desc := "(II)Z" } : Jvm.MethodName) prog_12_method_4_code (6 : Nat) (Option.some Jvm.ClassFile.FieldType.boolean)) ∈ lw_all := lw_g (lw_at lw_m3 162 rfl) rfl
theorem q734 : (Jvm.Cond.methodLink "FirstWords$Teaching" (51 : Nat) ({ cls := "FirstWords$Teaching", name := "isDone", desc := "(II)Z" } : Jvm.MethodName)) ∈ lw_all := lw_g (lw_at lw_m3 163 rfl) rfl
theorem q735 : (Jvm.Cond.privateMethod ({ cls := "FirstWords$Teaching", name := "isDone", desc := "(II)Z" } : Jvm.MethodName)) ∈ lw_tbl := lw_at lw_m3 164 rfl
theorem q736 : (Jvm.Cond.instanceMethod ({ cls := "FirstWords$Teaching", name := "isDone", desc := "(II)Z" } : Jvm.MethodName)) ∈ lw_all := lw_g (lw_at lw_m3 165 rfl) rfl
theorem q737 : (Jvm.Cond.code ({ cls := "FirstWords$Teaching", name := "isDone", desc := "(II)Z" } : Jvm.MethodName) prog_12_method_2_code (5 : Nat) (Option.some Jvm.ClassFile.FieldType.boolean)) ∈ lw_all := lw_g (lw_at lw_m3 166 rfl) rfl
theorem q738 : (Jvm.Cond.methodLinkNest "FirstWords$Teaching" (41 : Nat) ({ cls := "FirstWords", name := "isSame", desc := "(LFirstWords$Mind;I)Z" } : Jvm.MethodName) "FirstWords") ∈ lw_tbl := lw_at lw_m3 167 rfl
theorem q739 : (Jvm.Cond.methodLinkNest "FirstWords$Teaching" (57 : Nat) ({ cls := "FirstWords", name := "target", desc := "(I)LFirstWords$Meaning;" } : Jvm.MethodName) "FirstWords") ∈ lw_tbl := lw_at lw_m3 168 rfl
theorem q740 : (Jvm.Cond.methodLink "FirstWords$Teaching" (61 : Nat) ({ cls := "FirstWords$Meaning", name := "isOf", desc := "(I)Z" } : Jvm.MethodName)) ∈ lw_all := lw_g (lw_at lw_m3 169 rfl) rfl
theorem q741 : (Jvm.Cond.methodLinkNest "FirstWords$Teaching" (66 : Nat) ({ cls := "FirstWords", name := "fitting", desc := "(IIZ)I" } : Jvm.MethodName) "FirstWords") ∈ lw_tbl := lw_at lw_m3 170 rfl
theorem q742 : (Jvm.Cond.methodLink "FirstWords$Teaching" (78 : Nat) ({ cls := "FirstWords$Stranger", name := "sees", desc := "(LFirstWords$Mind;IIIZI)V" } : Jvm.MethodName)) ∈ lw_all := lw_g (lw_at lw_m3 171 rfl) rfl
theorem q889 : (Jvm.Cond.fieldLinkNest "FirstWords$Teaching" (45 : Nat) "FirstWords$Mind" "fled" "I" "FirstWords") ∈ lw_tbl := lw_at lw_m4 78 rfl
theorem q903 : (Jvm.Cond.instanceMethod ({ cls := "FirstWords$Teaching", name := "<init>", desc := "(LFirstWords;)V" } : Jvm.MethodName)) ∈ lw_all := lw_g (lw_at lw_m4 92 rfl) rfl
theorem q904 : (Jvm.Cond.code ({ cls := "FirstWords$Teaching", name := "<init>", desc := "(LFirstWords;)V" } : Jvm.MethodName) prog_12_method_1_code (4 : Nat) (Option.none : Option Jvm.ClassFile.FieldType)) ∈ lw_all := lw_g (lw_at lw_m4 93 rfl) rfl
theorem q905 : (Jvm.Cond.methodLink "FirstWords$Teaching" (9 : Nat) ({ cls := "java/lang/Object", name := "<init>", desc := "()V" } : Jvm.MethodName)) ∈ lw_all := lw_g (lw_at lw_m4 94 rfl) rfl
theorem q906 : (Jvm.Cond.classLink "FirstWords$Teaching" (15 : Nat) "[[LFirstWords$Mind;") ∈ lw_all := lw_g (lw_at lw_m4 95 rfl) rfl
theorem q908 : (Jvm.Cond.classLink "FirstWords$Teaching" (27 : Nat) "FirstWords$Mind") ∈ lw_all := lw_g (lw_at lw_m4 97 rfl) rfl
theorem q909 : (Jvm.Cond.methodLinkNest "FirstWords$Teaching" (29 : Nat) ({ cls := "FirstWords$Mind", name := "<init>", desc := "()V" } : Jvm.MethodName) "FirstWords") ∈ lw_tbl := lw_at lw_m4 98 rfl
theorem q910 : (Jvm.Cond.fieldLink "FirstWords$Teaching" (34 : Nat) "FirstWords$Teaching" "kinds" "I") ∈ lw_all := lw_g (lw_at lw_m4 99 rfl) rfl
theorem q911 : (Jvm.Cond.fieldLink "FirstWords$Teaching" (17 : Nat) "FirstWords$Teaching" "steps" "[[LFirstWords$Mind;") ∈ lw_all := lw_g (lw_at lw_m4 100 rfl) rfl
theorem q913 : (Jvm.Cond.fieldLink "FirstWords$Teaching" (20 : Nat) "FirstWords$Teaching" "fits" "[I") ∈ lw_all := lw_g (lw_at lw_m4 102 rfl) rfl
theorem q914 : (Jvm.Cond.fieldLink "FirstWords$Teaching" (24 : Nat) "FirstWords$Teaching" "row" "[I") ∈ lw_all := lw_g (lw_at lw_m4 103 rfl) rfl
theorem q916 : (Jvm.Cond.fieldLink "FirstWords$Teaching" (48 : Nat) "FirstWords$Teaching" "size" "I") ∈ lw_all := lw_g (lw_at lw_m4 105 rfl) rfl
theorem q917 : (Jvm.Cond.fieldLink "FirstWords$Teaching" (3 : Nat) "FirstWords$Teaching" "this$0" "LFirstWords;") ∈ lw_all := lw_g (lw_at lw_m4 106 rfl) rfl
theorem q918 : (Jvm.Cond.lays "FirstWords$Teaching" "FirstWords$Teaching" "kinds" "I") ∈ lw_all := lw_g (lw_at lw_m4 107 rfl) rfl
theorem q919 : (Jvm.Cond.soleField "FirstWords$Teaching" "kinds") ∈ lw_all := lw_g (lw_at lw_m4 108 rfl) rfl
theorem q920 : (Jvm.Cond.laysFinal "FirstWords$Teaching" "FirstWords$Teaching" "steps" "[[LFirstWords$Mind;") ∈ lw_all := lw_g (lw_at lw_m4 109 rfl) rfl
theorem q921 : (Jvm.Cond.soleField "FirstWords$Teaching" "steps") ∈ lw_all := lw_g (lw_at lw_m4 110 rfl) rfl
theorem q922 : (Jvm.Cond.laysFinal "FirstWords$Teaching" "FirstWords$Teaching" "fits" "[I") ∈ lw_all := lw_g (lw_at lw_m4 111 rfl) rfl
theorem q923 : (Jvm.Cond.soleField "FirstWords$Teaching" "fits") ∈ lw_all := lw_g (lw_at lw_m4 112 rfl) rfl
theorem q924 : (Jvm.Cond.laysFinal "FirstWords$Teaching" "FirstWords$Teaching" "row" "[I") ∈ lw_all := lw_g (lw_at lw_m4 113 rfl) rfl
theorem q925 : (Jvm.Cond.soleField "FirstWords$Teaching" "row") ∈ lw_all := lw_g (lw_at lw_m4 114 rfl) rfl
theorem q926 : (Jvm.Cond.lays "FirstWords$Teaching" "FirstWords$Teaching" "size" "I") ∈ lw_all := lw_g (lw_at lw_m4 115 rfl) rfl
theorem q927 : (Jvm.Cond.soleField "FirstWords$Teaching" "size") ∈ lw_all := lw_g (lw_at lw_m4 116 rfl) rfl
theorem q928 : (Jvm.Cond.laysFinal "FirstWords$Teaching" "FirstWords$Teaching" "this$0" "LFirstWords;") ∈ lw_all := lw_g (lw_at lw_m4 117 rfl) rfl
theorem q929 : (Jvm.Cond.soleField "FirstWords$Teaching" "this$0") ∈ lw_all := lw_g (lw_at lw_m4 118 rfl) rfl
theorem q930 : (Jvm.Cond.superclass "FirstWords$Teaching" "java/lang/Object") ∈ lw_all := lw_g (lw_at lw_m4 119 rfl) rfl
theorem q976 : (Jvm.Cond.fieldLinkNest "FirstWords$Teaching" (54 : Nat) "FirstWords" "thingMany" "I" "FirstWords") ∈ lw_tbl := lw_at lw_m4 165 rfl
theorem q990 : (Jvm.Cond.fieldLinkNest "FirstWords$Teaching" (74 : Nat) "FirstWords" "strangers" "[LFirstWords$Stranger;" "FirstWords") ∈ lw_tbl := lw_at lw_m4 179 rfl
theorem q993 : (Jvm.Cond.fieldLinkNest "FirstWords$Teaching" (30 : Nat) "FirstWords" "kindMany" "I" "FirstWords") ∈ lw_tbl := lw_at lw_m4 182 rfl
theorem in_X2 : ∀ w ∈ wsX20, w ∈ lw_all := lw_in wsX20 [918, 920, 922, 924, 926, 928] (by decide +kernel) (by decide +kernel)
/-! FirstWords$Image -/
set_option maxRecDepth 100000
def RX3 : String := "FirstWords$Image"
def TX3 : u_T := fun k => match k with
  | 0 => ("FirstWords$Image", "shown", "[[I", true)
  | 1 => ("FirstWords$Image", "theirs", "[[I", true)
  | 2 => ("FirstWords$Image", "shownMany", "I", false)
  | 3 => ("FirstWords$Image", "theirMany", "I", false)
  | 4 => ("FirstWords$Image", "left", "I", false)
  | _ => ("FirstWords$Image", "isKept", "Z", false)
def tyX3 : Nat → FieldType := fun k => match k with
  | 0 => .array (.array .int)
  | 1 => .array (.array .int)
  | 2 => .int
  | 3 => .int
  | 4 => .int
  | _ => .boolean
abbrev wsX30 : List Cond := u_ws RX3 TX3 6
theorem nmX3 : ∀ a, a < 6 → ∀ b, b < 6 → a ≠ b → (TX3 a).2.1 ≠ (TX3 b).2.1 := by decide +kernel
theorem tyX3_ok : ∀ k, k < 6 → parseFieldDescriptor (TX3 k).2.2.1 = some (tyX3 k) := by decide +kernel
abbrev cX3_init : ByteArray := prog_4_method_1_code
def yX3_init : MethodName := ⟨RX3, "<init>", "()V"⟩
def dkwX3_init_1 : List UInt8 := [181, 0, 16, 177]
abbrev dktX3_init_1 : List UInt8 := dkwX3_init_1 ++ []
def dkwX3_init_0 : List UInt8 := [42, 183, 0, 3, 42, 16, 24, 6, 197, 0, 9, 2, 181, 0, 11, 42, 16, 12, 5, 197, 0, 9, 2]
abbrev dktX3_init_0 : List UInt8 := dkwX3_init_0 ++ dktX3_init_1
theorem dksX3_init_0 : cX3_init.data.toList.drop 0 = dktX3_init_0 := by decide +kernel
theorem dksX3_init_1 : cX3_init.data.toList.drop 23 = dktX3_init_1 := dk_seg dksX3_init_0 23 rfl rfl
theorem dX3_init_0 : decode cX3_init 0 = .ok (.aload_n 0, 1) := dk_42 (dk_at dksX3_init_0 0 rfl rfl)
theorem dX3_init_1 : decode cX3_init 1 = .ok (.invokespecial 3, 3) := dk_183 0 3 (dk_at dksX3_init_0 1 rfl rfl)
theorem dX3_init_4 : decode cX3_init 4 = .ok (.aload_n 0, 1) := dk_42 (dk_at dksX3_init_0 4 rfl rfl)
theorem dX3_init_5 : decode cX3_init 5 = .ok (.bipush 24, 2) := dk_16 24 (dk_at dksX3_init_0 5 rfl rfl)
theorem dX3_init_7 : decode cX3_init 7 = .ok (.iconst 3, 1) := dk_6 (dk_at dksX3_init_0 7 rfl rfl)
theorem dX3_init_8 : decode cX3_init 8 = .ok (.multianewarray 9 2, 4) := by decide +kernel
theorem dX3_init_12 : decode cX3_init 12 = .ok (.putfield 11, 3) := dk_181 0 11 (dk_at dksX3_init_0 12 rfl rfl)
theorem dX3_init_15 : decode cX3_init 15 = .ok (.aload_n 0, 1) := dk_42 (dk_at dksX3_init_0 15 rfl rfl)
theorem dX3_init_16 : decode cX3_init 16 = .ok (.bipush 12, 2) := dk_16 12 (dk_at dksX3_init_0 16 rfl rfl)
theorem dX3_init_18 : decode cX3_init 18 = .ok (.iconst 2, 1) := dk_5 (dk_at dksX3_init_0 18 rfl rfl)
theorem dX3_init_19 : decode cX3_init 19 = .ok (.multianewarray 9 2, 4) := by decide +kernel
theorem dX3_init_23 : decode cX3_init 23 = .ok (.putfield 16, 3) := dk_181 0 16 (dk_at dksX3_init_1 0 rfl rfl)
theorem dX3_init_26 : decode cX3_init 26 = .ok (.return_, 1) := dk_177 (dk_at dksX3_init_1 3 rfl rfl)
theorem q95 : (Jvm.Cond.initialized "FirstWords$Image") ∈ lw_all := lw_g (lw_at lw_m1 4 rfl) rfl
theorem q933 : (Jvm.Cond.instantiable "FirstWords$Image" (6 : Nat)) ∈ lw_all := lw_g (lw_at lw_m4 122 rfl) rfl
theorem q935 : (Jvm.Cond.instanceMethod ({ cls := "FirstWords$Image", name := "<init>", desc := "()V" } : Jvm.MethodName)) ∈ lw_all := lw_g (lw_at lw_m4 124 rfl) rfl
theorem q936 : (Jvm.Cond.code ({ cls := "FirstWords$Image", name := "<init>", desc := "()V" } : Jvm.MethodName) prog_4_method_1_code (1 : Nat) (Option.none : Option Jvm.ClassFile.FieldType)) ∈ lw_all := lw_g (lw_at lw_m4 125 rfl) rfl
theorem q937 : (Jvm.Cond.methodLink "FirstWords$Image" (3 : Nat) ({ cls := "java/lang/Object", name := "<init>", desc := "()V" } : Jvm.MethodName)) ∈ lw_all := lw_g (lw_at lw_m4 126 rfl) rfl
theorem q938 : (Jvm.Cond.classLink "FirstWords$Image" (9 : Nat) "[[I") ∈ lw_all := lw_g (lw_at lw_m4 127 rfl) rfl
theorem q939 : (Jvm.Cond.fieldLink "FirstWords$Image" (11 : Nat) "FirstWords$Image" "shown" "[[I") ∈ lw_all := lw_g (lw_at lw_m4 128 rfl) rfl
theorem q941 : (Jvm.Cond.fieldLink "FirstWords$Image" (16 : Nat) "FirstWords$Image" "theirs" "[[I") ∈ lw_all := lw_g (lw_at lw_m4 130 rfl) rfl
theorem q947 : (Jvm.Cond.laysFinal "FirstWords$Image" "FirstWords$Image" "shown" "[[I") ∈ lw_all := lw_g (lw_at lw_m4 136 rfl) rfl
theorem q948 : (Jvm.Cond.soleField "FirstWords$Image" "shown") ∈ lw_all := lw_g (lw_at lw_m4 137 rfl) rfl
theorem q949 : (Jvm.Cond.laysFinal "FirstWords$Image" "FirstWords$Image" "theirs" "[[I") ∈ lw_all := lw_g (lw_at lw_m4 138 rfl) rfl
theorem q950 : (Jvm.Cond.soleField "FirstWords$Image" "theirs") ∈ lw_all := lw_g (lw_at lw_m4 139 rfl) rfl
theorem q951 : (Jvm.Cond.lays "FirstWords$Image" "FirstWords$Image" "shownMany" "I") ∈ lw_all := lw_g (lw_at lw_m4 140 rfl) rfl
theorem q952 : (Jvm.Cond.soleField "FirstWords$Image" "shownMany") ∈ lw_all := lw_g (lw_at lw_m4 141 rfl) rfl
theorem q953 : (Jvm.Cond.lays "FirstWords$Image" "FirstWords$Image" "theirMany" "I") ∈ lw_all := lw_g (lw_at lw_m4 142 rfl) rfl
theorem q954 : (Jvm.Cond.soleField "FirstWords$Image" "theirMany") ∈ lw_all := lw_g (lw_at lw_m4 143 rfl) rfl
theorem q955 : (Jvm.Cond.lays "FirstWords$Image" "FirstWords$Image" "left" "I") ∈ lw_all := lw_g (lw_at lw_m4 144 rfl) rfl
theorem q956 : (Jvm.Cond.soleField "FirstWords$Image" "left") ∈ lw_all := lw_g (lw_at lw_m4 145 rfl) rfl
theorem q957 : (Jvm.Cond.lays "FirstWords$Image" "FirstWords$Image" "isKept" "Z") ∈ lw_all := lw_g (lw_at lw_m4 146 rfl) rfl
theorem q958 : (Jvm.Cond.soleField "FirstWords$Image" "isKept") ∈ lw_all := lw_g (lw_at lw_m4 147 rfl) rfl
theorem q959 : (Jvm.Cond.superclass "FirstWords$Image" "java/lang/Object") ∈ lw_all := lw_g (lw_at lw_m4 148 rfl) rfl
theorem in_X3 : ∀ w ∈ wsX30, w ∈ lw_all := lw_in wsX30 [947, 949, 951, 953, 955, 957] (by decide +kernel) (by decide +kernel)
/-! FirstWords$Sheet -/
set_option maxRecDepth 100000
def RX4 : String := "FirstWords$Sheet"
def TX4 : u_T := fun k => match k with
  | 0 => ("FirstWords$Sheet", "row", "Ljava/lang/Object;", false)
  | _ => ("FirstWords$Sheet", "size", "I", false)
def tyX4 : Nat → FieldType := fun k => match k with
  | 0 => .object "java/lang/Object"
  | _ => .int
abbrev wsX40 : List Cond := u_ws RX4 TX4 2
theorem nmX4 : ∀ a, a < 2 → ∀ b, b < 2 → a ≠ b → (TX4 a).2.1 ≠ (TX4 b).2.1 := by decide +kernel
theorem tyX4_ok : ∀ k, k < 2 → parseFieldDescriptor (TX4 k).2.2.1 = some (tyX4 k) := by decide +kernel
abbrev cX4_init : ByteArray := prog_10_method_1_code
def yX4_init : MethodName := ⟨RX4, "<init>", "()V"⟩
theorem dX4_init_0 : decode cX4_init 0 = .ok (.aload_n 0, 1) := by decide +kernel
theorem dX4_init_1 : decode cX4_init 1 = .ok (.invokespecial 1, 3) := by decide +kernel
theorem dX4_init_4 : decode cX4_init 4 = .ok (.return_, 1) := by decide +kernel
theorem q96 : (Jvm.Cond.initialized "FirstWords$Sheet") ∈ lw_all := lw_g (lw_at lw_m1 5 rfl) rfl
theorem q962 : (Jvm.Cond.instantiable "FirstWords$Sheet" (2 : Nat)) ∈ lw_all := lw_g (lw_at lw_m4 151 rfl) rfl
theorem q964 : (Jvm.Cond.instanceMethod ({ cls := "FirstWords$Sheet", name := "<init>", desc := "()V" } : Jvm.MethodName)) ∈ lw_all := lw_g (lw_at lw_m4 153 rfl) rfl
theorem q965 : (Jvm.Cond.code ({ cls := "FirstWords$Sheet", name := "<init>", desc := "()V" } : Jvm.MethodName) prog_10_method_1_code (1 : Nat) (Option.none : Option Jvm.ClassFile.FieldType)) ∈ lw_all := lw_g (lw_at lw_m4 154 rfl) rfl
theorem q966 : (Jvm.Cond.methodLink "FirstWords$Sheet" (1 : Nat) ({ cls := "java/lang/Object", name := "<init>", desc := "()V" } : Jvm.MethodName)) ∈ lw_all := lw_g (lw_at lw_m4 155 rfl) rfl
theorem q969 : (Jvm.Cond.lays "FirstWords$Sheet" "FirstWords$Sheet" "row" "Ljava/lang/Object;") ∈ lw_all := lw_g (lw_at lw_m4 158 rfl) rfl
theorem q970 : (Jvm.Cond.soleField "FirstWords$Sheet" "row") ∈ lw_all := lw_g (lw_at lw_m4 159 rfl) rfl
theorem q971 : (Jvm.Cond.lays "FirstWords$Sheet" "FirstWords$Sheet" "size" "I") ∈ lw_all := lw_g (lw_at lw_m4 160 rfl) rfl
theorem q972 : (Jvm.Cond.soleField "FirstWords$Sheet" "size") ∈ lw_all := lw_g (lw_at lw_m4 161 rfl) rfl
theorem q973 : (Jvm.Cond.superclass "FirstWords$Sheet" "java/lang/Object") ∈ lw_all := lw_g (lw_at lw_m4 162 rfl) rfl
theorem in_X4 : ∀ w ∈ wsX40, w ∈ lw_all := lw_in wsX40 [969, 971] (by decide +kernel) (by decide +kernel)
/-! FirstWords$Fault -/
set_option maxRecDepth 100000
def RX7 : String := "FirstWords$Fault"
def TX7 : u_T := fun k => match k with
  | 0 => ("java/lang/Throwable", "cause", "Ljava/lang/Throwable;", false)
  | 1 => ("java/lang/Throwable", "stackTrace", "[Ljava/lang/StackTraceElement;", false)
  | 2 => ("java/lang/Throwable", "suppressedExceptions", "Ljava/util/List;", false)
  | 3 => ("java/lang/Throwable", "detailMessage", "Ljava/lang/String;", false)
  | 4 => ("java/lang/Throwable", "backtrace", "Ljava/lang/Object;", false)
  | 5 => ("java/lang/Throwable", "depth", "I", false)
  | 6 => ("FirstWords$Fault", "code", "I", true)
  | _ => ("FirstWords$Fault", "place", "I", true)
def tyX7 : Nat → FieldType := fun k => match k with
  | 0 => .object "java/lang/Throwable"
  | 1 => .array (.object "java/lang/StackTraceElement")
  | 2 => .object "java/util/List"
  | 3 => .object "java/lang/String"
  | 4 => .object "java/lang/Object"
  | 5 => .int
  | 6 => .int
  | _ => .int
abbrev wsX70 : List Cond := u_ws RX7 TX7 8
theorem nmX7 : ∀ a, a < 8 → ∀ b, b < 8 → a ≠ b → (TX7 a).2.1 ≠ (TX7 b).2.1 := by decide +kernel
theorem tyX7_ok : ∀ k, k < 8 → parseFieldDescriptor (TX7 k).2.2.1 = some (tyX7 k) := by decide +kernel
abbrev cX7_init : ByteArray := prog_3_method_1_code
def yX7_init : MethodName := ⟨RX7, "<init>", "(II)V"⟩
def dkwX7_init_0 : List UInt8 := [42, 1, 1, 3, 3, 183, 0, 1, 42, 27, 181, 0, 7, 42, 28, 181, 0, 13, 177]
abbrev dktX7_init_0 : List UInt8 := dkwX7_init_0 ++ []
theorem dksX7_init_0 : cX7_init.data.toList.drop 0 = dktX7_init_0 := by decide +kernel
theorem dX7_init_0 : decode cX7_init 0 = .ok (.aload_n 0, 1) := dk_42 (dk_at dksX7_init_0 0 rfl rfl)
theorem dX7_init_1 : decode cX7_init 1 = .ok (.aconst_null, 1) := dk_1 (dk_at dksX7_init_0 1 rfl rfl)
theorem dX7_init_2 : decode cX7_init 2 = .ok (.aconst_null, 1) := dk_1 (dk_at dksX7_init_0 2 rfl rfl)
theorem dX7_init_3 : decode cX7_init 3 = .ok (.iconst 0, 1) := dk_3 (dk_at dksX7_init_0 3 rfl rfl)
theorem dX7_init_4 : decode cX7_init 4 = .ok (.iconst 0, 1) := dk_3 (dk_at dksX7_init_0 4 rfl rfl)
theorem dX7_init_5 : decode cX7_init 5 = .ok (.invokespecial 1, 3) := dk_183 0 1 (dk_at dksX7_init_0 5 rfl rfl)
theorem dX7_init_8 : decode cX7_init 8 = .ok (.aload_n 0, 1) := dk_42 (dk_at dksX7_init_0 8 rfl rfl)
theorem dX7_init_9 : decode cX7_init 9 = .ok (.iload_n 1, 1) := dk_27 (dk_at dksX7_init_0 9 rfl rfl)
theorem dX7_init_10 : decode cX7_init 10 = .ok (.putfield 7, 3) := dk_181 0 7 (dk_at dksX7_init_0 10 rfl rfl)
theorem dX7_init_13 : decode cX7_init 13 = .ok (.aload_n 0, 1) := dk_42 (dk_at dksX7_init_0 13 rfl rfl)
theorem dX7_init_14 : decode cX7_init 14 = .ok (.iload_n 2, 1) := dk_28 (dk_at dksX7_init_0 14 rfl rfl)
theorem dX7_init_15 : decode cX7_init 15 = .ok (.putfield 13, 3) := dk_181 0 13 (dk_at dksX7_init_0 15 rfl rfl)
theorem dX7_init_18 : decode cX7_init 18 = .ok (.return_, 1) := dk_177 (dk_at dksX7_init_0 18 rfl rfl)
theorem q104 : (Jvm.Cond.initialized "FirstWords$Fault") ∈ lw_all := lw_g (lw_at lw_m1 13 rfl) rfl
theorem q170 : (Jvm.Cond.instantiable "FirstWords$Fault" (8 : Nat)) ∈ lw_all := lw_g (lw_at lw_m1 79 rfl) rfl
theorem q171 : (Jvm.Cond.castable "FirstWords$Fault" "FirstWords$Fault") ∈ lw_tbl := lw_at lw_m1 80 rfl
theorem q178 : (Jvm.Cond.selects "FirstWords$Fault" ({ cls := "java/lang/Throwable", name := "fillInStackTrace", desc := "(I)Ljava/lang/Throwable;" } : Jvm.MethodName) ({ cls := "java/lang/Throwable", name := "fillInStackTrace", desc := "(I)Ljava/lang/Throwable;" } : Jvm.MethodName)) ∈ lw_all := lw_g (lw_at lw_m1 87 rfl) rfl
theorem q179 : (Jvm.Cond.selects "FirstWords$Fault" ({ cls := "java/lang/Throwable", name := "fillInStackTrace", desc := "()Ljava/lang/Throwable;" } : Jvm.MethodName) ({ cls := "java/lang/Throwable", name := "fillInStackTrace", desc := "()Ljava/lang/Throwable;" } : Jvm.MethodName)) ∈ lw_all := lw_g (lw_at lw_m1 88 rfl) rfl
theorem q180 : (Jvm.Cond.lays "FirstWords$Fault" "java/lang/Throwable" "cause" "Ljava/lang/Throwable;") ∈ lw_all := lw_g (lw_at lw_m1 89 rfl) rfl
theorem q182 : (Jvm.Cond.lays "FirstWords$Fault" "java/lang/Throwable" "stackTrace" "[Ljava/lang/StackTraceElement;") ∈ lw_all := lw_g (lw_at lw_m1 91 rfl) rfl
theorem q184 : (Jvm.Cond.lays "FirstWords$Fault" "java/lang/Throwable" "suppressedExceptions" "Ljava/util/List;") ∈ lw_all := lw_g (lw_at lw_m1 93 rfl) rfl
theorem q186 : (Jvm.Cond.lays "FirstWords$Fault" "java/lang/Throwable" "detailMessage" "Ljava/lang/String;") ∈ lw_all := lw_g (lw_at lw_m1 95 rfl) rfl
theorem q188 : (Jvm.Cond.lays "FirstWords$Fault" "java/lang/Throwable" "backtrace" "Ljava/lang/Object;") ∈ lw_all := lw_g (lw_at lw_m1 97 rfl) rfl
theorem q226 : (Jvm.Cond.instanceMethod ({ cls := "FirstWords$Fault", name := "<init>", desc := "(II)V" } : Jvm.MethodName)) ∈ lw_all := lw_g (lw_at lw_m1 135 rfl) rfl
theorem q227 : (Jvm.Cond.code ({ cls := "FirstWords$Fault", name := "<init>", desc := "(II)V" } : Jvm.MethodName) prog_3_method_1_code (3 : Nat) (Option.none : Option Jvm.ClassFile.FieldType)) ∈ lw_all := lw_g (lw_at lw_m1 136 rfl) rfl
theorem q228 : (Jvm.Cond.methodLink "FirstWords$Fault" (1 : Nat) ({ cls := "java/lang/RuntimeException", name := "<init>", desc := "(Ljava/lang/String;Ljava/lang/Throwable;ZZ)V" } : Jvm.MethodName)) ∈ lw_all := lw_g (lw_at lw_m1 137 rfl) rfl
theorem q237 : (Jvm.Cond.fieldLink "FirstWords$Fault" (7 : Nat) "FirstWords$Fault" "code" "I") ∈ lw_all := lw_g (lw_at lw_m1 146 rfl) rfl
theorem q239 : (Jvm.Cond.fieldLink "FirstWords$Fault" (13 : Nat) "FirstWords$Fault" "place" "I") ∈ lw_all := lw_g (lw_at lw_m1 148 rfl) rfl
theorem q246 : (Jvm.Cond.laysFinal "FirstWords$Fault" "FirstWords$Fault" "code" "I") ∈ lw_all := lw_g (lw_at lw_m1 155 rfl) rfl
theorem q247 : (Jvm.Cond.soleField "FirstWords$Fault" "code") ∈ lw_all := lw_g (lw_at lw_m1 156 rfl) rfl
theorem q248 : (Jvm.Cond.laysFinal "FirstWords$Fault" "FirstWords$Fault" "place" "I") ∈ lw_all := lw_g (lw_at lw_m1 157 rfl) rfl
theorem q249 : (Jvm.Cond.soleField "FirstWords$Fault" "place") ∈ lw_all := lw_g (lw_at lw_m1 158 rfl) rfl
theorem q254 : (Jvm.Cond.lays "FirstWords$Fault" "java/lang/Throwable" "depth" "I") ∈ lw_all := lw_g (lw_at lw_m1 163 rfl) rfl
theorem q257 : (Jvm.Cond.superclass "FirstWords$Fault" "java/lang/RuntimeException") ∈ lw_all := lw_g (lw_at lw_m1 166 rfl) rfl
theorem in_X7 : ∀ w ∈ wsX70, w ∈ lw_all := lw_in wsX70 [180, 182, 184, 186, 188, 254, 246, 248] (by decide +kernel) (by decide +kernel)
/-! FirstWords$Meaning -/
set_option maxRecDepth 100000
def RX8 : String := "FirstWords$Meaning"
def TX8 : u_T := fun k => match k with
  | 0 => ("FirstWords$Meaning", "has", "I", true)
  | 1 => ("FirstWords$Meaning", "not", "I", true)
  | _ => ("FirstWords$Meaning", "things", "I", false)
def tyX8 : Nat → FieldType := fun k => match k with
  | 0 => .int
  | 1 => .int
  | _ => .int
abbrev wsX80 : List Cond := u_ws RX8 TX8 3
theorem nmX8 : ∀ a, a < 3 → ∀ b, b < 3 → a ≠ b → (TX8 a).2.1 ≠ (TX8 b).2.1 := by decide +kernel
theorem tyX8_ok : ∀ k, k < 3 → parseFieldDescriptor (TX8 k).2.2.1 = some (tyX8 k) := by decide +kernel
abbrev cX8_init : ByteArray := prog_6_method_1_code
def yX8_init : MethodName := ⟨RX8, "<init>", "(II)V"⟩
def dkwX8_init_0 : List UInt8 := [42, 183, 0, 1, 42, 27, 181, 0, 7, 42, 28, 181, 0, 13, 177]
abbrev dktX8_init_0 : List UInt8 := dkwX8_init_0 ++ []
theorem dksX8_init_0 : cX8_init.data.toList.drop 0 = dktX8_init_0 := by decide +kernel
theorem dX8_init_0 : decode cX8_init 0 = .ok (.aload_n 0, 1) := dk_42 (dk_at dksX8_init_0 0 rfl rfl)
theorem dX8_init_1 : decode cX8_init 1 = .ok (.invokespecial 1, 3) := dk_183 0 1 (dk_at dksX8_init_0 1 rfl rfl)
theorem dX8_init_4 : decode cX8_init 4 = .ok (.aload_n 0, 1) := dk_42 (dk_at dksX8_init_0 4 rfl rfl)
theorem dX8_init_5 : decode cX8_init 5 = .ok (.iload_n 1, 1) := dk_27 (dk_at dksX8_init_0 5 rfl rfl)
theorem dX8_init_6 : decode cX8_init 6 = .ok (.putfield 7, 3) := dk_181 0 7 (dk_at dksX8_init_0 6 rfl rfl)
theorem dX8_init_9 : decode cX8_init 9 = .ok (.aload_n 0, 1) := dk_42 (dk_at dksX8_init_0 9 rfl rfl)
theorem dX8_init_10 : decode cX8_init 10 = .ok (.iload_n 2, 1) := dk_28 (dk_at dksX8_init_0 10 rfl rfl)
theorem dX8_init_11 : decode cX8_init 11 = .ok (.putfield 13, 3) := dk_181 0 13 (dk_at dksX8_init_0 11 rfl rfl)
theorem dX8_init_14 : decode cX8_init 14 = .ok (.return_, 1) := dk_177 (dk_at dksX8_init_0 14 rfl rfl)
abbrev cX8_fits : ByteArray := prog_6_method_2_code
def yX8_fits : MethodName := ⟨RX8, "fits", "(I)Z"⟩
def dkwX8_fits_1 : List UInt8 := [167, 0, 4, 3, 172]
abbrev dktX8_fits_1 : List UInt8 := dkwX8_fits_1 ++ []
def dkwX8_fits_0 : List UInt8 := [27, 42, 180, 0, 7, 126, 42, 180, 0, 7, 160, 0, 16, 27, 42, 180, 0, 13, 126, 154, 0, 7, 4]
abbrev dktX8_fits_0 : List UInt8 := dkwX8_fits_0 ++ dktX8_fits_1
theorem dksX8_fits_0 : cX8_fits.data.toList.drop 0 = dktX8_fits_0 := by decide +kernel
theorem dksX8_fits_1 : cX8_fits.data.toList.drop 23 = dktX8_fits_1 := dk_seg dksX8_fits_0 23 rfl rfl
theorem dX8_fits_0 : decode cX8_fits 0 = .ok (.iload_n 1, 1) := dk_27 (dk_at dksX8_fits_0 0 rfl rfl)
theorem dX8_fits_1 : decode cX8_fits 1 = .ok (.aload_n 0, 1) := dk_42 (dk_at dksX8_fits_0 1 rfl rfl)
theorem dX8_fits_2 : decode cX8_fits 2 = .ok (.getfield 7, 3) := dk_180 0 7 (dk_at dksX8_fits_0 2 rfl rfl)
theorem dX8_fits_5 : decode cX8_fits 5 = .ok (.iand, 1) := dk_126 (dk_at dksX8_fits_0 5 rfl rfl)
theorem dX8_fits_6 : decode cX8_fits 6 = .ok (.aload_n 0, 1) := dk_42 (dk_at dksX8_fits_0 6 rfl rfl)
theorem dX8_fits_7 : decode cX8_fits 7 = .ok (.getfield 7, 3) := dk_180 0 7 (dk_at dksX8_fits_0 7 rfl rfl)
theorem dX8_fits_10 : decode cX8_fits 10 = .ok (.if_icmp .ne 16, 3) := dk_160 0 16 (dk_at dksX8_fits_0 10 rfl rfl)
theorem dX8_fits_13 : decode cX8_fits 13 = .ok (.iload_n 1, 1) := dk_27 (dk_at dksX8_fits_0 13 rfl rfl)
theorem dX8_fits_14 : decode cX8_fits 14 = .ok (.aload_n 0, 1) := dk_42 (dk_at dksX8_fits_0 14 rfl rfl)
theorem dX8_fits_15 : decode cX8_fits 15 = .ok (.getfield 13, 3) := dk_180 0 13 (dk_at dksX8_fits_0 15 rfl rfl)
theorem dX8_fits_18 : decode cX8_fits 18 = .ok (.iand, 1) := dk_126 (dk_at dksX8_fits_0 18 rfl rfl)
theorem dX8_fits_19 : decode cX8_fits 19 = .ok (.ifCond .ne 7, 3) := dk_154 0 7 (dk_at dksX8_fits_0 19 rfl rfl)
theorem dX8_fits_22 : decode cX8_fits 22 = .ok (.iconst 1, 1) := dk_4 (dk_at dksX8_fits_0 22 rfl rfl)
theorem dX8_fits_23 : decode cX8_fits 23 = .ok (.goto 4, 3) := dk_167 0 4 (dk_at dksX8_fits_1 0 rfl rfl)
theorem dX8_fits_26 : decode cX8_fits 26 = .ok (.iconst 0, 1) := dk_3 (dk_at dksX8_fits_1 3 rfl rfl)
theorem dX8_fits_27 : decode cX8_fits 27 = .ok (.ireturn, 1) := dk_172 (dk_at dksX8_fits_1 4 rfl rfl)
abbrev cX8_asks : ByteArray := prog_6_method_3_code
def yX8_asks : MethodName := ⟨RX8, "asks", "()I"⟩
def dkwX8_asks_0 : List UInt8 := [42, 180, 0, 7, 184, 0, 16, 42, 180, 0, 13, 184, 0, 16, 96, 172]
abbrev dktX8_asks_0 : List UInt8 := dkwX8_asks_0 ++ []
theorem dksX8_asks_0 : cX8_asks.data.toList.drop 0 = dktX8_asks_0 := by decide +kernel
theorem dX8_asks_0 : decode cX8_asks 0 = .ok (.aload_n 0, 1) := dk_42 (dk_at dksX8_asks_0 0 rfl rfl)
theorem dX8_asks_1 : decode cX8_asks 1 = .ok (.getfield 7, 3) := dk_180 0 7 (dk_at dksX8_asks_0 1 rfl rfl)
theorem dX8_asks_4 : decode cX8_asks 4 = .ok (.invokestatic 16, 3) := dk_184 0 16 (dk_at dksX8_asks_0 4 rfl rfl)
theorem dX8_asks_7 : decode cX8_asks 7 = .ok (.aload_n 0, 1) := dk_42 (dk_at dksX8_asks_0 7 rfl rfl)
theorem dX8_asks_8 : decode cX8_asks 8 = .ok (.getfield 13, 3) := dk_180 0 13 (dk_at dksX8_asks_0 8 rfl rfl)
theorem dX8_asks_11 : decode cX8_asks 11 = .ok (.invokestatic 16, 3) := dk_184 0 16 (dk_at dksX8_asks_0 11 rfl rfl)
theorem dX8_asks_14 : decode cX8_asks 14 = .ok (.iadd, 1) := dk_96 (dk_at dksX8_asks_0 14 rfl rfl)
theorem dX8_asks_15 : decode cX8_asks 15 = .ok (.ireturn, 1) := dk_172 (dk_at dksX8_asks_0 15 rfl rfl)
abbrev cX8_isOf : ByteArray := prog_6_method_4_code
def yX8_isOf : MethodName := ⟨RX8, "isOf", "(I)Z"⟩
def dkwX8_isOf_0 : List UInt8 := [42, 180, 0, 22, 27, 122, 4, 126, 4, 160, 0, 7, 4, 167, 0, 4, 3, 172]
abbrev dktX8_isOf_0 : List UInt8 := dkwX8_isOf_0 ++ []
theorem dksX8_isOf_0 : cX8_isOf.data.toList.drop 0 = dktX8_isOf_0 := by decide +kernel
theorem dX8_isOf_0 : decode cX8_isOf 0 = .ok (.aload_n 0, 1) := dk_42 (dk_at dksX8_isOf_0 0 rfl rfl)
theorem dX8_isOf_1 : decode cX8_isOf 1 = .ok (.getfield 22, 3) := dk_180 0 22 (dk_at dksX8_isOf_0 1 rfl rfl)
theorem dX8_isOf_4 : decode cX8_isOf 4 = .ok (.iload_n 1, 1) := dk_27 (dk_at dksX8_isOf_0 4 rfl rfl)
theorem dX8_isOf_5 : decode cX8_isOf 5 = .ok (.ishr, 1) := dk_122 (dk_at dksX8_isOf_0 5 rfl rfl)
theorem dX8_isOf_6 : decode cX8_isOf 6 = .ok (.iconst 1, 1) := dk_4 (dk_at dksX8_isOf_0 6 rfl rfl)
theorem dX8_isOf_7 : decode cX8_isOf 7 = .ok (.iand, 1) := dk_126 (dk_at dksX8_isOf_0 7 rfl rfl)
theorem dX8_isOf_8 : decode cX8_isOf 8 = .ok (.iconst 1, 1) := dk_4 (dk_at dksX8_isOf_0 8 rfl rfl)
theorem dX8_isOf_9 : decode cX8_isOf 9 = .ok (.if_icmp .ne 7, 3) := dk_160 0 7 (dk_at dksX8_isOf_0 9 rfl rfl)
theorem dX8_isOf_12 : decode cX8_isOf 12 = .ok (.iconst 1, 1) := dk_4 (dk_at dksX8_isOf_0 12 rfl rfl)
theorem dX8_isOf_13 : decode cX8_isOf 13 = .ok (.goto 4, 3) := dk_167 0 4 (dk_at dksX8_isOf_0 13 rfl rfl)
theorem dX8_isOf_16 : decode cX8_isOf 16 = .ok (.iconst 0, 1) := dk_3 (dk_at dksX8_isOf_0 16 rfl rfl)
theorem dX8_isOf_17 : decode cX8_isOf 17 = .ok (.ireturn, 1) := dk_172 (dk_at dksX8_isOf_0 17 rfl rfl)
theorem q109 : (Jvm.Cond.initialized "FirstWords$Meaning") ∈ lw_all := lw_g (lw_at lw_m1 18 rfl) rfl
theorem q383 : (Jvm.Cond.instantiable "FirstWords$Meaning" (3 : Nat)) ∈ lw_all := lw_g (lw_at lw_m2 52 rfl) rfl
theorem q385 : (Jvm.Cond.instanceMethod ({ cls := "FirstWords$Meaning", name := "<init>", desc := "(II)V" } : Jvm.MethodName)) ∈ lw_all := lw_g (lw_at lw_m2 54 rfl) rfl
theorem q386 : (Jvm.Cond.code ({ cls := "FirstWords$Meaning", name := "<init>", desc := "(II)V" } : Jvm.MethodName) prog_6_method_1_code (3 : Nat) (Option.none : Option Jvm.ClassFile.FieldType)) ∈ lw_all := lw_g (lw_at lw_m2 55 rfl) rfl
theorem q387 : (Jvm.Cond.methodLink "FirstWords$Meaning" (1 : Nat) ({ cls := "java/lang/Object", name := "<init>", desc := "()V" } : Jvm.MethodName)) ∈ lw_all := lw_g (lw_at lw_m2 56 rfl) rfl
theorem q388 : (Jvm.Cond.fieldLink "FirstWords$Meaning" (7 : Nat) "FirstWords$Meaning" "has" "I") ∈ lw_all := lw_g (lw_at lw_m2 57 rfl) rfl
theorem q391 : (Jvm.Cond.fieldLink "FirstWords$Meaning" (13 : Nat) "FirstWords$Meaning" "not" "I") ∈ lw_all := lw_g (lw_at lw_m2 60 rfl) rfl
theorem q395 : (Jvm.Cond.fieldLink "FirstWords$Meaning" (22 : Nat) "FirstWords$Meaning" "things" "I") ∈ lw_all := lw_g (lw_at lw_m2 64 rfl) rfl
theorem q398 : (Jvm.Cond.laysFinal "FirstWords$Meaning" "FirstWords$Meaning" "has" "I") ∈ lw_all := lw_g (lw_at lw_m2 67 rfl) rfl
theorem q399 : (Jvm.Cond.soleField "FirstWords$Meaning" "has") ∈ lw_all := lw_g (lw_at lw_m2 68 rfl) rfl
theorem q400 : (Jvm.Cond.laysFinal "FirstWords$Meaning" "FirstWords$Meaning" "not" "I") ∈ lw_all := lw_g (lw_at lw_m2 69 rfl) rfl
theorem q401 : (Jvm.Cond.soleField "FirstWords$Meaning" "not") ∈ lw_all := lw_g (lw_at lw_m2 70 rfl) rfl
theorem q402 : (Jvm.Cond.lays "FirstWords$Meaning" "FirstWords$Meaning" "things" "I") ∈ lw_all := lw_g (lw_at lw_m2 71 rfl) rfl
theorem q403 : (Jvm.Cond.soleField "FirstWords$Meaning" "things") ∈ lw_all := lw_g (lw_at lw_m2 72 rfl) rfl
theorem q404 : (Jvm.Cond.superclass "FirstWords$Meaning" "java/lang/Object") ∈ lw_all := lw_g (lw_at lw_m2 73 rfl) rfl
theorem q503 : (Jvm.Cond.instanceMethod ({ cls := "FirstWords$Meaning", name := "fits", desc := "(I)Z" } : Jvm.MethodName)) ∈ lw_all := lw_g (lw_at lw_m2 172 rfl) rfl
theorem q504 : (Jvm.Cond.selects "FirstWords$Meaning" ({ cls := "FirstWords$Meaning", name := "fits", desc := "(I)Z" } : Jvm.MethodName) ({ cls := "FirstWords$Meaning", name := "fits", desc := "(I)Z" } : Jvm.MethodName)) ∈ lw_all := lw_g (lw_at lw_m2 173 rfl) rfl
theorem q505 : (Jvm.Cond.code ({ cls := "FirstWords$Meaning", name := "fits", desc := "(I)Z" } : Jvm.MethodName) prog_6_method_2_code (2 : Nat) (Option.some Jvm.ClassFile.FieldType.boolean)) ∈ lw_all := lw_g (lw_at lw_m2 174 rfl) rfl
theorem q544 : (Jvm.Cond.instanceMethod ({ cls := "FirstWords$Meaning", name := "asks", desc := "()I" } : Jvm.MethodName)) ∈ lw_all := lw_g (lw_at lw_m2 213 rfl) rfl
theorem q545 : (Jvm.Cond.selects "FirstWords$Meaning" ({ cls := "FirstWords$Meaning", name := "asks", desc := "()I" } : Jvm.MethodName) ({ cls := "FirstWords$Meaning", name := "asks", desc := "()I" } : Jvm.MethodName)) ∈ lw_all := lw_g (lw_at lw_m2 214 rfl) rfl
theorem q546 : (Jvm.Cond.code ({ cls := "FirstWords$Meaning", name := "asks", desc := "()I" } : Jvm.MethodName) prog_6_method_3_code (1 : Nat) (Option.some Jvm.ClassFile.FieldType.int)) ∈ lw_all := lw_g (lw_at lw_m2 215 rfl) rfl
theorem q547 : (Jvm.Cond.methodLink "FirstWords$Meaning" (16 : Nat) ({ cls := "java/lang/Integer", name := "bitCount", desc := "(I)I" } : Jvm.MethodName)) ∈ lw_all := lw_g (lw_at lw_m2 216 rfl) rfl
theorem q607 : (Jvm.Cond.instanceMethod ({ cls := "FirstWords$Meaning", name := "isOf", desc := "(I)Z" } : Jvm.MethodName)) ∈ lw_all := lw_g (lw_at lw_m3 36 rfl) rfl
theorem q608 : (Jvm.Cond.selects "FirstWords$Meaning" ({ cls := "FirstWords$Meaning", name := "isOf", desc := "(I)Z" } : Jvm.MethodName) ({ cls := "FirstWords$Meaning", name := "isOf", desc := "(I)Z" } : Jvm.MethodName)) ∈ lw_all := lw_g (lw_at lw_m3 37 rfl) rfl
theorem q609 : (Jvm.Cond.code ({ cls := "FirstWords$Meaning", name := "isOf", desc := "(I)Z" } : Jvm.MethodName) prog_6_method_4_code (2 : Nat) (Option.some Jvm.ClassFile.FieldType.boolean)) ∈ lw_all := lw_g (lw_at lw_m3 38 rfl) rfl
theorem in_X8 : ∀ w ∈ wsX80, w ∈ lw_all := lw_in wsX80 [398, 400, 402] (by decide +kernel) (by decide +kernel)
/-! FirstWords$Stranger -/
set_option maxRecDepth 100000
def RX9 : String := "FirstWords$Stranger"
def TX9 : u_T := fun k => match k with
  | 0 => ("FirstWords$Stranger", "sees", "I", false)
  | 1 => ("FirstWords$Stranger", "fears", "I", false)
  | 2 => ("FirstWords$Stranger", "isUnlike", "Z", false)
  | 3 => ("FirstWords$Stranger", "chance", "I", false)
  | 4 => ("FirstWords$Stranger", "can", "I", false)
  | _ => ("FirstWords$Stranger", "this$0", "LFirstWords;", true)
def tyX9 : Nat → FieldType := fun k => match k with
  | 0 => .int
  | 1 => .int
  | 2 => .boolean
  | 3 => .int
  | 4 => .int
  | _ => .object "FirstWords"
abbrev wsX90 : List Cond := u_ws RX9 TX9 6
theorem nmX9 : ∀ a, a < 6 → ∀ b, b < 6 → a ≠ b → (TX9 a).2.1 ≠ (TX9 b).2.1 := by decide +kernel
theorem tyX9_ok : ∀ k, k < 6 → parseFieldDescriptor (TX9 k).2.2.1 = some (tyX9 k) := by decide +kernel
abbrev cX9_init : ByteArray := prog_11_method_1_code
def yX9_init : MethodName := ⟨RX9, "<init>", "(LFirstWords;)V"⟩
def dkwX9_init_1 : List UInt8 := [181, 0, 22, 177]
abbrev dktX9_init_1 : List UInt8 := dkwX9_init_1 ++ []
def dkwX9_init_0 : List UInt8 := [42, 43, 181, 0, 3, 42, 183, 0, 9, 42, 17, 0, 255, 181, 0, 15, 42, 16, 252, 181, 0, 19, 42, 4]
abbrev dktX9_init_0 : List UInt8 := dkwX9_init_0 ++ dktX9_init_1
theorem dksX9_init_0 : cX9_init.data.toList.drop 0 = dktX9_init_0 := by decide +kernel
theorem dksX9_init_1 : cX9_init.data.toList.drop 24 = dktX9_init_1 := dk_seg dksX9_init_0 24 rfl rfl
theorem dX9_init_0 : decode cX9_init 0 = .ok (.aload_n 0, 1) := dk_42 (dk_at dksX9_init_0 0 rfl rfl)
theorem dX9_init_1 : decode cX9_init 1 = .ok (.aload_n 1, 1) := dk_43 (dk_at dksX9_init_0 1 rfl rfl)
theorem dX9_init_2 : decode cX9_init 2 = .ok (.putfield 3, 3) := dk_181 0 3 (dk_at dksX9_init_0 2 rfl rfl)
theorem dX9_init_5 : decode cX9_init 5 = .ok (.aload_n 0, 1) := dk_42 (dk_at dksX9_init_0 5 rfl rfl)
theorem dX9_init_6 : decode cX9_init 6 = .ok (.invokespecial 9, 3) := dk_183 0 9 (dk_at dksX9_init_0 6 rfl rfl)
theorem dX9_init_9 : decode cX9_init 9 = .ok (.aload_n 0, 1) := dk_42 (dk_at dksX9_init_0 9 rfl rfl)
theorem dX9_init_10 : decode cX9_init 10 = .ok (.sipush 255, 3) := dk_17 0 255 (dk_at dksX9_init_0 10 rfl rfl)
theorem dX9_init_13 : decode cX9_init 13 = .ok (.putfield 15, 3) := dk_181 0 15 (dk_at dksX9_init_0 13 rfl rfl)
theorem dX9_init_16 : decode cX9_init 16 = .ok (.aload_n 0, 1) := dk_42 (dk_at dksX9_init_0 16 rfl rfl)
theorem dX9_init_17 : decode cX9_init 17 = .ok (.bipush (-4), 2) := dk_16 252 (dk_at dksX9_init_0 17 rfl rfl)
theorem dX9_init_19 : decode cX9_init 19 = .ok (.putfield 19, 3) := dk_181 0 19 (dk_at dksX9_init_0 19 rfl rfl)
theorem dX9_init_22 : decode cX9_init 22 = .ok (.aload_n 0, 1) := dk_42 (dk_at dksX9_init_0 22 rfl rfl)
theorem dX9_init_23 : decode cX9_init 23 = .ok (.iconst 1, 1) := dk_4 (dk_at dksX9_init_0 23 rfl rfl)
theorem dX9_init_24 : decode cX9_init 24 = .ok (.putfield 22, 3) := dk_181 0 22 (dk_at dksX9_init_1 0 rfl rfl)
theorem dX9_init_27 : decode cX9_init 27 = .ok (.return_, 1) := dk_177 (dk_at dksX9_init_1 3 rfl rfl)
abbrev cX9_kind : ByteArray := prog_11_method_2_code
def yX9_kind : MethodName := ⟨RX9, "kind", "()I"⟩
theorem dX9_kind_0 : decode cX9_kind 0 = .ok (.iconst 0, 1) := by decide +kernel
theorem dX9_kind_1 : decode cX9_kind 1 = .ok (.ireturn, 1) := by decide +kernel
abbrev cX9_sees : ByteArray := prog_11_method_4_code
def yX9_sees : MethodName := ⟨RX9, "sees", "(LFirstWords$Mind;IIIZI)V"⟩
def dkwX9_sees_6 : List UInt8 := [43, 180, 0, 71, 167, 0, 9, 43, 180, 0, 34, 29, 46, 181, 0, 71, 177]
abbrev dktX9_sees_6 : List UInt8 := dkwX9_sees_6 ++ []
def dkwX9_sees_5 : List UInt8 := [29, 42, 43, 29, 21, 7, 21, 9, 182, 0, 67, 79, 43, 43, 180, 0, 34, 29, 46, 16, 252, 160, 0, 10]
abbrev dktX9_sees_5 : List UInt8 := dkwX9_sees_5 ++ dktX9_sees_6
def dkwX9_sees_4 : List UInt8 := [21, 8, 50, 21, 4, 182, 0, 61, 21, 5, 159, 0, 7, 4, 167, 0, 4, 3, 54, 9, 43, 180, 0, 34]
abbrev dktX9_sees_4 : List UInt8 := dkwX9_sees_4 ++ dktX9_sees_5
def dkwX9_sees_3 : List UInt8 := [54, 7, 43, 180, 0, 34, 29, 46, 54, 8, 21, 8, 16, 252, 159, 0, 27, 42, 180, 0, 3, 180, 0, 57]
abbrev dktX9_sees_3 : List UInt8 := dkwX9_sees_3 ++ dktX9_sees_4
def dkwX9_sees_2 : List UInt8 := [180, 0, 47, 126, 42, 180, 0, 50, 153, 0, 11, 43, 29, 182, 0, 54, 167, 0, 4, 3, 2, 130, 126]
abbrev dktX9_sees_2 : List UInt8 := dkwX9_sees_2 ++ dktX9_sees_3
def dkwX9_sees_1 : List UInt8 := [16, 252, 184, 0, 38, 43, 180, 0, 44, 3, 184, 0, 38, 43, 28, 181, 0, 29, 177, 21, 6, 42]
abbrev dktX9_sees_1 : List UInt8 := dkwX9_sees_1 ++ dktX9_sees_2
def dkwX9_sees_0 : List UInt8 := [43, 180, 0, 29, 16, 252, 159, 0, 4, 177, 21, 4, 42, 180, 0, 19, 160, 0, 26, 43, 180, 0, 34]
abbrev dktX9_sees_0 : List UInt8 := dkwX9_sees_0 ++ dktX9_sees_1
theorem dksX9_sees_0 : cX9_sees.data.toList.drop 0 = dktX9_sees_0 := by decide +kernel
theorem dksX9_sees_1 : cX9_sees.data.toList.drop 23 = dktX9_sees_1 := dk_seg dksX9_sees_0 23 rfl rfl
theorem dksX9_sees_2 : cX9_sees.data.toList.drop 45 = dktX9_sees_2 := dk_seg dksX9_sees_1 22 rfl rfl
theorem dksX9_sees_3 : cX9_sees.data.toList.drop 68 = dktX9_sees_3 := dk_seg dksX9_sees_2 23 rfl rfl
theorem dksX9_sees_4 : cX9_sees.data.toList.drop 92 = dktX9_sees_4 := dk_seg dksX9_sees_3 24 rfl rfl
theorem dksX9_sees_5 : cX9_sees.data.toList.drop 116 = dktX9_sees_5 := dk_seg dksX9_sees_4 24 rfl rfl
theorem dksX9_sees_6 : cX9_sees.data.toList.drop 140 = dktX9_sees_6 := dk_seg dksX9_sees_5 24 rfl rfl
theorem dX9_sees_0 : decode cX9_sees 0 = .ok (.aload_n 1, 1) := dk_43 (dk_at dksX9_sees_0 0 rfl rfl)
theorem dX9_sees_1 : decode cX9_sees 1 = .ok (.getfield 29, 3) := dk_180 0 29 (dk_at dksX9_sees_0 1 rfl rfl)
theorem dX9_sees_4 : decode cX9_sees 4 = .ok (.bipush (-4), 2) := dk_16 252 (dk_at dksX9_sees_0 4 rfl rfl)
theorem dX9_sees_6 : decode cX9_sees 6 = .ok (.if_icmp .eq 4, 3) := dk_159 0 4 (dk_at dksX9_sees_0 6 rfl rfl)
theorem dX9_sees_9 : decode cX9_sees 9 = .ok (.return_, 1) := dk_177 (dk_at dksX9_sees_0 9 rfl rfl)
theorem dX9_sees_10 : decode cX9_sees 10 = .ok (.iload 4, 2) := dk_21 4 (dk_at dksX9_sees_0 10 rfl rfl)
theorem dX9_sees_12 : decode cX9_sees 12 = .ok (.aload_n 0, 1) := dk_42 (dk_at dksX9_sees_0 12 rfl rfl)
theorem dX9_sees_13 : decode cX9_sees 13 = .ok (.getfield 19, 3) := dk_180 0 19 (dk_at dksX9_sees_0 13 rfl rfl)
theorem dX9_sees_16 : decode cX9_sees 16 = .ok (.if_icmp .ne 26, 3) := dk_160 0 26 (dk_at dksX9_sees_0 16 rfl rfl)
theorem dX9_sees_19 : decode cX9_sees 19 = .ok (.aload_n 1, 1) := dk_43 (dk_at dksX9_sees_0 19 rfl rfl)
theorem dX9_sees_20 : decode cX9_sees 20 = .ok (.getfield 34, 3) := dk_180 0 34 (dk_at dksX9_sees_0 20 rfl rfl)
theorem dX9_sees_23 : decode cX9_sees 23 = .ok (.bipush (-4), 2) := dk_16 252 (dk_at dksX9_sees_1 0 rfl rfl)
theorem dX9_sees_25 : decode cX9_sees 25 = .ok (.invokestatic 38, 3) := dk_184 0 38 (dk_at dksX9_sees_1 2 rfl rfl)
theorem dX9_sees_28 : decode cX9_sees 28 = .ok (.aload_n 1, 1) := dk_43 (dk_at dksX9_sees_1 5 rfl rfl)
theorem dX9_sees_29 : decode cX9_sees 29 = .ok (.getfield 44, 3) := dk_180 0 44 (dk_at dksX9_sees_1 6 rfl rfl)
theorem dX9_sees_32 : decode cX9_sees 32 = .ok (.iconst 0, 1) := dk_3 (dk_at dksX9_sees_1 9 rfl rfl)
theorem dX9_sees_33 : decode cX9_sees 33 = .ok (.invokestatic 38, 3) := dk_184 0 38 (dk_at dksX9_sees_1 10 rfl rfl)
theorem dX9_sees_36 : decode cX9_sees 36 = .ok (.aload_n 1, 1) := dk_43 (dk_at dksX9_sees_1 13 rfl rfl)
theorem dX9_sees_37 : decode cX9_sees 37 = .ok (.iload_n 2, 1) := dk_28 (dk_at dksX9_sees_1 14 rfl rfl)
theorem dX9_sees_38 : decode cX9_sees 38 = .ok (.putfield 29, 3) := dk_181 0 29 (dk_at dksX9_sees_1 15 rfl rfl)
theorem dX9_sees_41 : decode cX9_sees 41 = .ok (.return_, 1) := dk_177 (dk_at dksX9_sees_1 18 rfl rfl)
theorem dX9_sees_42 : decode cX9_sees 42 = .ok (.iload 6, 2) := dk_21 6 (dk_at dksX9_sees_1 19 rfl rfl)
theorem dX9_sees_44 : decode cX9_sees 44 = .ok (.aload_n 0, 1) := dk_42 (dk_at dksX9_sees_1 21 rfl rfl)
theorem dX9_sees_45 : decode cX9_sees 45 = .ok (.getfield 47, 3) := dk_180 0 47 (dk_at dksX9_sees_2 0 rfl rfl)
theorem dX9_sees_48 : decode cX9_sees 48 = .ok (.iand, 1) := dk_126 (dk_at dksX9_sees_2 3 rfl rfl)
theorem dX9_sees_49 : decode cX9_sees 49 = .ok (.aload_n 0, 1) := dk_42 (dk_at dksX9_sees_2 4 rfl rfl)
theorem dX9_sees_50 : decode cX9_sees 50 = .ok (.getfield 50, 3) := dk_180 0 50 (dk_at dksX9_sees_2 5 rfl rfl)
theorem dX9_sees_53 : decode cX9_sees 53 = .ok (.ifCond .eq 11, 3) := dk_153 0 11 (dk_at dksX9_sees_2 8 rfl rfl)
theorem dX9_sees_56 : decode cX9_sees 56 = .ok (.aload_n 1, 1) := dk_43 (dk_at dksX9_sees_2 11 rfl rfl)
theorem dX9_sees_57 : decode cX9_sees 57 = .ok (.iload_n 3, 1) := dk_29 (dk_at dksX9_sees_2 12 rfl rfl)
theorem dX9_sees_58 : decode cX9_sees 58 = .ok (.invokevirtual 54, 3) := dk_182 0 54 (dk_at dksX9_sees_2 13 rfl rfl)
theorem dX9_sees_61 : decode cX9_sees 61 = .ok (.goto 4, 3) := dk_167 0 4 (dk_at dksX9_sees_2 16 rfl rfl)
theorem dX9_sees_64 : decode cX9_sees 64 = .ok (.iconst 0, 1) := dk_3 (dk_at dksX9_sees_2 19 rfl rfl)
theorem dX9_sees_65 : decode cX9_sees 65 = .ok (.iconst (-1), 1) := dk_2 (dk_at dksX9_sees_2 20 rfl rfl)
theorem dX9_sees_66 : decode cX9_sees 66 = .ok (.ixor, 1) := dk_130 (dk_at dksX9_sees_2 21 rfl rfl)
theorem dX9_sees_67 : decode cX9_sees 67 = .ok (.iand, 1) := dk_126 (dk_at dksX9_sees_2 22 rfl rfl)
theorem dX9_sees_68 : decode cX9_sees 68 = .ok (.istore 7, 2) := dk_54 7 (dk_at dksX9_sees_3 0 rfl rfl)
theorem dX9_sees_70 : decode cX9_sees 70 = .ok (.aload_n 1, 1) := dk_43 (dk_at dksX9_sees_3 2 rfl rfl)
theorem dX9_sees_71 : decode cX9_sees 71 = .ok (.getfield 34, 3) := dk_180 0 34 (dk_at dksX9_sees_3 3 rfl rfl)
theorem dX9_sees_74 : decode cX9_sees 74 = .ok (.iload_n 3, 1) := dk_29 (dk_at dksX9_sees_3 6 rfl rfl)
theorem dX9_sees_75 : decode cX9_sees 75 = .ok (.iaload, 1) := dk_46 (dk_at dksX9_sees_3 7 rfl rfl)
theorem dX9_sees_76 : decode cX9_sees 76 = .ok (.istore 8, 2) := dk_54 8 (dk_at dksX9_sees_3 8 rfl rfl)
theorem dX9_sees_78 : decode cX9_sees 78 = .ok (.iload 8, 2) := dk_21 8 (dk_at dksX9_sees_3 10 rfl rfl)
theorem dX9_sees_80 : decode cX9_sees 80 = .ok (.bipush (-4), 2) := dk_16 252 (dk_at dksX9_sees_3 12 rfl rfl)
theorem dX9_sees_82 : decode cX9_sees 82 = .ok (.if_icmp .eq 27, 3) := dk_159 0 27 (dk_at dksX9_sees_3 14 rfl rfl)
theorem dX9_sees_85 : decode cX9_sees 85 = .ok (.aload_n 0, 1) := dk_42 (dk_at dksX9_sees_3 17 rfl rfl)
theorem dX9_sees_86 : decode cX9_sees 86 = .ok (.getfield 3, 3) := dk_180 0 3 (dk_at dksX9_sees_3 18 rfl rfl)
theorem dX9_sees_89 : decode cX9_sees 89 = .ok (.getfield 57, 3) := dk_180 0 57 (dk_at dksX9_sees_3 21 rfl rfl)
theorem dX9_sees_92 : decode cX9_sees 92 = .ok (.iload 8, 2) := dk_21 8 (dk_at dksX9_sees_4 0 rfl rfl)
theorem dX9_sees_94 : decode cX9_sees 94 = .ok (.aaload, 1) := dk_50 (dk_at dksX9_sees_4 2 rfl rfl)
theorem dX9_sees_95 : decode cX9_sees 95 = .ok (.iload 4, 2) := dk_21 4 (dk_at dksX9_sees_4 3 rfl rfl)
theorem dX9_sees_97 : decode cX9_sees 97 = .ok (.invokevirtual 61, 3) := dk_182 0 61 (dk_at dksX9_sees_4 5 rfl rfl)
theorem dX9_sees_100 : decode cX9_sees 100 = .ok (.iload 5, 2) := dk_21 5 (dk_at dksX9_sees_4 8 rfl rfl)
theorem dX9_sees_102 : decode cX9_sees 102 = .ok (.if_icmp .eq 7, 3) := dk_159 0 7 (dk_at dksX9_sees_4 10 rfl rfl)
theorem dX9_sees_105 : decode cX9_sees 105 = .ok (.iconst 1, 1) := dk_4 (dk_at dksX9_sees_4 13 rfl rfl)
theorem dX9_sees_106 : decode cX9_sees 106 = .ok (.goto 4, 3) := dk_167 0 4 (dk_at dksX9_sees_4 14 rfl rfl)
theorem dX9_sees_109 : decode cX9_sees 109 = .ok (.iconst 0, 1) := dk_3 (dk_at dksX9_sees_4 17 rfl rfl)
theorem dX9_sees_110 : decode cX9_sees 110 = .ok (.istore 9, 2) := dk_54 9 (dk_at dksX9_sees_4 18 rfl rfl)
theorem dX9_sees_112 : decode cX9_sees 112 = .ok (.aload_n 1, 1) := dk_43 (dk_at dksX9_sees_4 20 rfl rfl)
theorem dX9_sees_113 : decode cX9_sees 113 = .ok (.getfield 34, 3) := dk_180 0 34 (dk_at dksX9_sees_4 21 rfl rfl)
theorem dX9_sees_116 : decode cX9_sees 116 = .ok (.iload_n 3, 1) := dk_29 (dk_at dksX9_sees_5 0 rfl rfl)
theorem dX9_sees_117 : decode cX9_sees 117 = .ok (.aload_n 0, 1) := dk_42 (dk_at dksX9_sees_5 1 rfl rfl)
theorem dX9_sees_118 : decode cX9_sees 118 = .ok (.aload_n 1, 1) := dk_43 (dk_at dksX9_sees_5 2 rfl rfl)
theorem dX9_sees_119 : decode cX9_sees 119 = .ok (.iload_n 3, 1) := dk_29 (dk_at dksX9_sees_5 3 rfl rfl)
theorem dX9_sees_120 : decode cX9_sees 120 = .ok (.iload 7, 2) := dk_21 7 (dk_at dksX9_sees_5 4 rfl rfl)
theorem dX9_sees_122 : decode cX9_sees 122 = .ok (.iload 9, 2) := dk_21 9 (dk_at dksX9_sees_5 6 rfl rfl)
theorem dX9_sees_124 : decode cX9_sees 124 = .ok (.invokevirtual 67, 3) := dk_182 0 67 (dk_at dksX9_sees_5 8 rfl rfl)
theorem dX9_sees_127 : decode cX9_sees 127 = .ok (.iastore, 1) := dk_79 (dk_at dksX9_sees_5 11 rfl rfl)
theorem dX9_sees_128 : decode cX9_sees 128 = .ok (.aload_n 1, 1) := dk_43 (dk_at dksX9_sees_5 12 rfl rfl)
theorem dX9_sees_129 : decode cX9_sees 129 = .ok (.aload_n 1, 1) := dk_43 (dk_at dksX9_sees_5 13 rfl rfl)
theorem dX9_sees_130 : decode cX9_sees 130 = .ok (.getfield 34, 3) := dk_180 0 34 (dk_at dksX9_sees_5 14 rfl rfl)
theorem dX9_sees_133 : decode cX9_sees 133 = .ok (.iload_n 3, 1) := dk_29 (dk_at dksX9_sees_5 17 rfl rfl)
theorem dX9_sees_134 : decode cX9_sees 134 = .ok (.iaload, 1) := dk_46 (dk_at dksX9_sees_5 18 rfl rfl)
theorem dX9_sees_135 : decode cX9_sees 135 = .ok (.bipush (-4), 2) := dk_16 252 (dk_at dksX9_sees_5 19 rfl rfl)
theorem dX9_sees_137 : decode cX9_sees 137 = .ok (.if_icmp .ne 10, 3) := dk_160 0 10 (dk_at dksX9_sees_5 21 rfl rfl)
theorem dX9_sees_140 : decode cX9_sees 140 = .ok (.aload_n 1, 1) := dk_43 (dk_at dksX9_sees_6 0 rfl rfl)
theorem dX9_sees_141 : decode cX9_sees 141 = .ok (.getfield 71, 3) := dk_180 0 71 (dk_at dksX9_sees_6 1 rfl rfl)
theorem dX9_sees_144 : decode cX9_sees 144 = .ok (.goto 9, 3) := dk_167 0 9 (dk_at dksX9_sees_6 4 rfl rfl)
theorem dX9_sees_147 : decode cX9_sees 147 = .ok (.aload_n 1, 1) := dk_43 (dk_at dksX9_sees_6 7 rfl rfl)
theorem dX9_sees_148 : decode cX9_sees 148 = .ok (.getfield 34, 3) := dk_180 0 34 (dk_at dksX9_sees_6 8 rfl rfl)
theorem dX9_sees_151 : decode cX9_sees 151 = .ok (.iload_n 3, 1) := dk_29 (dk_at dksX9_sees_6 11 rfl rfl)
theorem dX9_sees_152 : decode cX9_sees 152 = .ok (.iaload, 1) := dk_46 (dk_at dksX9_sees_6 12 rfl rfl)
theorem dX9_sees_153 : decode cX9_sees 153 = .ok (.putfield 71, 3) := dk_181 0 71 (dk_at dksX9_sees_6 13 rfl rfl)
theorem dX9_sees_156 : decode cX9_sees 156 = .ok (.return_, 1) := dk_177 (dk_at dksX9_sees_6 16 rfl rfl)
abbrev cX9_takes : ByteArray := prog_11_method_3_code
def yX9_takes : MethodName := ⟨RX9, "takes", "(LFirstWords$Mind;IIZ)I"⟩
def dkwX9_takes_0 : List UInt8 := [42, 180, 0, 3, 29, 182, 0, 25, 172]
abbrev dktX9_takes_0 : List UInt8 := dkwX9_takes_0 ++ []
theorem dksX9_takes_0 : cX9_takes.data.toList.drop 0 = dktX9_takes_0 := by decide +kernel
theorem dX9_takes_0 : decode cX9_takes 0 = .ok (.aload_n 0, 1) := dk_42 (dk_at dksX9_takes_0 0 rfl rfl)
theorem dX9_takes_1 : decode cX9_takes 1 = .ok (.getfield 3, 3) := dk_180 0 3 (dk_at dksX9_takes_0 1 rfl rfl)
theorem dX9_takes_4 : decode cX9_takes 4 = .ok (.iload_n 3, 1) := dk_29 (dk_at dksX9_takes_0 4 rfl rfl)
theorem dX9_takes_5 : decode cX9_takes 5 = .ok (.invokevirtual 25, 3) := dk_182 0 25 (dk_at dksX9_takes_0 5 rfl rfl)
theorem dX9_takes_8 : decode cX9_takes 8 = .ok (.ireturn, 1) := dk_172 (dk_at dksX9_takes_0 8 rfl rfl)
theorem q110 : (Jvm.Cond.initialized "FirstWords$Stranger") ∈ lw_all := lw_g (lw_at lw_m1 19 rfl) rfl
theorem q413 : (Jvm.Cond.instantiable "FirstWords$Stranger" (6 : Nat)) ∈ lw_all := lw_g (lw_at lw_m2 82 rfl) rfl
theorem q415 : (Jvm.Cond.instanceMethod ({ cls := "FirstWords$Stranger", name := "<init>", desc := "(LFirstWords;)V" } : Jvm.MethodName)) ∈ lw_all := lw_g (lw_at lw_m2 84 rfl) rfl
theorem q416 : (Jvm.Cond.code ({ cls := "FirstWords$Stranger", name := "<init>", desc := "(LFirstWords;)V" } : Jvm.MethodName) prog_11_method_1_code (2 : Nat) (Option.none : Option Jvm.ClassFile.FieldType)) ∈ lw_all := lw_g (lw_at lw_m2 85 rfl) rfl
theorem q417 : (Jvm.Cond.methodLink "FirstWords$Stranger" (9 : Nat) ({ cls := "java/lang/Object", name := "<init>", desc := "()V" } : Jvm.MethodName)) ∈ lw_all := lw_g (lw_at lw_m2 86 rfl) rfl
theorem q418 : (Jvm.Cond.fieldLink "FirstWords$Stranger" (15 : Nat) "FirstWords$Stranger" "sees" "I") ∈ lw_all := lw_g (lw_at lw_m2 87 rfl) rfl
theorem q421 : (Jvm.Cond.fieldLink "FirstWords$Stranger" (19 : Nat) "FirstWords$Stranger" "fears" "I") ∈ lw_all := lw_g (lw_at lw_m2 90 rfl) rfl
theorem q424 : (Jvm.Cond.fieldLink "FirstWords$Stranger" (50 : Nat) "FirstWords$Stranger" "isUnlike" "Z") ∈ lw_all := lw_g (lw_at lw_m2 93 rfl) rfl
theorem q427 : (Jvm.Cond.fieldLink "FirstWords$Stranger" (22 : Nat) "FirstWords$Stranger" "chance" "I") ∈ lw_all := lw_g (lw_at lw_m2 96 rfl) rfl
theorem q430 : (Jvm.Cond.fieldLink "FirstWords$Stranger" (47 : Nat) "FirstWords$Stranger" "can" "I") ∈ lw_all := lw_g (lw_at lw_m2 99 rfl) rfl
theorem q433 : (Jvm.Cond.fieldLink "FirstWords$Stranger" (3 : Nat) "FirstWords$Stranger" "this$0" "LFirstWords;") ∈ lw_all := lw_g (lw_at lw_m2 102 rfl) rfl
theorem q434 : (Jvm.Cond.lays "FirstWords$Stranger" "FirstWords$Stranger" "sees" "I") ∈ lw_all := lw_g (lw_at lw_m2 103 rfl) rfl
theorem q435 : (Jvm.Cond.soleField "FirstWords$Stranger" "sees") ∈ lw_all := lw_g (lw_at lw_m2 104 rfl) rfl
theorem q436 : (Jvm.Cond.lays "FirstWords$Stranger" "FirstWords$Stranger" "fears" "I") ∈ lw_all := lw_g (lw_at lw_m2 105 rfl) rfl
theorem q437 : (Jvm.Cond.soleField "FirstWords$Stranger" "fears") ∈ lw_all := lw_g (lw_at lw_m2 106 rfl) rfl
theorem q438 : (Jvm.Cond.lays "FirstWords$Stranger" "FirstWords$Stranger" "isUnlike" "Z") ∈ lw_all := lw_g (lw_at lw_m2 107 rfl) rfl
theorem q439 : (Jvm.Cond.soleField "FirstWords$Stranger" "isUnlike") ∈ lw_all := lw_g (lw_at lw_m2 108 rfl) rfl
theorem q440 : (Jvm.Cond.lays "FirstWords$Stranger" "FirstWords$Stranger" "chance" "I") ∈ lw_all := lw_g (lw_at lw_m2 109 rfl) rfl
theorem q441 : (Jvm.Cond.soleField "FirstWords$Stranger" "chance") ∈ lw_all := lw_g (lw_at lw_m2 110 rfl) rfl
theorem q442 : (Jvm.Cond.lays "FirstWords$Stranger" "FirstWords$Stranger" "can" "I") ∈ lw_all := lw_g (lw_at lw_m2 111 rfl) rfl
theorem q443 : (Jvm.Cond.soleField "FirstWords$Stranger" "can") ∈ lw_all := lw_g (lw_at lw_m2 112 rfl) rfl
theorem q444 : (Jvm.Cond.laysFinal "FirstWords$Stranger" "FirstWords$Stranger" "this$0" "LFirstWords;") ∈ lw_all := lw_g (lw_at lw_m2 113 rfl) rfl
theorem q445 : (Jvm.Cond.soleField "FirstWords$Stranger" "this$0") ∈ lw_all := lw_g (lw_at lw_m2 114 rfl) rfl
theorem q446 : (Jvm.Cond.superclass "FirstWords$Stranger" "java/lang/Object") ∈ lw_all := lw_g (lw_at lw_m2 115 rfl) rfl
theorem q570 : (Jvm.Cond.instanceMethod ({ cls := "FirstWords$Stranger", name := "kind", desc := "()I" } : Jvm.MethodName)) ∈ lw_all := lw_g (lw_at lw_m2 239 rfl) rfl
theorem q571 : (Jvm.Cond.selects "FirstWords$Stranger" ({ cls := "FirstWords$Stranger", name := "kind", desc := "()I" } : Jvm.MethodName) ({ cls := "FirstWords$Stranger", name := "kind", desc := "()I" } : Jvm.MethodName)) ∈ lw_all := lw_g (lw_at lw_m3 0 rfl) rfl
theorem q572 : (Jvm.Cond.sameMethod "FirstWords$Stranger" "FirstWords$Stranger" "kind" "()I") ∈ lw_all := lw_g (lw_at lw_m3 1 rfl) rfl
theorem q585 : (Jvm.Cond.code ({ cls := "FirstWords$Stranger", name := "kind", desc := "()I" } : Jvm.MethodName) prog_11_method_2_code (1 : Nat) (Option.some Jvm.ClassFile.FieldType.int)) ∈ lw_all := lw_g (lw_at lw_m3 14 rfl) rfl
theorem q611 : (Jvm.Cond.instanceMethod ({ cls := "FirstWords$Stranger", name := "sees", desc := "(LFirstWords$Mind;IIIZI)V" } : Jvm.MethodName)) ∈ lw_all := lw_g (lw_at lw_m3 40 rfl) rfl
theorem q612 : (Jvm.Cond.selects "FirstWords$Stranger" ({ cls := "FirstWords$Stranger", name := "sees", desc := "(LFirstWords$Mind;IIIZI)V" } : Jvm.MethodName) ({ cls := "FirstWords$Stranger", name := "sees", desc := "(LFirstWords$Mind;IIIZI)V" } : Jvm.MethodName)) ∈ lw_all := lw_g (lw_at lw_m3 41 rfl) rfl
theorem q613 : (Jvm.Cond.sameMethod "FirstWords$Stranger" "FirstWords$Stranger" "sees" "(LFirstWords$Mind;IIIZI)V") ∈ lw_all := lw_g (lw_at lw_m3 42 rfl) rfl
theorem q617 : (Jvm.Cond.code ({ cls := "FirstWords$Stranger", name := "sees", desc := "(LFirstWords$Mind;IIIZI)V" } : Jvm.MethodName) prog_11_method_4_code (10 : Nat) (Option.none : Option Jvm.ClassFile.FieldType)) ∈ lw_all := lw_g (lw_at lw_m3 46 rfl) rfl
theorem q618 : (Jvm.Cond.methodLink "FirstWords$Stranger" (38 : Nat) ({ cls := "java/util/Arrays", name := "fill", desc := "([II)V" } : Jvm.MethodName)) ∈ lw_all := lw_g (lw_at lw_m3 47 rfl) rfl
theorem q619 : (Jvm.Cond.methodLink "FirstWords$Stranger" (54 : Nat) ({ cls := "FirstWords$Mind", name := "others", desc := "(I)I" } : Jvm.MethodName)) ∈ lw_all := lw_g (lw_at lw_m3 48 rfl) rfl
theorem q623 : (Jvm.Cond.methodLink "FirstWords$Stranger" (61 : Nat) ({ cls := "FirstWords$Meaning", name := "isOf", desc := "(I)Z" } : Jvm.MethodName)) ∈ lw_all := lw_g (lw_at lw_m3 52 rfl) rfl
theorem q624 : (Jvm.Cond.methodLink "FirstWords$Stranger" (67 : Nat) ({ cls := "FirstWords$Stranger", name := "takes", desc := "(LFirstWords$Mind;IIZ)I" } : Jvm.MethodName)) ∈ lw_all := lw_g (lw_at lw_m3 53 rfl) rfl
theorem q625 : (Jvm.Cond.instanceMethod ({ cls := "FirstWords$Stranger", name := "takes", desc := "(LFirstWords$Mind;IIZ)I" } : Jvm.MethodName)) ∈ lw_all := lw_g (lw_at lw_m3 54 rfl) rfl
theorem q626 : (Jvm.Cond.selects "FirstWords$Stranger" ({ cls := "FirstWords$Stranger", name := "takes", desc := "(LFirstWords$Mind;IIZ)I" } : Jvm.MethodName) ({ cls := "FirstWords$Stranger", name := "takes", desc := "(LFirstWords$Mind;IIZ)I" } : Jvm.MethodName)) ∈ lw_all := lw_g (lw_at lw_m3 55 rfl) rfl
theorem q627 : (Jvm.Cond.sameMethod "FirstWords$Stranger" "FirstWords$Stranger" "takes" "(LFirstWords$Mind;IIZ)I") ∈ lw_all := lw_g (lw_at lw_m3 56 rfl) rfl
theorem q643 : (Jvm.Cond.code ({ cls := "FirstWords$Stranger", name := "takes", desc := "(LFirstWords$Mind;IIZ)I" } : Jvm.MethodName) prog_11_method_3_code (5 : Nat) (Option.some Jvm.ClassFile.FieldType.int)) ∈ lw_all := lw_g (lw_at lw_m3 72 rfl) rfl
theorem q644 : (Jvm.Cond.methodLinkNest "FirstWords$Stranger" (25 : Nat) ({ cls := "FirstWords", name := "plainest", desc := "(I)I" } : Jvm.MethodName) "FirstWords") ∈ lw_tbl := lw_at lw_m3 73 rfl
theorem q879 : (Jvm.Cond.fieldLinkNest "FirstWords$Stranger" (34 : Nat) "FirstWords$Mind" "thinks" "[I" "FirstWords") ∈ lw_tbl := lw_at lw_m4 68 rfl
theorem q883 : (Jvm.Cond.fieldLinkNest "FirstWords$Stranger" (44 : Nat) "FirstWords$Mind" "against" "[I" "FirstWords") ∈ lw_tbl := lw_at lw_m4 72 rfl
theorem q887 : (Jvm.Cond.fieldLinkNest "FirstWords$Stranger" (71 : Nat) "FirstWords$Mind" "latest" "I" "FirstWords") ∈ lw_tbl := lw_at lw_m4 76 rfl
theorem q890 : (Jvm.Cond.fieldLinkNest "FirstWords$Stranger" (29 : Nat) "FirstWords$Mind" "fled" "I" "FirstWords") ∈ lw_tbl := lw_at lw_m4 79 rfl
theorem q981 : (Jvm.Cond.fieldLinkNest "FirstWords$Stranger" (57 : Nat) "FirstWords" "meanings" "[LFirstWords$Meaning;" "FirstWords") ∈ lw_tbl := lw_at lw_m4 170 rfl
theorem in_X9 : ∀ w ∈ wsX90, w ∈ lw_all := lw_in wsX90 [434, 436, 438, 440, 442, 444] (by decide +kernel) (by decide +kernel)
/-! FirstWords$Last -/
set_option maxRecDepth 100000
def RX10 : String := "FirstWords$Last"
def TX10 : u_T := fun k => match k with
  | 0 => ("FirstWords$Stranger", "sees", "I", false)
  | 1 => ("FirstWords$Stranger", "fears", "I", false)
  | 2 => ("FirstWords$Stranger", "isUnlike", "Z", false)
  | 3 => ("FirstWords$Stranger", "chance", "I", false)
  | 4 => ("FirstWords$Stranger", "can", "I", false)
  | 5 => ("FirstWords$Stranger", "this$0", "LFirstWords;", true)
  | _ => ("FirstWords$Last", "this$0", "LFirstWords;", true)
def tyX10 : Nat → FieldType := fun k => match k with
  | 0 => .int
  | 1 => .int
  | 2 => .boolean
  | 3 => .int
  | 4 => .int
  | 5 => .object "FirstWords"
  | _ => .object "FirstWords"
abbrev wsX100 : List Cond := u_ws RX10 TX10 7
-- two fields of one name: no nmX10
theorem tyX10_ok : ∀ k, k < 7 → parseFieldDescriptor (TX10 k).2.2.1 = some (tyX10 k) := by decide +kernel
abbrev cX10_init : ByteArray := prog_5_method_1_code
def yX10_init : MethodName := ⟨RX10, "<init>", "(LFirstWords;)V"⟩
def dkwX10_init_0 : List UInt8 := [42, 43, 181, 0, 3, 42, 43, 183, 0, 9, 177]
abbrev dktX10_init_0 : List UInt8 := dkwX10_init_0 ++ []
theorem dksX10_init_0 : cX10_init.data.toList.drop 0 = dktX10_init_0 := by decide +kernel
theorem dX10_init_0 : decode cX10_init 0 = .ok (.aload_n 0, 1) := dk_42 (dk_at dksX10_init_0 0 rfl rfl)
theorem dX10_init_1 : decode cX10_init 1 = .ok (.aload_n 1, 1) := dk_43 (dk_at dksX10_init_0 1 rfl rfl)
theorem dX10_init_2 : decode cX10_init 2 = .ok (.putfield 3, 3) := dk_181 0 3 (dk_at dksX10_init_0 2 rfl rfl)
theorem dX10_init_5 : decode cX10_init 5 = .ok (.aload_n 0, 1) := dk_42 (dk_at dksX10_init_0 5 rfl rfl)
theorem dX10_init_6 : decode cX10_init 6 = .ok (.aload_n 1, 1) := dk_43 (dk_at dksX10_init_0 6 rfl rfl)
theorem dX10_init_7 : decode cX10_init 7 = .ok (.invokespecial 9, 3) := dk_183 0 9 (dk_at dksX10_init_0 7 rfl rfl)
theorem dX10_init_10 : decode cX10_init 10 = .ok (.return_, 1) := dk_177 (dk_at dksX10_init_0 10 rfl rfl)
abbrev cX10_kind : ByteArray := prog_5_method_2_code
def yX10_kind : MethodName := ⟨RX10, "kind", "()I"⟩
def dkwX10_kind_0 : List UInt8 := [4, 42, 183, 0, 15, 96, 172]
abbrev dktX10_kind_0 : List UInt8 := dkwX10_kind_0 ++ []
theorem dksX10_kind_0 : cX10_kind.data.toList.drop 0 = dktX10_kind_0 := by decide +kernel
theorem dX10_kind_0 : decode cX10_kind 0 = .ok (.iconst 1, 1) := dk_4 (dk_at dksX10_kind_0 0 rfl rfl)
theorem dX10_kind_1 : decode cX10_kind 1 = .ok (.aload_n 0, 1) := dk_42 (dk_at dksX10_kind_0 1 rfl rfl)
theorem dX10_kind_2 : decode cX10_kind 2 = .ok (.invokespecial 15, 3) := dk_183 0 15 (dk_at dksX10_kind_0 2 rfl rfl)
theorem dX10_kind_5 : decode cX10_kind 5 = .ok (.iadd, 1) := dk_96 (dk_at dksX10_kind_0 5 rfl rfl)
theorem dX10_kind_6 : decode cX10_kind 6 = .ok (.ireturn, 1) := dk_172 (dk_at dksX10_kind_0 6 rfl rfl)
abbrev cX10_takes : ByteArray := prog_5_method_3_code
def yX10_takes : MethodName := ⟨RX10, "takes", "(LFirstWords$Mind;IIZ)I"⟩
def dkwX10_takes_1 : List UInt8 := [180, 0, 19, 167, 0, 12, 42, 43, 28, 29, 21, 4, 183, 0, 25, 172]
abbrev dktX10_takes_1 : List UInt8 := dkwX10_takes_1 ++ []
def dkwX10_takes_0 : List UInt8 := [43, 180, 0, 19, 16, 252, 159, 0, 22, 29, 43, 180, 0, 19, 122, 4, 126, 4, 160, 0, 10, 43]
abbrev dktX10_takes_0 : List UInt8 := dkwX10_takes_0 ++ dktX10_takes_1
theorem dksX10_takes_0 : cX10_takes.data.toList.drop 0 = dktX10_takes_0 := by decide +kernel
theorem dksX10_takes_1 : cX10_takes.data.toList.drop 22 = dktX10_takes_1 := dk_seg dksX10_takes_0 22 rfl rfl
theorem dX10_takes_0 : decode cX10_takes 0 = .ok (.aload_n 1, 1) := dk_43 (dk_at dksX10_takes_0 0 rfl rfl)
theorem dX10_takes_1 : decode cX10_takes 1 = .ok (.getfield 19, 3) := dk_180 0 19 (dk_at dksX10_takes_0 1 rfl rfl)
theorem dX10_takes_4 : decode cX10_takes 4 = .ok (.bipush (-4), 2) := dk_16 252 (dk_at dksX10_takes_0 4 rfl rfl)
theorem dX10_takes_6 : decode cX10_takes 6 = .ok (.if_icmp .eq 22, 3) := dk_159 0 22 (dk_at dksX10_takes_0 6 rfl rfl)
theorem dX10_takes_9 : decode cX10_takes 9 = .ok (.iload_n 3, 1) := dk_29 (dk_at dksX10_takes_0 9 rfl rfl)
theorem dX10_takes_10 : decode cX10_takes 10 = .ok (.aload_n 1, 1) := dk_43 (dk_at dksX10_takes_0 10 rfl rfl)
theorem dX10_takes_11 : decode cX10_takes 11 = .ok (.getfield 19, 3) := dk_180 0 19 (dk_at dksX10_takes_0 11 rfl rfl)
theorem dX10_takes_14 : decode cX10_takes 14 = .ok (.ishr, 1) := dk_122 (dk_at dksX10_takes_0 14 rfl rfl)
theorem dX10_takes_15 : decode cX10_takes 15 = .ok (.iconst 1, 1) := dk_4 (dk_at dksX10_takes_0 15 rfl rfl)
theorem dX10_takes_16 : decode cX10_takes 16 = .ok (.iand, 1) := dk_126 (dk_at dksX10_takes_0 16 rfl rfl)
theorem dX10_takes_17 : decode cX10_takes 17 = .ok (.iconst 1, 1) := dk_4 (dk_at dksX10_takes_0 17 rfl rfl)
theorem dX10_takes_18 : decode cX10_takes 18 = .ok (.if_icmp .ne 10, 3) := dk_160 0 10 (dk_at dksX10_takes_0 18 rfl rfl)
theorem dX10_takes_21 : decode cX10_takes 21 = .ok (.aload_n 1, 1) := dk_43 (dk_at dksX10_takes_0 21 rfl rfl)
theorem dX10_takes_22 : decode cX10_takes 22 = .ok (.getfield 19, 3) := dk_180 0 19 (dk_at dksX10_takes_1 0 rfl rfl)
theorem dX10_takes_25 : decode cX10_takes 25 = .ok (.goto 12, 3) := dk_167 0 12 (dk_at dksX10_takes_1 3 rfl rfl)
theorem dX10_takes_28 : decode cX10_takes 28 = .ok (.aload_n 0, 1) := dk_42 (dk_at dksX10_takes_1 6 rfl rfl)
theorem dX10_takes_29 : decode cX10_takes 29 = .ok (.aload_n 1, 1) := dk_43 (dk_at dksX10_takes_1 7 rfl rfl)
theorem dX10_takes_30 : decode cX10_takes 30 = .ok (.iload_n 2, 1) := dk_28 (dk_at dksX10_takes_1 8 rfl rfl)
theorem dX10_takes_31 : decode cX10_takes 31 = .ok (.iload_n 3, 1) := dk_29 (dk_at dksX10_takes_1 9 rfl rfl)
theorem dX10_takes_32 : decode cX10_takes 32 = .ok (.iload 4, 2) := dk_21 4 (dk_at dksX10_takes_1 10 rfl rfl)
theorem dX10_takes_34 : decode cX10_takes 34 = .ok (.invokespecial 25, 3) := dk_183 0 25 (dk_at dksX10_takes_1 12 rfl rfl)
theorem dX10_takes_37 : decode cX10_takes 37 = .ok (.ireturn, 1) := dk_172 (dk_at dksX10_takes_1 15 rfl rfl)
theorem q111 : (Jvm.Cond.initialized "FirstWords$Last") ∈ lw_all := lw_g (lw_at lw_m1 20 rfl) rfl
theorem q448 : (Jvm.Cond.instantiable "FirstWords$Last" (7 : Nat)) ∈ lw_all := lw_g (lw_at lw_m2 117 rfl) rfl
theorem q450 : (Jvm.Cond.instanceMethod ({ cls := "FirstWords$Last", name := "<init>", desc := "(LFirstWords;)V" } : Jvm.MethodName)) ∈ lw_all := lw_g (lw_at lw_m2 119 rfl) rfl
theorem q451 : (Jvm.Cond.code ({ cls := "FirstWords$Last", name := "<init>", desc := "(LFirstWords;)V" } : Jvm.MethodName) prog_5_method_1_code (2 : Nat) (Option.none : Option Jvm.ClassFile.FieldType)) ∈ lw_all := lw_g (lw_at lw_m2 120 rfl) rfl
theorem q452 : (Jvm.Cond.methodLinkNest "FirstWords$Last" (9 : Nat) ({ cls := "FirstWords$Stranger", name := "<init>", desc := "(LFirstWords;)V" } : Jvm.MethodName) "FirstWords") ∈ lw_tbl := lw_at lw_m2 121 rfl
theorem q453 : (Jvm.Cond.fieldLink "FirstWords$Last" (3 : Nat) "FirstWords$Last" "this$0" "LFirstWords;") ∈ lw_all := lw_g (lw_at lw_m2 122 rfl) rfl
theorem q454 : (Jvm.Cond.laysFinal "FirstWords$Last" "FirstWords$Last" "this$0" "LFirstWords;") ∈ lw_all := lw_g (lw_at lw_m2 123 rfl) rfl
theorem q455 : (Jvm.Cond.soleField "FirstWords$Last" "this$0") ∈ lw_all := lw_g (lw_at lw_m2 124 rfl) rfl
theorem q456 : (Jvm.Cond.lays "FirstWords$Last" "FirstWords$Stranger" "sees" "I") ∈ lw_all := lw_g (lw_at lw_m2 125 rfl) rfl
theorem q457 : (Jvm.Cond.lays "FirstWords$Last" "FirstWords$Stranger" "fears" "I") ∈ lw_all := lw_g (lw_at lw_m2 126 rfl) rfl
theorem q458 : (Jvm.Cond.lays "FirstWords$Last" "FirstWords$Stranger" "isUnlike" "Z") ∈ lw_all := lw_g (lw_at lw_m2 127 rfl) rfl
theorem q459 : (Jvm.Cond.lays "FirstWords$Last" "FirstWords$Stranger" "chance" "I") ∈ lw_all := lw_g (lw_at lw_m2 128 rfl) rfl
theorem q460 : (Jvm.Cond.lays "FirstWords$Last" "FirstWords$Stranger" "can" "I") ∈ lw_all := lw_g (lw_at lw_m2 129 rfl) rfl
theorem q461 : (Jvm.Cond.laysFinal "FirstWords$Last" "FirstWords$Stranger" "this$0" "LFirstWords;") ∈ lw_all := lw_g (lw_at lw_m2 130 rfl) rfl
theorem q462 : (Jvm.Cond.superclass "FirstWords$Last" "FirstWords$Stranger") ∈ lw_all := lw_g (lw_at lw_m2 131 rfl) rfl
theorem q577 : (Jvm.Cond.selects "FirstWords$Last" ({ cls := "FirstWords$Stranger", name := "kind", desc := "()I" } : Jvm.MethodName) ({ cls := "FirstWords$Last", name := "kind", desc := "()I" } : Jvm.MethodName)) ∈ lw_all := lw_g (lw_at lw_m3 6 rfl) rfl
theorem q578 : (Jvm.Cond.instanceMethod ({ cls := "FirstWords$Last", name := "kind", desc := "()I" } : Jvm.MethodName)) ∈ lw_all := lw_g (lw_at lw_m3 7 rfl) rfl
theorem q579 : (Jvm.Cond.code ({ cls := "FirstWords$Last", name := "kind", desc := "()I" } : Jvm.MethodName) prog_5_method_2_code (1 : Nat) (Option.some Jvm.ClassFile.FieldType.int)) ∈ lw_all := lw_g (lw_at lw_m3 8 rfl) rfl
theorem q580 : (Jvm.Cond.methodLink "FirstWords$Last" (15 : Nat) ({ cls := "FirstWords$Stranger", name := "kind", desc := "()I" } : Jvm.MethodName)) ∈ lw_all := lw_g (lw_at lw_m3 9 rfl) rfl
theorem q615 : (Jvm.Cond.selects "FirstWords$Last" ({ cls := "FirstWords$Stranger", name := "sees", desc := "(LFirstWords$Mind;IIIZI)V" } : Jvm.MethodName) ({ cls := "FirstWords$Stranger", name := "sees", desc := "(LFirstWords$Mind;IIIZI)V" } : Jvm.MethodName)) ∈ lw_all := lw_g (lw_at lw_m3 44 rfl) rfl
theorem q632 : (Jvm.Cond.selects "FirstWords$Last" ({ cls := "FirstWords$Stranger", name := "takes", desc := "(LFirstWords$Mind;IIZ)I" } : Jvm.MethodName) ({ cls := "FirstWords$Last", name := "takes", desc := "(LFirstWords$Mind;IIZ)I" } : Jvm.MethodName)) ∈ lw_all := lw_g (lw_at lw_m3 61 rfl) rfl
theorem q633 : (Jvm.Cond.instanceMethod ({ cls := "FirstWords$Last", name := "takes", desc := "(LFirstWords$Mind;IIZ)I" } : Jvm.MethodName)) ∈ lw_all := lw_g (lw_at lw_m3 62 rfl) rfl
theorem q634 : (Jvm.Cond.code ({ cls := "FirstWords$Last", name := "takes", desc := "(LFirstWords$Mind;IIZ)I" } : Jvm.MethodName) prog_5_method_3_code (5 : Nat) (Option.some Jvm.ClassFile.FieldType.int)) ∈ lw_all := lw_g (lw_at lw_m3 63 rfl) rfl
theorem q635 : (Jvm.Cond.methodLink "FirstWords$Last" (25 : Nat) ({ cls := "FirstWords$Stranger", name := "takes", desc := "(LFirstWords$Mind;IIZ)I" } : Jvm.MethodName)) ∈ lw_all := lw_g (lw_at lw_m3 64 rfl) rfl
theorem q886 : (Jvm.Cond.fieldLinkNest "FirstWords$Last" (19 : Nat) "FirstWords$Mind" "latest" "I" "FirstWords") ∈ lw_tbl := lw_at lw_m4 75 rfl
theorem q1740 : (Jvm.Cond.castable "FirstWords$Last" "FirstWords$Stranger") ∈ lw_tbl := lw_at lw_m7 209 rfl
theorem in_X10 : ∀ w ∈ wsX100, w ∈ lw_all := lw_in wsX100 [456, 457, 458, 459, 460, 461, 454] (by decide +kernel) (by decide +kernel)
/-! FirstWords$Careful -/
set_option maxRecDepth 100000
def RX11 : String := "FirstWords$Careful"
def TX11 : u_T := fun k => match k with
  | 0 => ("FirstWords$Stranger", "sees", "I", false)
  | 1 => ("FirstWords$Stranger", "fears", "I", false)
  | 2 => ("FirstWords$Stranger", "isUnlike", "Z", false)
  | 3 => ("FirstWords$Stranger", "chance", "I", false)
  | 4 => ("FirstWords$Stranger", "can", "I", false)
  | 5 => ("FirstWords$Stranger", "this$0", "LFirstWords;", true)
  | _ => ("FirstWords$Careful", "this$0", "LFirstWords;", true)
def tyX11 : Nat → FieldType := fun k => match k with
  | 0 => .int
  | 1 => .int
  | 2 => .boolean
  | 3 => .int
  | 4 => .int
  | 5 => .object "FirstWords"
  | _ => .object "FirstWords"
abbrev wsX110 : List Cond := u_ws RX11 TX11 7
-- two fields of one name: no nmX11
theorem tyX11_ok : ∀ k, k < 7 → parseFieldDescriptor (TX11 k).2.2.1 = some (tyX11 k) := by decide +kernel
abbrev cX11_init : ByteArray := prog_2_method_1_code
def yX11_init : MethodName := ⟨RX11, "<init>", "(LFirstWords;)V"⟩
def dkwX11_init_0 : List UInt8 := [42, 43, 181, 0, 3, 42, 43, 183, 0, 9, 177]
abbrev dktX11_init_0 : List UInt8 := dkwX11_init_0 ++ []
theorem dksX11_init_0 : cX11_init.data.toList.drop 0 = dktX11_init_0 := by decide +kernel
theorem dX11_init_0 : decode cX11_init 0 = .ok (.aload_n 0, 1) := dk_42 (dk_at dksX11_init_0 0 rfl rfl)
theorem dX11_init_1 : decode cX11_init 1 = .ok (.aload_n 1, 1) := dk_43 (dk_at dksX11_init_0 1 rfl rfl)
theorem dX11_init_2 : decode cX11_init 2 = .ok (.putfield 3, 3) := dk_181 0 3 (dk_at dksX11_init_0 2 rfl rfl)
theorem dX11_init_5 : decode cX11_init 5 = .ok (.aload_n 0, 1) := dk_42 (dk_at dksX11_init_0 5 rfl rfl)
theorem dX11_init_6 : decode cX11_init 6 = .ok (.aload_n 1, 1) := dk_43 (dk_at dksX11_init_0 6 rfl rfl)
theorem dX11_init_7 : decode cX11_init 7 = .ok (.invokespecial 9, 3) := dk_183 0 9 (dk_at dksX11_init_0 7 rfl rfl)
theorem dX11_init_10 : decode cX11_init 10 = .ok (.return_, 1) := dk_177 (dk_at dksX11_init_0 10 rfl rfl)
abbrev cX11_kind : ByteArray := prog_2_method_2_code
def yX11_kind : MethodName := ⟨RX11, "kind", "()I"⟩
def dkwX11_kind_0 : List UInt8 := [5, 42, 183, 0, 15, 96, 172]
abbrev dktX11_kind_0 : List UInt8 := dkwX11_kind_0 ++ []
theorem dksX11_kind_0 : cX11_kind.data.toList.drop 0 = dktX11_kind_0 := by decide +kernel
theorem dX11_kind_0 : decode cX11_kind 0 = .ok (.iconst 2, 1) := dk_5 (dk_at dksX11_kind_0 0 rfl rfl)
theorem dX11_kind_1 : decode cX11_kind 1 = .ok (.aload_n 0, 1) := dk_42 (dk_at dksX11_kind_0 1 rfl rfl)
theorem dX11_kind_2 : decode cX11_kind 2 = .ok (.invokespecial 15, 3) := dk_183 0 15 (dk_at dksX11_kind_0 2 rfl rfl)
theorem dX11_kind_5 : decode cX11_kind 5 = .ok (.iadd, 1) := dk_96 (dk_at dksX11_kind_0 5 rfl rfl)
theorem dX11_kind_6 : decode cX11_kind 6 = .ok (.ireturn, 1) := dk_172 (dk_at dksX11_kind_0 6 rfl rfl)
abbrev cX11_takes : ByteArray := prog_2_method_3_code
def yX11_takes : MethodName := ⟨RX11, "takes", "(LFirstWords$Mind;IIZ)I"⟩
def dkwX11_takes_4 : List UInt8 := [167, 0, 5, 16, 252, 172]
abbrev dktX11_takes_4 : List UInt8 := dkwX11_takes_4 ++ []
def dkwX11_takes_3 : List UInt8 := [160, 0, 7, 4, 167, 0, 4, 3, 54, 6, 132, 7, 1, 167, 255, 191, 21, 6, 153, 0, 8, 21, 5]
abbrev dktX11_takes_3 : List UInt8 := dkwX11_takes_3 ++ dktX11_takes_4
def dkwX11_takes_2 : List UInt8 := [180, 0, 27, 21, 7, 50, 180, 0, 31, 42, 180, 0, 3, 180, 0, 27, 21, 5, 50, 180, 0, 31]
abbrev dktX11_takes_2 : List UInt8 := dkwX11_takes_2 ++ dktX11_takes_3
def dkwX11_takes_1 : List UInt8 := [180, 0, 23, 162, 0, 59, 21, 6, 153, 0, 45, 29, 21, 7, 122, 4, 126, 153, 0, 32, 42, 180, 0, 3]
abbrev dktX11_takes_1 : List UInt8 := dkwX11_takes_1 ++ dktX11_takes_2
def dkwX11_takes_0 : List UInt8 := [42, 43, 28, 29, 21, 4, 183, 0, 19, 54, 5, 4, 54, 6, 3, 54, 7, 21, 7, 42, 180, 0, 3]
abbrev dktX11_takes_0 : List UInt8 := dkwX11_takes_0 ++ dktX11_takes_1
theorem dksX11_takes_0 : cX11_takes.data.toList.drop 0 = dktX11_takes_0 := by decide +kernel
theorem dksX11_takes_1 : cX11_takes.data.toList.drop 23 = dktX11_takes_1 := dk_seg dksX11_takes_0 23 rfl rfl
theorem dksX11_takes_2 : cX11_takes.data.toList.drop 47 = dktX11_takes_2 := dk_seg dksX11_takes_1 24 rfl rfl
theorem dksX11_takes_3 : cX11_takes.data.toList.drop 69 = dktX11_takes_3 := dk_seg dksX11_takes_2 22 rfl rfl
theorem dksX11_takes_4 : cX11_takes.data.toList.drop 92 = dktX11_takes_4 := dk_seg dksX11_takes_3 23 rfl rfl
theorem dX11_takes_0 : decode cX11_takes 0 = .ok (.aload_n 0, 1) := dk_42 (dk_at dksX11_takes_0 0 rfl rfl)
theorem dX11_takes_1 : decode cX11_takes 1 = .ok (.aload_n 1, 1) := dk_43 (dk_at dksX11_takes_0 1 rfl rfl)
theorem dX11_takes_2 : decode cX11_takes 2 = .ok (.iload_n 2, 1) := dk_28 (dk_at dksX11_takes_0 2 rfl rfl)
theorem dX11_takes_3 : decode cX11_takes 3 = .ok (.iload_n 3, 1) := dk_29 (dk_at dksX11_takes_0 3 rfl rfl)
theorem dX11_takes_4 : decode cX11_takes 4 = .ok (.iload 4, 2) := dk_21 4 (dk_at dksX11_takes_0 4 rfl rfl)
theorem dX11_takes_6 : decode cX11_takes 6 = .ok (.invokespecial 19, 3) := dk_183 0 19 (dk_at dksX11_takes_0 6 rfl rfl)
theorem dX11_takes_9 : decode cX11_takes 9 = .ok (.istore 5, 2) := dk_54 5 (dk_at dksX11_takes_0 9 rfl rfl)
theorem dX11_takes_11 : decode cX11_takes 11 = .ok (.iconst 1, 1) := dk_4 (dk_at dksX11_takes_0 11 rfl rfl)
theorem dX11_takes_12 : decode cX11_takes 12 = .ok (.istore 6, 2) := dk_54 6 (dk_at dksX11_takes_0 12 rfl rfl)
theorem dX11_takes_14 : decode cX11_takes 14 = .ok (.iconst 0, 1) := dk_3 (dk_at dksX11_takes_0 14 rfl rfl)
theorem dX11_takes_15 : decode cX11_takes 15 = .ok (.istore 7, 2) := dk_54 7 (dk_at dksX11_takes_0 15 rfl rfl)
theorem dX11_takes_17 : decode cX11_takes 17 = .ok (.iload 7, 2) := dk_21 7 (dk_at dksX11_takes_0 17 rfl rfl)
theorem dX11_takes_19 : decode cX11_takes 19 = .ok (.aload_n 0, 1) := dk_42 (dk_at dksX11_takes_0 19 rfl rfl)
theorem dX11_takes_20 : decode cX11_takes 20 = .ok (.getfield 3, 3) := dk_180 0 3 (dk_at dksX11_takes_0 20 rfl rfl)
theorem dX11_takes_23 : decode cX11_takes 23 = .ok (.getfield 23, 3) := dk_180 0 23 (dk_at dksX11_takes_1 0 rfl rfl)
theorem dX11_takes_26 : decode cX11_takes 26 = .ok (.if_icmp .ge 59, 3) := dk_162 0 59 (dk_at dksX11_takes_1 3 rfl rfl)
theorem dX11_takes_29 : decode cX11_takes 29 = .ok (.iload 6, 2) := dk_21 6 (dk_at dksX11_takes_1 6 rfl rfl)
theorem dX11_takes_31 : decode cX11_takes 31 = .ok (.ifCond .eq 45, 3) := dk_153 0 45 (dk_at dksX11_takes_1 8 rfl rfl)
theorem dX11_takes_34 : decode cX11_takes 34 = .ok (.iload_n 3, 1) := dk_29 (dk_at dksX11_takes_1 11 rfl rfl)
theorem dX11_takes_35 : decode cX11_takes 35 = .ok (.iload 7, 2) := dk_21 7 (dk_at dksX11_takes_1 12 rfl rfl)
theorem dX11_takes_37 : decode cX11_takes 37 = .ok (.ishr, 1) := dk_122 (dk_at dksX11_takes_1 14 rfl rfl)
theorem dX11_takes_38 : decode cX11_takes 38 = .ok (.iconst 1, 1) := dk_4 (dk_at dksX11_takes_1 15 rfl rfl)
theorem dX11_takes_39 : decode cX11_takes 39 = .ok (.iand, 1) := dk_126 (dk_at dksX11_takes_1 16 rfl rfl)
theorem dX11_takes_40 : decode cX11_takes 40 = .ok (.ifCond .eq 32, 3) := dk_153 0 32 (dk_at dksX11_takes_1 17 rfl rfl)
theorem dX11_takes_43 : decode cX11_takes 43 = .ok (.aload_n 0, 1) := dk_42 (dk_at dksX11_takes_1 20 rfl rfl)
theorem dX11_takes_44 : decode cX11_takes 44 = .ok (.getfield 3, 3) := dk_180 0 3 (dk_at dksX11_takes_1 21 rfl rfl)
theorem dX11_takes_47 : decode cX11_takes 47 = .ok (.getfield 27, 3) := dk_180 0 27 (dk_at dksX11_takes_2 0 rfl rfl)
theorem dX11_takes_50 : decode cX11_takes 50 = .ok (.iload 7, 2) := dk_21 7 (dk_at dksX11_takes_2 3 rfl rfl)
theorem dX11_takes_52 : decode cX11_takes 52 = .ok (.aaload, 1) := dk_50 (dk_at dksX11_takes_2 5 rfl rfl)
theorem dX11_takes_53 : decode cX11_takes 53 = .ok (.getfield 31, 3) := dk_180 0 31 (dk_at dksX11_takes_2 6 rfl rfl)
theorem dX11_takes_56 : decode cX11_takes 56 = .ok (.aload_n 0, 1) := dk_42 (dk_at dksX11_takes_2 9 rfl rfl)
theorem dX11_takes_57 : decode cX11_takes 57 = .ok (.getfield 3, 3) := dk_180 0 3 (dk_at dksX11_takes_2 10 rfl rfl)
theorem dX11_takes_60 : decode cX11_takes 60 = .ok (.getfield 27, 3) := dk_180 0 27 (dk_at dksX11_takes_2 13 rfl rfl)
theorem dX11_takes_63 : decode cX11_takes 63 = .ok (.iload 5, 2) := dk_21 5 (dk_at dksX11_takes_2 16 rfl rfl)
theorem dX11_takes_65 : decode cX11_takes 65 = .ok (.aaload, 1) := dk_50 (dk_at dksX11_takes_2 18 rfl rfl)
theorem dX11_takes_66 : decode cX11_takes 66 = .ok (.getfield 31, 3) := dk_180 0 31 (dk_at dksX11_takes_2 19 rfl rfl)
theorem dX11_takes_69 : decode cX11_takes 69 = .ok (.if_icmp .ne 7, 3) := dk_160 0 7 (dk_at dksX11_takes_3 0 rfl rfl)
theorem dX11_takes_72 : decode cX11_takes 72 = .ok (.iconst 1, 1) := dk_4 (dk_at dksX11_takes_3 3 rfl rfl)
theorem dX11_takes_73 : decode cX11_takes 73 = .ok (.goto 4, 3) := dk_167 0 4 (dk_at dksX11_takes_3 4 rfl rfl)
theorem dX11_takes_76 : decode cX11_takes 76 = .ok (.iconst 0, 1) := dk_3 (dk_at dksX11_takes_3 7 rfl rfl)
theorem dX11_takes_77 : decode cX11_takes 77 = .ok (.istore 6, 2) := dk_54 6 (dk_at dksX11_takes_3 8 rfl rfl)
theorem dX11_takes_79 : decode cX11_takes 79 = .ok (.iinc 7 1, 3) := dk_132 7 1 (dk_at dksX11_takes_3 10 rfl rfl)
theorem dX11_takes_82 : decode cX11_takes 82 = .ok (.goto (-65), 3) := dk_167 255 191 (dk_at dksX11_takes_3 13 rfl rfl)
theorem dX11_takes_85 : decode cX11_takes 85 = .ok (.iload 6, 2) := dk_21 6 (dk_at dksX11_takes_3 16 rfl rfl)
theorem dX11_takes_87 : decode cX11_takes 87 = .ok (.ifCond .eq 8, 3) := dk_153 0 8 (dk_at dksX11_takes_3 18 rfl rfl)
theorem dX11_takes_90 : decode cX11_takes 90 = .ok (.iload 5, 2) := dk_21 5 (dk_at dksX11_takes_3 21 rfl rfl)
theorem dX11_takes_92 : decode cX11_takes 92 = .ok (.goto 5, 3) := dk_167 0 5 (dk_at dksX11_takes_4 0 rfl rfl)
theorem dX11_takes_95 : decode cX11_takes 95 = .ok (.bipush (-4), 2) := dk_16 252 (dk_at dksX11_takes_4 3 rfl rfl)
theorem dX11_takes_97 : decode cX11_takes 97 = .ok (.ireturn, 1) := dk_172 (dk_at dksX11_takes_4 5 rfl rfl)
theorem q112 : (Jvm.Cond.initialized "FirstWords$Careful") ∈ lw_all := lw_g (lw_at lw_m1 21 rfl) rfl
theorem q394 : (Jvm.Cond.fieldLinkNest "FirstWords$Careful" (31 : Nat) "FirstWords$Meaning" "things" "I" "FirstWords") ∈ lw_tbl := lw_at lw_m2 63 rfl
theorem q464 : (Jvm.Cond.instantiable "FirstWords$Careful" (7 : Nat)) ∈ lw_all := lw_g (lw_at lw_m2 133 rfl) rfl
theorem q466 : (Jvm.Cond.instanceMethod ({ cls := "FirstWords$Careful", name := "<init>", desc := "(LFirstWords;)V" } : Jvm.MethodName)) ∈ lw_all := lw_g (lw_at lw_m2 135 rfl) rfl
theorem q467 : (Jvm.Cond.code ({ cls := "FirstWords$Careful", name := "<init>", desc := "(LFirstWords;)V" } : Jvm.MethodName) prog_2_method_1_code (2 : Nat) (Option.none : Option Jvm.ClassFile.FieldType)) ∈ lw_all := lw_g (lw_at lw_m2 136 rfl) rfl
theorem q468 : (Jvm.Cond.methodLinkNest "FirstWords$Careful" (9 : Nat) ({ cls := "FirstWords$Stranger", name := "<init>", desc := "(LFirstWords;)V" } : Jvm.MethodName) "FirstWords") ∈ lw_tbl := lw_at lw_m2 137 rfl
theorem q469 : (Jvm.Cond.fieldLink "FirstWords$Careful" (3 : Nat) "FirstWords$Careful" "this$0" "LFirstWords;") ∈ lw_all := lw_g (lw_at lw_m2 138 rfl) rfl
theorem q470 : (Jvm.Cond.laysFinal "FirstWords$Careful" "FirstWords$Careful" "this$0" "LFirstWords;") ∈ lw_all := lw_g (lw_at lw_m2 139 rfl) rfl
theorem q471 : (Jvm.Cond.soleField "FirstWords$Careful" "this$0") ∈ lw_all := lw_g (lw_at lw_m2 140 rfl) rfl
theorem q472 : (Jvm.Cond.lays "FirstWords$Careful" "FirstWords$Stranger" "sees" "I") ∈ lw_all := lw_g (lw_at lw_m2 141 rfl) rfl
theorem q473 : (Jvm.Cond.lays "FirstWords$Careful" "FirstWords$Stranger" "fears" "I") ∈ lw_all := lw_g (lw_at lw_m2 142 rfl) rfl
theorem q474 : (Jvm.Cond.lays "FirstWords$Careful" "FirstWords$Stranger" "isUnlike" "Z") ∈ lw_all := lw_g (lw_at lw_m2 143 rfl) rfl
theorem q475 : (Jvm.Cond.lays "FirstWords$Careful" "FirstWords$Stranger" "chance" "I") ∈ lw_all := lw_g (lw_at lw_m2 144 rfl) rfl
theorem q476 : (Jvm.Cond.lays "FirstWords$Careful" "FirstWords$Stranger" "can" "I") ∈ lw_all := lw_g (lw_at lw_m2 145 rfl) rfl
theorem q477 : (Jvm.Cond.laysFinal "FirstWords$Careful" "FirstWords$Stranger" "this$0" "LFirstWords;") ∈ lw_all := lw_g (lw_at lw_m2 146 rfl) rfl
theorem q478 : (Jvm.Cond.superclass "FirstWords$Careful" "FirstWords$Stranger") ∈ lw_all := lw_g (lw_at lw_m2 147 rfl) rfl
theorem q573 : (Jvm.Cond.selects "FirstWords$Careful" ({ cls := "FirstWords$Stranger", name := "kind", desc := "()I" } : Jvm.MethodName) ({ cls := "FirstWords$Careful", name := "kind", desc := "()I" } : Jvm.MethodName)) ∈ lw_all := lw_g (lw_at lw_m3 2 rfl) rfl
theorem q574 : (Jvm.Cond.instanceMethod ({ cls := "FirstWords$Careful", name := "kind", desc := "()I" } : Jvm.MethodName)) ∈ lw_all := lw_g (lw_at lw_m3 3 rfl) rfl
theorem q575 : (Jvm.Cond.code ({ cls := "FirstWords$Careful", name := "kind", desc := "()I" } : Jvm.MethodName) prog_2_method_2_code (1 : Nat) (Option.some Jvm.ClassFile.FieldType.int)) ∈ lw_all := lw_g (lw_at lw_m3 4 rfl) rfl
theorem q576 : (Jvm.Cond.methodLink "FirstWords$Careful" (15 : Nat) ({ cls := "FirstWords$Stranger", name := "kind", desc := "()I" } : Jvm.MethodName)) ∈ lw_all := lw_g (lw_at lw_m3 5 rfl) rfl
theorem q614 : (Jvm.Cond.selects "FirstWords$Careful" ({ cls := "FirstWords$Stranger", name := "sees", desc := "(LFirstWords$Mind;IIIZI)V" } : Jvm.MethodName) ({ cls := "FirstWords$Stranger", name := "sees", desc := "(LFirstWords$Mind;IIIZI)V" } : Jvm.MethodName)) ∈ lw_all := lw_g (lw_at lw_m3 43 rfl) rfl
theorem q628 : (Jvm.Cond.selects "FirstWords$Careful" ({ cls := "FirstWords$Stranger", name := "takes", desc := "(LFirstWords$Mind;IIZ)I" } : Jvm.MethodName) ({ cls := "FirstWords$Careful", name := "takes", desc := "(LFirstWords$Mind;IIZ)I" } : Jvm.MethodName)) ∈ lw_all := lw_g (lw_at lw_m3 57 rfl) rfl
theorem q629 : (Jvm.Cond.instanceMethod ({ cls := "FirstWords$Careful", name := "takes", desc := "(LFirstWords$Mind;IIZ)I" } : Jvm.MethodName)) ∈ lw_all := lw_g (lw_at lw_m3 58 rfl) rfl
theorem q630 : (Jvm.Cond.code ({ cls := "FirstWords$Careful", name := "takes", desc := "(LFirstWords$Mind;IIZ)I" } : Jvm.MethodName) prog_2_method_3_code (8 : Nat) (Option.some Jvm.ClassFile.FieldType.int)) ∈ lw_all := lw_g (lw_at lw_m3 59 rfl) rfl
theorem q631 : (Jvm.Cond.methodLink "FirstWords$Careful" (19 : Nat) ({ cls := "FirstWords$Stranger", name := "takes", desc := "(LFirstWords$Mind;IIZ)I" } : Jvm.MethodName)) ∈ lw_all := lw_g (lw_at lw_m3 60 rfl) rfl
theorem q980 : (Jvm.Cond.fieldLinkNest "FirstWords$Careful" (27 : Nat) "FirstWords" "meanings" "[LFirstWords$Meaning;" "FirstWords") ∈ lw_tbl := lw_at lw_m4 169 rfl
theorem q984 : (Jvm.Cond.fieldLinkNest "FirstWords$Careful" (23 : Nat) "FirstWords" "meaningMany" "I" "FirstWords") ∈ lw_tbl := lw_at lw_m4 173 rfl
theorem q1739 : (Jvm.Cond.sameMethod "FirstWords$Careful" "FirstWords$Careful" "kind" "()I") ∈ lw_all := lw_g (lw_at lw_m7 208 rfl) rfl
theorem q1741 : (Jvm.Cond.castable "FirstWords$Careful" "FirstWords$Stranger") ∈ lw_tbl := lw_at lw_m7 210 rfl
theorem in_X11 : ∀ w ∈ wsX110, w ∈ lw_all := lw_in wsX110 [472, 473, 474, 475, 476, 477, 470] (by decide +kernel) (by decide +kernel)
/-! FirstWords$Proud -/
set_option maxRecDepth 100000
def RX12 : String := "FirstWords$Proud"
def TX12 : u_T := fun k => match k with
  | 0 => ("FirstWords$Stranger", "sees", "I", false)
  | 1 => ("FirstWords$Stranger", "fears", "I", false)
  | 2 => ("FirstWords$Stranger", "isUnlike", "Z", false)
  | 3 => ("FirstWords$Stranger", "chance", "I", false)
  | 4 => ("FirstWords$Stranger", "can", "I", false)
  | 5 => ("FirstWords$Stranger", "this$0", "LFirstWords;", true)
  | 6 => ("FirstWords$Careful", "this$0", "LFirstWords;", true)
  | _ => ("FirstWords$Proud", "this$0", "LFirstWords;", true)
def tyX12 : Nat → FieldType := fun k => match k with
  | 0 => .int
  | 1 => .int
  | 2 => .boolean
  | 3 => .int
  | 4 => .int
  | 5 => .object "FirstWords"
  | 6 => .object "FirstWords"
  | _ => .object "FirstWords"
abbrev wsX120 : List Cond := u_ws RX12 TX12 8
-- two fields of one name: no nmX12
theorem tyX12_ok : ∀ k, k < 8 → parseFieldDescriptor (TX12 k).2.2.1 = some (tyX12 k) := by decide +kernel
abbrev cX12_init : ByteArray := prog_8_method_1_code
def yX12_init : MethodName := ⟨RX12, "<init>", "(LFirstWords;)V"⟩
def dkwX12_init_0 : List UInt8 := [42, 43, 181, 0, 3, 42, 43, 183, 0, 9, 177]
abbrev dktX12_init_0 : List UInt8 := dkwX12_init_0 ++ []
theorem dksX12_init_0 : cX12_init.data.toList.drop 0 = dktX12_init_0 := by decide +kernel
theorem dX12_init_0 : decode cX12_init 0 = .ok (.aload_n 0, 1) := dk_42 (dk_at dksX12_init_0 0 rfl rfl)
theorem dX12_init_1 : decode cX12_init 1 = .ok (.aload_n 1, 1) := dk_43 (dk_at dksX12_init_0 1 rfl rfl)
theorem dX12_init_2 : decode cX12_init 2 = .ok (.putfield 3, 3) := dk_181 0 3 (dk_at dksX12_init_0 2 rfl rfl)
theorem dX12_init_5 : decode cX12_init 5 = .ok (.aload_n 0, 1) := dk_42 (dk_at dksX12_init_0 5 rfl rfl)
theorem dX12_init_6 : decode cX12_init 6 = .ok (.aload_n 1, 1) := dk_43 (dk_at dksX12_init_0 6 rfl rfl)
theorem dX12_init_7 : decode cX12_init 7 = .ok (.invokespecial 9, 3) := dk_183 0 9 (dk_at dksX12_init_0 7 rfl rfl)
theorem dX12_init_10 : decode cX12_init 10 = .ok (.return_, 1) := dk_177 (dk_at dksX12_init_0 10 rfl rfl)
abbrev cX12_kind : ByteArray := prog_8_method_2_code
def yX12_kind : MethodName := ⟨RX12, "kind", "()I"⟩
def dkwX12_kind_0 : List UInt8 := [4, 42, 183, 0, 15, 96, 172]
abbrev dktX12_kind_0 : List UInt8 := dkwX12_kind_0 ++ []
theorem dksX12_kind_0 : cX12_kind.data.toList.drop 0 = dktX12_kind_0 := by decide +kernel
theorem dX12_kind_0 : decode cX12_kind 0 = .ok (.iconst 1, 1) := dk_4 (dk_at dksX12_kind_0 0 rfl rfl)
theorem dX12_kind_1 : decode cX12_kind 1 = .ok (.aload_n 0, 1) := dk_42 (dk_at dksX12_kind_0 1 rfl rfl)
theorem dX12_kind_2 : decode cX12_kind 2 = .ok (.invokespecial 15, 3) := dk_183 0 15 (dk_at dksX12_kind_0 2 rfl rfl)
theorem dX12_kind_5 : decode cX12_kind 5 = .ok (.iadd, 1) := dk_96 (dk_at dksX12_kind_0 5 rfl rfl)
theorem dX12_kind_6 : decode cX12_kind 6 = .ok (.ireturn, 1) := dk_172 (dk_at dksX12_kind_0 6 rfl rfl)
abbrev cX12_takes : ByteArray := prog_8_method_3_code
def yX12_takes : MethodName := ⟨RX12, "takes", "(LFirstWords$Mind;IIZ)I"⟩
def dkwX12_takes_2 : List UInt8 := [180, 0, 19, 28, 3, 79, 42, 180, 0, 3, 29, 182, 0, 28, 172]
abbrev dktX12_takes_2 : List UInt8 := dkwX12_takes_2 ++ []
def dkwX12_takes_1 : List UInt8 := [46, 16, 252, 159, 0, 20, 43, 180, 0, 19, 28, 46, 5, 162, 0, 10, 43, 180, 0, 25, 28, 46, 172, 43]
abbrev dktX12_takes_1 : List UInt8 := dkwX12_takes_1 ++ dktX12_takes_2
def dkwX12_takes_0 : List UInt8 := [43, 180, 0, 19, 28, 92, 46, 21, 4, 153, 0, 7, 4, 167, 0, 4, 3, 96, 79, 43, 180, 0, 25, 28]
abbrev dktX12_takes_0 : List UInt8 := dkwX12_takes_0 ++ dktX12_takes_1
theorem dksX12_takes_0 : cX12_takes.data.toList.drop 0 = dktX12_takes_0 := by decide +kernel
theorem dksX12_takes_1 : cX12_takes.data.toList.drop 24 = dktX12_takes_1 := dk_seg dksX12_takes_0 24 rfl rfl
theorem dksX12_takes_2 : cX12_takes.data.toList.drop 48 = dktX12_takes_2 := dk_seg dksX12_takes_1 24 rfl rfl
theorem dX12_takes_0 : decode cX12_takes 0 = .ok (.aload_n 1, 1) := dk_43 (dk_at dksX12_takes_0 0 rfl rfl)
theorem dX12_takes_1 : decode cX12_takes 1 = .ok (.getfield 19, 3) := dk_180 0 19 (dk_at dksX12_takes_0 1 rfl rfl)
theorem dX12_takes_4 : decode cX12_takes 4 = .ok (.iload_n 2, 1) := dk_28 (dk_at dksX12_takes_0 4 rfl rfl)
theorem dX12_takes_5 : decode cX12_takes 5 = .ok (.dup2, 1) := dk_92 (dk_at dksX12_takes_0 5 rfl rfl)
theorem dX12_takes_6 : decode cX12_takes 6 = .ok (.iaload, 1) := dk_46 (dk_at dksX12_takes_0 6 rfl rfl)
theorem dX12_takes_7 : decode cX12_takes 7 = .ok (.iload 4, 2) := dk_21 4 (dk_at dksX12_takes_0 7 rfl rfl)
theorem dX12_takes_9 : decode cX12_takes 9 = .ok (.ifCond .eq 7, 3) := dk_153 0 7 (dk_at dksX12_takes_0 9 rfl rfl)
theorem dX12_takes_12 : decode cX12_takes 12 = .ok (.iconst 1, 1) := dk_4 (dk_at dksX12_takes_0 12 rfl rfl)
theorem dX12_takes_13 : decode cX12_takes 13 = .ok (.goto 4, 3) := dk_167 0 4 (dk_at dksX12_takes_0 13 rfl rfl)
theorem dX12_takes_16 : decode cX12_takes 16 = .ok (.iconst 0, 1) := dk_3 (dk_at dksX12_takes_0 16 rfl rfl)
theorem dX12_takes_17 : decode cX12_takes 17 = .ok (.iadd, 1) := dk_96 (dk_at dksX12_takes_0 17 rfl rfl)
theorem dX12_takes_18 : decode cX12_takes 18 = .ok (.iastore, 1) := dk_79 (dk_at dksX12_takes_0 18 rfl rfl)
theorem dX12_takes_19 : decode cX12_takes 19 = .ok (.aload_n 1, 1) := dk_43 (dk_at dksX12_takes_0 19 rfl rfl)
theorem dX12_takes_20 : decode cX12_takes 20 = .ok (.getfield 25, 3) := dk_180 0 25 (dk_at dksX12_takes_0 20 rfl rfl)
theorem dX12_takes_23 : decode cX12_takes 23 = .ok (.iload_n 2, 1) := dk_28 (dk_at dksX12_takes_0 23 rfl rfl)
theorem dX12_takes_24 : decode cX12_takes 24 = .ok (.iaload, 1) := dk_46 (dk_at dksX12_takes_1 0 rfl rfl)
theorem dX12_takes_25 : decode cX12_takes 25 = .ok (.bipush (-4), 2) := dk_16 252 (dk_at dksX12_takes_1 1 rfl rfl)
theorem dX12_takes_27 : decode cX12_takes 27 = .ok (.if_icmp .eq 20, 3) := dk_159 0 20 (dk_at dksX12_takes_1 3 rfl rfl)
theorem dX12_takes_30 : decode cX12_takes 30 = .ok (.aload_n 1, 1) := dk_43 (dk_at dksX12_takes_1 6 rfl rfl)
theorem dX12_takes_31 : decode cX12_takes 31 = .ok (.getfield 19, 3) := dk_180 0 19 (dk_at dksX12_takes_1 7 rfl rfl)
theorem dX12_takes_34 : decode cX12_takes 34 = .ok (.iload_n 2, 1) := dk_28 (dk_at dksX12_takes_1 10 rfl rfl)
theorem dX12_takes_35 : decode cX12_takes 35 = .ok (.iaload, 1) := dk_46 (dk_at dksX12_takes_1 11 rfl rfl)
theorem dX12_takes_36 : decode cX12_takes 36 = .ok (.iconst 2, 1) := dk_5 (dk_at dksX12_takes_1 12 rfl rfl)
theorem dX12_takes_37 : decode cX12_takes 37 = .ok (.if_icmp .ge 10, 3) := dk_162 0 10 (dk_at dksX12_takes_1 13 rfl rfl)
theorem dX12_takes_40 : decode cX12_takes 40 = .ok (.aload_n 1, 1) := dk_43 (dk_at dksX12_takes_1 16 rfl rfl)
theorem dX12_takes_41 : decode cX12_takes 41 = .ok (.getfield 25, 3) := dk_180 0 25 (dk_at dksX12_takes_1 17 rfl rfl)
theorem dX12_takes_44 : decode cX12_takes 44 = .ok (.iload_n 2, 1) := dk_28 (dk_at dksX12_takes_1 20 rfl rfl)
theorem dX12_takes_45 : decode cX12_takes 45 = .ok (.iaload, 1) := dk_46 (dk_at dksX12_takes_1 21 rfl rfl)
theorem dX12_takes_46 : decode cX12_takes 46 = .ok (.ireturn, 1) := dk_172 (dk_at dksX12_takes_1 22 rfl rfl)
theorem dX12_takes_47 : decode cX12_takes 47 = .ok (.aload_n 1, 1) := dk_43 (dk_at dksX12_takes_1 23 rfl rfl)
theorem dX12_takes_48 : decode cX12_takes 48 = .ok (.getfield 19, 3) := dk_180 0 19 (dk_at dksX12_takes_2 0 rfl rfl)
theorem dX12_takes_51 : decode cX12_takes 51 = .ok (.iload_n 2, 1) := dk_28 (dk_at dksX12_takes_2 3 rfl rfl)
theorem dX12_takes_52 : decode cX12_takes 52 = .ok (.iconst 0, 1) := dk_3 (dk_at dksX12_takes_2 4 rfl rfl)
theorem dX12_takes_53 : decode cX12_takes 53 = .ok (.iastore, 1) := dk_79 (dk_at dksX12_takes_2 5 rfl rfl)
theorem dX12_takes_54 : decode cX12_takes 54 = .ok (.aload_n 0, 1) := dk_42 (dk_at dksX12_takes_2 6 rfl rfl)
theorem dX12_takes_55 : decode cX12_takes 55 = .ok (.getfield 3, 3) := dk_180 0 3 (dk_at dksX12_takes_2 7 rfl rfl)
theorem dX12_takes_58 : decode cX12_takes 58 = .ok (.iload_n 3, 1) := dk_29 (dk_at dksX12_takes_2 10 rfl rfl)
theorem dX12_takes_59 : decode cX12_takes 59 = .ok (.invokevirtual 28, 3) := dk_182 0 28 (dk_at dksX12_takes_2 11 rfl rfl)
theorem dX12_takes_62 : decode cX12_takes 62 = .ok (.ireturn, 1) := dk_172 (dk_at dksX12_takes_2 14 rfl rfl)
theorem q113 : (Jvm.Cond.initialized "FirstWords$Proud") ∈ lw_all := lw_g (lw_at lw_m1 22 rfl) rfl
theorem q480 : (Jvm.Cond.instantiable "FirstWords$Proud" (8 : Nat)) ∈ lw_all := lw_g (lw_at lw_m2 149 rfl) rfl
theorem q482 : (Jvm.Cond.instanceMethod ({ cls := "FirstWords$Proud", name := "<init>", desc := "(LFirstWords;)V" } : Jvm.MethodName)) ∈ lw_all := lw_g (lw_at lw_m2 151 rfl) rfl
theorem q483 : (Jvm.Cond.code ({ cls := "FirstWords$Proud", name := "<init>", desc := "(LFirstWords;)V" } : Jvm.MethodName) prog_8_method_1_code (2 : Nat) (Option.none : Option Jvm.ClassFile.FieldType)) ∈ lw_all := lw_g (lw_at lw_m2 152 rfl) rfl
theorem q484 : (Jvm.Cond.methodLinkNest "FirstWords$Proud" (9 : Nat) ({ cls := "FirstWords$Careful", name := "<init>", desc := "(LFirstWords;)V" } : Jvm.MethodName) "FirstWords") ∈ lw_tbl := lw_at lw_m2 153 rfl
theorem q485 : (Jvm.Cond.fieldLink "FirstWords$Proud" (3 : Nat) "FirstWords$Proud" "this$0" "LFirstWords;") ∈ lw_all := lw_g (lw_at lw_m2 154 rfl) rfl
theorem q486 : (Jvm.Cond.laysFinal "FirstWords$Proud" "FirstWords$Proud" "this$0" "LFirstWords;") ∈ lw_all := lw_g (lw_at lw_m2 155 rfl) rfl
theorem q487 : (Jvm.Cond.soleField "FirstWords$Proud" "this$0") ∈ lw_all := lw_g (lw_at lw_m2 156 rfl) rfl
theorem q488 : (Jvm.Cond.laysFinal "FirstWords$Proud" "FirstWords$Careful" "this$0" "LFirstWords;") ∈ lw_all := lw_g (lw_at lw_m2 157 rfl) rfl
theorem q489 : (Jvm.Cond.lays "FirstWords$Proud" "FirstWords$Stranger" "sees" "I") ∈ lw_all := lw_g (lw_at lw_m2 158 rfl) rfl
theorem q490 : (Jvm.Cond.lays "FirstWords$Proud" "FirstWords$Stranger" "fears" "I") ∈ lw_all := lw_g (lw_at lw_m2 159 rfl) rfl
theorem q491 : (Jvm.Cond.lays "FirstWords$Proud" "FirstWords$Stranger" "isUnlike" "Z") ∈ lw_all := lw_g (lw_at lw_m2 160 rfl) rfl
theorem q492 : (Jvm.Cond.lays "FirstWords$Proud" "FirstWords$Stranger" "chance" "I") ∈ lw_all := lw_g (lw_at lw_m2 161 rfl) rfl
theorem q493 : (Jvm.Cond.lays "FirstWords$Proud" "FirstWords$Stranger" "can" "I") ∈ lw_all := lw_g (lw_at lw_m2 162 rfl) rfl
theorem q494 : (Jvm.Cond.laysFinal "FirstWords$Proud" "FirstWords$Stranger" "this$0" "LFirstWords;") ∈ lw_all := lw_g (lw_at lw_m2 163 rfl) rfl
theorem q495 : (Jvm.Cond.superclass "FirstWords$Proud" "FirstWords$Careful") ∈ lw_all := lw_g (lw_at lw_m2 164 rfl) rfl
theorem q581 : (Jvm.Cond.selects "FirstWords$Proud" ({ cls := "FirstWords$Stranger", name := "kind", desc := "()I" } : Jvm.MethodName) ({ cls := "FirstWords$Proud", name := "kind", desc := "()I" } : Jvm.MethodName)) ∈ lw_all := lw_g (lw_at lw_m3 10 rfl) rfl
theorem q582 : (Jvm.Cond.instanceMethod ({ cls := "FirstWords$Proud", name := "kind", desc := "()I" } : Jvm.MethodName)) ∈ lw_all := lw_g (lw_at lw_m3 11 rfl) rfl
theorem q583 : (Jvm.Cond.code ({ cls := "FirstWords$Proud", name := "kind", desc := "()I" } : Jvm.MethodName) prog_8_method_2_code (1 : Nat) (Option.some Jvm.ClassFile.FieldType.int)) ∈ lw_all := lw_g (lw_at lw_m3 12 rfl) rfl
theorem q584 : (Jvm.Cond.methodLink "FirstWords$Proud" (15 : Nat) ({ cls := "FirstWords$Careful", name := "kind", desc := "()I" } : Jvm.MethodName)) ∈ lw_all := lw_g (lw_at lw_m3 13 rfl) rfl
theorem q616 : (Jvm.Cond.selects "FirstWords$Proud" ({ cls := "FirstWords$Stranger", name := "sees", desc := "(LFirstWords$Mind;IIIZI)V" } : Jvm.MethodName) ({ cls := "FirstWords$Stranger", name := "sees", desc := "(LFirstWords$Mind;IIIZI)V" } : Jvm.MethodName)) ∈ lw_all := lw_g (lw_at lw_m3 45 rfl) rfl
theorem q636 : (Jvm.Cond.selects "FirstWords$Proud" ({ cls := "FirstWords$Stranger", name := "takes", desc := "(LFirstWords$Mind;IIZ)I" } : Jvm.MethodName) ({ cls := "FirstWords$Proud", name := "takes", desc := "(LFirstWords$Mind;IIZ)I" } : Jvm.MethodName)) ∈ lw_all := lw_g (lw_at lw_m3 65 rfl) rfl
theorem q637 : (Jvm.Cond.instanceMethod ({ cls := "FirstWords$Proud", name := "takes", desc := "(LFirstWords$Mind;IIZ)I" } : Jvm.MethodName)) ∈ lw_all := lw_g (lw_at lw_m3 66 rfl) rfl
theorem q638 : (Jvm.Cond.code ({ cls := "FirstWords$Proud", name := "takes", desc := "(LFirstWords$Mind;IIZ)I" } : Jvm.MethodName) prog_8_method_3_code (5 : Nat) (Option.some Jvm.ClassFile.FieldType.int)) ∈ lw_all := lw_g (lw_at lw_m3 67 rfl) rfl
theorem q639 : (Jvm.Cond.methodLinkNest "FirstWords$Proud" (28 : Nat) ({ cls := "FirstWords", name := "plainest", desc := "(I)I" } : Jvm.MethodName) "FirstWords") ∈ lw_tbl := lw_at lw_m3 68 rfl
theorem q878 : (Jvm.Cond.fieldLinkNest "FirstWords$Proud" (25 : Nat) "FirstWords$Mind" "thinks" "[I" "FirstWords") ∈ lw_tbl := lw_at lw_m4 67 rfl
theorem q882 : (Jvm.Cond.fieldLinkNest "FirstWords$Proud" (19 : Nat) "FirstWords$Mind" "against" "[I" "FirstWords") ∈ lw_tbl := lw_at lw_m4 71 rfl
theorem q1742 : (Jvm.Cond.castable "FirstWords$Proud" "FirstWords$Stranger") ∈ lw_tbl := lw_at lw_m7 211 rfl
theorem in_X12 : ∀ w ∈ wsX120, w ∈ lw_all := lw_in wsX120 [489, 490, 491, 492, 493, 494, 488, 486] (by decide +kernel) (by decide +kernel)
