-- ===== PART A: goes FIRST, ahead of the names: the tables' words, and 'selects' of the private methods out of them =====
/-- a private method of a class that the tables say can be made, by its rows of tables_1 -/
def lw_okq (q : MethodName × Nat) : Prop := (q.1.cls ≠ "java/lang/invoke/MethodHandle" ∧ q.1.cls ≠ "java/lang/invoke/VarHandle") ∧ Cond.instantiable q.1.cls q.2 ∈ tables_1 ∧ Cond.privateMethod q.1 ∈ tables_1 ∧ Cond.instanceMethod q.1 ∈ tables_1
set_option maxRecDepth 100000
theorem lw_t1 {w : Cond} (h : w ∈ tables_1_1) : w ∈ tables_1 := List.mem_append_left _ h
theorem lw_t2 {w : Cond} (h : w ∈ tables_1_2) : w ∈ tables_1 := List.mem_append_right _ (List.mem_append_left _ h)
theorem lw_t3 {w : Cond} (h : w ∈ tables_1_3) : w ∈ tables_1 := List.mem_append_right _ (List.mem_append_right _ (List.mem_append_left _ h))
theorem lw_t4 {w : Cond} (h : w ∈ tables_1_4) : w ∈ tables_1 := List.mem_append_right _ (List.mem_append_right _ (List.mem_append_right _ (List.mem_append_left _ h)))
theorem lw_t5 {w : Cond} (h : w ∈ tables_1_5) : w ∈ tables_1 := List.mem_append_right _ (List.mem_append_right _ (List.mem_append_right _ (List.mem_append_right _ (List.mem_append_left _ h))))
theorem lw_t6 {w : Cond} (h : w ∈ tables_1_6) : w ∈ tables_1 := List.mem_append_right _ (List.mem_append_right _ (List.mem_append_right _ (List.mem_append_right _ (List.mem_append_right _ (List.mem_append_left _ h)))))
theorem lw_t7 {w : Cond} (h : w ∈ tables_1_7) : w ∈ tables_1 := List.mem_append_right _ (List.mem_append_right _ (List.mem_append_right _ (List.mem_append_right _ (List.mem_append_right _ (List.mem_append_right _ h)))))
theorem lw_p0 : lw_okq (⟨"FirstWords$Reader", "next", "()V"⟩, 15) := ⟨⟨by decide +kernel, by decide +kernel⟩, lw_t1 (List.mem_of_getElem? (i := 50) rfl), lw_t1 (List.mem_of_getElem? (i := 62) rfl), lw_t1 (List.mem_of_getElem? (i := 63) rfl)⟩
theorem lw_p1 : lw_okq (⟨"FirstWords$Reader", "at", "(I)I"⟩, 15) := ⟨⟨by decide +kernel, by decide +kernel⟩, lw_t1 (List.mem_of_getElem? (i := 50) rfl), lw_t1 (List.mem_of_getElem? (i := 66) rfl), lw_t1 (List.mem_of_getElem? (i := 67) rfl)⟩
theorem lw_p2 : lw_okq (⟨"FirstWords$Reader", "must", "(ZI)V"⟩, 15) := ⟨⟨by decide +kernel, by decide +kernel⟩, lw_t1 (List.mem_of_getElem? (i := 50) rfl), lw_t1 (List.mem_of_getElem? (i := 75) rfl), lw_t1 (List.mem_of_getElem? (i := 76) rfl)⟩
theorem lw_p3 : lw_okq (⟨"java/lang/NullPointerException", "getExtendedNPEMessage", "()Ljava/lang/String;"⟩, 8) := ⟨⟨by decide +kernel, by decide +kernel⟩, lw_t1 (List.mem_of_getElem? (i := 120) rfl), lw_t1 (List.mem_of_getElem? (i := 118) rfl), lw_t1 (List.mem_of_getElem? (i := 119) rfl)⟩
theorem lw_p4 : lw_okq (⟨"java/lang/Throwable", "fillInStackTrace", "(I)Ljava/lang/Throwable;"⟩, 6) := ⟨⟨by decide +kernel, by decide +kernel⟩, lw_t1 (List.mem_of_getElem? (i := 132) rfl), lw_t1 (List.mem_of_getElem? (i := 130) rfl), lw_t1 (List.mem_of_getElem? (i := 131) rfl)⟩
theorem lw_p5 : lw_okq (⟨"FirstWords$Reader", "line", "()V"⟩, 15) := ⟨⟨by decide +kernel, by decide +kernel⟩, lw_t1 (List.mem_of_getElem? (i := 50) rfl), lw_t1 (List.mem_of_getElem? (i := 221) rfl), lw_t1 (List.mem_of_getElem? (i := 222) rfl)⟩
theorem lw_p6 : lw_okq (⟨"FirstWords$Reader", "which", "([Ljava/lang/String;)I"⟩, 15) := ⟨⟨by decide +kernel, by decide +kernel⟩, lw_t1 (List.mem_of_getElem? (i := 50) rfl), lw_t1 (List.mem_of_getElem? (i := 227) rfl), lw_t1 (List.mem_of_getElem? (i := 228) rfl)⟩
theorem lw_p7 : lw_okq (⟨"FirstWords$Reader", "isWord", "(Ljava/lang/String;)Z"⟩, 15) := ⟨⟨by decide +kernel, by decide +kernel⟩, lw_t1 (List.mem_of_getElem? (i := 50) rfl), lw_t1 (List.mem_of_getElem? (i := 231) rfl), lw_t1 (List.mem_of_getElem? (i := 232) rfl)⟩
theorem lw_p8 : lw_okq (⟨"FirstWords$Reader", "letters", "(I)I"⟩, 15) := ⟨⟨by decide +kernel, by decide +kernel⟩, lw_t1 (List.mem_of_getElem? (i := 50) rfl), lw_t2 (List.mem_of_getElem? (i := 43) rfl), lw_t2 (List.mem_of_getElem? (i := 44) rfl)⟩
theorem lw_p9 : lw_okq (⟨"FirstWords$Reader", "meaning", "()V"⟩, 15) := ⟨⟨by decide +kernel, by decide +kernel⟩, lw_t1 (List.mem_of_getElem? (i := 50) rfl), lw_t2 (List.mem_of_getElem? (i := 48) rfl), lw_t2 (List.mem_of_getElem? (i := 49) rfl)⟩
theorem lw_p10 : lw_okq (⟨"FirstWords$Reader", "number", "(II)I"⟩, 15) := ⟨⟨by decide +kernel, by decide +kernel⟩, lw_t1 (List.mem_of_getElem? (i := 50) rfl), lw_t2 (List.mem_of_getElem? (i := 75) rfl), lw_t2 (List.mem_of_getElem? (i := 76) rfl)⟩
theorem lw_p11 : lw_okq (⟨"FirstWords$Reader", "stranger", "(I)V"⟩, 15) := ⟨⟨by decide +kernel, by decide +kernel⟩, lw_t1 (List.mem_of_getElem? (i := 50) rfl), lw_t2 (List.mem_of_getElem? (i := 79) rfl), lw_t2 (List.mem_of_getElem? (i := 80) rfl)⟩
theorem lw_p12 : lw_okq (⟨"FirstWords$Reader", "with", "(LFirstWords$Stranger;I)V"⟩, 15) := ⟨⟨by decide +kernel, by decide +kernel⟩, lw_t1 (List.mem_of_getElem? (i := 50) rfl), lw_t2 (List.mem_of_getElem? (i := 168) rfl), lw_t2 (List.mem_of_getElem? (i := 169) rfl)⟩
theorem lw_p13 : lw_okq (⟨"FirstWords", "begins", "()V"⟩, 30) := ⟨⟨by decide +kernel, by decide +kernel⟩, lw_t2 (List.mem_of_getElem? (i := 178) rfl), lw_t2 (List.mem_of_getElem? (i := 176) rfl), lw_t2 (List.mem_of_getElem? (i := 177) rfl)⟩
theorem lw_p14 : lw_okq (⟨"FirstWords", "isNew", "()V"⟩, 30) := ⟨⟨by decide +kernel, by decide +kernel⟩, lw_t2 (List.mem_of_getElem? (i := 178) rfl), lw_t2 (List.mem_of_getElem? (i := 181) rfl), lw_t2 (List.mem_of_getElem? (i := 182) rfl)⟩
theorem lw_p15 : lw_okq (⟨"FirstWords", "isThing", "(I)Z"⟩, 30) := ⟨⟨by decide +kernel, by decide +kernel⟩, lw_t2 (List.mem_of_getElem? (i := 178) rfl), lw_t2 (List.mem_of_getElem? (i := 201) rfl), lw_t2 (List.mem_of_getElem? (i := 202) rfl)⟩
def lw_privs_1 : List (MethodName × Nat) := [(⟨"FirstWords$Reader", "next", "()V"⟩, 15), (⟨"FirstWords$Reader", "at", "(I)I"⟩, 15), (⟨"FirstWords$Reader", "must", "(ZI)V"⟩, 15), (⟨"java/lang/NullPointerException", "getExtendedNPEMessage", "()Ljava/lang/String;"⟩, 8), (⟨"java/lang/Throwable", "fillInStackTrace", "(I)Ljava/lang/Throwable;"⟩, 6), (⟨"FirstWords$Reader", "line", "()V"⟩, 15), (⟨"FirstWords$Reader", "which", "([Ljava/lang/String;)I"⟩, 15), (⟨"FirstWords$Reader", "isWord", "(Ljava/lang/String;)Z"⟩, 15), (⟨"FirstWords$Reader", "letters", "(I)I"⟩, 15), (⟨"FirstWords$Reader", "meaning", "()V"⟩, 15), (⟨"FirstWords$Reader", "number", "(II)I"⟩, 15), (⟨"FirstWords$Reader", "stranger", "(I)V"⟩, 15), (⟨"FirstWords$Reader", "with", "(LFirstWords$Stranger;I)V"⟩, 15), (⟨"FirstWords", "begins", "()V"⟩, 30), (⟨"FirstWords", "isNew", "()V"⟩, 30), (⟨"FirstWords", "isThing", "(I)Z"⟩, 30)]
theorem lw_r1 : ∀ q ∈ lw_privs_1, lw_okq q := List.forall_mem_cons.mpr ⟨lw_p0, List.forall_mem_cons.mpr ⟨lw_p1, List.forall_mem_cons.mpr ⟨lw_p2, List.forall_mem_cons.mpr ⟨lw_p3, List.forall_mem_cons.mpr ⟨lw_p4, List.forall_mem_cons.mpr ⟨lw_p5, List.forall_mem_cons.mpr ⟨lw_p6, List.forall_mem_cons.mpr ⟨lw_p7, List.forall_mem_cons.mpr ⟨lw_p8, List.forall_mem_cons.mpr ⟨lw_p9, List.forall_mem_cons.mpr ⟨lw_p10, List.forall_mem_cons.mpr ⟨lw_p11, List.forall_mem_cons.mpr ⟨lw_p12, List.forall_mem_cons.mpr ⟨lw_p13, List.forall_mem_cons.mpr ⟨lw_p14, List.forall_mem_cons.mpr ⟨lw_p15, fun _ h => absurd h List.not_mem_nil⟩⟩⟩⟩⟩⟩⟩⟩⟩⟩⟩⟩⟩⟩⟩⟩
theorem lw_p16 : lw_okq (⟨"FirstWords", "isMeaning", "(I)Z"⟩, 30) := ⟨⟨by decide +kernel, by decide +kernel⟩, lw_t2 (List.mem_of_getElem? (i := 178) rfl), lw_t2 (List.mem_of_getElem? (i := 209) rfl), lw_t2 (List.mem_of_getElem? (i := 210) rfl)⟩
theorem lw_p17 : lw_okq (⟨"FirstWords", "isSound", "(I)Z"⟩, 30) := ⟨⟨by decide +kernel, by decide +kernel⟩, lw_t2 (List.mem_of_getElem? (i := 178) rfl), lw_t2 (List.mem_of_getElem? (i := 227) rfl), lw_t2 (List.mem_of_getElem? (i := 228) rfl)⟩
theorem lw_p18 : lw_okq (⟨"FirstWords", "isKind", "(I)Z"⟩, 30) := ⟨⟨by decide +kernel, by decide +kernel⟩, lw_t2 (List.mem_of_getElem? (i := 178) rfl), lw_t2 (List.mem_of_getElem? (i := 235) rfl), lw_t2 (List.mem_of_getElem? (i := 236) rfl)⟩
theorem lw_p19 : lw_okq (⟨"FirstWords", "shows", "(IIZ)I"⟩, 30) := ⟨⟨by decide +kernel, by decide +kernel⟩, lw_t2 (List.mem_of_getElem? (i := 178) rfl), lw_t3 (List.mem_of_getElem? (i := 20) rfl), lw_t3 (List.mem_of_getElem? (i := 21) rfl)⟩
theorem lw_p20 : lw_okq (⟨"FirstWords", "adds", "(IIZ)V"⟩, 30) := ⟨⟨by decide +kernel, by decide +kernel⟩, lw_t2 (List.mem_of_getElem? (i := 178) rfl), lw_t3 (List.mem_of_getElem? (i := 24) rfl), lw_t3 (List.mem_of_getElem? (i := 25) rfl)⟩
theorem lw_p21 : lw_okq (⟨"FirstWords", "goes", "(IIIZ)V"⟩, 30) := ⟨⟨by decide +kernel, by decide +kernel⟩, lw_t2 (List.mem_of_getElem? (i := 178) rfl), lw_t3 (List.mem_of_getElem? (i := 28) rfl), lw_t3 (List.mem_of_getElem? (i := 29) rfl)⟩
theorem lw_p22 : lw_okq (⟨"FirstWords", "fitting", "(IIZ)I"⟩, 30) := ⟨⟨by decide +kernel, by decide +kernel⟩, lw_t2 (List.mem_of_getElem? (i := 178) rfl), lw_t3 (List.mem_of_getElem? (i := 32) rfl), lw_t3 (List.mem_of_getElem? (i := 33) rfl)⟩
theorem lw_p23 : lw_okq (⟨"FirstWords", "plainest", "(I)I"⟩, 30) := ⟨⟨by decide +kernel, by decide +kernel⟩, lw_t2 (List.mem_of_getElem? (i := 178) rfl), lw_t3 (List.mem_of_getElem? (i := 69) rfl), lw_t3 (List.mem_of_getElem? (i := 70) rfl)⟩
theorem lw_p24 : lw_okq (⟨"FirstWords", "target", "(I)LFirstWords$Meaning;"⟩, 30) := ⟨⟨by decide +kernel, by decide +kernel⟩, lw_t2 (List.mem_of_getElem? (i := 178) rfl), lw_t3 (List.mem_of_getElem? (i := 79) rfl), lw_t3 (List.mem_of_getElem? (i := 80) rfl)⟩
theorem lw_p25 : lw_okq (⟨"FirstWords", "goesAll", "()V"⟩, 30) := ⟨⟨by decide +kernel, by decide +kernel⟩, lw_t2 (List.mem_of_getElem? (i := 178) rfl), lw_t3 (List.mem_of_getElem? (i := 87) rfl), lw_t3 (List.mem_of_getElem? (i := 88) rfl)⟩
theorem lw_p26 : lw_okq (⟨"FirstWords", "isSame", "(LFirstWords$Mind;I)Z"⟩, 30) := ⟨⟨by decide +kernel, by decide +kernel⟩, lw_t2 (List.mem_of_getElem? (i := 178) rfl), lw_t3 (List.mem_of_getElem? (i := 112) rfl), lw_t3 (List.mem_of_getElem? (i := 113) rfl)⟩
theorem lw_p27 : lw_okq (⟨"FirstWords", "areKinds", "(I)Z"⟩, 30) := ⟨⟨by decide +kernel, by decide +kernel⟩, lw_t2 (List.mem_of_getElem? (i := 178) rfl), lw_t3 (List.mem_of_getElem? (i := 128) rfl), lw_t3 (List.mem_of_getElem? (i := 129) rfl)⟩
theorem lw_p28 : lw_okq (⟨"FirstWords$Teaching", "from", "(I[LFirstWords$Mind;I)V"⟩, 6) := ⟨⟨by decide +kernel, by decide +kernel⟩, lw_t3 (List.mem_of_getElem? (i := 143) rfl), lw_t3 (List.mem_of_getElem? (i := 141) rfl), lw_t3 (List.mem_of_getElem? (i := 142) rfl)⟩
theorem lw_p29 : lw_okq (⟨"FirstWords$Teaching", "fewest", "(II)I"⟩, 6) := ⟨⟨by decide +kernel, by decide +kernel⟩, lw_t3 (List.mem_of_getElem? (i := 143) rfl), lw_t3 (List.mem_of_getElem? (i := 151) rfl), lw_t3 (List.mem_of_getElem? (i := 152) rfl)⟩
theorem lw_p30 : lw_okq (⟨"FirstWords$Teaching", "isCalm", "(I)Z"⟩, 6) := ⟨⟨by decide +kernel, by decide +kernel⟩, lw_t3 (List.mem_of_getElem? (i := 143) rfl), lw_t3 (List.mem_of_getElem? (i := 155) rfl), lw_t3 (List.mem_of_getElem? (i := 156) rfl)⟩
theorem lw_p31 : lw_okq (⟨"FirstWords$Teaching", "tries", "(II)Z"⟩, 6) := ⟨⟨by decide +kernel, by decide +kernel⟩, lw_t3 (List.mem_of_getElem? (i := 143) rfl), lw_t3 (List.mem_of_getElem? (i := 160) rfl), lw_t3 (List.mem_of_getElem? (i := 161) rfl)⟩
def lw_privs_2 : List (MethodName × Nat) := [(⟨"FirstWords", "isMeaning", "(I)Z"⟩, 30), (⟨"FirstWords", "isSound", "(I)Z"⟩, 30), (⟨"FirstWords", "isKind", "(I)Z"⟩, 30), (⟨"FirstWords", "shows", "(IIZ)I"⟩, 30), (⟨"FirstWords", "adds", "(IIZ)V"⟩, 30), (⟨"FirstWords", "goes", "(IIIZ)V"⟩, 30), (⟨"FirstWords", "fitting", "(IIZ)I"⟩, 30), (⟨"FirstWords", "plainest", "(I)I"⟩, 30), (⟨"FirstWords", "target", "(I)LFirstWords$Meaning;"⟩, 30), (⟨"FirstWords", "goesAll", "()V"⟩, 30), (⟨"FirstWords", "isSame", "(LFirstWords$Mind;I)Z"⟩, 30), (⟨"FirstWords", "areKinds", "(I)Z"⟩, 30), (⟨"FirstWords$Teaching", "from", "(I[LFirstWords$Mind;I)V"⟩, 6), (⟨"FirstWords$Teaching", "fewest", "(II)I"⟩, 6), (⟨"FirstWords$Teaching", "isCalm", "(I)Z"⟩, 6), (⟨"FirstWords$Teaching", "tries", "(II)Z"⟩, 6)]
theorem lw_r2 : ∀ q ∈ lw_privs_2, lw_okq q := List.forall_mem_cons.mpr ⟨lw_p16, List.forall_mem_cons.mpr ⟨lw_p17, List.forall_mem_cons.mpr ⟨lw_p18, List.forall_mem_cons.mpr ⟨lw_p19, List.forall_mem_cons.mpr ⟨lw_p20, List.forall_mem_cons.mpr ⟨lw_p21, List.forall_mem_cons.mpr ⟨lw_p22, List.forall_mem_cons.mpr ⟨lw_p23, List.forall_mem_cons.mpr ⟨lw_p24, List.forall_mem_cons.mpr ⟨lw_p25, List.forall_mem_cons.mpr ⟨lw_p26, List.forall_mem_cons.mpr ⟨lw_p27, List.forall_mem_cons.mpr ⟨lw_p28, List.forall_mem_cons.mpr ⟨lw_p29, List.forall_mem_cons.mpr ⟨lw_p30, List.forall_mem_cons.mpr ⟨lw_p31, fun _ h => absurd h List.not_mem_nil⟩⟩⟩⟩⟩⟩⟩⟩⟩⟩⟩⟩⟩⟩⟩⟩
theorem lw_p32 : lw_okq (⟨"FirstWords$Teaching", "isDone", "(II)Z"⟩, 6) := ⟨⟨by decide +kernel, by decide +kernel⟩, lw_t3 (List.mem_of_getElem? (i := 143) rfl), lw_t3 (List.mem_of_getElem? (i := 164) rfl), lw_t3 (List.mem_of_getElem? (i := 165) rfl)⟩
theorem lw_p33 : lw_okq (⟨"FirstWords", "orders", "(III)V"⟩, 30) := ⟨⟨by decide +kernel, by decide +kernel⟩, lw_t2 (List.mem_of_getElem? (i := 178) rfl), lw_t3 (List.mem_of_getElem? (i := 181) rfl), lw_t3 (List.mem_of_getElem? (i := 182) rfl)⟩
theorem lw_p34 : lw_okq (⟨"FirstWords", "ordered", "(I)I"⟩, 30) := ⟨⟨by decide +kernel, by decide +kernel⟩, lw_t2 (List.mem_of_getElem? (i := 178) rfl), lw_t3 (List.mem_of_getElem? (i := 185) rfl), lw_t3 (List.mem_of_getElem? (i := 186) rfl)⟩
theorem lw_p35 : lw_okq (⟨"FirstWords", "allKinds", "()I"⟩, 30) := ⟨⟨by decide +kernel, by decide +kernel⟩, lw_t2 (List.mem_of_getElem? (i := 178) rfl), lw_t3 (List.mem_of_getElem? (i := 194) rfl), lw_t3 (List.mem_of_getElem? (i := 195) rfl)⟩
theorem lw_p36 : lw_okq (⟨"FirstWords", "chances", "(I)I"⟩, 30) := ⟨⟨by decide +kernel, by decide +kernel⟩, lw_t2 (List.mem_of_getElem? (i := 178) rfl), lw_t3 (List.mem_of_getElem? (i := 198) rfl), lw_t3 (List.mem_of_getElem? (i := 199) rfl)⟩
theorem lw_p37 : lw_okq (⟨"FirstWords", "feared", "(Z)I"⟩, 30) := ⟨⟨by decide +kernel, by decide +kernel⟩, lw_t2 (List.mem_of_getElem? (i := 178) rfl), lw_t3 (List.mem_of_getElem? (i := 202) rfl), lw_t3 (List.mem_of_getElem? (i := 203) rfl)⟩
theorem lw_p38 : lw_okq (⟨"FirstWords", "answers", "(III)I"⟩, 30) := ⟨⟨by decide +kernel, by decide +kernel⟩, lw_t2 (List.mem_of_getElem? (i := 178) rfl), lw_t3 (List.mem_of_getElem? (i := 217) rfl), lw_t3 (List.mem_of_getElem? (i := 218) rfl)⟩
theorem lw_p39 : lw_okq (⟨"FirstWords", "worst", "(II)I"⟩, 30) := ⟨⟨by decide +kernel, by decide +kernel⟩, lw_t2 (List.mem_of_getElem? (i := 178) rfl), lw_t3 (List.mem_of_getElem? (i := 233) rfl), lw_t3 (List.mem_of_getElem? (i := 234) rfl)⟩
theorem lw_p40 : lw_okq (⟨"FirstWords", "tells", "(II)Z"⟩, 30) := ⟨⟨by decide +kernel, by decide +kernel⟩, lw_t2 (List.mem_of_getElem? (i := 178) rfl), lw_t4 (List.mem_of_getElem? (i := 5) rfl), lw_t4 (List.mem_of_getElem? (i := 6) rfl)⟩
theorem lw_p41 : lw_okq (⟨"FirstWords", "reads", "(Ljava/lang/Object;III)I"⟩, 30) := ⟨⟨by decide +kernel, by decide +kernel⟩, lw_t2 (List.mem_of_getElem? (i := 178) rfl), lw_t5 (List.mem_of_getElem? (i := 120) rfl), lw_t5 (List.mem_of_getElem? (i := 121) rfl)⟩
theorem lw_p42 : lw_okq (⟨"FirstWordsModel", "firstDraft", "()V"⟩, 45) := ⟨⟨by decide +kernel, by decide +kernel⟩, lw_t5 (List.mem_of_getElem? (i := 149) rfl), lw_t5 (List.mem_of_getElem? (i := 155) rfl), lw_t5 (List.mem_of_getElem? (i := 156) rfl)⟩
theorem lw_p43 : lw_okq (⟨"FirstWordsModel", "keepDraft", "()V"⟩, 45) := ⟨⟨by decide +kernel, by decide +kernel⟩, lw_t5 (List.mem_of_getElem? (i := 149) rfl), lw_t5 (List.mem_of_getElem? (i := 159) rfl), lw_t5 (List.mem_of_getElem? (i := 160) rfl)⟩
theorem lw_p44 : lw_okq (⟨"FirstWordsModel", "replays", "()V"⟩, 45) := ⟨⟨by decide +kernel, by decide +kernel⟩, lw_t5 (List.mem_of_getElem? (i := 149) rfl), lw_t5 (List.mem_of_getElem? (i := 163) rfl), lw_t5 (List.mem_of_getElem? (i := 164) rfl)⟩
theorem lw_p45 : lw_okq (⟨"FirstWordsModel", "wakes", "(I)V"⟩, 45) := ⟨⟨by decide +kernel, by decide +kernel⟩, lw_t5 (List.mem_of_getElem? (i := 149) rfl), lw_t5 (List.mem_of_getElem? (i := 167) rfl), lw_t5 (List.mem_of_getElem? (i := 168) rfl)⟩
theorem lw_p46 : lw_okq (⟨"FirstWordsModel", "sees", "(IIIIZ)V"⟩, 45) := ⟨⟨by decide +kernel, by decide +kernel⟩, lw_t5 (List.mem_of_getElem? (i := 149) rfl), lw_t5 (List.mem_of_getElem? (i := 176) rfl), lw_t5 (List.mem_of_getElem? (i := 177) rfl)⟩
theorem lw_p47 : lw_okq (⟨"FirstWordsModel", "flees", "(II)V"⟩, 45) := ⟨⟨by decide +kernel, by decide +kernel⟩, lw_t5 (List.mem_of_getElem? (i := 149) rfl), lw_t5 (List.mem_of_getElem? (i := 180) rfl), lw_t5 (List.mem_of_getElem? (i := 181) rfl)⟩
def lw_privs_3 : List (MethodName × Nat) := [(⟨"FirstWords$Teaching", "isDone", "(II)Z"⟩, 6), (⟨"FirstWords", "orders", "(III)V"⟩, 30), (⟨"FirstWords", "ordered", "(I)I"⟩, 30), (⟨"FirstWords", "allKinds", "()I"⟩, 30), (⟨"FirstWords", "chances", "(I)I"⟩, 30), (⟨"FirstWords", "feared", "(Z)I"⟩, 30), (⟨"FirstWords", "answers", "(III)I"⟩, 30), (⟨"FirstWords", "worst", "(II)I"⟩, 30), (⟨"FirstWords", "tells", "(II)Z"⟩, 30), (⟨"FirstWords", "reads", "(Ljava/lang/Object;III)I"⟩, 30), (⟨"FirstWordsModel", "firstDraft", "()V"⟩, 45), (⟨"FirstWordsModel", "keepDraft", "()V"⟩, 45), (⟨"FirstWordsModel", "replays", "()V"⟩, 45), (⟨"FirstWordsModel", "wakes", "(I)V"⟩, 45), (⟨"FirstWordsModel", "sees", "(IIIIZ)V"⟩, 45), (⟨"FirstWordsModel", "flees", "(II)V"⟩, 45)]
theorem lw_r3 : ∀ q ∈ lw_privs_3, lw_okq q := List.forall_mem_cons.mpr ⟨lw_p32, List.forall_mem_cons.mpr ⟨lw_p33, List.forall_mem_cons.mpr ⟨lw_p34, List.forall_mem_cons.mpr ⟨lw_p35, List.forall_mem_cons.mpr ⟨lw_p36, List.forall_mem_cons.mpr ⟨lw_p37, List.forall_mem_cons.mpr ⟨lw_p38, List.forall_mem_cons.mpr ⟨lw_p39, List.forall_mem_cons.mpr ⟨lw_p40, List.forall_mem_cons.mpr ⟨lw_p41, List.forall_mem_cons.mpr ⟨lw_p42, List.forall_mem_cons.mpr ⟨lw_p43, List.forall_mem_cons.mpr ⟨lw_p44, List.forall_mem_cons.mpr ⟨lw_p45, List.forall_mem_cons.mpr ⟨lw_p46, List.forall_mem_cons.mpr ⟨lw_p47, fun _ h => absurd h List.not_mem_nil⟩⟩⟩⟩⟩⟩⟩⟩⟩⟩⟩⟩⟩⟩⟩⟩
theorem lw_p48 : lw_okq (⟨"FirstWordsModel", "looks", "(IIIIZ)V"⟩, 45) := ⟨⟨by decide +kernel, by decide +kernel⟩, lw_t5 (List.mem_of_getElem? (i := 149) rfl), lw_t5 (List.mem_of_getElem? (i := 184) rfl), lw_t5 (List.mem_of_getElem? (i := 185) rfl)⟩
theorem lw_p49 : lw_okq (⟨"FirstWordsModel", "allThatFit", "(II)I"⟩, 45) := ⟨⟨by decide +kernel, by decide +kernel⟩, lw_t5 (List.mem_of_getElem? (i := 149) rfl), lw_t5 (List.mem_of_getElem? (i := 188) rfl), lw_t5 (List.mem_of_getElem? (i := 189) rfl)⟩
theorem lw_p50 : lw_okq (⟨"FirstWordsModel", "fitsIn", "(III)Z"⟩, 45) := ⟨⟨by decide +kernel, by decide +kernel⟩, lw_t5 (List.mem_of_getElem? (i := 149) rfl), lw_t5 (List.mem_of_getElem? (i := 192) rfl), lw_t5 (List.mem_of_getElem? (i := 193) rfl)⟩
theorem lw_p51 : lw_okq (⟨"FirstWordsModel", "canThink", "(I)I"⟩, 45) := ⟨⟨by decide +kernel, by decide +kernel⟩, lw_t5 (List.mem_of_getElem? (i := 149) rfl), lw_t5 (List.mem_of_getElem? (i := 196) rfl), lw_t5 (List.mem_of_getElem? (i := 197) rfl)⟩
theorem lw_p52 : lw_okq (⟨"FirstWordsModel", "proudLooks", "(IIIZ)V"⟩, 45) := ⟨⟨by decide +kernel, by decide +kernel⟩, lw_t5 (List.mem_of_getElem? (i := 149) rfl), lw_t5 (List.mem_of_getElem? (i := 203) rfl), lw_t5 (List.mem_of_getElem? (i := 204) rfl)⟩
theorem lw_p53 : lw_okq (⟨"FirstWordsModel", "plainest", "(I)I"⟩, 45) := ⟨⟨by decide +kernel, by decide +kernel⟩, lw_t5 (List.mem_of_getElem? (i := 149) rfl), lw_t5 (List.mem_of_getElem? (i := 207) rfl), lw_t5 (List.mem_of_getElem? (i := 208) rfl)⟩
theorem lw_p54 : lw_okq (⟨"FirstWordsModel", "marksOf", "(I)I"⟩, 45) := ⟨⟨by decide +kernel, by decide +kernel⟩, lw_t5 (List.mem_of_getElem? (i := 149) rfl), lw_t5 (List.mem_of_getElem? (i := 211) rfl), lw_t5 (List.mem_of_getElem? (i := 212) rfl)⟩
theorem lw_p55 : lw_okq (⟨"FirstWordsModel", "areAllOne", "(I)Z"⟩, 45) := ⟨⟨by decide +kernel, by decide +kernel⟩, lw_t5 (List.mem_of_getElem? (i := 149) rfl), lw_t5 (List.mem_of_getElem? (i := 218) rfl), lw_t5 (List.mem_of_getElem? (i := 219) rfl)⟩
theorem lw_p56 : lw_okq (⟨"FirstWordsModel", "next", "()V"⟩, 45) := ⟨⟨by decide +kernel, by decide +kernel⟩, lw_t5 (List.mem_of_getElem? (i := 149) rfl), lw_t6 (List.mem_of_getElem? (i := 132) rfl), lw_t6 (List.mem_of_getElem? (i := 133) rfl)⟩
theorem lw_p57 : lw_okq (⟨"FirstWordsModel", "look", "(I)I"⟩, 45) := ⟨⟨by decide +kernel, by decide +kernel⟩, lw_t5 (List.mem_of_getElem? (i := 149) rfl), lw_t6 (List.mem_of_getElem? (i := 136) rfl), lw_t6 (List.mem_of_getElem? (i := 137) rfl)⟩
theorem lw_p58 : lw_okq (⟨"FirstWordsModel", "needs", "(ZI)V"⟩, 45) := ⟨⟨by decide +kernel, by decide +kernel⟩, lw_t5 (List.mem_of_getElem? (i := 149) rfl), lw_t6 (List.mem_of_getElem? (i := 144) rfl), lw_t6 (List.mem_of_getElem? (i := 145) rfl)⟩
theorem lw_p59 : lw_okq (⟨"FirstWordsModel", "readLine", "()V"⟩, 45) := ⟨⟨by decide +kernel, by decide +kernel⟩, lw_t5 (List.mem_of_getElem? (i := 149) rfl), lw_t6 (List.mem_of_getElem? (i := 148) rfl), lw_t6 (List.mem_of_getElem? (i := 149) rfl)⟩
theorem lw_p60 : lw_okq (⟨"FirstWordsModel", "nameNow", "()I"⟩, 45) := ⟨⟨by decide +kernel, by decide +kernel⟩, lw_t5 (List.mem_of_getElem? (i := 149) rfl), lw_t6 (List.mem_of_getElem? (i := 152) rfl), lw_t6 (List.mem_of_getElem? (i := 153) rfl)⟩
theorem lw_p61 : lw_okq (⟨"FirstWordsModel", "kindNow", "()I"⟩, 45) := ⟨⟨by decide +kernel, by decide +kernel⟩, lw_t5 (List.mem_of_getElem? (i := 149) rfl), lw_t6 (List.mem_of_getElem? (i := 156) rfl), lw_t6 (List.mem_of_getElem? (i := 157) rfl)⟩
theorem lw_p62 : lw_okq (⟨"FirstWordsModel", "is", "(IIIII)Z"⟩, 45) := ⟨⟨by decide +kernel, by decide +kernel⟩, lw_t5 (List.mem_of_getElem? (i := 149) rfl), lw_t6 (List.mem_of_getElem? (i := 160) rfl), lw_t6 (List.mem_of_getElem? (i := 161) rfl)⟩
theorem lw_p63 : lw_okq (⟨"FirstWordsModel", "goesOn", "(III)Z"⟩, 45) := ⟨⟨by decide +kernel, by decide +kernel⟩, lw_t5 (List.mem_of_getElem? (i := 149) rfl), lw_t6 (List.mem_of_getElem? (i := 164) rfl), lw_t6 (List.mem_of_getElem? (i := 165) rfl)⟩
def lw_privs_4 : List (MethodName × Nat) := [(⟨"FirstWordsModel", "looks", "(IIIIZ)V"⟩, 45), (⟨"FirstWordsModel", "allThatFit", "(II)I"⟩, 45), (⟨"FirstWordsModel", "fitsIn", "(III)Z"⟩, 45), (⟨"FirstWordsModel", "canThink", "(I)I"⟩, 45), (⟨"FirstWordsModel", "proudLooks", "(IIIZ)V"⟩, 45), (⟨"FirstWordsModel", "plainest", "(I)I"⟩, 45), (⟨"FirstWordsModel", "marksOf", "(I)I"⟩, 45), (⟨"FirstWordsModel", "areAllOne", "(I)Z"⟩, 45), (⟨"FirstWordsModel", "next", "()V"⟩, 45), (⟨"FirstWordsModel", "look", "(I)I"⟩, 45), (⟨"FirstWordsModel", "needs", "(ZI)V"⟩, 45), (⟨"FirstWordsModel", "readLine", "()V"⟩, 45), (⟨"FirstWordsModel", "nameNow", "()I"⟩, 45), (⟨"FirstWordsModel", "kindNow", "()I"⟩, 45), (⟨"FirstWordsModel", "is", "(IIIII)Z"⟩, 45), (⟨"FirstWordsModel", "goesOn", "(III)Z"⟩, 45)]
theorem lw_r4 : ∀ q ∈ lw_privs_4, lw_okq q := List.forall_mem_cons.mpr ⟨lw_p48, List.forall_mem_cons.mpr ⟨lw_p49, List.forall_mem_cons.mpr ⟨lw_p50, List.forall_mem_cons.mpr ⟨lw_p51, List.forall_mem_cons.mpr ⟨lw_p52, List.forall_mem_cons.mpr ⟨lw_p53, List.forall_mem_cons.mpr ⟨lw_p54, List.forall_mem_cons.mpr ⟨lw_p55, List.forall_mem_cons.mpr ⟨lw_p56, List.forall_mem_cons.mpr ⟨lw_p57, List.forall_mem_cons.mpr ⟨lw_p58, List.forall_mem_cons.mpr ⟨lw_p59, List.forall_mem_cons.mpr ⟨lw_p60, List.forall_mem_cons.mpr ⟨lw_p61, List.forall_mem_cons.mpr ⟨lw_p62, List.forall_mem_cons.mpr ⟨lw_p63, fun _ h => absurd h List.not_mem_nil⟩⟩⟩⟩⟩⟩⟩⟩⟩⟩⟩⟩⟩⟩⟩⟩
theorem lw_p64 : lw_okq (⟨"FirstWordsModel", "readMarks", "(I)I"⟩, 45) := ⟨⟨by decide +kernel, by decide +kernel⟩, lw_t5 (List.mem_of_getElem? (i := 149) rfl), lw_t6 (List.mem_of_getElem? (i := 171) rfl), lw_t6 (List.mem_of_getElem? (i := 172) rfl)⟩
theorem lw_p65 : lw_okq (⟨"FirstWordsModel", "readMeans", "()V"⟩, 45) := ⟨⟨by decide +kernel, by decide +kernel⟩, lw_t5 (List.mem_of_getElem? (i := 149) rfl), lw_t6 (List.mem_of_getElem? (i := 175) rfl), lw_t6 (List.mem_of_getElem? (i := 176) rfl)⟩
theorem lw_p66 : lw_okq (⟨"FirstWordsModel", "readNumber", "(II)I"⟩, 45) := ⟨⟨by decide +kernel, by decide +kernel⟩, lw_t5 (List.mem_of_getElem? (i := 149) rfl), lw_t6 (List.mem_of_getElem? (i := 179) rfl), lw_t6 (List.mem_of_getElem? (i := 180) rfl)⟩
theorem lw_p67 : lw_okq (⟨"FirstWordsModel", "readKind", "(I)V"⟩, 45) := ⟨⟨by decide +kernel, by decide +kernel⟩, lw_t5 (List.mem_of_getElem? (i := 149) rfl), lw_t6 (List.mem_of_getElem? (i := 183) rfl), lw_t6 (List.mem_of_getElem? (i := 184) rfl)⟩
theorem lw_p68 : lw_okq (⟨"FirstWordsModel", "isThing", "(I)Z"⟩, 45) := ⟨⟨by decide +kernel, by decide +kernel⟩, lw_t5 (List.mem_of_getElem? (i := 149) rfl), lw_t6 (List.mem_of_getElem? (i := 197) rfl), lw_t6 (List.mem_of_getElem? (i := 198) rfl)⟩
theorem lw_p69 : lw_okq (⟨"FirstWordsModel", "isSound", "(I)Z"⟩, 45) := ⟨⟨by decide +kernel, by decide +kernel⟩, lw_t5 (List.mem_of_getElem? (i := 149) rfl), lw_t6 (List.mem_of_getElem? (i := 209) rfl), lw_t6 (List.mem_of_getElem? (i := 210) rfl)⟩
theorem lw_p70 : lw_okq (⟨"FirstWordsModel", "isKind", "(I)Z"⟩, 45) := ⟨⟨by decide +kernel, by decide +kernel⟩, lw_t5 (List.mem_of_getElem? (i := 149) rfl), lw_t6 (List.mem_of_getElem? (i := 217) rfl), lw_t6 (List.mem_of_getElem? (i := 218) rfl)⟩
theorem lw_p71 : lw_okq (⟨"FirstWordsModel", "adds", "(IIZ)I"⟩, 45) := ⟨⟨by decide +kernel, by decide +kernel⟩, lw_t5 (List.mem_of_getElem? (i := 149) rfl), lw_t6 (List.mem_of_getElem? (i := 226) rfl), lw_t6 (List.mem_of_getElem? (i := 227) rfl)⟩
theorem lw_p72 : lw_okq (⟨"FirstWordsModel", "isTrue", "(II)Z"⟩, 45) := ⟨⟨by decide +kernel, by decide +kernel⟩, lw_t5 (List.mem_of_getElem? (i := 149) rfl), lw_t6 (List.mem_of_getElem? (i := 234) rfl), lw_t6 (List.mem_of_getElem? (i := 235) rfl)⟩
theorem lw_p73 : lw_okq (⟨"FirstWordsModel", "targetOf", "(I)I"⟩, 45) := ⟨⟨by decide +kernel, by decide +kernel⟩, lw_t5 (List.mem_of_getElem? (i := 149) rfl), lw_t6 (List.mem_of_getElem? (i := 238) rfl), lw_t6 (List.mem_of_getElem? (i := 239) rfl)⟩
theorem lw_p74 : lw_okq (⟨"FirstWordsModel", "isSame", "(III)Z"⟩, 45) := ⟨⟨by decide +kernel, by decide +kernel⟩, lw_t5 (List.mem_of_getElem? (i := 149) rfl), lw_t7 (List.mem_of_getElem? (i := 27) rfl), lw_t7 (List.mem_of_getElem? (i := 28) rfl)⟩
theorem lw_p75 : lw_okq (⟨"FirstWordsModel", "areKinds", "(I)Z"⟩, 45) := ⟨⟨by decide +kernel, by decide +kernel⟩, lw_t5 (List.mem_of_getElem? (i := 149) rfl), lw_t7 (List.mem_of_getElem? (i := 43) rfl), lw_t7 (List.mem_of_getElem? (i := 44) rfl)⟩
theorem lw_p76 : lw_okq (⟨"FirstWordsModel", "isSameForAll", "(III)Z"⟩, 45) := ⟨⟨by decide +kernel, by decide +kernel⟩, lw_t5 (List.mem_of_getElem? (i := 149) rfl), lw_t7 (List.mem_of_getElem? (i := 47) rfl), lw_t7 (List.mem_of_getElem? (i := 48) rfl)⟩
theorem lw_p77 : lw_okq (⟨"FirstWordsModel", "copies", "(II)V"⟩, 45) := ⟨⟨by decide +kernel, by decide +kernel⟩, lw_t5 (List.mem_of_getElem? (i := 149) rfl), lw_t7 (List.mem_of_getElem? (i := 55) rfl), lw_t7 (List.mem_of_getElem? (i := 56) rfl)⟩
theorem lw_p78 : lw_okq (⟨"FirstWordsModel", "fewest", "(III)I"⟩, 45) := ⟨⟨by decide +kernel, by decide +kernel⟩, lw_t5 (List.mem_of_getElem? (i := 149) rfl), lw_t7 (List.mem_of_getElem? (i := 59) rfl), lw_t7 (List.mem_of_getElem? (i := 60) rfl)⟩
theorem lw_p79 : lw_okq (⟨"FirstWordsModel", "teaches", "(III)Z"⟩, 45) := ⟨⟨by decide +kernel, by decide +kernel⟩, lw_t5 (List.mem_of_getElem? (i := 149) rfl), lw_t7 (List.mem_of_getElem? (i := 63) rfl), lw_t7 (List.mem_of_getElem? (i := 64) rfl)⟩
def lw_privs_5 : List (MethodName × Nat) := [(⟨"FirstWordsModel", "readMarks", "(I)I"⟩, 45), (⟨"FirstWordsModel", "readMeans", "()V"⟩, 45), (⟨"FirstWordsModel", "readNumber", "(II)I"⟩, 45), (⟨"FirstWordsModel", "readKind", "(I)V"⟩, 45), (⟨"FirstWordsModel", "isThing", "(I)Z"⟩, 45), (⟨"FirstWordsModel", "isSound", "(I)Z"⟩, 45), (⟨"FirstWordsModel", "isKind", "(I)Z"⟩, 45), (⟨"FirstWordsModel", "adds", "(IIZ)I"⟩, 45), (⟨"FirstWordsModel", "isTrue", "(II)Z"⟩, 45), (⟨"FirstWordsModel", "targetOf", "(I)I"⟩, 45), (⟨"FirstWordsModel", "isSame", "(III)Z"⟩, 45), (⟨"FirstWordsModel", "areKinds", "(I)Z"⟩, 45), (⟨"FirstWordsModel", "isSameForAll", "(III)Z"⟩, 45), (⟨"FirstWordsModel", "copies", "(II)V"⟩, 45), (⟨"FirstWordsModel", "fewest", "(III)I"⟩, 45), (⟨"FirstWordsModel", "teaches", "(III)Z"⟩, 45)]
theorem lw_r5 : ∀ q ∈ lw_privs_5, lw_okq q := List.forall_mem_cons.mpr ⟨lw_p64, List.forall_mem_cons.mpr ⟨lw_p65, List.forall_mem_cons.mpr ⟨lw_p66, List.forall_mem_cons.mpr ⟨lw_p67, List.forall_mem_cons.mpr ⟨lw_p68, List.forall_mem_cons.mpr ⟨lw_p69, List.forall_mem_cons.mpr ⟨lw_p70, List.forall_mem_cons.mpr ⟨lw_p71, List.forall_mem_cons.mpr ⟨lw_p72, List.forall_mem_cons.mpr ⟨lw_p73, List.forall_mem_cons.mpr ⟨lw_p74, List.forall_mem_cons.mpr ⟨lw_p75, List.forall_mem_cons.mpr ⟨lw_p76, List.forall_mem_cons.mpr ⟨lw_p77, List.forall_mem_cons.mpr ⟨lw_p78, List.forall_mem_cons.mpr ⟨lw_p79, fun _ h => absurd h List.not_mem_nil⟩⟩⟩⟩⟩⟩⟩⟩⟩⟩⟩⟩⟩⟩⟩⟩
theorem lw_p80 : lw_okq (⟨"FirstWordsModel", "hasFled", "(II)Z"⟩, 45) := ⟨⟨by decide +kernel, by decide +kernel⟩, lw_t5 (List.mem_of_getElem? (i := 149) rfl), lw_t7 (List.mem_of_getElem? (i := 67) rfl), lw_t7 (List.mem_of_getElem? (i := 68) rfl)⟩
theorem lw_p81 : lw_okq (⟨"FirstWordsModel", "nextRow", "(I)Z"⟩, 45) := ⟨⟨by decide +kernel, by decide +kernel⟩, lw_t5 (List.mem_of_getElem? (i := 149) rfl), lw_t7 (List.mem_of_getElem? (i := 71) rfl), lw_t7 (List.mem_of_getElem? (i := 72) rfl)⟩
theorem lw_p82 : lw_okq (⟨"FirstWordsModel", "areUnlike", "()Z"⟩, 45) := ⟨⟨by decide +kernel, by decide +kernel⟩, lw_t5 (List.mem_of_getElem? (i := 149) rfl), lw_t7 (List.mem_of_getElem? (i := 83) rfl), lw_t7 (List.mem_of_getElem? (i := 84) rfl)⟩
theorem lw_p83 : lw_okq (⟨"FirstWordsModel", "taken", "(I)I"⟩, 45) := ⟨⟨by decide +kernel, by decide +kernel⟩, lw_t5 (List.mem_of_getElem? (i := 149) rfl), lw_t7 (List.mem_of_getElem? (i := 87) rfl), lw_t7 (List.mem_of_getElem? (i := 88) rfl)⟩
theorem lw_p84 : lw_okq (⟨"FirstWordsModel", "allChances", "()I"⟩, 45) := ⟨⟨by decide +kernel, by decide +kernel⟩, lw_t5 (List.mem_of_getElem? (i := 149) rfl), lw_t7 (List.mem_of_getElem? (i := 95) rfl), lw_t7 (List.mem_of_getElem? (i := 96) rfl)⟩
theorem lw_p85 : lw_okq (⟨"FirstWordsModel", "chanceOf", "(I)I"⟩, 45) := ⟨⟨by decide +kernel, by decide +kernel⟩, lw_t5 (List.mem_of_getElem? (i := 149) rfl), lw_t7 (List.mem_of_getElem? (i := 99) rfl), lw_t7 (List.mem_of_getElem? (i := 100) rfl)⟩
theorem lw_p86 : lw_okq (⟨"FirstWordsModel", "feared", "(Z)I"⟩, 45) := ⟨⟨by decide +kernel, by decide +kernel⟩, lw_t5 (List.mem_of_getElem? (i := 149) rfl), lw_t7 (List.mem_of_getElem? (i := 103) rfl), lw_t7 (List.mem_of_getElem? (i := 104) rfl)⟩
theorem lw_p87 : lw_okq (⟨"FirstWordsModel", "answerOf", "(III)I"⟩, 45) := ⟨⟨by decide +kernel, by decide +kernel⟩, lw_t5 (List.mem_of_getElem? (i := 149) rfl), lw_t7 (List.mem_of_getElem? (i := 118) rfl), lw_t7 (List.mem_of_getElem? (i := 119) rfl)⟩
theorem lw_p88 : lw_okq (⟨"FirstWordsModel", "whoSay", "(III)I"⟩, 45) := ⟨⟨by decide +kernel, by decide +kernel⟩, lw_t5 (List.mem_of_getElem? (i := 149) rfl), lw_t7 (List.mem_of_getElem? (i := 126) rfl), lw_t7 (List.mem_of_getElem? (i := 127) rfl)⟩
theorem lw_p89 : lw_okq (⟨"FirstWordsModel", "fitsTheirs", "()I"⟩, 45) := ⟨⟨by decide +kernel, by decide +kernel⟩, lw_t5 (List.mem_of_getElem? (i := 149) rfl), lw_t7 (List.mem_of_getElem? (i := 158) rfl), lw_t7 (List.mem_of_getElem? (i := 159) rfl)⟩
theorem lw_p90 : lw_okq (⟨"FirstWordsModel", "toAsk", "(I)I"⟩, 45) := ⟨⟨by decide +kernel, by decide +kernel⟩, lw_t5 (List.mem_of_getElem? (i := 149) rfl), lw_t7 (List.mem_of_getElem? (i := 162) rfl), lw_t7 (List.mem_of_getElem? (i := 163) rfl)⟩
def lw_privs_6 : List (MethodName × Nat) := [(⟨"FirstWordsModel", "hasFled", "(II)Z"⟩, 45), (⟨"FirstWordsModel", "nextRow", "(I)Z"⟩, 45), (⟨"FirstWordsModel", "areUnlike", "()Z"⟩, 45), (⟨"FirstWordsModel", "taken", "(I)I"⟩, 45), (⟨"FirstWordsModel", "allChances", "()I"⟩, 45), (⟨"FirstWordsModel", "chanceOf", "(I)I"⟩, 45), (⟨"FirstWordsModel", "feared", "(Z)I"⟩, 45), (⟨"FirstWordsModel", "answerOf", "(III)I"⟩, 45), (⟨"FirstWordsModel", "whoSay", "(III)I"⟩, 45), (⟨"FirstWordsModel", "fitsTheirs", "()I"⟩, 45), (⟨"FirstWordsModel", "toAsk", "(I)I"⟩, 45)]
theorem lw_r6 : ∀ q ∈ lw_privs_6, lw_okq q := List.forall_mem_cons.mpr ⟨lw_p80, List.forall_mem_cons.mpr ⟨lw_p81, List.forall_mem_cons.mpr ⟨lw_p82, List.forall_mem_cons.mpr ⟨lw_p83, List.forall_mem_cons.mpr ⟨lw_p84, List.forall_mem_cons.mpr ⟨lw_p85, List.forall_mem_cons.mpr ⟨lw_p86, List.forall_mem_cons.mpr ⟨lw_p87, List.forall_mem_cons.mpr ⟨lw_p88, List.forall_mem_cons.mpr ⟨lw_p89, List.forall_mem_cons.mpr ⟨lw_p90, fun _ h => absurd h List.not_mem_nil⟩⟩⟩⟩⟩⟩⟩⟩⟩⟩⟩
def lw_privs : List (MethodName × Nat) := lw_privs_1 ++ (lw_privs_2 ++ (lw_privs_3 ++ (lw_privs_4 ++ (lw_privs_5 ++ (lw_privs_6)))))
def lw_tbl : List Cond := k2_sels lw_privs ++ tables_1
theorem lw_privs_ok : ∀ q ∈ lw_privs, lw_okq q := by
  show ∀ q ∈ lw_privs_1 ++ (lw_privs_2 ++ (lw_privs_3 ++ (lw_privs_4 ++ (lw_privs_5 ++ (lw_privs_6))))), lw_okq q
  exact List.forall_mem_append.mpr ⟨lw_r1, List.forall_mem_append.mpr ⟨lw_r2, List.forall_mem_append.mpr ⟨lw_r3, List.forall_mem_append.mpr ⟨lw_r4, List.forall_mem_append.mpr ⟨lw_r5, lw_r6⟩⟩⟩⟩⟩
-- ===== ONE list of words for every method: the tables' words that hold all through a run =====
def lw_all : List Cond := lw_tbl.filter goodWord
/-- a word of the tables by its place: claim/WORDS.tsv -/
theorem lw_w {w : Cond} (i : Nat) (h : lw_tbl[i]? = some w) (g : goodWord w = true) : w ∈ lw_all := List.mem_filter.mpr ⟨List.mem_of_getElem? h, g⟩
theorem lw_all_tbl {w : Cond} (h : w ∈ lw_all) : w ∈ lw_tbl := (List.mem_filter.mp h).1
theorem lw_self : GoodIn lw_all lw_all := fun w h => ⟨h, good_of_word (List.mem_filter.mp h).2⟩
/-- a class's field words, by their places -/
theorem lw_in (ws : List Cond) (ps : List Nat) (hp : ws = ps.filterMap (fun i => lw_tbl[i]?)) (hg : ws.all goodWord = true) : ∀ w ∈ ws, w ∈ lw_all := by
  intro w h
  have h1 := List.all_eq_true.mp hg w h
  rw [hp] at h
  obtain ⟨i, -, hi⟩ := List.mem_filterMap.mp h
  exact lw_w i hi h1
/-- the words of a contract for the method y with code b, L locals, answer r -/
abbrev ws_ (y : MethodName) (b : ByteArray) (L : Nat) (r : Option FieldType) : List Cond := Cond.code y b L r :: lw_all
theorem lw_meth {y : MethodName} {b : ByteArray} {L : Nat} {r : Option FieldType} (h : Cond.code y b L r ∈ lw_all) : GoodIn lw_all (ws_ y b L r) := by
  intro w hw
  rcases List.mem_cons.mp hw with e | e
  · rw [e]
    exact lw_self _ h
  · exact lw_self _ e
theorem lw_app {a c : List Cond} (ha : ∀ w ∈ a, w ∈ lw_all) (hc : GoodIn lw_all c) : GoodIn lw_all (a ++ c) := by
  intro w hw
  rcases List.mem_append.mp hw with e | e
  · exact lw_self w (ha w e)
  · exact hc w e
/-- what a call through an object asks: cwV n hts (lw_V ..) -/
theorem lw_V {own : String} {idx : Nat} {C : String} {y : MethodName} {b : ByteArray} {L : Nat} {r : Option FieldType} (h1 : Cond.methodLink own idx y ∈ lw_all) (h2 : Cond.instanceMethod y ∈ lw_all) (h3 : Cond.selects C y y ∈ lw_all) (h4 : Cond.initialized C ∈ lw_all) (h5 : Cond.code y b L r ∈ lw_all) : GoodIn lw_all (wsV own idx C y (ws_ y b L r)) := by
  refine lw_app ?_ (lw_meth h5)
  intro w hw
  simp only [List.mem_cons, List.not_mem_nil, or_false] at hw
  rcases hw with e | e | e | e
  · rw [e]; exact h1
  · rw [e]; exact h2
  · rw [e]; exact h3
  · rw [e]; exact h4
/-- what a static call asks: va_cwS n hts (lw_S ..) -/
theorem lw_S {own : String} {idx : Nat} {y : MethodName} {b : ByteArray} {L : Nat} {r : Option FieldType} (h1 : Cond.methodLink own idx y ∈ lw_all) (h2 : Cond.static y ∈ lw_all) (h3 : Cond.initialized y.cls ∈ lw_all) (h4 : Cond.code y b L r ∈ lw_all) : GoodIn lw_all (va_wsS own idx y (ws_ y b L r)) := by
  refine lw_app ?_ (lw_meth h4)
  intro w hw
  simp only [List.mem_cons, List.not_mem_nil, or_false] at hw
  rcases hw with e | e | e
  · rw [e]; exact h1
  · rw [e]; exact h2
  · rw [e]; exact h3
/-- the words of a contract for a method WITH HANDLERS (hh: its table) -/
abbrev wsW_ (y : MethodName) (b : ByteArray) (L : Nat) (r : Option FieldType) (hh : List (Nat × Nat × Nat × Nat)) : List Cond := Cond.codeWith y b L r hh :: lw_all
theorem lw_methW {y : MethodName} {b : ByteArray} {L : Nat} {r : Option FieldType} {hh : List (Nat × Nat × Nat × Nat)} (h : Cond.codeWith y b L r hh ∈ lw_all) : GoodIn lw_all (wsW_ y b L r hh) := by
  intro w hw
  rcases List.mem_cons.mp hw with e | e
  · rw [e]
    exact lw_self _ h
  · exact lw_self _ e
/-- any list of words by their places (lw_in), good -/
theorem lw_good {ws : List Cond} (h : ∀ w ∈ ws, w ∈ lw_all) : GoodIn lw_all ws := fun w hw => lw_self w (h w hw)
/-- what a call of a method with handlers asks: vx_cwVW n hts (lw_VW ..), vx_cwSW n hts (lw_SW ..) -/
theorem lw_VW {own : String} {idx : Nat} {C : String} {y : MethodName} {b : ByteArray} {L : Nat} {r : Option FieldType} {hh : List (Nat × Nat × Nat × Nat)} (h1 : Cond.methodLink own idx y ∈ lw_all) (h2 : Cond.instanceMethod y ∈ lw_all) (h3 : Cond.selects C y y ∈ lw_all) (h4 : Cond.initialized C ∈ lw_all) (h5 : Cond.codeWith y b L r hh ∈ lw_all) : GoodIn lw_all (wsV own idx C y (wsW_ y b L r hh)) := by
  refine lw_app ?_ (lw_methW h5)
  intro w hw
  simp only [List.mem_cons, List.not_mem_nil, or_false] at hw
  rcases hw with e | e | e | e
  · rw [e]; exact h1
  · rw [e]; exact h2
  · rw [e]; exact h3
  · rw [e]; exact h4
theorem lw_SW {own : String} {idx : Nat} {y : MethodName} {b : ByteArray} {L : Nat} {r : Option FieldType} {hh : List (Nat × Nat × Nat × Nat)} (h1 : Cond.methodLink own idx y ∈ lw_all) (h2 : Cond.static y ∈ lw_all) (h3 : Cond.initialized y.cls ∈ lw_all) (h4 : Cond.codeWith y b L r hh ∈ lw_all) : GoodIn lw_all (va_wsS own idx y (wsW_ y b L r hh)) := by
  refine lw_app ?_ (lw_methW h4)
  intro w hw
  simp only [List.mem_cons, List.not_mem_nil, or_false] at hw
  rcases hw with e | e | e
  · rw [e]; exact h1
  · rw [e]; exact h2
  · rw [e]; exact h3
/-- a word by its place in its run of the tables -/
theorem lw_at {r : List Cond} (hr : ∀ w ∈ r, w ∈ lw_tbl) {w : Cond} (i : Nat) (h : r[i]? = some w) : w ∈ lw_tbl := hr w (List.mem_of_getElem? h)
theorem lw_g {w : Cond} (h : w ∈ lw_tbl) (g : goodWord w = true) : w ∈ lw_all := List.mem_filter.mpr ⟨h, g⟩
theorem lw_ms : ∀ w ∈ k2_sels lw_privs, w ∈ lw_tbl := fun w h => show w ∈ k2_sels lw_privs ++ tables_1 from List.mem_append_left _ h
theorem lw_m1 : ∀ w ∈ tables_1_1, w ∈ lw_tbl := fun w h => show w ∈ k2_sels lw_privs ++ tables_1 from List.mem_append_right (k2_sels lw_privs) (show w ∈ tables_1 from List.mem_append_left _ h)
theorem lw_m2 : ∀ w ∈ tables_1_2, w ∈ lw_tbl := fun w h => show w ∈ k2_sels lw_privs ++ tables_1 from List.mem_append_right (k2_sels lw_privs) (show w ∈ tables_1 from List.mem_append_right _ (List.mem_append_left _ h))
theorem lw_m3 : ∀ w ∈ tables_1_3, w ∈ lw_tbl := fun w h => show w ∈ k2_sels lw_privs ++ tables_1 from List.mem_append_right (k2_sels lw_privs) (show w ∈ tables_1 from List.mem_append_right _ (List.mem_append_right _ (List.mem_append_left _ h)))
theorem lw_m4 : ∀ w ∈ tables_1_4, w ∈ lw_tbl := fun w h => show w ∈ k2_sels lw_privs ++ tables_1 from List.mem_append_right (k2_sels lw_privs) (show w ∈ tables_1 from List.mem_append_right _ (List.mem_append_right _ (List.mem_append_right _ (List.mem_append_left _ h))))
theorem lw_m5 : ∀ w ∈ tables_1_5, w ∈ lw_tbl := fun w h => show w ∈ k2_sels lw_privs ++ tables_1 from List.mem_append_right (k2_sels lw_privs) (show w ∈ tables_1 from List.mem_append_right _ (List.mem_append_right _ (List.mem_append_right _ (List.mem_append_right _ (List.mem_append_left _ h)))))
theorem lw_m6 : ∀ w ∈ tables_1_6, w ∈ lw_tbl := fun w h => show w ∈ k2_sels lw_privs ++ tables_1 from List.mem_append_right (k2_sels lw_privs) (show w ∈ tables_1 from List.mem_append_right _ (List.mem_append_right _ (List.mem_append_right _ (List.mem_append_right _ (List.mem_append_right _ (List.mem_append_left _ h))))))
theorem lw_m7 : ∀ w ∈ tables_1_7, w ∈ lw_tbl := fun w h => show w ∈ k2_sels lw_privs ++ tables_1 from List.mem_append_right (k2_sels lw_privs) (show w ∈ tables_1 from List.mem_append_right _ (List.mem_append_right _ (List.mem_append_right _ (List.mem_append_right _ (List.mem_append_right _ (List.mem_append_right _ h))))))
theorem qs0 : (Cond.selects "FirstWords$Reader" ⟨"FirstWords$Reader", "next", "()V"⟩ ⟨"FirstWords$Reader", "next", "()V"⟩) ∈ lw_all := lw_g (lw_at lw_ms 0 rfl) rfl
theorem qs1 : (Cond.selects "FirstWords$Reader" ⟨"FirstWords$Reader", "at", "(I)I"⟩ ⟨"FirstWords$Reader", "at", "(I)I"⟩) ∈ lw_all := lw_g (lw_at lw_ms 1 rfl) rfl
theorem qs2 : (Cond.selects "FirstWords$Reader" ⟨"FirstWords$Reader", "must", "(ZI)V"⟩ ⟨"FirstWords$Reader", "must", "(ZI)V"⟩) ∈ lw_all := lw_g (lw_at lw_ms 2 rfl) rfl
theorem qs3 : (Cond.selects "java/lang/NullPointerException" ⟨"java/lang/NullPointerException", "getExtendedNPEMessage", "()Ljava/lang/String;"⟩ ⟨"java/lang/NullPointerException", "getExtendedNPEMessage", "()Ljava/lang/String;"⟩) ∈ lw_all := lw_g (lw_at lw_ms 3 rfl) rfl
theorem qs4 : (Cond.selects "java/lang/Throwable" ⟨"java/lang/Throwable", "fillInStackTrace", "(I)Ljava/lang/Throwable;"⟩ ⟨"java/lang/Throwable", "fillInStackTrace", "(I)Ljava/lang/Throwable;"⟩) ∈ lw_all := lw_g (lw_at lw_ms 4 rfl) rfl
theorem qs5 : (Cond.selects "FirstWords$Reader" ⟨"FirstWords$Reader", "line", "()V"⟩ ⟨"FirstWords$Reader", "line", "()V"⟩) ∈ lw_all := lw_g (lw_at lw_ms 5 rfl) rfl
theorem qs6 : (Cond.selects "FirstWords$Reader" ⟨"FirstWords$Reader", "which", "([Ljava/lang/String;)I"⟩ ⟨"FirstWords$Reader", "which", "([Ljava/lang/String;)I"⟩) ∈ lw_all := lw_g (lw_at lw_ms 6 rfl) rfl
theorem qs7 : (Cond.selects "FirstWords$Reader" ⟨"FirstWords$Reader", "isWord", "(Ljava/lang/String;)Z"⟩ ⟨"FirstWords$Reader", "isWord", "(Ljava/lang/String;)Z"⟩) ∈ lw_all := lw_g (lw_at lw_ms 7 rfl) rfl
theorem qs8 : (Cond.selects "FirstWords$Reader" ⟨"FirstWords$Reader", "letters", "(I)I"⟩ ⟨"FirstWords$Reader", "letters", "(I)I"⟩) ∈ lw_all := lw_g (lw_at lw_ms 8 rfl) rfl
theorem qs9 : (Cond.selects "FirstWords$Reader" ⟨"FirstWords$Reader", "meaning", "()V"⟩ ⟨"FirstWords$Reader", "meaning", "()V"⟩) ∈ lw_all := lw_g (lw_at lw_ms 9 rfl) rfl
theorem qs10 : (Cond.selects "FirstWords$Reader" ⟨"FirstWords$Reader", "number", "(II)I"⟩ ⟨"FirstWords$Reader", "number", "(II)I"⟩) ∈ lw_all := lw_g (lw_at lw_ms 10 rfl) rfl
theorem qs11 : (Cond.selects "FirstWords$Reader" ⟨"FirstWords$Reader", "stranger", "(I)V"⟩ ⟨"FirstWords$Reader", "stranger", "(I)V"⟩) ∈ lw_all := lw_g (lw_at lw_ms 11 rfl) rfl
theorem qs12 : (Cond.selects "FirstWords$Reader" ⟨"FirstWords$Reader", "with", "(LFirstWords$Stranger;I)V"⟩ ⟨"FirstWords$Reader", "with", "(LFirstWords$Stranger;I)V"⟩) ∈ lw_all := lw_g (lw_at lw_ms 12 rfl) rfl
theorem qs13 : (Cond.selects "FirstWords" ⟨"FirstWords", "begins", "()V"⟩ ⟨"FirstWords", "begins", "()V"⟩) ∈ lw_all := lw_g (lw_at lw_ms 13 rfl) rfl
theorem qs14 : (Cond.selects "FirstWords" ⟨"FirstWords", "isNew", "()V"⟩ ⟨"FirstWords", "isNew", "()V"⟩) ∈ lw_all := lw_g (lw_at lw_ms 14 rfl) rfl
theorem qs15 : (Cond.selects "FirstWords" ⟨"FirstWords", "isThing", "(I)Z"⟩ ⟨"FirstWords", "isThing", "(I)Z"⟩) ∈ lw_all := lw_g (lw_at lw_ms 15 rfl) rfl
theorem qs16 : (Cond.selects "FirstWords" ⟨"FirstWords", "isMeaning", "(I)Z"⟩ ⟨"FirstWords", "isMeaning", "(I)Z"⟩) ∈ lw_all := lw_g (lw_at lw_ms 16 rfl) rfl
theorem qs17 : (Cond.selects "FirstWords" ⟨"FirstWords", "isSound", "(I)Z"⟩ ⟨"FirstWords", "isSound", "(I)Z"⟩) ∈ lw_all := lw_g (lw_at lw_ms 17 rfl) rfl
theorem qs18 : (Cond.selects "FirstWords" ⟨"FirstWords", "isKind", "(I)Z"⟩ ⟨"FirstWords", "isKind", "(I)Z"⟩) ∈ lw_all := lw_g (lw_at lw_ms 18 rfl) rfl
theorem qs19 : (Cond.selects "FirstWords" ⟨"FirstWords", "shows", "(IIZ)I"⟩ ⟨"FirstWords", "shows", "(IIZ)I"⟩) ∈ lw_all := lw_g (lw_at lw_ms 19 rfl) rfl
theorem qs20 : (Cond.selects "FirstWords" ⟨"FirstWords", "adds", "(IIZ)V"⟩ ⟨"FirstWords", "adds", "(IIZ)V"⟩) ∈ lw_all := lw_g (lw_at lw_ms 20 rfl) rfl
theorem qs21 : (Cond.selects "FirstWords" ⟨"FirstWords", "goes", "(IIIZ)V"⟩ ⟨"FirstWords", "goes", "(IIIZ)V"⟩) ∈ lw_all := lw_g (lw_at lw_ms 21 rfl) rfl
theorem qs22 : (Cond.selects "FirstWords" ⟨"FirstWords", "fitting", "(IIZ)I"⟩ ⟨"FirstWords", "fitting", "(IIZ)I"⟩) ∈ lw_all := lw_g (lw_at lw_ms 22 rfl) rfl
theorem qs23 : (Cond.selects "FirstWords" ⟨"FirstWords", "plainest", "(I)I"⟩ ⟨"FirstWords", "plainest", "(I)I"⟩) ∈ lw_all := lw_g (lw_at lw_ms 23 rfl) rfl
theorem qs24 : (Cond.selects "FirstWords" ⟨"FirstWords", "target", "(I)LFirstWords$Meaning;"⟩ ⟨"FirstWords", "target", "(I)LFirstWords$Meaning;"⟩) ∈ lw_all := lw_g (lw_at lw_ms 24 rfl) rfl
theorem qs25 : (Cond.selects "FirstWords" ⟨"FirstWords", "goesAll", "()V"⟩ ⟨"FirstWords", "goesAll", "()V"⟩) ∈ lw_all := lw_g (lw_at lw_ms 25 rfl) rfl
theorem qs26 : (Cond.selects "FirstWords" ⟨"FirstWords", "isSame", "(LFirstWords$Mind;I)Z"⟩ ⟨"FirstWords", "isSame", "(LFirstWords$Mind;I)Z"⟩) ∈ lw_all := lw_g (lw_at lw_ms 26 rfl) rfl
theorem qs27 : (Cond.selects "FirstWords" ⟨"FirstWords", "areKinds", "(I)Z"⟩ ⟨"FirstWords", "areKinds", "(I)Z"⟩) ∈ lw_all := lw_g (lw_at lw_ms 27 rfl) rfl
theorem qs28 : (Cond.selects "FirstWords$Teaching" ⟨"FirstWords$Teaching", "from", "(I[LFirstWords$Mind;I)V"⟩ ⟨"FirstWords$Teaching", "from", "(I[LFirstWords$Mind;I)V"⟩) ∈ lw_all := lw_g (lw_at lw_ms 28 rfl) rfl
theorem qs29 : (Cond.selects "FirstWords$Teaching" ⟨"FirstWords$Teaching", "fewest", "(II)I"⟩ ⟨"FirstWords$Teaching", "fewest", "(II)I"⟩) ∈ lw_all := lw_g (lw_at lw_ms 29 rfl) rfl
theorem qs30 : (Cond.selects "FirstWords$Teaching" ⟨"FirstWords$Teaching", "isCalm", "(I)Z"⟩ ⟨"FirstWords$Teaching", "isCalm", "(I)Z"⟩) ∈ lw_all := lw_g (lw_at lw_ms 30 rfl) rfl
theorem qs31 : (Cond.selects "FirstWords$Teaching" ⟨"FirstWords$Teaching", "tries", "(II)Z"⟩ ⟨"FirstWords$Teaching", "tries", "(II)Z"⟩) ∈ lw_all := lw_g (lw_at lw_ms 31 rfl) rfl
theorem qs32 : (Cond.selects "FirstWords$Teaching" ⟨"FirstWords$Teaching", "isDone", "(II)Z"⟩ ⟨"FirstWords$Teaching", "isDone", "(II)Z"⟩) ∈ lw_all := lw_g (lw_at lw_ms 32 rfl) rfl
theorem qs33 : (Cond.selects "FirstWords" ⟨"FirstWords", "orders", "(III)V"⟩ ⟨"FirstWords", "orders", "(III)V"⟩) ∈ lw_all := lw_g (lw_at lw_ms 33 rfl) rfl
theorem qs34 : (Cond.selects "FirstWords" ⟨"FirstWords", "ordered", "(I)I"⟩ ⟨"FirstWords", "ordered", "(I)I"⟩) ∈ lw_all := lw_g (lw_at lw_ms 34 rfl) rfl
theorem qs35 : (Cond.selects "FirstWords" ⟨"FirstWords", "allKinds", "()I"⟩ ⟨"FirstWords", "allKinds", "()I"⟩) ∈ lw_all := lw_g (lw_at lw_ms 35 rfl) rfl
theorem qs36 : (Cond.selects "FirstWords" ⟨"FirstWords", "chances", "(I)I"⟩ ⟨"FirstWords", "chances", "(I)I"⟩) ∈ lw_all := lw_g (lw_at lw_ms 36 rfl) rfl
theorem qs37 : (Cond.selects "FirstWords" ⟨"FirstWords", "feared", "(Z)I"⟩ ⟨"FirstWords", "feared", "(Z)I"⟩) ∈ lw_all := lw_g (lw_at lw_ms 37 rfl) rfl
theorem qs38 : (Cond.selects "FirstWords" ⟨"FirstWords", "answers", "(III)I"⟩ ⟨"FirstWords", "answers", "(III)I"⟩) ∈ lw_all := lw_g (lw_at lw_ms 38 rfl) rfl
theorem qs39 : (Cond.selects "FirstWords" ⟨"FirstWords", "worst", "(II)I"⟩ ⟨"FirstWords", "worst", "(II)I"⟩) ∈ lw_all := lw_g (lw_at lw_ms 39 rfl) rfl
theorem qs40 : (Cond.selects "FirstWords" ⟨"FirstWords", "tells", "(II)Z"⟩ ⟨"FirstWords", "tells", "(II)Z"⟩) ∈ lw_all := lw_g (lw_at lw_ms 40 rfl) rfl
theorem qs41 : (Cond.selects "FirstWords" ⟨"FirstWords", "reads", "(Ljava/lang/Object;III)I"⟩ ⟨"FirstWords", "reads", "(Ljava/lang/Object;III)I"⟩) ∈ lw_all := lw_g (lw_at lw_ms 41 rfl) rfl
theorem qs42 : (Cond.selects "FirstWordsModel" ⟨"FirstWordsModel", "firstDraft", "()V"⟩ ⟨"FirstWordsModel", "firstDraft", "()V"⟩) ∈ lw_all := lw_g (lw_at lw_ms 42 rfl) rfl
theorem qs43 : (Cond.selects "FirstWordsModel" ⟨"FirstWordsModel", "keepDraft", "()V"⟩ ⟨"FirstWordsModel", "keepDraft", "()V"⟩) ∈ lw_all := lw_g (lw_at lw_ms 43 rfl) rfl
theorem qs44 : (Cond.selects "FirstWordsModel" ⟨"FirstWordsModel", "replays", "()V"⟩ ⟨"FirstWordsModel", "replays", "()V"⟩) ∈ lw_all := lw_g (lw_at lw_ms 44 rfl) rfl
theorem qs45 : (Cond.selects "FirstWordsModel" ⟨"FirstWordsModel", "wakes", "(I)V"⟩ ⟨"FirstWordsModel", "wakes", "(I)V"⟩) ∈ lw_all := lw_g (lw_at lw_ms 45 rfl) rfl
theorem qs46 : (Cond.selects "FirstWordsModel" ⟨"FirstWordsModel", "sees", "(IIIIZ)V"⟩ ⟨"FirstWordsModel", "sees", "(IIIIZ)V"⟩) ∈ lw_all := lw_g (lw_at lw_ms 46 rfl) rfl
theorem qs47 : (Cond.selects "FirstWordsModel" ⟨"FirstWordsModel", "flees", "(II)V"⟩ ⟨"FirstWordsModel", "flees", "(II)V"⟩) ∈ lw_all := lw_g (lw_at lw_ms 47 rfl) rfl
theorem qs48 : (Cond.selects "FirstWordsModel" ⟨"FirstWordsModel", "looks", "(IIIIZ)V"⟩ ⟨"FirstWordsModel", "looks", "(IIIIZ)V"⟩) ∈ lw_all := lw_g (lw_at lw_ms 48 rfl) rfl
theorem qs49 : (Cond.selects "FirstWordsModel" ⟨"FirstWordsModel", "allThatFit", "(II)I"⟩ ⟨"FirstWordsModel", "allThatFit", "(II)I"⟩) ∈ lw_all := lw_g (lw_at lw_ms 49 rfl) rfl
theorem qs50 : (Cond.selects "FirstWordsModel" ⟨"FirstWordsModel", "fitsIn", "(III)Z"⟩ ⟨"FirstWordsModel", "fitsIn", "(III)Z"⟩) ∈ lw_all := lw_g (lw_at lw_ms 50 rfl) rfl
theorem qs51 : (Cond.selects "FirstWordsModel" ⟨"FirstWordsModel", "canThink", "(I)I"⟩ ⟨"FirstWordsModel", "canThink", "(I)I"⟩) ∈ lw_all := lw_g (lw_at lw_ms 51 rfl) rfl
theorem qs52 : (Cond.selects "FirstWordsModel" ⟨"FirstWordsModel", "proudLooks", "(IIIZ)V"⟩ ⟨"FirstWordsModel", "proudLooks", "(IIIZ)V"⟩) ∈ lw_all := lw_g (lw_at lw_ms 52 rfl) rfl
theorem qs53 : (Cond.selects "FirstWordsModel" ⟨"FirstWordsModel", "plainest", "(I)I"⟩ ⟨"FirstWordsModel", "plainest", "(I)I"⟩) ∈ lw_all := lw_g (lw_at lw_ms 53 rfl) rfl
theorem qs54 : (Cond.selects "FirstWordsModel" ⟨"FirstWordsModel", "marksOf", "(I)I"⟩ ⟨"FirstWordsModel", "marksOf", "(I)I"⟩) ∈ lw_all := lw_g (lw_at lw_ms 54 rfl) rfl
theorem qs55 : (Cond.selects "FirstWordsModel" ⟨"FirstWordsModel", "areAllOne", "(I)Z"⟩ ⟨"FirstWordsModel", "areAllOne", "(I)Z"⟩) ∈ lw_all := lw_g (lw_at lw_ms 55 rfl) rfl
theorem qs56 : (Cond.selects "FirstWordsModel" ⟨"FirstWordsModel", "next", "()V"⟩ ⟨"FirstWordsModel", "next", "()V"⟩) ∈ lw_all := lw_g (lw_at lw_ms 56 rfl) rfl
theorem qs57 : (Cond.selects "FirstWordsModel" ⟨"FirstWordsModel", "look", "(I)I"⟩ ⟨"FirstWordsModel", "look", "(I)I"⟩) ∈ lw_all := lw_g (lw_at lw_ms 57 rfl) rfl
theorem qs58 : (Cond.selects "FirstWordsModel" ⟨"FirstWordsModel", "needs", "(ZI)V"⟩ ⟨"FirstWordsModel", "needs", "(ZI)V"⟩) ∈ lw_all := lw_g (lw_at lw_ms 58 rfl) rfl
theorem qs59 : (Cond.selects "FirstWordsModel" ⟨"FirstWordsModel", "readLine", "()V"⟩ ⟨"FirstWordsModel", "readLine", "()V"⟩) ∈ lw_all := lw_g (lw_at lw_ms 59 rfl) rfl
theorem qs60 : (Cond.selects "FirstWordsModel" ⟨"FirstWordsModel", "nameNow", "()I"⟩ ⟨"FirstWordsModel", "nameNow", "()I"⟩) ∈ lw_all := lw_g (lw_at lw_ms 60 rfl) rfl
theorem qs61 : (Cond.selects "FirstWordsModel" ⟨"FirstWordsModel", "kindNow", "()I"⟩ ⟨"FirstWordsModel", "kindNow", "()I"⟩) ∈ lw_all := lw_g (lw_at lw_ms 61 rfl) rfl
theorem qs62 : (Cond.selects "FirstWordsModel" ⟨"FirstWordsModel", "is", "(IIIII)Z"⟩ ⟨"FirstWordsModel", "is", "(IIIII)Z"⟩) ∈ lw_all := lw_g (lw_at lw_ms 62 rfl) rfl
theorem qs63 : (Cond.selects "FirstWordsModel" ⟨"FirstWordsModel", "goesOn", "(III)Z"⟩ ⟨"FirstWordsModel", "goesOn", "(III)Z"⟩) ∈ lw_all := lw_g (lw_at lw_ms 63 rfl) rfl
theorem qs64 : (Cond.selects "FirstWordsModel" ⟨"FirstWordsModel", "readMarks", "(I)I"⟩ ⟨"FirstWordsModel", "readMarks", "(I)I"⟩) ∈ lw_all := lw_g (lw_at lw_ms 64 rfl) rfl
theorem qs65 : (Cond.selects "FirstWordsModel" ⟨"FirstWordsModel", "readMeans", "()V"⟩ ⟨"FirstWordsModel", "readMeans", "()V"⟩) ∈ lw_all := lw_g (lw_at lw_ms 65 rfl) rfl
theorem qs66 : (Cond.selects "FirstWordsModel" ⟨"FirstWordsModel", "readNumber", "(II)I"⟩ ⟨"FirstWordsModel", "readNumber", "(II)I"⟩) ∈ lw_all := lw_g (lw_at lw_ms 66 rfl) rfl
theorem qs67 : (Cond.selects "FirstWordsModel" ⟨"FirstWordsModel", "readKind", "(I)V"⟩ ⟨"FirstWordsModel", "readKind", "(I)V"⟩) ∈ lw_all := lw_g (lw_at lw_ms 67 rfl) rfl
theorem qs68 : (Cond.selects "FirstWordsModel" ⟨"FirstWordsModel", "isThing", "(I)Z"⟩ ⟨"FirstWordsModel", "isThing", "(I)Z"⟩) ∈ lw_all := lw_g (lw_at lw_ms 68 rfl) rfl
theorem qs69 : (Cond.selects "FirstWordsModel" ⟨"FirstWordsModel", "isSound", "(I)Z"⟩ ⟨"FirstWordsModel", "isSound", "(I)Z"⟩) ∈ lw_all := lw_g (lw_at lw_ms 69 rfl) rfl
theorem qs70 : (Cond.selects "FirstWordsModel" ⟨"FirstWordsModel", "isKind", "(I)Z"⟩ ⟨"FirstWordsModel", "isKind", "(I)Z"⟩) ∈ lw_all := lw_g (lw_at lw_ms 70 rfl) rfl
theorem qs71 : (Cond.selects "FirstWordsModel" ⟨"FirstWordsModel", "adds", "(IIZ)I"⟩ ⟨"FirstWordsModel", "adds", "(IIZ)I"⟩) ∈ lw_all := lw_g (lw_at lw_ms 71 rfl) rfl
theorem qs72 : (Cond.selects "FirstWordsModel" ⟨"FirstWordsModel", "isTrue", "(II)Z"⟩ ⟨"FirstWordsModel", "isTrue", "(II)Z"⟩) ∈ lw_all := lw_g (lw_at lw_ms 72 rfl) rfl
theorem qs73 : (Cond.selects "FirstWordsModel" ⟨"FirstWordsModel", "targetOf", "(I)I"⟩ ⟨"FirstWordsModel", "targetOf", "(I)I"⟩) ∈ lw_all := lw_g (lw_at lw_ms 73 rfl) rfl
theorem qs74 : (Cond.selects "FirstWordsModel" ⟨"FirstWordsModel", "isSame", "(III)Z"⟩ ⟨"FirstWordsModel", "isSame", "(III)Z"⟩) ∈ lw_all := lw_g (lw_at lw_ms 74 rfl) rfl
theorem qs75 : (Cond.selects "FirstWordsModel" ⟨"FirstWordsModel", "areKinds", "(I)Z"⟩ ⟨"FirstWordsModel", "areKinds", "(I)Z"⟩) ∈ lw_all := lw_g (lw_at lw_ms 75 rfl) rfl
theorem qs76 : (Cond.selects "FirstWordsModel" ⟨"FirstWordsModel", "isSameForAll", "(III)Z"⟩ ⟨"FirstWordsModel", "isSameForAll", "(III)Z"⟩) ∈ lw_all := lw_g (lw_at lw_ms 76 rfl) rfl
theorem qs77 : (Cond.selects "FirstWordsModel" ⟨"FirstWordsModel", "copies", "(II)V"⟩ ⟨"FirstWordsModel", "copies", "(II)V"⟩) ∈ lw_all := lw_g (lw_at lw_ms 77 rfl) rfl
theorem qs78 : (Cond.selects "FirstWordsModel" ⟨"FirstWordsModel", "fewest", "(III)I"⟩ ⟨"FirstWordsModel", "fewest", "(III)I"⟩) ∈ lw_all := lw_g (lw_at lw_ms 78 rfl) rfl
theorem qs79 : (Cond.selects "FirstWordsModel" ⟨"FirstWordsModel", "teaches", "(III)Z"⟩ ⟨"FirstWordsModel", "teaches", "(III)Z"⟩) ∈ lw_all := lw_g (lw_at lw_ms 79 rfl) rfl
theorem qs80 : (Cond.selects "FirstWordsModel" ⟨"FirstWordsModel", "hasFled", "(II)Z"⟩ ⟨"FirstWordsModel", "hasFled", "(II)Z"⟩) ∈ lw_all := lw_g (lw_at lw_ms 80 rfl) rfl
theorem qs81 : (Cond.selects "FirstWordsModel" ⟨"FirstWordsModel", "nextRow", "(I)Z"⟩ ⟨"FirstWordsModel", "nextRow", "(I)Z"⟩) ∈ lw_all := lw_g (lw_at lw_ms 81 rfl) rfl
theorem qs82 : (Cond.selects "FirstWordsModel" ⟨"FirstWordsModel", "areUnlike", "()Z"⟩ ⟨"FirstWordsModel", "areUnlike", "()Z"⟩) ∈ lw_all := lw_g (lw_at lw_ms 82 rfl) rfl
theorem qs83 : (Cond.selects "FirstWordsModel" ⟨"FirstWordsModel", "taken", "(I)I"⟩ ⟨"FirstWordsModel", "taken", "(I)I"⟩) ∈ lw_all := lw_g (lw_at lw_ms 83 rfl) rfl
theorem qs84 : (Cond.selects "FirstWordsModel" ⟨"FirstWordsModel", "allChances", "()I"⟩ ⟨"FirstWordsModel", "allChances", "()I"⟩) ∈ lw_all := lw_g (lw_at lw_ms 84 rfl) rfl
theorem qs85 : (Cond.selects "FirstWordsModel" ⟨"FirstWordsModel", "chanceOf", "(I)I"⟩ ⟨"FirstWordsModel", "chanceOf", "(I)I"⟩) ∈ lw_all := lw_g (lw_at lw_ms 85 rfl) rfl
theorem qs86 : (Cond.selects "FirstWordsModel" ⟨"FirstWordsModel", "feared", "(Z)I"⟩ ⟨"FirstWordsModel", "feared", "(Z)I"⟩) ∈ lw_all := lw_g (lw_at lw_ms 86 rfl) rfl
theorem qs87 : (Cond.selects "FirstWordsModel" ⟨"FirstWordsModel", "answerOf", "(III)I"⟩ ⟨"FirstWordsModel", "answerOf", "(III)I"⟩) ∈ lw_all := lw_g (lw_at lw_ms 87 rfl) rfl
theorem qs88 : (Cond.selects "FirstWordsModel" ⟨"FirstWordsModel", "whoSay", "(III)I"⟩ ⟨"FirstWordsModel", "whoSay", "(III)I"⟩) ∈ lw_all := lw_g (lw_at lw_ms 88 rfl) rfl
theorem qs89 : (Cond.selects "FirstWordsModel" ⟨"FirstWordsModel", "fitsTheirs", "()I"⟩ ⟨"FirstWordsModel", "fitsTheirs", "()I"⟩) ∈ lw_all := lw_g (lw_at lw_ms 89 rfl) rfl
theorem qs90 : (Cond.selects "FirstWordsModel" ⟨"FirstWordsModel", "toAsk", "(I)I"⟩ ⟨"FirstWordsModel", "toAsk", "(I)I"⟩) ∈ lw_all := lw_g (lw_at lw_ms 90 rfl) rfl
