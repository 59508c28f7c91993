/-! RULES OVER Zt: instructions that touch locals and stack alone -/
set_option maxRecDepth 100000
section ZTA
variable {g : ZG} {M : ZM} {d rc rs : Nat} {Q : Option Value → ZH → Prop} {h : ZH} {pc : Nat} {L L' : List (Option Value)} {st : List Value}
theorem zt_iconst {n : Int} {v : Int32} (hd : decode M.2.1 pc = .ok (.iconst n, 1)) (hv : Int32.ofInt n = v) (k : Zt g M d rc rs Q h (pc + 1) L (.int v :: st)) : Zt g M d rc rs Q h pc L (st) := by
  intro p e s m args below meth c H locs cells slots mc ms ls hC h1 h2 h3 h4 h5
  exact lv_iconst hC.1 hC.2.1 hd hv (k p e s m args below meth c H locs cells slots mc ms ls hC h1 h2 h3 h4 h5)
theorem zt_bipush {n : Int} {v : Int32} (hd : decode M.2.1 pc = .ok (.bipush n, 2)) (hv : (Int8.ofInt n).toInt32 = v) (k : Zt g M d rc rs Q h (pc + 2) L (.int v :: st)) : Zt g M d rc rs Q h pc L (st) := by
  intro p e s m args below meth c H locs cells slots mc ms ls hC h1 h2 h3 h4 h5
  exact lv_bipush hC.1 hC.2.1 hd hv (k p e s m args below meth c H locs cells slots mc ms ls hC h1 h2 h3 h4 h5)
theorem zt_sipush {n : Int} {v : Int32} (hd : decode M.2.1 pc = .ok (.sipush n, 3)) (hv : (Int16.ofInt n).toInt32 = v) (k : Zt g M d rc rs Q h (pc + 3) L (.int v :: st)) : Zt g M d rc rs Q h pc L (st) := by
  intro p e s m args below meth c H locs cells slots mc ms ls hC h1 h2 h3 h4 h5
  exact lv_sipush hC.1 hC.2.1 hd hv (k p e s m args below meth c H locs cells slots mc ms ls hC h1 h2 h3 h4 h5)
theorem zt_lconst {n : Fin 2} {v : Int64} (hd : decode M.2.1 pc = .ok (.lconst n, 1)) (hv : Int64.ofNat (n : Nat) = v) (k : Zt g M d rc rs Q h (pc + 1) L (.long v :: st)) : Zt g M d rc rs Q h pc L (st) := by
  intro p e s m args below meth c H locs cells slots mc ms ls hC h1 h2 h3 h4 h5
  exact lv_lconst hC.1 hC.2.1 hd hv (k p e s m args below meth c H locs cells slots mc ms ls hC h1 h2 h3 h4 h5)
theorem zt_null  (hd : decode M.2.1 pc = .ok (.aconst_null, 1))  (k : Zt g M d rc rs Q h (pc + 1) L (.null :: st)) : Zt g M d rc rs Q h pc L (st) := by
  intro p e s m args below meth c H locs cells slots mc ms ls hC h1 h2 h3 h4 h5
  exact lv_null hC.1 hC.2.1 hd (k p e s m args below meth c H locs cells slots mc ms ls hC h1 h2 h3 h4 h5)
theorem zt_iadd {x y : Int32} (hd : decode M.2.1 pc = .ok (.iadd, 1))  (k : Zt g M d rc rs Q h (pc + 1) L (.int (x + y) :: st)) : Zt g M d rc rs Q h pc L (.int y :: .int x :: st) := by
  intro p e s m args below meth c H locs cells slots mc ms ls hC h1 h2 h3 h4 h5
  exact lv_iadd hC.1 hC.2.1 hd (k p e s m args below meth c H locs cells slots mc ms ls hC h1 h2 h3 h4 h5)
theorem zt_isub {x y : Int32} (hd : decode M.2.1 pc = .ok (.isub, 1))  (k : Zt g M d rc rs Q h (pc + 1) L (.int (x - y) :: st)) : Zt g M d rc rs Q h pc L (.int y :: .int x :: st) := by
  intro p e s m args below meth c H locs cells slots mc ms ls hC h1 h2 h3 h4 h5
  exact lv_isub hC.1 hC.2.1 hd (k p e s m args below meth c H locs cells slots mc ms ls hC h1 h2 h3 h4 h5)
theorem zt_imul {x y : Int32} (hd : decode M.2.1 pc = .ok (.imul, 1))  (k : Zt g M d rc rs Q h (pc + 1) L (.int (x * y) :: st)) : Zt g M d rc rs Q h pc L (.int y :: .int x :: st) := by
  intro p e s m args below meth c H locs cells slots mc ms ls hC h1 h2 h3 h4 h5
  exact lv_imul hC.1 hC.2.1 hd (k p e s m args below meth c H locs cells slots mc ms ls hC h1 h2 h3 h4 h5)
theorem zt_iand {x y : Int32} (hd : decode M.2.1 pc = .ok (.iand, 1))  (k : Zt g M d rc rs Q h (pc + 1) L (.int (x &&& y) :: st)) : Zt g M d rc rs Q h pc L (.int y :: .int x :: st) := by
  intro p e s m args below meth c H locs cells slots mc ms ls hC h1 h2 h3 h4 h5
  exact lv_iand hC.1 hC.2.1 hd (k p e s m args below meth c H locs cells slots mc ms ls hC h1 h2 h3 h4 h5)
theorem zt_ior {x y : Int32} (hd : decode M.2.1 pc = .ok (.ior, 1))  (k : Zt g M d rc rs Q h (pc + 1) L (.int (x ||| y) :: st)) : Zt g M d rc rs Q h pc L (.int y :: .int x :: st) := by
  intro p e s m args below meth c H locs cells slots mc ms ls hC h1 h2 h3 h4 h5
  exact lv_ior hC.1 hC.2.1 hd (k p e s m args below meth c H locs cells slots mc ms ls hC h1 h2 h3 h4 h5)
theorem zt_ixor {x y : Int32} (hd : decode M.2.1 pc = .ok (.ixor, 1))  (k : Zt g M d rc rs Q h (pc + 1) L (.int (x ^^^ y) :: st)) : Zt g M d rc rs Q h pc L (.int y :: .int x :: st) := by
  intro p e s m args below meth c H locs cells slots mc ms ls hC h1 h2 h3 h4 h5
  exact lv_ixor hC.1 hC.2.1 hd (k p e s m args below meth c H locs cells slots mc ms ls hC h1 h2 h3 h4 h5)
theorem zt_ishl {x y : Int32} (hd : decode M.2.1 pc = .ok (.ishl, 1))  (k : Zt g M d rc rs Q h (pc + 1) L (.int (x <<< (y &&& 31)) :: st)) : Zt g M d rc rs Q h pc L (.int y :: .int x :: st) := by
  intro p e s m args below meth c H locs cells slots mc ms ls hC h1 h2 h3 h4 h5
  exact lv_ishl hC.1 hC.2.1 hd (k p e s m args below meth c H locs cells slots mc ms ls hC h1 h2 h3 h4 h5)
theorem zt_ishr {x y : Int32} (hd : decode M.2.1 pc = .ok (.ishr, 1))  (k : Zt g M d rc rs Q h (pc + 1) L (.int (x >>> (y &&& 31)) :: st)) : Zt g M d rc rs Q h pc L (.int y :: .int x :: st) := by
  intro p e s m args below meth c H locs cells slots mc ms ls hC h1 h2 h3 h4 h5
  exact lv_ishr hC.1 hC.2.1 hd (k p e s m args below meth c H locs cells slots mc ms ls hC h1 h2 h3 h4 h5)
theorem zt_idiv {x y : Int32} (hd : decode M.2.1 pc = .ok (.idiv, 1)) (hne : ¬ y = 0) (k : Zt g M d rc rs Q h (pc + 1) L (.int (x / y) :: st)) : Zt g M d rc rs Q h pc L (.int y :: .int x :: st) := by
  intro p e s m args below meth c H locs cells slots mc ms ls hC h1 h2 h3 h4 h5
  exact lv_idiv hC.1 hC.2.1 hd hne (k p e s m args below meth c H locs cells slots mc ms ls hC h1 h2 h3 h4 h5)
theorem zt_irem {x y : Int32} (hd : decode M.2.1 pc = .ok (.irem, 1)) (hne : ¬ y = 0) (k : Zt g M d rc rs Q h (pc + 1) L (.int (x - x / y * y) :: st)) : Zt g M d rc rs Q h pc L (.int y :: .int x :: st) := by
  intro p e s m args below meth c H locs cells slots mc ms ls hC h1 h2 h3 h4 h5
  exact lv_irem hC.1 hC.2.1 hd hne (k p e s m args below meth c H locs cells slots mc ms ls hC h1 h2 h3 h4 h5)
theorem zt_iushr {x y v : Int32} (hd : decode M.2.1 pc = .ok (.iushr, 1)) (hv : (x.toUInt32 >>> (y.toUInt32 &&& Int32.toUInt32 31)).toInt32 = v) (k : Zt g M d rc rs Q h (pc + 1) L (.int v :: st)) : Zt g M d rc rs Q h pc L (.int y :: .int x :: st) := by
  intro p e s m args below meth c H locs cells slots mc ms ls hC h1 h2 h3 h4 h5
  exact lv_iushr hC.1 hC.2.1 hd hv (k p e s m args below meth c H locs cells slots mc ms ls hC h1 h2 h3 h4 h5)
theorem zt_ladd {x y : Int64} (hd : decode M.2.1 pc = .ok (.ladd, 1))  (k : Zt g M d rc rs Q h (pc + 1) L (.long (x + y) :: st)) : Zt g M d rc rs Q h pc L (.long y :: .long x :: st) := by
  intro p e s m args below meth c H locs cells slots mc ms ls hC h1 h2 h3 h4 h5
  exact lv_ladd hC.1 hC.2.1 hd (k p e s m args below meth c H locs cells slots mc ms ls hC h1 h2 h3 h4 h5)
theorem zt_land {x y : Int64} (hd : decode M.2.1 pc = .ok (.land, 1))  (k : Zt g M d rc rs Q h (pc + 1) L (.long (x &&& y) :: st)) : Zt g M d rc rs Q h pc L (.long y :: .long x :: st) := by
  intro p e s m args below meth c H locs cells slots mc ms ls hC h1 h2 h3 h4 h5
  exact lv_land hC.1 hC.2.1 hd (k p e s m args below meth c H locs cells slots mc ms ls hC h1 h2 h3 h4 h5)
theorem zt_lor {x y : Int64} (hd : decode M.2.1 pc = .ok (.lor, 1))  (k : Zt g M d rc rs Q h (pc + 1) L (.long (x ||| y) :: st)) : Zt g M d rc rs Q h pc L (.long y :: .long x :: st) := by
  intro p e s m args below meth c H locs cells slots mc ms ls hC h1 h2 h3 h4 h5
  exact lv_lor hC.1 hC.2.1 hd (k p e s m args below meth c H locs cells slots mc ms ls hC h1 h2 h3 h4 h5)
theorem zt_lshl {x v : Int64} {y : Int32} (hd : decode M.2.1 pc = .ok (.lshl, 1)) (hv : x <<< (y.toInt64 &&& 63) = v) (k : Zt g M d rc rs Q h (pc + 1) L (.long v :: st)) : Zt g M d rc rs Q h pc L (.int y :: .long x :: st) := by
  intro p e s m args below meth c H locs cells slots mc ms ls hC h1 h2 h3 h4 h5
  exact lv_lshl hC.1 hC.2.1 hd hv (k p e s m args below meth c H locs cells slots mc ms ls hC h1 h2 h3 h4 h5)
theorem zt_lshr {x v : Int64} {y : Int32} (hd : decode M.2.1 pc = .ok (.lshr, 1)) (hv : x >>> (y.toInt64 &&& 63) = v) (k : Zt g M d rc rs Q h (pc + 1) L (.long v :: st)) : Zt g M d rc rs Q h pc L (.int y :: .long x :: st) := by
  intro p e s m args below meth c H locs cells slots mc ms ls hC h1 h2 h3 h4 h5
  exact lv_lshr hC.1 hC.2.1 hd hv (k p e s m args below meth c H locs cells slots mc ms ls hC h1 h2 h3 h4 h5)
theorem zt_i2l {x : Int32} {v : Int64} (hd : decode M.2.1 pc = .ok (.i2l, 1)) (hv : x.toInt64 = v) (k : Zt g M d rc rs Q h (pc + 1) L (.long v :: st)) : Zt g M d rc rs Q h pc L (.int x :: st) := by
  intro p e s m args below meth c H locs cells slots mc ms ls hC h1 h2 h3 h4 h5
  exact lv_i2l hC.1 hC.2.1 hd hv (k p e s m args below meth c H locs cells slots mc ms ls hC h1 h2 h3 h4 h5)
theorem zt_l2i {x : Int64} {v : Int32} (hd : decode M.2.1 pc = .ok (.l2i, 1)) (hv : x.toInt32 = v) (k : Zt g M d rc rs Q h (pc + 1) L (.int v :: st)) : Zt g M d rc rs Q h pc L (.long x :: st) := by
  intro p e s m args below meth c H locs cells slots mc ms ls hC h1 h2 h3 h4 h5
  exact lv_l2i hC.1 hC.2.1 hd hv (k p e s m args below meth c H locs cells slots mc ms ls hC h1 h2 h3 h4 h5)
theorem zt_i2b {x v : Int32} (hd : decode M.2.1 pc = .ok (.i2b, 1)) (hv : x.toInt8.toInt32 = v) (k : Zt g M d rc rs Q h (pc + 1) L (.int v :: st)) : Zt g M d rc rs Q h pc L (.int x :: st) := by
  intro p e s m args below meth c H locs cells slots mc ms ls hC h1 h2 h3 h4 h5
  exact lv_i2b hC.1 hC.2.1 hd hv (k p e s m args below meth c H locs cells slots mc ms ls hC h1 h2 h3 h4 h5)
theorem zt_i2s {x v : Int32} (hd : decode M.2.1 pc = .ok (.i2s, 1)) (hv : x.toInt16.toInt32 = v) (k : Zt g M d rc rs Q h (pc + 1) L (.int v :: st)) : Zt g M d rc rs Q h pc L (.int x :: st) := by
  intro p e s m args below meth c H locs cells slots mc ms ls hC h1 h2 h3 h4 h5
  exact lv_i2s hC.1 hC.2.1 hd hv (k p e s m args below meth c H locs cells slots mc ms ls hC h1 h2 h3 h4 h5)
theorem zt_i2c {x v : Int32} (hd : decode M.2.1 pc = .ok (.i2c, 1)) (hv : (x.toUInt32 % 65536).toInt32 = v) (k : Zt g M d rc rs Q h (pc + 1) L (.int v :: st)) : Zt g M d rc rs Q h pc L (.int x :: st) := by
  intro p e s m args below meth c H locs cells slots mc ms ls hC h1 h2 h3 h4 h5
  exact lv_i2c hC.1 hC.2.1 hd hv (k p e s m args below meth c H locs cells slots mc ms ls hC h1 h2 h3 h4 h5)
theorem zt_lcmp {x y : Int64} (hd : decode M.2.1 pc = .ok (.lcmp, 1))  (k : Zt g M d rc rs Q h (pc + 1) L (.int (lg_cmp x y) :: st)) : Zt g M d rc rs Q h pc L (.long y :: .long x :: st) := by
  intro p e s m args below meth c H locs cells slots mc ms ls hC h1 h2 h3 h4 h5
  exact W.lcmp hC.1 hC.2.1 hd (k p e s m args below meth c H locs cells slots mc ms ls hC h1 h2 h3 h4 h5)
theorem zt_dup {v : Value} (hd : decode M.2.1 pc = .ok (.dup, 1)) (hc : v.category = 1) (k : Zt g M d rc rs Q h (pc + 1) L (v :: v :: st)) : Zt g M d rc rs Q h pc L (v :: st) := by
  intro p e s m args below meth c H locs cells slots mc ms ls hC h1 h2 h3 h4 h5
  exact lv_dup hC.1 hC.2.1 hd (by rw [zV_cat]; exact hc) (k p e s m args below meth c H locs cells slots mc ms ls hC h1 h2 h3 h4 h5)
theorem zt_dup2 {v w : Value} (hd : decode M.2.1 pc = .ok (.dup2, 1)) (hc : v.category = 1) (hc2 : w.category = 1) (k : Zt g M d rc rs Q h (pc + 1) L (v :: w :: v :: w :: st)) : Zt g M d rc rs Q h pc L (v :: w :: st) := by
  intro p e s m args below meth c H locs cells slots mc ms ls hC h1 h2 h3 h4 h5
  exact lv_dup2_11 hC.1 hC.2.1 hd (by rw [zV_cat]; exact hc) (by rw [zV_cat]; exact hc2) (k p e s m args below meth c H locs cells slots mc ms ls hC h1 h2 h3 h4 h5)
theorem zt_pop {v : Value} (hd : decode M.2.1 pc = .ok (.pop, 1)) (hc : v.category = 1) (k : Zt g M d rc rs Q h (pc + 1) L (st)) : Zt g M d rc rs Q h pc L (v :: st) := by
  intro p e s m args below meth c H locs cells slots mc ms ls hC h1 h2 h3 h4 h5
  exact lv_pop hC.1 hC.2.1 hd (by rw [zV_cat]; exact hc) (k p e s m args below meth c H locs cells slots mc ms ls hC h1 h2 h3 h4 h5)
theorem zt_iload_n {n : Fin 4} {i : Nat} {x : Int32} (hd : decode M.2.1 pc = .ok (.iload_n n, 1)) (hi : (n : Nat) = i) (hl : L[i]? = some (some (.int x))) (k : Zt g M d rc rs Q h (pc + 1) L (.int x :: st)) : Zt g M d rc rs Q h pc L st := by
  intro p e s m args below meth c H locs cells slots mc ms ls hC h1 h2 h3 h4 h5
  exact lv_iload_n hC.1 hC.2.1 hd hi (h5.2.2 _ _ hl) (k p e s m args below meth c H locs cells slots mc ms ls hC h1 h2 h3 h4 h5)
theorem zt_iload {i : Nat} {x : Int32} (hd : decode M.2.1 pc = .ok (.iload i, 2)) (hl : L[i]? = some (some (.int x))) (k : Zt g M d rc rs Q h (pc + 2) L (.int x :: st)) : Zt g M d rc rs Q h pc L st := by
  intro p e s m args below meth c H locs cells slots mc ms ls hC h1 h2 h3 h4 h5
  exact lv_iload hC.1 hC.2.1 hd (h5.2.2 _ _ hl) (k p e s m args below meth c H locs cells slots mc ms ls hC h1 h2 h3 h4 h5)
theorem zt_lload_n {n : Fin 4} {i : Nat} {x : Int64} (hd : decode M.2.1 pc = .ok (.lload_n n, 1)) (hi : (n : Nat) = i) (hl : L[i]? = some (some (.long x))) (k : Zt g M d rc rs Q h (pc + 1) L (.long x :: st)) : Zt g M d rc rs Q h pc L st := by
  intro p e s m args below meth c H locs cells slots mc ms ls hC h1 h2 h3 h4 h5
  exact lv_lload_n hC.1 hC.2.1 hd hi (h5.2.2 _ _ hl) (k p e s m args below meth c H locs cells slots mc ms ls hC h1 h2 h3 h4 h5)
theorem zt_lload {i : Nat} {x : Int64} (hd : decode M.2.1 pc = .ok (.lload i, 2)) (hl : L[i]? = some (some (.long x))) (k : Zt g M d rc rs Q h (pc + 2) L (.long x :: st)) : Zt g M d rc rs Q h pc L st := by
  intro p e s m args below meth c H locs cells slots mc ms ls hC h1 h2 h3 h4 h5
  exact lv_lload hC.1 hC.2.1 hd (h5.2.2 _ _ hl) (k p e s m args below meth c H locs cells slots mc ms ls hC h1 h2 h3 h4 h5)
theorem zt_aload_n {n : Fin 4} {i : Nat} {x : Nat} (hd : decode M.2.1 pc = .ok (.aload_n n, 1)) (hi : (n : Nat) = i) (hl : L[i]? = some (some (.ref x))) (k : Zt g M d rc rs Q h (pc + 1) L (.ref x :: st)) : Zt g M d rc rs Q h pc L st := by
  intro p e s m args below meth c H locs cells slots mc ms ls hC h1 h2 h3 h4 h5
  exact lv_aload_n hC.1 hC.2.1 hd hi (h5.2.2 _ _ hl) (k p e s m args below meth c H locs cells slots mc ms ls hC h1 h2 h3 h4 h5)
theorem zt_aload {i : Nat} {x : Nat} (hd : decode M.2.1 pc = .ok (.aload i, 2)) (hl : L[i]? = some (some (.ref x))) (k : Zt g M d rc rs Q h (pc + 2) L (.ref x :: st)) : Zt g M d rc rs Q h pc L st := by
  intro p e s m args below meth c H locs cells slots mc ms ls hC h1 h2 h3 h4 h5
  exact lv_aload hC.1 hC.2.1 hd (h5.2.2 _ _ hl) (k p e s m args below meth c H locs cells slots mc ms ls hC h1 h2 h3 h4 h5)
theorem zt_aload_nN {n : Fin 4} {i : Nat} (hd : decode M.2.1 pc = .ok (.aload_n n, 1)) (hi : (n : Nat) = i) (hl : L[i]? = some (some (.null))) (k : Zt g M d rc rs Q h (pc + 1) L (.null :: st)) : Zt g M d rc rs Q h pc L st := by
  intro p e s m args below meth c H locs cells slots mc ms ls hC h1 h2 h3 h4 h5
  exact lv_aload_nN hC.1 hC.2.1 hd hi (h5.2.2 _ _ hl) (k p e s m args below meth c H locs cells slots mc ms ls hC h1 h2 h3 h4 h5)
theorem zt_aloadN {i : Nat} (hd : decode M.2.1 pc = .ok (.aload i, 2)) (hl : L[i]? = some (some (.null))) (k : Zt g M d rc rs Q h (pc + 2) L (.null :: st)) : Zt g M d rc rs Q h pc L st := by
  intro p e s m args below meth c H locs cells slots mc ms ls hC h1 h2 h3 h4 h5
  exact lv_aloadN hC.1 hC.2.1 hd (h5.2.2 _ _ hl) (k p e s m args below meth c H locs cells slots mc ms ls hC h1 h2 h3 h4 h5)
def zP (z : Nat) (L : List (Option Value)) : List (Nat × Value) := (List.range L.length).filterMap (fun i => match L[i]? with
  | some (some v) => some (i, zV z v)
  | _ => none)
theorem zP_mem {z : Nat} {L : List (Option Value)} {i : Nat} {w : Value} (hm : (i, w) ∈ zP z L) : ∃ v, L[i]? = some (some v) ∧ w = zV z v := by
  obtain ⟨j, -, hj⟩ := List.mem_filterMap.mp hm
  split at hj
  · rename_i v hv
    cases hj
    exact ⟨v, hv, rfl⟩
  · cases hj
theorem zP_in {z : Nat} {L : List (Option Value)} {i : Nat} {v : Value} (hv : L[i]? = some (some v)) : (i, zV z v) ∈ zP z L := by
  refine List.mem_filterMap.mpr ⟨i, List.mem_range.mpr (List.getElem?_eq_some_iff.mp hv).1, ?_⟩
  rw [hv]
theorem zLr_lv {z nL : Nat} {ls : Array Slot} {L : List (Option Value)} (hL : zLr z ls nL L) : lv_has ls nL (zP z L) := by
  refine ⟨hL.1, hL.2.1, fun q hq => ?_⟩
  obtain ⟨v, h1, h2⟩ := zP_mem (i := q.1) (w := q.2) hq
  rw [h2]
  exact hL.2.2 _ _ h1
/-- no long ends at i -/
def zOk (L : List (Option Value)) (i : Nat) : Bool := match i with
  | 0 => true
  | j + 1 => match L[j]? with
    | some (some v) => v.category == 1
    | _ => true
theorem zOk_spec {L : List (Option Value)} {i j : Nat} {v : Value} (hk : zOk L i = true) (hv : L[j]? = some (some v)) (hj : j + 1 = i) : v.category = 1 := by
  subst hj
  simp only [zOk, hv] at hk
  simpa using hk
theorem zLr_store {z nL i : Nat} {ls' : Array Slot} {L : List (Option Value)} {x : Value} {lv : List (Nat × Value)} (hs : ∀ q ∈ zP z L, q ∈ lv) (hk : zOk L i = true) (hh : lv_has ls' nL ((i, zV z x) :: lv.filter (fun q => !(q.1 == i) && !(q.1 + 1 == i && q.2.category == 2)))) : zLr z ls' nL (L.set i (some x)) := by
  refine ⟨hh.1, hh.2.1, fun j v hj => ?_⟩
  by_cases hij : j = i
  · subst hij
    have hlt : j < L.length := by
      have := (List.getElem?_eq_some_iff.mp hj).1
      simpa using this
    rw [List.getElem?_set_self hlt] at hj
    cases hj
    exact hh.2.2 _ List.mem_cons_self
  · rw [List.getElem?_set_ne (Ne.symm hij)] at hj
    refine hh.2.2 (j, zV z v) (List.mem_cons_of_mem _ (List.mem_filter.mpr ⟨hs _ (zP_in hj), ?_⟩))
    simp only [zV_cat, Bool.and_eq_true, Bool.not_eq_true', beq_eq_false_iff_ne, ne_eq, Bool.and_eq_false_iff]
    refine ⟨hij, ?_⟩
    by_cases h1 : j + 1 = i
    · right
      have := zOk_spec hk hj h1
      simp [this]
    · left
      exact h1
theorem zLr_store2 {z nL i : Nat} {ls' : Array Slot} {L : List (Option Value)} {x : Value} {lv : List (Nat × Value)} (hs : ∀ q ∈ zP z L, q ∈ lv) (hk : zOk L i = true) (hh : lv_has ls' nL ((i, zV z x) :: lv.filter (fun q => !(q.1 == i) && (!(q.1 == i + 1) && !(q.1 + 1 == i && q.2.category == 2))))) : zLr z ls' nL ((L.set i (some x)).set (i + 1) none) := by
  refine ⟨hh.1, hh.2.1, fun j v hj => ?_⟩
  by_cases h0 : j = i + 1
  · subst h0
    have hlt : i + 1 < (L.set i (some x)).length := by
      have := (List.getElem?_eq_some_iff.mp hj).1
      simpa using this
    rw [List.getElem?_set_self hlt] at hj
    cases hj
  rw [List.getElem?_set_ne (Ne.symm h0)] at hj
  by_cases hij : j = i
  · subst hij
    have hlt : j < L.length := by
      have := (List.getElem?_eq_some_iff.mp hj).1
      simpa using this
    rw [List.getElem?_set_self hlt] at hj
    cases hj
    exact hh.2.2 _ List.mem_cons_self
  · rw [List.getElem?_set_ne (Ne.symm hij)] at hj
    refine hh.2.2 (j, zV z v) (List.mem_cons_of_mem _ (List.mem_filter.mpr ⟨hs _ (zP_in hj), ?_⟩))
    simp only [zV_cat, Bool.and_eq_true, Bool.not_eq_true', beq_eq_false_iff_ne, ne_eq, Bool.and_eq_false_iff]
    refine ⟨hij, h0, ?_⟩
    by_cases h1 : j + 1 = i
    · right
      have := zOk_spec hk hj h1
      simp [this]
    · left
      exact h1
theorem zt_istore_n {n : Fin 4} {i : Nat} {x : Int32} (hd : decode M.2.1 pc = .ok (.istore_n n, 1)) (hi : (n : Nat) = i) (hn : i < M.2.2.1) (hk : zOk L i = true) (hL : (L.set i (some (.int x))) = L') (k : Zt g M d rc rs Q h (pc + 1) L' st) : Zt g M d rc rs Q h pc L (.int x :: st) := by
  intro p e s m args below meth c H locs cells slots mc ms ls hC h1 h2 h3 h4 h5
  exact lv_istore_n hC.1 hC.2.1 hd hi (zLr_lv h5) hn rfl (fun ls1 hl1 => k p e s m args below meth c H locs cells slots mc ms ls1 hC h1 h2 h3 h4 (hL ▸ zLr_store (x := .int x) (fun q hq => hq) hk hl1))
theorem zt_istore {i : Nat} {x : Int32} (hd : decode M.2.1 pc = .ok (.istore i, 2)) (hn : i < M.2.2.1) (hk : zOk L i = true) (hL : (L.set i (some (.int x))) = L') (k : Zt g M d rc rs Q h (pc + 2) L' st) : Zt g M d rc rs Q h pc L (.int x :: st) := by
  intro p e s m args below meth c H locs cells slots mc ms ls hC h1 h2 h3 h4 h5
  exact lv_istore hC.1 hC.2.1 hd (zLr_lv h5) hn rfl (fun ls1 hl1 => k p e s m args below meth c H locs cells slots mc ms ls1 hC h1 h2 h3 h4 (hL ▸ zLr_store (x := .int x) (fun q hq => hq) hk hl1))
theorem zt_lstore {i : Nat} {x : Int64} (hd : decode M.2.1 pc = .ok (.lstore i, 2)) (hn : i + 1 < M.2.2.1) (hk : zOk L i = true) (hL : ((L.set i (some (.long x))).set (i + 1) none) = L') (k : Zt g M d rc rs Q h (pc + 2) L' st) : Zt g M d rc rs Q h pc L (.long x :: st) := by
  intro p e s m args below meth c H locs cells slots mc ms ls hC h1 h2 h3 h4 h5
  exact lv_lstore hC.1 hC.2.1 hd (zLr_lv h5) hn rfl (fun ls1 hl1 => k p e s m args below meth c H locs cells slots mc ms ls1 hC h1 h2 h3 h4 (hL ▸ zLr_store2 (x := .long x) (fun q hq => hq) hk hl1))
theorem zt_lstore_n {n : Fin 4} {i : Nat} {x : Int64} (hd : decode M.2.1 pc = .ok (.lstore_n n, 1)) (hi : (n : Nat) = i) (hn : i + 1 < M.2.2.1) (hk : zOk L i = true) (hL : ((L.set i (some (.long x))).set (i + 1) none) = L') (k : Zt g M d rc rs Q h (pc + 1) L' st) : Zt g M d rc rs Q h pc L (.long x :: st) := by
  intro p e s m args below meth c H locs cells slots mc ms ls hC h1 h2 h3 h4 h5
  exact lv_lstore_n hC.1 hC.2.1 hd hi (zLr_lv h5) hn rfl (fun ls1 hl1 => k p e s m args below meth c H locs cells slots mc ms ls1 hC h1 h2 h3 h4 (hL ▸ zLr_store2 (x := .long x) (fun q hq => hq) hk hl1))
theorem zt_astore_n {n : Fin 4} {i : Nat} {x : Nat} (hd : decode M.2.1 pc = .ok (.astore_n n, 1)) (hi : (n : Nat) = i) (hn : i < M.2.2.1) (hk : zOk L i = true) (hL : (L.set i (some (.ref x))) = L') (k : Zt g M d rc rs Q h (pc + 1) L' st) : Zt g M d rc rs Q h pc L (.ref x :: st) := by
  intro p e s m args below meth c H locs cells slots mc ms ls hC h1 h2 h3 h4 h5
  exact lv_astore_n hC.1 hC.2.1 hd hi (zLr_lv h5) hn rfl (fun ls1 hl1 => k p e s m args below meth c H locs cells slots mc ms ls1 hC h1 h2 h3 h4 (hL ▸ zLr_store (x := .ref x) (fun q hq => hq) hk hl1))
theorem zt_astore {i : Nat} {x : Nat} (hd : decode M.2.1 pc = .ok (.astore i, 2)) (hn : i < M.2.2.1) (hk : zOk L i = true) (hL : (L.set i (some (.ref x))) = L') (k : Zt g M d rc rs Q h (pc + 2) L' st) : Zt g M d rc rs Q h pc L (.ref x :: st) := by
  intro p e s m args below meth c H locs cells slots mc ms ls hC h1 h2 h3 h4 h5
  exact lv_astore hC.1 hC.2.1 hd (zLr_lv h5) hn rfl (fun ls1 hl1 => k p e s m args below meth c H locs cells slots mc ms ls1 hC h1 h2 h3 h4 (hL ▸ zLr_store (x := .ref x) (fun q hq => hq) hk hl1))
theorem zt_astore_nN {n : Fin 4} {i : Nat} (hd : decode M.2.1 pc = .ok (.astore_n n, 1)) (hi : (n : Nat) = i) (hn : i < M.2.2.1) (hk : zOk L i = true) (hL : (L.set i (some (.null))) = L') (k : Zt g M d rc rs Q h (pc + 1) L' st) : Zt g M d rc rs Q h pc L (.null :: st) := by
  intro p e s m args below meth c H locs cells slots mc ms ls hC h1 h2 h3 h4 h5
  exact lv_astore_nN hC.1 hC.2.1 hd hi (zLr_lv h5) hn rfl (fun ls1 hl1 => k p e s m args below meth c H locs cells slots mc ms ls1 hC h1 h2 h3 h4 (hL ▸ zLr_store (x := .null) (fun q hq => hq) hk hl1))
theorem zt_astoreN {i : Nat} (hd : decode M.2.1 pc = .ok (.astore i, 2)) (hn : i < M.2.2.1) (hk : zOk L i = true) (hL : (L.set i (some (.null))) = L') (k : Zt g M d rc rs Q h (pc + 2) L' st) : Zt g M d rc rs Q h pc L (.null :: st) := by
  intro p e s m args below meth c H locs cells slots mc ms ls hC h1 h2 h3 h4 h5
  exact lv_astoreN hC.1 hC.2.1 hd (zLr_lv h5) hn rfl (fun ls1 hl1 => k p e s m args below meth c H locs cells slots mc ms ls1 hC h1 h2 h3 h4 (hL ▸ zLr_store (x := .null) (fun q hq => hq) hk hl1))
theorem zt_iinc {i : Nat} {n : Int} {x v : Int32} (hd : decode M.2.1 pc = .ok (.iinc i n, 3)) (hl : L[i]? = some (some (.int x))) (hv : x + Int32.ofInt n = v) (hn : i < M.2.2.1) (hk : zOk L i = true) (hL : L.set i (some (.int v)) = L') (k : Zt g M d rc rs Q h (pc + 3) L' st) : Zt g M d rc rs Q h pc L st := by
  intro p e s m args below meth c H locs cells slots mc ms ls hC h1 h2 h3 h4 h5
  have hx : lv_has ls M.2.2.1 ((i, .int x) :: zP g.2.1 L) := ⟨h5.1, h5.2.1, fun q hq => by
    rcases List.mem_cons.mp hq with e0 | e0
    · rw [e0]; exact h5.2.2 _ _ hl
    · exact (zLr_lv h5).2.2 q e0⟩
  exact lv_iinc hC.1 hC.2.1 hd hx (k := 0) rfl hv hn rfl (fun ls1 hl1 => k p e s m args below meth c H locs cells slots mc ms ls1 hC h1 h2 h3 h4 (hL ▸ zLr_store (x := .int v) (fun q hq => List.mem_cons_of_mem _ hq) hk hl1))
theorem zt_if_eq {x : Int32} {off : Int} (tgt : Nat) (hd : decode M.2.1 pc = .ok (.ifCond .eq off, 3)) (ht : (pc : Int) + off = (tgt : Int)) (kt : x = 0 → Zt g M d rc rs Q h tgt L st) (kf : ¬ (x = 0) → Zt g M d rc rs Q h (pc + 3) L st) : Zt g M d rc rs Q h pc L (.int x :: st) := by
  intro p e s m args below meth c H locs cells slots mc ms ls hC h1 h2 h3 h4 h5
  exact lv_if_eq hC.1 hC.2.1 hd ht (fun q => kt q p e s m args below meth c H locs cells slots mc ms ls hC h1 h2 h3 h4 h5) (fun q => kf q p e s m args below meth c H locs cells slots mc ms ls hC h1 h2 h3 h4 h5)
theorem zt_icmp_eq {x y : Int32} {off : Int} (tgt : Nat) (hd : decode M.2.1 pc = .ok (.if_icmp .eq off, 3)) (ht : (pc : Int) + off = (tgt : Int)) (kt : x = y → Zt g M d rc rs Q h tgt L st) (kf : ¬ (x = y) → Zt g M d rc rs Q h (pc + 3) L st) : Zt g M d rc rs Q h pc L (.int y :: .int x :: st) := by
  intro p e s m args below meth c H locs cells slots mc ms ls hC h1 h2 h3 h4 h5
  exact lv_icmp_eq hC.1 hC.2.1 hd ht (fun q => kt q p e s m args below meth c H locs cells slots mc ms ls hC h1 h2 h3 h4 h5) (fun q => kf q p e s m args below meth c H locs cells slots mc ms ls hC h1 h2 h3 h4 h5)
theorem zt_if_ne {x : Int32} {off : Int} (tgt : Nat) (hd : decode M.2.1 pc = .ok (.ifCond .ne off, 3)) (ht : (pc : Int) + off = (tgt : Int)) (kt : ¬ x = 0 → Zt g M d rc rs Q h tgt L st) (kf : x = 0 → Zt g M d rc rs Q h (pc + 3) L st) : Zt g M d rc rs Q h pc L (.int x :: st) := by
  intro p e s m args below meth c H locs cells slots mc ms ls hC h1 h2 h3 h4 h5
  exact lv_if_ne hC.1 hC.2.1 hd ht (fun q => kt q p e s m args below meth c H locs cells slots mc ms ls hC h1 h2 h3 h4 h5) (fun q => kf q p e s m args below meth c H locs cells slots mc ms ls hC h1 h2 h3 h4 h5)
theorem zt_icmp_ne {x y : Int32} {off : Int} (tgt : Nat) (hd : decode M.2.1 pc = .ok (.if_icmp .ne off, 3)) (ht : (pc : Int) + off = (tgt : Int)) (kt : ¬ x = y → Zt g M d rc rs Q h tgt L st) (kf : x = y → Zt g M d rc rs Q h (pc + 3) L st) : Zt g M d rc rs Q h pc L (.int y :: .int x :: st) := by
  intro p e s m args below meth c H locs cells slots mc ms ls hC h1 h2 h3 h4 h5
  exact lv_icmp_ne hC.1 hC.2.1 hd ht (fun q => kt q p e s m args below meth c H locs cells slots mc ms ls hC h1 h2 h3 h4 h5) (fun q => kf q p e s m args below meth c H locs cells slots mc ms ls hC h1 h2 h3 h4 h5)
theorem zt_if_lt {x : Int32} {off : Int} (tgt : Nat) (hd : decode M.2.1 pc = .ok (.ifCond .lt off, 3)) (ht : (pc : Int) + off = (tgt : Int)) (kt : x < 0 → Zt g M d rc rs Q h tgt L st) (kf : ¬ (x < 0) → Zt g M d rc rs Q h (pc + 3) L st) : Zt g M d rc rs Q h pc L (.int x :: st) := by
  intro p e s m args below meth c H locs cells slots mc ms ls hC h1 h2 h3 h4 h5
  exact lv_if_lt hC.1 hC.2.1 hd ht (fun q => kt q p e s m args below meth c H locs cells slots mc ms ls hC h1 h2 h3 h4 h5) (fun q => kf q p e s m args below meth c H locs cells slots mc ms ls hC h1 h2 h3 h4 h5)
theorem zt_icmp_lt {x y : Int32} {off : Int} (tgt : Nat) (hd : decode M.2.1 pc = .ok (.if_icmp .lt off, 3)) (ht : (pc : Int) + off = (tgt : Int)) (kt : x < y → Zt g M d rc rs Q h tgt L st) (kf : ¬ (x < y) → Zt g M d rc rs Q h (pc + 3) L st) : Zt g M d rc rs Q h pc L (.int y :: .int x :: st) := by
  intro p e s m args below meth c H locs cells slots mc ms ls hC h1 h2 h3 h4 h5
  exact lv_icmp_lt hC.1 hC.2.1 hd ht (fun q => kt q p e s m args below meth c H locs cells slots mc ms ls hC h1 h2 h3 h4 h5) (fun q => kf q p e s m args below meth c H locs cells slots mc ms ls hC h1 h2 h3 h4 h5)
theorem zt_if_ge {x : Int32} {off : Int} (tgt : Nat) (hd : decode M.2.1 pc = .ok (.ifCond .ge off, 3)) (ht : (pc : Int) + off = (tgt : Int)) (kt : 0 ≤ x → Zt g M d rc rs Q h tgt L st) (kf : ¬ (0 ≤ x) → Zt g M d rc rs Q h (pc + 3) L st) : Zt g M d rc rs Q h pc L (.int x :: st) := by
  intro p e s m args below meth c H locs cells slots mc ms ls hC h1 h2 h3 h4 h5
  exact lv_if_ge hC.1 hC.2.1 hd ht (fun q => kt q p e s m args below meth c H locs cells slots mc ms ls hC h1 h2 h3 h4 h5) (fun q => kf q p e s m args below meth c H locs cells slots mc ms ls hC h1 h2 h3 h4 h5)
theorem zt_icmp_ge {x y : Int32} {off : Int} (tgt : Nat) (hd : decode M.2.1 pc = .ok (.if_icmp .ge off, 3)) (ht : (pc : Int) + off = (tgt : Int)) (kt : y ≤ x → Zt g M d rc rs Q h tgt L st) (kf : ¬ (y ≤ x) → Zt g M d rc rs Q h (pc + 3) L st) : Zt g M d rc rs Q h pc L (.int y :: .int x :: st) := by
  intro p e s m args below meth c H locs cells slots mc ms ls hC h1 h2 h3 h4 h5
  exact lv_icmp_ge hC.1 hC.2.1 hd ht (fun q => kt q p e s m args below meth c H locs cells slots mc ms ls hC h1 h2 h3 h4 h5) (fun q => kf q p e s m args below meth c H locs cells slots mc ms ls hC h1 h2 h3 h4 h5)
theorem zt_if_gt {x : Int32} {off : Int} (tgt : Nat) (hd : decode M.2.1 pc = .ok (.ifCond .gt off, 3)) (ht : (pc : Int) + off = (tgt : Int)) (kt : 0 < x → Zt g M d rc rs Q h tgt L st) (kf : ¬ (0 < x) → Zt g M d rc rs Q h (pc + 3) L st) : Zt g M d rc rs Q h pc L (.int x :: st) := by
  intro p e s m args below meth c H locs cells slots mc ms ls hC h1 h2 h3 h4 h5
  exact lv_if_gt hC.1 hC.2.1 hd ht (fun q => kt q p e s m args below meth c H locs cells slots mc ms ls hC h1 h2 h3 h4 h5) (fun q => kf q p e s m args below meth c H locs cells slots mc ms ls hC h1 h2 h3 h4 h5)
theorem zt_icmp_gt {x y : Int32} {off : Int} (tgt : Nat) (hd : decode M.2.1 pc = .ok (.if_icmp .gt off, 3)) (ht : (pc : Int) + off = (tgt : Int)) (kt : y < x → Zt g M d rc rs Q h tgt L st) (kf : ¬ (y < x) → Zt g M d rc rs Q h (pc + 3) L st) : Zt g M d rc rs Q h pc L (.int y :: .int x :: st) := by
  intro p e s m args below meth c H locs cells slots mc ms ls hC h1 h2 h3 h4 h5
  exact lv_icmp_gt hC.1 hC.2.1 hd ht (fun q => kt q p e s m args below meth c H locs cells slots mc ms ls hC h1 h2 h3 h4 h5) (fun q => kf q p e s m args below meth c H locs cells slots mc ms ls hC h1 h2 h3 h4 h5)
theorem zt_if_le {x : Int32} {off : Int} (tgt : Nat) (hd : decode M.2.1 pc = .ok (.ifCond .le off, 3)) (ht : (pc : Int) + off = (tgt : Int)) (kt : x ≤ 0 → Zt g M d rc rs Q h tgt L st) (kf : ¬ (x ≤ 0) → Zt g M d rc rs Q h (pc + 3) L st) : Zt g M d rc rs Q h pc L (.int x :: st) := by
  intro p e s m args below meth c H locs cells slots mc ms ls hC h1 h2 h3 h4 h5
  exact lv_if_le hC.1 hC.2.1 hd ht (fun q => kt q p e s m args below meth c H locs cells slots mc ms ls hC h1 h2 h3 h4 h5) (fun q => kf q p e s m args below meth c H locs cells slots mc ms ls hC h1 h2 h3 h4 h5)
theorem zt_icmp_le {x y : Int32} {off : Int} (tgt : Nat) (hd : decode M.2.1 pc = .ok (.if_icmp .le off, 3)) (ht : (pc : Int) + off = (tgt : Int)) (kt : x ≤ y → Zt g M d rc rs Q h tgt L st) (kf : ¬ (x ≤ y) → Zt g M d rc rs Q h (pc + 3) L st) : Zt g M d rc rs Q h pc L (.int y :: .int x :: st) := by
  intro p e s m args below meth c H locs cells slots mc ms ls hC h1 h2 h3 h4 h5
  exact lv_icmp_le hC.1 hC.2.1 hd ht (fun q => kt q p e s m args below meth c H locs cells slots mc ms ls hC h1 h2 h3 h4 h5) (fun q => kf q p e s m args below meth c H locs cells slots mc ms ls hC h1 h2 h3 h4 h5)
theorem zt_goto {off : Int} (tgt : Nat) (hd : decode M.2.1 pc = .ok (.goto off, 3)) (ht : (pc : Int) + off = (tgt : Int)) (k : Zt g M d rc rs Q h tgt L st) : Zt g M d rc rs Q h pc L st := by
  intro p e s m args below meth c H locs cells slots mc ms ls hC h1 h2 h3 h4 h5
  exact lv_goto hC.1 hC.2.1 hd ht (k p e s m args below meth c H locs cells slots mc ms ls hC h1 h2 h3 h4 h5)
theorem zt_nonnull {x : Nat} {off : Int} (tgt : Nat) (hd : decode M.2.1 pc = .ok (.ifnonnull off, 3)) (ht : (pc : Int) + off = (tgt : Int)) (k : Zt g M d rc rs Q h tgt L st) : Zt g M d rc rs Q h pc L (.ref x :: st) := by
  intro p e s m args below meth c H locs cells slots mc ms ls hC h1 h2 h3 h4 h5
  exact lv_ifnonnull hC.1 hC.2.1 hd ht (k p e s m args below meth c H locs cells slots mc ms ls hC h1 h2 h3 h4 h5)
theorem zt_nonnullN {off : Int} (hd : decode M.2.1 pc = .ok (.ifnonnull off, 3)) (k : Zt g M d rc rs Q h (pc + 3) L st) : Zt g M d rc rs Q h pc L (.null :: st) := by
  intro p e s m args below meth c H locs cells slots mc ms ls hC h1 h2 h3 h4 h5
  exact lv_ifnonnullN hC.1 hC.2.1 hd (k p e s m args below meth c H locs cells slots mc ms ls hC h1 h2 h3 h4 h5)
theorem zt_lookup {dflt : Int} {ps : Array (Int × Int)} {len : Nat} {x : Int32} {off : Int} (tgt : Nat) (hd : decode M.2.1 pc = .ok (.lookupswitch dflt ps, len)) (hp : (ps.toList.zip (ps.toList.drop 1)).all (fun (a, next) => a.1 < next.1) = true) (ho : Op.lookupswitch.offset ps.toList dflt x.toInt = off) (ht : (pc : Int) + off = (tgt : Int)) (k : Zt g M d rc rs Q h tgt L st) : Zt g M d rc rs Q h pc L (.int x :: st) := by
  intro p e s m args below meth c H locs cells slots mc ms ls hC h1 h2 h3 h4 h5
  exact lv_lookup hC.1 hC.2.1 hd hp ho ht (k p e s m args below meth c H locs cells slots mc ms ls hC h1 h2 h3 h4 h5)
theorem zt_tableOut {dflt lo hi : Int} {offs : Array Int} {len : Nat} {x : Int32} (tgt : Nat) (hd : decode M.2.1 pc = .ok (.tableswitch dflt lo hi offs, len)) (ho : x.toInt < lo ∨ hi < x.toInt) (ht : (pc : Int) + dflt = (tgt : Int)) (k : Zt g M d rc rs Q h tgt L st) : Zt g M d rc rs Q h pc L (.int x :: st) := by
  intro p e s m args below meth c H locs cells slots mc ms ls hC h1 h2 h3 h4 h5
  exact lv_tableOut hC.1 hC.2.1 hd ho ht (k p e s m args below meth c H locs cells slots mc ms ls hC h1 h2 h3 h4 h5)
theorem zt_tableIn {dflt lo hi : Int} {offs : Array Int} {len : Nat} {x : Int32} {off : Int} (tgt : Nat) (hd : decode M.2.1 pc = .ok (.tableswitch dflt lo hi offs, len)) (ha : ¬ x.toInt < lo) (hb : ¬ hi < x.toInt) (ho : offs[(x.toInt - lo).toNat]? = some off) (ht : (pc : Int) + off = (tgt : Int)) (k : Zt g M d rc rs Q h tgt L st) : Zt g M d rc rs Q h pc L (.int x :: st) := by
  intro p e s m args below meth c H locs cells slots mc ms ls hC h1 h2 h3 h4 h5
  exact lv_tableIn hC.1 hC.2.1 hd ha hb ho ht (k p e s m args below meth c H locs cells slots mc ms ls hC h1 h2 h3 h4 h5)
theorem zt_ldc2 {idx : Nat} {v : Int64} (hd : decode M.2.1 pc = .ok (.ldc2_w idx, 3)) (hq : Cond.constantLong M.1.cls idx v ∈ lw_all) (k : Zt g M d rc rs Q h (pc + 3) L (.long v :: st)) : Zt g M d rc rs Q h pc L st := by
  intro p e s m args below meth c H locs cells slots mc ms ls hC h1 h2 h3 h4 h5
  exact W.ldc2 hC.1 hC.2.1 hC.2.2.2.2.1 (hC.2.2.2.2.2.1 _ hq) rfl hd (k p e s m args below meth c H locs cells slots mc ms ls hC h1 h2 h3 h4 h5)
theorem zt_ldc {idx : Nat} {v : Int32} (hd : decode M.2.1 pc = .ok (.ldc idx, 2)) (hq : Cond.constant M.1.cls idx v ∈ lw_all) (k : Zt g M d rc rs Q h (pc + 2) L (.int v :: st)) : Zt g M d rc rs Q h pc L st := by
  intro p e s m args below meth c H locs cells slots mc ms ls hC h1 h2 h3 h4 h5
  exact W.ldc hC.1 hC.2.1 hC.2.2.2.2.1 (hC.2.2.2.2.2.1 _ hq) rfl hd (k p e s m args below meth c H locs cells slots mc ms ls hC h1 h2 h3 h4 h5)
theorem zt_ldcw {idx : Nat} {v : Int32} (hd : decode M.2.1 pc = .ok (.ldc_w idx, 3)) (hq : Cond.constant M.1.cls idx v ∈ lw_all) (k : Zt g M d rc rs Q h (pc + 3) L (.int v :: st)) : Zt g M d rc rs Q h pc L st := by
  intro p e s m args below meth c H locs cells slots mc ms ls hC h1 h2 h3 h4 h5
  exact lv_ldcw hC.1 hC.2.1 hC.2.2.2.2.1 (hC.2.2.2.2.2.1 _ hq) hd (k p e s m args below meth c H locs cells slots mc ms ls hC h1 h2 h3 h4 h5)
theorem zt_ireturn {v : Int32} (hd : decode M.2.1 pc = .ok (.ireturn, 1)) (hr : M.2.2.2 = some .int) (hq : Q (some (.int v)) h) : Zt g M d rc rs Q h pc L [.int v] := by
  intro p e s m args below meth c H locs cells slots mc ms ls hC h1 h2 h3 h4 h5
  refine W.widen (k := mc) (n := ms) (by omega) (by omega) ?_
  exact W.iret hC.1 hC.2.1 (hC.2.2.1.trans hr) (fun t ht _ => ⟨some (.int v), h, rfl, hq, by rw [ht]; exact h3⟩) h4 hd hC.2.2.2.2.2.2.1
theorem zt_zreturn {v : Int32} (hd : decode M.2.1 pc = .ok (.ireturn, 1)) (hr : M.2.2.2 = some .boolean) (hn : v = 0 ∨ v = 1) (hq : Q (some (.int v)) h) : Zt g M d rc rs Q h pc L [.int v] := by
  intro p e s m args below meth c H locs cells slots mc ms ls hC h1 h2 h3 h4 h5
  refine W.widen (k := mc) (n := ms) (by omega) (by omega) ?_
  exact W.zret hC.1 hC.2.1 (hC.2.2.1.trans hr) (by rcases hn with e0 | e0 <;> subst e0 <;> decide) (fun t ht _ => ⟨some (.int v), h, rfl, hq, by rw [ht]; exact h3⟩) h4 hd hC.2.2.2.2.2.2.1
theorem zt_return (hd : decode M.2.1 pc = .ok (.return_, 1)) (hr : M.2.2.2 = none) (hq : Q none h) : Zt g M d rc rs Q h pc L [] := by
  intro p e s m args below meth c H locs cells slots mc ms ls hC h1 h2 h3 h4 h5
  refine W.widen (k := mc) (n := ms) (by omega) (by omega) ?_
  exact W.vret hC.1 hC.2.1 (hC.2.2.1.trans hr) (fun t ht _ => ⟨none, h, rfl, hq, by rw [ht]; exact h3⟩) h4 hd hC.2.2.2.2.2.2.1
theorem zt_areturn {a : Nat} {rt : FieldType} (hd : decode M.2.1 pc = .ok (.areturn, 1)) (hr : M.2.2.2 = some rt) (hrt : (∃ n, rt = .object n) ∨ ∃ t, rt = .array t) (hq : Q (some (.ref a)) h) : Zt g M d rc rs Q h pc L [.ref a] := by
  intro p e s m args below meth c H locs cells slots mc ms ls hC h1 h2 h3 h4 h5
  refine W.widen (k := mc) (n := ms) (by omega) (by omega) ?_
  exact W.aret hC.1 hC.2.1 (hC.2.2.1.trans hr) hrt (Or.inr ⟨_, rfl⟩) (fun t ht _ => ⟨some (.ref a), h, rfl, hq, by rw [ht]; exact h3⟩) h4 hd hC.2.2.2.2.2.2.1
end ZTA
