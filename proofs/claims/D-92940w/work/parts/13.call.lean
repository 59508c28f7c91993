/-! RULES OVER Zt: new, calls -/
set_option maxRecDepth 100000
theorem zdef : ∀ c, c < 13 → ∀ k, k < zNf c → (zty c k).isReference = true ∨ zty c k = .int ∨ zty c k = .boolean := by decide +kernel
theorem zdefV {z : Nat} {h : ZH} {c k : Nat} (hc : c < 13) (hk : k < zNf c) : defaultValue (zty c k) = zV z (zF (zN h (.inl c)) c h.1 k) := by
  have e1 : (zN h (.inl c)).2.2.1 h.1 k = 0 := if_pos rfl
  have e2 : (zN h (.inl c)).2.2.2 h.1 k = none := if_pos rfl
  rcases zdef c hc k hk with q | q | q
  · rw [zF_r q, e2]
    cases hz : zty c k <;> rw [hz] at q <;> first | rfl | cases q
  · rw [zF_i (by rw [q]; rfl), e1, q]; rfl
  · rw [zF_i (by rw [q]; rfl), e1, q]; rfl
theorem zHo.new {g : ZG} {h : ZH} {H H' : Heap} {sh : ZS} (hh : zHo g h H) (hb : h.1 < 1000000) (z1 : H'.size = g.2.1 + h.1 + 1) (o1 : ∀ q, q < g.2.1 + h.1 → H'[q]? = H[q]?) (hat : zAt g (zN h sh) H' h.1) : zHo g (zN h sh) H' := by
  refine ⟨by rw [z1]; rfl, hb, fun q hq => by rw [o1 q (by omega)]; exact hh.2.2.1 q hq, fun N hN => ?_, fun N hN => ?_⟩
  · have hN' : h.1 + 1 ≤ N := hN
    show (if N = h.1 then sh else h.2.1 N) = _
    rw [if_neg (by omega)]
    exact hh.2.2.2.1 N (by omega)
  · by_cases hNa : N = h.1
    · rw [hNa]; exact hat
    · have hN' : N < h.1 + 1 := hN
      exact (hh.2.2.2.2 N (by omega)).kept (if_neg hNa) (fun j => if_neg hNa) (fun j => if_neg hNa) (o1 _ (by omega))
section ZTC
variable {g : ZG} {M : ZM} {d rc rs : Nat} {Q : Option Value → ZH → Prop} {h : ZH} {pc : Nat} {L L' : List (Option Value)} {st : List Value}
theorem zt_new (c : Nat) {idx rc' rs' : Nat} (hd : decode M.2.1 pc = .ok (.new idx, 3)) (hl : Cond.classLink M.1.cls idx (zC c) ∈ lw_all) (hi : Cond.instantiable (zC c) (zNf c) ∈ lw_all) (hin : Cond.initialized (zC c) ∈ lw_all) (hc : c < 13) (hb : h.1 < 1000000) (hrc : rc' + 1 ≤ rc) (hrs : rs' + zNf c ≤ rs) (kk : Zt g M d rc' rs' Q (zN h (.inl c)) (pc + 3) L (.ref h.1 :: st)) : Zt g M d rc rs Q h pc L st := by
  intro p e s m args below meth c_ H locs cells slots mc ms ls hC h1 h2 h3 h4 h5
  have hts := hC.2.2.2.2.2.1
  have hKn := hC.2.2.2.2.2.2.2.2.1 c _ (zCl_at c hc)
  refine W.newcK hC.1 hC.2.1 hC.2.2.2.2.1 (hts _ hl) (hts _ hi) (hts _ hin) rfl hd (by show cells + 1 ≤ mc; omega) (by show slots + _ ≤ ms; omega) hKn.2.1 h3.1 fun H' kC hkC e1 z1 o1 => ?_
  have hz : zHo g (zN h (.inl c)) H' := by
    refine h3.new hb z1 o1 ?_
    unfold zAt
    rw [show (zN h (.inl c)).2.1 h.1 = .inl c from if_pos rfl]
    intro r hr
    cases hr.symm.trans (zCl_at c hc)
    exact (u_born (zty c) hts (zin c hc) hKn hkC e1 (ztyok c hc)).to (fun k hk => zdefV hc hk)
  have := kk p e s m args below meth c_ H' locs (cells + 1) (slots + zNf c) mc ms ls hC (by omega) (by omega) hz h4 h5
  rw [List.map_cons, show zV g.2.1 (.ref h.1) = .ref (g.2.1 + h.1) from by show Value.ref (zA g.2.1 h.1) = _; rw [zA_lt hb]] at this
  exact this
theorem zt_newI (n : Nat) {i : Int32} {rc' rs' : Nat} (hd : decode M.2.1 pc = .ok (.newarray .int, 2)) (hb : h.1 < 1000000) (hi : i = nI n) (hn : n ≤ 100000) (hrc : rc' + 1 ≤ rc) (hrs : rs' + n ≤ rs) (kk : Zt g M d rc' rs' Q (zN h (.inr (0, n))) (pc + 2) L (.ref h.1 :: st)) : Zt g M d rc rs Q h pc L (.int i :: st) := by
  intro p e s m args below meth c_ H locs cells slots mc ms ls hC h1 h2 h3 h4 h5
  have hts := hC.2.2.2.2.2.1
  subst hi
  refine va_newaK (atype := .int) hC.1 hC.2.1 (hts _ q259) rfl hd rfl (nI_pos (by omega)) (nI_clamp (by omega)) (Nat.le_trans (Nat.mul_le_mul hn (show componentBytes (newarray.typeOf .int) ≤ 4 by decide)) (by decide)) (by show cells + 1 ≤ mc; omega) (by show slots + _ ≤ ms; omega) h3.1 fun H' cA e1 z1 o1 hAr hNm => ?_
  have hcA : cA = g.2.2.2.2 0 := by
    have h2 := (hC.2.2.2.2.2.2.2.2.2.1 0 (by decide)).2
    exact Option.some.inj (hNm.symm.trans h2)
  have hz : zHo g (zN h (.inr (0, n))) H' := by
    refine h3.new hb z1 o1 ?_
    unfold zAt
    rw [show (zN h (.inr (0, n))).2.1 h.1 = .inr (0, n) from if_pos rfl]
    show H'[g.2.1 + h.1]? = _
    rw [e1, hcA]
    congr 2
    funext j
    rw [zE_i (Nat.le_of_ble_eq_true rfl), show (zN h (.inr (0, n))).2.2.1 h.1 j = 0 from if_pos rfl]
    rfl
  have := kk p e s m args below meth c_ H' locs (cells + 1) (slots + n) mc ms ls hC (by omega) (by omega) hz h4 h5
  rw [List.map_cons, show zV g.2.1 (.ref h.1) = .ref (g.2.1 + h.1) from by show Value.ref (zA g.2.1 h.1) = _; rw [zA_lt hb]] at this
  exact this
theorem zt_newB (n : Nat) {i : Int32} {rc' rs' : Nat} (hd : decode M.2.1 pc = .ok (.newarray .byte, 2)) (hb : h.1 < 1000000) (hi : i = nI n) (hn : n ≤ 100000) (hrc : rc' + 1 ≤ rc) (hrs : rs' + n ≤ rs) (kk : Zt g M d rc' rs' Q (zN h (.inr (1, n))) (pc + 2) L (.ref h.1 :: st)) : Zt g M d rc rs Q h pc L (.int i :: st) := by
  intro p e s m args below meth c_ H locs cells slots mc ms ls hC h1 h2 h3 h4 h5
  have hts := hC.2.2.2.2.2.1
  subst hi
  refine va_newaK (atype := .byte) hC.1 hC.2.1 (hts _ q258) rfl hd rfl (nI_pos (by omega)) (nI_clamp (by omega)) (Nat.le_trans (Nat.mul_le_mul hn (show componentBytes (newarray.typeOf .byte) ≤ 4 by decide)) (by decide)) (by show cells + 1 ≤ mc; omega) (by show slots + _ ≤ ms; omega) h3.1 fun H' cA e1 z1 o1 hAr hNm => ?_
  have hcA : cA = g.2.2.2.2 1 := by
    have h2 := (hC.2.2.2.2.2.2.2.2.2.1 1 (by decide)).2
    exact Option.some.inj (hNm.symm.trans h2)
  have hz : zHo g (zN h (.inr (1, n))) H' := by
    refine h3.new hb z1 o1 ?_
    unfold zAt
    rw [show (zN h (.inr (1, n))).2.1 h.1 = .inr (1, n) from if_pos rfl]
    show H'[g.2.1 + h.1]? = _
    rw [e1, hcA]
    congr 2
    funext j
    rw [zE_i (Nat.le_of_ble_eq_true rfl), show (zN h (.inr (1, n))).2.2.1 h.1 j = 0 from if_pos rfl]
    rfl
  have := kk p e s m args below meth c_ H' locs (cells + 1) (slots + n) mc ms ls hC (by omega) (by omega) hz h4 h5
  rw [List.map_cons, show zV g.2.1 (.ref h.1) = .ref (g.2.1 + h.1) from by show Value.ref (zA g.2.1 h.1) = _; rw [zA_lt hb]] at this
  exact this
theorem zt_newS (n : Nat) {i : Int32} {rc' rs' : Nat} (hd : decode M.2.1 pc = .ok (.newarray .short, 2)) (hb : h.1 < 1000000) (hi : i = nI n) (hn : n ≤ 100000) (hrc : rc' + 1 ≤ rc) (hrs : rs' + n ≤ rs) (kk : Zt g M d rc' rs' Q (zN h (.inr (2, n))) (pc + 2) L (.ref h.1 :: st)) : Zt g M d rc rs Q h pc L (.int i :: st) := by
  intro p e s m args below meth c_ H locs cells slots mc ms ls hC h1 h2 h3 h4 h5
  have hts := hC.2.2.2.2.2.1
  subst hi
  refine va_newaK (atype := .short) hC.1 hC.2.1 (hts _ q1113) rfl hd rfl (nI_pos (by omega)) (nI_clamp (by omega)) (Nat.le_trans (Nat.mul_le_mul hn (show componentBytes (newarray.typeOf .short) ≤ 4 by decide)) (by decide)) (by show cells + 1 ≤ mc; omega) (by show slots + _ ≤ ms; omega) h3.1 fun H' cA e1 z1 o1 hAr hNm => ?_
  have hcA : cA = g.2.2.2.2 2 := by
    have h2 := (hC.2.2.2.2.2.2.2.2.2.1 2 (by decide)).2
    exact Option.some.inj (hNm.symm.trans h2)
  have hz : zHo g (zN h (.inr (2, n))) H' := by
    refine h3.new hb z1 o1 ?_
    unfold zAt
    rw [show (zN h (.inr (2, n))).2.1 h.1 = .inr (2, n) from if_pos rfl]
    show H'[g.2.1 + h.1]? = _
    rw [e1, hcA]
    congr 2
    funext j
    rw [zE_i (Nat.le_of_ble_eq_true rfl), show (zN h (.inr (2, n))).2.2.1 h.1 j = 0 from if_pos rfl]
    rfl
  have := kk p e s m args below meth c_ H' locs (cells + 1) (slots + n) mc ms ls hC (by omega) (by omega) hz h4 h5
  rw [List.map_cons, show zV g.2.1 (.ref h.1) = .ref (g.2.1 + h.1) from by show Value.ref (zA g.2.1 h.1) = _; rw [zA_lt hb]] at this
  exact this
theorem zt_newZ (n : Nat) {i : Int32} {rc' rs' : Nat} (hd : decode M.2.1 pc = .ok (.newarray .boolean, 2)) (hb : h.1 < 1000000) (hi : i = nI n) (hn : n ≤ 100000) (hrc : rc' + 1 ≤ rc) (hrs : rs' + n ≤ rs) (kk : Zt g M d rc' rs' Q (zN h (.inr (3, n))) (pc + 2) L (.ref h.1 :: st)) : Zt g M d rc rs Q h pc L (.int i :: st) := by
  intro p e s m args below meth c_ H locs cells slots mc ms ls hC h1 h2 h3 h4 h5
  have hts := hC.2.2.2.2.2.1
  subst hi
  refine va_newaK (atype := .boolean) hC.1 hC.2.1 (hts _ q1408) rfl hd rfl (nI_pos (by omega)) (nI_clamp (by omega)) (Nat.le_trans (Nat.mul_le_mul hn (show componentBytes (newarray.typeOf .boolean) ≤ 4 by decide)) (by decide)) (by show cells + 1 ≤ mc; omega) (by show slots + _ ≤ ms; omega) h3.1 fun H' cA e1 z1 o1 hAr hNm => ?_
  have hcA : cA = g.2.2.2.2 3 := by
    have h2 := (hC.2.2.2.2.2.2.2.2.2.1 3 (by decide)).2
    exact Option.some.inj (hNm.symm.trans h2)
  have hz : zHo g (zN h (.inr (3, n))) H' := by
    refine h3.new hb z1 o1 ?_
    unfold zAt
    rw [show (zN h (.inr (3, n))).2.1 h.1 = .inr (3, n) from if_pos rfl]
    show H'[g.2.1 + h.1]? = _
    rw [e1, hcA]
    congr 2
    funext j
    rw [zE_i (Nat.le_of_ble_eq_true rfl), show (zN h (.inr (3, n))).2.2.1 h.1 j = 0 from if_pos rfl]
    rfl
  have := kk p e s m args below meth c_ H' locs (cells + 1) (slots + n) mc ms ls hC (by omega) (by omega) hz h4 h5
  rw [List.map_cons, show zV g.2.1 (.ref h.1) = .ref (g.2.1 + h.1) from by show Value.ref (zA g.2.1 h.1) = _; rw [zA_lt hb]] at this
  exact this
/-- what a call of the method M asks of the tables, for an object of its own class -/
def zMi (M : ZM) (n : Nat) : Prop := Cond.instanceMethod M.1 ∈ lw_all ∧ Cond.selects M.1.cls M.1 M.1 ∈ lw_all ∧ Cond.initialized M.1.cls ∈ lw_all ∧ Cond.code M.1 M.2.1 M.2.2.1 M.2.2.2 ∈ lw_all ∧ M.1.cls ≠ "java/lang/invoke/MethodHandle" ∧ M.1.cls ≠ "java/lang/invoke/VarHandle" ∧ (parseMethodDescriptor M.1.desc).map (fun d => d.parameters.length) = some n ∧ M.2.2.1 ≤ 81
def zMs (M : ZM) (n : Nat) : Prop := Cond.static M.1 ∈ lw_all ∧ Cond.initialized M.1.cls ∈ lw_all ∧ Cond.code M.1 M.2.1 M.2.2.1 M.2.2.2 ∈ lw_all ∧ M.1.cls ≠ "java/lang/invoke/MethodHandle" ∧ M.1.cls ≠ "java/lang/invoke/VarHandle" ∧ (parseMethodDescriptor M.1.desc).map (fun d => d.parameters.length) = some n ∧ M.2.2.1 ≤ 81
def zMc (M : ZM) (n : Nat) : Prop := Cond.instanceMethod M.1 ∈ lw_all ∧ Cond.initialized M.1.cls ∈ lw_all ∧ Cond.code M.1 M.2.1 M.2.2.1 M.2.2.2 ∈ lw_all ∧ M.1.cls ≠ "java/lang/invoke/MethodHandle" ∧ M.1.cls ≠ "java/lang/invoke/VarHandle" ∧ (parseMethodDescriptor M.1.desc).map (fun d => d.parameters.length) = some n ∧ M.2.2.1 ≤ 81 ∧ M.1.name = "<init>" ∧ M.2.2.2 = none
theorem zblind {g : ZG} {h : ZH} {av : List Value} : FrameBlind (va_Pc av (fun U => zHo g h U.heap ∧ zK g U)) := fun a U f mk q => ⟨q.1, q.2.1, q.2.2.calling f mk a⟩
theorem zpre {g : ZG} {h : ZH} {av : List Value} {s : State} {H : Heap} (hh : zHo g h H) (hK : zK g s) : ∀ U : State, U.heap = H → s.WarmedH U.vm → va_Pc av (fun U => zHo g h U.heap ∧ zK g U) av.toArray U := fun U hU hW => ⟨rfl, by rw [hU]; exact hh, hK.moved hW⟩
theorem zcat (z : Nat) (st : List Value) : ((st.map (zV z)).map fun v => v.category) = st.map fun v => v.category := by
  rw [List.map_map]
  exact List.map_congr_left (fun v _ => zV_cat z v)
theorem zroom {m : MethodId} {pc z : Nat} {ls : Array Slot} {st0 st : List Value} (hw : (st.map fun v => v.category).sum ≤ 8) : 2 * (F0 m pc ls st0).monitorRoom + ((st.map (zV z)).map fun v => v.category).sum ≤ 8 := by
  rw [zcat]
  show 2 * 0 + _ ≤ 8
  omega
/-- behind a call -/
theorem zt_back {p : Program} {e : Env} {s : State} {m : MethodId} {args : Array Value} {below : List Frame} {meth : Method} {c_ : Code} {H : Heap} {locs : List Loc} {cells slots mc ms mc' ms' rc' rs' : Nat} {ls : Array Slot} {st0 : List Value} {a : Array Value} {Q' : Option Value → ZH → Prop}
    (hr : va_Run p g.1 e (zRm d mc ms) s m args below meth c_ H locs cells slots mc' ms' (F0 m pc ls st0) (st.map (zV g.2.1)) (zQ g Q' a) (fun q => g.2.1 ≤ q)) (hC : zCx g M p s m args meth c_) (h1 : cells + rc ≤ mc) (h2 : slots + rs ≤ ms) (h4 : ∀ q ∈ locs, g.2.1 ≤ q.base) (h5 : zLr g.2.1 ls M.2.2.1 L) (hrc : rc' + mc' ≤ rc) (hrs : rs' + ms' ≤ rs)
    (kk : ∀ (r : Option Value) (h' : ZH), Q' r h' → Zt g M d rc' rs' Q h' (pc + 3) L (r.toList ++ st)) : W p g.1 e (zRm d mc ms) s m args below meth c_ H locs cells slots (MQ below (zQ g Q) args s mc ms (fun q => g.2.1 ≤ q)) (F0 m pc ls st0) := by
  intro T hT X
  obtain ⟨v, st₀, t, T', L', h0, X', hL, e1, e2, ⟨r, h', hv, hq, hh⟩, stp⟩ := hr T hT X
  cases hv
  have hw := kk r h' hq p e s m args below meth c_ t.heap (locs ++ L') (cells + mc') (slots + ms') mc ms ls hC (by omega) (by omega) hh (fun q hq => by
    rcases List.mem_append.mp hq with q1 | q1
    · exact h4 q q1
    · exact hL q q1) h5
  obtain ⟨t2, a1, b1⟩ := hw T' e1 X'
  refine ⟨t2, stp t2 ?_, b1⟩
  have e3 : (r.toList ++ st).map (zV g.2.1) = (r.map (zV g.2.1)).toList ++ st.map (zV g.2.1) := by cases r <;> rfl
  rw [e3] at a1
  exact a1
theorem zRm_loc {d d' mc ms mc' ms' nL : Nat} (hd : d' + 1 ≤ d) (hL : nL ≤ 81) : (zRm d' mc' ms').frames + 1 ≤ (zRm d mc ms).frames ∧ 8 + (nL + 11) + (zRm d' mc' ms').locals ≤ (zRm d mc ms).locals := ⟨hd, by show 8 + (nL + 11) + 100 * d' ≤ 100 * d; omega⟩
/-- invokevirtual of a method of the object's own class -/
theorem zt_callV (M' : ZM) (n c : Nat) {idx d' mc' ms' rc' rs' b : Nat} {As st0 : List Value} {Q' : Option Value → ZH → Prop} (hd : decode M.2.1 pc = .ok (.invokevirtual idx, 3)) (hl : Cond.methodLink M.1.cls idx M'.1 ∈ lw_all) (hM : zMi M' n) (hc : c < 13) (hcn : M'.1.cls = zC c) (hs : h.2.1 b = .inl c) (hct : Zc g M' d' mc' ms' (.ref b :: As) h Q') (hn : As.length = n) (hst : st0 = As.reverse ++ .ref b :: st) (hdd : d' + 1 ≤ d) (hw : (st.map fun v => v.category).sum ≤ 8) (hrc : rc' + mc' ≤ rc) (hrs : rs' + ms' ≤ rs)
    (kk : ∀ (r : Option Value) (h' : ZH), Q' r h' → Zt g M d rc' rs' Q h' (pc + 3) L (r.toList ++ st)) : Zt g M d rc rs Q h pc L st0 := by
  intro p e s m args below meth c_ H locs cells slots mc ms ls hC h1 h2 h3 h4 h5
  subst hst
  have hts := hC.2.2.2.2.2.1
  obtain ⟨m1, m2, m3, m4, m5, m6, m7, m8⟩ := hM
  obtain ⟨hlb, hB, cellB, g1, g2, g3, -⟩ := h3.obj hs hc
  have hfc : s.vm.findClass M'.1.cls = some cellB.cls := by
    rw [g2, hcn]
    exact (hC.2.2.2.2.2.2.2.2.1 c _ (zCl_at c hc)).2.1
  have hcw := cwV (R := zRm d mc ms) (rm := zRm d' mc' ms') (mc := mc') (ms := ms') n hts (lw_V hl m1 m2 m3 m4) rfl rfl rfl ⟨rfl, m5, m6, m7⟩ (zRm_loc hdd m8)
  have hrun := va_runV (H := H) (locs := locs) (cells := cells) (slots := slots) (below := below) (meth := meth) (e := e) (g := F0 m pc ls ((As.reverse ++ Value.ref b :: st).map (zV g.2.1))) (b := g.2.1 + b) (As := As.map (zV g.2.1)) (rest := st.map (zV g.2.1)) ⟨hC.1, hC.2.1, hC.2.2.2.1, hC.2.2.2.2.1, hts⟩ hct hcw
    ⟨zblind, ⟨cellB, g1, by rw [g3]; rfl, hfc⟩, by
      have := zpre (av := (Value.ref b :: As).map (zV g.2.1)) h3 hC.2.2.2.2.2.2.2.2
      rw [List.map_cons, show zV g.2.1 (.ref b) = .ref (g.2.1 + b) from by show Value.ref (zA g.2.1 b) = _; rw [hB]] at this ⊢
      exact this⟩ rfl (by rw [List.length_map]; exact hn) h5.1 (by show (As.reverse ++ Value.ref b :: st).map (zV g.2.1) = _; rw [List.map_append, List.map_reverse, List.map_cons, show zV g.2.1 (.ref b) = .ref (g.2.1 + b) from by show Value.ref (zA g.2.1 b) = _; rw [hB]]) (zroom hw) hd ⟨by show cells + mc' ≤ mc; omega, by show slots + ms' ≤ ms; omega⟩
  exact zt_back hrun hC h1 h2 h4 h5 hrc hrs kk
/-- invokestatic -/
theorem zt_callS (M' : ZM) (n : Nat) {idx d' mc' ms' rc' rs' : Nat} {As st0 : List Value} {Q' : Option Value → ZH → Prop} (hd : decode M.2.1 pc = .ok (.invokestatic idx, 3)) (hl : Cond.methodLink M.1.cls idx M'.1 ∈ lw_all) (hM : zMs M' n) (hct : Zc g M' d' mc' ms' As h Q') (hn : As.length = n) (hst : st0 = As.reverse ++ st) (hdd : d' + 1 ≤ d) (hw : (st.map fun v => v.category).sum ≤ 8) (hrc : rc' + mc' ≤ rc) (hrs : rs' + ms' ≤ rs)
    (kk : ∀ (r : Option Value) (h' : ZH), Q' r h' → Zt g M d rc' rs' Q h' (pc + 3) L (r.toList ++ st)) : Zt g M d rc rs Q h pc L st0 := by
  intro p e s m args below meth c_ H locs cells slots mc ms ls hC h1 h2 h3 h4 h5
  subst hst
  have hts := hC.2.2.2.2.2.1
  obtain ⟨m1, m3, m4, m5, m6, m7, m8⟩ := hM
  have hcw := va_cwS (R := zRm d mc ms) (rm := zRm d' mc' ms') (mc := mc') (ms := ms') n hts (lw_S hl m1 m3 m4) rfl rfl rfl ⟨m5, m6, m7⟩ (zRm_loc hdd m8)
  have hrun := va_runS (H := H) (locs := locs) (cells := cells) (slots := slots) (below := below) (meth := meth) (e := e) (g := F0 m pc ls ((As.reverse ++ st).map (zV g.2.1))) (As := As.map (zV g.2.1)) (rest := st.map (zV g.2.1)) ⟨hC.1, hC.2.1, hC.2.2.2.1, hC.2.2.2.2.1, hts⟩ hct hcw
    ⟨zblind, zpre h3 hC.2.2.2.2.2.2.2.2⟩ rfl (by rw [List.length_map]; exact hn) h5.1 (by show (As.reverse ++ st).map (zV g.2.1) = _; rw [List.map_append, List.map_reverse]) (zroom hw) hd ⟨by show cells + mc' ≤ mc; omega, by show slots + ms' ≤ ms; omega⟩
  exact zt_back hrun hC h1 h2 h4 h5 hrc hrs kk
/-- invokespecial of a constructor -/
theorem zt_callI (M' : ZM) (n : Nat) {idx d' mc' ms' rc' rs' b : Nat} {As st0 : List Value} {Q' : Option Value → ZH → Prop} (hd : decode M.2.1 pc = .ok (.invokespecial idx, 3)) (hl : Cond.methodLink M.1.cls idx M'.1 ∈ lw_all) (hM : zMc M' n) (hct : Zc g M' d' mc' ms' (.ref b :: As) h Q') (hn : As.length = n) (hb : b < h.1) (hst : st0 = As.reverse ++ .ref b :: st) (hdd : d' + 1 ≤ d) (hw : (st.map fun v => v.category).sum ≤ 8) (hrc : rc' + mc' ≤ rc) (hrs : rs' + ms' ≤ rs)
    (kk : ∀ (r : Option Value) (h' : ZH), Q' r h' → Zt g M d rc' rs' Q h' (pc + 3) L (r.toList ++ st)) : Zt g M d rc rs Q h pc L st0 := by
  intro p e s m args below meth c_ H locs cells slots mc ms ls hC h1 h2 h3 h4 h5
  subst hst
  have hts := hC.2.2.2.2.2.1
  obtain ⟨m1, m3, m4, m5, m6, m7, m8, m9, m10⟩ := hM
  have hB : zA g.2.1 b = g.2.1 + b := zA_lt (Nat.lt_of_lt_of_le hb h3.2.1)
  have hct' : Met g.1 M'.1 (ws_ M'.1 M'.2.1 M'.2.2.1 none) (zRm d' mc' ms') (va_Pc ((Value.ref b :: As).map (zV g.2.1)) (fun U => zHo g h U.heap ∧ zK g U)) (zQ g Q') mc' ms' (fun q => g.2.1 ≤ q) := by rw [← m10]; exact hct
  have hcw := cwI (own := M.1.cls) (index := idx) (R := zRm d mc ms) (rm := zRm d' mc' ms') (mc := mc') (ms := ms') n hts (lw_meth (by rw [← m10]; exact m4)) rfl rfl rfl (hts _ m3) (hts _ hl) (hts _ m1) m9 ⟨m5, m6, m7⟩ (zRm_loc hdd m8)
  have hrun := va_runI (H := H) (locs := locs) (cells := cells) (slots := slots) (below := below) (meth := meth) (e := e) (g := F0 m pc ls ((As.reverse ++ Value.ref b :: st).map (zV g.2.1))) (b := g.2.1 + b) (As := As.map (zV g.2.1)) (rest := st.map (zV g.2.1)) ⟨hC.1, hC.2.1, hC.2.2.2.1, hC.2.2.2.2.1, hts⟩ hct' hcw
    ⟨zblind, by
      have := zpre (av := (Value.ref b :: As).map (zV g.2.1)) h3 hC.2.2.2.2.2.2.2.2
      rw [List.map_cons, show zV g.2.1 (.ref b) = .ref (g.2.1 + b) from by show Value.ref (zA g.2.1 b) = _; rw [hB]] at this ⊢
      exact this⟩ rfl (by rw [List.length_map]; exact hn) h5.1 (by show (As.reverse ++ Value.ref b :: st).map (zV g.2.1) = _; rw [List.map_append, List.map_reverse, List.map_cons, show zV g.2.1 (.ref b) = .ref (g.2.1 + b) from by show Value.ref (zA g.2.1 b) = _; rw [hB]]) (zroom hw) hd ⟨by show cells + mc' ≤ mc; omega, by show slots + ms' ≤ ms; omega⟩
  exact zt_back hrun hC h1 h2 h4 h5 hrc hrs kk
theorem zObj1 : Cond.instanceMethod Lib.objectInit ∈ lw_all := q146
theorem zObj2 : Cond.code Lib.objectInit ⟨#[0xb1]⟩ 1 none ∈ lw_all := q147
/-- Object's own constructor -/
theorem zt_objInit {idx a : Nat} (hd : decode M.2.1 pc = .ok (.invokespecial idx, 3)) (hl : Cond.methodLink M.1.cls idx Lib.objectInit ∈ lw_all) (hdd : 1 ≤ d) (hw : (st.map fun v => v.category).sum ≤ 8) (kk : Zt g M d rc rs Q h (pc + 3) L st) : Zt g M d rc rs Q h pc L (.ref a :: st) := by
  intro p e s m args below meth c_ H locs cells slots mc ms ls hC h1 h2 h3 h4 h5
  have a1 := hC.2.2.2.2.2.1 _ hl
  have a2 := hC.2.2.2.2.2.1 _ zObj1
  have a3 := hC.2.2.2.2.2.1 _ zObj2
  have a4 : 2 * 0 + ((st.map (zV g.2.1)).map fun v => v.category).sum + 12 ≤ 100 * d := by rw [zcat]; omega
  exact W.objInit hC.1 hC.2.1 hC.2.2.2.2.1 a1 a2 a3 rfl (h5.1.trans hC.2.2.2.1.symm) rfl hd hdd a4 (kk p e s m args below meth c_ H locs cells slots mc ms ls hC h1 h2 h3 h4 h5)
end ZTC
