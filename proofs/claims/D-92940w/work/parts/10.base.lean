/-! THE ABSTRACT HEAP: all cells that the law's run makes, in the order of their making; and the judgement Zt over it -/
set_option maxRecDepth 100000
/-- the shape of a cell: an object of the class with that number in zCl, or an array: number of its type in zTy, length -/
abbrev ZS : Type := Nat ⊕ (Nat × Nat)
/-- how many cells; their shapes; their ints; their references -/
abbrev ZH : Type := Nat × (Nat → ZS) × (Nat → Nat → Int32) × (Nat → Nat → Option Nat)
/-- the run: launch; size of the heap ahead of it; that heap; classes and slots; array classes -/
abbrev ZG : Type := Launch × Nat × Heap × va_G × (Nat → ClassId)
/-- a method: name, code, locals, answer -/
abbrev ZM : Type := MethodName × ByteArray × Nat × Option FieldType
def zu {α : Type} (f : Nat → Nat → α) (a k : Nat) (v : α) : Nat → Nat → α := fun a' j => if a' = a ∧ j = k then v else f a' j
def zI (h : ZH) (a k : Nat) (v : Int32) : ZH := (h.1, h.2.1, zu h.2.2.1 a k v, h.2.2.2)
def zR (h : ZH) (a k : Nat) (v : Option Nat) : ZH := (h.1, h.2.1, h.2.2.1, zu h.2.2.2 a k v)
def zN (h : ZH) (s : ZS) : ZH := (h.1 + 1, fun N => if N = h.1 then s else h.2.1 N, fun N j => if N = h.1 then 0 else h.2.2.1 N j, fun N j => if N = h.1 then none else h.2.2.2 N j)
abbrev zCl : List vw_C := [(RX0, TX0, 30), (RX1, TX1, 4), (RX2, TX2, 6), (RX3, TX3, 6), (RX4, TX4, 2), (RX5, TX5, 45), (RX6, TX6, 15), (RX7, TX7, 8), (RX8, TX8, 3), (RX9, TX9, 6), (RX10, TX10, 7), (RX11, TX11, 7), (RX12, TX12, 8)]
def zty (c k : Nat) : FieldType := match c with
  | 0 => tyX0 k
  | 1 => tyX1 k
  | 2 => tyX2 k
  | 3 => tyX3 k
  | 4 => tyX4 k
  | 5 => tyX5 k
  | 6 => tyX6 k
  | 7 => tyX7 k
  | 8 => tyX8 k
  | 9 => tyX9 k
  | 10 => tyX10 k
  | 11 => tyX11 k
  | _ => tyX12 k
def zTy (t : Nat) : FieldType := match t with
  | 0 => .int
  | 1 => .byte
  | 2 => .short
  | 3 => .boolean
  | 4 => .object "FirstWords$Meaning"
  | 5 => .object "FirstWords$Stranger"
  | 6 => .object "FirstWords$Mind"
  | 7 => .array .int
  | 8 => .array (.object "FirstWords$Mind")
  | 9 => .object "FirstWords$Image"
  | _ => .object "FirstWords$Sheet"
/-- an abstract address: a cell of the run by its number, or (from 1000000 on) a cell that was there before -/
def zA (z A : Nat) : Nat := if A < 1000000 then z + A else A - 1000000
def zV (z : Nat) (v : Value) : Value := match v with
  | .ref A => .ref (zA z A)
  | v => v
def zF (h : ZH) (c N k : Nat) : Value := if (zty c k).isReference then va_rf (h.2.2.2 N k) else .int (h.2.2.1 N k)
def zE (h : ZH) (t N j : Nat) : Value := if 4 ≤ t then va_rf (h.2.2.2 N j) else .int (h.2.2.1 N j)
/-- the cell N stands in the machine's heap as the abstract heap says -/
def zAt (g : ZG) (h : ZH) (H : Heap) (N : Nat) : Prop := match h.2.1 N with
  | .inl c => ∀ r : vw_C, zCl[c]? = some r → t_OB (g.2.1 + N) (g.2.2.2.1.1 c) r.2.2 (g.2.2.2.1.2 c) H (fun k => zV g.2.1 (zF h c N k))
  | .inr q => H[g.2.1 + N]? = some (arrV (g.2.2.2.2 q.1) q.2 (fun j => zV g.2.1 (zE h q.1 N j)))
def zHo (g : ZG) (h : ZH) (H : Heap) : Prop := H.size = g.2.1 + h.1 ∧ h.1 ≤ 1000000 ∧ (∀ q, q < g.2.1 → H[q]? = g.2.2.1[q]?) ∧ (∀ N, h.1 ≤ N → h.2.1 N = .inl 99) ∧ ∀ N, N < h.1 → zAt g h H N
def zNw : Cond → Bool
  | .fieldLinkNest .. => true
  | .methodLinkNest .. => true
  | .castable .. => true
  | _ => false
/-- what is known of the classes -/
def zK (g : ZG) (U : State) : Prop := (∀ (c : Nat) (r : vw_C), zCl[c]? = some r → u_Kn U r.1 r.2.1 r.2.2 (g.2.2.2.1.1 c) (g.2.2.2.1.2 c)) ∧ (∀ t, t < 11 → ArrOfT U (g.2.2.2.2 t) (zTy t) ∧ va_RA U (g.2.2.2.2 t) (zTy t)) ∧ (∀ w ∈ lw_tbl, zNw w = true → va_Nw w U) ∧ (va_AO "FirstWords$Meaning" U ∧ va_AO "FirstWords$Stranger" U ∧ va_AO "FirstWords$Mind" U ∧ va_AO "FirstWords$Image" U ∧ va_AO "FirstWords$Sheet" U)
theorem zK.moved {g : ZG} {s U : State} (hW : s.WarmedH U.vm) (h : zK g s) : zK g U := by
  refine ⟨fun c r hr => u_Kn_moved hW.alike (h.1 c r hr), fun t ht => ⟨arrOfT_moved hW.alike (h.2.1 t ht).1, (h.2.1 t ht).2.moved hW.alike⟩, fun w hw hn => ?_, h.2.2.2.1.moved hW.alike, h.2.2.2.2.1.moved hW.alike, h.2.2.2.2.2.1.moved hW.alike, h.2.2.2.2.2.2.1.moved hW.alike, h.2.2.2.2.2.2.2.moved hW.alike⟩
  have hz := h.2.2.1 w hw hn
  cases w <;> first | exact va_Nw.warmF hW hz | exact va_Nw.warmM hW hz | exact va_Nw.warmC hW hz | cases hn
theorem zK.calling {g : ZG} {U : State} (f : JFrame) (mk : MethodId) (a : Array Value) (h : zK g U) : zK g (U.calling f mk a) := by
  have hal : U.vm.Alike (U.calling f mk a).vm := Vm.Alike.refl U.vm
  refine ⟨fun c r hr => u_Kn_moved hal (h.1 c r hr), fun t ht => ⟨arrOfT_moved hal (h.2.1 t ht).1, (h.2.1 t ht).2.moved hal⟩, fun w hw hn => ?_, h.2.2.2.1.moved hal, h.2.2.2.2.1.moved hal, h.2.2.2.2.2.1.moved hal, h.2.2.2.2.2.2.1.moved hal, h.2.2.2.2.2.2.2.moved hal⟩
  have hz := h.2.2.1 w hw hn
  cases w <;> first | exact va_Nw.same rfl rfl hz | cases hn
def zRm (d mc ms : Nat) : Room := { frames := d, cells := mc, slots := ms, locals := 100 * d }
/-- the abstract locals hold -/
def zLr (z : Nat) (ls : Array Slot) (nL : Nat) (L : List (Option Value)) : Prop := ls.size = nL ∧ lv_wf ls ∧ ∀ (i : Nat) (v : Value), L[i]? = some (some v) → ls[i]? = some (.val (zV z v))
def zCx (g : ZG) (M : ZM) (p : Program) (s : State) (m : MethodId) (args : Array Value) (meth : Method) (c : Code) : Prop :=
  p.tables.exec = Jvm.exec ∧ c.code = M.2.1 ∧ meth.sig.returnType = M.2.2.2 ∧ c.maxLocals = M.2.2.1 ∧ s.vm.findClass M.1.cls = some m.cls ∧ (∀ w ∈ lw_all, w.before args s = true) ∧ meth.locks = false ∧ meth.name = M.1.name ∧ zK g s
def zQ (g : ZG) (Q : Option Value → ZH → Prop) : Array Value → State → Outcome → State → Prop := fun _ _ oc t => ∃ (r : Option Value) (h' : ZH), oc = .returned (r.map (zV g.2.1)) ∧ Q r h' ∧ zHo g h' t.heap
/-- THE JUDGEMENT: in the method M, with d frames and rc cells of rs slots left, at pc with locals L, stack st, heap h: it returns, with Q -/
def Zt (g : ZG) (M : ZM) (d rc rs : Nat) (Q : Option Value → ZH → Prop) (h : ZH) (pc : Nat) (L : List (Option Value)) (st : List Value) : Prop :=
  ∀ (p : Program) (e : Env) (s : State) (m : MethodId) (args : Array Value) (below : List Frame) (meth : Method) (c : Code) (H : Heap) (locs : List Loc) (cells slots mc ms : Nat) (ls : Array Slot),
    zCx g M p s m args meth c → cells + rc ≤ mc → slots + rs ≤ ms → zHo g h H → (∀ q ∈ locs, g.2.1 ≤ q.base) → zLr g.2.1 ls M.2.2.1 L →
    W p g.1 e (zRm d mc ms) s m args below meth c H locs cells slots (MQ below (zQ g Q) args s mc ms (fun q => g.2.1 ≤ q)) (F0 m pc ls (st.map (zV g.2.1)))
/-- A CONTRACT of the method M from the heap h with the arguments As -/
def Zc (g : ZG) (M : ZM) (d mc ms : Nat) (As : List Value) (h : ZH) (Q : Option Value → ZH → Prop) : Prop :=
  Met g.1 M.1 (ws_ M.1 M.2.1 M.2.2.1 M.2.2.2) (zRm d mc ms) (va_Pc (As.map (zV g.2.1)) (fun U => zHo g h U.heap ∧ zK g U)) (zQ g Q) mc ms (fun q => g.2.1 ≤ q)
theorem zV_cat (z : Nat) (v : Value) : (zV z v).category = v.category := by cases v <;> rfl
/-- the locals at the entry -/
def zAr : List Value → List (Option Value)
  | [] => []
  | v :: vs => if v.category = 2 then some v :: none :: zAr vs else some v :: zAr vs
theorem zAr_args (z : Nat) (vs : List Value) : ∀ (k i : Nat) (v : Value), (zAr vs)[i]? = some (some v) → (k + i, zV z v) ∈ lv_args k (vs.map (zV z)) := by
  induction vs with
  | nil => intro k i v h; simp [zAr] at h
  | cons w ws ih =>
    intro k i v h
    simp only [zAr] at h
    simp only [List.map_cons, lv_args, zV_cat]
    split at h
    next hc =>
      rw [if_pos hc]
      match i, h with
      | 0, h => simp at h; subst h; exact List.mem_cons_self
      | 1, h => simp at h
      | i + 2, h =>
        have h2 := ih (k + 2) i v (by simpa using h)
        rw [show k + (i + 2) = k + 2 + i by omega]
        exact List.mem_cons_of_mem _ h2
    next hc =>
      rw [if_neg hc]
      match i, h with
      | 0, h => simp at h; subst h; exact List.mem_cons_self
      | i + 1, h =>
        have h2 := ih (k + 1) i v (by simpa using h)
        rw [show k + (i + 1) = k + 1 + i by omega]
        exact List.mem_cons_of_mem _ h2
theorem zAr_len (z : Nat) (vs : List Value) : (lg_sl (vs.map (zV z))).length = (zAr vs).length := by
  induction vs with
  | nil => rfl
  | cons v vs ih =>
    simp only [List.map_cons, lg_sl, List.flatMap_cons, List.length_append, zV_cat, zAr] at ih ⊢
    split <;> simp [ih] <;> omega
theorem zLr_entry {z n : Nat} {vs : List Value} {L : List (Option Value)} (hn : (zAr vs).length ≤ n) (hL : L = zAr vs ++ List.replicate (n - (zAr vs).length) none) : zLr z ((lg_sl (vs.map (zV z)) ++ List.replicate (n - (lg_sl (vs.map (zV z))).length) Slot.unset).toArray) n L := by
  obtain ⟨h1, h2, h3⟩ := lv_entry (vs.map (zV z)) (n := n) (by rw [zAr_len]; exact hn)
  refine ⟨h1, h2, fun i v hi => ?_⟩
  subst hL
  by_cases hl : i < (zAr vs).length
  · rw [List.getElem?_append_left hl] at hi
    have := zAr_args z vs 0 i v hi
    rw [Nat.zero_add] at this
    exact h3 _ this
  · rw [List.getElem?_append_right (by omega)] at hi
    have := List.eq_of_mem_replicate (List.mem_of_getElem? hi)
    cases this
theorem zc_of {g : ZG} {M : ZM} {d mc ms : Nat} {As : List Value} {h : ZH} {Q : Option Value → ZH → Prop} (L : List (Option Value)) (hy : plainName M.1.cls = true) (hn : (zAr As).length ≤ M.2.2.1) (hL : L = zAr As ++ List.replicate (M.2.2.1 - (zAr As).length) none) (H : Zt g M d mc ms Q h 0 L []) : Zc g M d mc ms As h Q := by
  refine Met.ofW (cc := M.2.1) (maxL := M.2.2.1) (ret := M.2.2.2) hy rfl ?_
  intro p e s m args below meth c s₁ B hml hv
  obtain ⟨rfl, hh, hK⟩ := hv
  have hts := atoms_spec (ws := ws_ M.1 M.2.1 M.2.2.1 M.2.2.2) B.pre
  have hts : ∀ w ∈ lw_all, w.before _ s = true := fun w hw => hts w (List.mem_cons_of_mem _ hw)
  rw [lg_entry_eq]
  exact H p e s m _ below meth c s.heap [] 0 0 mc ms _ ⟨B.exec, B.bytes, B.returns, hml, findClass_of_methodNamed B.named, hts, B.notSynchronized, (name_of_methodNamed B.named B.method).1, hK⟩ (by omega) (by omega) hh (fun q hq => by cases hq) (zLr_entry hn hL)
/-- less asked, more given -/
theorem Zt.imp {g : ZG} {M : ZM} {d rc rs : Nat} {Q Q' : Option Value → ZH → Prop} {h : ZH} {pc : Nat} {L : List (Option Value)} {st : List Value} (hq : ∀ r h', Q r h' → Q' r h') (H : Zt g M d rc rs Q h pc L st) : Zt g M d rc rs Q' h pc L st := by
  intro p e s m args below meth c H' locs cells slots mc ms ls hC h1 h2 h3 h4 h5 T hT X
  obtain ⟨t, a, o, b1, b2, ⟨r, h', c1, c2, c3⟩, b4⟩ := H p e s m args below meth c H' locs cells slots mc ms ls hC h1 h2 h3 h4 h5 T hT X
  exact ⟨t, a, o, b1, b2, ⟨r, h', c1, hq r h' c2, c3⟩, b4⟩
