/-! RULES OVER Zt: fields, arrays, new -/
set_option maxRecDepth 100000
def zC (c : Nat) : String := match c with
  | 0 => RX0
  | 1 => RX1
  | 2 => RX2
  | 3 => RX3
  | 4 => RX4
  | 5 => RX5
  | 6 => RX6
  | 7 => RX7
  | 8 => RX8
  | 9 => RX9
  | 10 => RX10
  | 11 => RX11
  | _ => RX12
def zT (c : Nat) : u_T := match c with
  | 0 => TX0
  | 1 => TX1
  | 2 => TX2
  | 3 => TX3
  | 4 => TX4
  | 5 => TX5
  | 6 => TX6
  | 7 => TX7
  | 8 => TX8
  | 9 => TX9
  | 10 => TX10
  | 11 => TX11
  | _ => TX12
def zNf (c : Nat) : Nat := match c with
  | 0 => 30
  | 1 => 4
  | 2 => 6
  | 3 => 6
  | 4 => 2
  | 5 => 45
  | 6 => 15
  | 7 => 8
  | 8 => 3
  | 9 => 6
  | 10 => 7
  | 11 => 7
  | _ => 8
theorem zc13 {P : Nat → Prop} (h0 : P 0) (h1 : P 1) (h2 : P 2) (h3 : P 3) (h4 : P 4) (h5 : P 5) (h6 : P 6) (h7 : P 7) (h8 : P 8) (h9 : P 9) (h10 : P 10) (h11 : P 11) (h12 : P 12) : ∀ c, c < 13 → P c := by
  intro c hc
  match c, hc with
  | 0, _ => exact h0
  | 1, _ => exact h1
  | 2, _ => exact h2
  | 3, _ => exact h3
  | 4, _ => exact h4
  | 5, _ => exact h5
  | 6, _ => exact h6
  | 7, _ => exact h7
  | 8, _ => exact h8
  | 9, _ => exact h9
  | 10, _ => exact h10
  | 11, _ => exact h11
  | 12, _ => exact h12
  | n + 13, hc => omega
theorem zCl_at : ∀ c, c < 13 → zCl[c]? = some (zC c, zT c, zNf c) := zc13 rfl rfl rfl rfl rfl rfl rfl rfl rfl rfl rfl rfl rfl
theorem zCl_no {c : Nat} (hc : 13 ≤ c) : zCl[c]? = none := List.getElem?_eq_none hc
theorem zin : ∀ c, c < 13 → ∀ w ∈ u_ws (zC c) (zT c) (zNf c), w ∈ lw_all := zc13 in_X0 in_X1 in_X2 in_X3 in_X4 in_X5 in_X6 in_X7 in_X8 in_X9 in_X10 in_X11 in_X12
theorem ztyok : ∀ c, c < 13 → ∀ k, k < zNf c → parseFieldDescriptor (zT c k).2.2.1 = some (zty c k) := zc13 tyX0_ok tyX1_ok tyX2_ok tyX3_ok tyX4_ok tyX5_ok tyX6_ok tyX7_ok tyX8_ok tyX9_ok tyX10_ok tyX11_ok tyX12_ok
/-- two fields differ: by name, or both are final and of different declarers -/
def zDf (T : u_T) (a b : Nat) : Prop := (T a).2.1 ≠ (T b).2.1 ∨ ((T a).2.2.2 = true ∧ (T b).2.2.2 = true ∧ (T a).1 ≠ (T b).1)
theorem zdf10 : ∀ a, a < 7 → ∀ b, b < 7 → a ≠ b → (TX10 a).2.1 ≠ (TX10 b).2.1 ∨ ((TX10 a).2.2.2 = true ∧ (TX10 b).2.2.2 = true ∧ (TX10 a).1 ≠ (TX10 b).1) := by decide +kernel
theorem zdf11 : ∀ a, a < 7 → ∀ b, b < 7 → a ≠ b → (TX11 a).2.1 ≠ (TX11 b).2.1 ∨ ((TX11 a).2.2.2 = true ∧ (TX11 b).2.2.2 = true ∧ (TX11 a).1 ≠ (TX11 b).1) := by decide +kernel
theorem zdf12 : ∀ a, a < 8 → ∀ b, b < 8 → a ≠ b → (TX12 a).2.1 ≠ (TX12 b).2.1 ∨ ((TX12 a).2.2.2 = true ∧ (TX12 b).2.2.2 = true ∧ (TX12 a).1 ≠ (TX12 b).1) := by decide +kernel
theorem zdf : ∀ c, c < 13 → ∀ a, a < zNf c → ∀ b, b < zNf c → a ≠ b → zDf (zT c) a b := zc13 (fun a ha b hb n => Or.inl (nmX0 a ha b hb n)) (fun a ha b hb n => Or.inl (nmX1 a ha b hb n)) (fun a ha b hb n => Or.inl (nmX2 a ha b hb n)) (fun a ha b hb n => Or.inl (nmX3 a ha b hb n)) (fun a ha b hb n => Or.inl (nmX4 a ha b hb n)) (fun a ha b hb n => Or.inl (nmX5 a ha b hb n)) (fun a ha b hb n => Or.inl (nmX6 a ha b hb n)) (fun a ha b hb n => Or.inl (nmX7 a ha b hb n)) (fun a ha b hb n => Or.inl (nmX8 a ha b hb n)) (fun a ha b hb n => Or.inl (nmX9 a ha b hb n)) zdf10 zdf11 zdf12
theorem zfin_name {args : Array Value} {s : State} {C O f d : String} {cf fi : Nat} {kf : Class} {fd : Field} (hl : (Cond.laysFinal C O f d).before args s = true) (hi : s.fieldFound? O f d = some (cf, kf, fi, fd)) : s.vm.findClass O = some cf ∧ ∃ c dd, s.vm.findClass C = some c ∧ Jmm.declares? s.vm fd.slot (c + 1) c = some dd ∧ dd.1.name = kf.name := by
  obtain ⟨c, k, c', k', i', f', r1, r2, hf', -, -, -, hown2, -, dd, hdd, hnm, -⟩ := Cond.laysFinal_spec hl
  cases hi.symm.trans hf'
  exact ⟨hown2, c, dd, r1, hdd, hnm⟩
theorem zslots {g : ZG} {s : State} {args : Array Value} (hts : ∀ w ∈ lw_all, w.before args s = true) (hK : zK g s) {c : Nat} (hc : c < 13) : ∀ x y, x < zNf c → y < zNf c → x ≠ y → (g.2.2.2.1.2 c) x ≠ (g.2.2.2.1.2 c) y := by
  intro x y hx hy hne
  obtain ⟨hS, hfc, kC, hkC, -⟩ := hK.1 c _ (zCl_at c hc)
  obtain ⟨cfa, kfa, fia, fa, hia, ea⟩ := hS x hx
  obtain ⟨cfb, kfb, fib, fb, hib, eb⟩ := hS y hy
  rw [← ea, ← eb]
  have hin := zin c hc
  rcases zdf c hc x hx y hy hne with hd | ⟨f1, f2, hd⟩
  · refine u_apart (u_lays hts hin hx) (u_lays hts hin hy) hia hib ?_
    rw [(State.fieldFound?_type hia (ztyok c hc x hx)).1, (State.fieldFound?_type hib (ztyok c hc y hy)).1]
    exact hd
  · have la := hts _ (hin _ (u_in_lay hx))
    have lb := hts _ (hin _ (u_in_lay hy))
    unfold u_lay at la lb
    rw [if_pos f1] at la
    rw [if_pos f2] at lb
    obtain ⟨oa, ca, da, r1, r2, r3⟩ := zfin_name la hia
    obtain ⟨ob, cb, db, s1, s2, s3⟩ := zfin_name lb hib
    intro he
    rw [he] at r2
    cases r1.symm.trans s1
    cases r2.symm.trans s2
    obtain ⟨ka, ga, na⟩ := Vm.findClass_spec oa
    obtain ⟨kb, gb, nb⟩ := Vm.findClass_spec ob
    have ea' := (State.fieldFound?_spec hia).1
    have eb' := (State.fieldFound?_spec hib).1
    cases ga.symm.trans ea'
    cases gb.symm.trans eb'
    exact hd (na.symm.trans (r3.symm.trans (s3.trans nb)))
theorem zA_lt {z a : Nat} (h : a < 1000000) : zA z a = z + a := if_pos h
theorem zHo.obj {g : ZG} {h : ZH} {H : Heap} (hh : zHo g h H) {a c : Nat} (hs : h.2.1 a = .inl c) (hc : c < 13) : a < h.1 ∧ zA g.2.1 a = g.2.1 + a ∧ t_OB (g.2.1 + a) (g.2.2.2.1.1 c) (zNf c) (g.2.2.2.1.2 c) H (fun k => zV g.2.1 (zF h c a k)) := by
  have hl : a < h.1 := by
    rcases Nat.lt_or_ge a h.1 with q | q
    · exact q
    · have e := hh.2.2.2.1 a q
      rw [hs] at e
      have := Sum.inl.inj e
      omega
  have h1 := hh.2.2.2.2 a hl
  unfold zAt at h1
  rw [hs] at h1
  exact ⟨hl, zA_lt (Nat.lt_of_lt_of_le hl hh.2.1), h1 _ (zCl_at c hc)⟩
theorem zHo.arr {g : ZG} {h : ZH} {H : Heap} (hh : zHo g h H) {a : Nat} {q : Nat × Nat} (hs : h.2.1 a = .inr q) : a < h.1 ∧ zA g.2.1 a = g.2.1 + a ∧ H[g.2.1 + a]? = some (arrV (g.2.2.2.2 q.1) q.2 (fun j => zV g.2.1 (zE h q.1 a j))) := by
  have hl : a < h.1 := by
    rcases Nat.lt_or_ge a h.1 with q | q
    · exact q
    · have e := hh.2.2.2.1 a q
      rw [hs] at e
      cases e
  have h1 := hh.2.2.2.2 a hl
  unfold zAt at h1
  rw [hs] at h1
  exact ⟨hl, zA_lt (Nat.lt_of_lt_of_le hl hh.2.1), h1⟩
theorem zAt.kept {g : ZG} {h h' : ZH} {H H' : Heap} {N : Nat} (hz : zAt g h H N) (h2 : h'.2.1 N = h.2.1 N) (hi : ∀ j, h'.2.2.1 N j = h.2.2.1 N j) (hr : ∀ j, h'.2.2.2 N j = h.2.2.2 N j) (hq : H'[g.2.1 + N]? = H[g.2.1 + N]?) : zAt g h' H' N := by
  unfold zAt at hz ⊢
  rw [h2]
  have eF : ∀ c k, zF h' c N k = zF h c N k := fun c k => by unfold zF; rw [hi, hr]
  have eE : ∀ t k, zE h' t N k = zE h t N k := fun t k => by unfold zE; rw [hi, hr]
  split at hz
  · intro r hr'
    exact ((hz r hr').kept hq).to (fun k _ => by rw [eF])
  · rw [hq, hz]
    congr 2
    funext j
    rw [eE]
theorem zHo.put {g : ZG} {h h' : ZH} {H H' : Heap} {a : Nat} (hh : zHo g h H) (h1 : h'.1 = h.1) (h2 : h'.2.1 = h.2.1) (hl : a < h.1) (e2 : H'.size = H.size) (e3 : ∀ q, q ≠ g.2.1 + a → H'[q]? = H[q]?) (hi : ∀ N, N ≠ a → ∀ j, h'.2.2.1 N j = h.2.2.1 N j) (hr : ∀ N, N ≠ a → ∀ j, h'.2.2.2 N j = h.2.2.2 N j) (hat : zAt g h' H' a) : zHo g h' H' := by
  refine ⟨by rw [e2, h1]; exact hh.1, by rw [h1]; exact hh.2.1, fun q hq => by rw [e3 q (by omega)]; exact hh.2.2.1 q hq, fun N hN => by rw [h2]; exact hh.2.2.2.1 N (h1 ▸ hN), fun N hN => ?_⟩
  by_cases hNa : N = a
  · rw [hNa]; exact hat
  · exact (hh.2.2.2.2 N (h1 ▸ hN)).kept (by rw [h2]) (hi N hNa) (hr N hNa) (e3 _ (by omega))
theorem zF_i {h : ZH} {c N k : Nat} (hr : (zty c k).isReference = false) : zF h c N k = .int (h.2.2.1 N k) := by unfold zF; rw [hr]; rfl
theorem zF_r {h : ZH} {c N k : Nat} (hr : (zty c k).isReference = true) : zF h c N k = va_rf (h.2.2.2 N k) := by unfold zF; rw [hr]; rfl
theorem zu_same {α : Type} (f : Nat → Nat → α) (a k : Nat) (v : α) : zu f a k v a k = v := if_pos ⟨rfl, rfl⟩
theorem zu_ne1 {α : Type} {f : Nat → Nat → α} {a k a' j : Nat} {v : α} (h : a' ≠ a) : zu f a k v a' j = f a' j := if_neg (fun q => h q.1)
theorem zu_ne2 {α : Type} {f : Nat → Nat → α} {a k a' j : Nat} {v : α} (h : j ≠ k) : zu f a k v a' j = f a' j := if_neg (fun q => h q.2)
section ZTB
variable {g : ZG} {M : ZM} {d rc rs : Nat} {Q : Option Value → ZH → Prop} {h : ZH} {pc : Nat} {L L' : List (Option Value)} {st : List Value}
/-- getfield, any value -/
theorem zt_getV (c k : Nat) {idx a : Nat} (hd : decode M.2.1 pc = .ok (.getfield idx, 3)) (hl : Cond.fieldLink M.1.cls idx (zT c k).1 (zT c k).2.1 (zT c k).2.2.1 ∈ lw_all) (hc : c < 13) (hk : k < zNf c) (hs : h.2.1 a = .inl c) (kk : Zt g M d rc rs Q h (pc + 3) L (zF h c a k :: st)) : Zt g M d rc rs Q h pc L (.ref a :: st) := by
  intro p e s m args below meth c_ H locs cells slots mc ms ls hC h1 h2 h3 h4 h5
  obtain ⟨hla, hA, cell, q1, q2, q3, q4⟩ := h3.obj hs hc
  obtain ⟨hS, hfc, kC, hkC, hkind⟩ := hC.2.2.2.2.2.2.2.2.1 c _ (zCl_at c hc)
  obtain ⟨cf, kf, fi, f, hi, hsl⟩ := hS k hk
  exact W.getf hC.1 hC.2.1 hC.2.2.2.2.1 (hC.2.2.2.2.2.1 _ hl) hi (u_facts hfc hkC (u_lays hC.2.2.2.2.2.1 (zin c hc) hk) hi).1 q1 (by rw [q3]; exact fun h => by cases h) (v := zV g.2.1 (zF h c a k)) (by rw [hsl, q4 k hk]) rfl (by show Value.ref (zA g.2.1 a) :: _ = _; rw [hA]) hd (kk p e s m args below meth c_ H locs cells slots mc ms ls hC h1 h2 h3 h4 h5)
theorem zt_getVN (c k : Nat) {idx a : Nat} {host : String} (hd : decode M.2.1 pc = .ok (.getfield idx, 3)) (hl : Cond.fieldLinkNest M.1.cls idx (zT c k).1 (zT c k).2.1 (zT c k).2.2.1 host ∈ lw_tbl) (hc : c < 13) (hk : k < zNf c) (hs : h.2.1 a = .inl c) (kk : Zt g M d rc rs Q h (pc + 3) L (zF h c a k :: st)) : Zt g M d rc rs Q h pc L (.ref a :: st) := by
  intro p e s m args below meth c_ H locs cells slots mc ms ls hC h1 h2 h3 h4 h5
  obtain ⟨hla, hA, cell, q1, q2, q3, q4⟩ := h3.obj hs hc
  obtain ⟨hS, hfc, kC, hkC, hkind⟩ := hC.2.2.2.2.2.2.2.2.1 c _ (zCl_at c hc)
  obtain ⟨cf, kf, fi, f, hi, hsl⟩ := hS k hk
  exact va_Wgetf hC.1 hC.2.1 hC.2.2.2.2.1 (va_Nw.use rfl (hC.2.2.2.2.2.2.2.2.2.2.1 _ hl rfl)) hi (u_facts hfc hkC (u_lays hC.2.2.2.2.2.1 (zin c hc) hk) hi).1 q1 (by rw [q3]; exact fun h => by cases h) (v := zV g.2.1 (zF h c a k)) (by rw [hsl, q4 k hk]) rfl (by show Value.ref (zA g.2.1 a) :: _ = _; rw [hA]) hd (kk p e s m args below meth c_ H locs cells slots mc ms ls hC h1 h2 h3 h4 h5)
theorem zt_getI (c k : Nat) {idx a : Nat} (hd : decode M.2.1 pc = .ok (.getfield idx, 3)) (hl : Cond.fieldLink M.1.cls idx (zT c k).1 (zT c k).2.1 (zT c k).2.2.1 ∈ lw_all) (hc : c < 13) (hk : k < zNf c) (hr : (zty c k).isReference = false) (hs : h.2.1 a = .inl c) (kk : Zt g M d rc rs Q h (pc + 3) L (.int (h.2.2.1 a k) :: st)) : Zt g M d rc rs Q h pc L (.ref a :: st) := zt_getV c k hd hl hc hk hs (by rw [zF_i hr]; exact kk)
theorem zt_getR (c k : Nat) {idx a b : Nat} (hd : decode M.2.1 pc = .ok (.getfield idx, 3)) (hl : Cond.fieldLink M.1.cls idx (zT c k).1 (zT c k).2.1 (zT c k).2.2.1 ∈ lw_all) (hc : c < 13) (hk : k < zNf c) (hr : (zty c k).isReference = true) (hs : h.2.1 a = .inl c) (hv : h.2.2.2 a k = some b) (kk : Zt g M d rc rs Q h (pc + 3) L (.ref b :: st)) : Zt g M d rc rs Q h pc L (.ref a :: st) := zt_getV c k hd hl hc hk hs (by rw [zF_r hr, hv]; exact kk)
theorem zt_get0 (c k : Nat) {idx a : Nat} (hd : decode M.2.1 pc = .ok (.getfield idx, 3)) (hl : Cond.fieldLink M.1.cls idx (zT c k).1 (zT c k).2.1 (zT c k).2.2.1 ∈ lw_all) (hc : c < 13) (hk : k < zNf c) (hr : (zty c k).isReference = true) (hs : h.2.1 a = .inl c) (hv : h.2.2.2 a k = none) (kk : Zt g M d rc rs Q h (pc + 3) L (.null :: st)) : Zt g M d rc rs Q h pc L (.ref a :: st) := zt_getV c k hd hl hc hk hs (by rw [zF_r hr, hv]; exact kk)
theorem zt_getIN (c k : Nat) {idx a : Nat} {host : String} (hd : decode M.2.1 pc = .ok (.getfield idx, 3)) (hl : Cond.fieldLinkNest M.1.cls idx (zT c k).1 (zT c k).2.1 (zT c k).2.2.1 host ∈ lw_tbl) (hc : c < 13) (hk : k < zNf c) (hr : (zty c k).isReference = false) (hs : h.2.1 a = .inl c) (kk : Zt g M d rc rs Q h (pc + 3) L (.int (h.2.2.1 a k) :: st)) : Zt g M d rc rs Q h pc L (.ref a :: st) := zt_getVN c k hd hl hc hk hs (by rw [zF_i hr]; exact kk)
theorem zt_getRN (c k : Nat) {idx a b : Nat} {host : String} (hd : decode M.2.1 pc = .ok (.getfield idx, 3)) (hl : Cond.fieldLinkNest M.1.cls idx (zT c k).1 (zT c k).2.1 (zT c k).2.2.1 host ∈ lw_tbl) (hc : c < 13) (hk : k < zNf c) (hr : (zty c k).isReference = true) (hs : h.2.1 a = .inl c) (hv : h.2.2.2 a k = some b) (kk : Zt g M d rc rs Q h (pc + 3) L (.ref b :: st)) : Zt g M d rc rs Q h pc L (.ref a :: st) := zt_getVN c k hd hl hc hk hs (by rw [zF_r hr, hv]; exact kk)
theorem zt_get0N (c k : Nat) {idx a : Nat} {host : String} (hd : decode M.2.1 pc = .ok (.getfield idx, 3)) (hl : Cond.fieldLinkNest M.1.cls idx (zT c k).1 (zT c k).2.1 (zT c k).2.2.1 host ∈ lw_tbl) (hc : c < 13) (hk : k < zNf c) (hr : (zty c k).isReference = true) (hs : h.2.1 a = .inl c) (hv : h.2.2.2 a k = none) (kk : Zt g M d rc rs Q h (pc + 3) L (.null :: st)) : Zt g M d rc rs Q h pc L (.ref a :: st) := zt_getVN c k hd hl hc hk hs (by rw [zF_r hr, hv]; exact kk)
theorem zput_at {H' : Heap} {a c k : Nat} {cell : Cell} {v : Value} {h' : ZH} {s : State} {args : Array Value} (hts : ∀ w ∈ lw_all, w.before args s = true) (hK : zK g s) (hs : h'.2.1 a = .inl c) (hc : c < 13) (hk : k < zNf c) (e1 : H'[g.2.1 + a]? = some (cell.setSlot ((g.2.2.2.1.2 c) k) (zV g.2.1 v))) (q2 : cell.cls = g.2.2.2.1.1 c) (q3 : cell.vm = .none) (q4 : ∀ j, j < zNf c → cell.slots[(g.2.2.2.1.2 c) j]? = some (zV g.2.1 (zF h c a j)))
    (hv : zF h' c a k = v) (ho : ∀ j, j ≠ k → zF h' c a j = zF h c a j) : zAt g h' H' a := by
  unfold zAt
  rw [hs]
  intro r hr
  cases hr.symm.trans (zCl_at c hc)
  refine ⟨_, e1, q2, q3, fun j hj => ?_⟩
  rw [t_set q4 (zslots hts hK hc) hk (zV g.2.1 v) j hj]
  unfold updV
  by_cases hjk : j = k
  · rw [if_pos hjk, hjk]; exact congrArg some (congrArg (zV g.2.1) hv.symm)
  · rw [if_neg hjk]; exact congrArg some (congrArg (zV g.2.1) (ho j hjk).symm)
/-- putfield: v is the abstract value, h' the heap behind -/
theorem zt_putV (c k : Nat) {idx a : Nat} {v : Value} {h' : ZH} (hd : decode M.2.1 pc = .ok (.putfield idx, 3)) (hl : Cond.fieldLink M.1.cls idx (zT c k).1 (zT c k).2.1 (zT c k).2.2.1 ∈ lw_all) (hc : c < 13) (hk : k < zNf c) (hfin : (zT c k).2.2.2 = false) (hs : h.2.1 a = .inl c) (hn : narrow (zty c k) (zV g.2.1 v) = zV g.2.1 v) (hft : fits (zty c k) (zV g.2.1 v) = true)
    (g1 : h'.1 = h.1) (g2 : h'.2.1 = h.2.1) (g3 : ∀ N, N ≠ a → ∀ j, h'.2.2.1 N j = h.2.2.1 N j) (g4 : ∀ N, N ≠ a → ∀ j, h'.2.2.2 N j = h.2.2.2 N j) (hv : zF h' c a k = v) (ho : ∀ j, j ≠ k → zF h' c a j = zF h c a j)
    (kk : Zt g M d rc rs Q h' (pc + 3) L st) : Zt g M d rc rs Q h pc L (v :: .ref a :: st) := by
  intro p e s m args below meth c_ H locs cells slots mc ms ls hC h1 h2 h3 h4 h5
  obtain ⟨hla, hA, cell, q1, q2, q3, q4⟩ := h3.obj hs hc
  obtain ⟨hS, hfc, kC, hkC, hkind⟩ := hC.2.2.2.2.2.2.2.2.1 c _ (zCl_at c hc)
  obtain ⟨cf, kf, fi, f, hi, hsl⟩ := hS k hk
  have hts := hC.2.2.2.2.2.1
  have hlay := hts _ (zin c hc _ (u_in_lay hk))
  unfold u_lay at hlay
  rw [if_neg (by rw [hfin]; decide)] at hlay
  have hst := (u_facts hfc hkC (u_lays hts (zin c hc) hk) hi).1
  have h6 := u_store hfc hkC hkind hlay hi (ztyok c hc k hk) hn hft
  refine W.putK hC.1 hC.2.1 (f := f) ⟨hC.2.2.2.2.1, hts _ hl, ⟨_, _, _, hi⟩, hst⟩ (by rw [q2]; exact h6) q1 q3 (by rw [hsl]; exact k2_hasslot (q4 k hk)) rfl (by show zV g.2.1 v :: Value.ref (zA g.2.1 a) :: _ = _; rw [hA]) hd fun H' e1 e2 e3 => ?_
  rw [hsl] at e1 ⊢
  exact kk p e s m args below meth c_ H' _ cells slots mc ms ls hC h1 h2 (h3.put g1 g2 hla e2 e3 g3 g4 (zput_at hts hC.2.2.2.2.2.2.2.2 (by rw [g2]; exact hs) hc hk e1 q2 q3 q4 hv ho)) (fun q hq => by
    rcases List.mem_append.mp hq with q1 | q1
    · exact h4 q q1
    · rw [List.mem_singleton.mp q1]; exact Nat.le_add_right _ _) h5
theorem zt_putVN (c k : Nat) {idx a : Nat} {host : String} {v : Value} {h' : ZH} (hd : decode M.2.1 pc = .ok (.putfield idx, 3)) (hl : Cond.fieldLinkNest M.1.cls idx (zT c k).1 (zT c k).2.1 (zT c k).2.2.1 host ∈ lw_tbl) (hc : c < 13) (hk : k < zNf c) (hfin : (zT c k).2.2.2 = false) (hs : h.2.1 a = .inl c) (hn : narrow (zty c k) (zV g.2.1 v) = zV g.2.1 v) (hft : fits (zty c k) (zV g.2.1 v) = true)
    (g1 : h'.1 = h.1) (g2 : h'.2.1 = h.2.1) (g3 : ∀ N, N ≠ a → ∀ j, h'.2.2.1 N j = h.2.2.1 N j) (g4 : ∀ N, N ≠ a → ∀ j, h'.2.2.2 N j = h.2.2.2 N j) (hv : zF h' c a k = v) (ho : ∀ j, j ≠ k → zF h' c a j = zF h c a j)
    (kk : Zt g M d rc rs Q h' (pc + 3) L st) : Zt g M d rc rs Q h pc L (v :: .ref a :: st) := by
  intro p e s m args below meth c_ H locs cells slots mc ms ls hC h1 h2 h3 h4 h5
  obtain ⟨hla, hA, cell, q1, q2, q3, q4⟩ := h3.obj hs hc
  obtain ⟨hS, hfc, kC, hkC, hkind⟩ := hC.2.2.2.2.2.2.2.2.1 c _ (zCl_at c hc)
  obtain ⟨cf, kf, fi, f, hi, hsl⟩ := hS k hk
  have hts := hC.2.2.2.2.2.1
  have hlay := hts _ (zin c hc _ (u_in_lay hk))
  unfold u_lay at hlay
  rw [if_neg (by rw [hfin]; decide)] at hlay
  have hst := (u_facts hfc hkC (u_lays hts (zin c hc) hk) hi).1
  have h6 := u_store hfc hkC hkind hlay hi (ztyok c hc k hk) hn hft
  refine va_WputK hC.1 hC.2.1 (f := f) hC.2.2.2.2.1 (va_Nw.use rfl (hC.2.2.2.2.2.2.2.2.2.2.1 _ hl rfl)) hi hst (by rw [q2]; exact h6) q1 q3 (by rw [hsl]; exact k2_hasslot (q4 k hk)) rfl (by show zV g.2.1 v :: Value.ref (zA g.2.1 a) :: _ = _; rw [hA]) hd fun H' e1 e2 e3 => ?_
  rw [hsl] at e1 ⊢
  exact kk p e s m args below meth c_ H' _ cells slots mc ms ls hC h1 h2 (h3.put g1 g2 hla e2 e3 g3 g4 (zput_at hts hC.2.2.2.2.2.2.2.2 (by rw [g2]; exact hs) hc hk e1 q2 q3 q4 hv ho)) (fun q hq => by
    rcases List.mem_append.mp hq with q1 | q1
    · exact h4 q q1
    · rw [List.mem_singleton.mp q1]; exact Nat.le_add_right _ _) h5
/-- a final field in its class's constructor -/
theorem zt_putVF (c k : Nat) {idx a : Nat} {v : Value} {h' : ZH} (hd : decode M.2.1 pc = .ok (.putfield idx, 3)) (hl : Cond.fieldLink M.1.cls idx (zT c k).1 (zT c k).2.1 (zT c k).2.2.1 ∈ lw_all) (hc : c < 13) (hk : k < zNf c) (hfin : (zT c k).2.2.2 = true) (hin2 : M.1.name = "<init>") (hdecl : (zT c k).1 = M.1.cls) (hs : h.2.1 a = .inl c) (hn : narrow (zty c k) (zV g.2.1 v) = zV g.2.1 v) (hft : fits (zty c k) (zV g.2.1 v) = true)
    (g1 : h'.1 = h.1) (g2 : h'.2.1 = h.2.1) (g3 : ∀ N, N ≠ a → ∀ j, h'.2.2.1 N j = h.2.2.1 N j) (g4 : ∀ N, N ≠ a → ∀ j, h'.2.2.2 N j = h.2.2.2 N j) (hv : zF h' c a k = v) (ho : ∀ j, j ≠ k → zF h' c a j = zF h c a j)
    (kk : Zt g M d rc rs Q h' (pc + 3) L st) : Zt g M d rc rs Q h pc L (v :: .ref a :: st) := by
  intro p e s m args below meth c_ H locs cells slots mc ms ls hC h1 h2 h3 h4 h5
  obtain ⟨hla, hA, cell, q1, q2, q3, q4⟩ := h3.obj hs hc
  obtain ⟨hS, hfc, kC, hkC, hkind⟩ := hC.2.2.2.2.2.2.2.2.1 c _ (zCl_at c hc)
  obtain ⟨cf, kf, fi, f, hi, hsl⟩ := hS k hk
  have hts := hC.2.2.2.2.2.1
  have hown := hC.2.2.2.2.1
  have hlay := hts _ (zin c hc _ (u_in_lay hk))
  unfold u_lay at hlay
  rw [if_pos hfin] at hlay
  have hst := (u_facts hfc hkC (u_lays hts (zin c hc) hk) hi).1
  have hcf : m.cls = cf := by
    have hown2 := (zfin_name hlay hi).1
    rw [hdecl] at hown2
    exact Option.some.inj (hown.symm.trans hown2)
  have h6 := u_fits hfc hkC hkind (Or.inr hlay) hi (ztyok c hc k hk) hn hft
  refine W.putFinK hC.1 hC.2.1 hown (hts _ hl) hi hst hcf (hC.2.2.2.2.2.2.2.1.trans hin2) (by rw [q2]; exact h6) q1 q3 (by rw [hsl]; exact k2_hasslot (q4 k hk)) rfl (by show zV g.2.1 v :: Value.ref (zA g.2.1 a) :: _ = _; rw [hA]) hd fun H' e1 e2 e3 => ?_
  rw [hsl] at e1 ⊢
  exact kk p e s m args below meth c_ H' _ cells slots mc ms ls hC h1 h2 (h3.put g1 g2 hla e2 e3 g3 g4 (zput_at hts hC.2.2.2.2.2.2.2.2 (by rw [g2]; exact hs) hc hk e1 q2 q3 q4 hv ho)) (fun q hq => by
    rcases List.mem_append.mp hq with q1 | q1
    · exact h4 q q1
    · rw [List.mem_singleton.mp q1]; exact Nat.le_add_right _ _) h5
theorem zt_putI (c k : Nat) {idx a : Nat} {v : Int32} (hd : decode M.2.1 pc = .ok (.putfield idx, 3)) (hl : Cond.fieldLink M.1.cls idx (zT c k).1 (zT c k).2.1 (zT c k).2.2.1 ∈ lw_all) (hc : c < 13) (hk : k < zNf c) (hfin : (zT c k).2.2.2 = false) (hr : (zty c k).isReference = false) (hs : h.2.1 a = .inl c) (hn : narrow (zty c k) (.int v) = .int v) (hft : fits (zty c k) (.int v) = true) (kk : Zt g M d rc rs Q (zI h a k v) (pc + 3) L st) : Zt g M d rc rs Q h pc L (.int v :: .ref a :: st) :=
  zt_putV c k (h' := zI h a k v) hd hl hc hk hfin hs hn hft rfl rfl (fun N hN j => zu_ne1 hN) (fun N hN j => rfl) (by rw [zF_i hr]; exact congrArg Value.int (zu_same _ _ _ _)) (fun j hj => by unfold zF; rw [show (zI h a k v).2.2.1 a j = h.2.2.1 a j from zu_ne2 hj]; rfl) kk
theorem zt_putR (c k : Nat) {idx a : Nat} {b : Nat} (hd : decode M.2.1 pc = .ok (.putfield idx, 3)) (hl : Cond.fieldLink M.1.cls idx (zT c k).1 (zT c k).2.1 (zT c k).2.2.1 ∈ lw_all) (hc : c < 13) (hk : k < zNf c) (hfin : (zT c k).2.2.2 = false) (hr : (zty c k).isReference = true) (hs : h.2.1 a = .inl c) (hn : ∀ b, narrow (zty c k) (.ref b) = .ref b) (hft : ∀ b, fits (zty c k) (.ref b) = true) (kk : Zt g M d rc rs Q (zR h a k (some b)) (pc + 3) L st) : Zt g M d rc rs Q h pc L (.ref b :: .ref a :: st) :=
  zt_putV c k (h' := zR h a k (some b)) hd hl hc hk hfin hs (hn _) (hft _) rfl rfl (fun N hN j => rfl) (fun N hN j => zu_ne1 hN) (by rw [zF_r hr]; exact congrArg va_rf (zu_same _ _ _ _)) (fun j hj => by unfold zF; rw [show (zR h a k (some b)).2.2.2 a j = h.2.2.2 a j from zu_ne2 hj]; rfl) kk
theorem zt_put0 (c k : Nat) {idx a : Nat} (hd : decode M.2.1 pc = .ok (.putfield idx, 3)) (hl : Cond.fieldLink M.1.cls idx (zT c k).1 (zT c k).2.1 (zT c k).2.2.1 ∈ lw_all) (hc : c < 13) (hk : k < zNf c) (hfin : (zT c k).2.2.2 = false) (hr : (zty c k).isReference = true) (hs : h.2.1 a = .inl c) (hn : narrow (zty c k) .null = .null) (hft : fits (zty c k) .null = true) (kk : Zt g M d rc rs Q (zR h a k none) (pc + 3) L st) : Zt g M d rc rs Q h pc L (.null :: .ref a :: st) :=
  zt_putV c k (h' := zR h a k none) hd hl hc hk hfin hs hn hft rfl rfl (fun N hN j => rfl) (fun N hN j => zu_ne1 hN) (by rw [zF_r hr]; exact congrArg va_rf (zu_same _ _ _ _)) (fun j hj => by unfold zF; rw [show (zR h a k none).2.2.2 a j = h.2.2.2 a j from zu_ne2 hj]; rfl) kk
theorem zt_putIN (c k : Nat) {idx a : Nat} {host : String} {v : Int32} (hd : decode M.2.1 pc = .ok (.putfield idx, 3)) (hl : Cond.fieldLinkNest M.1.cls idx (zT c k).1 (zT c k).2.1 (zT c k).2.2.1 host ∈ lw_tbl) (hc : c < 13) (hk : k < zNf c) (hfin : (zT c k).2.2.2 = false) (hr : (zty c k).isReference = false) (hs : h.2.1 a = .inl c) (hn : narrow (zty c k) (.int v) = .int v) (hft : fits (zty c k) (.int v) = true) (kk : Zt g M d rc rs Q (zI h a k v) (pc + 3) L st) : Zt g M d rc rs Q h pc L (.int v :: .ref a :: st) :=
  zt_putVN c k (h' := zI h a k v) hd hl hc hk hfin hs hn hft rfl rfl (fun N hN j => zu_ne1 hN) (fun N hN j => rfl) (by rw [zF_i hr]; exact congrArg Value.int (zu_same _ _ _ _)) (fun j hj => by unfold zF; rw [show (zI h a k v).2.2.1 a j = h.2.2.1 a j from zu_ne2 hj]; rfl) kk
theorem zt_putRN (c k : Nat) {idx a : Nat} {host : String} {b : Nat} (hd : decode M.2.1 pc = .ok (.putfield idx, 3)) (hl : Cond.fieldLinkNest M.1.cls idx (zT c k).1 (zT c k).2.1 (zT c k).2.2.1 host ∈ lw_tbl) (hc : c < 13) (hk : k < zNf c) (hfin : (zT c k).2.2.2 = false) (hr : (zty c k).isReference = true) (hs : h.2.1 a = .inl c) (hn : ∀ b, narrow (zty c k) (.ref b) = .ref b) (hft : ∀ b, fits (zty c k) (.ref b) = true) (kk : Zt g M d rc rs Q (zR h a k (some b)) (pc + 3) L st) : Zt g M d rc rs Q h pc L (.ref b :: .ref a :: st) :=
  zt_putVN c k (h' := zR h a k (some b)) hd hl hc hk hfin hs (hn _) (hft _) rfl rfl (fun N hN j => rfl) (fun N hN j => zu_ne1 hN) (by rw [zF_r hr]; exact congrArg va_rf (zu_same _ _ _ _)) (fun j hj => by unfold zF; rw [show (zR h a k (some b)).2.2.2 a j = h.2.2.2 a j from zu_ne2 hj]; rfl) kk
theorem zt_put0N (c k : Nat) {idx a : Nat} {host : String} (hd : decode M.2.1 pc = .ok (.putfield idx, 3)) (hl : Cond.fieldLinkNest M.1.cls idx (zT c k).1 (zT c k).2.1 (zT c k).2.2.1 host ∈ lw_tbl) (hc : c < 13) (hk : k < zNf c) (hfin : (zT c k).2.2.2 = false) (hr : (zty c k).isReference = true) (hs : h.2.1 a = .inl c) (hn : narrow (zty c k) .null = .null) (hft : fits (zty c k) .null = true) (kk : Zt g M d rc rs Q (zR h a k none) (pc + 3) L st) : Zt g M d rc rs Q h pc L (.null :: .ref a :: st) :=
  zt_putVN c k (h' := zR h a k none) hd hl hc hk hfin hs hn hft rfl rfl (fun N hN j => rfl) (fun N hN j => zu_ne1 hN) (by rw [zF_r hr]; exact congrArg va_rf (zu_same _ _ _ _)) (fun j hj => by unfold zF; rw [show (zR h a k none).2.2.2 a j = h.2.2.2 a j from zu_ne2 hj]; rfl) kk
theorem zt_putIF (c k : Nat) {idx a : Nat} {v : Int32} (hd : decode M.2.1 pc = .ok (.putfield idx, 3)) (hl : Cond.fieldLink M.1.cls idx (zT c k).1 (zT c k).2.1 (zT c k).2.2.1 ∈ lw_all) (hc : c < 13) (hk : k < zNf c) (hfin : (zT c k).2.2.2 = true) (hin2 : M.1.name = "<init>") (hdecl : (zT c k).1 = M.1.cls) (hr : (zty c k).isReference = false) (hs : h.2.1 a = .inl c) (hn : narrow (zty c k) (.int v) = .int v) (hft : fits (zty c k) (.int v) = true) (kk : Zt g M d rc rs Q (zI h a k v) (pc + 3) L st) : Zt g M d rc rs Q h pc L (.int v :: .ref a :: st) :=
  zt_putVF c k (h' := zI h a k v) hd hl hc hk hfin hin2 hdecl hs hn hft rfl rfl (fun N hN j => zu_ne1 hN) (fun N hN j => rfl) (by rw [zF_i hr]; exact congrArg Value.int (zu_same _ _ _ _)) (fun j hj => by unfold zF; rw [show (zI h a k v).2.2.1 a j = h.2.2.1 a j from zu_ne2 hj]; rfl) kk
theorem zt_putRF (c k : Nat) {idx a : Nat} {b : Nat} (hd : decode M.2.1 pc = .ok (.putfield idx, 3)) (hl : Cond.fieldLink M.1.cls idx (zT c k).1 (zT c k).2.1 (zT c k).2.2.1 ∈ lw_all) (hc : c < 13) (hk : k < zNf c) (hfin : (zT c k).2.2.2 = true) (hin2 : M.1.name = "<init>") (hdecl : (zT c k).1 = M.1.cls) (hr : (zty c k).isReference = true) (hs : h.2.1 a = .inl c) (hn : ∀ b, narrow (zty c k) (.ref b) = .ref b) (hft : ∀ b, fits (zty c k) (.ref b) = true) (kk : Zt g M d rc rs Q (zR h a k (some b)) (pc + 3) L st) : Zt g M d rc rs Q h pc L (.ref b :: .ref a :: st) :=
  zt_putVF c k (h' := zR h a k (some b)) hd hl hc hk hfin hin2 hdecl hs (hn _) (hft _) rfl rfl (fun N hN j => rfl) (fun N hN j => zu_ne1 hN) (by rw [zF_r hr]; exact congrArg va_rf (zu_same _ _ _ _)) (fun j hj => by unfold zF; rw [show (zR h a k (some b)).2.2.2 a j = h.2.2.2 a j from zu_ne2 hj]; rfl) kk
theorem zt_put0F (c k : Nat) {idx a : Nat} (hd : decode M.2.1 pc = .ok (.putfield idx, 3)) (hl : Cond.fieldLink M.1.cls idx (zT c k).1 (zT c k).2.1 (zT c k).2.2.1 ∈ lw_all) (hc : c < 13) (hk : k < zNf c) (hfin : (zT c k).2.2.2 = true) (hin2 : M.1.name = "<init>") (hdecl : (zT c k).1 = M.1.cls) (hr : (zty c k).isReference = true) (hs : h.2.1 a = .inl c) (hn : narrow (zty c k) .null = .null) (hft : fits (zty c k) .null = true) (kk : Zt g M d rc rs Q (zR h a k none) (pc + 3) L st) : Zt g M d rc rs Q h pc L (.null :: .ref a :: st) :=
  zt_putVF c k (h' := zR h a k none) hd hl hc hk hfin hin2 hdecl hs hn hft rfl rfl (fun N hN j => rfl) (fun N hN j => zu_ne1 hN) (by rw [zF_r hr]; exact congrArg va_rf (zu_same _ _ _ _)) (fun j hj => by unfold zF; rw [show (zR h a k none).2.2.2 a j = h.2.2.2 a j from zu_ne2 hj]; rfl) kk
theorem zE_i {h : ZH} {t N j : Nat} (ht : t < 4) : zE h t N j = .int (h.2.2.1 N j) := if_neg (by omega)
theorem zE_r {h : ZH} {t N j : Nat} (ht : 4 ≤ t) : zE h t N j = va_rf (h.2.2.2 N j) := if_pos ht
theorem zin_of {i : Int32} {j n : Nat} (hi : i = nI j) (hj : j < n) (hn : n < 2 ^ 31) : i.toNatClampNeg = j ∧ vp_in i n := by
  subst hi
  exact ⟨nI_clamp (by omega), vp_in_nI hj hn⟩
theorem zTy_ref (t : Nat) (ht : 4 ≤ t) : (zTy t).isReference = true := by
  match t, ht with
  | 4, _ => rfl
  | 5, _ => rfl
  | 6, _ => rfl
  | 7, _ => rfl
  | 8, _ => rfl
  | 9, _ => rfl
  | n + 10, _ => rfl
theorem zt_iald (n j : Nat) {i : Int32} {a : Nat} (hd : decode M.2.1 pc = .ok (.iaload, 1)) (hs : h.2.1 a = .inr (0, n)) (hn : n < 2 ^ 31) (hi : i = nI j) (hj : j < n) (kk : Zt g M d rc rs Q h (pc + 1) L (.int (h.2.2.1 a j) :: st)) : Zt g M d rc rs Q h pc L (.int i :: .ref a :: st) := by
  intro p e s m args below meth c_ H locs cells slots mc ms ls hC h1 h2 h3 h4 h5
  obtain ⟨hla, hA, hc⟩ := h3.arr hs
  obtain ⟨e1, e2⟩ := zin_of hi hj hn
  exact W.iald (v := .int (h.2.2.1 a j)) hC.1 hC.2.1 hc ((hC.2.2.2.2.2.2.2.2.2.1 0 (by decide)).1 _ _) (fun q => by cases q) (by show ¬ (i < 0 ∨ (arrV _ _ _).slots.size ≤ _); rw [arrV_size]; exact e2) (by show (arrV _ _ _).slots[_]? = _; rw [e1, arrV_read _ _ hj, zE_i (Nat.le_of_ble_eq_true rfl)]; rfl) rfl (by show Value.int i :: Value.ref (zA g.2.1 a) :: _ = _; rw [hA]) hd (kk p e s m args below meth c_ H locs cells slots mc ms ls hC h1 h2 h3 h4 h5)
theorem zt_bald (n j : Nat) {i : Int32} {a : Nat} (hd : decode M.2.1 pc = .ok (.baload, 1)) (hs : h.2.1 a = .inr (1, n)) (hn : n < 2 ^ 31) (hi : i = nI j) (hj : j < n) (kk : Zt g M d rc rs Q h (pc + 1) L (.int (h.2.2.1 a j) :: st)) : Zt g M d rc rs Q h pc L (.int i :: .ref a :: st) := by
  intro p e s m args below meth c_ H locs cells slots mc ms ls hC h1 h2 h3 h4 h5
  obtain ⟨hla, hA, hc⟩ := h3.arr hs
  obtain ⟨e1, e2⟩ := zin_of hi hj hn
  exact W.bald (v := .int (h.2.2.1 a j)) hC.1 hC.2.1 hc ((hC.2.2.2.2.2.2.2.2.2.1 1 (by decide)).1 _ _) (fun q => by cases q) (by show ¬ (i < 0 ∨ (arrV _ _ _).slots.size ≤ _); rw [arrV_size]; exact e2) (by show (arrV _ _ _).slots[_]? = _; rw [e1, arrV_read _ _ hj, zE_i (Nat.le_of_ble_eq_true rfl)]; rfl) rfl (by show Value.int i :: Value.ref (zA g.2.1 a) :: _ = _; rw [hA]) hd (kk p e s m args below meth c_ H locs cells slots mc ms ls hC h1 h2 h3 h4 h5)
theorem zt_sald (n j : Nat) {i : Int32} {a : Nat} (hd : decode M.2.1 pc = .ok (.saload, 1)) (hs : h.2.1 a = .inr (2, n)) (hn : n < 2 ^ 31) (hi : i = nI j) (hj : j < n) (kk : Zt g M d rc rs Q h (pc + 1) L (.int (h.2.2.1 a j) :: st)) : Zt g M d rc rs Q h pc L (.int i :: .ref a :: st) := by
  intro p e s m args below meth c_ H locs cells slots mc ms ls hC h1 h2 h3 h4 h5
  obtain ⟨hla, hA, hc⟩ := h3.arr hs
  obtain ⟨e1, e2⟩ := zin_of hi hj hn
  exact W.sald (v := .int (h.2.2.1 a j)) hC.1 hC.2.1 hc ((hC.2.2.2.2.2.2.2.2.2.1 2 (by decide)).1 _ _) (fun q => by cases q) (by show ¬ (i < 0 ∨ (arrV _ _ _).slots.size ≤ _); rw [arrV_size]; exact e2) (by show (arrV _ _ _).slots[_]? = _; rw [e1, arrV_read _ _ hj, zE_i (Nat.le_of_ble_eq_true rfl)]; rfl) rfl (by show Value.int i :: Value.ref (zA g.2.1 a) :: _ = _; rw [hA]) hd (kk p e s m args below meth c_ H locs cells slots mc ms ls hC h1 h2 h3 h4 h5)
theorem zt_zald (n j : Nat) {i : Int32} {a : Nat} (hd : decode M.2.1 pc = .ok (.baload, 1)) (hs : h.2.1 a = .inr (3, n)) (hn : n < 2 ^ 31) (hi : i = nI j) (hj : j < n) (kk : Zt g M d rc rs Q h (pc + 1) L (.int (h.2.2.1 a j) :: st)) : Zt g M d rc rs Q h pc L (.int i :: .ref a :: st) := by
  intro p e s m args below meth c_ H locs cells slots mc ms ls hC h1 h2 h3 h4 h5
  obtain ⟨hla, hA, hc⟩ := h3.arr hs
  obtain ⟨e1, e2⟩ := zin_of hi hj hn
  exact W.zald (v := .int (h.2.2.1 a j)) hC.1 hC.2.1 hc ((hC.2.2.2.2.2.2.2.2.2.1 3 (by decide)).1 _ _) (fun q => by cases q) (by show ¬ (i < 0 ∨ (arrV _ _ _).slots.size ≤ _); rw [arrV_size]; exact e2) (by show (arrV _ _ _).slots[_]? = _; rw [e1, arrV_read _ _ hj, zE_i (Nat.le_of_ble_eq_true rfl)]; rfl) rfl (by show Value.int i :: Value.ref (zA g.2.1 a) :: _ = _; rw [hA]) hd (kk p e s m args below meth c_ H locs cells slots mc ms ls hC h1 h2 h3 h4 h5)
theorem zt_aald (t n j : Nat) {i : Int32} {a b : Nat} (hd : decode M.2.1 pc = .ok (.aaload, 1)) (ht : 4 ≤ t) (ht2 : t < 11) (hs : h.2.1 a = .inr (t, n)) (hn : n < 2 ^ 31) (hi : i = nI j) (hj : j < n) (hv : h.2.2.2 a j = some b) (kk : Zt g M d rc rs Q h (pc + 1) L (.ref b :: st)) : Zt g M d rc rs Q h pc L (.int i :: .ref a :: st) := by
  intro p e s m args below meth c_ H locs cells slots mc ms ls hC h1 h2 h3 h4 h5
  obtain ⟨hla, hA, hc⟩ := h3.arr hs
  obtain ⟨e1, e2⟩ := zin_of hi hj hn
  refine W.aald (v := zV g.2.1 (.ref b)) hC.1 hC.2.1 hc ((hC.2.2.2.2.2.2.2.2.2.1 t ht2).1 _ _) (zTy_ref t ht) (fun q => by cases q) (by show ¬ (i < 0 ∨ (arrV _ _ _).slots.size ≤ _); rw [arrV_size]; exact e2) (by show (arrV _ _ _).slots[_]? = _; rw [e1, arrV_read _ _ hj, zE_r ht, hv]; rfl) rfl (by show Value.int i :: Value.ref (zA g.2.1 a) :: _ = _; rw [hA]) hd (kk p e s m args below meth c_ H locs cells slots mc ms ls hC h1 h2 h3 h4 h5)
theorem zt_alen (t n : Nat) {a : Nat} {v : Int32} (hd : decode M.2.1 pc = .ok (.arraylength, 1)) (ht2 : t < 11) (hs : h.2.1 a = .inr (t, n)) (hv : Int32.ofNat n = v) (kk : Zt g M d rc rs Q h (pc + 1) L (.int v :: st)) : Zt g M d rc rs Q h pc L (.ref a :: st) := by
  intro p e s m args below meth c_ H locs cells slots mc ms ls hC h1 h2 h3 h4 h5
  obtain ⟨hla, hA, hc⟩ := h3.arr hs
  subst hv
  exact W.alen (n := Int32.ofNat n) hC.1 hC.2.1 hc ((hC.2.2.2.2.2.2.2.2.2.1 t ht2).1 _ _) (by rw [arrV_size]) rfl (by show Value.ref (zA g.2.1 a) :: _ = _; rw [hA]) hd (kk p e s m args below meth c_ H locs cells slots mc ms ls hC h1 h2 h3 h4 h5)
theorem zarr_at {H' : Heap} {a t n j : Nat} {v : Value} {h' : ZH} (hs : h'.2.1 a = .inr (t, n)) (e1 : H'[g.2.1 + a]? = some ((arrV (g.2.2.2.2 t) n (fun j => zV g.2.1 (zE h t a j))).setSlot j (zV g.2.1 v))) (hv : zE h' t a j = v) (ho : ∀ k, k ≠ j → zE h' t a k = zE h t a k) : zAt g h' H' a := by
  unfold zAt
  rw [hs]
  show H'[g.2.1 + a]? = _
  rw [e1, arrV_store]
  congr 2
  funext k
  unfold updV
  by_cases hk : k = j
  · rw [if_pos hk, hk, hv]
  · rw [if_neg hk, ho k hk]
theorem zt_iast (n j : Nat) {i x : Int32} {a : Nat} (hd : decode M.2.1 pc = .ok (.iastore, 1)) (hs : h.2.1 a = .inr (0, n)) (hn : n < 2 ^ 31) (hi : i = nI j) (hj : j < n) (kk : Zt g M d rc rs Q (zI h a j x) (pc + 1) L st) : Zt g M d rc rs Q h pc L (.int x :: .int i :: .ref a :: st) := by
  intro p e s m args below meth c_ H locs cells slots mc ms ls hC h1 h2 h3 h4 h5
  obtain ⟨hla, hA, hc⟩ := h3.arr hs
  obtain ⟨e1, e2⟩ := zin_of hi hj hn
  refine W.iast hC.1 hC.2.1 hc ((hC.2.2.2.2.2.2.2.2.2.1 0 (by decide)).1 _ _) (fun q => by cases q) (by show ¬ (i < 0 ∨ (arrV _ _ _).slots.size ≤ _); rw [arrV_size]; exact e2) rfl (by show Value.int x :: Value.int i :: Value.ref (zA g.2.1 a) :: _ = _; rw [hA]) hd fun H' q1 q2 q3 => ?_
  rw [e1] at q1 ⊢
  refine kk p e s m args below meth c_ H' _ cells slots mc ms ls hC h1 h2 (h3.put rfl rfl hla q2 q3 (fun N hN k => zu_ne1 hN) (fun N hN k => rfl) (zarr_at (v := .int x) (j := j) hs q1 ?_ ?_)) (fun q hq => by
    rcases List.mem_append.mp hq with q1 | q1
    · exact h4 q q1
    · rw [List.mem_singleton.mp q1]; exact Nat.le_add_right _ _) h5
  · rw [zE_i (by decide)]; exact congrArg Value.int (zu_same _ _ _ _)
  · intro k hk
    rw [zE_i (by decide), zE_i (by decide)]; exact congrArg Value.int (zu_ne2 hk)
theorem zt_bast (n j : Nat) {i x : Int32} {a : Nat} (hd : decode M.2.1 pc = .ok (.bastore, 1)) (hs : h.2.1 a = .inr (1, n)) (hn : n < 2 ^ 31) (hi : i = nI j) (hj : j < n) (hx : narrow .byte (.int x) = .int x) (kk : Zt g M d rc rs Q (zI h a j x) (pc + 1) L st) : Zt g M d rc rs Q h pc L (.int x :: .int i :: .ref a :: st) := by
  intro p e s m args below meth c_ H locs cells slots mc ms ls hC h1 h2 h3 h4 h5
  obtain ⟨hla, hA, hc⟩ := h3.arr hs
  obtain ⟨e1, e2⟩ := zin_of hi hj hn
  refine W.bast hC.1 hC.2.1 hc ((hC.2.2.2.2.2.2.2.2.2.1 1 (by decide)).1 _ _) (fun q => by cases q) (by show ¬ (i < 0 ∨ (arrV _ _ _).slots.size ≤ _); rw [arrV_size]; exact e2) rfl (by show Value.int x :: Value.int i :: Value.ref (zA g.2.1 a) :: _ = _; rw [hA]) hd fun H' q1 q2 q3 => ?_
  rw [hx] at q1
  rw [e1] at q1 ⊢
  refine kk p e s m args below meth c_ H' _ cells slots mc ms ls hC h1 h2 (h3.put rfl rfl hla q2 q3 (fun N hN k => zu_ne1 hN) (fun N hN k => rfl) (zarr_at (v := .int x) (j := j) hs q1 ?_ ?_)) (fun q hq => by
    rcases List.mem_append.mp hq with q1 | q1
    · exact h4 q q1
    · rw [List.mem_singleton.mp q1]; exact Nat.le_add_right _ _) h5
  · rw [zE_i (by decide)]; exact congrArg Value.int (zu_same _ _ _ _)
  · intro k hk
    rw [zE_i (by decide), zE_i (by decide)]; exact congrArg Value.int (zu_ne2 hk)
theorem zt_sast (n j : Nat) {i x : Int32} {a : Nat} (hd : decode M.2.1 pc = .ok (.sastore, 1)) (hs : h.2.1 a = .inr (2, n)) (hn : n < 2 ^ 31) (hi : i = nI j) (hj : j < n) (hx : narrow .short (.int x) = .int x) (kk : Zt g M d rc rs Q (zI h a j x) (pc + 1) L st) : Zt g M d rc rs Q h pc L (.int x :: .int i :: .ref a :: st) := by
  intro p e s m args below meth c_ H locs cells slots mc ms ls hC h1 h2 h3 h4 h5
  obtain ⟨hla, hA, hc⟩ := h3.arr hs
  obtain ⟨e1, e2⟩ := zin_of hi hj hn
  refine W.sast hC.1 hC.2.1 hc ((hC.2.2.2.2.2.2.2.2.2.1 2 (by decide)).1 _ _) (fun q => by cases q) (by show ¬ (i < 0 ∨ (arrV _ _ _).slots.size ≤ _); rw [arrV_size]; exact e2) rfl (by show Value.int x :: Value.int i :: Value.ref (zA g.2.1 a) :: _ = _; rw [hA]) hd fun H' q1 q2 q3 => ?_
  rw [hx] at q1
  rw [e1] at q1 ⊢
  refine kk p e s m args below meth c_ H' _ cells slots mc ms ls hC h1 h2 (h3.put rfl rfl hla q2 q3 (fun N hN k => zu_ne1 hN) (fun N hN k => rfl) (zarr_at (v := .int x) (j := j) hs q1 ?_ ?_)) (fun q hq => by
    rcases List.mem_append.mp hq with q1 | q1
    · exact h4 q q1
    · rw [List.mem_singleton.mp q1]; exact Nat.le_add_right _ _) h5
  · rw [zE_i (by decide)]; exact congrArg Value.int (zu_same _ _ _ _)
  · intro k hk
    rw [zE_i (by decide), zE_i (by decide)]; exact congrArg Value.int (zu_ne2 hk)
theorem zt_zast (n j : Nat) {i x : Int32} {a : Nat} (hd : decode M.2.1 pc = .ok (.bastore, 1)) (hs : h.2.1 a = .inr (3, n)) (hn : n < 2 ^ 31) (hi : i = nI j) (hj : j < n) (hx : narrow .boolean (.int x) = .int x) (kk : Zt g M d rc rs Q (zI h a j x) (pc + 1) L st) : Zt g M d rc rs Q h pc L (.int x :: .int i :: .ref a :: st) := by
  intro p e s m args below meth c_ H locs cells slots mc ms ls hC h1 h2 h3 h4 h5
  obtain ⟨hla, hA, hc⟩ := h3.arr hs
  obtain ⟨e1, e2⟩ := zin_of hi hj hn
  refine W.zast hC.1 hC.2.1 hc ((hC.2.2.2.2.2.2.2.2.2.1 3 (by decide)).1 _ _) (fun q => by cases q) (by show ¬ (i < 0 ∨ (arrV _ _ _).slots.size ≤ _); rw [arrV_size]; exact e2) rfl (by show Value.int x :: Value.int i :: Value.ref (zA g.2.1 a) :: _ = _; rw [hA]) hd fun H' q1 q2 q3 => ?_
  rw [hx] at q1
  rw [e1] at q1 ⊢
  refine kk p e s m args below meth c_ H' _ cells slots mc ms ls hC h1 h2 (h3.put rfl rfl hla q2 q3 (fun N hN k => zu_ne1 hN) (fun N hN k => rfl) (zarr_at (v := .int x) (j := j) hs q1 ?_ ?_)) (fun q hq => by
    rcases List.mem_append.mp hq with q1 | q1
    · exact h4 q q1
    · rw [List.mem_singleton.mp q1]; exact Nat.le_add_right _ _) h5
  · rw [zE_i (by decide)]; exact congrArg Value.int (zu_same _ _ _ _)
  · intro k hk
    rw [zE_i (by decide), zE_i (by decide)]; exact congrArg Value.int (zu_ne2 hk)
theorem zt_aast (t n j ci : Nat) {C : String} {i : Int32} {a b : Nat} (hd : decode M.2.1 pc = .ok (.aastore, 1)) (ht : 4 ≤ t) (ht2 : t < 11) (hs : h.2.1 a = .inr (t, n)) (hn : n < 2 ^ 31) (hi : i = nI j) (hj : j < n) (hC0 : zTy t = .object C) (hb : h.2.1 b = .inl ci) (hci : ci < 13) (hca : zC ci = C ∨ Cond.castable (zC ci) C ∈ lw_tbl) (kk : Zt g M d rc rs Q (zR h a j (some b)) (pc + 1) L st) : Zt g M d rc rs Q h pc L (.ref b :: .int i :: .ref a :: st) := by
  intro p e s m args below meth c_ H locs cells slots mc ms ls hC h1 h2 h3 h4 h5
  obtain ⟨hla, hA, hc⟩ := h3.arr hs
  obtain ⟨hlb, hB, cellV, g1, g2, g3, -⟩ := h3.obj hb hci
  obtain ⟨e1, e2⟩ := zin_of hi hj hn
  have hK := hC.2.2.2.2.2.2.2.2
  have hcls := (hK.1 ci _ (zCl_at ci hci)).2
  have hra := (hK.2.1 t ht2).2
  rw [hC0] at hra
  obtain ⟨kA, comp, k1, k2, k3, -⟩ := hra
  obtain ⟨kE, hkE, -⟩ := Vm.findClass_spec k3
  obtain ⟨kC, hkC, -⟩ := hcls.2
  have hasg : s.vm.assignable cellV.cls comp = true := by
    rw [g2]
    rcases hca with e | e
    · subst e
      have : comp = g.2.2.2.1.1 ci := Option.some.inj (k3.symm.trans hcls.1)
      rw [this]
      exact va_assign hcls
    · obtain ⟨c0, t1, f1, f2, f3⟩ := Cond.castable_spec (va_Nw.use (A := args) rfl (hK.2.2.1 _ e rfl))
      cases hcls.1.symm.trans f1
      cases k3.symm.trans f2
      exact f3
  refine W.aast hC.1 hC.2.1 hc (fun q h => by cases h) (fun h => by cases h) k1 k2 rfl hkE ⟨fun q => e2 (Or.inl q), by show _ < (arrV _ _ _).slots.size; rw [arrV_size, e1]; exact hj⟩ g1 (fun q h => by rw [g3] at h; cases h) (by rw [g2]; exact hkC) hasg rfl (by show Value.ref (zA g.2.1 b) :: Value.int i :: Value.ref (zA g.2.1 a) :: _ = _; rw [hA, hB]) hd fun H' q1 q2 q3 => ?_
  rw [e1] at q1 ⊢
  have hz : zV g.2.1 (.ref b) = .ref (g.2.1 + b) := by show Value.ref (zA g.2.1 b) = _; rw [hB]
  refine kk p e s m args below meth c_ H' _ cells slots mc ms ls hC h1 h2 (h3.put rfl rfl hla q2 q3 (fun N hN k => rfl) (fun N hN k => zu_ne1 hN) (zarr_at (v := .ref b) (j := j) hs (by rw [hz]; exact q1) ?_ ?_)) (fun q hq => by
    rcases List.mem_append.mp hq with q1 | q1
    · exact h4 q q1
    · rw [List.mem_singleton.mp q1]; exact Nat.le_add_right _ _) h5
  · rw [zE_r ht]; exact congrArg va_rf (zu_same _ _ _ _)
  · intro k hk
    rw [zE_r ht, zE_r ht]; exact congrArg va_rf (zu_ne2 hk)
end ZTB
