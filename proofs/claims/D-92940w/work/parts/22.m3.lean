/-! THE TWIN, part 3: its state A; simple questions -/
set_option maxRecDepth 100000
def cSh (A : Nat → Nat → Int32) : Nat := (A 289 28).toNatClampNeg
def cTh (A : Nat → Nat → Int32) : Nat := (A 289 34).toNatClampNeg
def cTp (A : Nat → Nat → Int32) : Nat := (A 289 20).toNatClampNeg
/-- the twin's cells in S are those of A -/
def AE (S A : Nat → Nat → Int32) : Prop := ∀ a, 289 ≤ a → a < 316 → S a = A a
theorem AE.f {S A : Nat → Nat → Int32} (h : AE S A) (k : Nat) : S 289 k = A 289 k := congrFun (h 289 (by decide) (by decide)) k
theorem AE.ce {S A : Nat → Nat → Int32} (h : AE S A) : CE S A := ⟨h.f 0, h.f 2, h.f 5, h.f 7, h _ (by decide) (by decide), h _ (by decide) (by decide), h _ (by decide) (by decide), h _ (by decide) (by decide), h _ (by decide) (by decide), h _ (by decide) (by decide)⟩
theorem AE.z {S A : Nat → Nat → Int32} {a : Nat} {f : Nat → Int32} (h : AE S A) : AE (zs S a f) (zs A a f) := by
  intro b h1 h2
  by_cases e : b = a
  · rw [e, zs_at, zs_at]
  · rw [zs_ne e, zs_ne e]; exact h b h1 h2
theorem AE.u {S A : Nat → Nat → Int32} {a k : Nat} {v : Int32} (h : AE S A) (ha : 289 ≤ a ∧ a < 316) : AE (zu S a k v) (zu A a k v) := by
  rw [zu_zs, zu_zs, h a ha.1 ha.2]
  exact h.z
theorem zs_eq {S : Nat → Nat → Int32} {a : Nat} {f : Nat → Int32} (h : S a = f) : S = zs S a f := by rw [← h, zs_self]
/-- a row of a showing: a sound, a thing, so or not -/
def SH (A : Nat → Nat → Int32) (i : Nat) : Prop := (∃ s : Nat, s < cS A ∧ A 303 (3 * i) = nI s) ∧ (∃ t : Nat, t < cT A ∧ A 303 (3 * i + 1) = nI t) ∧ (A 303 (3 * i + 2) = 0 ∨ A 303 (3 * i + 2) = 1)
/-- an image, if it is kept: showings that are some, how many of theirs -/
def KI (A : Nat → Nat → Int32) (i : Nat) : Prop := (A 309 i = 0 ∨ A 309 i = 1) ∧ (A 309 i = 1 → (∃ n : Nat, n ≤ 24 ∧ A 310 (3 * i) = nI n ∧ ∀ j, j < n → (∃ s : Nat, s < cS A ∧ A 311 (72 * i + 3 * j) = nI s) ∧ (∃ t : Nat, t < cT A ∧ A 311 (72 * i + (3 * j + 1)) = nI t) ∧ (A 311 (72 * i + (3 * j + 2)) = 0 ∨ A 311 (72 * i + (3 * j + 2)) = 1)) ∧ ∃ n : Nat, n ≤ 12 ∧ A 310 (3 * i + 2) = nI n)
/-- a sheet: none, or a lane and a size -/
def LI (A : Nat → Nat → Int32) (k : Nat) : Prop := (A 313 k = -4 ∨ ∃ l : Nat, l < 3 ∧ A 313 k = nI l) ∧ ∃ n : Nat, n ≤ 40 ∧ A 314 k = nI n
def AI (A : Nat → Nat → Int32) : Prop := CI A ∧ (A 289 28 = nI (cSh A) ∧ cSh A ≤ 24) ∧ (A 289 34 = nI (cTh A) ∧ cTh A ≤ 12) ∧ (A 289 20 = nI (cTp A) ∧ cTp A ≤ 400) ∧ (TK (A 302) 0 ∧ ∀ s, s < 4 → ∃ j : Nat, j < 12 ∧ A 298 s = nI j) ∧ (∀ i, i < cSh A → SH A i) ∧ (∀ i, i < 12 → A 308 i = 0 ∨ A 308 i = 1) ∧ (∀ i, i < 2 → KI A i) ∧ ∀ k, k < 4 → LI A k
section AIs
variable {A : Nat → Nat → Int32}
theorem AI.c (h : AI A) : CI A := h.1
theorem AI.sh (h : AI A) : A 289 28 = nI (cSh A) := h.2.1.1
theorem AI.sh24 (h : AI A) : cSh A ≤ 24 := h.2.1.2
theorem AI.th (h : AI A) : A 289 34 = nI (cTh A) := h.2.2.1.1
theorem AI.th12 (h : AI A) : cTh A ≤ 12 := h.2.2.1.2
theorem AI.tp (h : AI A) : A 289 20 = nI (cTp A) := h.2.2.2.1.1
theorem AI.tp400 (h : AI A) : cTp A ≤ 400 := h.2.2.2.1.2
theorem AI.k0 (h : AI A) : TK (A 302) 0 := h.2.2.2.2.1.1
theorem AI.dt (h : AI A) : ∀ s, s < 4 → ∃ j : Nat, j < 12 ∧ A 298 s = nI j := h.2.2.2.2.1.2
theorem AI.shown (h : AI A) {i : Nat} (hi : i < cSh A) : SH A i := h.2.2.2.2.2.1 i hi
theorem AI.so (h : AI A) {i : Nat} (hi : i < 12) : A 308 i = 0 ∨ A 308 i = 1 := h.2.2.2.2.2.2.1 i hi
theorem AI.ki (h : AI A) {i : Nat} (hi : i < 2) : KI A i := h.2.2.2.2.2.2.2.1 i hi
theorem AI.li (h : AI A) {k : Nat} (hk : k < 4) : LI A k := h.2.2.2.2.2.2.2.2 k hk
end AIs
theorem bI_ne0 {p : Prop} [Decidable p] (h : ¬ bI p = 0) : p := by
  by_cases q : p
  · exact q
  · exact absurd (bI_f q) h
/-- constants within, as longs -/
theorem in_c (t : Int32) (n : Nat) (hn : n < 1000000) : ((0 : Int64) ≤ t.toInt64 ∧ t.toInt64 ≤ lN n) ↔ inN t (n + 1) := by
  unfold inN
  rw [Int64.le_iff_toInt_le, Int64.le_iff_toInt_le, Int32.toInt_toInt64, lN_toInt (by omega), show (0 : Int64).toInt = 0 from rfl]
  omega
def o_thing (A : Nat → Nat → Int32) (t : Int32) : Int32 := if inN t (cT A) then A 290 t.toNatClampNeg else -1
def o_word (A : Nat → Nat → Int32) (t : Int32) : Int32 := if inN t (cS A) then A 293 t.toNatClampNeg else -1
def o_thinks (A : Nat → Nat → Int32) (k s : Int32) : Int32 := if inN k (cK A) ∧ inN s (cS A) then A 302 (0 + 10 * k.toNatClampNeg + s.toNatClampNeg) else -1
def o_against (A : Nat → Nat → Int32) (k s : Int32) : Int32 := if inN k (cK A) ∧ inN s (cS A) then A 302 (0 + 10 * k.toNatClampNeg + 4 + s.toNatClampNeg) else -1
def o_fled (A : Nat → Nat → Int32) (k : Int32) : Int32 := if inN k (cK A) then A 302 (0 + 10 * k.toNatClampNeg + 9) else -1
def o_fits (A : Nat → Nat → Int32) (k s : Int32) : Int32 := if inN k (cK A) ∧ inN s (cS A) then s_all A (A 302) 0 s.toNatClampNeg &&& s_can A k.toNatClampNeg else -1
/-- what a kind thinks of a sound is its target's things -/
def s_same (C : Nat → Nat → Int32) (f : Nat → Int32) (b k s : Nat) : Int32 := bI (¬ f (b + 10 * k + s) = -4 ∧ C 300 (f (b + 10 * k + s)).toNatClampNeg = s_tgt C s)
def o_same (A : Nat → Nat → Int32) (k s : Int32) : Int32 := if inN k (cK A) ∧ inN s (cS A) then s_same A (A 302) 0 k.toNatClampNeg s.toNatClampNeg else -1
def s_true (C : Nat → Nat → Int32) (s : Nat) (t : Int32) : Int32 := bI (s_tgt C s >>> (t &&& 31) &&& 1 = 1)
def o_kind (A : Nat → Nat → Int32) (k w : Int32) : Int32 := if inN k (cK A) ∧ inN w 6 then (if w = 5 then s_can A k.toNatClampNeg else A 294 (5 * k.toNatClampNeg + w.toNatClampNeg)) else -1
def s_whoF (A : Nat → Nat → Int32) (m : Nat) (k : Nat) (acc : Int32) : Int32 := acc ||| (if s_can A k >>> (nI m &&& 31) &&& 1 = 1 then 1 <<< (nI k &&& 31) else 0)
def s_who (A : Nat → Nat → Int32) (m : Nat) : Int32 := itr (s_whoF A m) 0 (cK A)
def o_meaning (A : Nat → Nat → Int32) (m w : Int32) : Int32 := if inN m (cM A) ∧ inN w 5 then (if w = 0 then A 291 m.toNatClampNeg else if w = 1 then A 292 m.toNatClampNeg else if w = 2 then s_marks A m.toNatClampNeg else if w = 3 then A 300 m.toNatClampNeg else s_who A m.toNatClampNeg) else -1
def o_shown (A : Nat → Nat → Int32) (i w : Int32) : Int32 := if inN i (cSh A) ∧ inN w 3 then A 303 (3 * i.toNatClampNeg + w.toNatClampNeg) else -1
section M3
variable {g : ZG} {h : ZH} {S A C : Nat → Nat → Int32} {f : Nat → Int32}
theorem tm_thing (hM : MS h.2.1 h.2.2.2) (hI : AI A) (hA : AE S A) (t : Int32) : Zd g mX5_thing 3 0 0 [.ref 289, .int t] (zW h S) (some (.int (o_thing A t))) (zW h S) := by
  refine zc_of [some (.ref 289), some (.int t)] rfl (Nat.le_of_ble_eq_true rfl) rfl ?_
  have b1 := hI.c.t8; have b2 := hI.c.m12; have b3 := hI.c.s4; have b4 := hI.c.k6
  refine zt_aload_n (pc := 0) dX5_thing_0 rfl rfl ?_
  refine zt_iload_n (pc := 1) dX5_thing_1 rfl rfl ?_
  refine wt_callV (pc := 2) mX5_isThing 1 5 (rc' := 0) (rs' := 0) dX5_thing_2 q1487 mi_X5_isThing rfl rfl (ms_o hM) (tm_isThing hM hI.c hA.ce t) rfl rfl rfl rfl rfl rfl ?_
  refine zt_if_eq (pc := 5) 17 dX5_thing_5 (by decide) (fun c_5 => ?_) (fun c_5 => ?_)
  · refine zt_iconst (pc := 17) dX5_thing_17 (v := (-1)) rfl ?_
    exact zt_ireturn (pc := 18) dX5_thing_18 rfl (⟨congrArg some (congrArg Value.int ((if_neg (bI_eq0.mp c_5)).symm)), rfl⟩)
  · have hn_t_ : inN t (cT A) := bI_ne0 c_5
    obtain ⟨t_, hl_t_, rfl⟩ := inN_of hn_t_ (by have := hI.c.t8; omega)
    refine zt_aload_n (pc := 8) dX5_thing_8 rfl rfl ?_
    refine wt_getR (pc := 9) 5 1 dX5_thing_9 q1273 rfl (ms_o hM) (mr_thing hM) ?_
    refine zt_iload_n (pc := 12) dX5_thing_12 rfl rfl ?_
    refine wt_iald (pc := 13) 8 t_ (v := A 290 t_) dX5_thing_13 (ma_thing hM) rfl rfl (by omega) (congrFun (hA 290 (by decide) (by decide)) t_) ?_
    refine zt_goto (pc := 14) 18 dX5_thing_14 (by decide) ?_
    exact zt_ireturn (pc := 18) dX5_thing_18 rfl (⟨congrArg some (congrArg Value.int (((if_pos hn_t_).trans (by rw [nI_clamp (show t_ < 2 ^ 31 by omega)])).symm)), rfl⟩)

theorem tm_word (hM : MS h.2.1 h.2.2.2) (hI : AI A) (hA : AE S A) (t : Int32) : Zd g mX5_word 3 0 0 [.ref 289, .int t] (zW h S) (some (.int (o_word A t))) (zW h S) := by
  refine zc_of [some (.ref 289), some (.int t)] rfl (Nat.le_of_ble_eq_true rfl) rfl ?_
  have b1 := hI.c.t8; have b2 := hI.c.m12; have b3 := hI.c.s4; have b4 := hI.c.k6
  refine zt_aload_n (pc := 0) dX5_word_0 rfl rfl ?_
  refine zt_iload_n (pc := 1) dX5_word_1 rfl rfl ?_
  refine wt_callV (pc := 2) mX5_isSound 1 5 (rc' := 0) (rs' := 0) dX5_word_2 q1499 mi_X5_isSound rfl rfl (ms_o hM) (tm_isSound hM hI.c hA.ce t) rfl rfl rfl rfl rfl rfl ?_
  refine zt_if_eq (pc := 5) 17 dX5_word_5 (by decide) (fun c_5 => ?_) (fun c_5 => ?_)
  · refine zt_iconst (pc := 17) dX5_word_17 (v := (-1)) rfl ?_
    exact zt_ireturn (pc := 18) dX5_word_18 rfl (⟨congrArg some (congrArg Value.int ((if_neg (bI_eq0.mp c_5)).symm)), rfl⟩)
  · have hn_t_ : inN t (cS A) := bI_ne0 c_5
    obtain ⟨t_, hl_t_, rfl⟩ := inN_of hn_t_ (by have := hI.c.s4; omega)
    refine zt_aload_n (pc := 8) dX5_word_8 rfl rfl ?_
    refine wt_getR (pc := 9) 5 6 dX5_word_9 q1278 rfl (ms_o hM) (mr_target hM) ?_
    refine zt_iload_n (pc := 12) dX5_word_12 rfl rfl ?_
    refine wt_iald (pc := 13) 4 t_ (v := A 293 t_) dX5_word_13 (ma_target hM) rfl rfl (by omega) (congrFun (hA 293 (by decide) (by decide)) t_) ?_
    refine zt_goto (pc := 14) 18 dX5_word_14 (by decide) ?_
    exact zt_ireturn (pc := 18) dX5_word_18 rfl (⟨congrArg some (congrArg Value.int (((if_pos hn_t_).trans (by rw [nI_clamp (show t_ < 2 ^ 31 by omega)])).symm)), rfl⟩)

theorem tm_fled (hM : MS h.2.1 h.2.2.2) (hI : AI A) (hA : AE S A) (t : Int32) : Zd g mX5_fled 3 0 0 [.ref 289, .int t] (zW h S) (some (.int (o_fled A t))) (zW h S) := by
  refine zc_of [some (.ref 289), some (.int t)] rfl (Nat.le_of_ble_eq_true rfl) rfl ?_
  have b1 := hI.c.t8; have b2 := hI.c.m12; have b3 := hI.c.s4; have b4 := hI.c.k6
  refine zt_aload_n (pc := 0) dX5_fled_0 rfl rfl ?_
  refine zt_iload_n (pc := 1) dX5_fled_1 rfl rfl ?_
  refine wt_callV (pc := 2) mX5_isKind 1 5 (rc' := 0) (rs' := 0) dX5_fled_2 q1507 mi_X5_isKind rfl rfl (ms_o hM) (tm_isKind hM hI.c hA.ce t) rfl rfl rfl rfl rfl rfl ?_
  refine zt_if_eq (pc := 5) 25 dX5_fled_5 (by decide) (fun c_5 => ?_) (fun c_5 => ?_)
  · refine zt_iconst (pc := 25) dX5_fled_25 (v := (-1)) rfl ?_
    exact zt_ireturn (pc := 26) dX5_fled_26 rfl (⟨congrArg some (congrArg Value.int ((if_neg (bI_eq0.mp c_5)).symm)), rfl⟩)
  · have hn_t_ : inN t (cK A) := bI_ne0 c_5
    obtain ⟨t_, hl_t_, rfl⟩ := inN_of hn_t_ (by have := hI.c.k6; omega)
    refine zt_aload_n (pc := 8) dX5_fled_8 rfl rfl ?_
    refine wt_getR (pc := 9) 5 27 dX5_fled_9 q1299 rfl (ms_o hM) (mr_st hM) ?_
    refine zt_iconst (pc := 12) dX5_fled_12 (v := 0) rfl ?_
    refine zt_bipush (pc := 13) dX5_fled_13 (v := 10) rfl ?_
    refine zt_iload_n (pc := 15) dX5_fled_15 rfl rfl ?_
    refine zt_imulN (pc := 16) (a := 10) (b := t_) dX5_fled_16 ?_
    refine zt_iaddN (pc := 17) (a := 0) (b := 10 * t_) dX5_fled_17 ?_
    refine zt_bipush (pc := 18) dX5_fled_18 (v := 9) rfl ?_
    refine zt_iaddN (pc := 20) (a := 0 + (10 * t_)) (b := 9) dX5_fled_20 ?_
    refine wt_iald (pc := 21) 210 ((0 + (10 * t_)) + 9) (v := A 302 ((0 + (10 * t_)) + 9)) dX5_fled_21 (ma_st hM) rfl rfl (by omega) (congrFun (hA 302 (by decide) (by decide)) ((0 + (10 * t_)) + 9)) ?_
    refine zt_goto (pc := 22) 26 dX5_fled_22 (by decide) ?_
    exact zt_ireturn (pc := 26) dX5_fled_26 rfl (⟨congrArg some (congrArg Value.int (((if_pos hn_t_).trans (by rw [nI_clamp (show t_ < 2 ^ 31 by omega)])).symm)), rfl⟩)

theorem tm_thinks (hM : MS h.2.1 h.2.2.2) (hI : AI A) (hA : AE S A) (k s : Int32) : Zd g mX5_thinks 3 0 0 [.ref 289, .int k, .int s] (zW h S) (some (.int (o_thinks A k s))) (zW h S) := by
  refine zc_of [some (.ref 289), some (.int k), some (.int s)] rfl (Nat.le_of_ble_eq_true rfl) rfl ?_
  have b1 := hI.c.t8; have b2 := hI.c.m12; have b3 := hI.c.s4; have b4 := hI.c.k6; have b5 := hI.sh24
  refine zt_aload_n (pc := 0) dX5_thinks_0 rfl rfl ?_
  refine zt_iload_n (pc := 1) dX5_thinks_1 rfl rfl ?_
  refine wt_callV (pc := 2) mX5_isKind 1 5 (rc' := 0) (rs' := 0) dX5_thinks_2 q1507 mi_X5_isKind rfl rfl (ms_o hM) (tm_isKind hM hI.c hA.ce k) rfl rfl rfl rfl rfl rfl ?_
  refine zt_if_eq (pc := 5) 32 dX5_thinks_5 (by decide) (fun c_5 => ?_) (fun c_5 => ?_)
  · refine zt_iconst (pc := 32) dX5_thinks_32 (v := (-1)) rfl ?_
    exact zt_ireturn (pc := 33) dX5_thinks_33 rfl (⟨congrArg some (congrArg Value.int ((if_neg (fun q => bI_eq0.mp c_5 q.1)).symm)), rfl⟩)
  · have hn_k_ : inN k (cK A) := bI_ne0 c_5
    obtain ⟨k_, hl_k_, rfl⟩ := inN_of hn_k_ (by have := hI.c.k6; omega)
    refine zt_aload_n (pc := 8) dX5_thinks_8 rfl rfl ?_
    refine zt_iload_n (pc := 9) dX5_thinks_9 rfl rfl ?_
    refine wt_callV (pc := 10) mX5_isSound 1 5 (rc' := 0) (rs' := 0) dX5_thinks_10 q1499 mi_X5_isSound rfl rfl (ms_o hM) (tm_isSound hM hI.c hA.ce s) rfl rfl rfl rfl rfl rfl ?_
    refine zt_if_eq (pc := 13) 32 dX5_thinks_13 (by decide) (fun c_13 => ?_) (fun c_13 => ?_)
    · refine zt_iconst (pc := 32) dX5_thinks_32 (v := (-1)) rfl ?_
      exact zt_ireturn (pc := 33) dX5_thinks_33 rfl (⟨congrArg some (congrArg Value.int ((if_neg (fun q => bI_eq0.mp c_13 q.2)).symm)), rfl⟩)
    · have hn_s_ : inN s (cS A) := bI_ne0 c_13
      obtain ⟨s_, hl_s_, rfl⟩ := inN_of hn_s_ (by have := hI.c.s4; omega)
      refine zt_aload_n (pc := 16) dX5_thinks_16 rfl rfl ?_
      refine wt_getR (pc := 17) 5 27 dX5_thinks_17 q1299 rfl (ms_o hM) (mr_st hM) ?_
      refine zt_iconst (pc := 20) dX5_thinks_20 (v := 0) rfl ?_
      refine zt_bipush (pc := 21) dX5_thinks_21 (v := 10) rfl ?_
      refine zt_iload_n (pc := 23) dX5_thinks_23 rfl rfl ?_
      refine zt_imulN (pc := 24) (a := 10) (b := k_) dX5_thinks_24 ?_
      refine zt_iaddN (pc := 25) (a := 0) (b := 10 * k_) dX5_thinks_25 ?_
      refine zt_iload_n (pc := 26) dX5_thinks_26 rfl rfl ?_
      refine zt_iaddN (pc := 27) (a := 0 + (10 * k_)) (b := s_) dX5_thinks_27 ?_
      refine wt_iald (pc := 28) 210 ((0 + (10 * k_)) + s_) (v := A 302 ((0 + (10 * k_)) + s_)) dX5_thinks_28 (ma_st hM) rfl rfl (by omega) (congrFun (hA 302 (by decide) (by decide)) ((0 + (10 * k_)) + s_)) ?_
      refine zt_goto (pc := 29) 33 dX5_thinks_29 (by decide) ?_
      exact zt_ireturn (pc := 33) dX5_thinks_33 rfl (⟨congrArg some (congrArg Value.int (((if_pos ⟨hn_k_, hn_s_⟩).trans (by rw [nI_clamp (show k_ < 2 ^ 31 by omega), nI_clamp (show s_ < 2 ^ 31 by omega)])).symm)), rfl⟩)

theorem tm_against (hM : MS h.2.1 h.2.2.2) (hI : AI A) (hA : AE S A) (k s : Int32) : Zd g mX5_against 3 0 0 [.ref 289, .int k, .int s] (zW h S) (some (.int (o_against A k s))) (zW h S) := by
  refine zc_of [some (.ref 289), some (.int k), some (.int s)] rfl (Nat.le_of_ble_eq_true rfl) rfl ?_
  have b1 := hI.c.t8; have b2 := hI.c.m12; have b3 := hI.c.s4; have b4 := hI.c.k6; have b5 := hI.sh24
  refine zt_aload_n (pc := 0) dX5_against_0 rfl rfl ?_
  refine zt_iload_n (pc := 1) dX5_against_1 rfl rfl ?_
  refine wt_callV (pc := 2) mX5_isKind 1 5 (rc' := 0) (rs' := 0) dX5_against_2 q1507 mi_X5_isKind rfl rfl (ms_o hM) (tm_isKind hM hI.c hA.ce k) rfl rfl rfl rfl rfl rfl ?_
  refine zt_if_eq (pc := 5) 34 dX5_against_5 (by decide) (fun c_5 => ?_) (fun c_5 => ?_)
  · refine zt_iconst (pc := 34) dX5_against_34 (v := (-1)) rfl ?_
    exact zt_ireturn (pc := 35) dX5_against_35 rfl (⟨congrArg some (congrArg Value.int ((if_neg (fun q => bI_eq0.mp c_5 q.1)).symm)), rfl⟩)
  · have hn_k_ : inN k (cK A) := bI_ne0 c_5
    obtain ⟨k_, hl_k_, rfl⟩ := inN_of hn_k_ (by have := hI.c.k6; omega)
    refine zt_aload_n (pc := 8) dX5_against_8 rfl rfl ?_
    refine zt_iload_n (pc := 9) dX5_against_9 rfl rfl ?_
    refine wt_callV (pc := 10) mX5_isSound 1 5 (rc' := 0) (rs' := 0) dX5_against_10 q1499 mi_X5_isSound rfl rfl (ms_o hM) (tm_isSound hM hI.c hA.ce s) rfl rfl rfl rfl rfl rfl ?_
    refine zt_if_eq (pc := 13) 34 dX5_against_13 (by decide) (fun c_13 => ?_) (fun c_13 => ?_)
    · refine zt_iconst (pc := 34) dX5_against_34 (v := (-1)) rfl ?_
      exact zt_ireturn (pc := 35) dX5_against_35 rfl (⟨congrArg some (congrArg Value.int ((if_neg (fun q => bI_eq0.mp c_13 q.2)).symm)), rfl⟩)
    · have hn_s_ : inN s (cS A) := bI_ne0 c_13
      obtain ⟨s_, hl_s_, rfl⟩ := inN_of hn_s_ (by have := hI.c.s4; omega)
      refine zt_aload_n (pc := 16) dX5_against_16 rfl rfl ?_
      refine wt_getR (pc := 17) 5 27 dX5_against_17 q1299 rfl (ms_o hM) (mr_st hM) ?_
      refine zt_iconst (pc := 20) dX5_against_20 (v := 0) rfl ?_
      refine zt_bipush (pc := 21) dX5_against_21 (v := 10) rfl ?_
      refine zt_iload_n (pc := 23) dX5_against_23 rfl rfl ?_
      refine zt_imulN (pc := 24) (a := 10) (b := k_) dX5_against_24 ?_
      refine zt_iaddN (pc := 25) (a := 0) (b := 10 * k_) dX5_against_25 ?_
      refine zt_iconst (pc := 26) dX5_against_26 (v := 4) rfl ?_
      refine zt_iaddN (pc := 27) (a := 0 + (10 * k_)) (b := 4) dX5_against_27 ?_
      refine zt_iload_n (pc := 28) dX5_against_28 rfl rfl ?_
      refine zt_iaddN (pc := 29) (a := (0 + (10 * k_)) + 4) (b := s_) dX5_against_29 ?_
      refine wt_iald (pc := 30) 210 (((0 + (10 * k_)) + 4) + s_) (v := A 302 (((0 + (10 * k_)) + 4) + s_)) dX5_against_30 (ma_st hM) rfl rfl (by omega) (congrFun (hA 302 (by decide) (by decide)) (((0 + (10 * k_)) + 4) + s_)) ?_
      refine zt_goto (pc := 31) 35 dX5_against_31 (by decide) ?_
      exact zt_ireturn (pc := 35) dX5_against_35 rfl (⟨congrArg some (congrArg Value.int (((if_pos ⟨hn_k_, hn_s_⟩).trans (by rw [nI_clamp (show k_ < 2 ^ 31 by omega), nI_clamp (show s_ < 2 ^ 31 by omega)])).symm)), rfl⟩)

theorem tm_fits (hM : MS h.2.1 h.2.2.2) (hI : AI A) (hA : AE S A) (k s : Int32) : Zd g mX5_fits 3 0 0 [.ref 289, .int k, .int s] (zW h S) (some (.int (o_fits A k s))) (zW h S) := by
  refine zc_of [some (.ref 289), some (.int k), some (.int s)] rfl (Nat.le_of_ble_eq_true rfl) rfl ?_
  have b1 := hI.c.t8; have b2 := hI.c.m12; have b3 := hI.c.s4; have b4 := hI.c.k6; have b5 := hI.sh24
  refine zt_aload_n (pc := 0) dX5_fits_0 rfl rfl ?_
  refine zt_iload_n (pc := 1) dX5_fits_1 rfl rfl ?_
  refine wt_callV (pc := 2) mX5_isKind 1 5 (rc' := 0) (rs' := 0) dX5_fits_2 q1507 mi_X5_isKind rfl rfl (ms_o hM) (tm_isKind hM hI.c hA.ce k) rfl rfl rfl rfl rfl rfl ?_
  refine zt_if_eq (pc := 5) 31 dX5_fits_5 (by decide) (fun c_5 => ?_) (fun c_5 => ?_)
  · refine zt_iconst (pc := 31) dX5_fits_31 (v := (-1)) rfl ?_
    exact zt_ireturn (pc := 32) dX5_fits_32 rfl (⟨congrArg some (congrArg Value.int ((if_neg (fun q => bI_eq0.mp c_5 q.1)).symm)), rfl⟩)
  · have hn_k_ : inN k (cK A) := bI_ne0 c_5
    obtain ⟨k_, hl_k_, rfl⟩ := inN_of hn_k_ (by have := hI.c.k6; omega)
    refine zt_aload_n (pc := 8) dX5_fits_8 rfl rfl ?_
    refine zt_iload_n (pc := 9) dX5_fits_9 rfl rfl ?_
    refine wt_callV (pc := 10) mX5_isSound 1 5 (rc' := 0) (rs' := 0) dX5_fits_10 q1499 mi_X5_isSound rfl rfl (ms_o hM) (tm_isSound hM hI.c hA.ce s) rfl rfl rfl rfl rfl rfl ?_
    refine zt_if_eq (pc := 13) 31 dX5_fits_13 (by decide) (fun c_13 => ?_) (fun c_13 => ?_)
    · refine zt_iconst (pc := 31) dX5_fits_31 (v := (-1)) rfl ?_
      exact zt_ireturn (pc := 32) dX5_fits_32 rfl (⟨congrArg some (congrArg Value.int ((if_neg (fun q => bI_eq0.mp c_13 q.2)).symm)), rfl⟩)
    · have hn_s_ : inN s (cS A) := bI_ne0 c_13
      obtain ⟨s_, hl_s_, rfl⟩ := inN_of hn_s_ (by have := hI.c.s4; omega)
      refine zt_aload_n (pc := 16) dX5_fits_16 rfl rfl ?_
      refine zt_iconst (pc := 17) dX5_fits_17 (v := 0) rfl ?_
      refine zt_iload_n (pc := 18) dX5_fits_18 rfl rfl ?_
      refine wt_callV (pc := 19) mX5_allThatFit 2 5 (rc' := 0) (rs' := 0) dX5_fits_19 q1238 mi_X5_allThatFit rfl rfl (ms_o hM) (by have e0 := tm_allThatFit (g := g) (f := A 302) hM hI.c hA.ce 0 (by decide) s_ (by omega); rw [← zs_eq (hA 302 (by decide) (by decide))] at e0; exact e0) rfl rfl rfl rfl rfl rfl ?_
      refine zt_aload_n (pc := 22) dX5_fits_22 rfl rfl ?_
      refine zt_iload_n (pc := 23) dX5_fits_23 rfl rfl ?_
      refine wt_callV (pc := 24) mX5_canThink 1 5 (rc' := 0) (rs' := 0) dX5_fits_24 q1246 mi_X5_canThink rfl rfl (ms_o hM) (tm_canThink hM hI.c hA.ce k_ (by omega)) rfl rfl rfl rfl rfl rfl ?_
      refine zt_iand (pc := 27) dX5_fits_27 ?_
      refine zt_goto (pc := 28) 32 dX5_fits_28 (by decide) ?_
      exact zt_ireturn (pc := 32) dX5_fits_32 rfl (⟨congrArg some (congrArg Value.int (((if_pos ⟨hn_k_, hn_s_⟩).trans (by rw [nI_clamp (show k_ < 2 ^ 31 by omega), nI_clamp (show s_ < 2 ^ 31 by omega)])).symm)), rfl⟩)

theorem tm_isSame (hM : MS h.2.1 h.2.2.2) (hC : CI C) (hE : CE S C) (b k s : Nat) (hb : b ≤ 140) (hk : k < 6) (hs : s < 4) (hT : TK f b) : Zd g mX5_isSame 2 0 0 [.ref 289, .int (nI b), .int (nI k), .int (nI s)] (zW h (zs S 302 f)) (some (.int (s_same C f b k s))) (zW h (zs S 302 f)) := by
  refine zc_of [some (.ref 289), some (.int (nI b)), some (.int (nI k)), some (.int (nI s)), none] rfl (Nat.le_of_ble_eq_true rfl) rfl ?_
  refine zt_aload_n (pc := 0) dX5_isSame_0 rfl rfl ?_
  refine wt_getR (pc := 1) 5 27 dX5_isSame_1 q1299 rfl (ms_o hM) (mr_st hM) ?_
  refine zt_iload_n (pc := 4) dX5_isSame_4 rfl rfl ?_
  refine zt_bipush (pc := 5) dX5_isSame_5 (v := 10) rfl ?_
  refine zt_iload_n (pc := 7) dX5_isSame_7 rfl rfl ?_
  refine zt_imulN (pc := 8) (a := 10) (b := k) dX5_isSame_8 ?_
  refine zt_iaddN (pc := 9) (a := b) (b := 10 * k) dX5_isSame_9 ?_
  refine zt_iload_n (pc := 10) dX5_isSame_10 rfl rfl ?_
  refine zt_iaddN (pc := 11) (a := b + (10 * k)) (b := s) dX5_isSame_11 ?_
  refine wt_iald (pc := 12) 210 ((b + (10 * k)) + s) (v := f ((b + (10 * k)) + s)) dX5_isSame_12 (ma_st hM) rfl rfl (by omega) rfl ?_
  refine zt_istore (pc := 13) (L' := [some (.ref 289), some (.int (nI b)), some (.int (nI k)), some (.int (nI s)), some (.int (f ((b + (10 * k)) + s)))]) dX5_isSame_13 (by decide) rfl rfl ?_
  refine zt_iload (pc := 15) dX5_isSame_15 rfl ?_
  refine zt_bipush (pc := 17) dX5_isSame_17 (v := (-4)) rfl ?_
  refine zt_icmp_eq (pc := 19) 41 dX5_isSame_19 (by decide) (fun c_19 => ?_) (fun c_19 => ?_)
  · refine zt_iconst (pc := 41) dX5_isSame_41 (v := 0) rfl ?_
    exact zt_zreturn (pc := 42) dX5_isSame_42 rfl (Or.inl rfl) (⟨congrArg some (congrArg Value.int ((bI_f (fun q => q.1 c_19)).symm)), rfl⟩)
  · refine zt_aload_n (pc := 22) dX5_isSame_22 rfl rfl ?_
    refine wt_getR (pc := 23) 5 18 dX5_isSame_23 q1290 rfl (ms_o hM) (mr_are hM) ?_
    refine zt_iload (pc := 26) dX5_isSame_26 rfl ?_
    refine wt_iald (pc := 28) 12 ((f (b + 10 * k + s)).toNatClampNeg) (v := C 300 ((f (b + 10 * k + s)).toNatClampNeg)) dX5_isSame_28 (ma_are hM) rfl ((hT k hk s (Or.inl hs)).ix c_19) ((hT k hk s (Or.inl hs)).lt c_19) (congrFun hE.a300 ((f (b + 10 * k + s)).toNatClampNeg)) ?_
    refine zt_aload_n (pc := 29) dX5_isSame_29 rfl rfl ?_
    refine zt_iload_n (pc := 30) dX5_isSame_30 rfl rfl ?_
    refine wt_callV (pc := 31) mX5_targetOf 1 5 (rc' := 0) (rs' := 0) dX5_isSame_31 q1528 mi_X5_targetOf rfl rfl (ms_o hM) (tm_targetOf hM hC (hE.z (Or.inr (by decide))) s (by omega)) rfl rfl rfl rfl rfl rfl ?_
    refine zt_icmp_ne (pc := 34) 41 dX5_isSame_34 (by decide) (fun c_34 => ?_) (fun c_34 => ?_)
    · refine zt_iconst (pc := 41) dX5_isSame_41 (v := 0) rfl ?_
      exact zt_zreturn (pc := 42) dX5_isSame_42 rfl (Or.inl rfl) (⟨congrArg some (congrArg Value.int ((bI_f (fun q => c_34 q.2)).symm)), rfl⟩)
    · refine zt_iconst (pc := 37) dX5_isSame_37 (v := 1) rfl ?_
      refine zt_goto (pc := 38) 42 dX5_isSame_38 (by decide) ?_
      exact zt_zreturn (pc := 42) dX5_isSame_42 rfl (Or.inr rfl) (⟨congrArg some (congrArg Value.int ((bI_t ⟨c_19, c_34⟩).symm)), rfl⟩)

theorem tm_same (hM : MS h.2.1 h.2.2.2) (hI : AI A) (hA : AE S A) (k s : Int32) : Zd g mX5_same 3 0 0 [.ref 289, .int k, .int s] (zW h S) (some (.int (o_same A k s))) (zW h S) := by
  refine zc_of [some (.ref 289), some (.int k), some (.int s)] rfl (Nat.le_of_ble_eq_true rfl) rfl ?_
  have b1 := hI.c.t8; have b2 := hI.c.m12; have b3 := hI.c.s4; have b4 := hI.c.k6; have b5 := hI.sh24
  refine zt_aload_n (pc := 0) dX5_same_0 rfl rfl ?_
  refine zt_iload_n (pc := 1) dX5_same_1 rfl rfl ?_
  refine wt_callV (pc := 2) mX5_isKind 1 5 (rc' := 0) (rs' := 0) dX5_same_2 q1507 mi_X5_isKind rfl rfl (ms_o hM) (tm_isKind hM hI.c hA.ce k) rfl rfl rfl rfl rfl rfl ?_
  refine zt_if_eq (pc := 5) 29 dX5_same_5 (by decide) (fun c_5 => ?_) (fun c_5 => ?_)
  · refine zt_iconst (pc := 29) dX5_same_29 (v := (-1)) rfl ?_
    exact zt_ireturn (pc := 30) dX5_same_30 rfl (⟨congrArg some (congrArg Value.int ((if_neg (fun q => bI_eq0.mp c_5 q.1)).symm)), rfl⟩)
  · have hn_k_ : inN k (cK A) := bI_ne0 c_5
    obtain ⟨k_, hl_k_, rfl⟩ := inN_of hn_k_ (by have := hI.c.k6; omega)
    refine zt_aload_n (pc := 8) dX5_same_8 rfl rfl ?_
    refine zt_iload_n (pc := 9) dX5_same_9 rfl rfl ?_
    refine wt_callV (pc := 10) mX5_isSound 1 5 (rc' := 0) (rs' := 0) dX5_same_10 q1499 mi_X5_isSound rfl rfl (ms_o hM) (tm_isSound hM hI.c hA.ce s) rfl rfl rfl rfl rfl rfl ?_
    refine zt_if_eq (pc := 13) 29 dX5_same_13 (by decide) (fun c_13 => ?_) (fun c_13 => ?_)
    · refine zt_iconst (pc := 29) dX5_same_29 (v := (-1)) rfl ?_
      exact zt_ireturn (pc := 30) dX5_same_30 rfl (⟨congrArg some (congrArg Value.int ((if_neg (fun q => bI_eq0.mp c_13 q.2)).symm)), rfl⟩)
    · have hn_s_ : inN s (cS A) := bI_ne0 c_13
      obtain ⟨s_, hl_s_, rfl⟩ := inN_of hn_s_ (by have := hI.c.s4; omega)
      refine zt_aload_n (pc := 16) dX5_same_16 rfl rfl ?_
      refine zt_iconst (pc := 17) dX5_same_17 (v := 0) rfl ?_
      refine zt_iload_n (pc := 18) dX5_same_18 rfl rfl ?_
      refine zt_iload_n (pc := 19) dX5_same_19 rfl rfl ?_
      refine wt_callV (pc := 20) mX5_isSame 3 5 (rc' := 0) (rs' := 0) dX5_same_20 q1557 mi_X5_isSame rfl rfl (ms_o hM) (by have e0 := tm_isSame (g := g) (f := A 302) hM hI.c hA.ce 0 k_ s_ (by decide) (by omega) (by omega) hI.k0; rw [← zs_eq (hA 302 (by decide) (by decide))] at e0; exact e0) rfl rfl rfl rfl rfl rfl ?_
      refine wt_callS (pc := 23) mX5_flag 1 (rc' := 0) (rs' := 0) dX5_same_23 q1250 ms_X5_flag (tm_flag (s_same A (A 302) 0 k_ s_) bI_or) rfl rfl rfl rfl rfl rfl ?_
      refine zt_goto (pc := 26) 30 dX5_same_26 (by decide) ?_
      exact zt_ireturn (pc := 30) dX5_same_30 rfl (⟨congrArg some (congrArg Value.int (((if_pos ⟨hn_k_, hn_s_⟩).trans (by rw [nI_clamp (show k_ < 2 ^ 31 by omega), nI_clamp (show s_ < 2 ^ 31 by omega)])).symm)), rfl⟩)

theorem tm_isTrue (hM : MS h.2.1 h.2.2.2) (hC : CI C) (hE : CE S C) (s : Nat) (hs : s < 4) (t : Int32) : Zd g mX5_isTrue 2 0 0 [.ref 289, .int (nI s), .int t] (zW h S) (some (.int (s_true C s t))) (zW h S) := by
  refine zc_of [some (.ref 289), some (.int (nI s)), some (.int t)] rfl (Nat.le_of_ble_eq_true rfl) rfl ?_
  refine zt_aload_n (pc := 0) dX5_isTrue_0 rfl rfl ?_
  refine zt_iload_n (pc := 1) dX5_isTrue_1 rfl rfl ?_
  refine wt_callV (pc := 2) mX5_targetOf 1 5 (rc' := 0) (rs' := 0) dX5_isTrue_2 q1528 mi_X5_targetOf rfl rfl (ms_o hM) (tm_targetOf hM hC hE s (by omega)) rfl rfl rfl rfl rfl rfl ?_
  refine zt_iload_n (pc := 5) dX5_isTrue_5 rfl rfl ?_
  refine zt_ishr (pc := 6) dX5_isTrue_6 ?_
  refine zt_iconst (pc := 7) dX5_isTrue_7 (v := 1) rfl ?_
  refine zt_iand (pc := 8) dX5_isTrue_8 ?_
  refine zt_iconst (pc := 9) dX5_isTrue_9 (v := 1) rfl ?_
  refine zt_icmp_ne (pc := 10) 17 dX5_isTrue_10 (by decide) (fun c_10 => ?_) (fun c_10 => ?_)
  · refine zt_iconst (pc := 17) dX5_isTrue_17 (v := 0) rfl ?_
    exact zt_zreturn (pc := 18) dX5_isTrue_18 rfl (Or.inl rfl) (⟨congrArg some (congrArg Value.int ((bI_f c_10).symm)), rfl⟩)
  · refine zt_iconst (pc := 13) dX5_isTrue_13 (v := 1) rfl ?_
    refine zt_goto (pc := 14) 18 dX5_isTrue_14 (by decide) ?_
    exact zt_zreturn (pc := 18) dX5_isTrue_18 rfl (Or.inr rfl) (⟨congrArg some (congrArg Value.int ((bI_t c_10).symm)), rfl⟩)

theorem tm_kind (hM : MS h.2.1 h.2.2.2) (hI : AI A) (hA : AE S A) (k w : Int32) : Zd g mX5_kind 3 0 0 [.ref 289, .int k, .int w] (zW h S) (some (.int (o_kind A k w))) (zW h S) := by
  refine zc_of [some (.ref 289), some (.int k), some (.int w)] rfl (Nat.le_of_ble_eq_true rfl) rfl ?_
  have b1 := hI.c.t8; have b2 := hI.c.m12; have b3 := hI.c.s4; have b4 := hI.c.k6; have b5 := hI.sh24
  refine zt_aload_n (pc := 0) dX5_kind_0 rfl rfl ?_
  refine zt_iload_n (pc := 1) dX5_kind_1 rfl rfl ?_
  refine wt_callV (pc := 2) mX5_isKind 1 5 (rc' := 0) (rs' := 0) dX5_kind_2 q1507 mi_X5_isKind rfl rfl (ms_o hM) (tm_isKind hM hI.c hA.ce k) rfl rfl rfl rfl rfl rfl ?_
  refine zt_if_eq (pc := 5) 20 dX5_kind_5 (by decide) (fun c_5 => ?_) (fun c_5 => ?_)
  · refine zt_iconst (pc := 20) dX5_kind_20 (v := (-1)) rfl ?_
    refine zt_goto (pc := 21) 47 dX5_kind_21 (by decide) ?_
    exact zt_ireturn (pc := 47) dX5_kind_47 rfl (⟨congrArg some (congrArg Value.int ((if_neg (fun q => bI_eq0.mp c_5 q.1)).symm)), rfl⟩)
  · have hn_k_ : inN k (cK A) := bI_ne0 c_5
    obtain ⟨k_, hl_k_, rfl⟩ := inN_of hn_k_ (by have := hI.c.k6; omega)
    refine zt_iload_n (pc := 8) dX5_kind_8 rfl rfl ?_
    refine zt_i2l (pc := 9) dX5_kind_9 rfl ?_
    refine zt_lconst (pc := 10) dX5_kind_10 (v := 0) rfl ?_
    refine zt_ldc2 (pc := 11) dX5_kind_11 q1511 ?_
    refine wt_callS (pc := 14) mX5_in 3 (rc' := 0) (rs' := 0) dX5_kind_14 q1223 ms_X5_in (tm_in w.toInt64 0 5) rfl rfl rfl rfl rfl rfl ?_
    refine zt_if_ne (pc := 17) 24 dX5_kind_17 (by decide) (fun c_17 => ?_) (fun c_17 => ?_)
    · have hn_w_ : inN w 6 := (in_c w 5 (by decide)).mp (bI_ne0 c_17)
      obtain ⟨w_, hl_w_, rfl⟩ := inN_of hn_w_ (by decide)
      refine zt_iload_n (pc := 24) dX5_kind_24 rfl rfl ?_
      refine zt_iconst (pc := 25) dX5_kind_25 (v := 5) rfl ?_
      refine zt_icmp_ne (pc := 26) 37 dX5_kind_26 (by decide) (fun c_26 => ?_) (fun c_26 => ?_)
      · have hw5 : w_ ≠ 5 := fun e => c_26 (by rw [e]; rfl)
        refine zt_aload_n (pc := 37) dX5_kind_37 rfl rfl ?_
        refine wt_getR (pc := 38) 5 8 dX5_kind_38 q1280 rfl (ms_o hM) (mr_kind hM) ?_
        refine zt_iconst (pc := 41) dX5_kind_41 (v := 5) rfl ?_
        refine zt_iload_n (pc := 42) dX5_kind_42 rfl rfl ?_
        refine zt_imulN (pc := 43) (a := 5) (b := k_) dX5_kind_43 ?_
        refine zt_iload_n (pc := 44) dX5_kind_44 rfl rfl ?_
        refine zt_iaddN (pc := 45) (a := 5 * k_) (b := w_) dX5_kind_45 ?_
        refine wt_iald (pc := 46) 30 ((5 * k_) + w_) (v := A 294 ((5 * k_) + w_)) dX5_kind_46 (ma_kind hM) rfl rfl (by omega) (congrFun (hA 294 (by decide) (by decide)) ((5 * k_) + w_)) ?_
        exact zt_ireturn (pc := 47) dX5_kind_47 rfl (⟨congrArg some (congrArg Value.int (((if_pos ⟨hn_k_, hn_w_⟩).trans ((if_neg c_26).trans (by rw [nI_clamp (show k_ < 2 ^ 31 by omega), nI_clamp (show w_ < 2 ^ 31 by omega)]))).symm)), rfl⟩)
      · refine zt_aload_n (pc := 29) dX5_kind_29 rfl rfl ?_
        refine zt_iload_n (pc := 30) dX5_kind_30 rfl rfl ?_
        refine wt_callV (pc := 31) mX5_canThink 1 5 (rc' := 0) (rs' := 0) dX5_kind_31 q1246 mi_X5_canThink rfl rfl (ms_o hM) (tm_canThink hM hI.c hA.ce k_ (by omega)) rfl rfl rfl rfl rfl rfl ?_
        refine zt_goto (pc := 34) 47 dX5_kind_34 (by decide) ?_
        exact zt_ireturn (pc := 47) dX5_kind_47 rfl (⟨congrArg some (congrArg Value.int (((if_pos ⟨hn_k_, hn_w_⟩).trans ((if_pos c_26).trans (by rw [nI_clamp (show k_ < 2 ^ 31 by omega)]))).symm)), rfl⟩)
    · refine zt_iconst (pc := 20) dX5_kind_20 (v := (-1)) rfl ?_
      refine zt_goto (pc := 21) 47 dX5_kind_21 (by decide) ?_
      exact zt_ireturn (pc := 47) dX5_kind_47 rfl (⟨congrArg some (congrArg Value.int ((if_neg (fun q => bI_eq0.mp c_17 ((in_c w 5 (by decide)).mpr q.2))).symm)), rfl⟩)

theorem tm_meaning (hM : MS h.2.1 h.2.2.2) (hI : AI A) (hA : AE S A) (m w : Int32) : Zd g mX5_meaning 3 0 0 [.ref 289, .int m, .int w] (zW h S) (some (.int (o_meaning A m w))) (zW h S) := by
  refine zc_of [some (.ref 289), some (.int m), some (.int w), none, none] rfl (Nat.le_of_ble_eq_true rfl) rfl ?_
  have b1 := hI.c.t8; have b2 := hI.c.m12; have b3 := hI.c.s4; have b4 := hI.c.k6; have b5 := hI.sh24
  refine zt_iload_n (pc := 0) dX5_meaning_0 rfl rfl ?_
  refine zt_i2l (pc := 1) dX5_meaning_1 rfl ?_
  refine zt_lconst (pc := 2) dX5_meaning_2 (v := 0) rfl ?_
  refine zt_aload_n (pc := 3) dX5_meaning_3 rfl rfl ?_
  refine wt_getI (pc := 4) 5 2 (v := nI (cM A)) dX5_meaning_4 q1274 rfl (ms_o hM) (hA.ce.m hI.c) ?_
  refine zt_iconst (pc := 7) dX5_meaning_7 (v := 1) rfl ?_
  refine zt_isub (pc := 8) dX5_meaning_8 ?_
  refine zt_i2l (pc := 9) dX5_meaning_9 rfl ?_
  refine wt_callS (pc := 10) mX5_in 3 (rc' := 0) (rs' := 0) dX5_meaning_10 q1223 ms_X5_in (tm_in m.toInt64 0 (((nI (cM A)) - 1).toInt64)) rfl rfl rfl rfl rfl rfl ?_
  refine zt_if_eq (pc := 13) 28 dX5_meaning_13 (by decide) (fun c_13 => ?_) (fun c_13 => ?_)
  · refine zt_iconst (pc := 28) dX5_meaning_28 (v := (-1)) rfl ?_
    exact zt_ireturn (pc := 29) dX5_meaning_29 rfl (⟨congrArg some (congrArg Value.int ((if_neg (fun q => bI_eq0.mp c_13 ((in_iff m (cM A) (by omega)).mpr q.1))).symm)), rfl⟩)
  · have hn_m_ : inN m (cM A) := (in_iff m (cM A) (by omega)).mp (bI_ne0 c_13)
    obtain ⟨m_, hl_m_, rfl⟩ := inN_of hn_m_ (by omega)
    refine zt_iload_n (pc := 16) dX5_meaning_16 rfl rfl ?_
    refine zt_i2l (pc := 17) dX5_meaning_17 rfl ?_
    refine zt_lconst (pc := 18) dX5_meaning_18 (v := 0) rfl ?_
    refine zt_ldc2 (pc := 19) dX5_meaning_19 q1221 ?_
    refine wt_callS (pc := 22) mX5_in 3 (rc' := 0) (rs' := 0) dX5_meaning_22 q1223 ms_X5_in (tm_in w.toInt64 0 4) rfl rfl rfl rfl rfl rfl ?_
    refine zt_if_ne (pc := 25) 30 dX5_meaning_25 (by decide) (fun c_25 => ?_) (fun c_25 => ?_)
    · have hn_w_ : inN w 5 := (in_c w 4 (by decide)).mp (bI_ne0 c_25)
      obtain ⟨w_, hl_w_, rfl⟩ := inN_of hn_w_ (by decide)
      refine zt_iconst (pc := 30) dX5_meaning_30 (v := 0) rfl ?_
      refine zt_istore_n (pc := 31) (L' := [some (.ref 289), some (.int (nI m_)), some (.int (nI w_)), some (.int 0), none]) dX5_meaning_31 rfl (by decide) rfl rfl ?_
      refine zt_iconst (pc := 32) dX5_meaning_32 (v := 0) rfl ?_
      refine zt_istore (pc := 33) (L' := [some (.ref 289), some (.int (nI m_)), some (.int (nI w_)), some (.int 0), some (.int 0)]) dX5_meaning_33 (by decide) rfl rfl ?_
      refine zt_for (pc := 35) (fun i => S) (fun i => [some (.ref 289), some (.int (nI m_)), some (.int (nI w_)), some (.int (itr (s_whoF A m_) 0 i)), some (.int (nI i))]) (cK A) rfl rfl ?_ (fun i hi_i ih_i => ?_)
      · show Zt _ _ _ _ _ _ (zW h S) 35 [some (.ref 289), some (.int (nI m_)), some (.int (nI w_)), some (.int (itr (s_whoF A m_) 0 (cK A))), some (.int (nI (cK A)))] []
        refine zt_iload (pc := 35) dX5_meaning_35 rfl ?_
        refine zt_aload_n (pc := 37) dX5_meaning_37 rfl rfl ?_
        refine wt_getI (pc := 38) 5 7 (v := nI (cK A)) dX5_meaning_38 q1279 rfl (ms_o hM) (hA.ce.k hI.c) ?_
        refine zt_geN (a := cK A) (b := cK A) (pc := 41) 75 dX5_meaning_41 (by decide) (by omega) (by omega) (fun c_41 => ?_) (fun c_41 => absurd c_41 (Nat.lt_irrefl _))
        refine zt_iload_n (pc := 75) dX5_meaning_75 rfl rfl ?_
        refine zt_if_ne (pc := 76) 88 dX5_meaning_76 (by decide) (fun c_76 => ?_) (fun c_76 => ?_)
        · refine zt_iload_n (pc := 88) dX5_meaning_88 rfl rfl ?_
          refine zt_iconst (pc := 89) dX5_meaning_89 (v := 1) rfl ?_
          refine zt_icmp_ne (pc := 90) 102 dX5_meaning_90 (by decide) (fun c_90 => ?_) (fun c_90 => ?_)
          · refine zt_iload_n (pc := 102) dX5_meaning_102 rfl rfl ?_
            refine zt_iconst (pc := 103) dX5_meaning_103 (v := 2) rfl ?_
            refine zt_icmp_ne (pc := 104) 115 dX5_meaning_104 (by decide) (fun c_104 => ?_) (fun c_104 => ?_)
            · refine zt_iload_n (pc := 115) dX5_meaning_115 rfl rfl ?_
              refine zt_iconst (pc := 116) dX5_meaning_116 (v := 3) rfl ?_
              refine zt_icmp_ne (pc := 117) 129 dX5_meaning_117 (by decide) (fun c_117 => ?_) (fun c_117 => ?_)
              · refine zt_iload_n (pc := 129) dX5_meaning_129 rfl rfl ?_
                exact zt_ireturn (pc := 130) dX5_meaning_130 rfl (⟨congrArg some (congrArg Value.int (((((((if_pos ⟨hn_m_, hn_w_⟩).trans (if_neg c_76)).trans (if_neg c_90)).trans (if_neg c_104)).trans (if_neg c_117)).trans (by rw [nI_clamp (show m_ < 2 ^ 31 by omega)] <;> rfl)).symm)), rfl⟩)
              · refine zt_aload_n (pc := 120) dX5_meaning_120 rfl rfl ?_
                refine wt_getR (pc := 121) 5 18 dX5_meaning_121 q1290 rfl (ms_o hM) (mr_are hM) ?_
                refine zt_iload_n (pc := 124) dX5_meaning_124 rfl rfl ?_
                refine wt_iald (pc := 125) 12 m_ (v := A 300 m_) dX5_meaning_125 (ma_are hM) rfl rfl (by omega) (congrFun (hA 300 (by decide) (by decide)) m_) ?_
                refine zt_goto (pc := 126) 130 dX5_meaning_126 (by decide) ?_
                exact zt_ireturn (pc := 130) dX5_meaning_130 rfl (⟨congrArg some (congrArg Value.int ((((((if_pos ⟨hn_m_, hn_w_⟩).trans (if_neg c_76)).trans (if_neg c_90)).trans (if_neg c_104)).trans ((if_pos c_117).trans (by rw [nI_clamp (show m_ < 2 ^ 31 by omega)] <;> rfl))).symm)), rfl⟩)
            · refine zt_aload_n (pc := 107) dX5_meaning_107 rfl rfl ?_
              refine zt_iload_n (pc := 108) dX5_meaning_108 rfl rfl ?_
              refine wt_callV (pc := 109) mX5_marksOf 1 5 (rc' := 0) (rs' := 0) dX5_meaning_109 q1261 mi_X5_marksOf rfl rfl (ms_o hM) (tm_marksOf hM hA.ce m_ (by omega)) rfl rfl rfl rfl rfl rfl ?_
              refine zt_goto (pc := 112) 130 dX5_meaning_112 (by decide) ?_
              exact zt_ireturn (pc := 130) dX5_meaning_130 rfl (⟨congrArg some (congrArg Value.int (((((if_pos ⟨hn_m_, hn_w_⟩).trans (if_neg c_76)).trans (if_neg c_90)).trans ((if_pos c_104).trans (by rw [nI_clamp (show m_ < 2 ^ 31 by omega)] <;> rfl))).symm)), rfl⟩)
          · refine zt_aload_n (pc := 93) dX5_meaning_93 rfl rfl ?_
            refine wt_getR (pc := 94) 5 4 dX5_meaning_94 q1276 rfl (ms_o hM) (mr_lacking hM) ?_
            refine zt_iload_n (pc := 97) dX5_meaning_97 rfl rfl ?_
            refine wt_iald (pc := 98) 12 m_ (v := A 292 m_) dX5_meaning_98 (ma_lacking hM) rfl rfl (by omega) (congrFun (hA 292 (by decide) (by decide)) m_) ?_
            refine zt_goto (pc := 99) 130 dX5_meaning_99 (by decide) ?_
            exact zt_ireturn (pc := 130) dX5_meaning_130 rfl (⟨congrArg some (congrArg Value.int ((((if_pos ⟨hn_m_, hn_w_⟩).trans (if_neg c_76)).trans ((if_pos c_90).trans (by rw [nI_clamp (show m_ < 2 ^ 31 by omega)] <;> rfl))).symm)), rfl⟩)
        · refine zt_aload_n (pc := 79) dX5_meaning_79 rfl rfl ?_
          refine wt_getR (pc := 80) 5 3 dX5_meaning_80 q1275 rfl (ms_o hM) (mr_having hM) ?_
          refine zt_iload_n (pc := 83) dX5_meaning_83 rfl rfl ?_
          refine wt_iald (pc := 84) 12 m_ (v := A 291 m_) dX5_meaning_84 (ma_having hM) rfl rfl (by omega) (congrFun (hA 291 (by decide) (by decide)) m_) ?_
          refine zt_goto (pc := 85) 130 dX5_meaning_85 (by decide) ?_
          exact zt_ireturn (pc := 130) dX5_meaning_130 rfl (⟨congrArg some (congrArg Value.int (((if_pos ⟨hn_m_, hn_w_⟩).trans ((if_pos c_76).trans (by rw [nI_clamp (show m_ < 2 ^ 31 by omega)] <;> rfl))).symm)), rfl⟩)
      · show Zt _ _ _ _ _ _ (zW h S) 35 [some (.ref 289), some (.int (nI m_)), some (.int (nI w_)), some (.int (itr (s_whoF A m_) 0 i)), some (.int (nI i))] []
        refine zt_iload (pc := 35) dX5_meaning_35 rfl ?_
        refine zt_aload_n (pc := 37) dX5_meaning_37 rfl rfl ?_
        refine wt_getI (pc := 38) 5 7 (v := nI (cK A)) dX5_meaning_38 q1279 rfl (ms_o hM) (hA.ce.k hI.c) ?_
        refine zt_geN (a := i) (b := cK A) (pc := 41) 75 dX5_meaning_41 (by decide) (by omega) (by omega) (fun c_41 => absurd hi_i (Nat.not_lt.mpr c_41)) (fun c_41 => ?_)
        refine zt_iload_n (pc := 44) dX5_meaning_44 rfl rfl ?_
        refine zt_aload_n (pc := 45) dX5_meaning_45 rfl rfl ?_
        refine zt_iload (pc := 46) dX5_meaning_46 rfl ?_
        refine wt_callV (pc := 48) mX5_canThink 1 5 (rc' := 0) (rs' := 0) dX5_meaning_48 q1246 mi_X5_canThink rfl rfl (ms_o hM) (tm_canThink hM hI.c hA.ce i (by omega)) rfl rfl rfl rfl rfl rfl ?_
        refine zt_iload_n (pc := 51) dX5_meaning_51 rfl rfl ?_
        refine zt_ishr (pc := 52) dX5_meaning_52 ?_
        refine zt_iconst (pc := 53) dX5_meaning_53 (v := 1) rfl ?_
        refine zt_iand (pc := 54) dX5_meaning_54 ?_
        refine zt_iconst (pc := 55) dX5_meaning_55 (v := 1) rfl ?_
        refine zt_icmp_ne (pc := 56) 66 dX5_meaning_56 (by decide) (fun c_56 => ?_) (fun c_56 => ?_)
        · refine zt_iconst (pc := 66) dX5_meaning_66 (v := 0) rfl ?_
          refine zt_ior (pc := 67) dX5_meaning_67 ?_
          refine zt_top (pc := 68) (itr (s_whoF A m_) 0 (i + 1)) (show _ = s_whoF A m_ i _ from congrArg _ (if_neg c_56).symm) ?_
          refine zt_istore_n (pc := 68) (L' := [some (.ref 289), some (.int (nI m_)), some (.int (nI w_)), some (.int (itr (s_whoF A m_) 0 (i + 1))), some (.int (nI i))]) dX5_meaning_68 rfl (by decide) rfl rfl ?_
          refine zt_iincN (pc := 69) (b := i + 1) (L' := [some (.ref 289), some (.int (nI m_)), some (.int (nI w_)), some (.int (itr (s_whoF A m_) 0 (i + 1))), some (.int (nI (i + 1)))]) dX5_meaning_69 rfl (zinc1 i) (by decide) rfl rfl ?_
          refine zt_goto (pc := 72) 35 dX5_meaning_72 (by decide) ?_
          exact ih_i
        · refine zt_iconst (pc := 59) dX5_meaning_59 (v := 1) rfl ?_
          refine zt_iload (pc := 60) dX5_meaning_60 rfl ?_
          refine zt_ishl (pc := 62) dX5_meaning_62 ?_
          refine zt_goto (pc := 63) 67 dX5_meaning_63 (by decide) ?_
          refine zt_ior (pc := 67) dX5_meaning_67 ?_
          refine zt_top (pc := 68) (itr (s_whoF A m_) 0 (i + 1)) (show _ = s_whoF A m_ i _ from congrArg _ (if_pos c_56).symm) ?_
          refine zt_istore_n (pc := 68) (L' := [some (.ref 289), some (.int (nI m_)), some (.int (nI w_)), some (.int (itr (s_whoF A m_) 0 (i + 1))), some (.int (nI i))]) dX5_meaning_68 rfl (by decide) rfl rfl ?_
          refine zt_iincN (pc := 69) (b := i + 1) (L' := [some (.ref 289), some (.int (nI m_)), some (.int (nI w_)), some (.int (itr (s_whoF A m_) 0 (i + 1))), some (.int (nI (i + 1)))]) dX5_meaning_69 rfl (zinc1 i) (by decide) rfl rfl ?_
          refine zt_goto (pc := 72) 35 dX5_meaning_72 (by decide) ?_
          exact ih_i
    · refine zt_iconst (pc := 28) dX5_meaning_28 (v := (-1)) rfl ?_
      exact zt_ireturn (pc := 29) dX5_meaning_29 rfl (⟨congrArg some (congrArg Value.int ((if_neg (fun q => bI_eq0.mp c_25 ((in_c w 4 (by decide)).mpr q.2))).symm)), rfl⟩)

theorem tm_shown (hM : MS h.2.1 h.2.2.2) (hI : AI A) (hA : AE S A) (i w : Int32) : Zd g mX5_shown 2 0 0 [.ref 289, .int i, .int w] (zW h S) (some (.int (o_shown A i w))) (zW h S) := by
  refine zc_of [some (.ref 289), some (.int i), some (.int w)] rfl (Nat.le_of_ble_eq_true rfl) rfl ?_
  have b1 := hI.c.t8; have b2 := hI.c.m12; have b3 := hI.c.s4; have b4 := hI.c.k6; have b5 := hI.sh24
  refine zt_iload_n (pc := 0) dX5_shown_0 rfl rfl ?_
  refine zt_i2l (pc := 1) dX5_shown_1 rfl ?_
  refine zt_lconst (pc := 2) dX5_shown_2 (v := 0) rfl ?_
  refine zt_aload_n (pc := 3) dX5_shown_3 rfl rfl ?_
  refine wt_getI (pc := 4) 5 28 (v := nI (cSh A)) dX5_shown_4 q1300 rfl (ms_o hM) ((hA.f 28).trans hI.sh) ?_
  refine zt_iconst (pc := 7) dX5_shown_7 (v := 1) rfl ?_
  refine zt_isub (pc := 8) dX5_shown_8 ?_
  refine zt_i2l (pc := 9) dX5_shown_9 rfl ?_
  refine wt_callS (pc := 10) mX5_in 3 (rc' := 0) (rs' := 0) dX5_shown_10 q1223 ms_X5_in (tm_in i.toInt64 0 (((nI (cSh A)) - 1).toInt64)) rfl rfl rfl rfl rfl rfl ?_
  refine zt_if_eq (pc := 13) 41 dX5_shown_13 (by decide) (fun c_13 => ?_) (fun c_13 => ?_)
  · refine zt_iconst (pc := 41) dX5_shown_41 (v := (-1)) rfl ?_
    exact zt_ireturn (pc := 42) dX5_shown_42 rfl (⟨congrArg some (congrArg Value.int ((if_neg (fun q => bI_eq0.mp c_13 ((in_iff i (cSh A) (by omega)).mpr q.1))).symm)), rfl⟩)
  · have hn_i_ : inN i (cSh A) := (in_iff i (cSh A) (by omega)).mp (bI_ne0 c_13)
    obtain ⟨i_, hl_i_, rfl⟩ := inN_of hn_i_ (by omega)
    refine zt_iload_n (pc := 16) dX5_shown_16 rfl rfl ?_
    refine zt_i2l (pc := 17) dX5_shown_17 rfl ?_
    refine zt_lconst (pc := 18) dX5_shown_18 (v := 0) rfl ?_
    refine zt_ldc2 (pc := 19) dX5_shown_19 q1544 ?_
    refine wt_callS (pc := 22) mX5_in 3 (rc' := 0) (rs' := 0) dX5_shown_22 q1223 ms_X5_in (tm_in w.toInt64 0 2) rfl rfl rfl rfl rfl rfl ?_
    refine zt_if_eq (pc := 25) 41 dX5_shown_25 (by decide) (fun c_25 => ?_) (fun c_25 => ?_)
    · refine zt_iconst (pc := 41) dX5_shown_41 (v := (-1)) rfl ?_
      exact zt_ireturn (pc := 42) dX5_shown_42 rfl (⟨congrArg some (congrArg Value.int ((if_neg (fun q => bI_eq0.mp c_25 ((in_c w 2 (by decide)).mpr q.2))).symm)), rfl⟩)
    · have hn_w_ : inN w 3 := (in_c w 2 (by decide)).mp (bI_ne0 c_25)
      obtain ⟨w_, hl_w_, rfl⟩ := inN_of hn_w_ (by decide)
      refine zt_aload_n (pc := 28) dX5_shown_28 rfl rfl ?_
      refine wt_getR (pc := 29) 5 29 dX5_shown_29 q1301 rfl (ms_o hM) (mr_shown hM) ?_
      refine zt_iconst (pc := 32) dX5_shown_32 (v := 3) rfl ?_
      refine zt_iload_n (pc := 33) dX5_shown_33 rfl rfl ?_
      refine zt_imulN (pc := 34) (a := 3) (b := i_) dX5_shown_34 ?_
      refine zt_iload_n (pc := 35) dX5_shown_35 rfl rfl ?_
      refine zt_iaddN (pc := 36) (a := 3 * i_) (b := w_) dX5_shown_36 ?_
      refine wt_iald (pc := 37) 72 ((3 * i_) + w_) (v := A 303 ((3 * i_) + w_)) dX5_shown_37 (ma_shown hM) rfl rfl (by omega) (congrFun (hA 303 (by decide) (by decide)) ((3 * i_) + w_)) ?_
      refine zt_goto (pc := 38) 42 dX5_shown_38 (by decide) ?_
      exact zt_ireturn (pc := 42) dX5_shown_42 rfl (⟨congrArg some (congrArg Value.int (((if_pos ⟨hn_i_, hn_w_⟩).trans (by rw [nI_clamp (show i_ < 2 ^ 31 by omega), nI_clamp (show w_ < 2 ^ 31 by omega)])).symm)), rfl⟩)

end M3