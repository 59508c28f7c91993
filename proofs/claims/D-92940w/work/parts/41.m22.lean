/-! THE TWIN, part 22: laws of the lines -/
set_option maxRecDepth 100000
theorem and1_or (x : Int32) : x &&& 1 = 0 ∨ x &&& 1 = 1 := by
  have e : (x &&& 1).toBitVec = BitVec.setWidth 32 (BitVec.ofBool (x.toBitVec.getLsbD 0)) := by
    rw [Int32.toBitVec_and]
    exact BitVec.and_one_eq_setWidth_ofBool_getLsbD
  cases hb : x.toBitVec.getLsbD 0 with
  | false => left; apply Int32.toBitVec_inj.mp; rw [e, hb]; rfl
  | true => right; apply Int32.toBitVec_inj.mp; rw [e, hb]; rfl
theorem rn_ok {T : Nat → Int32} {n : Nat} {lo hi : Int32} {f : Nat → Int32} (h : f_rn T n lo hi f 25 = 0) : lo.toInt64 ≤ (v_rn lo hi f).toInt64 ∧ (v_rn lo hi f).toInt64 ≤ hi.toInt64 := by
  have a := bI_ne0 (needs_stuck (by decide) (nx_stuck h)).2
  have e : v_rn lo hi f = f_rn1 f 24 := f_needs_at (by decide) (by decide)
  rw [e]
  exact a
theorem rn_chance {T : Nat → Int32} {n : Nat} {f : Nat → Int32} (h : f_rn T n 0 9 f 25 = 0) : ∃ c : Nat, c ≤ 9 ∧ v_rn 0 9 f = nI c := by
  have a := rn_ok h
  have b : inN (v_rn 0 9 f) 10 := (in_iff _ 10 (by decide)).mp a
  obtain ⟨j, h1, h2⟩ := inN_of b (by decide)
  exact ⟨j, by omega, h2⟩
theorem rn_mean {T : Nat → Int32} {n m : Nat} {f : Nat → Int32} (hm : f 11 = nI m) (h12 : m ≤ 12) (h : f_rn T n 0 (f 11 - 1) f 25 = 0) : ∃ j : Nat, j < m ∧ v_rn 0 (f 11 - 1) f = nI j := by
  have a := rn_ok h
  rw [hm] at a ⊢
  exact inN_of ((in_iff _ m (by omega)).mp a) (by omega)
/-- a kind's chance -/
theorem rk_chance {T : Nat → Int32} {n : Nat} {fo : Nat → Int32} (hn : n ≤ 400) (ht : TI n fo) : ∀ i, (rkR T n fo i).2 25 = 0 → ∃ c : Nat, c ≤ 9 ∧ (rkR T n fo i).1.2.2.1 = nI c
  | 0, _ => ⟨1, by decide, rfl⟩
  | i + 1, h => by
    have hp : (rkR T n fo i).2 25 = 0 := (gd_rkS (T := T) hn (Gd.refl (gd_rkR (T := T) hn ht i).ti)).stuck h
    have ih := rk_chance hn ht i hp
    change (rkS T n (rkR T n fo i)).2 25 = 0 at h
    change ∃ c : Nat, c ≤ 9 ∧ (rkS T n (rkR T n fo i)).1.2.2.1 = nI c
    generalize rkR T n fo i = x at h ih
    unfold rkS at h ⊢
    by_cases hc : x.2 25 = 0 ∧ x.2 23 = 1
    · rw [if_pos hc] at h ⊢
      by_cases h1 : rk1 T n x.2 25 = 0
      · rw [if_pos h1] at h ⊢
        by_cases a : rkW T n x.2 = 14
        · rw [if_pos a]; exact ih
        · rw [if_neg a] at h ⊢
          by_cases b : rkW T n x.2 = 15
          · rw [if_pos b]; exact ih
          · rw [if_neg b] at h ⊢
            by_cases c : rkW T n x.2 = 17
            · rw [if_pos c] at h ⊢
              dsimp only at h ⊢
              exact rn_chance h
            · rw [if_neg c]; exact ih
      · rw [if_neg h1]; exact ih
    · rw [if_neg hc]; exact ih
/-- the draft -/
def DA (S : Nat → Nat → Int32) (fo : Nat → Int32) : Prop := DI fo ∧ (∀ s, s < 4 → ∃ j : Nat, j < 12 ∧ S 298 s = nI j) ∧ ∀ k, k < dN 16 fo → (∃ c : Nat, c ≤ 9 ∧ S 299 (5 * k + 4) = nI c) ∧ (S 299 (5 * k + 3) = 0 ∨ S 299 (5 * k + 3) = 1)
theorem DA.same {S : Nat → Nat → Int32} {fo f : Nat → Int32} (h : DA S fo) (e : ∀ k, k < 21 ∨ 26 < k → f k = fo k) : DA S f :=
  ⟨h.1.same e, h.2.1, by unfold dN; rw [e 16 (by decide)]; exact h.2.2⟩
theorem dN_nI {k m : Nat} {f : Nat → Int32} (h : f k = nI m) (hm : m ≤ 1000) : dN k f = m := clampN h (by omega)
theorem dN_up {k m : Nat} {f : Nat → Int32} (h : f k = nI m) : upd f k (f k + 1) k = nI (m + 1) := by
  rw [upd_at, h]; exact nI_add m 1
/-- one count grows -/
theorem DI.up9 {f : Nat → Int32} (h : DI f) (hl : dN 9 f < 8) : DI (upd f 9 (f 9 + 1)) := by
  have e := dN_up h.1.1
  have d := dN_nI e (by omega)
  exact ⟨⟨by rw [d]; exact e, by rw [d]; omega⟩, h.2.1, h.2.2.1, h.2.2.2⟩
theorem DI.up11 {f : Nat → Int32} (h : DI f) (hl : dN 11 f < 12) : DI (upd f 11 (f 11 + 1)) := by
  have e := dN_up h.2.1.1
  have d := dN_nI e (by omega)
  exact ⟨h.1, ⟨by rw [d]; exact e, by rw [d]; omega⟩, h.2.2.1, h.2.2.2⟩
theorem DI.up14 {f : Nat → Int32} (h : DI f) (hl : dN 14 f < 4) : DI (upd f 14 (f 14 + 1)) := by
  have e := dN_up h.2.2.1.1
  have d := dN_nI e (by omega)
  exact ⟨h.1, h.2.1, ⟨by rw [d]; exact e, by rw [d]; omega⟩, h.2.2.2⟩
theorem DI.up16 {f : Nat → Int32} (h : DI f) (hl : dN 16 f < 6) : DI (upd f 16 (f 16 + 1)) := by
  have e := dN_up h.2.2.2.1
  have d := dN_nI e (by omega)
  exact ⟨h.1, h.2.1, h.2.2.1, ⟨by rw [d]; exact e, by rw [d]; omega⟩⟩
theorem DA.u9 {S : Nat → Nat → Int32} {f : Nat → Int32} {i : Nat} {v : Int32} (q : DA S f) (hl : dN 9 f < 8) : DA (zu S 295 i v) (upd f 9 (f 9 + 1)) := ⟨q.1.up9 hl, q.2.1, q.2.2⟩
theorem DA.u11 {S : Nat → Nat → Int32} {f : Nat → Int32} {i i' : Nat} {v v' : Int32} (q : DA S f) (hl : dN 11 f < 12) : DA (zu (zu S 296 i v) 297 i' v') (upd f 11 (f 11 + 1)) := ⟨q.1.up11 hl, q.2.1, q.2.2⟩
theorem DA.u14 {S : Nat → Nat → Int32} {f : Nat → Int32} {i : Nat} {v : Int32} (q : DA S f) (hl : dN 14 f < 4) (hv : ∃ j : Nat, j < 12 ∧ v = nI j) : DA (zu S 298 i v) (upd f 14 (f 14 + 1)) := by
  refine ⟨q.1.up14 hl, fun s hs => ?_, q.2.2⟩
  by_cases es : s = i
  · obtain ⟨j, hj, ej⟩ := hv
    refine ⟨j, hj, ?_⟩
    rw [es]
    exact (if_pos ⟨rfl, rfl⟩).trans ej
  · obtain ⟨j', hj', ej'⟩ := q.2.1 s hs
    exact ⟨j', hj', (zu_ne2 es).trans ej'⟩
theorem DA.u16 {S : Nat → Nat → Int32} {f : Nat → Int32} {k a b c d : Int32} (q : DA S f) (hl : dN 16 f < 6) (hd : ∃ c' : Nat, c' ≤ 9 ∧ d = nI c') (hc : c = 0 ∨ c = 1) : DA (zu (zu (zu (zu (zu S 299 (5 * dN 16 f) k) 299 (5 * dN 16 f + 1) a) 299 (5 * dN 16 f + 2) b) 299 (5 * dN 16 f + 3) c) 299 (5 * dN 16 f + 4) d) (upd f 16 (f 16 + 1)) := by
  refine ⟨q.1.up16 hl, q.2.1, fun k' hk' => ?_⟩
  have hk2 : k' < dN 16 f + 1 := by
    have e := dN_up q.1.2.2.2.1
    have d' := dN_nI e (by omega)
    rw [d'] at hk'
    exact hk'
  by_cases ek : k' = dN 16 f
  · subst ek
    refine ⟨?_, ?_⟩
    · obtain ⟨c', hc', ec'⟩ := hd
      exact ⟨c', hc', (if_pos ⟨rfl, rfl⟩).trans ec'⟩
    · have e1 : ∀ (X : Nat → Nat → Int32) (v w : Int32), zu (zu X 299 (5 * dN 16 f + 3) v) 299 (5 * dN 16 f + 4) w 299 (5 * dN 16 f + 3) = v := fun X v w => (zu_ne2 (by omega)).trans (if_pos ⟨rfl, rfl⟩)
      rw [e1]
      exact hc
  · have e1 : ∀ j, j < 5 * dN 16 f → zu (zu (zu (zu (zu S 299 (5 * dN 16 f) k) 299 (5 * dN 16 f + 1) a) 299 (5 * dN 16 f + 2) b) 299 (5 * dN 16 f + 3) c) 299 (5 * dN 16 f + 4) d 299 j = S 299 j := fun j hj => (zu_ne2 (by omega)).trans ((zu_ne2 (by omega)).trans ((zu_ne2 (by omega)).trans ((zu_ne2 (by omega)).trans (zu_ne2 (by omega)))))
    rw [e1 _ (by omega), e1 _ (by omega)]
    exact q.2.2 k' (by omega)
theorem da_C {T : Nat → Int32} {n : Nat} {k : Int32} {S : Nat → Nat → Int32} {f : Nat → Int32} (hn : n ≤ 400) (h : TI n f) (hd : DA S f) (h9 : k = 10 → dN 9 f < 8) (h11 : k = 11 → dN 11 f < 12) (h14 : k = 12 → dN 14 f < 4) (h16 : ¬ k = 10 → ¬ k = 11 → ¬ k = 12 → dN 16 f < 6) : DA (lnC T n k S f).1 (lnC T n k S f).2 := by
  have g1 : Gd n f (f_rm T n 0 f) := (Gd.refl h).grm hn
  have g2 : Gd n f (f_me T n f) := gd_me hn h
  have g3 : Gd n f (f_rn T n 0 (f 11 - 1) f) := (Gd.refl h).grn hn
  have g4 : Gd n f (rkR T n f 5).2 := gd_rkR hn h 5
  have e9 : ∀ {f'}, Gd n f f' → dN 9 f' = dN 9 f := fun q => congrArg Int32.toNatClampNeg (q.at_ 9 (by decide))
  have e11 : ∀ {f'}, Gd n f f' → dN 11 f' = dN 11 f := fun q => congrArg Int32.toNatClampNeg (q.at_ 11 (by decide))
  have e14 : ∀ {f'}, Gd n f f' → dN 14 f' = dN 14 f := fun q => congrArg Int32.toNatClampNeg (q.at_ 14 (by decide))
  have e16 : ∀ {f'}, Gd n f f' → dN 16 f' = dN 16 f := fun q => congrArg Int32.toNatClampNeg (q.at_ 16 (by decide))
  unfold lnC
  by_cases a : k = 10
  · rw [if_pos a]
    unfold w_th
    by_cases c : f_rm T n 0 f 25 = 0
    · rw [if_pos c]
      dsimp only
      have q := hd.same g1.at_
      exact q.u9 (by rw [e9 g1]; exact h9 a)
    · rw [if_neg c]; dsimp only; exact hd.same g1.at_
  · rw [if_neg a]
    by_cases b : k = 11
    · rw [if_pos b]
      unfold w_me
      dsimp only
      by_cases c : f_me T n f 25 = 0
      · rw [if_pos c]
        dsimp only
        have q := hd.same g2.at_
        exact q.u11 (by rw [e11 g2]; exact h11 b)
      · rw [if_neg c]; dsimp only; exact hd.same g2.at_
    · rw [if_neg b]
      by_cases d : k = 12
      · rw [if_pos d]
        unfold w_wd
        by_cases c : f_rn T n 0 (f 11 - 1) f 25 = 0
        · rw [if_pos c]
          dsimp only
          have q := hd.same g3.at_
          obtain ⟨j, hj, ej⟩ := rn_mean hd.1.2.1.1 hd.1.2.1.2 c
          exact q.u14 (by rw [e14 g3]; exact h14 d) ⟨j, Nat.lt_of_lt_of_le hj hd.1.2.1.2, ej⟩
        · rw [if_neg c]; dsimp only; exact hd.same g3.at_
      · rw [if_neg d]
        by_cases c : (rkR T n f 5).2 25 = 0
        · rw [w_rk_pos c]
          dsimp only
          have q := hd.same g4.at_
          have hm := e16 g4
          have hl := h16 a b d
          have r := q.u16 (k := k) (a := (rkR T n f 5).1.1) (b := (rkR T n f 5).1.2.1) (by rw [hm]; exact hl) (rk_chance (T := T) hn h 5 c) (and1_or ((rkR T n f 5).1.2.2.2 >>> (2 &&& 31)))
          rw [hm] at r
          exact r
        · rw [w_rk_neg c]; dsimp only; exact hd.same g4.at_
theorem gd_lnF {T : Nat → Int32} {n : Nat} {f : Nat → Int32} (hn : n ≤ 400) (h : TI n f) : Gd n f (lnF T n f) := ((Gd.refl h).gnd (by decide)).gnx hn
/-- all that a line keeps -/
theorem lg_ln {T : Nat → Int32} {n : Nat} {S : Nat → Nat → Int32} {f : Nat → Int32} (hn : n ≤ 400) (h : TI n f) (hF : f 25 = 0 ∨ 0 < f 25) (hd : DA S f) : LG n S f (w_ln T n (S, f)) ∧ ((w_ln T n (S, f)).2 25 = 0 → ¬ (w_ln T n (S, f)).2 23 = 0 → pN f < pN (w_ln T n (S, f)).2) ∧ DA (w_ln T n (S, f)).1 (w_ln T n (S, f)).2 := by
  have g6 : Gd n f (ln6 T n f) := gd_ln6 hn h
  unfold w_ln
  dsimp only
  by_cases c : 0 < ln6 T n f 25
  · rw [if_pos c]
    refine ⟨LG.of g6 (fun _ _ => rfl), fun z _ => ?_, hd.same g6.at_⟩
    dsimp only at z
    rw [z] at c
    exact absurd c (by decide)
  · rw [if_neg c]
    have h0 : ln6 T n f 25 = 0 := (g6.fz hF).elim id (fun z => absurd z c)
    have hok := ln6_ok h0
    have hL : LG n S (ln6 T n f) (lnC T n (lnK T n f) S (ln6 T n f)) := lg_C hn g6.ti
    have d6 := hd.same g6.at_
    have e9 : dN 9 (ln6 T n f) = dN 9 f := congrArg Int32.toNatClampNeg (g6.at_ 9 (by decide))
    have e11 : dN 11 (ln6 T n f) = dN 11 f := congrArg Int32.toNatClampNeg (g6.at_ 11 (by decide))
    have e14 : dN 14 (ln6 T n f) = dN 14 f := congrArg Int32.toNatClampNeg (g6.at_ 14 (by decide))
    have e16 : dN 16 (ln6 T n f) = dN 16 f := congrArg Int32.toNatClampNeg (g6.at_ 16 (by decide))
    have hA : DA (lnC T n (lnK T n f) S (ln6 T n f)).1 (lnC T n (lnK T n f) S (ln6 T n f)).2 := da_C hn g6.ti d6
      (fun z => by rw [e9]; exact hok.2.1.resolve_left (fun q => q z))
      (fun z => by rw [e11]; exact hok.2.2.1.resolve_left (fun q => q z))
      (fun z => by rw [e14]; exact hok.2.2.2.1.resolve_left (fun q => q z))
      (fun z1 z2 z3 => by rw [e16]; exact hok.2.2.2.2.1.resolve_left (fun q => q (hok.1.elim id (fun y => absurd (in3 y) (fun v => v.elim z1 (fun v => v.elim z2 z3))))))
    generalize lnC T n (lnK T n f) S (ln6 T n f) = y at hL hA
    have gF : Gd n y.2 (lnF T n y.2) := gd_lnF hn hL.2.2.1
    dsimp only
    refine ⟨⟨hL.1, fun k hk => (gF.at_ k (by omega)).trans ((hL.2.1 k hk).trans (g6.at_ k (by omega))), gF.ti, ?_, fun z => g6.stuck (hL.2.2.2.2.1 (gF.stuck z)), fun z => gF.fz (hL.2.2.2.2.2 (g6.fz z))⟩, fun z1 z2 => ?_, hA.same gF.at_⟩
    · exact Nat.le_trans g6.mono (Nat.le_trans hL.2.2.2.1 gF.mono)
    · have p1 : f_needs y.2 (bI (y.2 23 = 3)) 2 25 = 0 := nx_stuck z1
      have p2 := nx_prog (T := T) hn (needs_PI (g := bI (y.2 23 = 3)) (c := 2) hL.2.2.1.1) p1 z2
      rw [needs_p] at p2
      exact Nat.lt_of_le_of_lt (Nat.le_trans g6.mono hL.2.2.2.1) p2