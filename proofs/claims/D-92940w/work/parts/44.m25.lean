/-! THE TWIN, part 25: the fewest -/
set_option maxRecDepth 100000
abbrev FX : Type := (Nat → Int32) × (Nat → Int32) × Int32
def fwS (C : Nat → Nat → Int32) (x : Int32) (s n : Nat) (y : FX) : FX := if ¬ y.2.2 = 0 ∧ o_tea C y.1 y.2.1 x s n = 0 then (s_tea C y.1 y.2.1 s n, nrF (cT C) n y.2.1, nrB (cT C) n y.2.1) else y
/-- a row of zeros -/
def zr5 (r : Nat → Int32) : Nat → Int32 := itr (fun i r => upd r i 0) r 5
def fwR (C : Nat → Nat → Int32) (x : Int32) (s n : Nat) (f r : Nat → Int32) (i : Nat) : FX := itr (fun _ => fwS C x s n) (f, zr5 r, bI (n = 0 ∨ 0 < cT C)) i
/-- behind all rows of n -/
def fwE (C : Nat → Nat → Int32) (x : Int32) (s n : Nat) (f r : Nat → Int32) : FX := fwR C x s n f r (cT C ^ n)
/-- the fewest from n on: the answer, the states, the row -/
def few (C : Nat → Nat → Int32) (x : Int32) (s : Nat) : Nat → Nat → (Nat → Int32) → (Nat → Int32) → Int32 × (Nat → Int32) × (Nat → Int32)
  | 0, _, f, r => (-4, f, r)
  | d + 1, n, f, r => if (fwE C x s n f r).2.2 = 0 then few C x s d (n + 1) (fwE C x s n f r).1 (fwE C x s n f r).2.1 else (nI n, s_tea C (fwE C x s n f r).1 (fwE C x s n f r).2.1 s n, (fwE C x s n f r).2.1)
theorem zr5_at (r : Nat → Int32) {k : Nat} (h : k < 5) : zr5 r k = 0 := by
  match k, h with
  | 0, _ => rfl
  | 1, _ => rfl
  | 2, _ => rfl
  | 3, _ => rfl
  | 4, _ => rfl
def dig (c n : Nat) (r : Nat → Int32) : Prop := ∀ k, k < n → ∃ d : Nat, d < c ∧ r k = nI d
def rkN (c : Nat) : Nat → (Nat → Int32) → Nat
  | 0, _ => 0
  | n + 1, r => rkN c n r * c + (r n).toNatClampNeg
theorem rkN_congr {c : Nat} {r r' : Nat → Int32} : ∀ n, (∀ k, k < n → r k = r' k) → rkN c n r = rkN c n r'
  | 0, _ => rfl
  | n + 1, h => by
    unfold rkN
    rw [rkN_congr n (fun k hk => h k (by omega)), h n (by omega)]
theorem rkN_zero {c : Nat} {r : Nat → Int32} : ∀ n, (∀ k, k < n → r k = 0) → rkN c n r = 0
  | 0, _ => rfl
  | n + 1, h => by
    unfold rkN
    rw [rkN_zero n (fun k hk => h k (by omega)), h n (by omega), Nat.zero_mul]
    rfl
theorem rkN_lt {c : Nat} {r : Nat → Int32} (hc : c ≤ 1000) : ∀ n, dig c n r → rkN c n r < c ^ n
  | 0, _ => Nat.one_pos
  | n + 1, h => by
    have ih := rkN_lt hc n (fun k hk => h k (by omega))
    obtain ⟨d, hd, e⟩ := h n (by omega)
    unfold rkN
    rw [clampN e (by omega), Nat.pow_succ]
    have : (rkN c n r + 1) * c ≤ c ^ n * c := Nat.mul_le_mul_right c ih
    rw [Nat.add_mul, Nat.one_mul] at this
    omega
theorem nrF_out {c : Nat} : ∀ n r k, n ≤ k → nrF c n r k = r k
  | 0, _, _, _ => rfl
  | n + 1, r, k, h => by
    unfold nrF
    split
    · rw [nrF_out n _ k (by omega), upd_ne (by omega)]
    · rw [upd_ne (by omega)]
theorem nr_rank {c : Nat} (hc : c ≤ 1000) : ∀ n r, dig c n r → ¬ nrB c n r = 0 → dig c n (nrF c n r) ∧ rkN c n (nrF c n r) = rkN c n r + 1
  | 0, r, _, h => absurd rfl h
  | n + 1, r, hd, h => by
    obtain ⟨d, hdc, e⟩ := hd n (by omega)
    unfold nrB at h
    unfold nrF
    by_cases q : r n = nI c - 1
    · rw [if_pos q] at h ⊢
      have hd' : dig c n (upd r n 0) := fun k hk => by
        rw [upd_ne (by omega)]; exact hd k (by omega)
      obtain ⟨i1, i2⟩ := nr_rank hc n (upd r n 0) hd' h
      have en : nrF c n (upd r n 0) n = 0 := (nrF_out n _ n (Nat.le_refl _)).trans (upd_at _ _ _)
      have ed : d = c - 1 := by
        have e2 : nI d = nI (c - 1) := e.symm.trans (q.trans (pk_sub (a := c) (b := 1) (by omega)))
        have := clampN e2.symm (p := d) (by omega)
        rw [clampN (rfl : nI (c - 1) = nI (c - 1)) (by omega)] at this
        omega
      refine ⟨fun k hk => ?_, ?_⟩
      · by_cases hk2 : k = n
        · subst hk2; exact ⟨0, by omega, en⟩
        · exact i1 k (by omega)
      · unfold rkN
        rw [i2, en, clampN e (by omega), rkN_congr (r := upd r n 0) (r' := r) n (fun k hk => upd_ne (by omega))]
        rw [show (0 : Int32).toNatClampNeg = 0 by decide, Nat.add_mul, Nat.one_mul]
        omega
    · rw [if_neg q] at h ⊢
      have ed : d + 1 < c := by
        apply Nat.lt_of_not_le
        intro z
        apply q
        rw [e, show d = c - 1 by omega]
        exact (pk_sub (a := c) (b := 1) (by omega)).symm
      have en : upd r n (r n + 1) n = nI (d + 1) := by rw [upd_at, e]; exact nI_add d 1
      refine ⟨fun k hk => ?_, ?_⟩
      · by_cases hk2 : k = n
        · subst hk2; exact ⟨d + 1, ed, en⟩
        · rw [upd_ne hk2]; exact hd k (by omega)
      · unfold rkN
        rw [clampN en (by omega), clampN e (by omega), rkN_congr (r := upd r n (r n + 1)) (r' := r) n (fun k hk => upd_ne (by omega))]
        omega
section
variable {C : Nat → Nat → Int32} {x : Int32} {s n : Nat} {f r : Nat → Int32}
theorem fwR_stay {i : Nat} (h : ¬ (¬ (fwR C x s n f r i).2.2 = 0 ∧ o_tea C (fwR C x s n f r i).1 (fwR C x s n f r i).2.1 x s n = 0)) : ∀ d, fwR C x s n f r (i + d) = fwR C x s n f r i
  | 0 => rfl
  | d + 1 => by
    have ih := fwR_stay h d
    have e : fwR C x s n f r (i + (d + 1)) = fwS C x s n (fwR C x s n f r (i + d)) := rfl
    rw [e, ih]
    exact if_neg h
theorem fwR_end {i N : Nat} (hN : i < N) (h : ¬ (¬ (fwR C x s n f r i).2.2 = 0 ∧ o_tea C (fwR C x s n f r i).1 (fwR C x s n f r i).2.1 x s n = 0)) : fwR C x s n f r i = fwR C x s n f r N := by
  have := fwR_stay h (N - i)
  rw [show i + (N - i) = N by omega] at this
  exact this.symm
theorem fw_rank (hC : CI C) (hn : n ≤ 5) : ∀ i, ¬ (fwR C x s n f r i).2.2 = 0 → dig (cT C) n (fwR C x s n f r i).2.1 ∧ (o_tea C (fwR C x s n f r i).1 (fwR C x s n f r i).2.1 x s n = 0 → rkN (cT C) n (fwR C x s n f r i).2.1 = i)
  | 0, h => by
    have h2 : n = 0 ∨ 0 < cT C := bI_ne0 h
    have hz : ∀ k, k < n → zr5 r k = 0 := fun k hk => zr5_at r (by omega)
    refine ⟨fun k hk => ⟨0, by omega, hz k hk⟩, fun _ => ?_⟩
    exact rkN_zero n hz
  | i + 1, h => by
    have hc8 := hC.t8
    have e : fwR C x s n f r (i + 1) = fwS C x s n (fwR C x s n f r i) := rfl
    have ih := fw_rank hC hn i
    rw [e] at h ⊢
    generalize fwR C x s n f r i = y at ih h ⊢
    by_cases hc : ¬ y.2.2 = 0 ∧ o_tea C y.1 y.2.1 x s n = 0
    · obtain ⟨i1, i2⟩ := ih hc.1
      have e2 : fwS C x s n y = (s_tea C y.1 y.2.1 s n, nrF (cT C) n y.2.1, nrB (cT C) n y.2.1) := if_pos hc
      rw [e2] at h ⊢
      dsimp only at h ⊢
      obtain ⟨j1, j2⟩ := nr_rank (by omega) n y.2.1 i1 h
      exact ⟨j1, fun _ => by rw [j2, i2 hc.2]⟩
    · have e2 : fwS C x s n y = y := if_neg hc
      rw [e2] at h ⊢
      exact ⟨(ih h).1, fun z => absurd ⟨h, z⟩ hc⟩
theorem fw_done (hC : CI C) (hn : n ≤ 5) : ¬ (¬ (fwE C x s n f r).2.2 = 0 ∧ o_tea C (fwE C x s n f r).1 (fwE C x s n f r).2.1 x s n = 0) := by
  intro h
  have hc8 := hC.t8
  obtain ⟨h1, h2⟩ := fw_rank (x := x) (s := s) (f := f) (r := r) hC hn _ h.1
  have h3 := rkN_lt (by omega) n h1
  rw [h2 h.2] at h3
  exact absurd h3 (Nat.lt_irrefl _)
theorem tea_tk (hC : CI C) (hs : s < 4) (h : TK f 140) (m : Nat) : TK (s_tea C f r s m) 140 := by
  intro k hk j hj
  rw [(tea_ok (r := r) hC hs h m).2 _ (by omega)]
  exact h k hk j hj
theorem fw_tk (hC : CI C) (hs : s < 4) (h : TK f 140) : ∀ i, TK (fwR C x s n f r i).1 140
  | 0 => h
  | i + 1 => by
    have ih := fw_tk hC hs h i
    have e : fwR C x s n f r (i + 1) = fwS C x s n (fwR C x s n f r i) := rfl
    rw [e]
    generalize fwR C x s n f r i = y at ih
    by_cases hc : ¬ y.2.2 = 0 ∧ o_tea C y.1 y.2.1 x s n = 0
    · have e2 : fwS C x s n y = (s_tea C y.1 y.2.1 s n, nrF (cT C) n y.2.1, nrB (cT C) n y.2.1) := if_pos hc
      rw [e2]
      dsimp only
      exact tea_tk hC hs ih n
    · have e2 : fwS C x s n y = y := if_neg hc
      rw [e2]; exact ih
end
section M25
variable {g : ZG} {h : ZH} {S A C : Nat → Nat → Int32} {f r : Nat → Int32}
theorem gtN {a b : Nat} (h : b < a) (ha : a ≤ 1000) : nI a > nI b := Int32.not_le.mp (fun q => absurd ((nI_leI (by omega) (by omega)).mp q) (Nat.not_le.mpr h))
theorem ngtN {a b : Nat} (h : a ≤ b) (hb : b ≤ 1000) : ¬ nI a > nI b := Int32.not_lt.mpr ((nI_leI (by omega) (by omega)).mpr h)
theorem nI_z {n : Nat} (hn : n ≤ 1000) (h : nI n = 0) : n = 0 := by
  have e := clampN (v := 0) (p := n) h.symm (by omega)
  rw [← e]; decide
theorem few_loop (hM : MS h.2.1 h.2.2.2) (hC : CI C) (hE : CE S C) (x : Int32) (s : Nat) (hs : s < 4) (most : Nat) (hmost : most ≤ 5) : ∀ (d n : Nat) (_ : n + d = most + 1) (f r : Nat → Int32) (_ : TK f 140), Zt g mX5_fewest 8 0 0 (fun a h' => a = some (.int (few C x s d n f r).1) ∧ h' = zW h (zs (zs S 304 (few C x s d n f r).2.2) 302 (few C x s d n f r).2.1)) (zW h (zs (zs S 304 r) 302 f)) 3 [some (.ref 289), some (.int x), some (.int (nI s)), some (.int (nI most)), some (.int (nI n)), none] []
  | 0, n, hd, f, r, hT => by
    refine zt_iload (pc := 3) dX5_fewest_3 rfl ?_
    refine zt_iload_n (pc := 5) dX5_fewest_5 rfl rfl ?_
    refine zt_icmp_gt (pc := 6) 87 dX5_fewest_6 (by decide) (fun c_6 => ?_) (fun c_6 => absurd (gtN (by omega) (by omega)) c_6)
    refine zt_bipush (pc := 87) dX5_fewest_87 (v := (-4)) rfl ?_
    exact zt_ireturn (pc := 89) dX5_fewest_89 rfl (⟨rfl, rfl⟩)
  | d + 1, n, hd, f, r, hT => by
    have hc8 := hC.t8
    have hn : n ≤ 5 := by omega
    refine zt_iload (pc := 3) dX5_fewest_3 rfl ?_
    refine zt_iload_n (pc := 5) dX5_fewest_5 rfl rfl ?_
    refine zt_icmp_gt (pc := 6) 87 dX5_fewest_6 (by decide) (fun c_6 => absurd c_6 (ngtN (by omega) (by omega))) (fun c_6 => ?_)
    refine zt_iconst (pc := 9) dX5_fewest_9 (v := 0) rfl ?_
    refine zt_istore (pc := 10) (L' := [some (.ref 289), some (.int x), some (.int (nI s)), some (.int (nI most)), some (.int (nI n)), some (.int 0)]) dX5_fewest_10 (by decide) rfl rfl ?_
    refine zt_S (zs_comm S r f (by decide)) ?_
    refine zt_for (pc := 12) (fun i => zs (zs S 302 f) 304 (itr (fun i r => upd r i 0) r i)) (fun i => [some (.ref 289), some (.int x), some (.int (nI s)), some (.int (nI most)), some (.int (nI n)), some (.int (nI i))]) 5 rfl rfl ?_ (fun i hi_i ih_i => ?_)
    · show Zt _ _ _ _ _ _ (zW h (zs (zs S 302 f) 304 (itr (fun i r => upd r i 0) r 5))) 12 [some (.ref 289), some (.int x), some (.int (nI s)), some (.int (nI most)), some (.int (nI n)), some (.int (nI 5))] []
      refine zt_iload (pc := 12) dX5_fewest_12 rfl ?_
      refine zt_iconst (pc := 14) dX5_fewest_14 (v := 5) rfl ?_
      refine zt_geN (a := 5) (b := 5) (pc := 15) 32 dX5_fewest_15 (by decide) (by omega) (by omega) (fun c_15 => ?_) (fun c_15 => absurd c_15 (Nat.lt_irrefl _))
      refine zt_S (S' := zs (zs S 302 f) 304 (zr5 r)) rfl ?_
      refine zt_S (zs_comm S f (zr5 r) (by decide)) ?_
      refine zt_iload (pc := 32) dX5_fewest_32 rfl ?_
      refine zt_if_eq (pc := 34) 44 dX5_fewest_34 (by decide) (fun c_34 => ?_) (fun c_34 => ?_)
      · refine zt_iconst (pc := 44) dX5_fewest_44 (v := 1) rfl ?_
        refine zt_goto (pc := 45) 49 dX5_fewest_45 (by decide) ?_
        refine zt_top (pc := 49) (bI (n = 0 ∨ 0 < cT C)) ((bI_t (Or.inl (nI_z (by omega) c_34))).symm) ?_
        refine zt_istore (pc := 49) (L' := [some (.ref 289), some (.int x), some (.int (nI s)), some (.int (nI most)), some (.int (nI n)), some (.int (bI (n = 0 ∨ 0 < cT C)))]) dX5_fewest_49 (by decide) rfl rfl ?_
        refine zt_for (pc := 51) (fun i => zs (zs S 304 (fwR C x s n f r i).2.1) 302 (fwR C x s n f r i).1) (fun i => [some (.ref 289), some (.int x), some (.int (nI s)), some (.int (nI most)), some (.int (nI n)), some (.int ((fwR C x s n f r i).2.2))]) (cT C ^ n) rfl rfl ?_ (fun i hi_i ih_i => ?_)
        · show Zt _ _ _ _ _ _ (zW h (zs (zs S 304 (fwR C x s n f r (cT C ^ n)).2.1) 302 (fwR C x s n f r (cT C ^ n)).1)) 51 [some (.ref 289), some (.int x), some (.int (nI s)), some (.int (nI most)), some (.int (nI n)), some (.int ((fwR C x s n f r (cT C ^ n)).2.2))] []
          refine zt_iload (pc := 51) dX5_fewest_51 rfl ?_
          refine zt_if_eq (pc := 53) 81 dX5_fewest_53 (by decide) (fun c_53 => ?_) (fun c_53 => ?_)
          · refine zt_drop (L' := [some (.ref 289), some (.int x), some (.int (nI s)), some (.int (nI most)), some (.int (nI n)), none]) 5 rfl ?_
            have hm : (fwE C x s n f r).2.2 = 0 := c_53
            refine zt_iincN (pc := 81) (b := n + 1) (L' := [some (.ref 289), some (.int x), some (.int (nI s)), some (.int (nI most)), some (.int (nI (n + 1))), none]) dX5_fewest_81 rfl (zinc1 n) (by decide) rfl rfl ?_
            refine zt_goto (pc := 84) 3 dX5_fewest_84 (by decide) ?_
            refine zt_Qeq ?_ (few_loop hM hC hE x s hs most hmost d (n + 1) (by omega) (fwE C x s n f r).1 (fwE C x s n f r).2.1 (fw_tk hC hs hT _))
            rw [show few C x s (d + 1) n f r = few C x s d (n + 1) (fwE C x s n f r).1 (fwE C x s n f r).2.1 from if_pos hm]
          · refine zt_aload_n (pc := 56) dX5_fewest_56 rfl rfl ?_
            refine zt_iload_n (pc := 57) dX5_fewest_57 rfl rfl ?_
            refine zt_iload_n (pc := 58) dX5_fewest_58 rfl rfl ?_
            refine zt_iload (pc := 59) dX5_fewest_59 rfl ?_
            refine wt_callV (pc := 61) mX5_teaches 3 5 (rc' := 0) (rs' := 0) dX5_fewest_61 q1593 mi_X5_teaches rfl rfl (ms_o hM) (tm_teaches (S := zs S 304 (fwR C x s n f r (cT C ^ n)).2.1) (f := (fwR C x s n f r (cT C ^ n)).1) (r := (fwR C x s n f r (cT C ^ n)).2.1) hM hC (hE.z (by decide)) x s hs n hn (zs_at _ _ _) (fw_tk hC hs hT (cT C ^ n))) rfl rfl rfl rfl rfl rfl ?_
            refine zt_if_eq (pc := 64) 70 dX5_fewest_64 (by decide) (fun c_64 => absurd ⟨c_53, c_64⟩ (fw_done hC hn)) (fun c_64 => ?_)
            refine zt_iload (pc := 67) dX5_fewest_67 rfl ?_
            have hr : few C x s (d + 1) n f r = (nI n, s_tea C (fwE C x s n f r).1 (fwE C x s n f r).2.1 s n, (fwE C x s n f r).2.1) := if_neg c_53
            exact zt_ireturn (pc := 69) dX5_fewest_69 rfl (⟨by rw [hr], by rw [hr]; rfl⟩)
        · show Zt _ _ _ _ _ _ (zW h (zs (zs S 304 (fwR C x s n f r i).2.1) 302 (fwR C x s n f r i).1)) 51 [some (.ref 289), some (.int x), some (.int (nI s)), some (.int (nI most)), some (.int (nI n)), some (.int ((fwR C x s n f r i).2.2))] []
          refine zt_iload (pc := 51) dX5_fewest_51 rfl ?_
          refine zt_if_eq (pc := 53) 81 dX5_fewest_53 (by decide) (fun c_53 => ?_) (fun c_53 => ?_)
          · refine zt_drop (L' := [some (.ref 289), some (.int x), some (.int (nI s)), some (.int (nI most)), some (.int (nI n)), none]) 5 rfl ?_
            have hend := fwR_end (N := (cT C ^ n)) hi_i (fun z => z.1 c_53)
            have hm : (fwE C x s n f r).2.2 = 0 := by rw [fwE, ← hend]; exact c_53
            refine zt_SL (by rw [hend]) rfl ?_
            refine zt_iincN (pc := 81) (b := n + 1) (L' := [some (.ref 289), some (.int x), some (.int (nI s)), some (.int (nI most)), some (.int (nI (n + 1))), none]) dX5_fewest_81 rfl (zinc1 n) (by decide) rfl rfl ?_
            refine zt_goto (pc := 84) 3 dX5_fewest_84 (by decide) ?_
            refine zt_Qeq ?_ (few_loop hM hC hE x s hs most hmost d (n + 1) (by omega) (fwE C x s n f r).1 (fwE C x s n f r).2.1 (fw_tk hC hs hT _))
            rw [show few C x s (d + 1) n f r = few C x s d (n + 1) (fwE C x s n f r).1 (fwE C x s n f r).2.1 from if_pos hm]
          · refine zt_aload_n (pc := 56) dX5_fewest_56 rfl rfl ?_
            refine zt_iload_n (pc := 57) dX5_fewest_57 rfl rfl ?_
            refine zt_iload_n (pc := 58) dX5_fewest_58 rfl rfl ?_
            refine zt_iload (pc := 59) dX5_fewest_59 rfl ?_
            refine wt_callV (pc := 61) mX5_teaches 3 5 (rc' := 0) (rs' := 0) dX5_fewest_61 q1593 mi_X5_teaches rfl rfl (ms_o hM) (tm_teaches (S := zs S 304 (fwR C x s n f r i).2.1) (f := (fwR C x s n f r i).1) (r := (fwR C x s n f r i).2.1) hM hC (hE.z (by decide)) x s hs n hn (zs_at _ _ _) (fw_tk hC hs hT i)) rfl rfl rfl rfl rfl rfl ?_
            refine zt_if_eq (pc := 64) 70 dX5_fewest_64 (by decide) (fun c_64 => ?_) (fun c_64 => ?_)
            · refine zt_S (zs_comm S ((fwR C x s n f r i).2.1) (s_tea C (fwR C x s n f r i).1 (fwR C x s n f r i).2.1 s n) (by decide)) ?_
              refine zt_aload_n (pc := 70) dX5_fewest_70 rfl rfl ?_
              refine zt_iload (pc := 71) dX5_fewest_71 rfl ?_
              refine wt_callV (pc := 73) mX5_nextRow 1 5 (rc' := 0) (rs' := 0) dX5_fewest_73 q1601 mi_X5_nextRow rfl rfl (ms_o hM) (tm_nextRow (S := zs S 302 (s_tea C (fwR C x s n f r i).1 (fwR C x s n f r i).2.1 s n)) (r := (fwR C x s n f r i).2.1) hM hC (hE.z (by decide)) n hn) rfl rfl rfl rfl rfl rfl ?_
              refine zt_istore (pc := 76) (L' := [some (.ref 289), some (.int x), some (.int (nI s)), some (.int (nI most)), some (.int (nI n)), some (.int (nrB (cT C) n (fwR C x s n f r i).2.1))]) dX5_fewest_76 (by decide) rfl rfl ?_
              refine zt_goto (pc := 78) 51 dX5_fewest_78 (by decide) ?_
              refine zt_S (zs_comm S (s_tea C (fwR C x s n f r i).1 (fwR C x s n f r i).2.1 s n) (nrF (cT C) n (fwR C x s n f r i).2.1) (by decide)) ?_
              have hst : fwR C x s n f r (i + 1) = (s_tea C (fwR C x s n f r i).1 (fwR C x s n f r i).2.1 s n, nrF (cT C) n (fwR C x s n f r i).2.1, nrB (cT C) n (fwR C x s n f r i).2.1) := if_pos ⟨c_53, c_64⟩
              exact zt_SL (by rw [hst]) (by rw [hst]) ih_i
            · refine zt_iload (pc := 67) dX5_fewest_67 rfl ?_
              have hend := fwR_end (N := (cT C ^ n)) hi_i (fun z => c_64 z.2)
              have hm : ¬ (fwE C x s n f r).2.2 = 0 := by rw [fwE, ← hend]; exact c_53
              have hr : few C x s (d + 1) n f r = (nI n, s_tea C (fwE C x s n f r).1 (fwE C x s n f r).2.1 s n, (fwE C x s n f r).2.1) := if_neg hm
              exact zt_ireturn (pc := 69) dX5_fewest_69 rfl (⟨by rw [hr], by rw [hr, fwE, ← hend]⟩)
      · refine zt_aload_n (pc := 37) dX5_fewest_37 rfl rfl ?_
        refine wt_getI (pc := 38) 5 0 (v := nI (cT C)) dX5_fewest_38 q1272 rfl (ms_o hM) (hE.t hC) ?_
        refine zt_if_le (pc := 41) 48 dX5_fewest_41 (by decide) (fun c_41 => ?_) (fun c_41 => ?_)
        · refine zt_iconst (pc := 48) dX5_fewest_48 (v := 0) rfl ?_
          refine zt_top (pc := 49) (bI (n = 0 ∨ 0 < cT C)) ((bI_f (fun z => z.elim (fun q => c_34 (by rw [q]; rfl)) (fun q => absurd ((nI_leI (b := 0) (by omega) (by decide)).mp c_41) (Nat.not_le.mpr q)))).symm) ?_
          refine zt_istore (pc := 49) (L' := [some (.ref 289), some (.int x), some (.int (nI s)), some (.int (nI most)), some (.int (nI n)), some (.int (bI (n = 0 ∨ 0 < cT C)))]) dX5_fewest_49 (by decide) rfl rfl ?_
          refine zt_for (pc := 51) (fun i => zs (zs S 304 (fwR C x s n f r i).2.1) 302 (fwR C x s n f r i).1) (fun i => [some (.ref 289), some (.int x), some (.int (nI s)), some (.int (nI most)), some (.int (nI n)), some (.int ((fwR C x s n f r i).2.2))]) (cT C ^ n) rfl rfl ?_ (fun i hi_i ih_i => ?_)
          · show Zt _ _ _ _ _ _ (zW h (zs (zs S 304 (fwR C x s n f r (cT C ^ n)).2.1) 302 (fwR C x s n f r (cT C ^ n)).1)) 51 [some (.ref 289), some (.int x), some (.int (nI s)), some (.int (nI most)), some (.int (nI n)), some (.int ((fwR C x s n f r (cT C ^ n)).2.2))] []
            refine zt_iload (pc := 51) dX5_fewest_51 rfl ?_
            refine zt_if_eq (pc := 53) 81 dX5_fewest_53 (by decide) (fun c_53 => ?_) (fun c_53 => ?_)
            · refine zt_drop (L' := [some (.ref 289), some (.int x), some (.int (nI s)), some (.int (nI most)), some (.int (nI n)), none]) 5 rfl ?_
              have hm : (fwE C x s n f r).2.2 = 0 := c_53
              refine zt_iincN (pc := 81) (b := n + 1) (L' := [some (.ref 289), some (.int x), some (.int (nI s)), some (.int (nI most)), some (.int (nI (n + 1))), none]) dX5_fewest_81 rfl (zinc1 n) (by decide) rfl rfl ?_
              refine zt_goto (pc := 84) 3 dX5_fewest_84 (by decide) ?_
              refine zt_Qeq ?_ (few_loop hM hC hE x s hs most hmost d (n + 1) (by omega) (fwE C x s n f r).1 (fwE C x s n f r).2.1 (fw_tk hC hs hT _))
              rw [show few C x s (d + 1) n f r = few C x s d (n + 1) (fwE C x s n f r).1 (fwE C x s n f r).2.1 from if_pos hm]
            · refine zt_aload_n (pc := 56) dX5_fewest_56 rfl rfl ?_
              refine zt_iload_n (pc := 57) dX5_fewest_57 rfl rfl ?_
              refine zt_iload_n (pc := 58) dX5_fewest_58 rfl rfl ?_
              refine zt_iload (pc := 59) dX5_fewest_59 rfl ?_
              refine wt_callV (pc := 61) mX5_teaches 3 5 (rc' := 0) (rs' := 0) dX5_fewest_61 q1593 mi_X5_teaches rfl rfl (ms_o hM) (tm_teaches (S := zs S 304 (fwR C x s n f r (cT C ^ n)).2.1) (f := (fwR C x s n f r (cT C ^ n)).1) (r := (fwR C x s n f r (cT C ^ n)).2.1) hM hC (hE.z (by decide)) x s hs n hn (zs_at _ _ _) (fw_tk hC hs hT (cT C ^ n))) rfl rfl rfl rfl rfl rfl ?_
              refine zt_if_eq (pc := 64) 70 dX5_fewest_64 (by decide) (fun c_64 => absurd ⟨c_53, c_64⟩ (fw_done hC hn)) (fun c_64 => ?_)
              refine zt_iload (pc := 67) dX5_fewest_67 rfl ?_
              have hr : few C x s (d + 1) n f r = (nI n, s_tea C (fwE C x s n f r).1 (fwE C x s n f r).2.1 s n, (fwE C x s n f r).2.1) := if_neg c_53
              exact zt_ireturn (pc := 69) dX5_fewest_69 rfl (⟨by rw [hr], by rw [hr]; rfl⟩)
          · show Zt _ _ _ _ _ _ (zW h (zs (zs S 304 (fwR C x s n f r i).2.1) 302 (fwR C x s n f r i).1)) 51 [some (.ref 289), some (.int x), some (.int (nI s)), some (.int (nI most)), some (.int (nI n)), some (.int ((fwR C x s n f r i).2.2))] []
            refine zt_iload (pc := 51) dX5_fewest_51 rfl ?_
            refine zt_if_eq (pc := 53) 81 dX5_fewest_53 (by decide) (fun c_53 => ?_) (fun c_53 => ?_)
            · refine zt_drop (L' := [some (.ref 289), some (.int x), some (.int (nI s)), some (.int (nI most)), some (.int (nI n)), none]) 5 rfl ?_
              have hend := fwR_end (N := (cT C ^ n)) hi_i (fun z => z.1 c_53)
              have hm : (fwE C x s n f r).2.2 = 0 := by rw [fwE, ← hend]; exact c_53
              refine zt_SL (by rw [hend]) rfl ?_
              refine zt_iincN (pc := 81) (b := n + 1) (L' := [some (.ref 289), some (.int x), some (.int (nI s)), some (.int (nI most)), some (.int (nI (n + 1))), none]) dX5_fewest_81 rfl (zinc1 n) (by decide) rfl rfl ?_
              refine zt_goto (pc := 84) 3 dX5_fewest_84 (by decide) ?_
              refine zt_Qeq ?_ (few_loop hM hC hE x s hs most hmost d (n + 1) (by omega) (fwE C x s n f r).1 (fwE C x s n f r).2.1 (fw_tk hC hs hT _))
              rw [show few C x s (d + 1) n f r = few C x s d (n + 1) (fwE C x s n f r).1 (fwE C x s n f r).2.1 from if_pos hm]
            · refine zt_aload_n (pc := 56) dX5_fewest_56 rfl rfl ?_
              refine zt_iload_n (pc := 57) dX5_fewest_57 rfl rfl ?_
              refine zt_iload_n (pc := 58) dX5_fewest_58 rfl rfl ?_
              refine zt_iload (pc := 59) dX5_fewest_59 rfl ?_
              refine wt_callV (pc := 61) mX5_teaches 3 5 (rc' := 0) (rs' := 0) dX5_fewest_61 q1593 mi_X5_teaches rfl rfl (ms_o hM) (tm_teaches (S := zs S 304 (fwR C x s n f r i).2.1) (f := (fwR C x s n f r i).1) (r := (fwR C x s n f r i).2.1) hM hC (hE.z (by decide)) x s hs n hn (zs_at _ _ _) (fw_tk hC hs hT i)) rfl rfl rfl rfl rfl rfl ?_
              refine zt_if_eq (pc := 64) 70 dX5_fewest_64 (by decide) (fun c_64 => ?_) (fun c_64 => ?_)
              · refine zt_S (zs_comm S ((fwR C x s n f r i).2.1) (s_tea C (fwR C x s n f r i).1 (fwR C x s n f r i).2.1 s n) (by decide)) ?_
                refine zt_aload_n (pc := 70) dX5_fewest_70 rfl rfl ?_
                refine zt_iload (pc := 71) dX5_fewest_71 rfl ?_
                refine wt_callV (pc := 73) mX5_nextRow 1 5 (rc' := 0) (rs' := 0) dX5_fewest_73 q1601 mi_X5_nextRow rfl rfl (ms_o hM) (tm_nextRow (S := zs S 302 (s_tea C (fwR C x s n f r i).1 (fwR C x s n f r i).2.1 s n)) (r := (fwR C x s n f r i).2.1) hM hC (hE.z (by decide)) n hn) rfl rfl rfl rfl rfl rfl ?_
                refine zt_istore (pc := 76) (L' := [some (.ref 289), some (.int x), some (.int (nI s)), some (.int (nI most)), some (.int (nI n)), some (.int (nrB (cT C) n (fwR C x s n f r i).2.1))]) dX5_fewest_76 (by decide) rfl rfl ?_
                refine zt_goto (pc := 78) 51 dX5_fewest_78 (by decide) ?_
                refine zt_S (zs_comm S (s_tea C (fwR C x s n f r i).1 (fwR C x s n f r i).2.1 s n) (nrF (cT C) n (fwR C x s n f r i).2.1) (by decide)) ?_
                have hst : fwR C x s n f r (i + 1) = (s_tea C (fwR C x s n f r i).1 (fwR C x s n f r i).2.1 s n, nrF (cT C) n (fwR C x s n f r i).2.1, nrB (cT C) n (fwR C x s n f r i).2.1) := if_pos ⟨c_53, c_64⟩
                exact zt_SL (by rw [hst]) (by rw [hst]) ih_i
              · refine zt_iload (pc := 67) dX5_fewest_67 rfl ?_
                have hend := fwR_end (N := (cT C ^ n)) hi_i (fun z => c_64 z.2)
                have hm : ¬ (fwE C x s n f r).2.2 = 0 := by rw [fwE, ← hend]; exact c_53
                have hr : few C x s (d + 1) n f r = (nI n, s_tea C (fwE C x s n f r).1 (fwE C x s n f r).2.1 s n, (fwE C x s n f r).2.1) := if_neg hm
                exact zt_ireturn (pc := 69) dX5_fewest_69 rfl (⟨by rw [hr], by rw [hr, fwE, ← hend]⟩)
        · refine zt_iconst (pc := 44) dX5_fewest_44 (v := 1) rfl ?_
          refine zt_goto (pc := 45) 49 dX5_fewest_45 (by decide) ?_
          refine zt_top (pc := 49) (bI (n = 0 ∨ 0 < cT C)) ((bI_t (Or.inr (Nat.lt_of_not_le (fun q => c_41 ((nI_leI (b := 0) (by omega) (by decide)).mpr q))))).symm) ?_
          refine zt_istore (pc := 49) (L' := [some (.ref 289), some (.int x), some (.int (nI s)), some (.int (nI most)), some (.int (nI n)), some (.int (bI (n = 0 ∨ 0 < cT C)))]) dX5_fewest_49 (by decide) rfl rfl ?_
          refine zt_for (pc := 51) (fun i => zs (zs S 304 (fwR C x s n f r i).2.1) 302 (fwR C x s n f r i).1) (fun i => [some (.ref 289), some (.int x), some (.int (nI s)), some (.int (nI most)), some (.int (nI n)), some (.int ((fwR C x s n f r i).2.2))]) (cT C ^ n) rfl rfl ?_ (fun i hi_i ih_i => ?_)
          · show Zt _ _ _ _ _ _ (zW h (zs (zs S 304 (fwR C x s n f r (cT C ^ n)).2.1) 302 (fwR C x s n f r (cT C ^ n)).1)) 51 [some (.ref 289), some (.int x), some (.int (nI s)), some (.int (nI most)), some (.int (nI n)), some (.int ((fwR C x s n f r (cT C ^ n)).2.2))] []
            refine zt_iload (pc := 51) dX5_fewest_51 rfl ?_
            refine zt_if_eq (pc := 53) 81 dX5_fewest_53 (by decide) (fun c_53 => ?_) (fun c_53 => ?_)
            · refine zt_drop (L' := [some (.ref 289), some (.int x), some (.int (nI s)), some (.int (nI most)), some (.int (nI n)), none]) 5 rfl ?_
              have hm : (fwE C x s n f r).2.2 = 0 := c_53
              refine zt_iincN (pc := 81) (b := n + 1) (L' := [some (.ref 289), some (.int x), some (.int (nI s)), some (.int (nI most)), some (.int (nI (n + 1))), none]) dX5_fewest_81 rfl (zinc1 n) (by decide) rfl rfl ?_
              refine zt_goto (pc := 84) 3 dX5_fewest_84 (by decide) ?_
              refine zt_Qeq ?_ (few_loop hM hC hE x s hs most hmost d (n + 1) (by omega) (fwE C x s n f r).1 (fwE C x s n f r).2.1 (fw_tk hC hs hT _))
              rw [show few C x s (d + 1) n f r = few C x s d (n + 1) (fwE C x s n f r).1 (fwE C x s n f r).2.1 from if_pos hm]
            · refine zt_aload_n (pc := 56) dX5_fewest_56 rfl rfl ?_
              refine zt_iload_n (pc := 57) dX5_fewest_57 rfl rfl ?_
              refine zt_iload_n (pc := 58) dX5_fewest_58 rfl rfl ?_
              refine zt_iload (pc := 59) dX5_fewest_59 rfl ?_
              refine wt_callV (pc := 61) mX5_teaches 3 5 (rc' := 0) (rs' := 0) dX5_fewest_61 q1593 mi_X5_teaches rfl rfl (ms_o hM) (tm_teaches (S := zs S 304 (fwR C x s n f r (cT C ^ n)).2.1) (f := (fwR C x s n f r (cT C ^ n)).1) (r := (fwR C x s n f r (cT C ^ n)).2.1) hM hC (hE.z (by decide)) x s hs n hn (zs_at _ _ _) (fw_tk hC hs hT (cT C ^ n))) rfl rfl rfl rfl rfl rfl ?_
              refine zt_if_eq (pc := 64) 70 dX5_fewest_64 (by decide) (fun c_64 => absurd ⟨c_53, c_64⟩ (fw_done hC hn)) (fun c_64 => ?_)
              refine zt_iload (pc := 67) dX5_fewest_67 rfl ?_
              have hr : few C x s (d + 1) n f r = (nI n, s_tea C (fwE C x s n f r).1 (fwE C x s n f r).2.1 s n, (fwE C x s n f r).2.1) := if_neg c_53
              exact zt_ireturn (pc := 69) dX5_fewest_69 rfl (⟨by rw [hr], by rw [hr]; rfl⟩)
          · show Zt _ _ _ _ _ _ (zW h (zs (zs S 304 (fwR C x s n f r i).2.1) 302 (fwR C x s n f r i).1)) 51 [some (.ref 289), some (.int x), some (.int (nI s)), some (.int (nI most)), some (.int (nI n)), some (.int ((fwR C x s n f r i).2.2))] []
            refine zt_iload (pc := 51) dX5_fewest_51 rfl ?_
            refine zt_if_eq (pc := 53) 81 dX5_fewest_53 (by decide) (fun c_53 => ?_) (fun c_53 => ?_)
            · refine zt_drop (L' := [some (.ref 289), some (.int x), some (.int (nI s)), some (.int (nI most)), some (.int (nI n)), none]) 5 rfl ?_
              have hend := fwR_end (N := (cT C ^ n)) hi_i (fun z => z.1 c_53)
              have hm : (fwE C x s n f r).2.2 = 0 := by rw [fwE, ← hend]; exact c_53
              refine zt_SL (by rw [hend]) rfl ?_
              refine zt_iincN (pc := 81) (b := n + 1) (L' := [some (.ref 289), some (.int x), some (.int (nI s)), some (.int (nI most)), some (.int (nI (n + 1))), none]) dX5_fewest_81 rfl (zinc1 n) (by decide) rfl rfl ?_
              refine zt_goto (pc := 84) 3 dX5_fewest_84 (by decide) ?_
              refine zt_Qeq ?_ (few_loop hM hC hE x s hs most hmost d (n + 1) (by omega) (fwE C x s n f r).1 (fwE C x s n f r).2.1 (fw_tk hC hs hT _))
              rw [show few C x s (d + 1) n f r = few C x s d (n + 1) (fwE C x s n f r).1 (fwE C x s n f r).2.1 from if_pos hm]
            · refine zt_aload_n (pc := 56) dX5_fewest_56 rfl rfl ?_
              refine zt_iload_n (pc := 57) dX5_fewest_57 rfl rfl ?_
              refine zt_iload_n (pc := 58) dX5_fewest_58 rfl rfl ?_
              refine zt_iload (pc := 59) dX5_fewest_59 rfl ?_
              refine wt_callV (pc := 61) mX5_teaches 3 5 (rc' := 0) (rs' := 0) dX5_fewest_61 q1593 mi_X5_teaches rfl rfl (ms_o hM) (tm_teaches (S := zs S 304 (fwR C x s n f r i).2.1) (f := (fwR C x s n f r i).1) (r := (fwR C x s n f r i).2.1) hM hC (hE.z (by decide)) x s hs n hn (zs_at _ _ _) (fw_tk hC hs hT i)) rfl rfl rfl rfl rfl rfl ?_
              refine zt_if_eq (pc := 64) 70 dX5_fewest_64 (by decide) (fun c_64 => ?_) (fun c_64 => ?_)
              · refine zt_S (zs_comm S ((fwR C x s n f r i).2.1) (s_tea C (fwR C x s n f r i).1 (fwR C x s n f r i).2.1 s n) (by decide)) ?_
                refine zt_aload_n (pc := 70) dX5_fewest_70 rfl rfl ?_
                refine zt_iload (pc := 71) dX5_fewest_71 rfl ?_
                refine wt_callV (pc := 73) mX5_nextRow 1 5 (rc' := 0) (rs' := 0) dX5_fewest_73 q1601 mi_X5_nextRow rfl rfl (ms_o hM) (tm_nextRow (S := zs S 302 (s_tea C (fwR C x s n f r i).1 (fwR C x s n f r i).2.1 s n)) (r := (fwR C x s n f r i).2.1) hM hC (hE.z (by decide)) n hn) rfl rfl rfl rfl rfl rfl ?_
                refine zt_istore (pc := 76) (L' := [some (.ref 289), some (.int x), some (.int (nI s)), some (.int (nI most)), some (.int (nI n)), some (.int (nrB (cT C) n (fwR C x s n f r i).2.1))]) dX5_fewest_76 (by decide) rfl rfl ?_
                refine zt_goto (pc := 78) 51 dX5_fewest_78 (by decide) ?_
                refine zt_S (zs_comm S (s_tea C (fwR C x s n f r i).1 (fwR C x s n f r i).2.1 s n) (nrF (cT C) n (fwR C x s n f r i).2.1) (by decide)) ?_
                have hst : fwR C x s n f r (i + 1) = (s_tea C (fwR C x s n f r i).1 (fwR C x s n f r i).2.1 s n, nrF (cT C) n (fwR C x s n f r i).2.1, nrB (cT C) n (fwR C x s n f r i).2.1) := if_pos ⟨c_53, c_64⟩
                exact zt_SL (by rw [hst]) (by rw [hst]) ih_i
              · refine zt_iload (pc := 67) dX5_fewest_67 rfl ?_
                have hend := fwR_end (N := (cT C ^ n)) hi_i (fun z => c_64 z.2)
                have hm : ¬ (fwE C x s n f r).2.2 = 0 := by rw [fwE, ← hend]; exact c_53
                have hr : few C x s (d + 1) n f r = (nI n, s_tea C (fwE C x s n f r).1 (fwE C x s n f r).2.1 s n, (fwE C x s n f r).2.1) := if_neg hm
                exact zt_ireturn (pc := 69) dX5_fewest_69 rfl (⟨by rw [hr], by rw [hr, fwE, ← hend]⟩)
    · show Zt _ _ _ _ _ _ (zW h (zs (zs S 302 f) 304 (itr (fun i r => upd r i 0) r i))) 12 [some (.ref 289), some (.int x), some (.int (nI s)), some (.int (nI most)), some (.int (nI n)), some (.int (nI i))] []
      refine zt_iload (pc := 12) dX5_fewest_12 rfl ?_
      refine zt_iconst (pc := 14) dX5_fewest_14 (v := 5) rfl ?_
      refine zt_geN (a := i) (b := 5) (pc := 15) 32 dX5_fewest_15 (by decide) (by omega) (by omega) (fun c_15 => absurd hi_i (Nat.not_lt.mpr c_15)) (fun c_15 => ?_)
      refine zt_aload_n (pc := 18) dX5_fewest_18 rfl rfl ?_
      refine wt_getR (pc := 19) 5 30 dX5_fewest_19 q1302 rfl (ms_o hM) (mr_row hM) ?_
      refine zt_iload (pc := 22) dX5_fewest_22 rfl ?_
      refine zt_iconst (pc := 24) dX5_fewest_24 (v := 0) rfl ?_
      refine wt_iastS (pc := 25) 5 i dX5_fewest_25 (ma_row hM) rfl rfl (by omega) ?_
      refine zt_iincN (pc := 26) (b := i + 1) (L' := [some (.ref 289), some (.int x), some (.int (nI s)), some (.int (nI most)), some (.int (nI n)), some (.int (nI (i + 1)))]) dX5_fewest_26 rfl (zinc1 i) (by decide) rfl rfl ?_
      refine zt_goto (pc := 29) 12 dX5_fewest_29 (by decide) ?_
      exact ih_i

theorem tm_fewest (hM : MS h.2.1 h.2.2.2) (hC : CI C) (hE : CE S C) (x : Int32) (s : Nat) (hs : s < 4) (most : Nat) (hmost : most ≤ 5) (hT : TK f 140) : Zd g mX5_fewest 8 0 0 [.ref 289, .int x, .int (nI s), .int (nI most)] (zW h (zs (zs S 304 r) 302 f)) (some (.int ((few C x s (most + 1) 0 f r).1))) (zW h (zs (zs S 304 (few C x s (most + 1) 0 f r).2.2) 302 (few C x s (most + 1) 0 f r).2.1)) := by
  refine zc_of [some (.ref 289), some (.int x), some (.int (nI s)), some (.int (nI most)), none, none] rfl (Nat.le_of_ble_eq_true rfl) rfl ?_
  refine zt_iconst (pc := 0) dX5_fewest_0 (v := 0) rfl ?_
  refine zt_istore (pc := 1) (L' := [some (.ref 289), some (.int x), some (.int (nI s)), some (.int (nI most)), some (.int 0), none]) dX5_fewest_1 (by decide) rfl rfl ?_
  exact few_loop hM hC hE x s hs most hmost (most + 1) 0 (by omega) f r hT

end M25