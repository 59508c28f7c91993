set_option maxRecDepth 100000
section INV
variable {S S' : Nat → Nat → Int32}
theorem fi_b0 (hC : CI S) {s : Nat} (hs : s < 4) : ∀ n j, j < 70 → (s_fi S s n).1 j = S 302 j
  | 0, _, _ => rfl
  | n + 1, j, hj => by
    have ih := fi_b0 hC hs n j hj
    show (s_fiF S s n (s_fi S s n)).1 j = _
    unfold s_fiF
    split
    · show s_fiS S s n (s_fi S s n).1 j = _
      unfold s_fiS
      have h1 := (sees_ok (b := 70) (i := 0) (t := nI n) (so := s_true S s (nI n)) hC hs (wakes_ok (f := (s_fi S s n).1) (b := 70)).2 (cK S) (Nat.le_refl _)).2 j (Or.inl hj)
      have h2 := (wakes_ok (f := (s_fi S s n).1) (b := 70)).1 70 (Nat.le_refl _) j (Or.inl hj)
      exact h1.trans (h2.trans ih)
    · exact ih
theorem ai_first (hI : AI S) (s w : Int32) : AI (w_first S S s w) := by
  unfold w_first
  split
  next h =>
    have b1 := hI.c.s4
    obtain ⟨s_, hs, rfl⟩ := inN_of h.1 (by omega)
    rw [clN s_ (by omega)]
    refine ai_302 hI (tk_b0 hI.k0 (fun j hj => ?_))
    unfold s_fiE
    split
    · rfl
    · exact fi_b0 hI.c (by omega) _ j hj
  next => exact hI
theorem fwR_b0 {C : Nat → Nat → Int32} {x : Int32} {s n : Nat} {f r : Nat → Int32} (hC : CI C) (hs : s < 4) (hT : TK f 140) : ∀ i j, j < 70 → (fwR C x s n f r i).1 j = f j
  | 0, _, _ => rfl
  | i + 1, j, hj => by
    have ih := fwR_b0 (x := x) (n := n) (r := r) hC hs hT i j hj
    have ht := fw_tk (x := x) (n := n) (r := r) hC hs hT i
    show (fwS C x s n (fwR C x s n f r i)).1 j = _
    generalize fwR C x s n f r i = y at ih ht ⊢
    unfold fwS
    split
    · show s_tea C y.1 y.2.1 s n j = _
      exact ((tea_ok (r := y.2.1) hC hs ht n).2 j (Or.inl hj)).trans ih
    · exact ih
theorem few_b0 {C : Nat → Nat → Int32} {x : Int32} {s : Nat} (hC : CI C) (hs : s < 4) : ∀ d n f r, TK f 140 → ∀ j, j < 70 → (few C x s d n f r).2.1 j = f j
  | 0, _, _, _, _, _, _ => rfl
  | d + 1, n, f, r, hT, j, hj => by
    have h1 : (fwE C x s n f r).1 j = f j := fwR_b0 hC hs hT _ j hj
    have ht : TK (fwE C x s n f r).1 140 := fw_tk hC hs hT _
    unfold few
    split
    · exact (few_b0 hC hs d (n + 1) _ _ ht j hj).trans h1
    · exact ((tea_ok (r := (fwE C x s n f r).2.1) hC hs ht n).2 j (Or.inl hj)).trans h1
theorem ai_teaching (hI : AI S) (x s w : Int32) : AI (w_teaching S S x s w) := by
  unfold w_teaching
  split
  next h =>
    have b1 := hI.c.s4
    obtain ⟨s_, hs, rfl⟩ := inN_of h.2.1 (by omega)
    rw [clN s_ (by omega)]
    refine ai_302 (ai_row hI (by decide)) (tk_b0 hI.k0 (fun j hj => ?_))
    have h1 := few_b0 (x := x) hI.c (show s_ < 4 by omega) 6 0 (s_copy (S 302) 140 0) (S 304) (copy_tk (Or.inr (by decide)) hI.k0) j hj
    exact h1.trans (copy_out (Or.inr (by decide)) j (Or.inl (by omega)))
  next => exact hI
theorem tkn_b0 {C : Nat → Nat → Int32} {x : Int32} {W : Nat → Int32} (hC : CI C) (hW : WI C W) : ∀ d i sum f r, i + d = cS C → TK f 140 → ∀ j, j < 70 → (tkn C x W d i sum f r).2.1 j = f j
  | 0, _, _, _, _, _, _, _, _ => rfl
  | d + 1, i, sum, f, r, hd, hT, j, hj => by
    have b1 := hC.s4
    obtain ⟨q, hq, e⟩ := hW i (by omega)
    have hs : (W i).toNatClampNeg < 4 := by rw [e, clN q (by omega)]; omega
    have h1 := few_b0 (x := x) hC hs 4 0 f r hT j hj
    have h2 := few_tk (x := x) hC hs 4 0 f r hT
    unfold tkn
    split
    · exact h1
    next hne => exact (tkn_b0 hC hW d (i + 1) _ _ _ (by omega) (copy_tk (Or.inr (by decide)) (h2 hne)) j hj).trans ((copy_out (Or.inr (by decide)) j (Or.inl (by omega))).trans h1)
theorem ord_b0 (hC : CI S) (x : Int32) (B W f r : Nat → Int32) : ∀ n j, j < 70 → (ordE S x B W f r n).2.2.2.1 j = f j
  | 0, _, _ => rfl
  | n + 1, j, hj => by
    have ih := ord_b0 hC x B W f r n j hj
    have e : ordE S x B W f r (n + 1) = ordS S x n (ordE S x B W f r n).1 (ordE S x B W f r n).2.1 (ordE S x B W f r n).2.2.1 (ordE S x B W f r n).2.2.2.1 (ordE S x B W f r n).2.2.2.2 := rfl
    rw [e]
    generalize ordE S x B W f r n = y at ih ⊢
    obtain ⟨b_, B_, W_, f_, r_⟩ := y
    dsimp only at ih ⊢
    have h1 : (ordN S x (wayL (cS S) (cS S) n W_) f_ r_).2.1 j = f_ j := by
      unfold ordN
      split
      · rfl
      · have h2 := tkn_b0 (x := x) hC (WI_way (cS S) rfl n W_) (cS S) 0 0 (s_wakes f_ 140) r_ (Nat.zero_add _) wakes_ok.2 j hj
        exact h2.trans ((wakes_ok (f := f_) (b := 140)).1 70 (Nat.le_refl _) j (Or.inl (by omega)))
    unfold ordS
    split
    · exact h1.trans ih
    · exact h1.trans ih
theorem ai_order (hI : AI S) (x w : Int32) : AI (w_order S S x w) := by
  unfold w_order
  split
  · unfold ozs
    refine ai_302 (ai_row (ai_row (ai_row hI (by decide)) (by decide)) (by decide)) (tk_b0 hI.k0 (fun j hj => ?_))
    exact ord_b0 hI.c x _ _ _ _ _ j hj
  · exact hI
end INV
