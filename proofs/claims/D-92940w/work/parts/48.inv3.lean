set_option maxRecDepth 100000
section INV
variable {S S' : Nat → Nat → Int32}
theorem keepS_at {i : Nat} : ∀ n, n ≤ 72 → ∀ j, itr (s_keepS S i) (S 311) n j = if 72 * i ≤ j ∧ j < 72 * i + n then S 303 (j - 72 * i) else S 311 j
  | 0, _, j => by rw [if_neg (by omega)]; rfl
  | n + 1, hn, j => by
    show upd (itr (s_keepS S i) (S 311) n) (72 * i + n) (S 303 n) j = _
    by_cases e : j = 72 * i + n
    · subst e
      rw [upd_at, if_pos (by omega), Nat.add_sub_cancel_left]
    · rw [upd_ne e, keepS_at n (by omega) j]
      by_cases c : 72 * i ≤ j ∧ j < 72 * i + n
      · rw [if_pos c, if_pos (by omega)]
      · rw [if_neg c, if_neg (by omega)]
theorem ai_keep (hI : AI S) (i : Int32) : AI (w_keep S S i) := by
  unfold w_keep
  split
  next h =>
    obtain ⟨i_, hi, rfl⟩ := inN_of h (by decide)
    rw [clN i_ (by omega)]
    unfold w_keep1
    refine ai_row ?_ (by decide)
    refine ai_ce hI (((((CE.rf.u (by decide)).u (by decide)).u (by decide)).u (by decide)).z (by decide)) (cSh S) hI.sh24 hI.sh hI.shx (cTh S) hI.th12 hI.th (cTp S) hI.tp400 hI.tp hI.k0 rfl (fun _ hi => hI.so hi) (fun q hq => ?_) hI.lix
    have e1 : (zs (zu (zu (zu (zu S 309 i_ 1) 310 (3 * i_) (nI (cSh S))) 310 (3 * i_ + 1) (S 289 33)) 310 (3 * i_ + 2) (nI (cTh S))) 311 (itr (s_keepS S i_) (S 311) 72)) 309 = upd (S 309) i_ 1 := by rw [zs_ne (by decide), zu_row (by decide), zu_row (by decide), zu_row (by decide), zu_zs, zs_at]
    have e2 : (zs (zu (zu (zu (zu S 309 i_ 1) 310 (3 * i_) (nI (cSh S))) 310 (3 * i_ + 1) (S 289 33)) 310 (3 * i_ + 2) (nI (cTh S))) 311 (itr (s_keepS S i_) (S 311) 72)) 310 = upd (upd (upd (S 310) (3 * i_) (nI (cSh S))) (3 * i_ + 1) (S 289 33)) (3 * i_ + 2) (nI (cTh S)) := by rw [zs_ne (by decide), zu_zs (zu S 309 i_ 1), zs_zu, zs_zu, zs_at, zu_row (by decide)]
    rw [e1, e2, zs_at]
    obtain ⟨h1, h2⟩ := hI.kix q hq
    by_cases e : q = i_
    · subst e
      refine ⟨Or.inr (upd_at _ _ _), fun _ => ⟨⟨cSh S, hI.sh24, ?_, fun j hj => ?_⟩, cTh S, hI.th12, upd_at _ _ _⟩⟩
      · rw [upd_ne (by omega), upd_ne (by omega), upd_at]
      · obtain ⟨⟨s', g1, g2⟩, ⟨t', g3, g4⟩, g5⟩ := hI.shx j hj
        have := hI.sh24
        refine ⟨⟨s', g1, ?_⟩, ⟨t', g3, ?_⟩, ?_⟩
        · rw [keepS_at 72 (Nat.le_refl _), if_pos (by omega), Nat.add_sub_cancel_left]; exact g2
        · rw [keepS_at 72 (Nat.le_refl _), if_pos (by omega), Nat.add_sub_cancel_left]; exact g4
        · rw [keepS_at 72 (Nat.le_refl _), if_pos (by omega), Nat.add_sub_cancel_left]; exact g5
    · refine ⟨by rw [upd_ne e]; exact h1, fun z => ?_⟩
      rw [upd_ne e] at z
      obtain ⟨⟨n, n1, n2, n3⟩, m, m1, m2⟩ := h2 z
      refine ⟨⟨n, n1, ?_, fun j hj => ?_⟩, m, m1, ?_⟩
      · rw [upd_ne (by omega), upd_ne (by omega), upd_ne (by omega)]; exact n2
      · obtain ⟨⟨s', g1, g2⟩, ⟨t', g3, g4⟩, g5⟩ := n3 j hj
        refine ⟨⟨s', g1, ?_⟩, ⟨t', g3, ?_⟩, ?_⟩
        · rw [keepS_at 72 (Nat.le_refl _), if_neg (by omega)]; exact g2
        · rw [keepS_at 72 (Nat.le_refl _), if_neg (by omega)]; exact g4
        · rw [keepS_at 72 (Nat.le_refl _), if_neg (by omega)]; exact g5
      · rw [upd_ne (by omega), upd_ne (by omega), upd_ne (by omega)]; exact m2
  next => exact hI
theorem bsh_at {i : Nat} : ∀ n j, j < n → itr (s_backS S i) (S 303) n j = S 311 (72 * i + j)
  | 0, _, h => absurd h (Nat.not_lt_zero _)
  | n + 1, j, hj => by
    show upd _ n _ j = _
    by_cases e : j = n
    · subst e; rw [upd_at]
    · rw [upd_ne e]; exact bsh_at n j (by omega)
theorem ai_backF (hI : AI S) (A : Nat → Nat → Int32) (i : Nat) : ∀ n, AI (itr (s_backF A i) S n)
  | 0 => hI
  | n + 1 => by
    refine ai_so ?_ bI_or
    rw [zu_zs]
    exact ai_row (ai_backF hI A i n) (by decide)
theorem ai_back (hI : AI S) (i : Int32) : AI (w_back S S i) := by
  unfold w_back
  split
  next h =>
    obtain ⟨i_, hi, rfl⟩ := inN_of h.1 (by decide)
    rw [clN i_ (by omega)] at h ⊢
    have hk1 : S 309 i_ = 1 := ((hI.ki hi).1).resolve_left h.2
    obtain ⟨⟨n_, hn24, hnn, hrows⟩, m_, hm12, hmm⟩ := (hI.ki hi).2 hk1
    have hsx : ∀ i, i < n_ → SHx S (s_bsh S i_) i := fun j hj => by
      obtain ⟨⟨s', g1, g2⟩, ⟨t', g3, g4⟩, g5⟩ := hrows j hj
      unfold s_bsh
      refine ⟨⟨s', g1, ?_⟩, ⟨t', g3, ?_⟩, ?_⟩
      · rw [bsh_at 72 _ (by omega)]; exact g2
      · rw [bsh_at 72 _ (by omega)]; exact g4
      · rw [bsh_at 72 _ (by omega)]; exact g5
    unfold w_back1
    rw [hnn, clN n_ (by omega)]
    have h0 : AI (w_back0 S S i_) := by
      unfold w_back0
      refine ai_ce hI ((((CE.rf.f (by decide) (by decide) (by decide) (by decide)).f (by decide) (by decide) (by decide) (by decide)).f (by decide) (by decide) (by decide) (by decide)).z (by decide)) n_ hn24 hnn (fun j hj => ?_) m_ hm12 hmm (cTp S) hI.tp400 hI.tp hI.k0 rfl (fun _ hi => hI.so hi) hI.kix hI.lix
      rw [zs_at]; exact hsx j hj
    refine ai_302 (ai_backF h0 S i_ 12) ?_
    exact (rep_ok (A := zs S 303 (s_bsh S i_)) hI.c (fun j hj => by
      obtain ⟨⟨s', g1, g2⟩, -⟩ := hsx j hj
      exact ⟨s', by have := hI.c.s4; omega, by rw [zs_at]; exact g2⟩) n_ (Nat.le_refl _)).1
  next => exact hI
end INV
