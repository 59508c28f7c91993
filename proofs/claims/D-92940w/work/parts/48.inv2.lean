set_option maxRecDepth 100000
section INV
variable {S S' : Nat → Nat → Int32}
theorem clN (j : Nat) (h : j ≤ 1000000) : (nI j).toNatClampNeg = j := nI_clamp (by omega)
theorem ai_show (hI : AI S) (s t : Int32) {so : Int32} (hso : so = 0 ∨ so = 1) : AI (w_show S S s t so) := by
  unfold w_show
  split
  next h =>
    have b1 := hI.c.s4; have b2 := hI.c.t8
    obtain ⟨s_, hs, rfl⟩ := inN_of h.1 (by omega)
    obtain ⟨t_, ht, rfl⟩ := inN_of h.2 (by omega)
    rw [clN s_ (by omega)]
    exact ai_adds hI hs ht hso
  next => exact hI
theorem ai_teach (hI : AI S) (s t : Int32) : AI (w_teach S S s t) := ai_show hI s t bI_or
theorem hS4 (hI : AI S) {n : Nat} (hn : n ≤ cSh S) : ∀ i, i < n → ∃ s : Nat, s < 4 ∧ S 303 (3 * i) = nI s := fun i hi => by
  obtain ⟨⟨s_, h1, h2⟩, -⟩ := hI.shown (i := i) (by omega)
  exact ⟨s_, by have := hI.c.s4; omega, h2⟩
theorem rep_tk (hI : AI S) {f : Nat → Int32} {n : Nat} (hn : n ≤ cSh S) : TK (s_rep S f n) 0 := (rep_ok hI.c (hS4 hI hn) n (Nat.le_refl _)).1
theorem ai_f28 (hI : AI S) {v : Int32} {n : Nat} (hn : n ≤ cSh S) (e : v = nI n) : AI (zu S 289 28 v) := by
  have b1 := hI.sh24
  exact ai_ce hI (CE.rf.f (by decide) (by decide) (by decide) (by decide)) n (by omega) ((zu_same _ _ _ _).trans e) (fun i hi => hI.shx i (by omega)) (cTh S) hI.th12 hI.th (cTp S) hI.tp400 hI.tp hI.k0 rfl (fun _ hi => hI.so hi) hI.kix hI.lix
theorem ai_undo (hI : AI S) : AI (w_undo S S) := by
  unfold w_undo
  split
  · exact hI
  · exact ai_302 (ai_f28 hI (n := cSh S - 1) (by omega) rfl) (rep_tk hI (by omega))
theorem ai_clear (hI : AI S) : AI (w_clear S S) :=
  ai_302 (ai_f33 (ai_f28 hI (n := 0) (by omega) rfl) _) (rep_tk hI (Nat.zero_le _))
theorem ai_heard (hI : AI S) (s t a : Int32) : AI (w_heard S S s t a) := by
  unfold w_heard
  split
  · exact ai_f33 hI _
  · exact hI
theorem ai_theirs (hI : AI S) (t : Int32) {so : Int32} (hso : so = 0 ∨ so = 1) : AI (w_theirs S S t so) := by
  unfold w_theirs
  split
  · split
    · exact hI
    · have := hI.th12
      refine ai_f34 (ai_so ?_ hso) (p := cTh S + 1) (by omega) rfl
      rw [zu_zs]
      exact ai_row hI (by decide)
  · exact hI
theorem ai_hush (hI : AI S) : AI (w_hush S) := ai_f34 hI (p := 0) (by decide) rfl
theorem ai_end (hI : AI S) (n : Int32) : AI (w_end S S n) := by
  unfold w_end
  split
  next h =>
    have := hI.tp400
    obtain ⟨j, hj, rfl⟩ := inN_of h (by omega)
    exact ai_f20 hI (p := j) (by omega) rfl
  next => exact hI
theorem ai_feed (hI : AI S) (v : Int64) : AI (w_feed S S v) := by
  unfold w_feed
  split
  next h =>
    have : ∀ j, j ≤ 8 → AI (itr (s_feedF v (cTp S)) S j) := by
      intro j
      induction j with
      | zero => intro _; exact hI
      | succ j ih =>
        intro hj
        refine ai_f20 ?_ (p := cTp S + j + 1) (by omega) rfl
        rw [zu_zs]
        exact ai_row (ih (by omega)) (by decide)
    exact this 8 (Nat.le_refl _)
  next => exact hI
theorem ai_sheet (hI : AI S) (k l n : Int32) : AI (w_sheet S S k l n) := by
  unfold w_sheet
  split
  next h =>
    obtain ⟨k_, hk, rfl⟩ := inN_of h.1.1.1 (by decide)
    obtain ⟨l_, hl, rfl⟩ := inN_of h.1.1.2 (by decide)
    have hn : inN n 41 := by
      refine ⟨?_, ?_⟩
      · exact (Int32.le_iff_toInt_le.mp h.2)
      · have := Int32.le_iff_toInt_le.mp h.1.2
        have e40 : (40 : Int32).toInt = 40 := by decide
        omega
    obtain ⟨n_, hn_, rfl⟩ := inN_of hn (by decide)
    rw [clN k_ (by omega)]
    refine ai_row ?_ (by decide)
    refine ai_ce hI ((CE.rf.u (by decide)).u (by decide)) (cSh S) hI.sh24 hI.sh hI.shx (cTh S) hI.th12 hI.th (cTp S) hI.tp400 hI.tp hI.k0 rfl (fun _ hi => hI.so hi) hI.kix (fun q hq => ?_)
    have e1 : zu (zu S 313 k_ (nI l_)) 314 k_ (nI n_) 313 = upd (S 313) k_ (nI l_) := by rw [zu_row (by decide), zu_zs, zs_at]
    have e2 : zu (zu S 313 k_ (nI l_)) 314 k_ (nI n_) 314 = upd (S 314) k_ (nI n_) := by rw [zu_zs, zs_at, zu_row (by decide)]
    rw [e1, e2]
    obtain ⟨h1, h2⟩ := hI.lix q hq
    by_cases e : q = k_
    · subst e
      exact ⟨Or.inr ⟨l_, hl, upd_at _ _ _⟩, n_, by omega, upd_at _ _ _⟩
    · exact ⟨by rw [upd_ne e]; exact h1, by rw [upd_ne e]; exact h2⟩
  next => exact hI
theorem ai_lay (hI : AI S) (k i v : Int32) : AI (w_lay S S k i v) := by
  unfold w_lay
  split
  · rw [zu_zs]; exact ai_row hI (by decide)
  · exact hI
end INV
