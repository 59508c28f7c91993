/-! THE TWIN, part 17: laws of the tokens -/
set_option maxRecDepth 100000
theorem rn_pos {q : Int32 → Bool} {T : Nat → Int32} {n p : Nat} (hp : p ≤ n) (h : q (lk T n p) = true) : 0 < rn q T n p := by
  unfold rn
  rw [show n + 1 - p = (n - p) + 1 by omega]
  unfold runN
  rw [if_pos h]
  omega
theorem nx_core {T : Nat → Int32} {n p : Nat} {fo : Nat → Int32} (hp : p ≤ n) (h : ¬ 0 < fo 25) : ∃ r, f_next T n p fo 21 = nI r ∧ f_next T n p fo 22 = nI (tkQ T n p) ∧ p ≤ tkQ T n p ∧ tkQ T n p ≤ r ∧ r ≤ n ∧ (¬ f_next T n p fo 23 = 0 → tkQ T n p < r) := by
  have hq : tkQ T n p ≤ n := (rn_out (q := qSp) (T := T) (by decide) hp).2
  have hpq : p ≤ tkQ T n p := Nat.le_add_right _ _
  unfold f_next
  rw [if_neg h]
  by_cases h1 : tkC T n p < 0
  · rw [if_pos h1]
    exact ⟨tkQ T n p, rfl, rfl, hpq, Nat.le_refl _, hq, fun z => absurd rfl z⟩
  · rw [if_neg h1]
    by_cases h2 : qLe (tkC T n p) = true
    · rw [if_pos h2]
      exact ⟨_, rfl, rfl, hpq, Nat.le_add_right _ _, (rn_out (q := qLe) (T := T) (by decide) hq).2, fun _ => by have := rn_pos hq h2; omega⟩
    · rw [if_neg h2]
      by_cases h3 : qDi (tkC T n p) = true
      · rw [if_pos h3]
        refine ⟨_, (f_needs_at (by decide) (by decide)).trans rfl, (f_needs_at (by decide) (by decide)).trans rfl, hpq, Nat.le_add_right _ _, (rn_out (q := qDi) (T := T) (by decide) hq).2, fun _ => by have := rn_pos hq h3; omega⟩
      · rw [if_neg h3]
        have hlt : tkQ T n p < n := by
          apply Nat.lt_of_not_le
          intro z
          apply h1
          unfold tkC lk
          rw [if_neg (by omega)]
          decide
        have e21 : f_nxS T n p fo 21 = nI (tkQ T n p) := (f_needs_at (by decide) (by decide)).trans rfl
        refine ⟨tkQ T n p + 1, ?_, (upd_ne (by decide)).trans ((f_needs_at (by decide) (by decide)).trans rfl), hpq, by omega, by omega, fun _ => by omega⟩
        rw [upd_at, e21]
        exact nI_add _ 1
theorem f_next_at {T : Nat → Int32} {n p : Nat} {fo : Nat → Int32} {k : Nat} (hk : k < 21 ∨ 26 < k) : f_next T n p fo k = fo k := by
  have a1 : k ≠ 21 := by omega
  have a2 : k ≠ 22 := by omega
  have a3 : k ≠ 23 := by omega
  have a4 : k ≠ 24 := by omega
  have a5 : k ≠ 25 := by omega
  have a6 : k ≠ 26 := by omega
  have e0 : f_nx0 T n p fo k = fo k := by unfold f_nx0; rw [upd_ne a2, upd_ne a1]
  unfold f_next
  split
  · rfl
  · split
    · rw [upd_ne a3, e0]
    · split
      · rw [upd_ne a1, upd_ne a3, e0]
      · split
        · unfold f_nxN; rw [f_needs_at a5 a6, upd_ne a1, upd_ne a4, upd_ne a3, e0]
        · unfold f_nxS; rw [upd_ne a1, f_needs_at a5 a6, upd_ne a3, e0]
theorem nx_at {T : Nat → Int32} {n : Nat} {fo : Nat → Int32} {k : Nat} (hk : k < 21 ∨ 26 < k) : nx T n fo k = fo k := f_next_at hk
theorem f_needs_25 {fo : Nat → Int32} {g c : Int32} : f_needs fo g c 25 = if g = 0 ∧ fo 25 = 0 then c else fo 25 := by
  unfold f_needs
  split
  · rw [upd_ne (by decide), upd_at]
  · rfl
theorem f_needs_25o {fo : Nat → Int32} {g c : Int32} : f_needs fo g c 25 = fo 25 ∨ (fo 25 = 0 ∧ f_needs fo g c 25 = c) := by
  rw [f_needs_25]
  split
  next z => exact Or.inr ⟨z.2, rfl⟩
  next => exact Or.inl rfl
/-- once at fault, always so -/
theorem needs_stuck {fo : Nat → Int32} {g c : Int32} (hc : ¬ c = 0) (h : f_needs fo g c 25 = 0) : fo 25 = 0 ∧ ¬ g = 0 := by
  rw [f_needs_25] at h
  split at h
  next => exact absurd h hc
  next z => exact ⟨h, fun w => z ⟨w, h⟩⟩
theorem needs_F {fo : Nat → Int32} {g c : Int32} (hc : 0 < c) (h : fo 25 = 0 ∨ 0 < fo 25) : f_needs fo g c 25 = 0 ∨ 0 < f_needs fo g c 25 := by
  rw [f_needs_25]
  split
  · exact Or.inr hc
  · exact h
theorem f_next_25 {T : Nat → Int32} {n p : Nat} {fo : Nat → Int32} : f_next T n p fo 25 = fo 25 ∨ (fo 25 = 0 ∧ f_next T n p fo 25 = 1) := by
  unfold f_next
  split
  · exact Or.inl rfl
  · split
    · exact Or.inl rfl
    · split
      · exact Or.inl rfl
      · split
        · unfold f_nxN
          exact f_needs_25o
        · unfold f_nxS
          rw [upd_ne (by decide)]
          exact f_needs_25o
theorem nx_stuck {T : Nat → Int32} {n : Nat} {fo : Nat → Int32} (h : nx T n fo 25 = 0) : fo 25 = 0 := by
  rcases f_next_25 (T := T) (n := n) (p := pN fo) (fo := fo) with e | e
  · rw [← e]; exact h
  · exact e.1
theorem nx_F {T : Nat → Int32} {n : Nat} {fo : Nat → Int32} (h : fo 25 = 0 ∨ 0 < fo 25) : nx T n fo 25 = 0 ∨ 0 < nx T n fo 25 := by
  rcases f_next_25 (T := T) (n := n) (p := pN fo) (fo := fo) with e | e
  · rw [show nx T n fo 25 = fo 25 from e]; exact h
  · rw [show nx T n fo 25 = 1 from e.2]; exact Or.inr (by decide)
theorem nx_TI0 {T : Nat → Int32} {n : Nat} {fo : Nat → Int32} (hn : n ≤ 400) (h : PI n fo) (h0 : ¬ 0 < fo 25) : TI n (nx T n fo) := by
  obtain ⟨r, h1, h2, _, h3, h4, _⟩ := nx_core (T := T) h.1 h0
  exact TI.of h1 h2 h3 h4 hn
theorem nx_TI {T : Nat → Int32} {n : Nat} {fo : Nat → Int32} (hn : n ≤ 400) (h : TI n fo) : TI n (nx T n fo) := by
  by_cases h0 : 0 < fo 25
  · rw [show nx T n fo = fo from if_pos h0]; exact h
  · exact nx_TI0 hn h.1 h0
theorem nx_mono {T : Nat → Int32} {n : Nat} {fo : Nat → Int32} (hn : n ≤ 400) (h : PI n fo) : pN fo ≤ pN (nx T n fo) := by
  by_cases h0 : 0 < fo 25
  · rw [show nx T n fo = fo from if_pos h0]; exact Nat.le_refl _
  · obtain ⟨r, h1, h2, h5, h3, h4, _⟩ := nx_core (T := T) h.1 h0
    rw [show pN (nx T n fo) = r from clampN h1 (by omega)]; omega
theorem nx_prog {T : Nat → Int32} {n : Nat} {fo : Nat → Int32} (hn : n ≤ 400) (h : PI n fo) (h0 : fo 25 = 0) (hs : ¬ nx T n fo 23 = 0) : pN fo < pN (nx T n fo) := by
  obtain ⟨r, h1, h2, h5, h3, h4, h6⟩ := nx_core (T := T) (fo := fo) h.1 (by rw [h0]; decide)
  rw [show pN (nx T n fo) = r from clampN h1 (by omega)]
  have := h6 hs
  omega
theorem needs_PI {n : Nat} {fo : Nat → Int32} {g c : Int32} (h : PI n fo) : PI n (f_needs fo g c) := h.same (f_needs_at (by decide) (by decide))
theorem needs_TI {n : Nat} {fo : Nat → Int32} {g c : Int32} (h : TI n fo) : TI n (f_needs fo g c) := h.same (f_needs_at (by decide) (by decide)) (f_needs_at (by decide) (by decide))
theorem needs_p {fo : Nat → Int32} {g c : Int32} : pN (f_needs fo g c) = pN fo := by unfold pN; rw [f_needs_at (by decide) (by decide)]
/-- what goes along with all of the reading -/
def Gd (n : Nat) (fo f : Nat → Int32) : Prop := (∀ k, k < 21 ∨ 26 < k → f k = fo k) ∧ TI n f ∧ pN fo ≤ pN f ∧ (fo 25 = 0 ∨ 0 < fo 25 → f 25 = 0 ∨ 0 < f 25) ∧ (f 25 = 0 → fo 25 = 0)
theorem Gd.at_ {n : Nat} {fo f : Nat → Int32} (h : Gd n fo f) : ∀ k, k < 21 ∨ 26 < k → f k = fo k := h.1
theorem Gd.ti {n : Nat} {fo f : Nat → Int32} (h : Gd n fo f) : TI n f := h.2.1
theorem Gd.mono {n : Nat} {fo f : Nat → Int32} (h : Gd n fo f) : pN fo ≤ pN f := h.2.2.1
theorem Gd.fz {n : Nat} {fo f : Nat → Int32} (h : Gd n fo f) : fo 25 = 0 ∨ 0 < fo 25 → f 25 = 0 ∨ 0 < f 25 := h.2.2.2.1
theorem Gd.stuck {n : Nat} {fo f : Nat → Int32} (h : Gd n fo f) : f 25 = 0 → fo 25 = 0 := h.2.2.2.2
theorem Gd.refl {n : Nat} {fo : Nat → Int32} (h : TI n fo) : Gd n fo fo := ⟨fun _ _ => rfl, h, Nat.le_refl _, id, id⟩
theorem Gd.trans {n : Nat} {a b c : Nat → Int32} (h : Gd n a b) (h2 : Gd n b c) : Gd n a c :=
  ⟨fun k hk => (h2.at_ k hk).trans (h.at_ k hk), h2.ti, Nat.le_trans h.mono h2.mono, fun z => h2.fz (h.fz z), fun z => h.stuck (h2.stuck z)⟩
theorem Gd.gnx {n : Nat} {T a b : Nat → Int32} (hn : n ≤ 400) (h : Gd n a b) : Gd n a (nx T n b) :=
  h.trans ⟨fun _ hk => nx_at hk, nx_TI hn h.ti, nx_mono hn h.ti.1, nx_F, nx_stuck⟩
theorem Gd.gnd {n : Nat} {a b : Nat → Int32} {gd c : Int32} (hc : 0 < c) (h : Gd n a b) : Gd n a (f_needs b gd c) :=
  h.trans ⟨fun _ hk => f_needs_at (by omega) (by omega), needs_TI h.ti, by rw [needs_p]; exact Nat.le_refl _, needs_F hc, fun z => (needs_stuck (fun q => by rw [q] at hc; exact absurd hc (by decide)) z).1⟩
theorem Gd.grn {n : Nat} {T a b : Nat → Int32} {lo hi : Int32} (hn : n ≤ 400) (h : Gd n a b) : Gd n a (f_rn T n lo hi b) := ((h.gnd (by decide)).gnd (by decide)).gnx hn
theorem Gd.grmI {n : Nat} {T a b : Nat → Int32} {nt : Int32} (h : Gd n a b) : ∀ i, Gd n a (rmR T n nt b i).2
  | 0 => h.gnd (by decide)
  | i + 1 => by
    have ih := Gd.grmI (T := T) (nt := nt) h i
    show Gd n a (rmS T n nt (qN b + i) (rmR T n nt b i)).2
    unfold rmS
    split
    · exact ih.gnd (by decide)
    · exact ih
theorem Gd.grm {n : Nat} {T a b : Nat → Int32} {nt : Int32} (hn : n ≤ 400) (h : Gd n a b) : Gd n a (f_rm T n nt b) := (h.grmI _).gnx hn
section M17
variable {g : ZG} {M : ZM} {d rc rs : Nat} {Q : Option Value → ZH → Prop} {h : ZH} {S S' : Nat → Nat → Int32} {f : Nat → Int32} {pc pc' : Nat} {L L' : List (Option Value)} {st st' : List Value}
theorem zt_join (k : Zt g M d rc rs Q (zW h S') pc' L' st') (j : Zt g M d rc rs Q (zW h S') pc' L' st' → Zt g M d rc rs Q (zW h S) pc L st) : Zt g M d rc rs Q (zW h S) pc L st := j k
theorem zs_swap (S : Nat → Nat → Int32) {a b : Nat} (f : Nat → Int32) (k : Nat) (v : Int32) (hab : b ≠ a) : zu (zs S a f) b k v = zs (zu S b k v) a f := by
  funext c j
  by_cases hc : c = a
  · subst hc
    rw [zs_at, zu_ne1 (fun q => hab q.symm), zs_at]
  · rw [zs_ne hc]
    by_cases hb : c = b
    · subst hb
      unfold zu
      rw [zs_ne hc]
    · rw [zu_ne1 hb, zu_ne1 hb, zs_ne hc]
theorem wt_iastW (n j : Nat) {i x : Int32} {a b : Nat} (hab : Nat.beq a b = false) (hd : decode M.2.1 pc = .ok (.iastore, 1)) (hs : h.2.1 a = .inr (0, n)) (hn : Nat.ble n 1000000 = true) (hi : i = nI j) (hj : j < n) (kk : Zt g M d rc rs Q (zW h (zs (zu S a j x) b f)) (pc + 1) L st) : Zt g M d rc rs Q (zW h (zs S b f)) pc L (.int x :: .int i :: .ref a :: st) :=
  wt_iast n j hd hs hn hi hj (by rw [zs_swap S f j x (fun q => by rw [q, Nat.beq_refl] at hab; cases hab)]; exact kk)
end M17