/-! THE INVARIANT of the twin along its operations -/
set_option maxRecDepth 100000
def SHx (S : Nat → Nat → Int32) (g : Nat → Int32) (i : Nat) : Prop := (∃ s : Nat, s < cS S ∧ g (3 * i) = nI s) ∧ (∃ t : Nat, t < cT S ∧ g (3 * i + 1) = nI t) ∧ (g (3 * i + 2) = 0 ∨ g (3 * i + 2) = 1)
def KIx (S : Nat → Nat → Int32) (k m w : Nat → Int32) (i : Nat) : Prop := (k i = 0 ∨ k i = 1) ∧ (k i = 1 → (∃ n : Nat, n ≤ 24 ∧ m (3 * i) = nI n ∧ ∀ j, j < n → (∃ s : Nat, s < cS S ∧ w (72 * i + 3 * j) = nI s) ∧ (∃ t : Nat, t < cT S ∧ w (72 * i + (3 * j + 1)) = nI t) ∧ (w (72 * i + (3 * j + 2)) = 0 ∨ w (72 * i + (3 * j + 2)) = 1)) ∧ ∃ n : Nat, n ≤ 12 ∧ m (3 * i + 2) = nI n)
def LIx (l z : Nat → Int32) (k : Nat) : Prop := (l k = -4 ∨ ∃ j : Nat, j < 3 ∧ l k = nI j) ∧ ∃ n : Nat, n ≤ 40 ∧ z k = nI n
section INV
variable {S S' : Nat → Nat → Int32}
theorem CE.eT (h : CE S' S) : cT S' = cT S := by unfold cT; rw [h.1]
theorem CE.eM (h : CE S' S) : cM S' = cM S := by unfold cM; rw [h.2.1]
theorem CE.eS (h : CE S' S) : cS S' = cS S := by unfold cS; rw [h.2.2.1]
theorem CE.eK (h : CE S' S) : cK S' = cK S := by unfold cK; rw [h.2.2.2.1]
theorem ci_ce (h : CE S' S) (hC : CI S) : CI S' := by
  unfold CI
  rw [h.eT, h.eM, h.eS, h.eK, h.1, h.2.1, h.2.2.1, h.2.2.2.1, h.a293, h.a294]
  exact hC
theorem ai_mk (hC : CI S') (cs : cS S' = cS S) (ct : cT S' = cT S) (n : Nat) (hn : n ≤ 24) (e28 : S' 289 28 = nI n) (hsh : ∀ i, i < n → SHx S (S' 303) i) (m : Nat) (hm : m ≤ 12) (e34 : S' 289 34 = nI m) (p : Nat) (hp : p ≤ 400) (e20 : S' 289 20 = nI p) (hk : TK (S' 302) 0) (hd : ∀ s, s < 4 → ∃ j : Nat, j < 12 ∧ S' 298 s = nI j) (hso : ∀ i, i < 12 → S' 308 i = 0 ∨ S' 308 i = 1) (hki : ∀ i, i < 2 → KIx S (S' 309) (S' 310) (S' 311) i) (hli : ∀ k, k < 4 → LIx (S' 313) (S' 314) k) : AI S' := by
  have c28 : cSh S' = n := by unfold cSh; rw [e28, nI_clamp (by omega)]
  have c34 : cTh S' = m := by unfold cTh; rw [e34, nI_clamp (by omega)]
  have c20 : cTp S' = p := by unfold cTp; rw [e20, nI_clamp (by omega)]
  refine ⟨hC, ⟨by rw [c28]; exact e28, by rw [c28]; exact hn⟩, ⟨by rw [c34]; exact e34, by rw [c34]; exact hm⟩, ⟨by rw [c20]; exact e20, by rw [c20]; exact hp⟩, ⟨hk, hd⟩, fun i hi => ?_, hso, fun i hi => ?_, fun k hk' => hli k hk'⟩
  · rw [c28] at hi
    have := hsh i hi
    unfold SHx at this
    unfold SH
    rw [cs, ct]
    exact this
  · have := hki i hi
    unfold KIx at this
    unfold KI
    rw [cs, ct]
    exact this
theorem AI.shx (h : AI S) : ∀ i, i < cSh S → SHx S (S 303) i := fun _ hi => h.shown hi
theorem AI.kix (h : AI S) : ∀ i, i < 2 → KIx S (S 309) (S 310) (S 311) i := fun _ hi => h.ki hi
theorem AI.lix (h : AI S) : ∀ k, k < 4 → LIx (S 313) (S 314) k := fun _ hk => h.li hk
/-- what is not named stays -/
theorem ai_ce (hI : AI S) (hE : CE S' S) (n : Nat) (hn : n ≤ 24) (e28 : S' 289 28 = nI n) (hsh : ∀ i, i < n → SHx S (S' 303) i) (m : Nat) (hm : m ≤ 12) (e34 : S' 289 34 = nI m) (p : Nat) (hp : p ≤ 400) (e20 : S' 289 20 = nI p) (hk : TK (S' 302) 0) (hd : S' 298 = S 298) (hso : ∀ i, i < 12 → S' 308 i = 0 ∨ S' 308 i = 1) (hki : ∀ i, i < 2 → KIx S (S' 309) (S' 310) (S' 311) i) (hli : ∀ k, k < 4 → LIx (S' 313) (S' 314) k) : AI S' :=
  ai_mk (ci_ce hE hI.c) hE.eS hE.eT n hn e28 hsh m hm e34 p hp e20 hk (by rw [hd]; exact hI.dt) hso hki hli
theorem AE.rf : AE S S := fun _ _ _ => rfl
theorem ai_ae (hI : AI S) (h : AE S' S) : AI S' := by
  refine ai_ce hI h.ce (cSh S) hI.sh24 ((h.f 28).trans hI.sh) (fun i hi => ?_) (cTh S) hI.th12 ((h.f 34).trans hI.th) (cTp S) hI.tp400 ((h.f 20).trans hI.tp) ?_ (h 298 (by decide) (by decide)) (fun i hi => ?_) (fun i hi => ?_) (fun k hk => ?_)
  · rw [h 303 (by decide) (by decide)]; exact hI.shx i hi
  · rw [h 302 (by decide) (by decide)]; exact hI.k0
  · rw [h 308 (by decide) (by decide)]; exact hI.so hi
  · rw [h 309 (by decide) (by decide), h 310 (by decide) (by decide), h 311 (by decide) (by decide)]; exact hI.kix i hi
  · rw [h 313 (by decide) (by decide), h 314 (by decide) (by decide)]; exact hI.lix k hk
/-- the states: the live one stays -/
theorem tk_b0 {f f' : Nat → Int32} (h : TK f 0) (e : ∀ j, j < 70 → f' j = f j) : TK f' 0 := fun k hk s hs => by
  rw [e _ (by omega)]; exact h k hk s hs
theorem ai_302 (hI : AI S) {f : Nat → Int32} (hk : TK f 0) : AI (zs S 302 f) :=
  ai_ce hI (CE.rf.z (by decide)) (cSh S) hI.sh24 hI.sh hI.shx (cTh S) hI.th12 hI.th (cTp S) hI.tp400 hI.tp hk rfl (fun _ hi => hI.so hi) hI.kix hI.lix
theorem ai_f33 (hI : AI S) (v : Int32) : AI (zu S 289 33 v) :=
  ai_ce hI (CE.rf.f (by decide) (by decide) (by decide) (by decide)) (cSh S) hI.sh24 hI.sh hI.shx (cTh S) hI.th12 hI.th (cTp S) hI.tp400 hI.tp hI.k0 rfl (fun _ hi => hI.so hi) hI.kix hI.lix
theorem ai_f44 (hI : AI S) (v : Int32) : AI (zu S 289 44 v) :=
  ai_ce hI (CE.rf.f (by decide) (by decide) (by decide) (by decide)) (cSh S) hI.sh24 hI.sh hI.shx (cTh S) hI.th12 hI.th (cTp S) hI.tp400 hI.tp hI.k0 rfl (fun _ hi => hI.so hi) hI.kix hI.lix
theorem ai_f20 (hI : AI S) {v : Int32} {p : Nat} (hp : p ≤ 400) (e : v = nI p) : AI (zu S 289 20 v) :=
  ai_ce hI (CE.rf.f (by decide) (by decide) (by decide) (by decide)) (cSh S) hI.sh24 hI.sh hI.shx (cTh S) hI.th12 hI.th p hp ((zu_same _ _ _ _).trans e) hI.k0 rfl (fun _ hi => hI.so hi) hI.kix hI.lix
theorem ai_f34 (hI : AI S) {v : Int32} {p : Nat} (hp : p ≤ 12) (e : v = nI p) : AI (zu S 289 34 v) :=
  ai_ce hI (CE.rf.f (by decide) (by decide) (by decide) (by decide)) (cSh S) hI.sh24 hI.sh hI.shx p hp ((zu_same _ _ _ _).trans e) (cTp S) hI.tp400 hI.tp hI.k0 rfl (fun _ hi => hI.so hi) hI.kix hI.lix
theorem ai_row (hI : AI S) {a : Nat} {f : Nat → Int32} (ha : a = 301 ∨ a = 304 ∨ a = 305 ∨ a = 306 ∨ a = 307 ∨ a = 312 ∨ a = 315) : AI (zs S a f) := by
  refine ai_ce hI (CE.rf.z (by omega)) (cSh S) hI.sh24 ?_ (fun i hi => ?_) (cTh S) hI.th12 ?_ (cTp S) hI.tp400 ?_ ?_ ?_ (fun i hi => ?_) (fun i hi => ?_) (fun k hk => ?_)
  · rw [zs_ne (by omega)]; exact hI.sh
  · rw [zs_ne (by omega)]; exact hI.shx i hi
  · rw [zs_ne (by omega)]; exact hI.th
  · rw [zs_ne (by omega)]; exact hI.tp
  · rw [zs_ne (by omega)]; exact hI.k0
  · rw [zs_ne (by omega)]
  · rw [zs_ne (by omega)]; exact hI.so hi
  · rw [zs_ne (by omega), zs_ne (by omega), zs_ne (by omega)]; exact hI.kix i hi
  · rw [zs_ne (by omega), zs_ne (by omega)]; exact hI.lix k hk
theorem ai_so (hI : AI S) {k : Nat} {v : Int32} (hv : v = 0 ∨ v = 1) : AI (zu S 308 k v) := by
  refine ai_ce hI (CE.rf.u (by decide)) (cSh S) hI.sh24 hI.sh hI.shx (cTh S) hI.th12 hI.th (cTp S) hI.tp400 hI.tp hI.k0 rfl (fun i hi => ?_) hI.kix hI.lix
  by_cases e : i = k
  · subst e; rw [zu_same]; exact hv
  · rw [zu_ne2 e]; exact hI.so hi
/-- showings with their states -/
theorem ai_shows (hI : AI S) {f w : Nat → Int32} {n : Nat} (hn : n ≤ 24) (hsh : ∀ i, i < n → SHx S w i) (hk : TK f 0) {v : Int32} (e : v = nI n) : AI (zu (zs (zs S 303 w) 302 f) 289 28 v) := by
  refine ai_ce hI (((CE.rf.z (by decide)).z (by decide)).f (by decide) (by decide) (by decide) (by decide)) n hn ((zu_same _ _ _ _).trans e) (fun i hi => ?_) (cTh S) hI.th12 hI.th (cTp S) hI.tp400 hI.tp ?_ rfl (fun _ hi => hI.so hi) hI.kix hI.lix
  · have := hsh i hi
    rw [zu_row (by decide), zs_ne (by decide), zs_at]; exact this
  · rw [zu_row (by decide), zs_at]; exact hk
theorem ai_adds (hI : AI S) {s t : Nat} {so : Int32} (hs : s < cS S) (ht : t < cT S) (hso : so = 0 ∨ so = 1) : AI (w_adds S S s (nI t) so) := by
  unfold w_adds
  by_cases h24 : cSh S = 24
  · rw [if_pos h24]; exact hI
  · rw [if_neg h24]
    have b1 := hI.sh24
    have b3 := hI.c.s4
    rw [zu_zs S, zs_zu, zs_zu]
    refine ai_shows hI (n := cSh S + 1) (by omega) (fun i hi => ?_) (sees_ok hI.c (by omega) hI.k0 (cK S) (Nat.le_refl _)).1 rfl
    by_cases e : i = cSh S
    · subst e
      refine ⟨⟨s, hs, ?_⟩, ⟨t, ht, ?_⟩, ?_⟩
      · rw [upd_ne (by omega), upd_ne (by omega), upd_at]
      · rw [upd_ne (by omega), upd_at]
      · rw [upd_at]; exact hso
    · obtain ⟨⟨s', h1, h2⟩, ⟨t', h3, h4⟩, h5⟩ := hI.shx i (by omega)
      refine ⟨⟨s', h1, ?_⟩, ⟨t', h3, ?_⟩, ?_⟩
      · rw [upd_ne (by omega), upd_ne (by omega), upd_ne (by omega)]; exact h2
      · rw [upd_ne (by omega), upd_ne (by omega), upd_ne (by omega)]; exact h4
      · rw [upd_ne (by omega), upd_ne (by omega), upd_ne (by omega)]; exact h5
end INV
