set_option maxRecDepth 100000
section INV
variable {S S' : Nat → Nat → Int32}
theorem kd4_oth (S : Nat → Nat → Int32) {a : Nat} (h0 : a ≠ 290) (h1 : a ≠ 291) (h2 : a ≠ 292) (h3 : a ≠ 293) (h4 : a ≠ 294) (h5 : a ≠ 300) : kd4 S a = kd0 S a :=
  (kdK_at h4 _ _).trans ((kdT_at h3 _ _).trans ((kdM_at h1 h2 h5 _ _).trans (kdH_at h0 _ _)))
theorem ai_kd (hd : DA S (S 289)) (hp : ∃ p : Nat, p ≤ 400 ∧ S 289 20 = nI p) (hso : ∀ i, i < 12 → S 308 i = 0 ∨ S 308 i = 1) (hli : ∀ k, k < 4 → LIx (S 313) (S 314) k) : AI (w_kd S) := by
  have hC : CI (kd5 S) := ci_kd5 hd
  obtain ⟨p, hp, ep⟩ := hp
  have o5 : ∀ a, a ≠ 289 → a ≠ 309 → a ≠ 290 → a ≠ 291 → a ≠ 292 → a ≠ 293 → a ≠ 294 → a ≠ 300 → kd5 S a = S a := fun a n0 n9 h0 h1 h2 h3 h4 h5 => by
    rw [kd5_oth S n0 n9, kd4_oth S h0 h1 h2 h3 h4 h5]
    unfold kd0
    rw [zu_row n0, zu_row n0, zu_row n0, zu_row n0]
  have e20 : kd5 S 289 20 = nI p := by
    have : kd5 S 289 20 = kd4 S 289 20 := (zu_ne1 (by decide)).trans ((zu_ne1 (by decide)).trans ((zu_ne2 (by decide)).trans ((zu_ne2 (by decide)).trans (zu_ne2 (by decide)))))
    rw [this, kd4_oth S (by decide) (by decide) (by decide) (by decide) (by decide) (by decide)]
    exact ep
  have e28 : kd5 S 289 28 = 0 := (zu_ne1 (by decide)).trans ((zu_ne1 (by decide)).trans ((zu_ne2 (by decide)).trans ((zu_ne2 (by decide)).trans (zu_same _ _ _ _))))
  have e34 : kd5 S 289 34 = 0 := (zu_ne1 (by decide)).trans ((zu_ne1 (by decide)).trans (zu_same _ _ _ _))
  have e9 : ∀ i, i < 2 → kd5 S 309 i = 0 := fun i hi => by
    match i, hi with
    | 0, _ => exact (zu_ne2 (by decide)).trans (zu_same _ _ _ _)
    | 1, _ => exact zu_same _ _ _ _
  unfold w_kd
  refine ai_mk (S := kd5 S) (ci_ce (CE.rf.z (by decide)) hC) (by unfold cS; rw [zs_ne (by decide)]) (by unfold cT; rw [zs_ne (by decide)]) 0 (by decide) ?_ (fun i hi => absurd hi (Nat.not_lt_zero _)) 0 (by decide) ?_ p hp ?_ ?_ ?_ (fun i hi => ?_) (fun i hi => ?_) (fun k hk => ?_)
  · rw [zs_ne (by decide)]; exact e28
  · rw [zs_ne (by decide)]; exact e34
  · rw [zs_ne (by decide)]; exact e20
  · rw [zs_at]; exact (rep_ok hC (fun i hi => absurd hi (Nat.not_lt_zero _)) 0 (Nat.le_refl _)).1
  · rw [zs_ne (by decide), o5 298 (by decide) (by decide) (by decide) (by decide) (by decide) (by decide) (by decide) (by decide)]; exact hd.2.1
  · rw [zs_ne (by decide), o5 308 (by decide) (by decide) (by decide) (by decide) (by decide) (by decide) (by decide) (by decide)]; exact hso i hi
  · rw [zs_ne (by decide)]
    refine ⟨Or.inl (e9 i hi), fun z => ?_⟩
    rw [e9 i hi] at z
    exact absurd z (by decide)
  · rw [zs_ne (by decide), zs_ne (by decide), o5 313 (by decide) (by decide) (by decide) (by decide) (by decide) (by decide) (by decide) (by decide), o5 314 (by decide) (by decide) (by decide) (by decide) (by decide) (by decide) (by decide) (by decide)]; exact hli k hk
theorem ai_text (hI : AI S) : AI (w_text S) := by
  have hx := tx_all (T := S 301) hI.tp400 hI.dt (cTp S)
  have hd := da_txZ hI.tp400 hI.dt
  have hz : ∀ a, a < 289 ∨ (289 < a ∧ a < 295) ∨ 299 < a → txZ S a = S a := fun a ha => by
    unfold txZ
    rw [zs_ne (by omega)]
    exact hx.2.2.2.1 a (by omega)
  have hf : ∀ k, k ≠ 20 → (k < 9 ∨ (16 < k ∧ k < 21) ∨ 26 < k) → txZ S 289 k = S 289 k := fun k h20 hk => by
    unfold txZ
    rw [zs_at, upd_ne h20]
    exact hx.2.2.2.2 k hk
  have e20 : txZ S 289 20 = nI 0 := by
    unfold txZ
    rw [zs_at, upd_at]
    rfl
  unfold w_text
  split
  · refine ai_mk (S := S) (ci_ce (S := S) ⟨hf 0 (by decide) (by decide), hf 2 (by decide) (by decide), hf 5 (by decide) (by decide), hf 7 (by decide) (by decide), hz _ (by decide), hz _ (by decide), hz _ (by decide), hz _ (by decide), hz _ (by decide), hz _ (by decide)⟩ hI.c) (by unfold cS; rw [hf 5 (by decide) (by decide)]) (by unfold cT; rw [hf 0 (by decide) (by decide)]) (cSh S) hI.sh24 ((hf 28 (by decide) (by decide)).trans hI.sh) (fun i hi => ?_) (cTh S) hI.th12 ((hf 34 (by decide) (by decide)).trans hI.th) 0 (by decide) e20 ?_ hd.2.1 (fun i hi => ?_) (fun i hi => ?_) (fun k hk => ?_)
    · rw [hz 303 (by decide)]; exact hI.shx i hi
    · rw [hz 302 (by decide)]; exact hI.k0
    · rw [hz 308 (by decide)]; exact hI.so hi
    · rw [hz 309 (by decide), hz 310 (by decide), hz 311 (by decide)]; exact hI.kix i hi
    · rw [hz 313 (by decide), hz 314 (by decide)]; exact hI.lix k hk
  · refine ai_kd hd ⟨0, by decide, e20⟩ (fun i hi => ?_) (fun k hk => ?_)
    · rw [hz 308 (by decide)]; exact hI.so hi
    · rw [hz 313 (by decide), hz 314 (by decide)]; exact hI.lix k hk
end INV
