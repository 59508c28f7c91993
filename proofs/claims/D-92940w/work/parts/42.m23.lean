/-! THE TWIN, part 23: the text -/
set_option maxRecDepth 100000
def tx0 (fo : Nat → Int32) : Nat → Int32 := upd (upd (upd (upd (upd (upd fo 25 0) 21 0) 9 0) 11 0) 14 0) 16 0
def txS (T : Nat → Int32) (n : Nat) (x : WF × Nat) : WF × Nat := if x.1.2 25 = 0 ∧ ¬ x.1.2 23 = 0 then (w_ln T n x.1, x.2 + 1) else x
def txR (T : Nat → Int32) (n : Nat) (S : Nat → Nat → Int32) (i : Nat) : WF × Nat := itr (fun _ => txS T n) ((S, nx T n (tx0 (S 289))), 0) i
/-- what stands along the lines -/
def TX (n : Nat) (S C : Nat → Nat → Int32) (f : Nat → Int32) : Prop := TI n f ∧ DA C f ∧ (f 25 = 0 ∨ 0 < f 25) ∧ (∀ a, a < 295 ∨ 299 < a → C a = S a) ∧ ∀ k, k < 9 ∨ (16 < k ∧ k < 21) ∨ 26 < k → f k = S 289 k
theorem tx0_at {fo : Nat → Int32} {k : Nat} (hk : k < 9 ∨ (16 < k ∧ k < 21) ∨ 26 < k) : tx0 fo k = fo k := by
  unfold tx0
  rw [upd_ne (by omega), upd_ne (by omega), upd_ne (by omega), upd_ne (by omega), upd_ne (by omega), upd_ne (by omega)]
theorem di_tx0 (fo : Nat → Int32) : DI (tx0 fo) := ⟨⟨rfl, by show (0 : Int32).toNatClampNeg ≤ 8; decide⟩, ⟨rfl, by show (0 : Int32).toNatClampNeg ≤ 12; decide⟩, ⟨rfl, by show (0 : Int32).toNatClampNeg ≤ 4; decide⟩, ⟨rfl, by show (0 : Int32).toNatClampNeg ≤ 6; decide⟩⟩
theorem pi_tx0 (fo : Nat → Int32) (n : Nat) : PI n (tx0 fo) := ⟨by show (0 : Int32).toNatClampNeg ≤ n; exact Nat.zero_le _, rfl⟩
theorem tx_start {T : Nat → Int32} {n : Nat} {S : Nat → Nat → Int32} (hn : n ≤ 400) (hT : ∀ s, s < 4 → ∃ j : Nat, j < 12 ∧ S 298 s = nI j) : TX n S S (nx T n (tx0 (S 289))) := by
  have h25 : tx0 (S 289) 25 = 0 := rfl
  have hd : DA S (tx0 (S 289)) := ⟨di_tx0 _, hT, fun k hk => absurd hk (Nat.not_lt_zero _)⟩
  refine ⟨nx_TI0 hn (pi_tx0 _ _) (by rw [h25]; decide), hd.same (fun k hk => nx_at hk), nx_F (Or.inl h25), fun _ _ => rfl, fun k hk => ?_⟩
  exact (nx_at (by omega)).trans (tx0_at hk)
theorem tx_step {T : Nat → Int32} {n : Nat} {S C : Nat → Nat → Int32} {f : Nat → Int32} (hn : n ≤ 400) (h : TX n S C f) : TX n S (w_ln T n (C, f)).1 (w_ln T n (C, f)).2 := by
  obtain ⟨h1, _, h3⟩ := lg_ln (T := T) hn h.1 h.2.2.1 h.2.1
  generalize w_ln T n (C, f) = z at h1 h3 ⊢
  exact ⟨h1.2.2.1, h3, h1.2.2.2.2.2 h.2.2.1, fun a ha => (h1.1 a ha).trans (h.2.2.2.1 a ha), fun k hk => (h1.2.1 k hk).trans (h.2.2.2.2 k hk)⟩
theorem tx_all {T : Nat → Int32} {n : Nat} {S : Nat → Nat → Int32} (hn : n ≤ 400) (hT : ∀ s, s < 4 → ∃ j : Nat, j < 12 ∧ S 298 s = nI j) : ∀ i, TX n S (txR T n S i).1.1 (txR T n S i).1.2
  | 0 => tx_start hn hT
  | i + 1 => by
    have ih := tx_all (T := T) hn hT i
    have e : txR T n S (i + 1) = txS T n (txR T n S i) := rfl
    rw [e]
    generalize txR T n S i = x at ih
    obtain ⟨⟨C, f⟩, c⟩ := x
    dsimp only at ih
    unfold txS
    dsimp only
    by_cases hc : f 25 = 0 ∧ ¬ f 23 = 0
    · rw [if_pos hc]
      dsimp only
      exact tx_step hn ih
    · rw [if_neg hc]
      dsimp only
      exact ih
theorem txR_stay {T : Nat → Int32} {n : Nat} {S : Nat → Nat → Int32} {i : Nat} (h : ¬ ((txR T n S i).1.2 25 = 0 ∧ ¬ (txR T n S i).1.2 23 = 0)) : ∀ d, txR T n S (i + d) = txR T n S i
  | 0 => rfl
  | d + 1 => by
    have ih := txR_stay h d
    show txS T n (txR T n S (i + d)) = _
    rw [ih]
    exact if_neg h
theorem txR_end {T : Nat → Int32} {n : Nat} {S : Nat → Nat → Int32} {i N : Nat} (hN : i < N) (h : ¬ ((txR T n S i).1.2 25 = 0 ∧ ¬ (txR T n S i).1.2 23 = 0)) : txR T n S i = txR T n S N := by
  have := txR_stay h (N - i)
  rw [show i + (N - i) = N by omega] at this
  exact this.symm
theorem tx_prog {T : Nat → Int32} {n : Nat} {S : Nat → Nat → Int32} (hn : n ≤ 400) (hT : ∀ s, s < 4 → ∃ j : Nat, j < 12 ∧ S 298 s = nI j) : ∀ i, (txR T n S i).1.2 25 = 0 → ¬ (txR T n S i).1.2 23 = 0 → i < pN (txR T n S i).1.2 ∧ (txR T n S i).2 = i
  | 0, _, h3 => ⟨Nat.lt_of_le_of_lt (Nat.zero_le _) (nx_prog (T := T) hn (pi_tx0 (S 289) n) rfl h3), rfl⟩
  | i + 1, h5, h3 => by
    by_cases hc : (txR T n S i).1.2 25 = 0 ∧ ¬ (txR T n S i).1.2 23 = 0
    · have ih := tx_prog hn hT i hc.1 hc.2
      have ha := tx_all (T := T) hn hT i
      have e : txR T n S (i + 1) = txS T n (txR T n S i) := rfl
      rw [e] at h5 h3 ⊢
      generalize txR T n S i = x at ih ha hc h5 h3 ⊢
      obtain ⟨⟨C, f⟩, c⟩ := x
      dsimp only at ih ha hc
      have e2 : txS T n ((C, f), c) = (w_ln T n (C, f), c + 1) := if_pos hc
      rw [e2] at h5 h3 ⊢
      dsimp only at h5 h3 ⊢
      have q := (lg_ln (T := T) hn ha.1 ha.2.2.1 ha.2.1).2.1 h5 h3
      exact ⟨Nat.lt_of_le_of_lt ih.1 q, by rw [ih.2]⟩
    · have e : txR T n S (i + 1) = txR T n S i := txR_stay hc 1
      rw [e] at h5 h3
      exact absurd ⟨h5, h3⟩ hc
theorem tx_done {T : Nat → Int32} {n : Nat} {S : Nat → Nat → Int32} (hn : n ≤ 400) (hT : ∀ s, s < 4 → ∃ j : Nat, j < 12 ∧ S 298 s = nI j) : ¬ ((txR T n S n).1.2 25 = 0 ∧ ¬ (txR T n S n).1.2 23 = 0) := by
  intro h
  have h1 := (tx_prog hn hT n h.1 h.2).1
  have h2 := (tx_all (T := T) hn hT n).1.1.1
  omega
/-- the kept configuration -/
theorem kd5_289 (S : Nat → Nat → Int32) {k : Nat} (h : k = 0 ∨ k = 2 ∨ k = 5 ∨ k = 7) : kd5 S 289 k = kd0 S 289 k := by
  have e4 : kd4 S 289 = kd0 S 289 := (kdK_at (by decide) _ _).trans ((kdT_at (by decide) _ _).trans ((kdM_at (by decide) (by decide) (by decide) _ _).trans (kd1_289 S)))
  have e5 : kd5 S 289 k = kd4 S 289 k := (zu_ne1 (by decide)).trans ((zu_ne1 (by decide)).trans ((zu_ne2 (by omega)).trans ((zu_ne2 (by omega)).trans (zu_ne2 (by omega)))))
  rw [e5, e4]
theorem kdT_on (S : Nat → Nat → Int32) : ∀ n s, s < n → itr kdT S n 293 s = S 298 s
  | 0, _, h => absurd h (Nat.not_lt_zero _)
  | n + 1, s, h => by
    show zu (itr kdT S n) 293 n (itr kdT S n 298 n) 293 s = _
    by_cases e : s = n
    · subst e
      exact (if_pos ⟨rfl, rfl⟩).trans (congrFun (kdT_at (by decide) S s) s)
    · rw [zu_ne2 e]
      exact kdT_on S n s (by omega)
theorem kdK_on (S : Nat → Nat → Int32) : ∀ n s, s < n → itr kdK S n 294 s = S 299 s
  | 0, _, h => absurd h (Nat.not_lt_zero _)
  | n + 1, s, h => by
    show zu (itr kdK S n) 294 n (itr kdK S n 299 n) 294 s = _
    by_cases e : s = n
    · subst e
      exact (if_pos ⟨rfl, rfl⟩).trans (congrFun (kdK_at (by decide) S s) s)
    · rw [zu_ne2 e]
      exact kdK_on S n s (by omega)
theorem kd5_oth (S : Nat → Nat → Int32) {a : Nat} (h : a ≠ 289) (h2 : a ≠ 309) : kd5 S a = kd4 S a := (zu_row h2).trans ((zu_row h2).trans ((zu_row h).trans ((zu_row h).trans (zu_row h))))
theorem kd5_293 (S : Nat → Nat → Int32) {s : Nat} (h : s < 4) : kd5 S 293 s = S 298 s := by
  rw [kd5_oth S (by decide) (by decide)]
  have e1 : kd4 S 293 = kd3 S 293 := kdK_at (by decide) _ _
  rw [e1]
  refine (kdT_on (kd2 S) 4 s h).trans (congrFun ?_ s)
  exact (kdM_at (by decide) (by decide) (by decide) _ _).trans ((kdH_at (by decide) _ _).trans rfl)
theorem kd5_294 (S : Nat → Nat → Int32) {s : Nat} (h : s < 30) : kd5 S 294 s = S 299 s := by
  rw [kd5_oth S (by decide) (by decide)]
  refine (kdK_on (kd3 S) 30 s h).trans (congrFun ?_ s)
  exact (kdT_at (by decide) _ _).trans ((kdM_at (by decide) (by decide) (by decide) _ _).trans ((kdH_at (by decide) _ _).trans rfl))
theorem ci_kd5 {S : Nat → Nat → Int32} (hd : DA S (S 289)) : CI (kd5 S) := by
  have e0 : kd5 S 289 0 = S 289 9 := (kd5_289 S (by decide)).trans rfl
  have e2 : kd5 S 289 2 = S 289 11 := (kd5_289 S (by decide)).trans rfl
  have e5 : kd5 S 289 5 = S 289 14 := (kd5_289 S (by decide)).trans rfl
  have e7 : kd5 S 289 7 = S 289 16 := (kd5_289 S (by decide)).trans rfl
  have c0 : cT (kd5 S) = dN 9 (S 289) := by unfold cT; rw [e0]; rfl
  have c2 : cM (kd5 S) = dN 11 (S 289) := by unfold cM; rw [e2]; rfl
  have c5 : cS (kd5 S) = dN 14 (S 289) := by unfold cS; rw [e5]; rfl
  have c7 : cK (kd5 S) = dN 16 (S 289) := by unfold cK; rw [e7]; rfl
  obtain ⟨⟨h1, h2, h3, h4⟩, ht, hk⟩ := hd
  refine ⟨by rw [e0, c0]; exact h1.1, by rw [c0]; exact h1.2, by rw [e2, c2]; exact h2.1, by rw [c2]; exact h2.2, by rw [e5, c5]; exact h3.1, by rw [c5]; exact h3.2, by rw [e7, c7]; exact h4.1, by rw [c7]; exact h4.2, fun s hs => ?_, fun k hk' => ?_⟩
  · rw [kd5_293 S hs]; exact ht s hs
  · rw [c7] at hk'
    have := h4.2
    rw [kd5_294 S (by omega), kd5_294 S (by omega)]
    exact hk k hk'
/-- behind the lines -/
def txZ (S : Nat → Nat → Int32) : Nat → Nat → Int32 := zs (txR (S 301) (cTp S) S (cTp S)).1.1 289 (upd (txR (S 301) (cTp S) S (cTp S)).1.2 20 0)
def o_text (S : Nat → Nat → Int32) : Int32 := if 0 < (txR (S 301) (cTp S) S (cTp S)).1.2 25 then -10 - (txR (S 301) (cTp S) S (cTp S)).1.2 26 else nI (txR (S 301) (cTp S) S (cTp S)).2
def w_text (S : Nat → Nat → Int32) : Nat → Nat → Int32 := if 0 < (txR (S 301) (cTp S) S (cTp S)).1.2 25 then txZ S else w_kd (txZ S)
theorem da_txZ {S : Nat → Nat → Int32} (hn : cTp S ≤ 400) (hT : ∀ s, s < 4 → ∃ j : Nat, j < 12 ∧ S 298 s = nI j) : DA (txZ S) (txZ S 289) := by
  have h := (tx_all (T := S 301) hn hT (cTp S)).2.1
  unfold txZ
  generalize (txR (S 301) (cTp S) S (cTp S)) = y at h
  rw [zs_at]
  exact ⟨⟨h.1.1, h.1.2.1, h.1.2.2.1, h.1.2.2.2⟩, h.2.1, h.2.2⟩
section M23
variable {g : ZG} {h : ZH} {S A C : Nat → Nat → Int32} {fo : Nat → Int32}
theorem tm_firstDraftF (hM : MS h.2.1 h.2.2.2) : Zd g mX5_firstDraft 1 0 0 [.ref 289] (zW h (zs S 289 fo)) none (zW h (zs S 289 (upd (upd (upd (upd fo 9 0) 11 0) 14 0) 16 0))) := by
  have e0 := tm_firstDraft (g := g) (h := h) (S := zs S 289 fo) hM
  rw [zs_zu, zs_zu, zs_zu, zs_zu] at e0
  exact e0
theorem tm_text (hM : MS h.2.1 h.2.2.2) (hI : AI S) (hT : ∀ s, s < 4 → ∃ j : Nat, j < 12 ∧ S 298 s = nI j) : Zd g mX5_text 9 0 0 [.ref 289] (zW h S) (some (.int (o_text S))) (zW h (w_text S)) := by
  refine zc_of [some (.ref 289), none] rfl (Nat.le_of_ble_eq_true rfl) rfl ?_
  have hn := hI.tp400
  refine zt_S (zs_own S 289) ?_
  refine zt_iconst (pc := 0) dX5_text_0 (v := 0) rfl ?_
  refine zt_istore_n (pc := 1) (L' := [some (.ref 289), some (.int 0)]) dX5_text_1 rfl (by decide) rfl rfl ?_
  refine zt_join (S' := zs (txR (S 301) (cTp S) S (cTp S)).1.1 289 (txR (S 301) (cTp S) S (cTp S)).1.2) (pc' := 44) (L' := [some (.ref 289), some (.int (nI ((txR (S 301) (cTp S) S (cTp S)).2)))]) (st' := []) ?_ (fun hj_44 => ?_)
  · refine zt_aload_n (pc := 44) dX5_text_44 rfl rfl ?_
    refine zt_iconst (pc := 45) dX5_text_45 (v := 0) rfl ?_
    refine wt_putIS (pc := 46) 5 20 dX5_text_46 q1292 rfl (ms_o hM) ?_
    refine zt_S (S' := txZ S) rfl ?_
    refine zt_aload_n (pc := 49) dX5_text_49 rfl rfl ?_
    refine wt_getI (pc := 50) 5 25 (v := (txR (S 301) (cTp S) S (cTp S)).1.2 25) dX5_text_50 q1297 rfl (ms_o hM) ((congrFun (zs_at _ _ _) 25).trans (upd_ne (by decide))) ?_
    refine zt_if_le (pc := 53) 64 dX5_text_53 (by decide) (fun c_53 => ?_) (fun c_53 => ?_)
    · refine zt_aload_n (pc := 64) dX5_text_64 rfl rfl ?_
      refine wt_callV (pc := 65) mX5_keepDraft 0 5 (rc' := 0) (rs' := 0) dX5_text_65 q1209 mi_X5_keepDraft rfl rfl (ms_o hM) (tm_keepDraft (S := txZ S) hM (da_txZ hn hT).1.1.1 (da_txZ hn hT).1.1.2 (ci_kd5 (da_txZ hn hT))) rfl rfl rfl rfl rfl rfl ?_
      refine zt_iload_n (pc := 68) dX5_text_68 rfl rfl ?_
      exact zt_ireturn (pc := 69) dX5_text_69 rfl (⟨by rw [o_text, if_neg (Int32.not_lt.mpr c_53)], by rw [w_text, if_neg (Int32.not_lt.mpr c_53)]⟩)
    · refine zt_bipush (pc := 56) dX5_text_56 (v := (-10)) rfl ?_
      refine zt_aload_n (pc := 58) dX5_text_58 rfl rfl ?_
      refine wt_getI (pc := 59) 5 26 (v := (txR (S 301) (cTp S) S (cTp S)).1.2 26) dX5_text_59 q1298 rfl (ms_o hM) ((congrFun (zs_at _ _ _) 26).trans (upd_ne (by decide))) ?_
      refine zt_isub (pc := 62) dX5_text_62 ?_
      exact zt_ireturn (pc := 63) dX5_text_63 rfl (⟨by rw [o_text, if_pos (Int32.not_le.mp c_53)], by rw [w_text, if_pos (Int32.not_le.mp c_53)]⟩)
  · refine zt_aload_n (pc := 2) dX5_text_2 rfl rfl ?_
    refine zt_iconst (pc := 3) dX5_text_3 (v := 0) rfl ?_
    refine wt_putIS (pc := 4) 5 25 dX5_text_4 q1297 rfl (ms_o hM) ?_
    refine zt_aload_n (pc := 7) dX5_text_7 rfl rfl ?_
    refine zt_iconst (pc := 8) dX5_text_8 (v := 0) rfl ?_
    refine wt_putIS (pc := 9) 5 21 dX5_text_9 q1293 rfl (ms_o hM) ?_
    refine zt_aload_n (pc := 12) dX5_text_12 rfl rfl ?_
    refine wt_callV (pc := 13) mX5_firstDraft 0 5 (rc' := 0) (rs' := 0) dX5_text_13 q1205 mi_X5_firstDraft rfl rfl (ms_o hM) (tm_firstDraftF (S := S) (fo := upd (upd (S 289) 25 0) 21 0) hM) rfl rfl rfl rfl rfl rfl ?_
    refine zt_aload_n (pc := 16) dX5_text_16 rfl rfl ?_
    refine wt_callV (pc := 17) mX5_next 0 5 (rc' := 0) (rs' := 0) dX5_text_17 q1422 mi_X5_next rfl rfl (ms_o hM) (tm_nx (S := S) (fo := tx0 (S 289)) hM (S 301) (cTp S) hn ((tx0_at (by decide)).trans hI.tp) rfl (pi_tx0 _ _)) rfl rfl rfl rfl rfl rfl ?_
    refine zt_for (pc := 20) (fun i => zs (txR (S 301) (cTp S) S i).1.1 289 (txR (S 301) (cTp S) S i).1.2) (fun i => [some (.ref 289), some (.int (nI ((txR (S 301) (cTp S) S i).2)))]) (cTp S) rfl rfl ?_ (fun i hi_i ih_i => ?_)
    · show Zt _ _ _ _ _ _ (zW h (zs (txR (S 301) (cTp S) S (cTp S)).1.1 289 (txR (S 301) (cTp S) S (cTp S)).1.2)) 20 [some (.ref 289), some (.int (nI ((txR (S 301) (cTp S) S (cTp S)).2)))] []
      refine zt_aload_n (pc := 20) dX5_text_20 rfl rfl ?_
      refine wt_getI (pc := 21) 5 25 (v := ((txR (S 301) (cTp S) S (cTp S)).1.2) 25) dX5_text_21 q1297 rfl (ms_o hM) (congrFun (zs_at _ _ _) 25) ?_
      refine zt_if_ne (pc := 24) 44 dX5_text_24 (by decide) (fun c_24 => ?_) (fun c_24 => ?_)
      · exact hj_44
      · refine zt_aload_n (pc := 27) dX5_text_27 rfl rfl ?_
        refine wt_getI (pc := 28) 5 23 (v := ((txR (S 301) (cTp S) S (cTp S)).1.2) 23) dX5_text_28 q1295 rfl (ms_o hM) (congrFun (zs_at _ _ _) 23) ?_
        refine zt_if_eq (pc := 31) 44 dX5_text_31 (by decide) (fun c_31 => ?_) (fun c_31 => absurd ⟨c_24, c_31⟩ (tx_done hn hT))
        exact hj_44
    · show Zt _ _ _ _ _ _ (zW h (zs (txR (S 301) (cTp S) S i).1.1 289 (txR (S 301) (cTp S) S i).1.2)) 20 [some (.ref 289), some (.int (nI ((txR (S 301) (cTp S) S i).2)))] []
      have ha := tx_all (T := (S 301)) hn hT i
      refine zt_aload_n (pc := 20) dX5_text_20 rfl rfl ?_
      refine wt_getI (pc := 21) 5 25 (v := ((txR (S 301) (cTp S) S i).1.2) 25) dX5_text_21 q1297 rfl (ms_o hM) (congrFun (zs_at _ _ _) 25) ?_
      refine zt_if_ne (pc := 24) 44 dX5_text_24 (by decide) (fun c_24 => ?_) (fun c_24 => ?_)
      · have hend := txR_end (N := cTp S) hi_i (fun z => c_24 z.1)
        refine zt_SL (by rw [hend]) (by rw [hend]) ?_
        exact hj_44
      · refine zt_aload_n (pc := 27) dX5_text_27 rfl rfl ?_
        refine wt_getI (pc := 28) 5 23 (v := ((txR (S 301) (cTp S) S i).1.2) 23) dX5_text_28 q1295 rfl (ms_o hM) (congrFun (zs_at _ _ _) 23) ?_
        refine zt_if_eq (pc := 31) 44 dX5_text_31 (by decide) (fun c_31 => ?_) (fun c_31 => ?_)
        · have hend := txR_end (N := cTp S) hi_i (fun z => z.2 c_31)
          refine zt_SL (by rw [hend]) (by rw [hend]) ?_
          exact hj_44
        · refine zt_aload_n (pc := 34) dX5_text_34 rfl rfl ?_
          refine wt_callV (pc := 35) mX5_readLine 0 5 (rc' := 0) (rs' := 0) dX5_text_35 q1438 mi_X5_readLine rfl rfl (ms_o hM) (tm_readLine (S := (txR (S 301) (cTp S) S i).1.1) (fo := (txR (S 301) (cTp S) S i).1.2) hM (S 301) (cTp S) hn ((ha.2.2.2.2 20 (by decide)).trans hI.tp) (ha.2.2.2.1 301 (by decide)) ha.1 ha.2.1.1 ha.2.2.1) rfl rfl rfl rfl rfl rfl ?_
          refine zt_iincN (pc := 38) (b := (txR (S 301) (cTp S) S i).2 + 1) (L' := [some (.ref 289), some (.int (nI ((txR (S 301) (cTp S) S i).2 + 1)))]) dX5_text_38 rfl (zinc1 ((txR (S 301) (cTp S) S i).2)) (by decide) rfl rfl ?_
          refine zt_goto (pc := 41) 20 dX5_text_41 (by decide) ?_
          have hst : txR (S 301) (cTp S) S (i + 1) = (w_ln (S 301) (cTp S) (txR (S 301) (cTp S) S i).1, (txR (S 301) (cTp S) S i).2 + 1) := if_pos ⟨c_24, c_31⟩
          exact zt_SL (by rw [hst]) (by rw [hst]) ih_i

end M23