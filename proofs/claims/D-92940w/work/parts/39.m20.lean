/-! THE TWIN, part 20: a line -/
set_option maxRecDepth 100000
/-- the draft's counts -/
def DI (fo : Nat → Int32) : Prop := (fo 9 = nI (dN 9 fo) ∧ dN 9 fo ≤ 8) ∧ (fo 11 = nI (dN 11 fo) ∧ dN 11 fo ≤ 12) ∧ (fo 14 = nI (dN 14 fo) ∧ dN 14 fo ≤ 4) ∧ (fo 16 = nI (dN 16 fo) ∧ dN 16 fo ≤ 6)
theorem DI.same {fo f : Nat → Int32} (h : DI fo) (e : ∀ k, k < 21 ∨ 26 < k → f k = fo k) : DI f := by
  unfold DI dN at h ⊢
  rw [e 9 (by decide), e 11 (by decide), e 14 (by decide), e 16 (by decide)]
  exact h
def lnK (T : Nat → Int32) (n : Nat) (fo : Nat → Int32) : Int32 := if fo 23 = 1 then s_nameN T n (qN fo) (pN fo) else -4
def ln1 (T : Nat → Int32) (n : Nat) (fo : Nat → Int32) : Nat → Int32 := f_needs fo (bI (((0 : Int64) ≤ (lnK T n fo).toInt64 ∧ (lnK T n fo).toInt64 ≤ 3) ∨ ((10 : Int64) ≤ (lnK T n fo).toInt64 ∧ (lnK T n fo).toInt64 ≤ 12))) 2
def ln2 (T : Nat → Int32) (n : Nat) (fo : Nat → Int32) : Nat → Int32 := f_needs (ln1 T n fo) (bI (¬ lnK T n fo = 10 ∨ dN 9 fo < 8)) 5
def ln3 (T : Nat → Int32) (n : Nat) (fo : Nat → Int32) : Nat → Int32 := f_needs (ln2 T n fo) (bI (¬ lnK T n fo = 11 ∨ dN 11 fo < 12)) 5
def ln4 (T : Nat → Int32) (n : Nat) (fo : Nat → Int32) : Nat → Int32 := f_needs (ln3 T n fo) (bI (¬ lnK T n fo = 12 ∨ dN 14 fo < 4)) 5
def ln5 (T : Nat → Int32) (n : Nat) (fo : Nat → Int32) : Nat → Int32 := f_needs (ln4 T n fo) (bI (¬ ((0 : Int64) ≤ (lnK T n fo).toInt64 ∧ (lnK T n fo).toInt64 ≤ 3) ∨ dN 16 fo < 6)) 5
def ln6 (T : Nat → Int32) (n : Nat) (fo : Nat → Int32) : Nat → Int32 := nx T n (ln5 T n fo)
section
variable {T : Nat → Int32} {n : Nat} {fo : Nat → Int32}
theorem gd_ln1 (h : TI n fo) : Gd n fo (ln1 T n fo) := (Gd.refl h).gnd (by decide)
theorem gd_ln2 (h : TI n fo) : Gd n fo (ln2 T n fo) := (gd_ln1 h).gnd (by decide)
theorem gd_ln3 (h : TI n fo) : Gd n fo (ln3 T n fo) := (gd_ln2 h).gnd (by decide)
theorem gd_ln4 (h : TI n fo) : Gd n fo (ln4 T n fo) := (gd_ln3 h).gnd (by decide)
theorem gd_ln5 (h : TI n fo) : Gd n fo (ln5 T n fo) := (gd_ln4 h).gnd (by decide)
theorem gd_ln6 (hn : n ≤ 400) (h : TI n fo) : Gd n fo (ln6 T n fo) := (gd_ln5 h).gnx hn
theorem ln6_ok (h : ln6 T n fo 25 = 0) : (((0 : Int64) ≤ (lnK T n fo).toInt64 ∧ (lnK T n fo).toInt64 ≤ 3) ∨ ((10 : Int64) ≤ (lnK T n fo).toInt64 ∧ (lnK T n fo).toInt64 ≤ 12)) ∧ (¬ lnK T n fo = 10 ∨ dN 9 fo < 8) ∧ (¬ lnK T n fo = 11 ∨ dN 11 fo < 12) ∧ (¬ lnK T n fo = 12 ∨ dN 14 fo < 4) ∧ (¬ ((0 : Int64) ≤ (lnK T n fo).toInt64 ∧ (lnK T n fo).toInt64 ≤ 3) ∨ dN 16 fo < 6) ∧ fo 25 = 0 := by
  have a5 := needs_stuck (by decide) (nx_stuck h)
  have a4 := needs_stuck (by decide) a5.1
  have a3 := needs_stuck (by decide) a4.1
  have a2 := needs_stuck (by decide) a3.1
  have a1 := needs_stuck (by decide) a2.1
  exact ⟨bI_ne0 a1.2, bI_ne0 a2.2, bI_ne0 a3.2, bI_ne0 a4.2, bI_ne0 a5.2, a1.1⟩
theorem in3 {w : Int32} (h : (10 : Int64) ≤ w.toInt64 ∧ w.toInt64 ≤ 12) : w = 10 ∨ w = 11 ∨ w = 12 := by
  have h1 := Int64.le_iff_toInt_le.mp h.1
  have h2 := Int64.le_iff_toInt_le.mp h.2
  rw [Int32.toInt_toInt64] at h1 h2
  rw [show (10 : Int64).toInt = 10 by decide] at h1
  rw [show (12 : Int64).toInt = 12 by decide] at h2
  have : w.toInt = 10 ∨ w.toInt = 11 ∨ w.toInt = 12 := by omega
  rcases this with e | e | e
  · exact Or.inl (Int32.toInt_inj.mp e)
  · exact Or.inr (Or.inl (Int32.toInt_inj.mp e))
  · exact Or.inr (Or.inr (Int32.toInt_inj.mp e))
end
def w_th (T : Nat → Int32) (n : Nat) (S : Nat → Nat → Int32) (f : Nat → Int32) : WF := if f_rm T n 0 f 25 = 0 then (zu S 295 (dN 9 f) (v_rm T n 0 f), upd (f_rm T n 0 f) 9 (f_rm T n 0 f 9 + 1)) else (S, f_rm T n 0 f)
def w_wd (T : Nat → Int32) (n : Nat) (S : Nat → Nat → Int32) (f : Nat → Int32) : WF := if f_rn T n 0 (f 11 - 1) f 25 = 0 then (zu S 298 (dN 14 f) (v_rn 0 (f 11 - 1) f), upd (f_rn T n 0 (f 11 - 1) f) 14 (f_rn T n 0 (f 11 - 1) f 14 + 1)) else (S, f_rn T n 0 (f 11 - 1) f)
def lnC (T : Nat → Int32) (n : Nat) (k : Int32) (S : Nat → Nat → Int32) (f : Nat → Int32) : WF := if k = 10 then w_th T n S f else if k = 11 then w_me T n (S, f) else if k = 12 then w_wd T n S f else w_rk T n k (S, f)
def lnF (T : Nat → Int32) (n : Nat) (f : Nat → Int32) : Nat → Int32 := nx T n (f_needs f (bI (f 23 = 3)) 2)
/-- behind a line -/
def w_ln (T : Nat → Int32) (n : Nat) (x : WF) : WF := if 0 < ln6 T n x.2 25 then (x.1, ln6 T n x.2) else ((lnC T n (lnK T n x.2) x.1 (ln6 T n x.2)).1, lnF T n (lnC T n (lnK T n x.2) x.1 (ln6 T n x.2)).2)
/-- what a line leaves -/
def LG (n : Nat) (S : Nat → Nat → Int32) (fo : Nat → Int32) (y : WF) : Prop := (∀ a, a < 295 ∨ 299 < a → y.1 a = S a) ∧ (∀ k, k < 9 ∨ (16 < k ∧ k < 21) ∨ 26 < k → y.2 k = fo k) ∧ TI n y.2 ∧ pN fo ≤ pN y.2 ∧ (y.2 25 = 0 → fo 25 = 0) ∧ (fo 25 = 0 ∨ 0 < fo 25 → y.2 25 = 0 ∨ 0 < y.2 25)
theorem LG.of {n : Nat} {S S' : Nat → Nat → Int32} {fo f : Nat → Int32} (hg : Gd n fo f) (hS : ∀ a, a < 295 ∨ 299 < a → S' a = S a) : LG n S fo (S', f) :=
  ⟨hS, fun k hk => hg.at_ k (by omega), hg.ti, hg.mono, hg.stuck, hg.fz⟩
theorem LG.up {n : Nat} {S S' : Nat → Nat → Int32} {fo f : Nat → Int32} {k : Nat} {v : Int32} (hg : Gd n fo f) (hk : 9 ≤ k ∧ k ≤ 16) (hS : ∀ a, a < 295 ∨ 299 < a → S' a = S a) : LG n S fo (S', upd f k v) := by
  have e : ∀ j, j < 9 ∨ 16 < j → upd f k v j = f j := fun j hj => upd_ne (by omega)
  refine ⟨hS, fun j hj => (e j (by omega)).trans (hg.at_ j (by omega)), hg.ti.same (e 21 (by decide)) (e 22 (by decide)), ?_, ?_, ?_⟩
  · show pN fo ≤ pN (upd f k v)
    have := hg.mono
    unfold pN at this ⊢
    rw [e 21 (by decide)]; exact this
  · show upd f k v 25 = 0 → _
    rw [e 25 (by decide)]; exact hg.stuck
  · show _ → upd f k v 25 = 0 ∨ 0 < upd f k v 25
    rw [e 25 (by decide)]; exact hg.fz
theorem zu_oth {S : Nat → Nat → Int32} {a k : Nat} {v : Int32} (ha : 295 ≤ a ∧ a ≤ 299) : ∀ b, b < 295 ∨ 299 < b → zu S a k v b = S b := fun b hb => by
  funext j
  exact zu_ne1 (by omega)
theorem zu_oth2 {S S' : Nat → Nat → Int32} {a k : Nat} {v : Int32} (ha : 295 ≤ a ∧ a ≤ 299) (h : ∀ b, b < 295 ∨ 299 < b → S' b = S b) : ∀ b, b < 295 ∨ 299 < b → zu S' a k v b = S b := fun b hb => (zu_oth ha b hb).trans (h b hb)
theorem lg_C {T : Nat → Int32} {n : Nat} {k : Int32} {S : Nat → Nat → Int32} {f : Nat → Int32} (hn : n ≤ 400) (h : TI n f) : LG n S f (lnC T n k S f) := by
  have r : ∀ b, b < 295 ∨ 299 < b → S b = S b := fun _ _ => rfl
  have g1 : Gd n f (f_rm T n 0 f) := (Gd.refl h).grm hn
  have g2 : Gd n f (f_me T n f) := gd_me hn h
  have g3 : Gd n f (f_rn T n 0 (f 11 - 1) f) := (Gd.refl h).grn hn
  have g4 : Gd n f (rkR T n f 5).2 := gd_rkR hn h 5
  unfold lnC
  by_cases a : k = 10
  · rw [if_pos a]
    unfold w_th
    by_cases c : f_rm T n 0 f 25 = 0
    · rw [if_pos c]; exact LG.up g1 (by decide) (zu_oth (by decide))
    · rw [if_neg c]; exact LG.of g1 r
  · rw [if_neg a]
    by_cases b : k = 11
    · rw [if_pos b]
      unfold w_me
      dsimp only
      by_cases c : f_me T n f 25 = 0
      · rw [if_pos c]; exact LG.up g2 (by decide) (zu_oth2 (by decide) (zu_oth (by decide)))
      · rw [if_neg c]; exact LG.of g2 r
    · rw [if_neg b]
      by_cases d : k = 12
      · rw [if_pos d]
        unfold w_wd
        by_cases c : f_rn T n 0 (f 11 - 1) f 25 = 0
        · rw [if_pos c]; exact LG.up g3 (by decide) (zu_oth (by decide))
        · rw [if_neg c]; exact LG.of g3 r
      · rw [if_neg d]
        by_cases c : (rkR T n f 5).2 25 = 0
        · rw [w_rk_pos c]; exact LG.up g4 (by decide) (zu_oth2 (by decide) (zu_oth2 (by decide) (zu_oth2 (by decide) (zu_oth2 (by decide) (zu_oth (by decide))))))
        · rw [w_rk_neg c]; exact LG.of g4 r
section M20
variable {g : ZG} {h : ZH} {S A C : Nat → Nat → Int32} {fo : Nat → Int32}
theorem tm_ln_tail (hM : MS h.2.1 h.2.2.2) (T : Nat → Int32) (n : Nat) (hn : n ≤ 400) (h20 : fo 20 = nI n) (h301 : S 301 = T) (hP : TI n fo) : Zt g mX5_readLine 6 0 0 (fun r h2 => r = none ∧ h2 = zW h (zs S 289 (lnF T n fo))) (zW h (zs S 289 fo)) 279 [some (.ref 289), none, none] [] := by
  refine zt_aload_n (pc := 279) dX5_readLine_279 rfl rfl ?_
  refine wt_getI (pc := 280) 5 25 (v := fo 25) dX5_readLine_280 q1297 rfl (ms_o hM) (congrFun (zs_at _ _ _) 25) ?_
  refine zt_if_ne (pc := 283) 304 dX5_readLine_283 (by decide) (fun c_283 => ?_) (fun c_283 => ?_)
  · refine zt_f (f' := f_needs fo (bI (fo 23 = 3)) 2) ((f_needs_no c_283).symm) ?_
    refine zt_aload_n (pc := 304) dX5_readLine_304 rfl rfl ?_
    refine wt_callV (pc := 305) mX5_next 0 5 (rc' := 0) (rs' := 0) dX5_readLine_305 q1422 mi_X5_next rfl rfl (ms_o hM) (tm_nx (fo := f_needs fo (bI (fo 23 = 3)) 2) hM T n hn ((((Gd.refl hP).gnd (by decide)).at_ 20 (by decide)).trans h20) h301 (((Gd.refl hP).gnd (by decide)).ti.1)) rfl rfl rfl rfl rfl rfl ?_
    exact zt_return (pc := 308) dX5_readLine_308 rfl (⟨rfl, rfl⟩)
  · refine zt_aload_n (pc := 286) dX5_readLine_286 rfl rfl ?_
    refine zt_aload_n (pc := 287) dX5_readLine_287 rfl rfl ?_
    refine wt_getI (pc := 288) 5 23 (v := fo 23) dX5_readLine_288 q1295 rfl (ms_o hM) (congrFun (zs_at _ _ _) 23) ?_
    refine zt_iconst (pc := 291) dX5_readLine_291 (v := 3) rfl ?_
    refine zt_icmp_ne (pc := 292) 299 dX5_readLine_292 (by decide) (fun c_292 => ?_) (fun c_292 => ?_)
    · refine zt_iconst (pc := 299) dX5_readLine_299 (v := 0) rfl ?_
      refine zt_top (pc := 300) (bI (fo 23 = 3)) ((bI_f c_292).symm) ?_
      refine zt_iconst (pc := 300) dX5_readLine_300 (v := 2) rfl ?_
      refine wt_callV (pc := 301) mX5_needs 2 5 (rc' := 0) (rs' := 0) dX5_readLine_301 q1434 mi_X5_needs rfl rfl (ms_o hM) (tm_needsF hM (bI (fo 23 = 3)) 2) rfl rfl rfl rfl rfl rfl ?_
      refine zt_f (f' := f_needs fo (bI (fo 23 = 3)) 2) rfl ?_
      refine zt_aload_n (pc := 304) dX5_readLine_304 rfl rfl ?_
      refine wt_callV (pc := 305) mX5_next 0 5 (rc' := 0) (rs' := 0) dX5_readLine_305 q1422 mi_X5_next rfl rfl (ms_o hM) (tm_nx (fo := f_needs fo (bI (fo 23 = 3)) 2) hM T n hn ((((Gd.refl hP).gnd (by decide)).at_ 20 (by decide)).trans h20) h301 (((Gd.refl hP).gnd (by decide)).ti.1)) rfl rfl rfl rfl rfl rfl ?_
      exact zt_return (pc := 308) dX5_readLine_308 rfl (⟨rfl, rfl⟩)
    · refine zt_iconst (pc := 295) dX5_readLine_295 (v := 1) rfl ?_
      refine zt_goto (pc := 296) 300 dX5_readLine_296 (by decide) ?_
      refine zt_top (pc := 300) (bI (fo 23 = 3)) ((bI_t c_292).symm) ?_
      refine zt_iconst (pc := 300) dX5_readLine_300 (v := 2) rfl ?_
      refine wt_callV (pc := 301) mX5_needs 2 5 (rc' := 0) (rs' := 0) dX5_readLine_301 q1434 mi_X5_needs rfl rfl (ms_o hM) (tm_needsF hM (bI (fo 23 = 3)) 2) rfl rfl rfl rfl rfl rfl ?_
      refine zt_f (f' := f_needs fo (bI (fo 23 = 3)) 2) rfl ?_
      refine zt_aload_n (pc := 304) dX5_readLine_304 rfl rfl ?_
      refine wt_callV (pc := 305) mX5_next 0 5 (rc' := 0) (rs' := 0) dX5_readLine_305 q1422 mi_X5_next rfl rfl (ms_o hM) (tm_nx (fo := f_needs fo (bI (fo 23 = 3)) 2) hM T n hn ((((Gd.refl hP).gnd (by decide)).at_ 20 (by decide)).trans h20) h301 (((Gd.refl hP).gnd (by decide)).ti.1)) rfl rfl rfl rfl rfl rfl ?_
      exact zt_return (pc := 308) dX5_readLine_308 rfl (⟨rfl, rfl⟩)


theorem tm_readLine (hM : MS h.2.1 h.2.2.2) (T : Nat → Int32) (n : Nat) (hn : n ≤ 400) (h20 : fo 20 = nI n) (h301 : S 301 = T) (hP : TI n fo) (hD : DI fo) (hF : fo 25 = 0 ∨ 0 < fo 25) : Zd g mX5_readLine 6 0 0 [.ref 289] (zW h (zs S 289 fo)) none (zW h (zs (w_ln T n (S, fo)).1 289 (w_ln T n (S, fo)).2)) := by
  refine zc_of [some (.ref 289), none, none] rfl (Nat.le_of_ble_eq_true rfl) rfl ?_
  have hb9 := hD.1.2
  have hb11 := hD.2.1.2
  have hb14 := hD.2.2.1.2
  have hb16 := hD.2.2.2.2
  refine zt_join (S' := zs S 289 fo) (pc' := 18) (L' := [some (.ref 289), some (.int (lnK T n fo)), none]) (st' := []) ?_ (fun hj_18 => ?_)
  · refine zt_join (S' := zs S 289 (ln1 T n fo)) (pc' := 54) (L' := [some (.ref 289), some (.int (lnK T n fo)), none]) (st' := []) ?_ (fun hj_54 => ?_)
    · refine zt_join (S' := zs S 289 (ln2 T n fo)) (pc' := 79) (L' := [some (.ref 289), some (.int (lnK T n fo)), none]) (st' := []) ?_ (fun hj_79 => ?_)
      · refine zt_join (S' := zs S 289 (ln3 T n fo)) (pc' := 104) (L' := [some (.ref 289), some (.int (lnK T n fo)), none]) (st' := []) ?_ (fun hj_104 => ?_)
        · refine zt_join (S' := zs S 289 (ln4 T n fo)) (pc' := 128) (L' := [some (.ref 289), some (.int (lnK T n fo)), none]) (st' := []) ?_ (fun hj_128 => ?_)
          · refine zt_join (S' := zs S 289 (ln5 T n fo)) (pc' := 159) (L' := [some (.ref 289), some (.int (lnK T n fo)), none]) (st' := []) ?_ (fun hj_159 => ?_)
            · refine zt_aload_n (pc := 159) dX5_readLine_159 rfl rfl ?_
              refine wt_callV (pc := 160) mX5_next 0 5 (rc' := 0) (rs' := 0) dX5_readLine_160 q1422 mi_X5_next rfl rfl (ms_o hM) (tm_nx (fo := ln5 T n fo) hM T n hn (((gd_ln5 hP).at_ 20 (by decide)).trans h20) h301 ((gd_ln5 hP).ti.1)) rfl rfl rfl rfl rfl rfl ?_
              refine zt_f (f' := ln6 T n fo) rfl ?_
              refine zt_aload_n (pc := 163) dX5_readLine_163 rfl rfl ?_
              refine wt_getI (pc := 164) 5 25 (v := (ln6 T n fo) 25) dX5_readLine_164 q1297 rfl (ms_o hM) (congrFun (zs_at _ _ _) 25) ?_
              refine zt_if_le (pc := 167) 171 dX5_readLine_167 (by decide) (fun c_167 => ?_) (fun c_167 => ?_)
              · have h0 : ln6 T n fo 25 = 0 := ((gd_ln6 hn hP).fz hF).elim id (fun z => absurd z (Int32.not_lt.mpr c_167))
                have hok := ln6_ok h0
                have ht6 := (gd_ln6 (T := T) hn hP).ti
                have h206 : ln6 T n fo 20 = nI n := ((gd_ln6 hn hP).at_ 20 (by decide)).trans h20
                have hD6 := hD.same (gd_ln6 (T := T) hn hP).at_
                have e9 : dN 9 (ln6 T n fo) = dN 9 fo := congrArg Int32.toNatClampNeg ((gd_ln6 hn hP).at_ 9 (by decide))
                have e11 : dN 11 (ln6 T n fo) = dN 11 fo := congrArg Int32.toNatClampNeg ((gd_ln6 hn hP).at_ 11 (by decide))
                have e14 : dN 14 (ln6 T n fo) = dN 14 fo := congrArg Int32.toNatClampNeg ((gd_ln6 hn hP).at_ 14 (by decide))
                have e16 : dN 16 (ln6 T n fo) = dN 16 fo := congrArg Int32.toNatClampNeg ((gd_ln6 hn hP).at_ 16 (by decide))
                have hw : w_ln T n (S, fo) = ((lnC T n (lnK T n fo) S (ln6 T n fo)).1, lnF T n (lnC T n (lnK T n fo) S (ln6 T n fo)).2) := by
                  unfold w_ln
                  dsimp only
                  rw [if_neg (Int32.not_lt.mpr c_167)]
                have hL := lg_C (T := T) (k := lnK T n fo) (S := S) hn ht6
                have hjj := tm_ln_tail (g := g) (h := h) (S := (lnC T n (lnK T n fo) S (ln6 T n fo)).1) (fo := (lnC T n (lnK T n fo) S (ln6 T n fo)).2) hM T n hn ((hL.2.1 20 (by decide)).trans h206) ((hL.1 301 (by decide)).trans h301) hL.2.2.1
                refine zt_iload_n (pc := 171) dX5_readLine_171 rfl rfl ?_
                refine zt_bipush (pc := 172) dX5_readLine_172 (v := 10) rfl ?_
                refine zt_icmp_ne (pc := 174) 213 dX5_readLine_174 (by decide) (fun c_174 => ?_) (fun c_174 => ?_)
                · refine zt_iload_n (pc := 213) dX5_readLine_213 rfl rfl ?_
                  refine zt_bipush (pc := 214) dX5_readLine_214 (v := 11) rfl ?_
                  refine zt_icmp_ne (pc := 216) 226 dX5_readLine_216 (by decide) (fun c_216 => ?_) (fun c_216 => ?_)
                  · refine zt_iload_n (pc := 226) dX5_readLine_226 rfl rfl ?_
                    refine zt_bipush (pc := 227) dX5_readLine_227 (v := 12) rfl ?_
                    refine zt_icmp_ne (pc := 229) 274 dX5_readLine_229 (by decide) (fun c_229 => ?_) (fun c_229 => ?_)
                    · refine zt_aload_n (pc := 274) dX5_readLine_274 rfl rfl ?_
                      refine zt_iload_n (pc := 275) dX5_readLine_275 rfl rfl ?_
                      refine wt_callV (pc := 276) mX5_readKind 1 5 (rc' := 0) (rs' := 0) dX5_readLine_276 q1473 mi_X5_readKind rfl rfl (ms_o hM) (tm_readKind (S := S) (fo := ln6 T n fo) hM T n hn h206 h301 ht6 hD6.2.2.2.1 (by have := hok.2.2.2.2.1.resolve_left (fun z => z (hok.1.elim id (fun y => absurd (in3 y) (fun v => v.elim c_174 (fun v => v.elim c_216 c_229))))); omega) (lnK T n fo)) rfl rfl rfl rfl rfl rfl ?_
                      refine zt_drop (L' := [some (.ref 289), none, none]) 1 rfl ?_
                      refine zt_S (S' := zs (lnC T n (lnK T n fo) S (ln6 T n fo)).1 289 (lnC T n (lnK T n fo) S (ln6 T n fo)).2) (by rw [lnC, if_neg c_174, if_neg c_216, if_neg c_229]) ?_
                      rw [hw]
                      dsimp only
                      exact hjj
                    · refine zt_aload_n (pc := 232) dX5_readLine_232 rfl rfl ?_
                      refine zt_iconst (pc := 233) dX5_readLine_233 (v := 0) rfl ?_
                      refine zt_aload_n (pc := 234) dX5_readLine_234 rfl rfl ?_
                      refine wt_getI (pc := 235) 5 11 (v := (ln6 T n fo) 11) dX5_readLine_235 q1283 rfl (ms_o hM) (congrFun (zs_at _ _ _) 11) ?_
                      refine zt_iconst (pc := 238) dX5_readLine_238 (v := 1) rfl ?_
                      refine zt_isub (pc := 239) dX5_readLine_239 ?_
                      refine wt_callV (pc := 240) mX5_readNumber 2 5 (rc' := 0) (rs' := 0) dX5_readLine_240 q1469 mi_X5_readNumber rfl rfl (ms_o hM) (tm_readNumber (S := S) (fo := ln6 T n fo) hM T n hn h206 h301 ht6.1 0 (ln6 T n fo 11 - 1)) rfl rfl rfl rfl rfl rfl ?_
                      refine zt_istore_n (pc := 243) (L' := [some (.ref 289), some (.int (lnK T n fo)), some (.int (v_rn 0 (ln6 T n fo 11 - 1) (ln6 T n fo)))]) dX5_readLine_243 rfl (by decide) rfl rfl ?_
                      refine zt_aload_n (pc := 244) dX5_readLine_244 rfl rfl ?_
                      refine wt_getI (pc := 245) 5 25 (v := (f_rn T n 0 (ln6 T n fo 11 - 1) (ln6 T n fo)) 25) dX5_readLine_245 q1297 rfl (ms_o hM) (congrFun (zs_at _ _ _) 25) ?_
                      refine zt_if_ne (pc := 248) 271 dX5_readLine_248 (by decide) (fun c_248 => ?_) (fun c_248 => ?_)
                      · refine zt_goto (pc := 271) 279 dX5_readLine_271 (by decide) ?_
                        refine zt_drop (L' := [some (.ref 289), none, some (.int (v_rn 0 (ln6 T n fo 11 - 1) (ln6 T n fo)))]) 1 rfl ?_
                        refine zt_drop (L' := [some (.ref 289), none, none]) 2 rfl ?_
                        refine zt_S (S' := zs (lnC T n (lnK T n fo) S (ln6 T n fo)).1 289 (lnC T n (lnK T n fo) S (ln6 T n fo)).2) (by rw [lnC, if_neg c_174, if_neg c_216, if_pos c_229, w_wd, if_neg c_248]) ?_
                        rw [hw]
                        dsimp only
                        exact hjj
                      · have hb14 := hok.2.2.2.1.resolve_left (fun z => z c_229)
                        refine zt_aload_n (pc := 251) dX5_readLine_251 rfl rfl ?_
                        refine wt_getR (pc := 252) 5 15 dX5_readLine_252 q1287 rfl (ms_o hM) (mr_dTarget hM) ?_
                        refine zt_aload_n (pc := 255) dX5_readLine_255 rfl rfl ?_
                        refine wt_getI (pc := 256) 5 14 (v := nI (dN 14 (ln6 T n fo))) dX5_readLine_256 q1286 rfl (ms_o hM) ((congrFun (zs_at _ _ _) 14).trans ((((Gd.refl ht6).grn hn).at_ 14 (by decide)).trans hD6.2.2.1.1)) ?_
                        refine zt_iload_n (pc := 259) dX5_readLine_259 rfl rfl ?_
                        refine wt_iastW (pc := 260) 4 (dN 14 (ln6 T n fo)) (b := 289) rfl dX5_readLine_260 (ma_dTarget hM) rfl rfl (by omega) ?_
                        refine zt_aload_n (pc := 261) dX5_readLine_261 rfl rfl ?_
                        refine zt_dup (pc := 262) dX5_readLine_262 rfl ?_
                        refine wt_getI (pc := 263) 5 14 (v := (f_rn T n 0 (ln6 T n fo 11 - 1) (ln6 T n fo)) 14) dX5_readLine_263 q1286 rfl (ms_o hM) (congrFun (zs_at _ _ _) 14) ?_
                        refine zt_iconst (pc := 266) dX5_readLine_266 (v := 1) rfl ?_
                        refine zt_iadd (pc := 267) dX5_readLine_267 ?_
                        refine wt_putIS (pc := 268) 5 14 dX5_readLine_268 q1286 rfl (ms_o hM) ?_
                        refine zt_goto (pc := 271) 279 dX5_readLine_271 (by decide) ?_
                        refine zt_drop (L' := [some (.ref 289), none, some (.int (v_rn 0 (ln6 T n fo 11 - 1) (ln6 T n fo)))]) 1 rfl ?_
                        refine zt_drop (L' := [some (.ref 289), none, none]) 2 rfl ?_
                        refine zt_S (S' := zs (lnC T n (lnK T n fo) S (ln6 T n fo)).1 289 (lnC T n (lnK T n fo) S (ln6 T n fo)).2) (by rw [lnC, if_neg c_174, if_neg c_216, if_pos c_229, w_wd, if_pos c_248]) ?_
                        rw [hw]
                        dsimp only
                        exact hjj
                  · refine zt_aload_n (pc := 219) dX5_readLine_219 rfl rfl ?_
                    refine wt_callV (pc := 220) mX5_readMeans 0 5 (rc' := 0) (rs' := 0) dX5_readLine_220 q1465 mi_X5_readMeans rfl rfl (ms_o hM) (tm_readMeans (S := S) (fo := ln6 T n fo) hM T n hn h206 h301 ht6 hD6.2.1.1 (by have := hok.2.2.1.resolve_left (fun z => z c_216); omega)) rfl rfl rfl rfl rfl rfl ?_
                    refine zt_goto (pc := 223) 279 dX5_readLine_223 (by decide) ?_
                    refine zt_drop (L' := [some (.ref 289), none, none]) 1 rfl ?_
                    refine zt_S (S' := zs (lnC T n (lnK T n fo) S (ln6 T n fo)).1 289 (lnC T n (lnK T n fo) S (ln6 T n fo)).2) (by rw [lnC, if_neg c_174, if_pos c_216]) ?_
                    rw [hw]
                    dsimp only
                    exact hjj
                · refine zt_aload_n (pc := 177) dX5_readLine_177 rfl rfl ?_
                  refine zt_iconst (pc := 178) dX5_readLine_178 (v := 0) rfl ?_
                  refine wt_callV (pc := 179) mX5_readMarks 1 5 (rc' := 0) (rs' := 0) dX5_readLine_179 q1461 mi_X5_readMarks rfl rfl (ms_o hM) (tm_readMarks (S := S) (fo := ln6 T n fo) hM T n hn h206 h301 ht6 0) rfl rfl rfl rfl rfl rfl ?_
                  refine zt_istore_n (pc := 182) (L' := [some (.ref 289), some (.int (lnK T n fo)), some (.int (v_rm T n 0 (ln6 T n fo)))]) dX5_readLine_182 rfl (by decide) rfl rfl ?_
                  refine zt_aload_n (pc := 183) dX5_readLine_183 rfl rfl ?_
                  refine wt_getI (pc := 184) 5 25 (v := (f_rm T n 0 (ln6 T n fo)) 25) dX5_readLine_184 q1297 rfl (ms_o hM) (congrFun (zs_at _ _ _) 25) ?_
                  refine zt_if_ne (pc := 187) 210 dX5_readLine_187 (by decide) (fun c_187 => ?_) (fun c_187 => ?_)
                  · refine zt_goto (pc := 210) 279 dX5_readLine_210 (by decide) ?_
                    refine zt_drop (L' := [some (.ref 289), none, some (.int (v_rm T n 0 (ln6 T n fo)))]) 1 rfl ?_
                    refine zt_drop (L' := [some (.ref 289), none, none]) 2 rfl ?_
                    refine zt_S (S' := zs (lnC T n (lnK T n fo) S (ln6 T n fo)).1 289 (lnC T n (lnK T n fo) S (ln6 T n fo)).2) (by rw [lnC, if_pos c_174, w_th, if_neg c_187]) ?_
                    rw [hw]
                    dsimp only
                    exact hjj
                  · have hb9 := hok.2.1.resolve_left (fun z => z c_174)
                    refine zt_aload_n (pc := 190) dX5_readLine_190 rfl rfl ?_
                    refine wt_getR (pc := 191) 5 10 dX5_readLine_191 q1282 rfl (ms_o hM) (mr_dThing hM) ?_
                    refine zt_aload_n (pc := 194) dX5_readLine_194 rfl rfl ?_
                    refine wt_getI (pc := 195) 5 9 (v := nI (dN 9 (ln6 T n fo))) dX5_readLine_195 q1281 rfl (ms_o hM) ((congrFun (zs_at _ _ _) 9).trans ((((Gd.refl ht6).grm hn).at_ 9 (by decide)).trans hD6.1.1)) ?_
                    refine zt_iload_n (pc := 198) dX5_readLine_198 rfl rfl ?_
                    refine wt_iastW (pc := 199) 8 (dN 9 (ln6 T n fo)) (b := 289) rfl dX5_readLine_199 (ma_dThing hM) rfl rfl (by omega) ?_
                    refine zt_aload_n (pc := 200) dX5_readLine_200 rfl rfl ?_
                    refine zt_dup (pc := 201) dX5_readLine_201 rfl ?_
                    refine wt_getI (pc := 202) 5 9 (v := (f_rm T n 0 (ln6 T n fo)) 9) dX5_readLine_202 q1281 rfl (ms_o hM) (congrFun (zs_at _ _ _) 9) ?_
                    refine zt_iconst (pc := 205) dX5_readLine_205 (v := 1) rfl ?_
                    refine zt_iadd (pc := 206) dX5_readLine_206 ?_
                    refine wt_putIS (pc := 207) 5 9 dX5_readLine_207 q1281 rfl (ms_o hM) ?_
                    refine zt_goto (pc := 210) 279 dX5_readLine_210 (by decide) ?_
                    refine zt_drop (L' := [some (.ref 289), none, some (.int (v_rm T n 0 (ln6 T n fo)))]) 1 rfl ?_
                    refine zt_drop (L' := [some (.ref 289), none, none]) 2 rfl ?_
                    refine zt_S (S' := zs (lnC T n (lnK T n fo) S (ln6 T n fo)).1 289 (lnC T n (lnK T n fo) S (ln6 T n fo)).2) (by rw [lnC, if_pos c_174, w_th, if_pos c_187]) ?_
                    rw [hw]
                    dsimp only
                    exact hjj
              · exact zt_return (pc := 170) dX5_readLine_170 rfl (⟨rfl, by rw [show w_ln T n (S, fo) = (S, ln6 T n fo) from if_pos (Int32.not_le.mp c_167)]⟩)
            · refine zt_aload_n (pc := 128) dX5_readLine_128 rfl rfl ?_
              refine zt_iload_n (pc := 129) dX5_readLine_129 rfl rfl ?_
              refine zt_i2l (pc := 130) dX5_readLine_130 rfl ?_
              refine zt_lconst (pc := 131) dX5_readLine_131 (v := 0) rfl ?_
              refine zt_ldc2 (pc := 132) dX5_readLine_132 q1458 ?_
              refine wt_callS (pc := 135) mX5_in 3 (rc' := 0) (rs' := 0) dX5_readLine_135 q1223 ms_X5_in (tm_in ((lnK T n fo).toInt64) 0 3) rfl rfl rfl rfl rfl rfl ?_
              refine zt_if_eq (pc := 138) 150 dX5_readLine_138 (by decide) (fun c_138 => ?_) (fun c_138 => ?_)
              · refine zt_iconst (pc := 150) dX5_readLine_150 (v := 1) rfl ?_
                refine zt_goto (pc := 151) 155 dX5_readLine_151 (by decide) ?_
                refine zt_top (pc := 155) (bI (¬ ((0 : Int64) ≤ (lnK T n fo).toInt64 ∧ (lnK T n fo).toInt64 ≤ 3) ∨ dN 16 fo < 6)) ((bI_t (Or.inl (bI_eq0.mp c_138))).symm) ?_
                refine zt_iconst (pc := 155) dX5_readLine_155 (v := 5) rfl ?_
                refine wt_callV (pc := 156) mX5_needs 2 5 (rc' := 0) (rs' := 0) dX5_readLine_156 q1434 mi_X5_needs rfl rfl (ms_o hM) (tm_needsF hM (bI (¬ ((0 : Int64) ≤ (lnK T n fo).toInt64 ∧ (lnK T n fo).toInt64 ≤ 3) ∨ dN 16 fo < 6)) 5) rfl rfl rfl rfl rfl rfl ?_
                refine zt_f (f' := ln5 T n fo) rfl ?_
                exact hj_159
              · refine zt_aload_n (pc := 141) dX5_readLine_141 rfl rfl ?_
                refine wt_getI (pc := 142) 5 16 (v := nI (dN 16 fo)) dX5_readLine_142 q1288 rfl (ms_o hM) ((congrFun (zs_at _ _ _) 16).trans (((gd_ln4 hP).at_ 16 (by decide)).trans hD.2.2.2.1)) ?_
                refine zt_bipush (pc := 145) dX5_readLine_145 (v := 6) rfl ?_
                refine zt_geN (a := dN 16 fo) (b := 6) (pc := 147) 154 dX5_readLine_147 (by decide) (by omega) (by omega) (fun c_147 => ?_) (fun c_147 => ?_)
                · refine zt_iconst (pc := 154) dX5_readLine_154 (v := 0) rfl ?_
                  refine zt_top (pc := 155) (bI (¬ ((0 : Int64) ≤ (lnK T n fo).toInt64 ∧ (lnK T n fo).toInt64 ≤ 3) ∨ dN 16 fo < 6)) ((bI_f (fun z => z.elim (fun y => y (bI_ne0 c_138)) (fun y => absurd c_147 (Nat.not_le.mpr y)))).symm) ?_
                  refine zt_iconst (pc := 155) dX5_readLine_155 (v := 5) rfl ?_
                  refine wt_callV (pc := 156) mX5_needs 2 5 (rc' := 0) (rs' := 0) dX5_readLine_156 q1434 mi_X5_needs rfl rfl (ms_o hM) (tm_needsF hM (bI (¬ ((0 : Int64) ≤ (lnK T n fo).toInt64 ∧ (lnK T n fo).toInt64 ≤ 3) ∨ dN 16 fo < 6)) 5) rfl rfl rfl rfl rfl rfl ?_
                  refine zt_f (f' := ln5 T n fo) rfl ?_
                  exact hj_159
                · refine zt_iconst (pc := 150) dX5_readLine_150 (v := 1) rfl ?_
                  refine zt_goto (pc := 151) 155 dX5_readLine_151 (by decide) ?_
                  refine zt_top (pc := 155) (bI (¬ ((0 : Int64) ≤ (lnK T n fo).toInt64 ∧ (lnK T n fo).toInt64 ≤ 3) ∨ dN 16 fo < 6)) ((bI_t (Or.inr c_147)).symm) ?_
                  refine zt_iconst (pc := 155) dX5_readLine_155 (v := 5) rfl ?_
                  refine wt_callV (pc := 156) mX5_needs 2 5 (rc' := 0) (rs' := 0) dX5_readLine_156 q1434 mi_X5_needs rfl rfl (ms_o hM) (tm_needsF hM (bI (¬ ((0 : Int64) ≤ (lnK T n fo).toInt64 ∧ (lnK T n fo).toInt64 ≤ 3) ∨ dN 16 fo < 6)) 5) rfl rfl rfl rfl rfl rfl ?_
                  refine zt_f (f' := ln5 T n fo) rfl ?_
                  exact hj_159
          · refine zt_aload_n (pc := 104) dX5_readLine_104 rfl rfl ?_
            refine zt_iload_n (pc := 105) dX5_readLine_105 rfl rfl ?_
            refine zt_bipush (pc := 106) dX5_readLine_106 (v := 12) rfl ?_
            refine zt_icmp_ne (pc := 108) 119 dX5_readLine_108 (by decide) (fun c_108 => ?_) (fun c_108 => ?_)
            · refine zt_iconst (pc := 119) dX5_readLine_119 (v := 1) rfl ?_
              refine zt_goto (pc := 120) 124 dX5_readLine_120 (by decide) ?_
              refine zt_top (pc := 124) (bI (¬ lnK T n fo = 12 ∨ dN 14 fo < 4)) ((bI_t (Or.inl c_108)).symm) ?_
              refine zt_iconst (pc := 124) dX5_readLine_124 (v := 5) rfl ?_
              refine wt_callV (pc := 125) mX5_needs 2 5 (rc' := 0) (rs' := 0) dX5_readLine_125 q1434 mi_X5_needs rfl rfl (ms_o hM) (tm_needsF hM (bI (¬ lnK T n fo = 12 ∨ dN 14 fo < 4)) 5) rfl rfl rfl rfl rfl rfl ?_
              refine zt_f (f' := ln4 T n fo) rfl ?_
              exact hj_128
            · refine zt_aload_n (pc := 111) dX5_readLine_111 rfl rfl ?_
              refine wt_getI (pc := 112) 5 14 (v := nI (dN 14 fo)) dX5_readLine_112 q1286 rfl (ms_o hM) ((congrFun (zs_at _ _ _) 14).trans (((gd_ln3 hP).at_ 14 (by decide)).trans hD.2.2.1.1)) ?_
              refine zt_iconst (pc := 115) dX5_readLine_115 (v := 4) rfl ?_
              refine zt_geN (a := dN 14 fo) (b := 4) (pc := 116) 123 dX5_readLine_116 (by decide) (by omega) (by omega) (fun c_116 => ?_) (fun c_116 => ?_)
              · refine zt_iconst (pc := 123) dX5_readLine_123 (v := 0) rfl ?_
                refine zt_top (pc := 124) (bI (¬ lnK T n fo = 12 ∨ dN 14 fo < 4)) ((bI_f (fun z => z.elim (fun y => y c_108) (fun y => absurd c_116 (Nat.not_le.mpr y)))).symm) ?_
                refine zt_iconst (pc := 124) dX5_readLine_124 (v := 5) rfl ?_
                refine wt_callV (pc := 125) mX5_needs 2 5 (rc' := 0) (rs' := 0) dX5_readLine_125 q1434 mi_X5_needs rfl rfl (ms_o hM) (tm_needsF hM (bI (¬ lnK T n fo = 12 ∨ dN 14 fo < 4)) 5) rfl rfl rfl rfl rfl rfl ?_
                refine zt_f (f' := ln4 T n fo) rfl ?_
                exact hj_128
              · refine zt_iconst (pc := 119) dX5_readLine_119 (v := 1) rfl ?_
                refine zt_goto (pc := 120) 124 dX5_readLine_120 (by decide) ?_
                refine zt_top (pc := 124) (bI (¬ lnK T n fo = 12 ∨ dN 14 fo < 4)) ((bI_t (Or.inr c_116)).symm) ?_
                refine zt_iconst (pc := 124) dX5_readLine_124 (v := 5) rfl ?_
                refine wt_callV (pc := 125) mX5_needs 2 5 (rc' := 0) (rs' := 0) dX5_readLine_125 q1434 mi_X5_needs rfl rfl (ms_o hM) (tm_needsF hM (bI (¬ lnK T n fo = 12 ∨ dN 14 fo < 4)) 5) rfl rfl rfl rfl rfl rfl ?_
                refine zt_f (f' := ln4 T n fo) rfl ?_
                exact hj_128
        · refine zt_aload_n (pc := 79) dX5_readLine_79 rfl rfl ?_
          refine zt_iload_n (pc := 80) dX5_readLine_80 rfl rfl ?_
          refine zt_bipush (pc := 81) dX5_readLine_81 (v := 11) rfl ?_
          refine zt_icmp_ne (pc := 83) 95 dX5_readLine_83 (by decide) (fun c_83 => ?_) (fun c_83 => ?_)
          · refine zt_iconst (pc := 95) dX5_readLine_95 (v := 1) rfl ?_
            refine zt_goto (pc := 96) 100 dX5_readLine_96 (by decide) ?_
            refine zt_top (pc := 100) (bI (¬ lnK T n fo = 11 ∨ dN 11 fo < 12)) ((bI_t (Or.inl c_83)).symm) ?_
            refine zt_iconst (pc := 100) dX5_readLine_100 (v := 5) rfl ?_
            refine wt_callV (pc := 101) mX5_needs 2 5 (rc' := 0) (rs' := 0) dX5_readLine_101 q1434 mi_X5_needs rfl rfl (ms_o hM) (tm_needsF hM (bI (¬ lnK T n fo = 11 ∨ dN 11 fo < 12)) 5) rfl rfl rfl rfl rfl rfl ?_
            refine zt_f (f' := ln3 T n fo) rfl ?_
            exact hj_104
          · refine zt_aload_n (pc := 86) dX5_readLine_86 rfl rfl ?_
            refine wt_getI (pc := 87) 5 11 (v := nI (dN 11 fo)) dX5_readLine_87 q1283 rfl (ms_o hM) ((congrFun (zs_at _ _ _) 11).trans (((gd_ln2 hP).at_ 11 (by decide)).trans hD.2.1.1)) ?_
            refine zt_bipush (pc := 90) dX5_readLine_90 (v := 12) rfl ?_
            refine zt_geN (a := dN 11 fo) (b := 12) (pc := 92) 99 dX5_readLine_92 (by decide) (by omega) (by omega) (fun c_92 => ?_) (fun c_92 => ?_)
            · refine zt_iconst (pc := 99) dX5_readLine_99 (v := 0) rfl ?_
              refine zt_top (pc := 100) (bI (¬ lnK T n fo = 11 ∨ dN 11 fo < 12)) ((bI_f (fun z => z.elim (fun y => y c_83) (fun y => absurd c_92 (Nat.not_le.mpr y)))).symm) ?_
              refine zt_iconst (pc := 100) dX5_readLine_100 (v := 5) rfl ?_
              refine wt_callV (pc := 101) mX5_needs 2 5 (rc' := 0) (rs' := 0) dX5_readLine_101 q1434 mi_X5_needs rfl rfl (ms_o hM) (tm_needsF hM (bI (¬ lnK T n fo = 11 ∨ dN 11 fo < 12)) 5) rfl rfl rfl rfl rfl rfl ?_
              refine zt_f (f' := ln3 T n fo) rfl ?_
              exact hj_104
            · refine zt_iconst (pc := 95) dX5_readLine_95 (v := 1) rfl ?_
              refine zt_goto (pc := 96) 100 dX5_readLine_96 (by decide) ?_
              refine zt_top (pc := 100) (bI (¬ lnK T n fo = 11 ∨ dN 11 fo < 12)) ((bI_t (Or.inr c_92)).symm) ?_
              refine zt_iconst (pc := 100) dX5_readLine_100 (v := 5) rfl ?_
              refine wt_callV (pc := 101) mX5_needs 2 5 (rc' := 0) (rs' := 0) dX5_readLine_101 q1434 mi_X5_needs rfl rfl (ms_o hM) (tm_needsF hM (bI (¬ lnK T n fo = 11 ∨ dN 11 fo < 12)) 5) rfl rfl rfl rfl rfl rfl ?_
              refine zt_f (f' := ln3 T n fo) rfl ?_
              exact hj_104
      · refine zt_aload_n (pc := 54) dX5_readLine_54 rfl rfl ?_
        refine zt_iload_n (pc := 55) dX5_readLine_55 rfl rfl ?_
        refine zt_bipush (pc := 56) dX5_readLine_56 (v := 10) rfl ?_
        refine zt_icmp_ne (pc := 58) 70 dX5_readLine_58 (by decide) (fun c_58 => ?_) (fun c_58 => ?_)
        · refine zt_iconst (pc := 70) dX5_readLine_70 (v := 1) rfl ?_
          refine zt_goto (pc := 71) 75 dX5_readLine_71 (by decide) ?_
          refine zt_top (pc := 75) (bI (¬ lnK T n fo = 10 ∨ dN 9 fo < 8)) ((bI_t (Or.inl c_58)).symm) ?_
          refine zt_iconst (pc := 75) dX5_readLine_75 (v := 5) rfl ?_
          refine wt_callV (pc := 76) mX5_needs 2 5 (rc' := 0) (rs' := 0) dX5_readLine_76 q1434 mi_X5_needs rfl rfl (ms_o hM) (tm_needsF hM (bI (¬ lnK T n fo = 10 ∨ dN 9 fo < 8)) 5) rfl rfl rfl rfl rfl rfl ?_
          refine zt_f (f' := ln2 T n fo) rfl ?_
          exact hj_79
        · refine zt_aload_n (pc := 61) dX5_readLine_61 rfl rfl ?_
          refine wt_getI (pc := 62) 5 9 (v := nI (dN 9 fo)) dX5_readLine_62 q1281 rfl (ms_o hM) ((congrFun (zs_at _ _ _) 9).trans (((gd_ln1 hP).at_ 9 (by decide)).trans hD.1.1)) ?_
          refine zt_bipush (pc := 65) dX5_readLine_65 (v := 8) rfl ?_
          refine zt_geN (a := dN 9 fo) (b := 8) (pc := 67) 74 dX5_readLine_67 (by decide) (by omega) (by omega) (fun c_67 => ?_) (fun c_67 => ?_)
          · refine zt_iconst (pc := 74) dX5_readLine_74 (v := 0) rfl ?_
            refine zt_top (pc := 75) (bI (¬ lnK T n fo = 10 ∨ dN 9 fo < 8)) ((bI_f (fun z => z.elim (fun y => y c_58) (fun y => absurd c_67 (Nat.not_le.mpr y)))).symm) ?_
            refine zt_iconst (pc := 75) dX5_readLine_75 (v := 5) rfl ?_
            refine wt_callV (pc := 76) mX5_needs 2 5 (rc' := 0) (rs' := 0) dX5_readLine_76 q1434 mi_X5_needs rfl rfl (ms_o hM) (tm_needsF hM (bI (¬ lnK T n fo = 10 ∨ dN 9 fo < 8)) 5) rfl rfl rfl rfl rfl rfl ?_
            refine zt_f (f' := ln2 T n fo) rfl ?_
            exact hj_79
          · refine zt_iconst (pc := 70) dX5_readLine_70 (v := 1) rfl ?_
            refine zt_goto (pc := 71) 75 dX5_readLine_71 (by decide) ?_
            refine zt_top (pc := 75) (bI (¬ lnK T n fo = 10 ∨ dN 9 fo < 8)) ((bI_t (Or.inr c_67)).symm) ?_
            refine zt_iconst (pc := 75) dX5_readLine_75 (v := 5) rfl ?_
            refine wt_callV (pc := 76) mX5_needs 2 5 (rc' := 0) (rs' := 0) dX5_readLine_76 q1434 mi_X5_needs rfl rfl (ms_o hM) (tm_needsF hM (bI (¬ lnK T n fo = 10 ∨ dN 9 fo < 8)) 5) rfl rfl rfl rfl rfl rfl ?_
            refine zt_f (f' := ln2 T n fo) rfl ?_
            exact hj_79
    · refine zt_aload_n (pc := 18) dX5_readLine_18 rfl rfl ?_
      refine zt_iload_n (pc := 19) dX5_readLine_19 rfl rfl ?_
      refine zt_i2l (pc := 20) dX5_readLine_20 rfl ?_
      refine zt_lconst (pc := 21) dX5_readLine_21 (v := 0) rfl ?_
      refine zt_ldc2 (pc := 22) dX5_readLine_22 q1458 ?_
      refine wt_callS (pc := 25) mX5_in 3 (rc' := 0) (rs' := 0) dX5_readLine_25 q1223 ms_X5_in (tm_in ((lnK T n fo).toInt64) 0 3) rfl rfl rfl rfl rfl rfl ?_
      refine zt_if_ne (pc := 28) 45 dX5_readLine_28 (by decide) (fun c_28 => ?_) (fun c_28 => ?_)
      · refine zt_iconst (pc := 45) dX5_readLine_45 (v := 1) rfl ?_
        refine zt_goto (pc := 46) 50 dX5_readLine_46 (by decide) ?_
        refine zt_top (pc := 50) (bI (((0 : Int64) ≤ (lnK T n fo).toInt64 ∧ (lnK T n fo).toInt64 ≤ 3) ∨ ((10 : Int64) ≤ (lnK T n fo).toInt64 ∧ (lnK T n fo).toInt64 ≤ 12))) ((bI_t (Or.inl (bI_ne0 c_28))).symm) ?_
        refine zt_iconst (pc := 50) dX5_readLine_50 (v := 2) rfl ?_
        refine wt_callV (pc := 51) mX5_needs 2 5 (rc' := 0) (rs' := 0) dX5_readLine_51 q1434 mi_X5_needs rfl rfl (ms_o hM) (tm_needsF hM (bI (((0 : Int64) ≤ (lnK T n fo).toInt64 ∧ (lnK T n fo).toInt64 ≤ 3) ∨ ((10 : Int64) ≤ (lnK T n fo).toInt64 ∧ (lnK T n fo).toInt64 ≤ 12))) 2) rfl rfl rfl rfl rfl rfl ?_
        refine zt_f (f' := ln1 T n fo) rfl ?_
        exact hj_54
      · refine zt_iload_n (pc := 31) dX5_readLine_31 rfl rfl ?_
        refine zt_i2l (pc := 32) dX5_readLine_32 rfl ?_
        refine zt_ldc2 (pc := 33) dX5_readLine_33 q1459 ?_
        refine zt_ldc2 (pc := 36) dX5_readLine_36 q1460 ?_
        refine wt_callS (pc := 39) mX5_in 3 (rc' := 0) (rs' := 0) dX5_readLine_39 q1223 ms_X5_in (tm_in ((lnK T n fo).toInt64) 10 12) rfl rfl rfl rfl rfl rfl ?_
        refine zt_if_eq (pc := 42) 49 dX5_readLine_42 (by decide) (fun c_42 => ?_) (fun c_42 => ?_)
        · refine zt_iconst (pc := 49) dX5_readLine_49 (v := 0) rfl ?_
          refine zt_top (pc := 50) (bI (((0 : Int64) ≤ (lnK T n fo).toInt64 ∧ (lnK T n fo).toInt64 ≤ 3) ∨ ((10 : Int64) ≤ (lnK T n fo).toInt64 ∧ (lnK T n fo).toInt64 ≤ 12))) ((bI_f (fun z => z.elim (bI_eq0.mp c_28) (bI_eq0.mp c_42))).symm) ?_
          refine zt_iconst (pc := 50) dX5_readLine_50 (v := 2) rfl ?_
          refine wt_callV (pc := 51) mX5_needs 2 5 (rc' := 0) (rs' := 0) dX5_readLine_51 q1434 mi_X5_needs rfl rfl (ms_o hM) (tm_needsF hM (bI (((0 : Int64) ≤ (lnK T n fo).toInt64 ∧ (lnK T n fo).toInt64 ≤ 3) ∨ ((10 : Int64) ≤ (lnK T n fo).toInt64 ∧ (lnK T n fo).toInt64 ≤ 12))) 2) rfl rfl rfl rfl rfl rfl ?_
          refine zt_f (f' := ln1 T n fo) rfl ?_
          exact hj_54
        · refine zt_iconst (pc := 45) dX5_readLine_45 (v := 1) rfl ?_
          refine zt_goto (pc := 46) 50 dX5_readLine_46 (by decide) ?_
          refine zt_top (pc := 50) (bI (((0 : Int64) ≤ (lnK T n fo).toInt64 ∧ (lnK T n fo).toInt64 ≤ 3) ∨ ((10 : Int64) ≤ (lnK T n fo).toInt64 ∧ (lnK T n fo).toInt64 ≤ 12))) ((bI_t (Or.inr (bI_ne0 c_42))).symm) ?_
          refine zt_iconst (pc := 50) dX5_readLine_50 (v := 2) rfl ?_
          refine wt_callV (pc := 51) mX5_needs 2 5 (rc' := 0) (rs' := 0) dX5_readLine_51 q1434 mi_X5_needs rfl rfl (ms_o hM) (tm_needsF hM (bI (((0 : Int64) ≤ (lnK T n fo).toInt64 ∧ (lnK T n fo).toInt64 ≤ 3) ∨ ((10 : Int64) ≤ (lnK T n fo).toInt64 ∧ (lnK T n fo).toInt64 ≤ 12))) 2) rfl rfl rfl rfl rfl rfl ?_
          refine zt_f (f' := ln1 T n fo) rfl ?_
          exact hj_54
  · refine zt_aload_n (pc := 0) dX5_readLine_0 rfl rfl ?_
    refine wt_getI (pc := 1) 5 23 (v := fo 23) dX5_readLine_1 q1295 rfl (ms_o hM) (congrFun (zs_at _ _ _) 23) ?_
    refine zt_iconst (pc := 4) dX5_readLine_4 (v := 1) rfl ?_
    refine zt_icmp_ne (pc := 5) 15 dX5_readLine_5 (by decide) (fun c_5 => ?_) (fun c_5 => ?_)
    · refine zt_bipush (pc := 15) dX5_readLine_15 (v := (-4)) rfl ?_
      refine zt_top (pc := 17) (lnK T n fo) ((if_neg c_5).symm) ?_
      refine zt_istore_n (pc := 17) (L' := [some (.ref 289), some (.int (lnK T n fo)), none]) dX5_readLine_17 rfl (by decide) rfl rfl ?_
      exact hj_18
    · refine zt_aload_n (pc := 8) dX5_readLine_8 rfl rfl ?_
      refine wt_callV (pc := 9) mX5_nameNow 0 5 (rc' := 0) (rs' := 0) dX5_readLine_9 q1442 mi_X5_nameNow rfl rfl (ms_o hM) (tm_nameNow (S := zs S 289 fo) hM T n hn (((Gd.refl hP).at_ 20 (by decide)).trans h20) h301 (qN (fo)) (pN (fo)) (Gd.refl hP).ti.2.2 (Gd.refl hP).ti.1.2 (Gd.refl hP).ti.2.1 (Nat.le_trans (Gd.refl hP).ti.1.1 hn)) rfl rfl rfl rfl rfl rfl ?_
      refine zt_goto (pc := 12) 17 dX5_readLine_12 (by decide) ?_
      refine zt_top (pc := 17) (lnK T n fo) ((if_pos c_5).symm) ?_
      refine zt_istore_n (pc := 17) (L' := [some (.ref 289), some (.int (lnK T n fo)), none]) dX5_readLine_17 rfl (by decide) rfl rfl ?_
      exact hj_18

end M20