/-! THE TWIN, part 16: numbers and marks -/
set_option maxRecDepth 100000
def pN (fo : Nat → Int32) : Nat := (fo 21).toNatClampNeg
def qN (fo : Nat → Int32) : Nat := (fo 22).toNatClampNeg
/-- where one stands is within the text -/
def PI (n : Nat) (fo : Nat → Int32) : Prop := pN fo ≤ n ∧ fo 21 = nI (pN fo)
/-- the token lies within the text -/
def TI (n : Nat) (fo : Nat → Int32) : Prop := PI n fo ∧ qN fo ≤ pN fo ∧ fo 22 = nI (qN fo)
theorem clampN {v : Int32} {p : Nat} (h : v = nI p) (hp : p ≤ 100000) : v.toNatClampNeg = p := (zin_of (n := 100001) h (by omega) (by decide)).1
theorem PI.of {n p : Nat} {fo : Nat → Int32} (h : fo 21 = nI p) (hp : p ≤ n) (hn : n ≤ 400) : PI n fo := by
  have e : pN fo = p := clampN h (by omega)
  exact ⟨by omega, by rw [e]; exact h⟩
theorem TI.of {n p q : Nat} {fo : Nat → Int32} (h : fo 21 = nI p) (h2 : fo 22 = nI q) (hq : q ≤ p) (hp : p ≤ n) (hn : n ≤ 400) : TI n fo := by
  have e : pN fo = p := clampN h (by omega)
  have e2 : qN fo = q := clampN h2 (by omega)
  exact ⟨PI.of h hp hn, by omega, by rw [e2]; exact h2⟩
theorem PI.same {n : Nat} {fo f' : Nat → Int32} (h : PI n fo) (e : f' 21 = fo 21) : PI n f' := by
  unfold PI pN at h ⊢
  rw [e]; exact h
theorem TI.same {n : Nat} {fo f' : Nat → Int32} (h : TI n fo) (e : f' 21 = fo 21) (e2 : f' 22 = fo 22) : TI n f' := by
  refine ⟨h.1.same e, ?_, ?_⟩
  · have := h.2.1; unfold qN pN at this ⊢; rw [e, e2]; exact this
  · have := h.2.2; unfold qN at this ⊢; rw [e2]; exact this
def nx (T : Nat → Int32) (n : Nat) (fo : Nat → Int32) : Nat → Int32 := f_next T n (pN fo) fo
theorem f_needs_no {fo : Nat → Int32} {g c : Int32} (h : ¬ fo 25 = 0) : f_needs fo g c = fo := if_neg (fun z => h z.2)
theorem f_needs_1 {fo : Nat → Int32} {c : Int32} : f_needs fo 1 c = fo := if_neg (fun z => absurd z.1 (by decide))
def f_rn1 (fo : Nat → Int32) : Nat → Int32 := f_needs fo (bI (fo 23 = 2)) 2
def f_rn2 (lo hi : Int32) (fo : Nat → Int32) : Nat → Int32 := f_needs (f_rn1 fo) (bI (lo.toInt64 ≤ (f_rn1 fo 24).toInt64 ∧ (f_rn1 fo 24).toInt64 ≤ hi.toInt64)) 3
def f_rn (T : Nat → Int32) (n : Nat) (lo hi : Int32) (fo : Nat → Int32) : Nat → Int32 := nx T n (f_rn2 lo hi fo)
def v_rn (lo hi : Int32) (fo : Nat → Int32) : Int32 := f_rn2 lo hi fo 24
theorem rn1_at {fo : Nat → Int32} {k : Nat} (h5 : k ≠ 25) (h6 : k ≠ 26) : f_rn1 fo k = fo k := f_needs_at h5 h6
theorem rn2_at {lo hi : Int32} {fo : Nat → Int32} {k : Nat} (h5 : k ≠ 25) (h6 : k ≠ 26) : f_rn2 lo hi fo k = fo k := (f_needs_at h5 h6).trans (rn1_at h5 h6)
def f_rm1 (fo : Nat → Int32) : Nat → Int32 := f_needs fo (bI (fo 23 = 1 ∨ fo 23 = 4)) 2
theorem rm1_at {fo : Nat → Int32} {k : Nat} (h5 : k ≠ 25) (h6 : k ≠ 26) : f_rm1 fo k = fo k := f_needs_at h5 h6
def rmG (nt some k : Int32) : Int32 := bI (((0 : Int64) ≤ k.toInt64 ∧ k.toInt64 ≤ 7) ∧ (some >>> (k &&& 31)) &&& 1 = 0 ∧ (nt >>> (k &&& 31)) &&& 1 = 0)
def rmS (T : Nat → Int32) (n : Nat) (nt : Int32) (p : Nat) (x : Int32 × (Nat → Int32)) : Int32 × (Nat → Int32) :=
  if x.2 25 = 0 ∧ x.2 23 = 1 then (x.1 ||| (if f_needs x.2 (rmG nt x.1 (lk T n p - 97)) 3 25 = 0 then (1 : Int32) <<< ((lk T n p - 97) &&& 31) else 0), f_needs x.2 (rmG nt x.1 (lk T n p - 97)) 3) else x
def rmR (T : Nat → Int32) (n : Nat) (nt : Int32) (fo : Nat → Int32) (i : Nat) : Int32 × (Nat → Int32) := itr (fun i => rmS T n nt (qN fo + i)) (0, f_rm1 fo) i
def v_rm (T : Nat → Int32) (n : Nat) (nt : Int32) (fo : Nat → Int32) : Int32 := (rmR T n nt fo (pN fo - qN fo)).1
def f_rm2 (T : Nat → Int32) (n : Nat) (nt : Int32) (fo : Nat → Int32) : Nat → Int32 := (rmR T n nt fo (pN fo - qN fo)).2
def f_rm (T : Nat → Int32) (n : Nat) (nt : Int32) (fo : Nat → Int32) : Nat → Int32 := nx T n (f_rm2 T n nt fo)
theorem rmR_at {T : Nat → Int32} {n : Nat} {nt : Int32} {fo : Nat → Int32} {k : Nat} (h5 : k ≠ 25) (h6 : k ≠ 26) : ∀ i, (rmR T n nt fo i).2 k = fo k
  | 0 => rm1_at h5 h6
  | i + 1 => by
    have ih := rmR_at (T := T) (n := n) (nt := nt) (fo := fo) h5 h6 i
    show (rmS T n nt (qN fo + i) (rmR T n nt fo i)).2 k = fo k
    unfold rmS
    split
    · exact (f_needs_at h5 h6).trans ih
    · exact ih
theorem rm2_at {T : Nat → Int32} {n : Nat} {nt : Int32} {fo : Nat → Int32} {k : Nat} (h5 : k ≠ 25) (h6 : k ≠ 26) : f_rm2 T n nt fo k = fo k := rmR_at h5 h6 _
theorem rmR_stay {T : Nat → Int32} {n : Nat} {nt : Int32} {fo : Nat → Int32} {i : Nat} (h : ¬ ((rmR T n nt fo i).2 25 = 0 ∧ (rmR T n nt fo i).2 23 = 1)) : ∀ d, rmR T n nt fo (i + d) = rmR T n nt fo i
  | 0 => rfl
  | d + 1 => by
    have ih := rmR_stay h d
    show rmS T n nt (qN fo + (i + d)) (rmR T n nt fo (i + d)) = _
    rw [ih]
    exact if_neg h
theorem rmR_end {T : Nat → Int32} {n : Nat} {nt : Int32} {fo : Nat → Int32} {i N : Nat} (hN : i < N) (h : ¬ ((rmR T n nt fo i).2 25 = 0 ∧ (rmR T n nt fo i).2 23 = 1)) : rmR T n nt fo i = rmR T n nt fo N := by
  have := rmR_stay h (N - i)
  rw [show i + (N - i) = N by omega] at this
  exact this.symm
section M16
variable {g : ZG} {h : ZH} {S A C : Nat → Nat → Int32} {fo : Nat → Int32}
theorem tm_nx (hM : MS h.2.1 h.2.2.2) (T : Nat → Int32) (n : Nat) (hn : n ≤ 400) (h20 : fo 20 = nI n) (h301 : S 301 = T) (hP : PI n fo) : Zd g mX5_next 2 0 0 [.ref 289] (zW h (zs S 289 fo)) none (zW h (zs S 289 (nx T n fo))) := tm_next hM T n hn h20 h301 (pN fo) hP.1 hP.2
theorem tm_readNumber (hM : MS h.2.1 h.2.2.2) (T : Nat → Int32) (n : Nat) (hn : n ≤ 400) (h20 : fo 20 = nI n) (h301 : S 301 = T) (hP : PI n fo) (lo hi : Int32) : Zd g mX5_readNumber 3 0 0 [.ref 289, .int lo, .int hi] (zW h (zs S 289 fo)) (some (.int (v_rn lo hi fo))) (zW h (zs S 289 (f_rn T n lo hi fo))) := by
  refine zc_of [some (.ref 289), some (.int lo), some (.int hi), none] rfl (Nat.le_of_ble_eq_true rfl) rfl ?_
  refine zt_aload_n (pc := 0) dX5_readNumber_0 rfl rfl ?_
  refine wt_getI (pc := 1) 5 25 (v := fo 25) dX5_readNumber_1 q1297 rfl (ms_o hM) rfl ?_
  refine zt_if_ne (pc := 4) 25 dX5_readNumber_4 (by decide) (fun c_4 => ?_) (fun c_4 => ?_)
  · refine zt_f (f' := f_rn1 fo) ((f_needs_no c_4).symm) ?_
    refine zt_aload_n (pc := 25) dX5_readNumber_25 rfl rfl ?_
    refine wt_getI (pc := 26) 5 25 (v := (f_rn1 fo) 25) dX5_readNumber_26 q1297 rfl (ms_o hM) rfl ?_
    refine zt_if_ne (pc := 29) 49 dX5_readNumber_29 (by decide) (fun c_29 => ?_) (fun c_29 => ?_)
    · refine zt_f (f' := f_rn2 lo hi fo) ((f_needs_no c_29).symm) ?_
      refine zt_aload_n (pc := 49) dX5_readNumber_49 rfl rfl ?_
      refine wt_getI (pc := 50) 5 24 (v := (f_rn2 lo hi fo) 24) dX5_readNumber_50 q1296 rfl (ms_o hM) rfl ?_
      refine zt_istore_n (pc := 53) (L' := [some (.ref 289), some (.int lo), some (.int hi), some (.int ((f_rn2 lo hi fo) 24))]) dX5_readNumber_53 rfl (by decide) rfl rfl ?_
      refine zt_aload_n (pc := 54) dX5_readNumber_54 rfl rfl ?_
      refine wt_callV (pc := 55) mX5_next 0 5 (rc' := 0) (rs' := 0) dX5_readNumber_55 q1422 mi_X5_next rfl rfl (ms_o hM) (tm_nx (fo := f_rn2 lo hi fo) hM T n hn ((rn2_at (by decide) (by decide)).trans h20) h301 (hP.same (rn2_at (by decide) (by decide)))) rfl rfl rfl rfl rfl rfl ?_
      refine zt_iload_n (pc := 58) dX5_readNumber_58 rfl rfl ?_
      exact zt_ireturn (pc := 59) dX5_readNumber_59 rfl (⟨rfl, rfl⟩)
    · refine zt_aload_n (pc := 32) dX5_readNumber_32 rfl rfl ?_
      refine zt_aload_n (pc := 33) dX5_readNumber_33 rfl rfl ?_
      refine wt_getI (pc := 34) 5 24 (v := (f_rn1 fo) 24) dX5_readNumber_34 q1296 rfl (ms_o hM) rfl ?_
      refine zt_i2l (pc := 37) dX5_readNumber_37 rfl ?_
      refine zt_iload_n (pc := 38) dX5_readNumber_38 rfl rfl ?_
      refine zt_i2l (pc := 39) dX5_readNumber_39 rfl ?_
      refine zt_iload_n (pc := 40) dX5_readNumber_40 rfl rfl ?_
      refine zt_i2l (pc := 41) dX5_readNumber_41 rfl ?_
      refine wt_callS (pc := 42) mX5_in 3 (rc' := 0) (rs' := 0) dX5_readNumber_42 q1223 ms_X5_in (tm_in (((f_rn1 fo) 24).toInt64) lo.toInt64 hi.toInt64) rfl rfl rfl rfl rfl rfl ?_
      refine zt_iconst (pc := 45) dX5_readNumber_45 (v := 3) rfl ?_
      refine wt_callV (pc := 46) mX5_needs 2 5 (rc' := 0) (rs' := 0) dX5_readNumber_46 q1434 mi_X5_needs rfl rfl (ms_o hM) (tm_needsF hM (bI (lo.toInt64 ≤ (((f_rn1 fo) 24).toInt64) ∧ (((f_rn1 fo) 24).toInt64) ≤ hi.toInt64)) 3) rfl rfl rfl rfl rfl rfl ?_
      refine zt_f (f' := f_rn2 lo hi fo) rfl ?_
      refine zt_aload_n (pc := 49) dX5_readNumber_49 rfl rfl ?_
      refine wt_getI (pc := 50) 5 24 (v := (f_rn2 lo hi fo) 24) dX5_readNumber_50 q1296 rfl (ms_o hM) rfl ?_
      refine zt_istore_n (pc := 53) (L' := [some (.ref 289), some (.int lo), some (.int hi), some (.int ((f_rn2 lo hi fo) 24))]) dX5_readNumber_53 rfl (by decide) rfl rfl ?_
      refine zt_aload_n (pc := 54) dX5_readNumber_54 rfl rfl ?_
      refine wt_callV (pc := 55) mX5_next 0 5 (rc' := 0) (rs' := 0) dX5_readNumber_55 q1422 mi_X5_next rfl rfl (ms_o hM) (tm_nx (fo := f_rn2 lo hi fo) hM T n hn ((rn2_at (by decide) (by decide)).trans h20) h301 (hP.same (rn2_at (by decide) (by decide)))) rfl rfl rfl rfl rfl rfl ?_
      refine zt_iload_n (pc := 58) dX5_readNumber_58 rfl rfl ?_
      exact zt_ireturn (pc := 59) dX5_readNumber_59 rfl (⟨rfl, rfl⟩)
  · refine zt_aload_n (pc := 7) dX5_readNumber_7 rfl rfl ?_
    refine zt_aload_n (pc := 8) dX5_readNumber_8 rfl rfl ?_
    refine wt_getI (pc := 9) 5 23 (v := fo 23) dX5_readNumber_9 q1295 rfl (ms_o hM) rfl ?_
    refine zt_iconst (pc := 12) dX5_readNumber_12 (v := 2) rfl ?_
    refine zt_icmp_ne (pc := 13) 20 dX5_readNumber_13 (by decide) (fun c_13 => ?_) (fun c_13 => ?_)
    · refine zt_iconst (pc := 20) dX5_readNumber_20 (v := 0) rfl ?_
      refine zt_top (pc := 21) (bI (fo 23 = 2)) ((bI_f c_13).symm) ?_
      refine zt_iconst (pc := 21) dX5_readNumber_21 (v := 2) rfl ?_
      refine wt_callV (pc := 22) mX5_needs 2 5 (rc' := 0) (rs' := 0) dX5_readNumber_22 q1434 mi_X5_needs rfl rfl (ms_o hM) (tm_needsF hM (bI (fo 23 = 2)) 2) rfl rfl rfl rfl rfl rfl ?_
      refine zt_f (f' := f_rn1 fo) rfl ?_
      refine zt_aload_n (pc := 25) dX5_readNumber_25 rfl rfl ?_
      refine wt_getI (pc := 26) 5 25 (v := (f_rn1 fo) 25) dX5_readNumber_26 q1297 rfl (ms_o hM) rfl ?_
      refine zt_if_ne (pc := 29) 49 dX5_readNumber_29 (by decide) (fun c_29 => ?_) (fun c_29 => ?_)
      · refine zt_f (f' := f_rn2 lo hi fo) ((f_needs_no c_29).symm) ?_
        refine zt_aload_n (pc := 49) dX5_readNumber_49 rfl rfl ?_
        refine wt_getI (pc := 50) 5 24 (v := (f_rn2 lo hi fo) 24) dX5_readNumber_50 q1296 rfl (ms_o hM) rfl ?_
        refine zt_istore_n (pc := 53) (L' := [some (.ref 289), some (.int lo), some (.int hi), some (.int ((f_rn2 lo hi fo) 24))]) dX5_readNumber_53 rfl (by decide) rfl rfl ?_
        refine zt_aload_n (pc := 54) dX5_readNumber_54 rfl rfl ?_
        refine wt_callV (pc := 55) mX5_next 0 5 (rc' := 0) (rs' := 0) dX5_readNumber_55 q1422 mi_X5_next rfl rfl (ms_o hM) (tm_nx (fo := f_rn2 lo hi fo) hM T n hn ((rn2_at (by decide) (by decide)).trans h20) h301 (hP.same (rn2_at (by decide) (by decide)))) rfl rfl rfl rfl rfl rfl ?_
        refine zt_iload_n (pc := 58) dX5_readNumber_58 rfl rfl ?_
        exact zt_ireturn (pc := 59) dX5_readNumber_59 rfl (⟨rfl, rfl⟩)
      · refine zt_aload_n (pc := 32) dX5_readNumber_32 rfl rfl ?_
        refine zt_aload_n (pc := 33) dX5_readNumber_33 rfl rfl ?_
        refine wt_getI (pc := 34) 5 24 (v := (f_rn1 fo) 24) dX5_readNumber_34 q1296 rfl (ms_o hM) rfl ?_
        refine zt_i2l (pc := 37) dX5_readNumber_37 rfl ?_
        refine zt_iload_n (pc := 38) dX5_readNumber_38 rfl rfl ?_
        refine zt_i2l (pc := 39) dX5_readNumber_39 rfl ?_
        refine zt_iload_n (pc := 40) dX5_readNumber_40 rfl rfl ?_
        refine zt_i2l (pc := 41) dX5_readNumber_41 rfl ?_
        refine wt_callS (pc := 42) mX5_in 3 (rc' := 0) (rs' := 0) dX5_readNumber_42 q1223 ms_X5_in (tm_in (((f_rn1 fo) 24).toInt64) lo.toInt64 hi.toInt64) rfl rfl rfl rfl rfl rfl ?_
        refine zt_iconst (pc := 45) dX5_readNumber_45 (v := 3) rfl ?_
        refine wt_callV (pc := 46) mX5_needs 2 5 (rc' := 0) (rs' := 0) dX5_readNumber_46 q1434 mi_X5_needs rfl rfl (ms_o hM) (tm_needsF hM (bI (lo.toInt64 ≤ (((f_rn1 fo) 24).toInt64) ∧ (((f_rn1 fo) 24).toInt64) ≤ hi.toInt64)) 3) rfl rfl rfl rfl rfl rfl ?_
        refine zt_f (f' := f_rn2 lo hi fo) rfl ?_
        refine zt_aload_n (pc := 49) dX5_readNumber_49 rfl rfl ?_
        refine wt_getI (pc := 50) 5 24 (v := (f_rn2 lo hi fo) 24) dX5_readNumber_50 q1296 rfl (ms_o hM) rfl ?_
        refine zt_istore_n (pc := 53) (L' := [some (.ref 289), some (.int lo), some (.int hi), some (.int ((f_rn2 lo hi fo) 24))]) dX5_readNumber_53 rfl (by decide) rfl rfl ?_
        refine zt_aload_n (pc := 54) dX5_readNumber_54 rfl rfl ?_
        refine wt_callV (pc := 55) mX5_next 0 5 (rc' := 0) (rs' := 0) dX5_readNumber_55 q1422 mi_X5_next rfl rfl (ms_o hM) (tm_nx (fo := f_rn2 lo hi fo) hM T n hn ((rn2_at (by decide) (by decide)).trans h20) h301 (hP.same (rn2_at (by decide) (by decide)))) rfl rfl rfl rfl rfl rfl ?_
        refine zt_iload_n (pc := 58) dX5_readNumber_58 rfl rfl ?_
        exact zt_ireturn (pc := 59) dX5_readNumber_59 rfl (⟨rfl, rfl⟩)
    · refine zt_iconst (pc := 16) dX5_readNumber_16 (v := 1) rfl ?_
      refine zt_goto (pc := 17) 21 dX5_readNumber_17 (by decide) ?_
      refine zt_top (pc := 21) (bI (fo 23 = 2)) ((bI_t c_13).symm) ?_
      refine zt_iconst (pc := 21) dX5_readNumber_21 (v := 2) rfl ?_
      refine wt_callV (pc := 22) mX5_needs 2 5 (rc' := 0) (rs' := 0) dX5_readNumber_22 q1434 mi_X5_needs rfl rfl (ms_o hM) (tm_needsF hM (bI (fo 23 = 2)) 2) rfl rfl rfl rfl rfl rfl ?_
      refine zt_f (f' := f_rn1 fo) rfl ?_
      refine zt_aload_n (pc := 25) dX5_readNumber_25 rfl rfl ?_
      refine wt_getI (pc := 26) 5 25 (v := (f_rn1 fo) 25) dX5_readNumber_26 q1297 rfl (ms_o hM) rfl ?_
      refine zt_if_ne (pc := 29) 49 dX5_readNumber_29 (by decide) (fun c_29 => ?_) (fun c_29 => ?_)
      · refine zt_f (f' := f_rn2 lo hi fo) ((f_needs_no c_29).symm) ?_
        refine zt_aload_n (pc := 49) dX5_readNumber_49 rfl rfl ?_
        refine wt_getI (pc := 50) 5 24 (v := (f_rn2 lo hi fo) 24) dX5_readNumber_50 q1296 rfl (ms_o hM) rfl ?_
        refine zt_istore_n (pc := 53) (L' := [some (.ref 289), some (.int lo), some (.int hi), some (.int ((f_rn2 lo hi fo) 24))]) dX5_readNumber_53 rfl (by decide) rfl rfl ?_
        refine zt_aload_n (pc := 54) dX5_readNumber_54 rfl rfl ?_
        refine wt_callV (pc := 55) mX5_next 0 5 (rc' := 0) (rs' := 0) dX5_readNumber_55 q1422 mi_X5_next rfl rfl (ms_o hM) (tm_nx (fo := f_rn2 lo hi fo) hM T n hn ((rn2_at (by decide) (by decide)).trans h20) h301 (hP.same (rn2_at (by decide) (by decide)))) rfl rfl rfl rfl rfl rfl ?_
        refine zt_iload_n (pc := 58) dX5_readNumber_58 rfl rfl ?_
        exact zt_ireturn (pc := 59) dX5_readNumber_59 rfl (⟨rfl, rfl⟩)
      · refine zt_aload_n (pc := 32) dX5_readNumber_32 rfl rfl ?_
        refine zt_aload_n (pc := 33) dX5_readNumber_33 rfl rfl ?_
        refine wt_getI (pc := 34) 5 24 (v := (f_rn1 fo) 24) dX5_readNumber_34 q1296 rfl (ms_o hM) rfl ?_
        refine zt_i2l (pc := 37) dX5_readNumber_37 rfl ?_
        refine zt_iload_n (pc := 38) dX5_readNumber_38 rfl rfl ?_
        refine zt_i2l (pc := 39) dX5_readNumber_39 rfl ?_
        refine zt_iload_n (pc := 40) dX5_readNumber_40 rfl rfl ?_
        refine zt_i2l (pc := 41) dX5_readNumber_41 rfl ?_
        refine wt_callS (pc := 42) mX5_in 3 (rc' := 0) (rs' := 0) dX5_readNumber_42 q1223 ms_X5_in (tm_in (((f_rn1 fo) 24).toInt64) lo.toInt64 hi.toInt64) rfl rfl rfl rfl rfl rfl ?_
        refine zt_iconst (pc := 45) dX5_readNumber_45 (v := 3) rfl ?_
        refine wt_callV (pc := 46) mX5_needs 2 5 (rc' := 0) (rs' := 0) dX5_readNumber_46 q1434 mi_X5_needs rfl rfl (ms_o hM) (tm_needsF hM (bI (lo.toInt64 ≤ (((f_rn1 fo) 24).toInt64) ∧ (((f_rn1 fo) 24).toInt64) ≤ hi.toInt64)) 3) rfl rfl rfl rfl rfl rfl ?_
        refine zt_f (f' := f_rn2 lo hi fo) rfl ?_
        refine zt_aload_n (pc := 49) dX5_readNumber_49 rfl rfl ?_
        refine wt_getI (pc := 50) 5 24 (v := (f_rn2 lo hi fo) 24) dX5_readNumber_50 q1296 rfl (ms_o hM) rfl ?_
        refine zt_istore_n (pc := 53) (L' := [some (.ref 289), some (.int lo), some (.int hi), some (.int ((f_rn2 lo hi fo) 24))]) dX5_readNumber_53 rfl (by decide) rfl rfl ?_
        refine zt_aload_n (pc := 54) dX5_readNumber_54 rfl rfl ?_
        refine wt_callV (pc := 55) mX5_next 0 5 (rc' := 0) (rs' := 0) dX5_readNumber_55 q1422 mi_X5_next rfl rfl (ms_o hM) (tm_nx (fo := f_rn2 lo hi fo) hM T n hn ((rn2_at (by decide) (by decide)).trans h20) h301 (hP.same (rn2_at (by decide) (by decide)))) rfl rfl rfl rfl rfl rfl ?_
        refine zt_iload_n (pc := 58) dX5_readNumber_58 rfl rfl ?_
        exact zt_ireturn (pc := 59) dX5_readNumber_59 rfl (⟨rfl, rfl⟩)

theorem tm_readMarks (hM : MS h.2.1 h.2.2.2) (T : Nat → Int32) (n : Nat) (hn : n ≤ 400) (h20 : fo 20 = nI n) (h301 : S 301 = T) (hP : TI n fo) (nt : Int32) : Zd g mX5_readMarks 3 0 0 [.ref 289, .int nt] (zW h (zs S 289 fo)) (some (.int (v_rm T n nt fo))) (zW h (zs S 289 (f_rm T n nt fo))) := by
  refine zc_of [some (.ref 289), some (.int nt), none, none, none] rfl (Nat.le_of_ble_eq_true rfl) rfl ?_
  refine zt_aload_n (pc := 0) dX5_readMarks_0 rfl rfl ?_
  refine wt_getI (pc := 1) 5 25 (v := fo 25) dX5_readMarks_1 q1297 rfl (ms_o hM) rfl ?_
  refine zt_if_ne (pc := 4) 33 dX5_readMarks_4 (by decide) (fun c_4 => ?_) (fun c_4 => ?_)
  · refine zt_f (f' := f_rm1 fo) ((f_needs_no c_4).symm) ?_
    refine zt_iconst (pc := 33) dX5_readMarks_33 (v := 0) rfl ?_
    refine zt_istore_n (pc := 34) (L' := [some (.ref 289), some (.int nt), some (.int 0), none, none]) dX5_readMarks_34 rfl (by decide) rfl rfl ?_
    refine zt_aload_n (pc := 35) dX5_readMarks_35 rfl rfl ?_
    refine wt_getI (pc := 36) 5 22 (v := nI (qN fo)) dX5_readMarks_36 q1294 rfl (ms_o hM) ((rm1_at (by decide) (by decide)).trans hP.2.2) ?_
    refine zt_istore_n (pc := 39) (L' := [some (.ref 289), some (.int nt), some (.int 0), some (.int (nI (qN fo))), none]) dX5_readMarks_39 rfl (by decide) rfl rfl ?_
    have hqp := hP.2.1
    have hpn := hP.1.1
    refine zt_for (pc := 40) (fun i => zs S 289 (rmR T n nt fo i).2) (fun i => [some (.ref 289), some (.int nt), some (.int ((rmR T n nt fo i).1)), some (.int (nI (qN fo + i))), none]) (pN fo - qN fo) rfl rfl ?_ (fun i hi_i ih_i => ?_)
    · show Zt _ _ _ _ _ _ (zW h (zs S 289 (rmR T n nt fo (pN fo - qN fo)).2)) 40 [some (.ref 289), some (.int nt), some (.int ((rmR T n nt fo (pN fo - qN fo)).1)), some (.int (nI (qN fo + (pN fo - qN fo)))), none] []
      have hqp := hP.2.1
      have hpn := hP.1.1
      refine zt_iload_n (pc := 40) dX5_readMarks_40 rfl rfl ?_
      refine zt_aload_n (pc := 41) dX5_readMarks_41 rfl rfl ?_
      refine wt_getI (pc := 42) 5 21 (v := nI (pN fo)) dX5_readMarks_42 q1293 rfl (ms_o hM) ((rmR_at (by decide) (by decide) _).trans hP.1.2) ?_
      refine zt_geN (a := qN fo + (pN fo - qN fo)) (b := pN fo) (pc := 45) 138 dX5_readMarks_45 (by decide) (by omega) (by omega) (fun c_45 => ?_) (fun c_45 => absurd c_45 (by omega))
      refine zt_drop (L' := [some (.ref 289), some (.int nt), some (.int ((rmR T n nt fo (pN fo - qN fo)).1)), none, none]) 3 rfl ?_
      refine zt_aload_n (pc := 138) dX5_readMarks_138 rfl rfl ?_
      refine wt_callV (pc := 139) mX5_next 0 5 (rc' := 0) (rs' := 0) dX5_readMarks_139 q1422 mi_X5_next rfl rfl (ms_o hM) (tm_nx (fo := f_rm2 T n nt fo) hM T n hn ((rm2_at (by decide) (by decide)).trans h20) h301 (hP.1.same (rm2_at (by decide) (by decide)))) rfl rfl rfl rfl rfl rfl ?_
      refine zt_iload_n (pc := 142) dX5_readMarks_142 rfl rfl ?_
      exact zt_ireturn (pc := 143) dX5_readMarks_143 rfl (⟨rfl, rfl⟩)
    · show Zt _ _ _ _ _ _ (zW h (zs S 289 (rmR T n nt fo i).2)) 40 [some (.ref 289), some (.int nt), some (.int ((rmR T n nt fo i).1)), some (.int (nI (qN fo + i))), none] []
      refine zt_iload_n (pc := 40) dX5_readMarks_40 rfl rfl ?_
      refine zt_aload_n (pc := 41) dX5_readMarks_41 rfl rfl ?_
      refine wt_getI (pc := 42) 5 21 (v := nI (pN fo)) dX5_readMarks_42 q1293 rfl (ms_o hM) ((rmR_at (by decide) (by decide) _).trans hP.1.2) ?_
      refine zt_geN (a := qN fo + i) (b := pN fo) (pc := 45) 138 dX5_readMarks_45 (by decide) (by omega) (by omega) (fun c_45 => absurd c_45 (by omega)) (fun c_45 => ?_)
      refine zt_aload_n (pc := 48) dX5_readMarks_48 rfl rfl ?_
      refine wt_getI (pc := 49) 5 25 (v := ((rmR T n nt fo i).2) 25) dX5_readMarks_49 q1297 rfl (ms_o hM) rfl ?_
      refine zt_if_ne (pc := 52) 138 dX5_readMarks_52 (by decide) (fun c_52 => ?_) (fun c_52 => ?_)
      · refine zt_drop (L' := [some (.ref 289), some (.int nt), some (.int ((rmR T n nt fo i).1)), none, none]) 3 rfl ?_
        have hend := rmR_end hi_i (fun z => c_52 z.1)
        refine zt_SL (S' := zs S 289 (f_rm2 T n nt fo)) (L' := [some (.ref 289), some (.int nt), some (.int (v_rm T n nt fo)), none, none]) (congrArg (fun x : Int32 × (Nat → Int32) => zs S 289 x.2) hend) (congrArg (fun x : Int32 × (Nat → Int32) => [some (Value.ref 289), some (Value.int nt), some (Value.int x.1), none, none]) hend) ?_
        refine zt_aload_n (pc := 138) dX5_readMarks_138 rfl rfl ?_
        refine wt_callV (pc := 139) mX5_next 0 5 (rc' := 0) (rs' := 0) dX5_readMarks_139 q1422 mi_X5_next rfl rfl (ms_o hM) (tm_nx (fo := f_rm2 T n nt fo) hM T n hn ((rm2_at (by decide) (by decide)).trans h20) h301 (hP.1.same (rm2_at (by decide) (by decide)))) rfl rfl rfl rfl rfl rfl ?_
        refine zt_iload_n (pc := 142) dX5_readMarks_142 rfl rfl ?_
        exact zt_ireturn (pc := 143) dX5_readMarks_143 rfl (⟨rfl, rfl⟩)
      · refine zt_aload_n (pc := 55) dX5_readMarks_55 rfl rfl ?_
        refine wt_getI (pc := 56) 5 23 (v := ((rmR T n nt fo i).2) 23) dX5_readMarks_56 q1295 rfl (ms_o hM) rfl ?_
        refine zt_iconst (pc := 59) dX5_readMarks_59 (v := 1) rfl ?_
        refine zt_icmp_ne (pc := 60) 138 dX5_readMarks_60 (by decide) (fun c_60 => ?_) (fun c_60 => ?_)
        · refine zt_drop (L' := [some (.ref 289), some (.int nt), some (.int ((rmR T n nt fo i).1)), none, none]) 3 rfl ?_
          have hend := rmR_end hi_i (fun z => c_60 z.2)
          refine zt_SL (S' := zs S 289 (f_rm2 T n nt fo)) (L' := [some (.ref 289), some (.int nt), some (.int (v_rm T n nt fo)), none, none]) (congrArg (fun x : Int32 × (Nat → Int32) => zs S 289 x.2) hend) (congrArg (fun x : Int32 × (Nat → Int32) => [some (Value.ref 289), some (Value.int nt), some (Value.int x.1), none, none]) hend) ?_
          refine zt_aload_n (pc := 138) dX5_readMarks_138 rfl rfl ?_
          refine wt_callV (pc := 139) mX5_next 0 5 (rc' := 0) (rs' := 0) dX5_readMarks_139 q1422 mi_X5_next rfl rfl (ms_o hM) (tm_nx (fo := f_rm2 T n nt fo) hM T n hn ((rm2_at (by decide) (by decide)).trans h20) h301 (hP.1.same (rm2_at (by decide) (by decide)))) rfl rfl rfl rfl rfl rfl ?_
          refine zt_iload_n (pc := 142) dX5_readMarks_142 rfl rfl ?_
          exact zt_ireturn (pc := 143) dX5_readMarks_143 rfl (⟨rfl, rfl⟩)
        · have hst : rmR T n nt fo (i + 1) = ((rmR T n nt fo i).1 ||| (if f_needs (rmR T n nt fo i).2 (rmG nt (rmR T n nt fo i).1 (lk T n (qN fo + i) - 97)) 3 25 = 0 then (1 : Int32) <<< ((lk T n (qN fo + i) - 97) &&& 31) else 0), f_needs (rmR T n nt fo i).2 (rmG nt (rmR T n nt fo i).1 (lk T n (qN fo + i) - 97)) 3) := if_pos ⟨c_52, c_60⟩
          refine zt_aload_n (pc := 63) dX5_readMarks_63 rfl rfl ?_
          refine zt_iload_n (pc := 64) dX5_readMarks_64 rfl rfl ?_
          refine wt_callV (pc := 65) mX5_look 1 5 (rc' := 0) (rs' := 0) dX5_readMarks_65 q1426 mi_X5_look rfl rfl (ms_o hM) (tm_look (S := zs S 289 (rmR T n nt fo i).2) hM T n hn ((rmR_at (by decide) (by decide) _).trans h20) h301 (qN fo + i) (by omega)) rfl rfl rfl rfl rfl rfl ?_
          refine zt_bipush (pc := 68) dX5_readMarks_68 (v := 97) rfl ?_
          refine zt_isub (pc := 70) dX5_readMarks_70 ?_
          refine zt_istore (pc := 71) (L' := [some (.ref 289), some (.int nt), some (.int ((rmR T n nt fo i).1)), some (.int (nI (qN fo + i))), some (.int ((lk T n (qN fo + i)) - 97))]) dX5_readMarks_71 (by decide) rfl rfl ?_
          refine zt_aload_n (pc := 73) dX5_readMarks_73 rfl rfl ?_
          refine zt_iload (pc := 74) dX5_readMarks_74 rfl ?_
          refine zt_i2l (pc := 76) dX5_readMarks_76 rfl ?_
          refine zt_lconst (pc := 77) dX5_readMarks_77 (v := 0) rfl ?_
          refine zt_ldc2 (pc := 78) dX5_readMarks_78 q1222 ?_
          refine wt_callS (pc := 81) mX5_in 3 (rc' := 0) (rs' := 0) dX5_readMarks_81 q1223 ms_X5_in (tm_in (((lk T n (qN fo + i)) - 97).toInt64) 0 7) rfl rfl rfl rfl rfl rfl ?_
          refine zt_if_eq (pc := 84) 109 dX5_readMarks_84 (by decide) (fun c_84 => ?_) (fun c_84 => ?_)
          · refine zt_iconst (pc := 109) dX5_readMarks_109 (v := 0) rfl ?_
            refine zt_top (pc := 110) (rmG nt (rmR T n nt fo i).1 (lk T n (qN fo + i) - 97)) ((bI_f (fun z => bI_eq0.mp c_84 z.1)).symm) ?_
            refine zt_iconst (pc := 110) dX5_readMarks_110 (v := 3) rfl ?_
            refine wt_callV (pc := 111) mX5_needs 2 5 (rc' := 0) (rs' := 0) dX5_readMarks_111 q1434 mi_X5_needs rfl rfl (ms_o hM) (tm_needsF hM (rmG nt (rmR T n nt fo i).1 (lk T n (qN fo + i) - 97)) 3) rfl rfl rfl rfl rfl rfl ?_
            refine zt_iload_n (pc := 114) dX5_readMarks_114 rfl rfl ?_
            refine zt_aload_n (pc := 115) dX5_readMarks_115 rfl rfl ?_
            refine wt_getI (pc := 116) 5 25 (v := (f_needs ((rmR T n nt fo i).2) (rmG nt (rmR T n nt fo i).1 (lk T n (qN fo + i) - 97)) 3) 25) dX5_readMarks_116 q1297 rfl (ms_o hM) rfl ?_
            refine zt_if_ne (pc := 119) 129 dX5_readMarks_119 (by decide) (fun c_119 => ?_) (fun c_119 => ?_)
            · refine zt_iconst (pc := 129) dX5_readMarks_129 (v := 0) rfl ?_
              refine zt_top (pc := 130) (if f_needs (rmR T n nt fo i).2 (rmG nt (rmR T n nt fo i).1 (lk T n (qN fo + i) - 97)) 3 25 = 0 then (1 : Int32) <<< ((lk T n (qN fo + i) - 97) &&& 31) else 0) ((if_neg c_119).symm) ?_
              refine zt_ior (pc := 130) dX5_readMarks_130 ?_
              refine zt_istore_n (pc := 131) (L' := [some (.ref 289), some (.int nt), some (.int (((rmR T n nt fo i).1) ||| (if f_needs (rmR T n nt fo i).2 (rmG nt (rmR T n nt fo i).1 (lk T n (qN fo + i) - 97)) 3 25 = 0 then (1 : Int32) <<< ((lk T n (qN fo + i) - 97) &&& 31) else 0))), some (.int (nI (qN fo + i))), some (.int ((lk T n (qN fo + i)) - 97))]) dX5_readMarks_131 rfl (by decide) rfl rfl ?_
              refine zt_iincN (pc := 132) (b := qN fo + i + 1) (L' := [some (.ref 289), some (.int nt), some (.int (((rmR T n nt fo i).1) ||| (if f_needs (rmR T n nt fo i).2 (rmG nt (rmR T n nt fo i).1 (lk T n (qN fo + i) - 97)) 3 25 = 0 then (1 : Int32) <<< ((lk T n (qN fo + i) - 97) &&& 31) else 0))), some (.int (nI (qN fo + i + 1))), some (.int ((lk T n (qN fo + i)) - 97))]) dX5_readMarks_132 rfl (zinc1 (qN fo + i)) (by decide) rfl rfl ?_
              refine zt_goto (pc := 135) 40 dX5_readMarks_135 (by decide) ?_
              refine zt_drop (L' := [some (.ref 289), some (.int nt), some (.int (((rmR T n nt fo i).1) ||| (if f_needs (rmR T n nt fo i).2 (rmG nt (rmR T n nt fo i).1 (lk T n (qN fo + i) - 97)) 3 25 = 0 then (1 : Int32) <<< ((lk T n (qN fo + i) - 97) &&& 31) else 0))), some (.int (nI (qN fo + i + 1))), none]) 4 rfl ?_
              refine zt_SL (S' := zs S 289 (rmR T n nt fo (i + 1)).2) (L' := [some (.ref 289), some (.int nt), some (.int ((rmR T n nt fo (i + 1)).1)), some (.int (nI (qN fo + (i + 1)))), none]) (congrArg (fun x : Int32 × (Nat → Int32) => zs S 289 x.2) hst).symm (congrArg (fun x : Int32 × (Nat → Int32) => [some (Value.ref 289), some (Value.int nt), some (Value.int x.1), some (Value.int (nI (qN fo + (i + 1)))), none]) hst).symm ih_i
            · refine zt_iconst (pc := 122) dX5_readMarks_122 (v := 1) rfl ?_
              refine zt_iload (pc := 123) dX5_readMarks_123 rfl ?_
              refine zt_ishl (pc := 125) dX5_readMarks_125 ?_
              refine zt_goto (pc := 126) 130 dX5_readMarks_126 (by decide) ?_
              refine zt_top (pc := 130) (if f_needs (rmR T n nt fo i).2 (rmG nt (rmR T n nt fo i).1 (lk T n (qN fo + i) - 97)) 3 25 = 0 then (1 : Int32) <<< ((lk T n (qN fo + i) - 97) &&& 31) else 0) ((if_pos c_119).symm) ?_
              refine zt_ior (pc := 130) dX5_readMarks_130 ?_
              refine zt_istore_n (pc := 131) (L' := [some (.ref 289), some (.int nt), some (.int (((rmR T n nt fo i).1) ||| (if f_needs (rmR T n nt fo i).2 (rmG nt (rmR T n nt fo i).1 (lk T n (qN fo + i) - 97)) 3 25 = 0 then (1 : Int32) <<< ((lk T n (qN fo + i) - 97) &&& 31) else 0))), some (.int (nI (qN fo + i))), some (.int ((lk T n (qN fo + i)) - 97))]) dX5_readMarks_131 rfl (by decide) rfl rfl ?_
              refine zt_iincN (pc := 132) (b := qN fo + i + 1) (L' := [some (.ref 289), some (.int nt), some (.int (((rmR T n nt fo i).1) ||| (if f_needs (rmR T n nt fo i).2 (rmG nt (rmR T n nt fo i).1 (lk T n (qN fo + i) - 97)) 3 25 = 0 then (1 : Int32) <<< ((lk T n (qN fo + i) - 97) &&& 31) else 0))), some (.int (nI (qN fo + i + 1))), some (.int ((lk T n (qN fo + i)) - 97))]) dX5_readMarks_132 rfl (zinc1 (qN fo + i)) (by decide) rfl rfl ?_
              refine zt_goto (pc := 135) 40 dX5_readMarks_135 (by decide) ?_
              refine zt_drop (L' := [some (.ref 289), some (.int nt), some (.int (((rmR T n nt fo i).1) ||| (if f_needs (rmR T n nt fo i).2 (rmG nt (rmR T n nt fo i).1 (lk T n (qN fo + i) - 97)) 3 25 = 0 then (1 : Int32) <<< ((lk T n (qN fo + i) - 97) &&& 31) else 0))), some (.int (nI (qN fo + i + 1))), none]) 4 rfl ?_
              refine zt_SL (S' := zs S 289 (rmR T n nt fo (i + 1)).2) (L' := [some (.ref 289), some (.int nt), some (.int ((rmR T n nt fo (i + 1)).1)), some (.int (nI (qN fo + (i + 1)))), none]) (congrArg (fun x : Int32 × (Nat → Int32) => zs S 289 x.2) hst).symm (congrArg (fun x : Int32 × (Nat → Int32) => [some (Value.ref 289), some (Value.int nt), some (Value.int x.1), some (Value.int (nI (qN fo + (i + 1)))), none]) hst).symm ih_i
          · refine zt_iload_n (pc := 87) dX5_readMarks_87 rfl rfl ?_
            refine zt_iload (pc := 88) dX5_readMarks_88 rfl ?_
            refine zt_ishr (pc := 90) dX5_readMarks_90 ?_
            refine zt_iconst (pc := 91) dX5_readMarks_91 (v := 1) rfl ?_
            refine zt_iand (pc := 92) dX5_readMarks_92 ?_
            refine zt_if_ne (pc := 93) 109 dX5_readMarks_93 (by decide) (fun c_93 => ?_) (fun c_93 => ?_)
            · refine zt_iconst (pc := 109) dX5_readMarks_109 (v := 0) rfl ?_
              refine zt_top (pc := 110) (rmG nt (rmR T n nt fo i).1 (lk T n (qN fo + i) - 97)) ((bI_f (fun z => c_93 z.2.1)).symm) ?_
              refine zt_iconst (pc := 110) dX5_readMarks_110 (v := 3) rfl ?_
              refine wt_callV (pc := 111) mX5_needs 2 5 (rc' := 0) (rs' := 0) dX5_readMarks_111 q1434 mi_X5_needs rfl rfl (ms_o hM) (tm_needsF hM (rmG nt (rmR T n nt fo i).1 (lk T n (qN fo + i) - 97)) 3) rfl rfl rfl rfl rfl rfl ?_
              refine zt_iload_n (pc := 114) dX5_readMarks_114 rfl rfl ?_
              refine zt_aload_n (pc := 115) dX5_readMarks_115 rfl rfl ?_
              refine wt_getI (pc := 116) 5 25 (v := (f_needs ((rmR T n nt fo i).2) (rmG nt (rmR T n nt fo i).1 (lk T n (qN fo + i) - 97)) 3) 25) dX5_readMarks_116 q1297 rfl (ms_o hM) rfl ?_
              refine zt_if_ne (pc := 119) 129 dX5_readMarks_119 (by decide) (fun c_119 => ?_) (fun c_119 => ?_)
              · refine zt_iconst (pc := 129) dX5_readMarks_129 (v := 0) rfl ?_
                refine zt_top (pc := 130) (if f_needs (rmR T n nt fo i).2 (rmG nt (rmR T n nt fo i).1 (lk T n (qN fo + i) - 97)) 3 25 = 0 then (1 : Int32) <<< ((lk T n (qN fo + i) - 97) &&& 31) else 0) ((if_neg c_119).symm) ?_
                refine zt_ior (pc := 130) dX5_readMarks_130 ?_
                refine zt_istore_n (pc := 131) (L' := [some (.ref 289), some (.int nt), some (.int (((rmR T n nt fo i).1) ||| (if f_needs (rmR T n nt fo i).2 (rmG nt (rmR T n nt fo i).1 (lk T n (qN fo + i) - 97)) 3 25 = 0 then (1 : Int32) <<< ((lk T n (qN fo + i) - 97) &&& 31) else 0))), some (.int (nI (qN fo + i))), some (.int ((lk T n (qN fo + i)) - 97))]) dX5_readMarks_131 rfl (by decide) rfl rfl ?_
                refine zt_iincN (pc := 132) (b := qN fo + i + 1) (L' := [some (.ref 289), some (.int nt), some (.int (((rmR T n nt fo i).1) ||| (if f_needs (rmR T n nt fo i).2 (rmG nt (rmR T n nt fo i).1 (lk T n (qN fo + i) - 97)) 3 25 = 0 then (1 : Int32) <<< ((lk T n (qN fo + i) - 97) &&& 31) else 0))), some (.int (nI (qN fo + i + 1))), some (.int ((lk T n (qN fo + i)) - 97))]) dX5_readMarks_132 rfl (zinc1 (qN fo + i)) (by decide) rfl rfl ?_
                refine zt_goto (pc := 135) 40 dX5_readMarks_135 (by decide) ?_
                refine zt_drop (L' := [some (.ref 289), some (.int nt), some (.int (((rmR T n nt fo i).1) ||| (if f_needs (rmR T n nt fo i).2 (rmG nt (rmR T n nt fo i).1 (lk T n (qN fo + i) - 97)) 3 25 = 0 then (1 : Int32) <<< ((lk T n (qN fo + i) - 97) &&& 31) else 0))), some (.int (nI (qN fo + i + 1))), none]) 4 rfl ?_
                refine zt_SL (S' := zs S 289 (rmR T n nt fo (i + 1)).2) (L' := [some (.ref 289), some (.int nt), some (.int ((rmR T n nt fo (i + 1)).1)), some (.int (nI (qN fo + (i + 1)))), none]) (congrArg (fun x : Int32 × (Nat → Int32) => zs S 289 x.2) hst).symm (congrArg (fun x : Int32 × (Nat → Int32) => [some (Value.ref 289), some (Value.int nt), some (Value.int x.1), some (Value.int (nI (qN fo + (i + 1)))), none]) hst).symm ih_i
              · refine zt_iconst (pc := 122) dX5_readMarks_122 (v := 1) rfl ?_
                refine zt_iload (pc := 123) dX5_readMarks_123 rfl ?_
                refine zt_ishl (pc := 125) dX5_readMarks_125 ?_
                refine zt_goto (pc := 126) 130 dX5_readMarks_126 (by decide) ?_
                refine zt_top (pc := 130) (if f_needs (rmR T n nt fo i).2 (rmG nt (rmR T n nt fo i).1 (lk T n (qN fo + i) - 97)) 3 25 = 0 then (1 : Int32) <<< ((lk T n (qN fo + i) - 97) &&& 31) else 0) ((if_pos c_119).symm) ?_
                refine zt_ior (pc := 130) dX5_readMarks_130 ?_
                refine zt_istore_n (pc := 131) (L' := [some (.ref 289), some (.int nt), some (.int (((rmR T n nt fo i).1) ||| (if f_needs (rmR T n nt fo i).2 (rmG nt (rmR T n nt fo i).1 (lk T n (qN fo + i) - 97)) 3 25 = 0 then (1 : Int32) <<< ((lk T n (qN fo + i) - 97) &&& 31) else 0))), some (.int (nI (qN fo + i))), some (.int ((lk T n (qN fo + i)) - 97))]) dX5_readMarks_131 rfl (by decide) rfl rfl ?_
                refine zt_iincN (pc := 132) (b := qN fo + i + 1) (L' := [some (.ref 289), some (.int nt), some (.int (((rmR T n nt fo i).1) ||| (if f_needs (rmR T n nt fo i).2 (rmG nt (rmR T n nt fo i).1 (lk T n (qN fo + i) - 97)) 3 25 = 0 then (1 : Int32) <<< ((lk T n (qN fo + i) - 97) &&& 31) else 0))), some (.int (nI (qN fo + i + 1))), some (.int ((lk T n (qN fo + i)) - 97))]) dX5_readMarks_132 rfl (zinc1 (qN fo + i)) (by decide) rfl rfl ?_
                refine zt_goto (pc := 135) 40 dX5_readMarks_135 (by decide) ?_
                refine zt_drop (L' := [some (.ref 289), some (.int nt), some (.int (((rmR T n nt fo i).1) ||| (if f_needs (rmR T n nt fo i).2 (rmG nt (rmR T n nt fo i).1 (lk T n (qN fo + i) - 97)) 3 25 = 0 then (1 : Int32) <<< ((lk T n (qN fo + i) - 97) &&& 31) else 0))), some (.int (nI (qN fo + i + 1))), none]) 4 rfl ?_
                refine zt_SL (S' := zs S 289 (rmR T n nt fo (i + 1)).2) (L' := [some (.ref 289), some (.int nt), some (.int ((rmR T n nt fo (i + 1)).1)), some (.int (nI (qN fo + (i + 1)))), none]) (congrArg (fun x : Int32 × (Nat → Int32) => zs S 289 x.2) hst).symm (congrArg (fun x : Int32 × (Nat → Int32) => [some (Value.ref 289), some (Value.int nt), some (Value.int x.1), some (Value.int (nI (qN fo + (i + 1)))), none]) hst).symm ih_i
            · refine zt_iload_n (pc := 96) dX5_readMarks_96 rfl rfl ?_
              refine zt_iload (pc := 97) dX5_readMarks_97 rfl ?_
              refine zt_ishr (pc := 99) dX5_readMarks_99 ?_
              refine zt_iconst (pc := 100) dX5_readMarks_100 (v := 1) rfl ?_
              refine zt_iand (pc := 101) dX5_readMarks_101 ?_
              refine zt_if_ne (pc := 102) 109 dX5_readMarks_102 (by decide) (fun c_102 => ?_) (fun c_102 => ?_)
              · refine zt_iconst (pc := 109) dX5_readMarks_109 (v := 0) rfl ?_
                refine zt_top (pc := 110) (rmG nt (rmR T n nt fo i).1 (lk T n (qN fo + i) - 97)) ((bI_f (fun z => c_102 z.2.2)).symm) ?_
                refine zt_iconst (pc := 110) dX5_readMarks_110 (v := 3) rfl ?_
                refine wt_callV (pc := 111) mX5_needs 2 5 (rc' := 0) (rs' := 0) dX5_readMarks_111 q1434 mi_X5_needs rfl rfl (ms_o hM) (tm_needsF hM (rmG nt (rmR T n nt fo i).1 (lk T n (qN fo + i) - 97)) 3) rfl rfl rfl rfl rfl rfl ?_
                refine zt_iload_n (pc := 114) dX5_readMarks_114 rfl rfl ?_
                refine zt_aload_n (pc := 115) dX5_readMarks_115 rfl rfl ?_
                refine wt_getI (pc := 116) 5 25 (v := (f_needs ((rmR T n nt fo i).2) (rmG nt (rmR T n nt fo i).1 (lk T n (qN fo + i) - 97)) 3) 25) dX5_readMarks_116 q1297 rfl (ms_o hM) rfl ?_
                refine zt_if_ne (pc := 119) 129 dX5_readMarks_119 (by decide) (fun c_119 => ?_) (fun c_119 => ?_)
                · refine zt_iconst (pc := 129) dX5_readMarks_129 (v := 0) rfl ?_
                  refine zt_top (pc := 130) (if f_needs (rmR T n nt fo i).2 (rmG nt (rmR T n nt fo i).1 (lk T n (qN fo + i) - 97)) 3 25 = 0 then (1 : Int32) <<< ((lk T n (qN fo + i) - 97) &&& 31) else 0) ((if_neg c_119).symm) ?_
                  refine zt_ior (pc := 130) dX5_readMarks_130 ?_
                  refine zt_istore_n (pc := 131) (L' := [some (.ref 289), some (.int nt), some (.int (((rmR T n nt fo i).1) ||| (if f_needs (rmR T n nt fo i).2 (rmG nt (rmR T n nt fo i).1 (lk T n (qN fo + i) - 97)) 3 25 = 0 then (1 : Int32) <<< ((lk T n (qN fo + i) - 97) &&& 31) else 0))), some (.int (nI (qN fo + i))), some (.int ((lk T n (qN fo + i)) - 97))]) dX5_readMarks_131 rfl (by decide) rfl rfl ?_
                  refine zt_iincN (pc := 132) (b := qN fo + i + 1) (L' := [some (.ref 289), some (.int nt), some (.int (((rmR T n nt fo i).1) ||| (if f_needs (rmR T n nt fo i).2 (rmG nt (rmR T n nt fo i).1 (lk T n (qN fo + i) - 97)) 3 25 = 0 then (1 : Int32) <<< ((lk T n (qN fo + i) - 97) &&& 31) else 0))), some (.int (nI (qN fo + i + 1))), some (.int ((lk T n (qN fo + i)) - 97))]) dX5_readMarks_132 rfl (zinc1 (qN fo + i)) (by decide) rfl rfl ?_
                  refine zt_goto (pc := 135) 40 dX5_readMarks_135 (by decide) ?_
                  refine zt_drop (L' := [some (.ref 289), some (.int nt), some (.int (((rmR T n nt fo i).1) ||| (if f_needs (rmR T n nt fo i).2 (rmG nt (rmR T n nt fo i).1 (lk T n (qN fo + i) - 97)) 3 25 = 0 then (1 : Int32) <<< ((lk T n (qN fo + i) - 97) &&& 31) else 0))), some (.int (nI (qN fo + i + 1))), none]) 4 rfl ?_
                  refine zt_SL (S' := zs S 289 (rmR T n nt fo (i + 1)).2) (L' := [some (.ref 289), some (.int nt), some (.int ((rmR T n nt fo (i + 1)).1)), some (.int (nI (qN fo + (i + 1)))), none]) (congrArg (fun x : Int32 × (Nat → Int32) => zs S 289 x.2) hst).symm (congrArg (fun x : Int32 × (Nat → Int32) => [some (Value.ref 289), some (Value.int nt), some (Value.int x.1), some (Value.int (nI (qN fo + (i + 1)))), none]) hst).symm ih_i
                · refine zt_iconst (pc := 122) dX5_readMarks_122 (v := 1) rfl ?_
                  refine zt_iload (pc := 123) dX5_readMarks_123 rfl ?_
                  refine zt_ishl (pc := 125) dX5_readMarks_125 ?_
                  refine zt_goto (pc := 126) 130 dX5_readMarks_126 (by decide) ?_
                  refine zt_top (pc := 130) (if f_needs (rmR T n nt fo i).2 (rmG nt (rmR T n nt fo i).1 (lk T n (qN fo + i) - 97)) 3 25 = 0 then (1 : Int32) <<< ((lk T n (qN fo + i) - 97) &&& 31) else 0) ((if_pos c_119).symm) ?_
                  refine zt_ior (pc := 130) dX5_readMarks_130 ?_
                  refine zt_istore_n (pc := 131) (L' := [some (.ref 289), some (.int nt), some (.int (((rmR T n nt fo i).1) ||| (if f_needs (rmR T n nt fo i).2 (rmG nt (rmR T n nt fo i).1 (lk T n (qN fo + i) - 97)) 3 25 = 0 then (1 : Int32) <<< ((lk T n (qN fo + i) - 97) &&& 31) else 0))), some (.int (nI (qN fo + i))), some (.int ((lk T n (qN fo + i)) - 97))]) dX5_readMarks_131 rfl (by decide) rfl rfl ?_
                  refine zt_iincN (pc := 132) (b := qN fo + i + 1) (L' := [some (.ref 289), some (.int nt), some (.int (((rmR T n nt fo i).1) ||| (if f_needs (rmR T n nt fo i).2 (rmG nt (rmR T n nt fo i).1 (lk T n (qN fo + i) - 97)) 3 25 = 0 then (1 : Int32) <<< ((lk T n (qN fo + i) - 97) &&& 31) else 0))), some (.int (nI (qN fo + i + 1))), some (.int ((lk T n (qN fo + i)) - 97))]) dX5_readMarks_132 rfl (zinc1 (qN fo + i)) (by decide) rfl rfl ?_
                  refine zt_goto (pc := 135) 40 dX5_readMarks_135 (by decide) ?_
                  refine zt_drop (L' := [some (.ref 289), some (.int nt), some (.int (((rmR T n nt fo i).1) ||| (if f_needs (rmR T n nt fo i).2 (rmG nt (rmR T n nt fo i).1 (lk T n (qN fo + i) - 97)) 3 25 = 0 then (1 : Int32) <<< ((lk T n (qN fo + i) - 97) &&& 31) else 0))), some (.int (nI (qN fo + i + 1))), none]) 4 rfl ?_
                  refine zt_SL (S' := zs S 289 (rmR T n nt fo (i + 1)).2) (L' := [some (.ref 289), some (.int nt), some (.int ((rmR T n nt fo (i + 1)).1)), some (.int (nI (qN fo + (i + 1)))), none]) (congrArg (fun x : Int32 × (Nat → Int32) => zs S 289 x.2) hst).symm (congrArg (fun x : Int32 × (Nat → Int32) => [some (Value.ref 289), some (Value.int nt), some (Value.int x.1), some (Value.int (nI (qN fo + (i + 1)))), none]) hst).symm ih_i
              · refine zt_iconst (pc := 105) dX5_readMarks_105 (v := 1) rfl ?_
                refine zt_goto (pc := 106) 110 dX5_readMarks_106 (by decide) ?_
                refine zt_top (pc := 110) (rmG nt (rmR T n nt fo i).1 (lk T n (qN fo + i) - 97)) ((bI_t ⟨bI_ne0 c_84, c_93, c_102⟩).symm) ?_
                refine zt_iconst (pc := 110) dX5_readMarks_110 (v := 3) rfl ?_
                refine wt_callV (pc := 111) mX5_needs 2 5 (rc' := 0) (rs' := 0) dX5_readMarks_111 q1434 mi_X5_needs rfl rfl (ms_o hM) (tm_needsF hM (rmG nt (rmR T n nt fo i).1 (lk T n (qN fo + i) - 97)) 3) rfl rfl rfl rfl rfl rfl ?_
                refine zt_iload_n (pc := 114) dX5_readMarks_114 rfl rfl ?_
                refine zt_aload_n (pc := 115) dX5_readMarks_115 rfl rfl ?_
                refine wt_getI (pc := 116) 5 25 (v := (f_needs ((rmR T n nt fo i).2) (rmG nt (rmR T n nt fo i).1 (lk T n (qN fo + i) - 97)) 3) 25) dX5_readMarks_116 q1297 rfl (ms_o hM) rfl ?_
                refine zt_if_ne (pc := 119) 129 dX5_readMarks_119 (by decide) (fun c_119 => ?_) (fun c_119 => ?_)
                · refine zt_iconst (pc := 129) dX5_readMarks_129 (v := 0) rfl ?_
                  refine zt_top (pc := 130) (if f_needs (rmR T n nt fo i).2 (rmG nt (rmR T n nt fo i).1 (lk T n (qN fo + i) - 97)) 3 25 = 0 then (1 : Int32) <<< ((lk T n (qN fo + i) - 97) &&& 31) else 0) ((if_neg c_119).symm) ?_
                  refine zt_ior (pc := 130) dX5_readMarks_130 ?_
                  refine zt_istore_n (pc := 131) (L' := [some (.ref 289), some (.int nt), some (.int (((rmR T n nt fo i).1) ||| (if f_needs (rmR T n nt fo i).2 (rmG nt (rmR T n nt fo i).1 (lk T n (qN fo + i) - 97)) 3 25 = 0 then (1 : Int32) <<< ((lk T n (qN fo + i) - 97) &&& 31) else 0))), some (.int (nI (qN fo + i))), some (.int ((lk T n (qN fo + i)) - 97))]) dX5_readMarks_131 rfl (by decide) rfl rfl ?_
                  refine zt_iincN (pc := 132) (b := qN fo + i + 1) (L' := [some (.ref 289), some (.int nt), some (.int (((rmR T n nt fo i).1) ||| (if f_needs (rmR T n nt fo i).2 (rmG nt (rmR T n nt fo i).1 (lk T n (qN fo + i) - 97)) 3 25 = 0 then (1 : Int32) <<< ((lk T n (qN fo + i) - 97) &&& 31) else 0))), some (.int (nI (qN fo + i + 1))), some (.int ((lk T n (qN fo + i)) - 97))]) dX5_readMarks_132 rfl (zinc1 (qN fo + i)) (by decide) rfl rfl ?_
                  refine zt_goto (pc := 135) 40 dX5_readMarks_135 (by decide) ?_
                  refine zt_drop (L' := [some (.ref 289), some (.int nt), some (.int (((rmR T n nt fo i).1) ||| (if f_needs (rmR T n nt fo i).2 (rmG nt (rmR T n nt fo i).1 (lk T n (qN fo + i) - 97)) 3 25 = 0 then (1 : Int32) <<< ((lk T n (qN fo + i) - 97) &&& 31) else 0))), some (.int (nI (qN fo + i + 1))), none]) 4 rfl ?_
                  refine zt_SL (S' := zs S 289 (rmR T n nt fo (i + 1)).2) (L' := [some (.ref 289), some (.int nt), some (.int ((rmR T n nt fo (i + 1)).1)), some (.int (nI (qN fo + (i + 1)))), none]) (congrArg (fun x : Int32 × (Nat → Int32) => zs S 289 x.2) hst).symm (congrArg (fun x : Int32 × (Nat → Int32) => [some (Value.ref 289), some (Value.int nt), some (Value.int x.1), some (Value.int (nI (qN fo + (i + 1)))), none]) hst).symm ih_i
                · refine zt_iconst (pc := 122) dX5_readMarks_122 (v := 1) rfl ?_
                  refine zt_iload (pc := 123) dX5_readMarks_123 rfl ?_
                  refine zt_ishl (pc := 125) dX5_readMarks_125 ?_
                  refine zt_goto (pc := 126) 130 dX5_readMarks_126 (by decide) ?_
                  refine zt_top (pc := 130) (if f_needs (rmR T n nt fo i).2 (rmG nt (rmR T n nt fo i).1 (lk T n (qN fo + i) - 97)) 3 25 = 0 then (1 : Int32) <<< ((lk T n (qN fo + i) - 97) &&& 31) else 0) ((if_pos c_119).symm) ?_
                  refine zt_ior (pc := 130) dX5_readMarks_130 ?_
                  refine zt_istore_n (pc := 131) (L' := [some (.ref 289), some (.int nt), some (.int (((rmR T n nt fo i).1) ||| (if f_needs (rmR T n nt fo i).2 (rmG nt (rmR T n nt fo i).1 (lk T n (qN fo + i) - 97)) 3 25 = 0 then (1 : Int32) <<< ((lk T n (qN fo + i) - 97) &&& 31) else 0))), some (.int (nI (qN fo + i))), some (.int ((lk T n (qN fo + i)) - 97))]) dX5_readMarks_131 rfl (by decide) rfl rfl ?_
                  refine zt_iincN (pc := 132) (b := qN fo + i + 1) (L' := [some (.ref 289), some (.int nt), some (.int (((rmR T n nt fo i).1) ||| (if f_needs (rmR T n nt fo i).2 (rmG nt (rmR T n nt fo i).1 (lk T n (qN fo + i) - 97)) 3 25 = 0 then (1 : Int32) <<< ((lk T n (qN fo + i) - 97) &&& 31) else 0))), some (.int (nI (qN fo + i + 1))), some (.int ((lk T n (qN fo + i)) - 97))]) dX5_readMarks_132 rfl (zinc1 (qN fo + i)) (by decide) rfl rfl ?_
                  refine zt_goto (pc := 135) 40 dX5_readMarks_135 (by decide) ?_
                  refine zt_drop (L' := [some (.ref 289), some (.int nt), some (.int (((rmR T n nt fo i).1) ||| (if f_needs (rmR T n nt fo i).2 (rmG nt (rmR T n nt fo i).1 (lk T n (qN fo + i) - 97)) 3 25 = 0 then (1 : Int32) <<< ((lk T n (qN fo + i) - 97) &&& 31) else 0))), some (.int (nI (qN fo + i + 1))), none]) 4 rfl ?_
                  refine zt_SL (S' := zs S 289 (rmR T n nt fo (i + 1)).2) (L' := [some (.ref 289), some (.int nt), some (.int ((rmR T n nt fo (i + 1)).1)), some (.int (nI (qN fo + (i + 1)))), none]) (congrArg (fun x : Int32 × (Nat → Int32) => zs S 289 x.2) hst).symm (congrArg (fun x : Int32 × (Nat → Int32) => [some (Value.ref 289), some (Value.int nt), some (Value.int x.1), some (Value.int (nI (qN fo + (i + 1)))), none]) hst).symm ih_i
  · refine zt_aload_n (pc := 7) dX5_readMarks_7 rfl rfl ?_
    refine zt_aload_n (pc := 8) dX5_readMarks_8 rfl rfl ?_
    refine wt_getI (pc := 9) 5 23 (v := fo 23) dX5_readMarks_9 q1295 rfl (ms_o hM) rfl ?_
    refine zt_iconst (pc := 12) dX5_readMarks_12 (v := 1) rfl ?_
    refine zt_icmp_eq (pc := 13) 24 dX5_readMarks_13 (by decide) (fun c_13 => ?_) (fun c_13 => ?_)
    · refine zt_iconst (pc := 24) dX5_readMarks_24 (v := 1) rfl ?_
      refine zt_goto (pc := 25) 29 dX5_readMarks_25 (by decide) ?_
      refine zt_top (pc := 29) (bI (fo 23 = 1 ∨ fo 23 = 4)) ((bI_t (Or.inl c_13)).symm) ?_
      refine zt_iconst (pc := 29) dX5_readMarks_29 (v := 2) rfl ?_
      refine wt_callV (pc := 30) mX5_needs 2 5 (rc' := 0) (rs' := 0) dX5_readMarks_30 q1434 mi_X5_needs rfl rfl (ms_o hM) (tm_needsF hM (bI (fo 23 = 1 ∨ fo 23 = 4)) 2) rfl rfl rfl rfl rfl rfl ?_
      refine zt_f (f' := f_rm1 fo) rfl ?_
      refine zt_iconst (pc := 33) dX5_readMarks_33 (v := 0) rfl ?_
      refine zt_istore_n (pc := 34) (L' := [some (.ref 289), some (.int nt), some (.int 0), none, none]) dX5_readMarks_34 rfl (by decide) rfl rfl ?_
      refine zt_aload_n (pc := 35) dX5_readMarks_35 rfl rfl ?_
      refine wt_getI (pc := 36) 5 22 (v := nI (qN fo)) dX5_readMarks_36 q1294 rfl (ms_o hM) ((rm1_at (by decide) (by decide)).trans hP.2.2) ?_
      refine zt_istore_n (pc := 39) (L' := [some (.ref 289), some (.int nt), some (.int 0), some (.int (nI (qN fo))), none]) dX5_readMarks_39 rfl (by decide) rfl rfl ?_
      have hqp := hP.2.1
      have hpn := hP.1.1
      refine zt_for (pc := 40) (fun i => zs S 289 (rmR T n nt fo i).2) (fun i => [some (.ref 289), some (.int nt), some (.int ((rmR T n nt fo i).1)), some (.int (nI (qN fo + i))), none]) (pN fo - qN fo) rfl rfl ?_ (fun i hi_i ih_i => ?_)
      · show Zt _ _ _ _ _ _ (zW h (zs S 289 (rmR T n nt fo (pN fo - qN fo)).2)) 40 [some (.ref 289), some (.int nt), some (.int ((rmR T n nt fo (pN fo - qN fo)).1)), some (.int (nI (qN fo + (pN fo - qN fo)))), none] []
        have hqp := hP.2.1
        have hpn := hP.1.1
        refine zt_iload_n (pc := 40) dX5_readMarks_40 rfl rfl ?_
        refine zt_aload_n (pc := 41) dX5_readMarks_41 rfl rfl ?_
        refine wt_getI (pc := 42) 5 21 (v := nI (pN fo)) dX5_readMarks_42 q1293 rfl (ms_o hM) ((rmR_at (by decide) (by decide) _).trans hP.1.2) ?_
        refine zt_geN (a := qN fo + (pN fo - qN fo)) (b := pN fo) (pc := 45) 138 dX5_readMarks_45 (by decide) (by omega) (by omega) (fun c_45 => ?_) (fun c_45 => absurd c_45 (by omega))
        refine zt_drop (L' := [some (.ref 289), some (.int nt), some (.int ((rmR T n nt fo (pN fo - qN fo)).1)), none, none]) 3 rfl ?_
        refine zt_aload_n (pc := 138) dX5_readMarks_138 rfl rfl ?_
        refine wt_callV (pc := 139) mX5_next 0 5 (rc' := 0) (rs' := 0) dX5_readMarks_139 q1422 mi_X5_next rfl rfl (ms_o hM) (tm_nx (fo := f_rm2 T n nt fo) hM T n hn ((rm2_at (by decide) (by decide)).trans h20) h301 (hP.1.same (rm2_at (by decide) (by decide)))) rfl rfl rfl rfl rfl rfl ?_
        refine zt_iload_n (pc := 142) dX5_readMarks_142 rfl rfl ?_
        exact zt_ireturn (pc := 143) dX5_readMarks_143 rfl (⟨rfl, rfl⟩)
      · show Zt _ _ _ _ _ _ (zW h (zs S 289 (rmR T n nt fo i).2)) 40 [some (.ref 289), some (.int nt), some (.int ((rmR T n nt fo i).1)), some (.int (nI (qN fo + i))), none] []
        refine zt_iload_n (pc := 40) dX5_readMarks_40 rfl rfl ?_
        refine zt_aload_n (pc := 41) dX5_readMarks_41 rfl rfl ?_
        refine wt_getI (pc := 42) 5 21 (v := nI (pN fo)) dX5_readMarks_42 q1293 rfl (ms_o hM) ((rmR_at (by decide) (by decide) _).trans hP.1.2) ?_
        refine zt_geN (a := qN fo + i) (b := pN fo) (pc := 45) 138 dX5_readMarks_45 (by decide) (by omega) (by omega) (fun c_45 => absurd c_45 (by omega)) (fun c_45 => ?_)
        refine zt_aload_n (pc := 48) dX5_readMarks_48 rfl rfl ?_
        refine wt_getI (pc := 49) 5 25 (v := ((rmR T n nt fo i).2) 25) dX5_readMarks_49 q1297 rfl (ms_o hM) rfl ?_
        refine zt_if_ne (pc := 52) 138 dX5_readMarks_52 (by decide) (fun c_52 => ?_) (fun c_52 => ?_)
        · refine zt_drop (L' := [some (.ref 289), some (.int nt), some (.int ((rmR T n nt fo i).1)), none, none]) 3 rfl ?_
          have hend := rmR_end hi_i (fun z => c_52 z.1)
          refine zt_SL (S' := zs S 289 (f_rm2 T n nt fo)) (L' := [some (.ref 289), some (.int nt), some (.int (v_rm T n nt fo)), none, none]) (congrArg (fun x : Int32 × (Nat → Int32) => zs S 289 x.2) hend) (congrArg (fun x : Int32 × (Nat → Int32) => [some (Value.ref 289), some (Value.int nt), some (Value.int x.1), none, none]) hend) ?_
          refine zt_aload_n (pc := 138) dX5_readMarks_138 rfl rfl ?_
          refine wt_callV (pc := 139) mX5_next 0 5 (rc' := 0) (rs' := 0) dX5_readMarks_139 q1422 mi_X5_next rfl rfl (ms_o hM) (tm_nx (fo := f_rm2 T n nt fo) hM T n hn ((rm2_at (by decide) (by decide)).trans h20) h301 (hP.1.same (rm2_at (by decide) (by decide)))) rfl rfl rfl rfl rfl rfl ?_
          refine zt_iload_n (pc := 142) dX5_readMarks_142 rfl rfl ?_
          exact zt_ireturn (pc := 143) dX5_readMarks_143 rfl (⟨rfl, rfl⟩)
        · refine zt_aload_n (pc := 55) dX5_readMarks_55 rfl rfl ?_
          refine wt_getI (pc := 56) 5 23 (v := ((rmR T n nt fo i).2) 23) dX5_readMarks_56 q1295 rfl (ms_o hM) rfl ?_
          refine zt_iconst (pc := 59) dX5_readMarks_59 (v := 1) rfl ?_
          refine zt_icmp_ne (pc := 60) 138 dX5_readMarks_60 (by decide) (fun c_60 => ?_) (fun c_60 => ?_)
          · refine zt_drop (L' := [some (.ref 289), some (.int nt), some (.int ((rmR T n nt fo i).1)), none, none]) 3 rfl ?_
            have hend := rmR_end hi_i (fun z => c_60 z.2)
            refine zt_SL (S' := zs S 289 (f_rm2 T n nt fo)) (L' := [some (.ref 289), some (.int nt), some (.int (v_rm T n nt fo)), none, none]) (congrArg (fun x : Int32 × (Nat → Int32) => zs S 289 x.2) hend) (congrArg (fun x : Int32 × (Nat → Int32) => [some (Value.ref 289), some (Value.int nt), some (Value.int x.1), none, none]) hend) ?_
            refine zt_aload_n (pc := 138) dX5_readMarks_138 rfl rfl ?_
            refine wt_callV (pc := 139) mX5_next 0 5 (rc' := 0) (rs' := 0) dX5_readMarks_139 q1422 mi_X5_next rfl rfl (ms_o hM) (tm_nx (fo := f_rm2 T n nt fo) hM T n hn ((rm2_at (by decide) (by decide)).trans h20) h301 (hP.1.same (rm2_at (by decide) (by decide)))) rfl rfl rfl rfl rfl rfl ?_
            refine zt_iload_n (pc := 142) dX5_readMarks_142 rfl rfl ?_
            exact zt_ireturn (pc := 143) dX5_readMarks_143 rfl (⟨rfl, rfl⟩)
          · have hst : rmR T n nt fo (i + 1) = ((rmR T n nt fo i).1 ||| (if f_needs (rmR T n nt fo i).2 (rmG nt (rmR T n nt fo i).1 (lk T n (qN fo + i) - 97)) 3 25 = 0 then (1 : Int32) <<< ((lk T n (qN fo + i) - 97) &&& 31) else 0), f_needs (rmR T n nt fo i).2 (rmG nt (rmR T n nt fo i).1 (lk T n (qN fo + i) - 97)) 3) := if_pos ⟨c_52, c_60⟩
            refine zt_aload_n (pc := 63) dX5_readMarks_63 rfl rfl ?_
            refine zt_iload_n (pc := 64) dX5_readMarks_64 rfl rfl ?_
            refine wt_callV (pc := 65) mX5_look 1 5 (rc' := 0) (rs' := 0) dX5_readMarks_65 q1426 mi_X5_look rfl rfl (ms_o hM) (tm_look (S := zs S 289 (rmR T n nt fo i).2) hM T n hn ((rmR_at (by decide) (by decide) _).trans h20) h301 (qN fo + i) (by omega)) rfl rfl rfl rfl rfl rfl ?_
            refine zt_bipush (pc := 68) dX5_readMarks_68 (v := 97) rfl ?_
            refine zt_isub (pc := 70) dX5_readMarks_70 ?_
            refine zt_istore (pc := 71) (L' := [some (.ref 289), some (.int nt), some (.int ((rmR T n nt fo i).1)), some (.int (nI (qN fo + i))), some (.int ((lk T n (qN fo + i)) - 97))]) dX5_readMarks_71 (by decide) rfl rfl ?_
            refine zt_aload_n (pc := 73) dX5_readMarks_73 rfl rfl ?_
            refine zt_iload (pc := 74) dX5_readMarks_74 rfl ?_
            refine zt_i2l (pc := 76) dX5_readMarks_76 rfl ?_
            refine zt_lconst (pc := 77) dX5_readMarks_77 (v := 0) rfl ?_
            refine zt_ldc2 (pc := 78) dX5_readMarks_78 q1222 ?_
            refine wt_callS (pc := 81) mX5_in 3 (rc' := 0) (rs' := 0) dX5_readMarks_81 q1223 ms_X5_in (tm_in (((lk T n (qN fo + i)) - 97).toInt64) 0 7) rfl rfl rfl rfl rfl rfl ?_
            refine zt_if_eq (pc := 84) 109 dX5_readMarks_84 (by decide) (fun c_84 => ?_) (fun c_84 => ?_)
            · refine zt_iconst (pc := 109) dX5_readMarks_109 (v := 0) rfl ?_
              refine zt_top (pc := 110) (rmG nt (rmR T n nt fo i).1 (lk T n (qN fo + i) - 97)) ((bI_f (fun z => bI_eq0.mp c_84 z.1)).symm) ?_
              refine zt_iconst (pc := 110) dX5_readMarks_110 (v := 3) rfl ?_
              refine wt_callV (pc := 111) mX5_needs 2 5 (rc' := 0) (rs' := 0) dX5_readMarks_111 q1434 mi_X5_needs rfl rfl (ms_o hM) (tm_needsF hM (rmG nt (rmR T n nt fo i).1 (lk T n (qN fo + i) - 97)) 3) rfl rfl rfl rfl rfl rfl ?_
              refine zt_iload_n (pc := 114) dX5_readMarks_114 rfl rfl ?_
              refine zt_aload_n (pc := 115) dX5_readMarks_115 rfl rfl ?_
              refine wt_getI (pc := 116) 5 25 (v := (f_needs ((rmR T n nt fo i).2) (rmG nt (rmR T n nt fo i).1 (lk T n (qN fo + i) - 97)) 3) 25) dX5_readMarks_116 q1297 rfl (ms_o hM) rfl ?_
              refine zt_if_ne (pc := 119) 129 dX5_readMarks_119 (by decide) (fun c_119 => ?_) (fun c_119 => ?_)
              · refine zt_iconst (pc := 129) dX5_readMarks_129 (v := 0) rfl ?_
                refine zt_top (pc := 130) (if f_needs (rmR T n nt fo i).2 (rmG nt (rmR T n nt fo i).1 (lk T n (qN fo + i) - 97)) 3 25 = 0 then (1 : Int32) <<< ((lk T n (qN fo + i) - 97) &&& 31) else 0) ((if_neg c_119).symm) ?_
                refine zt_ior (pc := 130) dX5_readMarks_130 ?_
                refine zt_istore_n (pc := 131) (L' := [some (.ref 289), some (.int nt), some (.int (((rmR T n nt fo i).1) ||| (if f_needs (rmR T n nt fo i).2 (rmG nt (rmR T n nt fo i).1 (lk T n (qN fo + i) - 97)) 3 25 = 0 then (1 : Int32) <<< ((lk T n (qN fo + i) - 97) &&& 31) else 0))), some (.int (nI (qN fo + i))), some (.int ((lk T n (qN fo + i)) - 97))]) dX5_readMarks_131 rfl (by decide) rfl rfl ?_
                refine zt_iincN (pc := 132) (b := qN fo + i + 1) (L' := [some (.ref 289), some (.int nt), some (.int (((rmR T n nt fo i).1) ||| (if f_needs (rmR T n nt fo i).2 (rmG nt (rmR T n nt fo i).1 (lk T n (qN fo + i) - 97)) 3 25 = 0 then (1 : Int32) <<< ((lk T n (qN fo + i) - 97) &&& 31) else 0))), some (.int (nI (qN fo + i + 1))), some (.int ((lk T n (qN fo + i)) - 97))]) dX5_readMarks_132 rfl (zinc1 (qN fo + i)) (by decide) rfl rfl ?_
                refine zt_goto (pc := 135) 40 dX5_readMarks_135 (by decide) ?_
                refine zt_drop (L' := [some (.ref 289), some (.int nt), some (.int (((rmR T n nt fo i).1) ||| (if f_needs (rmR T n nt fo i).2 (rmG nt (rmR T n nt fo i).1 (lk T n (qN fo + i) - 97)) 3 25 = 0 then (1 : Int32) <<< ((lk T n (qN fo + i) - 97) &&& 31) else 0))), some (.int (nI (qN fo + i + 1))), none]) 4 rfl ?_
                refine zt_SL (S' := zs S 289 (rmR T n nt fo (i + 1)).2) (L' := [some (.ref 289), some (.int nt), some (.int ((rmR T n nt fo (i + 1)).1)), some (.int (nI (qN fo + (i + 1)))), none]) (congrArg (fun x : Int32 × (Nat → Int32) => zs S 289 x.2) hst).symm (congrArg (fun x : Int32 × (Nat → Int32) => [some (Value.ref 289), some (Value.int nt), some (Value.int x.1), some (Value.int (nI (qN fo + (i + 1)))), none]) hst).symm ih_i
              · refine zt_iconst (pc := 122) dX5_readMarks_122 (v := 1) rfl ?_
                refine zt_iload (pc := 123) dX5_readMarks_123 rfl ?_
                refine zt_ishl (pc := 125) dX5_readMarks_125 ?_
                refine zt_goto (pc := 126) 130 dX5_readMarks_126 (by decide) ?_
                refine zt_top (pc := 130) (if f_needs (rmR T n nt fo i).2 (rmG nt (rmR T n nt fo i).1 (lk T n (qN fo + i) - 97)) 3 25 = 0 then (1 : Int32) <<< ((lk T n (qN fo + i) - 97) &&& 31) else 0) ((if_pos c_119).symm) ?_
                refine zt_ior (pc := 130) dX5_readMarks_130 ?_
                refine zt_istore_n (pc := 131) (L' := [some (.ref 289), some (.int nt), some (.int (((rmR T n nt fo i).1) ||| (if f_needs (rmR T n nt fo i).2 (rmG nt (rmR T n nt fo i).1 (lk T n (qN fo + i) - 97)) 3 25 = 0 then (1 : Int32) <<< ((lk T n (qN fo + i) - 97) &&& 31) else 0))), some (.int (nI (qN fo + i))), some (.int ((lk T n (qN fo + i)) - 97))]) dX5_readMarks_131 rfl (by decide) rfl rfl ?_
                refine zt_iincN (pc := 132) (b := qN fo + i + 1) (L' := [some (.ref 289), some (.int nt), some (.int (((rmR T n nt fo i).1) ||| (if f_needs (rmR T n nt fo i).2 (rmG nt (rmR T n nt fo i).1 (lk T n (qN fo + i) - 97)) 3 25 = 0 then (1 : Int32) <<< ((lk T n (qN fo + i) - 97) &&& 31) else 0))), some (.int (nI (qN fo + i + 1))), some (.int ((lk T n (qN fo + i)) - 97))]) dX5_readMarks_132 rfl (zinc1 (qN fo + i)) (by decide) rfl rfl ?_
                refine zt_goto (pc := 135) 40 dX5_readMarks_135 (by decide) ?_
                refine zt_drop (L' := [some (.ref 289), some (.int nt), some (.int (((rmR T n nt fo i).1) ||| (if f_needs (rmR T n nt fo i).2 (rmG nt (rmR T n nt fo i).1 (lk T n (qN fo + i) - 97)) 3 25 = 0 then (1 : Int32) <<< ((lk T n (qN fo + i) - 97) &&& 31) else 0))), some (.int (nI (qN fo + i + 1))), none]) 4 rfl ?_
                refine zt_SL (S' := zs S 289 (rmR T n nt fo (i + 1)).2) (L' := [some (.ref 289), some (.int nt), some (.int ((rmR T n nt fo (i + 1)).1)), some (.int (nI (qN fo + (i + 1)))), none]) (congrArg (fun x : Int32 × (Nat → Int32) => zs S 289 x.2) hst).symm (congrArg (fun x : Int32 × (Nat → Int32) => [some (Value.ref 289), some (Value.int nt), some (Value.int x.1), some (Value.int (nI (qN fo + (i + 1)))), none]) hst).symm ih_i
            · refine zt_iload_n (pc := 87) dX5_readMarks_87 rfl rfl ?_
              refine zt_iload (pc := 88) dX5_readMarks_88 rfl ?_
              refine zt_ishr (pc := 90) dX5_readMarks_90 ?_
              refine zt_iconst (pc := 91) dX5_readMarks_91 (v := 1) rfl ?_
              refine zt_iand (pc := 92) dX5_readMarks_92 ?_
              refine zt_if_ne (pc := 93) 109 dX5_readMarks_93 (by decide) (fun c_93 => ?_) (fun c_93 => ?_)
              · refine zt_iconst (pc := 109) dX5_readMarks_109 (v := 0) rfl ?_
                refine zt_top (pc := 110) (rmG nt (rmR T n nt fo i).1 (lk T n (qN fo + i) - 97)) ((bI_f (fun z => c_93 z.2.1)).symm) ?_
                refine zt_iconst (pc := 110) dX5_readMarks_110 (v := 3) rfl ?_
                refine wt_callV (pc := 111) mX5_needs 2 5 (rc' := 0) (rs' := 0) dX5_readMarks_111 q1434 mi_X5_needs rfl rfl (ms_o hM) (tm_needsF hM (rmG nt (rmR T n nt fo i).1 (lk T n (qN fo + i) - 97)) 3) rfl rfl rfl rfl rfl rfl ?_
                refine zt_iload_n (pc := 114) dX5_readMarks_114 rfl rfl ?_
                refine zt_aload_n (pc := 115) dX5_readMarks_115 rfl rfl ?_
                refine wt_getI (pc := 116) 5 25 (v := (f_needs ((rmR T n nt fo i).2) (rmG nt (rmR T n nt fo i).1 (lk T n (qN fo + i) - 97)) 3) 25) dX5_readMarks_116 q1297 rfl (ms_o hM) rfl ?_
                refine zt_if_ne (pc := 119) 129 dX5_readMarks_119 (by decide) (fun c_119 => ?_) (fun c_119 => ?_)
                · refine zt_iconst (pc := 129) dX5_readMarks_129 (v := 0) rfl ?_
                  refine zt_top (pc := 130) (if f_needs (rmR T n nt fo i).2 (rmG nt (rmR T n nt fo i).1 (lk T n (qN fo + i) - 97)) 3 25 = 0 then (1 : Int32) <<< ((lk T n (qN fo + i) - 97) &&& 31) else 0) ((if_neg c_119).symm) ?_
                  refine zt_ior (pc := 130) dX5_readMarks_130 ?_
                  refine zt_istore_n (pc := 131) (L' := [some (.ref 289), some (.int nt), some (.int (((rmR T n nt fo i).1) ||| (if f_needs (rmR T n nt fo i).2 (rmG nt (rmR T n nt fo i).1 (lk T n (qN fo + i) - 97)) 3 25 = 0 then (1 : Int32) <<< ((lk T n (qN fo + i) - 97) &&& 31) else 0))), some (.int (nI (qN fo + i))), some (.int ((lk T n (qN fo + i)) - 97))]) dX5_readMarks_131 rfl (by decide) rfl rfl ?_
                  refine zt_iincN (pc := 132) (b := qN fo + i + 1) (L' := [some (.ref 289), some (.int nt), some (.int (((rmR T n nt fo i).1) ||| (if f_needs (rmR T n nt fo i).2 (rmG nt (rmR T n nt fo i).1 (lk T n (qN fo + i) - 97)) 3 25 = 0 then (1 : Int32) <<< ((lk T n (qN fo + i) - 97) &&& 31) else 0))), some (.int (nI (qN fo + i + 1))), some (.int ((lk T n (qN fo + i)) - 97))]) dX5_readMarks_132 rfl (zinc1 (qN fo + i)) (by decide) rfl rfl ?_
                  refine zt_goto (pc := 135) 40 dX5_readMarks_135 (by decide) ?_
                  refine zt_drop (L' := [some (.ref 289), some (.int nt), some (.int (((rmR T n nt fo i).1) ||| (if f_needs (rmR T n nt fo i).2 (rmG nt (rmR T n nt fo i).1 (lk T n (qN fo + i) - 97)) 3 25 = 0 then (1 : Int32) <<< ((lk T n (qN fo + i) - 97) &&& 31) else 0))), some (.int (nI (qN fo + i + 1))), none]) 4 rfl ?_
                  refine zt_SL (S' := zs S 289 (rmR T n nt fo (i + 1)).2) (L' := [some (.ref 289), some (.int nt), some (.int ((rmR T n nt fo (i + 1)).1)), some (.int (nI (qN fo + (i + 1)))), none]) (congrArg (fun x : Int32 × (Nat → Int32) => zs S 289 x.2) hst).symm (congrArg (fun x : Int32 × (Nat → Int32) => [some (Value.ref 289), some (Value.int nt), some (Value.int x.1), some (Value.int (nI (qN fo + (i + 1)))), none]) hst).symm ih_i
                · refine zt_iconst (pc := 122) dX5_readMarks_122 (v := 1) rfl ?_
                  refine zt_iload (pc := 123) dX5_readMarks_123 rfl ?_
                  refine zt_ishl (pc := 125) dX5_readMarks_125 ?_
                  refine zt_goto (pc := 126) 130 dX5_readMarks_126 (by decide) ?_
                  refine zt_top (pc := 130) (if f_needs (rmR T n nt fo i).2 (rmG nt (rmR T n nt fo i).1 (lk T n (qN fo + i) - 97)) 3 25 = 0 then (1 : Int32) <<< ((lk T n (qN fo + i) - 97) &&& 31) else 0) ((if_pos c_119).symm) ?_
                  refine zt_ior (pc := 130) dX5_readMarks_130 ?_
                  refine zt_istore_n (pc := 131) (L' := [some (.ref 289), some (.int nt), some (.int (((rmR T n nt fo i).1) ||| (if f_needs (rmR T n nt fo i).2 (rmG nt (rmR T n nt fo i).1 (lk T n (qN fo + i) - 97)) 3 25 = 0 then (1 : Int32) <<< ((lk T n (qN fo + i) - 97) &&& 31) else 0))), some (.int (nI (qN fo + i))), some (.int ((lk T n (qN fo + i)) - 97))]) dX5_readMarks_131 rfl (by decide) rfl rfl ?_
                  refine zt_iincN (pc := 132) (b := qN fo + i + 1) (L' := [some (.ref 289), some (.int nt), some (.int (((rmR T n nt fo i).1) ||| (if f_needs (rmR T n nt fo i).2 (rmG nt (rmR T n nt fo i).1 (lk T n (qN fo + i) - 97)) 3 25 = 0 then (1 : Int32) <<< ((lk T n (qN fo + i) - 97) &&& 31) else 0))), some (.int (nI (qN fo + i + 1))), some (.int ((lk T n (qN fo + i)) - 97))]) dX5_readMarks_132 rfl (zinc1 (qN fo + i)) (by decide) rfl rfl ?_
                  refine zt_goto (pc := 135) 40 dX5_readMarks_135 (by decide) ?_
                  refine zt_drop (L' := [some (.ref 289), some (.int nt), some (.int (((rmR T n nt fo i).1) ||| (if f_needs (rmR T n nt fo i).2 (rmG nt (rmR T n nt fo i).1 (lk T n (qN fo + i) - 97)) 3 25 = 0 then (1 : Int32) <<< ((lk T n (qN fo + i) - 97) &&& 31) else 0))), some (.int (nI (qN fo + i + 1))), none]) 4 rfl ?_
                  refine zt_SL (S' := zs S 289 (rmR T n nt fo (i + 1)).2) (L' := [some (.ref 289), some (.int nt), some (.int ((rmR T n nt fo (i + 1)).1)), some (.int (nI (qN fo + (i + 1)))), none]) (congrArg (fun x : Int32 × (Nat → Int32) => zs S 289 x.2) hst).symm (congrArg (fun x : Int32 × (Nat → Int32) => [some (Value.ref 289), some (Value.int nt), some (Value.int x.1), some (Value.int (nI (qN fo + (i + 1)))), none]) hst).symm ih_i
              · refine zt_iload_n (pc := 96) dX5_readMarks_96 rfl rfl ?_
                refine zt_iload (pc := 97) dX5_readMarks_97 rfl ?_
                refine zt_ishr (pc := 99) dX5_readMarks_99 ?_
                refine zt_iconst (pc := 100) dX5_readMarks_100 (v := 1) rfl ?_
                refine zt_iand (pc := 101) dX5_readMarks_101 ?_
                refine zt_if_ne (pc := 102) 109 dX5_readMarks_102 (by decide) (fun c_102 => ?_) (fun c_102 => ?_)
                · refine zt_iconst (pc := 109) dX5_readMarks_109 (v := 0) rfl ?_
                  refine zt_top (pc := 110) (rmG nt (rmR T n nt fo i).1 (lk T n (qN fo + i) - 97)) ((bI_f (fun z => c_102 z.2.2)).symm) ?_
                  refine zt_iconst (pc := 110) dX5_readMarks_110 (v := 3) rfl ?_
                  refine wt_callV (pc := 111) mX5_needs 2 5 (rc' := 0) (rs' := 0) dX5_readMarks_111 q1434 mi_X5_needs rfl rfl (ms_o hM) (tm_needsF hM (rmG nt (rmR T n nt fo i).1 (lk T n (qN fo + i) - 97)) 3) rfl rfl rfl rfl rfl rfl ?_
                  refine zt_iload_n (pc := 114) dX5_readMarks_114 rfl rfl ?_
                  refine zt_aload_n (pc := 115) dX5_readMarks_115 rfl rfl ?_
                  refine wt_getI (pc := 116) 5 25 (v := (f_needs ((rmR T n nt fo i).2) (rmG nt (rmR T n nt fo i).1 (lk T n (qN fo + i) - 97)) 3) 25) dX5_readMarks_116 q1297 rfl (ms_o hM) rfl ?_
                  refine zt_if_ne (pc := 119) 129 dX5_readMarks_119 (by decide) (fun c_119 => ?_) (fun c_119 => ?_)
                  · refine zt_iconst (pc := 129) dX5_readMarks_129 (v := 0) rfl ?_
                    refine zt_top (pc := 130) (if f_needs (rmR T n nt fo i).2 (rmG nt (rmR T n nt fo i).1 (lk T n (qN fo + i) - 97)) 3 25 = 0 then (1 : Int32) <<< ((lk T n (qN fo + i) - 97) &&& 31) else 0) ((if_neg c_119).symm) ?_
                    refine zt_ior (pc := 130) dX5_readMarks_130 ?_
                    refine zt_istore_n (pc := 131) (L' := [some (.ref 289), some (.int nt), some (.int (((rmR T n nt fo i).1) ||| (if f_needs (rmR T n nt fo i).2 (rmG nt (rmR T n nt fo i).1 (lk T n (qN fo + i) - 97)) 3 25 = 0 then (1 : Int32) <<< ((lk T n (qN fo + i) - 97) &&& 31) else 0))), some (.int (nI (qN fo + i))), some (.int ((lk T n (qN fo + i)) - 97))]) dX5_readMarks_131 rfl (by decide) rfl rfl ?_
                    refine zt_iincN (pc := 132) (b := qN fo + i + 1) (L' := [some (.ref 289), some (.int nt), some (.int (((rmR T n nt fo i).1) ||| (if f_needs (rmR T n nt fo i).2 (rmG nt (rmR T n nt fo i).1 (lk T n (qN fo + i) - 97)) 3 25 = 0 then (1 : Int32) <<< ((lk T n (qN fo + i) - 97) &&& 31) else 0))), some (.int (nI (qN fo + i + 1))), some (.int ((lk T n (qN fo + i)) - 97))]) dX5_readMarks_132 rfl (zinc1 (qN fo + i)) (by decide) rfl rfl ?_
                    refine zt_goto (pc := 135) 40 dX5_readMarks_135 (by decide) ?_
                    refine zt_drop (L' := [some (.ref 289), some (.int nt), some (.int (((rmR T n nt fo i).1) ||| (if f_needs (rmR T n nt fo i).2 (rmG nt (rmR T n nt fo i).1 (lk T n (qN fo + i) - 97)) 3 25 = 0 then (1 : Int32) <<< ((lk T n (qN fo + i) - 97) &&& 31) else 0))), some (.int (nI (qN fo + i + 1))), none]) 4 rfl ?_
                    refine zt_SL (S' := zs S 289 (rmR T n nt fo (i + 1)).2) (L' := [some (.ref 289), some (.int nt), some (.int ((rmR T n nt fo (i + 1)).1)), some (.int (nI (qN fo + (i + 1)))), none]) (congrArg (fun x : Int32 × (Nat → Int32) => zs S 289 x.2) hst).symm (congrArg (fun x : Int32 × (Nat → Int32) => [some (Value.ref 289), some (Value.int nt), some (Value.int x.1), some (Value.int (nI (qN fo + (i + 1)))), none]) hst).symm ih_i
                  · refine zt_iconst (pc := 122) dX5_readMarks_122 (v := 1) rfl ?_
                    refine zt_iload (pc := 123) dX5_readMarks_123 rfl ?_
                    refine zt_ishl (pc := 125) dX5_readMarks_125 ?_
                    refine zt_goto (pc := 126) 130 dX5_readMarks_126 (by decide) ?_
                    refine zt_top (pc := 130) (if f_needs (rmR T n nt fo i).2 (rmG nt (rmR T n nt fo i).1 (lk T n (qN fo + i) - 97)) 3 25 = 0 then (1 : Int32) <<< ((lk T n (qN fo + i) - 97) &&& 31) else 0) ((if_pos c_119).symm) ?_
                    refine zt_ior (pc := 130) dX5_readMarks_130 ?_
                    refine zt_istore_n (pc := 131) (L' := [some (.ref 289), some (.int nt), some (.int (((rmR T n nt fo i).1) ||| (if f_needs (rmR T n nt fo i).2 (rmG nt (rmR T n nt fo i).1 (lk T n (qN fo + i) - 97)) 3 25 = 0 then (1 : Int32) <<< ((lk T n (qN fo + i) - 97) &&& 31) else 0))), some (.int (nI (qN fo + i))), some (.int ((lk T n (qN fo + i)) - 97))]) dX5_readMarks_131 rfl (by decide) rfl rfl ?_
                    refine zt_iincN (pc := 132) (b := qN fo + i + 1) (L' := [some (.ref 289), some (.int nt), some (.int (((rmR T n nt fo i).1) ||| (if f_needs (rmR T n nt fo i).2 (rmG nt (rmR T n nt fo i).1 (lk T n (qN fo + i) - 97)) 3 25 = 0 then (1 : Int32) <<< ((lk T n (qN fo + i) - 97) &&& 31) else 0))), some (.int (nI (qN fo + i + 1))), some (.int ((lk T n (qN fo + i)) - 97))]) dX5_readMarks_132 rfl (zinc1 (qN fo + i)) (by decide) rfl rfl ?_
                    refine zt_goto (pc := 135) 40 dX5_readMarks_135 (by decide) ?_
                    refine zt_drop (L' := [some (.ref 289), some (.int nt), some (.int (((rmR T n nt fo i).1) ||| (if f_needs (rmR T n nt fo i).2 (rmG nt (rmR T n nt fo i).1 (lk T n (qN fo + i) - 97)) 3 25 = 0 then (1 : Int32) <<< ((lk T n (qN fo + i) - 97) &&& 31) else 0))), some (.int (nI (qN fo + i + 1))), none]) 4 rfl ?_
                    refine zt_SL (S' := zs S 289 (rmR T n nt fo (i + 1)).2) (L' := [some (.ref 289), some (.int nt), some (.int ((rmR T n nt fo (i + 1)).1)), some (.int (nI (qN fo + (i + 1)))), none]) (congrArg (fun x : Int32 × (Nat → Int32) => zs S 289 x.2) hst).symm (congrArg (fun x : Int32 × (Nat → Int32) => [some (Value.ref 289), some (Value.int nt), some (Value.int x.1), some (Value.int (nI (qN fo + (i + 1)))), none]) hst).symm ih_i
                · refine zt_iconst (pc := 105) dX5_readMarks_105 (v := 1) rfl ?_
                  refine zt_goto (pc := 106) 110 dX5_readMarks_106 (by decide) ?_
                  refine zt_top (pc := 110) (rmG nt (rmR T n nt fo i).1 (lk T n (qN fo + i) - 97)) ((bI_t ⟨bI_ne0 c_84, c_93, c_102⟩).symm) ?_
                  refine zt_iconst (pc := 110) dX5_readMarks_110 (v := 3) rfl ?_
                  refine wt_callV (pc := 111) mX5_needs 2 5 (rc' := 0) (rs' := 0) dX5_readMarks_111 q1434 mi_X5_needs rfl rfl (ms_o hM) (tm_needsF hM (rmG nt (rmR T n nt fo i).1 (lk T n (qN fo + i) - 97)) 3) rfl rfl rfl rfl rfl rfl ?_
                  refine zt_iload_n (pc := 114) dX5_readMarks_114 rfl rfl ?_
                  refine zt_aload_n (pc := 115) dX5_readMarks_115 rfl rfl ?_
                  refine wt_getI (pc := 116) 5 25 (v := (f_needs ((rmR T n nt fo i).2) (rmG nt (rmR T n nt fo i).1 (lk T n (qN fo + i) - 97)) 3) 25) dX5_readMarks_116 q1297 rfl (ms_o hM) rfl ?_
                  refine zt_if_ne (pc := 119) 129 dX5_readMarks_119 (by decide) (fun c_119 => ?_) (fun c_119 => ?_)
                  · refine zt_iconst (pc := 129) dX5_readMarks_129 (v := 0) rfl ?_
                    refine zt_top (pc := 130) (if f_needs (rmR T n nt fo i).2 (rmG nt (rmR T n nt fo i).1 (lk T n (qN fo + i) - 97)) 3 25 = 0 then (1 : Int32) <<< ((lk T n (qN fo + i) - 97) &&& 31) else 0) ((if_neg c_119).symm) ?_
                    refine zt_ior (pc := 130) dX5_readMarks_130 ?_
                    refine zt_istore_n (pc := 131) (L' := [some (.ref 289), some (.int nt), some (.int (((rmR T n nt fo i).1) ||| (if f_needs (rmR T n nt fo i).2 (rmG nt (rmR T n nt fo i).1 (lk T n (qN fo + i) - 97)) 3 25 = 0 then (1 : Int32) <<< ((lk T n (qN fo + i) - 97) &&& 31) else 0))), some (.int (nI (qN fo + i))), some (.int ((lk T n (qN fo + i)) - 97))]) dX5_readMarks_131 rfl (by decide) rfl rfl ?_
                    refine zt_iincN (pc := 132) (b := qN fo + i + 1) (L' := [some (.ref 289), some (.int nt), some (.int (((rmR T n nt fo i).1) ||| (if f_needs (rmR T n nt fo i).2 (rmG nt (rmR T n nt fo i).1 (lk T n (qN fo + i) - 97)) 3 25 = 0 then (1 : Int32) <<< ((lk T n (qN fo + i) - 97) &&& 31) else 0))), some (.int (nI (qN fo + i + 1))), some (.int ((lk T n (qN fo + i)) - 97))]) dX5_readMarks_132 rfl (zinc1 (qN fo + i)) (by decide) rfl rfl ?_
                    refine zt_goto (pc := 135) 40 dX5_readMarks_135 (by decide) ?_
                    refine zt_drop (L' := [some (.ref 289), some (.int nt), some (.int (((rmR T n nt fo i).1) ||| (if f_needs (rmR T n nt fo i).2 (rmG nt (rmR T n nt fo i).1 (lk T n (qN fo + i) - 97)) 3 25 = 0 then (1 : Int32) <<< ((lk T n (qN fo + i) - 97) &&& 31) else 0))), some (.int (nI (qN fo + i + 1))), none]) 4 rfl ?_
                    refine zt_SL (S' := zs S 289 (rmR T n nt fo (i + 1)).2) (L' := [some (.ref 289), some (.int nt), some (.int ((rmR T n nt fo (i + 1)).1)), some (.int (nI (qN fo + (i + 1)))), none]) (congrArg (fun x : Int32 × (Nat → Int32) => zs S 289 x.2) hst).symm (congrArg (fun x : Int32 × (Nat → Int32) => [some (Value.ref 289), some (Value.int nt), some (Value.int x.1), some (Value.int (nI (qN fo + (i + 1)))), none]) hst).symm ih_i
                  · refine zt_iconst (pc := 122) dX5_readMarks_122 (v := 1) rfl ?_
                    refine zt_iload (pc := 123) dX5_readMarks_123 rfl ?_
                    refine zt_ishl (pc := 125) dX5_readMarks_125 ?_
                    refine zt_goto (pc := 126) 130 dX5_readMarks_126 (by decide) ?_
                    refine zt_top (pc := 130) (if f_needs (rmR T n nt fo i).2 (rmG nt (rmR T n nt fo i).1 (lk T n (qN fo + i) - 97)) 3 25 = 0 then (1 : Int32) <<< ((lk T n (qN fo + i) - 97) &&& 31) else 0) ((if_pos c_119).symm) ?_
                    refine zt_ior (pc := 130) dX5_readMarks_130 ?_
                    refine zt_istore_n (pc := 131) (L' := [some (.ref 289), some (.int nt), some (.int (((rmR T n nt fo i).1) ||| (if f_needs (rmR T n nt fo i).2 (rmG nt (rmR T n nt fo i).1 (lk T n (qN fo + i) - 97)) 3 25 = 0 then (1 : Int32) <<< ((lk T n (qN fo + i) - 97) &&& 31) else 0))), some (.int (nI (qN fo + i))), some (.int ((lk T n (qN fo + i)) - 97))]) dX5_readMarks_131 rfl (by decide) rfl rfl ?_
                    refine zt_iincN (pc := 132) (b := qN fo + i + 1) (L' := [some (.ref 289), some (.int nt), some (.int (((rmR T n nt fo i).1) ||| (if f_needs (rmR T n nt fo i).2 (rmG nt (rmR T n nt fo i).1 (lk T n (qN fo + i) - 97)) 3 25 = 0 then (1 : Int32) <<< ((lk T n (qN fo + i) - 97) &&& 31) else 0))), some (.int (nI (qN fo + i + 1))), some (.int ((lk T n (qN fo + i)) - 97))]) dX5_readMarks_132 rfl (zinc1 (qN fo + i)) (by decide) rfl rfl ?_
                    refine zt_goto (pc := 135) 40 dX5_readMarks_135 (by decide) ?_
                    refine zt_drop (L' := [some (.ref 289), some (.int nt), some (.int (((rmR T n nt fo i).1) ||| (if f_needs (rmR T n nt fo i).2 (rmG nt (rmR T n nt fo i).1 (lk T n (qN fo + i) - 97)) 3 25 = 0 then (1 : Int32) <<< ((lk T n (qN fo + i) - 97) &&& 31) else 0))), some (.int (nI (qN fo + i + 1))), none]) 4 rfl ?_
                    refine zt_SL (S' := zs S 289 (rmR T n nt fo (i + 1)).2) (L' := [some (.ref 289), some (.int nt), some (.int ((rmR T n nt fo (i + 1)).1)), some (.int (nI (qN fo + (i + 1)))), none]) (congrArg (fun x : Int32 × (Nat → Int32) => zs S 289 x.2) hst).symm (congrArg (fun x : Int32 × (Nat → Int32) => [some (Value.ref 289), some (Value.int nt), some (Value.int x.1), some (Value.int (nI (qN fo + (i + 1)))), none]) hst).symm ih_i
    · refine zt_aload_n (pc := 16) dX5_readMarks_16 rfl rfl ?_
      refine wt_getI (pc := 17) 5 23 (v := fo 23) dX5_readMarks_17 q1295 rfl (ms_o hM) rfl ?_
      refine zt_iconst (pc := 20) dX5_readMarks_20 (v := 4) rfl ?_
      refine zt_icmp_ne (pc := 21) 28 dX5_readMarks_21 (by decide) (fun c_21 => ?_) (fun c_21 => ?_)
      · refine zt_iconst (pc := 28) dX5_readMarks_28 (v := 0) rfl ?_
        refine zt_top (pc := 29) (bI (fo 23 = 1 ∨ fo 23 = 4)) ((bI_f (fun z => z.elim c_13 c_21)).symm) ?_
        refine zt_iconst (pc := 29) dX5_readMarks_29 (v := 2) rfl ?_
        refine wt_callV (pc := 30) mX5_needs 2 5 (rc' := 0) (rs' := 0) dX5_readMarks_30 q1434 mi_X5_needs rfl rfl (ms_o hM) (tm_needsF hM (bI (fo 23 = 1 ∨ fo 23 = 4)) 2) rfl rfl rfl rfl rfl rfl ?_
        refine zt_f (f' := f_rm1 fo) rfl ?_
        refine zt_iconst (pc := 33) dX5_readMarks_33 (v := 0) rfl ?_
        refine zt_istore_n (pc := 34) (L' := [some (.ref 289), some (.int nt), some (.int 0), none, none]) dX5_readMarks_34 rfl (by decide) rfl rfl ?_
        refine zt_aload_n (pc := 35) dX5_readMarks_35 rfl rfl ?_
        refine wt_getI (pc := 36) 5 22 (v := nI (qN fo)) dX5_readMarks_36 q1294 rfl (ms_o hM) ((rm1_at (by decide) (by decide)).trans hP.2.2) ?_
        refine zt_istore_n (pc := 39) (L' := [some (.ref 289), some (.int nt), some (.int 0), some (.int (nI (qN fo))), none]) dX5_readMarks_39 rfl (by decide) rfl rfl ?_
        have hqp := hP.2.1
        have hpn := hP.1.1
        refine zt_for (pc := 40) (fun i => zs S 289 (rmR T n nt fo i).2) (fun i => [some (.ref 289), some (.int nt), some (.int ((rmR T n nt fo i).1)), some (.int (nI (qN fo + i))), none]) (pN fo - qN fo) rfl rfl ?_ (fun i hi_i ih_i => ?_)
        · show Zt _ _ _ _ _ _ (zW h (zs S 289 (rmR T n nt fo (pN fo - qN fo)).2)) 40 [some (.ref 289), some (.int nt), some (.int ((rmR T n nt fo (pN fo - qN fo)).1)), some (.int (nI (qN fo + (pN fo - qN fo)))), none] []
          have hqp := hP.2.1
          have hpn := hP.1.1
          refine zt_iload_n (pc := 40) dX5_readMarks_40 rfl rfl ?_
          refine zt_aload_n (pc := 41) dX5_readMarks_41 rfl rfl ?_
          refine wt_getI (pc := 42) 5 21 (v := nI (pN fo)) dX5_readMarks_42 q1293 rfl (ms_o hM) ((rmR_at (by decide) (by decide) _).trans hP.1.2) ?_
          refine zt_geN (a := qN fo + (pN fo - qN fo)) (b := pN fo) (pc := 45) 138 dX5_readMarks_45 (by decide) (by omega) (by omega) (fun c_45 => ?_) (fun c_45 => absurd c_45 (by omega))
          refine zt_drop (L' := [some (.ref 289), some (.int nt), some (.int ((rmR T n nt fo (pN fo - qN fo)).1)), none, none]) 3 rfl ?_
          refine zt_aload_n (pc := 138) dX5_readMarks_138 rfl rfl ?_
          refine wt_callV (pc := 139) mX5_next 0 5 (rc' := 0) (rs' := 0) dX5_readMarks_139 q1422 mi_X5_next rfl rfl (ms_o hM) (tm_nx (fo := f_rm2 T n nt fo) hM T n hn ((rm2_at (by decide) (by decide)).trans h20) h301 (hP.1.same (rm2_at (by decide) (by decide)))) rfl rfl rfl rfl rfl rfl ?_
          refine zt_iload_n (pc := 142) dX5_readMarks_142 rfl rfl ?_
          exact zt_ireturn (pc := 143) dX5_readMarks_143 rfl (⟨rfl, rfl⟩)
        · show Zt _ _ _ _ _ _ (zW h (zs S 289 (rmR T n nt fo i).2)) 40 [some (.ref 289), some (.int nt), some (.int ((rmR T n nt fo i).1)), some (.int (nI (qN fo + i))), none] []
          refine zt_iload_n (pc := 40) dX5_readMarks_40 rfl rfl ?_
          refine zt_aload_n (pc := 41) dX5_readMarks_41 rfl rfl ?_
          refine wt_getI (pc := 42) 5 21 (v := nI (pN fo)) dX5_readMarks_42 q1293 rfl (ms_o hM) ((rmR_at (by decide) (by decide) _).trans hP.1.2) ?_
          refine zt_geN (a := qN fo + i) (b := pN fo) (pc := 45) 138 dX5_readMarks_45 (by decide) (by omega) (by omega) (fun c_45 => absurd c_45 (by omega)) (fun c_45 => ?_)
          refine zt_aload_n (pc := 48) dX5_readMarks_48 rfl rfl ?_
          refine wt_getI (pc := 49) 5 25 (v := ((rmR T n nt fo i).2) 25) dX5_readMarks_49 q1297 rfl (ms_o hM) rfl ?_
          refine zt_if_ne (pc := 52) 138 dX5_readMarks_52 (by decide) (fun c_52 => ?_) (fun c_52 => ?_)
          · refine zt_drop (L' := [some (.ref 289), some (.int nt), some (.int ((rmR T n nt fo i).1)), none, none]) 3 rfl ?_
            have hend := rmR_end hi_i (fun z => c_52 z.1)
            refine zt_SL (S' := zs S 289 (f_rm2 T n nt fo)) (L' := [some (.ref 289), some (.int nt), some (.int (v_rm T n nt fo)), none, none]) (congrArg (fun x : Int32 × (Nat → Int32) => zs S 289 x.2) hend) (congrArg (fun x : Int32 × (Nat → Int32) => [some (Value.ref 289), some (Value.int nt), some (Value.int x.1), none, none]) hend) ?_
            refine zt_aload_n (pc := 138) dX5_readMarks_138 rfl rfl ?_
            refine wt_callV (pc := 139) mX5_next 0 5 (rc' := 0) (rs' := 0) dX5_readMarks_139 q1422 mi_X5_next rfl rfl (ms_o hM) (tm_nx (fo := f_rm2 T n nt fo) hM T n hn ((rm2_at (by decide) (by decide)).trans h20) h301 (hP.1.same (rm2_at (by decide) (by decide)))) rfl rfl rfl rfl rfl rfl ?_
            refine zt_iload_n (pc := 142) dX5_readMarks_142 rfl rfl ?_
            exact zt_ireturn (pc := 143) dX5_readMarks_143 rfl (⟨rfl, rfl⟩)
          · refine zt_aload_n (pc := 55) dX5_readMarks_55 rfl rfl ?_
            refine wt_getI (pc := 56) 5 23 (v := ((rmR T n nt fo i).2) 23) dX5_readMarks_56 q1295 rfl (ms_o hM) rfl ?_
            refine zt_iconst (pc := 59) dX5_readMarks_59 (v := 1) rfl ?_
            refine zt_icmp_ne (pc := 60) 138 dX5_readMarks_60 (by decide) (fun c_60 => ?_) (fun c_60 => ?_)
            · refine zt_drop (L' := [some (.ref 289), some (.int nt), some (.int ((rmR T n nt fo i).1)), none, none]) 3 rfl ?_
              have hend := rmR_end hi_i (fun z => c_60 z.2)
              refine zt_SL (S' := zs S 289 (f_rm2 T n nt fo)) (L' := [some (.ref 289), some (.int nt), some (.int (v_rm T n nt fo)), none, none]) (congrArg (fun x : Int32 × (Nat → Int32) => zs S 289 x.2) hend) (congrArg (fun x : Int32 × (Nat → Int32) => [some (Value.ref 289), some (Value.int nt), some (Value.int x.1), none, none]) hend) ?_
              refine zt_aload_n (pc := 138) dX5_readMarks_138 rfl rfl ?_
              refine wt_callV (pc := 139) mX5_next 0 5 (rc' := 0) (rs' := 0) dX5_readMarks_139 q1422 mi_X5_next rfl rfl (ms_o hM) (tm_nx (fo := f_rm2 T n nt fo) hM T n hn ((rm2_at (by decide) (by decide)).trans h20) h301 (hP.1.same (rm2_at (by decide) (by decide)))) rfl rfl rfl rfl rfl rfl ?_
              refine zt_iload_n (pc := 142) dX5_readMarks_142 rfl rfl ?_
              exact zt_ireturn (pc := 143) dX5_readMarks_143 rfl (⟨rfl, rfl⟩)
            · have hst : rmR T n nt fo (i + 1) = ((rmR T n nt fo i).1 ||| (if f_needs (rmR T n nt fo i).2 (rmG nt (rmR T n nt fo i).1 (lk T n (qN fo + i) - 97)) 3 25 = 0 then (1 : Int32) <<< ((lk T n (qN fo + i) - 97) &&& 31) else 0), f_needs (rmR T n nt fo i).2 (rmG nt (rmR T n nt fo i).1 (lk T n (qN fo + i) - 97)) 3) := if_pos ⟨c_52, c_60⟩
              refine zt_aload_n (pc := 63) dX5_readMarks_63 rfl rfl ?_
              refine zt_iload_n (pc := 64) dX5_readMarks_64 rfl rfl ?_
              refine wt_callV (pc := 65) mX5_look 1 5 (rc' := 0) (rs' := 0) dX5_readMarks_65 q1426 mi_X5_look rfl rfl (ms_o hM) (tm_look (S := zs S 289 (rmR T n nt fo i).2) hM T n hn ((rmR_at (by decide) (by decide) _).trans h20) h301 (qN fo + i) (by omega)) rfl rfl rfl rfl rfl rfl ?_
              refine zt_bipush (pc := 68) dX5_readMarks_68 (v := 97) rfl ?_
              refine zt_isub (pc := 70) dX5_readMarks_70 ?_
              refine zt_istore (pc := 71) (L' := [some (.ref 289), some (.int nt), some (.int ((rmR T n nt fo i).1)), some (.int (nI (qN fo + i))), some (.int ((lk T n (qN fo + i)) - 97))]) dX5_readMarks_71 (by decide) rfl rfl ?_
              refine zt_aload_n (pc := 73) dX5_readMarks_73 rfl rfl ?_
              refine zt_iload (pc := 74) dX5_readMarks_74 rfl ?_
              refine zt_i2l (pc := 76) dX5_readMarks_76 rfl ?_
              refine zt_lconst (pc := 77) dX5_readMarks_77 (v := 0) rfl ?_
              refine zt_ldc2 (pc := 78) dX5_readMarks_78 q1222 ?_
              refine wt_callS (pc := 81) mX5_in 3 (rc' := 0) (rs' := 0) dX5_readMarks_81 q1223 ms_X5_in (tm_in (((lk T n (qN fo + i)) - 97).toInt64) 0 7) rfl rfl rfl rfl rfl rfl ?_
              refine zt_if_eq (pc := 84) 109 dX5_readMarks_84 (by decide) (fun c_84 => ?_) (fun c_84 => ?_)
              · refine zt_iconst (pc := 109) dX5_readMarks_109 (v := 0) rfl ?_
                refine zt_top (pc := 110) (rmG nt (rmR T n nt fo i).1 (lk T n (qN fo + i) - 97)) ((bI_f (fun z => bI_eq0.mp c_84 z.1)).symm) ?_
                refine zt_iconst (pc := 110) dX5_readMarks_110 (v := 3) rfl ?_
                refine wt_callV (pc := 111) mX5_needs 2 5 (rc' := 0) (rs' := 0) dX5_readMarks_111 q1434 mi_X5_needs rfl rfl (ms_o hM) (tm_needsF hM (rmG nt (rmR T n nt fo i).1 (lk T n (qN fo + i) - 97)) 3) rfl rfl rfl rfl rfl rfl ?_
                refine zt_iload_n (pc := 114) dX5_readMarks_114 rfl rfl ?_
                refine zt_aload_n (pc := 115) dX5_readMarks_115 rfl rfl ?_
                refine wt_getI (pc := 116) 5 25 (v := (f_needs ((rmR T n nt fo i).2) (rmG nt (rmR T n nt fo i).1 (lk T n (qN fo + i) - 97)) 3) 25) dX5_readMarks_116 q1297 rfl (ms_o hM) rfl ?_
                refine zt_if_ne (pc := 119) 129 dX5_readMarks_119 (by decide) (fun c_119 => ?_) (fun c_119 => ?_)
                · refine zt_iconst (pc := 129) dX5_readMarks_129 (v := 0) rfl ?_
                  refine zt_top (pc := 130) (if f_needs (rmR T n nt fo i).2 (rmG nt (rmR T n nt fo i).1 (lk T n (qN fo + i) - 97)) 3 25 = 0 then (1 : Int32) <<< ((lk T n (qN fo + i) - 97) &&& 31) else 0) ((if_neg c_119).symm) ?_
                  refine zt_ior (pc := 130) dX5_readMarks_130 ?_
                  refine zt_istore_n (pc := 131) (L' := [some (.ref 289), some (.int nt), some (.int (((rmR T n nt fo i).1) ||| (if f_needs (rmR T n nt fo i).2 (rmG nt (rmR T n nt fo i).1 (lk T n (qN fo + i) - 97)) 3 25 = 0 then (1 : Int32) <<< ((lk T n (qN fo + i) - 97) &&& 31) else 0))), some (.int (nI (qN fo + i))), some (.int ((lk T n (qN fo + i)) - 97))]) dX5_readMarks_131 rfl (by decide) rfl rfl ?_
                  refine zt_iincN (pc := 132) (b := qN fo + i + 1) (L' := [some (.ref 289), some (.int nt), some (.int (((rmR T n nt fo i).1) ||| (if f_needs (rmR T n nt fo i).2 (rmG nt (rmR T n nt fo i).1 (lk T n (qN fo + i) - 97)) 3 25 = 0 then (1 : Int32) <<< ((lk T n (qN fo + i) - 97) &&& 31) else 0))), some (.int (nI (qN fo + i + 1))), some (.int ((lk T n (qN fo + i)) - 97))]) dX5_readMarks_132 rfl (zinc1 (qN fo + i)) (by decide) rfl rfl ?_
                  refine zt_goto (pc := 135) 40 dX5_readMarks_135 (by decide) ?_
                  refine zt_drop (L' := [some (.ref 289), some (.int nt), some (.int (((rmR T n nt fo i).1) ||| (if f_needs (rmR T n nt fo i).2 (rmG nt (rmR T n nt fo i).1 (lk T n (qN fo + i) - 97)) 3 25 = 0 then (1 : Int32) <<< ((lk T n (qN fo + i) - 97) &&& 31) else 0))), some (.int (nI (qN fo + i + 1))), none]) 4 rfl ?_
                  refine zt_SL (S' := zs S 289 (rmR T n nt fo (i + 1)).2) (L' := [some (.ref 289), some (.int nt), some (.int ((rmR T n nt fo (i + 1)).1)), some (.int (nI (qN fo + (i + 1)))), none]) (congrArg (fun x : Int32 × (Nat → Int32) => zs S 289 x.2) hst).symm (congrArg (fun x : Int32 × (Nat → Int32) => [some (Value.ref 289), some (Value.int nt), some (Value.int x.1), some (Value.int (nI (qN fo + (i + 1)))), none]) hst).symm ih_i
                · refine zt_iconst (pc := 122) dX5_readMarks_122 (v := 1) rfl ?_
                  refine zt_iload (pc := 123) dX5_readMarks_123 rfl ?_
                  refine zt_ishl (pc := 125) dX5_readMarks_125 ?_
                  refine zt_goto (pc := 126) 130 dX5_readMarks_126 (by decide) ?_
                  refine zt_top (pc := 130) (if f_needs (rmR T n nt fo i).2 (rmG nt (rmR T n nt fo i).1 (lk T n (qN fo + i) - 97)) 3 25 = 0 then (1 : Int32) <<< ((lk T n (qN fo + i) - 97) &&& 31) else 0) ((if_pos c_119).symm) ?_
                  refine zt_ior (pc := 130) dX5_readMarks_130 ?_
                  refine zt_istore_n (pc := 131) (L' := [some (.ref 289), some (.int nt), some (.int (((rmR T n nt fo i).1) ||| (if f_needs (rmR T n nt fo i).2 (rmG nt (rmR T n nt fo i).1 (lk T n (qN fo + i) - 97)) 3 25 = 0 then (1 : Int32) <<< ((lk T n (qN fo + i) - 97) &&& 31) else 0))), some (.int (nI (qN fo + i))), some (.int ((lk T n (qN fo + i)) - 97))]) dX5_readMarks_131 rfl (by decide) rfl rfl ?_
                  refine zt_iincN (pc := 132) (b := qN fo + i + 1) (L' := [some (.ref 289), some (.int nt), some (.int (((rmR T n nt fo i).1) ||| (if f_needs (rmR T n nt fo i).2 (rmG nt (rmR T n nt fo i).1 (lk T n (qN fo + i) - 97)) 3 25 = 0 then (1 : Int32) <<< ((lk T n (qN fo + i) - 97) &&& 31) else 0))), some (.int (nI (qN fo + i + 1))), some (.int ((lk T n (qN fo + i)) - 97))]) dX5_readMarks_132 rfl (zinc1 (qN fo + i)) (by decide) rfl rfl ?_
                  refine zt_goto (pc := 135) 40 dX5_readMarks_135 (by decide) ?_
                  refine zt_drop (L' := [some (.ref 289), some (.int nt), some (.int (((rmR T n nt fo i).1) ||| (if f_needs (rmR T n nt fo i).2 (rmG nt (rmR T n nt fo i).1 (lk T n (qN fo + i) - 97)) 3 25 = 0 then (1 : Int32) <<< ((lk T n (qN fo + i) - 97) &&& 31) else 0))), some (.int (nI (qN fo + i + 1))), none]) 4 rfl ?_
                  refine zt_SL (S' := zs S 289 (rmR T n nt fo (i + 1)).2) (L' := [some (.ref 289), some (.int nt), some (.int ((rmR T n nt fo (i + 1)).1)), some (.int (nI (qN fo + (i + 1)))), none]) (congrArg (fun x : Int32 × (Nat → Int32) => zs S 289 x.2) hst).symm (congrArg (fun x : Int32 × (Nat → Int32) => [some (Value.ref 289), some (Value.int nt), some (Value.int x.1), some (Value.int (nI (qN fo + (i + 1)))), none]) hst).symm ih_i
              · refine zt_iload_n (pc := 87) dX5_readMarks_87 rfl rfl ?_
                refine zt_iload (pc := 88) dX5_readMarks_88 rfl ?_
                refine zt_ishr (pc := 90) dX5_readMarks_90 ?_
                refine zt_iconst (pc := 91) dX5_readMarks_91 (v := 1) rfl ?_
                refine zt_iand (pc := 92) dX5_readMarks_92 ?_
                refine zt_if_ne (pc := 93) 109 dX5_readMarks_93 (by decide) (fun c_93 => ?_) (fun c_93 => ?_)
                · refine zt_iconst (pc := 109) dX5_readMarks_109 (v := 0) rfl ?_
                  refine zt_top (pc := 110) (rmG nt (rmR T n nt fo i).1 (lk T n (qN fo + i) - 97)) ((bI_f (fun z => c_93 z.2.1)).symm) ?_
                  refine zt_iconst (pc := 110) dX5_readMarks_110 (v := 3) rfl ?_
                  refine wt_callV (pc := 111) mX5_needs 2 5 (rc' := 0) (rs' := 0) dX5_readMarks_111 q1434 mi_X5_needs rfl rfl (ms_o hM) (tm_needsF hM (rmG nt (rmR T n nt fo i).1 (lk T n (qN fo + i) - 97)) 3) rfl rfl rfl rfl rfl rfl ?_
                  refine zt_iload_n (pc := 114) dX5_readMarks_114 rfl rfl ?_
                  refine zt_aload_n (pc := 115) dX5_readMarks_115 rfl rfl ?_
                  refine wt_getI (pc := 116) 5 25 (v := (f_needs ((rmR T n nt fo i).2) (rmG nt (rmR T n nt fo i).1 (lk T n (qN fo + i) - 97)) 3) 25) dX5_readMarks_116 q1297 rfl (ms_o hM) rfl ?_
                  refine zt_if_ne (pc := 119) 129 dX5_readMarks_119 (by decide) (fun c_119 => ?_) (fun c_119 => ?_)
                  · refine zt_iconst (pc := 129) dX5_readMarks_129 (v := 0) rfl ?_
                    refine zt_top (pc := 130) (if f_needs (rmR T n nt fo i).2 (rmG nt (rmR T n nt fo i).1 (lk T n (qN fo + i) - 97)) 3 25 = 0 then (1 : Int32) <<< ((lk T n (qN fo + i) - 97) &&& 31) else 0) ((if_neg c_119).symm) ?_
                    refine zt_ior (pc := 130) dX5_readMarks_130 ?_
                    refine zt_istore_n (pc := 131) (L' := [some (.ref 289), some (.int nt), some (.int (((rmR T n nt fo i).1) ||| (if f_needs (rmR T n nt fo i).2 (rmG nt (rmR T n nt fo i).1 (lk T n (qN fo + i) - 97)) 3 25 = 0 then (1 : Int32) <<< ((lk T n (qN fo + i) - 97) &&& 31) else 0))), some (.int (nI (qN fo + i))), some (.int ((lk T n (qN fo + i)) - 97))]) dX5_readMarks_131 rfl (by decide) rfl rfl ?_
                    refine zt_iincN (pc := 132) (b := qN fo + i + 1) (L' := [some (.ref 289), some (.int nt), some (.int (((rmR T n nt fo i).1) ||| (if f_needs (rmR T n nt fo i).2 (rmG nt (rmR T n nt fo i).1 (lk T n (qN fo + i) - 97)) 3 25 = 0 then (1 : Int32) <<< ((lk T n (qN fo + i) - 97) &&& 31) else 0))), some (.int (nI (qN fo + i + 1))), some (.int ((lk T n (qN fo + i)) - 97))]) dX5_readMarks_132 rfl (zinc1 (qN fo + i)) (by decide) rfl rfl ?_
                    refine zt_goto (pc := 135) 40 dX5_readMarks_135 (by decide) ?_
                    refine zt_drop (L' := [some (.ref 289), some (.int nt), some (.int (((rmR T n nt fo i).1) ||| (if f_needs (rmR T n nt fo i).2 (rmG nt (rmR T n nt fo i).1 (lk T n (qN fo + i) - 97)) 3 25 = 0 then (1 : Int32) <<< ((lk T n (qN fo + i) - 97) &&& 31) else 0))), some (.int (nI (qN fo + i + 1))), none]) 4 rfl ?_
                    refine zt_SL (S' := zs S 289 (rmR T n nt fo (i + 1)).2) (L' := [some (.ref 289), some (.int nt), some (.int ((rmR T n nt fo (i + 1)).1)), some (.int (nI (qN fo + (i + 1)))), none]) (congrArg (fun x : Int32 × (Nat → Int32) => zs S 289 x.2) hst).symm (congrArg (fun x : Int32 × (Nat → Int32) => [some (Value.ref 289), some (Value.int nt), some (Value.int x.1), some (Value.int (nI (qN fo + (i + 1)))), none]) hst).symm ih_i
                  · refine zt_iconst (pc := 122) dX5_readMarks_122 (v := 1) rfl ?_
                    refine zt_iload (pc := 123) dX5_readMarks_123 rfl ?_
                    refine zt_ishl (pc := 125) dX5_readMarks_125 ?_
                    refine zt_goto (pc := 126) 130 dX5_readMarks_126 (by decide) ?_
                    refine zt_top (pc := 130) (if f_needs (rmR T n nt fo i).2 (rmG nt (rmR T n nt fo i).1 (lk T n (qN fo + i) - 97)) 3 25 = 0 then (1 : Int32) <<< ((lk T n (qN fo + i) - 97) &&& 31) else 0) ((if_pos c_119).symm) ?_
                    refine zt_ior (pc := 130) dX5_readMarks_130 ?_
                    refine zt_istore_n (pc := 131) (L' := [some (.ref 289), some (.int nt), some (.int (((rmR T n nt fo i).1) ||| (if f_needs (rmR T n nt fo i).2 (rmG nt (rmR T n nt fo i).1 (lk T n (qN fo + i) - 97)) 3 25 = 0 then (1 : Int32) <<< ((lk T n (qN fo + i) - 97) &&& 31) else 0))), some (.int (nI (qN fo + i))), some (.int ((lk T n (qN fo + i)) - 97))]) dX5_readMarks_131 rfl (by decide) rfl rfl ?_
                    refine zt_iincN (pc := 132) (b := qN fo + i + 1) (L' := [some (.ref 289), some (.int nt), some (.int (((rmR T n nt fo i).1) ||| (if f_needs (rmR T n nt fo i).2 (rmG nt (rmR T n nt fo i).1 (lk T n (qN fo + i) - 97)) 3 25 = 0 then (1 : Int32) <<< ((lk T n (qN fo + i) - 97) &&& 31) else 0))), some (.int (nI (qN fo + i + 1))), some (.int ((lk T n (qN fo + i)) - 97))]) dX5_readMarks_132 rfl (zinc1 (qN fo + i)) (by decide) rfl rfl ?_
                    refine zt_goto (pc := 135) 40 dX5_readMarks_135 (by decide) ?_
                    refine zt_drop (L' := [some (.ref 289), some (.int nt), some (.int (((rmR T n nt fo i).1) ||| (if f_needs (rmR T n nt fo i).2 (rmG nt (rmR T n nt fo i).1 (lk T n (qN fo + i) - 97)) 3 25 = 0 then (1 : Int32) <<< ((lk T n (qN fo + i) - 97) &&& 31) else 0))), some (.int (nI (qN fo + i + 1))), none]) 4 rfl ?_
                    refine zt_SL (S' := zs S 289 (rmR T n nt fo (i + 1)).2) (L' := [some (.ref 289), some (.int nt), some (.int ((rmR T n nt fo (i + 1)).1)), some (.int (nI (qN fo + (i + 1)))), none]) (congrArg (fun x : Int32 × (Nat → Int32) => zs S 289 x.2) hst).symm (congrArg (fun x : Int32 × (Nat → Int32) => [some (Value.ref 289), some (Value.int nt), some (Value.int x.1), some (Value.int (nI (qN fo + (i + 1)))), none]) hst).symm ih_i
                · refine zt_iload_n (pc := 96) dX5_readMarks_96 rfl rfl ?_
                  refine zt_iload (pc := 97) dX5_readMarks_97 rfl ?_
                  refine zt_ishr (pc := 99) dX5_readMarks_99 ?_
                  refine zt_iconst (pc := 100) dX5_readMarks_100 (v := 1) rfl ?_
                  refine zt_iand (pc := 101) dX5_readMarks_101 ?_
                  refine zt_if_ne (pc := 102) 109 dX5_readMarks_102 (by decide) (fun c_102 => ?_) (fun c_102 => ?_)
                  · refine zt_iconst (pc := 109) dX5_readMarks_109 (v := 0) rfl ?_
                    refine zt_top (pc := 110) (rmG nt (rmR T n nt fo i).1 (lk T n (qN fo + i) - 97)) ((bI_f (fun z => c_102 z.2.2)).symm) ?_
                    refine zt_iconst (pc := 110) dX5_readMarks_110 (v := 3) rfl ?_
                    refine wt_callV (pc := 111) mX5_needs 2 5 (rc' := 0) (rs' := 0) dX5_readMarks_111 q1434 mi_X5_needs rfl rfl (ms_o hM) (tm_needsF hM (rmG nt (rmR T n nt fo i).1 (lk T n (qN fo + i) - 97)) 3) rfl rfl rfl rfl rfl rfl ?_
                    refine zt_iload_n (pc := 114) dX5_readMarks_114 rfl rfl ?_
                    refine zt_aload_n (pc := 115) dX5_readMarks_115 rfl rfl ?_
                    refine wt_getI (pc := 116) 5 25 (v := (f_needs ((rmR T n nt fo i).2) (rmG nt (rmR T n nt fo i).1 (lk T n (qN fo + i) - 97)) 3) 25) dX5_readMarks_116 q1297 rfl (ms_o hM) rfl ?_
                    refine zt_if_ne (pc := 119) 129 dX5_readMarks_119 (by decide) (fun c_119 => ?_) (fun c_119 => ?_)
                    · refine zt_iconst (pc := 129) dX5_readMarks_129 (v := 0) rfl ?_
                      refine zt_top (pc := 130) (if f_needs (rmR T n nt fo i).2 (rmG nt (rmR T n nt fo i).1 (lk T n (qN fo + i) - 97)) 3 25 = 0 then (1 : Int32) <<< ((lk T n (qN fo + i) - 97) &&& 31) else 0) ((if_neg c_119).symm) ?_
                      refine zt_ior (pc := 130) dX5_readMarks_130 ?_
                      refine zt_istore_n (pc := 131) (L' := [some (.ref 289), some (.int nt), some (.int (((rmR T n nt fo i).1) ||| (if f_needs (rmR T n nt fo i).2 (rmG nt (rmR T n nt fo i).1 (lk T n (qN fo + i) - 97)) 3 25 = 0 then (1 : Int32) <<< ((lk T n (qN fo + i) - 97) &&& 31) else 0))), some (.int (nI (qN fo + i))), some (.int ((lk T n (qN fo + i)) - 97))]) dX5_readMarks_131 rfl (by decide) rfl rfl ?_
                      refine zt_iincN (pc := 132) (b := qN fo + i + 1) (L' := [some (.ref 289), some (.int nt), some (.int (((rmR T n nt fo i).1) ||| (if f_needs (rmR T n nt fo i).2 (rmG nt (rmR T n nt fo i).1 (lk T n (qN fo + i) - 97)) 3 25 = 0 then (1 : Int32) <<< ((lk T n (qN fo + i) - 97) &&& 31) else 0))), some (.int (nI (qN fo + i + 1))), some (.int ((lk T n (qN fo + i)) - 97))]) dX5_readMarks_132 rfl (zinc1 (qN fo + i)) (by decide) rfl rfl ?_
                      refine zt_goto (pc := 135) 40 dX5_readMarks_135 (by decide) ?_
                      refine zt_drop (L' := [some (.ref 289), some (.int nt), some (.int (((rmR T n nt fo i).1) ||| (if f_needs (rmR T n nt fo i).2 (rmG nt (rmR T n nt fo i).1 (lk T n (qN fo + i) - 97)) 3 25 = 0 then (1 : Int32) <<< ((lk T n (qN fo + i) - 97) &&& 31) else 0))), some (.int (nI (qN fo + i + 1))), none]) 4 rfl ?_
                      refine zt_SL (S' := zs S 289 (rmR T n nt fo (i + 1)).2) (L' := [some (.ref 289), some (.int nt), some (.int ((rmR T n nt fo (i + 1)).1)), some (.int (nI (qN fo + (i + 1)))), none]) (congrArg (fun x : Int32 × (Nat → Int32) => zs S 289 x.2) hst).symm (congrArg (fun x : Int32 × (Nat → Int32) => [some (Value.ref 289), some (Value.int nt), some (Value.int x.1), some (Value.int (nI (qN fo + (i + 1)))), none]) hst).symm ih_i
                    · refine zt_iconst (pc := 122) dX5_readMarks_122 (v := 1) rfl ?_
                      refine zt_iload (pc := 123) dX5_readMarks_123 rfl ?_
                      refine zt_ishl (pc := 125) dX5_readMarks_125 ?_
                      refine zt_goto (pc := 126) 130 dX5_readMarks_126 (by decide) ?_
                      refine zt_top (pc := 130) (if f_needs (rmR T n nt fo i).2 (rmG nt (rmR T n nt fo i).1 (lk T n (qN fo + i) - 97)) 3 25 = 0 then (1 : Int32) <<< ((lk T n (qN fo + i) - 97) &&& 31) else 0) ((if_pos c_119).symm) ?_
                      refine zt_ior (pc := 130) dX5_readMarks_130 ?_
                      refine zt_istore_n (pc := 131) (L' := [some (.ref 289), some (.int nt), some (.int (((rmR T n nt fo i).1) ||| (if f_needs (rmR T n nt fo i).2 (rmG nt (rmR T n nt fo i).1 (lk T n (qN fo + i) - 97)) 3 25 = 0 then (1 : Int32) <<< ((lk T n (qN fo + i) - 97) &&& 31) else 0))), some (.int (nI (qN fo + i))), some (.int ((lk T n (qN fo + i)) - 97))]) dX5_readMarks_131 rfl (by decide) rfl rfl ?_
                      refine zt_iincN (pc := 132) (b := qN fo + i + 1) (L' := [some (.ref 289), some (.int nt), some (.int (((rmR T n nt fo i).1) ||| (if f_needs (rmR T n nt fo i).2 (rmG nt (rmR T n nt fo i).1 (lk T n (qN fo + i) - 97)) 3 25 = 0 then (1 : Int32) <<< ((lk T n (qN fo + i) - 97) &&& 31) else 0))), some (.int (nI (qN fo + i + 1))), some (.int ((lk T n (qN fo + i)) - 97))]) dX5_readMarks_132 rfl (zinc1 (qN fo + i)) (by decide) rfl rfl ?_
                      refine zt_goto (pc := 135) 40 dX5_readMarks_135 (by decide) ?_
                      refine zt_drop (L' := [some (.ref 289), some (.int nt), some (.int (((rmR T n nt fo i).1) ||| (if f_needs (rmR T n nt fo i).2 (rmG nt (rmR T n nt fo i).1 (lk T n (qN fo + i) - 97)) 3 25 = 0 then (1 : Int32) <<< ((lk T n (qN fo + i) - 97) &&& 31) else 0))), some (.int (nI (qN fo + i + 1))), none]) 4 rfl ?_
                      refine zt_SL (S' := zs S 289 (rmR T n nt fo (i + 1)).2) (L' := [some (.ref 289), some (.int nt), some (.int ((rmR T n nt fo (i + 1)).1)), some (.int (nI (qN fo + (i + 1)))), none]) (congrArg (fun x : Int32 × (Nat → Int32) => zs S 289 x.2) hst).symm (congrArg (fun x : Int32 × (Nat → Int32) => [some (Value.ref 289), some (Value.int nt), some (Value.int x.1), some (Value.int (nI (qN fo + (i + 1)))), none]) hst).symm ih_i
                  · refine zt_iconst (pc := 105) dX5_readMarks_105 (v := 1) rfl ?_
                    refine zt_goto (pc := 106) 110 dX5_readMarks_106 (by decide) ?_
                    refine zt_top (pc := 110) (rmG nt (rmR T n nt fo i).1 (lk T n (qN fo + i) - 97)) ((bI_t ⟨bI_ne0 c_84, c_93, c_102⟩).symm) ?_
                    refine zt_iconst (pc := 110) dX5_readMarks_110 (v := 3) rfl ?_
                    refine wt_callV (pc := 111) mX5_needs 2 5 (rc' := 0) (rs' := 0) dX5_readMarks_111 q1434 mi_X5_needs rfl rfl (ms_o hM) (tm_needsF hM (rmG nt (rmR T n nt fo i).1 (lk T n (qN fo + i) - 97)) 3) rfl rfl rfl rfl rfl rfl ?_
                    refine zt_iload_n (pc := 114) dX5_readMarks_114 rfl rfl ?_
                    refine zt_aload_n (pc := 115) dX5_readMarks_115 rfl rfl ?_
                    refine wt_getI (pc := 116) 5 25 (v := (f_needs ((rmR T n nt fo i).2) (rmG nt (rmR T n nt fo i).1 (lk T n (qN fo + i) - 97)) 3) 25) dX5_readMarks_116 q1297 rfl (ms_o hM) rfl ?_
                    refine zt_if_ne (pc := 119) 129 dX5_readMarks_119 (by decide) (fun c_119 => ?_) (fun c_119 => ?_)
                    · refine zt_iconst (pc := 129) dX5_readMarks_129 (v := 0) rfl ?_
                      refine zt_top (pc := 130) (if f_needs (rmR T n nt fo i).2 (rmG nt (rmR T n nt fo i).1 (lk T n (qN fo + i) - 97)) 3 25 = 0 then (1 : Int32) <<< ((lk T n (qN fo + i) - 97) &&& 31) else 0) ((if_neg c_119).symm) ?_
                      refine zt_ior (pc := 130) dX5_readMarks_130 ?_
                      refine zt_istore_n (pc := 131) (L' := [some (.ref 289), some (.int nt), some (.int (((rmR T n nt fo i).1) ||| (if f_needs (rmR T n nt fo i).2 (rmG nt (rmR T n nt fo i).1 (lk T n (qN fo + i) - 97)) 3 25 = 0 then (1 : Int32) <<< ((lk T n (qN fo + i) - 97) &&& 31) else 0))), some (.int (nI (qN fo + i))), some (.int ((lk T n (qN fo + i)) - 97))]) dX5_readMarks_131 rfl (by decide) rfl rfl ?_
                      refine zt_iincN (pc := 132) (b := qN fo + i + 1) (L' := [some (.ref 289), some (.int nt), some (.int (((rmR T n nt fo i).1) ||| (if f_needs (rmR T n nt fo i).2 (rmG nt (rmR T n nt fo i).1 (lk T n (qN fo + i) - 97)) 3 25 = 0 then (1 : Int32) <<< ((lk T n (qN fo + i) - 97) &&& 31) else 0))), some (.int (nI (qN fo + i + 1))), some (.int ((lk T n (qN fo + i)) - 97))]) dX5_readMarks_132 rfl (zinc1 (qN fo + i)) (by decide) rfl rfl ?_
                      refine zt_goto (pc := 135) 40 dX5_readMarks_135 (by decide) ?_
                      refine zt_drop (L' := [some (.ref 289), some (.int nt), some (.int (((rmR T n nt fo i).1) ||| (if f_needs (rmR T n nt fo i).2 (rmG nt (rmR T n nt fo i).1 (lk T n (qN fo + i) - 97)) 3 25 = 0 then (1 : Int32) <<< ((lk T n (qN fo + i) - 97) &&& 31) else 0))), some (.int (nI (qN fo + i + 1))), none]) 4 rfl ?_
                      refine zt_SL (S' := zs S 289 (rmR T n nt fo (i + 1)).2) (L' := [some (.ref 289), some (.int nt), some (.int ((rmR T n nt fo (i + 1)).1)), some (.int (nI (qN fo + (i + 1)))), none]) (congrArg (fun x : Int32 × (Nat → Int32) => zs S 289 x.2) hst).symm (congrArg (fun x : Int32 × (Nat → Int32) => [some (Value.ref 289), some (Value.int nt), some (Value.int x.1), some (Value.int (nI (qN fo + (i + 1)))), none]) hst).symm ih_i
                    · refine zt_iconst (pc := 122) dX5_readMarks_122 (v := 1) rfl ?_
                      refine zt_iload (pc := 123) dX5_readMarks_123 rfl ?_
                      refine zt_ishl (pc := 125) dX5_readMarks_125 ?_
                      refine zt_goto (pc := 126) 130 dX5_readMarks_126 (by decide) ?_
                      refine zt_top (pc := 130) (if f_needs (rmR T n nt fo i).2 (rmG nt (rmR T n nt fo i).1 (lk T n (qN fo + i) - 97)) 3 25 = 0 then (1 : Int32) <<< ((lk T n (qN fo + i) - 97) &&& 31) else 0) ((if_pos c_119).symm) ?_
                      refine zt_ior (pc := 130) dX5_readMarks_130 ?_
                      refine zt_istore_n (pc := 131) (L' := [some (.ref 289), some (.int nt), some (.int (((rmR T n nt fo i).1) ||| (if f_needs (rmR T n nt fo i).2 (rmG nt (rmR T n nt fo i).1 (lk T n (qN fo + i) - 97)) 3 25 = 0 then (1 : Int32) <<< ((lk T n (qN fo + i) - 97) &&& 31) else 0))), some (.int (nI (qN fo + i))), some (.int ((lk T n (qN fo + i)) - 97))]) dX5_readMarks_131 rfl (by decide) rfl rfl ?_
                      refine zt_iincN (pc := 132) (b := qN fo + i + 1) (L' := [some (.ref 289), some (.int nt), some (.int (((rmR T n nt fo i).1) ||| (if f_needs (rmR T n nt fo i).2 (rmG nt (rmR T n nt fo i).1 (lk T n (qN fo + i) - 97)) 3 25 = 0 then (1 : Int32) <<< ((lk T n (qN fo + i) - 97) &&& 31) else 0))), some (.int (nI (qN fo + i + 1))), some (.int ((lk T n (qN fo + i)) - 97))]) dX5_readMarks_132 rfl (zinc1 (qN fo + i)) (by decide) rfl rfl ?_
                      refine zt_goto (pc := 135) 40 dX5_readMarks_135 (by decide) ?_
                      refine zt_drop (L' := [some (.ref 289), some (.int nt), some (.int (((rmR T n nt fo i).1) ||| (if f_needs (rmR T n nt fo i).2 (rmG nt (rmR T n nt fo i).1 (lk T n (qN fo + i) - 97)) 3 25 = 0 then (1 : Int32) <<< ((lk T n (qN fo + i) - 97) &&& 31) else 0))), some (.int (nI (qN fo + i + 1))), none]) 4 rfl ?_
                      refine zt_SL (S' := zs S 289 (rmR T n nt fo (i + 1)).2) (L' := [some (.ref 289), some (.int nt), some (.int ((rmR T n nt fo (i + 1)).1)), some (.int (nI (qN fo + (i + 1)))), none]) (congrArg (fun x : Int32 × (Nat → Int32) => zs S 289 x.2) hst).symm (congrArg (fun x : Int32 × (Nat → Int32) => [some (Value.ref 289), some (Value.int nt), some (Value.int x.1), some (Value.int (nI (qN fo + (i + 1)))), none]) hst).symm ih_i
      · refine zt_iconst (pc := 24) dX5_readMarks_24 (v := 1) rfl ?_
        refine zt_goto (pc := 25) 29 dX5_readMarks_25 (by decide) ?_
        refine zt_top (pc := 29) (bI (fo 23 = 1 ∨ fo 23 = 4)) ((bI_t (Or.inr c_21)).symm) ?_
        refine zt_iconst (pc := 29) dX5_readMarks_29 (v := 2) rfl ?_
        refine wt_callV (pc := 30) mX5_needs 2 5 (rc' := 0) (rs' := 0) dX5_readMarks_30 q1434 mi_X5_needs rfl rfl (ms_o hM) (tm_needsF hM (bI (fo 23 = 1 ∨ fo 23 = 4)) 2) rfl rfl rfl rfl rfl rfl ?_
        refine zt_f (f' := f_rm1 fo) rfl ?_
        refine zt_iconst (pc := 33) dX5_readMarks_33 (v := 0) rfl ?_
        refine zt_istore_n (pc := 34) (L' := [some (.ref 289), some (.int nt), some (.int 0), none, none]) dX5_readMarks_34 rfl (by decide) rfl rfl ?_
        refine zt_aload_n (pc := 35) dX5_readMarks_35 rfl rfl ?_
        refine wt_getI (pc := 36) 5 22 (v := nI (qN fo)) dX5_readMarks_36 q1294 rfl (ms_o hM) ((rm1_at (by decide) (by decide)).trans hP.2.2) ?_
        refine zt_istore_n (pc := 39) (L' := [some (.ref 289), some (.int nt), some (.int 0), some (.int (nI (qN fo))), none]) dX5_readMarks_39 rfl (by decide) rfl rfl ?_
        have hqp := hP.2.1
        have hpn := hP.1.1
        refine zt_for (pc := 40) (fun i => zs S 289 (rmR T n nt fo i).2) (fun i => [some (.ref 289), some (.int nt), some (.int ((rmR T n nt fo i).1)), some (.int (nI (qN fo + i))), none]) (pN fo - qN fo) rfl rfl ?_ (fun i hi_i ih_i => ?_)
        · show Zt _ _ _ _ _ _ (zW h (zs S 289 (rmR T n nt fo (pN fo - qN fo)).2)) 40 [some (.ref 289), some (.int nt), some (.int ((rmR T n nt fo (pN fo - qN fo)).1)), some (.int (nI (qN fo + (pN fo - qN fo)))), none] []
          have hqp := hP.2.1
          have hpn := hP.1.1
          refine zt_iload_n (pc := 40) dX5_readMarks_40 rfl rfl ?_
          refine zt_aload_n (pc := 41) dX5_readMarks_41 rfl rfl ?_
          refine wt_getI (pc := 42) 5 21 (v := nI (pN fo)) dX5_readMarks_42 q1293 rfl (ms_o hM) ((rmR_at (by decide) (by decide) _).trans hP.1.2) ?_
          refine zt_geN (a := qN fo + (pN fo - qN fo)) (b := pN fo) (pc := 45) 138 dX5_readMarks_45 (by decide) (by omega) (by omega) (fun c_45 => ?_) (fun c_45 => absurd c_45 (by omega))
          refine zt_drop (L' := [some (.ref 289), some (.int nt), some (.int ((rmR T n nt fo (pN fo - qN fo)).1)), none, none]) 3 rfl ?_
          refine zt_aload_n (pc := 138) dX5_readMarks_138 rfl rfl ?_
          refine wt_callV (pc := 139) mX5_next 0 5 (rc' := 0) (rs' := 0) dX5_readMarks_139 q1422 mi_X5_next rfl rfl (ms_o hM) (tm_nx (fo := f_rm2 T n nt fo) hM T n hn ((rm2_at (by decide) (by decide)).trans h20) h301 (hP.1.same (rm2_at (by decide) (by decide)))) rfl rfl rfl rfl rfl rfl ?_
          refine zt_iload_n (pc := 142) dX5_readMarks_142 rfl rfl ?_
          exact zt_ireturn (pc := 143) dX5_readMarks_143 rfl (⟨rfl, rfl⟩)
        · show Zt _ _ _ _ _ _ (zW h (zs S 289 (rmR T n nt fo i).2)) 40 [some (.ref 289), some (.int nt), some (.int ((rmR T n nt fo i).1)), some (.int (nI (qN fo + i))), none] []
          refine zt_iload_n (pc := 40) dX5_readMarks_40 rfl rfl ?_
          refine zt_aload_n (pc := 41) dX5_readMarks_41 rfl rfl ?_
          refine wt_getI (pc := 42) 5 21 (v := nI (pN fo)) dX5_readMarks_42 q1293 rfl (ms_o hM) ((rmR_at (by decide) (by decide) _).trans hP.1.2) ?_
          refine zt_geN (a := qN fo + i) (b := pN fo) (pc := 45) 138 dX5_readMarks_45 (by decide) (by omega) (by omega) (fun c_45 => absurd c_45 (by omega)) (fun c_45 => ?_)
          refine zt_aload_n (pc := 48) dX5_readMarks_48 rfl rfl ?_
          refine wt_getI (pc := 49) 5 25 (v := ((rmR T n nt fo i).2) 25) dX5_readMarks_49 q1297 rfl (ms_o hM) rfl ?_
          refine zt_if_ne (pc := 52) 138 dX5_readMarks_52 (by decide) (fun c_52 => ?_) (fun c_52 => ?_)
          · refine zt_drop (L' := [some (.ref 289), some (.int nt), some (.int ((rmR T n nt fo i).1)), none, none]) 3 rfl ?_
            have hend := rmR_end hi_i (fun z => c_52 z.1)
            refine zt_SL (S' := zs S 289 (f_rm2 T n nt fo)) (L' := [some (.ref 289), some (.int nt), some (.int (v_rm T n nt fo)), none, none]) (congrArg (fun x : Int32 × (Nat → Int32) => zs S 289 x.2) hend) (congrArg (fun x : Int32 × (Nat → Int32) => [some (Value.ref 289), some (Value.int nt), some (Value.int x.1), none, none]) hend) ?_
            refine zt_aload_n (pc := 138) dX5_readMarks_138 rfl rfl ?_
            refine wt_callV (pc := 139) mX5_next 0 5 (rc' := 0) (rs' := 0) dX5_readMarks_139 q1422 mi_X5_next rfl rfl (ms_o hM) (tm_nx (fo := f_rm2 T n nt fo) hM T n hn ((rm2_at (by decide) (by decide)).trans h20) h301 (hP.1.same (rm2_at (by decide) (by decide)))) rfl rfl rfl rfl rfl rfl ?_
            refine zt_iload_n (pc := 142) dX5_readMarks_142 rfl rfl ?_
            exact zt_ireturn (pc := 143) dX5_readMarks_143 rfl (⟨rfl, rfl⟩)
          · refine zt_aload_n (pc := 55) dX5_readMarks_55 rfl rfl ?_
            refine wt_getI (pc := 56) 5 23 (v := ((rmR T n nt fo i).2) 23) dX5_readMarks_56 q1295 rfl (ms_o hM) rfl ?_
            refine zt_iconst (pc := 59) dX5_readMarks_59 (v := 1) rfl ?_
            refine zt_icmp_ne (pc := 60) 138 dX5_readMarks_60 (by decide) (fun c_60 => ?_) (fun c_60 => ?_)
            · refine zt_drop (L' := [some (.ref 289), some (.int nt), some (.int ((rmR T n nt fo i).1)), none, none]) 3 rfl ?_
              have hend := rmR_end hi_i (fun z => c_60 z.2)
              refine zt_SL (S' := zs S 289 (f_rm2 T n nt fo)) (L' := [some (.ref 289), some (.int nt), some (.int (v_rm T n nt fo)), none, none]) (congrArg (fun x : Int32 × (Nat → Int32) => zs S 289 x.2) hend) (congrArg (fun x : Int32 × (Nat → Int32) => [some (Value.ref 289), some (Value.int nt), some (Value.int x.1), none, none]) hend) ?_
              refine zt_aload_n (pc := 138) dX5_readMarks_138 rfl rfl ?_
              refine wt_callV (pc := 139) mX5_next 0 5 (rc' := 0) (rs' := 0) dX5_readMarks_139 q1422 mi_X5_next rfl rfl (ms_o hM) (tm_nx (fo := f_rm2 T n nt fo) hM T n hn ((rm2_at (by decide) (by decide)).trans h20) h301 (hP.1.same (rm2_at (by decide) (by decide)))) rfl rfl rfl rfl rfl rfl ?_
              refine zt_iload_n (pc := 142) dX5_readMarks_142 rfl rfl ?_
              exact zt_ireturn (pc := 143) dX5_readMarks_143 rfl (⟨rfl, rfl⟩)
            · have hst : rmR T n nt fo (i + 1) = ((rmR T n nt fo i).1 ||| (if f_needs (rmR T n nt fo i).2 (rmG nt (rmR T n nt fo i).1 (lk T n (qN fo + i) - 97)) 3 25 = 0 then (1 : Int32) <<< ((lk T n (qN fo + i) - 97) &&& 31) else 0), f_needs (rmR T n nt fo i).2 (rmG nt (rmR T n nt fo i).1 (lk T n (qN fo + i) - 97)) 3) := if_pos ⟨c_52, c_60⟩
              refine zt_aload_n (pc := 63) dX5_readMarks_63 rfl rfl ?_
              refine zt_iload_n (pc := 64) dX5_readMarks_64 rfl rfl ?_
              refine wt_callV (pc := 65) mX5_look 1 5 (rc' := 0) (rs' := 0) dX5_readMarks_65 q1426 mi_X5_look rfl rfl (ms_o hM) (tm_look (S := zs S 289 (rmR T n nt fo i).2) hM T n hn ((rmR_at (by decide) (by decide) _).trans h20) h301 (qN fo + i) (by omega)) rfl rfl rfl rfl rfl rfl ?_
              refine zt_bipush (pc := 68) dX5_readMarks_68 (v := 97) rfl ?_
              refine zt_isub (pc := 70) dX5_readMarks_70 ?_
              refine zt_istore (pc := 71) (L' := [some (.ref 289), some (.int nt), some (.int ((rmR T n nt fo i).1)), some (.int (nI (qN fo + i))), some (.int ((lk T n (qN fo + i)) - 97))]) dX5_readMarks_71 (by decide) rfl rfl ?_
              refine zt_aload_n (pc := 73) dX5_readMarks_73 rfl rfl ?_
              refine zt_iload (pc := 74) dX5_readMarks_74 rfl ?_
              refine zt_i2l (pc := 76) dX5_readMarks_76 rfl ?_
              refine zt_lconst (pc := 77) dX5_readMarks_77 (v := 0) rfl ?_
              refine zt_ldc2 (pc := 78) dX5_readMarks_78 q1222 ?_
              refine wt_callS (pc := 81) mX5_in 3 (rc' := 0) (rs' := 0) dX5_readMarks_81 q1223 ms_X5_in (tm_in (((lk T n (qN fo + i)) - 97).toInt64) 0 7) rfl rfl rfl rfl rfl rfl ?_
              refine zt_if_eq (pc := 84) 109 dX5_readMarks_84 (by decide) (fun c_84 => ?_) (fun c_84 => ?_)
              · refine zt_iconst (pc := 109) dX5_readMarks_109 (v := 0) rfl ?_
                refine zt_top (pc := 110) (rmG nt (rmR T n nt fo i).1 (lk T n (qN fo + i) - 97)) ((bI_f (fun z => bI_eq0.mp c_84 z.1)).symm) ?_
                refine zt_iconst (pc := 110) dX5_readMarks_110 (v := 3) rfl ?_
                refine wt_callV (pc := 111) mX5_needs 2 5 (rc' := 0) (rs' := 0) dX5_readMarks_111 q1434 mi_X5_needs rfl rfl (ms_o hM) (tm_needsF hM (rmG nt (rmR T n nt fo i).1 (lk T n (qN fo + i) - 97)) 3) rfl rfl rfl rfl rfl rfl ?_
                refine zt_iload_n (pc := 114) dX5_readMarks_114 rfl rfl ?_
                refine zt_aload_n (pc := 115) dX5_readMarks_115 rfl rfl ?_
                refine wt_getI (pc := 116) 5 25 (v := (f_needs ((rmR T n nt fo i).2) (rmG nt (rmR T n nt fo i).1 (lk T n (qN fo + i) - 97)) 3) 25) dX5_readMarks_116 q1297 rfl (ms_o hM) rfl ?_
                refine zt_if_ne (pc := 119) 129 dX5_readMarks_119 (by decide) (fun c_119 => ?_) (fun c_119 => ?_)
                · refine zt_iconst (pc := 129) dX5_readMarks_129 (v := 0) rfl ?_
                  refine zt_top (pc := 130) (if f_needs (rmR T n nt fo i).2 (rmG nt (rmR T n nt fo i).1 (lk T n (qN fo + i) - 97)) 3 25 = 0 then (1 : Int32) <<< ((lk T n (qN fo + i) - 97) &&& 31) else 0) ((if_neg c_119).symm) ?_
                  refine zt_ior (pc := 130) dX5_readMarks_130 ?_
                  refine zt_istore_n (pc := 131) (L' := [some (.ref 289), some (.int nt), some (.int (((rmR T n nt fo i).1) ||| (if f_needs (rmR T n nt fo i).2 (rmG nt (rmR T n nt fo i).1 (lk T n (qN fo + i) - 97)) 3 25 = 0 then (1 : Int32) <<< ((lk T n (qN fo + i) - 97) &&& 31) else 0))), some (.int (nI (qN fo + i))), some (.int ((lk T n (qN fo + i)) - 97))]) dX5_readMarks_131 rfl (by decide) rfl rfl ?_
                  refine zt_iincN (pc := 132) (b := qN fo + i + 1) (L' := [some (.ref 289), some (.int nt), some (.int (((rmR T n nt fo i).1) ||| (if f_needs (rmR T n nt fo i).2 (rmG nt (rmR T n nt fo i).1 (lk T n (qN fo + i) - 97)) 3 25 = 0 then (1 : Int32) <<< ((lk T n (qN fo + i) - 97) &&& 31) else 0))), some (.int (nI (qN fo + i + 1))), some (.int ((lk T n (qN fo + i)) - 97))]) dX5_readMarks_132 rfl (zinc1 (qN fo + i)) (by decide) rfl rfl ?_
                  refine zt_goto (pc := 135) 40 dX5_readMarks_135 (by decide) ?_
                  refine zt_drop (L' := [some (.ref 289), some (.int nt), some (.int (((rmR T n nt fo i).1) ||| (if f_needs (rmR T n nt fo i).2 (rmG nt (rmR T n nt fo i).1 (lk T n (qN fo + i) - 97)) 3 25 = 0 then (1 : Int32) <<< ((lk T n (qN fo + i) - 97) &&& 31) else 0))), some (.int (nI (qN fo + i + 1))), none]) 4 rfl ?_
                  refine zt_SL (S' := zs S 289 (rmR T n nt fo (i + 1)).2) (L' := [some (.ref 289), some (.int nt), some (.int ((rmR T n nt fo (i + 1)).1)), some (.int (nI (qN fo + (i + 1)))), none]) (congrArg (fun x : Int32 × (Nat → Int32) => zs S 289 x.2) hst).symm (congrArg (fun x : Int32 × (Nat → Int32) => [some (Value.ref 289), some (Value.int nt), some (Value.int x.1), some (Value.int (nI (qN fo + (i + 1)))), none]) hst).symm ih_i
                · refine zt_iconst (pc := 122) dX5_readMarks_122 (v := 1) rfl ?_
                  refine zt_iload (pc := 123) dX5_readMarks_123 rfl ?_
                  refine zt_ishl (pc := 125) dX5_readMarks_125 ?_
                  refine zt_goto (pc := 126) 130 dX5_readMarks_126 (by decide) ?_
                  refine zt_top (pc := 130) (if f_needs (rmR T n nt fo i).2 (rmG nt (rmR T n nt fo i).1 (lk T n (qN fo + i) - 97)) 3 25 = 0 then (1 : Int32) <<< ((lk T n (qN fo + i) - 97) &&& 31) else 0) ((if_pos c_119).symm) ?_
                  refine zt_ior (pc := 130) dX5_readMarks_130 ?_
                  refine zt_istore_n (pc := 131) (L' := [some (.ref 289), some (.int nt), some (.int (((rmR T n nt fo i).1) ||| (if f_needs (rmR T n nt fo i).2 (rmG nt (rmR T n nt fo i).1 (lk T n (qN fo + i) - 97)) 3 25 = 0 then (1 : Int32) <<< ((lk T n (qN fo + i) - 97) &&& 31) else 0))), some (.int (nI (qN fo + i))), some (.int ((lk T n (qN fo + i)) - 97))]) dX5_readMarks_131 rfl (by decide) rfl rfl ?_
                  refine zt_iincN (pc := 132) (b := qN fo + i + 1) (L' := [some (.ref 289), some (.int nt), some (.int (((rmR T n nt fo i).1) ||| (if f_needs (rmR T n nt fo i).2 (rmG nt (rmR T n nt fo i).1 (lk T n (qN fo + i) - 97)) 3 25 = 0 then (1 : Int32) <<< ((lk T n (qN fo + i) - 97) &&& 31) else 0))), some (.int (nI (qN fo + i + 1))), some (.int ((lk T n (qN fo + i)) - 97))]) dX5_readMarks_132 rfl (zinc1 (qN fo + i)) (by decide) rfl rfl ?_
                  refine zt_goto (pc := 135) 40 dX5_readMarks_135 (by decide) ?_
                  refine zt_drop (L' := [some (.ref 289), some (.int nt), some (.int (((rmR T n nt fo i).1) ||| (if f_needs (rmR T n nt fo i).2 (rmG nt (rmR T n nt fo i).1 (lk T n (qN fo + i) - 97)) 3 25 = 0 then (1 : Int32) <<< ((lk T n (qN fo + i) - 97) &&& 31) else 0))), some (.int (nI (qN fo + i + 1))), none]) 4 rfl ?_
                  refine zt_SL (S' := zs S 289 (rmR T n nt fo (i + 1)).2) (L' := [some (.ref 289), some (.int nt), some (.int ((rmR T n nt fo (i + 1)).1)), some (.int (nI (qN fo + (i + 1)))), none]) (congrArg (fun x : Int32 × (Nat → Int32) => zs S 289 x.2) hst).symm (congrArg (fun x : Int32 × (Nat → Int32) => [some (Value.ref 289), some (Value.int nt), some (Value.int x.1), some (Value.int (nI (qN fo + (i + 1)))), none]) hst).symm ih_i
              · refine zt_iload_n (pc := 87) dX5_readMarks_87 rfl rfl ?_
                refine zt_iload (pc := 88) dX5_readMarks_88 rfl ?_
                refine zt_ishr (pc := 90) dX5_readMarks_90 ?_
                refine zt_iconst (pc := 91) dX5_readMarks_91 (v := 1) rfl ?_
                refine zt_iand (pc := 92) dX5_readMarks_92 ?_
                refine zt_if_ne (pc := 93) 109 dX5_readMarks_93 (by decide) (fun c_93 => ?_) (fun c_93 => ?_)
                · refine zt_iconst (pc := 109) dX5_readMarks_109 (v := 0) rfl ?_
                  refine zt_top (pc := 110) (rmG nt (rmR T n nt fo i).1 (lk T n (qN fo + i) - 97)) ((bI_f (fun z => c_93 z.2.1)).symm) ?_
                  refine zt_iconst (pc := 110) dX5_readMarks_110 (v := 3) rfl ?_
                  refine wt_callV (pc := 111) mX5_needs 2 5 (rc' := 0) (rs' := 0) dX5_readMarks_111 q1434 mi_X5_needs rfl rfl (ms_o hM) (tm_needsF hM (rmG nt (rmR T n nt fo i).1 (lk T n (qN fo + i) - 97)) 3) rfl rfl rfl rfl rfl rfl ?_
                  refine zt_iload_n (pc := 114) dX5_readMarks_114 rfl rfl ?_
                  refine zt_aload_n (pc := 115) dX5_readMarks_115 rfl rfl ?_
                  refine wt_getI (pc := 116) 5 25 (v := (f_needs ((rmR T n nt fo i).2) (rmG nt (rmR T n nt fo i).1 (lk T n (qN fo + i) - 97)) 3) 25) dX5_readMarks_116 q1297 rfl (ms_o hM) rfl ?_
                  refine zt_if_ne (pc := 119) 129 dX5_readMarks_119 (by decide) (fun c_119 => ?_) (fun c_119 => ?_)
                  · refine zt_iconst (pc := 129) dX5_readMarks_129 (v := 0) rfl ?_
                    refine zt_top (pc := 130) (if f_needs (rmR T n nt fo i).2 (rmG nt (rmR T n nt fo i).1 (lk T n (qN fo + i) - 97)) 3 25 = 0 then (1 : Int32) <<< ((lk T n (qN fo + i) - 97) &&& 31) else 0) ((if_neg c_119).symm) ?_
                    refine zt_ior (pc := 130) dX5_readMarks_130 ?_
                    refine zt_istore_n (pc := 131) (L' := [some (.ref 289), some (.int nt), some (.int (((rmR T n nt fo i).1) ||| (if f_needs (rmR T n nt fo i).2 (rmG nt (rmR T n nt fo i).1 (lk T n (qN fo + i) - 97)) 3 25 = 0 then (1 : Int32) <<< ((lk T n (qN fo + i) - 97) &&& 31) else 0))), some (.int (nI (qN fo + i))), some (.int ((lk T n (qN fo + i)) - 97))]) dX5_readMarks_131 rfl (by decide) rfl rfl ?_
                    refine zt_iincN (pc := 132) (b := qN fo + i + 1) (L' := [some (.ref 289), some (.int nt), some (.int (((rmR T n nt fo i).1) ||| (if f_needs (rmR T n nt fo i).2 (rmG nt (rmR T n nt fo i).1 (lk T n (qN fo + i) - 97)) 3 25 = 0 then (1 : Int32) <<< ((lk T n (qN fo + i) - 97) &&& 31) else 0))), some (.int (nI (qN fo + i + 1))), some (.int ((lk T n (qN fo + i)) - 97))]) dX5_readMarks_132 rfl (zinc1 (qN fo + i)) (by decide) rfl rfl ?_
                    refine zt_goto (pc := 135) 40 dX5_readMarks_135 (by decide) ?_
                    refine zt_drop (L' := [some (.ref 289), some (.int nt), some (.int (((rmR T n nt fo i).1) ||| (if f_needs (rmR T n nt fo i).2 (rmG nt (rmR T n nt fo i).1 (lk T n (qN fo + i) - 97)) 3 25 = 0 then (1 : Int32) <<< ((lk T n (qN fo + i) - 97) &&& 31) else 0))), some (.int (nI (qN fo + i + 1))), none]) 4 rfl ?_
                    refine zt_SL (S' := zs S 289 (rmR T n nt fo (i + 1)).2) (L' := [some (.ref 289), some (.int nt), some (.int ((rmR T n nt fo (i + 1)).1)), some (.int (nI (qN fo + (i + 1)))), none]) (congrArg (fun x : Int32 × (Nat → Int32) => zs S 289 x.2) hst).symm (congrArg (fun x : Int32 × (Nat → Int32) => [some (Value.ref 289), some (Value.int nt), some (Value.int x.1), some (Value.int (nI (qN fo + (i + 1)))), none]) hst).symm ih_i
                  · refine zt_iconst (pc := 122) dX5_readMarks_122 (v := 1) rfl ?_
                    refine zt_iload (pc := 123) dX5_readMarks_123 rfl ?_
                    refine zt_ishl (pc := 125) dX5_readMarks_125 ?_
                    refine zt_goto (pc := 126) 130 dX5_readMarks_126 (by decide) ?_
                    refine zt_top (pc := 130) (if f_needs (rmR T n nt fo i).2 (rmG nt (rmR T n nt fo i).1 (lk T n (qN fo + i) - 97)) 3 25 = 0 then (1 : Int32) <<< ((lk T n (qN fo + i) - 97) &&& 31) else 0) ((if_pos c_119).symm) ?_
                    refine zt_ior (pc := 130) dX5_readMarks_130 ?_
                    refine zt_istore_n (pc := 131) (L' := [some (.ref 289), some (.int nt), some (.int (((rmR T n nt fo i).1) ||| (if f_needs (rmR T n nt fo i).2 (rmG nt (rmR T n nt fo i).1 (lk T n (qN fo + i) - 97)) 3 25 = 0 then (1 : Int32) <<< ((lk T n (qN fo + i) - 97) &&& 31) else 0))), some (.int (nI (qN fo + i))), some (.int ((lk T n (qN fo + i)) - 97))]) dX5_readMarks_131 rfl (by decide) rfl rfl ?_
                    refine zt_iincN (pc := 132) (b := qN fo + i + 1) (L' := [some (.ref 289), some (.int nt), some (.int (((rmR T n nt fo i).1) ||| (if f_needs (rmR T n nt fo i).2 (rmG nt (rmR T n nt fo i).1 (lk T n (qN fo + i) - 97)) 3 25 = 0 then (1 : Int32) <<< ((lk T n (qN fo + i) - 97) &&& 31) else 0))), some (.int (nI (qN fo + i + 1))), some (.int ((lk T n (qN fo + i)) - 97))]) dX5_readMarks_132 rfl (zinc1 (qN fo + i)) (by decide) rfl rfl ?_
                    refine zt_goto (pc := 135) 40 dX5_readMarks_135 (by decide) ?_
                    refine zt_drop (L' := [some (.ref 289), some (.int nt), some (.int (((rmR T n nt fo i).1) ||| (if f_needs (rmR T n nt fo i).2 (rmG nt (rmR T n nt fo i).1 (lk T n (qN fo + i) - 97)) 3 25 = 0 then (1 : Int32) <<< ((lk T n (qN fo + i) - 97) &&& 31) else 0))), some (.int (nI (qN fo + i + 1))), none]) 4 rfl ?_
                    refine zt_SL (S' := zs S 289 (rmR T n nt fo (i + 1)).2) (L' := [some (.ref 289), some (.int nt), some (.int ((rmR T n nt fo (i + 1)).1)), some (.int (nI (qN fo + (i + 1)))), none]) (congrArg (fun x : Int32 × (Nat → Int32) => zs S 289 x.2) hst).symm (congrArg (fun x : Int32 × (Nat → Int32) => [some (Value.ref 289), some (Value.int nt), some (Value.int x.1), some (Value.int (nI (qN fo + (i + 1)))), none]) hst).symm ih_i
                · refine zt_iload_n (pc := 96) dX5_readMarks_96 rfl rfl ?_
                  refine zt_iload (pc := 97) dX5_readMarks_97 rfl ?_
                  refine zt_ishr (pc := 99) dX5_readMarks_99 ?_
                  refine zt_iconst (pc := 100) dX5_readMarks_100 (v := 1) rfl ?_
                  refine zt_iand (pc := 101) dX5_readMarks_101 ?_
                  refine zt_if_ne (pc := 102) 109 dX5_readMarks_102 (by decide) (fun c_102 => ?_) (fun c_102 => ?_)
                  · refine zt_iconst (pc := 109) dX5_readMarks_109 (v := 0) rfl ?_
                    refine zt_top (pc := 110) (rmG nt (rmR T n nt fo i).1 (lk T n (qN fo + i) - 97)) ((bI_f (fun z => c_102 z.2.2)).symm) ?_
                    refine zt_iconst (pc := 110) dX5_readMarks_110 (v := 3) rfl ?_
                    refine wt_callV (pc := 111) mX5_needs 2 5 (rc' := 0) (rs' := 0) dX5_readMarks_111 q1434 mi_X5_needs rfl rfl (ms_o hM) (tm_needsF hM (rmG nt (rmR T n nt fo i).1 (lk T n (qN fo + i) - 97)) 3) rfl rfl rfl rfl rfl rfl ?_
                    refine zt_iload_n (pc := 114) dX5_readMarks_114 rfl rfl ?_
                    refine zt_aload_n (pc := 115) dX5_readMarks_115 rfl rfl ?_
                    refine wt_getI (pc := 116) 5 25 (v := (f_needs ((rmR T n nt fo i).2) (rmG nt (rmR T n nt fo i).1 (lk T n (qN fo + i) - 97)) 3) 25) dX5_readMarks_116 q1297 rfl (ms_o hM) rfl ?_
                    refine zt_if_ne (pc := 119) 129 dX5_readMarks_119 (by decide) (fun c_119 => ?_) (fun c_119 => ?_)
                    · refine zt_iconst (pc := 129) dX5_readMarks_129 (v := 0) rfl ?_
                      refine zt_top (pc := 130) (if f_needs (rmR T n nt fo i).2 (rmG nt (rmR T n nt fo i).1 (lk T n (qN fo + i) - 97)) 3 25 = 0 then (1 : Int32) <<< ((lk T n (qN fo + i) - 97) &&& 31) else 0) ((if_neg c_119).symm) ?_
                      refine zt_ior (pc := 130) dX5_readMarks_130 ?_
                      refine zt_istore_n (pc := 131) (L' := [some (.ref 289), some (.int nt), some (.int (((rmR T n nt fo i).1) ||| (if f_needs (rmR T n nt fo i).2 (rmG nt (rmR T n nt fo i).1 (lk T n (qN fo + i) - 97)) 3 25 = 0 then (1 : Int32) <<< ((lk T n (qN fo + i) - 97) &&& 31) else 0))), some (.int (nI (qN fo + i))), some (.int ((lk T n (qN fo + i)) - 97))]) dX5_readMarks_131 rfl (by decide) rfl rfl ?_
                      refine zt_iincN (pc := 132) (b := qN fo + i + 1) (L' := [some (.ref 289), some (.int nt), some (.int (((rmR T n nt fo i).1) ||| (if f_needs (rmR T n nt fo i).2 (rmG nt (rmR T n nt fo i).1 (lk T n (qN fo + i) - 97)) 3 25 = 0 then (1 : Int32) <<< ((lk T n (qN fo + i) - 97) &&& 31) else 0))), some (.int (nI (qN fo + i + 1))), some (.int ((lk T n (qN fo + i)) - 97))]) dX5_readMarks_132 rfl (zinc1 (qN fo + i)) (by decide) rfl rfl ?_
                      refine zt_goto (pc := 135) 40 dX5_readMarks_135 (by decide) ?_
                      refine zt_drop (L' := [some (.ref 289), some (.int nt), some (.int (((rmR T n nt fo i).1) ||| (if f_needs (rmR T n nt fo i).2 (rmG nt (rmR T n nt fo i).1 (lk T n (qN fo + i) - 97)) 3 25 = 0 then (1 : Int32) <<< ((lk T n (qN fo + i) - 97) &&& 31) else 0))), some (.int (nI (qN fo + i + 1))), none]) 4 rfl ?_
                      refine zt_SL (S' := zs S 289 (rmR T n nt fo (i + 1)).2) (L' := [some (.ref 289), some (.int nt), some (.int ((rmR T n nt fo (i + 1)).1)), some (.int (nI (qN fo + (i + 1)))), none]) (congrArg (fun x : Int32 × (Nat → Int32) => zs S 289 x.2) hst).symm (congrArg (fun x : Int32 × (Nat → Int32) => [some (Value.ref 289), some (Value.int nt), some (Value.int x.1), some (Value.int (nI (qN fo + (i + 1)))), none]) hst).symm ih_i
                    · refine zt_iconst (pc := 122) dX5_readMarks_122 (v := 1) rfl ?_
                      refine zt_iload (pc := 123) dX5_readMarks_123 rfl ?_
                      refine zt_ishl (pc := 125) dX5_readMarks_125 ?_
                      refine zt_goto (pc := 126) 130 dX5_readMarks_126 (by decide) ?_
                      refine zt_top (pc := 130) (if f_needs (rmR T n nt fo i).2 (rmG nt (rmR T n nt fo i).1 (lk T n (qN fo + i) - 97)) 3 25 = 0 then (1 : Int32) <<< ((lk T n (qN fo + i) - 97) &&& 31) else 0) ((if_pos c_119).symm) ?_
                      refine zt_ior (pc := 130) dX5_readMarks_130 ?_
                      refine zt_istore_n (pc := 131) (L' := [some (.ref 289), some (.int nt), some (.int (((rmR T n nt fo i).1) ||| (if f_needs (rmR T n nt fo i).2 (rmG nt (rmR T n nt fo i).1 (lk T n (qN fo + i) - 97)) 3 25 = 0 then (1 : Int32) <<< ((lk T n (qN fo + i) - 97) &&& 31) else 0))), some (.int (nI (qN fo + i))), some (.int ((lk T n (qN fo + i)) - 97))]) dX5_readMarks_131 rfl (by decide) rfl rfl ?_
                      refine zt_iincN (pc := 132) (b := qN fo + i + 1) (L' := [some (.ref 289), some (.int nt), some (.int (((rmR T n nt fo i).1) ||| (if f_needs (rmR T n nt fo i).2 (rmG nt (rmR T n nt fo i).1 (lk T n (qN fo + i) - 97)) 3 25 = 0 then (1 : Int32) <<< ((lk T n (qN fo + i) - 97) &&& 31) else 0))), some (.int (nI (qN fo + i + 1))), some (.int ((lk T n (qN fo + i)) - 97))]) dX5_readMarks_132 rfl (zinc1 (qN fo + i)) (by decide) rfl rfl ?_
                      refine zt_goto (pc := 135) 40 dX5_readMarks_135 (by decide) ?_
                      refine zt_drop (L' := [some (.ref 289), some (.int nt), some (.int (((rmR T n nt fo i).1) ||| (if f_needs (rmR T n nt fo i).2 (rmG nt (rmR T n nt fo i).1 (lk T n (qN fo + i) - 97)) 3 25 = 0 then (1 : Int32) <<< ((lk T n (qN fo + i) - 97) &&& 31) else 0))), some (.int (nI (qN fo + i + 1))), none]) 4 rfl ?_
                      refine zt_SL (S' := zs S 289 (rmR T n nt fo (i + 1)).2) (L' := [some (.ref 289), some (.int nt), some (.int ((rmR T n nt fo (i + 1)).1)), some (.int (nI (qN fo + (i + 1)))), none]) (congrArg (fun x : Int32 × (Nat → Int32) => zs S 289 x.2) hst).symm (congrArg (fun x : Int32 × (Nat → Int32) => [some (Value.ref 289), some (Value.int nt), some (Value.int x.1), some (Value.int (nI (qN fo + (i + 1)))), none]) hst).symm ih_i
                  · refine zt_iconst (pc := 105) dX5_readMarks_105 (v := 1) rfl ?_
                    refine zt_goto (pc := 106) 110 dX5_readMarks_106 (by decide) ?_
                    refine zt_top (pc := 110) (rmG nt (rmR T n nt fo i).1 (lk T n (qN fo + i) - 97)) ((bI_t ⟨bI_ne0 c_84, c_93, c_102⟩).symm) ?_
                    refine zt_iconst (pc := 110) dX5_readMarks_110 (v := 3) rfl ?_
                    refine wt_callV (pc := 111) mX5_needs 2 5 (rc' := 0) (rs' := 0) dX5_readMarks_111 q1434 mi_X5_needs rfl rfl (ms_o hM) (tm_needsF hM (rmG nt (rmR T n nt fo i).1 (lk T n (qN fo + i) - 97)) 3) rfl rfl rfl rfl rfl rfl ?_
                    refine zt_iload_n (pc := 114) dX5_readMarks_114 rfl rfl ?_
                    refine zt_aload_n (pc := 115) dX5_readMarks_115 rfl rfl ?_
                    refine wt_getI (pc := 116) 5 25 (v := (f_needs ((rmR T n nt fo i).2) (rmG nt (rmR T n nt fo i).1 (lk T n (qN fo + i) - 97)) 3) 25) dX5_readMarks_116 q1297 rfl (ms_o hM) rfl ?_
                    refine zt_if_ne (pc := 119) 129 dX5_readMarks_119 (by decide) (fun c_119 => ?_) (fun c_119 => ?_)
                    · refine zt_iconst (pc := 129) dX5_readMarks_129 (v := 0) rfl ?_
                      refine zt_top (pc := 130) (if f_needs (rmR T n nt fo i).2 (rmG nt (rmR T n nt fo i).1 (lk T n (qN fo + i) - 97)) 3 25 = 0 then (1 : Int32) <<< ((lk T n (qN fo + i) - 97) &&& 31) else 0) ((if_neg c_119).symm) ?_
                      refine zt_ior (pc := 130) dX5_readMarks_130 ?_
                      refine zt_istore_n (pc := 131) (L' := [some (.ref 289), some (.int nt), some (.int (((rmR T n nt fo i).1) ||| (if f_needs (rmR T n nt fo i).2 (rmG nt (rmR T n nt fo i).1 (lk T n (qN fo + i) - 97)) 3 25 = 0 then (1 : Int32) <<< ((lk T n (qN fo + i) - 97) &&& 31) else 0))), some (.int (nI (qN fo + i))), some (.int ((lk T n (qN fo + i)) - 97))]) dX5_readMarks_131 rfl (by decide) rfl rfl ?_
                      refine zt_iincN (pc := 132) (b := qN fo + i + 1) (L' := [some (.ref 289), some (.int nt), some (.int (((rmR T n nt fo i).1) ||| (if f_needs (rmR T n nt fo i).2 (rmG nt (rmR T n nt fo i).1 (lk T n (qN fo + i) - 97)) 3 25 = 0 then (1 : Int32) <<< ((lk T n (qN fo + i) - 97) &&& 31) else 0))), some (.int (nI (qN fo + i + 1))), some (.int ((lk T n (qN fo + i)) - 97))]) dX5_readMarks_132 rfl (zinc1 (qN fo + i)) (by decide) rfl rfl ?_
                      refine zt_goto (pc := 135) 40 dX5_readMarks_135 (by decide) ?_
                      refine zt_drop (L' := [some (.ref 289), some (.int nt), some (.int (((rmR T n nt fo i).1) ||| (if f_needs (rmR T n nt fo i).2 (rmG nt (rmR T n nt fo i).1 (lk T n (qN fo + i) - 97)) 3 25 = 0 then (1 : Int32) <<< ((lk T n (qN fo + i) - 97) &&& 31) else 0))), some (.int (nI (qN fo + i + 1))), none]) 4 rfl ?_
                      refine zt_SL (S' := zs S 289 (rmR T n nt fo (i + 1)).2) (L' := [some (.ref 289), some (.int nt), some (.int ((rmR T n nt fo (i + 1)).1)), some (.int (nI (qN fo + (i + 1)))), none]) (congrArg (fun x : Int32 × (Nat → Int32) => zs S 289 x.2) hst).symm (congrArg (fun x : Int32 × (Nat → Int32) => [some (Value.ref 289), some (Value.int nt), some (Value.int x.1), some (Value.int (nI (qN fo + (i + 1)))), none]) hst).symm ih_i
                    · refine zt_iconst (pc := 122) dX5_readMarks_122 (v := 1) rfl ?_
                      refine zt_iload (pc := 123) dX5_readMarks_123 rfl ?_
                      refine zt_ishl (pc := 125) dX5_readMarks_125 ?_
                      refine zt_goto (pc := 126) 130 dX5_readMarks_126 (by decide) ?_
                      refine zt_top (pc := 130) (if f_needs (rmR T n nt fo i).2 (rmG nt (rmR T n nt fo i).1 (lk T n (qN fo + i) - 97)) 3 25 = 0 then (1 : Int32) <<< ((lk T n (qN fo + i) - 97) &&& 31) else 0) ((if_pos c_119).symm) ?_
                      refine zt_ior (pc := 130) dX5_readMarks_130 ?_
                      refine zt_istore_n (pc := 131) (L' := [some (.ref 289), some (.int nt), some (.int (((rmR T n nt fo i).1) ||| (if f_needs (rmR T n nt fo i).2 (rmG nt (rmR T n nt fo i).1 (lk T n (qN fo + i) - 97)) 3 25 = 0 then (1 : Int32) <<< ((lk T n (qN fo + i) - 97) &&& 31) else 0))), some (.int (nI (qN fo + i))), some (.int ((lk T n (qN fo + i)) - 97))]) dX5_readMarks_131 rfl (by decide) rfl rfl ?_
                      refine zt_iincN (pc := 132) (b := qN fo + i + 1) (L' := [some (.ref 289), some (.int nt), some (.int (((rmR T n nt fo i).1) ||| (if f_needs (rmR T n nt fo i).2 (rmG nt (rmR T n nt fo i).1 (lk T n (qN fo + i) - 97)) 3 25 = 0 then (1 : Int32) <<< ((lk T n (qN fo + i) - 97) &&& 31) else 0))), some (.int (nI (qN fo + i + 1))), some (.int ((lk T n (qN fo + i)) - 97))]) dX5_readMarks_132 rfl (zinc1 (qN fo + i)) (by decide) rfl rfl ?_
                      refine zt_goto (pc := 135) 40 dX5_readMarks_135 (by decide) ?_
                      refine zt_drop (L' := [some (.ref 289), some (.int nt), some (.int (((rmR T n nt fo i).1) ||| (if f_needs (rmR T n nt fo i).2 (rmG nt (rmR T n nt fo i).1 (lk T n (qN fo + i) - 97)) 3 25 = 0 then (1 : Int32) <<< ((lk T n (qN fo + i) - 97) &&& 31) else 0))), some (.int (nI (qN fo + i + 1))), none]) 4 rfl ?_
                      refine zt_SL (S' := zs S 289 (rmR T n nt fo (i + 1)).2) (L' := [some (.ref 289), some (.int nt), some (.int ((rmR T n nt fo (i + 1)).1)), some (.int (nI (qN fo + (i + 1)))), none]) (congrArg (fun x : Int32 × (Nat → Int32) => zs S 289 x.2) hst).symm (congrArg (fun x : Int32 × (Nat → Int32) => [some (Value.ref 289), some (Value.int nt), some (Value.int x.1), some (Value.int (nI (qN fo + (i + 1)))), none]) hst).symm ih_i

end M16