/-! THE TWIN, part 19: a kind's line -/
set_option maxRecDepth 100000
abbrev RK : Type := (Int32 × Int32 × Int32 × Int32) × (Nat → Int32)
def rkW (T : Nat → Int32) (n : Nat) (f : Nat → Int32) : Int32 := s_nameN T n (qN f) (pN f)
def rk1 (T : Nat → Int32) (n : Nat) (f : Nat → Int32) : Nat → Int32 := f_needs f (bI ((14 : Int64) ≤ (rkW T n f).toInt64 ∧ (rkW T n f).toInt64 ≤ 17)) 2
def rkH (T : Nat → Int32) (n : Nat) (had : Int32) (f : Nat → Int32) : Int32 := had ||| ((1 : Int32) <<< ((rkW T n f - 14) &&& 31))
def rk2 (T : Nat → Int32) (n : Nat) (had : Int32) (f : Nat → Int32) : Nat → Int32 := f_needs (rk1 T n f) (bI ((had >>> ((rkW T n f - 14) &&& 31)) &&& 1 = 0)) 4
def rk3 (T : Nat → Int32) (n : Nat) (had : Int32) (f : Nat → Int32) : Nat → Int32 := nx T n (rk2 T n had f)
def rkS (T : Nat → Int32) (n : Nat) (x : RK) : RK :=
  if x.2 25 = 0 ∧ x.2 23 = 1 then
    (if rk1 T n x.2 25 = 0 then
      (if rkW T n x.2 = 14 then ((v_rm T n 0 (rk3 T n x.1.2.2.2 x.2), x.1.2.1, x.1.2.2.1, rkH T n x.1.2.2.2 x.2), f_rm T n 0 (rk3 T n x.1.2.2.2 x.2))
       else if rkW T n x.2 = 15 then ((x.1.1, v_rn 0 (rk3 T n x.1.2.2.2 x.2 9 - 1) (rk3 T n x.1.2.2.2 x.2), x.1.2.2.1, rkH T n x.1.2.2.2 x.2), f_rn T n 0 (rk3 T n x.1.2.2.2 x.2 9 - 1) (rk3 T n x.1.2.2.2 x.2))
       else if rkW T n x.2 = 17 then ((x.1.1, x.1.2.1, v_rn 0 9 (rk3 T n x.1.2.2.2 x.2), rkH T n x.1.2.2.2 x.2), f_rn T n 0 9 (rk3 T n x.1.2.2.2 x.2))
       else ((x.1.1, x.1.2.1, x.1.2.2.1, rkH T n x.1.2.2.2 x.2), rk3 T n x.1.2.2.2 x.2))
     else (x.1, rk1 T n x.2))
  else x
def rkR (T : Nat → Int32) (n : Nat) (fo : Nat → Int32) (i : Nat) : RK := itr (fun _ => rkS T n) ((255, -4, 1, 0), fo) i
theorem gd_rk1 {T : Nat → Int32} {n : Nat} {a f : Nat → Int32} (h : Gd n a f) : Gd n a (rk1 T n f) := h.gnd (by decide)
theorem gd_rk2 {T : Nat → Int32} {n : Nat} {had : Int32} {a f : Nat → Int32} (h : Gd n a f) : Gd n a (rk2 T n had f) := (gd_rk1 h).gnd (by decide)
theorem gd_rk3 {T : Nat → Int32} {n : Nat} {had : Int32} {a f : Nat → Int32} (hn : n ≤ 400) (h : Gd n a f) : Gd n a (rk3 T n had f) := (gd_rk2 h).gnx hn
theorem gd_rkS {T : Nat → Int32} {n : Nat} {a : Nat → Int32} {x : RK} (hn : n ≤ 400) (h : Gd n a x.2) : Gd n a (rkS T n x).2 := by
  have h3 : Gd n a (rk3 T n x.1.2.2.2 x.2) := gd_rk3 hn h
  unfold rkS
  by_cases hc : x.2 25 = 0 ∧ x.2 23 = 1
  · rw [if_pos hc]
    by_cases h1 : rk1 T n x.2 25 = 0
    · rw [if_pos h1]
      by_cases a4 : rkW T n x.2 = 14
      · rw [if_pos a4]
        dsimp only
        exact Gd.grm hn h3
      · rw [if_neg a4]
        by_cases a5 : rkW T n x.2 = 15
        · rw [if_pos a5]
          dsimp only
          exact Gd.grn hn h3
        · rw [if_neg a5]
          by_cases a7 : rkW T n x.2 = 17
          · rw [if_pos a7]
            dsimp only
            exact Gd.grn hn h3
          · rw [if_neg a7]
            dsimp only
            exact h3
    · rw [if_neg h1]
      have h1' : Gd n a (rk1 T n x.2) := gd_rk1 h
      dsimp only
      exact h1'
  · rw [if_neg hc]
    exact h
theorem gd_rkR {T : Nat → Int32} {n : Nat} {fo : Nat → Int32} (hn : n ≤ 400) (h : TI n fo) : ∀ i, Gd n fo (rkR T n fo i).2
  | 0 => Gd.refl h
  | i + 1 => gd_rkS hn (gd_rkR hn h i)
theorem rkR_stay {T : Nat → Int32} {n : Nat} {fo : Nat → Int32} {i : Nat} (h : ¬ ((rkR T n fo i).2 25 = 0 ∧ (rkR T n fo i).2 23 = 1)) : ∀ d, rkR T n fo (i + d) = rkR T n fo i
  | 0 => rfl
  | d + 1 => by
    have ih := rkR_stay h d
    show rkS T n (rkR T n fo (i + d)) = _
    rw [ih]
    exact if_neg h
theorem rkR_end {T : Nat → Int32} {n : Nat} {fo : Nat → Int32} {i N : Nat} (hN : i < N) (h : ¬ ((rkR T n fo i).2 25 = 0 ∧ (rkR T n fo i).2 23 = 1)) : rkR T n fo i = rkR T n fo N := by
  have := rkR_stay h (N - i)
  rw [show i + (N - i) = N by omega] at this
  exact this.symm
def pc4 (m : Nat) : Nat := m % 2 + m / 2 % 2 + m / 4 % 2 + m / 8 % 2
theorem had_step : ∀ (m : Fin 16) (j : Fin 4), ((nI m.val >>> (nI j.val &&& 31)) &&& 1 = 0) → ∃ m' : Fin 16, nI m.val ||| ((1 : Int32) <<< (nI j.val &&& 31)) = nI m'.val ∧ pc4 m'.val = pc4 m.val + 1 := by decide
theorem in4 {w : Int32} (h : (14 : Int64) ≤ w.toInt64 ∧ w.toInt64 ≤ 17) : ∃ j : Fin 4, w - 14 = nI j.val := by
  have h1 := Int64.le_iff_toInt_le.mp h.1
  have h2 := Int64.le_iff_toInt_le.mp h.2
  rw [Int32.toInt_toInt64] at h1 h2
  rw [show (14 : Int64).toInt = 14 by decide] at h1
  rw [show (17 : Int64).toInt = 17 by decide] at h2
  have : w.toInt = 14 ∨ w.toInt = 15 ∨ w.toInt = 16 ∨ w.toInt = 17 := by omega
  rcases this with e | e | e | e
  · exact ⟨0, by rw [show w = 14 from Int32.toInt_inj.mp e]; decide⟩
  · exact ⟨1, by rw [show w = 15 from Int32.toInt_inj.mp e]; decide⟩
  · exact ⟨2, by rw [show w = 16 from Int32.toInt_inj.mp e]; decide⟩
  · exact ⟨3, by rw [show w = 17 from Int32.toInt_inj.mp e]; decide⟩
theorem rk3_ok {T : Nat → Int32} {n : Nat} {had : Int32} {f : Nat → Int32} (h : rk3 T n had f 25 = 0) : ((14 : Int64) ≤ (rkW T n f).toInt64 ∧ (rkW T n f).toInt64 ≤ 17) ∧ (had >>> ((rkW T n f - 14) &&& 31)) &&& 1 = 0 := by
  have a := needs_stuck (by decide) (nx_stuck h)
  have b := needs_stuck (by decide) a.1
  exact ⟨bI_ne0 b.2, bI_ne0 a.2⟩
theorem rkS_ok {T : Nat → Int32} {n : Nat} {x : RK} (hn : n ≤ 400) (ht : TI n x.2) (hc : x.2 25 = 0 ∧ x.2 23 = 1) (h : (rkS T n x).2 25 = 0) : rk3 T n x.1.2.2.2 x.2 25 = 0 ∧ (rkS T n x).1.2.2.2 = rkH T n x.1.2.2.2 x.2 := by
  have h3 := (gd_rk3 (T := T) (had := x.1.2.2.2) hn (Gd.refl ht)).ti
  unfold rkS at h ⊢
  rw [if_pos hc] at h ⊢
  by_cases h1 : rk1 T n x.2 25 = 0
  · rw [if_pos h1] at h ⊢
    by_cases a : rkW T n x.2 = 14
    · rw [if_pos a] at h ⊢
      dsimp only at h ⊢
      exact ⟨(Gd.grm (T := T) (nt := 0) hn (Gd.refl h3)).stuck h, rfl⟩
    · rw [if_neg a] at h ⊢
      by_cases b : rkW T n x.2 = 15
      · rw [if_pos b] at h ⊢
        dsimp only at h ⊢
        exact ⟨(Gd.grn (T := T) hn (Gd.refl h3)).stuck h, rfl⟩
      · rw [if_neg b] at h ⊢
        by_cases c : rkW T n x.2 = 17
        · rw [if_pos c] at h ⊢
          dsimp only at h ⊢
          exact ⟨(Gd.grn (T := T) hn (Gd.refl h3)).stuck h, rfl⟩
        · rw [if_neg c] at h ⊢
          dsimp only at h ⊢
          exact ⟨h, rfl⟩
  · rw [if_neg h1] at h
    dsimp only at h
    exact absurd h h1
theorem rk_cnt {T : Nat → Int32} {n : Nat} {fo : Nat → Int32} (hn : n ≤ 400) (ht : TI n fo) : ∀ i, (rkR T n fo i).2 25 = 0 → (rkR T n fo i).2 23 = 1 → ∃ m : Fin 16, (rkR T n fo i).1.2.2.2 = nI m.val ∧ pc4 m.val = i
  | 0, _, _ => ⟨0, rfl, rfl⟩
  | i + 1, h5, h3 => by
    by_cases hc : (rkR T n fo i).2 25 = 0 ∧ (rkR T n fo i).2 23 = 1
    · obtain ⟨m, e1, e2⟩ := rk_cnt hn ht i hc.1 hc.2
      obtain ⟨a, b⟩ := rkS_ok hn (gd_rkR hn ht i).ti hc h5
      obtain ⟨a1, a2⟩ := rk3_ok a
      obtain ⟨j, ej⟩ := in4 a1
      rw [ej, e1] at a2
      obtain ⟨m', q1, q2⟩ := had_step m j a2
      refine ⟨m', ?_, by omega⟩
      show (rkS T n (rkR T n fo i)).1.2.2.2 = _
      rw [b]
      unfold rkH
      rw [ej, e1]
      exact q1
    · have e : rkR T n fo (i + 1) = rkR T n fo i := rkR_stay hc 1
      rw [e] at h5 h3
      exact absurd ⟨h5, h3⟩ hc
theorem pc4_le : ∀ m : Fin 16, pc4 m.val ≤ 4 := by decide
theorem rk_done {T : Nat → Int32} {n : Nat} {fo : Nat → Int32} (hn : n ≤ 400) (ht : TI n fo) : ¬ ((rkR T n fo 5).2 25 = 0 ∧ (rkR T n fo 5).2 23 = 1) := by
  intro h
  obtain ⟨m, _, e⟩ := rk_cnt hn ht 5 h.1 h.2
  have := pc4_le m
  omega
def w_rk (T : Nat → Int32) (n : Nat) (k : Int32) (x : WF) : WF := if (rkR T n x.2 5).2 25 = 0 then (zu (zu (zu (zu (zu x.1 299 (5 * dN 16 x.2) k) 299 (5 * dN 16 x.2 + 1) (rkR T n x.2 5).1.1) 299 (5 * dN 16 x.2 + 2) (rkR T n x.2 5).1.2.1) 299 (5 * dN 16 x.2 + 3) (((rkR T n x.2 5).1.2.2.2 >>> (2 &&& 31)) &&& 1)) 299 (5 * dN 16 x.2 + 4) (rkR T n x.2 5).1.2.2.1, upd (rkR T n x.2 5).2 16 ((rkR T n x.2 5).2 16 + 1)) else (x.1, (rkR T n x.2 5).2)
theorem w_rk_neg {T : Nat → Int32} {n : Nat} {k : Int32} {S : Nat → Nat → Int32} {fo : Nat → Int32} (h : ¬ (rkR T n fo 5).2 25 = 0) : w_rk T n k (S, fo) = (S, (rkR T n fo 5).2) := by
  unfold w_rk
  dsimp only
  rw [if_neg h]
theorem w_rk_pos {T : Nat → Int32} {n : Nat} {k : Int32} {S : Nat → Nat → Int32} {fo : Nat → Int32} (h : (rkR T n fo 5).2 25 = 0) : w_rk T n k (S, fo) = (zu (zu (zu (zu (zu S 299 (5 * dN 16 fo) k) 299 (5 * dN 16 fo + 1) (rkR T n fo 5).1.1) 299 (5 * dN 16 fo + 2) (rkR T n fo 5).1.2.1) 299 (5 * dN 16 fo + 3) (((rkR T n fo 5).1.2.2.2 >>> (2 &&& 31)) &&& 1)) 299 (5 * dN 16 fo + 4) (rkR T n fo 5).1.2.2.1, upd (rkR T n fo 5).2 16 ((rkR T n fo 5).2 16 + 1)) := by
  unfold w_rk
  dsimp only
  rw [if_pos h]
section M19
variable {g : ZG} {h : ZH} {S A C : Nat → Nat → Int32} {fo : Nat → Int32}
theorem tm_readKind (hM : MS h.2.1 h.2.2.2) (T : Nat → Int32) (n : Nat) (hn : n ≤ 400) (h20 : fo 20 = nI n) (h301 : S 301 = T) (hP : TI n fo) (h16 : fo 16 = nI (dN 16 fo)) (hd : dN 16 fo < 6) (k : Int32) : Zd g mX5_readKind 5 0 0 [.ref 289, .int k] (zW h (zs S 289 fo)) none (zW h (zs (w_rk T n k (S, fo)).1 289 (w_rk T n k (S, fo)).2)) := by
  refine zc_of [some (.ref 289), some (.int k), none, none, none, none, none, none] rfl (Nat.le_of_ble_eq_true rfl) rfl ?_
  refine zt_iconst (pc := 0) dX5_readKind_0 (v := 5) rfl ?_
  refine zt_aload_n (pc := 1) dX5_readKind_1 rfl rfl ?_
  refine wt_getI (pc := 2) 5 16 (v := nI (dN 16 fo)) dX5_readKind_2 q1288 rfl (ms_o hM) ((congrFun (zs_at _ _ _) 16).trans (h16)) ?_
  refine zt_imulN (pc := 5) (a := 5) (b := dN 16 fo) dX5_readKind_5 ?_
  refine zt_istore_n (pc := 6) (L' := [some (.ref 289), some (.int k), some (.int (nI (5 * (dN 16 fo)))), none, none, none, none, none]) dX5_readKind_6 rfl (by decide) rfl rfl ?_
  refine zt_sipush (pc := 7) dX5_readKind_7 (v := 255) rfl ?_
  refine zt_istore_n (pc := 10) (L' := [some (.ref 289), some (.int k), some (.int (nI (5 * (dN 16 fo)))), some (.int 255), none, none, none, none]) dX5_readKind_10 rfl (by decide) rfl rfl ?_
  refine zt_bipush (pc := 11) dX5_readKind_11 (v := (-4)) rfl ?_
  refine zt_istore (pc := 13) (L' := [some (.ref 289), some (.int k), some (.int (nI (5 * (dN 16 fo)))), some (.int 255), some (.int (-4)), none, none, none]) dX5_readKind_13 (by decide) rfl rfl ?_
  refine zt_iconst (pc := 15) dX5_readKind_15 (v := 1) rfl ?_
  refine zt_istore (pc := 16) (L' := [some (.ref 289), some (.int k), some (.int (nI (5 * (dN 16 fo)))), some (.int 255), some (.int (-4)), some (.int 1), none, none]) dX5_readKind_16 (by decide) rfl rfl ?_
  refine zt_iconst (pc := 18) dX5_readKind_18 (v := 0) rfl ?_
  refine zt_join (S' := zs S 289 (rkR T n fo 5).2) (pc' := 163) (L' := [some (.ref 289), some (.int k), some (.int (nI (5 * dN 16 fo))), some (.int ((rkR T n fo 5).1.1)), some (.int ((rkR T n fo 5).1.2.1)), some (.int ((rkR T n fo 5).1.2.2.1)), some (.int ((rkR T n fo 5).1.2.2.2)), none]) (st' := []) ?_ (fun hj_163 => ?_)
  · refine zt_aload_n (pc := 163) dX5_readKind_163 rfl rfl ?_
    refine wt_getI (pc := 164) 5 25 (v := ((rkR T n fo 5).2) 25) dX5_readKind_164 q1297 rfl (ms_o hM) (congrFun (zs_at _ _ _) 25) ?_
    refine zt_if_ne (pc := 167) 230 dX5_readKind_167 (by decide) (fun c_167 => ?_) (fun c_167 => ?_)
    · exact zt_return (pc := 230) dX5_readKind_230 rfl (⟨rfl, by rw [w_rk_neg c_167]⟩)
    · refine zt_aload_n (pc := 170) dX5_readKind_170 rfl rfl ?_
      refine wt_getR (pc := 171) 5 17 dX5_readKind_171 q1289 rfl (ms_o hM) (mr_dKind hM) ?_
      refine zt_iload_n (pc := 174) dX5_readKind_174 rfl rfl ?_
      refine zt_iload_n (pc := 175) dX5_readKind_175 rfl rfl ?_
      refine wt_iastW (pc := 176) 30 (5 * dN 16 fo) (b := 289) rfl dX5_readKind_176 (ma_dKind hM) rfl rfl (by omega) ?_
      refine zt_aload_n (pc := 177) dX5_readKind_177 rfl rfl ?_
      refine wt_getR (pc := 178) 5 17 dX5_readKind_178 q1289 rfl (ms_o hM) (mr_dKind hM) ?_
      refine zt_iload_n (pc := 181) dX5_readKind_181 rfl rfl ?_
      refine zt_iconst (pc := 182) dX5_readKind_182 (v := 1) rfl ?_
      refine zt_iaddN (pc := 183) (a := 5 * dN 16 fo) (b := 1) dX5_readKind_183 ?_
      refine zt_iload_n (pc := 184) dX5_readKind_184 rfl rfl ?_
      refine wt_iastW (pc := 185) 30 ((5 * dN 16 fo) + 1) (b := 289) rfl dX5_readKind_185 (ma_dKind hM) rfl rfl (by omega) ?_
      refine zt_aload_n (pc := 186) dX5_readKind_186 rfl rfl ?_
      refine wt_getR (pc := 187) 5 17 dX5_readKind_187 q1289 rfl (ms_o hM) (mr_dKind hM) ?_
      refine zt_iload_n (pc := 190) dX5_readKind_190 rfl rfl ?_
      refine zt_iconst (pc := 191) dX5_readKind_191 (v := 2) rfl ?_
      refine zt_iaddN (pc := 192) (a := 5 * dN 16 fo) (b := 2) dX5_readKind_192 ?_
      refine zt_iload (pc := 193) dX5_readKind_193 rfl ?_
      refine wt_iastW (pc := 195) 30 ((5 * dN 16 fo) + 2) (b := 289) rfl dX5_readKind_195 (ma_dKind hM) rfl rfl (by omega) ?_
      refine zt_aload_n (pc := 196) dX5_readKind_196 rfl rfl ?_
      refine wt_getR (pc := 197) 5 17 dX5_readKind_197 q1289 rfl (ms_o hM) (mr_dKind hM) ?_
      refine zt_iload_n (pc := 200) dX5_readKind_200 rfl rfl ?_
      refine zt_iconst (pc := 201) dX5_readKind_201 (v := 3) rfl ?_
      refine zt_iaddN (pc := 202) (a := 5 * dN 16 fo) (b := 3) dX5_readKind_202 ?_
      refine zt_iload (pc := 203) dX5_readKind_203 rfl ?_
      refine zt_iconst (pc := 205) dX5_readKind_205 (v := 2) rfl ?_
      refine zt_ishr (pc := 206) dX5_readKind_206 ?_
      refine zt_iconst (pc := 207) dX5_readKind_207 (v := 1) rfl ?_
      refine zt_iand (pc := 208) dX5_readKind_208 ?_
      refine wt_iastW (pc := 209) 30 ((5 * dN 16 fo) + 3) (b := 289) rfl dX5_readKind_209 (ma_dKind hM) rfl rfl (by omega) ?_
      refine zt_aload_n (pc := 210) dX5_readKind_210 rfl rfl ?_
      refine wt_getR (pc := 211) 5 17 dX5_readKind_211 q1289 rfl (ms_o hM) (mr_dKind hM) ?_
      refine zt_iload_n (pc := 214) dX5_readKind_214 rfl rfl ?_
      refine zt_iconst (pc := 215) dX5_readKind_215 (v := 4) rfl ?_
      refine zt_iaddN (pc := 216) (a := 5 * dN 16 fo) (b := 4) dX5_readKind_216 ?_
      refine zt_iload (pc := 217) dX5_readKind_217 rfl ?_
      refine wt_iastW (pc := 219) 30 ((5 * dN 16 fo) + 4) (b := 289) rfl dX5_readKind_219 (ma_dKind hM) rfl rfl (by omega) ?_
      refine zt_aload_n (pc := 220) dX5_readKind_220 rfl rfl ?_
      refine zt_dup (pc := 221) dX5_readKind_221 rfl ?_
      refine wt_getI (pc := 222) 5 16 (v := ((rkR T n fo 5).2) 16) dX5_readKind_222 q1288 rfl (ms_o hM) (congrFun (zs_at _ _ _) 16) ?_
      refine zt_iconst (pc := 225) dX5_readKind_225 (v := 1) rfl ?_
      refine zt_iadd (pc := 226) dX5_readKind_226 ?_
      refine wt_putIS (pc := 227) 5 16 dX5_readKind_227 q1288 rfl (ms_o hM) ?_
      exact zt_return (pc := 230) dX5_readKind_230 rfl (⟨rfl, by rw [w_rk_pos c_167]⟩)
  · refine zt_istore (pc := 19) (L' := [some (.ref 289), some (.int k), some (.int (nI (5 * (dN 16 fo)))), some (.int 255), some (.int (-4)), some (.int 1), some (.int 0), none]) dX5_readKind_19 (by decide) rfl rfl ?_
    refine zt_for (pc := 21) (fun i => zs S 289 (rkR T n fo i).2) (fun i => [some (.ref 289), some (.int k), some (.int (nI (5 * dN 16 fo))), some (.int ((rkR T n fo i).1.1)), some (.int ((rkR T n fo i).1.2.1)), some (.int ((rkR T n fo i).1.2.2.1)), some (.int ((rkR T n fo i).1.2.2.2)), none]) 5 rfl rfl ?_ (fun i hi_i ih_i => ?_)
    · show Zt _ _ _ _ _ _ (zW h (zs S 289 (rkR T n fo 5).2)) 21 [some (.ref 289), some (.int k), some (.int (nI (5 * dN 16 fo))), some (.int ((rkR T n fo 5).1.1)), some (.int ((rkR T n fo 5).1.2.1)), some (.int ((rkR T n fo 5).1.2.2.1)), some (.int ((rkR T n fo 5).1.2.2.2)), none] []
      refine zt_aload_n (pc := 21) dX5_readKind_21 rfl rfl ?_
      refine wt_getI (pc := 22) 5 25 (v := ((rkR T n fo 5).2) 25) dX5_readKind_22 q1297 rfl (ms_o hM) (congrFun (zs_at _ _ _) 25) ?_
      refine zt_if_ne (pc := 25) 163 dX5_readKind_25 (by decide) (fun c_25 => ?_) (fun c_25 => ?_)
      · exact hj_163
      · refine zt_aload_n (pc := 28) dX5_readKind_28 rfl rfl ?_
        refine wt_getI (pc := 29) 5 23 (v := ((rkR T n fo 5).2) 23) dX5_readKind_29 q1295 rfl (ms_o hM) (congrFun (zs_at _ _ _) 23) ?_
        refine zt_iconst (pc := 32) dX5_readKind_32 (v := 1) rfl ?_
        refine zt_icmp_ne (pc := 33) 163 dX5_readKind_33 (by decide) (fun c_33 => ?_) (fun c_33 => absurd ⟨c_25, c_33⟩ (rk_done hn hP))
        exact hj_163
    · show Zt _ _ _ _ _ _ (zW h (zs S 289 (rkR T n fo i).2)) 21 [some (.ref 289), some (.int k), some (.int (nI (5 * dN 16 fo))), some (.int ((rkR T n fo i).1.1)), some (.int ((rkR T n fo i).1.2.1)), some (.int ((rkR T n fo i).1.2.2.1)), some (.int ((rkR T n fo i).1.2.2.2)), none] []
      refine zt_aload_n (pc := 21) dX5_readKind_21 rfl rfl ?_
      refine wt_getI (pc := 22) 5 25 (v := ((rkR T n fo i).2) 25) dX5_readKind_22 q1297 rfl (ms_o hM) (congrFun (zs_at _ _ _) 25) ?_
      refine zt_if_ne (pc := 25) 163 dX5_readKind_25 (by decide) (fun c_25 => ?_) (fun c_25 => ?_)
      · have hend := rkR_end (N := 5) hi_i (fun z => c_25 z.1)
        refine zt_SL (by rw [hend]) (by rw [hend]) ?_
        exact hj_163
      · refine zt_aload_n (pc := 28) dX5_readKind_28 rfl rfl ?_
        refine wt_getI (pc := 29) 5 23 (v := ((rkR T n fo i).2) 23) dX5_readKind_29 q1295 rfl (ms_o hM) (congrFun (zs_at _ _ _) 23) ?_
        refine zt_iconst (pc := 32) dX5_readKind_32 (v := 1) rfl ?_
        refine zt_icmp_ne (pc := 33) 163 dX5_readKind_33 (by decide) (fun c_33 => ?_) (fun c_33 => ?_)
        · have hend := rkR_end (N := 5) hi_i (fun z => c_33 z.2)
          refine zt_SL (by rw [hend]) (by rw [hend]) ?_
          exact hj_163
        · refine zt_aload_n (pc := 36) dX5_readKind_36 rfl rfl ?_
          refine wt_callV (pc := 37) mX5_nameNow 0 5 (rc' := 0) (rs' := 0) dX5_readKind_37 q1442 mi_X5_nameNow rfl rfl (ms_o hM) (tm_nameNow (S := zs S 289 (rkR T n fo i).2) hM T n hn (((gd_rkR hn hP i).at_ 20 (by decide)).trans h20) h301 (qN ((rkR T n fo i).2)) (pN ((rkR T n fo i).2)) (gd_rkR hn hP i).ti.2.2 (gd_rkR hn hP i).ti.1.2 (gd_rkR hn hP i).ti.2.1 (Nat.le_trans (gd_rkR hn hP i).ti.1.1 hn)) rfl rfl rfl rfl rfl rfl ?_
          refine zt_top (pc := 40) (rkW T n (rkR T n fo i).2) rfl ?_
          refine zt_istore (pc := 40) (L' := [some (.ref 289), some (.int k), some (.int (nI (5 * dN 16 fo))), some (.int ((rkR T n fo i).1.1)), some (.int ((rkR T n fo i).1.2.1)), some (.int ((rkR T n fo i).1.2.2.1)), some (.int ((rkR T n fo i).1.2.2.2)), some (.int (rkW T n (rkR T n fo i).2))]) dX5_readKind_40 (by decide) rfl rfl ?_
          refine zt_aload_n (pc := 42) dX5_readKind_42 rfl rfl ?_
          refine zt_iload (pc := 43) dX5_readKind_43 rfl ?_
          refine zt_i2l (pc := 45) dX5_readKind_45 rfl ?_
          refine zt_ldc2 (pc := 46) dX5_readKind_46 q1477 ?_
          refine zt_ldc2 (pc := 49) dX5_readKind_49 q1478 ?_
          refine wt_callS (pc := 52) mX5_in 3 (rc' := 0) (rs' := 0) dX5_readKind_52 q1223 ms_X5_in (tm_in ((rkW T n (rkR T n fo i).2).toInt64) 14 17) rfl rfl rfl rfl rfl rfl ?_
          refine zt_iconst (pc := 55) dX5_readKind_55 (v := 2) rfl ?_
          refine wt_callV (pc := 56) mX5_needs 2 5 (rc' := 0) (rs' := 0) dX5_readKind_56 q1434 mi_X5_needs rfl rfl (ms_o hM) (tm_needsF hM (bI (14 ≤ ((rkW T n (rkR T n fo i).2).toInt64) ∧ ((rkW T n (rkR T n fo i).2).toInt64) ≤ 17)) 2) rfl rfl rfl rfl rfl rfl ?_
          refine zt_f (f' := rk1 T n (rkR T n fo i).2) rfl ?_
          refine zt_aload_n (pc := 59) dX5_readKind_59 rfl rfl ?_
          refine wt_getI (pc := 60) 5 25 (v := (rk1 T n (rkR T n fo i).2) 25) dX5_readKind_60 q1297 rfl (ms_o hM) (congrFun (zs_at _ _ _) 25) ?_
          refine zt_if_ne (pc := 63) 160 dX5_readKind_63 (by decide) (fun c_63 => ?_) (fun c_63 => ?_)
          · refine zt_goto (pc := 160) 21 dX5_readKind_160 (by decide) ?_
            refine zt_drop (L' := [some (.ref 289), some (.int k), some (.int (nI (5 * dN 16 fo))), some (.int ((rkR T n fo i).1.1)), some (.int ((rkR T n fo i).1.2.1)), some (.int ((rkR T n fo i).1.2.2.1)), some (.int ((rkR T n fo i).1.2.2.2)), none]) 7 rfl ?_
            have hst : rkR T n fo (i + 1) = (((rkR T n fo i).1.1, (rkR T n fo i).1.2.1, (rkR T n fo i).1.2.2.1, (rkR T n fo i).1.2.2.2), rk1 T n (rkR T n fo i).2) := (show rkS T n (rkR T n fo i) = _ from if_pos ⟨c_25, c_33⟩).trans (if_neg c_63)
            exact zt_SL (by rw [hst]) (by rw [hst]) ih_i
          · refine zt_aload_n (pc := 66) dX5_readKind_66 rfl rfl ?_
            refine zt_iload (pc := 67) dX5_readKind_67 rfl ?_
            refine zt_iload (pc := 69) dX5_readKind_69 rfl ?_
            refine zt_bipush (pc := 71) dX5_readKind_71 (v := 14) rfl ?_
            refine zt_isub (pc := 73) dX5_readKind_73 ?_
            refine zt_ishr (pc := 74) dX5_readKind_74 ?_
            refine zt_iconst (pc := 75) dX5_readKind_75 (v := 1) rfl ?_
            refine zt_iand (pc := 76) dX5_readKind_76 ?_
            refine zt_if_ne (pc := 77) 84 dX5_readKind_77 (by decide) (fun c_77 => ?_) (fun c_77 => ?_)
            · refine zt_iconst (pc := 84) dX5_readKind_84 (v := 0) rfl ?_
              refine zt_top (pc := 85) (bI (((rkR T n fo i).1.2.2.2 >>> ((rkW T n (rkR T n fo i).2 - 14) &&& 31)) &&& 1 = 0)) ((bI_f c_77).symm) ?_
              refine zt_iconst (pc := 85) dX5_readKind_85 (v := 4) rfl ?_
              refine wt_callV (pc := 86) mX5_needs 2 5 (rc' := 0) (rs' := 0) dX5_readKind_86 q1434 mi_X5_needs rfl rfl (ms_o hM) (tm_needsF hM (bI (((rkR T n fo i).1.2.2.2 >>> ((rkW T n (rkR T n fo i).2 - 14) &&& 31)) &&& 1 = 0)) 4) rfl rfl rfl rfl rfl rfl ?_
              refine zt_f (f' := rk2 T n (rkR T n fo i).1.2.2.2 (rkR T n fo i).2) rfl ?_
              refine zt_iload (pc := 89) dX5_readKind_89 rfl ?_
              refine zt_iconst (pc := 91) dX5_readKind_91 (v := 1) rfl ?_
              refine zt_iload (pc := 92) dX5_readKind_92 rfl ?_
              refine zt_bipush (pc := 94) dX5_readKind_94 (v := 14) rfl ?_
              refine zt_isub (pc := 96) dX5_readKind_96 ?_
              refine zt_ishl (pc := 97) dX5_readKind_97 ?_
              refine zt_ior (pc := 98) dX5_readKind_98 ?_
              refine zt_top (pc := 99) (rkH T n (rkR T n fo i).1.2.2.2 (rkR T n fo i).2) rfl ?_
              refine zt_istore (pc := 99) (L' := [some (.ref 289), some (.int k), some (.int (nI (5 * dN 16 fo))), some (.int ((rkR T n fo i).1.1)), some (.int ((rkR T n fo i).1.2.1)), some (.int ((rkR T n fo i).1.2.2.1)), some (.int (rkH T n (rkR T n fo i).1.2.2.2 (rkR T n fo i).2)), some (.int (rkW T n (rkR T n fo i).2))]) dX5_readKind_99 (by decide) rfl rfl ?_
              refine zt_aload_n (pc := 101) dX5_readKind_101 rfl rfl ?_
              refine wt_callV (pc := 102) mX5_next 0 5 (rc' := 0) (rs' := 0) dX5_readKind_102 q1422 mi_X5_next rfl rfl (ms_o hM) (tm_nx (fo := rk2 T n (rkR T n fo i).1.2.2.2 (rkR T n fo i).2) hM T n hn (((gd_rk2 (gd_rkR hn hP i)).at_ 20 (by decide)).trans h20) h301 ((gd_rk2 (gd_rkR hn hP i)).ti.1)) rfl rfl rfl rfl rfl rfl ?_
              refine zt_f (f' := rk3 T n (rkR T n fo i).1.2.2.2 (rkR T n fo i).2) rfl ?_
              refine zt_iload (pc := 105) dX5_readKind_105 rfl ?_
              refine zt_bipush (pc := 107) dX5_readKind_107 (v := 14) rfl ?_
              refine zt_icmp_ne (pc := 109) 121 dX5_readKind_109 (by decide) (fun c_109 => ?_) (fun c_109 => ?_)
              · refine zt_iload (pc := 121) dX5_readKind_121 rfl ?_
                refine zt_bipush (pc := 123) dX5_readKind_123 (v := 15) rfl ?_
                refine zt_icmp_ne (pc := 125) 144 dX5_readKind_125 (by decide) (fun c_125 => ?_) (fun c_125 => ?_)
                · refine zt_iload (pc := 144) dX5_readKind_144 rfl ?_
                  refine zt_bipush (pc := 146) dX5_readKind_146 (v := 17) rfl ?_
                  refine zt_icmp_ne (pc := 148) 160 dX5_readKind_148 (by decide) (fun c_148 => ?_) (fun c_148 => ?_)
                  · refine zt_goto (pc := 160) 21 dX5_readKind_160 (by decide) ?_
                    refine zt_drop (L' := [some (.ref 289), some (.int k), some (.int (nI (5 * dN 16 fo))), some (.int ((rkR T n fo i).1.1)), some (.int ((rkR T n fo i).1.2.1)), some (.int ((rkR T n fo i).1.2.2.1)), some (.int (rkH T n (rkR T n fo i).1.2.2.2 (rkR T n fo i).2)), none]) 7 rfl ?_
                    have hst : rkR T n fo (i + 1) = (((rkR T n fo i).1.1, (rkR T n fo i).1.2.1, (rkR T n fo i).1.2.2.1, rkH T n (rkR T n fo i).1.2.2.2 (rkR T n fo i).2), rk3 T n (rkR T n fo i).1.2.2.2 (rkR T n fo i).2) := (show rkS T n (rkR T n fo i) = _ from if_pos ⟨c_25, c_33⟩).trans ((if_pos c_63).trans ((if_neg c_109).trans ((if_neg c_125).trans (if_neg c_148))))
                    exact zt_SL (by rw [hst]) (by rw [hst]) ih_i
                  · refine zt_aload_n (pc := 151) dX5_readKind_151 rfl rfl ?_
                    refine zt_iconst (pc := 152) dX5_readKind_152 (v := 0) rfl ?_
                    refine zt_bipush (pc := 153) dX5_readKind_153 (v := 9) rfl ?_
                    refine wt_callV (pc := 155) mX5_readNumber 2 5 (rc' := 0) (rs' := 0) dX5_readKind_155 q1469 mi_X5_readNumber rfl rfl (ms_o hM) (tm_readNumber (S := S) (fo := rk3 T n (rkR T n fo i).1.2.2.2 (rkR T n fo i).2) hM T n hn (((gd_rk3 hn (gd_rkR hn hP i)).at_ 20 (by decide)).trans h20) h301 (gd_rk3 hn (gd_rkR hn hP i)).ti.1 0 9) rfl rfl rfl rfl rfl rfl ?_
                    refine zt_istore (pc := 158) (L' := [some (.ref 289), some (.int k), some (.int (nI (5 * dN 16 fo))), some (.int ((rkR T n fo i).1.1)), some (.int ((rkR T n fo i).1.2.1)), some (.int (v_rn 0 9 (rk3 T n (rkR T n fo i).1.2.2.2 (rkR T n fo i).2))), some (.int (rkH T n (rkR T n fo i).1.2.2.2 (rkR T n fo i).2)), some (.int (rkW T n (rkR T n fo i).2))]) dX5_readKind_158 (by decide) rfl rfl ?_
                    refine zt_goto (pc := 160) 21 dX5_readKind_160 (by decide) ?_
                    refine zt_drop (L' := [some (.ref 289), some (.int k), some (.int (nI (5 * dN 16 fo))), some (.int ((rkR T n fo i).1.1)), some (.int ((rkR T n fo i).1.2.1)), some (.int (v_rn 0 9 (rk3 T n (rkR T n fo i).1.2.2.2 (rkR T n fo i).2))), some (.int (rkH T n (rkR T n fo i).1.2.2.2 (rkR T n fo i).2)), none]) 7 rfl ?_
                    have hst : rkR T n fo (i + 1) = (((rkR T n fo i).1.1, (rkR T n fo i).1.2.1, v_rn 0 9 (rk3 T n (rkR T n fo i).1.2.2.2 (rkR T n fo i).2), rkH T n (rkR T n fo i).1.2.2.2 (rkR T n fo i).2), f_rn T n 0 9 (rk3 T n (rkR T n fo i).1.2.2.2 (rkR T n fo i).2)) := (show rkS T n (rkR T n fo i) = _ from if_pos ⟨c_25, c_33⟩).trans ((if_pos c_63).trans ((if_neg c_109).trans ((if_neg c_125).trans (if_pos c_148))))
                    exact zt_SL (by rw [hst]) (by rw [hst]) ih_i
                · refine zt_aload_n (pc := 128) dX5_readKind_128 rfl rfl ?_
                  refine zt_iconst (pc := 129) dX5_readKind_129 (v := 0) rfl ?_
                  refine zt_aload_n (pc := 130) dX5_readKind_130 rfl rfl ?_
                  refine wt_getI (pc := 131) 5 9 (v := (rk3 T n (rkR T n fo i).1.2.2.2 (rkR T n fo i).2) 9) dX5_readKind_131 q1281 rfl (ms_o hM) (congrFun (zs_at _ _ _) 9) ?_
                  refine zt_iconst (pc := 134) dX5_readKind_134 (v := 1) rfl ?_
                  refine zt_isub (pc := 135) dX5_readKind_135 ?_
                  refine wt_callV (pc := 136) mX5_readNumber 2 5 (rc' := 0) (rs' := 0) dX5_readKind_136 q1469 mi_X5_readNumber rfl rfl (ms_o hM) (tm_readNumber (S := S) (fo := rk3 T n (rkR T n fo i).1.2.2.2 (rkR T n fo i).2) hM T n hn (((gd_rk3 hn (gd_rkR hn hP i)).at_ 20 (by decide)).trans h20) h301 (gd_rk3 hn (gd_rkR hn hP i)).ti.1 0 (((rk3 T n (rkR T n fo i).1.2.2.2 (rkR T n fo i).2) 9) - 1)) rfl rfl rfl rfl rfl rfl ?_
                  refine zt_istore (pc := 139) (L' := [some (.ref 289), some (.int k), some (.int (nI (5 * dN 16 fo))), some (.int ((rkR T n fo i).1.1)), some (.int (v_rn 0 (((rk3 T n (rkR T n fo i).1.2.2.2 (rkR T n fo i).2) 9) - 1) (rk3 T n (rkR T n fo i).1.2.2.2 (rkR T n fo i).2))), some (.int ((rkR T n fo i).1.2.2.1)), some (.int (rkH T n (rkR T n fo i).1.2.2.2 (rkR T n fo i).2)), some (.int (rkW T n (rkR T n fo i).2))]) dX5_readKind_139 (by decide) rfl rfl ?_
                  refine zt_goto (pc := 141) 160 dX5_readKind_141 (by decide) ?_
                  refine zt_goto (pc := 160) 21 dX5_readKind_160 (by decide) ?_
                  refine zt_drop (L' := [some (.ref 289), some (.int k), some (.int (nI (5 * dN 16 fo))), some (.int ((rkR T n fo i).1.1)), some (.int (v_rn 0 (((rk3 T n (rkR T n fo i).1.2.2.2 (rkR T n fo i).2) 9) - 1) (rk3 T n (rkR T n fo i).1.2.2.2 (rkR T n fo i).2))), some (.int ((rkR T n fo i).1.2.2.1)), some (.int (rkH T n (rkR T n fo i).1.2.2.2 (rkR T n fo i).2)), none]) 7 rfl ?_
                  have hst : rkR T n fo (i + 1) = (((rkR T n fo i).1.1, v_rn 0 (((rk3 T n (rkR T n fo i).1.2.2.2 (rkR T n fo i).2) 9) - 1) (rk3 T n (rkR T n fo i).1.2.2.2 (rkR T n fo i).2), (rkR T n fo i).1.2.2.1, rkH T n (rkR T n fo i).1.2.2.2 (rkR T n fo i).2), f_rn T n 0 (((rk3 T n (rkR T n fo i).1.2.2.2 (rkR T n fo i).2) 9) - 1) (rk3 T n (rkR T n fo i).1.2.2.2 (rkR T n fo i).2)) := (show rkS T n (rkR T n fo i) = _ from if_pos ⟨c_25, c_33⟩).trans ((if_pos c_63).trans ((if_neg c_109).trans (if_pos c_125)))
                  exact zt_SL (by rw [hst]) (by rw [hst]) ih_i
              · refine zt_aload_n (pc := 112) dX5_readKind_112 rfl rfl ?_
                refine zt_iconst (pc := 113) dX5_readKind_113 (v := 0) rfl ?_
                refine wt_callV (pc := 114) mX5_readMarks 1 5 (rc' := 0) (rs' := 0) dX5_readKind_114 q1461 mi_X5_readMarks rfl rfl (ms_o hM) (tm_readMarks (S := S) (fo := rk3 T n (rkR T n fo i).1.2.2.2 (rkR T n fo i).2) hM T n hn (((gd_rk3 hn (gd_rkR hn hP i)).at_ 20 (by decide)).trans h20) h301 (gd_rk3 hn (gd_rkR hn hP i)).ti 0) rfl rfl rfl rfl rfl rfl ?_
                refine zt_istore_n (pc := 117) (L' := [some (.ref 289), some (.int k), some (.int (nI (5 * dN 16 fo))), some (.int (v_rm T n 0 (rk3 T n (rkR T n fo i).1.2.2.2 (rkR T n fo i).2))), some (.int ((rkR T n fo i).1.2.1)), some (.int ((rkR T n fo i).1.2.2.1)), some (.int (rkH T n (rkR T n fo i).1.2.2.2 (rkR T n fo i).2)), some (.int (rkW T n (rkR T n fo i).2))]) dX5_readKind_117 rfl (by decide) rfl rfl ?_
                refine zt_goto (pc := 118) 160 dX5_readKind_118 (by decide) ?_
                refine zt_goto (pc := 160) 21 dX5_readKind_160 (by decide) ?_
                refine zt_drop (L' := [some (.ref 289), some (.int k), some (.int (nI (5 * dN 16 fo))), some (.int (v_rm T n 0 (rk3 T n (rkR T n fo i).1.2.2.2 (rkR T n fo i).2))), some (.int ((rkR T n fo i).1.2.1)), some (.int ((rkR T n fo i).1.2.2.1)), some (.int (rkH T n (rkR T n fo i).1.2.2.2 (rkR T n fo i).2)), none]) 7 rfl ?_
                have hst : rkR T n fo (i + 1) = ((v_rm T n 0 (rk3 T n (rkR T n fo i).1.2.2.2 (rkR T n fo i).2), (rkR T n fo i).1.2.1, (rkR T n fo i).1.2.2.1, rkH T n (rkR T n fo i).1.2.2.2 (rkR T n fo i).2), f_rm T n 0 (rk3 T n (rkR T n fo i).1.2.2.2 (rkR T n fo i).2)) := (show rkS T n (rkR T n fo i) = _ from if_pos ⟨c_25, c_33⟩).trans ((if_pos c_63).trans (if_pos c_109))
                exact zt_SL (by rw [hst]) (by rw [hst]) ih_i
            · refine zt_iconst (pc := 80) dX5_readKind_80 (v := 1) rfl ?_
              refine zt_goto (pc := 81) 85 dX5_readKind_81 (by decide) ?_
              refine zt_top (pc := 85) (bI (((rkR T n fo i).1.2.2.2 >>> ((rkW T n (rkR T n fo i).2 - 14) &&& 31)) &&& 1 = 0)) ((bI_t c_77).symm) ?_
              refine zt_iconst (pc := 85) dX5_readKind_85 (v := 4) rfl ?_
              refine wt_callV (pc := 86) mX5_needs 2 5 (rc' := 0) (rs' := 0) dX5_readKind_86 q1434 mi_X5_needs rfl rfl (ms_o hM) (tm_needsF hM (bI (((rkR T n fo i).1.2.2.2 >>> ((rkW T n (rkR T n fo i).2 - 14) &&& 31)) &&& 1 = 0)) 4) rfl rfl rfl rfl rfl rfl ?_
              refine zt_f (f' := rk2 T n (rkR T n fo i).1.2.2.2 (rkR T n fo i).2) rfl ?_
              refine zt_iload (pc := 89) dX5_readKind_89 rfl ?_
              refine zt_iconst (pc := 91) dX5_readKind_91 (v := 1) rfl ?_
              refine zt_iload (pc := 92) dX5_readKind_92 rfl ?_
              refine zt_bipush (pc := 94) dX5_readKind_94 (v := 14) rfl ?_
              refine zt_isub (pc := 96) dX5_readKind_96 ?_
              refine zt_ishl (pc := 97) dX5_readKind_97 ?_
              refine zt_ior (pc := 98) dX5_readKind_98 ?_
              refine zt_top (pc := 99) (rkH T n (rkR T n fo i).1.2.2.2 (rkR T n fo i).2) rfl ?_
              refine zt_istore (pc := 99) (L' := [some (.ref 289), some (.int k), some (.int (nI (5 * dN 16 fo))), some (.int ((rkR T n fo i).1.1)), some (.int ((rkR T n fo i).1.2.1)), some (.int ((rkR T n fo i).1.2.2.1)), some (.int (rkH T n (rkR T n fo i).1.2.2.2 (rkR T n fo i).2)), some (.int (rkW T n (rkR T n fo i).2))]) dX5_readKind_99 (by decide) rfl rfl ?_
              refine zt_aload_n (pc := 101) dX5_readKind_101 rfl rfl ?_
              refine wt_callV (pc := 102) mX5_next 0 5 (rc' := 0) (rs' := 0) dX5_readKind_102 q1422 mi_X5_next rfl rfl (ms_o hM) (tm_nx (fo := rk2 T n (rkR T n fo i).1.2.2.2 (rkR T n fo i).2) hM T n hn (((gd_rk2 (gd_rkR hn hP i)).at_ 20 (by decide)).trans h20) h301 ((gd_rk2 (gd_rkR hn hP i)).ti.1)) rfl rfl rfl rfl rfl rfl ?_
              refine zt_f (f' := rk3 T n (rkR T n fo i).1.2.2.2 (rkR T n fo i).2) rfl ?_
              refine zt_iload (pc := 105) dX5_readKind_105 rfl ?_
              refine zt_bipush (pc := 107) dX5_readKind_107 (v := 14) rfl ?_
              refine zt_icmp_ne (pc := 109) 121 dX5_readKind_109 (by decide) (fun c_109 => ?_) (fun c_109 => ?_)
              · refine zt_iload (pc := 121) dX5_readKind_121 rfl ?_
                refine zt_bipush (pc := 123) dX5_readKind_123 (v := 15) rfl ?_
                refine zt_icmp_ne (pc := 125) 144 dX5_readKind_125 (by decide) (fun c_125 => ?_) (fun c_125 => ?_)
                · refine zt_iload (pc := 144) dX5_readKind_144 rfl ?_
                  refine zt_bipush (pc := 146) dX5_readKind_146 (v := 17) rfl ?_
                  refine zt_icmp_ne (pc := 148) 160 dX5_readKind_148 (by decide) (fun c_148 => ?_) (fun c_148 => ?_)
                  · refine zt_goto (pc := 160) 21 dX5_readKind_160 (by decide) ?_
                    refine zt_drop (L' := [some (.ref 289), some (.int k), some (.int (nI (5 * dN 16 fo))), some (.int ((rkR T n fo i).1.1)), some (.int ((rkR T n fo i).1.2.1)), some (.int ((rkR T n fo i).1.2.2.1)), some (.int (rkH T n (rkR T n fo i).1.2.2.2 (rkR T n fo i).2)), none]) 7 rfl ?_
                    have hst : rkR T n fo (i + 1) = (((rkR T n fo i).1.1, (rkR T n fo i).1.2.1, (rkR T n fo i).1.2.2.1, rkH T n (rkR T n fo i).1.2.2.2 (rkR T n fo i).2), rk3 T n (rkR T n fo i).1.2.2.2 (rkR T n fo i).2) := (show rkS T n (rkR T n fo i) = _ from if_pos ⟨c_25, c_33⟩).trans ((if_pos c_63).trans ((if_neg c_109).trans ((if_neg c_125).trans (if_neg c_148))))
                    exact zt_SL (by rw [hst]) (by rw [hst]) ih_i
                  · refine zt_aload_n (pc := 151) dX5_readKind_151 rfl rfl ?_
                    refine zt_iconst (pc := 152) dX5_readKind_152 (v := 0) rfl ?_
                    refine zt_bipush (pc := 153) dX5_readKind_153 (v := 9) rfl ?_
                    refine wt_callV (pc := 155) mX5_readNumber 2 5 (rc' := 0) (rs' := 0) dX5_readKind_155 q1469 mi_X5_readNumber rfl rfl (ms_o hM) (tm_readNumber (S := S) (fo := rk3 T n (rkR T n fo i).1.2.2.2 (rkR T n fo i).2) hM T n hn (((gd_rk3 hn (gd_rkR hn hP i)).at_ 20 (by decide)).trans h20) h301 (gd_rk3 hn (gd_rkR hn hP i)).ti.1 0 9) rfl rfl rfl rfl rfl rfl ?_
                    refine zt_istore (pc := 158) (L' := [some (.ref 289), some (.int k), some (.int (nI (5 * dN 16 fo))), some (.int ((rkR T n fo i).1.1)), some (.int ((rkR T n fo i).1.2.1)), some (.int (v_rn 0 9 (rk3 T n (rkR T n fo i).1.2.2.2 (rkR T n fo i).2))), some (.int (rkH T n (rkR T n fo i).1.2.2.2 (rkR T n fo i).2)), some (.int (rkW T n (rkR T n fo i).2))]) dX5_readKind_158 (by decide) rfl rfl ?_
                    refine zt_goto (pc := 160) 21 dX5_readKind_160 (by decide) ?_
                    refine zt_drop (L' := [some (.ref 289), some (.int k), some (.int (nI (5 * dN 16 fo))), some (.int ((rkR T n fo i).1.1)), some (.int ((rkR T n fo i).1.2.1)), some (.int (v_rn 0 9 (rk3 T n (rkR T n fo i).1.2.2.2 (rkR T n fo i).2))), some (.int (rkH T n (rkR T n fo i).1.2.2.2 (rkR T n fo i).2)), none]) 7 rfl ?_
                    have hst : rkR T n fo (i + 1) = (((rkR T n fo i).1.1, (rkR T n fo i).1.2.1, v_rn 0 9 (rk3 T n (rkR T n fo i).1.2.2.2 (rkR T n fo i).2), rkH T n (rkR T n fo i).1.2.2.2 (rkR T n fo i).2), f_rn T n 0 9 (rk3 T n (rkR T n fo i).1.2.2.2 (rkR T n fo i).2)) := (show rkS T n (rkR T n fo i) = _ from if_pos ⟨c_25, c_33⟩).trans ((if_pos c_63).trans ((if_neg c_109).trans ((if_neg c_125).trans (if_pos c_148))))
                    exact zt_SL (by rw [hst]) (by rw [hst]) ih_i
                · refine zt_aload_n (pc := 128) dX5_readKind_128 rfl rfl ?_
                  refine zt_iconst (pc := 129) dX5_readKind_129 (v := 0) rfl ?_
                  refine zt_aload_n (pc := 130) dX5_readKind_130 rfl rfl ?_
                  refine wt_getI (pc := 131) 5 9 (v := (rk3 T n (rkR T n fo i).1.2.2.2 (rkR T n fo i).2) 9) dX5_readKind_131 q1281 rfl (ms_o hM) (congrFun (zs_at _ _ _) 9) ?_
                  refine zt_iconst (pc := 134) dX5_readKind_134 (v := 1) rfl ?_
                  refine zt_isub (pc := 135) dX5_readKind_135 ?_
                  refine wt_callV (pc := 136) mX5_readNumber 2 5 (rc' := 0) (rs' := 0) dX5_readKind_136 q1469 mi_X5_readNumber rfl rfl (ms_o hM) (tm_readNumber (S := S) (fo := rk3 T n (rkR T n fo i).1.2.2.2 (rkR T n fo i).2) hM T n hn (((gd_rk3 hn (gd_rkR hn hP i)).at_ 20 (by decide)).trans h20) h301 (gd_rk3 hn (gd_rkR hn hP i)).ti.1 0 (((rk3 T n (rkR T n fo i).1.2.2.2 (rkR T n fo i).2) 9) - 1)) rfl rfl rfl rfl rfl rfl ?_
                  refine zt_istore (pc := 139) (L' := [some (.ref 289), some (.int k), some (.int (nI (5 * dN 16 fo))), some (.int ((rkR T n fo i).1.1)), some (.int (v_rn 0 (((rk3 T n (rkR T n fo i).1.2.2.2 (rkR T n fo i).2) 9) - 1) (rk3 T n (rkR T n fo i).1.2.2.2 (rkR T n fo i).2))), some (.int ((rkR T n fo i).1.2.2.1)), some (.int (rkH T n (rkR T n fo i).1.2.2.2 (rkR T n fo i).2)), some (.int (rkW T n (rkR T n fo i).2))]) dX5_readKind_139 (by decide) rfl rfl ?_
                  refine zt_goto (pc := 141) 160 dX5_readKind_141 (by decide) ?_
                  refine zt_goto (pc := 160) 21 dX5_readKind_160 (by decide) ?_
                  refine zt_drop (L' := [some (.ref 289), some (.int k), some (.int (nI (5 * dN 16 fo))), some (.int ((rkR T n fo i).1.1)), some (.int (v_rn 0 (((rk3 T n (rkR T n fo i).1.2.2.2 (rkR T n fo i).2) 9) - 1) (rk3 T n (rkR T n fo i).1.2.2.2 (rkR T n fo i).2))), some (.int ((rkR T n fo i).1.2.2.1)), some (.int (rkH T n (rkR T n fo i).1.2.2.2 (rkR T n fo i).2)), none]) 7 rfl ?_
                  have hst : rkR T n fo (i + 1) = (((rkR T n fo i).1.1, v_rn 0 (((rk3 T n (rkR T n fo i).1.2.2.2 (rkR T n fo i).2) 9) - 1) (rk3 T n (rkR T n fo i).1.2.2.2 (rkR T n fo i).2), (rkR T n fo i).1.2.2.1, rkH T n (rkR T n fo i).1.2.2.2 (rkR T n fo i).2), f_rn T n 0 (((rk3 T n (rkR T n fo i).1.2.2.2 (rkR T n fo i).2) 9) - 1) (rk3 T n (rkR T n fo i).1.2.2.2 (rkR T n fo i).2)) := (show rkS T n (rkR T n fo i) = _ from if_pos ⟨c_25, c_33⟩).trans ((if_pos c_63).trans ((if_neg c_109).trans (if_pos c_125)))
                  exact zt_SL (by rw [hst]) (by rw [hst]) ih_i
              · refine zt_aload_n (pc := 112) dX5_readKind_112 rfl rfl ?_
                refine zt_iconst (pc := 113) dX5_readKind_113 (v := 0) rfl ?_
                refine wt_callV (pc := 114) mX5_readMarks 1 5 (rc' := 0) (rs' := 0) dX5_readKind_114 q1461 mi_X5_readMarks rfl rfl (ms_o hM) (tm_readMarks (S := S) (fo := rk3 T n (rkR T n fo i).1.2.2.2 (rkR T n fo i).2) hM T n hn (((gd_rk3 hn (gd_rkR hn hP i)).at_ 20 (by decide)).trans h20) h301 (gd_rk3 hn (gd_rkR hn hP i)).ti 0) rfl rfl rfl rfl rfl rfl ?_
                refine zt_istore_n (pc := 117) (L' := [some (.ref 289), some (.int k), some (.int (nI (5 * dN 16 fo))), some (.int (v_rm T n 0 (rk3 T n (rkR T n fo i).1.2.2.2 (rkR T n fo i).2))), some (.int ((rkR T n fo i).1.2.1)), some (.int ((rkR T n fo i).1.2.2.1)), some (.int (rkH T n (rkR T n fo i).1.2.2.2 (rkR T n fo i).2)), some (.int (rkW T n (rkR T n fo i).2))]) dX5_readKind_117 rfl (by decide) rfl rfl ?_
                refine zt_goto (pc := 118) 160 dX5_readKind_118 (by decide) ?_
                refine zt_goto (pc := 160) 21 dX5_readKind_160 (by decide) ?_
                refine zt_drop (L' := [some (.ref 289), some (.int k), some (.int (nI (5 * dN 16 fo))), some (.int (v_rm T n 0 (rk3 T n (rkR T n fo i).1.2.2.2 (rkR T n fo i).2))), some (.int ((rkR T n fo i).1.2.1)), some (.int ((rkR T n fo i).1.2.2.1)), some (.int (rkH T n (rkR T n fo i).1.2.2.2 (rkR T n fo i).2)), none]) 7 rfl ?_
                have hst : rkR T n fo (i + 1) = ((v_rm T n 0 (rk3 T n (rkR T n fo i).1.2.2.2 (rkR T n fo i).2), (rkR T n fo i).1.2.1, (rkR T n fo i).1.2.2.1, rkH T n (rkR T n fo i).1.2.2.2 (rkR T n fo i).2), f_rm T n 0 (rk3 T n (rkR T n fo i).1.2.2.2 (rkR T n fo i).2)) := (show rkS T n (rkR T n fo i) = _ from if_pos ⟨c_25, c_33⟩).trans ((if_pos c_63).trans (if_pos c_109))
                exact zt_SL (by rw [hst]) (by rw [hst]) ih_i

end M19