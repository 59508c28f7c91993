/-! THE TWIN, part 15: the next token; numbers and marks -/
set_option maxRecDepth 100000
/-- where the next token begins, its first sign, its end -/
def tkQ (T : Nat → Int32) (n p : Nat) : Nat := p + rn qSp T n p
def tkC (T : Nat → Int32) (n p : Nat) : Int32 := lk T n (tkQ T n p)
def s_dvF (T : Nat → Int32) (n q i : Nat) (v : Int32) : Int32 := if i < 2 then 10 * v + lk T n (q + i) - 48 else v
def s_dv (T : Nat → Int32) (n q : Nat) : Int32 := itr (s_dvF T n q) 0 (rn qDi T n q)
def f_needs (fo : Nat → Int32) (g c : Int32) : Nat → Int32 := if g = 0 ∧ fo 25 = 0 then upd (upd fo 25 c) 26 (fo 22) else fo
def f_nx0 (T : Nat → Int32) (n p : Nat) (fo : Nat → Int32) : Nat → Int32 := upd (upd fo 21 (nI (tkQ T n p))) 22 (nI (tkQ T n p))
def f_nxN (T : Nat → Int32) (n p : Nat) (fo : Nat → Int32) : Nat → Int32 := f_needs (upd (upd (upd (f_nx0 T n p fo) 23 2) 24 (s_dv T n (tkQ T n p))) 21 (nI (tkQ T n p + rn qDi T n (tkQ T n p)))) (bI (rn qDi T n (tkQ T n p) ≤ 2)) 1
def f_nxS (T : Nat → Int32) (n p : Nat) (fo : Nat → Int32) : Nat → Int32 := f_needs (upd (f_nx0 T n p fo) 23 (if tkC T n p = 45 then 4 else 3)) (bI (tkC T n p = 59 ∨ tkC T n p = 45)) 1
/-- the twin's fields behind 'next' -/
def f_next (T : Nat → Int32) (n p : Nat) (fo : Nat → Int32) : Nat → Int32 :=
  if 0 < fo 25 then fo
  else if tkC T n p < 0 then upd (f_nx0 T n p fo) 23 0
  else if qLe (tkC T n p) = true then upd (upd (f_nx0 T n p fo) 23 1) 21 (nI (tkQ T n p + rn qLe T n (tkQ T n p)))
  else if qDi (tkC T n p) = true then f_nxN T n p fo
  else upd (f_nxS T n p fo) 21 (f_nxS T n p fo 21 + 1)
theorem bfalse {b : Bool} (h : b = false) : ¬ b = true := by rw [h]; decide
theorem qLe_iff (c : Int32) : qLe c = true ↔ ((97 : Int64) ≤ c.toInt64 ∧ c.toInt64 ≤ 122) := by unfold qLe; exact decide_eq_true_iff
theorem qDi_iff (c : Int32) : qDi c = true ↔ ((48 : Int64) ≤ c.toInt64 ∧ c.toInt64 ≤ 57) := by unfold qDi; exact decide_eq_true_iff
theorem qSp_iff (c : Int32) : qSp c = true ↔ c = 32 := by unfold qSp; exact decide_eq_true_iff
section M15
variable {g : ZG} {h : ZH} {S A C : Nat → Nat → Int32} {fo : Nat → Int32}
theorem tm_needsF (hM : MS h.2.1 h.2.2.2) (gd c : Int32) : Zd g mX5_needs 1 0 0 [.ref 289, .int gd, .int c] (zW h (zs S 289 fo)) none (zW h (zs S 289 (f_needs fo gd c))) := by
  have e0 := tm_needs (g := g) (h := h) (S := zs S 289 fo) hM gd c
  have e1 : w_needs (zs S 289 fo) gd c = zs S 289 (f_needs fo gd c) := by
    unfold w_needs f_needs
    have h25 : zs S 289 fo 289 25 = fo 25 := rfl
    have h22 : zs S 289 fo 289 22 = fo 22 := rfl
    rw [h25, h22]
    split
    · rw [zs_zu, zs_zu]
    · rfl
  rw [e1] at e0
  exact e0
theorem f_needs_at {gd c : Int32} {k : Nat} (h5 : k ≠ 25) (h6 : k ≠ 26) : f_needs fo gd c k = fo k := by
  unfold f_needs
  split
  · rw [upd_ne h6, upd_ne h5]
  · rfl
theorem upd_24_21 (f : Nat → Int32) (a b c d : Int32) : upd (upd (upd (upd f 24 a) 21 b) 24 c) 21 d = upd (upd f 24 c) 21 d := by
  funext j
  unfold upd
  by_cases h1 : j = 21
  · rw [if_pos h1, if_pos h1]
  · rw [if_neg h1, if_neg h1]
    by_cases h2 : j = 24
    · rw [if_pos h2, if_pos h2, if_neg h1]
    · rw [if_neg h2, if_neg h2, if_neg h1, if_neg h2]
theorem tm_next (hM : MS h.2.1 h.2.2.2) (T : Nat → Int32) (n : Nat) (hn : n ≤ 400) (h20 : fo 20 = nI n) (h301 : S 301 = T) (p : Nat) (hp : p ≤ n) (h21 : fo 21 = nI p) : Zd g mX5_next 2 0 0 [.ref 289] (zW h (zs S 289 fo)) none (zW h (zs S 289 (f_next T n p fo))) := by
  refine zc_of [some (.ref 289), none] rfl (Nat.le_of_ble_eq_true rfl) rfl ?_
  have hq0 := (rn_out (q := qSp) (T := T) (by decide) hp).2
  have hq : tkQ T n p ≤ n := hq0
  have hqL := (rn_out (q := qLe) (T := T) (by decide) hq).2
  have hqD := (rn_out (q := qDi) (T := T) (by decide) hq).2
  refine zt_aload_n (pc := 0) dX5_next_0 rfl rfl ?_
  refine wt_getI (pc := 1) 5 25 (v := fo 25) dX5_next_1 q1297 rfl (ms_o hM) rfl ?_
  refine zt_if_le (pc := 4) 8 dX5_next_4 (by decide) (fun c_4 => ?_) (fun c_4 => ?_)
  · refine zt_for (pc := 8) (fun i => zs S 289 (upd fo 21 (nI (p + i)))) (fun i => [some (.ref 289), none]) (rn qSp T n p) (by rw [Nat.add_zero, upd_self _ _ _ h21]) rfl ?_ (fun i hi_i ih_i => ?_)
    · show Zt _ _ _ _ _ _ (zW h (zs S 289 (upd fo 21 (nI (p + (rn qSp T n p)))))) 8 [some (.ref 289), none] []
      refine zt_aload_n (pc := 8) dX5_next_8 rfl rfl ?_
      refine zt_aload_n (pc := 9) dX5_next_9 rfl rfl ?_
      refine wt_getI (pc := 10) 5 21 (v := nI (tkQ T n p)) dX5_next_10 q1293 rfl (ms_o hM) rfl ?_
      refine wt_callV (pc := 13) mX5_look 1 5 (rc' := 0) (rs' := 0) dX5_next_13 q1426 mi_X5_look rfl rfl (ms_o hM) (tm_look (S := zs S 289 (upd fo 21 (nI (p + (rn qSp T n p))))) hM T n hn h20 h301 (tkQ T n p) (by omega)) rfl rfl rfl rfl rfl rfl ?_
      refine zt_bipush (pc := 16) dX5_next_16 (v := 32) rfl ?_
      refine zt_icmp_ne (pc := 18) 34 dX5_next_18 (by decide) (fun c_18 => ?_) (fun c_18 => absurd ((qSp_iff _).mpr c_18) (bfalse (rn_out (q := qSp) (T := T) (by decide) hp).1))
      refine zt_aload_n (pc := 34) dX5_next_34 rfl rfl ?_
      refine zt_aload_n (pc := 35) dX5_next_35 rfl rfl ?_
      refine wt_getI (pc := 36) 5 21 (v := nI (tkQ T n p)) dX5_next_36 q1293 rfl (ms_o hM) rfl ?_
      refine wt_putIS (pc := 39) 5 22 dX5_next_39 q1294 rfl (ms_o hM) ?_
      refine zt_f (f' := f_nx0 T n p fo) rfl ?_
      refine zt_aload_n (pc := 42) dX5_next_42 rfl rfl ?_
      refine zt_aload_n (pc := 43) dX5_next_43 rfl rfl ?_
      refine wt_getI (pc := 44) 5 21 (v := nI (tkQ T n p)) dX5_next_44 q1293 rfl (ms_o hM) rfl ?_
      refine wt_callV (pc := 47) mX5_look 1 5 (rc' := 0) (rs' := 0) dX5_next_47 q1426 mi_X5_look rfl rfl (ms_o hM) (tm_look (S := zs S 289 (f_nx0 T n p fo)) hM T n hn h20 h301 (tkQ T n p) (by omega)) rfl rfl rfl rfl rfl rfl ?_
      refine zt_top (pc := 50) (tkC T n p) rfl ?_
      refine zt_istore_n (pc := 50) (L' := [some (.ref 289), some (.int (tkC T n p))]) dX5_next_50 rfl (by decide) rfl rfl ?_
      refine zt_iload_n (pc := 51) dX5_next_51 rfl rfl ?_
      refine zt_if_ge (pc := 52) 63 dX5_next_52 (by decide) (fun c_52 => ?_) (fun c_52 => ?_)
      · refine zt_iload_n (pc := 63) dX5_next_63 rfl rfl ?_
        refine zt_i2l (pc := 64) dX5_next_64 rfl ?_
        refine zt_ldc2 (pc := 65) dX5_next_65 q1430 ?_
        refine zt_ldc2 (pc := 68) dX5_next_68 q1431 ?_
        refine wt_callS (pc := 71) mX5_in 3 (rc' := 0) (rs' := 0) dX5_next_71 q1223 ms_X5_in (tm_in ((tkC T n p).toInt64) 97 122) rfl rfl rfl rfl rfl rfl ?_
        refine zt_if_eq (pc := 74) 116 dX5_next_74 (by decide) (fun c_74 => ?_) (fun c_74 => ?_)
        · refine zt_iload_n (pc := 116) dX5_next_116 rfl rfl ?_
          refine zt_i2l (pc := 117) dX5_next_117 rfl ?_
          refine zt_ldc2 (pc := 118) dX5_next_118 q1432 ?_
          refine zt_ldc2 (pc := 121) dX5_next_121 q1433 ?_
          refine wt_callS (pc := 124) mX5_in 3 (rc' := 0) (rs' := 0) dX5_next_124 q1223 ms_X5_in (tm_in ((tkC T n p).toInt64) 48 57) rfl rfl rfl rfl rfl rfl ?_
          refine zt_if_eq (pc := 127) 243 dX5_next_127 (by decide) (fun c_127 => ?_) (fun c_127 => ?_)
          · refine zt_aload_n (pc := 243) dX5_next_243 rfl rfl ?_
            refine zt_iload_n (pc := 244) dX5_next_244 rfl rfl ?_
            refine zt_bipush (pc := 245) dX5_next_245 (v := 45) rfl ?_
            refine zt_icmp_ne (pc := 247) 254 dX5_next_247 (by decide) (fun c_247 => ?_) (fun c_247 => ?_)
            · refine zt_iconst (pc := 254) dX5_next_254 (v := 3) rfl ?_
              refine zt_top (pc := 255) (if tkC T n p = 45 then 4 else 3) ((if_neg c_247).symm) ?_
              refine wt_putIS (pc := 255) 5 23 dX5_next_255 q1295 rfl (ms_o hM) ?_
              refine zt_aload_n (pc := 258) dX5_next_258 rfl rfl ?_
              refine zt_iload_n (pc := 259) dX5_next_259 rfl rfl ?_
              refine zt_bipush (pc := 260) dX5_next_260 (v := 59) rfl ?_
              refine zt_icmp_eq (pc := 262) 271 dX5_next_262 (by decide) (fun c_262 => ?_) (fun c_262 => ?_)
              · refine zt_iconst (pc := 271) dX5_next_271 (v := 1) rfl ?_
                refine zt_goto (pc := 272) 276 dX5_next_272 (by decide) ?_
                refine zt_top (pc := 276) (bI (tkC T n p = 59 ∨ tkC T n p = 45)) ((bI_t (Or.inl c_262)).symm) ?_
                refine zt_iconst (pc := 276) dX5_next_276 (v := 1) rfl ?_
                refine wt_callV (pc := 277) mX5_needs 2 5 (rc' := 0) (rs' := 0) dX5_next_277 q1434 mi_X5_needs rfl rfl (ms_o hM) (tm_needsF hM (bI (tkC T n p = 59 ∨ tkC T n p = 45)) 1) rfl rfl rfl rfl rfl rfl ?_
                refine zt_f (f' := f_nxS T n p fo) rfl ?_
                refine zt_aload_n (pc := 280) dX5_next_280 rfl rfl ?_
                refine zt_dup (pc := 281) dX5_next_281 rfl ?_
                refine wt_getI (pc := 282) 5 21 (v := f_nxS T n p fo 21) dX5_next_282 q1293 rfl (ms_o hM) rfl ?_
                refine zt_iconst (pc := 285) dX5_next_285 (v := 1) rfl ?_
                refine zt_iadd (pc := 286) dX5_next_286 ?_
                refine wt_putIS (pc := 287) 5 21 dX5_next_287 q1293 rfl (ms_o hM) ?_
                exact zt_return (pc := 290) dX5_next_290 rfl (⟨rfl, congrArg (fun z => zW h (zs S 289 z)) (Eq.symm ((if_neg (Int32.not_lt.mpr c_4)).trans ((if_neg (Int32.not_lt.mpr c_52)).trans ((if_neg (fun z => bI_eq0.mp c_74 ((qLe_iff _).mp z))).trans (if_neg (fun z => bI_eq0.mp c_127 ((qDi_iff _).mp z)))))))⟩)
              · refine zt_iload_n (pc := 265) dX5_next_265 rfl rfl ?_
                refine zt_bipush (pc := 266) dX5_next_266 (v := 45) rfl ?_
                refine zt_icmp_ne (pc := 268) 275 dX5_next_268 (by decide) (fun c_268 => ?_) (fun c_268 => ?_)
                · refine zt_iconst (pc := 275) dX5_next_275 (v := 0) rfl ?_
                  refine zt_top (pc := 276) (bI (tkC T n p = 59 ∨ tkC T n p = 45)) ((bI_f (fun z => z.elim c_262 c_268)).symm) ?_
                  refine zt_iconst (pc := 276) dX5_next_276 (v := 1) rfl ?_
                  refine wt_callV (pc := 277) mX5_needs 2 5 (rc' := 0) (rs' := 0) dX5_next_277 q1434 mi_X5_needs rfl rfl (ms_o hM) (tm_needsF hM (bI (tkC T n p = 59 ∨ tkC T n p = 45)) 1) rfl rfl rfl rfl rfl rfl ?_
                  refine zt_f (f' := f_nxS T n p fo) rfl ?_
                  refine zt_aload_n (pc := 280) dX5_next_280 rfl rfl ?_
                  refine zt_dup (pc := 281) dX5_next_281 rfl ?_
                  refine wt_getI (pc := 282) 5 21 (v := f_nxS T n p fo 21) dX5_next_282 q1293 rfl (ms_o hM) rfl ?_
                  refine zt_iconst (pc := 285) dX5_next_285 (v := 1) rfl ?_
                  refine zt_iadd (pc := 286) dX5_next_286 ?_
                  refine wt_putIS (pc := 287) 5 21 dX5_next_287 q1293 rfl (ms_o hM) ?_
                  exact zt_return (pc := 290) dX5_next_290 rfl (⟨rfl, congrArg (fun z => zW h (zs S 289 z)) (Eq.symm ((if_neg (Int32.not_lt.mpr c_4)).trans ((if_neg (Int32.not_lt.mpr c_52)).trans ((if_neg (fun z => bI_eq0.mp c_74 ((qLe_iff _).mp z))).trans (if_neg (fun z => bI_eq0.mp c_127 ((qDi_iff _).mp z)))))))⟩)
                · refine zt_iconst (pc := 271) dX5_next_271 (v := 1) rfl ?_
                  refine zt_goto (pc := 272) 276 dX5_next_272 (by decide) ?_
                  refine zt_top (pc := 276) (bI (tkC T n p = 59 ∨ tkC T n p = 45)) ((bI_t (Or.inr c_268)).symm) ?_
                  refine zt_iconst (pc := 276) dX5_next_276 (v := 1) rfl ?_
                  refine wt_callV (pc := 277) mX5_needs 2 5 (rc' := 0) (rs' := 0) dX5_next_277 q1434 mi_X5_needs rfl rfl (ms_o hM) (tm_needsF hM (bI (tkC T n p = 59 ∨ tkC T n p = 45)) 1) rfl rfl rfl rfl rfl rfl ?_
                  refine zt_f (f' := f_nxS T n p fo) rfl ?_
                  refine zt_aload_n (pc := 280) dX5_next_280 rfl rfl ?_
                  refine zt_dup (pc := 281) dX5_next_281 rfl ?_
                  refine wt_getI (pc := 282) 5 21 (v := f_nxS T n p fo 21) dX5_next_282 q1293 rfl (ms_o hM) rfl ?_
                  refine zt_iconst (pc := 285) dX5_next_285 (v := 1) rfl ?_
                  refine zt_iadd (pc := 286) dX5_next_286 ?_
                  refine wt_putIS (pc := 287) 5 21 dX5_next_287 q1293 rfl (ms_o hM) ?_
                  exact zt_return (pc := 290) dX5_next_290 rfl (⟨rfl, congrArg (fun z => zW h (zs S 289 z)) (Eq.symm ((if_neg (Int32.not_lt.mpr c_4)).trans ((if_neg (Int32.not_lt.mpr c_52)).trans ((if_neg (fun z => bI_eq0.mp c_74 ((qLe_iff _).mp z))).trans (if_neg (fun z => bI_eq0.mp c_127 ((qDi_iff _).mp z)))))))⟩)
            · refine zt_iconst (pc := 250) dX5_next_250 (v := 4) rfl ?_
              refine zt_goto (pc := 251) 255 dX5_next_251 (by decide) ?_
              refine zt_top (pc := 255) (if tkC T n p = 45 then 4 else 3) ((if_pos c_247).symm) ?_
              refine wt_putIS (pc := 255) 5 23 dX5_next_255 q1295 rfl (ms_o hM) ?_
              refine zt_aload_n (pc := 258) dX5_next_258 rfl rfl ?_
              refine zt_iload_n (pc := 259) dX5_next_259 rfl rfl ?_
              refine zt_bipush (pc := 260) dX5_next_260 (v := 59) rfl ?_
              refine zt_icmp_eq (pc := 262) 271 dX5_next_262 (by decide) (fun c_262 => ?_) (fun c_262 => ?_)
              · refine zt_iconst (pc := 271) dX5_next_271 (v := 1) rfl ?_
                refine zt_goto (pc := 272) 276 dX5_next_272 (by decide) ?_
                refine zt_top (pc := 276) (bI (tkC T n p = 59 ∨ tkC T n p = 45)) ((bI_t (Or.inl c_262)).symm) ?_
                refine zt_iconst (pc := 276) dX5_next_276 (v := 1) rfl ?_
                refine wt_callV (pc := 277) mX5_needs 2 5 (rc' := 0) (rs' := 0) dX5_next_277 q1434 mi_X5_needs rfl rfl (ms_o hM) (tm_needsF hM (bI (tkC T n p = 59 ∨ tkC T n p = 45)) 1) rfl rfl rfl rfl rfl rfl ?_
                refine zt_f (f' := f_nxS T n p fo) rfl ?_
                refine zt_aload_n (pc := 280) dX5_next_280 rfl rfl ?_
                refine zt_dup (pc := 281) dX5_next_281 rfl ?_
                refine wt_getI (pc := 282) 5 21 (v := f_nxS T n p fo 21) dX5_next_282 q1293 rfl (ms_o hM) rfl ?_
                refine zt_iconst (pc := 285) dX5_next_285 (v := 1) rfl ?_
                refine zt_iadd (pc := 286) dX5_next_286 ?_
                refine wt_putIS (pc := 287) 5 21 dX5_next_287 q1293 rfl (ms_o hM) ?_
                exact zt_return (pc := 290) dX5_next_290 rfl (⟨rfl, congrArg (fun z => zW h (zs S 289 z)) (Eq.symm ((if_neg (Int32.not_lt.mpr c_4)).trans ((if_neg (Int32.not_lt.mpr c_52)).trans ((if_neg (fun z => bI_eq0.mp c_74 ((qLe_iff _).mp z))).trans (if_neg (fun z => bI_eq0.mp c_127 ((qDi_iff _).mp z)))))))⟩)
              · refine zt_iload_n (pc := 265) dX5_next_265 rfl rfl ?_
                refine zt_bipush (pc := 266) dX5_next_266 (v := 45) rfl ?_
                refine zt_icmp_ne (pc := 268) 275 dX5_next_268 (by decide) (fun c_268 => ?_) (fun c_268 => ?_)
                · refine zt_iconst (pc := 275) dX5_next_275 (v := 0) rfl ?_
                  refine zt_top (pc := 276) (bI (tkC T n p = 59 ∨ tkC T n p = 45)) ((bI_f (fun z => z.elim c_262 c_268)).symm) ?_
                  refine zt_iconst (pc := 276) dX5_next_276 (v := 1) rfl ?_
                  refine wt_callV (pc := 277) mX5_needs 2 5 (rc' := 0) (rs' := 0) dX5_next_277 q1434 mi_X5_needs rfl rfl (ms_o hM) (tm_needsF hM (bI (tkC T n p = 59 ∨ tkC T n p = 45)) 1) rfl rfl rfl rfl rfl rfl ?_
                  refine zt_f (f' := f_nxS T n p fo) rfl ?_
                  refine zt_aload_n (pc := 280) dX5_next_280 rfl rfl ?_
                  refine zt_dup (pc := 281) dX5_next_281 rfl ?_
                  refine wt_getI (pc := 282) 5 21 (v := f_nxS T n p fo 21) dX5_next_282 q1293 rfl (ms_o hM) rfl ?_
                  refine zt_iconst (pc := 285) dX5_next_285 (v := 1) rfl ?_
                  refine zt_iadd (pc := 286) dX5_next_286 ?_
                  refine wt_putIS (pc := 287) 5 21 dX5_next_287 q1293 rfl (ms_o hM) ?_
                  exact zt_return (pc := 290) dX5_next_290 rfl (⟨rfl, congrArg (fun z => zW h (zs S 289 z)) (Eq.symm ((if_neg (Int32.not_lt.mpr c_4)).trans ((if_neg (Int32.not_lt.mpr c_52)).trans ((if_neg (fun z => bI_eq0.mp c_74 ((qLe_iff _).mp z))).trans (if_neg (fun z => bI_eq0.mp c_127 ((qDi_iff _).mp z)))))))⟩)
                · refine zt_iconst (pc := 271) dX5_next_271 (v := 1) rfl ?_
                  refine zt_goto (pc := 272) 276 dX5_next_272 (by decide) ?_
                  refine zt_top (pc := 276) (bI (tkC T n p = 59 ∨ tkC T n p = 45)) ((bI_t (Or.inr c_268)).symm) ?_
                  refine zt_iconst (pc := 276) dX5_next_276 (v := 1) rfl ?_
                  refine wt_callV (pc := 277) mX5_needs 2 5 (rc' := 0) (rs' := 0) dX5_next_277 q1434 mi_X5_needs rfl rfl (ms_o hM) (tm_needsF hM (bI (tkC T n p = 59 ∨ tkC T n p = 45)) 1) rfl rfl rfl rfl rfl rfl ?_
                  refine zt_f (f' := f_nxS T n p fo) rfl ?_
                  refine zt_aload_n (pc := 280) dX5_next_280 rfl rfl ?_
                  refine zt_dup (pc := 281) dX5_next_281 rfl ?_
                  refine wt_getI (pc := 282) 5 21 (v := f_nxS T n p fo 21) dX5_next_282 q1293 rfl (ms_o hM) rfl ?_
                  refine zt_iconst (pc := 285) dX5_next_285 (v := 1) rfl ?_
                  refine zt_iadd (pc := 286) dX5_next_286 ?_
                  refine wt_putIS (pc := 287) 5 21 dX5_next_287 q1293 rfl (ms_o hM) ?_
                  exact zt_return (pc := 290) dX5_next_290 rfl (⟨rfl, congrArg (fun z => zW h (zs S 289 z)) (Eq.symm ((if_neg (Int32.not_lt.mpr c_4)).trans ((if_neg (Int32.not_lt.mpr c_52)).trans ((if_neg (fun z => bI_eq0.mp c_74 ((qLe_iff _).mp z))).trans (if_neg (fun z => bI_eq0.mp c_127 ((qDi_iff _).mp z)))))))⟩)
          · refine zt_aload_n (pc := 130) dX5_next_130 rfl rfl ?_
            refine zt_iconst (pc := 131) dX5_next_131 (v := 2) rfl ?_
            refine wt_putIS (pc := 132) 5 23 dX5_next_132 q1295 rfl (ms_o hM) ?_
            refine zt_aload_n (pc := 135) dX5_next_135 rfl rfl ?_
            refine zt_iconst (pc := 136) dX5_next_136 (v := 0) rfl ?_
            refine wt_putIS (pc := 137) 5 24 dX5_next_137 q1296 rfl (ms_o hM) ?_
            refine zt_for (pc := 140) (fun i => zs S 289 (upd (upd (upd (f_nx0 T n p fo) 23 2) 24 (itr (s_dvF T n (tkQ T n p)) 0 i)) 21 (nI (tkQ T n p + i)))) (fun i => [some (.ref 289), some (.int (tkC T n p))]) (rn qDi T n (tkQ T n p)) (congrArg (zs S 289) (upd_self _ _ _ rfl).symm) rfl ?_ (fun i hi_i ih_i => ?_)
            · show Zt _ _ _ _ _ _ (zW h (zs S 289 (upd (upd (upd (f_nx0 T n p fo) 23 2) 24 (itr (s_dvF T n (tkQ T n p)) 0 (rn qDi T n (tkQ T n p)))) 21 (nI (tkQ T n p + (rn qDi T n (tkQ T n p))))))) 140 [some (.ref 289), some (.int (tkC T n p))] []
              refine zt_aload_n (pc := 140) dX5_next_140 rfl rfl ?_
              refine zt_aload_n (pc := 141) dX5_next_141 rfl rfl ?_
              refine wt_getI (pc := 142) 5 21 (v := nI (tkQ T n p + rn qDi T n (tkQ T n p))) dX5_next_142 q1293 rfl (ms_o hM) rfl ?_
              refine wt_callV (pc := 145) mX5_look 1 5 (rc' := 0) (rs' := 0) dX5_next_145 q1426 mi_X5_look rfl rfl (ms_o hM) (tm_look (S := zs S 289 (upd (upd (upd (f_nx0 T n p fo) 23 2) 24 (itr (s_dvF T n (tkQ T n p)) 0 (rn qDi T n (tkQ T n p)))) 21 (nI (tkQ T n p + (rn qDi T n (tkQ T n p)))))) hM T n hn h20 h301 (tkQ T n p + rn qDi T n (tkQ T n p)) (by omega)) rfl rfl rfl rfl rfl rfl ?_
              refine zt_i2l (pc := 148) dX5_next_148 rfl ?_
              refine zt_ldc2 (pc := 149) dX5_next_149 q1432 ?_
              refine zt_ldc2 (pc := 152) dX5_next_152 q1433 ?_
              refine wt_callS (pc := 155) mX5_in 3 (rc' := 0) (rs' := 0) dX5_next_155 q1223 ms_X5_in (tm_in ((lk T n (tkQ T n p + rn qDi T n (tkQ T n p))).toInt64) 48 57) rfl rfl rfl rfl rfl rfl ?_
              refine zt_if_eq (pc := 158) 217 dX5_next_158 (by decide) (fun c_158 => ?_) (fun c_158 => absurd (bI_f (fun z => absurd ((qDi_iff _).mpr z) (bfalse (rn_out (q := qDi) (T := T) (by decide) hq).1))) c_158)
              refine zt_aload_n (pc := 217) dX5_next_217 rfl rfl ?_
              refine zt_aload_n (pc := 218) dX5_next_218 rfl rfl ?_
              refine wt_getI (pc := 219) 5 21 (v := nI (tkQ T n p + rn qDi T n (tkQ T n p))) dX5_next_219 q1293 rfl (ms_o hM) rfl ?_
              refine zt_aload_n (pc := 222) dX5_next_222 rfl rfl ?_
              refine wt_getI (pc := 223) 5 22 (v := nI (tkQ T n p)) dX5_next_223 q1294 rfl (ms_o hM) rfl ?_
              refine zt_isub (pc := 226) dX5_next_226 ?_
              refine zt_top (pc := 227) (nI (rn qDi T n (tkQ T n p))) (by rw [pk_sub (by omega)]; congr 1; omega) ?_
              refine zt_iconst (pc := 227) dX5_next_227 (v := 2) rfl ?_
              refine zt_icmp_gt (pc := 228) 235 dX5_next_228 (by decide) (fun c_228 => ?_) (fun c_228 => ?_)
              · refine zt_iconst (pc := 235) dX5_next_235 (v := 0) rfl ?_
                refine zt_top (pc := 236) (bI (rn qDi T n (tkQ T n p) ≤ 2)) ((bI_f (fun z => absurd c_228 (Int32.not_lt.mpr (nI_le z (by decide))))).symm) ?_
                refine zt_iconst (pc := 236) dX5_next_236 (v := 1) rfl ?_
                refine wt_callV (pc := 237) mX5_needs 2 5 (rc' := 0) (rs' := 0) dX5_next_237 q1434 mi_X5_needs rfl rfl (ms_o hM) (tm_needsF hM (bI (rn qDi T n (tkQ T n p) ≤ 2)) 1) rfl rfl rfl rfl rfl rfl ?_
                refine zt_goto (pc := 240) 290 dX5_next_240 (by decide) ?_
                exact zt_return (pc := 290) dX5_next_290 rfl (⟨rfl, congrArg (fun z => zW h (zs S 289 z)) (Eq.symm ((if_neg (Int32.not_lt.mpr c_4)).trans ((if_neg (Int32.not_lt.mpr c_52)).trans ((if_neg (fun z => bI_eq0.mp c_74 ((qLe_iff _).mp z))).trans (if_pos ((qDi_iff _).mpr (bI_ne0 c_127)))))))⟩)
              · refine zt_iconst (pc := 231) dX5_next_231 (v := 1) rfl ?_
                refine zt_goto (pc := 232) 236 dX5_next_232 (by decide) ?_
                refine zt_top (pc := 236) (bI (rn qDi T n (tkQ T n p) ≤ 2)) ((bI_t ((nI_leI (by omega) (by decide)).mp (Int32.not_lt.mp c_228))).symm) ?_
                refine zt_iconst (pc := 236) dX5_next_236 (v := 1) rfl ?_
                refine wt_callV (pc := 237) mX5_needs 2 5 (rc' := 0) (rs' := 0) dX5_next_237 q1434 mi_X5_needs rfl rfl (ms_o hM) (tm_needsF hM (bI (rn qDi T n (tkQ T n p) ≤ 2)) 1) rfl rfl rfl rfl rfl rfl ?_
                refine zt_goto (pc := 240) 290 dX5_next_240 (by decide) ?_
                exact zt_return (pc := 290) dX5_next_290 rfl (⟨rfl, congrArg (fun z => zW h (zs S 289 z)) (Eq.symm ((if_neg (Int32.not_lt.mpr c_4)).trans ((if_neg (Int32.not_lt.mpr c_52)).trans ((if_neg (fun z => bI_eq0.mp c_74 ((qLe_iff _).mp z))).trans (if_pos ((qDi_iff _).mpr (bI_ne0 c_127)))))))⟩)
            · show Zt _ _ _ _ _ _ (zW h (zs S 289 (upd (upd (upd (f_nx0 T n p fo) 23 2) 24 (itr (s_dvF T n (tkQ T n p)) 0 i)) 21 (nI (tkQ T n p + i))))) 140 [some (.ref 289), some (.int (tkC T n p))] []
              refine zt_aload_n (pc := 140) dX5_next_140 rfl rfl ?_
              refine zt_aload_n (pc := 141) dX5_next_141 rfl rfl ?_
              refine wt_getI (pc := 142) 5 21 (v := nI (tkQ T n p + i)) dX5_next_142 q1293 rfl (ms_o hM) rfl ?_
              refine wt_callV (pc := 145) mX5_look 1 5 (rc' := 0) (rs' := 0) dX5_next_145 q1426 mi_X5_look rfl rfl (ms_o hM) (tm_look (S := zs S 289 (upd (upd (upd (f_nx0 T n p fo) 23 2) 24 (itr (s_dvF T n (tkQ T n p)) 0 i)) 21 (nI (tkQ T n p + i)))) hM T n hn h20 h301 (tkQ T n p + i) (by omega)) rfl rfl rfl rfl rfl rfl ?_
              refine zt_i2l (pc := 148) dX5_next_148 rfl ?_
              refine zt_ldc2 (pc := 149) dX5_next_149 q1432 ?_
              refine zt_ldc2 (pc := 152) dX5_next_152 q1433 ?_
              refine wt_callS (pc := 155) mX5_in 3 (rc' := 0) (rs' := 0) dX5_next_155 q1223 ms_X5_in (tm_in ((lk T n (tkQ T n p + i)).toInt64) 48 57) rfl rfl rfl rfl rfl rfl ?_
              refine zt_if_eq (pc := 158) 217 dX5_next_158 (by decide) (fun c_158 => absurd c_158 (by rw [bI_t ((qDi_iff _).mp (rn_in hi_i))]; decide)) (fun c_158 => ?_)
              refine zt_aload_n (pc := 161) dX5_next_161 rfl rfl ?_
              refine zt_aload_n (pc := 162) dX5_next_162 rfl rfl ?_
              refine wt_getI (pc := 163) 5 21 (v := nI (tkQ T n p + i)) dX5_next_163 q1293 rfl (ms_o hM) rfl ?_
              refine zt_aload_n (pc := 166) dX5_next_166 rfl rfl ?_
              refine wt_getI (pc := 167) 5 22 (v := nI (tkQ T n p)) dX5_next_167 q1294 rfl (ms_o hM) rfl ?_
              refine zt_isub (pc := 170) dX5_next_170 ?_
              refine zt_top (pc := 171) (nI i) (by rw [pk_sub (by omega)]; congr 1; omega) ?_
              refine zt_iconst (pc := 171) dX5_next_171 (v := 2) rfl ?_
              refine zt_geN (a := i) (b := 2) (pc := 172) 197 dX5_next_172 (by decide) (by omega) (by omega) (fun c_172 => ?_) (fun c_172 => ?_)
              · refine zt_aload_n (pc := 197) dX5_next_197 rfl rfl ?_
                refine wt_getI (pc := 198) 5 24 (v := itr (s_dvF T n (tkQ T n p)) 0 i) dX5_next_198 q1296 rfl (ms_o hM) rfl ?_
                refine zt_top (pc := 201) (itr (s_dvF T n (tkQ T n p)) 0 (i + 1)) (show _ = s_dvF T n (tkQ T n p) i _ from (if_neg (Nat.not_lt.mpr c_172)).symm) ?_
                refine wt_putIS (pc := 201) 5 24 dX5_next_201 q1296 rfl (ms_o hM) ?_
                refine zt_aload_n (pc := 204) dX5_next_204 rfl rfl ?_
                refine zt_dup (pc := 205) dX5_next_205 rfl ?_
                refine wt_getI (pc := 206) 5 21 (v := nI (tkQ T n p + i)) dX5_next_206 q1293 rfl (ms_o hM) rfl ?_
                refine zt_iconst (pc := 209) dX5_next_209 (v := 1) rfl ?_
                refine zt_iaddN (pc := 210) (a := tkQ T n p + i) (b := 1) dX5_next_210 ?_
                refine wt_putIS (pc := 211) 5 21 dX5_next_211 q1293 rfl (ms_o hM) ?_
                refine zt_goto (pc := 214) 140 dX5_next_214 (by decide) ?_
                refine zt_f (f' := upd (upd (upd (f_nx0 T n p fo) 23 2) 24 (itr (s_dvF T n (tkQ T n p)) 0 (i + 1))) 21 (nI (tkQ T n p + (i + 1)))) (upd_24_21 _ _ _ _ _) ?_
                exact ih_i
              · refine zt_bipush (pc := 175) dX5_next_175 (v := 10) rfl ?_
                refine zt_aload_n (pc := 177) dX5_next_177 rfl rfl ?_
                refine wt_getI (pc := 178) 5 24 (v := itr (s_dvF T n (tkQ T n p)) 0 i) dX5_next_178 q1296 rfl (ms_o hM) rfl ?_
                refine zt_imul (pc := 181) dX5_next_181 ?_
                refine zt_aload_n (pc := 182) dX5_next_182 rfl rfl ?_
                refine zt_aload_n (pc := 183) dX5_next_183 rfl rfl ?_
                refine wt_getI (pc := 184) 5 21 (v := nI (tkQ T n p + i)) dX5_next_184 q1293 rfl (ms_o hM) rfl ?_
                refine wt_callV (pc := 187) mX5_look 1 5 (rc' := 0) (rs' := 0) dX5_next_187 q1426 mi_X5_look rfl rfl (ms_o hM) (tm_look (S := zs S 289 (upd (upd (upd (f_nx0 T n p fo) 23 2) 24 (itr (s_dvF T n (tkQ T n p)) 0 i)) 21 (nI (tkQ T n p + i)))) hM T n hn h20 h301 (tkQ T n p + i) (by omega)) rfl rfl rfl rfl rfl rfl ?_
                refine zt_iadd (pc := 190) dX5_next_190 ?_
                refine zt_bipush (pc := 191) dX5_next_191 (v := 48) rfl ?_
                refine zt_isub (pc := 193) dX5_next_193 ?_
                refine zt_goto (pc := 194) 201 dX5_next_194 (by decide) ?_
                refine zt_top (pc := 201) (itr (s_dvF T n (tkQ T n p)) 0 (i + 1)) (show _ = s_dvF T n (tkQ T n p) i _ from (if_pos c_172).symm) ?_
                refine wt_putIS (pc := 201) 5 24 dX5_next_201 q1296 rfl (ms_o hM) ?_
                refine zt_aload_n (pc := 204) dX5_next_204 rfl rfl ?_
                refine zt_dup (pc := 205) dX5_next_205 rfl ?_
                refine wt_getI (pc := 206) 5 21 (v := nI (tkQ T n p + i)) dX5_next_206 q1293 rfl (ms_o hM) rfl ?_
                refine zt_iconst (pc := 209) dX5_next_209 (v := 1) rfl ?_
                refine zt_iaddN (pc := 210) (a := tkQ T n p + i) (b := 1) dX5_next_210 ?_
                refine wt_putIS (pc := 211) 5 21 dX5_next_211 q1293 rfl (ms_o hM) ?_
                refine zt_goto (pc := 214) 140 dX5_next_214 (by decide) ?_
                refine zt_f (f' := upd (upd (upd (f_nx0 T n p fo) 23 2) 24 (itr (s_dvF T n (tkQ T n p)) 0 (i + 1))) 21 (nI (tkQ T n p + (i + 1)))) (upd_24_21 _ _ _ _ _) ?_
                exact ih_i
        · refine zt_aload_n (pc := 77) dX5_next_77 rfl rfl ?_
          refine zt_iconst (pc := 78) dX5_next_78 (v := 1) rfl ?_
          refine wt_putIS (pc := 79) 5 23 dX5_next_79 q1295 rfl (ms_o hM) ?_
          refine zt_for (pc := 82) (fun i => zs S 289 (upd (upd (f_nx0 T n p fo) 23 1) 21 (nI (tkQ T n p + i)))) (fun i => [some (.ref 289), some (.int (tkC T n p))]) (rn qLe T n (tkQ T n p)) (congrArg (zs S 289) (upd_self _ _ _ rfl).symm) rfl ?_ (fun i hi_i ih_i => ?_)
          · show Zt _ _ _ _ _ _ (zW h (zs S 289 (upd (upd (f_nx0 T n p fo) 23 1) 21 (nI (tkQ T n p + (rn qLe T n (tkQ T n p))))))) 82 [some (.ref 289), some (.int (tkC T n p))] []
            refine zt_aload_n (pc := 82) dX5_next_82 rfl rfl ?_
            refine zt_aload_n (pc := 83) dX5_next_83 rfl rfl ?_
            refine wt_getI (pc := 84) 5 21 (v := nI (tkQ T n p + rn qLe T n (tkQ T n p))) dX5_next_84 q1293 rfl (ms_o hM) rfl ?_
            refine wt_callV (pc := 87) mX5_look 1 5 (rc' := 0) (rs' := 0) dX5_next_87 q1426 mi_X5_look rfl rfl (ms_o hM) (tm_look (S := zs S 289 (upd (upd (f_nx0 T n p fo) 23 1) 21 (nI (tkQ T n p + (rn qLe T n (tkQ T n p)))))) hM T n hn h20 h301 (tkQ T n p + rn qLe T n (tkQ T n p)) (by omega)) rfl rfl rfl rfl rfl rfl ?_
            refine zt_i2l (pc := 90) dX5_next_90 rfl ?_
            refine zt_ldc2 (pc := 91) dX5_next_91 q1430 ?_
            refine zt_ldc2 (pc := 94) dX5_next_94 q1431 ?_
            refine wt_callS (pc := 97) mX5_in 3 (rc' := 0) (rs' := 0) dX5_next_97 q1223 ms_X5_in (tm_in ((lk T n (tkQ T n p + rn qLe T n (tkQ T n p))).toInt64) 97 122) rfl rfl rfl rfl rfl rfl ?_
            refine zt_if_eq (pc := 100) 290 dX5_next_100 (by decide) (fun c_100 => ?_) (fun c_100 => absurd (bI_f (fun z => absurd ((qLe_iff _).mpr z) (bfalse (rn_out (q := qLe) (T := T) (by decide) hq).1))) c_100)
            exact zt_return (pc := 290) dX5_next_290 rfl (⟨rfl, congrArg (fun z => zW h (zs S 289 z)) (Eq.symm ((if_neg (Int32.not_lt.mpr c_4)).trans ((if_neg (Int32.not_lt.mpr c_52)).trans (if_pos ((qLe_iff _).mpr (bI_ne0 c_74))))))⟩)
          · show Zt _ _ _ _ _ _ (zW h (zs S 289 (upd (upd (f_nx0 T n p fo) 23 1) 21 (nI (tkQ T n p + i))))) 82 [some (.ref 289), some (.int (tkC T n p))] []
            refine zt_aload_n (pc := 82) dX5_next_82 rfl rfl ?_
            refine zt_aload_n (pc := 83) dX5_next_83 rfl rfl ?_
            refine wt_getI (pc := 84) 5 21 (v := nI (tkQ T n p + i)) dX5_next_84 q1293 rfl (ms_o hM) rfl ?_
            refine wt_callV (pc := 87) mX5_look 1 5 (rc' := 0) (rs' := 0) dX5_next_87 q1426 mi_X5_look rfl rfl (ms_o hM) (tm_look (S := zs S 289 (upd (upd (f_nx0 T n p fo) 23 1) 21 (nI (tkQ T n p + i)))) hM T n hn h20 h301 (tkQ T n p + i) (by omega)) rfl rfl rfl rfl rfl rfl ?_
            refine zt_i2l (pc := 90) dX5_next_90 rfl ?_
            refine zt_ldc2 (pc := 91) dX5_next_91 q1430 ?_
            refine zt_ldc2 (pc := 94) dX5_next_94 q1431 ?_
            refine wt_callS (pc := 97) mX5_in 3 (rc' := 0) (rs' := 0) dX5_next_97 q1223 ms_X5_in (tm_in ((lk T n (tkQ T n p + i)).toInt64) 97 122) rfl rfl rfl rfl rfl rfl ?_
            refine zt_if_eq (pc := 100) 290 dX5_next_100 (by decide) (fun c_100 => absurd c_100 (by rw [bI_t ((qLe_iff _).mp (rn_in hi_i))]; decide)) (fun c_100 => ?_)
            refine zt_aload_n (pc := 103) dX5_next_103 rfl rfl ?_
            refine zt_dup (pc := 104) dX5_next_104 rfl ?_
            refine wt_getI (pc := 105) 5 21 (v := nI (tkQ T n p + i)) dX5_next_105 q1293 rfl (ms_o hM) rfl ?_
            refine zt_iconst (pc := 108) dX5_next_108 (v := 1) rfl ?_
            refine zt_iaddN (pc := 109) (a := tkQ T n p + i) (b := 1) dX5_next_109 ?_
            refine wt_putIS (pc := 110) 5 21 dX5_next_110 q1293 rfl (ms_o hM) ?_
            refine zt_goto (pc := 113) 82 dX5_next_113 (by decide) ?_
            refine zt_f (f' := upd (upd (f_nx0 T n p fo) 23 1) 21 (nI (tkQ T n p + (i + 1)))) (by rw [upd_upd]; rfl) ?_
            exact ih_i
      · refine zt_aload_n (pc := 55) dX5_next_55 rfl rfl ?_
        refine zt_iconst (pc := 56) dX5_next_56 (v := 0) rfl ?_
        refine wt_putIS (pc := 57) 5 23 dX5_next_57 q1295 rfl (ms_o hM) ?_
        refine zt_goto (pc := 60) 290 dX5_next_60 (by decide) ?_
        exact zt_return (pc := 290) dX5_next_290 rfl (⟨rfl, congrArg (fun z => zW h (zs S 289 z)) (Eq.symm ((if_neg (Int32.not_lt.mpr c_4)).trans (if_pos (Int32.not_le.mp c_52))))⟩)
    · show Zt _ _ _ _ _ _ (zW h (zs S 289 (upd fo 21 (nI (p + i))))) 8 [some (.ref 289), none] []
      refine zt_aload_n (pc := 8) dX5_next_8 rfl rfl ?_
      refine zt_aload_n (pc := 9) dX5_next_9 rfl rfl ?_
      refine wt_getI (pc := 10) 5 21 (v := nI (p + i)) dX5_next_10 q1293 rfl (ms_o hM) rfl ?_
      refine wt_callV (pc := 13) mX5_look 1 5 (rc' := 0) (rs' := 0) dX5_next_13 q1426 mi_X5_look rfl rfl (ms_o hM) (tm_look (S := zs S 289 (upd fo 21 (nI (p + i)))) hM T n hn h20 h301 (p + i) (by omega)) rfl rfl rfl rfl rfl rfl ?_
      refine zt_bipush (pc := 16) dX5_next_16 (v := 32) rfl ?_
      refine zt_icmp_ne (pc := 18) 34 dX5_next_18 (by decide) (fun c_18 => absurd ((qSp_iff _).mp (rn_in hi_i)) c_18) (fun c_18 => ?_)
      refine zt_aload_n (pc := 21) dX5_next_21 rfl rfl ?_
      refine zt_dup (pc := 22) dX5_next_22 rfl ?_
      refine wt_getI (pc := 23) 5 21 (v := nI (p + i)) dX5_next_23 q1293 rfl (ms_o hM) rfl ?_
      refine zt_iconst (pc := 26) dX5_next_26 (v := 1) rfl ?_
      refine zt_iaddN (pc := 27) (a := p + i) (b := 1) dX5_next_27 ?_
      refine wt_putIS (pc := 28) 5 21 dX5_next_28 q1293 rfl (ms_o hM) ?_
      refine zt_goto (pc := 31) 8 dX5_next_31 (by decide) ?_
      refine zt_f (f' := upd fo 21 (nI (p + (i + 1)))) (by rw [upd_upd]; rfl) ?_
      exact ih_i
  · exact zt_return (pc := 7) dX5_next_7 rfl (⟨rfl, congrArg (fun z => zW h (zs S 289 z)) (Eq.symm (if_pos (Int32.not_le.mp c_4)))⟩)

end M15