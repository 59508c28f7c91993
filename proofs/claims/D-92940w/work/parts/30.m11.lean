/-! THE TWIN, part 11: build, draw, back -/
set_option maxRecDepth 100000
/-- the first that is found -/
def srch (p : Nat → Option Int32) : Nat → Option Int32
  | 0 => none
  | n + 1 => match srch p n with
    | some v => some v
    | none => p n
theorem srch_no {p : Nat → Option Int32} {i : Nat} (h : srch p i = none) (hp : p i = none) : srch p (i + 1) = none := by
  show (match srch p i with | some v => some v | none => p i) = none
  rw [h]; exact hp
theorem srch_hit {p : Nat → Option Int32} {i : Nat} {v : Int32} (h : srch p i = none) (hp : p i = some v) : ∀ n, i < n → srch p n = some v := by
  intro n hn
  induction n with
  | zero => omega
  | succ n ih =>
    show (match srch p n with | some v => some v | none => p n) = some v
    by_cases e : i = n
    · subst e; rw [h]; exact hp
    · rw [ih (by omega)]
def s_mk (A : Nat → Nat → Int32) (how a b : Nat) : Int32 := if nI how = 1 then s_tgt A a else if nI how = 2 then s_tgt A a &&& s_tgt A b else s_tgt A a &&& (s_tgt A b ^^^ (-1)) &&& ((1 : Int32) <<< (nI (cT A) &&& 31) - 1)
def s_bS (A : Nat → Nat → Int32) (m : Nat) (w : Int32) (how a b : Nat) : Option Int32 := if (nI how = 1 ∨ ¬ nI a = nI b) ∧ s_mk A how a b = A 300 m then some (if w = 0 then nI how else if w = 1 then nI a else if nI how = 1 then -4 else nI b) else none
def s_b1 (A : Nat → Nat → Int32) (m : Nat) (w : Int32) (how a : Nat) : Option Int32 := srch (s_bS A m w how a) (if nI how = 1 then 1 else cS A)
def s_b2 (A : Nat → Nat → Int32) (m : Nat) (w : Int32) (how : Nat) : Option Int32 := srch (s_b1 A m w how) (cS A)
/-- ways from 1 on -/
def s_b3 (A : Nat → Nat → Int32) (m : Nat) (w : Int32) (n : Nat) : Option Int32 := srch (fun q => if q = 0 then none else s_b2 A m w q) n
def o_build (A : Nat → Nat → Int32) (m w : Int32) : Int32 := if inN m (cM A) ∧ inN w 3 then (s_b3 A m.toNatClampNeg w 4).getD (-4) else -1
/-- a kind by its chance -/
def s_dr (A : Nat → Nat → Int32) : Nat → Nat → Nat → Nat
  | 0, _, k => k
  | n + 1, l, k => if l < nN (A 294 (5 * k + 4)) then k else s_dr A n (l - nN (A 294 (5 * k + 4))) (k + 1)
def s_seed (x : Int32) : Int32 := (x * 1103515245 + 12345) >>> (16 &&& 31) &&& 32767
def o_draw (A : Nat → Nat → Int32) (x : Int32) : Int32 := if s_all_ch A = 0 then -4 else nI (s_dr A (cK A) (nN (s_seed x) % nN (s_all_ch A)) 0)
/-- the chances from k on -/
def s_sumc (A : Nat → Nat → Int32) : Nat → Nat → Nat
  | 0, _ => 0
  | n + 1, k => nN (A 294 (5 * k + 4)) + s_sumc A n (k + 1)
def s_backS (A : Nat → Nat → Int32) (i k : Nat) (f : Nat → Int32) : Nat → Int32 := upd f k (A 311 (72 * i + k))
def s_backF (A : Nat → Nat → Int32) (i k : Nat) (S : Nat → Nat → Int32) : Nat → Nat → Int32 := zu (zu S 307 k (A 312 (24 * i + 2 * k))) 308 k (bI (A 312 (24 * i + 2 * k + 1) = 1))
theorem back_keep {A S : Nat → Nat → Int32} {i a : Nat} (h1 : a ≠ 307) (h2 : a ≠ 308) : ∀ k, itr (s_backF A i) S k a = S a
  | 0 => rfl
  | k + 1 => by
    have ih := back_keep (A := A) (S := S) (i := i) h1 h2 k
    show zu (zu (itr (s_backF A i) S k) 307 k _) 308 k _ a = S a
    funext q
    rw [zu_ne1 h2, zu_ne1 h1, ih]
def s_bsh (A : Nat → Nat → Int32) (i : Nat) : Nat → Int32 := itr (s_backS A i) (A 303) 72
def w_back0 (S A : Nat → Nat → Int32) (i : Nat) : Nat → Nat → Int32 := zs (zu (zu (zu S 289 28 (A 310 (3 * i))) 289 33 (A 310 (3 * i + 1))) 289 34 (A 310 (3 * i + 2))) 303 (s_bsh A i)
def w_back1 (S A : Nat → Nat → Int32) (i : Nat) : Nat → Nat → Int32 := zs (itr (s_backF A i) (w_back0 S A i) 12) 302 (s_rep (zs A 303 (s_bsh A i)) (A 302) (A 310 (3 * i)).toNatClampNeg)
def o_back (A : Nat → Nat → Int32) (i : Int32) : Int32 := if inN i 2 then (if A 309 i.toNatClampNeg = 0 then -2 else A 310 (3 * i.toNatClampNeg)) else -1
def w_back (S A : Nat → Nat → Int32) (i : Int32) : Nat → Nat → Int32 := if inN i 2 ∧ ¬ A 309 i.toNatClampNeg = 0 then w_back1 S A i.toNatClampNeg else S
section M11
variable {g : ZG} {h : ZH} {S A C : Nat → Nat → Int32} {f : Nat → Int32}
theorem tm_build (hM : MS h.2.1 h.2.2.2) (hI : AI A) (hA : AE S A) (m w : Int32) : Zd g mX5_build 3 0 0 [.ref 289, .int m, .int w] (zW h S) (some (.int (o_build A m w))) (zW h S) := by
  refine zc_of [some (.ref 289), some (.int m), some (.int w), none, none, none, none, none] rfl (Nat.le_of_ble_eq_true rfl) rfl ?_
  have b1 := hI.c.t8; have b2 := hI.c.m12; have b3 := hI.c.s4; have b4 := hI.c.k6; have b5 := hI.sh24
  refine zt_iload_n (pc := 0) dX5_build_0 rfl rfl ?_
  refine zt_i2l (pc := 1) dX5_build_1 rfl ?_
  refine zt_lconst (pc := 2) dX5_build_2 (v := 0) rfl ?_
  refine zt_aload_n (pc := 3) dX5_build_3 rfl rfl ?_
  refine wt_getI (pc := 4) 5 2 (v := nI (cM A)) dX5_build_4 q1274 rfl (ms_o hM) (hA.ce.m hI.c) ?_
  refine zt_iconst (pc := 7) dX5_build_7 (v := 1) rfl ?_
  refine zt_isub (pc := 8) dX5_build_8 ?_
  refine zt_i2l (pc := 9) dX5_build_9 rfl ?_
  refine wt_callS (pc := 10) mX5_in 3 (rc' := 0) (rs' := 0) dX5_build_10 q1223 ms_X5_in (tm_in m.toInt64 0 (((nI (cM A)) - 1).toInt64)) rfl rfl rfl rfl rfl rfl ?_
  refine zt_if_eq (pc := 13) 28 dX5_build_13 (by decide) (fun c_13 => ?_) (fun c_13 => ?_)
  · refine zt_iconst (pc := 28) dX5_build_28 (v := (-1)) rfl ?_
    exact zt_ireturn (pc := 29) dX5_build_29 rfl (⟨congrArg some (congrArg Value.int ((if_neg (fun q => bI_eq0.mp c_13 ((in_iff m (cM A) (by omega)).mpr q.1))).symm)), rfl⟩)
  · have hn_m_ : inN m (cM A) := (in_iff m (cM A) (by omega)).mp (bI_ne0 c_13)
    obtain ⟨m_, hl_m_, rfl⟩ := inN_of hn_m_ (by omega)
    refine zt_iload_n (pc := 16) dX5_build_16 rfl rfl ?_
    refine zt_i2l (pc := 17) dX5_build_17 rfl ?_
    refine zt_lconst (pc := 18) dX5_build_18 (v := 0) rfl ?_
    refine zt_ldc2 (pc := 19) dX5_build_19 q1544 ?_
    refine wt_callS (pc := 22) mX5_in 3 (rc' := 0) (rs' := 0) dX5_build_22 q1223 ms_X5_in (tm_in w.toInt64 0 2) rfl rfl rfl rfl rfl rfl ?_
    refine zt_if_ne (pc := 25) 30 dX5_build_25 (by decide) (fun c_25 => ?_) (fun c_25 => ?_)
    · have hn_w_ : inN w 3 := (in_c w 2 (by decide)).mp (bI_ne0 c_25)
      obtain ⟨w_, hl_w_, rfl⟩ := inN_of hn_w_ (by decide)
      refine zt_iconst (pc := 30) dX5_build_30 (v := 1) rfl ?_
      refine zt_aload_n (pc := 31) dX5_build_31 rfl rfl ?_
      refine wt_getI (pc := 32) 5 0 (v := nI (cT A)) dX5_build_32 q1272 rfl (ms_o hM) (hA.ce.t hI.c) ?_
      refine zt_ishl (pc := 35) dX5_build_35 ?_
      refine zt_iconst (pc := 36) dX5_build_36 (v := 1) rfl ?_
      refine zt_isub (pc := 37) dX5_build_37 ?_
      refine zt_istore_n (pc := 38) (L' := [some (.ref 289), some (.int (nI m_)), some (.int (nI w_)), some (.int (((1 : Int32) <<< ((nI (cT A)) &&& 31)) - 1)), none, none, none, none]) dX5_build_38 rfl (by decide) rfl rfl ?_
      refine zt_iconst (pc := 39) dX5_build_39 (v := 1) rfl ?_
      refine zt_istore (pc := 40) (L' := [some (.ref 289), some (.int (nI m_)), some (.int (nI w_)), some (.int (((1 : Int32) <<< ((nI (cT A)) &&& 31)) - 1)), some (.int 1), none, none, none]) dX5_build_40 (by decide) rfl rfl ?_
      refine zt_forP (pc := 42) (fun how => s_b3 A m_ (nI w_) how = none) (fun how => S) (fun how => [some (.ref 289), some (.int (nI m_)), some (.int (nI w_)), some (.int (((1 : Int32) <<< (nI (cT A) &&& 31)) - 1)), some (.int (nI how)), none, none, none]) 1 4 (by omega) rfl rfl rfl (fun hv_how => ?_) (fun how h0_how hi_how hv_how ih_how => ?_)
      · show Zt _ _ _ _ _ _ (zW h S) 42 [some (.ref 289), some (.int (nI m_)), some (.int (nI w_)), some (.int (((1 : Int32) <<< (nI (cT A) &&& 31)) - 1)), some (.int (nI 4)), none, none, none] []
        refine zt_iload (pc := 42) dX5_build_42 rfl ?_
        refine zt_iconst (pc := 44) dX5_build_44 (v := 4) rfl ?_
        refine zt_geN (a := 4) (b := 4) (pc := 45) 213 dX5_build_45 (by decide) (by omega) (by omega) (fun c_45 => ?_) (fun c_45 => absurd c_45 (Nat.lt_irrefl _))
        refine zt_bipush (pc := 213) dX5_build_213 (v := (-4)) rfl ?_
        exact zt_ireturn (pc := 215) dX5_build_215 rfl (⟨congrArg some (congrArg Value.int (Eq.symm (by unfold o_build; rw [if_pos ⟨hn_m_, hn_w_⟩, nI_clamp (show m_ < 2 ^ 31 by omega)]; rw [hv_how]; rfl))), rfl⟩)
      · show Zt _ _ _ _ _ _ (zW h S) 42 [some (.ref 289), some (.int (nI m_)), some (.int (nI w_)), some (.int (((1 : Int32) <<< (nI (cT A) &&& 31)) - 1)), some (.int (nI how)), none, none, none] []
        refine zt_iload (pc := 42) dX5_build_42 rfl ?_
        refine zt_iconst (pc := 44) dX5_build_44 (v := 4) rfl ?_
        refine zt_geN (a := how) (b := 4) (pc := 45) 213 dX5_build_45 (by decide) (by omega) (by omega) (fun c_45 => absurd hi_how (Nat.not_lt.mpr c_45)) (fun c_45 => ?_)
        refine zt_iconst (pc := 48) dX5_build_48 (v := 0) rfl ?_
        refine zt_istore (pc := 49) (L' := [some (.ref 289), some (.int (nI m_)), some (.int (nI w_)), some (.int (((1 : Int32) <<< (nI (cT A) &&& 31)) - 1)), some (.int (nI how)), some (.int 0), none, none]) dX5_build_49 (by decide) rfl rfl ?_
        refine zt_forP (pc := 51) (fun a => srch (s_b1 A m_ (nI w_) how) a = none) (fun a => S) (fun a => [some (.ref 289), some (.int (nI m_)), some (.int (nI w_)), some (.int (((1 : Int32) <<< (nI (cT A) &&& 31)) - 1)), some (.int (nI how)), some (.int (nI a)), none, none]) 0 (cS A) (by omega) rfl rfl rfl (fun hv_a => ?_) (fun a h0_a hi_a hv_a ih_a => ?_)
        · show Zt _ _ _ _ _ _ (zW h S) 51 [some (.ref 289), some (.int (nI m_)), some (.int (nI w_)), some (.int (((1 : Int32) <<< (nI (cT A) &&& 31)) - 1)), some (.int (nI how)), some (.int (nI (cS A))), none, none] []
          refine zt_iload (pc := 51) dX5_build_51 rfl ?_
          refine zt_aload_n (pc := 53) dX5_build_53 rfl rfl ?_
          refine wt_getI (pc := 54) 5 5 (v := nI (cS A)) dX5_build_54 q1277 rfl (ms_o hM) (hA.ce.s hI.c) ?_
          refine zt_geN (a := cS A) (b := cS A) (pc := 57) 207 dX5_build_57 (by decide) (by omega) (by omega) (fun c_57 => ?_) (fun c_57 => absurd c_57 (Nat.lt_irrefl _))
          refine zt_iincN (pc := 207) (b := how + 1) (L' := [some (.ref 289), some (.int (nI m_)), some (.int (nI w_)), some (.int (((1 : Int32) <<< (nI (cT A) &&& 31)) - 1)), some (.int (nI (how + 1))), some (.int (nI (cS A))), none, none]) dX5_build_207 rfl (zinc1 how) (by decide) rfl rfl ?_
          refine zt_goto (pc := 210) 42 dX5_build_210 (by decide) ?_
          refine zt_drop (L' := [some (.ref 289), some (.int (nI m_)), some (.int (nI w_)), some (.int (((1 : Int32) <<< (nI (cT A) &&& 31)) - 1)), some (.int (nI (how + 1))), none, none, none]) 5 rfl ?_
          exact ih_how (srch_no hv_how (by show (if how = 0 then none else s_b2 A m_ (nI w_) how) = none; rw [if_neg (by omega)]; exact hv_a))
        · show Zt _ _ _ _ _ _ (zW h S) 51 [some (.ref 289), some (.int (nI m_)), some (.int (nI w_)), some (.int (((1 : Int32) <<< (nI (cT A) &&& 31)) - 1)), some (.int (nI how)), some (.int (nI a)), none, none] []
          refine zt_iload (pc := 51) dX5_build_51 rfl ?_
          refine zt_aload_n (pc := 53) dX5_build_53 rfl rfl ?_
          refine wt_getI (pc := 54) 5 5 (v := nI (cS A)) dX5_build_54 q1277 rfl (ms_o hM) (hA.ce.s hI.c) ?_
          refine zt_geN (a := a) (b := cS A) (pc := 57) 207 dX5_build_57 (by decide) (by omega) (by omega) (fun c_57 => absurd hi_a (Nat.not_lt.mpr c_57)) (fun c_57 => ?_)
          refine zt_iconst (pc := 60) dX5_build_60 (v := 0) rfl ?_
          refine zt_istore (pc := 61) (L' := [some (.ref 289), some (.int (nI m_)), some (.int (nI w_)), some (.int (((1 : Int32) <<< (nI (cT A) &&& 31)) - 1)), some (.int (nI how)), some (.int (nI a)), some (.int 0), none]) dX5_build_61 (by decide) rfl rfl ?_
          by_cases h1 : nI how = 1
          · skip
            refine zt_forP (pc := 63) (fun b => srch (s_bS A m_ (nI w_) how a) b = none) (fun b => S) (fun b => [some (.ref 289), some (.int (nI m_)), some (.int (nI w_)), some (.int (((1 : Int32) <<< (nI (cT A) &&& 31)) - 1)), some (.int (nI how)), some (.int (nI a)), some (.int (nI b)), none]) 0 1 (by omega) rfl rfl rfl (fun hv_b => ?_) (fun b h0_b hi_b hv_b ih_b => ?_)
            · show Zt _ _ _ _ _ _ (zW h S) 63 [some (.ref 289), some (.int (nI m_)), some (.int (nI w_)), some (.int (((1 : Int32) <<< (nI (cT A) &&& 31)) - 1)), some (.int (nI how)), some (.int (nI a)), some (.int (nI 1)), none] []
              refine zt_iload (pc := 63) dX5_build_63 rfl ?_
              refine zt_iload (pc := 65) dX5_build_65 rfl ?_
              refine zt_iconst (pc := 67) dX5_build_67 (v := 1) rfl ?_
              refine zt_icmp_ne (pc := 68) 75 dX5_build_68 (by decide) (fun c_68 => absurd h1 c_68) (fun c_68 => ?_)
              refine zt_iconst (pc := 71) dX5_build_71 (v := 1) rfl ?_
              refine zt_goto (pc := 72) 79 dX5_build_72 (by decide) ?_
              refine zt_geN (a := 1) (b := 1) (pc := 79) 201 dX5_build_79 (by decide) (by omega) (by omega) (fun c_79 => ?_) (fun c_79 => absurd c_79 (Nat.lt_irrefl _))
              refine zt_iincN (pc := 201) (b := a + 1) (L' := [some (.ref 289), some (.int (nI m_)), some (.int (nI w_)), some (.int (((1 : Int32) <<< (nI (cT A) &&& 31)) - 1)), some (.int (nI how)), some (.int (nI (a + 1))), some (.int (nI 1)), none]) dX5_build_201 rfl (zinc1 a) (by decide) rfl rfl ?_
              refine zt_goto (pc := 204) 51 dX5_build_204 (by decide) ?_
              refine zt_drop (L' := [some (.ref 289), some (.int (nI m_)), some (.int (nI w_)), some (.int (((1 : Int32) <<< (nI (cT A) &&& 31)) - 1)), some (.int (nI how)), some (.int (nI (a + 1))), none, none]) 6 rfl ?_
              exact ih_a (srch_no hv_a (by show srch _ (if nI how = 1 then 1 else cS A) = none; rw [if_pos h1]; exact hv_b))
            · show Zt _ _ _ _ _ _ (zW h S) 63 [some (.ref 289), some (.int (nI m_)), some (.int (nI w_)), some (.int (((1 : Int32) <<< (nI (cT A) &&& 31)) - 1)), some (.int (nI how)), some (.int (nI a)), some (.int (nI b)), none] []
              refine zt_iload (pc := 63) dX5_build_63 rfl ?_
              refine zt_iload (pc := 65) dX5_build_65 rfl ?_
              refine zt_iconst (pc := 67) dX5_build_67 (v := 1) rfl ?_
              refine zt_icmp_ne (pc := 68) 75 dX5_build_68 (by decide) (fun c_68 => absurd h1 c_68) (fun c_68 => ?_)
              refine zt_iconst (pc := 71) dX5_build_71 (v := 1) rfl ?_
              refine zt_goto (pc := 72) 79 dX5_build_72 (by decide) ?_
              refine zt_geN (a := b) (b := 1) (pc := 79) 201 dX5_build_79 (by decide) (by omega) (by omega) (fun c_79 => absurd hi_b (Nat.not_lt.mpr c_79)) (fun c_79 => ?_)
              refine zt_iload (pc := 82) dX5_build_82 rfl ?_
              refine zt_iconst (pc := 84) dX5_build_84 (v := 1) rfl ?_
              refine zt_icmp_ne (pc := 85) 97 dX5_build_85 (by decide) (fun c_85 => absurd h1 c_85) (fun c_85 => ?_)
              refine zt_aload_n (pc := 88) dX5_build_88 rfl rfl ?_
              refine zt_iload (pc := 89) dX5_build_89 rfl ?_
              refine wt_callV (pc := 91) mX5_targetOf 1 5 (rc' := 0) (rs' := 0) dX5_build_91 q1528 mi_X5_targetOf rfl rfl (ms_o hM) (tm_targetOf hM hI.c hA.ce a (by omega)) rfl rfl rfl rfl rfl rfl ?_
              refine zt_goto (pc := 94) 136 dX5_build_94 (by decide) ?_
              refine zt_istore (pc := 136) (L' := [some (.ref 289), some (.int (nI m_)), some (.int (nI w_)), some (.int (((1 : Int32) <<< (nI (cT A) &&& 31)) - 1)), some (.int (nI how)), some (.int (nI a)), some (.int (nI b)), some (.int (s_tgt A a))]) dX5_build_136 (by decide) rfl rfl ?_
              refine zt_iload (pc := 138) dX5_build_138 rfl ?_
              refine zt_iconst (pc := 140) dX5_build_140 (v := 1) rfl ?_
              refine zt_icmp_eq (pc := 141) 151 dX5_build_141 (by decide) (fun c_141 => ?_) (fun c_141 => absurd h1 c_141)
              refine zt_iload (pc := 151) dX5_build_151 rfl ?_
              refine zt_aload_n (pc := 153) dX5_build_153 rfl rfl ?_
              refine wt_getR (pc := 154) 5 18 dX5_build_154 q1290 rfl (ms_o hM) (mr_are hM) ?_
              refine zt_iload_n (pc := 157) dX5_build_157 rfl rfl ?_
              refine wt_iald (pc := 158) 12 m_ (v := A 300 m_) dX5_build_158 (ma_are hM) rfl rfl (by omega) (congrFun (hA 300 (by decide) (by decide)) m_) ?_
              refine zt_icmp_ne (pc := 159) 195 dX5_build_159 (by decide) (fun c_159 => ?_) (fun c_159 => ?_)
              · refine zt_iincN (pc := 195) (b := b + 1) (L' := [some (.ref 289), some (.int (nI m_)), some (.int (nI w_)), some (.int (((1 : Int32) <<< (nI (cT A) &&& 31)) - 1)), some (.int (nI how)), some (.int (nI a)), some (.int (nI (b + 1))), some (.int (s_tgt A a))]) dX5_build_195 rfl (zinc1 b) (by decide) rfl rfl ?_
                refine zt_goto (pc := 198) 63 dX5_build_198 (by decide) ?_
                refine zt_drop (L' := [some (.ref 289), some (.int (nI m_)), some (.int (nI w_)), some (.int (((1 : Int32) <<< (nI (cT A) &&& 31)) - 1)), some (.int (nI how)), some (.int (nI a)), some (.int (nI (b + 1))), none]) 7 rfl ?_
                exact ih_b (srch_no hv_b (if_neg (fun q => c_159 (((if_pos c_85).symm).trans q.2))))
              · refine zt_iload_n (pc := 162) dX5_build_162 rfl rfl ?_
                refine zt_if_ne (pc := 163) 171 dX5_build_163 (by decide) (fun c_163 => ?_) (fun c_163 => ?_)
                · refine zt_iload_n (pc := 171) dX5_build_171 rfl rfl ?_
                  refine zt_iconst (pc := 172) dX5_build_172 (v := 1) rfl ?_
                  refine zt_icmp_ne (pc := 173) 181 dX5_build_173 (by decide) (fun c_173 => ?_) (fun c_173 => ?_)
                  · refine zt_iload (pc := 181) dX5_build_181 rfl ?_
                    refine zt_iconst (pc := 183) dX5_build_183 (v := 1) rfl ?_
                    refine zt_icmp_ne (pc := 184) 192 dX5_build_184 (by decide) (fun c_184 => absurd h1 c_184) (fun c_184 => ?_)
                    refine zt_bipush (pc := 187) dX5_build_187 (v := (-4)) rfl ?_
                    refine zt_goto (pc := 189) 194 dX5_build_189 (by decide) ?_
                    exact zt_ireturn (pc := 194) dX5_build_194 rfl (⟨congrArg some (congrArg Value.int (Eq.symm (by unfold o_build; rw [if_pos ⟨hn_m_, hn_w_⟩, nI_clamp (show m_ < 2 ^ 31 by omega)]; have e1 := srch_hit hv_b (if_pos ⟨Or.inl c_141, ((if_pos c_85).symm).symm.trans c_159⟩ : s_bS A m_ (nI w_) how a b = _) (if nI how = 1 then 1 else cS A) (by rw [if_pos h1]; omega); have e2 := srch_hit hv_a e1 (cS A) hi_a; have e3 := srch_hit hv_how (show (if how = 0 then none else s_b2 A m_ (nI w_) how) = _ from (if_neg (by omega)).trans e2) 4 hi_how; rw [show s_b3 A m_ (nI w_) 4 = _ from e3]; exact (if_neg c_163).trans ((if_neg c_173).trans (if_pos c_184))))), rfl⟩)
                  · refine zt_iload (pc := 176) dX5_build_176 rfl ?_
                    refine zt_goto (pc := 178) 194 dX5_build_178 (by decide) ?_
                    exact zt_ireturn (pc := 194) dX5_build_194 rfl (⟨congrArg some (congrArg Value.int (Eq.symm (by unfold o_build; rw [if_pos ⟨hn_m_, hn_w_⟩, nI_clamp (show m_ < 2 ^ 31 by omega)]; have e1 := srch_hit hv_b (if_pos ⟨Or.inl c_141, ((if_pos c_85).symm).symm.trans c_159⟩ : s_bS A m_ (nI w_) how a b = _) (if nI how = 1 then 1 else cS A) (by rw [if_pos h1]; omega); have e2 := srch_hit hv_a e1 (cS A) hi_a; have e3 := srch_hit hv_how (show (if how = 0 then none else s_b2 A m_ (nI w_) how) = _ from (if_neg (by omega)).trans e2) 4 hi_how; rw [show s_b3 A m_ (nI w_) 4 = _ from e3]; exact (if_neg c_163).trans (if_pos c_173)))), rfl⟩)
                · refine zt_iload (pc := 166) dX5_build_166 rfl ?_
                  refine zt_goto (pc := 168) 194 dX5_build_168 (by decide) ?_
                  exact zt_ireturn (pc := 194) dX5_build_194 rfl (⟨congrArg some (congrArg Value.int (Eq.symm (by unfold o_build; rw [if_pos ⟨hn_m_, hn_w_⟩, nI_clamp (show m_ < 2 ^ 31 by omega)]; have e1 := srch_hit hv_b (if_pos ⟨Or.inl c_141, ((if_pos c_85).symm).symm.trans c_159⟩ : s_bS A m_ (nI w_) how a b = _) (if nI how = 1 then 1 else cS A) (by rw [if_pos h1]; omega); have e2 := srch_hit hv_a e1 (cS A) hi_a; have e3 := srch_hit hv_how (show (if how = 0 then none else s_b2 A m_ (nI w_) how) = _ from (if_neg (by omega)).trans e2) 4 hi_how; rw [show s_b3 A m_ (nI w_) 4 = _ from e3]; exact if_pos c_163))), rfl⟩)
          · skip
            refine zt_forP (pc := 63) (fun b => srch (s_bS A m_ (nI w_) how a) b = none) (fun b => S) (fun b => [some (.ref 289), some (.int (nI m_)), some (.int (nI w_)), some (.int (((1 : Int32) <<< (nI (cT A) &&& 31)) - 1)), some (.int (nI how)), some (.int (nI a)), some (.int (nI b)), none]) 0 (cS A) (by omega) rfl rfl rfl (fun hv_b => ?_) (fun b h0_b hi_b hv_b ih_b => ?_)
            · show Zt _ _ _ _ _ _ (zW h S) 63 [some (.ref 289), some (.int (nI m_)), some (.int (nI w_)), some (.int (((1 : Int32) <<< (nI (cT A) &&& 31)) - 1)), some (.int (nI how)), some (.int (nI a)), some (.int (nI (cS A))), none] []
              refine zt_iload (pc := 63) dX5_build_63 rfl ?_
              refine zt_iload (pc := 65) dX5_build_65 rfl ?_
              refine zt_iconst (pc := 67) dX5_build_67 (v := 1) rfl ?_
              refine zt_icmp_ne (pc := 68) 75 dX5_build_68 (by decide) (fun c_68 => ?_) (fun c_68 => absurd c_68 h1)
              refine zt_aload_n (pc := 75) dX5_build_75 rfl rfl ?_
              refine wt_getI (pc := 76) 5 5 (v := nI (cS A)) dX5_build_76 q1277 rfl (ms_o hM) (hA.ce.s hI.c) ?_
              refine zt_geN (a := cS A) (b := cS A) (pc := 79) 201 dX5_build_79 (by decide) (by omega) (by omega) (fun c_79 => ?_) (fun c_79 => absurd c_79 (Nat.lt_irrefl _))
              refine zt_iincN (pc := 201) (b := a + 1) (L' := [some (.ref 289), some (.int (nI m_)), some (.int (nI w_)), some (.int (((1 : Int32) <<< (nI (cT A) &&& 31)) - 1)), some (.int (nI how)), some (.int (nI (a + 1))), some (.int (nI (cS A))), none]) dX5_build_201 rfl (zinc1 a) (by decide) rfl rfl ?_
              refine zt_goto (pc := 204) 51 dX5_build_204 (by decide) ?_
              refine zt_drop (L' := [some (.ref 289), some (.int (nI m_)), some (.int (nI w_)), some (.int (((1 : Int32) <<< (nI (cT A) &&& 31)) - 1)), some (.int (nI how)), some (.int (nI (a + 1))), none, none]) 6 rfl ?_
              exact ih_a (srch_no hv_a (by show srch _ (if nI how = 1 then 1 else cS A) = none; rw [if_neg h1]; exact hv_b))
            · show Zt _ _ _ _ _ _ (zW h S) 63 [some (.ref 289), some (.int (nI m_)), some (.int (nI w_)), some (.int (((1 : Int32) <<< (nI (cT A) &&& 31)) - 1)), some (.int (nI how)), some (.int (nI a)), some (.int (nI b)), none] []
              refine zt_iload (pc := 63) dX5_build_63 rfl ?_
              refine zt_iload (pc := 65) dX5_build_65 rfl ?_
              refine zt_iconst (pc := 67) dX5_build_67 (v := 1) rfl ?_
              refine zt_icmp_ne (pc := 68) 75 dX5_build_68 (by decide) (fun c_68 => ?_) (fun c_68 => absurd c_68 h1)
              refine zt_aload_n (pc := 75) dX5_build_75 rfl rfl ?_
              refine wt_getI (pc := 76) 5 5 (v := nI (cS A)) dX5_build_76 q1277 rfl (ms_o hM) (hA.ce.s hI.c) ?_
              refine zt_geN (a := b) (b := cS A) (pc := 79) 201 dX5_build_79 (by decide) (by omega) (by omega) (fun c_79 => absurd hi_b (Nat.not_lt.mpr c_79)) (fun c_79 => ?_)
              refine zt_iload (pc := 82) dX5_build_82 rfl ?_
              refine zt_iconst (pc := 84) dX5_build_84 (v := 1) rfl ?_
              refine zt_icmp_ne (pc := 85) 97 dX5_build_85 (by decide) (fun c_85 => ?_) (fun c_85 => absurd c_85 h1)
              refine zt_iload (pc := 97) dX5_build_97 rfl ?_
              refine zt_iconst (pc := 99) dX5_build_99 (v := 2) rfl ?_
              refine zt_icmp_ne (pc := 100) 119 dX5_build_100 (by decide) (fun c_100 => ?_) (fun c_100 => ?_)
              · refine zt_aload_n (pc := 119) dX5_build_119 rfl rfl ?_
                refine zt_iload (pc := 120) dX5_build_120 rfl ?_
                refine wt_callV (pc := 122) mX5_targetOf 1 5 (rc' := 0) (rs' := 0) dX5_build_122 q1528 mi_X5_targetOf rfl rfl (ms_o hM) (tm_targetOf hM hI.c hA.ce a (by omega)) rfl rfl rfl rfl rfl rfl ?_
                refine zt_aload_n (pc := 125) dX5_build_125 rfl rfl ?_
                refine zt_iload (pc := 126) dX5_build_126 rfl ?_
                refine wt_callV (pc := 128) mX5_targetOf 1 5 (rc' := 0) (rs' := 0) dX5_build_128 q1528 mi_X5_targetOf rfl rfl (ms_o hM) (tm_targetOf hM hI.c hA.ce b (by omega)) rfl rfl rfl rfl rfl rfl ?_
                refine zt_iconst (pc := 131) dX5_build_131 (v := (-1)) rfl ?_
                refine zt_ixor (pc := 132) dX5_build_132 ?_
                refine zt_iand (pc := 133) dX5_build_133 ?_
                refine zt_iload_n (pc := 134) dX5_build_134 rfl rfl ?_
                refine zt_iand (pc := 135) dX5_build_135 ?_
                refine zt_istore (pc := 136) (L' := [some (.ref 289), some (.int (nI m_)), some (.int (nI w_)), some (.int (((1 : Int32) <<< (nI (cT A) &&& 31)) - 1)), some (.int (nI how)), some (.int (nI a)), some (.int (nI b)), some (.int (((s_tgt A a) &&& ((s_tgt A b) ^^^ (-1))) &&& (((1 : Int32) <<< (nI (cT A) &&& 31)) - 1)))]) dX5_build_136 (by decide) rfl rfl ?_
                refine zt_iload (pc := 138) dX5_build_138 rfl ?_
                refine zt_iconst (pc := 140) dX5_build_140 (v := 1) rfl ?_
                refine zt_icmp_eq (pc := 141) 151 dX5_build_141 (by decide) (fun c_141 => absurd c_141 h1) (fun c_141 => ?_)
                refine zt_iload (pc := 144) dX5_build_144 rfl ?_
                refine zt_iload (pc := 146) dX5_build_146 rfl ?_
                refine zt_icmp_eq (pc := 148) 195 dX5_build_148 (by decide) (fun c_148 => ?_) (fun c_148 => ?_)
                · refine zt_iincN (pc := 195) (b := b + 1) (L' := [some (.ref 289), some (.int (nI m_)), some (.int (nI w_)), some (.int (((1 : Int32) <<< (nI (cT A) &&& 31)) - 1)), some (.int (nI how)), some (.int (nI a)), some (.int (nI (b + 1))), some (.int (((s_tgt A a) &&& ((s_tgt A b) ^^^ (-1))) &&& (((1 : Int32) <<< (nI (cT A) &&& 31)) - 1)))]) dX5_build_195 rfl (zinc1 b) (by decide) rfl rfl ?_
                  refine zt_goto (pc := 198) 63 dX5_build_198 (by decide) ?_
                  refine zt_drop (L' := [some (.ref 289), some (.int (nI m_)), some (.int (nI w_)), some (.int (((1 : Int32) <<< (nI (cT A) &&& 31)) - 1)), some (.int (nI how)), some (.int (nI a)), some (.int (nI (b + 1))), none]) 7 rfl ?_
                  exact ih_b (srch_no hv_b (if_neg (fun q => q.1.elim c_141 (fun z => z c_148))))
                · refine zt_iload (pc := 151) dX5_build_151 rfl ?_
                  refine zt_aload_n (pc := 153) dX5_build_153 rfl rfl ?_
                  refine wt_getR (pc := 154) 5 18 dX5_build_154 q1290 rfl (ms_o hM) (mr_are hM) ?_
                  refine zt_iload_n (pc := 157) dX5_build_157 rfl rfl ?_
                  refine wt_iald (pc := 158) 12 m_ (v := A 300 m_) dX5_build_158 (ma_are hM) rfl rfl (by omega) (congrFun (hA 300 (by decide) (by decide)) m_) ?_
                  refine zt_icmp_ne (pc := 159) 195 dX5_build_159 (by decide) (fun c_159 => ?_) (fun c_159 => ?_)
                  · refine zt_iincN (pc := 195) (b := b + 1) (L' := [some (.ref 289), some (.int (nI m_)), some (.int (nI w_)), some (.int (((1 : Int32) <<< (nI (cT A) &&& 31)) - 1)), some (.int (nI how)), some (.int (nI a)), some (.int (nI (b + 1))), some (.int (((s_tgt A a) &&& ((s_tgt A b) ^^^ (-1))) &&& (((1 : Int32) <<< (nI (cT A) &&& 31)) - 1)))]) dX5_build_195 rfl (zinc1 b) (by decide) rfl rfl ?_
                    refine zt_goto (pc := 198) 63 dX5_build_198 (by decide) ?_
                    refine zt_drop (L' := [some (.ref 289), some (.int (nI m_)), some (.int (nI w_)), some (.int (((1 : Int32) <<< (nI (cT A) &&& 31)) - 1)), some (.int (nI how)), some (.int (nI a)), some (.int (nI (b + 1))), none]) 7 rfl ?_
                    exact ih_b (srch_no hv_b (if_neg (fun q => c_159 ((((if_neg c_85).trans (if_neg c_100)).symm).trans q.2))))
                  · refine zt_iload_n (pc := 162) dX5_build_162 rfl rfl ?_
                    refine zt_if_ne (pc := 163) 171 dX5_build_163 (by decide) (fun c_163 => ?_) (fun c_163 => ?_)
                    · refine zt_iload_n (pc := 171) dX5_build_171 rfl rfl ?_
                      refine zt_iconst (pc := 172) dX5_build_172 (v := 1) rfl ?_
                      refine zt_icmp_ne (pc := 173) 181 dX5_build_173 (by decide) (fun c_173 => ?_) (fun c_173 => ?_)
                      · refine zt_iload (pc := 181) dX5_build_181 rfl ?_
                        refine zt_iconst (pc := 183) dX5_build_183 (v := 1) rfl ?_
                        refine zt_icmp_ne (pc := 184) 192 dX5_build_184 (by decide) (fun c_184 => ?_) (fun c_184 => absurd c_184 h1)
                        refine zt_iload (pc := 192) dX5_build_192 rfl ?_
                        exact zt_ireturn (pc := 194) dX5_build_194 rfl (⟨congrArg some (congrArg Value.int (Eq.symm (by unfold o_build; rw [if_pos ⟨hn_m_, hn_w_⟩, nI_clamp (show m_ < 2 ^ 31 by omega)]; have e1 := srch_hit hv_b (if_pos ⟨Or.inr c_148, (((if_neg c_85).trans (if_neg c_100)).symm).symm.trans c_159⟩ : s_bS A m_ (nI w_) how a b = _) (if nI how = 1 then 1 else cS A) (by rw [if_neg h1]; omega); have e2 := srch_hit hv_a e1 (cS A) hi_a; have e3 := srch_hit hv_how (show (if how = 0 then none else s_b2 A m_ (nI w_) how) = _ from (if_neg (by omega)).trans e2) 4 hi_how; rw [show s_b3 A m_ (nI w_) 4 = _ from e3]; exact (if_neg c_163).trans ((if_neg c_173).trans (if_neg c_184))))), rfl⟩)
                      · refine zt_iload (pc := 176) dX5_build_176 rfl ?_
                        refine zt_goto (pc := 178) 194 dX5_build_178 (by decide) ?_
                        exact zt_ireturn (pc := 194) dX5_build_194 rfl (⟨congrArg some (congrArg Value.int (Eq.symm (by unfold o_build; rw [if_pos ⟨hn_m_, hn_w_⟩, nI_clamp (show m_ < 2 ^ 31 by omega)]; have e1 := srch_hit hv_b (if_pos ⟨Or.inr c_148, (((if_neg c_85).trans (if_neg c_100)).symm).symm.trans c_159⟩ : s_bS A m_ (nI w_) how a b = _) (if nI how = 1 then 1 else cS A) (by rw [if_neg h1]; omega); have e2 := srch_hit hv_a e1 (cS A) hi_a; have e3 := srch_hit hv_how (show (if how = 0 then none else s_b2 A m_ (nI w_) how) = _ from (if_neg (by omega)).trans e2) 4 hi_how; rw [show s_b3 A m_ (nI w_) 4 = _ from e3]; exact (if_neg c_163).trans (if_pos c_173)))), rfl⟩)
                    · refine zt_iload (pc := 166) dX5_build_166 rfl ?_
                      refine zt_goto (pc := 168) 194 dX5_build_168 (by decide) ?_
                      exact zt_ireturn (pc := 194) dX5_build_194 rfl (⟨congrArg some (congrArg Value.int (Eq.symm (by unfold o_build; rw [if_pos ⟨hn_m_, hn_w_⟩, nI_clamp (show m_ < 2 ^ 31 by omega)]; have e1 := srch_hit hv_b (if_pos ⟨Or.inr c_148, (((if_neg c_85).trans (if_neg c_100)).symm).symm.trans c_159⟩ : s_bS A m_ (nI w_) how a b = _) (if nI how = 1 then 1 else cS A) (by rw [if_neg h1]; omega); have e2 := srch_hit hv_a e1 (cS A) hi_a; have e3 := srch_hit hv_how (show (if how = 0 then none else s_b2 A m_ (nI w_) how) = _ from (if_neg (by omega)).trans e2) 4 hi_how; rw [show s_b3 A m_ (nI w_) 4 = _ from e3]; exact if_pos c_163))), rfl⟩)
              · refine zt_aload_n (pc := 103) dX5_build_103 rfl rfl ?_
                refine zt_iload (pc := 104) dX5_build_104 rfl ?_
                refine wt_callV (pc := 106) mX5_targetOf 1 5 (rc' := 0) (rs' := 0) dX5_build_106 q1528 mi_X5_targetOf rfl rfl (ms_o hM) (tm_targetOf hM hI.c hA.ce a (by omega)) rfl rfl rfl rfl rfl rfl ?_
                refine zt_aload_n (pc := 109) dX5_build_109 rfl rfl ?_
                refine zt_iload (pc := 110) dX5_build_110 rfl ?_
                refine wt_callV (pc := 112) mX5_targetOf 1 5 (rc' := 0) (rs' := 0) dX5_build_112 q1528 mi_X5_targetOf rfl rfl (ms_o hM) (tm_targetOf hM hI.c hA.ce b (by omega)) rfl rfl rfl rfl rfl rfl ?_
                refine zt_iand (pc := 115) dX5_build_115 ?_
                refine zt_goto (pc := 116) 136 dX5_build_116 (by decide) ?_
                refine zt_istore (pc := 136) (L' := [some (.ref 289), some (.int (nI m_)), some (.int (nI w_)), some (.int (((1 : Int32) <<< (nI (cT A) &&& 31)) - 1)), some (.int (nI how)), some (.int (nI a)), some (.int (nI b)), some (.int ((s_tgt A a) &&& (s_tgt A b)))]) dX5_build_136 (by decide) rfl rfl ?_
                refine zt_iload (pc := 138) dX5_build_138 rfl ?_
                refine zt_iconst (pc := 140) dX5_build_140 (v := 1) rfl ?_
                refine zt_icmp_eq (pc := 141) 151 dX5_build_141 (by decide) (fun c_141 => absurd c_141 h1) (fun c_141 => ?_)
                refine zt_iload (pc := 144) dX5_build_144 rfl ?_
                refine zt_iload (pc := 146) dX5_build_146 rfl ?_
                refine zt_icmp_eq (pc := 148) 195 dX5_build_148 (by decide) (fun c_148 => ?_) (fun c_148 => ?_)
                · refine zt_iincN (pc := 195) (b := b + 1) (L' := [some (.ref 289), some (.int (nI m_)), some (.int (nI w_)), some (.int (((1 : Int32) <<< (nI (cT A) &&& 31)) - 1)), some (.int (nI how)), some (.int (nI a)), some (.int (nI (b + 1))), some (.int ((s_tgt A a) &&& (s_tgt A b)))]) dX5_build_195 rfl (zinc1 b) (by decide) rfl rfl ?_
                  refine zt_goto (pc := 198) 63 dX5_build_198 (by decide) ?_
                  refine zt_drop (L' := [some (.ref 289), some (.int (nI m_)), some (.int (nI w_)), some (.int (((1 : Int32) <<< (nI (cT A) &&& 31)) - 1)), some (.int (nI how)), some (.int (nI a)), some (.int (nI (b + 1))), none]) 7 rfl ?_
                  exact ih_b (srch_no hv_b (if_neg (fun q => q.1.elim c_141 (fun z => z c_148))))
                · refine zt_iload (pc := 151) dX5_build_151 rfl ?_
                  refine zt_aload_n (pc := 153) dX5_build_153 rfl rfl ?_
                  refine wt_getR (pc := 154) 5 18 dX5_build_154 q1290 rfl (ms_o hM) (mr_are hM) ?_
                  refine zt_iload_n (pc := 157) dX5_build_157 rfl rfl ?_
                  refine wt_iald (pc := 158) 12 m_ (v := A 300 m_) dX5_build_158 (ma_are hM) rfl rfl (by omega) (congrFun (hA 300 (by decide) (by decide)) m_) ?_
                  refine zt_icmp_ne (pc := 159) 195 dX5_build_159 (by decide) (fun c_159 => ?_) (fun c_159 => ?_)
                  · refine zt_iincN (pc := 195) (b := b + 1) (L' := [some (.ref 289), some (.int (nI m_)), some (.int (nI w_)), some (.int (((1 : Int32) <<< (nI (cT A) &&& 31)) - 1)), some (.int (nI how)), some (.int (nI a)), some (.int (nI (b + 1))), some (.int ((s_tgt A a) &&& (s_tgt A b)))]) dX5_build_195 rfl (zinc1 b) (by decide) rfl rfl ?_
                    refine zt_goto (pc := 198) 63 dX5_build_198 (by decide) ?_
                    refine zt_drop (L' := [some (.ref 289), some (.int (nI m_)), some (.int (nI w_)), some (.int (((1 : Int32) <<< (nI (cT A) &&& 31)) - 1)), some (.int (nI how)), some (.int (nI a)), some (.int (nI (b + 1))), none]) 7 rfl ?_
                    exact ih_b (srch_no hv_b (if_neg (fun q => c_159 ((((if_neg c_85).trans (if_pos c_100)).symm).trans q.2))))
                  · refine zt_iload_n (pc := 162) dX5_build_162 rfl rfl ?_
                    refine zt_if_ne (pc := 163) 171 dX5_build_163 (by decide) (fun c_163 => ?_) (fun c_163 => ?_)
                    · refine zt_iload_n (pc := 171) dX5_build_171 rfl rfl ?_
                      refine zt_iconst (pc := 172) dX5_build_172 (v := 1) rfl ?_
                      refine zt_icmp_ne (pc := 173) 181 dX5_build_173 (by decide) (fun c_173 => ?_) (fun c_173 => ?_)
                      · refine zt_iload (pc := 181) dX5_build_181 rfl ?_
                        refine zt_iconst (pc := 183) dX5_build_183 (v := 1) rfl ?_
                        refine zt_icmp_ne (pc := 184) 192 dX5_build_184 (by decide) (fun c_184 => ?_) (fun c_184 => absurd c_184 h1)
                        refine zt_iload (pc := 192) dX5_build_192 rfl ?_
                        exact zt_ireturn (pc := 194) dX5_build_194 rfl (⟨congrArg some (congrArg Value.int (Eq.symm (by unfold o_build; rw [if_pos ⟨hn_m_, hn_w_⟩, nI_clamp (show m_ < 2 ^ 31 by omega)]; have e1 := srch_hit hv_b (if_pos ⟨Or.inr c_148, (((if_neg c_85).trans (if_pos c_100)).symm).symm.trans c_159⟩ : s_bS A m_ (nI w_) how a b = _) (if nI how = 1 then 1 else cS A) (by rw [if_neg h1]; omega); have e2 := srch_hit hv_a e1 (cS A) hi_a; have e3 := srch_hit hv_how (show (if how = 0 then none else s_b2 A m_ (nI w_) how) = _ from (if_neg (by omega)).trans e2) 4 hi_how; rw [show s_b3 A m_ (nI w_) 4 = _ from e3]; exact (if_neg c_163).trans ((if_neg c_173).trans (if_neg c_184))))), rfl⟩)
                      · refine zt_iload (pc := 176) dX5_build_176 rfl ?_
                        refine zt_goto (pc := 178) 194 dX5_build_178 (by decide) ?_
                        exact zt_ireturn (pc := 194) dX5_build_194 rfl (⟨congrArg some (congrArg Value.int (Eq.symm (by unfold o_build; rw [if_pos ⟨hn_m_, hn_w_⟩, nI_clamp (show m_ < 2 ^ 31 by omega)]; have e1 := srch_hit hv_b (if_pos ⟨Or.inr c_148, (((if_neg c_85).trans (if_pos c_100)).symm).symm.trans c_159⟩ : s_bS A m_ (nI w_) how a b = _) (if nI how = 1 then 1 else cS A) (by rw [if_neg h1]; omega); have e2 := srch_hit hv_a e1 (cS A) hi_a; have e3 := srch_hit hv_how (show (if how = 0 then none else s_b2 A m_ (nI w_) how) = _ from (if_neg (by omega)).trans e2) 4 hi_how; rw [show s_b3 A m_ (nI w_) 4 = _ from e3]; exact (if_neg c_163).trans (if_pos c_173)))), rfl⟩)
                    · refine zt_iload (pc := 166) dX5_build_166 rfl ?_
                      refine zt_goto (pc := 168) 194 dX5_build_168 (by decide) ?_
                      exact zt_ireturn (pc := 194) dX5_build_194 rfl (⟨congrArg some (congrArg Value.int (Eq.symm (by unfold o_build; rw [if_pos ⟨hn_m_, hn_w_⟩, nI_clamp (show m_ < 2 ^ 31 by omega)]; have e1 := srch_hit hv_b (if_pos ⟨Or.inr c_148, (((if_neg c_85).trans (if_pos c_100)).symm).symm.trans c_159⟩ : s_bS A m_ (nI w_) how a b = _) (if nI how = 1 then 1 else cS A) (by rw [if_neg h1]; omega); have e2 := srch_hit hv_a e1 (cS A) hi_a; have e3 := srch_hit hv_how (show (if how = 0 then none else s_b2 A m_ (nI w_) how) = _ from (if_neg (by omega)).trans e2) 4 hi_how; rw [show s_b3 A m_ (nI w_) 4 = _ from e3]; exact if_pos c_163))), rfl⟩)
    · refine zt_iconst (pc := 28) dX5_build_28 (v := (-1)) rfl ?_
      exact zt_ireturn (pc := 29) dX5_build_29 rfl (⟨congrArg some (congrArg Value.int ((if_neg (fun q => bI_eq0.mp c_25 ((in_c w 2 (by decide)).mpr q.2))).symm)), rfl⟩)

theorem sumc_add {A : Nat → Nat → Int32} (hC : CI A) : ∀ n k, k + n ≤ cK A → itr (s_chF A (1 <<< (nI (cK A) &&& 31) - 1)) 0 (k + n) = itr (s_chF A (1 <<< (nI (cK A) &&& 31) - 1)) 0 k + nI (s_sumc A n k) := by
  intro n
  induction n with
  | zero => intro k _; show _ = _ + nI 0; rw [Nat.add_zero, nI_0, Int32.add_zero]
  | succ n ih =>
    intro k hk
    have h6 := hC.k6
    have e1 := ih (k + 1) (by omega)
    obtain ⟨c, hc9, hc⟩ := hC.ch (k := k) (by omega)
    have hbit : ∀ K, K ≤ 6 → ∀ q, q < K → ((1 : Int32) <<< (nI K &&& 31) - 1) >>> (nI q &&& 31) &&& 1 = 1 := by decide
    have e2 : itr (s_chF A (1 <<< (nI (cK A) &&& 31) - 1)) 0 (k + 1) = itr (s_chF A (1 <<< (nI (cK A) &&& 31) - 1)) 0 k + A 294 (5 * k + 4) := by
      show s_chF A _ k _ = _
      unfold s_chF
      rw [if_pos (hbit (cK A) h6 k (by omega))]
    rw [show k + (n + 1) = k + 1 + n by omega, e1, e2]
    show _ = _ + nI (nN (A 294 (5 * k + 4)) + s_sumc A n (k + 1))
    rw [← nI_add, Int32.add_assoc, ← (nN_eq hc (by omega)).1]
theorem all_sum {A : Nat → Nat → Int32} (hC : CI A) : s_all_ch A = nI (s_sumc A (cK A) 0) := by
  have e1 := sumc_add hC (cK A) 0 (by omega)
  rw [Nat.zero_add] at e1
  refine (show s_all_ch A = _ from e1).trans ?_
  show 0 + _ = _
  rw [Int32.zero_add]
theorem sumc_le {A : Nat → Nat → Int32} (hC : CI A) : ∀ n k, k + n ≤ cK A → s_sumc A n k ≤ 9 * n := by
  intro n
  induction n with
  | zero => intro k _; exact Nat.le_refl _
  | succ n ih =>
    intro k hk
    have := ih (k + 1) (by omega)
    obtain ⟨c, hc9, hc⟩ := hC.ch (k := k) (by omega)
    have e : nN (A 294 (5 * k + 4)) = c := (nN_eq hc (by omega)).2
    show nN _ + _ ≤ _
    omega
theorem tm_draw_loop (hM : MS h.2.1 h.2.2.2) (hI : AI A) (hA : AE S A) (x : Int32) : ∀ (n l k : Nat), k + n = cK A → l < s_sumc A n k → Zt g mX5_draw 3 0 0 (fun r' h' => r' = some (.int (nI (s_dr A n l k))) ∧ h' = zW h S) (zW h S) 34 [some (.ref 289), some (.int x), some (.int (nI l)), some (.int (nI k))] [] := by
  have h6 := hI.c.k6
  intro n
  induction n with
  | zero => intro l k _ hl; exact absurd hl (Nat.not_lt_zero _)
  | succ n ih =>
    intro l k hk hl
    have hle := sumc_le hI.c (n + 1) k (by omega)
    obtain ⟨c, hc9, hc⟩ := hI.c.ch (k := k) (by omega)
    have hcn : nN (A 294 (5 * k + 4)) = c := (nN_eq hc (by omega)).2
    refine zt_iload_n (pc := 34) dX5_draw_34 rfl rfl ?_
    refine zt_aload_n (pc := 35) dX5_draw_35 rfl rfl ?_
    refine wt_getR (pc := 36) 5 8 dX5_draw_36 q1280 rfl (ms_o hM) (mr_kind hM) ?_
    refine zt_iconst (pc := 39) dX5_draw_39 (v := 5) rfl ?_
    refine zt_iload_n (pc := 40) dX5_draw_40 rfl rfl ?_
    refine zt_imulN (pc := 41) (a := 5) (b := k) dX5_draw_41 ?_
    refine zt_iconst (pc := 42) dX5_draw_42 (v := 4) rfl ?_
    refine zt_iaddN (pc := 43) (a := 5 * k) (b := 4) dX5_draw_43 ?_
    refine wt_iald (pc := 44) 30 ((5 * k) + 4) (v := A 294 ((5 * k) + 4)) dX5_draw_44 (ma_kind hM) rfl rfl (by omega) (congrFun (hA 294 (by decide) (by decide)) ((5 * k) + 4)) ?_
    refine zt_top (pc := 45) (nI c) hc ?_
    refine zt_icmp_lt (pc := 45) 67 dX5_draw_45 (by decide) (fun c_45 => ?_) (fun c_45 => ?_)
    · have hcl : l < c := (nI_ltI (by omega) (by omega)).mp c_45
      refine zt_iload_n (pc := 67) dX5_draw_67 rfl rfl ?_
      exact zt_ireturn (pc := 68) dX5_draw_68 rfl (⟨congrArg some (congrArg Value.int (congrArg nI (Eq.symm (by show (if l < nN (A 294 (5 * k + 4)) then k else _) = _; rw [hcn, if_pos hcl])))), rfl⟩)
    · have hcl : c ≤ l := Nat.not_lt.mp (fun q => c_45 (nI_lt q (by omega)))
      refine zt_iload_n (pc := 48) dX5_draw_48 rfl rfl ?_
      refine zt_aload_n (pc := 49) dX5_draw_49 rfl rfl ?_
      refine wt_getR (pc := 50) 5 8 dX5_draw_50 q1280 rfl (ms_o hM) (mr_kind hM) ?_
      refine zt_iconst (pc := 53) dX5_draw_53 (v := 5) rfl ?_
      refine zt_iload_n (pc := 54) dX5_draw_54 rfl rfl ?_
      refine zt_imulN (pc := 55) (a := 5) (b := k) dX5_draw_55 ?_
      refine zt_iconst (pc := 56) dX5_draw_56 (v := 4) rfl ?_
      refine zt_iaddN (pc := 57) (a := 5 * k) (b := 4) dX5_draw_57 ?_
      refine wt_iald (pc := 58) 30 ((5 * k) + 4) (v := A 294 ((5 * k) + 4)) dX5_draw_58 (ma_kind hM) rfl rfl (by omega) (congrFun (hA 294 (by decide) (by decide)) ((5 * k) + 4)) ?_
      refine zt_top (pc := 59) (nI c) hc ?_
      refine zt_isub (pc := 59) dX5_draw_59 ?_
      refine zt_top (pc := 60) (nI (l - c)) (pk_sub (by omega)) ?_
      refine zt_istore_n (pc := 60) (L' := [some (.ref 289), some (.int x), some (.int (nI (l - c))), some (.int (nI k))]) dX5_draw_60 rfl (by decide) rfl rfl ?_
      refine zt_iincN (pc := 61) (b := k + 1) (L' := [some (.ref 289), some (.int x), some (.int (nI (l - c))), some (.int (nI (k + 1)))]) dX5_draw_61 rfl (zinc1 k) (by decide) rfl rfl ?_
      refine zt_goto (pc := 64) 34 dX5_draw_64 (by decide) ?_
      have e0 := ih (l - c) (k + 1) (by omega) (by have : s_sumc A (n + 1) k = nN (A 294 (5 * k + 4)) + s_sumc A n (k + 1) := rfl; omega)
      rw [show s_dr A (n + 1) l k = s_dr A n (l - c) (k + 1) from by show (if l < nN (A 294 (5 * k + 4)) then k else s_dr A n (l - nN (A 294 (5 * k + 4))) (k + 1)) = _; rw [hcn, if_neg (by omega)]]
      exact e0

theorem tm_draw (hM : MS h.2.1 h.2.2.2) (hI : AI A) (hA : AE S A) (x : Int32) : Zd g mX5_draw 3 0 0 [.ref 289, .int x] (zW h S) (some (.int (o_draw A x))) (zW h S) := by
  refine zc_of [some (.ref 289), some (.int x), none, none] rfl (Nat.le_of_ble_eq_true rfl) rfl ?_
  refine zt_aload_n (pc := 0) dX5_draw_0 rfl rfl ?_
  refine wt_callV (pc := 1) mX5_allChances 0 5 (rc' := 0) (rs' := 0) dX5_draw_1 q1625 mi_X5_allChances rfl rfl (ms_o hM) (tm_allChances hM hI.c hA.ce) rfl rfl rfl rfl rfl rfl ?_
  refine zt_if_ne (pc := 4) 10 dX5_draw_4 (by decide) (fun c_4 => ?_) (fun c_4 => ?_)
  · have hall := all_sum hI.c
    obtain ⟨hl2, hm2⟩ := nN_eq hall (by have := sumc_le hI.c (cK A) 0 (by omega); have := hI.c.k6; omega)
    have hsle := sumc_le hI.c (cK A) 0 (by omega)
    have h6 := hI.c.k6
    have hp : 0 < nN (s_all_ch A) := Nat.pos_of_ne_zero (fun z => c_4 (by rw [hl2, z]; rfl))
    obtain ⟨y, hy, ey⟩ := pk_andE ((x * 1103515245 + 12345) >>> (16 &&& 31)) (m := 32767) 15 (by decide)
    obtain ⟨hl3, hm3⟩ := nN_eq (x := s_seed x) ey (by omega)
    refine zt_iload_n (pc := 10) dX5_draw_10 rfl rfl ?_
    refine zt_ldcw (pc := 11) dX5_draw_11 q1704 ?_
    refine zt_imul (pc := 14) dX5_draw_14 ?_
    refine zt_sipush (pc := 15) dX5_draw_15 (v := 12345) rfl ?_
    refine zt_iadd (pc := 18) dX5_draw_18 ?_
    refine zt_bipush (pc := 19) dX5_draw_19 (v := 16) rfl ?_
    refine zt_ishr (pc := 21) dX5_draw_21 ?_
    refine zt_sipush (pc := 22) dX5_draw_22 (v := 32767) rfl ?_
    refine zt_iand (pc := 25) dX5_draw_25 ?_
    refine zt_top (pc := 26) (nI (nN (s_seed x))) hl3 ?_
    refine zt_aload_n (pc := 26) dX5_draw_26 rfl rfl ?_
    refine wt_callV (pc := 27) mX5_allChances 0 5 (rc' := 0) (rs' := 0) dX5_draw_27 q1625 mi_X5_allChances rfl rfl (ms_o hM) (tm_allChances hM hI.c hA.ce) rfl rfl rfl rfl rfl rfl ?_
    refine zt_top (pc := 30) (nI (nN (s_all_ch A))) hl2 ?_
    refine zt_irem (pc := 30) dX5_draw_30 (nI_ne0 hp (by omega)) ?_
    refine zt_top (pc := 31) (nI (nN (s_seed x) % nN (s_all_ch A))) (pk_rem (by omega) hp (by omega)) ?_
    refine zt_istore_n (pc := 31) (L' := [some (.ref 289), some (.int x), some (.int (nI (nN (s_seed x) % nN (s_all_ch A)))), none]) dX5_draw_31 rfl (by decide) rfl rfl ?_
    refine zt_iconst (pc := 32) dX5_draw_32 (v := 0) rfl ?_
    refine zt_istore_n (pc := 33) (L' := [some (.ref 289), some (.int x), some (.int (nI (nN (s_seed x) % nN (s_all_ch A)))), some (.int 0)]) dX5_draw_33 rfl (by decide) rfl rfl ?_
    refine Zt.imp (fun r' h' q => ⟨q.1.trans (congrArg some (congrArg Value.int (if_neg c_4).symm)), q.2⟩) (tm_draw_loop hM hI hA x (cK A) _ 0 (by omega) (by have := Nat.mod_lt (nN (s_seed x)) hp; omega))
  · refine zt_bipush (pc := 7) dX5_draw_7 (v := (-4)) rfl ?_
    exact zt_ireturn (pc := 9) dX5_draw_9 rfl (⟨congrArg some (congrArg Value.int ((if_pos c_4).symm)), rfl⟩)

end M11