/-! THE TWIN, part 9: ask, sure -/
set_option maxRecDepth 100000
def s_mstV (A : Nat → Nat → Int32) (s t a : Nat) : Int32 := s_ch A (A 289 33 &&& s_say A (A 302) s (nI t) (if nI a = 2 then -4 else nI a))
def s_mstF (A : Nat → Nat → Int32) (s t a : Nat) (most : Int32) : Int32 := if s_mstV A s t a ≤ most then most else s_mstV A s t a
def s_mst (A : Nat → Nat → Int32) (s t : Nat) : Int32 := itr (s_mstF A s t) 0 3
def s_akF (A : Nat → Nat → Int32) (s t : Nat) (p : Int32 × Int32) : Int32 × Int32 := if p.1 = -4 ∨ s_mst A s t < p.2 then (nI (8 * s + t), s_mst A s t) else p
def s_akS (A : Nat → Nat → Int32) (s : Nat) (p : Int32 × Int32) : Int32 × Int32 := itr (s_akF A s) p (cT A)
def s_akP (A : Nat → Nat → Int32) : Int32 × Int32 := if A 289 33 = 0 then (-4, 0) else itr (s_akS A) (-4, 0) (cS A)
def o_ask (A : Nat → Nat → Int32) (w : Int32) : Int32 := if inN w 3 then (if (s_akP A).1 = -4 then -4 else if w = 0 then (s_akP A).1 / 8 else if w = 1 then (s_akP A).1 - (s_akP A).1 / 8 * 8 else (s_akP A).2) else -1
def s_anyC (A : Nat → Nat → Int32) : Int32 := itr (fun k acc => acc ||| s_can A k) 0 (cK A)
def s_suF (A : Nat → Nat → Int32) (s : Nat) (c : Int32) (set m : Nat) (is : Int32) : Int32 := bI (¬ is = 0 ∧ (c >>> (nI m &&& 31) &&& 1 = 0 ∨ A 300 m ^^^ s_tgt A s = 0 ∨ ¬ (A 300 m ^^^ s_tgt A s) &&& nI set = 0))
def s_suI (set : Nat) (best : Int32) : Int32 := bI (best = -4 ∨ s_countOf (nI set) < s_countOf best)
def s_suS (A : Nat → Nat → Int32) (s set : Nat) (best : Int32) : Int32 := if itr (s_suF A s (s_anyC A) set) (s_suI set best) (cM A) = 0 then best else nI set
def s_su (A : Nat → Nat → Int32) (s : Nat) : Int32 := itr (s_suS A s) (-4) (2 ^ cT A)
def o_sure (A : Nat → Nat → Int32) (s w : Int32) : Int32 := if inN s (cS A) ∧ inN w 2 then (if w = 0 then s_countOf (s_su A s.toNatClampNeg) else s_su A s.toNatClampNeg) else -1
theorem su_0 {A : Nat → Nat → Int32} {s set : Nat} {c a : Int32} {i : Nat} (h : itr (s_suF A s c set) a i = 0) : ∀ n, i ≤ n → itr (s_suF A s c set) a n = 0 := by
  intro n hn
  induction n with
  | zero => rw [show i = 0 by omega] at h; exact h
  | succ n ih =>
    by_cases e : i = n + 1
    · rw [← e]; exact h
    · exact bI_f (fun q => q.1 (ih (by omega)))
theorem sh0 : ∀ k, k ≤ 12 → (1 : Int32) <<< (nI k &&& 31) = nI (2 ^ k) := by decide
section M9
variable {g : ZG} {h : ZH} {S A C : Nat → Nat → Int32} {f : Nat → Int32}
theorem tm_ask (hM : MS h.2.1 h.2.2.2) (hI : AI A) (hA : AE S A) (w : Int32) : Zd g mX5_ask 3 0 0 [.ref 289, .int w] (zW h S) (some (.int (o_ask A w))) (zW h S) := by
  refine zc_of [some (.ref 289), some (.int w), none, none, none, none, none, none, none] rfl (Nat.le_of_ble_eq_true rfl) rfl ?_
  have b1 := hI.c.t8; have b2 := hI.c.m12; have b3 := hI.c.s4; have b4 := hI.c.k6; have b5 := hI.sh24
  refine zt_iload_n (pc := 0) dX5_ask_0 rfl rfl ?_
  refine zt_i2l (pc := 1) dX5_ask_1 rfl ?_
  refine zt_lconst (pc := 2) dX5_ask_2 (v := 0) rfl ?_
  refine zt_ldc2 (pc := 3) dX5_ask_3 q1544 ?_
  refine wt_callS (pc := 6) mX5_in 3 (rc' := 0) (rs' := 0) dX5_ask_6 q1223 ms_X5_in (tm_in w.toInt64 0 2) rfl rfl rfl rfl rfl rfl ?_
  refine zt_if_ne (pc := 9) 14 dX5_ask_9 (by decide) (fun c_9 => ?_) (fun c_9 => ?_)
  · have hn_w_ : inN w 3 := (in_c w 2 (by decide)).mp (bI_ne0 c_9)
    obtain ⟨w_, hl_w_, rfl⟩ := inN_of hn_w_ (by decide)
    refine zt_bipush (pc := 14) dX5_ask_14 (v := (-4)) rfl ?_
    refine zt_istore_n (pc := 16) (L' := [some (.ref 289), some (.int (nI w_)), some (.int (-4)), none, none, none, none, none, none]) dX5_ask_16 rfl (by decide) rfl rfl ?_
    refine zt_iconst (pc := 17) dX5_ask_17 (v := 0) rfl ?_
    refine zt_istore_n (pc := 18) (L' := [some (.ref 289), some (.int (nI w_)), some (.int (-4)), some (.int 0), none, none, none, none, none]) dX5_ask_18 rfl (by decide) rfl rfl ?_
    refine zt_iconst (pc := 19) dX5_ask_19 (v := 0) rfl ?_
    refine zt_istore (pc := 20) (L' := [some (.ref 289), some (.int (nI w_)), some (.int (-4)), some (.int 0), some (.int 0), none, none, none, none]) dX5_ask_20 (by decide) rfl rfl ?_
    by_cases h0 : A 289 33 = 0
    · skip
      refine zt_iload (pc := 22) dX5_ask_22 rfl ?_
      refine zt_aload_n (pc := 24) dX5_ask_24 rfl rfl ?_
      refine wt_getI (pc := 25) 5 5 (v := nI (cS A)) dX5_ask_25 q1277 rfl (ms_o hM) (hA.ce.s hI.c) ?_
      refine zt_geN (a := 0) (b := cS A) (pc := 28) 177 dX5_ask_28 (by decide) (by omega) (by omega) (fun c_28 => ?_) (fun c_28 => ?_)
      · refine zt_iload_n (pc := 177) dX5_ask_177 rfl rfl ?_
        refine zt_bipush (pc := 178) dX5_ask_178 (v := (-4)) rfl ?_
        refine zt_icmp_ne (pc := 180) 188 dX5_ask_180 (by decide) (fun c_180 => absurd rfl c_180) (fun c_180 => ?_)
        refine zt_bipush (pc := 183) dX5_ask_183 (v := (-4)) rfl ?_
        refine zt_goto (pc := 185) 212 dX5_ask_185 (by decide) ?_
        exact zt_ireturn (pc := 212) dX5_ask_212 rfl (⟨congrArg some (congrArg Value.int (by unfold o_ask; rw [if_pos hn_w_, (show s_akP A = (-4, 0) from if_pos h0)]; exact (if_pos c_180).symm)), rfl⟩)
      · refine zt_aload_n (pc := 31) dX5_ask_31 rfl rfl ?_
        refine wt_getI (pc := 32) 5 33 (v := A 289 33) dX5_ask_32 q1305 rfl (ms_o hM) (hA.f 33) ?_
        refine zt_if_eq (pc := 35) 177 dX5_ask_35 (by decide) (fun c_35 => ?_) (fun c_35 => absurd h0 c_35)
        refine zt_iload_n (pc := 177) dX5_ask_177 rfl rfl ?_
        refine zt_bipush (pc := 178) dX5_ask_178 (v := (-4)) rfl ?_
        refine zt_icmp_ne (pc := 180) 188 dX5_ask_180 (by decide) (fun c_180 => absurd rfl c_180) (fun c_180 => ?_)
        refine zt_bipush (pc := 183) dX5_ask_183 (v := (-4)) rfl ?_
        refine zt_goto (pc := 185) 212 dX5_ask_185 (by decide) ?_
        exact zt_ireturn (pc := 212) dX5_ask_212 rfl (⟨congrArg some (congrArg Value.int (by unfold o_ask; rw [if_pos hn_w_, (show s_akP A = (-4, 0) from if_pos h0)]; exact (if_pos c_180).symm)), rfl⟩)
    · skip
      refine zt_for (pc := 22) (fun s => S) (fun s => [some (.ref 289), some (.int (nI w_)), some (.int ((itr (s_akS A) (-4, 0) s).1)), some (.int ((itr (s_akS A) (-4, 0) s).2)), some (.int (nI s)), none, none, none, none]) (cS A) rfl rfl ?_ (fun s hi_s ih_s => ?_)
      · show Zt _ _ _ _ _ _ (zW h S) 22 [some (.ref 289), some (.int (nI w_)), some (.int ((itr (s_akS A) (-4, 0) (cS A)).1)), some (.int ((itr (s_akS A) (-4, 0) (cS A)).2)), some (.int (nI (cS A))), none, none, none, none] []
        refine zt_iload (pc := 22) dX5_ask_22 rfl ?_
        refine zt_aload_n (pc := 24) dX5_ask_24 rfl rfl ?_
        refine wt_getI (pc := 25) 5 5 (v := nI (cS A)) dX5_ask_25 q1277 rfl (ms_o hM) (hA.ce.s hI.c) ?_
        refine zt_geN (a := cS A) (b := cS A) (pc := 28) 177 dX5_ask_28 (by decide) (by omega) (by omega) (fun c_28 => ?_) (fun c_28 => absurd c_28 (Nat.lt_irrefl _))
        refine zt_iload_n (pc := 177) dX5_ask_177 rfl rfl ?_
        refine zt_bipush (pc := 178) dX5_ask_178 (v := (-4)) rfl ?_
        refine zt_icmp_ne (pc := 180) 188 dX5_ask_180 (by decide) (fun c_180 => ?_) (fun c_180 => ?_)
        · refine zt_iload_n (pc := 188) dX5_ask_188 rfl rfl ?_
          refine zt_if_ne (pc := 189) 199 dX5_ask_189 (by decide) (fun c_189 => ?_) (fun c_189 => ?_)
          · refine zt_iload_n (pc := 199) dX5_ask_199 rfl rfl ?_
            refine zt_iconst (pc := 200) dX5_ask_200 (v := 1) rfl ?_
            refine zt_icmp_ne (pc := 201) 211 dX5_ask_201 (by decide) (fun c_201 => ?_) (fun c_201 => ?_)
            · refine zt_iload_n (pc := 211) dX5_ask_211 rfl rfl ?_
              exact zt_ireturn (pc := 212) dX5_ask_212 rfl (⟨congrArg some (congrArg Value.int (by unfold o_ask; rw [if_pos hn_w_, (show s_akP A = itr (s_akS A) (-4, 0) (cS A) from if_neg h0)]; exact ((if_neg c_180).trans ((if_neg c_189).trans (if_neg c_201))).symm)), rfl⟩)
            · refine zt_iload_n (pc := 204) dX5_ask_204 rfl rfl ?_
              refine zt_bipush (pc := 205) dX5_ask_205 (v := 8) rfl ?_
              refine zt_irem (pc := 207) dX5_ask_207 (by decide) ?_
              refine zt_goto (pc := 208) 212 dX5_ask_208 (by decide) ?_
              exact zt_ireturn (pc := 212) dX5_ask_212 rfl (⟨congrArg some (congrArg Value.int (by unfold o_ask; rw [if_pos hn_w_, (show s_akP A = itr (s_akS A) (-4, 0) (cS A) from if_neg h0)]; exact ((if_neg c_180).trans ((if_neg c_189).trans (if_pos c_201))).symm)), rfl⟩)
          · refine zt_iload_n (pc := 192) dX5_ask_192 rfl rfl ?_
            refine zt_bipush (pc := 193) dX5_ask_193 (v := 8) rfl ?_
            refine zt_idiv (pc := 195) dX5_ask_195 (by decide) ?_
            refine zt_goto (pc := 196) 212 dX5_ask_196 (by decide) ?_
            exact zt_ireturn (pc := 212) dX5_ask_212 rfl (⟨congrArg some (congrArg Value.int (by unfold o_ask; rw [if_pos hn_w_, (show s_akP A = itr (s_akS A) (-4, 0) (cS A) from if_neg h0)]; exact ((if_neg c_180).trans (if_pos c_189)).symm)), rfl⟩)
        · refine zt_bipush (pc := 183) dX5_ask_183 (v := (-4)) rfl ?_
          refine zt_goto (pc := 185) 212 dX5_ask_185 (by decide) ?_
          exact zt_ireturn (pc := 212) dX5_ask_212 rfl (⟨congrArg some (congrArg Value.int (by unfold o_ask; rw [if_pos hn_w_, (show s_akP A = itr (s_akS A) (-4, 0) (cS A) from if_neg h0)]; exact (if_pos c_180).symm)), rfl⟩)
      · show Zt _ _ _ _ _ _ (zW h S) 22 [some (.ref 289), some (.int (nI w_)), some (.int ((itr (s_akS A) (-4, 0) s).1)), some (.int ((itr (s_akS A) (-4, 0) s).2)), some (.int (nI s)), none, none, none, none] []
        refine zt_iload (pc := 22) dX5_ask_22 rfl ?_
        refine zt_aload_n (pc := 24) dX5_ask_24 rfl rfl ?_
        refine wt_getI (pc := 25) 5 5 (v := nI (cS A)) dX5_ask_25 q1277 rfl (ms_o hM) (hA.ce.s hI.c) ?_
        refine zt_geN (a := s) (b := cS A) (pc := 28) 177 dX5_ask_28 (by decide) (by omega) (by omega) (fun c_28 => absurd hi_s (Nat.not_lt.mpr c_28)) (fun c_28 => ?_)
        refine zt_aload_n (pc := 31) dX5_ask_31 rfl rfl ?_
        refine wt_getI (pc := 32) 5 33 (v := A 289 33) dX5_ask_32 q1305 rfl (ms_o hM) (hA.f 33) ?_
        refine zt_if_eq (pc := 35) 177 dX5_ask_35 (by decide) (fun c_35 => absurd c_35 h0) (fun c_35 => ?_)
        refine zt_iconst (pc := 38) dX5_ask_38 (v := 0) rfl ?_
        refine zt_istore (pc := 39) (L' := [some (.ref 289), some (.int (nI w_)), some (.int ((itr (s_akS A) (-4, 0) s).1)), some (.int ((itr (s_akS A) (-4, 0) s).2)), some (.int (nI s)), some (.int 0), none, none, none]) dX5_ask_39 (by decide) rfl rfl ?_
        refine zt_for (pc := 41) (fun t => S) (fun t => [some (.ref 289), some (.int (nI w_)), some (.int ((itr (s_akF A s) (itr (s_akS A) (-4, 0) s) t).1)), some (.int ((itr (s_akF A s) (itr (s_akS A) (-4, 0) s) t).2)), some (.int (nI s)), some (.int (nI t)), none, none, none]) (cT A) rfl rfl ?_ (fun t hi_t ih_t => ?_)
        · show Zt _ _ _ _ _ _ (zW h S) 41 [some (.ref 289), some (.int (nI w_)), some (.int ((itr (s_akF A s) (itr (s_akS A) (-4, 0) s) (cT A)).1)), some (.int ((itr (s_akF A s) (itr (s_akS A) (-4, 0) s) (cT A)).2)), some (.int (nI s)), some (.int (nI (cT A))), none, none, none] []
          refine zt_iload (pc := 41) dX5_ask_41 rfl ?_
          refine zt_aload_n (pc := 43) dX5_ask_43 rfl rfl ?_
          refine wt_getI (pc := 44) 5 0 (v := nI (cT A)) dX5_ask_44 q1272 rfl (ms_o hM) (hA.ce.t hI.c) ?_
          refine zt_geN (a := cT A) (b := cT A) (pc := 47) 171 dX5_ask_47 (by decide) (by omega) (by omega) (fun c_47 => ?_) (fun c_47 => absurd c_47 (Nat.lt_irrefl _))
          refine zt_iincN (pc := 171) (b := s + 1) (L' := [some (.ref 289), some (.int (nI w_)), some (.int ((itr (s_akF A s) (itr (s_akS A) (-4, 0) s) (cT A)).1)), some (.int ((itr (s_akF A s) (itr (s_akS A) (-4, 0) s) (cT A)).2)), some (.int (nI (s + 1))), some (.int (nI (cT A))), none, none, none]) dX5_ask_171 rfl (zinc1 s) (by decide) rfl rfl ?_
          refine zt_goto (pc := 174) 22 dX5_ask_174 (by decide) ?_
          refine zt_drop (L' := [some (.ref 289), some (.int (nI w_)), some (.int ((itr (s_akF A s) (itr (s_akS A) (-4, 0) s) (cT A)).1)), some (.int ((itr (s_akF A s) (itr (s_akS A) (-4, 0) s) (cT A)).2)), some (.int (nI (s + 1))), none, none, none, none]) 5 rfl ?_
          exact ih_s
        · show Zt _ _ _ _ _ _ (zW h S) 41 [some (.ref 289), some (.int (nI w_)), some (.int ((itr (s_akF A s) (itr (s_akS A) (-4, 0) s) t).1)), some (.int ((itr (s_akF A s) (itr (s_akS A) (-4, 0) s) t).2)), some (.int (nI s)), some (.int (nI t)), none, none, none] []
          refine zt_iload (pc := 41) dX5_ask_41 rfl ?_
          refine zt_aload_n (pc := 43) dX5_ask_43 rfl rfl ?_
          refine wt_getI (pc := 44) 5 0 (v := nI (cT A)) dX5_ask_44 q1272 rfl (ms_o hM) (hA.ce.t hI.c) ?_
          refine zt_geN (a := t) (b := cT A) (pc := 47) 171 dX5_ask_47 (by decide) (by omega) (by omega) (fun c_47 => absurd hi_t (Nat.not_lt.mpr c_47)) (fun c_47 => ?_)
          refine zt_iconst (pc := 50) dX5_ask_50 (v := 0) rfl ?_
          refine zt_istore (pc := 51) (L' := [some (.ref 289), some (.int (nI w_)), some (.int ((itr (s_akF A s) (itr (s_akS A) (-4, 0) s) t).1)), some (.int ((itr (s_akF A s) (itr (s_akS A) (-4, 0) s) t).2)), some (.int (nI s)), some (.int (nI t)), some (.int 0), none, none]) dX5_ask_51 (by decide) rfl rfl ?_
          refine zt_iconst (pc := 53) dX5_ask_53 (v := 0) rfl ?_
          refine zt_istore (pc := 54) (L' := [some (.ref 289), some (.int (nI w_)), some (.int ((itr (s_akF A s) (itr (s_akS A) (-4, 0) s) t).1)), some (.int ((itr (s_akF A s) (itr (s_akS A) (-4, 0) s) t).2)), some (.int (nI s)), some (.int (nI t)), some (.int 0), some (.int 0), none]) dX5_ask_54 (by decide) rfl rfl ?_
          refine zt_for (pc := 56) (fun a => S) (fun a => [some (.ref 289), some (.int (nI w_)), some (.int ((itr (s_akF A s) (itr (s_akS A) (-4, 0) s) t).1)), some (.int ((itr (s_akF A s) (itr (s_akS A) (-4, 0) s) t).2)), some (.int (nI s)), some (.int (nI t)), some (.int (itr (s_mstF A s t) 0 a)), some (.int (nI a)), none]) 3 rfl rfl ?_ (fun a hi_a ih_a => ?_)
          · show Zt _ _ _ _ _ _ (zW h S) 56 [some (.ref 289), some (.int (nI w_)), some (.int ((itr (s_akF A s) (itr (s_akS A) (-4, 0) s) t).1)), some (.int ((itr (s_akF A s) (itr (s_akS A) (-4, 0) s) t).2)), some (.int (nI s)), some (.int (nI t)), some (.int (itr (s_mstF A s t) 0 3)), some (.int (nI 3)), none] []
            refine zt_iload (pc := 56) dX5_ask_56 rfl ?_
            refine zt_iconst (pc := 58) dX5_ask_58 (v := 3) rfl ?_
            refine zt_geN (a := 3) (b := 3) (pc := 59) 116 dX5_ask_59 (by decide) (by omega) (by omega) (fun c_59 => ?_) (fun c_59 => absurd c_59 (Nat.lt_irrefl _))
            refine zt_iload_n (pc := 116) dX5_ask_116 rfl rfl ?_
            refine zt_bipush (pc := 117) dX5_ask_117 (v := (-4)) rfl ?_
            refine zt_icmp_eq (pc := 119) 128 dX5_ask_119 (by decide) (fun c_119 => ?_) (fun c_119 => ?_)
            · refine zt_iconst (pc := 128) dX5_ask_128 (v := 1) rfl ?_
              refine zt_goto (pc := 129) 133 dX5_ask_129 (by decide) ?_
              refine zt_istore (pc := 133) (L' := [some (.ref 289), some (.int (nI w_)), some (.int ((itr (s_akF A s) (itr (s_akS A) (-4, 0) s) t).1)), some (.int ((itr (s_akF A s) (itr (s_akS A) (-4, 0) s) t).2)), some (.int (nI s)), some (.int (nI t)), some (.int (s_mst A s t)), some (.int 1), none]) dX5_ask_133 (by decide) rfl rfl ?_
              refine zt_iload (pc := 135) dX5_ask_135 rfl ?_
              refine zt_if_eq (pc := 137) 151 dX5_ask_137 (by decide) (fun c_137 => absurd c_137 (by decide)) (fun c_137 => ?_)
              refine zt_bipush (pc := 140) dX5_ask_140 (v := 8) rfl ?_
              refine zt_iload (pc := 142) dX5_ask_142 rfl ?_
              refine zt_imulN (pc := 144) (a := 8) (b := s) dX5_ask_144 ?_
              refine zt_iload (pc := 145) dX5_ask_145 rfl ?_
              refine zt_iaddN (pc := 147) (a := 8 * s) (b := t) dX5_ask_147 ?_
              refine zt_goto (pc := 148) 152 dX5_ask_148 (by decide) ?_
              refine zt_top (pc := 152) ((itr (s_akF A s) (itr (s_akS A) (-4, 0) s) (t + 1)).1) ((congrArg Prod.fst (show s_akF A s t (itr (s_akF A s) (itr (s_akS A) (-4, 0) s) t) = (nI (8 * s + t), s_mst A s t) from if_pos (Or.inl c_119))).symm) ?_
              refine zt_istore_n (pc := 152) (L' := [some (.ref 289), some (.int (nI w_)), some (.int ((itr (s_akF A s) (itr (s_akS A) (-4, 0) s) (t + 1)).1)), some (.int ((itr (s_akF A s) (itr (s_akS A) (-4, 0) s) t).2)), some (.int (nI s)), some (.int (nI t)), some (.int (s_mst A s t)), some (.int 1), none]) dX5_ask_152 rfl (by decide) rfl rfl ?_
              refine zt_iload (pc := 153) dX5_ask_153 rfl ?_
              refine zt_if_eq (pc := 155) 163 dX5_ask_155 (by decide) (fun c_155 => absurd c_155 (by decide)) (fun c_155 => ?_)
              refine zt_iload (pc := 158) dX5_ask_158 rfl ?_
              refine zt_goto (pc := 160) 164 dX5_ask_160 (by decide) ?_
              refine zt_top (pc := 164) ((itr (s_akF A s) (itr (s_akS A) (-4, 0) s) (t + 1)).2) ((congrArg Prod.snd (show s_akF A s t (itr (s_akF A s) (itr (s_akS A) (-4, 0) s) t) = (nI (8 * s + t), s_mst A s t) from if_pos (Or.inl c_119))).symm) ?_
              refine zt_istore_n (pc := 164) (L' := [some (.ref 289), some (.int (nI w_)), some (.int ((itr (s_akF A s) (itr (s_akS A) (-4, 0) s) (t + 1)).1)), some (.int ((itr (s_akF A s) (itr (s_akS A) (-4, 0) s) (t + 1)).2)), some (.int (nI s)), some (.int (nI t)), some (.int (s_mst A s t)), some (.int 1), none]) dX5_ask_164 rfl (by decide) rfl rfl ?_
              refine zt_iincN (pc := 165) (b := t + 1) (L' := [some (.ref 289), some (.int (nI w_)), some (.int ((itr (s_akF A s) (itr (s_akS A) (-4, 0) s) (t + 1)).1)), some (.int ((itr (s_akF A s) (itr (s_akS A) (-4, 0) s) (t + 1)).2)), some (.int (nI s)), some (.int (nI (t + 1))), some (.int (s_mst A s t)), some (.int 1), none]) dX5_ask_165 rfl (zinc1 t) (by decide) rfl rfl ?_
              refine zt_goto (pc := 168) 41 dX5_ask_168 (by decide) ?_
              refine zt_drop (L' := [some (.ref 289), some (.int (nI w_)), some (.int ((itr (s_akF A s) (itr (s_akS A) (-4, 0) s) (t + 1)).1)), some (.int ((itr (s_akF A s) (itr (s_akS A) (-4, 0) s) (t + 1)).2)), some (.int (nI s)), some (.int (nI (t + 1))), none, some (.int 1), none]) 6 rfl ?_
              refine zt_drop (L' := [some (.ref 289), some (.int (nI w_)), some (.int ((itr (s_akF A s) (itr (s_akS A) (-4, 0) s) (t + 1)).1)), some (.int ((itr (s_akF A s) (itr (s_akS A) (-4, 0) s) (t + 1)).2)), some (.int (nI s)), some (.int (nI (t + 1))), none, none, none]) 7 rfl ?_
              exact ih_t
            · refine zt_iload (pc := 122) dX5_ask_122 rfl ?_
              refine zt_iload_n (pc := 124) dX5_ask_124 rfl rfl ?_
              refine zt_icmp_ge (pc := 125) 132 dX5_ask_125 (by decide) (fun c_125 => ?_) (fun c_125 => ?_)
              · refine zt_iconst (pc := 132) dX5_ask_132 (v := 0) rfl ?_
                refine zt_istore (pc := 133) (L' := [some (.ref 289), some (.int (nI w_)), some (.int ((itr (s_akF A s) (itr (s_akS A) (-4, 0) s) t).1)), some (.int ((itr (s_akF A s) (itr (s_akS A) (-4, 0) s) t).2)), some (.int (nI s)), some (.int (nI t)), some (.int (s_mst A s t)), some (.int 0), none]) dX5_ask_133 (by decide) rfl rfl ?_
                refine zt_iload (pc := 135) dX5_ask_135 rfl ?_
                refine zt_if_eq (pc := 137) 151 dX5_ask_137 (by decide) (fun c_137 => ?_) (fun c_137 => absurd (by decide) c_137)
                refine zt_iload_n (pc := 151) dX5_ask_151 rfl rfl ?_
                refine zt_top (pc := 152) ((itr (s_akF A s) (itr (s_akS A) (-4, 0) s) (t + 1)).1) ((congrArg Prod.fst (show s_akF A s t (itr (s_akF A s) (itr (s_akS A) (-4, 0) s) t) = itr (s_akF A s) (itr (s_akS A) (-4, 0) s) t from if_neg (fun q => q.elim c_119 (fun z => absurd c_125 (Int32.not_le.mpr z))))).symm) ?_
                refine zt_istore_n (pc := 152) (L' := [some (.ref 289), some (.int (nI w_)), some (.int ((itr (s_akF A s) (itr (s_akS A) (-4, 0) s) (t + 1)).1)), some (.int ((itr (s_akF A s) (itr (s_akS A) (-4, 0) s) t).2)), some (.int (nI s)), some (.int (nI t)), some (.int (s_mst A s t)), some (.int 0), none]) dX5_ask_152 rfl (by decide) rfl rfl ?_
                refine zt_iload (pc := 153) dX5_ask_153 rfl ?_
                refine zt_if_eq (pc := 155) 163 dX5_ask_155 (by decide) (fun c_155 => ?_) (fun c_155 => absurd (by decide) c_155)
                refine zt_iload_n (pc := 163) dX5_ask_163 rfl rfl ?_
                refine zt_top (pc := 164) ((itr (s_akF A s) (itr (s_akS A) (-4, 0) s) (t + 1)).2) ((congrArg Prod.snd (show s_akF A s t (itr (s_akF A s) (itr (s_akS A) (-4, 0) s) t) = itr (s_akF A s) (itr (s_akS A) (-4, 0) s) t from if_neg (fun q => q.elim c_119 (fun z => absurd c_125 (Int32.not_le.mpr z))))).symm) ?_
                refine zt_istore_n (pc := 164) (L' := [some (.ref 289), some (.int (nI w_)), some (.int ((itr (s_akF A s) (itr (s_akS A) (-4, 0) s) (t + 1)).1)), some (.int ((itr (s_akF A s) (itr (s_akS A) (-4, 0) s) (t + 1)).2)), some (.int (nI s)), some (.int (nI t)), some (.int (s_mst A s t)), some (.int 0), none]) dX5_ask_164 rfl (by decide) rfl rfl ?_
                refine zt_iincN (pc := 165) (b := t + 1) (L' := [some (.ref 289), some (.int (nI w_)), some (.int ((itr (s_akF A s) (itr (s_akS A) (-4, 0) s) (t + 1)).1)), some (.int ((itr (s_akF A s) (itr (s_akS A) (-4, 0) s) (t + 1)).2)), some (.int (nI s)), some (.int (nI (t + 1))), some (.int (s_mst A s t)), some (.int 0), none]) dX5_ask_165 rfl (zinc1 t) (by decide) rfl rfl ?_
                refine zt_goto (pc := 168) 41 dX5_ask_168 (by decide) ?_
                refine zt_drop (L' := [some (.ref 289), some (.int (nI w_)), some (.int ((itr (s_akF A s) (itr (s_akS A) (-4, 0) s) (t + 1)).1)), some (.int ((itr (s_akF A s) (itr (s_akS A) (-4, 0) s) (t + 1)).2)), some (.int (nI s)), some (.int (nI (t + 1))), none, some (.int 0), none]) 6 rfl ?_
                refine zt_drop (L' := [some (.ref 289), some (.int (nI w_)), some (.int ((itr (s_akF A s) (itr (s_akS A) (-4, 0) s) (t + 1)).1)), some (.int ((itr (s_akF A s) (itr (s_akS A) (-4, 0) s) (t + 1)).2)), some (.int (nI s)), some (.int (nI (t + 1))), none, none, none]) 7 rfl ?_
                exact ih_t
              · refine zt_iconst (pc := 128) dX5_ask_128 (v := 1) rfl ?_
                refine zt_goto (pc := 129) 133 dX5_ask_129 (by decide) ?_
                refine zt_istore (pc := 133) (L' := [some (.ref 289), some (.int (nI w_)), some (.int ((itr (s_akF A s) (itr (s_akS A) (-4, 0) s) t).1)), some (.int ((itr (s_akF A s) (itr (s_akS A) (-4, 0) s) t).2)), some (.int (nI s)), some (.int (nI t)), some (.int (s_mst A s t)), some (.int 1), none]) dX5_ask_133 (by decide) rfl rfl ?_
                refine zt_iload (pc := 135) dX5_ask_135 rfl ?_
                refine zt_if_eq (pc := 137) 151 dX5_ask_137 (by decide) (fun c_137 => absurd c_137 (by decide)) (fun c_137 => ?_)
                refine zt_bipush (pc := 140) dX5_ask_140 (v := 8) rfl ?_
                refine zt_iload (pc := 142) dX5_ask_142 rfl ?_
                refine zt_imulN (pc := 144) (a := 8) (b := s) dX5_ask_144 ?_
                refine zt_iload (pc := 145) dX5_ask_145 rfl ?_
                refine zt_iaddN (pc := 147) (a := 8 * s) (b := t) dX5_ask_147 ?_
                refine zt_goto (pc := 148) 152 dX5_ask_148 (by decide) ?_
                refine zt_top (pc := 152) ((itr (s_akF A s) (itr (s_akS A) (-4, 0) s) (t + 1)).1) ((congrArg Prod.fst (show s_akF A s t (itr (s_akF A s) (itr (s_akS A) (-4, 0) s) t) = (nI (8 * s + t), s_mst A s t) from if_pos (Or.inr (Int32.not_le.mp c_125)))).symm) ?_
                refine zt_istore_n (pc := 152) (L' := [some (.ref 289), some (.int (nI w_)), some (.int ((itr (s_akF A s) (itr (s_akS A) (-4, 0) s) (t + 1)).1)), some (.int ((itr (s_akF A s) (itr (s_akS A) (-4, 0) s) t).2)), some (.int (nI s)), some (.int (nI t)), some (.int (s_mst A s t)), some (.int 1), none]) dX5_ask_152 rfl (by decide) rfl rfl ?_
                refine zt_iload (pc := 153) dX5_ask_153 rfl ?_
                refine zt_if_eq (pc := 155) 163 dX5_ask_155 (by decide) (fun c_155 => absurd c_155 (by decide)) (fun c_155 => ?_)
                refine zt_iload (pc := 158) dX5_ask_158 rfl ?_
                refine zt_goto (pc := 160) 164 dX5_ask_160 (by decide) ?_
                refine zt_top (pc := 164) ((itr (s_akF A s) (itr (s_akS A) (-4, 0) s) (t + 1)).2) ((congrArg Prod.snd (show s_akF A s t (itr (s_akF A s) (itr (s_akS A) (-4, 0) s) t) = (nI (8 * s + t), s_mst A s t) from if_pos (Or.inr (Int32.not_le.mp c_125)))).symm) ?_
                refine zt_istore_n (pc := 164) (L' := [some (.ref 289), some (.int (nI w_)), some (.int ((itr (s_akF A s) (itr (s_akS A) (-4, 0) s) (t + 1)).1)), some (.int ((itr (s_akF A s) (itr (s_akS A) (-4, 0) s) (t + 1)).2)), some (.int (nI s)), some (.int (nI t)), some (.int (s_mst A s t)), some (.int 1), none]) dX5_ask_164 rfl (by decide) rfl rfl ?_
                refine zt_iincN (pc := 165) (b := t + 1) (L' := [some (.ref 289), some (.int (nI w_)), some (.int ((itr (s_akF A s) (itr (s_akS A) (-4, 0) s) (t + 1)).1)), some (.int ((itr (s_akF A s) (itr (s_akS A) (-4, 0) s) (t + 1)).2)), some (.int (nI s)), some (.int (nI (t + 1))), some (.int (s_mst A s t)), some (.int 1), none]) dX5_ask_165 rfl (zinc1 t) (by decide) rfl rfl ?_
                refine zt_goto (pc := 168) 41 dX5_ask_168 (by decide) ?_
                refine zt_drop (L' := [some (.ref 289), some (.int (nI w_)), some (.int ((itr (s_akF A s) (itr (s_akS A) (-4, 0) s) (t + 1)).1)), some (.int ((itr (s_akF A s) (itr (s_akS A) (-4, 0) s) (t + 1)).2)), some (.int (nI s)), some (.int (nI (t + 1))), none, some (.int 1), none]) 6 rfl ?_
                refine zt_drop (L' := [some (.ref 289), some (.int (nI w_)), some (.int ((itr (s_akF A s) (itr (s_akS A) (-4, 0) s) (t + 1)).1)), some (.int ((itr (s_akF A s) (itr (s_akS A) (-4, 0) s) (t + 1)).2)), some (.int (nI s)), some (.int (nI (t + 1))), none, none, none]) 7 rfl ?_
                exact ih_t
          · show Zt _ _ _ _ _ _ (zW h S) 56 [some (.ref 289), some (.int (nI w_)), some (.int ((itr (s_akF A s) (itr (s_akS A) (-4, 0) s) t).1)), some (.int ((itr (s_akF A s) (itr (s_akS A) (-4, 0) s) t).2)), some (.int (nI s)), some (.int (nI t)), some (.int (itr (s_mstF A s t) 0 a)), some (.int (nI a)), none] []
            refine zt_iload (pc := 56) dX5_ask_56 rfl ?_
            refine zt_iconst (pc := 58) dX5_ask_58 (v := 3) rfl ?_
            refine zt_geN (a := a) (b := 3) (pc := 59) 116 dX5_ask_59 (by decide) (by omega) (by omega) (fun c_59 => absurd hi_a (Nat.not_lt.mpr c_59)) (fun c_59 => ?_)
            refine zt_aload_n (pc := 62) dX5_ask_62 rfl rfl ?_
            refine zt_aload_n (pc := 63) dX5_ask_63 rfl rfl ?_
            refine wt_getI (pc := 64) 5 33 (v := A 289 33) dX5_ask_64 q1305 rfl (ms_o hM) (hA.f 33) ?_
            refine zt_aload_n (pc := 67) dX5_ask_67 rfl rfl ?_
            refine zt_iload (pc := 68) dX5_ask_68 rfl ?_
            refine zt_iload (pc := 70) dX5_ask_70 rfl ?_
            refine zt_iload (pc := 72) dX5_ask_72 rfl ?_
            refine zt_iconst (pc := 74) dX5_ask_74 (v := 2) rfl ?_
            refine zt_icmp_ne (pc := 75) 83 dX5_ask_75 (by decide) (fun c_75 => ?_) (fun c_75 => ?_)
            · refine zt_iload (pc := 83) dX5_ask_83 rfl ?_
              refine zt_top (pc := 85) (if nI a = 2 then -4 else nI a) ((if_neg c_75).symm) ?_
              refine wt_callV (pc := 85) mX5_whoSay 3 5 (rc' := 0) (rs' := 0) dX5_ask_85 q1656 mi_X5_whoSay rfl rfl (ms_o hM) (by have e0 := tm_whoSay (g := g) (f := A 302) hM hI.c hA.ce s (by omega) (nI t) (if nI a = 2 then -4 else nI a) hI.k0; rw [← zs_eq (hA 302 (by decide) (by decide))] at e0; exact e0) rfl rfl rfl rfl rfl rfl ?_
              refine zt_iand (pc := 88) dX5_ask_88 ?_
              refine wt_callV (pc := 89) mX5_chanceOf 1 5 (rc' := 0) (rs' := 0) dX5_ask_89 q1629 mi_X5_chanceOf rfl rfl (ms_o hM) (tm_chanceOf hM hI.c hA.ce ((A 289 33) &&& (s_say A (A 302) s (nI t) (if nI a = 2 then -4 else nI a)))) rfl rfl rfl rfl rfl rfl ?_
              refine zt_istore (pc := 92) (L' := [some (.ref 289), some (.int (nI w_)), some (.int ((itr (s_akF A s) (itr (s_akS A) (-4, 0) s) t).1)), some (.int ((itr (s_akF A s) (itr (s_akS A) (-4, 0) s) t).2)), some (.int (nI s)), some (.int (nI t)), some (.int (itr (s_mstF A s t) 0 a)), some (.int (nI a)), some (.int (s_ch A ((A 289 33) &&& (s_say A (A 302) s (nI t) (if nI a = 2 then -4 else nI a)))))]) dX5_ask_92 (by decide) rfl rfl ?_
              refine zt_iload (pc := 94) dX5_ask_94 rfl ?_
              refine zt_iload (pc := 96) dX5_ask_96 rfl ?_
              refine zt_icmp_le (pc := 98) 106 dX5_ask_98 (by decide) (fun c_98 => ?_) (fun c_98 => ?_)
              · refine zt_iload (pc := 106) dX5_ask_106 rfl ?_
                refine zt_top (pc := 108) (itr (s_mstF A s t) 0 (a + 1)) (show _ = s_mstF A s t a _ from (if_pos c_98).symm) ?_
                refine zt_istore (pc := 108) (L' := [some (.ref 289), some (.int (nI w_)), some (.int ((itr (s_akF A s) (itr (s_akS A) (-4, 0) s) t).1)), some (.int ((itr (s_akF A s) (itr (s_akS A) (-4, 0) s) t).2)), some (.int (nI s)), some (.int (nI t)), some (.int (itr (s_mstF A s t) 0 (a + 1))), some (.int (nI a)), some (.int (s_ch A ((A 289 33) &&& (s_say A (A 302) s (nI t) (if nI a = 2 then -4 else nI a)))))]) dX5_ask_108 (by decide) rfl rfl ?_
                refine zt_iincN (pc := 110) (b := a + 1) (L' := [some (.ref 289), some (.int (nI w_)), some (.int ((itr (s_akF A s) (itr (s_akS A) (-4, 0) s) t).1)), some (.int ((itr (s_akF A s) (itr (s_akS A) (-4, 0) s) t).2)), some (.int (nI s)), some (.int (nI t)), some (.int (itr (s_mstF A s t) 0 (a + 1))), some (.int (nI (a + 1))), some (.int (s_ch A ((A 289 33) &&& (s_say A (A 302) s (nI t) (if nI a = 2 then -4 else nI a)))))]) dX5_ask_110 rfl (zinc1 a) (by decide) rfl rfl ?_
                refine zt_goto (pc := 113) 56 dX5_ask_113 (by decide) ?_
                refine zt_drop (L' := [some (.ref 289), some (.int (nI w_)), some (.int ((itr (s_akF A s) (itr (s_akS A) (-4, 0) s) t).1)), some (.int ((itr (s_akF A s) (itr (s_akS A) (-4, 0) s) t).2)), some (.int (nI s)), some (.int (nI t)), some (.int (itr (s_mstF A s t) 0 (a + 1))), some (.int (nI (a + 1))), none]) 8 rfl ?_
                exact ih_a
              · refine zt_iload (pc := 101) dX5_ask_101 rfl ?_
                refine zt_goto (pc := 103) 108 dX5_ask_103 (by decide) ?_
                refine zt_top (pc := 108) (itr (s_mstF A s t) 0 (a + 1)) (show _ = s_mstF A s t a _ from (if_neg c_98).symm) ?_
                refine zt_istore (pc := 108) (L' := [some (.ref 289), some (.int (nI w_)), some (.int ((itr (s_akF A s) (itr (s_akS A) (-4, 0) s) t).1)), some (.int ((itr (s_akF A s) (itr (s_akS A) (-4, 0) s) t).2)), some (.int (nI s)), some (.int (nI t)), some (.int (itr (s_mstF A s t) 0 (a + 1))), some (.int (nI a)), some (.int (s_ch A ((A 289 33) &&& (s_say A (A 302) s (nI t) (if nI a = 2 then -4 else nI a)))))]) dX5_ask_108 (by decide) rfl rfl ?_
                refine zt_iincN (pc := 110) (b := a + 1) (L' := [some (.ref 289), some (.int (nI w_)), some (.int ((itr (s_akF A s) (itr (s_akS A) (-4, 0) s) t).1)), some (.int ((itr (s_akF A s) (itr (s_akS A) (-4, 0) s) t).2)), some (.int (nI s)), some (.int (nI t)), some (.int (itr (s_mstF A s t) 0 (a + 1))), some (.int (nI (a + 1))), some (.int (s_ch A ((A 289 33) &&& (s_say A (A 302) s (nI t) (if nI a = 2 then -4 else nI a)))))]) dX5_ask_110 rfl (zinc1 a) (by decide) rfl rfl ?_
                refine zt_goto (pc := 113) 56 dX5_ask_113 (by decide) ?_
                refine zt_drop (L' := [some (.ref 289), some (.int (nI w_)), some (.int ((itr (s_akF A s) (itr (s_akS A) (-4, 0) s) t).1)), some (.int ((itr (s_akF A s) (itr (s_akS A) (-4, 0) s) t).2)), some (.int (nI s)), some (.int (nI t)), some (.int (itr (s_mstF A s t) 0 (a + 1))), some (.int (nI (a + 1))), none]) 8 rfl ?_
                exact ih_a
            · refine zt_bipush (pc := 78) dX5_ask_78 (v := (-4)) rfl ?_
              refine zt_goto (pc := 80) 85 dX5_ask_80 (by decide) ?_
              refine zt_top (pc := 85) (if nI a = 2 then -4 else nI a) ((if_pos c_75).symm) ?_
              refine wt_callV (pc := 85) mX5_whoSay 3 5 (rc' := 0) (rs' := 0) dX5_ask_85 q1656 mi_X5_whoSay rfl rfl (ms_o hM) (by have e0 := tm_whoSay (g := g) (f := A 302) hM hI.c hA.ce s (by omega) (nI t) (if nI a = 2 then -4 else nI a) hI.k0; rw [← zs_eq (hA 302 (by decide) (by decide))] at e0; exact e0) rfl rfl rfl rfl rfl rfl ?_
              refine zt_iand (pc := 88) dX5_ask_88 ?_
              refine wt_callV (pc := 89) mX5_chanceOf 1 5 (rc' := 0) (rs' := 0) dX5_ask_89 q1629 mi_X5_chanceOf rfl rfl (ms_o hM) (tm_chanceOf hM hI.c hA.ce ((A 289 33) &&& (s_say A (A 302) s (nI t) (if nI a = 2 then -4 else nI a)))) rfl rfl rfl rfl rfl rfl ?_
              refine zt_istore (pc := 92) (L' := [some (.ref 289), some (.int (nI w_)), some (.int ((itr (s_akF A s) (itr (s_akS A) (-4, 0) s) t).1)), some (.int ((itr (s_akF A s) (itr (s_akS A) (-4, 0) s) t).2)), some (.int (nI s)), some (.int (nI t)), some (.int (itr (s_mstF A s t) 0 a)), some (.int (nI a)), some (.int (s_ch A ((A 289 33) &&& (s_say A (A 302) s (nI t) (if nI a = 2 then -4 else nI a)))))]) dX5_ask_92 (by decide) rfl rfl ?_
              refine zt_iload (pc := 94) dX5_ask_94 rfl ?_
              refine zt_iload (pc := 96) dX5_ask_96 rfl ?_
              refine zt_icmp_le (pc := 98) 106 dX5_ask_98 (by decide) (fun c_98 => ?_) (fun c_98 => ?_)
              · refine zt_iload (pc := 106) dX5_ask_106 rfl ?_
                refine zt_top (pc := 108) (itr (s_mstF A s t) 0 (a + 1)) (show _ = s_mstF A s t a _ from (if_pos c_98).symm) ?_
                refine zt_istore (pc := 108) (L' := [some (.ref 289), some (.int (nI w_)), some (.int ((itr (s_akF A s) (itr (s_akS A) (-4, 0) s) t).1)), some (.int ((itr (s_akF A s) (itr (s_akS A) (-4, 0) s) t).2)), some (.int (nI s)), some (.int (nI t)), some (.int (itr (s_mstF A s t) 0 (a + 1))), some (.int (nI a)), some (.int (s_ch A ((A 289 33) &&& (s_say A (A 302) s (nI t) (if nI a = 2 then -4 else nI a)))))]) dX5_ask_108 (by decide) rfl rfl ?_
                refine zt_iincN (pc := 110) (b := a + 1) (L' := [some (.ref 289), some (.int (nI w_)), some (.int ((itr (s_akF A s) (itr (s_akS A) (-4, 0) s) t).1)), some (.int ((itr (s_akF A s) (itr (s_akS A) (-4, 0) s) t).2)), some (.int (nI s)), some (.int (nI t)), some (.int (itr (s_mstF A s t) 0 (a + 1))), some (.int (nI (a + 1))), some (.int (s_ch A ((A 289 33) &&& (s_say A (A 302) s (nI t) (if nI a = 2 then -4 else nI a)))))]) dX5_ask_110 rfl (zinc1 a) (by decide) rfl rfl ?_
                refine zt_goto (pc := 113) 56 dX5_ask_113 (by decide) ?_
                refine zt_drop (L' := [some (.ref 289), some (.int (nI w_)), some (.int ((itr (s_akF A s) (itr (s_akS A) (-4, 0) s) t).1)), some (.int ((itr (s_akF A s) (itr (s_akS A) (-4, 0) s) t).2)), some (.int (nI s)), some (.int (nI t)), some (.int (itr (s_mstF A s t) 0 (a + 1))), some (.int (nI (a + 1))), none]) 8 rfl ?_
                exact ih_a
              · refine zt_iload (pc := 101) dX5_ask_101 rfl ?_
                refine zt_goto (pc := 103) 108 dX5_ask_103 (by decide) ?_
                refine zt_top (pc := 108) (itr (s_mstF A s t) 0 (a + 1)) (show _ = s_mstF A s t a _ from (if_neg c_98).symm) ?_
                refine zt_istore (pc := 108) (L' := [some (.ref 289), some (.int (nI w_)), some (.int ((itr (s_akF A s) (itr (s_akS A) (-4, 0) s) t).1)), some (.int ((itr (s_akF A s) (itr (s_akS A) (-4, 0) s) t).2)), some (.int (nI s)), some (.int (nI t)), some (.int (itr (s_mstF A s t) 0 (a + 1))), some (.int (nI a)), some (.int (s_ch A ((A 289 33) &&& (s_say A (A 302) s (nI t) (if nI a = 2 then -4 else nI a)))))]) dX5_ask_108 (by decide) rfl rfl ?_
                refine zt_iincN (pc := 110) (b := a + 1) (L' := [some (.ref 289), some (.int (nI w_)), some (.int ((itr (s_akF A s) (itr (s_akS A) (-4, 0) s) t).1)), some (.int ((itr (s_akF A s) (itr (s_akS A) (-4, 0) s) t).2)), some (.int (nI s)), some (.int (nI t)), some (.int (itr (s_mstF A s t) 0 (a + 1))), some (.int (nI (a + 1))), some (.int (s_ch A ((A 289 33) &&& (s_say A (A 302) s (nI t) (if nI a = 2 then -4 else nI a)))))]) dX5_ask_110 rfl (zinc1 a) (by decide) rfl rfl ?_
                refine zt_goto (pc := 113) 56 dX5_ask_113 (by decide) ?_
                refine zt_drop (L' := [some (.ref 289), some (.int (nI w_)), some (.int ((itr (s_akF A s) (itr (s_akS A) (-4, 0) s) t).1)), some (.int ((itr (s_akF A s) (itr (s_akS A) (-4, 0) s) t).2)), some (.int (nI s)), some (.int (nI t)), some (.int (itr (s_mstF A s t) 0 (a + 1))), some (.int (nI (a + 1))), none]) 8 rfl ?_
                exact ih_a
  · refine zt_iconst (pc := 12) dX5_ask_12 (v := (-1)) rfl ?_
    exact zt_ireturn (pc := 13) dX5_ask_13 rfl (⟨congrArg some (congrArg Value.int ((if_neg (fun q => bI_eq0.mp c_9 ((in_c w 2 (by decide)).mpr q))).symm)), rfl⟩)

theorem tm_sure (hM : MS h.2.1 h.2.2.2) (hI : AI A) (hA : AE S A) (s w : Int32) : Zd g mX5_sure 3 0 0 [.ref 289, .int s, .int w] (zW h S) (some (.int (o_sure A s w))) (zW h S) := by
  refine zc_of [some (.ref 289), some (.int s), some (.int w), none, none, none, none, none, none] rfl (Nat.le_of_ble_eq_true rfl) rfl ?_
  have b1 := hI.c.t8; have b2 := hI.c.m12; have b3 := hI.c.s4; have b4 := hI.c.k6; have b5 := hI.sh24; have p8 : 2 ^ cT A ≤ 2 ^ 8 := Nat.pow_le_pow_right (by decide) b1; have p9 : (2 : Nat) ^ 8 = 256 := rfl
  refine zt_aload_n (pc := 0) dX5_sure_0 rfl rfl ?_
  refine zt_iload_n (pc := 1) dX5_sure_1 rfl rfl ?_
  refine wt_callV (pc := 2) mX5_isSound 1 5 (rc' := 0) (rs' := 0) dX5_sure_2 q1499 mi_X5_isSound rfl rfl (ms_o hM) (tm_isSound hM hI.c hA.ce s) rfl rfl rfl rfl rfl rfl ?_
  refine zt_if_eq (pc := 5) 18 dX5_sure_5 (by decide) (fun c_5 => ?_) (fun c_5 => ?_)
  · refine zt_iconst (pc := 18) dX5_sure_18 (v := (-1)) rfl ?_
    exact zt_ireturn (pc := 19) dX5_sure_19 rfl (⟨congrArg some (congrArg Value.int ((if_neg (fun q => bI_eq0.mp c_5 q.1)).symm)), rfl⟩)
  · have hn_s_ : inN s (cS A) := bI_ne0 c_5
    obtain ⟨s_, hl_s_, rfl⟩ := inN_of hn_s_ (by have := hI.c.s4; omega)
    refine zt_iload_n (pc := 8) dX5_sure_8 rfl rfl ?_
    refine zt_i2l (pc := 9) dX5_sure_9 rfl ?_
    refine zt_lconst (pc := 10) dX5_sure_10 (v := 0) rfl ?_
    refine zt_lconst (pc := 11) dX5_sure_11 (v := 1) rfl ?_
    refine wt_callS (pc := 12) mX5_in 3 (rc' := 0) (rs' := 0) dX5_sure_12 q1223 ms_X5_in (tm_in w.toInt64 0 1) rfl rfl rfl rfl rfl rfl ?_
    refine zt_if_ne (pc := 15) 20 dX5_sure_15 (by decide) (fun c_15 => ?_) (fun c_15 => ?_)
    · have hn_w_ : inN w 2 := (in_c w 1 (by decide)).mp (bI_ne0 c_15)
      obtain ⟨w_, hl_w_, rfl⟩ := inN_of hn_w_ (by decide)
      refine zt_iconst (pc := 20) dX5_sure_20 (v := 0) rfl ?_
      refine zt_istore_n (pc := 21) (L' := [some (.ref 289), some (.int (nI s_)), some (.int (nI w_)), some (.int 0), none, none, none, none, none]) dX5_sure_21 rfl (by decide) rfl rfl ?_
      refine zt_iconst (pc := 22) dX5_sure_22 (v := 0) rfl ?_
      refine zt_istore (pc := 23) (L' := [some (.ref 289), some (.int (nI s_)), some (.int (nI w_)), some (.int 0), some (.int 0), none, none, none, none]) dX5_sure_23 (by decide) rfl rfl ?_
      refine zt_for (pc := 25) (fun k => S) (fun k => [some (.ref 289), some (.int (nI s_)), some (.int (nI w_)), some (.int (itr (fun k acc => acc ||| s_can A k) 0 k)), some (.int (nI k)), none, none, none, none]) (cK A) rfl rfl ?_ (fun k hi_k ih_k => ?_)
      · show Zt _ _ _ _ _ _ (zW h S) 25 [some (.ref 289), some (.int (nI s_)), some (.int (nI w_)), some (.int (itr (fun k acc => acc ||| s_can A k) 0 (cK A))), some (.int (nI (cK A))), none, none, none, none] []
        refine zt_iload (pc := 25) dX5_sure_25 rfl ?_
        refine zt_aload_n (pc := 27) dX5_sure_27 rfl rfl ?_
        refine wt_getI (pc := 28) 5 7 (v := nI (cK A)) dX5_sure_28 q1279 rfl (ms_o hM) (hA.ce.k hI.c) ?_
        refine zt_geN (a := cK A) (b := cK A) (pc := 31) 49 dX5_sure_31 (by decide) (by omega) (by omega) (fun c_31 => ?_) (fun c_31 => absurd c_31 (Nat.lt_irrefl _))
        refine zt_bipush (pc := 49) dX5_sure_49 (v := (-4)) rfl ?_
        refine zt_istore (pc := 51) (L' := [some (.ref 289), some (.int (nI s_)), some (.int (nI w_)), some (.int (s_anyC A)), some (.int (-4)), none, none, none, none]) dX5_sure_51 (by decide) rfl rfl ?_
        refine zt_iconst (pc := 53) dX5_sure_53 (v := 0) rfl ?_
        refine zt_istore (pc := 54) (L' := [some (.ref 289), some (.int (nI s_)), some (.int (nI w_)), some (.int (s_anyC A)), some (.int (-4)), some (.int 0), none, none, none]) dX5_sure_54 (by decide) rfl rfl ?_
        refine zt_for (pc := 56) (fun set => S) (fun set => [some (.ref 289), some (.int (nI s_)), some (.int (nI w_)), some (.int (s_anyC A)), some (.int (itr (s_suS A s_) (-4) set)), some (.int (nI set)), none, none, none]) (2 ^ cT A) rfl rfl ?_ (fun set hi_set ih_set => ?_)
        · show Zt _ _ _ _ _ _ (zW h S) 56 [some (.ref 289), some (.int (nI s_)), some (.int (nI w_)), some (.int (s_anyC A)), some (.int (itr (s_suS A s_) (-4) (2 ^ cT A))), some (.int (nI (2 ^ cT A))), none, none, none] []
          refine zt_iload (pc := 56) dX5_sure_56 rfl ?_
          refine zt_iconst (pc := 58) dX5_sure_58 (v := 1) rfl ?_
          refine zt_aload_n (pc := 59) dX5_sure_59 rfl rfl ?_
          refine wt_getI (pc := 60) 5 0 (v := nI (cT A)) dX5_sure_60 q1272 rfl (ms_o hM) (hA.ce.t hI.c) ?_
          refine zt_ishl (pc := 63) dX5_sure_63 ?_
          refine zt_top (pc := 64) (nI (2 ^ cT A)) (sh0 _ (by omega)) ?_
          refine zt_geN (a := 2 ^ cT A) (b := 2 ^ cT A) (pc := 64) 181 dX5_sure_64 (by decide) (by omega) (by omega) (fun c_64 => ?_) (fun c_64 => absurd c_64 (Nat.lt_irrefl _))
          refine zt_iload_n (pc := 181) dX5_sure_181 rfl rfl ?_
          refine zt_if_ne (pc := 182) 193 dX5_sure_182 (by decide) (fun c_182 => ?_) (fun c_182 => ?_)
          · refine zt_iload (pc := 193) dX5_sure_193 rfl ?_
            exact zt_ireturn (pc := 195) dX5_sure_195 rfl (⟨congrArg some (congrArg Value.int (((if_pos ⟨hn_s_, hn_w_⟩).trans ((if_neg c_182).trans (by rw [nI_clamp (show s_ < 2 ^ 31 by omega)] <;> rfl))).symm)), rfl⟩)
          · refine zt_iload (pc := 185) dX5_sure_185 rfl ?_
            refine wt_callS (pc := 187) mX5_countOf 1 (rc' := 0) (rs' := 0) dX5_sure_187 q1265 ms_X5_countOf (tm_countOf (itr (s_suS A s_) (-4) (2 ^ cT A))) rfl rfl rfl rfl rfl rfl ?_
            refine zt_goto (pc := 190) 195 dX5_sure_190 (by decide) ?_
            exact zt_ireturn (pc := 195) dX5_sure_195 rfl (⟨congrArg some (congrArg Value.int (((if_pos ⟨hn_s_, hn_w_⟩).trans ((if_pos c_182).trans (by rw [nI_clamp (show s_ < 2 ^ 31 by omega)] <;> rfl))).symm)), rfl⟩)
        · show Zt _ _ _ _ _ _ (zW h S) 56 [some (.ref 289), some (.int (nI s_)), some (.int (nI w_)), some (.int (s_anyC A)), some (.int (itr (s_suS A s_) (-4) set)), some (.int (nI set)), none, none, none] []
          refine zt_iload (pc := 56) dX5_sure_56 rfl ?_
          refine zt_iconst (pc := 58) dX5_sure_58 (v := 1) rfl ?_
          refine zt_aload_n (pc := 59) dX5_sure_59 rfl rfl ?_
          refine wt_getI (pc := 60) 5 0 (v := nI (cT A)) dX5_sure_60 q1272 rfl (ms_o hM) (hA.ce.t hI.c) ?_
          refine zt_ishl (pc := 63) dX5_sure_63 ?_
          refine zt_top (pc := 64) (nI (2 ^ cT A)) (sh0 _ (by omega)) ?_
          refine zt_geN (a := set) (b := 2 ^ cT A) (pc := 64) 181 dX5_sure_64 (by decide) (by omega) (by omega) (fun c_64 => absurd hi_set (Nat.not_lt.mpr c_64)) (fun c_64 => ?_)
          refine zt_iload (pc := 67) dX5_sure_67 rfl ?_
          refine zt_bipush (pc := 69) dX5_sure_69 (v := (-4)) rfl ?_
          refine zt_icmp_eq (pc := 71) 87 dX5_sure_71 (by decide) (fun c_71 => ?_) (fun c_71 => ?_)
          · refine zt_iconst (pc := 87) dX5_sure_87 (v := 1) rfl ?_
            refine zt_goto (pc := 88) 92 dX5_sure_88 (by decide) ?_
            refine zt_top (pc := 92) (s_suI set (itr (s_suS A s_) (-4) set)) ((bI_t (Or.inl c_71)).symm) ?_
            refine zt_istore (pc := 92) (L' := [some (.ref 289), some (.int (nI s_)), some (.int (nI w_)), some (.int (s_anyC A)), some (.int (itr (s_suS A s_) (-4) set)), some (.int (nI set)), some (.int (s_suI set (itr (s_suS A s_) (-4) set))), none, none]) dX5_sure_92 (by decide) rfl rfl ?_
            refine zt_iconst (pc := 94) dX5_sure_94 (v := 0) rfl ?_
            refine zt_istore (pc := 95) (L' := [some (.ref 289), some (.int (nI s_)), some (.int (nI w_)), some (.int (s_anyC A)), some (.int (itr (s_suS A s_) (-4) set)), some (.int (nI set)), some (.int (s_suI set (itr (s_suS A s_) (-4) set))), some (.int 0), none]) dX5_sure_95 (by decide) rfl rfl ?_
            refine zt_for (pc := 97) (fun m => S) (fun m => [some (.ref 289), some (.int (nI s_)), some (.int (nI w_)), some (.int (s_anyC A)), some (.int (itr (s_suS A s_) (-4) set)), some (.int (nI set)), some (.int (itr (s_suF A s_ (s_anyC A) set) (s_suI set (itr (s_suS A s_) (-4) set)) m)), some (.int (nI m)), none]) (cM A) rfl rfl ?_ (fun m hi_m ih_m => ?_)
            · show Zt _ _ _ _ _ _ (zW h S) 97 [some (.ref 289), some (.int (nI s_)), some (.int (nI w_)), some (.int (s_anyC A)), some (.int (itr (s_suS A s_) (-4) set)), some (.int (nI set)), some (.int (itr (s_suF A s_ (s_anyC A) set) (s_suI set (itr (s_suS A s_) (-4) set)) (cM A))), some (.int (nI (cM A))), none] []
              refine zt_iload (pc := 97) dX5_sure_97 rfl ?_
              refine zt_aload_n (pc := 99) dX5_sure_99 rfl rfl ?_
              refine wt_getI (pc := 100) 5 2 (v := nI (cM A)) dX5_sure_100 q1274 rfl (ms_o hM) (hA.ce.m hI.c) ?_
              refine zt_geN (a := cM A) (b := cM A) (pc := 103) 161 dX5_sure_103 (by decide) (by omega) (by omega) (fun c_103 => ?_) (fun c_103 => absurd c_103 (Nat.lt_irrefl _))
              refine zt_drop (L' := [some (.ref 289), some (.int (nI s_)), some (.int (nI w_)), some (.int (s_anyC A)), some (.int (itr (s_suS A s_) (-4) set)), some (.int (nI set)), some (.int (itr (s_suF A s_ (s_anyC A) set) (s_suI set (itr (s_suS A s_) (-4) set)) (cM A))), none, none]) 7 rfl ?_
              refine zt_iload (pc := 161) dX5_sure_161 rfl ?_
              refine zt_if_eq (pc := 163) 171 dX5_sure_163 (by decide) (fun c_163 => ?_) (fun c_163 => ?_)
              · refine zt_iload (pc := 171) dX5_sure_171 rfl ?_
                refine zt_top (pc := 173) (itr (s_suS A s_) (-4) (set + 1)) (show _ = s_suS A s_ set _ from (if_pos c_163).symm) ?_
                refine zt_istore (pc := 173) (L' := [some (.ref 289), some (.int (nI s_)), some (.int (nI w_)), some (.int (s_anyC A)), some (.int (itr (s_suS A s_) (-4) (set + 1))), some (.int (nI set)), some (.int (itr (s_suF A s_ (s_anyC A) set) (s_suI set (itr (s_suS A s_) (-4) set)) (cM A))), none, none]) dX5_sure_173 (by decide) rfl rfl ?_
                refine zt_iincN (pc := 175) (b := set + 1) (L' := [some (.ref 289), some (.int (nI s_)), some (.int (nI w_)), some (.int (s_anyC A)), some (.int (itr (s_suS A s_) (-4) (set + 1))), some (.int (nI (set + 1))), some (.int (itr (s_suF A s_ (s_anyC A) set) (s_suI set (itr (s_suS A s_) (-4) set)) (cM A))), none, none]) dX5_sure_175 rfl (zinc1 set) (by decide) rfl rfl ?_
                refine zt_goto (pc := 178) 56 dX5_sure_178 (by decide) ?_
                refine zt_drop (L' := [some (.ref 289), some (.int (nI s_)), some (.int (nI w_)), some (.int (s_anyC A)), some (.int (itr (s_suS A s_) (-4) (set + 1))), some (.int (nI (set + 1))), none, none, none]) 6 rfl ?_
                exact ih_set
              · refine zt_iload (pc := 166) dX5_sure_166 rfl ?_
                refine zt_goto (pc := 168) 173 dX5_sure_168 (by decide) ?_
                refine zt_top (pc := 173) (itr (s_suS A s_) (-4) (set + 1)) (show _ = s_suS A s_ set _ from (if_neg c_163).symm) ?_
                refine zt_istore (pc := 173) (L' := [some (.ref 289), some (.int (nI s_)), some (.int (nI w_)), some (.int (s_anyC A)), some (.int (itr (s_suS A s_) (-4) (set + 1))), some (.int (nI set)), some (.int (itr (s_suF A s_ (s_anyC A) set) (s_suI set (itr (s_suS A s_) (-4) set)) (cM A))), none, none]) dX5_sure_173 (by decide) rfl rfl ?_
                refine zt_iincN (pc := 175) (b := set + 1) (L' := [some (.ref 289), some (.int (nI s_)), some (.int (nI w_)), some (.int (s_anyC A)), some (.int (itr (s_suS A s_) (-4) (set + 1))), some (.int (nI (set + 1))), some (.int (itr (s_suF A s_ (s_anyC A) set) (s_suI set (itr (s_suS A s_) (-4) set)) (cM A))), none, none]) dX5_sure_175 rfl (zinc1 set) (by decide) rfl rfl ?_
                refine zt_goto (pc := 178) 56 dX5_sure_178 (by decide) ?_
                refine zt_drop (L' := [some (.ref 289), some (.int (nI s_)), some (.int (nI w_)), some (.int (s_anyC A)), some (.int (itr (s_suS A s_) (-4) (set + 1))), some (.int (nI (set + 1))), none, none, none]) 6 rfl ?_
                exact ih_set
            · show Zt _ _ _ _ _ _ (zW h S) 97 [some (.ref 289), some (.int (nI s_)), some (.int (nI w_)), some (.int (s_anyC A)), some (.int (itr (s_suS A s_) (-4) set)), some (.int (nI set)), some (.int (itr (s_suF A s_ (s_anyC A) set) (s_suI set (itr (s_suS A s_) (-4) set)) m)), some (.int (nI m)), none] []
              refine zt_iload (pc := 97) dX5_sure_97 rfl ?_
              refine zt_aload_n (pc := 99) dX5_sure_99 rfl rfl ?_
              refine wt_getI (pc := 100) 5 2 (v := nI (cM A)) dX5_sure_100 q1274 rfl (ms_o hM) (hA.ce.m hI.c) ?_
              refine zt_geN (a := m) (b := cM A) (pc := 103) 161 dX5_sure_103 (by decide) (by omega) (by omega) (fun c_103 => absurd hi_m (Nat.not_lt.mpr c_103)) (fun c_103 => ?_)
              refine zt_iload (pc := 106) dX5_sure_106 rfl ?_
              refine zt_if_eq (pc := 108) 161 dX5_sure_108 (by decide) (fun c_108 => ?_) (fun c_108 => ?_)
              · refine zt_drop (L' := [some (.ref 289), some (.int (nI s_)), some (.int (nI w_)), some (.int (s_anyC A)), some (.int (itr (s_suS A s_) (-4) set)), some (.int (nI set)), some (.int (itr (s_suF A s_ (s_anyC A) set) (s_suI set (itr (s_suS A s_) (-4) set)) m)), none, none]) 7 rfl ?_
                refine zt_L (L' := [some (.ref 289), some (.int (nI s_)), some (.int (nI w_)), some (.int (s_anyC A)), some (.int (itr (s_suS A s_) (-4) set)), some (.int (nI set)), some (.int (itr (s_suF A s_ (s_anyC A) set) (s_suI set (itr (s_suS A s_) (-4) set)) (cM A))), none, none]) (by rw [c_108, su_0 c_108 (cM A) (by omega)]) ?_
                refine zt_iload (pc := 161) dX5_sure_161 rfl ?_
                refine zt_if_eq (pc := 163) 171 dX5_sure_163 (by decide) (fun c_163 => ?_) (fun c_163 => ?_)
                · refine zt_iload (pc := 171) dX5_sure_171 rfl ?_
                  refine zt_top (pc := 173) (itr (s_suS A s_) (-4) (set + 1)) (show _ = s_suS A s_ set _ from (if_pos c_163).symm) ?_
                  refine zt_istore (pc := 173) (L' := [some (.ref 289), some (.int (nI s_)), some (.int (nI w_)), some (.int (s_anyC A)), some (.int (itr (s_suS A s_) (-4) (set + 1))), some (.int (nI set)), some (.int (itr (s_suF A s_ (s_anyC A) set) (s_suI set (itr (s_suS A s_) (-4) set)) (cM A))), none, none]) dX5_sure_173 (by decide) rfl rfl ?_
                  refine zt_iincN (pc := 175) (b := set + 1) (L' := [some (.ref 289), some (.int (nI s_)), some (.int (nI w_)), some (.int (s_anyC A)), some (.int (itr (s_suS A s_) (-4) (set + 1))), some (.int (nI (set + 1))), some (.int (itr (s_suF A s_ (s_anyC A) set) (s_suI set (itr (s_suS A s_) (-4) set)) (cM A))), none, none]) dX5_sure_175 rfl (zinc1 set) (by decide) rfl rfl ?_
                  refine zt_goto (pc := 178) 56 dX5_sure_178 (by decide) ?_
                  refine zt_drop (L' := [some (.ref 289), some (.int (nI s_)), some (.int (nI w_)), some (.int (s_anyC A)), some (.int (itr (s_suS A s_) (-4) (set + 1))), some (.int (nI (set + 1))), none, none, none]) 6 rfl ?_
                  exact ih_set
                · refine zt_iload (pc := 166) dX5_sure_166 rfl ?_
                  refine zt_goto (pc := 168) 173 dX5_sure_168 (by decide) ?_
                  refine zt_top (pc := 173) (itr (s_suS A s_) (-4) (set + 1)) (show _ = s_suS A s_ set _ from (if_neg c_163).symm) ?_
                  refine zt_istore (pc := 173) (L' := [some (.ref 289), some (.int (nI s_)), some (.int (nI w_)), some (.int (s_anyC A)), some (.int (itr (s_suS A s_) (-4) (set + 1))), some (.int (nI set)), some (.int (itr (s_suF A s_ (s_anyC A) set) (s_suI set (itr (s_suS A s_) (-4) set)) (cM A))), none, none]) dX5_sure_173 (by decide) rfl rfl ?_
                  refine zt_iincN (pc := 175) (b := set + 1) (L' := [some (.ref 289), some (.int (nI s_)), some (.int (nI w_)), some (.int (s_anyC A)), some (.int (itr (s_suS A s_) (-4) (set + 1))), some (.int (nI (set + 1))), some (.int (itr (s_suF A s_ (s_anyC A) set) (s_suI set (itr (s_suS A s_) (-4) set)) (cM A))), none, none]) dX5_sure_175 rfl (zinc1 set) (by decide) rfl rfl ?_
                  refine zt_goto (pc := 178) 56 dX5_sure_178 (by decide) ?_
                  refine zt_drop (L' := [some (.ref 289), some (.int (nI s_)), some (.int (nI w_)), some (.int (s_anyC A)), some (.int (itr (s_suS A s_) (-4) (set + 1))), some (.int (nI (set + 1))), none, none, none]) 6 rfl ?_
                  exact ih_set
              · refine zt_aload_n (pc := 111) dX5_sure_111 rfl rfl ?_
                refine wt_getR (pc := 112) 5 18 dX5_sure_112 q1290 rfl (ms_o hM) (mr_are hM) ?_
                refine zt_iload (pc := 115) dX5_sure_115 rfl ?_
                refine wt_iald (pc := 117) 12 m (v := A 300 m) dX5_sure_117 (ma_are hM) rfl rfl (by omega) (congrFun (hA 300 (by decide) (by decide)) m) ?_
                refine zt_aload_n (pc := 118) dX5_sure_118 rfl rfl ?_
                refine zt_iload_n (pc := 119) dX5_sure_119 rfl rfl ?_
                refine wt_callV (pc := 120) mX5_targetOf 1 5 (rc' := 0) (rs' := 0) dX5_sure_120 q1528 mi_X5_targetOf rfl rfl (ms_o hM) (tm_targetOf hM hI.c hA.ce s_ (by omega)) rfl rfl rfl rfl rfl rfl ?_
                refine zt_ixor (pc := 123) dX5_sure_123 ?_
                refine zt_istore (pc := 124) (L' := [some (.ref 289), some (.int (nI s_)), some (.int (nI w_)), some (.int (s_anyC A)), some (.int (itr (s_suS A s_) (-4) set)), some (.int (nI set)), some (.int (itr (s_suF A s_ (s_anyC A) set) (s_suI set (itr (s_suS A s_) (-4) set)) m)), some (.int (nI m)), some (.int ((A 300 m) ^^^ (s_tgt A s_)))]) dX5_sure_124 (by decide) rfl rfl ?_
                refine zt_iload_n (pc := 126) dX5_sure_126 rfl rfl ?_
                refine zt_iload (pc := 127) dX5_sure_127 rfl ?_
                refine zt_ishr (pc := 129) dX5_sure_129 ?_
                refine zt_iconst (pc := 130) dX5_sure_130 (v := 1) rfl ?_
                refine zt_iand (pc := 131) dX5_sure_131 ?_
                refine zt_if_eq (pc := 132) 148 dX5_sure_132 (by decide) (fun c_132 => ?_) (fun c_132 => ?_)
                · refine zt_iconst (pc := 148) dX5_sure_148 (v := 1) rfl ?_
                  refine zt_goto (pc := 149) 153 dX5_sure_149 (by decide) ?_
                  refine zt_top (pc := 153) (itr (s_suF A s_ (s_anyC A) set) (s_suI set (itr (s_suS A s_) (-4) set)) (m + 1)) (show _ = s_suF A s_ (s_anyC A) set m _ from (bI_t ⟨c_108, Or.inl c_132⟩).symm) ?_
                  refine zt_istore (pc := 153) (L' := [some (.ref 289), some (.int (nI s_)), some (.int (nI w_)), some (.int (s_anyC A)), some (.int (itr (s_suS A s_) (-4) set)), some (.int (nI set)), some (.int (itr (s_suF A s_ (s_anyC A) set) (s_suI set (itr (s_suS A s_) (-4) set)) (m + 1))), some (.int (nI m)), some (.int ((A 300 m) ^^^ (s_tgt A s_)))]) dX5_sure_153 (by decide) rfl rfl ?_
                  refine zt_iincN (pc := 155) (b := m + 1) (L' := [some (.ref 289), some (.int (nI s_)), some (.int (nI w_)), some (.int (s_anyC A)), some (.int (itr (s_suS A s_) (-4) set)), some (.int (nI set)), some (.int (itr (s_suF A s_ (s_anyC A) set) (s_suI set (itr (s_suS A s_) (-4) set)) (m + 1))), some (.int (nI (m + 1))), some (.int ((A 300 m) ^^^ (s_tgt A s_)))]) dX5_sure_155 rfl (zinc1 m) (by decide) rfl rfl ?_
                  refine zt_goto (pc := 158) 97 dX5_sure_158 (by decide) ?_
                  refine zt_drop (L' := [some (.ref 289), some (.int (nI s_)), some (.int (nI w_)), some (.int (s_anyC A)), some (.int (itr (s_suS A s_) (-4) set)), some (.int (nI set)), some (.int (itr (s_suF A s_ (s_anyC A) set) (s_suI set (itr (s_suS A s_) (-4) set)) (m + 1))), some (.int (nI (m + 1))), none]) 8 rfl ?_
                  exact ih_m
                · refine zt_iload (pc := 135) dX5_sure_135 rfl ?_
                  refine zt_if_eq (pc := 137) 148 dX5_sure_137 (by decide) (fun c_137 => ?_) (fun c_137 => ?_)
                  · refine zt_iconst (pc := 148) dX5_sure_148 (v := 1) rfl ?_
                    refine zt_goto (pc := 149) 153 dX5_sure_149 (by decide) ?_
                    refine zt_top (pc := 153) (itr (s_suF A s_ (s_anyC A) set) (s_suI set (itr (s_suS A s_) (-4) set)) (m + 1)) (show _ = s_suF A s_ (s_anyC A) set m _ from (bI_t ⟨c_108, Or.inr (Or.inl c_137)⟩).symm) ?_
                    refine zt_istore (pc := 153) (L' := [some (.ref 289), some (.int (nI s_)), some (.int (nI w_)), some (.int (s_anyC A)), some (.int (itr (s_suS A s_) (-4) set)), some (.int (nI set)), some (.int (itr (s_suF A s_ (s_anyC A) set) (s_suI set (itr (s_suS A s_) (-4) set)) (m + 1))), some (.int (nI m)), some (.int ((A 300 m) ^^^ (s_tgt A s_)))]) dX5_sure_153 (by decide) rfl rfl ?_
                    refine zt_iincN (pc := 155) (b := m + 1) (L' := [some (.ref 289), some (.int (nI s_)), some (.int (nI w_)), some (.int (s_anyC A)), some (.int (itr (s_suS A s_) (-4) set)), some (.int (nI set)), some (.int (itr (s_suF A s_ (s_anyC A) set) (s_suI set (itr (s_suS A s_) (-4) set)) (m + 1))), some (.int (nI (m + 1))), some (.int ((A 300 m) ^^^ (s_tgt A s_)))]) dX5_sure_155 rfl (zinc1 m) (by decide) rfl rfl ?_
                    refine zt_goto (pc := 158) 97 dX5_sure_158 (by decide) ?_
                    refine zt_drop (L' := [some (.ref 289), some (.int (nI s_)), some (.int (nI w_)), some (.int (s_anyC A)), some (.int (itr (s_suS A s_) (-4) set)), some (.int (nI set)), some (.int (itr (s_suF A s_ (s_anyC A) set) (s_suI set (itr (s_suS A s_) (-4) set)) (m + 1))), some (.int (nI (m + 1))), none]) 8 rfl ?_
                    exact ih_m
                  · refine zt_iload (pc := 140) dX5_sure_140 rfl ?_
                    refine zt_iload (pc := 142) dX5_sure_142 rfl ?_
                    refine zt_iand (pc := 144) dX5_sure_144 ?_
                    refine zt_if_eq (pc := 145) 152 dX5_sure_145 (by decide) (fun c_145 => ?_) (fun c_145 => ?_)
                    · refine zt_iconst (pc := 152) dX5_sure_152 (v := 0) rfl ?_
                      refine zt_top (pc := 153) (itr (s_suF A s_ (s_anyC A) set) (s_suI set (itr (s_suS A s_) (-4) set)) (m + 1)) (show _ = s_suF A s_ (s_anyC A) set m _ from (bI_f (fun q => q.2.elim c_132 (fun z => z.elim c_137 (fun y => y c_145)))).symm) ?_
                      refine zt_istore (pc := 153) (L' := [some (.ref 289), some (.int (nI s_)), some (.int (nI w_)), some (.int (s_anyC A)), some (.int (itr (s_suS A s_) (-4) set)), some (.int (nI set)), some (.int (itr (s_suF A s_ (s_anyC A) set) (s_suI set (itr (s_suS A s_) (-4) set)) (m + 1))), some (.int (nI m)), some (.int ((A 300 m) ^^^ (s_tgt A s_)))]) dX5_sure_153 (by decide) rfl rfl ?_
                      refine zt_iincN (pc := 155) (b := m + 1) (L' := [some (.ref 289), some (.int (nI s_)), some (.int (nI w_)), some (.int (s_anyC A)), some (.int (itr (s_suS A s_) (-4) set)), some (.int (nI set)), some (.int (itr (s_suF A s_ (s_anyC A) set) (s_suI set (itr (s_suS A s_) (-4) set)) (m + 1))), some (.int (nI (m + 1))), some (.int ((A 300 m) ^^^ (s_tgt A s_)))]) dX5_sure_155 rfl (zinc1 m) (by decide) rfl rfl ?_
                      refine zt_goto (pc := 158) 97 dX5_sure_158 (by decide) ?_
                      refine zt_drop (L' := [some (.ref 289), some (.int (nI s_)), some (.int (nI w_)), some (.int (s_anyC A)), some (.int (itr (s_suS A s_) (-4) set)), some (.int (nI set)), some (.int (itr (s_suF A s_ (s_anyC A) set) (s_suI set (itr (s_suS A s_) (-4) set)) (m + 1))), some (.int (nI (m + 1))), none]) 8 rfl ?_
                      exact ih_m
                    · refine zt_iconst (pc := 148) dX5_sure_148 (v := 1) rfl ?_
                      refine zt_goto (pc := 149) 153 dX5_sure_149 (by decide) ?_
                      refine zt_top (pc := 153) (itr (s_suF A s_ (s_anyC A) set) (s_suI set (itr (s_suS A s_) (-4) set)) (m + 1)) (show _ = s_suF A s_ (s_anyC A) set m _ from (bI_t ⟨c_108, Or.inr (Or.inr c_145)⟩).symm) ?_
                      refine zt_istore (pc := 153) (L' := [some (.ref 289), some (.int (nI s_)), some (.int (nI w_)), some (.int (s_anyC A)), some (.int (itr (s_suS A s_) (-4) set)), some (.int (nI set)), some (.int (itr (s_suF A s_ (s_anyC A) set) (s_suI set (itr (s_suS A s_) (-4) set)) (m + 1))), some (.int (nI m)), some (.int ((A 300 m) ^^^ (s_tgt A s_)))]) dX5_sure_153 (by decide) rfl rfl ?_
                      refine zt_iincN (pc := 155) (b := m + 1) (L' := [some (.ref 289), some (.int (nI s_)), some (.int (nI w_)), some (.int (s_anyC A)), some (.int (itr (s_suS A s_) (-4) set)), some (.int (nI set)), some (.int (itr (s_suF A s_ (s_anyC A) set) (s_suI set (itr (s_suS A s_) (-4) set)) (m + 1))), some (.int (nI (m + 1))), some (.int ((A 300 m) ^^^ (s_tgt A s_)))]) dX5_sure_155 rfl (zinc1 m) (by decide) rfl rfl ?_
                      refine zt_goto (pc := 158) 97 dX5_sure_158 (by decide) ?_
                      refine zt_drop (L' := [some (.ref 289), some (.int (nI s_)), some (.int (nI w_)), some (.int (s_anyC A)), some (.int (itr (s_suS A s_) (-4) set)), some (.int (nI set)), some (.int (itr (s_suF A s_ (s_anyC A) set) (s_suI set (itr (s_suS A s_) (-4) set)) (m + 1))), some (.int (nI (m + 1))), none]) 8 rfl ?_
                      exact ih_m
          · refine zt_iload (pc := 74) dX5_sure_74 rfl ?_
            refine wt_callS (pc := 76) mX5_countOf 1 (rc' := 0) (rs' := 0) dX5_sure_76 q1265 ms_X5_countOf (tm_countOf (nI set)) rfl rfl rfl rfl rfl rfl ?_
            refine zt_iload (pc := 79) dX5_sure_79 rfl ?_
            refine wt_callS (pc := 81) mX5_countOf 1 (rc' := 0) (rs' := 0) dX5_sure_81 q1265 ms_X5_countOf (tm_countOf (itr (s_suS A s_) (-4) set)) rfl rfl rfl rfl rfl rfl ?_
            refine zt_icmp_ge (pc := 84) 91 dX5_sure_84 (by decide) (fun c_84 => ?_) (fun c_84 => ?_)
            · refine zt_iconst (pc := 91) dX5_sure_91 (v := 0) rfl ?_
              refine zt_top (pc := 92) (s_suI set (itr (s_suS A s_) (-4) set)) ((bI_f (fun q => q.elim c_71 (fun z => absurd c_84 (Int32.not_le.mpr z)))).symm) ?_
              refine zt_istore (pc := 92) (L' := [some (.ref 289), some (.int (nI s_)), some (.int (nI w_)), some (.int (s_anyC A)), some (.int (itr (s_suS A s_) (-4) set)), some (.int (nI set)), some (.int (s_suI set (itr (s_suS A s_) (-4) set))), none, none]) dX5_sure_92 (by decide) rfl rfl ?_
              refine zt_iconst (pc := 94) dX5_sure_94 (v := 0) rfl ?_
              refine zt_istore (pc := 95) (L' := [some (.ref 289), some (.int (nI s_)), some (.int (nI w_)), some (.int (s_anyC A)), some (.int (itr (s_suS A s_) (-4) set)), some (.int (nI set)), some (.int (s_suI set (itr (s_suS A s_) (-4) set))), some (.int 0), none]) dX5_sure_95 (by decide) rfl rfl ?_
              refine zt_for (pc := 97) (fun m => S) (fun m => [some (.ref 289), some (.int (nI s_)), some (.int (nI w_)), some (.int (s_anyC A)), some (.int (itr (s_suS A s_) (-4) set)), some (.int (nI set)), some (.int (itr (s_suF A s_ (s_anyC A) set) (s_suI set (itr (s_suS A s_) (-4) set)) m)), some (.int (nI m)), none]) (cM A) rfl rfl ?_ (fun m hi_m ih_m => ?_)
              · show Zt _ _ _ _ _ _ (zW h S) 97 [some (.ref 289), some (.int (nI s_)), some (.int (nI w_)), some (.int (s_anyC A)), some (.int (itr (s_suS A s_) (-4) set)), some (.int (nI set)), some (.int (itr (s_suF A s_ (s_anyC A) set) (s_suI set (itr (s_suS A s_) (-4) set)) (cM A))), some (.int (nI (cM A))), none] []
                refine zt_iload (pc := 97) dX5_sure_97 rfl ?_
                refine zt_aload_n (pc := 99) dX5_sure_99 rfl rfl ?_
                refine wt_getI (pc := 100) 5 2 (v := nI (cM A)) dX5_sure_100 q1274 rfl (ms_o hM) (hA.ce.m hI.c) ?_
                refine zt_geN (a := cM A) (b := cM A) (pc := 103) 161 dX5_sure_103 (by decide) (by omega) (by omega) (fun c_103 => ?_) (fun c_103 => absurd c_103 (Nat.lt_irrefl _))
                refine zt_drop (L' := [some (.ref 289), some (.int (nI s_)), some (.int (nI w_)), some (.int (s_anyC A)), some (.int (itr (s_suS A s_) (-4) set)), some (.int (nI set)), some (.int (itr (s_suF A s_ (s_anyC A) set) (s_suI set (itr (s_suS A s_) (-4) set)) (cM A))), none, none]) 7 rfl ?_
                refine zt_iload (pc := 161) dX5_sure_161 rfl ?_
                refine zt_if_eq (pc := 163) 171 dX5_sure_163 (by decide) (fun c_163 => ?_) (fun c_163 => ?_)
                · refine zt_iload (pc := 171) dX5_sure_171 rfl ?_
                  refine zt_top (pc := 173) (itr (s_suS A s_) (-4) (set + 1)) (show _ = s_suS A s_ set _ from (if_pos c_163).symm) ?_
                  refine zt_istore (pc := 173) (L' := [some (.ref 289), some (.int (nI s_)), some (.int (nI w_)), some (.int (s_anyC A)), some (.int (itr (s_suS A s_) (-4) (set + 1))), some (.int (nI set)), some (.int (itr (s_suF A s_ (s_anyC A) set) (s_suI set (itr (s_suS A s_) (-4) set)) (cM A))), none, none]) dX5_sure_173 (by decide) rfl rfl ?_
                  refine zt_iincN (pc := 175) (b := set + 1) (L' := [some (.ref 289), some (.int (nI s_)), some (.int (nI w_)), some (.int (s_anyC A)), some (.int (itr (s_suS A s_) (-4) (set + 1))), some (.int (nI (set + 1))), some (.int (itr (s_suF A s_ (s_anyC A) set) (s_suI set (itr (s_suS A s_) (-4) set)) (cM A))), none, none]) dX5_sure_175 rfl (zinc1 set) (by decide) rfl rfl ?_
                  refine zt_goto (pc := 178) 56 dX5_sure_178 (by decide) ?_
                  refine zt_drop (L' := [some (.ref 289), some (.int (nI s_)), some (.int (nI w_)), some (.int (s_anyC A)), some (.int (itr (s_suS A s_) (-4) (set + 1))), some (.int (nI (set + 1))), none, none, none]) 6 rfl ?_
                  exact ih_set
                · refine zt_iload (pc := 166) dX5_sure_166 rfl ?_
                  refine zt_goto (pc := 168) 173 dX5_sure_168 (by decide) ?_
                  refine zt_top (pc := 173) (itr (s_suS A s_) (-4) (set + 1)) (show _ = s_suS A s_ set _ from (if_neg c_163).symm) ?_
                  refine zt_istore (pc := 173) (L' := [some (.ref 289), some (.int (nI s_)), some (.int (nI w_)), some (.int (s_anyC A)), some (.int (itr (s_suS A s_) (-4) (set + 1))), some (.int (nI set)), some (.int (itr (s_suF A s_ (s_anyC A) set) (s_suI set (itr (s_suS A s_) (-4) set)) (cM A))), none, none]) dX5_sure_173 (by decide) rfl rfl ?_
                  refine zt_iincN (pc := 175) (b := set + 1) (L' := [some (.ref 289), some (.int (nI s_)), some (.int (nI w_)), some (.int (s_anyC A)), some (.int (itr (s_suS A s_) (-4) (set + 1))), some (.int (nI (set + 1))), some (.int (itr (s_suF A s_ (s_anyC A) set) (s_suI set (itr (s_suS A s_) (-4) set)) (cM A))), none, none]) dX5_sure_175 rfl (zinc1 set) (by decide) rfl rfl ?_
                  refine zt_goto (pc := 178) 56 dX5_sure_178 (by decide) ?_
                  refine zt_drop (L' := [some (.ref 289), some (.int (nI s_)), some (.int (nI w_)), some (.int (s_anyC A)), some (.int (itr (s_suS A s_) (-4) (set + 1))), some (.int (nI (set + 1))), none, none, none]) 6 rfl ?_
                  exact ih_set
              · show Zt _ _ _ _ _ _ (zW h S) 97 [some (.ref 289), some (.int (nI s_)), some (.int (nI w_)), some (.int (s_anyC A)), some (.int (itr (s_suS A s_) (-4) set)), some (.int (nI set)), some (.int (itr (s_suF A s_ (s_anyC A) set) (s_suI set (itr (s_suS A s_) (-4) set)) m)), some (.int (nI m)), none] []
                refine zt_iload (pc := 97) dX5_sure_97 rfl ?_
                refine zt_aload_n (pc := 99) dX5_sure_99 rfl rfl ?_
                refine wt_getI (pc := 100) 5 2 (v := nI (cM A)) dX5_sure_100 q1274 rfl (ms_o hM) (hA.ce.m hI.c) ?_
                refine zt_geN (a := m) (b := cM A) (pc := 103) 161 dX5_sure_103 (by decide) (by omega) (by omega) (fun c_103 => absurd hi_m (Nat.not_lt.mpr c_103)) (fun c_103 => ?_)
                refine zt_iload (pc := 106) dX5_sure_106 rfl ?_
                refine zt_if_eq (pc := 108) 161 dX5_sure_108 (by decide) (fun c_108 => ?_) (fun c_108 => ?_)
                · refine zt_drop (L' := [some (.ref 289), some (.int (nI s_)), some (.int (nI w_)), some (.int (s_anyC A)), some (.int (itr (s_suS A s_) (-4) set)), some (.int (nI set)), some (.int (itr (s_suF A s_ (s_anyC A) set) (s_suI set (itr (s_suS A s_) (-4) set)) m)), none, none]) 7 rfl ?_
                  refine zt_L (L' := [some (.ref 289), some (.int (nI s_)), some (.int (nI w_)), some (.int (s_anyC A)), some (.int (itr (s_suS A s_) (-4) set)), some (.int (nI set)), some (.int (itr (s_suF A s_ (s_anyC A) set) (s_suI set (itr (s_suS A s_) (-4) set)) (cM A))), none, none]) (by rw [c_108, su_0 c_108 (cM A) (by omega)]) ?_
                  refine zt_iload (pc := 161) dX5_sure_161 rfl ?_
                  refine zt_if_eq (pc := 163) 171 dX5_sure_163 (by decide) (fun c_163 => ?_) (fun c_163 => ?_)
                  · refine zt_iload (pc := 171) dX5_sure_171 rfl ?_
                    refine zt_top (pc := 173) (itr (s_suS A s_) (-4) (set + 1)) (show _ = s_suS A s_ set _ from (if_pos c_163).symm) ?_
                    refine zt_istore (pc := 173) (L' := [some (.ref 289), some (.int (nI s_)), some (.int (nI w_)), some (.int (s_anyC A)), some (.int (itr (s_suS A s_) (-4) (set + 1))), some (.int (nI set)), some (.int (itr (s_suF A s_ (s_anyC A) set) (s_suI set (itr (s_suS A s_) (-4) set)) (cM A))), none, none]) dX5_sure_173 (by decide) rfl rfl ?_
                    refine zt_iincN (pc := 175) (b := set + 1) (L' := [some (.ref 289), some (.int (nI s_)), some (.int (nI w_)), some (.int (s_anyC A)), some (.int (itr (s_suS A s_) (-4) (set + 1))), some (.int (nI (set + 1))), some (.int (itr (s_suF A s_ (s_anyC A) set) (s_suI set (itr (s_suS A s_) (-4) set)) (cM A))), none, none]) dX5_sure_175 rfl (zinc1 set) (by decide) rfl rfl ?_
                    refine zt_goto (pc := 178) 56 dX5_sure_178 (by decide) ?_
                    refine zt_drop (L' := [some (.ref 289), some (.int (nI s_)), some (.int (nI w_)), some (.int (s_anyC A)), some (.int (itr (s_suS A s_) (-4) (set + 1))), some (.int (nI (set + 1))), none, none, none]) 6 rfl ?_
                    exact ih_set
                  · refine zt_iload (pc := 166) dX5_sure_166 rfl ?_
                    refine zt_goto (pc := 168) 173 dX5_sure_168 (by decide) ?_
                    refine zt_top (pc := 173) (itr (s_suS A s_) (-4) (set + 1)) (show _ = s_suS A s_ set _ from (if_neg c_163).symm) ?_
                    refine zt_istore (pc := 173) (L' := [some (.ref 289), some (.int (nI s_)), some (.int (nI w_)), some (.int (s_anyC A)), some (.int (itr (s_suS A s_) (-4) (set + 1))), some (.int (nI set)), some (.int (itr (s_suF A s_ (s_anyC A) set) (s_suI set (itr (s_suS A s_) (-4) set)) (cM A))), none, none]) dX5_sure_173 (by decide) rfl rfl ?_
                    refine zt_iincN (pc := 175) (b := set + 1) (L' := [some (.ref 289), some (.int (nI s_)), some (.int (nI w_)), some (.int (s_anyC A)), some (.int (itr (s_suS A s_) (-4) (set + 1))), some (.int (nI (set + 1))), some (.int (itr (s_suF A s_ (s_anyC A) set) (s_suI set (itr (s_suS A s_) (-4) set)) (cM A))), none, none]) dX5_sure_175 rfl (zinc1 set) (by decide) rfl rfl ?_
                    refine zt_goto (pc := 178) 56 dX5_sure_178 (by decide) ?_
                    refine zt_drop (L' := [some (.ref 289), some (.int (nI s_)), some (.int (nI w_)), some (.int (s_anyC A)), some (.int (itr (s_suS A s_) (-4) (set + 1))), some (.int (nI (set + 1))), none, none, none]) 6 rfl ?_
                    exact ih_set
                · refine zt_aload_n (pc := 111) dX5_sure_111 rfl rfl ?_
                  refine wt_getR (pc := 112) 5 18 dX5_sure_112 q1290 rfl (ms_o hM) (mr_are hM) ?_
                  refine zt_iload (pc := 115) dX5_sure_115 rfl ?_
                  refine wt_iald (pc := 117) 12 m (v := A 300 m) dX5_sure_117 (ma_are hM) rfl rfl (by omega) (congrFun (hA 300 (by decide) (by decide)) m) ?_
                  refine zt_aload_n (pc := 118) dX5_sure_118 rfl rfl ?_
                  refine zt_iload_n (pc := 119) dX5_sure_119 rfl rfl ?_
                  refine wt_callV (pc := 120) mX5_targetOf 1 5 (rc' := 0) (rs' := 0) dX5_sure_120 q1528 mi_X5_targetOf rfl rfl (ms_o hM) (tm_targetOf hM hI.c hA.ce s_ (by omega)) rfl rfl rfl rfl rfl rfl ?_
                  refine zt_ixor (pc := 123) dX5_sure_123 ?_
                  refine zt_istore (pc := 124) (L' := [some (.ref 289), some (.int (nI s_)), some (.int (nI w_)), some (.int (s_anyC A)), some (.int (itr (s_suS A s_) (-4) set)), some (.int (nI set)), some (.int (itr (s_suF A s_ (s_anyC A) set) (s_suI set (itr (s_suS A s_) (-4) set)) m)), some (.int (nI m)), some (.int ((A 300 m) ^^^ (s_tgt A s_)))]) dX5_sure_124 (by decide) rfl rfl ?_
                  refine zt_iload_n (pc := 126) dX5_sure_126 rfl rfl ?_
                  refine zt_iload (pc := 127) dX5_sure_127 rfl ?_
                  refine zt_ishr (pc := 129) dX5_sure_129 ?_
                  refine zt_iconst (pc := 130) dX5_sure_130 (v := 1) rfl ?_
                  refine zt_iand (pc := 131) dX5_sure_131 ?_
                  refine zt_if_eq (pc := 132) 148 dX5_sure_132 (by decide) (fun c_132 => ?_) (fun c_132 => ?_)
                  · refine zt_iconst (pc := 148) dX5_sure_148 (v := 1) rfl ?_
                    refine zt_goto (pc := 149) 153 dX5_sure_149 (by decide) ?_
                    refine zt_top (pc := 153) (itr (s_suF A s_ (s_anyC A) set) (s_suI set (itr (s_suS A s_) (-4) set)) (m + 1)) (show _ = s_suF A s_ (s_anyC A) set m _ from (bI_t ⟨c_108, Or.inl c_132⟩).symm) ?_
                    refine zt_istore (pc := 153) (L' := [some (.ref 289), some (.int (nI s_)), some (.int (nI w_)), some (.int (s_anyC A)), some (.int (itr (s_suS A s_) (-4) set)), some (.int (nI set)), some (.int (itr (s_suF A s_ (s_anyC A) set) (s_suI set (itr (s_suS A s_) (-4) set)) (m + 1))), some (.int (nI m)), some (.int ((A 300 m) ^^^ (s_tgt A s_)))]) dX5_sure_153 (by decide) rfl rfl ?_
                    refine zt_iincN (pc := 155) (b := m + 1) (L' := [some (.ref 289), some (.int (nI s_)), some (.int (nI w_)), some (.int (s_anyC A)), some (.int (itr (s_suS A s_) (-4) set)), some (.int (nI set)), some (.int (itr (s_suF A s_ (s_anyC A) set) (s_suI set (itr (s_suS A s_) (-4) set)) (m + 1))), some (.int (nI (m + 1))), some (.int ((A 300 m) ^^^ (s_tgt A s_)))]) dX5_sure_155 rfl (zinc1 m) (by decide) rfl rfl ?_
                    refine zt_goto (pc := 158) 97 dX5_sure_158 (by decide) ?_
                    refine zt_drop (L' := [some (.ref 289), some (.int (nI s_)), some (.int (nI w_)), some (.int (s_anyC A)), some (.int (itr (s_suS A s_) (-4) set)), some (.int (nI set)), some (.int (itr (s_suF A s_ (s_anyC A) set) (s_suI set (itr (s_suS A s_) (-4) set)) (m + 1))), some (.int (nI (m + 1))), none]) 8 rfl ?_
                    exact ih_m
                  · refine zt_iload (pc := 135) dX5_sure_135 rfl ?_
                    refine zt_if_eq (pc := 137) 148 dX5_sure_137 (by decide) (fun c_137 => ?_) (fun c_137 => ?_)
                    · refine zt_iconst (pc := 148) dX5_sure_148 (v := 1) rfl ?_
                      refine zt_goto (pc := 149) 153 dX5_sure_149 (by decide) ?_
                      refine zt_top (pc := 153) (itr (s_suF A s_ (s_anyC A) set) (s_suI set (itr (s_suS A s_) (-4) set)) (m + 1)) (show _ = s_suF A s_ (s_anyC A) set m _ from (bI_t ⟨c_108, Or.inr (Or.inl c_137)⟩).symm) ?_
                      refine zt_istore (pc := 153) (L' := [some (.ref 289), some (.int (nI s_)), some (.int (nI w_)), some (.int (s_anyC A)), some (.int (itr (s_suS A s_) (-4) set)), some (.int (nI set)), some (.int (itr (s_suF A s_ (s_anyC A) set) (s_suI set (itr (s_suS A s_) (-4) set)) (m + 1))), some (.int (nI m)), some (.int ((A 300 m) ^^^ (s_tgt A s_)))]) dX5_sure_153 (by decide) rfl rfl ?_
                      refine zt_iincN (pc := 155) (b := m + 1) (L' := [some (.ref 289), some (.int (nI s_)), some (.int (nI w_)), some (.int (s_anyC A)), some (.int (itr (s_suS A s_) (-4) set)), some (.int (nI set)), some (.int (itr (s_suF A s_ (s_anyC A) set) (s_suI set (itr (s_suS A s_) (-4) set)) (m + 1))), some (.int (nI (m + 1))), some (.int ((A 300 m) ^^^ (s_tgt A s_)))]) dX5_sure_155 rfl (zinc1 m) (by decide) rfl rfl ?_
                      refine zt_goto (pc := 158) 97 dX5_sure_158 (by decide) ?_
                      refine zt_drop (L' := [some (.ref 289), some (.int (nI s_)), some (.int (nI w_)), some (.int (s_anyC A)), some (.int (itr (s_suS A s_) (-4) set)), some (.int (nI set)), some (.int (itr (s_suF A s_ (s_anyC A) set) (s_suI set (itr (s_suS A s_) (-4) set)) (m + 1))), some (.int (nI (m + 1))), none]) 8 rfl ?_
                      exact ih_m
                    · refine zt_iload (pc := 140) dX5_sure_140 rfl ?_
                      refine zt_iload (pc := 142) dX5_sure_142 rfl ?_
                      refine zt_iand (pc := 144) dX5_sure_144 ?_
                      refine zt_if_eq (pc := 145) 152 dX5_sure_145 (by decide) (fun c_145 => ?_) (fun c_145 => ?_)
                      · refine zt_iconst (pc := 152) dX5_sure_152 (v := 0) rfl ?_
                        refine zt_top (pc := 153) (itr (s_suF A s_ (s_anyC A) set) (s_suI set (itr (s_suS A s_) (-4) set)) (m + 1)) (show _ = s_suF A s_ (s_anyC A) set m _ from (bI_f (fun q => q.2.elim c_132 (fun z => z.elim c_137 (fun y => y c_145)))).symm) ?_
                        refine zt_istore (pc := 153) (L' := [some (.ref 289), some (.int (nI s_)), some (.int (nI w_)), some (.int (s_anyC A)), some (.int (itr (s_suS A s_) (-4) set)), some (.int (nI set)), some (.int (itr (s_suF A s_ (s_anyC A) set) (s_suI set (itr (s_suS A s_) (-4) set)) (m + 1))), some (.int (nI m)), some (.int ((A 300 m) ^^^ (s_tgt A s_)))]) dX5_sure_153 (by decide) rfl rfl ?_
                        refine zt_iincN (pc := 155) (b := m + 1) (L' := [some (.ref 289), some (.int (nI s_)), some (.int (nI w_)), some (.int (s_anyC A)), some (.int (itr (s_suS A s_) (-4) set)), some (.int (nI set)), some (.int (itr (s_suF A s_ (s_anyC A) set) (s_suI set (itr (s_suS A s_) (-4) set)) (m + 1))), some (.int (nI (m + 1))), some (.int ((A 300 m) ^^^ (s_tgt A s_)))]) dX5_sure_155 rfl (zinc1 m) (by decide) rfl rfl ?_
                        refine zt_goto (pc := 158) 97 dX5_sure_158 (by decide) ?_
                        refine zt_drop (L' := [some (.ref 289), some (.int (nI s_)), some (.int (nI w_)), some (.int (s_anyC A)), some (.int (itr (s_suS A s_) (-4) set)), some (.int (nI set)), some (.int (itr (s_suF A s_ (s_anyC A) set) (s_suI set (itr (s_suS A s_) (-4) set)) (m + 1))), some (.int (nI (m + 1))), none]) 8 rfl ?_
                        exact ih_m
                      · refine zt_iconst (pc := 148) dX5_sure_148 (v := 1) rfl ?_
                        refine zt_goto (pc := 149) 153 dX5_sure_149 (by decide) ?_
                        refine zt_top (pc := 153) (itr (s_suF A s_ (s_anyC A) set) (s_suI set (itr (s_suS A s_) (-4) set)) (m + 1)) (show _ = s_suF A s_ (s_anyC A) set m _ from (bI_t ⟨c_108, Or.inr (Or.inr c_145)⟩).symm) ?_
                        refine zt_istore (pc := 153) (L' := [some (.ref 289), some (.int (nI s_)), some (.int (nI w_)), some (.int (s_anyC A)), some (.int (itr (s_suS A s_) (-4) set)), some (.int (nI set)), some (.int (itr (s_suF A s_ (s_anyC A) set) (s_suI set (itr (s_suS A s_) (-4) set)) (m + 1))), some (.int (nI m)), some (.int ((A 300 m) ^^^ (s_tgt A s_)))]) dX5_sure_153 (by decide) rfl rfl ?_
                        refine zt_iincN (pc := 155) (b := m + 1) (L' := [some (.ref 289), some (.int (nI s_)), some (.int (nI w_)), some (.int (s_anyC A)), some (.int (itr (s_suS A s_) (-4) set)), some (.int (nI set)), some (.int (itr (s_suF A s_ (s_anyC A) set) (s_suI set (itr (s_suS A s_) (-4) set)) (m + 1))), some (.int (nI (m + 1))), some (.int ((A 300 m) ^^^ (s_tgt A s_)))]) dX5_sure_155 rfl (zinc1 m) (by decide) rfl rfl ?_
                        refine zt_goto (pc := 158) 97 dX5_sure_158 (by decide) ?_
                        refine zt_drop (L' := [some (.ref 289), some (.int (nI s_)), some (.int (nI w_)), some (.int (s_anyC A)), some (.int (itr (s_suS A s_) (-4) set)), some (.int (nI set)), some (.int (itr (s_suF A s_ (s_anyC A) set) (s_suI set (itr (s_suS A s_) (-4) set)) (m + 1))), some (.int (nI (m + 1))), none]) 8 rfl ?_
                        exact ih_m
            · refine zt_iconst (pc := 87) dX5_sure_87 (v := 1) rfl ?_
              refine zt_goto (pc := 88) 92 dX5_sure_88 (by decide) ?_
              refine zt_top (pc := 92) (s_suI set (itr (s_suS A s_) (-4) set)) ((bI_t (Or.inr (Int32.not_le.mp c_84))).symm) ?_
              refine zt_istore (pc := 92) (L' := [some (.ref 289), some (.int (nI s_)), some (.int (nI w_)), some (.int (s_anyC A)), some (.int (itr (s_suS A s_) (-4) set)), some (.int (nI set)), some (.int (s_suI set (itr (s_suS A s_) (-4) set))), none, none]) dX5_sure_92 (by decide) rfl rfl ?_
              refine zt_iconst (pc := 94) dX5_sure_94 (v := 0) rfl ?_
              refine zt_istore (pc := 95) (L' := [some (.ref 289), some (.int (nI s_)), some (.int (nI w_)), some (.int (s_anyC A)), some (.int (itr (s_suS A s_) (-4) set)), some (.int (nI set)), some (.int (s_suI set (itr (s_suS A s_) (-4) set))), some (.int 0), none]) dX5_sure_95 (by decide) rfl rfl ?_
              refine zt_for (pc := 97) (fun m => S) (fun m => [some (.ref 289), some (.int (nI s_)), some (.int (nI w_)), some (.int (s_anyC A)), some (.int (itr (s_suS A s_) (-4) set)), some (.int (nI set)), some (.int (itr (s_suF A s_ (s_anyC A) set) (s_suI set (itr (s_suS A s_) (-4) set)) m)), some (.int (nI m)), none]) (cM A) rfl rfl ?_ (fun m hi_m ih_m => ?_)
              · show Zt _ _ _ _ _ _ (zW h S) 97 [some (.ref 289), some (.int (nI s_)), some (.int (nI w_)), some (.int (s_anyC A)), some (.int (itr (s_suS A s_) (-4) set)), some (.int (nI set)), some (.int (itr (s_suF A s_ (s_anyC A) set) (s_suI set (itr (s_suS A s_) (-4) set)) (cM A))), some (.int (nI (cM A))), none] []
                refine zt_iload (pc := 97) dX5_sure_97 rfl ?_
                refine zt_aload_n (pc := 99) dX5_sure_99 rfl rfl ?_
                refine wt_getI (pc := 100) 5 2 (v := nI (cM A)) dX5_sure_100 q1274 rfl (ms_o hM) (hA.ce.m hI.c) ?_
                refine zt_geN (a := cM A) (b := cM A) (pc := 103) 161 dX5_sure_103 (by decide) (by omega) (by omega) (fun c_103 => ?_) (fun c_103 => absurd c_103 (Nat.lt_irrefl _))
                refine zt_drop (L' := [some (.ref 289), some (.int (nI s_)), some (.int (nI w_)), some (.int (s_anyC A)), some (.int (itr (s_suS A s_) (-4) set)), some (.int (nI set)), some (.int (itr (s_suF A s_ (s_anyC A) set) (s_suI set (itr (s_suS A s_) (-4) set)) (cM A))), none, none]) 7 rfl ?_
                refine zt_iload (pc := 161) dX5_sure_161 rfl ?_
                refine zt_if_eq (pc := 163) 171 dX5_sure_163 (by decide) (fun c_163 => ?_) (fun c_163 => ?_)
                · refine zt_iload (pc := 171) dX5_sure_171 rfl ?_
                  refine zt_top (pc := 173) (itr (s_suS A s_) (-4) (set + 1)) (show _ = s_suS A s_ set _ from (if_pos c_163).symm) ?_
                  refine zt_istore (pc := 173) (L' := [some (.ref 289), some (.int (nI s_)), some (.int (nI w_)), some (.int (s_anyC A)), some (.int (itr (s_suS A s_) (-4) (set + 1))), some (.int (nI set)), some (.int (itr (s_suF A s_ (s_anyC A) set) (s_suI set (itr (s_suS A s_) (-4) set)) (cM A))), none, none]) dX5_sure_173 (by decide) rfl rfl ?_
                  refine zt_iincN (pc := 175) (b := set + 1) (L' := [some (.ref 289), some (.int (nI s_)), some (.int (nI w_)), some (.int (s_anyC A)), some (.int (itr (s_suS A s_) (-4) (set + 1))), some (.int (nI (set + 1))), some (.int (itr (s_suF A s_ (s_anyC A) set) (s_suI set (itr (s_suS A s_) (-4) set)) (cM A))), none, none]) dX5_sure_175 rfl (zinc1 set) (by decide) rfl rfl ?_
                  refine zt_goto (pc := 178) 56 dX5_sure_178 (by decide) ?_
                  refine zt_drop (L' := [some (.ref 289), some (.int (nI s_)), some (.int (nI w_)), some (.int (s_anyC A)), some (.int (itr (s_suS A s_) (-4) (set + 1))), some (.int (nI (set + 1))), none, none, none]) 6 rfl ?_
                  exact ih_set
                · refine zt_iload (pc := 166) dX5_sure_166 rfl ?_
                  refine zt_goto (pc := 168) 173 dX5_sure_168 (by decide) ?_
                  refine zt_top (pc := 173) (itr (s_suS A s_) (-4) (set + 1)) (show _ = s_suS A s_ set _ from (if_neg c_163).symm) ?_
                  refine zt_istore (pc := 173) (L' := [some (.ref 289), some (.int (nI s_)), some (.int (nI w_)), some (.int (s_anyC A)), some (.int (itr (s_suS A s_) (-4) (set + 1))), some (.int (nI set)), some (.int (itr (s_suF A s_ (s_anyC A) set) (s_suI set (itr (s_suS A s_) (-4) set)) (cM A))), none, none]) dX5_sure_173 (by decide) rfl rfl ?_
                  refine zt_iincN (pc := 175) (b := set + 1) (L' := [some (.ref 289), some (.int (nI s_)), some (.int (nI w_)), some (.int (s_anyC A)), some (.int (itr (s_suS A s_) (-4) (set + 1))), some (.int (nI (set + 1))), some (.int (itr (s_suF A s_ (s_anyC A) set) (s_suI set (itr (s_suS A s_) (-4) set)) (cM A))), none, none]) dX5_sure_175 rfl (zinc1 set) (by decide) rfl rfl ?_
                  refine zt_goto (pc := 178) 56 dX5_sure_178 (by decide) ?_
                  refine zt_drop (L' := [some (.ref 289), some (.int (nI s_)), some (.int (nI w_)), some (.int (s_anyC A)), some (.int (itr (s_suS A s_) (-4) (set + 1))), some (.int (nI (set + 1))), none, none, none]) 6 rfl ?_
                  exact ih_set
              · show Zt _ _ _ _ _ _ (zW h S) 97 [some (.ref 289), some (.int (nI s_)), some (.int (nI w_)), some (.int (s_anyC A)), some (.int (itr (s_suS A s_) (-4) set)), some (.int (nI set)), some (.int (itr (s_suF A s_ (s_anyC A) set) (s_suI set (itr (s_suS A s_) (-4) set)) m)), some (.int (nI m)), none] []
                refine zt_iload (pc := 97) dX5_sure_97 rfl ?_
                refine zt_aload_n (pc := 99) dX5_sure_99 rfl rfl ?_
                refine wt_getI (pc := 100) 5 2 (v := nI (cM A)) dX5_sure_100 q1274 rfl (ms_o hM) (hA.ce.m hI.c) ?_
                refine zt_geN (a := m) (b := cM A) (pc := 103) 161 dX5_sure_103 (by decide) (by omega) (by omega) (fun c_103 => absurd hi_m (Nat.not_lt.mpr c_103)) (fun c_103 => ?_)
                refine zt_iload (pc := 106) dX5_sure_106 rfl ?_
                refine zt_if_eq (pc := 108) 161 dX5_sure_108 (by decide) (fun c_108 => ?_) (fun c_108 => ?_)
                · refine zt_drop (L' := [some (.ref 289), some (.int (nI s_)), some (.int (nI w_)), some (.int (s_anyC A)), some (.int (itr (s_suS A s_) (-4) set)), some (.int (nI set)), some (.int (itr (s_suF A s_ (s_anyC A) set) (s_suI set (itr (s_suS A s_) (-4) set)) m)), none, none]) 7 rfl ?_
                  refine zt_L (L' := [some (.ref 289), some (.int (nI s_)), some (.int (nI w_)), some (.int (s_anyC A)), some (.int (itr (s_suS A s_) (-4) set)), some (.int (nI set)), some (.int (itr (s_suF A s_ (s_anyC A) set) (s_suI set (itr (s_suS A s_) (-4) set)) (cM A))), none, none]) (by rw [c_108, su_0 c_108 (cM A) (by omega)]) ?_
                  refine zt_iload (pc := 161) dX5_sure_161 rfl ?_
                  refine zt_if_eq (pc := 163) 171 dX5_sure_163 (by decide) (fun c_163 => ?_) (fun c_163 => ?_)
                  · refine zt_iload (pc := 171) dX5_sure_171 rfl ?_
                    refine zt_top (pc := 173) (itr (s_suS A s_) (-4) (set + 1)) (show _ = s_suS A s_ set _ from (if_pos c_163).symm) ?_
                    refine zt_istore (pc := 173) (L' := [some (.ref 289), some (.int (nI s_)), some (.int (nI w_)), some (.int (s_anyC A)), some (.int (itr (s_suS A s_) (-4) (set + 1))), some (.int (nI set)), some (.int (itr (s_suF A s_ (s_anyC A) set) (s_suI set (itr (s_suS A s_) (-4) set)) (cM A))), none, none]) dX5_sure_173 (by decide) rfl rfl ?_
                    refine zt_iincN (pc := 175) (b := set + 1) (L' := [some (.ref 289), some (.int (nI s_)), some (.int (nI w_)), some (.int (s_anyC A)), some (.int (itr (s_suS A s_) (-4) (set + 1))), some (.int (nI (set + 1))), some (.int (itr (s_suF A s_ (s_anyC A) set) (s_suI set (itr (s_suS A s_) (-4) set)) (cM A))), none, none]) dX5_sure_175 rfl (zinc1 set) (by decide) rfl rfl ?_
                    refine zt_goto (pc := 178) 56 dX5_sure_178 (by decide) ?_
                    refine zt_drop (L' := [some (.ref 289), some (.int (nI s_)), some (.int (nI w_)), some (.int (s_anyC A)), some (.int (itr (s_suS A s_) (-4) (set + 1))), some (.int (nI (set + 1))), none, none, none]) 6 rfl ?_
                    exact ih_set
                  · refine zt_iload (pc := 166) dX5_sure_166 rfl ?_
                    refine zt_goto (pc := 168) 173 dX5_sure_168 (by decide) ?_
                    refine zt_top (pc := 173) (itr (s_suS A s_) (-4) (set + 1)) (show _ = s_suS A s_ set _ from (if_neg c_163).symm) ?_
                    refine zt_istore (pc := 173) (L' := [some (.ref 289), some (.int (nI s_)), some (.int (nI w_)), some (.int (s_anyC A)), some (.int (itr (s_suS A s_) (-4) (set + 1))), some (.int (nI set)), some (.int (itr (s_suF A s_ (s_anyC A) set) (s_suI set (itr (s_suS A s_) (-4) set)) (cM A))), none, none]) dX5_sure_173 (by decide) rfl rfl ?_
                    refine zt_iincN (pc := 175) (b := set + 1) (L' := [some (.ref 289), some (.int (nI s_)), some (.int (nI w_)), some (.int (s_anyC A)), some (.int (itr (s_suS A s_) (-4) (set + 1))), some (.int (nI (set + 1))), some (.int (itr (s_suF A s_ (s_anyC A) set) (s_suI set (itr (s_suS A s_) (-4) set)) (cM A))), none, none]) dX5_sure_175 rfl (zinc1 set) (by decide) rfl rfl ?_
                    refine zt_goto (pc := 178) 56 dX5_sure_178 (by decide) ?_
                    refine zt_drop (L' := [some (.ref 289), some (.int (nI s_)), some (.int (nI w_)), some (.int (s_anyC A)), some (.int (itr (s_suS A s_) (-4) (set + 1))), some (.int (nI (set + 1))), none, none, none]) 6 rfl ?_
                    exact ih_set
                · refine zt_aload_n (pc := 111) dX5_sure_111 rfl rfl ?_
                  refine wt_getR (pc := 112) 5 18 dX5_sure_112 q1290 rfl (ms_o hM) (mr_are hM) ?_
                  refine zt_iload (pc := 115) dX5_sure_115 rfl ?_
                  refine wt_iald (pc := 117) 12 m (v := A 300 m) dX5_sure_117 (ma_are hM) rfl rfl (by omega) (congrFun (hA 300 (by decide) (by decide)) m) ?_
                  refine zt_aload_n (pc := 118) dX5_sure_118 rfl rfl ?_
                  refine zt_iload_n (pc := 119) dX5_sure_119 rfl rfl ?_
                  refine wt_callV (pc := 120) mX5_targetOf 1 5 (rc' := 0) (rs' := 0) dX5_sure_120 q1528 mi_X5_targetOf rfl rfl (ms_o hM) (tm_targetOf hM hI.c hA.ce s_ (by omega)) rfl rfl rfl rfl rfl rfl ?_
                  refine zt_ixor (pc := 123) dX5_sure_123 ?_
                  refine zt_istore (pc := 124) (L' := [some (.ref 289), some (.int (nI s_)), some (.int (nI w_)), some (.int (s_anyC A)), some (.int (itr (s_suS A s_) (-4) set)), some (.int (nI set)), some (.int (itr (s_suF A s_ (s_anyC A) set) (s_suI set (itr (s_suS A s_) (-4) set)) m)), some (.int (nI m)), some (.int ((A 300 m) ^^^ (s_tgt A s_)))]) dX5_sure_124 (by decide) rfl rfl ?_
                  refine zt_iload_n (pc := 126) dX5_sure_126 rfl rfl ?_
                  refine zt_iload (pc := 127) dX5_sure_127 rfl ?_
                  refine zt_ishr (pc := 129) dX5_sure_129 ?_
                  refine zt_iconst (pc := 130) dX5_sure_130 (v := 1) rfl ?_
                  refine zt_iand (pc := 131) dX5_sure_131 ?_
                  refine zt_if_eq (pc := 132) 148 dX5_sure_132 (by decide) (fun c_132 => ?_) (fun c_132 => ?_)
                  · refine zt_iconst (pc := 148) dX5_sure_148 (v := 1) rfl ?_
                    refine zt_goto (pc := 149) 153 dX5_sure_149 (by decide) ?_
                    refine zt_top (pc := 153) (itr (s_suF A s_ (s_anyC A) set) (s_suI set (itr (s_suS A s_) (-4) set)) (m + 1)) (show _ = s_suF A s_ (s_anyC A) set m _ from (bI_t ⟨c_108, Or.inl c_132⟩).symm) ?_
                    refine zt_istore (pc := 153) (L' := [some (.ref 289), some (.int (nI s_)), some (.int (nI w_)), some (.int (s_anyC A)), some (.int (itr (s_suS A s_) (-4) set)), some (.int (nI set)), some (.int (itr (s_suF A s_ (s_anyC A) set) (s_suI set (itr (s_suS A s_) (-4) set)) (m + 1))), some (.int (nI m)), some (.int ((A 300 m) ^^^ (s_tgt A s_)))]) dX5_sure_153 (by decide) rfl rfl ?_
                    refine zt_iincN (pc := 155) (b := m + 1) (L' := [some (.ref 289), some (.int (nI s_)), some (.int (nI w_)), some (.int (s_anyC A)), some (.int (itr (s_suS A s_) (-4) set)), some (.int (nI set)), some (.int (itr (s_suF A s_ (s_anyC A) set) (s_suI set (itr (s_suS A s_) (-4) set)) (m + 1))), some (.int (nI (m + 1))), some (.int ((A 300 m) ^^^ (s_tgt A s_)))]) dX5_sure_155 rfl (zinc1 m) (by decide) rfl rfl ?_
                    refine zt_goto (pc := 158) 97 dX5_sure_158 (by decide) ?_
                    refine zt_drop (L' := [some (.ref 289), some (.int (nI s_)), some (.int (nI w_)), some (.int (s_anyC A)), some (.int (itr (s_suS A s_) (-4) set)), some (.int (nI set)), some (.int (itr (s_suF A s_ (s_anyC A) set) (s_suI set (itr (s_suS A s_) (-4) set)) (m + 1))), some (.int (nI (m + 1))), none]) 8 rfl ?_
                    exact ih_m
                  · refine zt_iload (pc := 135) dX5_sure_135 rfl ?_
                    refine zt_if_eq (pc := 137) 148 dX5_sure_137 (by decide) (fun c_137 => ?_) (fun c_137 => ?_)
                    · refine zt_iconst (pc := 148) dX5_sure_148 (v := 1) rfl ?_
                      refine zt_goto (pc := 149) 153 dX5_sure_149 (by decide) ?_
                      refine zt_top (pc := 153) (itr (s_suF A s_ (s_anyC A) set) (s_suI set (itr (s_suS A s_) (-4) set)) (m + 1)) (show _ = s_suF A s_ (s_anyC A) set m _ from (bI_t ⟨c_108, Or.inr (Or.inl c_137)⟩).symm) ?_
                      refine zt_istore (pc := 153) (L' := [some (.ref 289), some (.int (nI s_)), some (.int (nI w_)), some (.int (s_anyC A)), some (.int (itr (s_suS A s_) (-4) set)), some (.int (nI set)), some (.int (itr (s_suF A s_ (s_anyC A) set) (s_suI set (itr (s_suS A s_) (-4) set)) (m + 1))), some (.int (nI m)), some (.int ((A 300 m) ^^^ (s_tgt A s_)))]) dX5_sure_153 (by decide) rfl rfl ?_
                      refine zt_iincN (pc := 155) (b := m + 1) (L' := [some (.ref 289), some (.int (nI s_)), some (.int (nI w_)), some (.int (s_anyC A)), some (.int (itr (s_suS A s_) (-4) set)), some (.int (nI set)), some (.int (itr (s_suF A s_ (s_anyC A) set) (s_suI set (itr (s_suS A s_) (-4) set)) (m + 1))), some (.int (nI (m + 1))), some (.int ((A 300 m) ^^^ (s_tgt A s_)))]) dX5_sure_155 rfl (zinc1 m) (by decide) rfl rfl ?_
                      refine zt_goto (pc := 158) 97 dX5_sure_158 (by decide) ?_
                      refine zt_drop (L' := [some (.ref 289), some (.int (nI s_)), some (.int (nI w_)), some (.int (s_anyC A)), some (.int (itr (s_suS A s_) (-4) set)), some (.int (nI set)), some (.int (itr (s_suF A s_ (s_anyC A) set) (s_suI set (itr (s_suS A s_) (-4) set)) (m + 1))), some (.int (nI (m + 1))), none]) 8 rfl ?_
                      exact ih_m
                    · refine zt_iload (pc := 140) dX5_sure_140 rfl ?_
                      refine zt_iload (pc := 142) dX5_sure_142 rfl ?_
                      refine zt_iand (pc := 144) dX5_sure_144 ?_
                      refine zt_if_eq (pc := 145) 152 dX5_sure_145 (by decide) (fun c_145 => ?_) (fun c_145 => ?_)
                      · refine zt_iconst (pc := 152) dX5_sure_152 (v := 0) rfl ?_
                        refine zt_top (pc := 153) (itr (s_suF A s_ (s_anyC A) set) (s_suI set (itr (s_suS A s_) (-4) set)) (m + 1)) (show _ = s_suF A s_ (s_anyC A) set m _ from (bI_f (fun q => q.2.elim c_132 (fun z => z.elim c_137 (fun y => y c_145)))).symm) ?_
                        refine zt_istore (pc := 153) (L' := [some (.ref 289), some (.int (nI s_)), some (.int (nI w_)), some (.int (s_anyC A)), some (.int (itr (s_suS A s_) (-4) set)), some (.int (nI set)), some (.int (itr (s_suF A s_ (s_anyC A) set) (s_suI set (itr (s_suS A s_) (-4) set)) (m + 1))), some (.int (nI m)), some (.int ((A 300 m) ^^^ (s_tgt A s_)))]) dX5_sure_153 (by decide) rfl rfl ?_
                        refine zt_iincN (pc := 155) (b := m + 1) (L' := [some (.ref 289), some (.int (nI s_)), some (.int (nI w_)), some (.int (s_anyC A)), some (.int (itr (s_suS A s_) (-4) set)), some (.int (nI set)), some (.int (itr (s_suF A s_ (s_anyC A) set) (s_suI set (itr (s_suS A s_) (-4) set)) (m + 1))), some (.int (nI (m + 1))), some (.int ((A 300 m) ^^^ (s_tgt A s_)))]) dX5_sure_155 rfl (zinc1 m) (by decide) rfl rfl ?_
                        refine zt_goto (pc := 158) 97 dX5_sure_158 (by decide) ?_
                        refine zt_drop (L' := [some (.ref 289), some (.int (nI s_)), some (.int (nI w_)), some (.int (s_anyC A)), some (.int (itr (s_suS A s_) (-4) set)), some (.int (nI set)), some (.int (itr (s_suF A s_ (s_anyC A) set) (s_suI set (itr (s_suS A s_) (-4) set)) (m + 1))), some (.int (nI (m + 1))), none]) 8 rfl ?_
                        exact ih_m
                      · refine zt_iconst (pc := 148) dX5_sure_148 (v := 1) rfl ?_
                        refine zt_goto (pc := 149) 153 dX5_sure_149 (by decide) ?_
                        refine zt_top (pc := 153) (itr (s_suF A s_ (s_anyC A) set) (s_suI set (itr (s_suS A s_) (-4) set)) (m + 1)) (show _ = s_suF A s_ (s_anyC A) set m _ from (bI_t ⟨c_108, Or.inr (Or.inr c_145)⟩).symm) ?_
                        refine zt_istore (pc := 153) (L' := [some (.ref 289), some (.int (nI s_)), some (.int (nI w_)), some (.int (s_anyC A)), some (.int (itr (s_suS A s_) (-4) set)), some (.int (nI set)), some (.int (itr (s_suF A s_ (s_anyC A) set) (s_suI set (itr (s_suS A s_) (-4) set)) (m + 1))), some (.int (nI m)), some (.int ((A 300 m) ^^^ (s_tgt A s_)))]) dX5_sure_153 (by decide) rfl rfl ?_
                        refine zt_iincN (pc := 155) (b := m + 1) (L' := [some (.ref 289), some (.int (nI s_)), some (.int (nI w_)), some (.int (s_anyC A)), some (.int (itr (s_suS A s_) (-4) set)), some (.int (nI set)), some (.int (itr (s_suF A s_ (s_anyC A) set) (s_suI set (itr (s_suS A s_) (-4) set)) (m + 1))), some (.int (nI (m + 1))), some (.int ((A 300 m) ^^^ (s_tgt A s_)))]) dX5_sure_155 rfl (zinc1 m) (by decide) rfl rfl ?_
                        refine zt_goto (pc := 158) 97 dX5_sure_158 (by decide) ?_
                        refine zt_drop (L' := [some (.ref 289), some (.int (nI s_)), some (.int (nI w_)), some (.int (s_anyC A)), some (.int (itr (s_suS A s_) (-4) set)), some (.int (nI set)), some (.int (itr (s_suF A s_ (s_anyC A) set) (s_suI set (itr (s_suS A s_) (-4) set)) (m + 1))), some (.int (nI (m + 1))), none]) 8 rfl ?_
                        exact ih_m
      · show Zt _ _ _ _ _ _ (zW h S) 25 [some (.ref 289), some (.int (nI s_)), some (.int (nI w_)), some (.int (itr (fun k acc => acc ||| s_can A k) 0 k)), some (.int (nI k)), none, none, none, none] []
        refine zt_iload (pc := 25) dX5_sure_25 rfl ?_
        refine zt_aload_n (pc := 27) dX5_sure_27 rfl rfl ?_
        refine wt_getI (pc := 28) 5 7 (v := nI (cK A)) dX5_sure_28 q1279 rfl (ms_o hM) (hA.ce.k hI.c) ?_
        refine zt_geN (a := k) (b := cK A) (pc := 31) 49 dX5_sure_31 (by decide) (by omega) (by omega) (fun c_31 => absurd hi_k (Nat.not_lt.mpr c_31)) (fun c_31 => ?_)
        refine zt_iload_n (pc := 34) dX5_sure_34 rfl rfl ?_
        refine zt_aload_n (pc := 35) dX5_sure_35 rfl rfl ?_
        refine zt_iload (pc := 36) dX5_sure_36 rfl ?_
        refine wt_callV (pc := 38) mX5_canThink 1 5 (rc' := 0) (rs' := 0) dX5_sure_38 q1246 mi_X5_canThink rfl rfl (ms_o hM) (tm_canThink hM hI.c hA.ce k (by omega)) rfl rfl rfl rfl rfl rfl ?_
        refine zt_ior (pc := 41) dX5_sure_41 ?_
        refine zt_istore_n (pc := 42) (L' := [some (.ref 289), some (.int (nI s_)), some (.int (nI w_)), some (.int ((itr (fun k acc => acc ||| s_can A k) 0 k) ||| (s_can A k))), some (.int (nI k)), none, none, none, none]) dX5_sure_42 rfl (by decide) rfl rfl ?_
        refine zt_iincN (pc := 43) (b := k + 1) (L' := [some (.ref 289), some (.int (nI s_)), some (.int (nI w_)), some (.int ((itr (fun k acc => acc ||| s_can A k) 0 k) ||| (s_can A k))), some (.int (nI (k + 1))), none, none, none, none]) dX5_sure_43 rfl (zinc1 k) (by decide) rfl rfl ?_
        refine zt_goto (pc := 46) 25 dX5_sure_46 (by decide) ?_
        exact ih_k
    · refine zt_iconst (pc := 18) dX5_sure_18 (v := (-1)) rfl ?_
      exact zt_ireturn (pc := 19) dX5_sure_19 rfl (⟨congrArg some (congrArg Value.int ((if_neg (fun q => bI_eq0.mp c_15 ((in_c w 1 (by decide)).mpr q.2))).symm)), rfl⟩)

end M9