/-! THE TWIN, part 5: for all of some kinds; states copied; who can never -/
set_option maxRecDepth 100000
theorem sh1 : ∀ k, k ≤ 12 → (1 : Int32) <<< (nI k &&& 31) - 1 = nI (2 ^ k - 1) := by decide
theorem in_k (x : Int32) (k : Nat) (hk : k ≤ 12) : ((0 : Int64) ≤ x.toInt64 ∧ x.toInt64 ≤ ((1 : Int32) <<< (nI k &&& 31) - 1).toInt64) ↔ inN x (2 ^ k) := by
  have h2 : 2 ^ k ≤ 2 ^ 12 := Nat.pow_le_pow_right (by decide) hk
  have h1 : 0 < 2 ^ k := Nat.pow_pos (by decide)
  rw [sh1 k hk, nI_l (by omega), in_c x (2 ^ k - 1) (by omega), show 2 ^ k - 1 + 1 = 2 ^ k by omega]
def s_allSF (C : Nat → Nat → Int32) (f : Nat → Int32) (b : Nat) (x : Int32) (s k : Nat) (is : Int32) : Int32 := bI (¬ is = 0 ∧ (x >>> (nI k &&& 31) &&& 1 = 0 ∨ ¬ s_same C f b k s = 0))
def s_allS (C : Nat → Nat → Int32) (f : Nat → Int32) (b : Nat) (x : Int32) (s : Nat) : Int32 := itr (s_allSF C f b x s) 1 (cK C)
theorem allS_or {C : Nat → Nat → Int32} {f : Nat → Int32} {b : Nat} {x : Int32} {s : Nat} : ∀ n : Nat, itr (s_allSF C f b x s) 1 n = 0 ∨ itr (s_allSF C f b x s) 1 n = 1
  | 0 => Or.inr rfl
  | _ + 1 => bI_or
def s_hasF (f : Nat → Int32) (b : Nat) (x : Int32) (k : Nat) (is : Int32) : Int32 := bI (¬ is = 0 ∨ (x >>> (nI k &&& 31) &&& 1 = 1 ∧ ¬ f (b + 10 * k + 9) = -4))
def s_has (C : Nat → Nat → Int32) (f : Nat → Int32) (b : Nat) (x : Int32) : Int32 := itr (s_hasF f b x) 0 (cK C)
theorem has_or {f : Nat → Int32} {b : Nat} {x : Int32} : ∀ n : Nat, itr (s_hasF f b x) 0 n = 0 ∨ itr (s_hasF f b x) 0 n = 1
  | 0 => Or.inl rfl
  | _ + 1 => bI_or
def s_comF (A : Nat → Nat → Int32) (x : Int32) (s : Nat) (acc : Int32) : Int32 := acc ||| (if s_allS A (A 302) 0 x s = 0 then (0 : Int32) else 1 <<< (nI s &&& 31))
def o_common (A : Nat → Nat → Int32) (x : Int32) : Int32 := if inN x (2 ^ cK A) then itr (s_comF A x) 0 (cS A) else -1
def s_copyF (to_ of_ i : Nat) (f : Nat → Int32) : Nat → Int32 := upd f (to_ + i) (f (of_ + i))
def s_copy (f : Nat → Int32) (to_ of_ : Nat) : Nat → Int32 := itr (s_copyF to_ of_) f 70
theorem copy_at {f : Nat → Int32} {to_ of_ : Nat} (hd : to_ + 70 ≤ of_ ∨ of_ + 70 ≤ to_) : ∀ n, n ≤ 70 → ∀ j, itr (s_copyF to_ of_) f n j = if to_ ≤ j ∧ j < to_ + n then f (of_ + (j - to_)) else f j := by
  intro n
  induction n with
  | zero => intro _ j; rw [if_neg (by omega)]; rfl
  | succ n ih =>
    intro hn j
    show upd _ (to_ + n) _ j = _
    by_cases e : j = to_ + n
    · rw [e, upd_at, ih (by omega), if_neg (by omega), if_pos (by omega), Nat.add_sub_cancel_left]
    · rw [upd_ne e, ih (by omega)]
      by_cases c : to_ ≤ j ∧ j < to_ + n
      · rw [if_pos c, if_pos (by omega)]
      · rw [if_neg c, if_neg (by omega)]
theorem copy_tk {f : Nat → Int32} {to_ of_ : Nat} (hd : to_ + 70 ≤ of_ ∨ of_ + 70 ≤ to_) (h : TK f of_) : TK (s_copy f to_ of_) to_ := by
  intro k hk s hs
  show tk (itr (s_copyF to_ of_) f 70 (to_ + 10 * k + s))
  rw [copy_at hd 70 (Nat.le_refl _), if_pos (by omega), show of_ + (to_ + 10 * k + s - to_) = of_ + 10 * k + s by omega]
  exact h k hk s hs
theorem copy_out {f : Nat → Int32} {to_ of_ : Nat} (hd : to_ + 70 ≤ of_ ∨ of_ + 70 ≤ to_) : Out to_ f (s_copy f to_ of_) := by
  intro j hj
  show itr (s_copyF to_ of_) f 70 j = _
  rw [copy_at hd 70 (Nat.le_refl _), if_neg (by omega)]
def s_nevF (A : Nat → Nat → Int32) (k s m : Nat) (is : Int32) : Int32 := bI (¬ is = 0 ∧ ¬ (s_can A k >>> (nI m &&& 31) &&& 1 = 1 ∧ A 300 m = s_tgt A s))
def o_never (A : Nat → Nat → Int32) (k s : Int32) : Int32 := if inN k (cK A) ∧ inN s (cS A) then itr (s_nevF A k.toNatClampNeg s.toNatClampNeg) 1 (cM A) else -1
section M5
variable {g : ZG} {h : ZH} {S A C : Nat → Nat → Int32} {f : Nat → Int32}
theorem tm_areKinds (hM : MS h.2.1 h.2.2.2) (hC : CI C) (hE : CE S C) (x : Int32) : Zd g mX5_areKinds 2 0 0 [.ref 289, .int x] (zW h S) (some (.int (bI (inN x (2 ^ cK C))))) (zW h S) := by
  refine zc_of [some (.ref 289), some (.int x)] rfl (Nat.le_of_ble_eq_true rfl) rfl ?_
  refine zt_iload_n (pc := 0) dX5_areKinds_0 rfl rfl ?_
  refine zt_i2l (pc := 1) dX5_areKinds_1 rfl ?_
  refine zt_lconst (pc := 2) dX5_areKinds_2 (v := 0) rfl ?_
  refine zt_iconst (pc := 3) dX5_areKinds_3 (v := 1) rfl ?_
  refine zt_aload_n (pc := 4) dX5_areKinds_4 rfl rfl ?_
  refine wt_getI (pc := 5) 5 7 (v := nI (cK C)) dX5_areKinds_5 q1279 rfl (ms_o hM) (hE.k hC) ?_
  refine zt_ishl (pc := 8) dX5_areKinds_8 ?_
  refine zt_iconst (pc := 9) dX5_areKinds_9 (v := 1) rfl ?_
  refine zt_isub (pc := 10) dX5_areKinds_10 ?_
  refine zt_i2l (pc := 11) dX5_areKinds_11 rfl ?_
  refine wt_callS (pc := 12) mX5_in 3 (rc' := 0) (rs' := 0) dX5_areKinds_12 q1223 ms_X5_in (tm_in x.toInt64 0 (((1 <<< ((nI (cK C)) &&& 31)) - 1).toInt64)) rfl rfl rfl rfl rfl rfl ?_
  exact zt_zreturn (pc := 15) dX5_areKinds_15 rfl bI_or (⟨congrArg some (congrArg Value.int (bI_congr (in_k x (cK C) (by have := hC.k6; omega)))), rfl⟩)

theorem tm_isSameForAll (hM : MS h.2.1 h.2.2.2) (hC : CI C) (hE : CE S C) (b : Nat) (hb : b ≤ 140) (x : Int32) (s : Nat) (hs : s < 4) (hT : TK f b) : Zd g mX5_isSameForAll 3 0 0 [.ref 289, .int (nI b), .int x, .int (nI s)] (zW h (zs S 302 f)) (some (.int (s_allS C f b x s))) (zW h (zs S 302 f)) := by
  refine zc_of [some (.ref 289), some (.int (nI b)), some (.int x), some (.int (nI s)), none, none] rfl (Nat.le_of_ble_eq_true rfl) rfl ?_
  have hk6 := hC.k6
  refine zt_iconst (pc := 0) dX5_isSameForAll_0 (v := 1) rfl ?_
  refine zt_istore (pc := 1) (L' := [some (.ref 289), some (.int (nI b)), some (.int x), some (.int (nI s)), some (.int 1), none]) dX5_isSameForAll_1 (by decide) rfl rfl ?_
  refine zt_iconst (pc := 3) dX5_isSameForAll_3 (v := 0) rfl ?_
  refine zt_istore (pc := 4) (L' := [some (.ref 289), some (.int (nI b)), some (.int x), some (.int (nI s)), some (.int 1), some (.int 0)]) dX5_isSameForAll_4 (by decide) rfl rfl ?_
  refine zt_for (pc := 6) (fun k => zs S 302 f) (fun k => [some (.ref 289), some (.int (nI b)), some (.int x), some (.int (nI s)), some (.int (itr (s_allSF C f b x s) 1 k)), some (.int (nI k))]) (cK C) rfl rfl ?_ (fun k hi_k ih_k => ?_)
  · show Zt _ _ _ _ _ _ (zW h (zs S 302 f)) 6 [some (.ref 289), some (.int (nI b)), some (.int x), some (.int (nI s)), some (.int (itr (s_allSF C f b x s) 1 (cK C))), some (.int (nI (cK C)))] []
    refine zt_iload (pc := 6) dX5_isSameForAll_6 rfl ?_
    refine zt_aload_n (pc := 8) dX5_isSameForAll_8 rfl rfl ?_
    refine wt_getI (pc := 9) 5 7 (v := nI (cK C)) dX5_isSameForAll_9 q1279 rfl (ms_o hM) (hE.k hC) ?_
    refine zt_geN (a := cK C) (b := cK C) (pc := 12) 53 dX5_isSameForAll_12 (by decide) (by omega) (by omega) (fun c_12 => ?_) (fun c_12 => absurd c_12 (Nat.lt_irrefl _))
    refine zt_iload (pc := 53) dX5_isSameForAll_53 rfl ?_
    exact zt_zreturn (pc := 55) dX5_isSameForAll_55 rfl (allS_or _) (⟨rfl, rfl⟩)
  · show Zt _ _ _ _ _ _ (zW h (zs S 302 f)) 6 [some (.ref 289), some (.int (nI b)), some (.int x), some (.int (nI s)), some (.int (itr (s_allSF C f b x s) 1 k)), some (.int (nI k))] []
    refine zt_iload (pc := 6) dX5_isSameForAll_6 rfl ?_
    refine zt_aload_n (pc := 8) dX5_isSameForAll_8 rfl rfl ?_
    refine wt_getI (pc := 9) 5 7 (v := nI (cK C)) dX5_isSameForAll_9 q1279 rfl (ms_o hM) (hE.k hC) ?_
    refine zt_geN (a := k) (b := cK C) (pc := 12) 53 dX5_isSameForAll_12 (by decide) (by omega) (by omega) (fun c_12 => absurd hi_k (Nat.not_lt.mpr c_12)) (fun c_12 => ?_)
    refine zt_iload (pc := 15) dX5_isSameForAll_15 rfl ?_
    refine zt_if_eq (pc := 17) 44 dX5_isSameForAll_17 (by decide) (fun c_17 => ?_) (fun c_17 => ?_)
    · refine zt_iconst (pc := 44) dX5_isSameForAll_44 (v := 0) rfl ?_
      refine zt_top (pc := 45) (itr (s_allSF C f b x s) 1 (k + 1)) (show _ = s_allSF C f b x s k _ from (bI_f (fun q => q.1 c_17)).symm) ?_
      refine zt_istore (pc := 45) (L' := [some (.ref 289), some (.int (nI b)), some (.int x), some (.int (nI s)), some (.int (itr (s_allSF C f b x s) 1 (k + 1))), some (.int (nI k))]) dX5_isSameForAll_45 (by decide) rfl rfl ?_
      refine zt_iincN (pc := 47) (b := k + 1) (L' := [some (.ref 289), some (.int (nI b)), some (.int x), some (.int (nI s)), some (.int (itr (s_allSF C f b x s) 1 (k + 1))), some (.int (nI (k + 1)))]) dX5_isSameForAll_47 rfl (zinc1 k) (by decide) rfl rfl ?_
      refine zt_goto (pc := 50) 6 dX5_isSameForAll_50 (by decide) ?_
      exact ih_k
    · refine zt_iload_n (pc := 20) dX5_isSameForAll_20 rfl rfl ?_
      refine zt_iload (pc := 21) dX5_isSameForAll_21 rfl ?_
      refine zt_ishr (pc := 23) dX5_isSameForAll_23 ?_
      refine zt_iconst (pc := 24) dX5_isSameForAll_24 (v := 1) rfl ?_
      refine zt_iand (pc := 25) dX5_isSameForAll_25 ?_
      refine zt_if_eq (pc := 26) 40 dX5_isSameForAll_26 (by decide) (fun c_26 => ?_) (fun c_26 => ?_)
      · refine zt_iconst (pc := 40) dX5_isSameForAll_40 (v := 1) rfl ?_
        refine zt_goto (pc := 41) 45 dX5_isSameForAll_41 (by decide) ?_
        refine zt_top (pc := 45) (itr (s_allSF C f b x s) 1 (k + 1)) (show _ = s_allSF C f b x s k _ from (bI_t ⟨c_17, Or.inl c_26⟩).symm) ?_
        refine zt_istore (pc := 45) (L' := [some (.ref 289), some (.int (nI b)), some (.int x), some (.int (nI s)), some (.int (itr (s_allSF C f b x s) 1 (k + 1))), some (.int (nI k))]) dX5_isSameForAll_45 (by decide) rfl rfl ?_
        refine zt_iincN (pc := 47) (b := k + 1) (L' := [some (.ref 289), some (.int (nI b)), some (.int x), some (.int (nI s)), some (.int (itr (s_allSF C f b x s) 1 (k + 1))), some (.int (nI (k + 1)))]) dX5_isSameForAll_47 rfl (zinc1 k) (by decide) rfl rfl ?_
        refine zt_goto (pc := 50) 6 dX5_isSameForAll_50 (by decide) ?_
        exact ih_k
      · refine zt_aload_n (pc := 29) dX5_isSameForAll_29 rfl rfl ?_
        refine zt_iload_n (pc := 30) dX5_isSameForAll_30 rfl rfl ?_
        refine zt_iload (pc := 31) dX5_isSameForAll_31 rfl ?_
        refine zt_iload_n (pc := 33) dX5_isSameForAll_33 rfl rfl ?_
        refine wt_callV (pc := 34) mX5_isSame 3 5 (rc' := 0) (rs' := 0) dX5_isSameForAll_34 q1557 mi_X5_isSame rfl rfl (ms_o hM) (tm_isSame hM hC hE b k s hb (by omega) hs hT) rfl rfl rfl rfl rfl rfl ?_
        refine zt_if_eq (pc := 37) 44 dX5_isSameForAll_37 (by decide) (fun c_37 => ?_) (fun c_37 => ?_)
        · refine zt_iconst (pc := 44) dX5_isSameForAll_44 (v := 0) rfl ?_
          refine zt_top (pc := 45) (itr (s_allSF C f b x s) 1 (k + 1)) (show _ = s_allSF C f b x s k _ from (bI_f (fun q => q.2.elim c_26 (fun z => z c_37))).symm) ?_
          refine zt_istore (pc := 45) (L' := [some (.ref 289), some (.int (nI b)), some (.int x), some (.int (nI s)), some (.int (itr (s_allSF C f b x s) 1 (k + 1))), some (.int (nI k))]) dX5_isSameForAll_45 (by decide) rfl rfl ?_
          refine zt_iincN (pc := 47) (b := k + 1) (L' := [some (.ref 289), some (.int (nI b)), some (.int x), some (.int (nI s)), some (.int (itr (s_allSF C f b x s) 1 (k + 1))), some (.int (nI (k + 1)))]) dX5_isSameForAll_47 rfl (zinc1 k) (by decide) rfl rfl ?_
          refine zt_goto (pc := 50) 6 dX5_isSameForAll_50 (by decide) ?_
          exact ih_k
        · refine zt_iconst (pc := 40) dX5_isSameForAll_40 (v := 1) rfl ?_
          refine zt_goto (pc := 41) 45 dX5_isSameForAll_41 (by decide) ?_
          refine zt_top (pc := 45) (itr (s_allSF C f b x s) 1 (k + 1)) (show _ = s_allSF C f b x s k _ from (bI_t ⟨c_17, Or.inr c_37⟩).symm) ?_
          refine zt_istore (pc := 45) (L' := [some (.ref 289), some (.int (nI b)), some (.int x), some (.int (nI s)), some (.int (itr (s_allSF C f b x s) 1 (k + 1))), some (.int (nI k))]) dX5_isSameForAll_45 (by decide) rfl rfl ?_
          refine zt_iincN (pc := 47) (b := k + 1) (L' := [some (.ref 289), some (.int (nI b)), some (.int x), some (.int (nI s)), some (.int (itr (s_allSF C f b x s) 1 (k + 1))), some (.int (nI (k + 1)))]) dX5_isSameForAll_47 rfl (zinc1 k) (by decide) rfl rfl ?_
          refine zt_goto (pc := 50) 6 dX5_isSameForAll_50 (by decide) ?_
          exact ih_k

theorem tm_common (hM : MS h.2.1 h.2.2.2) (hI : AI A) (hA : AE S A) (x : Int32) : Zd g mX5_common 4 0 0 [.ref 289, .int x] (zW h S) (some (.int (o_common A x))) (zW h S) := by
  refine zc_of [some (.ref 289), some (.int x), none, none] rfl (Nat.le_of_ble_eq_true rfl) rfl ?_
  have b1 := hI.c.t8; have b2 := hI.c.m12; have b3 := hI.c.s4; have b4 := hI.c.k6; have b5 := hI.sh24
  refine zt_aload_n (pc := 0) dX5_common_0 rfl rfl ?_
  refine zt_iload_n (pc := 1) dX5_common_1 rfl rfl ?_
  refine wt_callV (pc := 2) mX5_areKinds 1 5 (rc' := 0) (rs' := 0) dX5_common_2 q1573 mi_X5_areKinds rfl rfl (ms_o hM) (tm_areKinds hM hI.c hA.ce x) rfl rfl rfl rfl rfl rfl ?_
  refine zt_if_ne (pc := 5) 10 dX5_common_5 (by decide) (fun c_5 => ?_) (fun c_5 => ?_)
  · refine zt_iconst (pc := 10) dX5_common_10 (v := 0) rfl ?_
    refine zt_istore_n (pc := 11) (L' := [some (.ref 289), some (.int x), some (.int 0), none]) dX5_common_11 rfl (by decide) rfl rfl ?_
    refine zt_iconst (pc := 12) dX5_common_12 (v := 0) rfl ?_
    refine zt_istore_n (pc := 13) (L' := [some (.ref 289), some (.int x), some (.int 0), some (.int 0)]) dX5_common_13 rfl (by decide) rfl rfl ?_
    refine zt_for (pc := 14) (fun i => S) (fun i => [some (.ref 289), some (.int x), some (.int (itr (s_comF A x) 0 i)), some (.int (nI i))]) (cS A) rfl rfl ?_ (fun i hi_i ih_i => ?_)
    · show Zt _ _ _ _ _ _ (zW h S) 14 [some (.ref 289), some (.int x), some (.int (itr (s_comF A x) 0 (cS A))), some (.int (nI (cS A)))] []
      refine zt_iload_n (pc := 14) dX5_common_14 rfl rfl ?_
      refine zt_aload_n (pc := 15) dX5_common_15 rfl rfl ?_
      refine wt_getI (pc := 16) 5 5 (v := nI (cS A)) dX5_common_16 q1277 rfl (ms_o hM) (hA.ce.s hI.c) ?_
      refine zt_geN (a := cS A) (b := cS A) (pc := 19) 48 dX5_common_19 (by decide) (by omega) (by omega) (fun c_19 => ?_) (fun c_19 => absurd c_19 (Nat.lt_irrefl _))
      refine zt_iload_n (pc := 48) dX5_common_48 rfl rfl ?_
      exact zt_ireturn (pc := 49) dX5_common_49 rfl (⟨congrArg some (congrArg Value.int ((if_pos (bI_ne0 c_5)).symm)), rfl⟩)
    · show Zt _ _ _ _ _ _ (zW h S) 14 [some (.ref 289), some (.int x), some (.int (itr (s_comF A x) 0 i)), some (.int (nI i))] []
      refine zt_iload_n (pc := 14) dX5_common_14 rfl rfl ?_
      refine zt_aload_n (pc := 15) dX5_common_15 rfl rfl ?_
      refine wt_getI (pc := 16) 5 5 (v := nI (cS A)) dX5_common_16 q1277 rfl (ms_o hM) (hA.ce.s hI.c) ?_
      refine zt_geN (a := i) (b := cS A) (pc := 19) 48 dX5_common_19 (by decide) (by omega) (by omega) (fun c_19 => absurd hi_i (Nat.not_lt.mpr c_19)) (fun c_19 => ?_)
      refine zt_iload_n (pc := 22) dX5_common_22 rfl rfl ?_
      refine zt_aload_n (pc := 23) dX5_common_23 rfl rfl ?_
      refine zt_iconst (pc := 24) dX5_common_24 (v := 0) rfl ?_
      refine zt_iload_n (pc := 25) dX5_common_25 rfl rfl ?_
      refine zt_iload_n (pc := 26) dX5_common_26 rfl rfl ?_
      refine wt_callV (pc := 27) mX5_isSameForAll 3 5 (rc' := 0) (rs' := 0) dX5_common_27 q1577 mi_X5_isSameForAll rfl rfl (ms_o hM) (by have e0 := tm_isSameForAll (g := g) (f := A 302) hM hI.c hA.ce 0 (by decide) x i (by omega) hI.k0; rw [← zs_eq (hA 302 (by decide) (by decide))] at e0; exact e0) rfl rfl rfl rfl rfl rfl ?_
      refine zt_if_eq (pc := 30) 39 dX5_common_30 (by decide) (fun c_30 => ?_) (fun c_30 => ?_)
      · refine zt_iconst (pc := 39) dX5_common_39 (v := 0) rfl ?_
        refine zt_ior (pc := 40) dX5_common_40 ?_
        refine zt_top (pc := 41) (itr (s_comF A x) 0 (i + 1)) (show _ = s_comF A x i _ from congrArg _ (if_pos c_30).symm) ?_
        refine zt_istore_n (pc := 41) (L' := [some (.ref 289), some (.int x), some (.int (itr (s_comF A x) 0 (i + 1))), some (.int (nI i))]) dX5_common_41 rfl (by decide) rfl rfl ?_
        refine zt_iincN (pc := 42) (b := i + 1) (L' := [some (.ref 289), some (.int x), some (.int (itr (s_comF A x) 0 (i + 1))), some (.int (nI (i + 1)))]) dX5_common_42 rfl (zinc1 i) (by decide) rfl rfl ?_
        refine zt_goto (pc := 45) 14 dX5_common_45 (by decide) ?_
        exact ih_i
      · refine zt_iconst (pc := 33) dX5_common_33 (v := 1) rfl ?_
        refine zt_iload_n (pc := 34) dX5_common_34 rfl rfl ?_
        refine zt_ishl (pc := 35) dX5_common_35 ?_
        refine zt_goto (pc := 36) 40 dX5_common_36 (by decide) ?_
        refine zt_ior (pc := 40) dX5_common_40 ?_
        refine zt_top (pc := 41) (itr (s_comF A x) 0 (i + 1)) (show _ = s_comF A x i _ from congrArg _ (if_neg c_30).symm) ?_
        refine zt_istore_n (pc := 41) (L' := [some (.ref 289), some (.int x), some (.int (itr (s_comF A x) 0 (i + 1))), some (.int (nI i))]) dX5_common_41 rfl (by decide) rfl rfl ?_
        refine zt_iincN (pc := 42) (b := i + 1) (L' := [some (.ref 289), some (.int x), some (.int (itr (s_comF A x) 0 (i + 1))), some (.int (nI (i + 1)))]) dX5_common_42 rfl (zinc1 i) (by decide) rfl rfl ?_
        refine zt_goto (pc := 45) 14 dX5_common_45 (by decide) ?_
        exact ih_i
  · refine zt_iconst (pc := 8) dX5_common_8 (v := (-1)) rfl ?_
    exact zt_ireturn (pc := 9) dX5_common_9 rfl (⟨congrArg some (congrArg Value.int ((if_neg (bI_eq0.mp c_5)).symm)), rfl⟩)

theorem tm_copies (hM : MS h.2.1 h.2.2.2) (to_ of_ : Nat) (h1 : to_ ≤ 140) (h2 : of_ ≤ 140) : Zd g mX5_copies 1 0 0 [.ref 289, .int (nI to_), .int (nI of_)] (zW h (zs S 302 f)) none (zW h (zs S 302 (s_copy f to_ of_))) := by
  refine zc_of [some (.ref 289), some (.int (nI to_)), some (.int (nI of_)), none] rfl (Nat.le_of_ble_eq_true rfl) rfl ?_
  refine zt_iconst (pc := 0) dX5_copies_0 (v := 0) rfl ?_
  refine zt_istore_n (pc := 1) (L' := [some (.ref 289), some (.int (nI to_)), some (.int (nI of_)), some (.int 0)]) dX5_copies_1 rfl (by decide) rfl rfl ?_
  refine zt_for (pc := 2) (fun i => zs S 302 (itr (s_copyF to_ of_) f i)) (fun i => [some (.ref 289), some (.int (nI to_)), some (.int (nI of_)), some (.int (nI i))]) 70 rfl rfl ?_ (fun i hi_i ih_i => ?_)
  · show Zt _ _ _ _ _ _ (zW h (zs S 302 (itr (s_copyF to_ of_) f 70))) 2 [some (.ref 289), some (.int (nI to_)), some (.int (nI of_)), some (.int (nI 70))] []
    refine zt_iload_n (pc := 2) dX5_copies_2 rfl rfl ?_
    refine zt_bipush (pc := 3) dX5_copies_3 (v := 70) rfl ?_
    refine zt_geN (a := 70) (b := 70) (pc := 5) 30 dX5_copies_5 (by decide) (by omega) (by omega) (fun c_5 => ?_) (fun c_5 => absurd c_5 (Nat.lt_irrefl _))
    exact zt_return (pc := 30) dX5_copies_30 rfl (⟨rfl, rfl⟩)
  · show Zt _ _ _ _ _ _ (zW h (zs S 302 (itr (s_copyF to_ of_) f i))) 2 [some (.ref 289), some (.int (nI to_)), some (.int (nI of_)), some (.int (nI i))] []
    refine zt_iload_n (pc := 2) dX5_copies_2 rfl rfl ?_
    refine zt_bipush (pc := 3) dX5_copies_3 (v := 70) rfl ?_
    refine zt_geN (a := i) (b := 70) (pc := 5) 30 dX5_copies_5 (by decide) (by omega) (by omega) (fun c_5 => absurd hi_i (Nat.not_lt.mpr c_5)) (fun c_5 => ?_)
    refine zt_aload_n (pc := 8) dX5_copies_8 rfl rfl ?_
    refine wt_getR (pc := 9) 5 27 dX5_copies_9 q1299 rfl (ms_o hM) (mr_st hM) ?_
    refine zt_iload_n (pc := 12) dX5_copies_12 rfl rfl ?_
    refine zt_iload_n (pc := 13) dX5_copies_13 rfl rfl ?_
    refine zt_iaddN (pc := 14) (a := to_) (b := i) dX5_copies_14 ?_
    refine zt_aload_n (pc := 15) dX5_copies_15 rfl rfl ?_
    refine wt_getR (pc := 16) 5 27 dX5_copies_16 q1299 rfl (ms_o hM) (mr_st hM) ?_
    refine zt_iload_n (pc := 19) dX5_copies_19 rfl rfl ?_
    refine zt_iload_n (pc := 20) dX5_copies_20 rfl rfl ?_
    refine zt_iaddN (pc := 21) (a := of_) (b := i) dX5_copies_21 ?_
    refine wt_iald (pc := 22) 210 (of_ + i) (v := (itr (s_copyF to_ of_) f i) (of_ + i)) dX5_copies_22 (ma_st hM) rfl rfl (by omega) rfl ?_
    refine wt_iastS (pc := 23) 210 (to_ + i) dX5_copies_23 (ma_st hM) rfl rfl (by omega) ?_
    refine zt_iincN (pc := 24) (b := i + 1) (L' := [some (.ref 289), some (.int (nI to_)), some (.int (nI of_)), some (.int (nI (i + 1)))]) dX5_copies_24 rfl (zinc1 i) (by decide) rfl rfl ?_
    refine zt_goto (pc := 27) 2 dX5_copies_27 (by decide) ?_
    exact ih_i

theorem tm_hasFled (hM : MS h.2.1 h.2.2.2) (hC : CI C) (hE : CE S C) (b : Nat) (hb : b ≤ 140) (x : Int32) : Zd g mX5_hasFled 1 0 0 [.ref 289, .int (nI b), .int x] (zW h (zs S 302 f)) (some (.int (s_has C f b x))) (zW h (zs S 302 f)) := by
  refine zc_of [some (.ref 289), some (.int (nI b)), some (.int x), none, none] rfl (Nat.le_of_ble_eq_true rfl) rfl ?_
  have hk6 := hC.k6
  refine zt_iconst (pc := 0) dX5_hasFled_0 (v := 0) rfl ?_
  refine zt_istore_n (pc := 1) (L' := [some (.ref 289), some (.int (nI b)), some (.int x), some (.int 0), none]) dX5_hasFled_1 rfl (by decide) rfl rfl ?_
  refine zt_iconst (pc := 2) dX5_hasFled_2 (v := 0) rfl ?_
  refine zt_istore (pc := 3) (L' := [some (.ref 289), some (.int (nI b)), some (.int x), some (.int 0), some (.int 0)]) dX5_hasFled_3 (by decide) rfl rfl ?_
  refine zt_for (pc := 5) (fun k => zs S 302 f) (fun k => [some (.ref 289), some (.int (nI b)), some (.int x), some (.int (itr (s_hasF f b x) 0 k)), some (.int (nI k))]) (cK C) rfl rfl ?_ (fun k hi_k ih_k => ?_)
  · show Zt _ _ _ _ _ _ (zW h (zs S 302 f)) 5 [some (.ref 289), some (.int (nI b)), some (.int x), some (.int (itr (s_hasF f b x) 0 (cK C))), some (.int (nI (cK C)))] []
    refine zt_iload (pc := 5) dX5_hasFled_5 rfl ?_
    refine zt_aload_n (pc := 7) dX5_hasFled_7 rfl rfl ?_
    refine wt_getI (pc := 8) 5 7 (v := nI (cK C)) dX5_hasFled_8 q1279 rfl (ms_o hM) (hE.k hC) ?_
    refine zt_geN (a := cK C) (b := cK C) (pc := 11) 60 dX5_hasFled_11 (by decide) (by omega) (by omega) (fun c_11 => ?_) (fun c_11 => absurd c_11 (Nat.lt_irrefl _))
    refine zt_iload_n (pc := 60) dX5_hasFled_60 rfl rfl ?_
    exact zt_zreturn (pc := 61) dX5_hasFled_61 rfl (has_or _) (⟨rfl, rfl⟩)
  · show Zt _ _ _ _ _ _ (zW h (zs S 302 f)) 5 [some (.ref 289), some (.int (nI b)), some (.int x), some (.int (itr (s_hasF f b x) 0 k)), some (.int (nI k))] []
    refine zt_iload (pc := 5) dX5_hasFled_5 rfl ?_
    refine zt_aload_n (pc := 7) dX5_hasFled_7 rfl rfl ?_
    refine wt_getI (pc := 8) 5 7 (v := nI (cK C)) dX5_hasFled_8 q1279 rfl (ms_o hM) (hE.k hC) ?_
    refine zt_geN (a := k) (b := cK C) (pc := 11) 60 dX5_hasFled_11 (by decide) (by omega) (by omega) (fun c_11 => absurd hi_k (Nat.not_lt.mpr c_11)) (fun c_11 => ?_)
    refine zt_iload_n (pc := 14) dX5_hasFled_14 rfl rfl ?_
    refine zt_if_ne (pc := 15) 48 dX5_hasFled_15 (by decide) (fun c_15 => ?_) (fun c_15 => ?_)
    · refine zt_iconst (pc := 48) dX5_hasFled_48 (v := 1) rfl ?_
      refine zt_goto (pc := 49) 53 dX5_hasFled_49 (by decide) ?_
      refine zt_top (pc := 53) (itr (s_hasF f b x) 0 (k + 1)) (show _ = s_hasF f b x k _ from (bI_t (Or.inl c_15)).symm) ?_
      refine zt_istore_n (pc := 53) (L' := [some (.ref 289), some (.int (nI b)), some (.int x), some (.int (itr (s_hasF f b x) 0 (k + 1))), some (.int (nI k))]) dX5_hasFled_53 rfl (by decide) rfl rfl ?_
      refine zt_iincN (pc := 54) (b := k + 1) (L' := [some (.ref 289), some (.int (nI b)), some (.int x), some (.int (itr (s_hasF f b x) 0 (k + 1))), some (.int (nI (k + 1)))]) dX5_hasFled_54 rfl (zinc1 k) (by decide) rfl rfl ?_
      refine zt_goto (pc := 57) 5 dX5_hasFled_57 (by decide) ?_
      exact ih_k
    · refine zt_iload_n (pc := 18) dX5_hasFled_18 rfl rfl ?_
      refine zt_iload (pc := 19) dX5_hasFled_19 rfl ?_
      refine zt_ishr (pc := 21) dX5_hasFled_21 ?_
      refine zt_iconst (pc := 22) dX5_hasFled_22 (v := 1) rfl ?_
      refine zt_iand (pc := 23) dX5_hasFled_23 ?_
      refine zt_iconst (pc := 24) dX5_hasFled_24 (v := 1) rfl ?_
      refine zt_icmp_ne (pc := 25) 52 dX5_hasFled_25 (by decide) (fun c_25 => ?_) (fun c_25 => ?_)
      · refine zt_iconst (pc := 52) dX5_hasFled_52 (v := 0) rfl ?_
        refine zt_top (pc := 53) (itr (s_hasF f b x) 0 (k + 1)) (show _ = s_hasF f b x k _ from (bI_f (fun q => q.elim (fun z => z c_15) (fun z => c_25 z.1))).symm) ?_
        refine zt_istore_n (pc := 53) (L' := [some (.ref 289), some (.int (nI b)), some (.int x), some (.int (itr (s_hasF f b x) 0 (k + 1))), some (.int (nI k))]) dX5_hasFled_53 rfl (by decide) rfl rfl ?_
        refine zt_iincN (pc := 54) (b := k + 1) (L' := [some (.ref 289), some (.int (nI b)), some (.int x), some (.int (itr (s_hasF f b x) 0 (k + 1))), some (.int (nI (k + 1)))]) dX5_hasFled_54 rfl (zinc1 k) (by decide) rfl rfl ?_
        refine zt_goto (pc := 57) 5 dX5_hasFled_57 (by decide) ?_
        exact ih_k
      · refine zt_aload_n (pc := 28) dX5_hasFled_28 rfl rfl ?_
        refine wt_getR (pc := 29) 5 27 dX5_hasFled_29 q1299 rfl (ms_o hM) (mr_st hM) ?_
        refine zt_iload_n (pc := 32) dX5_hasFled_32 rfl rfl ?_
        refine zt_bipush (pc := 33) dX5_hasFled_33 (v := 10) rfl ?_
        refine zt_iload (pc := 35) dX5_hasFled_35 rfl ?_
        refine zt_imulN (pc := 37) (a := 10) (b := k) dX5_hasFled_37 ?_
        refine zt_iaddN (pc := 38) (a := b) (b := 10 * k) dX5_hasFled_38 ?_
        refine zt_bipush (pc := 39) dX5_hasFled_39 (v := 9) rfl ?_
        refine zt_iaddN (pc := 41) (a := b + (10 * k)) (b := 9) dX5_hasFled_41 ?_
        refine wt_iald (pc := 42) 210 ((b + (10 * k)) + 9) (v := f ((b + (10 * k)) + 9)) dX5_hasFled_42 (ma_st hM) rfl rfl (by omega) rfl ?_
        refine zt_bipush (pc := 43) dX5_hasFled_43 (v := (-4)) rfl ?_
        refine zt_icmp_eq (pc := 45) 52 dX5_hasFled_45 (by decide) (fun c_45 => ?_) (fun c_45 => ?_)
        · refine zt_iconst (pc := 52) dX5_hasFled_52 (v := 0) rfl ?_
          refine zt_top (pc := 53) (itr (s_hasF f b x) 0 (k + 1)) (show _ = s_hasF f b x k _ from (bI_f (fun q => q.elim (fun z => z c_15) (fun z => z.2 c_45))).symm) ?_
          refine zt_istore_n (pc := 53) (L' := [some (.ref 289), some (.int (nI b)), some (.int x), some (.int (itr (s_hasF f b x) 0 (k + 1))), some (.int (nI k))]) dX5_hasFled_53 rfl (by decide) rfl rfl ?_
          refine zt_iincN (pc := 54) (b := k + 1) (L' := [some (.ref 289), some (.int (nI b)), some (.int x), some (.int (itr (s_hasF f b x) 0 (k + 1))), some (.int (nI (k + 1)))]) dX5_hasFled_54 rfl (zinc1 k) (by decide) rfl rfl ?_
          refine zt_goto (pc := 57) 5 dX5_hasFled_57 (by decide) ?_
          exact ih_k
        · refine zt_iconst (pc := 48) dX5_hasFled_48 (v := 1) rfl ?_
          refine zt_goto (pc := 49) 53 dX5_hasFled_49 (by decide) ?_
          refine zt_top (pc := 53) (itr (s_hasF f b x) 0 (k + 1)) (show _ = s_hasF f b x k _ from (bI_t (Or.inr ⟨c_25, c_45⟩)).symm) ?_
          refine zt_istore_n (pc := 53) (L' := [some (.ref 289), some (.int (nI b)), some (.int x), some (.int (itr (s_hasF f b x) 0 (k + 1))), some (.int (nI k))]) dX5_hasFled_53 rfl (by decide) rfl rfl ?_
          refine zt_iincN (pc := 54) (b := k + 1) (L' := [some (.ref 289), some (.int (nI b)), some (.int x), some (.int (itr (s_hasF f b x) 0 (k + 1))), some (.int (nI (k + 1)))]) dX5_hasFled_54 rfl (zinc1 k) (by decide) rfl rfl ?_
          refine zt_goto (pc := 57) 5 dX5_hasFled_57 (by decide) ?_
          exact ih_k

theorem nev_or {k s : Nat} : ∀ n : Nat, itr (s_nevF A k s) 1 n = 0 ∨ itr (s_nevF A k s) 1 n = 1
  | 0 => Or.inr rfl
  | _ + 1 => bI_or
theorem tm_never (hM : MS h.2.1 h.2.2.2) (hI : AI A) (hA : AE S A) (k s : Int32) : Zd g mX5_never 3 0 0 [.ref 289, .int k, .int s] (zW h S) (some (.int (o_never A k s))) (zW h S) := by
  refine zc_of [some (.ref 289), some (.int k), some (.int s), none, none] rfl (Nat.le_of_ble_eq_true rfl) rfl ?_
  have b1 := hI.c.t8; have b2 := hI.c.m12; have b3 := hI.c.s4; have b4 := hI.c.k6; have b5 := hI.sh24
  refine zt_aload_n (pc := 0) dX5_never_0 rfl rfl ?_
  refine zt_iload_n (pc := 1) dX5_never_1 rfl rfl ?_
  refine wt_callV (pc := 2) mX5_isKind 1 5 (rc' := 0) (rs' := 0) dX5_never_2 q1507 mi_X5_isKind rfl rfl (ms_o hM) (tm_isKind hM hI.c hA.ce k) rfl rfl rfl rfl rfl rfl ?_
  refine zt_if_eq (pc := 5) 16 dX5_never_5 (by decide) (fun c_5 => ?_) (fun c_5 => ?_)
  · refine zt_iconst (pc := 16) dX5_never_16 (v := (-1)) rfl ?_
    exact zt_ireturn (pc := 17) dX5_never_17 rfl (⟨congrArg some (congrArg Value.int ((if_neg (fun q => bI_eq0.mp c_5 q.1)).symm)), rfl⟩)
  · have hn_k_ : inN k (cK A) := bI_ne0 c_5
    obtain ⟨k_, hl_k_, rfl⟩ := inN_of hn_k_ (by have := hI.c.k6; omega)
    refine zt_aload_n (pc := 8) dX5_never_8 rfl rfl ?_
    refine zt_iload_n (pc := 9) dX5_never_9 rfl rfl ?_
    refine wt_callV (pc := 10) mX5_isSound 1 5 (rc' := 0) (rs' := 0) dX5_never_10 q1499 mi_X5_isSound rfl rfl (ms_o hM) (tm_isSound hM hI.c hA.ce s) rfl rfl rfl rfl rfl rfl ?_
    refine zt_if_ne (pc := 13) 18 dX5_never_13 (by decide) (fun c_13 => ?_) (fun c_13 => ?_)
    · have hn_s_ : inN s (cS A) := bI_ne0 c_13
      obtain ⟨s_, hl_s_, rfl⟩ := inN_of hn_s_ (by have := hI.c.s4; omega)
      refine zt_iconst (pc := 18) dX5_never_18 (v := 1) rfl ?_
      refine zt_istore_n (pc := 19) (L' := [some (.ref 289), some (.int (nI k_)), some (.int (nI s_)), some (.int 1), none]) dX5_never_19 rfl (by decide) rfl rfl ?_
      refine zt_iconst (pc := 20) dX5_never_20 (v := 0) rfl ?_
      refine zt_istore (pc := 21) (L' := [some (.ref 289), some (.int (nI k_)), some (.int (nI s_)), some (.int 1), some (.int 0)]) dX5_never_21 (by decide) rfl rfl ?_
      refine zt_for (pc := 23) (fun i => S) (fun i => [some (.ref 289), some (.int (nI k_)), some (.int (nI s_)), some (.int (itr (s_nevF A k_ s_) 1 i)), some (.int (nI i))]) (cM A) rfl rfl ?_ (fun i hi_i ih_i => ?_)
      · show Zt _ _ _ _ _ _ (zW h S) 23 [some (.ref 289), some (.int (nI k_)), some (.int (nI s_)), some (.int (itr (s_nevF A k_ s_) 1 (cM A))), some (.int (nI (cM A)))] []
        refine zt_iload (pc := 23) dX5_never_23 rfl ?_
        refine zt_aload_n (pc := 25) dX5_never_25 rfl rfl ?_
        refine wt_getI (pc := 26) 5 2 (v := nI (cM A)) dX5_never_26 q1274 rfl (ms_o hM) (hA.ce.m hI.c) ?_
        refine zt_geN (a := cM A) (b := cM A) (pc := 29) 77 dX5_never_29 (by decide) (by omega) (by omega) (fun c_29 => ?_) (fun c_29 => absurd c_29 (Nat.lt_irrefl _))
        refine zt_iload_n (pc := 77) dX5_never_77 rfl rfl ?_
        refine wt_callS (pc := 78) mX5_flag 1 (rc' := 0) (rs' := 0) dX5_never_78 q1250 ms_X5_flag (tm_flag (itr (s_nevF A k_ s_) 1 (cM A)) (nev_or _)) rfl rfl rfl rfl rfl rfl ?_
        exact zt_ireturn (pc := 81) dX5_never_81 rfl (⟨congrArg some (congrArg Value.int (((if_pos ⟨hn_k_, hn_s_⟩).trans (by rw [nI_clamp (show k_ < 2 ^ 31 by omega), nI_clamp (show s_ < 2 ^ 31 by omega)])).symm)), rfl⟩)
      · show Zt _ _ _ _ _ _ (zW h S) 23 [some (.ref 289), some (.int (nI k_)), some (.int (nI s_)), some (.int (itr (s_nevF A k_ s_) 1 i)), some (.int (nI i))] []
        refine zt_iload (pc := 23) dX5_never_23 rfl ?_
        refine zt_aload_n (pc := 25) dX5_never_25 rfl rfl ?_
        refine wt_getI (pc := 26) 5 2 (v := nI (cM A)) dX5_never_26 q1274 rfl (ms_o hM) (hA.ce.m hI.c) ?_
        refine zt_geN (a := i) (b := cM A) (pc := 29) 77 dX5_never_29 (by decide) (by omega) (by omega) (fun c_29 => absurd hi_i (Nat.not_lt.mpr c_29)) (fun c_29 => ?_)
        refine zt_iload_n (pc := 32) dX5_never_32 rfl rfl ?_
        refine zt_if_eq (pc := 33) 69 dX5_never_33 (by decide) (fun c_33 => ?_) (fun c_33 => ?_)
        · refine zt_iconst (pc := 69) dX5_never_69 (v := 0) rfl ?_
          refine zt_top (pc := 70) (itr (s_nevF A k_ s_) 1 (i + 1)) (show _ = s_nevF A k_ s_ i _ from (bI_f (fun q => q.1 c_33)).symm) ?_
          refine zt_istore_n (pc := 70) (L' := [some (.ref 289), some (.int (nI k_)), some (.int (nI s_)), some (.int (itr (s_nevF A k_ s_) 1 (i + 1))), some (.int (nI i))]) dX5_never_70 rfl (by decide) rfl rfl ?_
          refine zt_iincN (pc := 71) (b := i + 1) (L' := [some (.ref 289), some (.int (nI k_)), some (.int (nI s_)), some (.int (itr (s_nevF A k_ s_) 1 (i + 1))), some (.int (nI (i + 1)))]) dX5_never_71 rfl (zinc1 i) (by decide) rfl rfl ?_
          refine zt_goto (pc := 74) 23 dX5_never_74 (by decide) ?_
          exact ih_i
        · refine zt_aload_n (pc := 36) dX5_never_36 rfl rfl ?_
          refine zt_iload_n (pc := 37) dX5_never_37 rfl rfl ?_
          refine wt_callV (pc := 38) mX5_canThink 1 5 (rc' := 0) (rs' := 0) dX5_never_38 q1246 mi_X5_canThink rfl rfl (ms_o hM) (tm_canThink hM hI.c hA.ce k_ (by omega)) rfl rfl rfl rfl rfl rfl ?_
          refine zt_iload (pc := 41) dX5_never_41 rfl ?_
          refine zt_ishr (pc := 43) dX5_never_43 ?_
          refine zt_iconst (pc := 44) dX5_never_44 (v := 1) rfl ?_
          refine zt_iand (pc := 45) dX5_never_45 ?_
          refine zt_iconst (pc := 46) dX5_never_46 (v := 1) rfl ?_
          refine zt_icmp_ne (pc := 47) 65 dX5_never_47 (by decide) (fun c_47 => ?_) (fun c_47 => ?_)
          · refine zt_iconst (pc := 65) dX5_never_65 (v := 1) rfl ?_
            refine zt_goto (pc := 66) 70 dX5_never_66 (by decide) ?_
            refine zt_top (pc := 70) (itr (s_nevF A k_ s_) 1 (i + 1)) (show _ = s_nevF A k_ s_ i _ from (bI_t ⟨c_33, fun z => c_47 z.1⟩).symm) ?_
            refine zt_istore_n (pc := 70) (L' := [some (.ref 289), some (.int (nI k_)), some (.int (nI s_)), some (.int (itr (s_nevF A k_ s_) 1 (i + 1))), some (.int (nI i))]) dX5_never_70 rfl (by decide) rfl rfl ?_
            refine zt_iincN (pc := 71) (b := i + 1) (L' := [some (.ref 289), some (.int (nI k_)), some (.int (nI s_)), some (.int (itr (s_nevF A k_ s_) 1 (i + 1))), some (.int (nI (i + 1)))]) dX5_never_71 rfl (zinc1 i) (by decide) rfl rfl ?_
            refine zt_goto (pc := 74) 23 dX5_never_74 (by decide) ?_
            exact ih_i
          · refine zt_aload_n (pc := 50) dX5_never_50 rfl rfl ?_
            refine wt_getR (pc := 51) 5 18 dX5_never_51 q1290 rfl (ms_o hM) (mr_are hM) ?_
            refine zt_iload (pc := 54) dX5_never_54 rfl ?_
            refine wt_iald (pc := 56) 12 i (v := A 300 i) dX5_never_56 (ma_are hM) rfl rfl (by omega) (congrFun (hA 300 (by decide) (by decide)) i) ?_
            refine zt_aload_n (pc := 57) dX5_never_57 rfl rfl ?_
            refine zt_iload_n (pc := 58) dX5_never_58 rfl rfl ?_
            refine wt_callV (pc := 59) mX5_targetOf 1 5 (rc' := 0) (rs' := 0) dX5_never_59 q1528 mi_X5_targetOf rfl rfl (ms_o hM) (tm_targetOf hM hI.c hA.ce s_ (by omega)) rfl rfl rfl rfl rfl rfl ?_
            refine zt_icmp_eq (pc := 62) 69 dX5_never_62 (by decide) (fun c_62 => ?_) (fun c_62 => ?_)
            · refine zt_iconst (pc := 69) dX5_never_69 (v := 0) rfl ?_
              refine zt_top (pc := 70) (itr (s_nevF A k_ s_) 1 (i + 1)) (show _ = s_nevF A k_ s_ i _ from (bI_f (fun q => q.2 ⟨c_47, c_62⟩)).symm) ?_
              refine zt_istore_n (pc := 70) (L' := [some (.ref 289), some (.int (nI k_)), some (.int (nI s_)), some (.int (itr (s_nevF A k_ s_) 1 (i + 1))), some (.int (nI i))]) dX5_never_70 rfl (by decide) rfl rfl ?_
              refine zt_iincN (pc := 71) (b := i + 1) (L' := [some (.ref 289), some (.int (nI k_)), some (.int (nI s_)), some (.int (itr (s_nevF A k_ s_) 1 (i + 1))), some (.int (nI (i + 1)))]) dX5_never_71 rfl (zinc1 i) (by decide) rfl rfl ?_
              refine zt_goto (pc := 74) 23 dX5_never_74 (by decide) ?_
              exact ih_i
            · refine zt_iconst (pc := 65) dX5_never_65 (v := 1) rfl ?_
              refine zt_goto (pc := 66) 70 dX5_never_66 (by decide) ?_
              refine zt_top (pc := 70) (itr (s_nevF A k_ s_) 1 (i + 1)) (show _ = s_nevF A k_ s_ i _ from (bI_t ⟨c_33, fun z => c_62 z.2⟩).symm) ?_
              refine zt_istore_n (pc := 70) (L' := [some (.ref 289), some (.int (nI k_)), some (.int (nI s_)), some (.int (itr (s_nevF A k_ s_) 1 (i + 1))), some (.int (nI i))]) dX5_never_70 rfl (by decide) rfl rfl ?_
              refine zt_iincN (pc := 71) (b := i + 1) (L' := [some (.ref 289), some (.int (nI k_)), some (.int (nI s_)), some (.int (itr (s_nevF A k_ s_) 1 (i + 1))), some (.int (nI (i + 1)))]) dX5_never_71 rfl (zinc1 i) (by decide) rfl rfl ?_
              refine zt_goto (pc := 74) 23 dX5_never_74 (by decide) ?_
              exact ih_i
    · refine zt_iconst (pc := 16) dX5_never_16 (v := (-1)) rfl ?_
      exact zt_ireturn (pc := 17) dX5_never_17 rfl (⟨congrArg some (congrArg Value.int ((if_neg (fun q => bI_eq0.mp c_13 q.2)).symm)), rfl⟩)

end M5