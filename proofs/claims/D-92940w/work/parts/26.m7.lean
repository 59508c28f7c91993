/-! THE TWIN, part 7: lowest terms, what is likely, their sound -/
set_option maxRecDepth 100000
/-- a switch's numbers: x is none of them -/
theorem sw_out (x : Int32) (n : Nat) (hn : n < 1000) (h : ∀ v : Nat, v ≤ n → ¬ x = nI v) : x.toInt < 0 ∨ (n : Int) < x.toInt := by
  by_cases h0 : x.toInt < 0
  · exact Or.inl h0
  · right
    rcases Int.lt_or_le (n : Int) x.toInt with q | q
    · exact q
    · obtain ⟨j, h1, h2⟩ := inN_of (t := x) (n := n + 1) ⟨by omega, by omega⟩ (by omega)
      exact absurd h2 (h j (by omega))
theorem sw_c3 (v : Nat) (h : v ≤ 3) : v = 0 ∨ v = 1 ∨ v = 2 ∨ v = 3 := by omega
theorem sw_c8 (v : Nat) (h : v ≤ 8) : v = 0 ∨ v = 1 ∨ v = 2 ∨ v = 3 ∨ v = 4 ∨ v = 5 ∨ v = 6 ∨ v = 7 ∨ v = 8 := by omega
def s_low (a b : Nat) (w : Int32) : Int32 := if w = 0 then nI (a / Nat.gcd a b) else nI (b / Nat.gcd a b)
def s_lik (A : Nat → Nat → Int32) (s : Nat) : Int32 := itr (s_likF A s) 0 (cK A)
def nN (x : Int32) : Nat := x.toNatClampNeg
def o_likely (A : Nat → Nat → Int32) (s w : Int32) : Int32 := if inN s (cS A) ∧ inN w 2 then (if s_all_ch A = 0 then -4 else s_low (nN (s_lik A s.toNatClampNeg)) (nN (s_all_ch A)) w) else -1
theorem lik_nat {A : Nat → Nat → Int32} (hC : CI A) (s : Nat) : ∀ n, n ≤ cK A → ∃ c : Nat, c ≤ 9 * n ∧ itr (s_likF A s) 0 n = nI c
  | 0, _ => ⟨0, by omega, rfl⟩
  | n + 1, hn => by
    obtain ⟨c, h1, h2⟩ := lik_nat hC s n (by omega)
    obtain ⟨c', h3, h4⟩ := hC.ch (k := n) (by omega)
    show ∃ c : Nat, c ≤ 9 * (n + 1) ∧ s_likF A s n (itr (s_likF A s) 0 n) = nI c
    rw [h2]
    unfold s_likF
    rw [h4]
    split
    · exact ⟨c + 0, by omega, nI_add c 0⟩
    · exact ⟨c + c', by omega, nI_add _ _⟩
section M7
variable {g : ZG} {h : ZH} {S A C : Nat → Nat → Int32} {f : Nat → Int32}
theorem tm_low_loop (a b : Nat) (ha : a ≤ 100000) (hb : b ≤ 100000) (w : Int32) : ∀ (y x : Nat), x ≤ 100000 → Nat.gcd x y = Nat.gcd a b → y ≤ 100000 → (0 < x ∨ 0 < y) → Zt g mX5_lowest 1 0 0 (fun r' h' => r' = some (.int (s_low a b w)) ∧ h' = zW h S) (zW h S) 5 [some (.int (nI a)), some (.int (nI b)), some (.int w), some (.int (nI x)), some (.int (nI y)), none] [] := by
  intro y
  induction y using Nat.strongRecOn with
  | _ y ih =>
    intro x hx hg hy hxy
    refine zt_iload (pc := 5) dX5_lowest_5 rfl ?_
    refine zt_if_eq (pc := 7) 26 dX5_lowest_7 (by decide) (fun c_7 => ?_) (fun c_7 => ?_)
    · have hy0 : y = 0 := (nI_eq (by omega) (by decide)).mp c_7
      have hxg : x = Nat.gcd a b := by rw [← hg, hy0, Nat.gcd_zero_right]
      have hx0 : 0 < x := by omega
      refine zt_iload_n (pc := 26) dX5_lowest_26 rfl rfl ?_
      refine zt_if_ne (pc := 27) 36 dX5_lowest_27 (by decide) (fun c_27 => ?_) (fun c_27 => ?_)
      · refine zt_iload_n (pc := 36) dX5_lowest_36 rfl rfl ?_
        refine zt_iload_n (pc := 37) dX5_lowest_37 rfl rfl ?_
        refine zt_idiv (pc := 38) dX5_lowest_38 (nI_ne0 hx0 (by omega)) ?_
        exact zt_ireturn (pc := 39) dX5_lowest_39 rfl (⟨congrArg some (congrArg Value.int (((if_neg c_27).trans (by rw [← hxg, pk_div (by omega) hx0 (by omega)])).symm)), rfl⟩)
      · refine zt_iload_n (pc := 30) dX5_lowest_30 rfl rfl ?_
        refine zt_iload_n (pc := 31) dX5_lowest_31 rfl rfl ?_
        refine zt_idiv (pc := 32) dX5_lowest_32 (nI_ne0 hx0 (by omega)) ?_
        refine zt_goto (pc := 33) 39 dX5_lowest_33 (by decide) ?_
        exact zt_ireturn (pc := 39) dX5_lowest_39 rfl (⟨congrArg some (congrArg Value.int (((if_pos c_27).trans (by rw [← hxg, pk_div (by omega) hx0 (by omega)])).symm)), rfl⟩)
    · have hy0 : 0 < y := Nat.pos_of_ne_zero (fun e => c_7 (by rw [e]; rfl))
      refine zt_iload_n (pc := 10) dX5_lowest_10 rfl rfl ?_
      refine zt_iload (pc := 11) dX5_lowest_11 rfl ?_
      refine zt_irem (pc := 13) dX5_lowest_13 c_7 ?_
      refine zt_top (pc := 14) (nI (x % y)) (pk_rem (by omega) hy0 (by omega)) ?_
      refine zt_istore (pc := 14) (L' := [some (.int (nI a)), some (.int (nI b)), some (.int w), some (.int (nI x)), some (.int (nI y)), some (.int (nI (x % y)))]) dX5_lowest_14 (by decide) rfl rfl ?_
      refine zt_iload (pc := 16) dX5_lowest_16 rfl ?_
      refine zt_istore_n (pc := 18) (L' := [some (.int (nI a)), some (.int (nI b)), some (.int w), some (.int (nI y)), some (.int (nI y)), some (.int (nI (x % y)))]) dX5_lowest_18 rfl (by decide) rfl rfl ?_
      refine zt_iload (pc := 19) dX5_lowest_19 rfl ?_
      refine zt_istore (pc := 21) (L' := [some (.int (nI a)), some (.int (nI b)), some (.int w), some (.int (nI y)), some (.int (nI (x % y))), some (.int (nI (x % y)))]) dX5_lowest_21 (by decide) rfl rfl ?_
      refine zt_goto (pc := 23) 5 dX5_lowest_23 (by decide) ?_
      refine zt_drop (L' := [some (.int (nI a)), some (.int (nI b)), some (.int w), some (.int (nI y)), some (.int (nI (x % y))), none]) 5 rfl ?_
      exact ih (x % y) (Nat.mod_lt _ hy0) y (by omega) (by rw [← hg, Nat.gcd_comm x y, Nat.gcd_rec y x, Nat.gcd_comm]) (by have := Nat.mod_lt x hy0; omega) (Or.inl hy0)

theorem tm_lowest (a b : Nat) (ha : a ≤ 100000) (hb : b ≤ 100000) (hb0 : 0 < b) (w : Int32) : Zd g mX5_lowest 1 0 0 [.int (nI a), .int (nI b), .int w] (zW h S) (some (.int (s_low a b w))) (zW h S) := by
  refine zc_of [some (.int (nI a)), some (.int (nI b)), some (.int w), none, none, none] rfl (Nat.le_of_ble_eq_true rfl) rfl ?_
  refine zt_iload_n (pc := 0) dX5_lowest_0 rfl rfl ?_
  refine zt_istore_n (pc := 1) (L' := [some (.int (nI a)), some (.int (nI b)), some (.int w), some (.int (nI b)), none, none]) dX5_lowest_1 rfl (by decide) rfl rfl ?_
  refine zt_iload_n (pc := 2) dX5_lowest_2 rfl rfl ?_
  refine zt_istore (pc := 3) (L' := [some (.int (nI a)), some (.int (nI b)), some (.int w), some (.int (nI b)), some (.int (nI a)), none]) dX5_lowest_3 (by decide) rfl rfl ?_
  exact tm_low_loop a b ha hb w a b hb (Nat.gcd_comm b a) ha (Or.inl hb0)

theorem nN_eq {x : Int32} {c : Nat} (h : x = nI c) (hc : c < 2 ^ 31) : x = nI (nN x) ∧ nN x = c := by
  have : nN x = c := by unfold nN; rw [h, nI_clamp hc]
  exact ⟨by rw [this]; exact h, this⟩
theorem tm_likely (hM : MS h.2.1 h.2.2.2) (hI : AI A) (hA : AE S A) (s w : Int32) : Zd g mX5_likely 3 0 0 [.ref 289, .int s, .int w] (zW h S) (some (.int (o_likely A s w))) (zW h S) := by
  refine zc_of [some (.ref 289), some (.int s), some (.int w), none, none] rfl (Nat.le_of_ble_eq_true rfl) rfl ?_
  have b1 := hI.c.t8; have b2 := hI.c.m12; have b3 := hI.c.s4; have b4 := hI.c.k6; have b5 := hI.sh24
  refine zt_aload_n (pc := 0) dX5_likely_0 rfl rfl ?_
  refine zt_iload_n (pc := 1) dX5_likely_1 rfl rfl ?_
  refine wt_callV (pc := 2) mX5_isSound 1 5 (rc' := 0) (rs' := 0) dX5_likely_2 q1499 mi_X5_isSound rfl rfl (ms_o hM) (tm_isSound hM hI.c hA.ce s) rfl rfl rfl rfl rfl rfl ?_
  refine zt_if_eq (pc := 5) 18 dX5_likely_5 (by decide) (fun c_5 => ?_) (fun c_5 => ?_)
  · refine zt_iconst (pc := 18) dX5_likely_18 (v := (-1)) rfl ?_
    exact zt_ireturn (pc := 19) dX5_likely_19 rfl (⟨congrArg some (congrArg Value.int ((if_neg (fun q => bI_eq0.mp c_5 q.1)).symm)), rfl⟩)
  · have hn_s_ : inN s (cS A) := bI_ne0 c_5
    obtain ⟨s_, hl_s_, rfl⟩ := inN_of hn_s_ (by have := hI.c.s4; omega)
    refine zt_iload_n (pc := 8) dX5_likely_8 rfl rfl ?_
    refine zt_i2l (pc := 9) dX5_likely_9 rfl ?_
    refine zt_lconst (pc := 10) dX5_likely_10 (v := 0) rfl ?_
    refine zt_lconst (pc := 11) dX5_likely_11 (v := 1) rfl ?_
    refine wt_callS (pc := 12) mX5_in 3 (rc' := 0) (rs' := 0) dX5_likely_12 q1223 ms_X5_in (tm_in w.toInt64 0 1) rfl rfl rfl rfl rfl rfl ?_
    refine zt_if_ne (pc := 15) 20 dX5_likely_15 (by decide) (fun c_15 => ?_) (fun c_15 => ?_)
    · have hn_w_ : inN w 2 := (in_c w 1 (by decide)).mp (bI_ne0 c_15)
      obtain ⟨w_, hl_w_, rfl⟩ := inN_of hn_w_ (by decide)
      refine zt_iconst (pc := 20) dX5_likely_20 (v := 0) rfl ?_
      refine zt_istore_n (pc := 21) (L' := [some (.ref 289), some (.int (nI s_)), some (.int (nI w_)), some (.int 0), none]) dX5_likely_21 rfl (by decide) rfl rfl ?_
      refine zt_iconst (pc := 22) dX5_likely_22 (v := 0) rfl ?_
      refine zt_istore (pc := 23) (L' := [some (.ref 289), some (.int (nI s_)), some (.int (nI w_)), some (.int 0), some (.int 0)]) dX5_likely_23 (by decide) rfl rfl ?_
      refine zt_for (pc := 25) (fun k => S) (fun k => [some (.ref 289), some (.int (nI s_)), some (.int (nI w_)), some (.int (itr (s_likF A s_) 0 k)), some (.int (nI k))]) (cK A) rfl rfl ?_ (fun k hi_k ih_k => ?_)
      · show Zt _ _ _ _ _ _ (zW h S) 25 [some (.ref 289), some (.int (nI s_)), some (.int (nI w_)), some (.int (itr (s_likF A s_) 0 (cK A))), some (.int (nI (cK A)))] []
        refine zt_iload (pc := 25) dX5_likely_25 rfl ?_
        refine zt_aload_n (pc := 27) dX5_likely_27 rfl rfl ?_
        refine wt_getI (pc := 28) 5 7 (v := nI (cK A)) dX5_likely_28 q1279 rfl (ms_o hM) (hA.ce.k hI.c) ?_
        refine zt_geN (a := cK A) (b := cK A) (pc := 31) 69 dX5_likely_31 (by decide) (by omega) (by omega) (fun c_31 => ?_) (fun c_31 => absurd c_31 (Nat.lt_irrefl _))
        refine zt_aload_n (pc := 69) dX5_likely_69 rfl rfl ?_
        refine wt_callV (pc := 70) mX5_allChances 0 5 (rc' := 0) (rs' := 0) dX5_likely_70 q1625 mi_X5_allChances rfl rfl (ms_o hM) (tm_allChances hM hI.c hA.ce) rfl rfl rfl rfl rfl rfl ?_
        refine zt_if_ne (pc := 73) 81 dX5_likely_73 (by decide) (fun c_73 => ?_) (fun c_73 => ?_)
        · obtain ⟨c1, hc1, e1⟩ := lik_nat hI.c s_ (cK A) (Nat.le_refl _)
          obtain ⟨c2, hc2, e2⟩ := ch_nat hI.c (1 <<< (nI (cK A) &&& 31) - 1) (cK A) (Nat.le_refl _)
          obtain ⟨hl1, hm1⟩ := nN_eq (x := s_lik A s_) e1 (by omega)
          obtain ⟨hl2, hm2⟩ := nN_eq (x := s_all_ch A) e2 (by omega)
          have hp2 : 0 < nN (s_all_ch A) := Nat.pos_of_ne_zero (fun z => c_73 (by rw [hl2, z]; rfl))
          refine zt_iload_n (pc := 81) dX5_likely_81 rfl rfl ?_
          refine zt_aload_n (pc := 82) dX5_likely_82 rfl rfl ?_
          refine wt_callV (pc := 83) mX5_allChances 0 5 (rc' := 0) (rs' := 0) dX5_likely_83 q1625 mi_X5_allChances rfl rfl (ms_o hM) (tm_allChances hM hI.c hA.ce) rfl rfl rfl rfl rfl rfl ?_
          refine zt_iload_n (pc := 86) dX5_likely_86 rfl rfl ?_
          refine wt_callS (pc := 87) mX5_lowest 3 (rc' := 0) (rs' := 0) dX5_likely_87 q1637 ms_X5_lowest (by have e0 := tm_lowest (g := g) (h := h) (S := S) (nN (s_lik A s_)) (nN (s_all_ch A)) (by omega) (by omega) (by omega) (nI w_); rw [← hl1, ← hl2] at e0; exact e0) rfl rfl rfl rfl rfl rfl ?_
          exact zt_ireturn (pc := 90) dX5_likely_90 rfl (⟨congrArg some (congrArg Value.int (((if_pos ⟨hn_s_, hn_w_⟩).trans ((if_neg c_73).trans (by rw [nI_clamp (show s_ < 2 ^ 31 by omega)]))).symm)), rfl⟩)
        · refine zt_bipush (pc := 76) dX5_likely_76 (v := (-4)) rfl ?_
          refine zt_goto (pc := 78) 90 dX5_likely_78 (by decide) ?_
          exact zt_ireturn (pc := 90) dX5_likely_90 rfl (⟨congrArg some (congrArg Value.int (((if_pos ⟨hn_s_, hn_w_⟩).trans (if_pos c_73)).symm)), rfl⟩)
      · show Zt _ _ _ _ _ _ (zW h S) 25 [some (.ref 289), some (.int (nI s_)), some (.int (nI w_)), some (.int (itr (s_likF A s_) 0 k)), some (.int (nI k))] []
        refine zt_iload (pc := 25) dX5_likely_25 rfl ?_
        refine zt_aload_n (pc := 27) dX5_likely_27 rfl rfl ?_
        refine wt_getI (pc := 28) 5 7 (v := nI (cK A)) dX5_likely_28 q1279 rfl (ms_o hM) (hA.ce.k hI.c) ?_
        refine zt_geN (a := k) (b := cK A) (pc := 31) 69 dX5_likely_31 (by decide) (by omega) (by omega) (fun c_31 => absurd hi_k (Nat.not_lt.mpr c_31)) (fun c_31 => ?_)
        refine zt_iload_n (pc := 34) dX5_likely_34 rfl rfl ?_
        refine zt_aload_n (pc := 35) dX5_likely_35 rfl rfl ?_
        refine zt_iconst (pc := 36) dX5_likely_36 (v := 0) rfl ?_
        refine zt_iload (pc := 37) dX5_likely_37 rfl ?_
        refine zt_iload_n (pc := 39) dX5_likely_39 rfl rfl ?_
        refine wt_callV (pc := 40) mX5_isSame 3 5 (rc' := 0) (rs' := 0) dX5_likely_40 q1557 mi_X5_isSame rfl rfl (ms_o hM) (by have e0 := tm_isSame (g := g) (f := A 302) hM hI.c hA.ce 0 k s_ (by decide) (by omega) (by omega) hI.k0; rw [← zs_eq (hA 302 (by decide) (by decide))] at e0; exact e0) rfl rfl rfl rfl rfl rfl ?_
        refine zt_if_eq (pc := 43) 60 dX5_likely_43 (by decide) (fun c_43 => ?_) (fun c_43 => ?_)
        · refine zt_iconst (pc := 60) dX5_likely_60 (v := 0) rfl ?_
          refine zt_iadd (pc := 61) dX5_likely_61 ?_
          refine zt_top (pc := 62) (itr (s_likF A s_) 0 (k + 1)) (show _ = s_likF A s_ k _ from congrArg _ (if_pos c_43).symm) ?_
          refine zt_istore_n (pc := 62) (L' := [some (.ref 289), some (.int (nI s_)), some (.int (nI w_)), some (.int (itr (s_likF A s_) 0 (k + 1))), some (.int (nI k))]) dX5_likely_62 rfl (by decide) rfl rfl ?_
          refine zt_iincN (pc := 63) (b := k + 1) (L' := [some (.ref 289), some (.int (nI s_)), some (.int (nI w_)), some (.int (itr (s_likF A s_) 0 (k + 1))), some (.int (nI (k + 1)))]) dX5_likely_63 rfl (zinc1 k) (by decide) rfl rfl ?_
          refine zt_goto (pc := 66) 25 dX5_likely_66 (by decide) ?_
          exact ih_k
        · refine zt_aload_n (pc := 46) dX5_likely_46 rfl rfl ?_
          refine wt_getR (pc := 47) 5 8 dX5_likely_47 q1280 rfl (ms_o hM) (mr_kind hM) ?_
          refine zt_iconst (pc := 50) dX5_likely_50 (v := 5) rfl ?_
          refine zt_iload (pc := 51) dX5_likely_51 rfl ?_
          refine zt_imulN (pc := 53) (a := 5) (b := k) dX5_likely_53 ?_
          refine zt_iconst (pc := 54) dX5_likely_54 (v := 4) rfl ?_
          refine zt_iaddN (pc := 55) (a := 5 * k) (b := 4) dX5_likely_55 ?_
          refine wt_iald (pc := 56) 30 ((5 * k) + 4) (v := A 294 ((5 * k) + 4)) dX5_likely_56 (ma_kind hM) rfl rfl (by omega) (congrFun (hA 294 (by decide) (by decide)) ((5 * k) + 4)) ?_
          refine zt_goto (pc := 57) 61 dX5_likely_57 (by decide) ?_
          refine zt_iadd (pc := 61) dX5_likely_61 ?_
          refine zt_top (pc := 62) (itr (s_likF A s_) 0 (k + 1)) (show _ = s_likF A s_ k _ from congrArg _ (if_neg c_43).symm) ?_
          refine zt_istore_n (pc := 62) (L' := [some (.ref 289), some (.int (nI s_)), some (.int (nI w_)), some (.int (itr (s_likF A s_) 0 (k + 1))), some (.int (nI k))]) dX5_likely_62 rfl (by decide) rfl rfl ?_
          refine zt_iincN (pc := 63) (b := k + 1) (L' := [some (.ref 289), some (.int (nI s_)), some (.int (nI w_)), some (.int (itr (s_likF A s_) 0 (k + 1))), some (.int (nI (k + 1)))]) dX5_likely_63 rfl (zinc1 k) (by decide) rfl rfl ?_
          refine zt_goto (pc := 66) 25 dX5_likely_66 (by decide) ?_
          exact ih_k
    · refine zt_iconst (pc := 18) dX5_likely_18 (v := (-1)) rfl ?_
      exact zt_ireturn (pc := 19) dX5_likely_19 rfl (⟨congrArg some (congrArg Value.int ((if_neg (fun q => bI_eq0.mp c_15 ((in_c w 1 (by decide)).mpr q.2))).symm)), rfl⟩)

def o_theirs (A : Nat → Nat → Int32) (t : Int32) : Int32 := if inN t (cT A) then (if cTh A = 12 then -3 else nI (cTh A + 1)) else -1
def w_theirs (S A : Nat → Nat → Int32) (t so : Int32) : Nat → Nat → Int32 := if inN t (cT A) then (if cTh A = 12 then S else zu (zu (zu S 307 (cTh A) t) 308 (cTh A) so) 289 34 (nI (cTh A + 1))) else S
def o_hush (A : Nat → Nat → Int32) : Int32 := nI (cTh A)
def w_hush (S : Nat → Nat → Int32) : Nat → Nat → Int32 := zu S 289 34 0
theorem tm_theirs (hM : MS h.2.1 h.2.2.2) (hI : AI A) (hA : AE S A) (t so : Int32) (hso : so = 0 ∨ so = 1) : Zd g mX5_theirs 3 0 0 [.ref 289, .int t, .int so] (zW h S) (some (.int (o_theirs A t))) (zW h (w_theirs S A t so)) := by
  refine zc_of [some (.ref 289), some (.int t), some (.int so)] rfl (Nat.le_of_ble_eq_true rfl) rfl ?_
  have b9 := hI.th12
  refine zt_aload_n (pc := 0) dX5_theirs_0 rfl rfl ?_
  refine zt_iload_n (pc := 1) dX5_theirs_1 rfl rfl ?_
  refine wt_callV (pc := 2) mX5_isThing 1 5 (rc' := 0) (rs' := 0) dX5_theirs_2 q1487 mi_X5_isThing rfl rfl (ms_o hM) (tm_isThing hM hI.c hA.ce t) rfl rfl rfl rfl rfl rfl ?_
  refine zt_if_ne (pc := 5) 10 dX5_theirs_5 (by decide) (fun c_5 => ?_) (fun c_5 => ?_)
  · refine zt_aload_n (pc := 10) dX5_theirs_10 rfl rfl ?_
    refine wt_getI (pc := 11) 5 34 (v := nI (cTh A)) dX5_theirs_11 q1306 rfl (ms_o hM) ((hA.f 34).trans hI.th) ?_
    refine zt_bipush (pc := 14) dX5_theirs_14 (v := 12) rfl ?_
    refine zt_icmp_ne (pc := 16) 22 dX5_theirs_16 (by decide) (fun c_16 => ?_) (fun c_16 => ?_)
    · have h12 : ¬ cTh A = 12 := fun e => c_16 (by rw [e]; rfl)
      have h11 : cTh A < 12 := by omega
      refine zt_aload_n (pc := 22) dX5_theirs_22 rfl rfl ?_
      refine wt_getR (pc := 23) 5 35 dX5_theirs_23 q1307 rfl (ms_o hM) (mr_theirThing hM) ?_
      refine zt_aload_n (pc := 26) dX5_theirs_26 rfl rfl ?_
      refine wt_getI (pc := 27) 5 34 (v := nI (cTh A)) dX5_theirs_27 q1306 rfl (ms_o hM) ((hA.f 34).trans hI.th) ?_
      refine zt_iload_n (pc := 30) dX5_theirs_30 rfl rfl ?_
      refine wt_iast (pc := 31) 12 (cTh A) dX5_theirs_31 (ma_theirThing hM) rfl rfl (by omega) ?_
      refine zt_aload_n (pc := 32) dX5_theirs_32 rfl rfl ?_
      refine wt_getR (pc := 33) 5 36 dX5_theirs_33 q1308 rfl (ms_o hM) (mr_theirSo hM) ?_
      refine zt_aload_n (pc := 36) dX5_theirs_36 rfl rfl ?_
      refine wt_getI (pc := 37) 5 34 (v := nI (cTh A)) dX5_theirs_37 q1306 rfl (ms_o hM) ((zu_ne1 (by decide)).trans ((hA.f 34).trans hI.th)) ?_
      refine zt_iload_n (pc := 40) dX5_theirs_40 rfl rfl ?_
      refine wt_zast (pc := 41) 12 (cTh A) dX5_theirs_41 (ma_theirSo hM) rfl rfl (by omega) (by rcases hso with e | e <;> rw [e] <;> rfl) ?_
      refine zt_aload_n (pc := 42) dX5_theirs_42 rfl rfl ?_
      refine zt_dup (pc := 43) dX5_theirs_43 rfl ?_
      refine wt_getI (pc := 44) 5 34 (v := nI (cTh A)) dX5_theirs_44 q1306 rfl (ms_o hM) ((zu_ne1 (by decide)).trans ((zu_ne1 (by decide)).trans ((hA.f 34).trans hI.th))) ?_
      refine zt_iconst (pc := 47) dX5_theirs_47 (v := 1) rfl ?_
      refine zt_iaddN (pc := 48) (a := cTh A) (b := 1) dX5_theirs_48 ?_
      refine wt_putI (pc := 49) 5 34 dX5_theirs_49 q1306 rfl (ms_o hM) ?_
      refine zt_aload_n (pc := 52) dX5_theirs_52 rfl rfl ?_
      refine wt_getI (pc := 53) 5 34 dX5_theirs_53 q1306 rfl (ms_o hM) rfl ?_
      refine zt_top (pc := 56) (nI (cTh A + 1)) (zu_same _ _ _ _) ?_
      exact zt_ireturn (pc := 56) dX5_theirs_56 rfl (⟨congrArg some (congrArg Value.int ((if_pos (bI_ne0 c_5)).trans (if_neg h12)).symm), congrArg (zW h) ((if_pos (bI_ne0 c_5)).trans (if_neg h12)).symm⟩)
    · have h12 : cTh A = 12 := (nI_eq (by omega) (by decide)).mp c_16
      refine zt_bipush (pc := 19) dX5_theirs_19 (v := (-3)) rfl ?_
      exact zt_ireturn (pc := 21) dX5_theirs_21 rfl (⟨congrArg some (congrArg Value.int ((if_pos (bI_ne0 c_5)).trans (if_pos h12)).symm), congrArg (zW h) ((if_pos (bI_ne0 c_5)).trans (if_pos h12)).symm⟩)
  · refine zt_iconst (pc := 8) dX5_theirs_8 (v := (-1)) rfl ?_
    exact zt_ireturn (pc := 9) dX5_theirs_9 rfl (⟨congrArg some (congrArg Value.int (if_neg (bI_eq0.mp c_5)).symm), congrArg (zW h) (if_neg (bI_eq0.mp c_5)).symm⟩)

theorem tm_hush (hM : MS h.2.1 h.2.2.2) (hI : AI A) (hA : AE S A) : Zd g mX5_hush 1 0 0 [.ref 289] (zW h S) (some (.int (o_hush A))) (zW h (w_hush S)) := by
  refine zc_of [some (.ref 289), none] rfl (Nat.le_of_ble_eq_true rfl) rfl ?_
  refine zt_aload_n (pc := 0) dX5_hush_0 rfl rfl ?_
  refine wt_getI (pc := 1) 5 34 (v := nI (cTh A)) dX5_hush_1 q1306 rfl (ms_o hM) ((hA.f 34).trans hI.th) ?_
  refine zt_istore_n (pc := 4) (L' := [some (.ref 289), some (.int (nI (cTh A)))]) dX5_hush_4 rfl (by decide) rfl rfl ?_
  refine zt_aload_n (pc := 5) dX5_hush_5 rfl rfl ?_
  refine zt_iconst (pc := 6) dX5_hush_6 (v := 0) rfl ?_
  refine wt_putI (pc := 7) 5 34 dX5_hush_7 q1306 rfl (ms_o hM) ?_
  refine zt_iload_n (pc := 10) dX5_hush_10 rfl rfl ?_
  exact zt_ireturn (pc := 11) dX5_hush_11 rfl (⟨rfl, rfl⟩)

end M7