/-! THE TWIN, part 6: chances, fears, answers -/
set_option maxRecDepth 100000
def s_chF (C : Nat → Nat → Int32) (x : Int32) (k : Nat) (acc : Int32) : Int32 := acc + (if x >>> (nI k &&& 31) &&& 1 = 1 then C 294 (5 * k + 4) else 0)
def s_ch (C : Nat → Nat → Int32) (x : Int32) : Int32 := itr (s_chF C x) 0 (cK C)
def s_all_ch (C : Nat → Nat → Int32) : Int32 := s_ch C (1 <<< (nI (cK C) &&& 31) - 1)
theorem ch_nat {C : Nat → Nat → Int32} (hC : CI C) (x : Int32) : ∀ n, n ≤ cK C → ∃ c : Nat, c ≤ 9 * n ∧ itr (s_chF C x) 0 n = nI c
  | 0, _ => ⟨0, by omega, rfl⟩
  | n + 1, hn => by
    obtain ⟨c, h1, h2⟩ := ch_nat hC x n (by omega)
    obtain ⟨c', h3, h4⟩ := hC.ch (k := n) (by omega)
    show ∃ c : Nat, c ≤ 9 * (n + 1) ∧ s_chF C x n (itr (s_chF C x) 0 n) = nI c
    rw [h2]
    unfold s_chF
    rw [h4]
    split
    · exact ⟨c + c', by omega, nI_add _ _⟩
    · exact ⟨c + 0, by omega, nI_add c 0⟩
def s_feF (C : Nat → Nat → Int32) (by_ : Int32) (k : Nat) (acc : Int32) : Int32 := acc ||| (if ¬ C 294 (5 * k + 2) = -4 ∧ (by_ = 0 ∨ 0 < C 294 (5 * k + 4)) then 1 <<< (C 294 (5 * k + 2) &&& 31) else 0)
def s_fe (C : Nat → Nat → Int32) (by_ : Int32) : Int32 := itr (s_feF C by_) 0 (cK C)
def o_fears (C : Nat → Nat → Int32) (w : Int32) : Int32 := if w = 0 then s_fe C 1 else if w = 1 then (1 <<< (nI (cT C) &&& 31) - 1) &&& (s_fe C 0 ^^^ (-1)) else -1
def s_ans (C : Nat → Nat → Int32) (f : Nat → Int32) (k s : Nat) (t : Int32) : Int32 := if f (0 + 10 * k + s) = -4 then -4 else C 300 (f (0 + 10 * k + s)).toNatClampNeg >>> (t &&& 31) &&& 1
def o_answer (A : Nat → Nat → Int32) (k s t : Int32) : Int32 := if inN k (cK A) ∧ inN s (cS A) ∧ inN t (cT A) then s_ans A (A 302) k.toNatClampNeg s.toNatClampNeg t else -1
def s_sayF (C : Nat → Nat → Int32) (f : Nat → Int32) (s : Nat) (t a : Int32) (k : Nat) (acc : Int32) : Int32 := acc ||| (if s_ans C f k s t = a then 1 <<< (nI k &&& 31) else 0)
def s_say (C : Nat → Nat → Int32) (f : Nat → Int32) (s : Nat) (t a : Int32) : Int32 := itr (s_sayF C f s t a) 0 (cK C)
/-- an answer that may be heard -/
def h_ok (A : Nat → Nat → Int32) (s t a : Int32) : Prop := inN s (cS A) ∧ inN t (cT A) ∧ (a = -4 ∨ inN a 2)
def o_heard (A : Nat → Nat → Int32) (s t a : Int32) : Int32 := if inN s (cS A) ∧ inN t (cT A) ∧ (a = -4 ∨ inN a 2) then A 289 33 &&& s_say A (A 302) s.toNatClampNeg t a else -1
def w_heard (S A : Nat → Nat → Int32) (s t a : Int32) : Nat → Nat → Int32 := if inN s (cS A) ∧ inN t (cT A) ∧ (a = -4 ∨ inN a 2) then zu S 289 33 (A 289 33 &&& s_say A (A 302) s.toNatClampNeg t a) else S
def o_left (A : Nat → Nat → Int32) (w : Int32) : Int32 := if w = 0 then A 289 33 else if w = 1 then s_ch A (A 289 33) else if w = 2 then s_all_ch A else -1
def s_likF (A : Nat → Nat → Int32) (s k : Nat) (acc : Int32) : Int32 := acc + (if s_same A (A 302) 0 k s = 0 then (0 : Int32) else A 294 (5 * k + 4))
section M6
variable {g : ZG} {h : ZH} {S A C : Nat → Nat → Int32} {f : Nat → Int32}
theorem tm_chanceOf (hM : MS h.2.1 h.2.2.2) (hC : CI C) (hE : CE S C) (x : Int32) : Zd g mX5_chanceOf 1 0 0 [.ref 289, .int x] (zW h S) (some (.int (s_ch C x))) (zW h S) := by
  refine zc_of [some (.ref 289), some (.int x), none, none] rfl (Nat.le_of_ble_eq_true rfl) rfl ?_
  have hk6 := hC.k6
  refine zt_iconst (pc := 0) dX5_chanceOf_0 (v := 0) rfl ?_
  refine zt_istore_n (pc := 1) (L' := [some (.ref 289), some (.int x), some (.int 0), none]) dX5_chanceOf_1 rfl (by decide) rfl rfl ?_
  refine zt_iconst (pc := 2) dX5_chanceOf_2 (v := 0) rfl ?_
  refine zt_istore_n (pc := 3) (L' := [some (.ref 289), some (.int x), some (.int 0), some (.int 0)]) dX5_chanceOf_3 rfl (by decide) rfl rfl ?_
  refine zt_for (pc := 4) (fun k => S) (fun k => [some (.ref 289), some (.int x), some (.int (itr (s_chF C x) 0 k)), some (.int (nI k))]) (cK C) rfl rfl ?_ (fun k hi_k ih_k => ?_)
  · show Zt _ _ _ _ _ _ (zW h S) 4 [some (.ref 289), some (.int x), some (.int (itr (s_chF C x) 0 (cK C))), some (.int (nI (cK C)))] []
    refine zt_iload_n (pc := 4) dX5_chanceOf_4 rfl rfl ?_
    refine zt_aload_n (pc := 5) dX5_chanceOf_5 rfl rfl ?_
    refine wt_getI (pc := 6) 5 7 (v := nI (cK C)) dX5_chanceOf_6 q1279 rfl (ms_o hM) (hE.k hC) ?_
    refine zt_geN (a := cK C) (b := cK C) (pc := 9) 44 dX5_chanceOf_9 (by decide) (by omega) (by omega) (fun c_9 => ?_) (fun c_9 => absurd c_9 (Nat.lt_irrefl _))
    refine zt_iload_n (pc := 44) dX5_chanceOf_44 rfl rfl ?_
    exact zt_ireturn (pc := 45) dX5_chanceOf_45 rfl (⟨rfl, rfl⟩)
  · show Zt _ _ _ _ _ _ (zW h S) 4 [some (.ref 289), some (.int x), some (.int (itr (s_chF C x) 0 k)), some (.int (nI k))] []
    refine zt_iload_n (pc := 4) dX5_chanceOf_4 rfl rfl ?_
    refine zt_aload_n (pc := 5) dX5_chanceOf_5 rfl rfl ?_
    refine wt_getI (pc := 6) 5 7 (v := nI (cK C)) dX5_chanceOf_6 q1279 rfl (ms_o hM) (hE.k hC) ?_
    refine zt_geN (a := k) (b := cK C) (pc := 9) 44 dX5_chanceOf_9 (by decide) (by omega) (by omega) (fun c_9 => absurd hi_k (Nat.not_lt.mpr c_9)) (fun c_9 => ?_)
    refine zt_iload_n (pc := 12) dX5_chanceOf_12 rfl rfl ?_
    refine zt_iload_n (pc := 13) dX5_chanceOf_13 rfl rfl ?_
    refine zt_iload_n (pc := 14) dX5_chanceOf_14 rfl rfl ?_
    refine zt_ishr (pc := 15) dX5_chanceOf_15 ?_
    refine zt_iconst (pc := 16) dX5_chanceOf_16 (v := 1) rfl ?_
    refine zt_iand (pc := 17) dX5_chanceOf_17 ?_
    refine zt_iconst (pc := 18) dX5_chanceOf_18 (v := 1) rfl ?_
    refine zt_icmp_ne (pc := 19) 35 dX5_chanceOf_19 (by decide) (fun c_19 => ?_) (fun c_19 => ?_)
    · refine zt_iconst (pc := 35) dX5_chanceOf_35 (v := 0) rfl ?_
      refine zt_iadd (pc := 36) dX5_chanceOf_36 ?_
      refine zt_top (pc := 37) (itr (s_chF C x) 0 (k + 1)) (show _ = s_chF C x k _ from congrArg _ (if_neg c_19).symm) ?_
      refine zt_istore_n (pc := 37) (L' := [some (.ref 289), some (.int x), some (.int (itr (s_chF C x) 0 (k + 1))), some (.int (nI k))]) dX5_chanceOf_37 rfl (by decide) rfl rfl ?_
      refine zt_iincN (pc := 38) (b := k + 1) (L' := [some (.ref 289), some (.int x), some (.int (itr (s_chF C x) 0 (k + 1))), some (.int (nI (k + 1)))]) dX5_chanceOf_38 rfl (zinc1 k) (by decide) rfl rfl ?_
      refine zt_goto (pc := 41) 4 dX5_chanceOf_41 (by decide) ?_
      exact ih_k
    · refine zt_aload_n (pc := 22) dX5_chanceOf_22 rfl rfl ?_
      refine wt_getR (pc := 23) 5 8 dX5_chanceOf_23 q1280 rfl (ms_o hM) (mr_kind hM) ?_
      refine zt_iconst (pc := 26) dX5_chanceOf_26 (v := 5) rfl ?_
      refine zt_iload_n (pc := 27) dX5_chanceOf_27 rfl rfl ?_
      refine zt_imulN (pc := 28) (a := 5) (b := k) dX5_chanceOf_28 ?_
      refine zt_iconst (pc := 29) dX5_chanceOf_29 (v := 4) rfl ?_
      refine zt_iaddN (pc := 30) (a := 5 * k) (b := 4) dX5_chanceOf_30 ?_
      refine wt_iald (pc := 31) 30 ((5 * k) + 4) (v := C 294 ((5 * k) + 4)) dX5_chanceOf_31 (ma_kind hM) rfl rfl (by omega) (congrFun hE.a294 ((5 * k) + 4)) ?_
      refine zt_goto (pc := 32) 36 dX5_chanceOf_32 (by decide) ?_
      refine zt_iadd (pc := 36) dX5_chanceOf_36 ?_
      refine zt_top (pc := 37) (itr (s_chF C x) 0 (k + 1)) (show _ = s_chF C x k _ from congrArg _ (if_pos c_19).symm) ?_
      refine zt_istore_n (pc := 37) (L' := [some (.ref 289), some (.int x), some (.int (itr (s_chF C x) 0 (k + 1))), some (.int (nI k))]) dX5_chanceOf_37 rfl (by decide) rfl rfl ?_
      refine zt_iincN (pc := 38) (b := k + 1) (L' := [some (.ref 289), some (.int x), some (.int (itr (s_chF C x) 0 (k + 1))), some (.int (nI (k + 1)))]) dX5_chanceOf_38 rfl (zinc1 k) (by decide) rfl rfl ?_
      refine zt_goto (pc := 41) 4 dX5_chanceOf_41 (by decide) ?_
      exact ih_k

theorem tm_allChances (hM : MS h.2.1 h.2.2.2) (hC : CI C) (hE : CE S C) : Zd g mX5_allChances 2 0 0 [.ref 289] (zW h S) (some (.int (s_all_ch C))) (zW h S) := by
  refine zc_of [some (.ref 289)] rfl (Nat.le_of_ble_eq_true rfl) rfl ?_
  refine zt_aload_n (pc := 0) dX5_allChances_0 rfl rfl ?_
  refine zt_iconst (pc := 1) dX5_allChances_1 (v := 1) rfl ?_
  refine zt_aload_n (pc := 2) dX5_allChances_2 rfl rfl ?_
  refine wt_getI (pc := 3) 5 7 (v := nI (cK C)) dX5_allChances_3 q1279 rfl (ms_o hM) (hE.k hC) ?_
  refine zt_ishl (pc := 6) dX5_allChances_6 ?_
  refine zt_iconst (pc := 7) dX5_allChances_7 (v := 1) rfl ?_
  refine zt_isub (pc := 8) dX5_allChances_8 ?_
  refine wt_callV (pc := 9) mX5_chanceOf 1 5 (rc' := 0) (rs' := 0) dX5_allChances_9 q1629 mi_X5_chanceOf rfl rfl (ms_o hM) (tm_chanceOf hM hC hE ((1 <<< ((nI (cK C)) &&& 31)) - 1)) rfl rfl rfl rfl rfl rfl ?_
  exact zt_ireturn (pc := 12) dX5_allChances_12 rfl (⟨rfl, rfl⟩)

theorem tm_feared (hM : MS h.2.1 h.2.2.2) (hC : CI C) (hE : CE S C) (by_ : Int32) : Zd g mX5_feared 1 0 0 [.ref 289, .int by_] (zW h S) (some (.int (s_fe C by_))) (zW h S) := by
  refine zc_of [some (.ref 289), some (.int by_), none, none, none] rfl (Nat.le_of_ble_eq_true rfl) rfl ?_
  have hk6 := hC.k6
  refine zt_iconst (pc := 0) dX5_feared_0 (v := 0) rfl ?_
  refine zt_istore_n (pc := 1) (L' := [some (.ref 289), some (.int by_), some (.int 0), none, none]) dX5_feared_1 rfl (by decide) rfl rfl ?_
  refine zt_iconst (pc := 2) dX5_feared_2 (v := 0) rfl ?_
  refine zt_istore_n (pc := 3) (L' := [some (.ref 289), some (.int by_), some (.int 0), some (.int 0), none]) dX5_feared_3 rfl (by decide) rfl rfl ?_
  refine zt_for (pc := 4) (fun k => S) (fun k => [some (.ref 289), some (.int by_), some (.int (itr (s_feF C by_) 0 k)), some (.int (nI k)), none]) (cK C) rfl rfl ?_ (fun k hi_k ih_k => ?_)
  · show Zt _ _ _ _ _ _ (zW h S) 4 [some (.ref 289), some (.int by_), some (.int (itr (s_feF C by_) 0 (cK C))), some (.int (nI (cK C))), none] []
    refine zt_iload_n (pc := 4) dX5_feared_4 rfl rfl ?_
    refine zt_aload_n (pc := 5) dX5_feared_5 rfl rfl ?_
    refine wt_getI (pc := 6) 5 7 (v := nI (cK C)) dX5_feared_6 q1279 rfl (ms_o hM) (hE.k hC) ?_
    refine zt_geN (a := cK C) (b := cK C) (pc := 9) 65 dX5_feared_9 (by decide) (by omega) (by omega) (fun c_9 => ?_) (fun c_9 => absurd c_9 (Nat.lt_irrefl _))
    refine zt_iload_n (pc := 65) dX5_feared_65 rfl rfl ?_
    exact zt_ireturn (pc := 66) dX5_feared_66 rfl (⟨rfl, rfl⟩)
  · show Zt _ _ _ _ _ _ (zW h S) 4 [some (.ref 289), some (.int by_), some (.int (itr (s_feF C by_) 0 k)), some (.int (nI k)), none] []
    refine zt_iload_n (pc := 4) dX5_feared_4 rfl rfl ?_
    refine zt_aload_n (pc := 5) dX5_feared_5 rfl rfl ?_
    refine wt_getI (pc := 6) 5 7 (v := nI (cK C)) dX5_feared_6 q1279 rfl (ms_o hM) (hE.k hC) ?_
    refine zt_geN (a := k) (b := cK C) (pc := 9) 65 dX5_feared_9 (by decide) (by omega) (by omega) (fun c_9 => absurd hi_k (Nat.not_lt.mpr c_9)) (fun c_9 => ?_)
    refine zt_aload_n (pc := 12) dX5_feared_12 rfl rfl ?_
    refine wt_getR (pc := 13) 5 8 dX5_feared_13 q1280 rfl (ms_o hM) (mr_kind hM) ?_
    refine zt_iconst (pc := 16) dX5_feared_16 (v := 5) rfl ?_
    refine zt_iload_n (pc := 17) dX5_feared_17 rfl rfl ?_
    refine zt_imulN (pc := 18) (a := 5) (b := k) dX5_feared_18 ?_
    refine zt_iconst (pc := 19) dX5_feared_19 (v := 2) rfl ?_
    refine zt_iaddN (pc := 20) (a := 5 * k) (b := 2) dX5_feared_20 ?_
    refine wt_iald (pc := 21) 30 ((5 * k) + 2) (v := C 294 ((5 * k) + 2)) dX5_feared_21 (ma_kind hM) rfl rfl (by omega) (congrFun hE.a294 ((5 * k) + 2)) ?_
    refine zt_istore (pc := 22) (L' := [some (.ref 289), some (.int by_), some (.int (itr (s_feF C by_) 0 k)), some (.int (nI k)), some (.int (C 294 ((5 * k) + 2)))]) dX5_feared_22 (by decide) rfl rfl ?_
    refine zt_iload_n (pc := 24) dX5_feared_24 rfl rfl ?_
    refine zt_iload (pc := 25) dX5_feared_25 rfl ?_
    refine zt_bipush (pc := 27) dX5_feared_27 (v := (-4)) rfl ?_
    refine zt_icmp_eq (pc := 29) 56 dX5_feared_29 (by decide) (fun c_29 => ?_) (fun c_29 => ?_)
    · refine zt_iconst (pc := 56) dX5_feared_56 (v := 0) rfl ?_
      refine zt_ior (pc := 57) dX5_feared_57 ?_
      refine zt_top (pc := 58) (itr (s_feF C by_) 0 (k + 1)) (show _ = s_feF C by_ k _ from congrArg _ (if_neg (fun q => q.1 c_29)).symm) ?_
      refine zt_istore_n (pc := 58) (L' := [some (.ref 289), some (.int by_), some (.int (itr (s_feF C by_) 0 (k + 1))), some (.int (nI k)), some (.int (C 294 ((5 * k) + 2)))]) dX5_feared_58 rfl (by decide) rfl rfl ?_
      refine zt_iincN (pc := 59) (b := k + 1) (L' := [some (.ref 289), some (.int by_), some (.int (itr (s_feF C by_) 0 (k + 1))), some (.int (nI (k + 1))), some (.int (C 294 ((5 * k) + 2)))]) dX5_feared_59 rfl (zinc1 k) (by decide) rfl rfl ?_
      refine zt_goto (pc := 62) 4 dX5_feared_62 (by decide) ?_
      refine zt_drop (L' := [some (.ref 289), some (.int by_), some (.int (itr (s_feF C by_) 0 (k + 1))), some (.int (nI (k + 1))), none]) 4 rfl ?_
      exact ih_k
    · refine zt_iload_n (pc := 32) dX5_feared_32 rfl rfl ?_
      refine zt_if_eq (pc := 33) 49 dX5_feared_33 (by decide) (fun c_33 => ?_) (fun c_33 => ?_)
      · refine zt_iconst (pc := 49) dX5_feared_49 (v := 1) rfl ?_
        refine zt_iload (pc := 50) dX5_feared_50 rfl ?_
        refine zt_ishl (pc := 52) dX5_feared_52 ?_
        refine zt_goto (pc := 53) 57 dX5_feared_53 (by decide) ?_
        refine zt_ior (pc := 57) dX5_feared_57 ?_
        refine zt_top (pc := 58) (itr (s_feF C by_) 0 (k + 1)) (show _ = s_feF C by_ k _ from congrArg _ (if_pos ⟨c_29, Or.inl c_33⟩).symm) ?_
        refine zt_istore_n (pc := 58) (L' := [some (.ref 289), some (.int by_), some (.int (itr (s_feF C by_) 0 (k + 1))), some (.int (nI k)), some (.int (C 294 ((5 * k) + 2)))]) dX5_feared_58 rfl (by decide) rfl rfl ?_
        refine zt_iincN (pc := 59) (b := k + 1) (L' := [some (.ref 289), some (.int by_), some (.int (itr (s_feF C by_) 0 (k + 1))), some (.int (nI (k + 1))), some (.int (C 294 ((5 * k) + 2)))]) dX5_feared_59 rfl (zinc1 k) (by decide) rfl rfl ?_
        refine zt_goto (pc := 62) 4 dX5_feared_62 (by decide) ?_
        refine zt_drop (L' := [some (.ref 289), some (.int by_), some (.int (itr (s_feF C by_) 0 (k + 1))), some (.int (nI (k + 1))), none]) 4 rfl ?_
        exact ih_k
      · refine zt_aload_n (pc := 36) dX5_feared_36 rfl rfl ?_
        refine wt_getR (pc := 37) 5 8 dX5_feared_37 q1280 rfl (ms_o hM) (mr_kind hM) ?_
        refine zt_iconst (pc := 40) dX5_feared_40 (v := 5) rfl ?_
        refine zt_iload_n (pc := 41) dX5_feared_41 rfl rfl ?_
        refine zt_imulN (pc := 42) (a := 5) (b := k) dX5_feared_42 ?_
        refine zt_iconst (pc := 43) dX5_feared_43 (v := 4) rfl ?_
        refine zt_iaddN (pc := 44) (a := 5 * k) (b := 4) dX5_feared_44 ?_
        refine wt_iald (pc := 45) 30 ((5 * k) + 4) (v := C 294 ((5 * k) + 4)) dX5_feared_45 (ma_kind hM) rfl rfl (by omega) (congrFun hE.a294 ((5 * k) + 4)) ?_
        refine zt_if_le (pc := 46) 56 dX5_feared_46 (by decide) (fun c_46 => ?_) (fun c_46 => ?_)
        · refine zt_iconst (pc := 56) dX5_feared_56 (v := 0) rfl ?_
          refine zt_ior (pc := 57) dX5_feared_57 ?_
          refine zt_top (pc := 58) (itr (s_feF C by_) 0 (k + 1)) (show _ = s_feF C by_ k _ from congrArg _ (if_neg (fun q => q.2.elim c_33 (fun z => absurd c_46 (Int32.not_le.mpr z)))).symm) ?_
          refine zt_istore_n (pc := 58) (L' := [some (.ref 289), some (.int by_), some (.int (itr (s_feF C by_) 0 (k + 1))), some (.int (nI k)), some (.int (C 294 ((5 * k) + 2)))]) dX5_feared_58 rfl (by decide) rfl rfl ?_
          refine zt_iincN (pc := 59) (b := k + 1) (L' := [some (.ref 289), some (.int by_), some (.int (itr (s_feF C by_) 0 (k + 1))), some (.int (nI (k + 1))), some (.int (C 294 ((5 * k) + 2)))]) dX5_feared_59 rfl (zinc1 k) (by decide) rfl rfl ?_
          refine zt_goto (pc := 62) 4 dX5_feared_62 (by decide) ?_
          refine zt_drop (L' := [some (.ref 289), some (.int by_), some (.int (itr (s_feF C by_) 0 (k + 1))), some (.int (nI (k + 1))), none]) 4 rfl ?_
          exact ih_k
        · refine zt_iconst (pc := 49) dX5_feared_49 (v := 1) rfl ?_
          refine zt_iload (pc := 50) dX5_feared_50 rfl ?_
          refine zt_ishl (pc := 52) dX5_feared_52 ?_
          refine zt_goto (pc := 53) 57 dX5_feared_53 (by decide) ?_
          refine zt_ior (pc := 57) dX5_feared_57 ?_
          refine zt_top (pc := 58) (itr (s_feF C by_) 0 (k + 1)) (show _ = s_feF C by_ k _ from congrArg _ (if_pos ⟨c_29, Or.inr (Int32.not_le.mp c_46)⟩).symm) ?_
          refine zt_istore_n (pc := 58) (L' := [some (.ref 289), some (.int by_), some (.int (itr (s_feF C by_) 0 (k + 1))), some (.int (nI k)), some (.int (C 294 ((5 * k) + 2)))]) dX5_feared_58 rfl (by decide) rfl rfl ?_
          refine zt_iincN (pc := 59) (b := k + 1) (L' := [some (.ref 289), some (.int by_), some (.int (itr (s_feF C by_) 0 (k + 1))), some (.int (nI (k + 1))), some (.int (C 294 ((5 * k) + 2)))]) dX5_feared_59 rfl (zinc1 k) (by decide) rfl rfl ?_
          refine zt_goto (pc := 62) 4 dX5_feared_62 (by decide) ?_
          refine zt_drop (L' := [some (.ref 289), some (.int by_), some (.int (itr (s_feF C by_) 0 (k + 1))), some (.int (nI (k + 1))), none]) 4 rfl ?_
          exact ih_k

theorem tm_fears (hM : MS h.2.1 h.2.2.2) (hC : CI C) (hE : CE S C) (w : Int32) : Zd g mX5_fears 2 0 0 [.ref 289, .int w] (zW h S) (some (.int (o_fears C w))) (zW h S) := by
  refine zc_of [some (.ref 289), some (.int w)] rfl (Nat.le_of_ble_eq_true rfl) rfl ?_
  refine zt_iload_n (pc := 0) dX5_fears_0 rfl rfl ?_
  refine zt_if_ne (pc := 1) 12 dX5_fears_1 (by decide) (fun c_1 => ?_) (fun c_1 => ?_)
  · refine zt_iload_n (pc := 12) dX5_fears_12 rfl rfl ?_
    refine zt_iconst (pc := 13) dX5_fears_13 (v := 1) rfl ?_
    refine zt_icmp_ne (pc := 14) 36 dX5_fears_14 (by decide) (fun c_14 => ?_) (fun c_14 => ?_)
    · refine zt_iconst (pc := 36) dX5_fears_36 (v := (-1)) rfl ?_
      exact zt_ireturn (pc := 37) dX5_fears_37 rfl (⟨congrArg some (congrArg Value.int (((if_neg c_1).trans (if_neg c_14)).symm)), rfl⟩)
    · refine zt_iconst (pc := 17) dX5_fears_17 (v := 1) rfl ?_
      refine zt_aload_n (pc := 18) dX5_fears_18 rfl rfl ?_
      refine wt_getI (pc := 19) 5 0 (v := nI (cT C)) dX5_fears_19 q1272 rfl (ms_o hM) (hE.t hC) ?_
      refine zt_ishl (pc := 22) dX5_fears_22 ?_
      refine zt_iconst (pc := 23) dX5_fears_23 (v := 1) rfl ?_
      refine zt_isub (pc := 24) dX5_fears_24 ?_
      refine zt_aload_n (pc := 25) dX5_fears_25 rfl rfl ?_
      refine zt_iconst (pc := 26) dX5_fears_26 (v := 0) rfl ?_
      refine wt_callV (pc := 27) mX5_feared 1 5 (rc' := 0) (rs' := 0) dX5_fears_27 q1633 mi_X5_feared rfl rfl (ms_o hM) (tm_feared hM hC hE 0) rfl rfl rfl rfl rfl rfl ?_
      refine zt_iconst (pc := 30) dX5_fears_30 (v := (-1)) rfl ?_
      refine zt_ixor (pc := 31) dX5_fears_31 ?_
      refine zt_iand (pc := 32) dX5_fears_32 ?_
      refine zt_goto (pc := 33) 37 dX5_fears_33 (by decide) ?_
      exact zt_ireturn (pc := 37) dX5_fears_37 rfl (⟨congrArg some (congrArg Value.int (((if_neg c_1).trans (if_pos c_14)).symm)), rfl⟩)
  · refine zt_aload_n (pc := 4) dX5_fears_4 rfl rfl ?_
    refine zt_iconst (pc := 5) dX5_fears_5 (v := 1) rfl ?_
    refine wt_callV (pc := 6) mX5_feared 1 5 (rc' := 0) (rs' := 0) dX5_fears_6 q1633 mi_X5_feared rfl rfl (ms_o hM) (tm_feared hM hC hE 1) rfl rfl rfl rfl rfl rfl ?_
    refine zt_goto (pc := 9) 37 dX5_fears_9 (by decide) ?_
    exact zt_ireturn (pc := 37) dX5_fears_37 rfl (⟨congrArg some (congrArg Value.int ((if_pos c_1).symm)), rfl⟩)

theorem tm_answerOf (hM : MS h.2.1 h.2.2.2) (hC : CI C) (hE : CE S C) (k s : Nat) (hk : k < 6) (hs : s < 4) (t : Int32) (hT : TK f 0) : Zd g mX5_answerOf 1 0 0 [.ref 289, .int (nI k), .int (nI s), .int t] (zW h (zs S 302 f)) (some (.int (s_ans C f k s t))) (zW h (zs S 302 f)) := by
  refine zc_of [some (.ref 289), some (.int (nI k)), some (.int (nI s)), some (.int t), none] rfl (Nat.le_of_ble_eq_true rfl) rfl ?_
  refine zt_aload_n (pc := 0) dX5_answerOf_0 rfl rfl ?_
  refine wt_getR (pc := 1) 5 27 dX5_answerOf_1 q1299 rfl (ms_o hM) (mr_st hM) ?_
  refine zt_iconst (pc := 4) dX5_answerOf_4 (v := 0) rfl ?_
  refine zt_bipush (pc := 5) dX5_answerOf_5 (v := 10) rfl ?_
  refine zt_iload_n (pc := 7) dX5_answerOf_7 rfl rfl ?_
  refine zt_imulN (pc := 8) (a := 10) (b := k) dX5_answerOf_8 ?_
  refine zt_iaddN (pc := 9) (a := 0) (b := 10 * k) dX5_answerOf_9 ?_
  refine zt_iload_n (pc := 10) dX5_answerOf_10 rfl rfl ?_
  refine zt_iaddN (pc := 11) (a := 0 + (10 * k)) (b := s) dX5_answerOf_11 ?_
  refine wt_iald (pc := 12) 210 ((0 + (10 * k)) + s) (v := f ((0 + (10 * k)) + s)) dX5_answerOf_12 (ma_st hM) rfl rfl (by omega) rfl ?_
  refine zt_istore (pc := 13) (L' := [some (.ref 289), some (.int (nI k)), some (.int (nI s)), some (.int t), some (.int (f ((0 + (10 * k)) + s)))]) dX5_answerOf_13 (by decide) rfl rfl ?_
  refine zt_iload (pc := 15) dX5_answerOf_15 rfl ?_
  refine zt_bipush (pc := 17) dX5_answerOf_17 (v := (-4)) rfl ?_
  refine zt_icmp_ne (pc := 19) 27 dX5_answerOf_19 (by decide) (fun c_19 => ?_) (fun c_19 => ?_)
  · refine zt_aload_n (pc := 27) dX5_answerOf_27 rfl rfl ?_
    refine wt_getR (pc := 28) 5 18 dX5_answerOf_28 q1290 rfl (ms_o hM) (mr_are hM) ?_
    refine zt_iload (pc := 31) dX5_answerOf_31 rfl ?_
    refine wt_iald (pc := 33) 12 ((f (0 + 10 * k + s)).toNatClampNeg) (v := C 300 ((f (0 + 10 * k + s)).toNatClampNeg)) dX5_answerOf_33 (ma_are hM) rfl ((hT k hk s (Or.inl hs)).ix c_19) ((hT k hk s (Or.inl hs)).lt c_19) (congrFun hE.a300 ((f (0 + 10 * k + s)).toNatClampNeg)) ?_
    refine zt_iload_n (pc := 34) dX5_answerOf_34 rfl rfl ?_
    refine zt_ishr (pc := 35) dX5_answerOf_35 ?_
    refine zt_iconst (pc := 36) dX5_answerOf_36 (v := 1) rfl ?_
    refine zt_iand (pc := 37) dX5_answerOf_37 ?_
    exact zt_ireturn (pc := 38) dX5_answerOf_38 rfl (⟨congrArg some (congrArg Value.int ((if_neg c_19).symm)), rfl⟩)
  · refine zt_bipush (pc := 22) dX5_answerOf_22 (v := (-4)) rfl ?_
    refine zt_goto (pc := 24) 38 dX5_answerOf_24 (by decide) ?_
    exact zt_ireturn (pc := 38) dX5_answerOf_38 rfl (⟨congrArg some (congrArg Value.int ((if_pos c_19).symm)), rfl⟩)

theorem tm_answer (hM : MS h.2.1 h.2.2.2) (hI : AI A) (hA : AE S A) (k s t : Int32) : Zd g mX5_answer 3 0 0 [.ref 289, .int k, .int s, .int t] (zW h S) (some (.int (o_answer A k s t))) (zW h S) := by
  refine zc_of [some (.ref 289), some (.int k), some (.int s), some (.int t)] rfl (Nat.le_of_ble_eq_true rfl) rfl ?_
  have b1 := hI.c.t8; have b2 := hI.c.m12; have b3 := hI.c.s4; have b4 := hI.c.k6; have b5 := hI.sh24
  refine zt_aload_n (pc := 0) dX5_answer_0 rfl rfl ?_
  refine zt_iload_n (pc := 1) dX5_answer_1 rfl rfl ?_
  refine wt_callV (pc := 2) mX5_isKind 1 5 (rc' := 0) (rs' := 0) dX5_answer_2 q1507 mi_X5_isKind rfl rfl (ms_o hM) (tm_isKind hM hI.c hA.ce k) rfl rfl rfl rfl rfl rfl ?_
  refine zt_if_eq (pc := 5) 34 dX5_answer_5 (by decide) (fun c_5 => ?_) (fun c_5 => ?_)
  · refine zt_iconst (pc := 34) dX5_answer_34 (v := (-1)) rfl ?_
    exact zt_ireturn (pc := 35) dX5_answer_35 rfl (⟨congrArg some (congrArg Value.int ((if_neg (fun q => bI_eq0.mp c_5 q.1)).symm)), rfl⟩)
  · have hn_k_ : inN k (cK A) := bI_ne0 c_5
    obtain ⟨k_, hl_k_, rfl⟩ := inN_of hn_k_ (by have := hI.c.k6; omega)
    refine zt_aload_n (pc := 8) dX5_answer_8 rfl rfl ?_
    refine zt_iload_n (pc := 9) dX5_answer_9 rfl rfl ?_
    refine wt_callV (pc := 10) mX5_isSound 1 5 (rc' := 0) (rs' := 0) dX5_answer_10 q1499 mi_X5_isSound rfl rfl (ms_o hM) (tm_isSound hM hI.c hA.ce s) rfl rfl rfl rfl rfl rfl ?_
    refine zt_if_eq (pc := 13) 34 dX5_answer_13 (by decide) (fun c_13 => ?_) (fun c_13 => ?_)
    · refine zt_iconst (pc := 34) dX5_answer_34 (v := (-1)) rfl ?_
      exact zt_ireturn (pc := 35) dX5_answer_35 rfl (⟨congrArg some (congrArg Value.int ((if_neg (fun q => bI_eq0.mp c_13 q.2.1)).symm)), rfl⟩)
    · have hn_s_ : inN s (cS A) := bI_ne0 c_13
      obtain ⟨s_, hl_s_, rfl⟩ := inN_of hn_s_ (by have := hI.c.s4; omega)
      refine zt_aload_n (pc := 16) dX5_answer_16 rfl rfl ?_
      refine zt_iload_n (pc := 17) dX5_answer_17 rfl rfl ?_
      refine wt_callV (pc := 18) mX5_isThing 1 5 (rc' := 0) (rs' := 0) dX5_answer_18 q1487 mi_X5_isThing rfl rfl (ms_o hM) (tm_isThing hM hI.c hA.ce t) rfl rfl rfl rfl rfl rfl ?_
      refine zt_if_eq (pc := 21) 34 dX5_answer_21 (by decide) (fun c_21 => ?_) (fun c_21 => ?_)
      · refine zt_iconst (pc := 34) dX5_answer_34 (v := (-1)) rfl ?_
        exact zt_ireturn (pc := 35) dX5_answer_35 rfl (⟨congrArg some (congrArg Value.int ((if_neg (fun q => bI_eq0.mp c_21 q.2.2)).symm)), rfl⟩)
      · refine zt_aload_n (pc := 24) dX5_answer_24 rfl rfl ?_
        refine zt_iload_n (pc := 25) dX5_answer_25 rfl rfl ?_
        refine zt_iload_n (pc := 26) dX5_answer_26 rfl rfl ?_
        refine zt_iload_n (pc := 27) dX5_answer_27 rfl rfl ?_
        refine wt_callV (pc := 28) mX5_answerOf 3 5 (rc' := 0) (rs' := 0) dX5_answer_28 q1648 mi_X5_answerOf rfl rfl (ms_o hM) (by have e0 := tm_answerOf (g := g) (f := A 302) hM hI.c hA.ce k_ s_ (by omega) (by omega) t hI.k0; rw [← zs_eq (hA 302 (by decide) (by decide))] at e0; exact e0) rfl rfl rfl rfl rfl rfl ?_
        refine zt_goto (pc := 31) 35 dX5_answer_31 (by decide) ?_
        exact zt_ireturn (pc := 35) dX5_answer_35 rfl (⟨congrArg some (congrArg Value.int (((if_pos ⟨hn_k_, hn_s_, bI_ne0 c_21⟩).trans (by rw [nI_clamp (show k_ < 2 ^ 31 by omega), nI_clamp (show s_ < 2 ^ 31 by omega)])).symm)), rfl⟩)

theorem tm_whoSay (hM : MS h.2.1 h.2.2.2) (hC : CI C) (hE : CE S C) (s : Nat) (hs : s < 4) (t a : Int32) (hT : TK f 0) : Zd g mX5_whoSay 2 0 0 [.ref 289, .int (nI s), .int t, .int a] (zW h (zs S 302 f)) (some (.int (s_say C f s t a))) (zW h (zs S 302 f)) := by
  refine zc_of [some (.ref 289), some (.int (nI s)), some (.int t), some (.int a), none, none] rfl (Nat.le_of_ble_eq_true rfl) rfl ?_
  have hk6 := hC.k6
  refine zt_iconst (pc := 0) dX5_whoSay_0 (v := 0) rfl ?_
  refine zt_istore (pc := 1) (L' := [some (.ref 289), some (.int (nI s)), some (.int t), some (.int a), some (.int 0), none]) dX5_whoSay_1 (by decide) rfl rfl ?_
  refine zt_iconst (pc := 3) dX5_whoSay_3 (v := 0) rfl ?_
  refine zt_istore (pc := 4) (L' := [some (.ref 289), some (.int (nI s)), some (.int t), some (.int a), some (.int 0), some (.int 0)]) dX5_whoSay_4 (by decide) rfl rfl ?_
  refine zt_for (pc := 6) (fun k => zs S 302 f) (fun k => [some (.ref 289), some (.int (nI s)), some (.int t), some (.int a), some (.int (itr (s_sayF C f s t a) 0 k)), some (.int (nI k))]) (cK C) rfl rfl ?_ (fun k hi_k ih_k => ?_)
  · show Zt _ _ _ _ _ _ (zW h (zs S 302 f)) 6 [some (.ref 289), some (.int (nI s)), some (.int t), some (.int a), some (.int (itr (s_sayF C f s t a) 0 (cK C))), some (.int (nI (cK C)))] []
    refine zt_iload (pc := 6) dX5_whoSay_6 rfl ?_
    refine zt_aload_n (pc := 8) dX5_whoSay_8 rfl rfl ?_
    refine wt_getI (pc := 9) 5 7 (v := nI (cK C)) dX5_whoSay_9 q1279 rfl (ms_o hM) (hE.k hC) ?_
    refine zt_geN (a := cK C) (b := cK C) (pc := 12) 46 dX5_whoSay_12 (by decide) (by omega) (by omega) (fun c_12 => ?_) (fun c_12 => absurd c_12 (Nat.lt_irrefl _))
    refine zt_iload (pc := 46) dX5_whoSay_46 rfl ?_
    exact zt_ireturn (pc := 48) dX5_whoSay_48 rfl (⟨rfl, rfl⟩)
  · show Zt _ _ _ _ _ _ (zW h (zs S 302 f)) 6 [some (.ref 289), some (.int (nI s)), some (.int t), some (.int a), some (.int (itr (s_sayF C f s t a) 0 k)), some (.int (nI k))] []
    refine zt_iload (pc := 6) dX5_whoSay_6 rfl ?_
    refine zt_aload_n (pc := 8) dX5_whoSay_8 rfl rfl ?_
    refine wt_getI (pc := 9) 5 7 (v := nI (cK C)) dX5_whoSay_9 q1279 rfl (ms_o hM) (hE.k hC) ?_
    refine zt_geN (a := k) (b := cK C) (pc := 12) 46 dX5_whoSay_12 (by decide) (by omega) (by omega) (fun c_12 => absurd hi_k (Nat.not_lt.mpr c_12)) (fun c_12 => ?_)
    refine zt_iload (pc := 15) dX5_whoSay_15 rfl ?_
    refine zt_aload_n (pc := 17) dX5_whoSay_17 rfl rfl ?_
    refine zt_iload (pc := 18) dX5_whoSay_18 rfl ?_
    refine zt_iload_n (pc := 20) dX5_whoSay_20 rfl rfl ?_
    refine zt_iload_n (pc := 21) dX5_whoSay_21 rfl rfl ?_
    refine wt_callV (pc := 22) mX5_answerOf 3 5 (rc' := 0) (rs' := 0) dX5_whoSay_22 q1648 mi_X5_answerOf rfl rfl (ms_o hM) (tm_answerOf hM hC hE k s (by omega) hs t hT) rfl rfl rfl rfl rfl rfl ?_
    refine zt_iload_n (pc := 25) dX5_whoSay_25 rfl rfl ?_
    refine zt_icmp_ne (pc := 26) 36 dX5_whoSay_26 (by decide) (fun c_26 => ?_) (fun c_26 => ?_)
    · refine zt_iconst (pc := 36) dX5_whoSay_36 (v := 0) rfl ?_
      refine zt_ior (pc := 37) dX5_whoSay_37 ?_
      refine zt_top (pc := 38) (itr (s_sayF C f s t a) 0 (k + 1)) (show _ = s_sayF C f s t a k _ from congrArg _ (if_neg c_26).symm) ?_
      refine zt_istore (pc := 38) (L' := [some (.ref 289), some (.int (nI s)), some (.int t), some (.int a), some (.int (itr (s_sayF C f s t a) 0 (k + 1))), some (.int (nI k))]) dX5_whoSay_38 (by decide) rfl rfl ?_
      refine zt_iincN (pc := 40) (b := k + 1) (L' := [some (.ref 289), some (.int (nI s)), some (.int t), some (.int a), some (.int (itr (s_sayF C f s t a) 0 (k + 1))), some (.int (nI (k + 1)))]) dX5_whoSay_40 rfl (zinc1 k) (by decide) rfl rfl ?_
      refine zt_goto (pc := 43) 6 dX5_whoSay_43 (by decide) ?_
      exact ih_k
    · refine zt_iconst (pc := 29) dX5_whoSay_29 (v := 1) rfl ?_
      refine zt_iload (pc := 30) dX5_whoSay_30 rfl ?_
      refine zt_ishl (pc := 32) dX5_whoSay_32 ?_
      refine zt_goto (pc := 33) 37 dX5_whoSay_33 (by decide) ?_
      refine zt_ior (pc := 37) dX5_whoSay_37 ?_
      refine zt_top (pc := 38) (itr (s_sayF C f s t a) 0 (k + 1)) (show _ = s_sayF C f s t a k _ from congrArg _ (if_pos c_26).symm) ?_
      refine zt_istore (pc := 38) (L' := [some (.ref 289), some (.int (nI s)), some (.int t), some (.int a), some (.int (itr (s_sayF C f s t a) 0 (k + 1))), some (.int (nI k))]) dX5_whoSay_38 (by decide) rfl rfl ?_
      refine zt_iincN (pc := 40) (b := k + 1) (L' := [some (.ref 289), some (.int (nI s)), some (.int t), some (.int a), some (.int (itr (s_sayF C f s t a) 0 (k + 1))), some (.int (nI (k + 1)))]) dX5_whoSay_40 rfl (zinc1 k) (by decide) rfl rfl ?_
      refine zt_goto (pc := 43) 6 dX5_whoSay_43 (by decide) ?_
      exact ih_k

theorem tm_heard (hM : MS h.2.1 h.2.2.2) (hI : AI A) (hA : AE S A) (s t a : Int32) : Zd g mX5_heard 3 0 0 [.ref 289, .int s, .int t, .int a] (zW h S) (some (.int (o_heard A s t a))) (zW h (w_heard S A s t a)) := by
  refine zc_of [some (.ref 289), some (.int s), some (.int t), some (.int a)] rfl (Nat.le_of_ble_eq_true rfl) rfl ?_
  have b1 := hI.c.t8; have b2 := hI.c.m12; have b3 := hI.c.s4; have b4 := hI.c.k6; have b5 := hI.sh24
  refine zt_aload_n (pc := 0) dX5_heard_0 rfl rfl ?_
  refine zt_iload_n (pc := 1) dX5_heard_1 rfl rfl ?_
  refine wt_callV (pc := 2) mX5_isSound 1 5 (rc' := 0) (rs' := 0) dX5_heard_2 q1499 mi_X5_isSound rfl rfl (ms_o hM) (tm_isSound hM hI.c hA.ce s) rfl rfl rfl rfl rfl rfl ?_
  refine zt_if_eq (pc := 5) 32 dX5_heard_5 (by decide) (fun c_5 => ?_) (fun c_5 => ?_)
  · refine zt_iconst (pc := 32) dX5_heard_32 (v := (-1)) rfl ?_
    exact zt_ireturn (pc := 33) dX5_heard_33 rfl (⟨congrArg some (congrArg Value.int (if_neg (fun q => bI_eq0.mp c_5 q.1)).symm), congrArg (zW h) (if_neg (fun q => bI_eq0.mp c_5 q.1)).symm⟩)
  · have hn_s_ : inN s (cS A) := bI_ne0 c_5
    obtain ⟨s_, hl_s_, rfl⟩ := inN_of hn_s_ (by have := hI.c.s4; omega)
    refine zt_aload_n (pc := 8) dX5_heard_8 rfl rfl ?_
    refine zt_iload_n (pc := 9) dX5_heard_9 rfl rfl ?_
    refine wt_callV (pc := 10) mX5_isThing 1 5 (rc' := 0) (rs' := 0) dX5_heard_10 q1487 mi_X5_isThing rfl rfl (ms_o hM) (tm_isThing hM hI.c hA.ce t) rfl rfl rfl rfl rfl rfl ?_
    refine zt_if_eq (pc := 13) 32 dX5_heard_13 (by decide) (fun c_13 => ?_) (fun c_13 => ?_)
    · refine zt_iconst (pc := 32) dX5_heard_32 (v := (-1)) rfl ?_
      exact zt_ireturn (pc := 33) dX5_heard_33 rfl (⟨congrArg some (congrArg Value.int (if_neg (fun q => bI_eq0.mp c_13 q.2.1)).symm), congrArg (zW h) (if_neg (fun q => bI_eq0.mp c_13 q.2.1)).symm⟩)
    · refine zt_iload_n (pc := 16) dX5_heard_16 rfl rfl ?_
      refine zt_bipush (pc := 17) dX5_heard_17 (v := (-4)) rfl ?_
      refine zt_icmp_eq (pc := 19) 34 dX5_heard_19 (by decide) (fun c_19 => ?_) (fun c_19 => ?_)
      · refine zt_aload_n (pc := 34) dX5_heard_34 rfl rfl ?_
        refine zt_dup (pc := 35) dX5_heard_35 rfl ?_
        refine wt_getI (pc := 36) 5 33 (v := A 289 33) dX5_heard_36 q1305 rfl (ms_o hM) (hA.f 33) ?_
        refine zt_aload_n (pc := 39) dX5_heard_39 rfl rfl ?_
        refine zt_iload_n (pc := 40) dX5_heard_40 rfl rfl ?_
        refine zt_iload_n (pc := 41) dX5_heard_41 rfl rfl ?_
        refine zt_iload_n (pc := 42) dX5_heard_42 rfl rfl ?_
        refine wt_callV (pc := 43) mX5_whoSay 3 5 (rc' := 0) (rs' := 0) dX5_heard_43 q1656 mi_X5_whoSay rfl rfl (ms_o hM) (by have e0 := tm_whoSay (g := g) (f := A 302) hM hI.c hA.ce s_ (by omega) t a hI.k0; rw [← zs_eq (hA 302 (by decide) (by decide))] at e0; exact e0) rfl rfl rfl rfl rfl rfl ?_
        refine zt_iand (pc := 46) dX5_heard_46 ?_
        refine wt_putI (pc := 47) 5 33 dX5_heard_47 q1305 rfl (ms_o hM) ?_
        refine zt_aload_n (pc := 50) dX5_heard_50 rfl rfl ?_
        refine wt_getI (pc := 51) 5 33 dX5_heard_51 q1305 rfl (ms_o hM) rfl ?_
        refine zt_top (pc := 54) (A 289 33 &&& s_say A (A 302) s_ t a) (zu_same _ _ _ _) ?_
        exact zt_ireturn (pc := 54) dX5_heard_54 rfl (⟨congrArg some (congrArg Value.int ((if_pos ⟨hn_s_, bI_ne0 c_13, Or.inl c_19⟩).trans (by rw [nI_clamp (show s_ < 2 ^ 31 by omega)])).symm), congrArg (zW h) ((if_pos ⟨hn_s_, bI_ne0 c_13, Or.inl c_19⟩).trans (by rw [nI_clamp (show s_ < 2 ^ 31 by omega)])).symm⟩)
      · refine zt_iload_n (pc := 22) dX5_heard_22 rfl rfl ?_
        refine zt_i2l (pc := 23) dX5_heard_23 rfl ?_
        refine zt_lconst (pc := 24) dX5_heard_24 (v := 0) rfl ?_
        refine zt_lconst (pc := 25) dX5_heard_25 (v := 1) rfl ?_
        refine wt_callS (pc := 26) mX5_in 3 (rc' := 0) (rs' := 0) dX5_heard_26 q1223 ms_X5_in (tm_in a.toInt64 0 1) rfl rfl rfl rfl rfl rfl ?_
        refine zt_if_ne (pc := 29) 34 dX5_heard_29 (by decide) (fun c_29 => ?_) (fun c_29 => ?_)
        · refine zt_aload_n (pc := 34) dX5_heard_34 rfl rfl ?_
          refine zt_dup (pc := 35) dX5_heard_35 rfl ?_
          refine wt_getI (pc := 36) 5 33 (v := A 289 33) dX5_heard_36 q1305 rfl (ms_o hM) (hA.f 33) ?_
          refine zt_aload_n (pc := 39) dX5_heard_39 rfl rfl ?_
          refine zt_iload_n (pc := 40) dX5_heard_40 rfl rfl ?_
          refine zt_iload_n (pc := 41) dX5_heard_41 rfl rfl ?_
          refine zt_iload_n (pc := 42) dX5_heard_42 rfl rfl ?_
          refine wt_callV (pc := 43) mX5_whoSay 3 5 (rc' := 0) (rs' := 0) dX5_heard_43 q1656 mi_X5_whoSay rfl rfl (ms_o hM) (by have e0 := tm_whoSay (g := g) (f := A 302) hM hI.c hA.ce s_ (by omega) t a hI.k0; rw [← zs_eq (hA 302 (by decide) (by decide))] at e0; exact e0) rfl rfl rfl rfl rfl rfl ?_
          refine zt_iand (pc := 46) dX5_heard_46 ?_
          refine wt_putI (pc := 47) 5 33 dX5_heard_47 q1305 rfl (ms_o hM) ?_
          refine zt_aload_n (pc := 50) dX5_heard_50 rfl rfl ?_
          refine wt_getI (pc := 51) 5 33 dX5_heard_51 q1305 rfl (ms_o hM) rfl ?_
          refine zt_top (pc := 54) (A 289 33 &&& s_say A (A 302) s_ t a) (zu_same _ _ _ _) ?_
          exact zt_ireturn (pc := 54) dX5_heard_54 rfl (⟨congrArg some (congrArg Value.int ((if_pos ⟨hn_s_, bI_ne0 c_13, Or.inr ((in_c a 1 (by decide)).mp (bI_ne0 c_29))⟩).trans (by rw [nI_clamp (show s_ < 2 ^ 31 by omega)])).symm), congrArg (zW h) ((if_pos ⟨hn_s_, bI_ne0 c_13, Or.inr ((in_c a 1 (by decide)).mp (bI_ne0 c_29))⟩).trans (by rw [nI_clamp (show s_ < 2 ^ 31 by omega)])).symm⟩)
        · refine zt_iconst (pc := 32) dX5_heard_32 (v := (-1)) rfl ?_
          exact zt_ireturn (pc := 33) dX5_heard_33 rfl (⟨congrArg some (congrArg Value.int (if_neg (fun q => q.2.2.elim c_19 (fun z => bI_eq0.mp c_29 ((in_c a 1 (by decide)).mpr z)))).symm), congrArg (zW h) (if_neg (fun q => q.2.2.elim c_19 (fun z => bI_eq0.mp c_29 ((in_c a 1 (by decide)).mpr z)))).symm⟩)

theorem tm_left (hM : MS h.2.1 h.2.2.2) (hI : AI A) (hA : AE S A) (w : Int32) : Zd g mX5_left 3 0 0 [.ref 289, .int w] (zW h S) (some (.int (o_left A w))) (zW h S) := by
  refine zc_of [some (.ref 289), some (.int w)] rfl (Nat.le_of_ble_eq_true rfl) rfl ?_
  refine zt_iload_n (pc := 0) dX5_left_0 rfl rfl ?_
  refine zt_if_ne (pc := 1) 11 dX5_left_1 (by decide) (fun c_1 => ?_) (fun c_1 => ?_)
  · refine zt_iload_n (pc := 11) dX5_left_11 rfl rfl ?_
    refine zt_iconst (pc := 12) dX5_left_12 (v := 1) rfl ?_
    refine zt_icmp_ne (pc := 13) 27 dX5_left_13 (by decide) (fun c_13 => ?_) (fun c_13 => ?_)
    · refine zt_iload_n (pc := 27) dX5_left_27 rfl rfl ?_
      refine zt_iconst (pc := 28) dX5_left_28 (v := 2) rfl ?_
      refine zt_icmp_ne (pc := 29) 39 dX5_left_29 (by decide) (fun c_29 => ?_) (fun c_29 => ?_)
      · refine zt_iconst (pc := 39) dX5_left_39 (v := (-1)) rfl ?_
        exact zt_ireturn (pc := 40) dX5_left_40 rfl (⟨congrArg some (congrArg Value.int (((if_neg c_1).trans ((if_neg c_13).trans (if_neg c_29))).symm)), rfl⟩)
      · refine zt_aload_n (pc := 32) dX5_left_32 rfl rfl ?_
        refine wt_callV (pc := 33) mX5_allChances 0 5 (rc' := 0) (rs' := 0) dX5_left_33 q1625 mi_X5_allChances rfl rfl (ms_o hM) (tm_allChances hM hI.c hA.ce) rfl rfl rfl rfl rfl rfl ?_
        refine zt_goto (pc := 36) 40 dX5_left_36 (by decide) ?_
        exact zt_ireturn (pc := 40) dX5_left_40 rfl (⟨congrArg some (congrArg Value.int (((if_neg c_1).trans ((if_neg c_13).trans (if_pos c_29))).symm)), rfl⟩)
    · refine zt_aload_n (pc := 16) dX5_left_16 rfl rfl ?_
      refine zt_aload_n (pc := 17) dX5_left_17 rfl rfl ?_
      refine wt_getI (pc := 18) 5 33 (v := A 289 33) dX5_left_18 q1305 rfl (ms_o hM) (hA.f 33) ?_
      refine wt_callV (pc := 21) mX5_chanceOf 1 5 (rc' := 0) (rs' := 0) dX5_left_21 q1629 mi_X5_chanceOf rfl rfl (ms_o hM) (tm_chanceOf hM hI.c hA.ce (A 289 33)) rfl rfl rfl rfl rfl rfl ?_
      refine zt_goto (pc := 24) 40 dX5_left_24 (by decide) ?_
      exact zt_ireturn (pc := 40) dX5_left_40 rfl (⟨congrArg some (congrArg Value.int (((if_neg c_1).trans (if_pos c_13)).symm)), rfl⟩)
  · refine zt_aload_n (pc := 4) dX5_left_4 rfl rfl ?_
    refine wt_getI (pc := 5) 5 33 (v := A 289 33) dX5_left_5 q1305 rfl (ms_o hM) (hA.f 33) ?_
    refine zt_goto (pc := 8) 40 dX5_left_8 (by decide) ?_
    exact zt_ireturn (pc := 40) dX5_left_40 rfl (⟨congrArg some (congrArg Value.int ((if_pos c_1).symm)), rfl⟩)

end M6