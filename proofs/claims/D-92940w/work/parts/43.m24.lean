/-! THE TWIN, part 24: rows of showings -/
set_option maxRecDepth 100000
/-- the next row of n things out of c -/
def nrF (c : Nat) : Nat → (Nat → Int32) → (Nat → Int32)
  | 0, r => r
  | n + 1, r => if r n = nI c - 1 then nrF c n (upd r n 0) else upd r n (r n + 1)
def nrB (c : Nat) : Nat → (Nat → Int32) → Int32
  | 0, _ => 0
  | n + 1, r => if r n = nI c - 1 then nrB c n (upd r n 0) else 1
theorem nrB_or (c : Nat) : ∀ n r, nrB c n r = 0 ∨ nrB c n r = 1
  | 0, _ => Or.inl rfl
  | n + 1, r => by
    unfold nrB
    split
    · exact nrB_or c n _
    · exact Or.inr rfl
/-- the state behind a row, from the state at 140; whether it teaches -/
def s_tea (C : Nat → Nat → Int32) (f r : Nat → Int32) (s n : Nat) : Nat → Int32 := itr (fun i f => s_sees C f 70 0 s (r i) (s_true C s (r i))) (s_copy f 70 140) n
def o_tea (C : Nat → Nat → Int32) (f r : Nat → Int32) (x : Int32) (s n : Nat) : Int32 := bI (s_has C (s_tea C f r s n) 70 x = 0 ∧ ¬ s_allS C (s_tea C f r s n) 70 x s = 0)
theorem tea_ok {C : Nat → Nat → Int32} {f r : Nat → Int32} {s : Nat} (hC : CI C) (hs : s < 4) (h : TK f 140) : ∀ n, TK (s_tea C f r s n) 70 ∧ Out 70 f (s_tea C f r s n)
  | 0 => ⟨copy_tk (Or.inl (by decide)) h, copy_out (Or.inl (by decide))⟩
  | n + 1 => by
    obtain ⟨h1, h2⟩ := tea_ok (r := r) hC hs h n
    have h3 := sees_ok (b := 70) (i := 0) (t := r n) (so := s_true C s (r n)) (s := s) hC hs h1 (cK C) (Nat.le_refl _)
    exact ⟨h3.1, h2.trans h3.2⟩
theorem zs_comm (S : Nat → Nat → Int32) {a b : Nat} (f f' : Nat → Int32) (h : a ≠ b) : zs (zs S a f) b f' = zs (zs S b f') a f := by
  funext c
  by_cases hb : c = b
  · subst hb
    rw [zs_at, zs_ne (fun q => h q.symm), zs_at]
  · rw [zs_ne hb]
    by_cases ha : c = a
    · subst ha; rw [zs_at, zs_at]
    · rw [zs_ne ha, zs_ne ha, zs_ne hb]
section M24
variable {g : ZG} {h : ZH} {S A C : Nat → Nat → Int32} {f r : Nat → Int32}
theorem zt_Qeq {M : ZM} {d rc rs pc : Nat} {Q Q' : Option Value → ZH → Prop} {hh : ZH} {L : List (Option Value)} {st : List Value} (e : Q = Q') (k : Zt g M d rc rs Q' hh pc L st) : Zt g M d rc rs Q hh pc L st := e ▸ k
theorem nI_nlt0 {m : Nat} (hm : m ≤ 1000000) : ¬ nI m < 0 := by
  intro z
  exact absurd z (Int32.not_lt.mpr ((nI_leI (a := 0) (by decide) (by omega)).mpr (Nat.zero_le _)))
theorem dec1 (m : Nat) : nI m + Int32.ofInt (-1) = nI m - 1 := by
  have e : Int32.ofInt (-1) = -(1 : Int32) := by decide
  rw [e, ← Int32.sub_eq_add_neg]
theorem nr_loop (hM : MS h.2.1 h.2.2.2) (hC : CI C) (hE : CE S C) (nn : Int32) : ∀ (m : Nat) (_ : m ≤ 5) (r : Nat → Int32), Zt g mX5_nextRow 1 0 0 (fun a h' => a = some (.int (nrB (cT C) m r)) ∧ h' = zW h (zs S 304 (nrF (cT C) m r))) (zW h (zs S 304 r)) 4 [some (.ref 289), some (.int nn), some (.int (nI m - 1))] []
  | 0, _, r => by
    refine zt_iload_n (pc := 4) dX5_nextRow_4 rfl rfl ?_
    refine zt_if_lt (pc := 5) 36 dX5_nextRow_5 (by decide) (fun c_5 => ?_) (fun c_5 => absurd (by decide) c_5)
    refine zt_iload_n (pc := 36) dX5_nextRow_36 rfl rfl ?_
    refine zt_if_lt (pc := 37) 50 dX5_nextRow_37 (by decide) (fun c_37 => ?_) (fun c_37 => absurd (by decide) c_37)
    refine zt_iload_n (pc := 50) dX5_nextRow_50 rfl rfl ?_
    refine zt_if_lt (pc := 51) 58 dX5_nextRow_51 (by decide) (fun c_51 => ?_) (fun c_51 => absurd (by decide) c_51)
    refine zt_iconst (pc := 58) dX5_nextRow_58 (v := 0) rfl ?_
    exact zt_zreturn (pc := 59) dX5_nextRow_59 rfl (Or.inl rfl) (⟨rfl, rfl⟩)
  | m + 1, hm, r => by
    refine zt_L (L' := [some (.ref 289), some (.int nn), some (.int (nI m))]) (congrArg (fun z => [some (Value.ref 289), some (Value.int nn), some (Value.int z)]) (pk_sub (a := m + 1) (b := 1) (by omega))) ?_
    refine zt_iload_n (pc := 4) dX5_nextRow_4 rfl rfl ?_
    refine zt_if_lt (pc := 5) 36 dX5_nextRow_5 (by decide) (fun c_5 => absurd c_5 (nI_nlt0 (by omega))) (fun c_5 => ?_)
    refine zt_aload_n (pc := 8) dX5_nextRow_8 rfl rfl ?_
    refine wt_getR (pc := 9) 5 30 dX5_nextRow_9 q1302 rfl (ms_o hM) (mr_row hM) ?_
    refine zt_iload_n (pc := 12) dX5_nextRow_12 rfl rfl ?_
    refine wt_iald (pc := 13) 5 m (v := r m) dX5_nextRow_13 (ma_row hM) rfl rfl (by omega) rfl ?_
    refine zt_aload_n (pc := 14) dX5_nextRow_14 rfl rfl ?_
    refine wt_getI (pc := 15) 5 0 (v := nI (cT C)) dX5_nextRow_15 q1272 rfl (ms_o hM) (hE.t hC) ?_
    refine zt_iconst (pc := 18) dX5_nextRow_18 (v := 1) rfl ?_
    refine zt_isub (pc := 19) dX5_nextRow_19 ?_
    refine zt_icmp_ne (pc := 20) 36 dX5_nextRow_20 (by decide) (fun c_20 => ?_) (fun c_20 => ?_)
    · refine zt_iload_n (pc := 36) dX5_nextRow_36 rfl rfl ?_
      refine zt_if_lt (pc := 37) 50 dX5_nextRow_37 (by decide) (fun c_37 => absurd c_37 (nI_nlt0 (by omega))) (fun c_37 => ?_)
      refine zt_aload_n (pc := 40) dX5_nextRow_40 rfl rfl ?_
      refine wt_getR (pc := 41) 5 30 dX5_nextRow_41 q1302 rfl (ms_o hM) (mr_row hM) ?_
      refine zt_iload_n (pc := 44) dX5_nextRow_44 rfl rfl ?_
      refine zt_dup2 (pc := 45) dX5_nextRow_45 rfl rfl ?_
      refine wt_iald (pc := 46) 5 m (v := r m) dX5_nextRow_46 (ma_row hM) rfl rfl (by omega) rfl ?_
      refine zt_iconst (pc := 47) dX5_nextRow_47 (v := 1) rfl ?_
      refine zt_iadd (pc := 48) dX5_nextRow_48 ?_
      refine wt_iastS (pc := 49) 5 m dX5_nextRow_49 (ma_row hM) rfl rfl (by omega) ?_
      refine zt_iload_n (pc := 50) dX5_nextRow_50 rfl rfl ?_
      refine zt_if_lt (pc := 51) 58 dX5_nextRow_51 (by decide) (fun c_51 => absurd c_51 (nI_nlt0 (by omega))) (fun c_51 => ?_)
      refine zt_iconst (pc := 54) dX5_nextRow_54 (v := 1) rfl ?_
      refine zt_goto (pc := 55) 59 dX5_nextRow_55 (by decide) ?_
      exact zt_zreturn (pc := 59) dX5_nextRow_59 rfl (Or.inr rfl) (⟨congrArg some (congrArg Value.int (if_neg c_20).symm), congrArg (fun z => zW h (zs S 304 z)) (if_neg c_20).symm⟩)
    · refine zt_aload_n (pc := 23) dX5_nextRow_23 rfl rfl ?_
      refine wt_getR (pc := 24) 5 30 dX5_nextRow_24 q1302 rfl (ms_o hM) (mr_row hM) ?_
      refine zt_iload_n (pc := 27) dX5_nextRow_27 rfl rfl ?_
      refine zt_iconst (pc := 28) dX5_nextRow_28 (v := 0) rfl ?_
      refine wt_iastS (pc := 29) 5 m dX5_nextRow_29 (ma_row hM) rfl rfl (by omega) ?_
      refine zt_iinc (pc := 30) (L' := [some (.ref 289), some (.int nn), some (.int (nI m + Int32.ofInt (-1)))]) dX5_nextRow_30 rfl rfl (by decide) rfl rfl ?_
      refine zt_goto (pc := 33) 4 dX5_nextRow_33 (by decide) ?_
      refine zt_L (L' := [some (.ref 289), some (.int nn), some (.int (nI m - 1))]) (congrArg (fun z => [some (Value.ref 289), some (Value.int nn), some (Value.int z)]) (dec1 m)) ?_
      refine zt_Qeq ?_ (nr_loop hM hC hE nn m (by omega) (upd r m 0))
      rw [nrF, nrB, if_pos c_20, if_pos c_20]

theorem tm_nextRow (hM : MS h.2.1 h.2.2.2) (hC : CI C) (hE : CE S C) (n : Nat) (hn : n ≤ 5) : Zd g mX5_nextRow 1 0 0 [.ref 289, .int (nI n)] (zW h (zs S 304 r)) (some (.int (nrB (cT C) n r))) (zW h (zs S 304 (nrF (cT C) n r))) := by
  refine zc_of [some (.ref 289), some (.int (nI n)), none] rfl (Nat.le_of_ble_eq_true rfl) rfl ?_
  refine zt_iload_n (pc := 0) dX5_nextRow_0 rfl rfl ?_
  refine zt_iconst (pc := 1) dX5_nextRow_1 (v := 1) rfl ?_
  refine zt_isub (pc := 2) dX5_nextRow_2 ?_
  refine zt_istore_n (pc := 3) (L' := [some (.ref 289), some (.int (nI n)), some (.int ((nI n) - 1))]) dX5_nextRow_3 rfl (by decide) rfl rfl ?_
  exact nr_loop hM hC hE (nI n) n hn r

theorem tm_teaches (hM : MS h.2.1 h.2.2.2) (hC : CI C) (hE : CE S C) (x : Int32) (s : Nat) (hs : s < 4) (n : Nat) (hn : n ≤ 5) (hr : S 304 = r) (hT : TK f 140) : Zd g mX5_teaches 7 0 0 [.ref 289, .int x, .int (nI s), .int (nI n)] (zW h (zs S 302 f)) (some (.int (o_tea C f r x s n))) (zW h (zs S 302 (s_tea C f r s n))) := by
  refine zc_of [some (.ref 289), some (.int x), some (.int (nI s)), some (.int (nI n)), none] rfl (Nat.le_of_ble_eq_true rfl) rfl ?_
  refine zt_aload_n (pc := 0) dX5_teaches_0 rfl rfl ?_
  refine zt_bipush (pc := 1) dX5_teaches_1 (v := 70) rfl ?_
  refine zt_sipush (pc := 3) dX5_teaches_3 (v := 140) rfl ?_
  refine wt_callV (pc := 6) mX5_copies 2 5 (rc' := 0) (rs' := 0) dX5_teaches_6 q1585 mi_X5_copies rfl rfl (ms_o hM) (tm_copies hM 70 140 (by decide) (by decide)) rfl rfl rfl rfl rfl rfl ?_
  refine zt_iconst (pc := 9) dX5_teaches_9 (v := 0) rfl ?_
  refine zt_istore (pc := 10) (L' := [some (.ref 289), some (.int x), some (.int (nI s)), some (.int (nI n)), some (.int 0)]) dX5_teaches_10 (by decide) rfl rfl ?_
  refine zt_for (pc := 12) (fun i => zs S 302 (s_tea C f r s i)) (fun i => [some (.ref 289), some (.int x), some (.int (nI s)), some (.int (nI n)), some (.int (nI i))]) n rfl rfl ?_ (fun i hi_i ih_i => ?_)
  · show Zt _ _ _ _ _ _ (zW h (zs S 302 (s_tea C f r s n))) 12 [some (.ref 289), some (.int x), some (.int (nI s)), some (.int (nI n)), some (.int (nI n))] []
    refine zt_iload (pc := 12) dX5_teaches_12 rfl ?_
    refine zt_iload_n (pc := 14) dX5_teaches_14 rfl rfl ?_
    refine zt_geN (a := n) (b := n) (pc := 15) 51 dX5_teaches_15 (by decide) (by omega) (by omega) (fun c_15 => ?_) (fun c_15 => absurd c_15 (Nat.lt_irrefl _))
    refine zt_aload_n (pc := 51) dX5_teaches_51 rfl rfl ?_
    refine zt_bipush (pc := 52) dX5_teaches_52 (v := 70) rfl ?_
    refine zt_iload_n (pc := 54) dX5_teaches_54 rfl rfl ?_
    refine wt_callV (pc := 55) mX5_hasFled 2 5 (rc' := 0) (rs' := 0) dX5_teaches_55 q1597 mi_X5_hasFled rfl rfl (ms_o hM) (tm_hasFled hM hC hE 70 (by decide) x) rfl rfl rfl rfl rfl rfl ?_
    refine zt_if_ne (pc := 58) 76 dX5_teaches_58 (by decide) (fun c_58 => ?_) (fun c_58 => ?_)
    · refine zt_iconst (pc := 76) dX5_teaches_76 (v := 0) rfl ?_
      exact zt_zreturn (pc := 77) dX5_teaches_77 rfl (Or.inl rfl) (⟨congrArg some (congrArg Value.int (bI_f (fun z => c_58 z.1)).symm), rfl⟩)
    · refine zt_aload_n (pc := 61) dX5_teaches_61 rfl rfl ?_
      refine zt_bipush (pc := 62) dX5_teaches_62 (v := 70) rfl ?_
      refine zt_iload_n (pc := 64) dX5_teaches_64 rfl rfl ?_
      refine zt_iload_n (pc := 65) dX5_teaches_65 rfl rfl ?_
      refine wt_callV (pc := 66) mX5_isSameForAll 3 5 (rc' := 0) (rs' := 0) dX5_teaches_66 q1577 mi_X5_isSameForAll rfl rfl (ms_o hM) (tm_isSameForAll hM hC hE 70 (by decide) x s hs (tea_ok hC hs hT n).1) rfl rfl rfl rfl rfl rfl ?_
      refine zt_if_eq (pc := 69) 76 dX5_teaches_69 (by decide) (fun c_69 => ?_) (fun c_69 => ?_)
      · refine zt_iconst (pc := 76) dX5_teaches_76 (v := 0) rfl ?_
        exact zt_zreturn (pc := 77) dX5_teaches_77 rfl (Or.inl rfl) (⟨congrArg some (congrArg Value.int (bI_f (fun z => z.2 c_69)).symm), rfl⟩)
      · refine zt_iconst (pc := 72) dX5_teaches_72 (v := 1) rfl ?_
        refine zt_goto (pc := 73) 77 dX5_teaches_73 (by decide) ?_
        exact zt_zreturn (pc := 77) dX5_teaches_77 rfl (Or.inr rfl) (⟨congrArg some (congrArg Value.int (bI_t ⟨c_58, c_69⟩).symm), rfl⟩)
  · show Zt _ _ _ _ _ _ (zW h (zs S 302 (s_tea C f r s i))) 12 [some (.ref 289), some (.int x), some (.int (nI s)), some (.int (nI n)), some (.int (nI i))] []
    refine zt_iload (pc := 12) dX5_teaches_12 rfl ?_
    refine zt_iload_n (pc := 14) dX5_teaches_14 rfl rfl ?_
    refine zt_geN (a := i) (b := n) (pc := 15) 51 dX5_teaches_15 (by decide) (by omega) (by omega) (fun c_15 => absurd hi_i (Nat.not_lt.mpr c_15)) (fun c_15 => ?_)
    refine zt_aload_n (pc := 18) dX5_teaches_18 rfl rfl ?_
    refine zt_bipush (pc := 19) dX5_teaches_19 (v := 70) rfl ?_
    refine zt_iconst (pc := 21) dX5_teaches_21 (v := 0) rfl ?_
    refine zt_iload_n (pc := 22) dX5_teaches_22 rfl rfl ?_
    refine zt_aload_n (pc := 23) dX5_teaches_23 rfl rfl ?_
    refine wt_getR (pc := 24) 5 30 dX5_teaches_24 q1302 rfl (ms_o hM) (mr_row hM) ?_
    refine zt_iload (pc := 27) dX5_teaches_27 rfl ?_
    refine wt_iald (pc := 29) 5 i (v := r i) dX5_teaches_29 (ma_row hM) rfl rfl (by omega) (congrFun hr i) ?_
    refine zt_aload_n (pc := 30) dX5_teaches_30 rfl rfl ?_
    refine zt_iload_n (pc := 31) dX5_teaches_31 rfl rfl ?_
    refine zt_aload_n (pc := 32) dX5_teaches_32 rfl rfl ?_
    refine wt_getR (pc := 33) 5 30 dX5_teaches_33 q1302 rfl (ms_o hM) (mr_row hM) ?_
    refine zt_iload (pc := 36) dX5_teaches_36 rfl ?_
    refine wt_iald (pc := 38) 5 i (v := r i) dX5_teaches_38 (ma_row hM) rfl rfl (by omega) (congrFun hr i) ?_
    refine wt_callV (pc := 39) mX5_isTrue 2 5 (rc' := 0) (rs' := 0) dX5_teaches_39 q1524 mi_X5_isTrue rfl rfl (ms_o hM) (tm_isTrue (S := zs S 302 (s_tea C f r s i)) hM hC (hE.z (by decide)) s hs (r i)) rfl rfl rfl rfl rfl rfl ?_
    refine wt_callV (pc := 42) mX5_sees 5 5 (rc' := 0) (rs' := 0) dX5_teaches_42 q1226 mi_X5_sees rfl rfl (ms_o hM) (tm_sees (f := s_tea C f r s i) hM hC hE 70 s (by decide) hs 0 (r i) (s_true C s (r i)) bI_or (tea_ok hC hs hT i).1) rfl rfl rfl rfl rfl rfl ?_
    refine zt_iincN (pc := 45) (b := i + 1) (L' := [some (.ref 289), some (.int x), some (.int (nI s)), some (.int (nI n)), some (.int (nI (i + 1)))]) dX5_teaches_45 rfl (zinc1 i) (by decide) rfl rfl ?_
    refine zt_goto (pc := 48) 12 dX5_teaches_48 (by decide) ?_
    exact ih_i

end M24