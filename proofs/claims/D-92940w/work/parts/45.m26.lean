/-! THE TWIN, part 26: teaching -/
set_option maxRecDepth 100000
theorem w_in10 {w : Int32} {n : Nat} (hn : n ≤ 5) (h : (10 : Int64) ≤ w.toInt64 ∧ w.toInt64 ≤ lN (9 + n)) : ∃ j, j < n ∧ w = nI (10 + j) := by
  have hp : inN w (9 + n + 1) := by
    refine (in_c w (9 + n) (by omega)).mp ⟨?_, h.2⟩
    exact Int64.le_trans (by decide) h.1
  obtain ⟨q, hq, rfl⟩ := inN_of hp (by omega)
  have h1 := h.1
  rw [nI_l (by omega), show (10 : Int64) = lN 10 from rfl, lN_le (by decide) (by omega)] at h1
  exact ⟨q - 10, by omega, by rw [show 10 + (q - 10) = q by omega]⟩
def teaF (A : Nat → Nat → Int32) (x : Int32) (s : Nat) : Int32 × (Nat → Int32) × (Nat → Int32) := few A x s 6 0 (s_copy (A 302) 140 0) (A 304)
abbrev teaG (A : Nat → Nat → Int32) (x s w : Int32) : Prop := inN x (2 ^ cK A) ∧ inN s (cS A) ∧ (w = 0 ∨ ((10 : Int64) ≤ w.toInt64 ∧ w.toInt64 ≤ 14))
def o_teaching (A : Nat → Nat → Int32) (x s w : Int32) : Int32 := if teaG A x s w then (if w = 0 then (teaF A x s.toNatClampNeg).1 else if (teaF A x s.toNatClampNeg).1 ≤ w - 10 then -1 else (teaF A x s.toNatClampNeg).2.2 (w - 10).toNatClampNeg) else -1
def w_teaching (S A : Nat → Nat → Int32) (x s w : Int32) : Nat → Nat → Int32 := if teaG A x s w then zs (zs S 304 (teaF A x s.toNatClampNeg).2.2) 302 (teaF A x s.toNatClampNeg).2.1 else S
section M26
variable {g : ZG} {h : ZH} {S A C : Nat → Nat → Int32} {f r : Nat → Int32}
theorem tm_teaching (hM : MS h.2.1 h.2.2.2) (hI : AI A) (hA : AE S A) (x s w : Int32) : Zd g mX5_teaching 9 0 0 [.ref 289, .int x, .int s, .int w] (zW h S) (some (.int (o_teaching A x s w))) (zW h (w_teaching S A x s w)) := by
  refine zc_of [some (.ref 289), some (.int x), some (.int s), some (.int w), none] rfl (Nat.le_of_ble_eq_true rfl) rfl ?_
  have b1 := hI.c.t8; have b2 := hI.c.m12; have b3 := hI.c.s4; have b4 := hI.c.k6; have b5 := hI.sh24
  refine zt_aload_n (pc := 0) dX5_teaching_0 rfl rfl ?_
  refine zt_iload_n (pc := 1) dX5_teaching_1 rfl rfl ?_
  refine wt_callV (pc := 2) mX5_areKinds 1 5 (rc' := 0) (rs' := 0) dX5_teaching_2 q1573 mi_X5_areKinds rfl rfl (ms_o hM) (tm_areKinds hM hI.c hA.ce x) rfl rfl rfl rfl rfl rfl ?_
  refine zt_if_eq (pc := 5) 34 dX5_teaching_5 (by decide) (fun c_5 => ?_) (fun c_5 => ?_)
  · refine zt_iconst (pc := 34) dX5_teaching_34 (v := (-1)) rfl ?_
    exact zt_ireturn (pc := 35) dX5_teaching_35 rfl (⟨congrArg some (congrArg Value.int (Eq.symm (if_neg (fun q => bI_eq0.mp c_5 q.1)))), congrArg (zW h) (Eq.symm (if_neg (fun q => bI_eq0.mp c_5 q.1)))⟩)
  · refine zt_aload_n (pc := 8) dX5_teaching_8 rfl rfl ?_
    refine zt_iload_n (pc := 9) dX5_teaching_9 rfl rfl ?_
    refine wt_callV (pc := 10) mX5_isSound 1 5 (rc' := 0) (rs' := 0) dX5_teaching_10 q1499 mi_X5_isSound rfl rfl (ms_o hM) (tm_isSound hM hI.c hA.ce s) rfl rfl rfl rfl rfl rfl ?_
    refine zt_if_eq (pc := 13) 34 dX5_teaching_13 (by decide) (fun c_13 => ?_) (fun c_13 => ?_)
    · refine zt_iconst (pc := 34) dX5_teaching_34 (v := (-1)) rfl ?_
      exact zt_ireturn (pc := 35) dX5_teaching_35 rfl (⟨congrArg some (congrArg Value.int (Eq.symm (if_neg (fun q => bI_eq0.mp c_13 q.2.1)))), congrArg (zW h) (Eq.symm (if_neg (fun q => bI_eq0.mp c_13 q.2.1)))⟩)
    · have hn_s_ : inN s (cS A) := bI_ne0 c_13
      obtain ⟨s_, hl_s_, rfl⟩ := inN_of hn_s_ (by have := hI.c.s4; omega)
      refine zt_iload_n (pc := 16) dX5_teaching_16 rfl rfl ?_
      refine zt_if_eq (pc := 17) 36 dX5_teaching_17 (by decide) (fun c_17 => ?_) (fun c_17 => ?_)
      · have hG : teaG A x (nI s_) w := ⟨bI_ne0 c_5, hn_s_, Or.inl c_17⟩
        refine zt_aload_n (pc := 36) dX5_teaching_36 rfl rfl ?_
        refine zt_sipush (pc := 37) dX5_teaching_37 (v := 140) rfl ?_
        refine zt_iconst (pc := 40) dX5_teaching_40 (v := 0) rfl ?_
        refine zt_S (zs_eq (a := 302) (f := A 302) (hA 302 (by decide) (by decide))) ?_
        refine wt_callV (pc := 41) mX5_copies 2 5 (rc' := 0) (rs' := 0) dX5_teaching_41 q1585 mi_X5_copies rfl rfl (ms_o hM) (tm_copies hM 140 0 (by decide) (by decide)) rfl rfl rfl rfl rfl rfl ?_
        refine zt_aload_n (pc := 44) dX5_teaching_44 rfl rfl ?_
        refine zt_iload_n (pc := 45) dX5_teaching_45 rfl rfl ?_
        refine zt_iload_n (pc := 46) dX5_teaching_46 rfl rfl ?_
        refine zt_iconst (pc := 47) dX5_teaching_47 (v := 5) rfl ?_
        refine zt_S (congrArg (fun z => zs z 302 (s_copy (A 302) 140 0)) (zs_eq (a := 304) (f := A 304) (hA 304 (by decide) (by decide)))) ?_
        refine wt_callV (pc := 48) mX5_fewest 3 5 (rc' := 0) (rs' := 0) dX5_teaching_48 q1589 mi_X5_fewest rfl rfl (ms_o hM) (tm_fewest hM hI.c hA.ce x s_ (by omega) 5 (by decide) (copy_tk (Or.inr (by decide)) hI.k0)) rfl rfl rfl rfl rfl rfl ?_
        refine zt_istore (pc := 51) (L' := [some (.ref 289), some (.int x), some (.int (nI s_)), some (.int w), some (.int ((teaF A x s_).1))]) dX5_teaching_51 (by decide) rfl rfl ?_
        refine zt_iload_n (pc := 53) dX5_teaching_53 rfl rfl ?_
        refine zt_if_ne (pc := 54) 62 dX5_teaching_54 (by decide) (fun c_54 => absurd c_17 c_54) (fun c_54 => ?_)
        refine zt_iload (pc := 57) dX5_teaching_57 rfl ?_
        refine zt_goto (pc := 59) 84 dX5_teaching_59 (by decide) ?_
        exact zt_ireturn (pc := 84) dX5_teaching_84 rfl (⟨congrArg some (congrArg Value.int (Eq.symm (by unfold o_teaching; rw [if_pos hG, nI_clamp (show s_ < 2 ^ 31 by omega), if_pos c_17]))), congrArg (zW h) (Eq.symm (by unfold w_teaching; rw [if_pos hG, nI_clamp (show s_ < 2 ^ 31 by omega)]; rfl))⟩)
      · refine zt_iload_n (pc := 20) dX5_teaching_20 rfl rfl ?_
        refine zt_i2l (pc := 21) dX5_teaching_21 rfl ?_
        refine zt_ldc2 (pc := 22) dX5_teaching_22 q1459 ?_
        refine zt_ldc2 (pc := 25) dX5_teaching_25 q1477 ?_
        refine wt_callS (pc := 28) mX5_in 3 (rc' := 0) (rs' := 0) dX5_teaching_28 q1223 ms_X5_in (tm_in w.toInt64 10 14) rfl rfl rfl rfl rfl rfl ?_
        refine zt_if_ne (pc := 31) 36 dX5_teaching_31 (by decide) (fun c_31 => ?_) (fun c_31 => ?_)
        · have hG : teaG A x (nI s_) w := ⟨bI_ne0 c_5, hn_s_, Or.inr (bI_ne0 c_31)⟩
          obtain ⟨j_, hj_, rfl⟩ := w_in10 (n := 5) (by decide) (bI_ne0 c_31)
          refine zt_aload_n (pc := 36) dX5_teaching_36 rfl rfl ?_
          refine zt_sipush (pc := 37) dX5_teaching_37 (v := 140) rfl ?_
          refine zt_iconst (pc := 40) dX5_teaching_40 (v := 0) rfl ?_
          refine zt_S (zs_eq (a := 302) (f := A 302) (hA 302 (by decide) (by decide))) ?_
          refine wt_callV (pc := 41) mX5_copies 2 5 (rc' := 0) (rs' := 0) dX5_teaching_41 q1585 mi_X5_copies rfl rfl (ms_o hM) (tm_copies hM 140 0 (by decide) (by decide)) rfl rfl rfl rfl rfl rfl ?_
          refine zt_aload_n (pc := 44) dX5_teaching_44 rfl rfl ?_
          refine zt_iload_n (pc := 45) dX5_teaching_45 rfl rfl ?_
          refine zt_iload_n (pc := 46) dX5_teaching_46 rfl rfl ?_
          refine zt_iconst (pc := 47) dX5_teaching_47 (v := 5) rfl ?_
          refine zt_S (congrArg (fun z => zs z 302 (s_copy (A 302) 140 0)) (zs_eq (a := 304) (f := A 304) (hA 304 (by decide) (by decide)))) ?_
          refine wt_callV (pc := 48) mX5_fewest 3 5 (rc' := 0) (rs' := 0) dX5_teaching_48 q1589 mi_X5_fewest rfl rfl (ms_o hM) (tm_fewest hM hI.c hA.ce x s_ (by omega) 5 (by decide) (copy_tk (Or.inr (by decide)) hI.k0)) rfl rfl rfl rfl rfl rfl ?_
          refine zt_istore (pc := 51) (L' := [some (.ref 289), some (.int x), some (.int (nI s_)), some (.int (nI (10 + j_))), some (.int ((teaF A x s_).1))]) dX5_teaching_51 (by decide) rfl rfl ?_
          refine zt_iload_n (pc := 53) dX5_teaching_53 rfl rfl ?_
          refine zt_if_ne (pc := 54) 62 dX5_teaching_54 (by decide) (fun c_54 => ?_) (fun c_54 => absurd c_54 c_17)
          refine zt_iload_n (pc := 62) dX5_teaching_62 rfl rfl ?_
          refine zt_bipush (pc := 63) dX5_teaching_63 (v := 10) rfl ?_
          refine zt_isub (pc := 65) dX5_teaching_65 ?_
          refine zt_iload (pc := 66) dX5_teaching_66 rfl ?_
          refine zt_icmp_ge (pc := 68) 83 dX5_teaching_68 (by decide) (fun c_68 => ?_) (fun c_68 => ?_)
          · refine zt_iconst (pc := 83) dX5_teaching_83 (v := (-1)) rfl ?_
            exact zt_ireturn (pc := 84) dX5_teaching_84 rfl (⟨congrArg some (congrArg Value.int (Eq.symm (by unfold o_teaching; rw [if_pos hG, nI_clamp (show s_ < 2 ^ 31 by omega), if_neg c_17, if_pos c_68]))), congrArg (zW h) (Eq.symm (by unfold w_teaching; rw [if_pos hG, nI_clamp (show s_ < 2 ^ 31 by omega)]; rfl))⟩)
          · have hj10 : nI (10 + j_) - 10 = nI j_ := (pk_sub (a := 10 + j_) (b := 10) (by omega)).trans (by rw [Nat.add_sub_cancel_left])
            refine zt_aload_n (pc := 71) dX5_teaching_71 rfl rfl ?_
            refine wt_getR (pc := 72) 5 30 dX5_teaching_72 q1302 rfl (ms_o hM) (mr_row hM) ?_
            refine zt_iload_n (pc := 75) dX5_teaching_75 rfl rfl ?_
            refine zt_bipush (pc := 76) dX5_teaching_76 (v := 10) rfl ?_
            refine zt_isub (pc := 78) dX5_teaching_78 ?_
            refine wt_iald (pc := 79) 5 j_ (v := (teaF A x s_).2.2 j_) dX5_teaching_79 (ma_row hM) rfl hj10 hj_ (congrFun ((zs_ne (by decide)).trans (zs_at _ _ _)) j_) ?_
            refine zt_goto (pc := 80) 84 dX5_teaching_80 (by decide) ?_
            exact zt_ireturn (pc := 84) dX5_teaching_84 rfl (⟨congrArg some (congrArg Value.int (Eq.symm (by unfold o_teaching; rw [if_pos hG, nI_clamp (show s_ < 2 ^ 31 by omega), if_neg c_17, if_neg c_68, hj10, nI_clamp (show j_ < 2 ^ 31 by omega)]))), congrArg (zW h) (Eq.symm (by unfold w_teaching; rw [if_pos hG, nI_clamp (show s_ < 2 ^ 31 by omega)]; rfl))⟩)
        · refine zt_iconst (pc := 34) dX5_teaching_34 (v := (-1)) rfl ?_
          exact zt_ireturn (pc := 35) dX5_teaching_35 rfl (⟨congrArg some (congrArg Value.int (Eq.symm (if_neg (fun q => q.2.2.elim c_17 (bI_eq0.mp c_31))))), congrArg (zW h) (Eq.symm (if_neg (fun q => q.2.2.elim c_17 (bI_eq0.mp c_31))))⟩)

end M26