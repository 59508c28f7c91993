/-! THE TWIN, part 18: what a line means -/
set_option maxRecDepth 100000
def dN (k : Nat) (fo : Nat → Int32) : Nat := (fo k).toNatClampNeg
abbrev WF : Type := (Nat → Nat → Int32) × (Nat → Int32)
def f_me0 (T : Nat → Int32) (n : Nat) (fo : Nat → Int32) : Nat → Int32 := f_rm T n 0 fo
def f_me1 (T : Nat → Int32) (n : Nat) (fo : Nat → Int32) : Nat → Int32 := nx T n (f_needs (f_me0 T n fo) (bI (s_nameN T n (qN (f_me0 T n fo)) (pN (f_me0 T n fo)) = 13)) 2)
def f_me (T : Nat → Int32) (n : Nat) (fo : Nat → Int32) : Nat → Int32 := if f_me0 T n fo 25 = 0 ∧ f_me0 T n fo 23 = 1 then f_rm T n (v_rm T n 0 fo) (f_me1 T n fo) else f_me0 T n fo
def v_me (T : Nat → Int32) (n : Nat) (fo : Nat → Int32) : Int32 := if f_me0 T n fo 25 = 0 ∧ f_me0 T n fo 23 = 1 then v_rm T n (v_rm T n 0 fo) (f_me1 T n fo) else 0
def w_me (T : Nat → Int32) (n : Nat) (x : WF) : WF := if f_me T n x.2 25 = 0 then (zu (zu x.1 296 (dN 11 x.2) (v_rm T n 0 x.2)) 297 (dN 11 x.2) (v_me T n x.2), upd (f_me T n x.2) 11 (f_me T n x.2 11 + 1)) else (x.1, f_me T n x.2)
theorem gd_me0 {T : Nat → Int32} {n : Nat} {fo : Nat → Int32} (hn : n ≤ 400) (h : TI n fo) : Gd n fo (f_me0 T n fo) := (Gd.refl h).grm hn
theorem gd_me1 {T : Nat → Int32} {n : Nat} {fo : Nat → Int32} (hn : n ≤ 400) (h : TI n fo) : Gd n fo (f_me1 T n fo) := ((gd_me0 hn h).gnd (by decide)).gnx hn
theorem gd_me {T : Nat → Int32} {n : Nat} {fo : Nat → Int32} (hn : n ≤ 400) (h : TI n fo) : Gd n fo (f_me T n fo) := by
  unfold f_me
  split
  · exact (gd_me1 hn h).grm hn
  · exact gd_me0 hn h
section M18
variable {g : ZG} {h : ZH} {S A C : Nat → Nat → Int32} {fo : Nat → Int32}
theorem tm_readMeans (hM : MS h.2.1 h.2.2.2) (T : Nat → Int32) (n : Nat) (hn : n ≤ 400) (h20 : fo 20 = nI n) (h301 : S 301 = T) (hP : TI n fo) (h11 : fo 11 = nI (dN 11 fo)) (hd : dN 11 fo < 12) : Zd g mX5_readMeans 5 0 0 [.ref 289] (zW h (zs S 289 fo)) none (zW h (zs (w_me T n (S, fo)).1 289 (w_me T n (S, fo)).2)) := by
  refine zc_of [some (.ref 289), none, none] rfl (Nat.le_of_ble_eq_true rfl) rfl ?_
  refine zt_aload_n (pc := 0) dX5_readMeans_0 rfl rfl ?_
  refine zt_iconst (pc := 1) dX5_readMeans_1 (v := 0) rfl ?_
  refine wt_callV (pc := 2) mX5_readMarks 1 5 (rc' := 0) (rs' := 0) dX5_readMeans_2 q1461 mi_X5_readMarks rfl rfl (ms_o hM) (tm_readMarks (S := S) (fo := fo) hM T n hn (((Gd.refl hP).at_ 20 (by decide)).trans h20) h301 (Gd.refl hP).ti 0) rfl rfl rfl rfl rfl rfl ?_
  refine zt_f (f' := f_me0 T n fo) rfl ?_
  refine zt_istore_n (pc := 5) (L' := [some (.ref 289), some (.int (v_rm T n 0 (fo))), none]) dX5_readMeans_5 rfl (by decide) rfl rfl ?_
  refine zt_iconst (pc := 6) dX5_readMeans_6 (v := 0) rfl ?_
  refine zt_istore_n (pc := 7) (L' := [some (.ref 289), some (.int (v_rm T n 0 (fo))), some (.int 0)]) dX5_readMeans_7 rfl (by decide) rfl rfl ?_
  refine zt_join (S' := zs S 289 (f_me T n fo)) (pc' := 52) (L' := [some (.ref 289), some (.int (v_rm T n 0 fo)), some (.int (v_me T n fo))]) (st' := []) ?_ (fun hj_52 => ?_)
  · refine zt_aload_n (pc := 52) dX5_readMeans_52 rfl rfl ?_
    refine wt_getI (pc := 53) 5 25 (v := (f_me T n fo) 25) dX5_readMeans_53 q1297 rfl (ms_o hM) rfl ?_
    refine zt_if_ne (pc := 56) 89 dX5_readMeans_56 (by decide) (fun c_56 => ?_) (fun c_56 => ?_)
    · exact zt_return (pc := 89) dX5_readMeans_89 rfl (⟨rfl, congrArg (fun x : WF => zW h (zs x.1 289 x.2)) (show w_me T n (S, fo) = _ from if_neg c_56).symm⟩)
    · refine zt_aload_n (pc := 59) dX5_readMeans_59 rfl rfl ?_
      refine wt_getR (pc := 60) 5 12 dX5_readMeans_60 q1284 rfl (ms_o hM) (mr_dHaving hM) ?_
      refine zt_aload_n (pc := 63) dX5_readMeans_63 rfl rfl ?_
      refine wt_getI (pc := 64) 5 11 (v := nI (dN 11 fo)) dX5_readMeans_64 q1283 rfl (ms_o hM) (((gd_me hn hP).at_ 11 (by decide)).trans h11) ?_
      refine zt_iload_n (pc := 67) dX5_readMeans_67 rfl rfl ?_
      refine wt_iastW (pc := 68) 12 (dN 11 fo) (b := 289) rfl dX5_readMeans_68 (ma_dHaving hM) rfl rfl (by omega) ?_
      refine zt_aload_n (pc := 69) dX5_readMeans_69 rfl rfl ?_
      refine wt_getR (pc := 70) 5 13 dX5_readMeans_70 q1285 rfl (ms_o hM) (mr_dLacking hM) ?_
      refine zt_aload_n (pc := 73) dX5_readMeans_73 rfl rfl ?_
      refine wt_getI (pc := 74) 5 11 (v := nI (dN 11 fo)) dX5_readMeans_74 q1283 rfl (ms_o hM) (((gd_me hn hP).at_ 11 (by decide)).trans h11) ?_
      refine zt_iload_n (pc := 77) dX5_readMeans_77 rfl rfl ?_
      refine wt_iastW (pc := 78) 12 (dN 11 fo) (b := 289) rfl dX5_readMeans_78 (ma_dLacking hM) rfl rfl (by omega) ?_
      refine zt_aload_n (pc := 79) dX5_readMeans_79 rfl rfl ?_
      refine zt_dup (pc := 80) dX5_readMeans_80 rfl ?_
      refine wt_getI (pc := 81) 5 11 (v := (f_me T n fo) 11) dX5_readMeans_81 q1283 rfl (ms_o hM) rfl ?_
      refine zt_iconst (pc := 84) dX5_readMeans_84 (v := 1) rfl ?_
      refine zt_iadd (pc := 85) dX5_readMeans_85 ?_
      refine wt_putIS (pc := 86) 5 11 dX5_readMeans_86 q1283 rfl (ms_o hM) ?_
      exact zt_return (pc := 89) dX5_readMeans_89 rfl (⟨rfl, congrArg (fun x : WF => zW h (zs x.1 289 x.2)) (show w_me T n (S, fo) = _ from if_pos c_56).symm⟩)
  · refine zt_aload_n (pc := 8) dX5_readMeans_8 rfl rfl ?_
    refine wt_getI (pc := 9) 5 25 (v := (f_me0 T n fo) 25) dX5_readMeans_9 q1297 rfl (ms_o hM) rfl ?_
    refine zt_if_ne (pc := 12) 52 dX5_readMeans_12 (by decide) (fun c_12 => ?_) (fun c_12 => ?_)
    · refine zt_SL (congrArg (zs S 289) (show f_me T n fo = _ from if_neg (fun z => c_12 z.1)).symm) (congrArg (fun z => [some (Value.ref 289), some (Value.int (v_rm T n 0 fo)), some (Value.int z)]) (show v_me T n fo = _ from if_neg (fun z => c_12 z.1)).symm) ?_
      exact hj_52
    · refine zt_aload_n (pc := 15) dX5_readMeans_15 rfl rfl ?_
      refine wt_getI (pc := 16) 5 23 (v := (f_me0 T n fo) 23) dX5_readMeans_16 q1295 rfl (ms_o hM) rfl ?_
      refine zt_iconst (pc := 19) dX5_readMeans_19 (v := 1) rfl ?_
      refine zt_icmp_ne (pc := 20) 52 dX5_readMeans_20 (by decide) (fun c_20 => ?_) (fun c_20 => ?_)
      · refine zt_SL (congrArg (zs S 289) (show f_me T n fo = _ from if_neg (fun z => c_20 z.2)).symm) (congrArg (fun z => [some (Value.ref 289), some (Value.int (v_rm T n 0 fo)), some (Value.int z)]) (show v_me T n fo = _ from if_neg (fun z => c_20 z.2)).symm) ?_
        exact hj_52
      · refine zt_aload_n (pc := 23) dX5_readMeans_23 rfl rfl ?_
        refine zt_aload_n (pc := 24) dX5_readMeans_24 rfl rfl ?_
        refine wt_callV (pc := 25) mX5_nameNow 0 5 (rc' := 0) (rs' := 0) dX5_readMeans_25 q1442 mi_X5_nameNow rfl rfl (ms_o hM) (tm_nameNow (S := zs S 289 (f_me0 T n fo)) hM T n hn (((gd_me0 hn hP).at_ 20 (by decide)).trans h20) h301 (qN (f_me0 T n fo)) (pN (f_me0 T n fo)) (gd_me0 hn hP).ti.2.2 (gd_me0 hn hP).ti.1.2 (gd_me0 hn hP).ti.2.1 (Nat.le_trans (gd_me0 hn hP).ti.1.1 hn)) rfl rfl rfl rfl rfl rfl ?_
        refine zt_bipush (pc := 28) dX5_readMeans_28 (v := 13) rfl ?_
        refine zt_icmp_ne (pc := 30) 37 dX5_readMeans_30 (by decide) (fun c_30 => ?_) (fun c_30 => ?_)
        · refine zt_iconst (pc := 37) dX5_readMeans_37 (v := 0) rfl ?_
          refine zt_top (pc := 38) (bI (s_nameN T n (qN (f_me0 T n fo)) (pN (f_me0 T n fo)) = 13)) ((bI_f c_30).symm) ?_
          refine zt_iconst (pc := 38) dX5_readMeans_38 (v := 2) rfl ?_
          refine wt_callV (pc := 39) mX5_needs 2 5 (rc' := 0) (rs' := 0) dX5_readMeans_39 q1434 mi_X5_needs rfl rfl (ms_o hM) (tm_needsF hM (bI (s_nameN T n (qN (f_me0 T n fo)) (pN (f_me0 T n fo)) = 13)) 2) rfl rfl rfl rfl rfl rfl ?_
          refine zt_aload_n (pc := 42) dX5_readMeans_42 rfl rfl ?_
          refine wt_callV (pc := 43) mX5_next 0 5 (rc' := 0) (rs' := 0) dX5_readMeans_43 q1422 mi_X5_next rfl rfl (ms_o hM) (tm_nx (fo := f_needs (f_me0 T n fo) (bI (s_nameN T n (qN (f_me0 T n fo)) (pN (f_me0 T n fo)) = 13)) 2) hM T n hn ((((gd_me0 hn hP).gnd (by decide)).at_ 20 (by decide)).trans h20) h301 (((gd_me0 hn hP).gnd (by decide)).ti.1)) rfl rfl rfl rfl rfl rfl ?_
          refine zt_f (f' := f_me1 T n fo) rfl ?_
          refine zt_aload_n (pc := 46) dX5_readMeans_46 rfl rfl ?_
          refine zt_iload_n (pc := 47) dX5_readMeans_47 rfl rfl ?_
          refine wt_callV (pc := 48) mX5_readMarks 1 5 (rc' := 0) (rs' := 0) dX5_readMeans_48 q1461 mi_X5_readMarks rfl rfl (ms_o hM) (tm_readMarks (S := S) (fo := f_me1 T n fo) hM T n hn (((gd_me1 hn hP).at_ 20 (by decide)).trans h20) h301 (gd_me1 hn hP).ti (v_rm T n 0 (fo))) rfl rfl rfl rfl rfl rfl ?_
          refine zt_istore_n (pc := 51) (L' := [some (.ref 289), some (.int (v_rm T n 0 (fo))), some (.int (v_rm T n (v_rm T n 0 (fo)) (f_me1 T n fo)))]) dX5_readMeans_51 rfl (by decide) rfl rfl ?_
          refine zt_SL (congrArg (zs S 289) (show f_me T n fo = _ from if_pos ⟨c_12, c_20⟩).symm) (congrArg (fun z => [some (Value.ref 289), some (Value.int (v_rm T n 0 fo)), some (Value.int z)]) (show v_me T n fo = _ from if_pos ⟨c_12, c_20⟩).symm) ?_
          exact hj_52
        · refine zt_iconst (pc := 33) dX5_readMeans_33 (v := 1) rfl ?_
          refine zt_goto (pc := 34) 38 dX5_readMeans_34 (by decide) ?_
          refine zt_top (pc := 38) (bI (s_nameN T n (qN (f_me0 T n fo)) (pN (f_me0 T n fo)) = 13)) ((bI_t c_30).symm) ?_
          refine zt_iconst (pc := 38) dX5_readMeans_38 (v := 2) rfl ?_
          refine wt_callV (pc := 39) mX5_needs 2 5 (rc' := 0) (rs' := 0) dX5_readMeans_39 q1434 mi_X5_needs rfl rfl (ms_o hM) (tm_needsF hM (bI (s_nameN T n (qN (f_me0 T n fo)) (pN (f_me0 T n fo)) = 13)) 2) rfl rfl rfl rfl rfl rfl ?_
          refine zt_aload_n (pc := 42) dX5_readMeans_42 rfl rfl ?_
          refine wt_callV (pc := 43) mX5_next 0 5 (rc' := 0) (rs' := 0) dX5_readMeans_43 q1422 mi_X5_next rfl rfl (ms_o hM) (tm_nx (fo := f_needs (f_me0 T n fo) (bI (s_nameN T n (qN (f_me0 T n fo)) (pN (f_me0 T n fo)) = 13)) 2) hM T n hn ((((gd_me0 hn hP).gnd (by decide)).at_ 20 (by decide)).trans h20) h301 (((gd_me0 hn hP).gnd (by decide)).ti.1)) rfl rfl rfl rfl rfl rfl ?_
          refine zt_f (f' := f_me1 T n fo) rfl ?_
          refine zt_aload_n (pc := 46) dX5_readMeans_46 rfl rfl ?_
          refine zt_iload_n (pc := 47) dX5_readMeans_47 rfl rfl ?_
          refine wt_callV (pc := 48) mX5_readMarks 1 5 (rc' := 0) (rs' := 0) dX5_readMeans_48 q1461 mi_X5_readMarks rfl rfl (ms_o hM) (tm_readMarks (S := S) (fo := f_me1 T n fo) hM T n hn (((gd_me1 hn hP).at_ 20 (by decide)).trans h20) h301 (gd_me1 hn hP).ti (v_rm T n 0 (fo))) rfl rfl rfl rfl rfl rfl ?_
          refine zt_istore_n (pc := 51) (L' := [some (.ref 289), some (.int (v_rm T n 0 (fo))), some (.int (v_rm T n (v_rm T n 0 (fo)) (f_me1 T n fo)))]) dX5_readMeans_51 rfl (by decide) rfl rfl ?_
          refine zt_SL (congrArg (zs S 289) (show f_me T n fo = _ from if_pos ⟨c_12, c_20⟩).symm) (congrArg (fun z => [some (Value.ref 289), some (Value.int (v_rm T n 0 fo)), some (Value.int z)]) (show v_me T n fo = _ from if_pos ⟨c_12, c_20⟩).symm) ?_
          exact hj_52

end M18