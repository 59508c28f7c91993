/-! THE TWIN, part 8: what their sound meant; what to ask; what makes sure -/
set_option maxRecDepth 100000
def s_ftF (A : Nat → Nat → Int32) (m i : Nat) (is : Int32) : Int32 := bI (¬ is = 0 ∧ A 300 m >>> (A 307 i &&& 31) &&& 1 = A 308 i)
def s_ftO (A : Nat → Nat → Int32) (m : Nat) (acc : Int32) : Int32 := acc ||| (if itr (s_ftF A m) 1 (cTh A) = 0 then (0 : Int32) else 1 <<< (nI m &&& 31))
def s_ft (A : Nat → Nat → Int32) : Int32 := itr (s_ftO A) 0 (cM A)
def s_yesF (C : Nat → Nat → Int32) (x : Int32) (t m : Nat) (n : Int32) : Int32 := n + (if x >>> (nI m &&& 31) &&& 1 = 1 then C 300 m >>> (nI t &&& 31) &&& 1 else 0)
def s_yes (C : Nat → Nat → Int32) (x : Int32) (t : Nat) : Int32 := itr (s_yesF C x t) 0 (cM C)
def s_half (C : Nat → Nat → Int32) (x : Int32) (t : Nat) : Int32 := if s_countOf x - s_yes C x t ≤ s_yes C x t then s_countOf x - s_yes C x t else s_yes C x t
def s_askF (C : Nat → Nat → Int32) (x : Int32) (t : Nat) (p : Int32 × Int32) : Int32 × Int32 := if s_half C x t ≤ p.2 then p else (nI t, s_half C x t)
def s_ask (C : Nat → Nat → Int32) (x : Int32) : Int32 := if x = 0 then -4 else (itr (s_askF C x) (-4, -1) (cT C)).1
def o_meant (A : Nat → Nat → Int32) (w : Int32) : Int32 := if w = 0 then s_countOf (s_ft A) else if w = 1 then s_pl A (s_ft A) else if w = 2 then s_ft A else if w = 3 then s_ask A (s_ft A) else -1
section M8
variable {g : ZG} {h : ZH} {S A C : Nat → Nat → Int32} {f : Nat → Int32}
theorem tm_fitsTheirs (hM : MS h.2.1 h.2.2.2) (hI : AI A) (hA : AE S A) : Zd g mX5_fitsTheirs 2 0 0 [.ref 289] (zW h S) (some (.int (s_ft A))) (zW h S) := by
  refine zc_of [some (.ref 289), none, none, none, none] rfl (Nat.le_of_ble_eq_true rfl) rfl ?_
  have b2 := hI.c.m12; have b9 := hI.th12
  refine zt_iconst (pc := 0) dX5_fitsTheirs_0 (v := 0) rfl ?_
  refine zt_istore_n (pc := 1) (L' := [some (.ref 289), some (.int 0), none, none, none]) dX5_fitsTheirs_1 rfl (by decide) rfl rfl ?_
  refine zt_iconst (pc := 2) dX5_fitsTheirs_2 (v := 0) rfl ?_
  refine zt_istore_n (pc := 3) (L' := [some (.ref 289), some (.int 0), some (.int 0), none, none]) dX5_fitsTheirs_3 rfl (by decide) rfl rfl ?_
  refine zt_for (pc := 4) (fun m => S) (fun m => [some (.ref 289), some (.int (itr (s_ftO A) 0 m)), some (.int (nI m)), none, none]) (cM A) rfl rfl ?_ (fun m hi_m ih_m => ?_)
  · show Zt _ _ _ _ _ _ (zW h S) 4 [some (.ref 289), some (.int (itr (s_ftO A) 0 (cM A))), some (.int (nI (cM A))), none, none] []
    refine zt_iload_n (pc := 4) dX5_fitsTheirs_4 rfl rfl ?_
    refine zt_aload_n (pc := 5) dX5_fitsTheirs_5 rfl rfl ?_
    refine wt_getI (pc := 6) 5 2 (v := nI (cM A)) dX5_fitsTheirs_6 q1274 rfl (ms_o hM) (hA.ce.m hI.c) ?_
    refine zt_geN (a := cM A) (b := cM A) (pc := 9) 91 dX5_fitsTheirs_9 (by decide) (by omega) (by omega) (fun c_9 => ?_) (fun c_9 => absurd c_9 (Nat.lt_irrefl _))
    refine zt_iload_n (pc := 91) dX5_fitsTheirs_91 rfl rfl ?_
    exact zt_ireturn (pc := 92) dX5_fitsTheirs_92 rfl (⟨rfl, rfl⟩)
  · show Zt _ _ _ _ _ _ (zW h S) 4 [some (.ref 289), some (.int (itr (s_ftO A) 0 m)), some (.int (nI m)), none, none] []
    refine zt_iload_n (pc := 4) dX5_fitsTheirs_4 rfl rfl ?_
    refine zt_aload_n (pc := 5) dX5_fitsTheirs_5 rfl rfl ?_
    refine wt_getI (pc := 6) 5 2 (v := nI (cM A)) dX5_fitsTheirs_6 q1274 rfl (ms_o hM) (hA.ce.m hI.c) ?_
    refine zt_geN (a := m) (b := cM A) (pc := 9) 91 dX5_fitsTheirs_9 (by decide) (by omega) (by omega) (fun c_9 => absurd hi_m (Nat.not_lt.mpr c_9)) (fun c_9 => ?_)
    refine zt_iconst (pc := 12) dX5_fitsTheirs_12 (v := 1) rfl ?_
    refine zt_istore_n (pc := 13) (L' := [some (.ref 289), some (.int (itr (s_ftO A) 0 m)), some (.int (nI m)), some (.int 1), none]) dX5_fitsTheirs_13 rfl (by decide) rfl rfl ?_
    refine zt_iconst (pc := 14) dX5_fitsTheirs_14 (v := 0) rfl ?_
    refine zt_istore (pc := 15) (L' := [some (.ref 289), some (.int (itr (s_ftO A) 0 m)), some (.int (nI m)), some (.int 1), some (.int 0)]) dX5_fitsTheirs_15 (by decide) rfl rfl ?_
    refine zt_for (pc := 17) (fun i => S) (fun i => [some (.ref 289), some (.int (itr (s_ftO A) 0 m)), some (.int (nI m)), some (.int (itr (s_ftF A m) 1 i)), some (.int (nI i))]) (cTh A) rfl rfl ?_ (fun i hi_i ih_i => ?_)
    · show Zt _ _ _ _ _ _ (zW h S) 17 [some (.ref 289), some (.int (itr (s_ftO A) 0 m)), some (.int (nI m)), some (.int (itr (s_ftF A m) 1 (cTh A))), some (.int (nI (cTh A)))] []
      refine zt_iload (pc := 17) dX5_fitsTheirs_17 rfl ?_
      refine zt_aload_n (pc := 19) dX5_fitsTheirs_19 rfl rfl ?_
      refine wt_getI (pc := 20) 5 34 (v := nI (cTh A)) dX5_fitsTheirs_20 q1306 rfl (ms_o hM) ((hA.f 34).trans hI.th) ?_
      refine zt_geN (a := cTh A) (b := cTh A) (pc := 23) 71 dX5_fitsTheirs_23 (by decide) (by omega) (by omega) (fun c_23 => ?_) (fun c_23 => absurd c_23 (Nat.lt_irrefl _))
      refine zt_iload_n (pc := 71) dX5_fitsTheirs_71 rfl rfl ?_
      refine zt_iload_n (pc := 72) dX5_fitsTheirs_72 rfl rfl ?_
      refine zt_if_eq (pc := 73) 82 dX5_fitsTheirs_73 (by decide) (fun c_73 => ?_) (fun c_73 => ?_)
      · refine zt_iconst (pc := 82) dX5_fitsTheirs_82 (v := 0) rfl ?_
        refine zt_ior (pc := 83) dX5_fitsTheirs_83 ?_
        refine zt_top (pc := 84) (itr (s_ftO A) 0 (m + 1)) (show _ = s_ftO A m _ from congrArg _ (if_pos c_73).symm) ?_
        refine zt_istore_n (pc := 84) (L' := [some (.ref 289), some (.int (itr (s_ftO A) 0 (m + 1))), some (.int (nI m)), some (.int (itr (s_ftF A m) 1 (cTh A))), some (.int (nI (cTh A)))]) dX5_fitsTheirs_84 rfl (by decide) rfl rfl ?_
        refine zt_iincN (pc := 85) (b := m + 1) (L' := [some (.ref 289), some (.int (itr (s_ftO A) 0 (m + 1))), some (.int (nI (m + 1))), some (.int (itr (s_ftF A m) 1 (cTh A))), some (.int (nI (cTh A)))]) dX5_fitsTheirs_85 rfl (zinc1 m) (by decide) rfl rfl ?_
        refine zt_goto (pc := 88) 4 dX5_fitsTheirs_88 (by decide) ?_
        refine zt_drop (L' := [some (.ref 289), some (.int (itr (s_ftO A) 0 (m + 1))), some (.int (nI (m + 1))), none, some (.int (nI (cTh A)))]) 3 rfl ?_
        refine zt_drop (L' := [some (.ref 289), some (.int (itr (s_ftO A) 0 (m + 1))), some (.int (nI (m + 1))), none, none]) 4 rfl ?_
        exact ih_m
      · refine zt_iconst (pc := 76) dX5_fitsTheirs_76 (v := 1) rfl ?_
        refine zt_iload_n (pc := 77) dX5_fitsTheirs_77 rfl rfl ?_
        refine zt_ishl (pc := 78) dX5_fitsTheirs_78 ?_
        refine zt_goto (pc := 79) 83 dX5_fitsTheirs_79 (by decide) ?_
        refine zt_ior (pc := 83) dX5_fitsTheirs_83 ?_
        refine zt_top (pc := 84) (itr (s_ftO A) 0 (m + 1)) (show _ = s_ftO A m _ from congrArg _ (if_neg c_73).symm) ?_
        refine zt_istore_n (pc := 84) (L' := [some (.ref 289), some (.int (itr (s_ftO A) 0 (m + 1))), some (.int (nI m)), some (.int (itr (s_ftF A m) 1 (cTh A))), some (.int (nI (cTh A)))]) dX5_fitsTheirs_84 rfl (by decide) rfl rfl ?_
        refine zt_iincN (pc := 85) (b := m + 1) (L' := [some (.ref 289), some (.int (itr (s_ftO A) 0 (m + 1))), some (.int (nI (m + 1))), some (.int (itr (s_ftF A m) 1 (cTh A))), some (.int (nI (cTh A)))]) dX5_fitsTheirs_85 rfl (zinc1 m) (by decide) rfl rfl ?_
        refine zt_goto (pc := 88) 4 dX5_fitsTheirs_88 (by decide) ?_
        refine zt_drop (L' := [some (.ref 289), some (.int (itr (s_ftO A) 0 (m + 1))), some (.int (nI (m + 1))), none, some (.int (nI (cTh A)))]) 3 rfl ?_
        refine zt_drop (L' := [some (.ref 289), some (.int (itr (s_ftO A) 0 (m + 1))), some (.int (nI (m + 1))), none, none]) 4 rfl ?_
        exact ih_m
    · show Zt _ _ _ _ _ _ (zW h S) 17 [some (.ref 289), some (.int (itr (s_ftO A) 0 m)), some (.int (nI m)), some (.int (itr (s_ftF A m) 1 i)), some (.int (nI i))] []
      refine zt_iload (pc := 17) dX5_fitsTheirs_17 rfl ?_
      refine zt_aload_n (pc := 19) dX5_fitsTheirs_19 rfl rfl ?_
      refine wt_getI (pc := 20) 5 34 (v := nI (cTh A)) dX5_fitsTheirs_20 q1306 rfl (ms_o hM) ((hA.f 34).trans hI.th) ?_
      refine zt_geN (a := i) (b := cTh A) (pc := 23) 71 dX5_fitsTheirs_23 (by decide) (by omega) (by omega) (fun c_23 => absurd hi_i (Nat.not_lt.mpr c_23)) (fun c_23 => ?_)
      refine zt_iload_n (pc := 26) dX5_fitsTheirs_26 rfl rfl ?_
      refine zt_if_eq (pc := 27) 63 dX5_fitsTheirs_27 (by decide) (fun c_27 => ?_) (fun c_27 => ?_)
      · refine zt_iconst (pc := 63) dX5_fitsTheirs_63 (v := 0) rfl ?_
        refine zt_top (pc := 64) (itr (s_ftF A m) 1 (i + 1)) (show _ = s_ftF A m i _ from (bI_f (fun q => q.1 c_27)).symm) ?_
        refine zt_istore_n (pc := 64) (L' := [some (.ref 289), some (.int (itr (s_ftO A) 0 m)), some (.int (nI m)), some (.int (itr (s_ftF A m) 1 (i + 1))), some (.int (nI i))]) dX5_fitsTheirs_64 rfl (by decide) rfl rfl ?_
        refine zt_iincN (pc := 65) (b := i + 1) (L' := [some (.ref 289), some (.int (itr (s_ftO A) 0 m)), some (.int (nI m)), some (.int (itr (s_ftF A m) 1 (i + 1))), some (.int (nI (i + 1)))]) dX5_fitsTheirs_65 rfl (zinc1 i) (by decide) rfl rfl ?_
        refine zt_goto (pc := 68) 17 dX5_fitsTheirs_68 (by decide) ?_
        exact ih_i
      · refine zt_aload_n (pc := 30) dX5_fitsTheirs_30 rfl rfl ?_
        refine wt_getR (pc := 31) 5 18 dX5_fitsTheirs_31 q1290 rfl (ms_o hM) (mr_are hM) ?_
        refine zt_iload_n (pc := 34) dX5_fitsTheirs_34 rfl rfl ?_
        refine wt_iald (pc := 35) 12 m (v := A 300 m) dX5_fitsTheirs_35 (ma_are hM) rfl rfl (by omega) (congrFun (hA 300 (by decide) (by decide)) m) ?_
        refine zt_aload_n (pc := 36) dX5_fitsTheirs_36 rfl rfl ?_
        refine wt_getR (pc := 37) 5 35 dX5_fitsTheirs_37 q1307 rfl (ms_o hM) (mr_theirThing hM) ?_
        refine zt_iload (pc := 40) dX5_fitsTheirs_40 rfl ?_
        refine wt_iald (pc := 42) 12 i (v := A 307 i) dX5_fitsTheirs_42 (ma_theirThing hM) rfl rfl (by omega) (congrFun (hA 307 (by decide) (by decide)) i) ?_
        refine zt_ishr (pc := 43) dX5_fitsTheirs_43 ?_
        refine zt_iconst (pc := 44) dX5_fitsTheirs_44 (v := 1) rfl ?_
        refine zt_iand (pc := 45) dX5_fitsTheirs_45 ?_
        refine zt_aload_n (pc := 46) dX5_fitsTheirs_46 rfl rfl ?_
        refine wt_getR (pc := 47) 5 36 dX5_fitsTheirs_47 q1308 rfl (ms_o hM) (mr_theirSo hM) ?_
        refine zt_iload (pc := 50) dX5_fitsTheirs_50 rfl ?_
        refine wt_zald (pc := 52) 12 i (v := A 308 i) dX5_fitsTheirs_52 (ma_theirSo hM) rfl rfl (by omega) (congrFun (hA 308 (by decide) (by decide)) i) ?_
        refine wt_callS (pc := 53) mX5_flag 1 (rc' := 0) (rs' := 0) dX5_fitsTheirs_53 q1250 ms_X5_flag (tm_flag (A 308 i) (hI.so (by omega))) rfl rfl rfl rfl rfl rfl ?_
        refine zt_icmp_ne (pc := 56) 63 dX5_fitsTheirs_56 (by decide) (fun c_56 => ?_) (fun c_56 => ?_)
        · refine zt_iconst (pc := 63) dX5_fitsTheirs_63 (v := 0) rfl ?_
          refine zt_top (pc := 64) (itr (s_ftF A m) 1 (i + 1)) (show _ = s_ftF A m i _ from (bI_f (fun q => c_56 q.2)).symm) ?_
          refine zt_istore_n (pc := 64) (L' := [some (.ref 289), some (.int (itr (s_ftO A) 0 m)), some (.int (nI m)), some (.int (itr (s_ftF A m) 1 (i + 1))), some (.int (nI i))]) dX5_fitsTheirs_64 rfl (by decide) rfl rfl ?_
          refine zt_iincN (pc := 65) (b := i + 1) (L' := [some (.ref 289), some (.int (itr (s_ftO A) 0 m)), some (.int (nI m)), some (.int (itr (s_ftF A m) 1 (i + 1))), some (.int (nI (i + 1)))]) dX5_fitsTheirs_65 rfl (zinc1 i) (by decide) rfl rfl ?_
          refine zt_goto (pc := 68) 17 dX5_fitsTheirs_68 (by decide) ?_
          exact ih_i
        · refine zt_iconst (pc := 59) dX5_fitsTheirs_59 (v := 1) rfl ?_
          refine zt_goto (pc := 60) 64 dX5_fitsTheirs_60 (by decide) ?_
          refine zt_top (pc := 64) (itr (s_ftF A m) 1 (i + 1)) (show _ = s_ftF A m i _ from (bI_t ⟨c_27, c_56⟩).symm) ?_
          refine zt_istore_n (pc := 64) (L' := [some (.ref 289), some (.int (itr (s_ftO A) 0 m)), some (.int (nI m)), some (.int (itr (s_ftF A m) 1 (i + 1))), some (.int (nI i))]) dX5_fitsTheirs_64 rfl (by decide) rfl rfl ?_
          refine zt_iincN (pc := 65) (b := i + 1) (L' := [some (.ref 289), some (.int (itr (s_ftO A) 0 m)), some (.int (nI m)), some (.int (itr (s_ftF A m) 1 (i + 1))), some (.int (nI (i + 1)))]) dX5_fitsTheirs_65 rfl (zinc1 i) (by decide) rfl rfl ?_
          refine zt_goto (pc := 68) 17 dX5_fitsTheirs_68 (by decide) ?_
          exact ih_i

theorem tm_toAsk (hM : MS h.2.1 h.2.2.2) (hC : CI C) (hE : CE S C) (x : Int32) : Zd g mX5_toAsk 2 0 0 [.ref 289, .int x] (zW h S) (some (.int (s_ask C x))) (zW h S) := by
  refine zc_of [some (.ref 289), some (.int x), none, none, none, none, none] rfl (Nat.le_of_ble_eq_true rfl) rfl ?_
  have b1 := hC.t8; have b2 := hC.m12
  refine zt_bipush (pc := 0) dX5_toAsk_0 (v := (-4)) rfl ?_
  refine zt_istore_n (pc := 2) (L' := [some (.ref 289), some (.int x), some (.int (-4)), none, none, none, none]) dX5_toAsk_2 rfl (by decide) rfl rfl ?_
  refine zt_iconst (pc := 3) dX5_toAsk_3 (v := (-1)) rfl ?_
  refine zt_istore_n (pc := 4) (L' := [some (.ref 289), some (.int x), some (.int (-4)), some (.int (-1)), none, none, none]) dX5_toAsk_4 rfl (by decide) rfl rfl ?_
  refine zt_iconst (pc := 5) dX5_toAsk_5 (v := 0) rfl ?_
  refine zt_istore (pc := 6) (L' := [some (.ref 289), some (.int x), some (.int (-4)), some (.int (-1)), some (.int 0), none, none]) dX5_toAsk_6 (by decide) rfl rfl ?_
  by_cases h0 : x = 0
  · skip
    refine zt_iload (pc := 8) dX5_toAsk_8 rfl ?_
    refine zt_aload_n (pc := 10) dX5_toAsk_10 rfl rfl ?_
    refine wt_getI (pc := 11) 5 0 (v := nI (cT C)) dX5_toAsk_11 q1272 rfl (ms_o hM) (hE.t hC) ?_
    refine zt_geN (a := 0) (b := cT C) (pc := 14) 131 dX5_toAsk_14 (by decide) (by omega) (by omega) (fun c_14 => ?_) (fun c_14 => ?_)
    · refine zt_iload_n (pc := 131) dX5_toAsk_131 rfl rfl ?_
      exact zt_ireturn (pc := 132) dX5_toAsk_132 rfl (⟨congrArg some (congrArg Value.int ((if_pos h0).symm)), rfl⟩)
    · refine zt_iload_n (pc := 17) dX5_toAsk_17 rfl rfl ?_
      refine zt_if_eq (pc := 18) 131 dX5_toAsk_18 (by decide) (fun c_18 => ?_) (fun c_18 => absurd h0 c_18)
      refine zt_iload_n (pc := 131) dX5_toAsk_131 rfl rfl ?_
      exact zt_ireturn (pc := 132) dX5_toAsk_132 rfl (⟨congrArg some (congrArg Value.int ((if_pos h0).symm)), rfl⟩)
  · skip
    refine zt_for (pc := 8) (fun t => S) (fun t => [some (.ref 289), some (.int x), some (.int ((itr (s_askF C x) (-4, -1) t).1)), some (.int ((itr (s_askF C x) (-4, -1) t).2)), some (.int (nI t)), none, none]) (cT C) rfl rfl ?_ (fun t hi_t ih_t => ?_)
    · show Zt _ _ _ _ _ _ (zW h S) 8 [some (.ref 289), some (.int x), some (.int ((itr (s_askF C x) (-4, -1) (cT C)).1)), some (.int ((itr (s_askF C x) (-4, -1) (cT C)).2)), some (.int (nI (cT C))), none, none] []
      refine zt_iload (pc := 8) dX5_toAsk_8 rfl ?_
      refine zt_aload_n (pc := 10) dX5_toAsk_10 rfl rfl ?_
      refine wt_getI (pc := 11) 5 0 (v := nI (cT C)) dX5_toAsk_11 q1272 rfl (ms_o hM) (hE.t hC) ?_
      refine zt_geN (a := cT C) (b := cT C) (pc := 14) 131 dX5_toAsk_14 (by decide) (by omega) (by omega) (fun c_14 => ?_) (fun c_14 => absurd c_14 (Nat.lt_irrefl _))
      refine zt_iload_n (pc := 131) dX5_toAsk_131 rfl rfl ?_
      exact zt_ireturn (pc := 132) dX5_toAsk_132 rfl (⟨congrArg some (congrArg Value.int ((if_neg h0).symm)), rfl⟩)
    · show Zt _ _ _ _ _ _ (zW h S) 8 [some (.ref 289), some (.int x), some (.int ((itr (s_askF C x) (-4, -1) t).1)), some (.int ((itr (s_askF C x) (-4, -1) t).2)), some (.int (nI t)), none, none] []
      refine zt_iload (pc := 8) dX5_toAsk_8 rfl ?_
      refine zt_aload_n (pc := 10) dX5_toAsk_10 rfl rfl ?_
      refine wt_getI (pc := 11) 5 0 (v := nI (cT C)) dX5_toAsk_11 q1272 rfl (ms_o hM) (hE.t hC) ?_
      refine zt_geN (a := t) (b := cT C) (pc := 14) 131 dX5_toAsk_14 (by decide) (by omega) (by omega) (fun c_14 => absurd hi_t (Nat.not_lt.mpr c_14)) (fun c_14 => ?_)
      refine zt_iload_n (pc := 17) dX5_toAsk_17 rfl rfl ?_
      refine zt_if_eq (pc := 18) 131 dX5_toAsk_18 (by decide) (fun c_18 => absurd c_18 h0) (fun c_18 => ?_)
      refine zt_iconst (pc := 21) dX5_toAsk_21 (v := 0) rfl ?_
      refine zt_istore (pc := 22) (L' := [some (.ref 289), some (.int x), some (.int ((itr (s_askF C x) (-4, -1) t).1)), some (.int ((itr (s_askF C x) (-4, -1) t).2)), some (.int (nI t)), some (.int 0), none]) dX5_toAsk_22 (by decide) rfl rfl ?_
      refine zt_iconst (pc := 24) dX5_toAsk_24 (v := 0) rfl ?_
      refine zt_istore (pc := 25) (L' := [some (.ref 289), some (.int x), some (.int ((itr (s_askF C x) (-4, -1) t).1)), some (.int ((itr (s_askF C x) (-4, -1) t).2)), some (.int (nI t)), some (.int 0), some (.int 0)]) dX5_toAsk_25 (by decide) rfl rfl ?_
      refine zt_for (pc := 27) (fun m => S) (fun m => [some (.ref 289), some (.int x), some (.int ((itr (s_askF C x) (-4, -1) t).1)), some (.int ((itr (s_askF C x) (-4, -1) t).2)), some (.int (nI t)), some (.int (itr (s_yesF C x t) 0 m)), some (.int (nI m))]) (cM C) rfl rfl ?_ (fun m hi_m ih_m => ?_)
      · show Zt _ _ _ _ _ _ (zW h S) 27 [some (.ref 289), some (.int x), some (.int ((itr (s_askF C x) (-4, -1) t).1)), some (.int ((itr (s_askF C x) (-4, -1) t).2)), some (.int (nI t)), some (.int (itr (s_yesF C x t) 0 (cM C))), some (.int (nI (cM C)))] []
        refine zt_iload (pc := 27) dX5_toAsk_27 rfl ?_
        refine zt_aload_n (pc := 29) dX5_toAsk_29 rfl rfl ?_
        refine wt_getI (pc := 30) 5 2 (v := nI (cM C)) dX5_toAsk_30 q1274 rfl (ms_o hM) (hE.m hC) ?_
        refine zt_geN (a := cM C) (b := cM C) (pc := 33) 73 dX5_toAsk_33 (by decide) (by omega) (by omega) (fun c_33 => ?_) (fun c_33 => absurd c_33 (Nat.lt_irrefl _))
        refine zt_iload (pc := 73) dX5_toAsk_73 rfl ?_
        refine zt_iload_n (pc := 75) dX5_toAsk_75 rfl rfl ?_
        refine wt_callS (pc := 76) mX5_countOf 1 (rc' := 0) (rs' := 0) dX5_toAsk_76 q1265 ms_X5_countOf (tm_countOf x) rfl rfl rfl rfl rfl rfl ?_
        refine zt_iload (pc := 79) dX5_toAsk_79 rfl ?_
        refine zt_isub (pc := 81) dX5_toAsk_81 ?_
        refine zt_icmp_ge (pc := 82) 90 dX5_toAsk_82 (by decide) (fun c_82 => ?_) (fun c_82 => ?_)
        · refine zt_iload_n (pc := 90) dX5_toAsk_90 rfl rfl ?_
          refine wt_callS (pc := 91) mX5_countOf 1 (rc' := 0) (rs' := 0) dX5_toAsk_91 q1265 ms_X5_countOf (tm_countOf x) rfl rfl rfl rfl rfl rfl ?_
          refine zt_iload (pc := 94) dX5_toAsk_94 rfl ?_
          refine zt_isub (pc := 96) dX5_toAsk_96 ?_
          refine zt_top (pc := 97) (s_half C x t) ((if_pos c_82).symm) ?_
          refine zt_istore (pc := 97) (L' := [some (.ref 289), some (.int x), some (.int ((itr (s_askF C x) (-4, -1) t).1)), some (.int ((itr (s_askF C x) (-4, -1) t).2)), some (.int (nI t)), some (.int (s_yes C x t)), some (.int (s_half C x t))]) dX5_toAsk_97 (by decide) rfl rfl ?_
          refine zt_iload (pc := 99) dX5_toAsk_99 rfl ?_
          refine zt_iload_n (pc := 101) dX5_toAsk_101 rfl rfl ?_
          refine zt_icmp_le (pc := 102) 110 dX5_toAsk_102 (by decide) (fun c_102 => ?_) (fun c_102 => ?_)
          · refine zt_iload_n (pc := 110) dX5_toAsk_110 rfl rfl ?_
            refine zt_top (pc := 111) ((itr (s_askF C x) (-4, -1) (t + 1)).1) ((congrArg Prod.fst (show s_askF C x t (itr (s_askF C x) (-4, -1) t) = itr (s_askF C x) (-4, -1) t from if_pos c_102)).symm) ?_
            refine zt_istore_n (pc := 111) (L' := [some (.ref 289), some (.int x), some (.int ((itr (s_askF C x) (-4, -1) (t + 1)).1)), some (.int ((itr (s_askF C x) (-4, -1) t).2)), some (.int (nI t)), some (.int (s_yes C x t)), some (.int (s_half C x t))]) dX5_toAsk_111 rfl (by decide) rfl rfl ?_
            refine zt_iload (pc := 112) dX5_toAsk_112 rfl ?_
            refine zt_iload_n (pc := 114) dX5_toAsk_114 rfl rfl ?_
            refine zt_icmp_le (pc := 115) 123 dX5_toAsk_115 (by decide) (fun c_115 => ?_) (fun c_115 => absurd c_102 c_115)
            refine zt_iload_n (pc := 123) dX5_toAsk_123 rfl rfl ?_
            refine zt_top (pc := 124) ((itr (s_askF C x) (-4, -1) (t + 1)).2) ((congrArg Prod.snd (show s_askF C x t (itr (s_askF C x) (-4, -1) t) = itr (s_askF C x) (-4, -1) t from if_pos c_102)).symm) ?_
            refine zt_istore_n (pc := 124) (L' := [some (.ref 289), some (.int x), some (.int ((itr (s_askF C x) (-4, -1) (t + 1)).1)), some (.int ((itr (s_askF C x) (-4, -1) (t + 1)).2)), some (.int (nI t)), some (.int (s_yes C x t)), some (.int (s_half C x t))]) dX5_toAsk_124 rfl (by decide) rfl rfl ?_
            refine zt_iincN (pc := 125) (b := t + 1) (L' := [some (.ref 289), some (.int x), some (.int ((itr (s_askF C x) (-4, -1) (t + 1)).1)), some (.int ((itr (s_askF C x) (-4, -1) (t + 1)).2)), some (.int (nI (t + 1))), some (.int (s_yes C x t)), some (.int (s_half C x t))]) dX5_toAsk_125 rfl (zinc1 t) (by decide) rfl rfl ?_
            refine zt_goto (pc := 128) 8 dX5_toAsk_128 (by decide) ?_
            refine zt_drop (L' := [some (.ref 289), some (.int x), some (.int ((itr (s_askF C x) (-4, -1) (t + 1)).1)), some (.int ((itr (s_askF C x) (-4, -1) (t + 1)).2)), some (.int (nI (t + 1))), none, some (.int (s_half C x t))]) 5 rfl ?_
            refine zt_drop (L' := [some (.ref 289), some (.int x), some (.int ((itr (s_askF C x) (-4, -1) (t + 1)).1)), some (.int ((itr (s_askF C x) (-4, -1) (t + 1)).2)), some (.int (nI (t + 1))), none, none]) 6 rfl ?_
            exact ih_t
          · refine zt_iload (pc := 105) dX5_toAsk_105 rfl ?_
            refine zt_goto (pc := 107) 111 dX5_toAsk_107 (by decide) ?_
            refine zt_top (pc := 111) ((itr (s_askF C x) (-4, -1) (t + 1)).1) ((congrArg Prod.fst (show s_askF C x t (itr (s_askF C x) (-4, -1) t) = (nI t, s_half C x t) from if_neg c_102)).symm) ?_
            refine zt_istore_n (pc := 111) (L' := [some (.ref 289), some (.int x), some (.int ((itr (s_askF C x) (-4, -1) (t + 1)).1)), some (.int ((itr (s_askF C x) (-4, -1) t).2)), some (.int (nI t)), some (.int (s_yes C x t)), some (.int (s_half C x t))]) dX5_toAsk_111 rfl (by decide) rfl rfl ?_
            refine zt_iload (pc := 112) dX5_toAsk_112 rfl ?_
            refine zt_iload_n (pc := 114) dX5_toAsk_114 rfl rfl ?_
            refine zt_icmp_le (pc := 115) 123 dX5_toAsk_115 (by decide) (fun c_115 => absurd c_115 c_102) (fun c_115 => ?_)
            refine zt_iload (pc := 118) dX5_toAsk_118 rfl ?_
            refine zt_goto (pc := 120) 124 dX5_toAsk_120 (by decide) ?_
            refine zt_top (pc := 124) ((itr (s_askF C x) (-4, -1) (t + 1)).2) ((congrArg Prod.snd (show s_askF C x t (itr (s_askF C x) (-4, -1) t) = (nI t, s_half C x t) from if_neg c_102)).symm) ?_
            refine zt_istore_n (pc := 124) (L' := [some (.ref 289), some (.int x), some (.int ((itr (s_askF C x) (-4, -1) (t + 1)).1)), some (.int ((itr (s_askF C x) (-4, -1) (t + 1)).2)), some (.int (nI t)), some (.int (s_yes C x t)), some (.int (s_half C x t))]) dX5_toAsk_124 rfl (by decide) rfl rfl ?_
            refine zt_iincN (pc := 125) (b := t + 1) (L' := [some (.ref 289), some (.int x), some (.int ((itr (s_askF C x) (-4, -1) (t + 1)).1)), some (.int ((itr (s_askF C x) (-4, -1) (t + 1)).2)), some (.int (nI (t + 1))), some (.int (s_yes C x t)), some (.int (s_half C x t))]) dX5_toAsk_125 rfl (zinc1 t) (by decide) rfl rfl ?_
            refine zt_goto (pc := 128) 8 dX5_toAsk_128 (by decide) ?_
            refine zt_drop (L' := [some (.ref 289), some (.int x), some (.int ((itr (s_askF C x) (-4, -1) (t + 1)).1)), some (.int ((itr (s_askF C x) (-4, -1) (t + 1)).2)), some (.int (nI (t + 1))), none, some (.int (s_half C x t))]) 5 rfl ?_
            refine zt_drop (L' := [some (.ref 289), some (.int x), some (.int ((itr (s_askF C x) (-4, -1) (t + 1)).1)), some (.int ((itr (s_askF C x) (-4, -1) (t + 1)).2)), some (.int (nI (t + 1))), none, none]) 6 rfl ?_
            exact ih_t
        · refine zt_iload (pc := 85) dX5_toAsk_85 rfl ?_
          refine zt_goto (pc := 87) 97 dX5_toAsk_87 (by decide) ?_
          refine zt_top (pc := 97) (s_half C x t) ((if_neg c_82).symm) ?_
          refine zt_istore (pc := 97) (L' := [some (.ref 289), some (.int x), some (.int ((itr (s_askF C x) (-4, -1) t).1)), some (.int ((itr (s_askF C x) (-4, -1) t).2)), some (.int (nI t)), some (.int (s_yes C x t)), some (.int (s_half C x t))]) dX5_toAsk_97 (by decide) rfl rfl ?_
          refine zt_iload (pc := 99) dX5_toAsk_99 rfl ?_
          refine zt_iload_n (pc := 101) dX5_toAsk_101 rfl rfl ?_
          refine zt_icmp_le (pc := 102) 110 dX5_toAsk_102 (by decide) (fun c_102 => ?_) (fun c_102 => ?_)
          · refine zt_iload_n (pc := 110) dX5_toAsk_110 rfl rfl ?_
            refine zt_top (pc := 111) ((itr (s_askF C x) (-4, -1) (t + 1)).1) ((congrArg Prod.fst (show s_askF C x t (itr (s_askF C x) (-4, -1) t) = itr (s_askF C x) (-4, -1) t from if_pos c_102)).symm) ?_
            refine zt_istore_n (pc := 111) (L' := [some (.ref 289), some (.int x), some (.int ((itr (s_askF C x) (-4, -1) (t + 1)).1)), some (.int ((itr (s_askF C x) (-4, -1) t).2)), some (.int (nI t)), some (.int (s_yes C x t)), some (.int (s_half C x t))]) dX5_toAsk_111 rfl (by decide) rfl rfl ?_
            refine zt_iload (pc := 112) dX5_toAsk_112 rfl ?_
            refine zt_iload_n (pc := 114) dX5_toAsk_114 rfl rfl ?_
            refine zt_icmp_le (pc := 115) 123 dX5_toAsk_115 (by decide) (fun c_115 => ?_) (fun c_115 => absurd c_102 c_115)
            refine zt_iload_n (pc := 123) dX5_toAsk_123 rfl rfl ?_
            refine zt_top (pc := 124) ((itr (s_askF C x) (-4, -1) (t + 1)).2) ((congrArg Prod.snd (show s_askF C x t (itr (s_askF C x) (-4, -1) t) = itr (s_askF C x) (-4, -1) t from if_pos c_102)).symm) ?_
            refine zt_istore_n (pc := 124) (L' := [some (.ref 289), some (.int x), some (.int ((itr (s_askF C x) (-4, -1) (t + 1)).1)), some (.int ((itr (s_askF C x) (-4, -1) (t + 1)).2)), some (.int (nI t)), some (.int (s_yes C x t)), some (.int (s_half C x t))]) dX5_toAsk_124 rfl (by decide) rfl rfl ?_
            refine zt_iincN (pc := 125) (b := t + 1) (L' := [some (.ref 289), some (.int x), some (.int ((itr (s_askF C x) (-4, -1) (t + 1)).1)), some (.int ((itr (s_askF C x) (-4, -1) (t + 1)).2)), some (.int (nI (t + 1))), some (.int (s_yes C x t)), some (.int (s_half C x t))]) dX5_toAsk_125 rfl (zinc1 t) (by decide) rfl rfl ?_
            refine zt_goto (pc := 128) 8 dX5_toAsk_128 (by decide) ?_
            refine zt_drop (L' := [some (.ref 289), some (.int x), some (.int ((itr (s_askF C x) (-4, -1) (t + 1)).1)), some (.int ((itr (s_askF C x) (-4, -1) (t + 1)).2)), some (.int (nI (t + 1))), none, some (.int (s_half C x t))]) 5 rfl ?_
            refine zt_drop (L' := [some (.ref 289), some (.int x), some (.int ((itr (s_askF C x) (-4, -1) (t + 1)).1)), some (.int ((itr (s_askF C x) (-4, -1) (t + 1)).2)), some (.int (nI (t + 1))), none, none]) 6 rfl ?_
            exact ih_t
          · refine zt_iload (pc := 105) dX5_toAsk_105 rfl ?_
            refine zt_goto (pc := 107) 111 dX5_toAsk_107 (by decide) ?_
            refine zt_top (pc := 111) ((itr (s_askF C x) (-4, -1) (t + 1)).1) ((congrArg Prod.fst (show s_askF C x t (itr (s_askF C x) (-4, -1) t) = (nI t, s_half C x t) from if_neg c_102)).symm) ?_
            refine zt_istore_n (pc := 111) (L' := [some (.ref 289), some (.int x), some (.int ((itr (s_askF C x) (-4, -1) (t + 1)).1)), some (.int ((itr (s_askF C x) (-4, -1) t).2)), some (.int (nI t)), some (.int (s_yes C x t)), some (.int (s_half C x t))]) dX5_toAsk_111 rfl (by decide) rfl rfl ?_
            refine zt_iload (pc := 112) dX5_toAsk_112 rfl ?_
            refine zt_iload_n (pc := 114) dX5_toAsk_114 rfl rfl ?_
            refine zt_icmp_le (pc := 115) 123 dX5_toAsk_115 (by decide) (fun c_115 => absurd c_115 c_102) (fun c_115 => ?_)
            refine zt_iload (pc := 118) dX5_toAsk_118 rfl ?_
            refine zt_goto (pc := 120) 124 dX5_toAsk_120 (by decide) ?_
            refine zt_top (pc := 124) ((itr (s_askF C x) (-4, -1) (t + 1)).2) ((congrArg Prod.snd (show s_askF C x t (itr (s_askF C x) (-4, -1) t) = (nI t, s_half C x t) from if_neg c_102)).symm) ?_
            refine zt_istore_n (pc := 124) (L' := [some (.ref 289), some (.int x), some (.int ((itr (s_askF C x) (-4, -1) (t + 1)).1)), some (.int ((itr (s_askF C x) (-4, -1) (t + 1)).2)), some (.int (nI t)), some (.int (s_yes C x t)), some (.int (s_half C x t))]) dX5_toAsk_124 rfl (by decide) rfl rfl ?_
            refine zt_iincN (pc := 125) (b := t + 1) (L' := [some (.ref 289), some (.int x), some (.int ((itr (s_askF C x) (-4, -1) (t + 1)).1)), some (.int ((itr (s_askF C x) (-4, -1) (t + 1)).2)), some (.int (nI (t + 1))), some (.int (s_yes C x t)), some (.int (s_half C x t))]) dX5_toAsk_125 rfl (zinc1 t) (by decide) rfl rfl ?_
            refine zt_goto (pc := 128) 8 dX5_toAsk_128 (by decide) ?_
            refine zt_drop (L' := [some (.ref 289), some (.int x), some (.int ((itr (s_askF C x) (-4, -1) (t + 1)).1)), some (.int ((itr (s_askF C x) (-4, -1) (t + 1)).2)), some (.int (nI (t + 1))), none, some (.int (s_half C x t))]) 5 rfl ?_
            refine zt_drop (L' := [some (.ref 289), some (.int x), some (.int ((itr (s_askF C x) (-4, -1) (t + 1)).1)), some (.int ((itr (s_askF C x) (-4, -1) (t + 1)).2)), some (.int (nI (t + 1))), none, none]) 6 rfl ?_
            exact ih_t
      · show Zt _ _ _ _ _ _ (zW h S) 27 [some (.ref 289), some (.int x), some (.int ((itr (s_askF C x) (-4, -1) t).1)), some (.int ((itr (s_askF C x) (-4, -1) t).2)), some (.int (nI t)), some (.int (itr (s_yesF C x t) 0 m)), some (.int (nI m))] []
        refine zt_iload (pc := 27) dX5_toAsk_27 rfl ?_
        refine zt_aload_n (pc := 29) dX5_toAsk_29 rfl rfl ?_
        refine wt_getI (pc := 30) 5 2 (v := nI (cM C)) dX5_toAsk_30 q1274 rfl (ms_o hM) (hE.m hC) ?_
        refine zt_geN (a := m) (b := cM C) (pc := 33) 73 dX5_toAsk_33 (by decide) (by omega) (by omega) (fun c_33 => absurd hi_m (Nat.not_lt.mpr c_33)) (fun c_33 => ?_)
        refine zt_iload (pc := 36) dX5_toAsk_36 rfl ?_
        refine zt_iload_n (pc := 38) dX5_toAsk_38 rfl rfl ?_
        refine zt_iload (pc := 39) dX5_toAsk_39 rfl ?_
        refine zt_ishr (pc := 41) dX5_toAsk_41 ?_
        refine zt_iconst (pc := 42) dX5_toAsk_42 (v := 1) rfl ?_
        refine zt_iand (pc := 43) dX5_toAsk_43 ?_
        refine zt_iconst (pc := 44) dX5_toAsk_44 (v := 1) rfl ?_
        refine zt_icmp_ne (pc := 45) 63 dX5_toAsk_45 (by decide) (fun c_45 => ?_) (fun c_45 => ?_)
        · refine zt_iconst (pc := 63) dX5_toAsk_63 (v := 0) rfl ?_
          refine zt_iadd (pc := 64) dX5_toAsk_64 ?_
          refine zt_top (pc := 65) (itr (s_yesF C x t) 0 (m + 1)) (show _ = s_yesF C x t m _ from congrArg _ (if_neg c_45).symm) ?_
          refine zt_istore (pc := 65) (L' := [some (.ref 289), some (.int x), some (.int ((itr (s_askF C x) (-4, -1) t).1)), some (.int ((itr (s_askF C x) (-4, -1) t).2)), some (.int (nI t)), some (.int (itr (s_yesF C x t) 0 (m + 1))), some (.int (nI m))]) dX5_toAsk_65 (by decide) rfl rfl ?_
          refine zt_iincN (pc := 67) (b := m + 1) (L' := [some (.ref 289), some (.int x), some (.int ((itr (s_askF C x) (-4, -1) t).1)), some (.int ((itr (s_askF C x) (-4, -1) t).2)), some (.int (nI t)), some (.int (itr (s_yesF C x t) 0 (m + 1))), some (.int (nI (m + 1)))]) dX5_toAsk_67 rfl (zinc1 m) (by decide) rfl rfl ?_
          refine zt_goto (pc := 70) 27 dX5_toAsk_70 (by decide) ?_
          exact ih_m
        · refine zt_aload_n (pc := 48) dX5_toAsk_48 rfl rfl ?_
          refine wt_getR (pc := 49) 5 18 dX5_toAsk_49 q1290 rfl (ms_o hM) (mr_are hM) ?_
          refine zt_iload (pc := 52) dX5_toAsk_52 rfl ?_
          refine wt_iald (pc := 54) 12 m (v := C 300 m) dX5_toAsk_54 (ma_are hM) rfl rfl (by omega) (congrFun hE.a300 m) ?_
          refine zt_iload (pc := 55) dX5_toAsk_55 rfl ?_
          refine zt_ishr (pc := 57) dX5_toAsk_57 ?_
          refine zt_iconst (pc := 58) dX5_toAsk_58 (v := 1) rfl ?_
          refine zt_iand (pc := 59) dX5_toAsk_59 ?_
          refine zt_goto (pc := 60) 64 dX5_toAsk_60 (by decide) ?_
          refine zt_iadd (pc := 64) dX5_toAsk_64 ?_
          refine zt_top (pc := 65) (itr (s_yesF C x t) 0 (m + 1)) (show _ = s_yesF C x t m _ from congrArg _ (if_pos c_45).symm) ?_
          refine zt_istore (pc := 65) (L' := [some (.ref 289), some (.int x), some (.int ((itr (s_askF C x) (-4, -1) t).1)), some (.int ((itr (s_askF C x) (-4, -1) t).2)), some (.int (nI t)), some (.int (itr (s_yesF C x t) 0 (m + 1))), some (.int (nI m))]) dX5_toAsk_65 (by decide) rfl rfl ?_
          refine zt_iincN (pc := 67) (b := m + 1) (L' := [some (.ref 289), some (.int x), some (.int ((itr (s_askF C x) (-4, -1) t).1)), some (.int ((itr (s_askF C x) (-4, -1) t).2)), some (.int (nI t)), some (.int (itr (s_yesF C x t) 0 (m + 1))), some (.int (nI (m + 1)))]) dX5_toAsk_67 rfl (zinc1 m) (by decide) rfl rfl ?_
          refine zt_goto (pc := 70) 27 dX5_toAsk_70 (by decide) ?_
          exact ih_m

theorem tm_meant (hM : MS h.2.1 h.2.2.2) (hI : AI A) (hA : AE S A) (w : Int32) : Zd g mX5_meant 4 0 0 [.ref 289, .int w] (zW h S) (some (.int (o_meant A w))) (zW h S) := by
  refine zc_of [some (.ref 289), some (.int w), none] rfl (Nat.le_of_ble_eq_true rfl) rfl ?_
  refine zt_aload_n (pc := 0) dX5_meant_0 rfl rfl ?_
  refine wt_callV (pc := 1) mX5_fitsTheirs 0 5 (rc' := 0) (rs' := 0) dX5_meant_1 q1688 mi_X5_fitsTheirs rfl rfl (ms_o hM) (tm_fitsTheirs hM hI hA) rfl rfl rfl rfl rfl rfl ?_
  refine zt_istore_n (pc := 4) (L' := [some (.ref 289), some (.int w), some (.int (s_ft A))]) dX5_meant_4 rfl (by decide) rfl rfl ?_
  refine zt_iload_n (pc := 5) dX5_meant_5 rfl rfl ?_
  by_cases e_6_0 : w = 0
  · refine zt_tableIn (pc := 6) 36 dX5_meant_6 (by rw [e_6_0]; decide) (by rw [e_6_0]; decide) (off := 30) (by rw [e_6_0]; rfl) (by decide) ?_
    refine zt_iload_n (pc := 36) dX5_meant_36 rfl rfl ?_
    refine wt_callS (pc := 37) mX5_countOf 1 (rc' := 0) (rs' := 0) dX5_meant_37 q1265 ms_X5_countOf (tm_countOf (s_ft A)) rfl rfl rfl rfl rfl rfl ?_
    exact zt_ireturn (pc := 40) dX5_meant_40 rfl (⟨congrArg some (congrArg Value.int (((if_pos e_6_0)).symm)), rfl⟩)
  by_cases e_6_1 : w = 1
  · refine zt_tableIn (pc := 6) 41 dX5_meant_6 (by rw [e_6_1]; decide) (by rw [e_6_1]; decide) (off := 35) (by rw [e_6_1]; rfl) (by decide) ?_
    refine zt_aload_n (pc := 41) dX5_meant_41 rfl rfl ?_
    refine zt_iload_n (pc := 42) dX5_meant_42 rfl rfl ?_
    refine wt_callV (pc := 43) mX5_plainest 1 5 (rc' := 0) (rs' := 0) dX5_meant_43 q1257 mi_X5_plainest rfl rfl (ms_o hM) (tm_plainest hM hI.c hA.ce (s_ft A)) rfl rfl rfl rfl rfl rfl ?_
    exact zt_ireturn (pc := 46) dX5_meant_46 rfl (⟨congrArg some (congrArg Value.int ((((if_neg e_6_0).trans (if_pos e_6_1))).symm)), rfl⟩)
  by_cases e_6_2 : w = 2
  · refine zt_tableIn (pc := 6) 47 dX5_meant_6 (by rw [e_6_2]; decide) (by rw [e_6_2]; decide) (off := 41) (by rw [e_6_2]; rfl) (by decide) ?_
    refine zt_iload_n (pc := 47) dX5_meant_47 rfl rfl ?_
    exact zt_ireturn (pc := 48) dX5_meant_48 rfl (⟨congrArg some (congrArg Value.int ((((if_neg e_6_0).trans ((if_neg e_6_1).trans (if_pos e_6_2)))).symm)), rfl⟩)
  by_cases e_6_3 : w = 3
  · refine zt_tableIn (pc := 6) 49 dX5_meant_6 (by rw [e_6_3]; decide) (by rw [e_6_3]; decide) (off := 43) (by rw [e_6_3]; rfl) (by decide) ?_
    refine zt_aload_n (pc := 49) dX5_meant_49 rfl rfl ?_
    refine zt_iload_n (pc := 50) dX5_meant_50 rfl rfl ?_
    refine wt_callV (pc := 51) mX5_toAsk 1 5 (rc' := 0) (rs' := 0) dX5_meant_51 q1692 mi_X5_toAsk rfl rfl (ms_o hM) (tm_toAsk hM hI.c hA.ce (s_ft A)) rfl rfl rfl rfl rfl rfl ?_
    exact zt_ireturn (pc := 54) dX5_meant_54 rfl (⟨congrArg some (congrArg Value.int ((((if_neg e_6_0).trans ((if_neg e_6_1).trans ((if_neg e_6_2).trans (if_pos e_6_3))))).symm)), rfl⟩)
  refine zt_tableOut (pc := 6) 55 dX5_meant_6 (sw_out w 3 (by decide) (fun v hv => by rcases sw_c3 v hv with rfl | rfl | rfl | rfl <;> assumption)) (by decide) ?_
  refine zt_iconst (pc := 55) dX5_meant_55 (v := (-1)) rfl ?_
  exact zt_ireturn (pc := 56) dX5_meant_56 rfl (⟨congrArg some (congrArg Value.int ((((if_neg e_6_0).trans ((if_neg e_6_1).trans ((if_neg e_6_2).trans ((if_neg e_6_3).trans rfl))))).symm)), rfl⟩)

end M8