/-! THE TWIN, part 2: minds -/
set_option maxRecDepth 100000
def s_proud (C : Nat → Nat → Int32) (f : Nat → Int32) (at_ s : Nat) (x ag : Int32) : Nat → Int32 :=
  if f (at_ + s) = -4 then upd (upd f (at_ + s) (s_pl C x)) (at_ + 4 + s) 0
  else if ¬ ag = 0 then (if f (at_ + 4 + s) + 1 = 2 then upd (upd (upd f (at_ + 4 + s) (f (at_ + 4 + s) + 1)) (at_ + s) (s_pl C x)) (at_ + 4 + s) 0 else upd f (at_ + 4 + s) (f (at_ + 4 + s) + 1))
  else f
def s_fleeF (at_ s : Nat) (f : Nat → Int32) : Nat → Int32 := upd (upd f (at_ + s) (-4)) (at_ + 4 + s) 0
def s_flee (f : Nat → Int32) (at_ : Nat) (i : Int32) : Nat → Int32 := itr (s_fleeF at_) (upd f (at_ + 9) i) 4
def s_unlF (C : Nat → Nat → Int32) (f : Nat → Int32) (at_ k s q : Nat) (acc : Int32) : Int32 := acc &&& (if C 294 (5 * k + 3) = 1 ∧ ¬ nI q = nI s ∧ ¬ f (at_ + q) = -4 then 1 <<< (f (at_ + q) &&& 31) ^^^ (-1) else (-1))
def s_unl (C : Nat → Nat → Int32) (f : Nat → Int32) (at_ k s : Nat) (x : Int32) : Int32 := itr (s_unlF C f at_ k s) x (cS C)
def s_lasts (f : Nat → Int32) (at_ s : Nat) : Nat → Int32 := upd f (at_ + 8) (if f (at_ + s) = -4 then f (at_ + 8) else f (at_ + s))
def s_look1 (C : Nat → Nat → Int32) (f : Nat → Int32) (at_ k s : Nat) (x t so : Int32) : Nat → Int32 :=
  if C 294 (5 * k) = 3 then s_proud C f at_ s x (bI (¬ f (at_ + s) = -4 ∧ ¬ C 300 (f (at_ + s)).toNatClampNeg >>> (t &&& 31) &&& 1 = so))
  else if C 294 (5 * k) = 2 then upd f (at_ + s) (if s_one C x = 0 then -4 else s_pl C x)
  else upd f (at_ + s) (if C 294 (5 * k) = 1 ∧ ¬ f (at_ + 8) = -4 ∧ x >>> (f (at_ + 8) &&& 31) &&& 1 = 1 then f (at_ + 8) else s_pl C x)
def s_looks (C : Nat → Nat → Int32) (f : Nat → Int32) (b k s : Nat) (t so : Int32) : Nat → Int32 := s_lasts (s_look1 C f (b + 10 * k) k s (s_unl C f (b + 10 * k) k s (s_all C f b s &&& s_can C k)) t so) (b + 10 * k) s
def s_seeF (C : Nat → Nat → Int32) (b : Nat) (i : Int32) (s : Nat) (t so : Int32) (k : Nat) (f : Nat → Int32) : Nat → Int32 :=
  if f (b + 10 * k + 9) = -4 then (if C 294 (5 * k + 2) = t then s_flee f (b + 10 * k) i else s_looks C f b k s t so) else f
def s_see0 (f : Nat → Int32) (b s : Nat) (t so : Int32) : Nat → Int32 := upd (upd f (b + 60 + s) (f (b + 60 + s) ||| (if so = 0 then (0 : Int32) else 1 <<< (t &&& 31)))) (b + 64 + s) (upd f (b + 60 + s) (f (b + 60 + s) ||| (if so = 0 then (0 : Int32) else 1 <<< (t &&& 31))) (b + 64 + s) ||| (if so = 0 then 1 <<< (t &&& 31) else (0 : Int32)))
def s_sees (C : Nat → Nat → Int32) (f : Nat → Int32) (b : Nat) (i : Int32) (s : Nat) (t so : Int32) : Nat → Int32 := itr (s_seeF C b i s t so) (s_see0 f b s t so) (cK C)
/-- the thoughts of a state are thoughts -/
def TK (f : Nat → Int32) (b : Nat) : Prop := ∀ k, k < 6 → ∀ s, (s < 4 ∨ s = 8) → tk (f (b + 10 * k + s))
def s_wakeF (b i : Nat) (f : Nat → Int32) : Nat → Int32 := upd f (b + i) (if i < 60 ∧ ¬ (4 ≤ i % 10 ∧ i % 10 ≤ 7) then -4 else 0)
def s_wakes (f : Nat → Int32) (b : Nat) : Nat → Int32 := itr (s_wakeF b) f 70
section M2
variable {g : ZG} {h : ZH} {S C : Nat → Nat → Int32} {f : Nat → Int32}
theorem tm_proudLooks (hM : MS h.2.1 h.2.2.2) (hC : CI C) (hE : CE S C) (a_ s : Nat) (ha : a_ ≤ 190) (hs : s < 4) (x ag : Int32) : Zd g mX5_proudLooks 4 0 0 [.ref 289, .int (nI a_), .int (nI s), .int x, .int ag] (zW h (zs S 302 f)) none (zW h (zs S 302 (s_proud C f a_ s x ag))) := by
  refine zc_of [some (.ref 289), some (.int (nI a_)), some (.int (nI s)), some (.int x), some (.int ag), none] rfl (Nat.le_of_ble_eq_true rfl) rfl ?_
  refine zt_aload_n (pc := 0) dX5_proudLooks_0 rfl rfl ?_
  refine wt_getR (pc := 1) 5 27 dX5_proudLooks_1 q1299 rfl (ms_o hM) (mr_st hM) ?_
  refine zt_iload_n (pc := 4) dX5_proudLooks_4 rfl rfl ?_
  refine zt_iload_n (pc := 5) dX5_proudLooks_5 rfl rfl ?_
  refine zt_iaddN (pc := 6) (a := a_) (b := s) dX5_proudLooks_6 ?_
  refine wt_iald (pc := 7) 210 (a_ + s) (v := f (a_ + s)) dX5_proudLooks_7 (ma_st hM) rfl rfl (by omega) rfl ?_
  refine zt_bipush (pc := 8) dX5_proudLooks_8 (v := (-4)) rfl ?_
  refine zt_icmp_ne (pc := 10) 17 dX5_proudLooks_10 (by decide) (fun c_10 => ?_) (fun c_10 => ?_)
  · refine zt_iconst (pc := 17) dX5_proudLooks_17 (v := 0) rfl ?_
    refine zt_istore (pc := 18) (L' := [some (.ref 289), some (.int (nI a_)), some (.int (nI s)), some (.int x), some (.int ag), some (.int 0)]) dX5_proudLooks_18 (by decide) rfl rfl ?_
    refine zt_iload (pc := 20) dX5_proudLooks_20 rfl ?_
    refine zt_if_ne (pc := 22) 65 dX5_proudLooks_22 (by decide) (fun c_22 => absurd rfl c_22) (fun c_22 => ?_)
    refine zt_iload (pc := 25) dX5_proudLooks_25 rfl ?_
    refine zt_if_eq (pc := 27) 65 dX5_proudLooks_27 (by decide) (fun c_27 => ?_) (fun c_27 => ?_)
    · refine zt_iload (pc := 65) dX5_proudLooks_65 rfl ?_
      refine zt_if_eq (pc := 67) 94 dX5_proudLooks_67 (by decide) (fun c_67 => ?_) (fun c_67 => absurd (by decide) c_67)
      exact zt_return (pc := 94) dX5_proudLooks_94 rfl (⟨rfl, congrArg (fun z => zW h (zs S 302 z)) (show _ = s_proud C f a_ s x ag from ((if_neg c_10).trans (if_neg (fun q => q c_27))).symm)⟩)
    · refine zt_aload_n (pc := 30) dX5_proudLooks_30 rfl rfl ?_
      refine wt_getR (pc := 31) 5 27 dX5_proudLooks_31 q1299 rfl (ms_o hM) (mr_st hM) ?_
      refine zt_iload_n (pc := 34) dX5_proudLooks_34 rfl rfl ?_
      refine zt_iconst (pc := 35) dX5_proudLooks_35 (v := 4) rfl ?_
      refine zt_iaddN (pc := 36) (a := a_) (b := 4) dX5_proudLooks_36 ?_
      refine zt_iload_n (pc := 37) dX5_proudLooks_37 rfl rfl ?_
      refine zt_iaddN (pc := 38) (a := a_ + 4) (b := s) dX5_proudLooks_38 ?_
      refine zt_dup2 (pc := 39) dX5_proudLooks_39 rfl rfl ?_
      refine wt_iald (pc := 40) 210 ((a_ + 4) + s) (v := f ((a_ + 4) + s)) dX5_proudLooks_40 (ma_st hM) rfl rfl (by omega) rfl ?_
      refine zt_iconst (pc := 41) dX5_proudLooks_41 (v := 1) rfl ?_
      refine zt_iadd (pc := 42) dX5_proudLooks_42 ?_
      refine wt_iastS (pc := 43) 210 ((a_ + 4) + s) dX5_proudLooks_43 (ma_st hM) rfl rfl (by omega) ?_
      refine zt_aload_n (pc := 44) dX5_proudLooks_44 rfl rfl ?_
      refine wt_getR (pc := 45) 5 27 dX5_proudLooks_45 q1299 rfl (ms_o hM) (mr_st hM) ?_
      refine zt_iload_n (pc := 48) dX5_proudLooks_48 rfl rfl ?_
      refine zt_iconst (pc := 49) dX5_proudLooks_49 (v := 4) rfl ?_
      refine zt_iaddN (pc := 50) (a := a_) (b := 4) dX5_proudLooks_50 ?_
      refine zt_iload_n (pc := 51) dX5_proudLooks_51 rfl rfl ?_
      refine zt_iaddN (pc := 52) (a := a_ + 4) (b := s) dX5_proudLooks_52 ?_
      refine wt_iald (pc := 53) 210 ((a_ + 4) + s) (v := (upd f ((a_ + 4) + s) ((f ((a_ + 4) + s)) + 1)) ((a_ + 4) + s)) dX5_proudLooks_53 (ma_st hM) rfl rfl (by omega) rfl ?_
      refine zt_top (pc := 54) (f (a_ + 4 + s) + 1) (if_pos rfl) ?_
      refine zt_iconst (pc := 54) dX5_proudLooks_54 (v := 2) rfl ?_
      refine zt_icmp_ne (pc := 55) 62 dX5_proudLooks_55 (by decide) (fun c_55 => ?_) (fun c_55 => ?_)
      · refine zt_iconst (pc := 62) dX5_proudLooks_62 (v := 0) rfl ?_
        refine zt_istore (pc := 63) (L' := [some (.ref 289), some (.int (nI a_)), some (.int (nI s)), some (.int x), some (.int ag), some (.int 0)]) dX5_proudLooks_63 (by decide) rfl rfl ?_
        refine zt_iload (pc := 65) dX5_proudLooks_65 rfl ?_
        refine zt_if_eq (pc := 67) 94 dX5_proudLooks_67 (by decide) (fun c_67 => ?_) (fun c_67 => absurd (by decide) c_67)
        exact zt_return (pc := 94) dX5_proudLooks_94 rfl (⟨rfl, congrArg (fun z => zW h (zs S 302 z)) (show _ = s_proud C f a_ s x ag from ((if_neg c_10).trans ((if_pos c_27).trans (if_neg c_55))).symm)⟩)
      · refine zt_iconst (pc := 58) dX5_proudLooks_58 (v := 1) rfl ?_
        refine zt_goto (pc := 59) 63 dX5_proudLooks_59 (by decide) ?_
        refine zt_istore (pc := 63) (L' := [some (.ref 289), some (.int (nI a_)), some (.int (nI s)), some (.int x), some (.int ag), some (.int 1)]) dX5_proudLooks_63 (by decide) rfl rfl ?_
        refine zt_iload (pc := 65) dX5_proudLooks_65 rfl ?_
        refine zt_if_eq (pc := 67) 94 dX5_proudLooks_67 (by decide) (fun c_67 => absurd c_67 (by decide)) (fun c_67 => ?_)
        refine zt_aload_n (pc := 70) dX5_proudLooks_70 rfl rfl ?_
        refine wt_getR (pc := 71) 5 27 dX5_proudLooks_71 q1299 rfl (ms_o hM) (mr_st hM) ?_
        refine zt_iload_n (pc := 74) dX5_proudLooks_74 rfl rfl ?_
        refine zt_iload_n (pc := 75) dX5_proudLooks_75 rfl rfl ?_
        refine zt_iaddN (pc := 76) (a := a_) (b := s) dX5_proudLooks_76 ?_
        refine zt_aload_n (pc := 77) dX5_proudLooks_77 rfl rfl ?_
        refine zt_iload_n (pc := 78) dX5_proudLooks_78 rfl rfl ?_
        refine wt_callV (pc := 79) mX5_plainest 1 5 (rc' := 0) (rs' := 0) dX5_proudLooks_79 q1257 mi_X5_plainest rfl rfl (ms_o hM) (tm_plainest hM hC (hE.z (Or.inr (by decide))) x) rfl rfl rfl rfl rfl rfl ?_
        refine wt_iastS (pc := 82) 210 (a_ + s) dX5_proudLooks_82 (ma_st hM) rfl rfl (by omega) ?_
        refine zt_aload_n (pc := 83) dX5_proudLooks_83 rfl rfl ?_
        refine wt_getR (pc := 84) 5 27 dX5_proudLooks_84 q1299 rfl (ms_o hM) (mr_st hM) ?_
        refine zt_iload_n (pc := 87) dX5_proudLooks_87 rfl rfl ?_
        refine zt_iconst (pc := 88) dX5_proudLooks_88 (v := 4) rfl ?_
        refine zt_iaddN (pc := 89) (a := a_) (b := 4) dX5_proudLooks_89 ?_
        refine zt_iload_n (pc := 90) dX5_proudLooks_90 rfl rfl ?_
        refine zt_iaddN (pc := 91) (a := a_ + 4) (b := s) dX5_proudLooks_91 ?_
        refine zt_iconst (pc := 92) dX5_proudLooks_92 (v := 0) rfl ?_
        refine wt_iastS (pc := 93) 210 ((a_ + 4) + s) dX5_proudLooks_93 (ma_st hM) rfl rfl (by omega) ?_
        exact zt_return (pc := 94) dX5_proudLooks_94 rfl (⟨rfl, congrArg (fun z => zW h (zs S 302 z)) (show _ = s_proud C f a_ s x ag from ((if_neg c_10).trans ((if_pos c_27).trans (if_pos c_55))).symm)⟩)
  · refine zt_iconst (pc := 13) dX5_proudLooks_13 (v := 1) rfl ?_
    refine zt_goto (pc := 14) 18 dX5_proudLooks_14 (by decide) ?_
    refine zt_istore (pc := 18) (L' := [some (.ref 289), some (.int (nI a_)), some (.int (nI s)), some (.int x), some (.int ag), some (.int 1)]) dX5_proudLooks_18 (by decide) rfl rfl ?_
    refine zt_iload (pc := 20) dX5_proudLooks_20 rfl ?_
    refine zt_if_ne (pc := 22) 65 dX5_proudLooks_22 (by decide) (fun c_22 => ?_) (fun c_22 => absurd c_22 (by decide))
    refine zt_iload (pc := 65) dX5_proudLooks_65 rfl ?_
    refine zt_if_eq (pc := 67) 94 dX5_proudLooks_67 (by decide) (fun c_67 => absurd c_67 (by decide)) (fun c_67 => ?_)
    refine zt_aload_n (pc := 70) dX5_proudLooks_70 rfl rfl ?_
    refine wt_getR (pc := 71) 5 27 dX5_proudLooks_71 q1299 rfl (ms_o hM) (mr_st hM) ?_
    refine zt_iload_n (pc := 74) dX5_proudLooks_74 rfl rfl ?_
    refine zt_iload_n (pc := 75) dX5_proudLooks_75 rfl rfl ?_
    refine zt_iaddN (pc := 76) (a := a_) (b := s) dX5_proudLooks_76 ?_
    refine zt_aload_n (pc := 77) dX5_proudLooks_77 rfl rfl ?_
    refine zt_iload_n (pc := 78) dX5_proudLooks_78 rfl rfl ?_
    refine wt_callV (pc := 79) mX5_plainest 1 5 (rc' := 0) (rs' := 0) dX5_proudLooks_79 q1257 mi_X5_plainest rfl rfl (ms_o hM) (tm_plainest hM hC (hE.z (Or.inr (by decide))) x) rfl rfl rfl rfl rfl rfl ?_
    refine wt_iastS (pc := 82) 210 (a_ + s) dX5_proudLooks_82 (ma_st hM) rfl rfl (by omega) ?_
    refine zt_aload_n (pc := 83) dX5_proudLooks_83 rfl rfl ?_
    refine wt_getR (pc := 84) 5 27 dX5_proudLooks_84 q1299 rfl (ms_o hM) (mr_st hM) ?_
    refine zt_iload_n (pc := 87) dX5_proudLooks_87 rfl rfl ?_
    refine zt_iconst (pc := 88) dX5_proudLooks_88 (v := 4) rfl ?_
    refine zt_iaddN (pc := 89) (a := a_) (b := 4) dX5_proudLooks_89 ?_
    refine zt_iload_n (pc := 90) dX5_proudLooks_90 rfl rfl ?_
    refine zt_iaddN (pc := 91) (a := a_ + 4) (b := s) dX5_proudLooks_91 ?_
    refine zt_iconst (pc := 92) dX5_proudLooks_92 (v := 0) rfl ?_
    refine wt_iastS (pc := 93) 210 ((a_ + 4) + s) dX5_proudLooks_93 (ma_st hM) rfl rfl (by omega) ?_
    exact zt_return (pc := 94) dX5_proudLooks_94 rfl (⟨rfl, congrArg (fun z => zW h (zs S 302 z)) (show _ = s_proud C f a_ s x ag from (if_pos c_10).symm)⟩)

theorem tm_flees (hM : MS h.2.1 h.2.2.2) (a_ : Nat) (ha : a_ ≤ 190) (i : Int32) : Zd g mX5_flees 1 0 0 [.ref 289, .int (nI a_), .int i] (zW h (zs S 302 f)) none (zW h (zs S 302 (s_flee f a_ i))) := by
  refine zc_of [some (.ref 289), some (.int (nI a_)), some (.int i), none] rfl (Nat.le_of_ble_eq_true rfl) rfl ?_
  refine zt_aload_n (pc := 0) dX5_flees_0 rfl rfl ?_
  refine wt_getR (pc := 1) 5 27 dX5_flees_1 q1299 rfl (ms_o hM) (mr_st hM) ?_
  refine zt_iload_n (pc := 4) dX5_flees_4 rfl rfl ?_
  refine zt_bipush (pc := 5) dX5_flees_5 (v := 9) rfl ?_
  refine zt_iaddN (pc := 7) (a := a_) (b := 9) dX5_flees_7 ?_
  refine zt_iload_n (pc := 8) dX5_flees_8 rfl rfl ?_
  refine wt_iastS (pc := 9) 210 (a_ + 9) dX5_flees_9 (ma_st hM) rfl rfl (by omega) ?_
  refine zt_iconst (pc := 10) dX5_flees_10 (v := 0) rfl ?_
  refine zt_istore_n (pc := 11) (L' := [some (.ref 289), some (.int (nI a_)), some (.int i), some (.int 0)]) dX5_flees_11 rfl (by decide) rfl rfl ?_
  refine zt_for (pc := 12) (fun q => zs S 302 (itr (s_fleeF a_) (upd f (a_ + 9) i) q)) (fun q => [some (.ref 289), some (.int (nI a_)), some (.int i), some (.int (nI q))]) 4 rfl rfl ?_ (fun q hi_q ih_q => ?_)
  · show Zt _ _ _ _ _ _ (zW h (zs S 302 (itr (s_fleeF a_) (upd f (a_ + 9) i) 4))) 12 [some (.ref 289), some (.int (nI a_)), some (.int i), some (.int (nI 4))] []
    refine zt_iload_n (pc := 12) dX5_flees_12 rfl rfl ?_
    refine zt_iconst (pc := 13) dX5_flees_13 (v := 4) rfl ?_
    refine zt_geN (a := 4) (b := 4) (pc := 14) 44 dX5_flees_14 (by decide) (by omega) (by omega) (fun c_14 => ?_) (fun c_14 => absurd c_14 (Nat.lt_irrefl _))
    exact zt_return (pc := 44) dX5_flees_44 rfl (⟨rfl, rfl⟩)
  · show Zt _ _ _ _ _ _ (zW h (zs S 302 (itr (s_fleeF a_) (upd f (a_ + 9) i) q))) 12 [some (.ref 289), some (.int (nI a_)), some (.int i), some (.int (nI q))] []
    refine zt_iload_n (pc := 12) dX5_flees_12 rfl rfl ?_
    refine zt_iconst (pc := 13) dX5_flees_13 (v := 4) rfl ?_
    refine zt_geN (a := q) (b := 4) (pc := 14) 44 dX5_flees_14 (by decide) (by omega) (by omega) (fun c_14 => absurd hi_q (Nat.not_lt.mpr c_14)) (fun c_14 => ?_)
    refine zt_aload_n (pc := 17) dX5_flees_17 rfl rfl ?_
    refine wt_getR (pc := 18) 5 27 dX5_flees_18 q1299 rfl (ms_o hM) (mr_st hM) ?_
    refine zt_iload_n (pc := 21) dX5_flees_21 rfl rfl ?_
    refine zt_iload_n (pc := 22) dX5_flees_22 rfl rfl ?_
    refine zt_iaddN (pc := 23) (a := a_) (b := q) dX5_flees_23 ?_
    refine zt_bipush (pc := 24) dX5_flees_24 (v := (-4)) rfl ?_
    refine wt_iastS (pc := 26) 210 (a_ + q) dX5_flees_26 (ma_st hM) rfl rfl (by omega) ?_
    refine zt_aload_n (pc := 27) dX5_flees_27 rfl rfl ?_
    refine wt_getR (pc := 28) 5 27 dX5_flees_28 q1299 rfl (ms_o hM) (mr_st hM) ?_
    refine zt_iload_n (pc := 31) dX5_flees_31 rfl rfl ?_
    refine zt_iconst (pc := 32) dX5_flees_32 (v := 4) rfl ?_
    refine zt_iaddN (pc := 33) (a := a_) (b := 4) dX5_flees_33 ?_
    refine zt_iload_n (pc := 34) dX5_flees_34 rfl rfl ?_
    refine zt_iaddN (pc := 35) (a := a_ + 4) (b := q) dX5_flees_35 ?_
    refine zt_iconst (pc := 36) dX5_flees_36 (v := 0) rfl ?_
    refine wt_iastS (pc := 37) 210 ((a_ + 4) + q) dX5_flees_37 (ma_st hM) rfl rfl (by omega) ?_
    refine zt_iincN (pc := 38) (b := q + 1) (L' := [some (.ref 289), some (.int (nI a_)), some (.int i), some (.int (nI (q + 1)))]) dX5_flees_38 rfl (zinc1 q) (by decide) rfl rfl ?_
    refine zt_goto (pc := 41) 12 dX5_flees_41 (by decide) ?_
    exact ih_q

theorem wk_in (i : Nat) : ((4 : Int64) ≤ (nI (i % 10)).toInt64 ∧ (nI (i % 10)).toInt64 ≤ 7) ↔ (4 ≤ i % 10 ∧ i % 10 ≤ 7) := by
  have h10 : i % 10 < 10 := Nat.mod_lt _ (by decide)
  rw [nI_l (by omega), show (4 : Int64) = lN 4 from rfl, show (7 : Int64) = lN 7 from rfl, lN_le (by decide) (by omega), lN_le (by omega) (by decide)]
theorem tm_wakes (hM : MS h.2.1 h.2.2.2) (b : Nat) (hb : b ≤ 140) : Zd g mX5_wakes 2 0 0 [.ref 289, .int (nI b)] (zW h (zs S 302 f)) none (zW h (zs S 302 (s_wakes f b))) := by
  refine zc_of [some (.ref 289), some (.int (nI b)), none, none] rfl (Nat.le_of_ble_eq_true rfl) rfl ?_
  refine zt_iconst (pc := 0) dX5_wakes_0 (v := 0) rfl ?_
  refine zt_istore_n (pc := 1) (L' := [some (.ref 289), some (.int (nI b)), some (.int 0), none]) dX5_wakes_1 rfl (by decide) rfl rfl ?_
  refine zt_for (pc := 2) (fun i => zs S 302 (itr (s_wakeF b) f i)) (fun i => [some (.ref 289), some (.int (nI b)), some (.int (nI i)), none]) 70 rfl rfl ?_ (fun i hi_i ih_i => ?_)
  · show Zt _ _ _ _ _ _ (zW h (zs S 302 (itr (s_wakeF b) f 70))) 2 [some (.ref 289), some (.int (nI b)), some (.int (nI 70)), none] []
    refine zt_iload_n (pc := 2) dX5_wakes_2 rfl rfl ?_
    refine zt_bipush (pc := 3) dX5_wakes_3 (v := 70) rfl ?_
    refine zt_geN (a := 70) (b := 70) (pc := 5) 53 dX5_wakes_5 (by decide) (by omega) (by omega) (fun c_5 => ?_) (fun c_5 => absurd c_5 (Nat.lt_irrefl _))
    exact zt_return (pc := 53) dX5_wakes_53 rfl (⟨rfl, rfl⟩)
  · show Zt _ _ _ _ _ _ (zW h (zs S 302 (itr (s_wakeF b) f i))) 2 [some (.ref 289), some (.int (nI b)), some (.int (nI i)), none] []
    refine zt_iload_n (pc := 2) dX5_wakes_2 rfl rfl ?_
    refine zt_bipush (pc := 3) dX5_wakes_3 (v := 70) rfl ?_
    refine zt_geN (a := i) (b := 70) (pc := 5) 53 dX5_wakes_5 (by decide) (by omega) (by omega) (fun c_5 => absurd hi_i (Nat.not_lt.mpr c_5)) (fun c_5 => ?_)
    refine zt_iload_n (pc := 8) dX5_wakes_8 rfl rfl ?_
    refine zt_bipush (pc := 9) dX5_wakes_9 (v := 10) rfl ?_
    refine zt_irem (pc := 11) dX5_wakes_11 (by decide) ?_
    refine zt_top (pc := 12) (nI (i % 10)) (pk_rem (by omega) (by decide) (by decide)) ?_
    refine zt_istore_n (pc := 12) (L' := [some (.ref 289), some (.int (nI b)), some (.int (nI i)), some (.int (nI (i % 10)))]) dX5_wakes_12 rfl (by decide) rfl rfl ?_
    refine zt_aload_n (pc := 13) dX5_wakes_13 rfl rfl ?_
    refine wt_getR (pc := 14) 5 27 dX5_wakes_14 q1299 rfl (ms_o hM) (mr_st hM) ?_
    refine zt_iload_n (pc := 17) dX5_wakes_17 rfl rfl ?_
    refine zt_iload_n (pc := 18) dX5_wakes_18 rfl rfl ?_
    refine zt_iaddN (pc := 19) (a := b) (b := i) dX5_wakes_19 ?_
    refine zt_iload_n (pc := 20) dX5_wakes_20 rfl rfl ?_
    refine zt_bipush (pc := 21) dX5_wakes_21 (v := 60) rfl ?_
    refine zt_geN (a := i) (b := 60) (pc := 23) 45 dX5_wakes_23 (by decide) (by omega) (by omega) (fun c_23 => ?_) (fun c_23 => ?_)
    · refine zt_iconst (pc := 45) dX5_wakes_45 (v := 0) rfl ?_
      refine zt_top (pc := 46) (if i < 60 ∧ ¬ (4 ≤ i % 10 ∧ i % 10 ≤ 7) then -4 else 0) ((if_neg (fun q => absurd q.1 (Nat.not_lt.mpr c_23))).symm) ?_
      refine wt_iastS (pc := 46) 210 (b + i) dX5_wakes_46 (ma_st hM) rfl rfl (by omega) ?_
      refine zt_iincN (pc := 47) (b := i + 1) (L' := [some (.ref 289), some (.int (nI b)), some (.int (nI (i + 1))), some (.int (nI (i % 10)))]) dX5_wakes_47 rfl (zinc1 i) (by decide) rfl rfl ?_
      refine zt_goto (pc := 50) 2 dX5_wakes_50 (by decide) ?_
      refine zt_drop (L' := [some (.ref 289), some (.int (nI b)), some (.int (nI (i + 1))), none]) 3 rfl ?_
      exact ih_i
    · refine zt_iload_n (pc := 26) dX5_wakes_26 rfl rfl ?_
      refine zt_i2l (pc := 27) dX5_wakes_27 rfl ?_
      refine zt_ldc2 (pc := 28) dX5_wakes_28 q1221 ?_
      refine zt_ldc2 (pc := 31) dX5_wakes_31 q1222 ?_
      refine wt_callS (pc := 34) mX5_in 3 (rc' := 0) (rs' := 0) dX5_wakes_34 q1223 ms_X5_in (tm_in ((nI (i % 10)).toInt64) 4 7) rfl rfl rfl rfl rfl rfl ?_
      refine zt_if_ne (pc := 37) 45 dX5_wakes_37 (by decide) (fun c_37 => ?_) (fun c_37 => ?_)
      · refine zt_iconst (pc := 45) dX5_wakes_45 (v := 0) rfl ?_
        refine zt_top (pc := 46) (if i < 60 ∧ ¬ (4 ≤ i % 10 ∧ i % 10 ≤ 7) then -4 else 0) ((if_neg (fun q => c_37 (bI_f (fun z => q.2 ((wk_in _).mp z))))).symm) ?_
        refine wt_iastS (pc := 46) 210 (b + i) dX5_wakes_46 (ma_st hM) rfl rfl (by omega) ?_
        refine zt_iincN (pc := 47) (b := i + 1) (L' := [some (.ref 289), some (.int (nI b)), some (.int (nI (i + 1))), some (.int (nI (i % 10)))]) dX5_wakes_47 rfl (zinc1 i) (by decide) rfl rfl ?_
        refine zt_goto (pc := 50) 2 dX5_wakes_50 (by decide) ?_
        refine zt_drop (L' := [some (.ref 289), some (.int (nI b)), some (.int (nI (i + 1))), none]) 3 rfl ?_
        exact ih_i
      · refine zt_bipush (pc := 40) dX5_wakes_40 (v := (-4)) rfl ?_
        refine zt_goto (pc := 42) 46 dX5_wakes_42 (by decide) ?_
        refine zt_top (pc := 46) (if i < 60 ∧ ¬ (4 ≤ i % 10 ∧ i % 10 ≤ 7) then -4 else 0) ((if_pos ⟨c_23, fun q => absurd ((wk_in _).mpr q) (bI_eq0.mp c_37)⟩).symm) ?_
        refine wt_iastS (pc := 46) 210 (b + i) dX5_wakes_46 (ma_st hM) rfl rfl (by omega) ?_
        refine zt_iincN (pc := 47) (b := i + 1) (L' := [some (.ref 289), some (.int (nI b)), some (.int (nI (i + 1))), some (.int (nI (i % 10)))]) dX5_wakes_47 rfl (zinc1 i) (by decide) rfl rfl ?_
        refine zt_goto (pc := 50) 2 dX5_wakes_50 (by decide) ?_
        refine zt_drop (L' := [some (.ref 289), some (.int (nI b)), some (.int (nI (i + 1))), none]) 3 rfl ?_
        exact ih_i

theorem tm_looks_tail (hM : MS h.2.1 h.2.2.2) (b k s : Nat) (hb : b ≤ 140) (hk : k < 6) (hs : s < 4) (t so x : Int32) : Zt g mX5_looks 5 0 0 (fun r' h' => r' = none ∧ h' = zW h (zs S 302 (s_lasts f (b + 10 * k) s))) (zW h (zs S 302 f)) 274 [some (.ref 289), some (.int (nI b)), some (.int (nI k)), some (.int (nI s)), some (.int t), some (.int so), some (.int (nI (b + 10 * k))), some (.int x), none] [] := by
  refine zt_aload_n (pc := 274) dX5_looks_274 rfl rfl ?_
  refine wt_getR (pc := 275) 5 27 dX5_looks_275 q1299 rfl (ms_o hM) (mr_st hM) ?_
  refine zt_iload (pc := 278) dX5_looks_278 rfl ?_
  refine zt_bipush (pc := 280) dX5_looks_280 (v := 8) rfl ?_
  refine zt_iaddN (pc := 282) (a := b + 10 * k) (b := 8) dX5_looks_282 ?_
  refine zt_aload_n (pc := 283) dX5_looks_283 rfl rfl ?_
  refine wt_getR (pc := 284) 5 27 dX5_looks_284 q1299 rfl (ms_o hM) (mr_st hM) ?_
  refine zt_iload (pc := 287) dX5_looks_287 rfl ?_
  refine zt_iload_n (pc := 289) dX5_looks_289 rfl rfl ?_
  refine zt_iaddN (pc := 290) (a := b + 10 * k) (b := s) dX5_looks_290 ?_
  refine wt_iald (pc := 291) 210 ((b + 10 * k) + s) (v := f ((b + 10 * k) + s)) dX5_looks_291 (ma_st hM) rfl rfl (by omega) rfl ?_
  refine zt_bipush (pc := 292) dX5_looks_292 (v := (-4)) rfl ?_
  refine zt_icmp_ne (pc := 294) 310 dX5_looks_294 (by decide) (fun c_294 => ?_) (fun c_294 => ?_)
  · refine zt_aload_n (pc := 310) dX5_looks_310 rfl rfl ?_
    refine wt_getR (pc := 311) 5 27 dX5_looks_311 q1299 rfl (ms_o hM) (mr_st hM) ?_
    refine zt_iload (pc := 314) dX5_looks_314 rfl ?_
    refine zt_iload_n (pc := 316) dX5_looks_316 rfl rfl ?_
    refine zt_iaddN (pc := 317) (a := b + 10 * k) (b := s) dX5_looks_317 ?_
    refine wt_iald (pc := 318) 210 ((b + 10 * k) + s) (v := f ((b + 10 * k) + s)) dX5_looks_318 (ma_st hM) rfl rfl (by omega) rfl ?_
    refine wt_iastS (pc := 319) 210 ((b + 10 * k) + 8) dX5_looks_319 (ma_st hM) rfl rfl (by omega) ?_
    exact zt_return (pc := 320) dX5_looks_320 rfl (⟨rfl, congrArg (fun z => zW h (zs S 302 (upd f (b + 10 * k + 8) z))) (if_neg c_294).symm⟩)
  · refine zt_aload_n (pc := 297) dX5_looks_297 rfl rfl ?_
    refine wt_getR (pc := 298) 5 27 dX5_looks_298 q1299 rfl (ms_o hM) (mr_st hM) ?_
    refine zt_iload (pc := 301) dX5_looks_301 rfl ?_
    refine zt_bipush (pc := 303) dX5_looks_303 (v := 8) rfl ?_
    refine zt_iaddN (pc := 305) (a := b + 10 * k) (b := 8) dX5_looks_305 ?_
    refine wt_iald (pc := 306) 210 ((b + 10 * k) + 8) (v := f ((b + 10 * k) + 8)) dX5_looks_306 (ma_st hM) rfl rfl (by omega) rfl ?_
    refine zt_goto (pc := 307) 319 dX5_looks_307 (by decide) ?_
    refine wt_iastS (pc := 319) 210 ((b + 10 * k) + 8) dX5_looks_319 (ma_st hM) rfl rfl (by omega) ?_
    exact zt_return (pc := 320) dX5_looks_320 rfl (⟨rfl, congrArg (fun z => zW h (zs S 302 (upd f (b + 10 * k + 8) z))) (if_pos c_294).symm⟩)

theorem tm_looks (hM : MS h.2.1 h.2.2.2) (hC : CI C) (hE : CE S C) (b k s : Nat) (hb : b ≤ 140) (hk : k < 6) (hs : s < 4) (t so : Int32) (hso : so = 0 ∨ so = 1) (hT : TK f b) : Zd g mX5_looks 5 0 0 [.ref 289, .int (nI b), .int (nI k), .int (nI s), .int t, .int so] (zW h (zs S 302 f)) none (zW h (zs S 302 (s_looks C f b k s t so))) := by
  refine zc_of [some (.ref 289), some (.int (nI b)), some (.int (nI k)), some (.int (nI s)), some (.int t), some (.int so), none, none, none] rfl (Nat.le_of_ble_eq_true rfl) rfl ?_
  have hs4 := hC.s4
  refine zt_iload_n (pc := 0) dX5_looks_0 rfl rfl ?_
  refine zt_bipush (pc := 1) dX5_looks_1 (v := 10) rfl ?_
  refine zt_iload_n (pc := 3) dX5_looks_3 rfl rfl ?_
  refine zt_imulN (pc := 4) (a := 10) (b := k) dX5_looks_4 ?_
  refine zt_iaddN (pc := 5) (a := b) (b := 10 * k) dX5_looks_5 ?_
  refine zt_istore (pc := 6) (L' := [some (.ref 289), some (.int (nI b)), some (.int (nI k)), some (.int (nI s)), some (.int t), some (.int so), some (.int (nI (b + (10 * k)))), none, none]) dX5_looks_6 (by decide) rfl rfl ?_
  refine zt_aload_n (pc := 8) dX5_looks_8 rfl rfl ?_
  refine zt_iload_n (pc := 9) dX5_looks_9 rfl rfl ?_
  refine zt_iload_n (pc := 10) dX5_looks_10 rfl rfl ?_
  refine wt_callV (pc := 11) mX5_allThatFit 2 5 (rc' := 0) (rs' := 0) dX5_looks_11 q1238 mi_X5_allThatFit rfl rfl (ms_o hM) (tm_allThatFit hM hC hE b hb s hs) rfl rfl rfl rfl rfl rfl ?_
  refine zt_aload_n (pc := 14) dX5_looks_14 rfl rfl ?_
  refine zt_iload_n (pc := 15) dX5_looks_15 rfl rfl ?_
  refine wt_callV (pc := 16) mX5_canThink 1 5 (rc' := 0) (rs' := 0) dX5_looks_16 q1246 mi_X5_canThink rfl rfl (ms_o hM) (tm_canThink hM hC (hE.z (Or.inr (by decide))) k hk) rfl rfl rfl rfl rfl rfl ?_
  refine zt_iand (pc := 19) dX5_looks_19 ?_
  refine zt_istore (pc := 20) (L' := [some (.ref 289), some (.int (nI b)), some (.int (nI k)), some (.int (nI s)), some (.int t), some (.int so), some (.int (nI (b + (10 * k)))), some (.int ((s_all C f b s) &&& (s_can C k))), none]) dX5_looks_20 (by decide) rfl rfl ?_
  refine zt_iconst (pc := 22) dX5_looks_22 (v := 0) rfl ?_
  refine zt_istore (pc := 23) (L' := [some (.ref 289), some (.int (nI b)), some (.int (nI k)), some (.int (nI s)), some (.int t), some (.int so), some (.int (nI (b + (10 * k)))), some (.int ((s_all C f b s) &&& (s_can C k))), some (.int 0)]) dX5_looks_23 (by decide) rfl rfl ?_
  refine zt_for (pc := 25) (fun q => zs S 302 f) (fun q => [some (.ref 289), some (.int (nI b)), some (.int (nI k)), some (.int (nI s)), some (.int t), some (.int so), some (.int (nI (b + 10 * k))), some (.int (itr (s_unlF C f (b + 10 * k) k s) (s_all C f b s &&& s_can C k) q)), some (.int (nI q))]) (cS C) rfl rfl ?_ (fun q hi_q ih_q => ?_)
  · show Zt _ _ _ _ _ _ (zW h (zs S 302 f)) 25 [some (.ref 289), some (.int (nI b)), some (.int (nI k)), some (.int (nI s)), some (.int t), some (.int so), some (.int (nI (b + 10 * k))), some (.int (itr (s_unlF C f (b + 10 * k) k s) (s_all C f b s &&& s_can C k) (cS C))), some (.int (nI (cS C)))] []
    refine zt_iload (pc := 25) dX5_looks_25 rfl ?_
    refine zt_aload_n (pc := 27) dX5_looks_27 rfl rfl ?_
    refine wt_getI (pc := 28) 5 5 (v := nI (cS C)) dX5_looks_28 q1277 rfl (ms_o hM) (hE.s hC) ?_
    refine zt_geN (a := cS C) (b := cS C) (pc := 31) 98 dX5_looks_31 (by decide) (by omega) (by omega) (fun c_31 => ?_) (fun c_31 => absurd c_31 (Nat.lt_irrefl _))
    refine zt_aload_n (pc := 98) dX5_looks_98 rfl rfl ?_
    refine wt_getR (pc := 99) 5 8 dX5_looks_99 q1280 rfl (ms_o hM) (mr_kind hM) ?_
    refine zt_iconst (pc := 102) dX5_looks_102 (v := 5) rfl ?_
    refine zt_iload_n (pc := 103) dX5_looks_103 rfl rfl ?_
    refine zt_imulN (pc := 104) (a := 5) (b := k) dX5_looks_104 ?_
    refine wt_iald (pc := 105) 30 (5 * k) (v := C 294 (5 * k)) dX5_looks_105 (ma_kind hM) rfl rfl (by omega) (congrFun hE.a294 (5 * k)) ?_
    refine zt_iconst (pc := 106) dX5_looks_106 (v := 3) rfl ?_
    refine zt_icmp_ne (pc := 107) 168 dX5_looks_107 (by decide) (fun c_107 => ?_) (fun c_107 => ?_)
    · refine zt_aload_n (pc := 168) dX5_looks_168 rfl rfl ?_
      refine wt_getR (pc := 169) 5 8 dX5_looks_169 q1280 rfl (ms_o hM) (mr_kind hM) ?_
      refine zt_iconst (pc := 172) dX5_looks_172 (v := 5) rfl ?_
      refine zt_iload_n (pc := 173) dX5_looks_173 rfl rfl ?_
      refine zt_imulN (pc := 174) (a := 5) (b := k) dX5_looks_174 ?_
      refine wt_iald (pc := 175) 30 (5 * k) (v := C 294 (5 * k)) dX5_looks_175 (ma_kind hM) rfl rfl (by omega) (congrFun hE.a294 (5 * k)) ?_
      refine zt_iconst (pc := 176) dX5_looks_176 (v := 2) rfl ?_
      refine zt_icmp_ne (pc := 177) 212 dX5_looks_177 (by decide) (fun c_177 => ?_) (fun c_177 => ?_)
      · refine zt_aload_n (pc := 212) dX5_looks_212 rfl rfl ?_
        refine wt_getR (pc := 213) 5 27 dX5_looks_213 q1299 rfl (ms_o hM) (mr_st hM) ?_
        refine zt_iload (pc := 216) dX5_looks_216 rfl ?_
        refine zt_bipush (pc := 218) dX5_looks_218 (v := 8) rfl ?_
        refine zt_iaddN (pc := 220) (a := b + 10 * k) (b := 8) dX5_looks_220 ?_
        refine wt_iald (pc := 221) 210 ((b + 10 * k) + 8) (v := f ((b + 10 * k) + 8)) dX5_looks_221 (ma_st hM) rfl rfl (by omega) rfl ?_
        refine zt_istore (pc := 222) (L' := [some (.ref 289), some (.int (nI b)), some (.int (nI k)), some (.int (nI s)), some (.int t), some (.int so), some (.int (nI (b + 10 * k))), some (.int (s_unl C f (b + 10 * k) k s (s_all C f b s &&& s_can C k))), some (.int (f ((b + 10 * k) + 8)))]) dX5_looks_222 (by decide) rfl rfl ?_
        refine zt_aload_n (pc := 224) dX5_looks_224 rfl rfl ?_
        refine wt_getR (pc := 225) 5 27 dX5_looks_225 q1299 rfl (ms_o hM) (mr_st hM) ?_
        refine zt_iload (pc := 228) dX5_looks_228 rfl ?_
        refine zt_iload_n (pc := 230) dX5_looks_230 rfl rfl ?_
        refine zt_iaddN (pc := 231) (a := b + 10 * k) (b := s) dX5_looks_231 ?_
        refine zt_aload_n (pc := 232) dX5_looks_232 rfl rfl ?_
        refine wt_getR (pc := 233) 5 8 dX5_looks_233 q1280 rfl (ms_o hM) (mr_kind hM) ?_
        refine zt_iconst (pc := 236) dX5_looks_236 (v := 5) rfl ?_
        refine zt_iload_n (pc := 237) dX5_looks_237 rfl rfl ?_
        refine zt_imulN (pc := 238) (a := 5) (b := k) dX5_looks_238 ?_
        refine wt_iald (pc := 239) 30 (5 * k) (v := C 294 (5 * k)) dX5_looks_239 (ma_kind hM) rfl rfl (by omega) (congrFun hE.a294 (5 * k)) ?_
        refine zt_iconst (pc := 240) dX5_looks_240 (v := 1) rfl ?_
        refine zt_icmp_ne (pc := 241) 267 dX5_looks_241 (by decide) (fun c_241 => ?_) (fun c_241 => ?_)
        · refine zt_aload_n (pc := 267) dX5_looks_267 rfl rfl ?_
          refine zt_iload (pc := 268) dX5_looks_268 rfl ?_
          refine wt_callV (pc := 270) mX5_plainest 1 5 (rc' := 0) (rs' := 0) dX5_looks_270 q1257 mi_X5_plainest rfl rfl (ms_o hM) (tm_plainest hM hC (hE.z (Or.inr (by decide))) (s_unl C f (b + 10 * k) k s (s_all C f b s &&& s_can C k))) rfl rfl rfl rfl rfl rfl ?_
          refine wt_iastS (pc := 273) 210 ((b + 10 * k) + s) dX5_looks_273 (ma_st hM) rfl rfl (by omega) ?_
          refine zt_drop (L' := [some (.ref 289), some (.int (nI b)), some (.int (nI k)), some (.int (nI s)), some (.int t), some (.int so), some (.int (nI (b + 10 * k))), some (.int (s_unl C f (b + 10 * k) k s (s_all C f b s &&& s_can C k))), none]) 8 rfl ?_
          refine zt_S (congrArg (zs S 302) (show _ = s_look1 C f (b + 10 * k) k s (s_unl C f (b + 10 * k) k s (s_all C f b s &&& s_can C k)) t so from ((if_neg c_107).trans ((if_neg c_177).trans (congrArg (upd f (b + 10 * k + s)) (if_neg (fun z => c_241 z.1))))).symm)) ?_
          exact tm_looks_tail hM b k s hb hk hs t so _
        · refine zt_iload (pc := 244) dX5_looks_244 rfl ?_
          refine zt_bipush (pc := 246) dX5_looks_246 (v := (-4)) rfl ?_
          refine zt_icmp_eq (pc := 248) 267 dX5_looks_248 (by decide) (fun c_248 => ?_) (fun c_248 => ?_)
          · refine zt_aload_n (pc := 267) dX5_looks_267 rfl rfl ?_
            refine zt_iload (pc := 268) dX5_looks_268 rfl ?_
            refine wt_callV (pc := 270) mX5_plainest 1 5 (rc' := 0) (rs' := 0) dX5_looks_270 q1257 mi_X5_plainest rfl rfl (ms_o hM) (tm_plainest hM hC (hE.z (Or.inr (by decide))) (s_unl C f (b + 10 * k) k s (s_all C f b s &&& s_can C k))) rfl rfl rfl rfl rfl rfl ?_
            refine wt_iastS (pc := 273) 210 ((b + 10 * k) + s) dX5_looks_273 (ma_st hM) rfl rfl (by omega) ?_
            refine zt_drop (L' := [some (.ref 289), some (.int (nI b)), some (.int (nI k)), some (.int (nI s)), some (.int t), some (.int so), some (.int (nI (b + 10 * k))), some (.int (s_unl C f (b + 10 * k) k s (s_all C f b s &&& s_can C k))), none]) 8 rfl ?_
            refine zt_S (congrArg (zs S 302) (show _ = s_look1 C f (b + 10 * k) k s (s_unl C f (b + 10 * k) k s (s_all C f b s &&& s_can C k)) t so from ((if_neg c_107).trans ((if_neg c_177).trans (congrArg (upd f (b + 10 * k + s)) (if_neg (fun z => z.2.1 c_248))))).symm)) ?_
            exact tm_looks_tail hM b k s hb hk hs t so _
          · refine zt_iload (pc := 251) dX5_looks_251 rfl ?_
            refine zt_iload (pc := 253) dX5_looks_253 rfl ?_
            refine zt_ishr (pc := 255) dX5_looks_255 ?_
            refine zt_iconst (pc := 256) dX5_looks_256 (v := 1) rfl ?_
            refine zt_iand (pc := 257) dX5_looks_257 ?_
            refine zt_iconst (pc := 258) dX5_looks_258 (v := 1) rfl ?_
            refine zt_icmp_ne (pc := 259) 267 dX5_looks_259 (by decide) (fun c_259 => ?_) (fun c_259 => ?_)
            · refine zt_aload_n (pc := 267) dX5_looks_267 rfl rfl ?_
              refine zt_iload (pc := 268) dX5_looks_268 rfl ?_
              refine wt_callV (pc := 270) mX5_plainest 1 5 (rc' := 0) (rs' := 0) dX5_looks_270 q1257 mi_X5_plainest rfl rfl (ms_o hM) (tm_plainest hM hC (hE.z (Or.inr (by decide))) (s_unl C f (b + 10 * k) k s (s_all C f b s &&& s_can C k))) rfl rfl rfl rfl rfl rfl ?_
              refine wt_iastS (pc := 273) 210 ((b + 10 * k) + s) dX5_looks_273 (ma_st hM) rfl rfl (by omega) ?_
              refine zt_drop (L' := [some (.ref 289), some (.int (nI b)), some (.int (nI k)), some (.int (nI s)), some (.int t), some (.int so), some (.int (nI (b + 10 * k))), some (.int (s_unl C f (b + 10 * k) k s (s_all C f b s &&& s_can C k))), none]) 8 rfl ?_
              refine zt_S (congrArg (zs S 302) (show _ = s_look1 C f (b + 10 * k) k s (s_unl C f (b + 10 * k) k s (s_all C f b s &&& s_can C k)) t so from ((if_neg c_107).trans ((if_neg c_177).trans (congrArg (upd f (b + 10 * k + s)) (if_neg (fun z => c_259 z.2.2))))).symm)) ?_
              exact tm_looks_tail hM b k s hb hk hs t so _
            · refine zt_iload (pc := 262) dX5_looks_262 rfl ?_
              refine zt_goto (pc := 264) 273 dX5_looks_264 (by decide) ?_
              refine wt_iastS (pc := 273) 210 ((b + 10 * k) + s) dX5_looks_273 (ma_st hM) rfl rfl (by omega) ?_
              refine zt_drop (L' := [some (.ref 289), some (.int (nI b)), some (.int (nI k)), some (.int (nI s)), some (.int t), some (.int so), some (.int (nI (b + 10 * k))), some (.int (s_unl C f (b + 10 * k) k s (s_all C f b s &&& s_can C k))), none]) 8 rfl ?_
              refine zt_S (congrArg (zs S 302) (show _ = s_look1 C f (b + 10 * k) k s (s_unl C f (b + 10 * k) k s (s_all C f b s &&& s_can C k)) t so from ((if_neg c_107).trans ((if_neg c_177).trans (congrArg (upd f (b + 10 * k + s)) (if_pos ⟨c_241, c_248, c_259⟩)))).symm)) ?_
              exact tm_looks_tail hM b k s hb hk hs t so _
      · refine zt_aload_n (pc := 180) dX5_looks_180 rfl rfl ?_
        refine wt_getR (pc := 181) 5 27 dX5_looks_181 q1299 rfl (ms_o hM) (mr_st hM) ?_
        refine zt_iload (pc := 184) dX5_looks_184 rfl ?_
        refine zt_iload_n (pc := 186) dX5_looks_186 rfl rfl ?_
        refine zt_iaddN (pc := 187) (a := b + 10 * k) (b := s) dX5_looks_187 ?_
        refine zt_aload_n (pc := 188) dX5_looks_188 rfl rfl ?_
        refine zt_iload (pc := 189) dX5_looks_189 rfl ?_
        refine wt_callV (pc := 191) mX5_areAllOne 1 5 (rc' := 0) (rs' := 0) dX5_looks_191 q1268 mi_X5_areAllOne rfl rfl (ms_o hM) (tm_areAllOne hM hC (hE.z (Or.inr (by decide))) (s_unl C f (b + 10 * k) k s (s_all C f b s &&& s_can C k))) rfl rfl rfl rfl rfl rfl ?_
        refine zt_if_eq (pc := 194) 206 dX5_looks_194 (by decide) (fun c_194 => ?_) (fun c_194 => ?_)
        · refine zt_bipush (pc := 206) dX5_looks_206 (v := (-4)) rfl ?_
          refine wt_iastS (pc := 208) 210 ((b + 10 * k) + s) dX5_looks_208 (ma_st hM) rfl rfl (by omega) ?_
          refine zt_goto (pc := 209) 274 dX5_looks_209 (by decide) ?_
          refine zt_drop (L' := [some (.ref 289), some (.int (nI b)), some (.int (nI k)), some (.int (nI s)), some (.int t), some (.int so), some (.int (nI (b + 10 * k))), some (.int (s_unl C f (b + 10 * k) k s (s_all C f b s &&& s_can C k))), none]) 8 rfl ?_
          refine zt_S (congrArg (zs S 302) (show _ = s_look1 C f (b + 10 * k) k s (s_unl C f (b + 10 * k) k s (s_all C f b s &&& s_can C k)) t so from ((if_neg c_107).trans ((if_pos c_177).trans (congrArg (upd f (b + 10 * k + s)) (if_pos c_194)))).symm)) ?_
          exact tm_looks_tail hM b k s hb hk hs t so _
        · refine zt_aload_n (pc := 197) dX5_looks_197 rfl rfl ?_
          refine zt_iload (pc := 198) dX5_looks_198 rfl ?_
          refine wt_callV (pc := 200) mX5_plainest 1 5 (rc' := 0) (rs' := 0) dX5_looks_200 q1257 mi_X5_plainest rfl rfl (ms_o hM) (tm_plainest hM hC (hE.z (Or.inr (by decide))) (s_unl C f (b + 10 * k) k s (s_all C f b s &&& s_can C k))) rfl rfl rfl rfl rfl rfl ?_
          refine zt_goto (pc := 203) 208 dX5_looks_203 (by decide) ?_
          refine wt_iastS (pc := 208) 210 ((b + 10 * k) + s) dX5_looks_208 (ma_st hM) rfl rfl (by omega) ?_
          refine zt_goto (pc := 209) 274 dX5_looks_209 (by decide) ?_
          refine zt_drop (L' := [some (.ref 289), some (.int (nI b)), some (.int (nI k)), some (.int (nI s)), some (.int t), some (.int so), some (.int (nI (b + 10 * k))), some (.int (s_unl C f (b + 10 * k) k s (s_all C f b s &&& s_can C k))), none]) 8 rfl ?_
          refine zt_S (congrArg (zs S 302) (show _ = s_look1 C f (b + 10 * k) k s (s_unl C f (b + 10 * k) k s (s_all C f b s &&& s_can C k)) t so from ((if_neg c_107).trans ((if_pos c_177).trans (congrArg (upd f (b + 10 * k + s)) (if_neg c_194)))).symm)) ?_
          exact tm_looks_tail hM b k s hb hk hs t so _
    · refine zt_aload_n (pc := 110) dX5_looks_110 rfl rfl ?_
      refine zt_iload (pc := 111) dX5_looks_111 rfl ?_
      refine zt_iload_n (pc := 113) dX5_looks_113 rfl rfl ?_
      refine zt_iload (pc := 114) dX5_looks_114 rfl ?_
      refine zt_aload_n (pc := 116) dX5_looks_116 rfl rfl ?_
      refine wt_getR (pc := 117) 5 27 dX5_looks_117 q1299 rfl (ms_o hM) (mr_st hM) ?_
      refine zt_iload (pc := 120) dX5_looks_120 rfl ?_
      refine zt_iload_n (pc := 122) dX5_looks_122 rfl rfl ?_
      refine zt_iaddN (pc := 123) (a := b + 10 * k) (b := s) dX5_looks_123 ?_
      refine wt_iald (pc := 124) 210 ((b + 10 * k) + s) (v := f ((b + 10 * k) + s)) dX5_looks_124 (ma_st hM) rfl rfl (by omega) rfl ?_
      refine zt_bipush (pc := 125) dX5_looks_125 (v := (-4)) rfl ?_
      refine zt_icmp_eq (pc := 127) 161 dX5_looks_127 (by decide) (fun c_127 => ?_) (fun c_127 => ?_)
      · refine zt_iconst (pc := 161) dX5_looks_161 (v := 0) rfl ?_
        refine zt_top (pc := 162) (bI (¬ f (b + 10 * k + s) = -4 ∧ ¬ C 300 (f (b + 10 * k + s)).toNatClampNeg >>> (t &&& 31) &&& 1 = so)) ((bI_f (fun z => z.1 c_127)).symm) ?_
        refine wt_callV (pc := 162) mX5_proudLooks 4 5 (rc' := 0) (rs' := 0) dX5_looks_162 q1253 mi_X5_proudLooks rfl rfl (ms_o hM) (tm_proudLooks hM hC hE (b + 10 * k) s (by omega) hs _ _) rfl rfl rfl rfl rfl rfl ?_
        refine zt_goto (pc := 165) 274 dX5_looks_165 (by decide) ?_
        refine zt_drop (L' := [some (.ref 289), some (.int (nI b)), some (.int (nI k)), some (.int (nI s)), some (.int t), some (.int so), some (.int (nI (b + 10 * k))), some (.int (s_unl C f (b + 10 * k) k s (s_all C f b s &&& s_can C k))), none]) 8 rfl ?_
        refine zt_S (congrArg (zs S 302) (show _ = s_look1 C f (b + 10 * k) k s (s_unl C f (b + 10 * k) k s (s_all C f b s &&& s_can C k)) t so from (if_pos c_107).symm)) ?_
        exact tm_looks_tail hM b k s hb hk hs t so _
      · refine zt_aload_n (pc := 130) dX5_looks_130 rfl rfl ?_
        refine wt_getR (pc := 131) 5 18 dX5_looks_131 q1290 rfl (ms_o hM) (mr_are hM) ?_
        refine zt_aload_n (pc := 134) dX5_looks_134 rfl rfl ?_
        refine wt_getR (pc := 135) 5 27 dX5_looks_135 q1299 rfl (ms_o hM) (mr_st hM) ?_
        refine zt_iload (pc := 138) dX5_looks_138 rfl ?_
        refine zt_iload_n (pc := 140) dX5_looks_140 rfl rfl ?_
        refine zt_iaddN (pc := 141) (a := b + 10 * k) (b := s) dX5_looks_141 ?_
        refine wt_iald (pc := 142) 210 ((b + 10 * k) + s) (v := f ((b + 10 * k) + s)) dX5_looks_142 (ma_st hM) rfl rfl (by omega) rfl ?_
        refine wt_iald (pc := 143) 12 ((f (b + 10 * k + s)).toNatClampNeg) (v := C 300 ((f (b + 10 * k + s)).toNatClampNeg)) dX5_looks_143 (ma_are hM) rfl ((hT k hk s (Or.inl hs)).ix c_127) ((hT k hk s (Or.inl hs)).lt c_127) (congrFun hE.a300 ((f (b + 10 * k + s)).toNatClampNeg)) ?_
        refine zt_iload (pc := 144) dX5_looks_144 rfl ?_
        refine zt_ishr (pc := 146) dX5_looks_146 ?_
        refine zt_iconst (pc := 147) dX5_looks_147 (v := 1) rfl ?_
        refine zt_iand (pc := 148) dX5_looks_148 ?_
        refine zt_iload (pc := 149) dX5_looks_149 rfl ?_
        refine wt_callS (pc := 151) mX5_flag 1 (rc' := 0) (rs' := 0) dX5_looks_151 q1250 ms_X5_flag (tm_flag so hso) rfl rfl rfl rfl rfl rfl ?_
        refine zt_icmp_eq (pc := 154) 161 dX5_looks_154 (by decide) (fun c_154 => ?_) (fun c_154 => ?_)
        · refine zt_iconst (pc := 161) dX5_looks_161 (v := 0) rfl ?_
          refine zt_top (pc := 162) (bI (¬ f (b + 10 * k + s) = -4 ∧ ¬ C 300 (f (b + 10 * k + s)).toNatClampNeg >>> (t &&& 31) &&& 1 = so)) ((bI_f (fun z => z.2 c_154)).symm) ?_
          refine wt_callV (pc := 162) mX5_proudLooks 4 5 (rc' := 0) (rs' := 0) dX5_looks_162 q1253 mi_X5_proudLooks rfl rfl (ms_o hM) (tm_proudLooks hM hC hE (b + 10 * k) s (by omega) hs _ _) rfl rfl rfl rfl rfl rfl ?_
          refine zt_goto (pc := 165) 274 dX5_looks_165 (by decide) ?_
          refine zt_drop (L' := [some (.ref 289), some (.int (nI b)), some (.int (nI k)), some (.int (nI s)), some (.int t), some (.int so), some (.int (nI (b + 10 * k))), some (.int (s_unl C f (b + 10 * k) k s (s_all C f b s &&& s_can C k))), none]) 8 rfl ?_
          refine zt_S (congrArg (zs S 302) (show _ = s_look1 C f (b + 10 * k) k s (s_unl C f (b + 10 * k) k s (s_all C f b s &&& s_can C k)) t so from (if_pos c_107).symm)) ?_
          exact tm_looks_tail hM b k s hb hk hs t so _
        · refine zt_iconst (pc := 157) dX5_looks_157 (v := 1) rfl ?_
          refine zt_goto (pc := 158) 162 dX5_looks_158 (by decide) ?_
          refine zt_top (pc := 162) (bI (¬ f (b + 10 * k + s) = -4 ∧ ¬ C 300 (f (b + 10 * k + s)).toNatClampNeg >>> (t &&& 31) &&& 1 = so)) ((bI_t ⟨c_127, c_154⟩).symm) ?_
          refine wt_callV (pc := 162) mX5_proudLooks 4 5 (rc' := 0) (rs' := 0) dX5_looks_162 q1253 mi_X5_proudLooks rfl rfl (ms_o hM) (tm_proudLooks hM hC hE (b + 10 * k) s (by omega) hs _ _) rfl rfl rfl rfl rfl rfl ?_
          refine zt_goto (pc := 165) 274 dX5_looks_165 (by decide) ?_
          refine zt_drop (L' := [some (.ref 289), some (.int (nI b)), some (.int (nI k)), some (.int (nI s)), some (.int t), some (.int so), some (.int (nI (b + 10 * k))), some (.int (s_unl C f (b + 10 * k) k s (s_all C f b s &&& s_can C k))), none]) 8 rfl ?_
          refine zt_S (congrArg (zs S 302) (show _ = s_look1 C f (b + 10 * k) k s (s_unl C f (b + 10 * k) k s (s_all C f b s &&& s_can C k)) t so from (if_pos c_107).symm)) ?_
          exact tm_looks_tail hM b k s hb hk hs t so _
  · show Zt _ _ _ _ _ _ (zW h (zs S 302 f)) 25 [some (.ref 289), some (.int (nI b)), some (.int (nI k)), some (.int (nI s)), some (.int t), some (.int so), some (.int (nI (b + 10 * k))), some (.int (itr (s_unlF C f (b + 10 * k) k s) (s_all C f b s &&& s_can C k) q)), some (.int (nI q))] []
    refine zt_iload (pc := 25) dX5_looks_25 rfl ?_
    refine zt_aload_n (pc := 27) dX5_looks_27 rfl rfl ?_
    refine wt_getI (pc := 28) 5 5 (v := nI (cS C)) dX5_looks_28 q1277 rfl (ms_o hM) (hE.s hC) ?_
    refine zt_geN (a := q) (b := cS C) (pc := 31) 98 dX5_looks_31 (by decide) (by omega) (by omega) (fun c_31 => absurd hi_q (Nat.not_lt.mpr c_31)) (fun c_31 => ?_)
    refine zt_iload (pc := 34) dX5_looks_34 rfl ?_
    refine zt_aload_n (pc := 36) dX5_looks_36 rfl rfl ?_
    refine wt_getR (pc := 37) 5 8 dX5_looks_37 q1280 rfl (ms_o hM) (mr_kind hM) ?_
    refine zt_iconst (pc := 40) dX5_looks_40 (v := 5) rfl ?_
    refine zt_iload_n (pc := 41) dX5_looks_41 rfl rfl ?_
    refine zt_imulN (pc := 42) (a := 5) (b := k) dX5_looks_42 ?_
    refine zt_iconst (pc := 43) dX5_looks_43 (v := 3) rfl ?_
    refine zt_iaddN (pc := 44) (a := 5 * k) (b := 3) dX5_looks_44 ?_
    refine wt_iald (pc := 45) 30 ((5 * k) + 3) (v := C 294 ((5 * k) + 3)) dX5_looks_45 (ma_kind hM) rfl rfl (by omega) (congrFun hE.a294 ((5 * k) + 3)) ?_
    refine zt_iconst (pc := 46) dX5_looks_46 (v := 1) rfl ?_
    refine zt_icmp_ne (pc := 47) 88 dX5_looks_47 (by decide) (fun c_47 => ?_) (fun c_47 => ?_)
    · refine zt_iconst (pc := 88) dX5_looks_88 (v := (-1)) rfl ?_
      refine zt_iand (pc := 89) dX5_looks_89 ?_
      refine zt_top (pc := 90) (itr (s_unlF C f (b + 10 * k) k s) (s_all C f b s &&& s_can C k) (q + 1)) (show _ = s_unlF C f (b + 10 * k) k s q _ from congrArg _ (if_neg (fun z => c_47 z.1)).symm) ?_
      refine zt_istore (pc := 90) (L' := [some (.ref 289), some (.int (nI b)), some (.int (nI k)), some (.int (nI s)), some (.int t), some (.int so), some (.int (nI (b + 10 * k))), some (.int (itr (s_unlF C f (b + 10 * k) k s) (s_all C f b s &&& s_can C k) (q + 1))), some (.int (nI q))]) dX5_looks_90 (by decide) rfl rfl ?_
      refine zt_iincN (pc := 92) (b := q + 1) (L' := [some (.ref 289), some (.int (nI b)), some (.int (nI k)), some (.int (nI s)), some (.int t), some (.int so), some (.int (nI (b + 10 * k))), some (.int (itr (s_unlF C f (b + 10 * k) k s) (s_all C f b s &&& s_can C k) (q + 1))), some (.int (nI (q + 1)))]) dX5_looks_92 rfl (zinc1 q) (by decide) rfl rfl ?_
      refine zt_goto (pc := 95) 25 dX5_looks_95 (by decide) ?_
      exact ih_q
    · refine zt_iload (pc := 50) dX5_looks_50 rfl ?_
      refine zt_iload_n (pc := 52) dX5_looks_52 rfl rfl ?_
      refine zt_icmp_eq (pc := 53) 88 dX5_looks_53 (by decide) (fun c_53 => ?_) (fun c_53 => ?_)
      · refine zt_iconst (pc := 88) dX5_looks_88 (v := (-1)) rfl ?_
        refine zt_iand (pc := 89) dX5_looks_89 ?_
        refine zt_top (pc := 90) (itr (s_unlF C f (b + 10 * k) k s) (s_all C f b s &&& s_can C k) (q + 1)) (show _ = s_unlF C f (b + 10 * k) k s q _ from congrArg _ (if_neg (fun z => z.2.1 c_53)).symm) ?_
        refine zt_istore (pc := 90) (L' := [some (.ref 289), some (.int (nI b)), some (.int (nI k)), some (.int (nI s)), some (.int t), some (.int so), some (.int (nI (b + 10 * k))), some (.int (itr (s_unlF C f (b + 10 * k) k s) (s_all C f b s &&& s_can C k) (q + 1))), some (.int (nI q))]) dX5_looks_90 (by decide) rfl rfl ?_
        refine zt_iincN (pc := 92) (b := q + 1) (L' := [some (.ref 289), some (.int (nI b)), some (.int (nI k)), some (.int (nI s)), some (.int t), some (.int so), some (.int (nI (b + 10 * k))), some (.int (itr (s_unlF C f (b + 10 * k) k s) (s_all C f b s &&& s_can C k) (q + 1))), some (.int (nI (q + 1)))]) dX5_looks_92 rfl (zinc1 q) (by decide) rfl rfl ?_
        refine zt_goto (pc := 95) 25 dX5_looks_95 (by decide) ?_
        exact ih_q
      · refine zt_aload_n (pc := 56) dX5_looks_56 rfl rfl ?_
        refine wt_getR (pc := 57) 5 27 dX5_looks_57 q1299 rfl (ms_o hM) (mr_st hM) ?_
        refine zt_iload (pc := 60) dX5_looks_60 rfl ?_
        refine zt_iload (pc := 62) dX5_looks_62 rfl ?_
        refine zt_iaddN (pc := 64) (a := b + 10 * k) (b := q) dX5_looks_64 ?_
        refine wt_iald (pc := 65) 210 ((b + 10 * k) + q) (v := f ((b + 10 * k) + q)) dX5_looks_65 (ma_st hM) rfl rfl (by omega) rfl ?_
        refine zt_bipush (pc := 66) dX5_looks_66 (v := (-4)) rfl ?_
        refine zt_icmp_eq (pc := 68) 88 dX5_looks_68 (by decide) (fun c_68 => ?_) (fun c_68 => ?_)
        · refine zt_iconst (pc := 88) dX5_looks_88 (v := (-1)) rfl ?_
          refine zt_iand (pc := 89) dX5_looks_89 ?_
          refine zt_top (pc := 90) (itr (s_unlF C f (b + 10 * k) k s) (s_all C f b s &&& s_can C k) (q + 1)) (show _ = s_unlF C f (b + 10 * k) k s q _ from congrArg _ (if_neg (fun z => z.2.2 c_68)).symm) ?_
          refine zt_istore (pc := 90) (L' := [some (.ref 289), some (.int (nI b)), some (.int (nI k)), some (.int (nI s)), some (.int t), some (.int so), some (.int (nI (b + 10 * k))), some (.int (itr (s_unlF C f (b + 10 * k) k s) (s_all C f b s &&& s_can C k) (q + 1))), some (.int (nI q))]) dX5_looks_90 (by decide) rfl rfl ?_
          refine zt_iincN (pc := 92) (b := q + 1) (L' := [some (.ref 289), some (.int (nI b)), some (.int (nI k)), some (.int (nI s)), some (.int t), some (.int so), some (.int (nI (b + 10 * k))), some (.int (itr (s_unlF C f (b + 10 * k) k s) (s_all C f b s &&& s_can C k) (q + 1))), some (.int (nI (q + 1)))]) dX5_looks_92 rfl (zinc1 q) (by decide) rfl rfl ?_
          refine zt_goto (pc := 95) 25 dX5_looks_95 (by decide) ?_
          exact ih_q
        · refine zt_iconst (pc := 71) dX5_looks_71 (v := 1) rfl ?_
          refine zt_aload_n (pc := 72) dX5_looks_72 rfl rfl ?_
          refine wt_getR (pc := 73) 5 27 dX5_looks_73 q1299 rfl (ms_o hM) (mr_st hM) ?_
          refine zt_iload (pc := 76) dX5_looks_76 rfl ?_
          refine zt_iload (pc := 78) dX5_looks_78 rfl ?_
          refine zt_iaddN (pc := 80) (a := b + 10 * k) (b := q) dX5_looks_80 ?_
          refine wt_iald (pc := 81) 210 ((b + 10 * k) + q) (v := f ((b + 10 * k) + q)) dX5_looks_81 (ma_st hM) rfl rfl (by omega) rfl ?_
          refine zt_ishl (pc := 82) dX5_looks_82 ?_
          refine zt_iconst (pc := 83) dX5_looks_83 (v := (-1)) rfl ?_
          refine zt_ixor (pc := 84) dX5_looks_84 ?_
          refine zt_goto (pc := 85) 89 dX5_looks_85 (by decide) ?_
          refine zt_iand (pc := 89) dX5_looks_89 ?_
          refine zt_top (pc := 90) (itr (s_unlF C f (b + 10 * k) k s) (s_all C f b s &&& s_can C k) (q + 1)) (show _ = s_unlF C f (b + 10 * k) k s q _ from congrArg _ (if_pos ⟨c_47, c_53, c_68⟩).symm) ?_
          refine zt_istore (pc := 90) (L' := [some (.ref 289), some (.int (nI b)), some (.int (nI k)), some (.int (nI s)), some (.int t), some (.int so), some (.int (nI (b + 10 * k))), some (.int (itr (s_unlF C f (b + 10 * k) k s) (s_all C f b s &&& s_can C k) (q + 1))), some (.int (nI q))]) dX5_looks_90 (by decide) rfl rfl ?_
          refine zt_iincN (pc := 92) (b := q + 1) (L' := [some (.ref 289), some (.int (nI b)), some (.int (nI k)), some (.int (nI s)), some (.int t), some (.int so), some (.int (nI (b + 10 * k))), some (.int (itr (s_unlF C f (b + 10 * k) k s) (s_all C f b s &&& s_can C k) (q + 1))), some (.int (nI (q + 1)))]) dX5_looks_92 rfl (zinc1 q) (by decide) rfl rfl ?_
          refine zt_goto (pc := 95) 25 dX5_looks_95 (by decide) ?_
          exact ih_q

theorem upd_at (f : Nat → Int32) (k : Nat) (v : Int32) : upd f k v k = v := if_pos rfl
theorem upd_ne {f : Nat → Int32} {k j : Nat} {v : Int32} (h : j ≠ k) : upd f k v j = f j := if_neg h
theorem TK.updV {b p : Nat} {v : Int32} (h : TK f b) (hv : tk v) : TK (upd f p v) b := by
  intro k hk s hs
  by_cases e : b + 10 * k + s = p
  · rw [e, upd_at]; exact hv
  · rw [upd_ne e]; exact h k hk s hs
theorem TK.updN {b p : Nat} {v : Int32} (h : TK f b) (hp : ∀ k, k < 6 → ∀ s, (s < 4 ∨ s = 8) → b + 10 * k + s ≠ p) : TK (upd f p v) b := by
  intro k hk s hs
  rw [upd_ne (hp k hk s hs)]; exact h k hk s hs
/-- nothing outside the state at b changes -/
def Out (b : Nat) (f f' : Nat → Int32) : Prop := ∀ j, (j < b ∨ b + 70 ≤ j) → f' j = f j
theorem Out.rf {b : Nat} : Out b f f := fun _ _ => rfl
theorem Out.upd {b p : Nat} {v : Int32} {f' : Nat → Int32} (h : Out b f f') (hp : b ≤ p ∧ p < b + 70) : Out b f (upd f' p v) := by
  intro j hj
  rw [upd_ne (by omega)]; exact h j hj
theorem tk_m4 : tk (-4) := Or.inl rfl
theorem pl_tkC (hC : CI C) {x : Int32} : tk (s_pl C x) := pl_tk12 hC (Nat.le_refl _)
theorem flee_ok {b k : Nat} {i : Int32} (hk : k < 6) : (TK f b → TK (s_flee f (b + 10 * k) i) b) ∧ Out b f (s_flee f (b + 10 * k) i) := by
  have key : ∀ n, n ≤ 4 → (TK f b → TK (itr (s_fleeF (b + 10 * k)) (upd f (b + 10 * k + 9) i) n) b) ∧ Out b f (itr (s_fleeF (b + 10 * k)) (upd f (b + 10 * k + 9) i) n) := by
    intro n
    induction n with
    | zero => intro _; exact ⟨fun h => h.updN (fun k' _ s' _ => by omega), Out.rf.upd (by omega)⟩
    | succ n ih =>
      intro hn
      obtain ⟨h1, h2⟩ := ih (by omega)
      exact ⟨fun h => ((h1 h).updV tk_m4).updN (fun k' _ s' _ => by omega), (h2.upd (by omega)).upd (by omega)⟩
  exact key 4 (Nat.le_refl _)
theorem proud_ok {b k s : Nat} {x ag : Int32} (hC : CI C) (hk : k < 6) (hs : s < 4) : (TK f b → TK (s_proud C f (b + 10 * k) s x ag) b) ∧ Out b f (s_proud C f (b + 10 * k) s x ag) := by
  unfold s_proud
  split
  · exact ⟨fun h => (h.updV (pl_tkC hC)).updN (fun k' _ s' _ => by omega), (Out.rf.upd (by omega)).upd (by omega)⟩
  · split
    · split
      · exact ⟨fun h => ((h.updN (fun k' _ s' _ => by omega)).updV (pl_tkC hC)).updN (fun k' _ s' _ => by omega), ((Out.rf.upd (by omega)).upd (by omega)).upd (by omega)⟩
      · exact ⟨fun h => h.updN (fun k' _ s' _ => by omega), Out.rf.upd (by omega)⟩
    · exact ⟨fun h => h, Out.rf⟩
theorem look1_ok {b k s : Nat} {x t so : Int32} (hC : CI C) (hk : k < 6) (hs : s < 4) (h : TK f b) : TK (s_look1 C f (b + 10 * k) k s x t so) b ∧ Out b f (s_look1 C f (b + 10 * k) k s x t so) := by
  unfold s_look1
  split
  · obtain ⟨h1, h2⟩ := proud_ok (f := f) (b := b) (x := x) (ag := bI (¬ f (b + 10 * k + s) = -4 ∧ ¬ C 300 (f (b + 10 * k + s)).toNatClampNeg >>> (t &&& 31) &&& 1 = so)) hC hk hs
    exact ⟨h1 h, h2⟩
  · split
    · refine ⟨h.updV ?_, Out.rf.upd (by omega)⟩
      split
      · exact tk_m4
      · exact pl_tkC hC
    · refine ⟨h.updV ?_, Out.rf.upd (by omega)⟩
      split
      · exact h k hk 8 (Or.inr rfl)
      · exact pl_tkC hC
theorem looks_ok {b k s : Nat} {t so : Int32} (hC : CI C) (hk : k < 6) (hs : s < 4) (h : TK f b) : TK (s_looks C f b k s t so) b ∧ Out b f (s_looks C f b k s t so) := by
  obtain ⟨h1, h2⟩ := look1_ok (x := s_unl C f (b + 10 * k) k s (s_all C f b s &&& s_can C k)) (t := t) (so := so) hC hk hs h
  unfold s_looks s_lasts
  refine ⟨h1.updV ?_, h2.upd (by omega)⟩
  split
  · exact h1 k hk 8 (Or.inr rfl)
  · exact h1 k hk s (Or.inl hs)
theorem see0_ok {b s : Nat} {t so : Int32} (hs : s < 4) : (TK f b → TK (s_see0 f b s t so) b) ∧ Out b f (s_see0 f b s t so) :=
  ⟨fun h => (h.updN (fun k' _ s' _ => by omega)).updN (fun k' _ s' _ => by omega), (Out.rf.upd (by omega)).upd (by omega)⟩
theorem Out.trans {b : Nat} {f1 f2 f3 : Nat → Int32} (h1 : Out b f1 f2) (h2 : Out b f2 f3) : Out b f1 f3 := fun j hj => (h2 j hj).trans (h1 j hj)
theorem seeF_ok {b k s : Nat} {i t so : Int32} (hC : CI C) (hk : k < 6) (hs : s < 4) (h : TK f b) : TK (s_seeF C b i s t so k f) b ∧ Out b f (s_seeF C b i s t so k f) := by
  unfold s_seeF
  split
  · split
    · exact ⟨(flee_ok hk).1 h, (flee_ok hk).2⟩
    · exact looks_ok hC hk hs h
  · exact ⟨h, Out.rf⟩
theorem sees_ok {b s : Nat} {i t so : Int32} (hC : CI C) (hs : s < 4) (h : TK f b) : ∀ n, n ≤ cK C → TK (itr (s_seeF C b i s t so) (s_see0 f b s t so) n) b ∧ Out b f (itr (s_seeF C b i s t so) (s_see0 f b s t so) n)
  | 0, _ => ⟨(see0_ok hs).1 h, (see0_ok hs).2⟩
  | n + 1, hn => by
    obtain ⟨h1, h2⟩ := sees_ok hC hs h n (by omega)
    have := hC.k6
    obtain ⟨h3, h4⟩ := seeF_ok (i := i) (t := t) (so := so) hC (show n < 6 by omega) hs h1
    exact ⟨h3, h2.trans h4⟩
theorem wakes_ok {b : Nat} : (∀ n, n ≤ 70 → Out b f (itr (s_wakeF b) f n)) ∧ TK (s_wakes f b) b := by
  have key : ∀ n, n ≤ 70 → Out b f (itr (s_wakeF b) f n) ∧ ∀ i, i < n → itr (s_wakeF b) f n (b + i) = if i < 60 ∧ ¬ (4 ≤ i % 10 ∧ i % 10 ≤ 7) then -4 else 0 := by
    intro n
    induction n with
    | zero => intro _; exact ⟨Out.rf, fun i hi => by omega⟩
    | succ n ih =>
      intro hn
      obtain ⟨h1, h2⟩ := ih (by omega)
      refine ⟨h1.upd (by omega), fun i hi => ?_⟩
      show upd _ (b + n) _ (b + i) = _
      by_cases e : i = n
      · rw [e, upd_at]
      · rw [upd_ne (by omega)]; exact h2 i (by omega)
  refine ⟨fun n hn => (key n hn).1, fun k hk s hs => ?_⟩
  have := (key 70 (Nat.le_refl _)).2 (10 * k + s) (by omega)
  rw [← Nat.add_assoc] at this
  show tk (itr (s_wakeF b) f 70 (b + 10 * k + s))
  rw [this]
  split
  · exact tk_m4
  · exact Or.inr ⟨0, by decide, rfl⟩
theorem tm_sees (hM : MS h.2.1 h.2.2.2) (hC : CI C) (hE : CE S C) (b s : Nat) (hb : b ≤ 140) (hs : s < 4) (i t so : Int32) (hso : so = 0 ∨ so = 1) (hT : TK f b) : Zd g mX5_sees 6 0 0 [.ref 289, .int (nI b), .int i, .int (nI s), .int t, .int so] (zW h (zs S 302 f)) none (zW h (zs S 302 (s_sees C f b i s t so))) := by
  refine zc_of [some (.ref 289), some (.int (nI b)), some (.int i), some (.int (nI s)), some (.int t), some (.int so), none, none] rfl (Nat.le_of_ble_eq_true rfl) rfl ?_
  have hk6 := hC.k6
  refine zt_aload_n (pc := 0) dX5_sees_0 rfl rfl ?_
  refine wt_getR (pc := 1) 5 27 dX5_sees_1 q1299 rfl (ms_o hM) (mr_st hM) ?_
  refine zt_iload_n (pc := 4) dX5_sees_4 rfl rfl ?_
  refine zt_bipush (pc := 5) dX5_sees_5 (v := 60) rfl ?_
  refine zt_iaddN (pc := 7) (a := b) (b := 60) dX5_sees_7 ?_
  refine zt_iload_n (pc := 8) dX5_sees_8 rfl rfl ?_
  refine zt_iaddN (pc := 9) (a := b + 60) (b := s) dX5_sees_9 ?_
  refine zt_dup2 (pc := 10) dX5_sees_10 rfl rfl ?_
  refine wt_iald (pc := 11) 210 ((b + 60) + s) (v := f ((b + 60) + s)) dX5_sees_11 (ma_st hM) rfl rfl (by omega) rfl ?_
  refine zt_iload (pc := 12) dX5_sees_12 rfl ?_
  refine zt_if_eq (pc := 14) 24 dX5_sees_14 (by decide) (fun c_14 => ?_) (fun c_14 => ?_)
  · refine zt_iconst (pc := 24) dX5_sees_24 (v := 0) rfl ?_
    refine zt_ior (pc := 25) dX5_sees_25 ?_
    refine zt_top (pc := 26) (f (b + 60 + s) ||| (if so = 0 then (0 : Int32) else 1 <<< (t &&& 31))) (congrArg _ (if_pos c_14).symm) ?_
    refine wt_iastS (pc := 26) 210 ((b + 60) + s) dX5_sees_26 (ma_st hM) rfl rfl (by omega) ?_
    refine zt_aload_n (pc := 27) dX5_sees_27 rfl rfl ?_
    refine wt_getR (pc := 28) 5 27 dX5_sees_28 q1299 rfl (ms_o hM) (mr_st hM) ?_
    refine zt_iload_n (pc := 31) dX5_sees_31 rfl rfl ?_
    refine zt_bipush (pc := 32) dX5_sees_32 (v := 64) rfl ?_
    refine zt_iaddN (pc := 34) (a := b) (b := 64) dX5_sees_34 ?_
    refine zt_iload_n (pc := 35) dX5_sees_35 rfl rfl ?_
    refine zt_iaddN (pc := 36) (a := b + 64) (b := s) dX5_sees_36 ?_
    refine zt_dup2 (pc := 37) dX5_sees_37 rfl rfl ?_
    refine wt_iald (pc := 38) 210 ((b + 64) + s) (v := (upd f ((b + 60) + s) (f (b + 60 + s) ||| (if so = 0 then (0 : Int32) else 1 <<< (t &&& 31)))) ((b + 64) + s)) dX5_sees_38 (ma_st hM) rfl rfl (by omega) rfl ?_
    refine zt_iload (pc := 39) dX5_sees_39 rfl ?_
    refine zt_if_eq (pc := 41) 48 dX5_sees_41 (by decide) (fun c_41 => ?_) (fun c_41 => absurd c_14 c_41)
    refine zt_iconst (pc := 48) dX5_sees_48 (v := 1) rfl ?_
    refine zt_iload (pc := 49) dX5_sees_49 rfl ?_
    refine zt_ishl (pc := 51) dX5_sees_51 ?_
    refine zt_ior (pc := 52) dX5_sees_52 ?_
    refine zt_top (pc := 53) (upd f (b + 60 + s) (f (b + 60 + s) ||| (if so = 0 then (0 : Int32) else 1 <<< (t &&& 31))) (b + 64 + s) ||| (if so = 0 then 1 <<< (t &&& 31) else (0 : Int32))) (congrArg _ (if_pos c_14).symm) ?_
    refine wt_iastS (pc := 53) 210 ((b + 64) + s) dX5_sees_53 (ma_st hM) rfl rfl (by omega) ?_
    refine zt_iconst (pc := 54) dX5_sees_54 (v := 0) rfl ?_
    refine zt_istore (pc := 55) (L' := [some (.ref 289), some (.int (nI b)), some (.int i), some (.int (nI s)), some (.int t), some (.int so), some (.int 0), none]) dX5_sees_55 (by decide) rfl rfl ?_
    refine zt_for (pc := 57) (fun k => zs S 302 (itr (s_seeF C b i s t so) (s_see0 f b s t so) k)) (fun k => [some (.ref 289), some (.int (nI b)), some (.int i), some (.int (nI s)), some (.int t), some (.int so), some (.int (nI k)), none]) (cK C) rfl rfl ?_ (fun k hi_k ih_k => ?_)
    · show Zt _ _ _ _ _ _ (zW h (zs S 302 (itr (s_seeF C b i s t so) (s_see0 f b s t so) (cK C)))) 57 [some (.ref 289), some (.int (nI b)), some (.int i), some (.int (nI s)), some (.int t), some (.int so), some (.int (nI (cK C))), none] []
      refine zt_iload (pc := 57) dX5_sees_57 rfl ?_
      refine zt_aload_n (pc := 59) dX5_sees_59 rfl rfl ?_
      refine wt_getI (pc := 60) 5 7 (v := nI (cK C)) dX5_sees_60 q1279 rfl (ms_o hM) (hE.k hC) ?_
      refine zt_geN (a := cK C) (b := cK C) (pc := 63) 134 dX5_sees_63 (by decide) (by omega) (by omega) (fun c_63 => ?_) (fun c_63 => absurd c_63 (Nat.lt_irrefl _))
      exact zt_return (pc := 134) dX5_sees_134 rfl (⟨rfl, rfl⟩)
    · show Zt _ _ _ _ _ _ (zW h (zs S 302 (itr (s_seeF C b i s t so) (s_see0 f b s t so) k))) 57 [some (.ref 289), some (.int (nI b)), some (.int i), some (.int (nI s)), some (.int t), some (.int so), some (.int (nI k)), none] []
      refine zt_iload (pc := 57) dX5_sees_57 rfl ?_
      refine zt_aload_n (pc := 59) dX5_sees_59 rfl rfl ?_
      refine wt_getI (pc := 60) 5 7 (v := nI (cK C)) dX5_sees_60 q1279 rfl (ms_o hM) (hE.k hC) ?_
      refine zt_geN (a := k) (b := cK C) (pc := 63) 134 dX5_sees_63 (by decide) (by omega) (by omega) (fun c_63 => absurd hi_k (Nat.not_lt.mpr c_63)) (fun c_63 => ?_)
      refine zt_iload_n (pc := 66) dX5_sees_66 rfl rfl ?_
      refine zt_bipush (pc := 67) dX5_sees_67 (v := 10) rfl ?_
      refine zt_iload (pc := 69) dX5_sees_69 rfl ?_
      refine zt_imulN (pc := 71) (a := 10) (b := k) dX5_sees_71 ?_
      refine zt_iaddN (pc := 72) (a := b) (b := 10 * k) dX5_sees_72 ?_
      refine zt_istore (pc := 73) (L' := [some (.ref 289), some (.int (nI b)), some (.int i), some (.int (nI s)), some (.int t), some (.int so), some (.int (nI k)), some (.int (nI (b + (10 * k))))]) dX5_sees_73 (by decide) rfl rfl ?_
      refine zt_aload_n (pc := 75) dX5_sees_75 rfl rfl ?_
      refine wt_getR (pc := 76) 5 27 dX5_sees_76 q1299 rfl (ms_o hM) (mr_st hM) ?_
      refine zt_iload (pc := 79) dX5_sees_79 rfl ?_
      refine zt_bipush (pc := 81) dX5_sees_81 (v := 9) rfl ?_
      refine zt_iaddN (pc := 83) (a := b + (10 * k)) (b := 9) dX5_sees_83 ?_
      refine wt_iald (pc := 84) 210 ((b + (10 * k)) + 9) (v := (itr (s_seeF C b i s t so) (s_see0 f b s t so) k) ((b + (10 * k)) + 9)) dX5_sees_84 (ma_st hM) rfl rfl (by omega) rfl ?_
      refine zt_bipush (pc := 85) dX5_sees_85 (v := (-4)) rfl ?_
      refine zt_icmp_ne (pc := 87) 128 dX5_sees_87 (by decide) (fun c_87 => ?_) (fun c_87 => ?_)
      · refine zt_S (congrArg (zs S 302) (show _ = s_seeF C b i s t so k _ from (if_neg c_87).symm)) ?_
        refine zt_drop (L' := [some (.ref 289), some (.int (nI b)), some (.int i), some (.int (nI s)), some (.int t), some (.int so), some (.int (nI k)), none]) 7 rfl ?_
        refine zt_iincN (pc := 128) (b := k + 1) (L' := [some (.ref 289), some (.int (nI b)), some (.int i), some (.int (nI s)), some (.int t), some (.int so), some (.int (nI (k + 1))), none]) dX5_sees_128 rfl (zinc1 k) (by decide) rfl rfl ?_
        refine zt_goto (pc := 131) 57 dX5_sees_131 (by decide) ?_
        exact ih_k
      · refine zt_aload_n (pc := 90) dX5_sees_90 rfl rfl ?_
        refine wt_getR (pc := 91) 5 8 dX5_sees_91 q1280 rfl (ms_o hM) (mr_kind hM) ?_
        refine zt_iconst (pc := 94) dX5_sees_94 (v := 5) rfl ?_
        refine zt_iload (pc := 95) dX5_sees_95 rfl ?_
        refine zt_imulN (pc := 97) (a := 5) (b := k) dX5_sees_97 ?_
        refine zt_iconst (pc := 98) dX5_sees_98 (v := 2) rfl ?_
        refine zt_iaddN (pc := 99) (a := 5 * k) (b := 2) dX5_sees_99 ?_
        refine wt_iald (pc := 100) 30 ((5 * k) + 2) (v := C 294 ((5 * k) + 2)) dX5_sees_100 (ma_kind hM) rfl rfl (by omega) (congrFun hE.a294 ((5 * k) + 2)) ?_
        refine zt_iload (pc := 101) dX5_sees_101 rfl ?_
        refine zt_icmp_ne (pc := 103) 116 dX5_sees_103 (by decide) (fun c_103 => ?_) (fun c_103 => ?_)
        · refine zt_aload_n (pc := 116) dX5_sees_116 rfl rfl ?_
          refine zt_iload_n (pc := 117) dX5_sees_117 rfl rfl ?_
          refine zt_iload (pc := 118) dX5_sees_118 rfl ?_
          refine zt_iload_n (pc := 120) dX5_sees_120 rfl rfl ?_
          refine zt_iload (pc := 121) dX5_sees_121 rfl ?_
          refine zt_iload (pc := 123) dX5_sees_123 rfl ?_
          refine wt_callV (pc := 125) mX5_looks 5 5 (rc' := 0) (rs' := 0) dX5_sees_125 q1234 mi_X5_looks rfl rfl (ms_o hM) (tm_looks hM hC hE b k s hb (by omega) hs t so hso (sees_ok hC hs hT k (by omega)).1) rfl rfl rfl rfl rfl rfl ?_
          refine zt_S (congrArg (zs S 302) (show _ = s_seeF C b i s t so k _ from ((if_pos c_87).trans (if_neg c_103)).symm)) ?_
          refine zt_drop (L' := [some (.ref 289), some (.int (nI b)), some (.int i), some (.int (nI s)), some (.int t), some (.int so), some (.int (nI k)), none]) 7 rfl ?_
          refine zt_iincN (pc := 128) (b := k + 1) (L' := [some (.ref 289), some (.int (nI b)), some (.int i), some (.int (nI s)), some (.int t), some (.int so), some (.int (nI (k + 1))), none]) dX5_sees_128 rfl (zinc1 k) (by decide) rfl rfl ?_
          refine zt_goto (pc := 131) 57 dX5_sees_131 (by decide) ?_
          exact ih_k
        · refine zt_aload_n (pc := 106) dX5_sees_106 rfl rfl ?_
          refine zt_iload (pc := 107) dX5_sees_107 rfl ?_
          refine zt_iload_n (pc := 109) dX5_sees_109 rfl rfl ?_
          refine wt_callV (pc := 110) mX5_flees 2 5 (rc' := 0) (rs' := 0) dX5_sees_110 q1230 mi_X5_flees rfl rfl (ms_o hM) (tm_flees hM (b + 10 * k) (by omega) i) rfl rfl rfl rfl rfl rfl ?_
          refine zt_goto (pc := 113) 128 dX5_sees_113 (by decide) ?_
          refine zt_S (congrArg (zs S 302) (show _ = s_seeF C b i s t so k _ from ((if_pos c_87).trans (if_pos c_103)).symm)) ?_
          refine zt_drop (L' := [some (.ref 289), some (.int (nI b)), some (.int i), some (.int (nI s)), some (.int t), some (.int so), some (.int (nI k)), none]) 7 rfl ?_
          refine zt_iincN (pc := 128) (b := k + 1) (L' := [some (.ref 289), some (.int (nI b)), some (.int i), some (.int (nI s)), some (.int t), some (.int so), some (.int (nI (k + 1))), none]) dX5_sees_128 rfl (zinc1 k) (by decide) rfl rfl ?_
          refine zt_goto (pc := 131) 57 dX5_sees_131 (by decide) ?_
          exact ih_k
  · refine zt_iconst (pc := 17) dX5_sees_17 (v := 1) rfl ?_
    refine zt_iload (pc := 18) dX5_sees_18 rfl ?_
    refine zt_ishl (pc := 20) dX5_sees_20 ?_
    refine zt_goto (pc := 21) 25 dX5_sees_21 (by decide) ?_
    refine zt_ior (pc := 25) dX5_sees_25 ?_
    refine zt_top (pc := 26) (f (b + 60 + s) ||| (if so = 0 then (0 : Int32) else 1 <<< (t &&& 31))) (congrArg _ (if_neg c_14).symm) ?_
    refine wt_iastS (pc := 26) 210 ((b + 60) + s) dX5_sees_26 (ma_st hM) rfl rfl (by omega) ?_
    refine zt_aload_n (pc := 27) dX5_sees_27 rfl rfl ?_
    refine wt_getR (pc := 28) 5 27 dX5_sees_28 q1299 rfl (ms_o hM) (mr_st hM) ?_
    refine zt_iload_n (pc := 31) dX5_sees_31 rfl rfl ?_
    refine zt_bipush (pc := 32) dX5_sees_32 (v := 64) rfl ?_
    refine zt_iaddN (pc := 34) (a := b) (b := 64) dX5_sees_34 ?_
    refine zt_iload_n (pc := 35) dX5_sees_35 rfl rfl ?_
    refine zt_iaddN (pc := 36) (a := b + 64) (b := s) dX5_sees_36 ?_
    refine zt_dup2 (pc := 37) dX5_sees_37 rfl rfl ?_
    refine wt_iald (pc := 38) 210 ((b + 64) + s) (v := (upd f ((b + 60) + s) (f (b + 60 + s) ||| (if so = 0 then (0 : Int32) else 1 <<< (t &&& 31)))) ((b + 64) + s)) dX5_sees_38 (ma_st hM) rfl rfl (by omega) rfl ?_
    refine zt_iload (pc := 39) dX5_sees_39 rfl ?_
    refine zt_if_eq (pc := 41) 48 dX5_sees_41 (by decide) (fun c_41 => absurd c_41 c_14) (fun c_41 => ?_)
    refine zt_iconst (pc := 44) dX5_sees_44 (v := 0) rfl ?_
    refine zt_goto (pc := 45) 52 dX5_sees_45 (by decide) ?_
    refine zt_ior (pc := 52) dX5_sees_52 ?_
    refine zt_top (pc := 53) (upd f (b + 60 + s) (f (b + 60 + s) ||| (if so = 0 then (0 : Int32) else 1 <<< (t &&& 31))) (b + 64 + s) ||| (if so = 0 then 1 <<< (t &&& 31) else (0 : Int32))) (congrArg _ (if_neg c_14).symm) ?_
    refine wt_iastS (pc := 53) 210 ((b + 64) + s) dX5_sees_53 (ma_st hM) rfl rfl (by omega) ?_
    refine zt_iconst (pc := 54) dX5_sees_54 (v := 0) rfl ?_
    refine zt_istore (pc := 55) (L' := [some (.ref 289), some (.int (nI b)), some (.int i), some (.int (nI s)), some (.int t), some (.int so), some (.int 0), none]) dX5_sees_55 (by decide) rfl rfl ?_
    refine zt_for (pc := 57) (fun k => zs S 302 (itr (s_seeF C b i s t so) (s_see0 f b s t so) k)) (fun k => [some (.ref 289), some (.int (nI b)), some (.int i), some (.int (nI s)), some (.int t), some (.int so), some (.int (nI k)), none]) (cK C) rfl rfl ?_ (fun k hi_k ih_k => ?_)
    · show Zt _ _ _ _ _ _ (zW h (zs S 302 (itr (s_seeF C b i s t so) (s_see0 f b s t so) (cK C)))) 57 [some (.ref 289), some (.int (nI b)), some (.int i), some (.int (nI s)), some (.int t), some (.int so), some (.int (nI (cK C))), none] []
      refine zt_iload (pc := 57) dX5_sees_57 rfl ?_
      refine zt_aload_n (pc := 59) dX5_sees_59 rfl rfl ?_
      refine wt_getI (pc := 60) 5 7 (v := nI (cK C)) dX5_sees_60 q1279 rfl (ms_o hM) (hE.k hC) ?_
      refine zt_geN (a := cK C) (b := cK C) (pc := 63) 134 dX5_sees_63 (by decide) (by omega) (by omega) (fun c_63 => ?_) (fun c_63 => absurd c_63 (Nat.lt_irrefl _))
      exact zt_return (pc := 134) dX5_sees_134 rfl (⟨rfl, rfl⟩)
    · show Zt _ _ _ _ _ _ (zW h (zs S 302 (itr (s_seeF C b i s t so) (s_see0 f b s t so) k))) 57 [some (.ref 289), some (.int (nI b)), some (.int i), some (.int (nI s)), some (.int t), some (.int so), some (.int (nI k)), none] []
      refine zt_iload (pc := 57) dX5_sees_57 rfl ?_
      refine zt_aload_n (pc := 59) dX5_sees_59 rfl rfl ?_
      refine wt_getI (pc := 60) 5 7 (v := nI (cK C)) dX5_sees_60 q1279 rfl (ms_o hM) (hE.k hC) ?_
      refine zt_geN (a := k) (b := cK C) (pc := 63) 134 dX5_sees_63 (by decide) (by omega) (by omega) (fun c_63 => absurd hi_k (Nat.not_lt.mpr c_63)) (fun c_63 => ?_)
      refine zt_iload_n (pc := 66) dX5_sees_66 rfl rfl ?_
      refine zt_bipush (pc := 67) dX5_sees_67 (v := 10) rfl ?_
      refine zt_iload (pc := 69) dX5_sees_69 rfl ?_
      refine zt_imulN (pc := 71) (a := 10) (b := k) dX5_sees_71 ?_
      refine zt_iaddN (pc := 72) (a := b) (b := 10 * k) dX5_sees_72 ?_
      refine zt_istore (pc := 73) (L' := [some (.ref 289), some (.int (nI b)), some (.int i), some (.int (nI s)), some (.int t), some (.int so), some (.int (nI k)), some (.int (nI (b + (10 * k))))]) dX5_sees_73 (by decide) rfl rfl ?_
      refine zt_aload_n (pc := 75) dX5_sees_75 rfl rfl ?_
      refine wt_getR (pc := 76) 5 27 dX5_sees_76 q1299 rfl (ms_o hM) (mr_st hM) ?_
      refine zt_iload (pc := 79) dX5_sees_79 rfl ?_
      refine zt_bipush (pc := 81) dX5_sees_81 (v := 9) rfl ?_
      refine zt_iaddN (pc := 83) (a := b + (10 * k)) (b := 9) dX5_sees_83 ?_
      refine wt_iald (pc := 84) 210 ((b + (10 * k)) + 9) (v := (itr (s_seeF C b i s t so) (s_see0 f b s t so) k) ((b + (10 * k)) + 9)) dX5_sees_84 (ma_st hM) rfl rfl (by omega) rfl ?_
      refine zt_bipush (pc := 85) dX5_sees_85 (v := (-4)) rfl ?_
      refine zt_icmp_ne (pc := 87) 128 dX5_sees_87 (by decide) (fun c_87 => ?_) (fun c_87 => ?_)
      · refine zt_S (congrArg (zs S 302) (show _ = s_seeF C b i s t so k _ from (if_neg c_87).symm)) ?_
        refine zt_drop (L' := [some (.ref 289), some (.int (nI b)), some (.int i), some (.int (nI s)), some (.int t), some (.int so), some (.int (nI k)), none]) 7 rfl ?_
        refine zt_iincN (pc := 128) (b := k + 1) (L' := [some (.ref 289), some (.int (nI b)), some (.int i), some (.int (nI s)), some (.int t), some (.int so), some (.int (nI (k + 1))), none]) dX5_sees_128 rfl (zinc1 k) (by decide) rfl rfl ?_
        refine zt_goto (pc := 131) 57 dX5_sees_131 (by decide) ?_
        exact ih_k
      · refine zt_aload_n (pc := 90) dX5_sees_90 rfl rfl ?_
        refine wt_getR (pc := 91) 5 8 dX5_sees_91 q1280 rfl (ms_o hM) (mr_kind hM) ?_
        refine zt_iconst (pc := 94) dX5_sees_94 (v := 5) rfl ?_
        refine zt_iload (pc := 95) dX5_sees_95 rfl ?_
        refine zt_imulN (pc := 97) (a := 5) (b := k) dX5_sees_97 ?_
        refine zt_iconst (pc := 98) dX5_sees_98 (v := 2) rfl ?_
        refine zt_iaddN (pc := 99) (a := 5 * k) (b := 2) dX5_sees_99 ?_
        refine wt_iald (pc := 100) 30 ((5 * k) + 2) (v := C 294 ((5 * k) + 2)) dX5_sees_100 (ma_kind hM) rfl rfl (by omega) (congrFun hE.a294 ((5 * k) + 2)) ?_
        refine zt_iload (pc := 101) dX5_sees_101 rfl ?_
        refine zt_icmp_ne (pc := 103) 116 dX5_sees_103 (by decide) (fun c_103 => ?_) (fun c_103 => ?_)
        · refine zt_aload_n (pc := 116) dX5_sees_116 rfl rfl ?_
          refine zt_iload_n (pc := 117) dX5_sees_117 rfl rfl ?_
          refine zt_iload (pc := 118) dX5_sees_118 rfl ?_
          refine zt_iload_n (pc := 120) dX5_sees_120 rfl rfl ?_
          refine zt_iload (pc := 121) dX5_sees_121 rfl ?_
          refine zt_iload (pc := 123) dX5_sees_123 rfl ?_
          refine wt_callV (pc := 125) mX5_looks 5 5 (rc' := 0) (rs' := 0) dX5_sees_125 q1234 mi_X5_looks rfl rfl (ms_o hM) (tm_looks hM hC hE b k s hb (by omega) hs t so hso (sees_ok hC hs hT k (by omega)).1) rfl rfl rfl rfl rfl rfl ?_
          refine zt_S (congrArg (zs S 302) (show _ = s_seeF C b i s t so k _ from ((if_pos c_87).trans (if_neg c_103)).symm)) ?_
          refine zt_drop (L' := [some (.ref 289), some (.int (nI b)), some (.int i), some (.int (nI s)), some (.int t), some (.int so), some (.int (nI k)), none]) 7 rfl ?_
          refine zt_iincN (pc := 128) (b := k + 1) (L' := [some (.ref 289), some (.int (nI b)), some (.int i), some (.int (nI s)), some (.int t), some (.int so), some (.int (nI (k + 1))), none]) dX5_sees_128 rfl (zinc1 k) (by decide) rfl rfl ?_
          refine zt_goto (pc := 131) 57 dX5_sees_131 (by decide) ?_
          exact ih_k
        · refine zt_aload_n (pc := 106) dX5_sees_106 rfl rfl ?_
          refine zt_iload (pc := 107) dX5_sees_107 rfl ?_
          refine zt_iload_n (pc := 109) dX5_sees_109 rfl rfl ?_
          refine wt_callV (pc := 110) mX5_flees 2 5 (rc' := 0) (rs' := 0) dX5_sees_110 q1230 mi_X5_flees rfl rfl (ms_o hM) (tm_flees hM (b + 10 * k) (by omega) i) rfl rfl rfl rfl rfl rfl ?_
          refine zt_goto (pc := 113) 128 dX5_sees_113 (by decide) ?_
          refine zt_S (congrArg (zs S 302) (show _ = s_seeF C b i s t so k _ from ((if_pos c_87).trans (if_pos c_103)).symm)) ?_
          refine zt_drop (L' := [some (.ref 289), some (.int (nI b)), some (.int i), some (.int (nI s)), some (.int t), some (.int so), some (.int (nI k)), none]) 7 rfl ?_
          refine zt_iincN (pc := 128) (b := k + 1) (L' := [some (.ref 289), some (.int (nI b)), some (.int i), some (.int (nI s)), some (.int t), some (.int so), some (.int (nI (k + 1))), none]) dX5_sees_128 rfl (zinc1 k) (by decide) rfl rfl ?_
          refine zt_goto (pc := 131) 57 dX5_sees_131 (by decide) ?_
          exact ih_k

end M2