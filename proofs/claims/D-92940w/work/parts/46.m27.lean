/-! THE TWIN, part 27: orders of sounds -/
set_option maxRecDepth 100000
/-- showings for the sounds of a way from i on -/
def tkn (C : Nat → Nat → Int32) (x : Int32) (W : Nat → Int32) : Nat → Nat → Int32 → (Nat → Int32) → (Nat → Int32) → Int32 × (Nat → Int32) × (Nat → Int32)
  | 0, _, sum, f, r => (sum, f, r)
  | d + 1, i, sum, f, r => if (few C x (W i).toNatClampNeg 4 0 f r).1 = -4 then few C x (W i).toNatClampNeg 4 0 f r else tkn C x W d (i + 1) (sum + (few C x (W i).toNatClampNeg 4 0 f r).1) (s_copy (few C x (W i).toNatClampNeg 4 0 f r).2.1 140 70) (few C x (W i).toNatClampNeg 4 0 f r).2.2
def s_taken (C : Nat → Nat → Int32) (x : Int32) (W f r : Nat → Int32) : Int32 × (Nat → Int32) × (Nat → Int32) := tkn C x W (cS C) 0 0 (s_wakes f 140) r
def s_seenF (W : Nat → Int32) (i : Nat) (acc : Int32) : Int32 := acc ||| 1 <<< (W i &&& 31)
def s_unlike (C : Nat → Nat → Int32) (W : Nat → Int32) : Int32 := bI (s_countOf (itr (s_seenF W) 0 (cS C)) = nI (cS C))
theorem few_tk {C : Nat → Nat → Int32} {x : Int32} {s : Nat} (hC : CI C) (hs : s < 4) : ∀ d n f r, TK f 140 → ¬ (few C x s d n f r).1 = -4 → TK (few C x s d n f r).2.1 70
  | 0, _, _, _, _, h => absurd rfl h
  | d + 1, n, f, r, hT, h => by
    unfold few at h ⊢
    by_cases q : (fwE C x s n f r).2.2 = 0
    · rw [if_pos q] at h ⊢
      exact few_tk hC hs d (n + 1) _ _ (fw_tk hC hs hT _) h
    · rw [if_neg q]
      exact (tea_ok hC hs (fw_tk hC hs hT _) n).1
/-- ways of n sounds: all are sounds -/
def WI (C : Nat → Nat → Int32) (W : Nat → Int32) : Prop := ∀ i, i < cS C → ∃ j : Nat, j < cS C ∧ W i = nI j
section M27
variable {g : ZG} {h : ZH} {S A C X : Nat → Nat → Int32} {f r W B : Nat → Int32}
theorem tkn_loop (hM : MS h.2.1 h.2.2.2) (hC : CI C) (hE : CE S C) (x : Int32) (hW : S 305 = W) (hI : WI C W) : ∀ (d i : Nat) (_ : i + d = cS C) (sum : Int32) (f r : Nat → Int32) (_ : TK f 140), Zt g mX5_taken 9 0 0 (fun a h' => a = some (.int (tkn C x W d i sum f r).1) ∧ h' = zW h (zs (zs S 304 (tkn C x W d i sum f r).2.2) 302 (tkn C x W d i sum f r).2.1)) (zW h (zs (zs S 304 r) 302 f)) 11 [some (.ref 289), some (.int x), some (.int sum), some (.int (nI i)), none] []
  | 0, i, hd, sum, f, r, hT => by
    have hs4 := hC.s4
    refine zt_iload_n (pc := 11) dX5_taken_11 rfl rfl ?_
    refine zt_aload_n (pc := 12) dX5_taken_12 rfl rfl ?_
    refine wt_getI (pc := 13) 5 5 (v := nI (cS C)) dX5_taken_13 q1277 rfl (ms_o hM) (hE.s hC) ?_
    refine zt_geN (a := i) (b := cS C) (pc := 16) 63 dX5_taken_16 (by decide) (by omega) (by omega) (fun c_16 => ?_) (fun c_16 => absurd c_16 (by omega))
    refine zt_iload_n (pc := 63) dX5_taken_63 rfl rfl ?_
    exact zt_ireturn (pc := 64) dX5_taken_64 rfl (⟨rfl, rfl⟩)
  | d + 1, i, hd, sum, f, r, hT => by
    have hc4 := hC.s4
    obtain ⟨j, hj, ej⟩ := hI i (by omega)
    have hs4 : (W i).toNatClampNeg < 4 := by rw [ej, nI_clamp (by omega)]; omega
    have hWi : W i = nI (W i).toNatClampNeg := by rw [ej, nI_clamp (by omega)]
    refine zt_iload_n (pc := 11) dX5_taken_11 rfl rfl ?_
    refine zt_aload_n (pc := 12) dX5_taken_12 rfl rfl ?_
    refine wt_getI (pc := 13) 5 5 (v := nI (cS C)) dX5_taken_13 q1277 rfl (ms_o hM) (hE.s hC) ?_
    refine zt_geN (a := i) (b := cS C) (pc := 16) 63 dX5_taken_16 (by decide) (by omega) (by omega) (fun c_16 => absurd c_16 (by omega)) (fun c_16 => ?_)
    refine zt_aload_n (pc := 19) dX5_taken_19 rfl rfl ?_
    refine zt_iload_n (pc := 20) dX5_taken_20 rfl rfl ?_
    refine zt_aload_n (pc := 21) dX5_taken_21 rfl rfl ?_
    refine wt_getR (pc := 22) 5 31 dX5_taken_22 q1303 rfl (ms_o hM) (mr_way hM) ?_
    refine zt_iload_n (pc := 25) dX5_taken_25 rfl rfl ?_
    refine wt_iald (pc := 26) 4 i (v := W i) dX5_taken_26 (ma_way hM) rfl rfl (by omega) (congrFun hW i) ?_
    refine zt_iconst (pc := 27) dX5_taken_27 (v := 3) rfl ?_
    refine wt_callV (pc := 28) mX5_fewest 3 5 (rc' := 0) (rs' := 0) dX5_taken_28 q1589 mi_X5_fewest rfl rfl (ms_o hM) (by have e0 := tm_fewest (g := g) (r := r) hM hC hE x (W i).toNatClampNeg hs4 3 (by decide) hT; rw [← hWi] at e0; exact e0) rfl rfl rfl rfl rfl rfl ?_
    refine zt_istore (pc := 31) (L' := [some (.ref 289), some (.int x), some (.int sum), some (.int (nI i)), some (.int ((few C x (W i).toNatClampNeg 4 0 f r).1))]) dX5_taken_31 (by decide) rfl rfl ?_
    refine zt_iload (pc := 33) dX5_taken_33 rfl ?_
    refine zt_bipush (pc := 35) dX5_taken_35 (v := (-4)) rfl ?_
    refine zt_icmp_ne (pc := 37) 43 dX5_taken_37 (by decide) (fun c_37 => ?_) (fun c_37 => ?_)
    · refine zt_iload_n (pc := 43) dX5_taken_43 rfl rfl ?_
      refine zt_iload (pc := 44) dX5_taken_44 rfl ?_
      refine zt_iadd (pc := 46) dX5_taken_46 ?_
      refine zt_istore_n (pc := 47) (L' := [some (.ref 289), some (.int x), some (.int (sum + ((few C x (W i).toNatClampNeg 4 0 f r).1))), some (.int (nI i)), some (.int ((few C x (W i).toNatClampNeg 4 0 f r).1))]) dX5_taken_47 rfl (by decide) rfl rfl ?_
      refine zt_aload_n (pc := 48) dX5_taken_48 rfl rfl ?_
      refine zt_sipush (pc := 49) dX5_taken_49 (v := 140) rfl ?_
      refine zt_bipush (pc := 52) dX5_taken_52 (v := 70) rfl ?_
      refine wt_callV (pc := 54) mX5_copies 2 5 (rc' := 0) (rs' := 0) dX5_taken_54 q1585 mi_X5_copies rfl rfl (ms_o hM) (tm_copies hM 140 70 (by decide) (by decide)) rfl rfl rfl rfl rfl rfl ?_
      refine zt_iincN (pc := 57) (b := i + 1) (L' := [some (.ref 289), some (.int x), some (.int (sum + ((few C x (W i).toNatClampNeg 4 0 f r).1))), some (.int (nI (i + 1))), some (.int ((few C x (W i).toNatClampNeg 4 0 f r).1))]) dX5_taken_57 rfl (zinc1 i) (by decide) rfl rfl ?_
      refine zt_goto (pc := 60) 11 dX5_taken_60 (by decide) ?_
      refine zt_drop (L' := [some (.ref 289), some (.int x), some (.int (sum + ((few C x (W i).toNatClampNeg 4 0 f r).1))), some (.int (nI (i + 1))), none]) 4 rfl ?_
      refine zt_Qeq ?_ (tkn_loop hM hC hE x hW hI d (i + 1) (by omega) (sum + (few C x (W i).toNatClampNeg 4 0 f r).1) (s_copy (few C x (W i).toNatClampNeg 4 0 f r).2.1 140 70) (few C x (W i).toNatClampNeg 4 0 f r).2.2 (copy_tk (Or.inr (by decide)) (few_tk hC hs4 4 0 f r hT c_37)))
      rw [show tkn C x W (d + 1) i sum f r = tkn C x W d (i + 1) (sum + (few C x (W i).toNatClampNeg 4 0 f r).1) (s_copy (few C x (W i).toNatClampNeg 4 0 f r).2.1 140 70) (few C x (W i).toNatClampNeg 4 0 f r).2.2 from if_neg c_37]
    · refine zt_bipush (pc := 40) dX5_taken_40 (v := (-4)) rfl ?_
      have hr : tkn C x W (d + 1) i sum f r = (few C x (W i).toNatClampNeg 4 0 f r) := if_pos c_37
      exact zt_ireturn (pc := 42) dX5_taken_42 rfl (⟨by rw [hr, c_37], by rw [hr]⟩)

theorem tm_taken (hM : MS h.2.1 h.2.2.2) (hC : CI C) (hE : CE S C) (x : Int32) (hW : S 305 = W) (hI : WI C W) : Zd g mX5_taken 9 0 0 [.ref 289, .int x] (zW h (zs (zs S 304 r) 302 f)) (some (.int ((s_taken C x W f r).1))) (zW h (zs (zs S 304 (s_taken C x W f r).2.2) 302 (s_taken C x W f r).2.1)) := by
  refine zc_of [some (.ref 289), some (.int x), none, none, none] rfl (Nat.le_of_ble_eq_true rfl) rfl ?_
  refine zt_iconst (pc := 0) dX5_taken_0 (v := 0) rfl ?_
  refine zt_istore_n (pc := 1) (L' := [some (.ref 289), some (.int x), some (.int 0), none, none]) dX5_taken_1 rfl (by decide) rfl rfl ?_
  refine zt_aload_n (pc := 2) dX5_taken_2 rfl rfl ?_
  refine zt_sipush (pc := 3) dX5_taken_3 (v := 140) rfl ?_
  refine wt_callV (pc := 6) mX5_wakes 1 5 (rc' := 0) (rs' := 0) dX5_taken_6 q1217 mi_X5_wakes rfl rfl (ms_o hM) (tm_wakes hM 140 (by decide)) rfl rfl rfl rfl rfl rfl ?_
  refine zt_iconst (pc := 9) dX5_taken_9 (v := 0) rfl ?_
  refine zt_istore_n (pc := 10) (L' := [some (.ref 289), some (.int x), some (.int 0), some (.int 0), none]) dX5_taken_10 rfl (by decide) rfl rfl ?_
  exact tkn_loop hM hC hE x hW hI (cS C) 0 (Nat.zero_add _) 0 (s_wakes f 140) r wakes_ok.2

theorem tm_areUnlike (hM : MS h.2.1 h.2.2.2) (hC : CI C) (hE : CE S C) (hW : S 305 = W) : Zd g mX5_areUnlike 2 0 0 [.ref 289] (zW h S) (some (.int (s_unlike C W))) (zW h S) := by
  refine zc_of [some (.ref 289), none, none] rfl (Nat.le_of_ble_eq_true rfl) rfl ?_
  have hs4 := hC.s4
  refine zt_iconst (pc := 0) dX5_areUnlike_0 (v := 0) rfl ?_
  refine zt_istore_n (pc := 1) (L' := [some (.ref 289), some (.int 0), none]) dX5_areUnlike_1 rfl (by decide) rfl rfl ?_
  refine zt_iconst (pc := 2) dX5_areUnlike_2 (v := 0) rfl ?_
  refine zt_istore_n (pc := 3) (L' := [some (.ref 289), some (.int 0), some (.int 0)]) dX5_areUnlike_3 rfl (by decide) rfl rfl ?_
  refine zt_for (pc := 4) (fun i => S) (fun i => [some (.ref 289), some (.int (itr (s_seenF W) 0 i)), some (.int (nI i))]) (cS C) rfl rfl ?_ (fun i hi_i ih_i => ?_)
  · show Zt _ _ _ _ _ _ (zW h S) 4 [some (.ref 289), some (.int (itr (s_seenF W) 0 (cS C))), some (.int (nI (cS C)))] []
    refine zt_iload_n (pc := 4) dX5_areUnlike_4 rfl rfl ?_
    refine zt_aload_n (pc := 5) dX5_areUnlike_5 rfl rfl ?_
    refine wt_getI (pc := 6) 5 5 (v := nI (cS C)) dX5_areUnlike_6 q1277 rfl (ms_o hM) (hE.s hC) ?_
    refine zt_geN (a := cS C) (b := cS C) (pc := 9) 29 dX5_areUnlike_9 (by decide) (by omega) (by omega) (fun c_9 => ?_) (fun c_9 => absurd c_9 (Nat.lt_irrefl _))
    refine zt_iload_n (pc := 29) dX5_areUnlike_29 rfl rfl ?_
    refine wt_callS (pc := 30) mX5_countOf 1 (rc' := 0) (rs' := 0) dX5_areUnlike_30 q1265 ms_X5_countOf (tm_countOf (itr (s_seenF W) 0 (cS C))) rfl rfl rfl rfl rfl rfl ?_
    refine zt_aload_n (pc := 33) dX5_areUnlike_33 rfl rfl ?_
    refine wt_getI (pc := 34) 5 5 (v := nI (cS C)) dX5_areUnlike_34 q1277 rfl (ms_o hM) (hE.s hC) ?_
    refine zt_icmp_ne (pc := 37) 44 dX5_areUnlike_37 (by decide) (fun c_37 => ?_) (fun c_37 => ?_)
    · refine zt_iconst (pc := 44) dX5_areUnlike_44 (v := 0) rfl ?_
      exact zt_zreturn (pc := 45) dX5_areUnlike_45 rfl (Or.inl rfl) (⟨congrArg some (congrArg Value.int ((bI_f c_37).symm)), rfl⟩)
    · refine zt_iconst (pc := 40) dX5_areUnlike_40 (v := 1) rfl ?_
      refine zt_goto (pc := 41) 45 dX5_areUnlike_41 (by decide) ?_
      exact zt_zreturn (pc := 45) dX5_areUnlike_45 rfl (Or.inr rfl) (⟨congrArg some (congrArg Value.int ((bI_t c_37).symm)), rfl⟩)
  · show Zt _ _ _ _ _ _ (zW h S) 4 [some (.ref 289), some (.int (itr (s_seenF W) 0 i)), some (.int (nI i))] []
    refine zt_iload_n (pc := 4) dX5_areUnlike_4 rfl rfl ?_
    refine zt_aload_n (pc := 5) dX5_areUnlike_5 rfl rfl ?_
    refine wt_getI (pc := 6) 5 5 (v := nI (cS C)) dX5_areUnlike_6 q1277 rfl (ms_o hM) (hE.s hC) ?_
    refine zt_geN (a := i) (b := cS C) (pc := 9) 29 dX5_areUnlike_9 (by decide) (by omega) (by omega) (fun c_9 => absurd hi_i (Nat.not_lt.mpr c_9)) (fun c_9 => ?_)
    refine zt_iload_n (pc := 12) dX5_areUnlike_12 rfl rfl ?_
    refine zt_iconst (pc := 13) dX5_areUnlike_13 (v := 1) rfl ?_
    refine zt_aload_n (pc := 14) dX5_areUnlike_14 rfl rfl ?_
    refine wt_getR (pc := 15) 5 31 dX5_areUnlike_15 q1303 rfl (ms_o hM) (mr_way hM) ?_
    refine zt_iload_n (pc := 18) dX5_areUnlike_18 rfl rfl ?_
    refine wt_iald (pc := 19) 4 i (v := W i) dX5_areUnlike_19 (ma_way hM) rfl rfl (by omega) (congrFun hW i) ?_
    refine zt_ishl (pc := 20) dX5_areUnlike_20 ?_
    refine zt_ior (pc := 21) dX5_areUnlike_21 ?_
    refine zt_istore_n (pc := 22) (L' := [some (.ref 289), some (.int ((itr (s_seenF W) 0 i) ||| ((1 : Int32) <<< ((W i) &&& 31)))), some (.int (nI i))]) dX5_areUnlike_22 rfl (by decide) rfl rfl ?_
    refine zt_iincN (pc := 23) (b := i + 1) (L' := [some (.ref 289), some (.int ((itr (s_seenF W) 0 i) ||| ((1 : Int32) <<< ((W i) &&& 31)))), some (.int (nI (i + 1)))]) dX5_areUnlike_23 rfl (zinc1 i) (by decide) rfl rfl ?_
    refine zt_goto (pc := 26) 4 dX5_areUnlike_26 (by decide) ?_
    exact ih_i

end M27