/-! THE TWIN, part 4: showings -/
set_option maxRecDepth 100000
def s_repF (A : Nat → Nat → Int32) (i : Nat) (f : Nat → Int32) : Nat → Int32 := s_sees A f 0 (nI i) (A 303 (3 * i)).toNatClampNeg (A 303 (3 * i + 1)) (bI (A 303 (3 * i + 2) = 1))
def s_rep (A : Nat → Nat → Int32) (f : Nat → Int32) (n : Nat) : Nat → Int32 := itr (s_repF A) (s_wakes f 0) n
theorem rep_ok {A : Nat → Nat → Int32} {f : Nat → Int32} (hC : CI A) {n : Nat} (hS : ∀ i, i < n → ∃ s : Nat, s < 4 ∧ A 303 (3 * i) = nI s) : ∀ i, i ≤ n → TK (itr (s_repF A) (s_wakes f 0) i) 0 ∧ Out 0 f (itr (s_repF A) (s_wakes f 0) i)
  | 0, _ => ⟨wakes_ok.2, wakes_ok.1 70 (Nat.le_refl _)⟩
  | i + 1, hi => by
    obtain ⟨h1, h2⟩ := rep_ok hC hS i (by omega)
    obtain ⟨s, hs, e⟩ := hS i (by omega)
    have h3 := sees_ok (b := 0) (i := nI i) (t := A 303 (3 * i + 1)) (so := bI (A 303 (3 * i + 2) = 1)) (s := (A 303 (3 * i)).toNatClampNeg) hC (by rw [e, nI_clamp (by omega)]; exact hs) h1 (cK A) (Nat.le_refl _)
    exact ⟨h3.1, h2.trans h3.2⟩
def w_adds (S A : Nat → Nat → Int32) (s : Nat) (t so : Int32) : Nat → Nat → Int32 := if cSh A = 24 then S else zu (zs (zu (zu (zu S 303 (3 * cSh A) (nI s)) 303 (3 * cSh A + 1) t) 303 (3 * cSh A + 2) so) 302 (s_sees A (A 302) 0 (nI (cSh A)) s t so)) 289 28 (nI (cSh A + 1))
def o_adds (A : Nat → Nat → Int32) : Int32 := if cSh A = 24 then -3 else nI (cSh A + 1)
def o_show (A : Nat → Nat → Int32) (s t : Int32) : Int32 := if inN s (cS A) ∧ inN t (cT A) then o_adds A else -1
def w_show (S A : Nat → Nat → Int32) (s t so : Int32) : Nat → Nat → Int32 := if inN s (cS A) ∧ inN t (cT A) then w_adds S A s.toNatClampNeg t so else S
def w_teach (S A : Nat → Nat → Int32) (s t : Int32) : Nat → Nat → Int32 := w_show S A s t (s_true A s.toNatClampNeg t)
def o_undo (A : Nat → Nat → Int32) : Int32 := if cSh A = 0 then -4 else nI (cSh A - 1)
def w_undo (S A : Nat → Nat → Int32) : Nat → Nat → Int32 := if cSh A = 0 then S else zs (zu S 289 28 (nI (cSh A - 1))) 302 (s_rep A (A 302) (cSh A - 1))
def o_clear (A : Nat → Nat → Int32) : Int32 := nI (cSh A)
def w_clear (S A : Nat → Nat → Int32) : Nat → Nat → Int32 := zs (zu (zu S 289 28 0) 289 33 (1 <<< (nI (cK A) &&& 31) - 1)) 302 (s_rep A (A 302) 0)
section M4
variable {g : ZG} {h : ZH} {S A C : Nat → Nat → Int32} {f : Nat → Int32}
theorem tm_seesX (hM : MS h.2.1 h.2.2.2) (hC : CI C) (hE : CE S C) (b s : Nat) (hb : b ≤ 140) (hs : s < 4) (i t so : Int32) (hso : so = 0 ∨ so = 1) (hT : TK f b) (sx : Int32) (hx : sx = nI s) : Zd g mX5_sees 6 0 0 [.ref 289, .int (nI b), .int i, .int sx, .int t, .int so] (zW h (zs S 302 f)) none (zW h (zs S 302 (s_sees C f b i s t so))) := by
  subst hx
  exact tm_sees hM hC hE b s hb hs i t so hso hT
theorem tm_replays (hM : MS h.2.1 h.2.2.2) (hC : CI A) (hE : CE S A) (h3 : S 303 = A 303) (n : Nat) (hn : S 289 28 = nI n) (hn24 : n ≤ 24) (hS : ∀ i, i < n → ∃ s : Nat, s < 4 ∧ A 303 (3 * i) = nI s) : Zd g mX5_replays 7 0 0 [.ref 289] (zW h (zs S 302 f)) none (zW h (zs S 302 (s_rep A f n))) := by
  refine zc_of [some (.ref 289), none] rfl (Nat.le_of_ble_eq_true rfl) rfl ?_
  refine zt_aload_n (pc := 0) dX5_replays_0 rfl rfl ?_
  refine zt_iconst (pc := 1) dX5_replays_1 (v := 0) rfl ?_
  refine wt_callV (pc := 2) mX5_wakes 1 5 (rc' := 0) (rs' := 0) dX5_replays_2 q1217 mi_X5_wakes rfl rfl (ms_o hM) (tm_wakes hM 0 (by decide)) rfl rfl rfl rfl rfl rfl ?_
  refine zt_iconst (pc := 5) dX5_replays_5 (v := 0) rfl ?_
  refine zt_istore_n (pc := 6) (L' := [some (.ref 289), some (.int 0)]) dX5_replays_6 rfl (by decide) rfl rfl ?_
  refine zt_for (pc := 7) (fun i => zs S 302 (itr (s_repF A) (s_wakes f 0) i)) (fun i => [some (.ref 289), some (.int (nI i))]) n rfl rfl ?_ (fun i hi_i ih_i => ?_)
  · show Zt _ _ _ _ _ _ (zW h (zs S 302 (itr (s_repF A) (s_wakes f 0) n))) 7 [some (.ref 289), some (.int (nI n))] []
    refine zt_iload_n (pc := 7) dX5_replays_7 rfl rfl ?_
    refine zt_aload_n (pc := 8) dX5_replays_8 rfl rfl ?_
    refine wt_getI (pc := 9) 5 28 (v := nI n) dX5_replays_9 q1300 rfl (ms_o hM) hn ?_
    refine zt_geN (a := n) (b := n) (pc := 12) 64 dX5_replays_12 (by decide) (by omega) (by omega) (fun c_12 => ?_) (fun c_12 => absurd c_12 (Nat.lt_irrefl _))
    exact zt_return (pc := 64) dX5_replays_64 rfl (⟨rfl, rfl⟩)
  · show Zt _ _ _ _ _ _ (zW h (zs S 302 (itr (s_repF A) (s_wakes f 0) i))) 7 [some (.ref 289), some (.int (nI i))] []
    refine zt_iload_n (pc := 7) dX5_replays_7 rfl rfl ?_
    refine zt_aload_n (pc := 8) dX5_replays_8 rfl rfl ?_
    refine wt_getI (pc := 9) 5 28 (v := nI n) dX5_replays_9 q1300 rfl (ms_o hM) hn ?_
    refine zt_geN (a := i) (b := n) (pc := 12) 64 dX5_replays_12 (by decide) (by omega) (by omega) (fun c_12 => absurd hi_i (Nat.not_lt.mpr c_12)) (fun c_12 => ?_)
    refine zt_aload_n (pc := 15) dX5_replays_15 rfl rfl ?_
    refine zt_iconst (pc := 16) dX5_replays_16 (v := 0) rfl ?_
    refine zt_iload_n (pc := 17) dX5_replays_17 rfl rfl ?_
    refine zt_aload_n (pc := 18) dX5_replays_18 rfl rfl ?_
    refine wt_getR (pc := 19) 5 29 dX5_replays_19 q1301 rfl (ms_o hM) (mr_shown hM) ?_
    refine zt_iconst (pc := 22) dX5_replays_22 (v := 3) rfl ?_
    refine zt_iload_n (pc := 23) dX5_replays_23 rfl rfl ?_
    refine zt_imulN (pc := 24) (a := 3) (b := i) dX5_replays_24 ?_
    refine wt_iald (pc := 25) 72 (3 * i) (v := A 303 (3 * i)) dX5_replays_25 (ma_shown hM) rfl rfl (by omega) (congrFun h3 (3 * i)) ?_
    refine zt_aload_n (pc := 26) dX5_replays_26 rfl rfl ?_
    refine wt_getR (pc := 27) 5 29 dX5_replays_27 q1301 rfl (ms_o hM) (mr_shown hM) ?_
    refine zt_iconst (pc := 30) dX5_replays_30 (v := 3) rfl ?_
    refine zt_iload_n (pc := 31) dX5_replays_31 rfl rfl ?_
    refine zt_imulN (pc := 32) (a := 3) (b := i) dX5_replays_32 ?_
    refine zt_iconst (pc := 33) dX5_replays_33 (v := 1) rfl ?_
    refine zt_iaddN (pc := 34) (a := 3 * i) (b := 1) dX5_replays_34 ?_
    refine wt_iald (pc := 35) 72 ((3 * i) + 1) (v := A 303 ((3 * i) + 1)) dX5_replays_35 (ma_shown hM) rfl rfl (by omega) (congrFun h3 ((3 * i) + 1)) ?_
    refine zt_aload_n (pc := 36) dX5_replays_36 rfl rfl ?_
    refine wt_getR (pc := 37) 5 29 dX5_replays_37 q1301 rfl (ms_o hM) (mr_shown hM) ?_
    refine zt_iconst (pc := 40) dX5_replays_40 (v := 3) rfl ?_
    refine zt_iload_n (pc := 41) dX5_replays_41 rfl rfl ?_
    refine zt_imulN (pc := 42) (a := 3) (b := i) dX5_replays_42 ?_
    refine zt_iconst (pc := 43) dX5_replays_43 (v := 2) rfl ?_
    refine zt_iaddN (pc := 44) (a := 3 * i) (b := 2) dX5_replays_44 ?_
    refine wt_iald (pc := 45) 72 ((3 * i) + 2) (v := A 303 ((3 * i) + 2)) dX5_replays_45 (ma_shown hM) rfl rfl (by omega) (congrFun h3 ((3 * i) + 2)) ?_
    refine zt_iconst (pc := 46) dX5_replays_46 (v := 1) rfl ?_
    refine zt_icmp_ne (pc := 47) 54 dX5_replays_47 (by decide) (fun c_47 => ?_) (fun c_47 => ?_)
    · refine zt_iconst (pc := 54) dX5_replays_54 (v := 0) rfl ?_
      refine zt_top (pc := 55) (bI (A 303 (3 * i + 2) = 1)) ((bI_f c_47).symm) ?_
      refine wt_callV (pc := 55) mX5_sees 5 5 (rc' := 0) (rs' := 0) dX5_replays_55 q1226 mi_X5_sees rfl rfl (ms_o hM) (tm_seesX hM hC hE 0 (A 303 (3 * i)).toNatClampNeg (by decide) (by obtain ⟨s_, hs_, e_⟩ := hS i hi_i; rw [e_, nI_clamp (by omega)]; exact hs_) (nI i) (A 303 (3 * i + 1)) (bI (A 303 (3 * i + 2) = 1)) bI_or (rep_ok (f := f) hC hS i (by omega)).1 (A 303 (3 * i)) (by obtain ⟨s_, hs_, e_⟩ := hS i hi_i; rw [e_, nI_clamp (by omega)])) rfl rfl rfl rfl rfl rfl ?_
      refine zt_iincN (pc := 58) (b := i + 1) (L' := [some (.ref 289), some (.int (nI (i + 1)))]) dX5_replays_58 rfl (zinc1 i) (by decide) rfl rfl ?_
      refine zt_goto (pc := 61) 7 dX5_replays_61 (by decide) ?_
      exact ih_i
    · refine zt_iconst (pc := 50) dX5_replays_50 (v := 1) rfl ?_
      refine zt_goto (pc := 51) 55 dX5_replays_51 (by decide) ?_
      refine zt_top (pc := 55) (bI (A 303 (3 * i + 2) = 1)) ((bI_t c_47).symm) ?_
      refine wt_callV (pc := 55) mX5_sees 5 5 (rc' := 0) (rs' := 0) dX5_replays_55 q1226 mi_X5_sees rfl rfl (ms_o hM) (tm_seesX hM hC hE 0 (A 303 (3 * i)).toNatClampNeg (by decide) (by obtain ⟨s_, hs_, e_⟩ := hS i hi_i; rw [e_, nI_clamp (by omega)]; exact hs_) (nI i) (A 303 (3 * i + 1)) (bI (A 303 (3 * i + 2) = 1)) bI_or (rep_ok (f := f) hC hS i (by omega)).1 (A 303 (3 * i)) (by obtain ⟨s_, hs_, e_⟩ := hS i hi_i; rw [e_, nI_clamp (by omega)])) rfl rfl rfl rfl rfl rfl ?_
      refine zt_iincN (pc := 58) (b := i + 1) (L' := [some (.ref 289), some (.int (nI (i + 1)))]) dX5_replays_58 rfl (zinc1 i) (by decide) rfl rfl ?_
      refine zt_goto (pc := 61) 7 dX5_replays_61 (by decide) ?_
      exact ih_i

theorem tm_adds (hM : MS h.2.1 h.2.2.2) (hI : AI A) (hA : AE S A) (s : Nat) (hs : s < cS A) (t so : Int32) (hso : so = 0 ∨ so = 1) : Zd g mX5_adds 7 0 0 [.ref 289, .int (nI s), .int t, .int so] (zW h S) (some (.int (o_adds A))) (zW h (w_adds S A s t so)) := by
  refine zc_of [some (.ref 289), some (.int (nI s)), some (.int t), some (.int so)] rfl (Nat.le_of_ble_eq_true rfl) rfl ?_
  have b1 := hI.c.t8; have b2 := hI.c.m12; have b3 := hI.c.s4; have b4 := hI.c.k6; have b5 := hI.sh24
  refine zt_aload_n (pc := 0) dX5_adds_0 rfl rfl ?_
  refine wt_getI (pc := 1) 5 28 (v := nI (cSh A)) dX5_adds_1 q1300 rfl (ms_o hM) ((hA.f 28).trans hI.sh) ?_
  refine zt_bipush (pc := 4) dX5_adds_4 (v := 24) rfl ?_
  refine zt_icmp_ne (pc := 6) 12 dX5_adds_6 (by decide) (fun c_6 => ?_) (fun c_6 => ?_)
  · have h24 : ¬ cSh A = 24 := fun e => c_6 (by rw [e]; rfl)
    have h23 : cSh A < 24 := by omega
    refine zt_aload_n (pc := 12) dX5_adds_12 rfl rfl ?_
    refine wt_getR (pc := 13) 5 29 dX5_adds_13 q1301 rfl (ms_o hM) (mr_shown hM) ?_
    refine zt_iconst (pc := 16) dX5_adds_16 (v := 3) rfl ?_
    refine zt_aload_n (pc := 17) dX5_adds_17 rfl rfl ?_
    refine wt_getI (pc := 18) 5 28 (v := nI (cSh A)) dX5_adds_18 q1300 rfl (ms_o hM) ((hA.f 28).trans hI.sh) ?_
    refine zt_imulN (pc := 21) (a := 3) (b := cSh A) dX5_adds_21 ?_
    refine zt_iload_n (pc := 22) dX5_adds_22 rfl rfl ?_
    refine wt_iast (pc := 23) 72 (3 * (cSh A)) dX5_adds_23 (ma_shown hM) rfl rfl (by omega) ?_
    refine zt_aload_n (pc := 24) dX5_adds_24 rfl rfl ?_
    refine wt_getR (pc := 25) 5 29 dX5_adds_25 q1301 rfl (ms_o hM) (mr_shown hM) ?_
    refine zt_iconst (pc := 28) dX5_adds_28 (v := 3) rfl ?_
    refine zt_aload_n (pc := 29) dX5_adds_29 rfl rfl ?_
    refine wt_getI (pc := 30) 5 28 (v := nI (cSh A)) dX5_adds_30 q1300 rfl (ms_o hM) ((zu_ne1 (by decide)).trans ((hA.f 28).trans hI.sh)) ?_
    refine zt_imulN (pc := 33) (a := 3) (b := cSh A) dX5_adds_33 ?_
    refine zt_iconst (pc := 34) dX5_adds_34 (v := 1) rfl ?_
    refine zt_iaddN (pc := 35) (a := 3 * (cSh A)) (b := 1) dX5_adds_35 ?_
    refine zt_iload_n (pc := 36) dX5_adds_36 rfl rfl ?_
    refine wt_iast (pc := 37) 72 ((3 * (cSh A)) + 1) dX5_adds_37 (ma_shown hM) rfl rfl (by omega) ?_
    refine zt_aload_n (pc := 38) dX5_adds_38 rfl rfl ?_
    refine wt_getR (pc := 39) 5 29 dX5_adds_39 q1301 rfl (ms_o hM) (mr_shown hM) ?_
    refine zt_iconst (pc := 42) dX5_adds_42 (v := 3) rfl ?_
    refine zt_aload_n (pc := 43) dX5_adds_43 rfl rfl ?_
    refine wt_getI (pc := 44) 5 28 (v := nI (cSh A)) dX5_adds_44 q1300 rfl (ms_o hM) ((zu_ne1 (by decide)).trans ((zu_ne1 (by decide)).trans ((hA.f 28).trans hI.sh))) ?_
    refine zt_imulN (pc := 47) (a := 3) (b := cSh A) dX5_adds_47 ?_
    refine zt_iconst (pc := 48) dX5_adds_48 (v := 2) rfl ?_
    refine zt_iaddN (pc := 49) (a := 3 * (cSh A)) (b := 2) dX5_adds_49 ?_
    refine zt_iload_n (pc := 50) dX5_adds_50 rfl rfl ?_
    refine wt_callS (pc := 51) mX5_flag 1 (rc' := 0) (rs' := 0) dX5_adds_51 q1250 ms_X5_flag (tm_flag so hso) rfl rfl rfl rfl rfl rfl ?_
    refine wt_iast (pc := 54) 72 ((3 * (cSh A)) + 2) dX5_adds_54 (ma_shown hM) rfl rfl (by omega) ?_
    refine zt_aload_n (pc := 55) dX5_adds_55 rfl rfl ?_
    refine zt_iconst (pc := 56) dX5_adds_56 (v := 0) rfl ?_
    refine zt_aload_n (pc := 57) dX5_adds_57 rfl rfl ?_
    refine wt_getI (pc := 58) 5 28 (v := nI (cSh A)) dX5_adds_58 q1300 rfl (ms_o hM) ((zu_ne1 (by decide)).trans ((zu_ne1 (by decide)).trans ((zu_ne1 (by decide)).trans ((hA.f 28).trans hI.sh)))) ?_
    refine zt_iload_n (pc := 61) dX5_adds_61 rfl rfl ?_
    refine zt_iload_n (pc := 62) dX5_adds_62 rfl rfl ?_
    refine zt_iload_n (pc := 63) dX5_adds_63 rfl rfl ?_
    refine zt_S (zs_eq (a := 302) (f := A 302) (funext fun q => congrFun (hA 302 (by decide) (by decide)) q)) ?_
    refine wt_callV (pc := 64) mX5_sees 5 5 (rc' := 0) (rs' := 0) dX5_adds_64 q1226 mi_X5_sees rfl rfl (ms_o hM) (tm_sees hM hI.c (((hA.ce.u (Or.inr (by decide))).u (Or.inr (by decide))).u (Or.inr (by decide))) 0 s (by decide) (by omega) (nI (cSh A)) t so hso hI.k0) rfl rfl rfl rfl rfl rfl ?_
    refine zt_aload_n (pc := 67) dX5_adds_67 rfl rfl ?_
    refine zt_dup (pc := 68) dX5_adds_68 rfl ?_
    refine wt_getI (pc := 69) 5 28 (v := nI (cSh A)) dX5_adds_69 q1300 rfl (ms_o hM) ((hA.f 28).trans hI.sh) ?_
    refine zt_iconst (pc := 72) dX5_adds_72 (v := 1) rfl ?_
    refine zt_iaddN (pc := 73) (a := cSh A) (b := 1) dX5_adds_73 ?_
    refine wt_putI (pc := 74) 5 28 dX5_adds_74 q1300 rfl (ms_o hM) ?_
    refine zt_aload_n (pc := 77) dX5_adds_77 rfl rfl ?_
    refine wt_getI (pc := 78) 5 28 dX5_adds_78 q1300 rfl (ms_o hM) rfl ?_
    refine zt_top (pc := 81) (nI (cSh A + 1)) (zu_same _ _ _ _) ?_
    exact zt_ireturn (pc := 81) dX5_adds_81 rfl (⟨congrArg some (congrArg Value.int (if_neg h24).symm), congrArg (zW h) (if_neg h24).symm⟩)
  · have h24 : cSh A = 24 := (nI_eq (by omega) (by decide)).mp c_6
    refine zt_bipush (pc := 9) dX5_adds_9 (v := (-3)) rfl ?_
    exact zt_ireturn (pc := 11) dX5_adds_11 rfl (⟨congrArg some (congrArg Value.int (if_pos h24).symm), congrArg (zW h) (if_pos h24).symm⟩)

theorem tm_show (hM : MS h.2.1 h.2.2.2) (hI : AI A) (hA : AE S A) (s t so : Int32) (hso : so = 0 ∨ so = 1) : Zd g mX5_show 8 0 0 [.ref 289, .int s, .int t, .int so] (zW h S) (some (.int (o_show A s t))) (zW h (w_show S A s t so)) := by
  refine zc_of [some (.ref 289), some (.int s), some (.int t), some (.int so)] rfl (Nat.le_of_ble_eq_true rfl) rfl ?_
  have b1 := hI.c.t8; have b2 := hI.c.m12; have b3 := hI.c.s4; have b4 := hI.c.k6; have b5 := hI.sh24
  refine zt_aload_n (pc := 0) dX5_show_0 rfl rfl ?_
  refine zt_iload_n (pc := 1) dX5_show_1 rfl rfl ?_
  refine wt_callV (pc := 2) mX5_isSound 1 5 (rc' := 0) (rs' := 0) dX5_show_2 q1499 mi_X5_isSound rfl rfl (ms_o hM) (tm_isSound hM hI.c hA.ce s) rfl rfl rfl rfl rfl rfl ?_
  refine zt_if_eq (pc := 5) 26 dX5_show_5 (by decide) (fun c_5 => ?_) (fun c_5 => ?_)
  · refine zt_iconst (pc := 26) dX5_show_26 (v := (-1)) rfl ?_
    exact zt_ireturn (pc := 27) dX5_show_27 rfl (⟨congrArg some (congrArg Value.int (if_neg (fun q => bI_eq0.mp c_5 q.1)).symm), congrArg (zW h) (if_neg (fun q => bI_eq0.mp c_5 q.1)).symm⟩)
  · have hn_s_ : inN s (cS A) := bI_ne0 c_5
    obtain ⟨s_, hl_s_, rfl⟩ := inN_of hn_s_ (by have := hI.c.s4; omega)
    refine zt_aload_n (pc := 8) dX5_show_8 rfl rfl ?_
    refine zt_iload_n (pc := 9) dX5_show_9 rfl rfl ?_
    refine wt_callV (pc := 10) mX5_isThing 1 5 (rc' := 0) (rs' := 0) dX5_show_10 q1487 mi_X5_isThing rfl rfl (ms_o hM) (tm_isThing hM hI.c hA.ce t) rfl rfl rfl rfl rfl rfl ?_
    refine zt_if_eq (pc := 13) 26 dX5_show_13 (by decide) (fun c_13 => ?_) (fun c_13 => ?_)
    · refine zt_iconst (pc := 26) dX5_show_26 (v := (-1)) rfl ?_
      exact zt_ireturn (pc := 27) dX5_show_27 rfl (⟨congrArg some (congrArg Value.int (if_neg (fun q => bI_eq0.mp c_13 q.2)).symm), congrArg (zW h) (if_neg (fun q => bI_eq0.mp c_13 q.2)).symm⟩)
    · have hn_t_ : inN t (cT A) := bI_ne0 c_13
      obtain ⟨t_, hl_t_, rfl⟩ := inN_of hn_t_ (by have := hI.c.t8; omega)
      refine zt_aload_n (pc := 16) dX5_show_16 rfl rfl ?_
      refine zt_iload_n (pc := 17) dX5_show_17 rfl rfl ?_
      refine zt_iload_n (pc := 18) dX5_show_18 rfl rfl ?_
      refine zt_iload_n (pc := 19) dX5_show_19 rfl rfl ?_
      refine wt_callV (pc := 20) mX5_adds 3 5 (rc' := 0) (rs' := 0) dX5_show_20 q1516 mi_X5_adds rfl rfl (ms_o hM) (tm_adds hM hI hA s_ (by omega) (nI t_) so hso) rfl rfl rfl rfl rfl rfl ?_
      refine zt_goto (pc := 23) 27 dX5_show_23 (by decide) ?_
      exact zt_ireturn (pc := 27) dX5_show_27 rfl (⟨congrArg some (congrArg Value.int (if_pos ⟨hn_s_, hn_t_⟩).symm), congrArg (zW h) ((if_pos ⟨hn_s_, hn_t_⟩).trans (by rw [nI_clamp (show s_ < 2 ^ 31 by omega)])).symm⟩)

theorem tm_teach (hM : MS h.2.1 h.2.2.2) (hI : AI A) (hA : AE S A) (s t : Int32) : Zd g mX5_teach 8 0 0 [.ref 289, .int s, .int t] (zW h S) (some (.int (o_show A s t))) (zW h (w_teach S A s t)) := by
  refine zc_of [some (.ref 289), some (.int s), some (.int t)] rfl (Nat.le_of_ble_eq_true rfl) rfl ?_
  have b1 := hI.c.t8; have b2 := hI.c.m12; have b3 := hI.c.s4; have b4 := hI.c.k6; have b5 := hI.sh24
  refine zt_aload_n (pc := 0) dX5_teach_0 rfl rfl ?_
  refine zt_iload_n (pc := 1) dX5_teach_1 rfl rfl ?_
  refine wt_callV (pc := 2) mX5_isSound 1 5 (rc' := 0) (rs' := 0) dX5_teach_2 q1499 mi_X5_isSound rfl rfl (ms_o hM) (tm_isSound hM hI.c hA.ce s) rfl rfl rfl rfl rfl rfl ?_
  refine zt_if_eq (pc := 5) 31 dX5_teach_5 (by decide) (fun c_5 => ?_) (fun c_5 => ?_)
  · refine zt_iconst (pc := 31) dX5_teach_31 (v := (-1)) rfl ?_
    exact zt_ireturn (pc := 32) dX5_teach_32 rfl (⟨congrArg some (congrArg Value.int (if_neg (fun q => bI_eq0.mp c_5 q.1)).symm), congrArg (zW h) (if_neg (fun q => bI_eq0.mp c_5 q.1)).symm⟩)
  · have hn_s_ : inN s (cS A) := bI_ne0 c_5
    obtain ⟨s_, hl_s_, rfl⟩ := inN_of hn_s_ (by have := hI.c.s4; omega)
    refine zt_aload_n (pc := 8) dX5_teach_8 rfl rfl ?_
    refine zt_iload_n (pc := 9) dX5_teach_9 rfl rfl ?_
    refine wt_callV (pc := 10) mX5_isThing 1 5 (rc' := 0) (rs' := 0) dX5_teach_10 q1487 mi_X5_isThing rfl rfl (ms_o hM) (tm_isThing hM hI.c hA.ce t) rfl rfl rfl rfl rfl rfl ?_
    refine zt_if_eq (pc := 13) 31 dX5_teach_13 (by decide) (fun c_13 => ?_) (fun c_13 => ?_)
    · refine zt_iconst (pc := 31) dX5_teach_31 (v := (-1)) rfl ?_
      exact zt_ireturn (pc := 32) dX5_teach_32 rfl (⟨congrArg some (congrArg Value.int (if_neg (fun q => bI_eq0.mp c_13 q.2)).symm), congrArg (zW h) (if_neg (fun q => bI_eq0.mp c_13 q.2)).symm⟩)
    · have hn_t_ : inN t (cT A) := bI_ne0 c_13
      obtain ⟨t_, hl_t_, rfl⟩ := inN_of hn_t_ (by have := hI.c.t8; omega)
      refine zt_aload_n (pc := 16) dX5_teach_16 rfl rfl ?_
      refine zt_iload_n (pc := 17) dX5_teach_17 rfl rfl ?_
      refine zt_iload_n (pc := 18) dX5_teach_18 rfl rfl ?_
      refine zt_aload_n (pc := 19) dX5_teach_19 rfl rfl ?_
      refine zt_iload_n (pc := 20) dX5_teach_20 rfl rfl ?_
      refine zt_iload_n (pc := 21) dX5_teach_21 rfl rfl ?_
      refine wt_callV (pc := 22) mX5_isTrue 2 5 (rc' := 0) (rs' := 0) dX5_teach_22 q1524 mi_X5_isTrue rfl rfl (ms_o hM) (tm_isTrue hM hI.c hA.ce s_ (by omega) (nI t_)) rfl rfl rfl rfl rfl rfl ?_
      refine wt_callV (pc := 25) mX5_adds 3 5 (rc' := 0) (rs' := 0) dX5_teach_25 q1516 mi_X5_adds rfl rfl (ms_o hM) (tm_adds hM hI hA s_ (by omega) (nI t_) (s_true A s_ (nI t_)) bI_or) rfl rfl rfl rfl rfl rfl ?_
      refine zt_goto (pc := 28) 32 dX5_teach_28 (by decide) ?_
      exact zt_ireturn (pc := 32) dX5_teach_32 rfl (⟨congrArg some (congrArg Value.int (if_pos ⟨hn_s_, hn_t_⟩).symm), congrArg (zW h) ((if_pos ⟨hn_s_, hn_t_⟩).trans (by rw [nI_clamp (show s_ < 2 ^ 31 by omega)])).symm⟩)

theorem tm_undo (hM : MS h.2.1 h.2.2.2) (hI : AI A) (hA : AE S A) : Zd g mX5_undo 8 0 0 [.ref 289] (zW h S) (some (.int (o_undo A))) (zW h (w_undo S A)) := by
  refine zc_of [some (.ref 289)] rfl (Nat.le_of_ble_eq_true rfl) rfl ?_
  have b1 := hI.c.t8; have b2 := hI.c.m12; have b3 := hI.c.s4; have b4 := hI.c.k6; have b5 := hI.sh24
  refine zt_aload_n (pc := 0) dX5_undo_0 rfl rfl ?_
  refine wt_getI (pc := 1) 5 28 (v := nI (cSh A)) dX5_undo_1 q1300 rfl (ms_o hM) ((hA.f 28).trans hI.sh) ?_
  refine zt_if_ne (pc := 4) 10 dX5_undo_4 (by decide) (fun c_4 => ?_) (fun c_4 => ?_)
  · have h0 : ¬ cSh A = 0 := fun e => c_4 (by rw [e]; rfl)
    refine zt_aload_n (pc := 10) dX5_undo_10 rfl rfl ?_
    refine zt_dup (pc := 11) dX5_undo_11 rfl ?_
    refine wt_getI (pc := 12) 5 28 (v := nI (cSh A)) dX5_undo_12 q1300 rfl (ms_o hM) ((hA.f 28).trans hI.sh) ?_
    refine zt_iconst (pc := 15) dX5_undo_15 (v := 1) rfl ?_
    refine zt_isub (pc := 16) dX5_undo_16 ?_
    refine zt_top (pc := 17) (nI (cSh A - 1)) (pk_sub (a := cSh A) (b := 1) (by omega)) ?_
    refine wt_putI (pc := 17) 5 28 dX5_undo_17 q1300 rfl (ms_o hM) ?_
    refine zt_aload_n (pc := 20) dX5_undo_20 rfl rfl ?_
    refine zt_S (zs_eq (a := 302) (f := A 302) (funext fun q => congrFun (hA 302 (by decide) (by decide)) q)) ?_
    refine wt_callV (pc := 21) mX5_replays 0 5 (rc' := 0) (rs' := 0) dX5_undo_21 q1213 mi_X5_replays rfl rfl (ms_o hM) (tm_replays hM hI.c (hA.ce.f (by decide) (by decide) (by decide) (by decide)) (funext fun q => congrFun (hA 303 (by decide) (by decide)) q) (cSh A - 1) (zu_same _ _ _ _) (by omega) (fun i hi => by obtain ⟨⟨s_, h1, h2⟩, -⟩ := hI.shown (i := i) (by omega); exact ⟨s_, by omega, h2⟩)) rfl rfl rfl rfl rfl rfl ?_
    refine zt_aload_n (pc := 24) dX5_undo_24 rfl rfl ?_
    refine wt_getI (pc := 25) 5 28 dX5_undo_25 q1300 rfl (ms_o hM) rfl ?_
    refine zt_top (pc := 28) (nI (cSh A - 1)) (show zu S 289 28 (nI (cSh A - 1)) 289 28 = _ from zu_same _ _ _ _) ?_
    exact zt_ireturn (pc := 28) dX5_undo_28 rfl (⟨congrArg some (congrArg Value.int (if_neg h0).symm), congrArg (zW h) (if_neg h0).symm⟩)
  · have h0 : cSh A = 0 := (nI_eq (by omega) (by decide)).mp c_4
    refine zt_bipush (pc := 7) dX5_undo_7 (v := (-4)) rfl ?_
    exact zt_ireturn (pc := 9) dX5_undo_9 rfl (⟨congrArg some (congrArg Value.int (if_pos h0).symm), congrArg (zW h) (if_pos h0).symm⟩)

theorem tm_clear (hM : MS h.2.1 h.2.2.2) (hI : AI A) (hA : AE S A) : Zd g mX5_clear 8 0 0 [.ref 289] (zW h S) (some (.int (o_clear A))) (zW h (w_clear S A)) := by
  refine zc_of [some (.ref 289), none] rfl (Nat.le_of_ble_eq_true rfl) rfl ?_
  have b1 := hI.c.t8; have b2 := hI.c.m12; have b3 := hI.c.s4; have b4 := hI.c.k6; have b5 := hI.sh24
  refine zt_aload_n (pc := 0) dX5_clear_0 rfl rfl ?_
  refine wt_getI (pc := 1) 5 28 (v := nI (cSh A)) dX5_clear_1 q1300 rfl (ms_o hM) ((hA.f 28).trans hI.sh) ?_
  refine zt_istore_n (pc := 4) (L' := [some (.ref 289), some (.int (nI (cSh A)))]) dX5_clear_4 rfl (by decide) rfl rfl ?_
  refine zt_aload_n (pc := 5) dX5_clear_5 rfl rfl ?_
  refine zt_iconst (pc := 6) dX5_clear_6 (v := 0) rfl ?_
  refine wt_putI (pc := 7) 5 28 dX5_clear_7 q1300 rfl (ms_o hM) ?_
  refine zt_aload_n (pc := 10) dX5_clear_10 rfl rfl ?_
  refine zt_iconst (pc := 11) dX5_clear_11 (v := 1) rfl ?_
  refine zt_aload_n (pc := 12) dX5_clear_12 rfl rfl ?_
  refine wt_getI (pc := 13) 5 7 (v := nI (cK A)) dX5_clear_13 q1279 rfl (ms_o hM) ((zu_ne2 (by decide)).trans ((hA.ce.k hI.c))) ?_
  refine zt_ishl (pc := 16) dX5_clear_16 ?_
  refine zt_iconst (pc := 17) dX5_clear_17 (v := 1) rfl ?_
  refine zt_isub (pc := 18) dX5_clear_18 ?_
  refine wt_putI (pc := 19) 5 33 dX5_clear_19 q1305 rfl (ms_o hM) ?_
  refine zt_aload_n (pc := 22) dX5_clear_22 rfl rfl ?_
  refine zt_S (zs_eq (a := 302) (f := A 302) (funext fun q => congrFun (hA 302 (by decide) (by decide)) q)) ?_
  refine wt_callV (pc := 23) mX5_replays 0 5 (rc' := 0) (rs' := 0) dX5_clear_23 q1213 mi_X5_replays rfl rfl (ms_o hM) (tm_replays hM hI.c ((hA.ce.f (by decide) (by decide) (by decide) (by decide)).f (by decide) (by decide) (by decide) (by decide)) (funext fun q => congrFun (hA 303 (by decide) (by decide)) q) 0 ((zu_ne2 (by decide)).trans (zu_same _ _ _ _)) (by omega) (fun i hi => by omega)) rfl rfl rfl rfl rfl rfl ?_
  refine zt_iload_n (pc := 26) dX5_clear_26 rfl rfl ?_
  exact zt_ireturn (pc := 27) dX5_clear_27 rfl (⟨rfl, rfl⟩)

theorem AE.uL {a k : Nat} {v : Int32} (h : AE S A) (ha : 289 ≤ a ∧ a < 316) : AE (zu S a k v) (zu A a k v) := h.u ha
theorem CI.fl {k : Nat} {v : Int32} (h : CI A) (h0 : k ≠ 0) (h2 : k ≠ 2) (h5 : k ≠ 5) (h7 : k ≠ 7) : CI (zu A 289 k v) := by
  have e0 : zu A 289 k v 289 0 = A 289 0 := zu_ne2 (Ne.symm h0)
  have e2 : zu A 289 k v 289 2 = A 289 2 := zu_ne2 (Ne.symm h2)
  have e5 : zu A 289 k v 289 5 = A 289 5 := zu_ne2 (Ne.symm h5)
  have e7 : zu A 289 k v 289 7 = A 289 7 := zu_ne2 (Ne.symm h7)
  have e9 : zu A 289 k v 293 = A 293 := by funext j; exact zu_ne1 (by decide)
  have e10 : zu A 289 k v 294 = A 294 := by funext j; exact zu_ne1 (by decide)
  unfold CI cT cM cS cK
  rw [e0, e2, e5, e7, e9, e10]
  exact h
end M4