/-! THE TWIN, part 12: back, first -/
set_option maxRecDepth 100000
/-- the state behind a showing from nothing -/
def s_fiS (A : Nat → Nat → Int32) (s t : Nat) (f : Nat → Int32) : Nat → Int32 := s_sees A (s_wakes f 70) 70 0 s (nI t) (s_true A s (nI t))
def s_fiK (A : Nat → Nat → Int32) (s : Nat) (f : Nat → Int32) (k : Nat) (acc : Int32) : Int32 := acc + (if s_same A f 70 k s = 0 then (0 : Int32) else A 294 (5 * k + 4))
def s_fiN (A : Nat → Nat → Int32) (s : Nat) (f : Nat → Int32) : Int32 := itr (s_fiK A s f) 0 (cK A)
def s_fiF (A : Nat → Nat → Int32) (s t : Nat) (p : (Nat → Int32) × Int32 × Int32) : (Nat → Int32) × Int32 × Int32 :=
  if s_fe A 1 >>> (nI t &&& 31) &&& 1 = 0 then (s_fiS A s t p.1, if p.2.1 = -4 ∨ p.2.2 < s_fiN A s (s_fiS A s t p.1) then (nI t, s_fiN A s (s_fiS A s t p.1)) else p.2) else p
def s_fi (A : Nat → Nat → Int32) (s n : Nat) : (Nat → Int32) × Int32 × Int32 := itr (s_fiF A s) (A 302, -4, 0) n
def s_fiE (A : Nat → Nat → Int32) (s : Nat) : (Nat → Int32) × Int32 × Int32 := if s_all_ch A ≤ 0 then (A 302, -4, 0) else s_fi A s (cT A)
def o_first (A : Nat → Nat → Int32) (s w : Int32) : Int32 := if inN s (cS A) ∧ inN w 3 then (if (s_fiE A s.toNatClampNeg).2.1 = -4 then -4 else if w = 0 then (s_fiE A s.toNatClampNeg).2.1 else s_low (nN (s_fiE A s.toNatClampNeg).2.2) (nN (s_all_ch A)) (w - 1)) else -1
def w_first (S A : Nat → Nat → Int32) (s w : Int32) : Nat → Nat → Int32 := if inN s (cS A) ∧ inN w 3 then zs S 302 (s_fiE A s.toNatClampNeg).1 else S
theorem fiN_nat {A : Nat → Nat → Int32} (hC : CI A) (s : Nat) (f : Nat → Int32) : ∀ n, n ≤ cK A → ∃ c : Nat, c ≤ 9 * n ∧ itr (s_fiK A s f) 0 n = nI c
  | 0, _ => ⟨0, by omega, rfl⟩
  | n + 1, hn => by
    obtain ⟨c, h1, h2⟩ := fiN_nat hC s f n (by omega)
    obtain ⟨c', h3, h4⟩ := hC.ch (k := n) (by omega)
    show ∃ c : Nat, c ≤ 9 * (n + 1) ∧ s_fiK A s f n (itr (s_fiK A s f) 0 n) = nI c
    rw [h2]
    unfold s_fiK
    rw [h4]
    split
    · exact ⟨c + 0, by omega, nI_add c 0⟩
    · exact ⟨c + c', by omega, nI_add _ _⟩
theorem fi_nat {A : Nat → Nat → Int32} (hC : CI A) (s : Nat) : ∀ n, ∃ c : Nat, c ≤ 54 ∧ (s_fi A s n).2.2 = nI c
  | 0 => ⟨0, by omega, rfl⟩
  | n + 1 => by
    obtain ⟨c, h1, h2⟩ := fi_nat hC s n
    obtain ⟨c', h3, h4⟩ := fiN_nat hC s (s_fiS A s n (s_fi A s n).1) (cK A) (Nat.le_refl _)
    have := hC.k6
    show ∃ c : Nat, c ≤ 54 ∧ (s_fiF A s n (s_fi A s n)).2.2 = nI c
    unfold s_fiF
    split
    · show ∃ c : Nat, c ≤ 54 ∧ (ite _ _ _ : Int32 × Int32).2 = nI c
      split
      · exact ⟨c', by omega, h4⟩
      · exact ⟨c, h1, h2⟩
    · exact ⟨c, h1, h2⟩
section M12
variable {g : ZG} {h : ZH} {S A C : Nat → Nat → Int32} {f : Nat → Int32}
theorem tm_back (hM : MS h.2.1 h.2.2.2) (hI : AI A) (hA : AE S A) (i : Int32) : Zd g mX5_back 8 0 0 [.ref 289, .int i] (zW h S) (some (.int (o_back A i))) (zW h (w_back S A i)) := by
  refine zc_of [some (.ref 289), some (.int i), none] rfl (Nat.le_of_ble_eq_true rfl) rfl ?_
  refine zt_iload_n (pc := 0) dX5_back_0 rfl rfl ?_
  refine zt_i2l (pc := 1) dX5_back_1 rfl ?_
  refine zt_lconst (pc := 2) dX5_back_2 (v := 0) rfl ?_
  refine zt_lconst (pc := 3) dX5_back_3 (v := 1) rfl ?_
  refine wt_callS (pc := 4) mX5_in 3 (rc' := 0) (rs' := 0) dX5_back_4 q1223 ms_X5_in (tm_in i.toInt64 0 1) rfl rfl rfl rfl rfl rfl ?_
  refine zt_if_ne (pc := 7) 12 dX5_back_7 (by decide) (fun c_7 => ?_) (fun c_7 => ?_)
  · have hn_i_ : inN i 2 := (in_c i 1 (by decide)).mp (bI_ne0 c_7)
    obtain ⟨i_, hl_i_, rfl⟩ := inN_of hn_i_ (by decide)
    refine zt_aload_n (pc := 12) dX5_back_12 rfl rfl ?_
    refine wt_getR (pc := 13) 5 37 dX5_back_13 q1309 rfl (ms_o hM) (mr_isKept hM) ?_
    refine zt_iload_n (pc := 16) dX5_back_16 rfl rfl ?_
    refine wt_zald (pc := 17) 2 i_ (v := A 309 i_) dX5_back_17 (ma_isKept hM) rfl rfl (by omega) (congrFun (hA 309 (by decide) (by decide)) i_) ?_
    refine zt_if_ne (pc := 18) 24 dX5_back_18 (by decide) (fun c_18 => ?_) (fun c_18 => ?_)
    · have hk1 : A 309 i_ = 1 := ((hI.ki hl_i_).1).resolve_left c_18
      obtain ⟨⟨n_, hn24, hnn, hrows⟩, m_, hm12, hmm⟩ := (hI.ki hl_i_).2 hk1
      have hn0 : (A 310 (3 * i_)).toNatClampNeg = n_ := by rw [hnn, nI_clamp (by omega)]
      refine zt_aload_n (pc := 24) dX5_back_24 rfl rfl ?_
      refine zt_aload_n (pc := 25) dX5_back_25 rfl rfl ?_
      refine wt_getR (pc := 26) 5 38 dX5_back_26 q1310 rfl (ms_o hM) (mr_keptMany hM) ?_
      refine zt_iconst (pc := 29) dX5_back_29 (v := 3) rfl ?_
      refine zt_iload_n (pc := 30) dX5_back_30 rfl rfl ?_
      refine zt_imulN (pc := 31) (a := 3) (b := i_) dX5_back_31 ?_
      refine wt_iald (pc := 32) 6 (3 * i_) (v := A 310 (3 * i_)) dX5_back_32 (ma_keptMany hM) rfl rfl (by omega) (congrFun (hA 310 (by decide) (by decide)) (3 * i_)) ?_
      refine wt_putI (pc := 33) 5 28 dX5_back_33 q1300 rfl (ms_o hM) ?_
      refine zt_aload_n (pc := 36) dX5_back_36 rfl rfl ?_
      refine zt_aload_n (pc := 37) dX5_back_37 rfl rfl ?_
      refine wt_getR (pc := 38) 5 38 dX5_back_38 q1310 rfl (ms_o hM) (mr_keptMany hM) ?_
      refine zt_iconst (pc := 41) dX5_back_41 (v := 3) rfl ?_
      refine zt_iload_n (pc := 42) dX5_back_42 rfl rfl ?_
      refine zt_imulN (pc := 43) (a := 3) (b := i_) dX5_back_43 ?_
      refine zt_iconst (pc := 44) dX5_back_44 (v := 1) rfl ?_
      refine zt_iaddN (pc := 45) (a := 3 * i_) (b := 1) dX5_back_45 ?_
      refine wt_iald (pc := 46) 6 ((3 * i_) + 1) (v := A 310 ((3 * i_) + 1)) dX5_back_46 (ma_keptMany hM) rfl rfl (by omega) ((zu_ne1 (by decide)).trans (congrFun (hA 310 (by decide) (by decide)) ((3 * i_) + 1))) ?_
      refine wt_putI (pc := 47) 5 33 dX5_back_47 q1305 rfl (ms_o hM) ?_
      refine zt_aload_n (pc := 50) dX5_back_50 rfl rfl ?_
      refine zt_aload_n (pc := 51) dX5_back_51 rfl rfl ?_
      refine wt_getR (pc := 52) 5 38 dX5_back_52 q1310 rfl (ms_o hM) (mr_keptMany hM) ?_
      refine zt_iconst (pc := 55) dX5_back_55 (v := 3) rfl ?_
      refine zt_iload_n (pc := 56) dX5_back_56 rfl rfl ?_
      refine zt_imulN (pc := 57) (a := 3) (b := i_) dX5_back_57 ?_
      refine zt_iconst (pc := 58) dX5_back_58 (v := 2) rfl ?_
      refine zt_iaddN (pc := 59) (a := 3 * i_) (b := 2) dX5_back_59 ?_
      refine wt_iald (pc := 60) 6 ((3 * i_) + 2) (v := A 310 ((3 * i_) + 2)) dX5_back_60 (ma_keptMany hM) rfl rfl (by omega) ((zu_ne1 (by decide)).trans ((zu_ne1 (by decide)).trans (congrFun (hA 310 (by decide) (by decide)) ((3 * i_) + 2)))) ?_
      refine wt_putI (pc := 61) 5 34 dX5_back_61 q1306 rfl (ms_o hM) ?_
      refine zt_iconst (pc := 64) dX5_back_64 (v := 0) rfl ?_
      refine zt_istore_n (pc := 65) (L' := [some (.ref 289), some (.int (nI i_)), some (.int 0)]) dX5_back_65 rfl (by decide) rfl rfl ?_
      refine zt_S (zs_eq (a := 303) (f := A 303) (funext fun q => congrFun (hA 303 (by decide) (by decide)) q)) ?_
      refine zt_for (pc := 66) (fun k => zs (zu (zu (zu S 289 28 (A 310 (3 * i_))) 289 33 (A 310 ((3 * i_) + 1))) 289 34 (A 310 ((3 * i_) + 2))) 303 (itr (s_backS A i_) (A 303) k)) (fun k => [some (.ref 289), some (.int (nI i_)), some (.int (nI k))]) 72 rfl rfl ?_ (fun k hi_k ih_k => ?_)
      · show Zt _ _ _ _ _ _ (zW h (zs (zu (zu (zu S 289 28 (A 310 (3 * i_))) 289 33 (A 310 ((3 * i_) + 1))) 289 34 (A 310 ((3 * i_) + 2))) 303 (itr (s_backS A i_) (A 303) 72))) 66 [some (.ref 289), some (.int (nI i_)), some (.int (nI 72))] []
        refine zt_iload_n (pc := 66) dX5_back_66 rfl rfl ?_
        refine zt_bipush (pc := 67) dX5_back_67 (v := 72) rfl ?_
        refine zt_geN (a := 72) (b := 72) (pc := 69) 95 dX5_back_69 (by decide) (by omega) (by omega) (fun c_69 => ?_) (fun c_69 => absurd c_69 (Nat.lt_irrefl _))
        refine zt_iconst (pc := 95) dX5_back_95 (v := 0) rfl ?_
        refine zt_istore_n (pc := 96) (L' := [some (.ref 289), some (.int (nI i_)), some (.int 0)]) dX5_back_96 rfl (by decide) rfl rfl ?_
        refine zt_S (show _ = w_back0 S A i_ from rfl) ?_
        refine zt_for (pc := 97) (fun k => itr (s_backF A i_) (w_back0 S A i_) k) (fun k => [some (.ref 289), some (.int (nI i_)), some (.int (nI k))]) 12 rfl rfl ?_ (fun k hi_k ih_k => ?_)
        · show Zt _ _ _ _ _ _ (zW h (itr (s_backF A i_) (w_back0 S A i_) 12)) 97 [some (.ref 289), some (.int (nI i_)), some (.int (nI 12))] []
          refine zt_iload_n (pc := 97) dX5_back_97 rfl rfl ?_
          refine zt_bipush (pc := 98) dX5_back_98 (v := 12) rfl ?_
          refine zt_geN (a := 12) (b := 12) (pc := 100) 158 dX5_back_100 (by decide) (by omega) (by omega) (fun c_100 => ?_) (fun c_100 => absurd c_100 (Nat.lt_irrefl _))
          refine zt_aload_n (pc := 158) dX5_back_158 rfl rfl ?_
          have hkeep : ∀ a, a ≠ 307 → a ≠ 308 → itr (s_backF A i_) (w_back0 S A i_) 12 a = w_back0 S A i_ a := fun a p q => back_keep p q 12
          have h0a : ∀ a, 289 < a → a < 316 → a ≠ 303 → w_back0 S A i_ a = A a := fun a p q r => by
            unfold w_back0
            rw [zs_ne r]
            funext j
            rw [zu_ne1 (by omega), zu_ne1 (by omega), zu_ne1 (by omega)]
            exact congrFun (hA a (by omega) q) j
          have hf : ∀ k, k ≠ 28 → k ≠ 33 → k ≠ 34 → itr (s_backF A i_) (w_back0 S A i_) 12 289 k = A 289 k := fun k p q r => by
            rw [hkeep 289 (by decide) (by decide)]
            unfold w_back0
            rw [zs_ne (by decide), zu_ne2 r, zu_ne2 q, zu_ne2 p]
            exact hA.f k
          have hEX : CE (itr (s_backF A i_) (w_back0 S A i_) 12) (zs A 303 (s_bsh A i_)) := by
            refine ⟨hf 0 (by decide) (by decide) (by decide), hf 2 (by decide) (by decide) (by decide), hf 5 (by decide) (by decide) (by decide), hf 7 (by decide) (by decide) (by decide), ?_, ?_, ?_, ?_, ?_, ?_⟩ <;> (rw [hkeep _ (by decide) (by decide), zs_ne (by decide)]; exact h0a _ (by decide) (by decide) (by decide))
          have h3X : itr (s_backF A i_) (w_back0 S A i_) 12 303 = (zs A 303 (s_bsh A i_)) 303 := by rw [hkeep _ (by decide) (by decide), zs_at]; exact zs_at _ _ _
          have hshX : itr (s_backF A i_) (w_back0 S A i_) 12 289 28 = nI n_ := by
            rw [hkeep _ (by decide) (by decide)]
            unfold w_back0
            rw [zs_ne (by decide), zu_ne2 (by decide), zu_ne2 (by decide), zu_same]
            exact hnn
          have hCX : CI (zs A 303 (s_bsh A i_)) := hI.c
          have hbsh : ∀ n j, n ≤ 72 → j < n → itr (s_backS A i_) (A 303) n j = A 311 (72 * i_ + j) := by
            intro n
            induction n with
            | zero => intro j _ hj; omega
            | succ n ih =>
              intro j hn hj
              show upd _ n _ j = _
              by_cases e : j = n
              · rw [e, upd_at]
              · rw [upd_ne e]; exact ih j (by omega) (by omega)
          have hSX : ∀ i, i < n_ → ∃ s : Nat, s < 4 ∧ (zs A 303 (s_bsh A i_)) 303 (3 * i) = nI s := fun i hi => by
            obtain ⟨⟨s_, q1, q2⟩, -⟩ := hrows i hi
            refine ⟨s_, by have := hI.c.s4; omega, ?_⟩
            rw [zs_at]
            exact (hbsh 72 (3 * i) (Nat.le_refl _) (by omega)).trans q2
          refine zt_S (zs_eq (a := 302) (f := A 302) ((hkeep 302 (by decide) (by decide)).trans (h0a 302 (by decide) (by decide) (by decide)))) ?_
          refine wt_callV (pc := 159) mX5_replays 0 5 (rc' := 0) (rs' := 0) dX5_back_159 q1213 mi_X5_replays rfl rfl (ms_o hM) (tm_replays (A := zs A 303 (s_bsh A i_)) hM hCX hEX h3X n_ hshX hn24 hSX) rfl rfl rfl rfl rfl rfl ?_
          refine zt_aload_n (pc := 162) dX5_back_162 rfl rfl ?_
          refine wt_getI (pc := 163) 5 28 dX5_back_163 q1300 rfl (ms_o hM) rfl ?_
          refine zt_top (pc := 166) (A 310 (3 * i_)) (hshX.trans hnn.symm) ?_
          exact zt_ireturn (pc := 166) dX5_back_166 rfl (⟨congrArg some (congrArg Value.int (Eq.symm (by unfold o_back; rw [if_pos hn_i_, nI_clamp (show i_ < 2 ^ 31 by omega), if_neg c_18]))), congrArg (zW h) (Eq.symm (by unfold w_back; rw [nI_clamp (show i_ < 2 ^ 31 by omega), if_pos ⟨hn_i_, c_18⟩]; show w_back1 S A i_ = _; unfold w_back1; rw [hn0]))⟩)
        · show Zt _ _ _ _ _ _ (zW h (itr (s_backF A i_) (w_back0 S A i_) k)) 97 [some (.ref 289), some (.int (nI i_)), some (.int (nI k))] []
          refine zt_iload_n (pc := 97) dX5_back_97 rfl rfl ?_
          refine zt_bipush (pc := 98) dX5_back_98 (v := 12) rfl ?_
          refine zt_geN (a := k) (b := 12) (pc := 100) 158 dX5_back_100 (by decide) (by omega) (by omega) (fun c_100 => absurd hi_k (Nat.not_lt.mpr c_100)) (fun c_100 => ?_)
          refine zt_aload_n (pc := 103) dX5_back_103 rfl rfl ?_
          refine wt_getR (pc := 104) 5 35 dX5_back_104 q1307 rfl (ms_o hM) (mr_theirThing hM) ?_
          refine zt_iload_n (pc := 107) dX5_back_107 rfl rfl ?_
          refine zt_aload_n (pc := 108) dX5_back_108 rfl rfl ?_
          refine wt_getR (pc := 109) 5 40 dX5_back_109 q1312 rfl (ms_o hM) (mr_keptTheirs hM) ?_
          refine zt_bipush (pc := 112) dX5_back_112 (v := 24) rfl ?_
          refine zt_iload_n (pc := 114) dX5_back_114 rfl rfl ?_
          refine zt_imulN (pc := 115) (a := 24) (b := i_) dX5_back_115 ?_
          refine zt_iconst (pc := 116) dX5_back_116 (v := 2) rfl ?_
          refine zt_iload_n (pc := 117) dX5_back_117 rfl rfl ?_
          refine zt_imulN (pc := 118) (a := 2) (b := k) dX5_back_118 ?_
          refine zt_iaddN (pc := 119) (a := 24 * i_) (b := 2 * k) dX5_back_119 ?_
          refine wt_iald (pc := 120) 48 ((24 * i_) + (2 * k)) (v := A 312 ((24 * i_) + (2 * k))) dX5_back_120 (ma_keptTheirs hM) rfl rfl (by omega) (congrFun ((back_keep (A := A) (S := w_back0 S A i_) (i := i_) (a := 312) (by decide) (by decide) k).trans (show w_back0 S A i_ 312 = A 312 from funext fun q => congrFun (hA 312 (by decide) (by decide)) q)) ((24 * i_) + (2 * k))) ?_
          refine wt_iast (pc := 121) 12 k dX5_back_121 (ma_theirThing hM) rfl rfl (by omega) ?_
          refine zt_aload_n (pc := 122) dX5_back_122 rfl rfl ?_
          refine wt_getR (pc := 123) 5 36 dX5_back_123 q1308 rfl (ms_o hM) (mr_theirSo hM) ?_
          refine zt_iload_n (pc := 126) dX5_back_126 rfl rfl ?_
          refine zt_aload_n (pc := 127) dX5_back_127 rfl rfl ?_
          refine wt_getR (pc := 128) 5 40 dX5_back_128 q1312 rfl (ms_o hM) (mr_keptTheirs hM) ?_
          refine zt_bipush (pc := 131) dX5_back_131 (v := 24) rfl ?_
          refine zt_iload_n (pc := 133) dX5_back_133 rfl rfl ?_
          refine zt_imulN (pc := 134) (a := 24) (b := i_) dX5_back_134 ?_
          refine zt_iconst (pc := 135) dX5_back_135 (v := 2) rfl ?_
          refine zt_iload_n (pc := 136) dX5_back_136 rfl rfl ?_
          refine zt_imulN (pc := 137) (a := 2) (b := k) dX5_back_137 ?_
          refine zt_iaddN (pc := 138) (a := 24 * i_) (b := 2 * k) dX5_back_138 ?_
          refine zt_iconst (pc := 139) dX5_back_139 (v := 1) rfl ?_
          refine zt_iaddN (pc := 140) (a := (24 * i_) + (2 * k)) (b := 1) dX5_back_140 ?_
          refine wt_iald (pc := 141) 48 (((24 * i_) + (2 * k)) + 1) (v := A 312 (((24 * i_) + (2 * k)) + 1)) dX5_back_141 (ma_keptTheirs hM) rfl rfl (by omega) ((zu_ne1 (by decide)).trans (congrFun ((back_keep (A := A) (S := w_back0 S A i_) (i := i_) (a := 312) (by decide) (by decide) k).trans (show w_back0 S A i_ 312 = A 312 from funext fun q => congrFun (hA 312 (by decide) (by decide)) q)) (((24 * i_) + (2 * k)) + 1))) ?_
          refine zt_iconst (pc := 142) dX5_back_142 (v := 1) rfl ?_
          refine zt_icmp_ne (pc := 143) 150 dX5_back_143 (by decide) (fun c_143 => ?_) (fun c_143 => ?_)
          · refine zt_iconst (pc := 150) dX5_back_150 (v := 0) rfl ?_
            refine zt_top (pc := 151) (bI (A 312 (24 * i_ + 2 * k + 1) = 1)) ((bI_f c_143).symm) ?_
            refine wt_zast (pc := 151) 12 k dX5_back_151 (ma_theirSo hM) rfl rfl (by omega) (by rcases (bI_or : bI (A 312 (24 * i_ + 2 * k + 1) = 1) = 0 ∨ _) with e | e <;> rw [e] <;> rfl) ?_
            refine zt_iincN (pc := 152) (b := k + 1) (L' := [some (.ref 289), some (.int (nI i_)), some (.int (nI (k + 1)))]) dX5_back_152 rfl (zinc1 k) (by decide) rfl rfl ?_
            refine zt_goto (pc := 155) 97 dX5_back_155 (by decide) ?_
            exact ih_k
          · refine zt_iconst (pc := 146) dX5_back_146 (v := 1) rfl ?_
            refine zt_goto (pc := 147) 151 dX5_back_147 (by decide) ?_
            refine zt_top (pc := 151) (bI (A 312 (24 * i_ + 2 * k + 1) = 1)) ((bI_t c_143).symm) ?_
            refine wt_zast (pc := 151) 12 k dX5_back_151 (ma_theirSo hM) rfl rfl (by omega) (by rcases (bI_or : bI (A 312 (24 * i_ + 2 * k + 1) = 1) = 0 ∨ _) with e | e <;> rw [e] <;> rfl) ?_
            refine zt_iincN (pc := 152) (b := k + 1) (L' := [some (.ref 289), some (.int (nI i_)), some (.int (nI (k + 1)))]) dX5_back_152 rfl (zinc1 k) (by decide) rfl rfl ?_
            refine zt_goto (pc := 155) 97 dX5_back_155 (by decide) ?_
            exact ih_k
      · show Zt _ _ _ _ _ _ (zW h (zs (zu (zu (zu S 289 28 (A 310 (3 * i_))) 289 33 (A 310 ((3 * i_) + 1))) 289 34 (A 310 ((3 * i_) + 2))) 303 (itr (s_backS A i_) (A 303) k))) 66 [some (.ref 289), some (.int (nI i_)), some (.int (nI k))] []
        refine zt_iload_n (pc := 66) dX5_back_66 rfl rfl ?_
        refine zt_bipush (pc := 67) dX5_back_67 (v := 72) rfl ?_
        refine zt_geN (a := k) (b := 72) (pc := 69) 95 dX5_back_69 (by decide) (by omega) (by omega) (fun c_69 => absurd hi_k (Nat.not_lt.mpr c_69)) (fun c_69 => ?_)
        refine zt_aload_n (pc := 72) dX5_back_72 rfl rfl ?_
        refine wt_getR (pc := 73) 5 29 dX5_back_73 q1301 rfl (ms_o hM) (mr_shown hM) ?_
        refine zt_iload_n (pc := 76) dX5_back_76 rfl rfl ?_
        refine zt_aload_n (pc := 77) dX5_back_77 rfl rfl ?_
        refine wt_getR (pc := 78) 5 39 dX5_back_78 q1311 rfl (ms_o hM) (mr_keptShown hM) ?_
        refine zt_bipush (pc := 81) dX5_back_81 (v := 72) rfl ?_
        refine zt_iload_n (pc := 83) dX5_back_83 rfl rfl ?_
        refine zt_imulN (pc := 84) (a := 72) (b := i_) dX5_back_84 ?_
        refine zt_iload_n (pc := 85) dX5_back_85 rfl rfl ?_
        refine zt_iaddN (pc := 86) (a := 72 * i_) (b := k) dX5_back_86 ?_
        refine wt_iald (pc := 87) 144 ((72 * i_) + k) (v := A 311 ((72 * i_) + k)) dX5_back_87 (ma_keptShown hM) rfl rfl (by omega) (congrFun (hA 311 (by decide) (by decide)) ((72 * i_) + k)) ?_
        refine wt_iastS (pc := 88) 72 k dX5_back_88 (ma_shown hM) rfl rfl (by omega) ?_
        refine zt_iincN (pc := 89) (b := k + 1) (L' := [some (.ref 289), some (.int (nI i_)), some (.int (nI (k + 1)))]) dX5_back_89 rfl (zinc1 k) (by decide) rfl rfl ?_
        refine zt_goto (pc := 92) 66 dX5_back_92 (by decide) ?_
        exact ih_k
    · refine zt_bipush (pc := 21) dX5_back_21 (v := (-2)) rfl ?_
      exact zt_ireturn (pc := 23) dX5_back_23 rfl (⟨congrArg some (congrArg Value.int (Eq.symm (by unfold o_back; rw [if_pos hn_i_, nI_clamp (show i_ < 2 ^ 31 by omega), if_pos c_18]))), congrArg (zW h) (Eq.symm (by unfold w_back; rw [nI_clamp (show i_ < 2 ^ 31 by omega), if_neg (fun q => q.2 c_18)]))⟩)
  · refine zt_iconst (pc := 10) dX5_back_10 (v := (-1)) rfl ?_
    exact zt_ireturn (pc := 11) dX5_back_11 rfl (⟨congrArg some (congrArg Value.int (Eq.symm (if_neg (fun q => bI_eq0.mp c_7 ((in_c i 1 (by decide)).mpr q))))), congrArg (zW h) (Eq.symm (if_neg (fun q => bI_eq0.mp c_7 ((in_c i 1 (by decide)).mpr q.1))))⟩)

theorem tm_first (hM : MS h.2.1 h.2.2.2) (hI : AI A) (hA : AE S A) (s w : Int32) : Zd g mX5_first 7 0 0 [.ref 289, .int s, .int w] (zW h S) (some (.int (o_first A s w))) (zW h (w_first S A s w)) := by
  refine zc_of [some (.ref 289), some (.int s), some (.int w), none, none, none, none, none] rfl (Nat.le_of_ble_eq_true rfl) rfl ?_
  have b1 := hI.c.t8; have b2 := hI.c.m12; have b3 := hI.c.s4; have b4 := hI.c.k6; have b5 := hI.sh24
  refine zt_aload_n (pc := 0) dX5_first_0 rfl rfl ?_
  refine zt_iload_n (pc := 1) dX5_first_1 rfl rfl ?_
  refine wt_callV (pc := 2) mX5_isSound 1 5 (rc' := 0) (rs' := 0) dX5_first_2 q1499 mi_X5_isSound rfl rfl (ms_o hM) (tm_isSound hM hI.c hA.ce s) rfl rfl rfl rfl rfl rfl ?_
  refine zt_if_eq (pc := 5) 20 dX5_first_5 (by decide) (fun c_5 => ?_) (fun c_5 => ?_)
  · refine zt_iconst (pc := 20) dX5_first_20 (v := (-1)) rfl ?_
    exact zt_ireturn (pc := 21) dX5_first_21 rfl (⟨congrArg some (congrArg Value.int (Eq.symm (if_neg (fun q => bI_eq0.mp c_5 q.1)))), congrArg (zW h) (Eq.symm (if_neg (fun q => bI_eq0.mp c_5 q.1)))⟩)
  · have hn_s_ : inN s (cS A) := bI_ne0 c_5
    obtain ⟨s_, hl_s_, rfl⟩ := inN_of hn_s_ (by have := hI.c.s4; omega)
    refine zt_iload_n (pc := 8) dX5_first_8 rfl rfl ?_
    refine zt_i2l (pc := 9) dX5_first_9 rfl ?_
    refine zt_lconst (pc := 10) dX5_first_10 (v := 0) rfl ?_
    refine zt_ldc2 (pc := 11) dX5_first_11 q1544 ?_
    refine wt_callS (pc := 14) mX5_in 3 (rc' := 0) (rs' := 0) dX5_first_14 q1223 ms_X5_in (tm_in w.toInt64 0 2) rfl rfl rfl rfl rfl rfl ?_
    refine zt_if_ne (pc := 17) 22 dX5_first_17 (by decide) (fun c_17 => ?_) (fun c_17 => ?_)
    · have hn_w_ : inN w 3 := (in_c w 2 (by decide)).mp (bI_ne0 c_17)
      obtain ⟨w_, hl_w_, rfl⟩ := inN_of hn_w_ (by decide)
      refine zt_bipush (pc := 22) dX5_first_22 (v := (-4)) rfl ?_
      refine zt_istore_n (pc := 24) (L' := [some (.ref 289), some (.int (nI s_)), some (.int (nI w_)), some (.int (-4)), none, none, none, none]) dX5_first_24 rfl (by decide) rfl rfl ?_
      refine zt_iconst (pc := 25) dX5_first_25 (v := 0) rfl ?_
      refine zt_istore (pc := 26) (L' := [some (.ref 289), some (.int (nI s_)), some (.int (nI w_)), some (.int (-4)), some (.int 0), none, none, none]) dX5_first_26 (by decide) rfl rfl ?_
      refine zt_iconst (pc := 28) dX5_first_28 (v := 0) rfl ?_
      refine zt_istore (pc := 29) (L' := [some (.ref 289), some (.int (nI s_)), some (.int (nI w_)), some (.int (-4)), some (.int 0), some (.int 0), none, none]) dX5_first_29 (by decide) rfl rfl ?_
      refine zt_S (zs_eq (a := 302) (f := A 302) (hA 302 (by decide) (by decide))) ?_
      by_cases h0 : s_all_ch A ≤ 0
      · skip
        refine zt_iload (pc := 31) dX5_first_31 rfl ?_
        refine zt_aload_n (pc := 33) dX5_first_33 rfl rfl ?_
        refine wt_getI (pc := 34) 5 0 (v := nI (cT A)) dX5_first_34 q1272 rfl (ms_o hM) (hA.ce.t hI.c) ?_
        refine zt_geN (a := 0) (b := cT A) (pc := 37) 188 dX5_first_37 (by decide) (by omega) (by omega) (fun c_37 => ?_) (fun c_37 => ?_)
        · refine zt_iload_n (pc := 188) dX5_first_188 rfl rfl ?_
          refine zt_bipush (pc := 189) dX5_first_189 (v := (-4)) rfl ?_
          refine zt_icmp_ne (pc := 191) 199 dX5_first_191 (by decide) (fun c_191 => absurd rfl c_191) (fun c_191 => ?_)
          refine zt_bipush (pc := 194) dX5_first_194 (v := (-4)) rfl ?_
          refine zt_goto (pc := 196) 219 dX5_first_196 (by decide) ?_
          exact zt_ireturn (pc := 219) dX5_first_219 rfl (⟨congrArg some (congrArg Value.int (Eq.symm (by unfold o_first; rw [if_pos ⟨hn_s_, hn_w_⟩, nI_clamp (show s_ < 2 ^ 31 by omega), (show s_fiE A s_ = (A 302, -4, 0) from if_pos h0)]; exact if_pos c_191))), congrArg (zW h) (Eq.symm (by unfold w_first; rw [if_pos ⟨hn_s_, hn_w_⟩, nI_clamp (show s_ < 2 ^ 31 by omega), (show s_fiE A s_ = (A 302, -4, 0) from if_pos h0)]))⟩)
        · refine zt_aload_n (pc := 40) dX5_first_40 rfl rfl ?_
          refine wt_callV (pc := 41) mX5_allChances 0 5 (rc' := 0) (rs' := 0) dX5_first_41 q1625 mi_X5_allChances rfl rfl (ms_o hM) (tm_allChances hM hI.c (hA.ce.z (Or.inr (by decide)))) rfl rfl rfl rfl rfl rfl ?_
          refine zt_if_le (pc := 44) 188 dX5_first_44 (by decide) (fun c_44 => ?_) (fun c_44 => absurd h0 c_44)
          refine zt_iload_n (pc := 188) dX5_first_188 rfl rfl ?_
          refine zt_bipush (pc := 189) dX5_first_189 (v := (-4)) rfl ?_
          refine zt_icmp_ne (pc := 191) 199 dX5_first_191 (by decide) (fun c_191 => absurd rfl c_191) (fun c_191 => ?_)
          refine zt_bipush (pc := 194) dX5_first_194 (v := (-4)) rfl ?_
          refine zt_goto (pc := 196) 219 dX5_first_196 (by decide) ?_
          exact zt_ireturn (pc := 219) dX5_first_219 rfl (⟨congrArg some (congrArg Value.int (Eq.symm (by unfold o_first; rw [if_pos ⟨hn_s_, hn_w_⟩, nI_clamp (show s_ < 2 ^ 31 by omega), (show s_fiE A s_ = (A 302, -4, 0) from if_pos h0)]; exact if_pos c_191))), congrArg (zW h) (Eq.symm (by unfold w_first; rw [if_pos ⟨hn_s_, hn_w_⟩, nI_clamp (show s_ < 2 ^ 31 by omega), (show s_fiE A s_ = (A 302, -4, 0) from if_pos h0)]))⟩)
      · skip
        refine zt_for (pc := 31) (fun t => zs S 302 (s_fi A s_ t).1) (fun t => [some (.ref 289), some (.int (nI s_)), some (.int (nI w_)), some (.int ((s_fi A s_ t).2.1)), some (.int ((s_fi A s_ t).2.2)), some (.int (nI t)), none, none]) (cT A) rfl rfl ?_ (fun t hi_t ih_t => ?_)
        · show Zt _ _ _ _ _ _ (zW h (zs S 302 (s_fi A s_ (cT A)).1)) 31 [some (.ref 289), some (.int (nI s_)), some (.int (nI w_)), some (.int ((s_fi A s_ (cT A)).2.1)), some (.int ((s_fi A s_ (cT A)).2.2)), some (.int (nI (cT A))), none, none] []
          refine zt_iload (pc := 31) dX5_first_31 rfl ?_
          refine zt_aload_n (pc := 33) dX5_first_33 rfl rfl ?_
          refine wt_getI (pc := 34) 5 0 (v := nI (cT A)) dX5_first_34 q1272 rfl (ms_o hM) (hA.ce.t hI.c) ?_
          refine zt_geN (a := cT A) (b := cT A) (pc := 37) 188 dX5_first_37 (by decide) (by omega) (by omega) (fun c_37 => ?_) (fun c_37 => absurd c_37 (Nat.lt_irrefl _))
          refine zt_iload_n (pc := 188) dX5_first_188 rfl rfl ?_
          refine zt_bipush (pc := 189) dX5_first_189 (v := (-4)) rfl ?_
          refine zt_icmp_ne (pc := 191) 199 dX5_first_191 (by decide) (fun c_191 => ?_) (fun c_191 => ?_)
          · refine zt_iload_n (pc := 199) dX5_first_199 rfl rfl ?_
            refine zt_if_ne (pc := 200) 207 dX5_first_200 (by decide) (fun c_200 => ?_) (fun c_200 => ?_)
            · obtain ⟨c1, hc1, e1⟩ := fi_nat hI.c s_ (cT A)
              obtain ⟨c2, hc2, e2⟩ := ch_nat hI.c (1 <<< (nI (cK A) &&& 31) - 1) (cK A) (Nat.le_refl _)
              obtain ⟨hl1, hm1⟩ := nN_eq e1 (by omega)
              obtain ⟨hl2, hm2⟩ := nN_eq (x := s_all_ch A) e2 (by omega)
              have hp2 : 0 < nN (s_all_ch A) := Nat.pos_of_ne_zero (fun z => h0 (by rw [hl2, z]; decide))
              refine zt_iload (pc := 207) dX5_first_207 rfl ?_
              refine zt_aload_n (pc := 209) dX5_first_209 rfl rfl ?_
              refine wt_callV (pc := 210) mX5_allChances 0 5 (rc' := 0) (rs' := 0) dX5_first_210 q1625 mi_X5_allChances rfl rfl (ms_o hM) (tm_allChances hM hI.c (hA.ce.z (Or.inr (by decide)))) rfl rfl rfl rfl rfl rfl ?_
              refine zt_iload_n (pc := 213) dX5_first_213 rfl rfl ?_
              refine zt_iconst (pc := 214) dX5_first_214 (v := 1) rfl ?_
              refine zt_isub (pc := 215) dX5_first_215 ?_
              refine wt_callS (pc := 216) mX5_lowest 3 (rc' := 0) (rs' := 0) dX5_first_216 q1637 ms_X5_lowest (by have e0 := tm_lowest (g := g) (h := h) (S := zs S 302 (s_fi A s_ (cT A)).1) (nN (s_fi A s_ (cT A)).2.2) (nN (s_all_ch A)) (by omega) (by omega) (by omega) (nI w_ - 1); rw [← hl1, ← hl2] at e0; exact e0) rfl rfl rfl rfl rfl rfl ?_
              exact zt_ireturn (pc := 219) dX5_first_219 rfl (⟨congrArg some (congrArg Value.int (Eq.symm (by unfold o_first; rw [if_pos ⟨hn_s_, hn_w_⟩, nI_clamp (show s_ < 2 ^ 31 by omega), (show s_fiE A s_ = s_fi A s_ (cT A) from if_neg h0)]; exact (if_neg c_191).trans (if_neg c_200)))), congrArg (zW h) (Eq.symm (by unfold w_first; rw [if_pos ⟨hn_s_, hn_w_⟩, nI_clamp (show s_ < 2 ^ 31 by omega), (show s_fiE A s_ = s_fi A s_ (cT A) from if_neg h0)]))⟩)
            · refine zt_iload_n (pc := 203) dX5_first_203 rfl rfl ?_
              refine zt_goto (pc := 204) 219 dX5_first_204 (by decide) ?_
              exact zt_ireturn (pc := 219) dX5_first_219 rfl (⟨congrArg some (congrArg Value.int (Eq.symm (by unfold o_first; rw [if_pos ⟨hn_s_, hn_w_⟩, nI_clamp (show s_ < 2 ^ 31 by omega), (show s_fiE A s_ = s_fi A s_ (cT A) from if_neg h0)]; exact (if_neg c_191).trans (if_pos c_200)))), congrArg (zW h) (Eq.symm (by unfold w_first; rw [if_pos ⟨hn_s_, hn_w_⟩, nI_clamp (show s_ < 2 ^ 31 by omega), (show s_fiE A s_ = s_fi A s_ (cT A) from if_neg h0)]))⟩)
          · refine zt_bipush (pc := 194) dX5_first_194 (v := (-4)) rfl ?_
            refine zt_goto (pc := 196) 219 dX5_first_196 (by decide) ?_
            exact zt_ireturn (pc := 219) dX5_first_219 rfl (⟨congrArg some (congrArg Value.int (Eq.symm (by unfold o_first; rw [if_pos ⟨hn_s_, hn_w_⟩, nI_clamp (show s_ < 2 ^ 31 by omega), (show s_fiE A s_ = s_fi A s_ (cT A) from if_neg h0)]; exact if_pos c_191))), congrArg (zW h) (Eq.symm (by unfold w_first; rw [if_pos ⟨hn_s_, hn_w_⟩, nI_clamp (show s_ < 2 ^ 31 by omega), (show s_fiE A s_ = s_fi A s_ (cT A) from if_neg h0)]))⟩)
        · show Zt _ _ _ _ _ _ (zW h (zs S 302 (s_fi A s_ t).1)) 31 [some (.ref 289), some (.int (nI s_)), some (.int (nI w_)), some (.int ((s_fi A s_ t).2.1)), some (.int ((s_fi A s_ t).2.2)), some (.int (nI t)), none, none] []
          refine zt_iload (pc := 31) dX5_first_31 rfl ?_
          refine zt_aload_n (pc := 33) dX5_first_33 rfl rfl ?_
          refine wt_getI (pc := 34) 5 0 (v := nI (cT A)) dX5_first_34 q1272 rfl (ms_o hM) (hA.ce.t hI.c) ?_
          refine zt_geN (a := t) (b := cT A) (pc := 37) 188 dX5_first_37 (by decide) (by omega) (by omega) (fun c_37 => absurd hi_t (Nat.not_lt.mpr c_37)) (fun c_37 => ?_)
          refine zt_aload_n (pc := 40) dX5_first_40 rfl rfl ?_
          refine wt_callV (pc := 41) mX5_allChances 0 5 (rc' := 0) (rs' := 0) dX5_first_41 q1625 mi_X5_allChances rfl rfl (ms_o hM) (tm_allChances hM hI.c (hA.ce.z (Or.inr (by decide)))) rfl rfl rfl rfl rfl rfl ?_
          refine zt_if_le (pc := 44) 188 dX5_first_44 (by decide) (fun c_44 => absurd c_44 h0) (fun c_44 => ?_)
          refine zt_aload_n (pc := 47) dX5_first_47 rfl rfl ?_
          refine zt_iconst (pc := 48) dX5_first_48 (v := 1) rfl ?_
          refine wt_callV (pc := 49) mX5_feared 1 5 (rc' := 0) (rs' := 0) dX5_first_49 q1633 mi_X5_feared rfl rfl (ms_o hM) (tm_feared hM hI.c (hA.ce.z (Or.inr (by decide))) 1) rfl rfl rfl rfl rfl rfl ?_
          refine zt_iload (pc := 52) dX5_first_52 rfl ?_
          refine zt_ishr (pc := 54) dX5_first_54 ?_
          refine zt_iconst (pc := 55) dX5_first_55 (v := 1) rfl ?_
          refine zt_iand (pc := 56) dX5_first_56 ?_
          refine zt_if_ne (pc := 57) 182 dX5_first_57 (by decide) (fun c_57 => ?_) (fun c_57 => ?_)
          · have e57 : s_fi A s_ (t + 1) = s_fi A s_ t := show s_fiF A s_ t (s_fi A s_ t) = _ from if_neg c_57
            refine zt_SL (S' := zs S 302 (s_fi A s_ (t + 1)).1) (L' := [some (.ref 289), some (.int (nI s_)), some (.int (nI w_)), some (.int ((s_fi A s_ (t + 1)).2.1)), some (.int ((s_fi A s_ (t + 1)).2.2)), some (.int (nI t)), none, none]) (by rw [e57]) (by rw [e57]) ?_
            refine zt_iincN (pc := 182) (b := t + 1) (L' := [some (.ref 289), some (.int (nI s_)), some (.int (nI w_)), some (.int ((s_fi A s_ (t + 1)).2.1)), some (.int ((s_fi A s_ (t + 1)).2.2)), some (.int (nI (t + 1))), none, none]) dX5_first_182 rfl (zinc1 t) (by decide) rfl rfl ?_
            refine zt_goto (pc := 185) 31 dX5_first_185 (by decide) ?_
            exact ih_t
          · refine zt_aload_n (pc := 60) dX5_first_60 rfl rfl ?_
            refine zt_bipush (pc := 61) dX5_first_61 (v := 70) rfl ?_
            refine wt_callV (pc := 63) mX5_wakes 1 5 (rc' := 0) (rs' := 0) dX5_first_63 q1217 mi_X5_wakes rfl rfl (ms_o hM) (tm_wakes hM 70 (by decide)) rfl rfl rfl rfl rfl rfl ?_
            refine zt_aload_n (pc := 66) dX5_first_66 rfl rfl ?_
            refine zt_bipush (pc := 67) dX5_first_67 (v := 70) rfl ?_
            refine zt_iconst (pc := 69) dX5_first_69 (v := 0) rfl ?_
            refine zt_iload_n (pc := 70) dX5_first_70 rfl rfl ?_
            refine zt_iload (pc := 71) dX5_first_71 rfl ?_
            refine zt_aload_n (pc := 73) dX5_first_73 rfl rfl ?_
            refine zt_iload_n (pc := 74) dX5_first_74 rfl rfl ?_
            refine zt_iload (pc := 75) dX5_first_75 rfl ?_
            refine wt_callV (pc := 77) mX5_isTrue 2 5 (rc' := 0) (rs' := 0) dX5_first_77 q1524 mi_X5_isTrue rfl rfl (ms_o hM) (tm_isTrue hM hI.c (hA.ce.z (Or.inr (by decide))) s_ (by omega) (nI t)) rfl rfl rfl rfl rfl rfl ?_
            refine wt_callV (pc := 80) mX5_sees 5 5 (rc' := 0) (rs' := 0) dX5_first_80 q1226 mi_X5_sees rfl rfl (ms_o hM) (tm_sees hM hI.c hA.ce 70 s_ (by decide) (by omega) 0 (nI t) (s_true A s_ (nI t)) bI_or wakes_ok.2) rfl rfl rfl rfl rfl rfl ?_
            refine zt_iconst (pc := 83) dX5_first_83 (v := 0) rfl ?_
            refine zt_istore (pc := 84) (L' := [some (.ref 289), some (.int (nI s_)), some (.int (nI w_)), some (.int ((s_fi A s_ t).2.1)), some (.int ((s_fi A s_ t).2.2)), some (.int (nI t)), some (.int 0), none]) dX5_first_84 (by decide) rfl rfl ?_
            refine zt_iconst (pc := 86) dX5_first_86 (v := 0) rfl ?_
            refine zt_istore (pc := 87) (L' := [some (.ref 289), some (.int (nI s_)), some (.int (nI w_)), some (.int ((s_fi A s_ t).2.1)), some (.int ((s_fi A s_ t).2.2)), some (.int (nI t)), some (.int 0), some (.int 0)]) dX5_first_87 (by decide) rfl rfl ?_
            refine zt_for (pc := 89) (fun k => zs S 302 (s_fiS A s_ t (s_fi A s_ t).1)) (fun k => [some (.ref 289), some (.int (nI s_)), some (.int (nI w_)), some (.int ((s_fi A s_ t).2.1)), some (.int ((s_fi A s_ t).2.2)), some (.int (nI t)), some (.int (itr (s_fiK A s_ (s_fiS A s_ t (s_fi A s_ t).1)) 0 k)), some (.int (nI k))]) (cK A) rfl rfl ?_ (fun k hi_k ih_k => ?_)
            · show Zt _ _ _ _ _ _ (zW h (zs S 302 (s_fiS A s_ t (s_fi A s_ t).1))) 89 [some (.ref 289), some (.int (nI s_)), some (.int (nI w_)), some (.int ((s_fi A s_ t).2.1)), some (.int ((s_fi A s_ t).2.2)), some (.int (nI t)), some (.int (itr (s_fiK A s_ (s_fiS A s_ t (s_fi A s_ t).1)) 0 (cK A))), some (.int (nI (cK A)))] []
              refine zt_iload (pc := 89) dX5_first_89 rfl ?_
              refine zt_aload_n (pc := 91) dX5_first_91 rfl rfl ?_
              refine wt_getI (pc := 92) 5 7 (v := nI (cK A)) dX5_first_92 q1279 rfl (ms_o hM) (hA.ce.k hI.c) ?_
              refine zt_geN (a := cK A) (b := cK A) (pc := 95) 136 dX5_first_95 (by decide) (by omega) (by omega) (fun c_95 => ?_) (fun c_95 => absurd c_95 (Nat.lt_irrefl _))
              refine zt_iload_n (pc := 136) dX5_first_136 rfl rfl ?_
              refine zt_bipush (pc := 137) dX5_first_137 (v := (-4)) rfl ?_
              refine zt_icmp_eq (pc := 139) 149 dX5_first_139 (by decide) (fun c_139 => ?_) (fun c_139 => ?_)
              · refine zt_iconst (pc := 149) dX5_first_149 (v := 1) rfl ?_
                refine zt_goto (pc := 150) 154 dX5_first_150 (by decide) ?_
                refine zt_istore (pc := 154) (L' := [some (.ref 289), some (.int (nI s_)), some (.int (nI w_)), some (.int ((s_fi A s_ t).2.1)), some (.int ((s_fi A s_ t).2.2)), some (.int (nI t)), some (.int (s_fiN A s_ (s_fiS A s_ t (s_fi A s_ t).1))), some (.int 1)]) dX5_first_154 (by decide) rfl rfl ?_
                refine zt_iload (pc := 156) dX5_first_156 rfl ?_
                refine zt_if_eq (pc := 158) 166 dX5_first_158 (by decide) (fun c_158 => absurd c_158 (by decide)) (fun c_158 => ?_)
                refine zt_iload (pc := 161) dX5_first_161 rfl ?_
                refine zt_goto (pc := 163) 167 dX5_first_163 (by decide) ?_
                refine zt_top (pc := 167) ((s_fi A s_ (t + 1)).2.1) ((congrArg (fun z => z.2.1) (show s_fiF A s_ t (s_fi A s_ t) = (s_fiS A s_ t (s_fi A s_ t).1, (nI t, s_fiN A s_ (s_fiS A s_ t (s_fi A s_ t).1))) from (if_pos c_57).trans (congrArg (Prod.mk (s_fiS A s_ t (s_fi A s_ t).1)) (if_pos (Or.inl c_139))))).symm) ?_
                refine zt_istore_n (pc := 167) (L' := [some (.ref 289), some (.int (nI s_)), some (.int (nI w_)), some (.int ((s_fi A s_ (t + 1)).2.1)), some (.int ((s_fi A s_ t).2.2)), some (.int (nI t)), some (.int (s_fiN A s_ (s_fiS A s_ t (s_fi A s_ t).1))), some (.int 1)]) dX5_first_167 rfl (by decide) rfl rfl ?_
                refine zt_iload (pc := 168) dX5_first_168 rfl ?_
                refine zt_if_eq (pc := 170) 178 dX5_first_170 (by decide) (fun c_170 => absurd c_170 (by decide)) (fun c_170 => ?_)
                refine zt_iload (pc := 173) dX5_first_173 rfl ?_
                refine zt_goto (pc := 175) 180 dX5_first_175 (by decide) ?_
                refine zt_top (pc := 180) ((s_fi A s_ (t + 1)).2.2) ((congrArg (fun z => z.2.2) (show s_fiF A s_ t (s_fi A s_ t) = (s_fiS A s_ t (s_fi A s_ t).1, (nI t, s_fiN A s_ (s_fiS A s_ t (s_fi A s_ t).1))) from (if_pos c_57).trans (congrArg (Prod.mk (s_fiS A s_ t (s_fi A s_ t).1)) (if_pos (Or.inl c_139))))).symm) ?_
                refine zt_istore (pc := 180) (L' := [some (.ref 289), some (.int (nI s_)), some (.int (nI w_)), some (.int ((s_fi A s_ (t + 1)).2.1)), some (.int ((s_fi A s_ (t + 1)).2.2)), some (.int (nI t)), some (.int (s_fiN A s_ (s_fiS A s_ t (s_fi A s_ t).1))), some (.int 1)]) dX5_first_180 (by decide) rfl rfl ?_
                refine zt_S (S' := zs S 302 (s_fi A s_ (t + 1)).1) (congrArg (zs S 302) (congrArg Prod.fst (show s_fiF A s_ t (s_fi A s_ t) = (s_fiS A s_ t (s_fi A s_ t).1, (nI t, s_fiN A s_ (s_fiS A s_ t (s_fi A s_ t).1))) from (if_pos c_57).trans (congrArg (Prod.mk (s_fiS A s_ t (s_fi A s_ t).1)) (if_pos (Or.inl c_139))))).symm) ?_
                refine zt_drop (L' := [some (.ref 289), some (.int (nI s_)), some (.int (nI w_)), some (.int ((s_fi A s_ (t + 1)).2.1)), some (.int ((s_fi A s_ (t + 1)).2.2)), some (.int (nI t)), none, some (.int 1)]) 6 rfl ?_
                refine zt_drop (L' := [some (.ref 289), some (.int (nI s_)), some (.int (nI w_)), some (.int ((s_fi A s_ (t + 1)).2.1)), some (.int ((s_fi A s_ (t + 1)).2.2)), some (.int (nI t)), none, none]) 7 rfl ?_
                refine zt_iincN (pc := 182) (b := t + 1) (L' := [some (.ref 289), some (.int (nI s_)), some (.int (nI w_)), some (.int ((s_fi A s_ (t + 1)).2.1)), some (.int ((s_fi A s_ (t + 1)).2.2)), some (.int (nI (t + 1))), none, none]) dX5_first_182 rfl (zinc1 t) (by decide) rfl rfl ?_
                refine zt_goto (pc := 185) 31 dX5_first_185 (by decide) ?_
                exact ih_t
              · refine zt_iload (pc := 142) dX5_first_142 rfl ?_
                refine zt_iload (pc := 144) dX5_first_144 rfl ?_
                refine zt_icmp_le (pc := 146) 153 dX5_first_146 (by decide) (fun c_146 => ?_) (fun c_146 => ?_)
                · refine zt_iconst (pc := 153) dX5_first_153 (v := 0) rfl ?_
                  refine zt_istore (pc := 154) (L' := [some (.ref 289), some (.int (nI s_)), some (.int (nI w_)), some (.int ((s_fi A s_ t).2.1)), some (.int ((s_fi A s_ t).2.2)), some (.int (nI t)), some (.int (s_fiN A s_ (s_fiS A s_ t (s_fi A s_ t).1))), some (.int 0)]) dX5_first_154 (by decide) rfl rfl ?_
                  refine zt_iload (pc := 156) dX5_first_156 rfl ?_
                  refine zt_if_eq (pc := 158) 166 dX5_first_158 (by decide) (fun c_158 => ?_) (fun c_158 => absurd (by decide) c_158)
                  refine zt_iload_n (pc := 166) dX5_first_166 rfl rfl ?_
                  refine zt_top (pc := 167) ((s_fi A s_ (t + 1)).2.1) ((congrArg (fun z => z.2.1) (show s_fiF A s_ t (s_fi A s_ t) = (s_fiS A s_ t (s_fi A s_ t).1, (s_fi A s_ t).2) from (if_pos c_57).trans (congrArg (Prod.mk (s_fiS A s_ t (s_fi A s_ t).1)) (if_neg (fun z => z.elim c_139 (fun y => absurd c_146 (Int32.not_le.mpr y))))))).symm) ?_
                  refine zt_istore_n (pc := 167) (L' := [some (.ref 289), some (.int (nI s_)), some (.int (nI w_)), some (.int ((s_fi A s_ (t + 1)).2.1)), some (.int ((s_fi A s_ t).2.2)), some (.int (nI t)), some (.int (s_fiN A s_ (s_fiS A s_ t (s_fi A s_ t).1))), some (.int 0)]) dX5_first_167 rfl (by decide) rfl rfl ?_
                  refine zt_iload (pc := 168) dX5_first_168 rfl ?_
                  refine zt_if_eq (pc := 170) 178 dX5_first_170 (by decide) (fun c_170 => ?_) (fun c_170 => absurd (by decide) c_170)
                  refine zt_iload (pc := 178) dX5_first_178 rfl ?_
                  refine zt_top (pc := 180) ((s_fi A s_ (t + 1)).2.2) ((congrArg (fun z => z.2.2) (show s_fiF A s_ t (s_fi A s_ t) = (s_fiS A s_ t (s_fi A s_ t).1, (s_fi A s_ t).2) from (if_pos c_57).trans (congrArg (Prod.mk (s_fiS A s_ t (s_fi A s_ t).1)) (if_neg (fun z => z.elim c_139 (fun y => absurd c_146 (Int32.not_le.mpr y))))))).symm) ?_
                  refine zt_istore (pc := 180) (L' := [some (.ref 289), some (.int (nI s_)), some (.int (nI w_)), some (.int ((s_fi A s_ (t + 1)).2.1)), some (.int ((s_fi A s_ (t + 1)).2.2)), some (.int (nI t)), some (.int (s_fiN A s_ (s_fiS A s_ t (s_fi A s_ t).1))), some (.int 0)]) dX5_first_180 (by decide) rfl rfl ?_
                  refine zt_S (S' := zs S 302 (s_fi A s_ (t + 1)).1) (congrArg (zs S 302) (congrArg Prod.fst (show s_fiF A s_ t (s_fi A s_ t) = (s_fiS A s_ t (s_fi A s_ t).1, (s_fi A s_ t).2) from (if_pos c_57).trans (congrArg (Prod.mk (s_fiS A s_ t (s_fi A s_ t).1)) (if_neg (fun z => z.elim c_139 (fun y => absurd c_146 (Int32.not_le.mpr y))))))).symm) ?_
                  refine zt_drop (L' := [some (.ref 289), some (.int (nI s_)), some (.int (nI w_)), some (.int ((s_fi A s_ (t + 1)).2.1)), some (.int ((s_fi A s_ (t + 1)).2.2)), some (.int (nI t)), none, some (.int 0)]) 6 rfl ?_
                  refine zt_drop (L' := [some (.ref 289), some (.int (nI s_)), some (.int (nI w_)), some (.int ((s_fi A s_ (t + 1)).2.1)), some (.int ((s_fi A s_ (t + 1)).2.2)), some (.int (nI t)), none, none]) 7 rfl ?_
                  refine zt_iincN (pc := 182) (b := t + 1) (L' := [some (.ref 289), some (.int (nI s_)), some (.int (nI w_)), some (.int ((s_fi A s_ (t + 1)).2.1)), some (.int ((s_fi A s_ (t + 1)).2.2)), some (.int (nI (t + 1))), none, none]) dX5_first_182 rfl (zinc1 t) (by decide) rfl rfl ?_
                  refine zt_goto (pc := 185) 31 dX5_first_185 (by decide) ?_
                  exact ih_t
                · refine zt_iconst (pc := 149) dX5_first_149 (v := 1) rfl ?_
                  refine zt_goto (pc := 150) 154 dX5_first_150 (by decide) ?_
                  refine zt_istore (pc := 154) (L' := [some (.ref 289), some (.int (nI s_)), some (.int (nI w_)), some (.int ((s_fi A s_ t).2.1)), some (.int ((s_fi A s_ t).2.2)), some (.int (nI t)), some (.int (s_fiN A s_ (s_fiS A s_ t (s_fi A s_ t).1))), some (.int 1)]) dX5_first_154 (by decide) rfl rfl ?_
                  refine zt_iload (pc := 156) dX5_first_156 rfl ?_
                  refine zt_if_eq (pc := 158) 166 dX5_first_158 (by decide) (fun c_158 => absurd c_158 (by decide)) (fun c_158 => ?_)
                  refine zt_iload (pc := 161) dX5_first_161 rfl ?_
                  refine zt_goto (pc := 163) 167 dX5_first_163 (by decide) ?_
                  refine zt_top (pc := 167) ((s_fi A s_ (t + 1)).2.1) ((congrArg (fun z => z.2.1) (show s_fiF A s_ t (s_fi A s_ t) = (s_fiS A s_ t (s_fi A s_ t).1, (nI t, s_fiN A s_ (s_fiS A s_ t (s_fi A s_ t).1))) from (if_pos c_57).trans (congrArg (Prod.mk (s_fiS A s_ t (s_fi A s_ t).1)) (if_pos (Or.inr (Int32.not_le.mp c_146)))))).symm) ?_
                  refine zt_istore_n (pc := 167) (L' := [some (.ref 289), some (.int (nI s_)), some (.int (nI w_)), some (.int ((s_fi A s_ (t + 1)).2.1)), some (.int ((s_fi A s_ t).2.2)), some (.int (nI t)), some (.int (s_fiN A s_ (s_fiS A s_ t (s_fi A s_ t).1))), some (.int 1)]) dX5_first_167 rfl (by decide) rfl rfl ?_
                  refine zt_iload (pc := 168) dX5_first_168 rfl ?_
                  refine zt_if_eq (pc := 170) 178 dX5_first_170 (by decide) (fun c_170 => absurd c_170 (by decide)) (fun c_170 => ?_)
                  refine zt_iload (pc := 173) dX5_first_173 rfl ?_
                  refine zt_goto (pc := 175) 180 dX5_first_175 (by decide) ?_
                  refine zt_top (pc := 180) ((s_fi A s_ (t + 1)).2.2) ((congrArg (fun z => z.2.2) (show s_fiF A s_ t (s_fi A s_ t) = (s_fiS A s_ t (s_fi A s_ t).1, (nI t, s_fiN A s_ (s_fiS A s_ t (s_fi A s_ t).1))) from (if_pos c_57).trans (congrArg (Prod.mk (s_fiS A s_ t (s_fi A s_ t).1)) (if_pos (Or.inr (Int32.not_le.mp c_146)))))).symm) ?_
                  refine zt_istore (pc := 180) (L' := [some (.ref 289), some (.int (nI s_)), some (.int (nI w_)), some (.int ((s_fi A s_ (t + 1)).2.1)), some (.int ((s_fi A s_ (t + 1)).2.2)), some (.int (nI t)), some (.int (s_fiN A s_ (s_fiS A s_ t (s_fi A s_ t).1))), some (.int 1)]) dX5_first_180 (by decide) rfl rfl ?_
                  refine zt_S (S' := zs S 302 (s_fi A s_ (t + 1)).1) (congrArg (zs S 302) (congrArg Prod.fst (show s_fiF A s_ t (s_fi A s_ t) = (s_fiS A s_ t (s_fi A s_ t).1, (nI t, s_fiN A s_ (s_fiS A s_ t (s_fi A s_ t).1))) from (if_pos c_57).trans (congrArg (Prod.mk (s_fiS A s_ t (s_fi A s_ t).1)) (if_pos (Or.inr (Int32.not_le.mp c_146)))))).symm) ?_
                  refine zt_drop (L' := [some (.ref 289), some (.int (nI s_)), some (.int (nI w_)), some (.int ((s_fi A s_ (t + 1)).2.1)), some (.int ((s_fi A s_ (t + 1)).2.2)), some (.int (nI t)), none, some (.int 1)]) 6 rfl ?_
                  refine zt_drop (L' := [some (.ref 289), some (.int (nI s_)), some (.int (nI w_)), some (.int ((s_fi A s_ (t + 1)).2.1)), some (.int ((s_fi A s_ (t + 1)).2.2)), some (.int (nI t)), none, none]) 7 rfl ?_
                  refine zt_iincN (pc := 182) (b := t + 1) (L' := [some (.ref 289), some (.int (nI s_)), some (.int (nI w_)), some (.int ((s_fi A s_ (t + 1)).2.1)), some (.int ((s_fi A s_ (t + 1)).2.2)), some (.int (nI (t + 1))), none, none]) dX5_first_182 rfl (zinc1 t) (by decide) rfl rfl ?_
                  refine zt_goto (pc := 185) 31 dX5_first_185 (by decide) ?_
                  exact ih_t
            · show Zt _ _ _ _ _ _ (zW h (zs S 302 (s_fiS A s_ t (s_fi A s_ t).1))) 89 [some (.ref 289), some (.int (nI s_)), some (.int (nI w_)), some (.int ((s_fi A s_ t).2.1)), some (.int ((s_fi A s_ t).2.2)), some (.int (nI t)), some (.int (itr (s_fiK A s_ (s_fiS A s_ t (s_fi A s_ t).1)) 0 k)), some (.int (nI k))] []
              refine zt_iload (pc := 89) dX5_first_89 rfl ?_
              refine zt_aload_n (pc := 91) dX5_first_91 rfl rfl ?_
              refine wt_getI (pc := 92) 5 7 (v := nI (cK A)) dX5_first_92 q1279 rfl (ms_o hM) (hA.ce.k hI.c) ?_
              refine zt_geN (a := k) (b := cK A) (pc := 95) 136 dX5_first_95 (by decide) (by omega) (by omega) (fun c_95 => absurd hi_k (Nat.not_lt.mpr c_95)) (fun c_95 => ?_)
              refine zt_iload (pc := 98) dX5_first_98 rfl ?_
              refine zt_aload_n (pc := 100) dX5_first_100 rfl rfl ?_
              refine zt_bipush (pc := 101) dX5_first_101 (v := 70) rfl ?_
              refine zt_iload (pc := 103) dX5_first_103 rfl ?_
              refine zt_iload_n (pc := 105) dX5_first_105 rfl rfl ?_
              refine wt_callV (pc := 106) mX5_isSame 3 5 (rc' := 0) (rs' := 0) dX5_first_106 q1557 mi_X5_isSame rfl rfl (ms_o hM) (tm_isSame hM hI.c hA.ce 70 k s_ (by decide) (by omega) (by omega) (sees_ok hI.c (show s_ < 4 by omega) (wakes_ok (f := (s_fi A s_ t).1) (b := 70)).2 (cK A) (Nat.le_refl _)).1) rfl rfl rfl rfl rfl rfl ?_
              refine zt_if_eq (pc := 109) 126 dX5_first_109 (by decide) (fun c_109 => ?_) (fun c_109 => ?_)
              · refine zt_iconst (pc := 126) dX5_first_126 (v := 0) rfl ?_
                refine zt_iadd (pc := 127) dX5_first_127 ?_
                refine zt_top (pc := 128) (itr (s_fiK A s_ (s_fiS A s_ t (s_fi A s_ t).1)) 0 (k + 1)) (show _ = s_fiK A s_ (s_fiS A s_ t (s_fi A s_ t).1) k _ from congrArg _ (if_pos c_109).symm) ?_
                refine zt_istore (pc := 128) (L' := [some (.ref 289), some (.int (nI s_)), some (.int (nI w_)), some (.int ((s_fi A s_ t).2.1)), some (.int ((s_fi A s_ t).2.2)), some (.int (nI t)), some (.int (itr (s_fiK A s_ (s_fiS A s_ t (s_fi A s_ t).1)) 0 (k + 1))), some (.int (nI k))]) dX5_first_128 (by decide) rfl rfl ?_
                refine zt_iincN (pc := 130) (b := k + 1) (L' := [some (.ref 289), some (.int (nI s_)), some (.int (nI w_)), some (.int ((s_fi A s_ t).2.1)), some (.int ((s_fi A s_ t).2.2)), some (.int (nI t)), some (.int (itr (s_fiK A s_ (s_fiS A s_ t (s_fi A s_ t).1)) 0 (k + 1))), some (.int (nI (k + 1)))]) dX5_first_130 rfl (zinc1 k) (by decide) rfl rfl ?_
                refine zt_goto (pc := 133) 89 dX5_first_133 (by decide) ?_
                exact ih_k
              · refine zt_aload_n (pc := 112) dX5_first_112 rfl rfl ?_
                refine wt_getR (pc := 113) 5 8 dX5_first_113 q1280 rfl (ms_o hM) (mr_kind hM) ?_
                refine zt_iconst (pc := 116) dX5_first_116 (v := 5) rfl ?_
                refine zt_iload (pc := 117) dX5_first_117 rfl ?_
                refine zt_imulN (pc := 119) (a := 5) (b := k) dX5_first_119 ?_
                refine zt_iconst (pc := 120) dX5_first_120 (v := 4) rfl ?_
                refine zt_iaddN (pc := 121) (a := 5 * k) (b := 4) dX5_first_121 ?_
                refine wt_iald (pc := 122) 30 ((5 * k) + 4) (v := A 294 ((5 * k) + 4)) dX5_first_122 (ma_kind hM) rfl rfl (by omega) (congrFun (hA 294 (by decide) (by decide)) ((5 * k) + 4)) ?_
                refine zt_goto (pc := 123) 127 dX5_first_123 (by decide) ?_
                refine zt_iadd (pc := 127) dX5_first_127 ?_
                refine zt_top (pc := 128) (itr (s_fiK A s_ (s_fiS A s_ t (s_fi A s_ t).1)) 0 (k + 1)) (show _ = s_fiK A s_ (s_fiS A s_ t (s_fi A s_ t).1) k _ from congrArg _ (if_neg c_109).symm) ?_
                refine zt_istore (pc := 128) (L' := [some (.ref 289), some (.int (nI s_)), some (.int (nI w_)), some (.int ((s_fi A s_ t).2.1)), some (.int ((s_fi A s_ t).2.2)), some (.int (nI t)), some (.int (itr (s_fiK A s_ (s_fiS A s_ t (s_fi A s_ t).1)) 0 (k + 1))), some (.int (nI k))]) dX5_first_128 (by decide) rfl rfl ?_
                refine zt_iincN (pc := 130) (b := k + 1) (L' := [some (.ref 289), some (.int (nI s_)), some (.int (nI w_)), some (.int ((s_fi A s_ t).2.1)), some (.int ((s_fi A s_ t).2.2)), some (.int (nI t)), some (.int (itr (s_fiK A s_ (s_fiS A s_ t (s_fi A s_ t).1)) 0 (k + 1))), some (.int (nI (k + 1)))]) dX5_first_130 rfl (zinc1 k) (by decide) rfl rfl ?_
                refine zt_goto (pc := 133) 89 dX5_first_133 (by decide) ?_
                exact ih_k
    · refine zt_iconst (pc := 20) dX5_first_20 (v := (-1)) rfl ?_
      exact zt_ireturn (pc := 21) dX5_first_21 rfl (⟨congrArg some (congrArg Value.int (Eq.symm (if_neg (fun q => bI_eq0.mp c_17 ((in_c w 2 (by decide)).mpr q.2))))), congrArg (zW h) (Eq.symm (if_neg (fun q => bI_eq0.mp c_17 ((in_c w 2 (by decide)).mpr q.2))))⟩)

end M12