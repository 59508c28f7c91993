/-! THE TWIN, part 13: the text's tokens -/
set_option maxRecDepth 100000
/-- a sign of the text, behind its end -1 -/
def lk (T : Nat → Int32) (n p : Nat) : Int32 := if p < n then T p else -1
/-- how many from p on are of a kind -/
def runN (q : Int32 → Bool) (g : Nat → Int32) : Nat → Nat → Nat
  | 0, _ => 0
  | f + 1, p => if q (g p) = true then runN q g f (p + 1) + 1 else 0
theorem runN_in {q : Int32 → Bool} {g : Nat → Int32} : ∀ (f p i : Nat), i < runN q g f p → q (g (p + i)) = true := by
  intro f
  induction f with
  | zero => intro p i hi; exact absurd hi (Nat.not_lt_zero _)
  | succ f ih =>
    intro p i hi
    unfold runN at hi
    split at hi
    next h =>
      cases i with
      | zero => exact h
      | succ i =>
        have := ih (p + 1) i (by omega)
        rw [show p + (i + 1) = p + 1 + i by omega]; exact this
    next => omega
theorem runN_out {q : Int32 → Bool} {g : Nat → Int32} : ∀ (f p : Nat), (∃ j, j < f ∧ q (g (p + j)) = false) → q (g (p + runN q g f p)) = false ∧ runN q g f p < f := by
  intro f
  induction f with
  | zero => intro p h; obtain ⟨j, hj, -⟩ := h; omega
  | succ f ih =>
    intro p h
    unfold runN
    split
    next hq =>
      obtain ⟨j, hj, hf⟩ := h
      have : ∃ j, j < f ∧ q (g (p + 1 + j)) = false := by
        cases j with
        | zero => rw [Nat.add_zero] at hf; rw [hf] at hq; cases hq
        | succ j => exact ⟨j, by omega, by rw [show p + 1 + j = p + (j + 1) by omega]; exact hf⟩
      obtain ⟨h1, h2⟩ := ih (p + 1) this
      exact ⟨by rw [show p + (runN q g f (p + 1) + 1) = p + 1 + runN q g f (p + 1) by omega]; exact h1, by omega⟩
    next hq => exact ⟨by simpa using hq, by omega⟩
def qSp (c : Int32) : Bool := decide (c = 32)
def qLe (c : Int32) : Bool := decide ((97 : Int64) ≤ c.toInt64 ∧ c.toInt64 ≤ 122)
def qDi (c : Int32) : Bool := decide ((48 : Int64) ≤ c.toInt64 ∧ c.toInt64 ≤ 57)
/-- run of a kind from p on, in a text of n signs -/
def rn (q : Int32 → Bool) (T : Nat → Int32) (n p : Nat) : Nat := runN q (lk T n) (n + 1 - p) p
theorem rn_in {q : Int32 → Bool} {T : Nat → Int32} {n p i : Nat} (h : i < rn q T n p) : q (lk T n (p + i)) = true := runN_in _ _ _ h
theorem rn_out {q : Int32 → Bool} {T : Nat → Int32} {n p : Nat} (hq : q (-1) = false) (hp : p ≤ n) : q (lk T n (p + rn q T n p)) = false ∧ p + rn q T n p ≤ n := by
  have := runN_out (q := q) (g := lk T n) (n + 1 - p) p ⟨n - p, by omega, by rw [show p + (n - p) = n by omega]; unfold lk; rw [if_neg (by omega)]; exact hq⟩
  exact ⟨this.1, by have := this.2; unfold rn; omega⟩
theorem zu_self (S : Nat → Nat → Int32) (a k : Nat) (v : Int32) (h : S a k = v) : zu S a k v = S := by
  funext b j
  unfold zu
  split
  next e => rw [e.1, e.2, h]
  next => rfl
theorem zu_zu (S : Nat → Nat → Int32) (a k : Nat) (v v' : Int32) : zu (zu S a k v) a k v' = zu S a k v' := by
  funext b j
  unfold zu
  split
  · rfl
  · rfl
def w_needs (S : Nat → Nat → Int32) (g c : Int32) : Nat → Nat → Int32 := if g = 0 ∧ S 289 25 = 0 then zu (zu S 289 25 c) 289 26 (S 289 22) else S
section M13
variable {g : ZG} {h : ZH} {S A C : Nat → Nat → Int32} {f : Nat → Int32}
theorem tm_look (hM : MS h.2.1 h.2.2.2) (T : Nat → Int32) (n : Nat) (hn : n ≤ 400) (h20 : S 289 20 = nI n) (h301 : S 301 = T) (p : Nat) (hp : p < 100000) : Zd g mX5_look 1 0 0 [.ref 289, .int (nI p)] (zW h S) (some (.int (lk T n p))) (zW h S) := by
  refine zc_of [some (.ref 289), some (.int (nI p))] rfl (Nat.le_of_ble_eq_true rfl) rfl ?_
  refine zt_iload_n (pc := 0) dX5_look_0 rfl rfl ?_
  refine zt_aload_n (pc := 1) dX5_look_1 rfl rfl ?_
  refine wt_getI (pc := 2) 5 20 (v := nI n) dX5_look_2 q1292 rfl (ms_o hM) h20 ?_
  refine zt_geN (a := p) (b := n) (pc := 5) 17 dX5_look_5 (by decide) (by omega) (by omega) (fun c_5 => ?_) (fun c_5 => ?_)
  · refine zt_iconst (pc := 17) dX5_look_17 (v := (-1)) rfl ?_
    exact zt_ireturn (pc := 18) dX5_look_18 rfl (⟨congrArg some (congrArg Value.int ((if_neg (Nat.not_lt.mpr c_5)).symm)), rfl⟩)
  · refine zt_aload_n (pc := 8) dX5_look_8 rfl rfl ?_
    refine wt_getR (pc := 9) 5 19 dX5_look_9 q1291 rfl (ms_o hM) (mr_tape hM) ?_
    refine zt_iload_n (pc := 12) dX5_look_12 rfl rfl ?_
    refine wt_iald (pc := 13) 400 p (v := T p) dX5_look_13 (ma_tape hM) rfl rfl (by omega) (congrFun h301 p) ?_
    refine zt_goto (pc := 14) 18 dX5_look_14 (by decide) ?_
    exact zt_ireturn (pc := 18) dX5_look_18 rfl (⟨congrArg some (congrArg Value.int ((if_pos c_5).symm)), rfl⟩)

theorem tm_needs (hM : MS h.2.1 h.2.2.2) (gd c : Int32) : Zd g mX5_needs 1 0 0 [.ref 289, .int gd, .int c] (zW h S) none (zW h (w_needs S gd c)) := by
  refine zc_of [some (.ref 289), some (.int gd), some (.int c)] rfl (Nat.le_of_ble_eq_true rfl) rfl ?_
  refine zt_iload_n (pc := 0) dX5_needs_0 rfl rfl ?_
  refine zt_if_ne (pc := 1) 24 dX5_needs_1 (by decide) (fun c_1 => ?_) (fun c_1 => ?_)
  · exact zt_return (pc := 24) dX5_needs_24 rfl (⟨rfl, congrArg (zW h) (if_neg (fun q => c_1 q.1)).symm⟩)
  · refine zt_aload_n (pc := 4) dX5_needs_4 rfl rfl ?_
    refine wt_getI (pc := 5) 5 25 dX5_needs_5 q1297 rfl (ms_o hM) rfl ?_
    refine zt_if_ne (pc := 8) 24 dX5_needs_8 (by decide) (fun c_8 => ?_) (fun c_8 => ?_)
    · exact zt_return (pc := 24) dX5_needs_24 rfl (⟨rfl, congrArg (zW h) (if_neg (fun q => c_8 q.2)).symm⟩)
    · refine zt_aload_n (pc := 11) dX5_needs_11 rfl rfl ?_
      refine zt_iload_n (pc := 12) dX5_needs_12 rfl rfl ?_
      refine wt_putI (pc := 13) 5 25 dX5_needs_13 q1297 rfl (ms_o hM) ?_
      refine zt_aload_n (pc := 16) dX5_needs_16 rfl rfl ?_
      refine zt_aload_n (pc := 17) dX5_needs_17 rfl rfl ?_
      refine wt_getI (pc := 18) 5 22 dX5_needs_18 q1294 rfl (ms_o hM) rfl ?_
      refine wt_putI (pc := 21) 5 26 dX5_needs_21 q1298 rfl (ms_o hM) ?_
      exact zt_return (pc := 24) dX5_needs_24 rfl (⟨rfl, congrArg (zW h) (if_pos ⟨c_1, c_8⟩).symm⟩)

theorem tm_firstDraft (hM : MS h.2.1 h.2.2.2) : Zd g mX5_firstDraft 1 0 0 [.ref 289] (zW h S) none (zW h (zu (zu (zu (zu S 289 9 0) 289 11 0) 289 14 0) 289 16 0)) := by
  refine zc_of [some (.ref 289)] rfl (Nat.le_of_ble_eq_true rfl) rfl ?_
  refine zt_aload_n (pc := 0) dX5_firstDraft_0 rfl rfl ?_
  refine zt_iconst (pc := 1) dX5_firstDraft_1 (v := 0) rfl ?_
  refine wt_putI (pc := 2) 5 9 dX5_firstDraft_2 q1281 rfl (ms_o hM) ?_
  refine zt_aload_n (pc := 5) dX5_firstDraft_5 rfl rfl ?_
  refine zt_iconst (pc := 6) dX5_firstDraft_6 (v := 0) rfl ?_
  refine wt_putI (pc := 7) 5 11 dX5_firstDraft_7 q1283 rfl (ms_o hM) ?_
  refine zt_aload_n (pc := 10) dX5_firstDraft_10 rfl rfl ?_
  refine zt_iconst (pc := 11) dX5_firstDraft_11 (v := 0) rfl ?_
  refine wt_putI (pc := 12) 5 14 dX5_firstDraft_12 q1286 rfl (ms_o hM) ?_
  refine zt_aload_n (pc := 15) dX5_firstDraft_15 rfl rfl ?_
  refine zt_iconst (pc := 16) dX5_firstDraft_16 (v := 0) rfl ?_
  refine wt_putI (pc := 17) 5 16 dX5_firstDraft_17 q1288 rfl (ms_o hM) ?_
  exact zt_return (pc := 20) dX5_firstDraft_20 rfl (⟨rfl, rfl⟩)

/-- the token from q to r has a length and first signs -/
def s_is (T : Nat → Int32) (n q r : Nat) (l a b c d : Int32) : Prop := nI (r - q) = l ∧ lk T n q = a ∧ lk T n (q + 1) = b ∧ lk T n (q + 2) = c ∧ (l < 4 ∨ lk T n (q + 3) = d)
def s_on (T : Nat → Int32) (n q : Nat) (a b c : Int32) : Prop := lk T n (q + 4) = a ∧ (b = 0 ∨ lk T n (q + 5) = b) ∧ (c = 0 ∨ lk T n (q + 6) = c)
def is_dec {T : Nat → Int32} {n q r : Nat} {l a b c d : Int32} : Decidable (s_is T n q r l a b c d) := by unfold s_is; infer_instance
def on_dec {T : Nat → Int32} {n q : Nat} {a b c : Int32} : Decidable (s_on T n q a b c) := by unfold s_on; infer_instance
theorem tm_is (hM : MS h.2.1 h.2.2.2) (T : Nat → Int32) (n : Nat) (hn : n ≤ 400) (h20 : S 289 20 = nI n) (h301 : S 301 = T) (q r : Nat) (h22 : S 289 22 = nI q) (h21 : S 289 21 = nI r) (hqr : q ≤ r) (hr : r ≤ 400) (l a b c d : Int32) : Zd g mX5_is 2 0 0 [.ref 289, .int l, .int a, .int b, .int c, .int d] (zW h S) (some (.int (bI (nI (r - q) = l ∧ lk T n q = a ∧ lk T n (q + 1) = b ∧ lk T n (q + 2) = c ∧ (l < 4 ∨ lk T n (q + 3) = d))))) (zW h S) := by
  refine zc_of [some (.ref 289), some (.int l), some (.int a), some (.int b), some (.int c), some (.int d)] rfl (Nat.le_of_ble_eq_true rfl) rfl ?_
  refine zt_aload_n (pc := 0) dX5_is_0 rfl rfl ?_
  refine wt_getI (pc := 1) 5 21 (v := nI r) dX5_is_1 q1293 rfl (ms_o hM) h21 ?_
  refine zt_aload_n (pc := 4) dX5_is_4 rfl rfl ?_
  refine wt_getI (pc := 5) 5 22 (v := nI q) dX5_is_5 q1294 rfl (ms_o hM) h22 ?_
  refine zt_isub (pc := 8) dX5_is_8 ?_
  refine zt_top (pc := 9) (nI (r - q)) (pk_sub hqr) ?_
  refine zt_iload_n (pc := 9) dX5_is_9 rfl rfl ?_
  refine zt_icmp_ne (pc := 10) 78 dX5_is_10 (by decide) (fun c_10 => ?_) (fun c_10 => ?_)
  · refine zt_iconst (pc := 78) dX5_is_78 (v := 0) rfl ?_
    exact zt_zreturn (pc := 79) dX5_is_79 rfl (Or.inl rfl) (⟨congrArg some (congrArg Value.int ((bI_f (fun z => c_10 z.1)).symm)), rfl⟩)
  · refine zt_aload_n (pc := 13) dX5_is_13 rfl rfl ?_
    refine zt_aload_n (pc := 14) dX5_is_14 rfl rfl ?_
    refine wt_getI (pc := 15) 5 22 (v := nI q) dX5_is_15 q1294 rfl (ms_o hM) h22 ?_
    refine wt_callV (pc := 18) mX5_look 1 5 (rc' := 0) (rs' := 0) dX5_is_18 q1426 mi_X5_look rfl rfl (ms_o hM) (tm_look hM T n hn h20 h301 q (by omega)) rfl rfl rfl rfl rfl rfl ?_
    refine zt_iload_n (pc := 21) dX5_is_21 rfl rfl ?_
    refine zt_icmp_ne (pc := 22) 78 dX5_is_22 (by decide) (fun c_22 => ?_) (fun c_22 => ?_)
    · refine zt_iconst (pc := 78) dX5_is_78 (v := 0) rfl ?_
      exact zt_zreturn (pc := 79) dX5_is_79 rfl (Or.inl rfl) (⟨congrArg some (congrArg Value.int ((bI_f (fun z => c_22 z.2.1)).symm)), rfl⟩)
    · refine zt_aload_n (pc := 25) dX5_is_25 rfl rfl ?_
      refine zt_aload_n (pc := 26) dX5_is_26 rfl rfl ?_
      refine wt_getI (pc := 27) 5 22 (v := nI q) dX5_is_27 q1294 rfl (ms_o hM) h22 ?_
      refine zt_iconst (pc := 30) dX5_is_30 (v := 1) rfl ?_
      refine zt_iaddN (pc := 31) (a := q) (b := 1) dX5_is_31 ?_
      refine wt_callV (pc := 32) mX5_look 1 5 (rc' := 0) (rs' := 0) dX5_is_32 q1426 mi_X5_look rfl rfl (ms_o hM) (tm_look hM T n hn h20 h301 (q + 1) (by omega)) rfl rfl rfl rfl rfl rfl ?_
      refine zt_iload_n (pc := 35) dX5_is_35 rfl rfl ?_
      refine zt_icmp_ne (pc := 36) 78 dX5_is_36 (by decide) (fun c_36 => ?_) (fun c_36 => ?_)
      · refine zt_iconst (pc := 78) dX5_is_78 (v := 0) rfl ?_
        exact zt_zreturn (pc := 79) dX5_is_79 rfl (Or.inl rfl) (⟨congrArg some (congrArg Value.int ((bI_f (fun z => c_36 z.2.2.1)).symm)), rfl⟩)
      · refine zt_aload_n (pc := 39) dX5_is_39 rfl rfl ?_
        refine zt_aload_n (pc := 40) dX5_is_40 rfl rfl ?_
        refine wt_getI (pc := 41) 5 22 (v := nI q) dX5_is_41 q1294 rfl (ms_o hM) h22 ?_
        refine zt_iconst (pc := 44) dX5_is_44 (v := 2) rfl ?_
        refine zt_iaddN (pc := 45) (a := q) (b := 2) dX5_is_45 ?_
        refine wt_callV (pc := 46) mX5_look 1 5 (rc' := 0) (rs' := 0) dX5_is_46 q1426 mi_X5_look rfl rfl (ms_o hM) (tm_look hM T n hn h20 h301 (q + 2) (by omega)) rfl rfl rfl rfl rfl rfl ?_
        refine zt_iload (pc := 49) dX5_is_49 rfl ?_
        refine zt_icmp_ne (pc := 51) 78 dX5_is_51 (by decide) (fun c_51 => ?_) (fun c_51 => ?_)
        · refine zt_iconst (pc := 78) dX5_is_78 (v := 0) rfl ?_
          exact zt_zreturn (pc := 79) dX5_is_79 rfl (Or.inl rfl) (⟨congrArg some (congrArg Value.int ((bI_f (fun z => c_51 z.2.2.2.1)).symm)), rfl⟩)
        · refine zt_iload_n (pc := 54) dX5_is_54 rfl rfl ?_
          refine zt_iconst (pc := 55) dX5_is_55 (v := 4) rfl ?_
          refine zt_icmp_lt (pc := 56) 74 dX5_is_56 (by decide) (fun c_56 => ?_) (fun c_56 => ?_)
          · refine zt_iconst (pc := 74) dX5_is_74 (v := 1) rfl ?_
            refine zt_goto (pc := 75) 79 dX5_is_75 (by decide) ?_
            exact zt_zreturn (pc := 79) dX5_is_79 rfl (Or.inr rfl) (⟨congrArg some (congrArg Value.int ((bI_t ⟨c_10, c_22, c_36, c_51, Or.inl c_56⟩).symm)), rfl⟩)
          · refine zt_aload_n (pc := 59) dX5_is_59 rfl rfl ?_
            refine zt_aload_n (pc := 60) dX5_is_60 rfl rfl ?_
            refine wt_getI (pc := 61) 5 22 (v := nI q) dX5_is_61 q1294 rfl (ms_o hM) h22 ?_
            refine zt_iconst (pc := 64) dX5_is_64 (v := 3) rfl ?_
            refine zt_iaddN (pc := 65) (a := q) (b := 3) dX5_is_65 ?_
            refine wt_callV (pc := 66) mX5_look 1 5 (rc' := 0) (rs' := 0) dX5_is_66 q1426 mi_X5_look rfl rfl (ms_o hM) (tm_look hM T n hn h20 h301 (q + 3) (by omega)) rfl rfl rfl rfl rfl rfl ?_
            refine zt_iload (pc := 69) dX5_is_69 rfl ?_
            refine zt_icmp_ne (pc := 71) 78 dX5_is_71 (by decide) (fun c_71 => ?_) (fun c_71 => ?_)
            · refine zt_iconst (pc := 78) dX5_is_78 (v := 0) rfl ?_
              exact zt_zreturn (pc := 79) dX5_is_79 rfl (Or.inl rfl) (⟨congrArg some (congrArg Value.int ((bI_f (fun z => z.2.2.2.2.elim c_56 c_71)).symm)), rfl⟩)
            · refine zt_iconst (pc := 74) dX5_is_74 (v := 1) rfl ?_
              refine zt_goto (pc := 75) 79 dX5_is_75 (by decide) ?_
              exact zt_zreturn (pc := 79) dX5_is_79 rfl (Or.inr rfl) (⟨congrArg some (congrArg Value.int ((bI_t ⟨c_10, c_22, c_36, c_51, Or.inr c_71⟩).symm)), rfl⟩)

theorem tm_goesOn (hM : MS h.2.1 h.2.2.2) (T : Nat → Int32) (n : Nat) (hn : n ≤ 400) (h20 : S 289 20 = nI n) (h301 : S 301 = T) (q : Nat) (h22 : S 289 22 = nI q) (hq : q ≤ 400) (a b c : Int32) : Zd g mX5_goesOn 2 0 0 [.ref 289, .int a, .int b, .int c] (zW h S) (some (.int (bI (lk T n (q + 4) = a ∧ (b = 0 ∨ lk T n (q + 5) = b) ∧ (c = 0 ∨ lk T n (q + 6) = c))))) (zW h S) := by
  refine zc_of [some (.ref 289), some (.int a), some (.int b), some (.int c)] rfl (Nat.le_of_ble_eq_true rfl) rfl ?_
  refine zt_aload_n (pc := 0) dX5_goesOn_0 rfl rfl ?_
  refine zt_aload_n (pc := 1) dX5_goesOn_1 rfl rfl ?_
  refine wt_getI (pc := 2) 5 22 (v := nI q) dX5_goesOn_2 q1294 rfl (ms_o hM) h22 ?_
  refine zt_iconst (pc := 5) dX5_goesOn_5 (v := 4) rfl ?_
  refine zt_iaddN (pc := 6) (a := q) (b := 4) dX5_goesOn_6 ?_
  refine wt_callV (pc := 7) mX5_look 1 5 (rc' := 0) (rs' := 0) dX5_goesOn_7 q1426 mi_X5_look rfl rfl (ms_o hM) (tm_look hM T n hn h20 h301 (q + 4) (by omega)) rfl rfl rfl rfl rfl rfl ?_
  refine zt_iload_n (pc := 10) dX5_goesOn_10 rfl rfl ?_
  refine zt_icmp_ne (pc := 11) 55 dX5_goesOn_11 (by decide) (fun c_11 => ?_) (fun c_11 => ?_)
  · refine zt_iconst (pc := 55) dX5_goesOn_55 (v := 0) rfl ?_
    exact zt_zreturn (pc := 56) dX5_goesOn_56 rfl (Or.inl rfl) (⟨congrArg some (congrArg Value.int ((bI_f (fun z => c_11 z.1)).symm)), rfl⟩)
  · refine zt_iload_n (pc := 14) dX5_goesOn_14 rfl rfl ?_
    refine zt_if_eq (pc := 15) 32 dX5_goesOn_15 (by decide) (fun c_15 => ?_) (fun c_15 => ?_)
    · refine zt_iload_n (pc := 32) dX5_goesOn_32 rfl rfl ?_
      refine zt_if_eq (pc := 33) 51 dX5_goesOn_33 (by decide) (fun c_33 => ?_) (fun c_33 => ?_)
      · refine zt_iconst (pc := 51) dX5_goesOn_51 (v := 1) rfl ?_
        refine zt_goto (pc := 52) 56 dX5_goesOn_52 (by decide) ?_
        exact zt_zreturn (pc := 56) dX5_goesOn_56 rfl (Or.inr rfl) (⟨congrArg some (congrArg Value.int ((bI_t ⟨c_11, Or.inl c_15, Or.inl c_33⟩).symm)), rfl⟩)
      · refine zt_aload_n (pc := 36) dX5_goesOn_36 rfl rfl ?_
        refine zt_aload_n (pc := 37) dX5_goesOn_37 rfl rfl ?_
        refine wt_getI (pc := 38) 5 22 (v := nI q) dX5_goesOn_38 q1294 rfl (ms_o hM) h22 ?_
        refine zt_bipush (pc := 41) dX5_goesOn_41 (v := 6) rfl ?_
        refine zt_iaddN (pc := 43) (a := q) (b := 6) dX5_goesOn_43 ?_
        refine wt_callV (pc := 44) mX5_look 1 5 (rc' := 0) (rs' := 0) dX5_goesOn_44 q1426 mi_X5_look rfl rfl (ms_o hM) (tm_look hM T n hn h20 h301 (q + 6) (by omega)) rfl rfl rfl rfl rfl rfl ?_
        refine zt_iload_n (pc := 47) dX5_goesOn_47 rfl rfl ?_
        refine zt_icmp_ne (pc := 48) 55 dX5_goesOn_48 (by decide) (fun c_48 => ?_) (fun c_48 => ?_)
        · refine zt_iconst (pc := 55) dX5_goesOn_55 (v := 0) rfl ?_
          exact zt_zreturn (pc := 56) dX5_goesOn_56 rfl (Or.inl rfl) (⟨congrArg some (congrArg Value.int ((bI_f (fun z => z.2.2.elim c_33 c_48)).symm)), rfl⟩)
        · refine zt_iconst (pc := 51) dX5_goesOn_51 (v := 1) rfl ?_
          refine zt_goto (pc := 52) 56 dX5_goesOn_52 (by decide) ?_
          exact zt_zreturn (pc := 56) dX5_goesOn_56 rfl (Or.inr rfl) (⟨congrArg some (congrArg Value.int ((bI_t ⟨c_11, Or.inl c_15, Or.inr c_48⟩).symm)), rfl⟩)
    · refine zt_aload_n (pc := 18) dX5_goesOn_18 rfl rfl ?_
      refine zt_aload_n (pc := 19) dX5_goesOn_19 rfl rfl ?_
      refine wt_getI (pc := 20) 5 22 (v := nI q) dX5_goesOn_20 q1294 rfl (ms_o hM) h22 ?_
      refine zt_iconst (pc := 23) dX5_goesOn_23 (v := 5) rfl ?_
      refine zt_iaddN (pc := 24) (a := q) (b := 5) dX5_goesOn_24 ?_
      refine wt_callV (pc := 25) mX5_look 1 5 (rc' := 0) (rs' := 0) dX5_goesOn_25 q1426 mi_X5_look rfl rfl (ms_o hM) (tm_look hM T n hn h20 h301 (q + 5) (by omega)) rfl rfl rfl rfl rfl rfl ?_
      refine zt_iload_n (pc := 28) dX5_goesOn_28 rfl rfl ?_
      refine zt_icmp_ne (pc := 29) 55 dX5_goesOn_29 (by decide) (fun c_29 => ?_) (fun c_29 => ?_)
      · refine zt_iconst (pc := 55) dX5_goesOn_55 (v := 0) rfl ?_
        exact zt_zreturn (pc := 56) dX5_goesOn_56 rfl (Or.inl rfl) (⟨congrArg some (congrArg Value.int ((bI_f (fun z => z.2.1.elim c_15 c_29)).symm)), rfl⟩)
      · refine zt_iload_n (pc := 32) dX5_goesOn_32 rfl rfl ?_
        refine zt_if_eq (pc := 33) 51 dX5_goesOn_33 (by decide) (fun c_33 => ?_) (fun c_33 => ?_)
        · refine zt_iconst (pc := 51) dX5_goesOn_51 (v := 1) rfl ?_
          refine zt_goto (pc := 52) 56 dX5_goesOn_52 (by decide) ?_
          exact zt_zreturn (pc := 56) dX5_goesOn_56 rfl (Or.inr rfl) (⟨congrArg some (congrArg Value.int ((bI_t ⟨c_11, Or.inr c_29, Or.inl c_33⟩).symm)), rfl⟩)
        · refine zt_aload_n (pc := 36) dX5_goesOn_36 rfl rfl ?_
          refine zt_aload_n (pc := 37) dX5_goesOn_37 rfl rfl ?_
          refine wt_getI (pc := 38) 5 22 (v := nI q) dX5_goesOn_38 q1294 rfl (ms_o hM) h22 ?_
          refine zt_bipush (pc := 41) dX5_goesOn_41 (v := 6) rfl ?_
          refine zt_iaddN (pc := 43) (a := q) (b := 6) dX5_goesOn_43 ?_
          refine wt_callV (pc := 44) mX5_look 1 5 (rc' := 0) (rs' := 0) dX5_goesOn_44 q1426 mi_X5_look rfl rfl (ms_o hM) (tm_look hM T n hn h20 h301 (q + 6) (by omega)) rfl rfl rfl rfl rfl rfl ?_
          refine zt_iload_n (pc := 47) dX5_goesOn_47 rfl rfl ?_
          refine zt_icmp_ne (pc := 48) 55 dX5_goesOn_48 (by decide) (fun c_48 => ?_) (fun c_48 => ?_)
          · refine zt_iconst (pc := 55) dX5_goesOn_55 (v := 0) rfl ?_
            exact zt_zreturn (pc := 56) dX5_goesOn_56 rfl (Or.inl rfl) (⟨congrArg some (congrArg Value.int ((bI_f (fun z => z.2.2.elim c_33 c_48)).symm)), rfl⟩)
          · refine zt_iconst (pc := 51) dX5_goesOn_51 (v := 1) rfl ?_
            refine zt_goto (pc := 52) 56 dX5_goesOn_52 (by decide) ?_
            exact zt_zreturn (pc := 56) dX5_goesOn_56 rfl (Or.inr rfl) (⟨congrArg some (congrArg Value.int ((bI_t ⟨c_11, Or.inr c_29, Or.inr c_48⟩).symm)), rfl⟩)

end M13