/-! THE TWIN, part 28: order -/
set_option maxRecDepth 100000
/-- the last m places of a way: the digits of l in base c -/
def wayL (c : Nat) : Nat → Nat → (Nat → Int32) → (Nat → Int32)
  | 0, _, W => W
  | m + 1, l, W => wayL c m (l / c) (upd W m (nI (l % c)))
theorem wayL_out {c : Nat} : ∀ m l W k, m ≤ k → wayL c m l W k = W k
  | 0, _, _, _, _ => rfl
  | m + 1, l, W, k, h => by
    unfold wayL
    rw [wayL_out m _ _ k (by omega), upd_ne (by omega)]
theorem wayL_dig {c : Nat} (hc : 0 < c) : ∀ m l W k, k < m → ∃ j : Nat, j < c ∧ wayL c m l W k = nI j
  | 0, _, _, _, h => absurd h (Nat.not_lt_zero _)
  | m + 1, l, W, k, h => by
    unfold wayL
    by_cases e : k = m
    · subst e
      rw [wayL_out k _ _ k (Nat.le_refl _), upd_at]
      exact ⟨l % c, Nat.mod_lt _ hc, rfl⟩
    · exact wayL_dig hc m _ _ k (by omega)
abbrev OX : Type := Int32 × (Nat → Int32) × (Nat → Int32) × (Nat → Int32) × (Nat → Int32)
def cpB (W B : Nat → Int32) (n : Nat) : Nat → Int32 := itr (fun i b => upd b i (W i)) B n
def ordN (C : Nat → Nat → Int32) (x : Int32) (W f r : Nat → Int32) : Int32 × (Nat → Int32) × (Nat → Int32) := if s_unlike C W = 0 then (-4, f, r) else s_taken C x W f r
/-- a step: w, the best so far, its way, the way, the states, the row -/
def ordS (C : Nat → Nat → Int32) (x : Int32) (w : Nat) (b : Int32) (B W f r : Nat → Int32) : OX :=
  if ¬ (ordN C x (wayL (cS C) (cS C) w W) f r).1 = -4 ∧ (b = -4 ∨ (ordN C x (wayL (cS C) (cS C) w W) f r).1 < b) then ((ordN C x (wayL (cS C) (cS C) w W) f r).1, cpB (wayL (cS C) (cS C) w W) B (cS C), wayL (cS C) (cS C) w W, (ordN C x (wayL (cS C) (cS C) w W) f r).2)
  else (b, B, wayL (cS C) (cS C) w W, (ordN C x (wayL (cS C) (cS C) w W) f r).2)
def ordE (C : Nat → Nat → Int32) (x : Int32) (B W f r : Nat → Int32) (n : Nat) : OX := itr (fun w y => ordS C x w y.1 y.2.1 y.2.2.1 y.2.2.2.1 y.2.2.2.2) (-4, B, W, f, r) n
def ordA (A : Nat → Nat → Int32) (x : Int32) : OX := ordE A x (A 306) (A 305) (A 302) (A 304) (cS A ^ cS A)
abbrev ordG (A : Nat → Nat → Int32) (x w : Int32) : Prop := inN x (2 ^ cK A) ∧ (w = 0 ∨ ((10 : Int64) ≤ w.toInt64 ∧ w.toInt64 ≤ (nI (9 + cS A)).toInt64))
def o_order (A : Nat → Nat → Int32) (x w : Int32) : Int32 := if ordG A x w then (if w = 0 ∨ (ordA A x).1 = -4 then (ordA A x).1 else (ordA A x).2.1 (w - 10).toNatClampNeg) else -1
/-- the cells of orders -/
def ozs (S : Nat → Nat → Int32) (B W f r : Nat → Int32) : Nat → Nat → Int32 := zs (zs (zs (zs S 306 B) 305 W) 304 r) 302 f
def w_order (S A : Nat → Nat → Int32) (x w : Int32) : Nat → Nat → Int32 := if ordG A x w then ozs S (ordA A x).2.1 (ordA A x).2.2.1 (ordA A x).2.2.2.1 (ordA A x).2.2.2.2 else S
theorem ozs_5 (S : Nat → Nat → Int32) (B W f r : Nat → Int32) : ozs S B W f r = zs (zs (zs (zs S 306 B) 304 r) 302 f) 305 W := by
  unfold ozs
  rw [zs_comm (zs S 306 B) W r (by decide), zs_comm (zs (zs S 306 B) 304 r) W f (by decide)]
theorem ozs_6 (S : Nat → Nat → Int32) (B W f r : Nat → Int32) : ozs S B W f r = zs (zs (zs (zs S 305 W) 304 r) 302 f) 306 B := by
  unfold ozs
  rw [zs_comm S B W (by decide), zs_comm (zs S 305 W) B r (by decide), zs_comm (zs (zs S 305 W) 304 r) B f (by decide)]
section M28
variable {g : ZG} {h : ZH} {S A C X : Nat → Nat → Int32} {f r W B : Nat → Int32}
theorem way_loop (hM : MS h.2.1 h.2.2.2) {c : Nat} (hc : X 289 5 = nI c) (hc4 : c ≤ 4) (x v n3 n4 n5 : Int32) {Q : Option Value → ZH → Prop} : ∀ (m l : Nat) (W : Nat → Int32) (_ : m ≤ c) (_ : l ≤ 1000) (_ : Zt g mX5_order 10 0 0 Q (zW h (zs X 305 (wayL c m l W))) 119 [some (.ref 289), some (.int x), some (.int v), some (.int n3), some (.int n4), some (.int n5), none, none, none] []), Zt g mX5_order 10 0 0 Q (zW h (zs X 305 W)) 85 [some (.ref 289), some (.int x), some (.int v), some (.int n3), some (.int n4), some (.int n5), some (.int (nI l)), some (.int (nI m - 1)), none] []
  | 0, l, W, hm, hl, kk => by
    refine zt_iload (pc := 85) dX5_order_85 rfl ?_
    refine zt_if_lt (pc := 87) 119 dX5_order_87 (by decide) (fun c_87 => ?_) (fun c_87 => absurd (by decide) c_87)
    refine zt_drop (L' := [some (.ref 289), some (.int x), some (.int v), some (.int n3), some (.int n4), some (.int n5), none, some (.int (nI 0 - 1)), none]) 6 rfl ?_
    refine zt_drop (L' := [some (.ref 289), some (.int x), some (.int v), some (.int n3), some (.int n4), some (.int n5), none, none, none]) 7 rfl ?_
    exact kk
  | m + 1, l, W, hm, hl, kk => by
    have hcz : nI c ≠ 0 := fun q => absurd (nI_z (by omega) q) (by omega)
    refine zt_L (L' := [some (.ref 289), some (.int x), some (.int v), some (.int n3), some (.int n4), some (.int n5), some (.int (nI l)), some (.int (nI m)), none]) (congrArg (fun z => [some (Value.ref 289), some (Value.int x), some (Value.int v), some (Value.int n3), some (Value.int n4), some (Value.int n5), some (Value.int (nI l)), some (Value.int z), none]) (pk_sub (a := m + 1) (b := 1) (by omega))) ?_
    refine zt_iload (pc := 85) dX5_order_85 rfl ?_
    refine zt_if_lt (pc := 87) 119 dX5_order_87 (by decide) (fun c_87 => absurd c_87 (nI_nlt0 (by omega))) (fun c_87 => ?_)
    refine zt_aload_n (pc := 90) dX5_order_90 rfl rfl ?_
    refine wt_getR (pc := 91) 5 31 dX5_order_91 q1303 rfl (ms_o hM) (mr_way hM) ?_
    refine zt_iload (pc := 94) dX5_order_94 rfl ?_
    refine zt_iload (pc := 96) dX5_order_96 rfl ?_
    refine zt_aload_n (pc := 98) dX5_order_98 rfl rfl ?_
    refine wt_getI (pc := 99) 5 5 (v := nI c) dX5_order_99 q1277 rfl (ms_o hM) hc ?_
    refine zt_irem (pc := 102) dX5_order_102 hcz ?_
    refine zt_top (pc := 103) (nI (l % c)) (pk_rem (by omega) (by omega) (by omega)) ?_
    refine wt_iastS (pc := 103) 4 m dX5_order_103 (ma_way hM) rfl rfl (by omega) ?_
    refine zt_iload (pc := 104) dX5_order_104 rfl ?_
    refine zt_aload_n (pc := 106) dX5_order_106 rfl rfl ?_
    refine wt_getI (pc := 107) 5 5 (v := nI c) dX5_order_107 q1277 rfl (ms_o hM) hc ?_
    refine zt_idiv (pc := 110) dX5_order_110 hcz ?_
    refine zt_top (pc := 111) (nI (l / c)) (pk_div (by omega) (by omega) (by omega)) ?_
    refine zt_istore (pc := 111) (L' := [some (.ref 289), some (.int x), some (.int v), some (.int n3), some (.int n4), some (.int n5), some (.int (nI (l / c))), some (.int (nI m)), none]) dX5_order_111 (by decide) rfl rfl ?_
    refine zt_iinc (pc := 113) (L' := [some (.ref 289), some (.int x), some (.int v), some (.int n3), some (.int n4), some (.int n5), some (.int (nI (l / c))), some (.int (nI m + Int32.ofInt (-1))), none]) dX5_order_113 rfl rfl (by decide) rfl rfl ?_
    refine zt_goto (pc := 116) 85 dX5_order_116 (by decide) ?_
    refine zt_L (L' := [some (.ref 289), some (.int x), some (.int v), some (.int n3), some (.int n4), some (.int n5), some (.int (nI (l / c))), some (.int (nI m - 1)), none]) (congrArg (fun z => [some (Value.ref 289), some (Value.int x), some (Value.int v), some (Value.int n3), some (Value.int n4), some (Value.int n5), some (Value.int (nI (l / c))), some (Value.int z), none]) (dec1 m)) ?_
    exact way_loop hM hc hc4 x v n3 n4 n5 m (l / c) (upd W m (nI (l % c))) (by omega) (Nat.le_trans (Nat.div_le_self _ _) hl) kk

theorem pw4 : ∀ c, c ≤ 4 → ∀ i, i ≤ 4 → c ^ i ≤ 256 := by decide
theorem WI_way (c : Nat) (hc : c = cS C) (w : Nat) (W : Nat → Int32) : WI C (wayL c c w W) := fun i hi => by
  subst hc
  exact wayL_dig (by omega) _ _ _ _ hi
theorem tm_order (hM : MS h.2.1 h.2.2.2) (hI : AI A) (hA : AE S A) (x v : Int32) : Zd g mX5_order 10 0 0 [.ref 289, .int x, .int v] (zW h S) (some (.int (o_order A x v))) (zW h (w_order S A x v)) := by
  refine zc_of [some (.ref 289), some (.int x), some (.int v), none, none, none, none, none, none] rfl (Nat.le_of_ble_eq_true rfl) rfl ?_
  have b1 := hI.c.t8; have b2 := hI.c.m12; have b3 := hI.c.s4; have b4 := hI.c.k6; have b5 := hI.sh24
  have hp4 := pw4 (cS A) hI.c.s4
  refine zt_aload_n (pc := 0) dX5_order_0 rfl rfl ?_
  refine zt_iload_n (pc := 1) dX5_order_1 rfl rfl ?_
  refine wt_callV (pc := 2) mX5_areKinds 1 5 (rc' := 0) (rs' := 0) dX5_order_2 q1573 mi_X5_areKinds rfl rfl (ms_o hM) (tm_areKinds hM hI.c hA.ce x) rfl rfl rfl rfl rfl rfl ?_
  refine zt_if_eq (pc := 5) 31 dX5_order_5 (by decide) (fun c_5 => ?_) (fun c_5 => ?_)
  · refine zt_iconst (pc := 31) dX5_order_31 (v := (-1)) rfl ?_
    exact zt_ireturn (pc := 32) dX5_order_32 rfl (⟨congrArg some (congrArg Value.int (Eq.symm (if_neg (fun q => bI_eq0.mp c_5 q.1)))), congrArg (zW h) (Eq.symm (if_neg (fun q => bI_eq0.mp c_5 q.1)))⟩)
  · refine zt_iload_n (pc := 8) dX5_order_8 rfl rfl ?_
    refine zt_if_eq (pc := 9) 33 dX5_order_9 (by decide) (fun c_9 => ?_) (fun c_9 => ?_)
    · have hG : ordG A x v := ⟨bI_ne0 c_5, Or.inl c_9⟩
      refine zt_iconst (pc := 33) dX5_order_33 (v := 1) rfl ?_
      refine zt_istore_n (pc := 34) (L' := [some (.ref 289), some (.int x), some (.int v), some (.int 1), none, none, none, none, none]) dX5_order_34 rfl (by decide) rfl rfl ?_
      refine zt_iconst (pc := 35) dX5_order_35 (v := 0) rfl ?_
      refine zt_istore (pc := 36) (L' := [some (.ref 289), some (.int x), some (.int v), some (.int 1), some (.int 0), none, none, none, none]) dX5_order_36 (by decide) rfl rfl ?_
      refine zt_for (pc := 38) (fun i => S) (fun i => [some (.ref 289), some (.int x), some (.int v), some (.int (nI (cS A ^ i))), some (.int (nI i)), none, none, none, none]) (cS A) rfl rfl ?_ (fun i hi_i ih_i => ?_)
      · show Zt _ _ _ _ _ _ (zW h S) 38 [some (.ref 289), some (.int x), some (.int v), some (.int (nI (cS A ^ (cS A)))), some (.int (nI (cS A))), none, none, none, none] []
        have hpe := hp4 (cS A) (by omega)
        refine zt_iload (pc := 38) dX5_order_38 rfl ?_
        refine zt_aload_n (pc := 40) dX5_order_40 rfl rfl ?_
        refine wt_getI (pc := 41) 5 5 (v := nI (cS A)) dX5_order_41 q1277 rfl (ms_o hM) (hA.ce.s hI.c) ?_
        refine zt_geN (a := cS A) (b := cS A) (pc := 44) 60 dX5_order_44 (by decide) (by omega) (by omega) (fun c_44 => ?_) (fun c_44 => absurd c_44 (Nat.lt_irrefl _))
        refine zt_bipush (pc := 60) dX5_order_60 (v := (-4)) rfl ?_
        refine zt_istore (pc := 62) (L' := [some (.ref 289), some (.int x), some (.int v), some (.int (nI (cS A ^ (cS A)))), some (.int (-4)), none, none, none, none]) dX5_order_62 (by decide) rfl rfl ?_
        refine zt_iconst (pc := 64) dX5_order_64 (v := 0) rfl ?_
        refine zt_istore (pc := 65) (L' := [some (.ref 289), some (.int x), some (.int v), some (.int (nI (cS A ^ (cS A)))), some (.int (-4)), some (.int 0), none, none, none]) dX5_order_65 (by decide) rfl rfl ?_
        refine zt_S (zs_eq (a := 306) (f := A 306) (hA 306 (by decide) (by decide))) ?_
        refine zt_S (zs_eq (a := 305) (f := A 305) (hA 305 (by decide) (by decide))) ?_
        refine zt_S (zs_eq (a := 304) (f := A 304) (hA 304 (by decide) (by decide))) ?_
        refine zt_S (zs_eq (a := 302) (f := A 302) (hA 302 (by decide) (by decide))) ?_
        refine zt_for (pc := 67) (fun w => ozs S (ordE A x (A 306) (A 305) (A 302) (A 304) w).2.1 (ordE A x (A 306) (A 305) (A 302) (A 304) w).2.2.1 (ordE A x (A 306) (A 305) (A 302) (A 304) w).2.2.2.1 (ordE A x (A 306) (A 305) (A 302) (A 304) w).2.2.2.2) (fun w => [some (.ref 289), some (.int x), some (.int v), some (.int (nI (cS A ^ cS A))), some (.int ((ordE A x (A 306) (A 305) (A 302) (A 304) w).1)), some (.int (nI w)), none, none, none]) (cS A ^ cS A) rfl rfl ?_ (fun w hi_w ih_w => ?_)
        · show Zt _ _ _ _ _ _ (zW h (ozs S (ordE A x (A 306) (A 305) (A 302) (A 304) (cS A ^ cS A)).2.1 (ordE A x (A 306) (A 305) (A 302) (A 304) (cS A ^ cS A)).2.2.1 (ordE A x (A 306) (A 305) (A 302) (A 304) (cS A ^ cS A)).2.2.2.1 (ordE A x (A 306) (A 305) (A 302) (A 304) (cS A ^ cS A)).2.2.2.2)) 67 [some (.ref 289), some (.int x), some (.int v), some (.int (nI (cS A ^ cS A))), some (.int ((ordE A x (A 306) (A 305) (A 302) (A 304) (cS A ^ cS A)).1)), some (.int (nI (cS A ^ cS A))), none, none, none] []
          refine zt_iload (pc := 67) dX5_order_67 rfl ?_
          refine zt_iload_n (pc := 69) dX5_order_69 rfl rfl ?_
          refine zt_geN (a := cS A ^ cS A) (b := cS A ^ cS A) (pc := 70) 201 dX5_order_70 (by decide) (by omega) (by omega) (fun c_70 => ?_) (fun c_70 => absurd c_70 (Nat.lt_irrefl _))
          show Zt _ _ _ _ _ _ (zW h (ozs S (ordA A x).2.1 (ordA A x).2.2.1 (ordA A x).2.2.2.1 (ordA A x).2.2.2.2)) 201 [some (.ref 289), some (.int x), some (.int v), some (.int (nI (cS A ^ cS A))), some (.int ((ordA A x).1)), some (.int (nI (cS A ^ cS A))), none, none, none] []
          refine zt_iload_n (pc := 201) dX5_order_201 rfl rfl ?_
          refine zt_if_eq (pc := 202) 212 dX5_order_202 (by decide) (fun c_202 => ?_) (fun c_202 => absurd c_9 c_202)
          refine zt_iload (pc := 212) dX5_order_212 rfl ?_
          refine zt_goto (pc := 214) 226 dX5_order_214 (by decide) ?_
          exact zt_ireturn (pc := 226) dX5_order_226 rfl (⟨congrArg some (congrArg Value.int (Eq.symm ((if_pos hG).trans (if_pos (Or.inl c_9))))), congrArg (zW h) (Eq.symm (if_pos hG))⟩)
        · show Zt _ _ _ _ _ _ (zW h (ozs S (ordE A x (A 306) (A 305) (A 302) (A 304) w).2.1 (ordE A x (A 306) (A 305) (A 302) (A 304) w).2.2.1 (ordE A x (A 306) (A 305) (A 302) (A 304) w).2.2.2.1 (ordE A x (A 306) (A 305) (A 302) (A 304) w).2.2.2.2)) 67 [some (.ref 289), some (.int x), some (.int v), some (.int (nI (cS A ^ cS A))), some (.int ((ordE A x (A 306) (A 305) (A 302) (A 304) w).1)), some (.int (nI w)), none, none, none] []
          have hst : (ordE A x (A 306) (A 305) (A 302) (A 304) (w + 1)) = ordS A x w (ordE A x (A 306) (A 305) (A 302) (A 304) w).1 (ordE A x (A 306) (A 305) (A 302) (A 304) w).2.1 (ordE A x (A 306) (A 305) (A 302) (A 304) w).2.2.1 (ordE A x (A 306) (A 305) (A 302) (A 304) w).2.2.2.1 (ordE A x (A 306) (A 305) (A 302) (A 304) w).2.2.2.2 := rfl
          generalize (ordE A x (A 306) (A 305) (A 302) (A 304) (w + 1)) = y1 at hst ih_w
          generalize (ordE A x (A 306) (A 305) (A 302) (A 304) w) = y0 at hst ⊢
          obtain ⟨b_, B_, W_, f_, r_⟩ := y0
          dsimp only at hst ⊢
          refine zt_iload (pc := 67) dX5_order_67 rfl ?_
          refine zt_iload_n (pc := 69) dX5_order_69 rfl rfl ?_
          refine zt_geN (a := w) (b := cS A ^ cS A) (pc := 70) 201 dX5_order_70 (by decide) (by omega) (by omega) (fun c_70 => absurd hi_w (Nat.not_lt.mpr c_70)) (fun c_70 => ?_)
          refine zt_iload (pc := 73) dX5_order_73 rfl ?_
          refine zt_istore (pc := 75) (L' := [some (.ref 289), some (.int x), some (.int v), some (.int (nI (cS A ^ cS A))), some (.int b_), some (.int (nI w)), some (.int (nI w)), none, none]) dX5_order_75 (by decide) rfl rfl ?_
          refine zt_aload_n (pc := 77) dX5_order_77 rfl rfl ?_
          refine wt_getI (pc := 78) 5 5 (v := nI (cS A)) dX5_order_78 q1277 rfl (ms_o hM) (hA.ce.s hI.c) ?_
          refine zt_iconst (pc := 81) dX5_order_81 (v := 1) rfl ?_
          refine zt_isub (pc := 82) dX5_order_82 ?_
          refine zt_istore (pc := 83) (L' := [some (.ref 289), some (.int x), some (.int v), some (.int (nI (cS A ^ cS A))), some (.int b_), some (.int (nI w)), some (.int (nI w)), some (.int ((nI (cS A)) - 1)), none]) dX5_order_83 (by decide) rfl rfl ?_
          refine zt_S (ozs_5 S B_ W_ f_ r_) ?_
          refine way_loop (X := zs (zs (zs S 306 B_) 304 r_) 302 f_) hM (hA.ce.s hI.c) hI.c.s4 x v _ _ _ (cS A) w W_ (Nat.le_refl _) (by omega) ?_
          refine zt_S (ozs_5 S B_ (wayL (cS A) (cS A) w W_) f_ r_).symm ?_
          refine zt_aload_n (pc := 119) dX5_order_119 rfl rfl ?_
          refine wt_callV (pc := 120) mX5_areUnlike 0 5 (rc' := 0) (rs' := 0) dX5_order_120 q1613 mi_X5_areUnlike rfl rfl (ms_o hM) (tm_areUnlike (S := ozs S B_ (wayL (cS A) (cS A) w W_) f_ r_) (C := A) hM hI.c ((((hA.ce.z (by decide)).z (by decide)).z (by decide)).z (by decide)) (show ozs S B_ (wayL (cS A) (cS A) w W_) f_ r_ 305 = (wayL (cS A) (cS A) w W_) from (zs_ne (by decide)).trans ((zs_ne (by decide)).trans (zs_at _ _ _)))) rfl rfl rfl rfl rfl rfl ?_
          refine zt_if_eq (pc := 123) 134 dX5_order_123 (by decide) (fun c_123 => ?_) (fun c_123 => ?_)
          · refine zt_bipush (pc := 134) dX5_order_134 (v := (-4)) rfl ?_
            have hon : (ordN A x (wayL (cS A) (cS A) w W_) f_ r_) = (-4, f_, r_) := if_pos c_123
            refine zt_top (pc := 136) (ordN A x (wayL (cS A) (cS A) w W_) f_ r_).1 (by rw [hon]) ?_
            refine zt_S (S' := ozs S B_ (wayL (cS A) (cS A) w W_) (ordN A x (wayL (cS A) (cS A) w W_) f_ r_).2.1 (ordN A x (wayL (cS A) (cS A) w W_) f_ r_).2.2) (by rw [hon] <;> rfl) ?_
            clear hon
            refine zt_istore (pc := 136) (L' := [some (.ref 289), some (.int x), some (.int v), some (.int (nI (cS A ^ cS A))), some (.int b_), some (.int (nI w)), none, some (.int ((ordN A x (wayL (cS A) (cS A) w W_) f_ r_).1)), none]) dX5_order_136 (by decide) rfl rfl ?_
            refine zt_iload (pc := 138) dX5_order_138 rfl ?_
            refine zt_bipush (pc := 140) dX5_order_140 (v := (-4)) rfl ?_
            refine zt_icmp_eq (pc := 142) 195 dX5_order_142 (by decide) (fun c_142 => ?_) (fun c_142 => ?_)
            · refine zt_iincN (pc := 195) (b := w + 1) (L' := [some (.ref 289), some (.int x), some (.int v), some (.int (nI (cS A ^ cS A))), some (.int b_), some (.int (nI (w + 1))), none, some (.int ((ordN A x (wayL (cS A) (cS A) w W_) f_ r_).1)), none]) dX5_order_195 rfl (zinc1 w) (by decide) rfl rfl ?_
              refine zt_goto (pc := 198) 67 dX5_order_198 (by decide) ?_
              refine zt_drop (L' := [some (.ref 289), some (.int x), some (.int v), some (.int (nI (cS A ^ cS A))), some (.int b_), some (.int (nI (w + 1))), none, none, none]) 7 rfl ?_
              have hst2 : y1 = (b_, B_, (wayL (cS A) (cS A) w W_), (ordN A x (wayL (cS A) (cS A) w W_) f_ r_).2) := hst.trans (if_neg (fun z => z.1 c_142))
              subst hst2
              exact ih_w
            · refine zt_iload (pc := 145) dX5_order_145 rfl ?_
              refine zt_bipush (pc := 147) dX5_order_147 (v := (-4)) rfl ?_
              refine zt_icmp_eq (pc := 149) 159 dX5_order_149 (by decide) (fun c_149 => ?_) (fun c_149 => ?_)
              · refine zt_iload (pc := 159) dX5_order_159 rfl ?_
                refine zt_istore (pc := 161) (L' := [some (.ref 289), some (.int x), some (.int v), some (.int (nI (cS A ^ cS A))), some (.int ((ordN A x (wayL (cS A) (cS A) w W_) f_ r_).1)), some (.int (nI w)), none, some (.int ((ordN A x (wayL (cS A) (cS A) w W_) f_ r_).1)), none]) dX5_order_161 (by decide) rfl rfl ?_
                refine zt_iconst (pc := 163) dX5_order_163 (v := 0) rfl ?_
                refine zt_istore (pc := 164) (L' := [some (.ref 289), some (.int x), some (.int v), some (.int (nI (cS A ^ cS A))), some (.int ((ordN A x (wayL (cS A) (cS A) w W_) f_ r_).1)), some (.int (nI w)), none, some (.int ((ordN A x (wayL (cS A) (cS A) w W_) f_ r_).1)), some (.int 0)]) dX5_order_164 (by decide) rfl rfl ?_
                refine zt_S (ozs_6 S B_ (wayL (cS A) (cS A) w W_) (ordN A x (wayL (cS A) (cS A) w W_) f_ r_).2.1 (ordN A x (wayL (cS A) (cS A) w W_) f_ r_).2.2) ?_
                refine zt_for (pc := 166) (fun i => zs (zs (zs (zs S 305 (wayL (cS A) (cS A) w W_)) 304 (ordN A x (wayL (cS A) (cS A) w W_) f_ r_).2.2) 302 (ordN A x (wayL (cS A) (cS A) w W_) f_ r_).2.1) 306 (cpB (wayL (cS A) (cS A) w W_) B_ i)) (fun i => [some (.ref 289), some (.int x), some (.int v), some (.int (nI (cS A ^ cS A))), some (.int ((ordN A x (wayL (cS A) (cS A) w W_) f_ r_).1)), some (.int (nI w)), none, some (.int ((ordN A x (wayL (cS A) (cS A) w W_) f_ r_).1)), some (.int (nI i))]) (cS A) rfl rfl ?_ (fun i hi_i ih_i => ?_)
                · show Zt _ _ _ _ _ _ (zW h (zs (zs (zs (zs S 305 (wayL (cS A) (cS A) w W_)) 304 (ordN A x (wayL (cS A) (cS A) w W_) f_ r_).2.2) 302 (ordN A x (wayL (cS A) (cS A) w W_) f_ r_).2.1) 306 (cpB (wayL (cS A) (cS A) w W_) B_ (cS A)))) 166 [some (.ref 289), some (.int x), some (.int v), some (.int (nI (cS A ^ cS A))), some (.int ((ordN A x (wayL (cS A) (cS A) w W_) f_ r_).1)), some (.int (nI w)), none, some (.int ((ordN A x (wayL (cS A) (cS A) w W_) f_ r_).1)), some (.int (nI (cS A)))] []
                  refine zt_iload (pc := 166) dX5_order_166 rfl ?_
                  refine zt_aload_n (pc := 168) dX5_order_168 rfl rfl ?_
                  refine wt_getI (pc := 169) 5 5 (v := nI (cS A)) dX5_order_169 q1277 rfl (ms_o hM) (hA.ce.s hI.c) ?_
                  refine zt_geN (a := cS A) (b := cS A) (pc := 172) 195 dX5_order_172 (by decide) (by omega) (by omega) (fun c_172 => ?_) (fun c_172 => absurd c_172 (Nat.lt_irrefl _))
                  refine zt_iincN (pc := 195) (b := w + 1) (L' := [some (.ref 289), some (.int x), some (.int v), some (.int (nI (cS A ^ cS A))), some (.int ((ordN A x (wayL (cS A) (cS A) w W_) f_ r_).1)), some (.int (nI (w + 1))), none, some (.int ((ordN A x (wayL (cS A) (cS A) w W_) f_ r_).1)), some (.int (nI (cS A)))]) dX5_order_195 rfl (zinc1 w) (by decide) rfl rfl ?_
                  refine zt_goto (pc := 198) 67 dX5_order_198 (by decide) ?_
                  refine zt_drop (L' := [some (.ref 289), some (.int x), some (.int v), some (.int (nI (cS A ^ cS A))), some (.int ((ordN A x (wayL (cS A) (cS A) w W_) f_ r_).1)), some (.int (nI (w + 1))), none, none, some (.int (nI (cS A)))]) 7 rfl ?_
                  refine zt_drop (L' := [some (.ref 289), some (.int x), some (.int v), some (.int (nI (cS A ^ cS A))), some (.int ((ordN A x (wayL (cS A) (cS A) w W_) f_ r_).1)), some (.int (nI (w + 1))), none, none, none]) 8 rfl ?_
                  refine zt_S (ozs_6 S (cpB (wayL (cS A) (cS A) w W_) B_ (cS A)) (wayL (cS A) (cS A) w W_) (ordN A x (wayL (cS A) (cS A) w W_) f_ r_).2.1 (ordN A x (wayL (cS A) (cS A) w W_) f_ r_).2.2).symm ?_
                  have hst2 : y1 = ((ordN A x (wayL (cS A) (cS A) w W_) f_ r_).1, cpB (wayL (cS A) (cS A) w W_) B_ (cS A), (wayL (cS A) (cS A) w W_), (ordN A x (wayL (cS A) (cS A) w W_) f_ r_).2) := hst.trans (if_pos ⟨c_142, Or.inl c_149⟩)
                  subst hst2
                  exact ih_w
                · show Zt _ _ _ _ _ _ (zW h (zs (zs (zs (zs S 305 (wayL (cS A) (cS A) w W_)) 304 (ordN A x (wayL (cS A) (cS A) w W_) f_ r_).2.2) 302 (ordN A x (wayL (cS A) (cS A) w W_) f_ r_).2.1) 306 (cpB (wayL (cS A) (cS A) w W_) B_ i))) 166 [some (.ref 289), some (.int x), some (.int v), some (.int (nI (cS A ^ cS A))), some (.int ((ordN A x (wayL (cS A) (cS A) w W_) f_ r_).1)), some (.int (nI w)), none, some (.int ((ordN A x (wayL (cS A) (cS A) w W_) f_ r_).1)), some (.int (nI i))] []
                  refine zt_iload (pc := 166) dX5_order_166 rfl ?_
                  refine zt_aload_n (pc := 168) dX5_order_168 rfl rfl ?_
                  refine wt_getI (pc := 169) 5 5 (v := nI (cS A)) dX5_order_169 q1277 rfl (ms_o hM) (hA.ce.s hI.c) ?_
                  refine zt_geN (a := i) (b := cS A) (pc := 172) 195 dX5_order_172 (by decide) (by omega) (by omega) (fun c_172 => absurd hi_i (Nat.not_lt.mpr c_172)) (fun c_172 => ?_)
                  refine zt_aload_n (pc := 175) dX5_order_175 rfl rfl ?_
                  refine wt_getR (pc := 176) 5 32 dX5_order_176 q1304 rfl (ms_o hM) (mr_bestWay hM) ?_
                  refine zt_iload (pc := 179) dX5_order_179 rfl ?_
                  refine zt_aload_n (pc := 181) dX5_order_181 rfl rfl ?_
                  refine wt_getR (pc := 182) 5 31 dX5_order_182 q1303 rfl (ms_o hM) (mr_way hM) ?_
                  refine zt_iload (pc := 185) dX5_order_185 rfl ?_
                  refine wt_iald (pc := 187) 4 i (v := (wayL (cS A) (cS A) w W_) i) dX5_order_187 (ma_way hM) rfl rfl (by omega) (congrFun (show (zs (zs (zs (zs S 305 (wayL (cS A) (cS A) w W_)) 304 (ordN A x (wayL (cS A) (cS A) w W_) f_ r_).2.2) 302 (ordN A x (wayL (cS A) (cS A) w W_) f_ r_).2.1) 306 (cpB (wayL (cS A) (cS A) w W_) B_ i)) 305 = (wayL (cS A) (cS A) w W_) from (zs_ne (by decide)).trans ((zs_ne (by decide)).trans ((zs_ne (by decide)).trans (zs_at _ _ _)))) i) ?_
                  refine wt_iastS (pc := 188) 4 i dX5_order_188 (ma_bestWay hM) rfl rfl (by omega) ?_
                  refine zt_iincN (pc := 189) (b := i + 1) (L' := [some (.ref 289), some (.int x), some (.int v), some (.int (nI (cS A ^ cS A))), some (.int ((ordN A x (wayL (cS A) (cS A) w W_) f_ r_).1)), some (.int (nI w)), none, some (.int ((ordN A x (wayL (cS A) (cS A) w W_) f_ r_).1)), some (.int (nI (i + 1)))]) dX5_order_189 rfl (zinc1 i) (by decide) rfl rfl ?_
                  refine zt_goto (pc := 192) 166 dX5_order_192 (by decide) ?_
                  exact ih_i
              · refine zt_iload (pc := 152) dX5_order_152 rfl ?_
                refine zt_iload (pc := 154) dX5_order_154 rfl ?_
                refine zt_icmp_ge (pc := 156) 195 dX5_order_156 (by decide) (fun c_156 => ?_) (fun c_156 => ?_)
                · refine zt_iincN (pc := 195) (b := w + 1) (L' := [some (.ref 289), some (.int x), some (.int v), some (.int (nI (cS A ^ cS A))), some (.int b_), some (.int (nI (w + 1))), none, some (.int ((ordN A x (wayL (cS A) (cS A) w W_) f_ r_).1)), none]) dX5_order_195 rfl (zinc1 w) (by decide) rfl rfl ?_
                  refine zt_goto (pc := 198) 67 dX5_order_198 (by decide) ?_
                  refine zt_drop (L' := [some (.ref 289), some (.int x), some (.int v), some (.int (nI (cS A ^ cS A))), some (.int b_), some (.int (nI (w + 1))), none, none, none]) 7 rfl ?_
                  have hst2 : y1 = (b_, B_, (wayL (cS A) (cS A) w W_), (ordN A x (wayL (cS A) (cS A) w W_) f_ r_).2) := hst.trans (if_neg (fun z => z.2.elim c_149 (fun q => absurd c_156 (Int32.not_le.mpr q))))
                  subst hst2
                  exact ih_w
                · refine zt_iload (pc := 159) dX5_order_159 rfl ?_
                  refine zt_istore (pc := 161) (L' := [some (.ref 289), some (.int x), some (.int v), some (.int (nI (cS A ^ cS A))), some (.int ((ordN A x (wayL (cS A) (cS A) w W_) f_ r_).1)), some (.int (nI w)), none, some (.int ((ordN A x (wayL (cS A) (cS A) w W_) f_ r_).1)), none]) dX5_order_161 (by decide) rfl rfl ?_
                  refine zt_iconst (pc := 163) dX5_order_163 (v := 0) rfl ?_
                  refine zt_istore (pc := 164) (L' := [some (.ref 289), some (.int x), some (.int v), some (.int (nI (cS A ^ cS A))), some (.int ((ordN A x (wayL (cS A) (cS A) w W_) f_ r_).1)), some (.int (nI w)), none, some (.int ((ordN A x (wayL (cS A) (cS A) w W_) f_ r_).1)), some (.int 0)]) dX5_order_164 (by decide) rfl rfl ?_
                  refine zt_S (ozs_6 S B_ (wayL (cS A) (cS A) w W_) (ordN A x (wayL (cS A) (cS A) w W_) f_ r_).2.1 (ordN A x (wayL (cS A) (cS A) w W_) f_ r_).2.2) ?_
                  refine zt_for (pc := 166) (fun i => zs (zs (zs (zs S 305 (wayL (cS A) (cS A) w W_)) 304 (ordN A x (wayL (cS A) (cS A) w W_) f_ r_).2.2) 302 (ordN A x (wayL (cS A) (cS A) w W_) f_ r_).2.1) 306 (cpB (wayL (cS A) (cS A) w W_) B_ i)) (fun i => [some (.ref 289), some (.int x), some (.int v), some (.int (nI (cS A ^ cS A))), some (.int ((ordN A x (wayL (cS A) (cS A) w W_) f_ r_).1)), some (.int (nI w)), none, some (.int ((ordN A x (wayL (cS A) (cS A) w W_) f_ r_).1)), some (.int (nI i))]) (cS A) rfl rfl ?_ (fun i hi_i ih_i => ?_)
                  · show Zt _ _ _ _ _ _ (zW h (zs (zs (zs (zs S 305 (wayL (cS A) (cS A) w W_)) 304 (ordN A x (wayL (cS A) (cS A) w W_) f_ r_).2.2) 302 (ordN A x (wayL (cS A) (cS A) w W_) f_ r_).2.1) 306 (cpB (wayL (cS A) (cS A) w W_) B_ (cS A)))) 166 [some (.ref 289), some (.int x), some (.int v), some (.int (nI (cS A ^ cS A))), some (.int ((ordN A x (wayL (cS A) (cS A) w W_) f_ r_).1)), some (.int (nI w)), none, some (.int ((ordN A x (wayL (cS A) (cS A) w W_) f_ r_).1)), some (.int (nI (cS A)))] []
                    refine zt_iload (pc := 166) dX5_order_166 rfl ?_
                    refine zt_aload_n (pc := 168) dX5_order_168 rfl rfl ?_
                    refine wt_getI (pc := 169) 5 5 (v := nI (cS A)) dX5_order_169 q1277 rfl (ms_o hM) (hA.ce.s hI.c) ?_
                    refine zt_geN (a := cS A) (b := cS A) (pc := 172) 195 dX5_order_172 (by decide) (by omega) (by omega) (fun c_172 => ?_) (fun c_172 => absurd c_172 (Nat.lt_irrefl _))
                    refine zt_iincN (pc := 195) (b := w + 1) (L' := [some (.ref 289), some (.int x), some (.int v), some (.int (nI (cS A ^ cS A))), some (.int ((ordN A x (wayL (cS A) (cS A) w W_) f_ r_).1)), some (.int (nI (w + 1))), none, some (.int ((ordN A x (wayL (cS A) (cS A) w W_) f_ r_).1)), some (.int (nI (cS A)))]) dX5_order_195 rfl (zinc1 w) (by decide) rfl rfl ?_
                    refine zt_goto (pc := 198) 67 dX5_order_198 (by decide) ?_
                    refine zt_drop (L' := [some (.ref 289), some (.int x), some (.int v), some (.int (nI (cS A ^ cS A))), some (.int ((ordN A x (wayL (cS A) (cS A) w W_) f_ r_).1)), some (.int (nI (w + 1))), none, none, some (.int (nI (cS A)))]) 7 rfl ?_
                    refine zt_drop (L' := [some (.ref 289), some (.int x), some (.int v), some (.int (nI (cS A ^ cS A))), some (.int ((ordN A x (wayL (cS A) (cS A) w W_) f_ r_).1)), some (.int (nI (w + 1))), none, none, none]) 8 rfl ?_
                    refine zt_S (ozs_6 S (cpB (wayL (cS A) (cS A) w W_) B_ (cS A)) (wayL (cS A) (cS A) w W_) (ordN A x (wayL (cS A) (cS A) w W_) f_ r_).2.1 (ordN A x (wayL (cS A) (cS A) w W_) f_ r_).2.2).symm ?_
                    have hst2 : y1 = ((ordN A x (wayL (cS A) (cS A) w W_) f_ r_).1, cpB (wayL (cS A) (cS A) w W_) B_ (cS A), (wayL (cS A) (cS A) w W_), (ordN A x (wayL (cS A) (cS A) w W_) f_ r_).2) := hst.trans (if_pos ⟨c_142, Or.inr (Int32.not_le.mp c_156)⟩)
                    subst hst2
                    exact ih_w
                  · show Zt _ _ _ _ _ _ (zW h (zs (zs (zs (zs S 305 (wayL (cS A) (cS A) w W_)) 304 (ordN A x (wayL (cS A) (cS A) w W_) f_ r_).2.2) 302 (ordN A x (wayL (cS A) (cS A) w W_) f_ r_).2.1) 306 (cpB (wayL (cS A) (cS A) w W_) B_ i))) 166 [some (.ref 289), some (.int x), some (.int v), some (.int (nI (cS A ^ cS A))), some (.int ((ordN A x (wayL (cS A) (cS A) w W_) f_ r_).1)), some (.int (nI w)), none, some (.int ((ordN A x (wayL (cS A) (cS A) w W_) f_ r_).1)), some (.int (nI i))] []
                    refine zt_iload (pc := 166) dX5_order_166 rfl ?_
                    refine zt_aload_n (pc := 168) dX5_order_168 rfl rfl ?_
                    refine wt_getI (pc := 169) 5 5 (v := nI (cS A)) dX5_order_169 q1277 rfl (ms_o hM) (hA.ce.s hI.c) ?_
                    refine zt_geN (a := i) (b := cS A) (pc := 172) 195 dX5_order_172 (by decide) (by omega) (by omega) (fun c_172 => absurd hi_i (Nat.not_lt.mpr c_172)) (fun c_172 => ?_)
                    refine zt_aload_n (pc := 175) dX5_order_175 rfl rfl ?_
                    refine wt_getR (pc := 176) 5 32 dX5_order_176 q1304 rfl (ms_o hM) (mr_bestWay hM) ?_
                    refine zt_iload (pc := 179) dX5_order_179 rfl ?_
                    refine zt_aload_n (pc := 181) dX5_order_181 rfl rfl ?_
                    refine wt_getR (pc := 182) 5 31 dX5_order_182 q1303 rfl (ms_o hM) (mr_way hM) ?_
                    refine zt_iload (pc := 185) dX5_order_185 rfl ?_
                    refine wt_iald (pc := 187) 4 i (v := (wayL (cS A) (cS A) w W_) i) dX5_order_187 (ma_way hM) rfl rfl (by omega) (congrFun (show (zs (zs (zs (zs S 305 (wayL (cS A) (cS A) w W_)) 304 (ordN A x (wayL (cS A) (cS A) w W_) f_ r_).2.2) 302 (ordN A x (wayL (cS A) (cS A) w W_) f_ r_).2.1) 306 (cpB (wayL (cS A) (cS A) w W_) B_ i)) 305 = (wayL (cS A) (cS A) w W_) from (zs_ne (by decide)).trans ((zs_ne (by decide)).trans ((zs_ne (by decide)).trans (zs_at _ _ _)))) i) ?_
                    refine wt_iastS (pc := 188) 4 i dX5_order_188 (ma_bestWay hM) rfl rfl (by omega) ?_
                    refine zt_iincN (pc := 189) (b := i + 1) (L' := [some (.ref 289), some (.int x), some (.int v), some (.int (nI (cS A ^ cS A))), some (.int ((ordN A x (wayL (cS A) (cS A) w W_) f_ r_).1)), some (.int (nI w)), none, some (.int ((ordN A x (wayL (cS A) (cS A) w W_) f_ r_).1)), some (.int (nI (i + 1)))]) dX5_order_189 rfl (zinc1 i) (by decide) rfl rfl ?_
                    refine zt_goto (pc := 192) 166 dX5_order_192 (by decide) ?_
                    exact ih_i
          · refine zt_aload_n (pc := 126) dX5_order_126 rfl rfl ?_
            refine zt_iload_n (pc := 127) dX5_order_127 rfl rfl ?_
            refine wt_callV (pc := 128) mX5_taken 1 5 (rc' := 0) (rs' := 0) dX5_order_128 q1617 mi_X5_taken rfl rfl (ms_o hM) (tm_taken (S := zs (zs S 306 B_) 305 (wayL (cS A) (cS A) w W_)) (r := r_) (f := f_) hM hI.c ((hA.ce.z (by decide)).z (by decide)) x (zs_at _ _ _) (WI_way (cS A) rfl w W_)) rfl rfl rfl rfl rfl rfl ?_
            refine zt_goto (pc := 131) 136 dX5_order_131 (by decide) ?_
            have hon : (ordN A x (wayL (cS A) (cS A) w W_) f_ r_) = s_taken A x (wayL (cS A) (cS A) w W_) f_ r_ := if_neg c_123
            refine zt_top (pc := 136) (ordN A x (wayL (cS A) (cS A) w W_) f_ r_).1 (by rw [hon]) ?_
            refine zt_S (S' := ozs S B_ (wayL (cS A) (cS A) w W_) (ordN A x (wayL (cS A) (cS A) w W_) f_ r_).2.1 (ordN A x (wayL (cS A) (cS A) w W_) f_ r_).2.2) (by rw [hon] <;> rfl) ?_
            clear hon
            refine zt_istore (pc := 136) (L' := [some (.ref 289), some (.int x), some (.int v), some (.int (nI (cS A ^ cS A))), some (.int b_), some (.int (nI w)), none, some (.int ((ordN A x (wayL (cS A) (cS A) w W_) f_ r_).1)), none]) dX5_order_136 (by decide) rfl rfl ?_
            refine zt_iload (pc := 138) dX5_order_138 rfl ?_
            refine zt_bipush (pc := 140) dX5_order_140 (v := (-4)) rfl ?_
            refine zt_icmp_eq (pc := 142) 195 dX5_order_142 (by decide) (fun c_142 => ?_) (fun c_142 => ?_)
            · refine zt_iincN (pc := 195) (b := w + 1) (L' := [some (.ref 289), some (.int x), some (.int v), some (.int (nI (cS A ^ cS A))), some (.int b_), some (.int (nI (w + 1))), none, some (.int ((ordN A x (wayL (cS A) (cS A) w W_) f_ r_).1)), none]) dX5_order_195 rfl (zinc1 w) (by decide) rfl rfl ?_
              refine zt_goto (pc := 198) 67 dX5_order_198 (by decide) ?_
              refine zt_drop (L' := [some (.ref 289), some (.int x), some (.int v), some (.int (nI (cS A ^ cS A))), some (.int b_), some (.int (nI (w + 1))), none, none, none]) 7 rfl ?_
              have hst2 : y1 = (b_, B_, (wayL (cS A) (cS A) w W_), (ordN A x (wayL (cS A) (cS A) w W_) f_ r_).2) := hst.trans (if_neg (fun z => z.1 c_142))
              subst hst2
              exact ih_w
            · refine zt_iload (pc := 145) dX5_order_145 rfl ?_
              refine zt_bipush (pc := 147) dX5_order_147 (v := (-4)) rfl ?_
              refine zt_icmp_eq (pc := 149) 159 dX5_order_149 (by decide) (fun c_149 => ?_) (fun c_149 => ?_)
              · refine zt_iload (pc := 159) dX5_order_159 rfl ?_
                refine zt_istore (pc := 161) (L' := [some (.ref 289), some (.int x), some (.int v), some (.int (nI (cS A ^ cS A))), some (.int ((ordN A x (wayL (cS A) (cS A) w W_) f_ r_).1)), some (.int (nI w)), none, some (.int ((ordN A x (wayL (cS A) (cS A) w W_) f_ r_).1)), none]) dX5_order_161 (by decide) rfl rfl ?_
                refine zt_iconst (pc := 163) dX5_order_163 (v := 0) rfl ?_
                refine zt_istore (pc := 164) (L' := [some (.ref 289), some (.int x), some (.int v), some (.int (nI (cS A ^ cS A))), some (.int ((ordN A x (wayL (cS A) (cS A) w W_) f_ r_).1)), some (.int (nI w)), none, some (.int ((ordN A x (wayL (cS A) (cS A) w W_) f_ r_).1)), some (.int 0)]) dX5_order_164 (by decide) rfl rfl ?_
                refine zt_S (ozs_6 S B_ (wayL (cS A) (cS A) w W_) (ordN A x (wayL (cS A) (cS A) w W_) f_ r_).2.1 (ordN A x (wayL (cS A) (cS A) w W_) f_ r_).2.2) ?_
                refine zt_for (pc := 166) (fun i => zs (zs (zs (zs S 305 (wayL (cS A) (cS A) w W_)) 304 (ordN A x (wayL (cS A) (cS A) w W_) f_ r_).2.2) 302 (ordN A x (wayL (cS A) (cS A) w W_) f_ r_).2.1) 306 (cpB (wayL (cS A) (cS A) w W_) B_ i)) (fun i => [some (.ref 289), some (.int x), some (.int v), some (.int (nI (cS A ^ cS A))), some (.int ((ordN A x (wayL (cS A) (cS A) w W_) f_ r_).1)), some (.int (nI w)), none, some (.int ((ordN A x (wayL (cS A) (cS A) w W_) f_ r_).1)), some (.int (nI i))]) (cS A) rfl rfl ?_ (fun i hi_i ih_i => ?_)
                · show Zt _ _ _ _ _ _ (zW h (zs (zs (zs (zs S 305 (wayL (cS A) (cS A) w W_)) 304 (ordN A x (wayL (cS A) (cS A) w W_) f_ r_).2.2) 302 (ordN A x (wayL (cS A) (cS A) w W_) f_ r_).2.1) 306 (cpB (wayL (cS A) (cS A) w W_) B_ (cS A)))) 166 [some (.ref 289), some (.int x), some (.int v), some (.int (nI (cS A ^ cS A))), some (.int ((ordN A x (wayL (cS A) (cS A) w W_) f_ r_).1)), some (.int (nI w)), none, some (.int ((ordN A x (wayL (cS A) (cS A) w W_) f_ r_).1)), some (.int (nI (cS A)))] []
                  refine zt_iload (pc := 166) dX5_order_166 rfl ?_
                  refine zt_aload_n (pc := 168) dX5_order_168 rfl rfl ?_
                  refine wt_getI (pc := 169) 5 5 (v := nI (cS A)) dX5_order_169 q1277 rfl (ms_o hM) (hA.ce.s hI.c) ?_
                  refine zt_geN (a := cS A) (b := cS A) (pc := 172) 195 dX5_order_172 (by decide) (by omega) (by omega) (fun c_172 => ?_) (fun c_172 => absurd c_172 (Nat.lt_irrefl _))
                  refine zt_iincN (pc := 195) (b := w + 1) (L' := [some (.ref 289), some (.int x), some (.int v), some (.int (nI (cS A ^ cS A))), some (.int ((ordN A x (wayL (cS A) (cS A) w W_) f_ r_).1)), some (.int (nI (w + 1))), none, some (.int ((ordN A x (wayL (cS A) (cS A) w W_) f_ r_).1)), some (.int (nI (cS A)))]) dX5_order_195 rfl (zinc1 w) (by decide) rfl rfl ?_
                  refine zt_goto (pc := 198) 67 dX5_order_198 (by decide) ?_
                  refine zt_drop (L' := [some (.ref 289), some (.int x), some (.int v), some (.int (nI (cS A ^ cS A))), some (.int ((ordN A x (wayL (cS A) (cS A) w W_) f_ r_).1)), some (.int (nI (w + 1))), none, none, some (.int (nI (cS A)))]) 7 rfl ?_
                  refine zt_drop (L' := [some (.ref 289), some (.int x), some (.int v), some (.int (nI (cS A ^ cS A))), some (.int ((ordN A x (wayL (cS A) (cS A) w W_) f_ r_).1)), some (.int (nI (w + 1))), none, none, none]) 8 rfl ?_
                  refine zt_S (ozs_6 S (cpB (wayL (cS A) (cS A) w W_) B_ (cS A)) (wayL (cS A) (cS A) w W_) (ordN A x (wayL (cS A) (cS A) w W_) f_ r_).2.1 (ordN A x (wayL (cS A) (cS A) w W_) f_ r_).2.2).symm ?_
                  have hst2 : y1 = ((ordN A x (wayL (cS A) (cS A) w W_) f_ r_).1, cpB (wayL (cS A) (cS A) w W_) B_ (cS A), (wayL (cS A) (cS A) w W_), (ordN A x (wayL (cS A) (cS A) w W_) f_ r_).2) := hst.trans (if_pos ⟨c_142, Or.inl c_149⟩)
                  subst hst2
                  exact ih_w
                · show Zt _ _ _ _ _ _ (zW h (zs (zs (zs (zs S 305 (wayL (cS A) (cS A) w W_)) 304 (ordN A x (wayL (cS A) (cS A) w W_) f_ r_).2.2) 302 (ordN A x (wayL (cS A) (cS A) w W_) f_ r_).2.1) 306 (cpB (wayL (cS A) (cS A) w W_) B_ i))) 166 [some (.ref 289), some (.int x), some (.int v), some (.int (nI (cS A ^ cS A))), some (.int ((ordN A x (wayL (cS A) (cS A) w W_) f_ r_).1)), some (.int (nI w)), none, some (.int ((ordN A x (wayL (cS A) (cS A) w W_) f_ r_).1)), some (.int (nI i))] []
                  refine zt_iload (pc := 166) dX5_order_166 rfl ?_
                  refine zt_aload_n (pc := 168) dX5_order_168 rfl rfl ?_
                  refine wt_getI (pc := 169) 5 5 (v := nI (cS A)) dX5_order_169 q1277 rfl (ms_o hM) (hA.ce.s hI.c) ?_
                  refine zt_geN (a := i) (b := cS A) (pc := 172) 195 dX5_order_172 (by decide) (by omega) (by omega) (fun c_172 => absurd hi_i (Nat.not_lt.mpr c_172)) (fun c_172 => ?_)
                  refine zt_aload_n (pc := 175) dX5_order_175 rfl rfl ?_
                  refine wt_getR (pc := 176) 5 32 dX5_order_176 q1304 rfl (ms_o hM) (mr_bestWay hM) ?_
                  refine zt_iload (pc := 179) dX5_order_179 rfl ?_
                  refine zt_aload_n (pc := 181) dX5_order_181 rfl rfl ?_
                  refine wt_getR (pc := 182) 5 31 dX5_order_182 q1303 rfl (ms_o hM) (mr_way hM) ?_
                  refine zt_iload (pc := 185) dX5_order_185 rfl ?_
                  refine wt_iald (pc := 187) 4 i (v := (wayL (cS A) (cS A) w W_) i) dX5_order_187 (ma_way hM) rfl rfl (by omega) (congrFun (show (zs (zs (zs (zs S 305 (wayL (cS A) (cS A) w W_)) 304 (ordN A x (wayL (cS A) (cS A) w W_) f_ r_).2.2) 302 (ordN A x (wayL (cS A) (cS A) w W_) f_ r_).2.1) 306 (cpB (wayL (cS A) (cS A) w W_) B_ i)) 305 = (wayL (cS A) (cS A) w W_) from (zs_ne (by decide)).trans ((zs_ne (by decide)).trans ((zs_ne (by decide)).trans (zs_at _ _ _)))) i) ?_
                  refine wt_iastS (pc := 188) 4 i dX5_order_188 (ma_bestWay hM) rfl rfl (by omega) ?_
                  refine zt_iincN (pc := 189) (b := i + 1) (L' := [some (.ref 289), some (.int x), some (.int v), some (.int (nI (cS A ^ cS A))), some (.int ((ordN A x (wayL (cS A) (cS A) w W_) f_ r_).1)), some (.int (nI w)), none, some (.int ((ordN A x (wayL (cS A) (cS A) w W_) f_ r_).1)), some (.int (nI (i + 1)))]) dX5_order_189 rfl (zinc1 i) (by decide) rfl rfl ?_
                  refine zt_goto (pc := 192) 166 dX5_order_192 (by decide) ?_
                  exact ih_i
              · refine zt_iload (pc := 152) dX5_order_152 rfl ?_
                refine zt_iload (pc := 154) dX5_order_154 rfl ?_
                refine zt_icmp_ge (pc := 156) 195 dX5_order_156 (by decide) (fun c_156 => ?_) (fun c_156 => ?_)
                · refine zt_iincN (pc := 195) (b := w + 1) (L' := [some (.ref 289), some (.int x), some (.int v), some (.int (nI (cS A ^ cS A))), some (.int b_), some (.int (nI (w + 1))), none, some (.int ((ordN A x (wayL (cS A) (cS A) w W_) f_ r_).1)), none]) dX5_order_195 rfl (zinc1 w) (by decide) rfl rfl ?_
                  refine zt_goto (pc := 198) 67 dX5_order_198 (by decide) ?_
                  refine zt_drop (L' := [some (.ref 289), some (.int x), some (.int v), some (.int (nI (cS A ^ cS A))), some (.int b_), some (.int (nI (w + 1))), none, none, none]) 7 rfl ?_
                  have hst2 : y1 = (b_, B_, (wayL (cS A) (cS A) w W_), (ordN A x (wayL (cS A) (cS A) w W_) f_ r_).2) := hst.trans (if_neg (fun z => z.2.elim c_149 (fun q => absurd c_156 (Int32.not_le.mpr q))))
                  subst hst2
                  exact ih_w
                · refine zt_iload (pc := 159) dX5_order_159 rfl ?_
                  refine zt_istore (pc := 161) (L' := [some (.ref 289), some (.int x), some (.int v), some (.int (nI (cS A ^ cS A))), some (.int ((ordN A x (wayL (cS A) (cS A) w W_) f_ r_).1)), some (.int (nI w)), none, some (.int ((ordN A x (wayL (cS A) (cS A) w W_) f_ r_).1)), none]) dX5_order_161 (by decide) rfl rfl ?_
                  refine zt_iconst (pc := 163) dX5_order_163 (v := 0) rfl ?_
                  refine zt_istore (pc := 164) (L' := [some (.ref 289), some (.int x), some (.int v), some (.int (nI (cS A ^ cS A))), some (.int ((ordN A x (wayL (cS A) (cS A) w W_) f_ r_).1)), some (.int (nI w)), none, some (.int ((ordN A x (wayL (cS A) (cS A) w W_) f_ r_).1)), some (.int 0)]) dX5_order_164 (by decide) rfl rfl ?_
                  refine zt_S (ozs_6 S B_ (wayL (cS A) (cS A) w W_) (ordN A x (wayL (cS A) (cS A) w W_) f_ r_).2.1 (ordN A x (wayL (cS A) (cS A) w W_) f_ r_).2.2) ?_
                  refine zt_for (pc := 166) (fun i => zs (zs (zs (zs S 305 (wayL (cS A) (cS A) w W_)) 304 (ordN A x (wayL (cS A) (cS A) w W_) f_ r_).2.2) 302 (ordN A x (wayL (cS A) (cS A) w W_) f_ r_).2.1) 306 (cpB (wayL (cS A) (cS A) w W_) B_ i)) (fun i => [some (.ref 289), some (.int x), some (.int v), some (.int (nI (cS A ^ cS A))), some (.int ((ordN A x (wayL (cS A) (cS A) w W_) f_ r_).1)), some (.int (nI w)), none, some (.int ((ordN A x (wayL (cS A) (cS A) w W_) f_ r_).1)), some (.int (nI i))]) (cS A) rfl rfl ?_ (fun i hi_i ih_i => ?_)
                  · show Zt _ _ _ _ _ _ (zW h (zs (zs (zs (zs S 305 (wayL (cS A) (cS A) w W_)) 304 (ordN A x (wayL (cS A) (cS A) w W_) f_ r_).2.2) 302 (ordN A x (wayL (cS A) (cS A) w W_) f_ r_).2.1) 306 (cpB (wayL (cS A) (cS A) w W_) B_ (cS A)))) 166 [some (.ref 289), some (.int x), some (.int v), some (.int (nI (cS A ^ cS A))), some (.int ((ordN A x (wayL (cS A) (cS A) w W_) f_ r_).1)), some (.int (nI w)), none, some (.int ((ordN A x (wayL (cS A) (cS A) w W_) f_ r_).1)), some (.int (nI (cS A)))] []
                    refine zt_iload (pc := 166) dX5_order_166 rfl ?_
                    refine zt_aload_n (pc := 168) dX5_order_168 rfl rfl ?_
                    refine wt_getI (pc := 169) 5 5 (v := nI (cS A)) dX5_order_169 q1277 rfl (ms_o hM) (hA.ce.s hI.c) ?_
                    refine zt_geN (a := cS A) (b := cS A) (pc := 172) 195 dX5_order_172 (by decide) (by omega) (by omega) (fun c_172 => ?_) (fun c_172 => absurd c_172 (Nat.lt_irrefl _))
                    refine zt_iincN (pc := 195) (b := w + 1) (L' := [some (.ref 289), some (.int x), some (.int v), some (.int (nI (cS A ^ cS A))), some (.int ((ordN A x (wayL (cS A) (cS A) w W_) f_ r_).1)), some (.int (nI (w + 1))), none, some (.int ((ordN A x (wayL (cS A) (cS A) w W_) f_ r_).1)), some (.int (nI (cS A)))]) dX5_order_195 rfl (zinc1 w) (by decide) rfl rfl ?_
                    refine zt_goto (pc := 198) 67 dX5_order_198 (by decide) ?_
                    refine zt_drop (L' := [some (.ref 289), some (.int x), some (.int v), some (.int (nI (cS A ^ cS A))), some (.int ((ordN A x (wayL (cS A) (cS A) w W_) f_ r_).1)), some (.int (nI (w + 1))), none, none, some (.int (nI (cS A)))]) 7 rfl ?_
                    refine zt_drop (L' := [some (.ref 289), some (.int x), some (.int v), some (.int (nI (cS A ^ cS A))), some (.int ((ordN A x (wayL (cS A) (cS A) w W_) f_ r_).1)), some (.int (nI (w + 1))), none, none, none]) 8 rfl ?_
                    refine zt_S (ozs_6 S (cpB (wayL (cS A) (cS A) w W_) B_ (cS A)) (wayL (cS A) (cS A) w W_) (ordN A x (wayL (cS A) (cS A) w W_) f_ r_).2.1 (ordN A x (wayL (cS A) (cS A) w W_) f_ r_).2.2).symm ?_
                    have hst2 : y1 = ((ordN A x (wayL (cS A) (cS A) w W_) f_ r_).1, cpB (wayL (cS A) (cS A) w W_) B_ (cS A), (wayL (cS A) (cS A) w W_), (ordN A x (wayL (cS A) (cS A) w W_) f_ r_).2) := hst.trans (if_pos ⟨c_142, Or.inr (Int32.not_le.mp c_156)⟩)
                    subst hst2
                    exact ih_w
                  · show Zt _ _ _ _ _ _ (zW h (zs (zs (zs (zs S 305 (wayL (cS A) (cS A) w W_)) 304 (ordN A x (wayL (cS A) (cS A) w W_) f_ r_).2.2) 302 (ordN A x (wayL (cS A) (cS A) w W_) f_ r_).2.1) 306 (cpB (wayL (cS A) (cS A) w W_) B_ i))) 166 [some (.ref 289), some (.int x), some (.int v), some (.int (nI (cS A ^ cS A))), some (.int ((ordN A x (wayL (cS A) (cS A) w W_) f_ r_).1)), some (.int (nI w)), none, some (.int ((ordN A x (wayL (cS A) (cS A) w W_) f_ r_).1)), some (.int (nI i))] []
                    refine zt_iload (pc := 166) dX5_order_166 rfl ?_
                    refine zt_aload_n (pc := 168) dX5_order_168 rfl rfl ?_
                    refine wt_getI (pc := 169) 5 5 (v := nI (cS A)) dX5_order_169 q1277 rfl (ms_o hM) (hA.ce.s hI.c) ?_
                    refine zt_geN (a := i) (b := cS A) (pc := 172) 195 dX5_order_172 (by decide) (by omega) (by omega) (fun c_172 => absurd hi_i (Nat.not_lt.mpr c_172)) (fun c_172 => ?_)
                    refine zt_aload_n (pc := 175) dX5_order_175 rfl rfl ?_
                    refine wt_getR (pc := 176) 5 32 dX5_order_176 q1304 rfl (ms_o hM) (mr_bestWay hM) ?_
                    refine zt_iload (pc := 179) dX5_order_179 rfl ?_
                    refine zt_aload_n (pc := 181) dX5_order_181 rfl rfl ?_
                    refine wt_getR (pc := 182) 5 31 dX5_order_182 q1303 rfl (ms_o hM) (mr_way hM) ?_
                    refine zt_iload (pc := 185) dX5_order_185 rfl ?_
                    refine wt_iald (pc := 187) 4 i (v := (wayL (cS A) (cS A) w W_) i) dX5_order_187 (ma_way hM) rfl rfl (by omega) (congrFun (show (zs (zs (zs (zs S 305 (wayL (cS A) (cS A) w W_)) 304 (ordN A x (wayL (cS A) (cS A) w W_) f_ r_).2.2) 302 (ordN A x (wayL (cS A) (cS A) w W_) f_ r_).2.1) 306 (cpB (wayL (cS A) (cS A) w W_) B_ i)) 305 = (wayL (cS A) (cS A) w W_) from (zs_ne (by decide)).trans ((zs_ne (by decide)).trans ((zs_ne (by decide)).trans (zs_at _ _ _)))) i) ?_
                    refine wt_iastS (pc := 188) 4 i dX5_order_188 (ma_bestWay hM) rfl rfl (by omega) ?_
                    refine zt_iincN (pc := 189) (b := i + 1) (L' := [some (.ref 289), some (.int x), some (.int v), some (.int (nI (cS A ^ cS A))), some (.int ((ordN A x (wayL (cS A) (cS A) w W_) f_ r_).1)), some (.int (nI w)), none, some (.int ((ordN A x (wayL (cS A) (cS A) w W_) f_ r_).1)), some (.int (nI (i + 1)))]) dX5_order_189 rfl (zinc1 i) (by decide) rfl rfl ?_
                    refine zt_goto (pc := 192) 166 dX5_order_192 (by decide) ?_
                    exact ih_i
      · show Zt _ _ _ _ _ _ (zW h S) 38 [some (.ref 289), some (.int x), some (.int v), some (.int (nI (cS A ^ i))), some (.int (nI i)), none, none, none, none] []
        have hpi := hp4 i (by omega)
        refine zt_iload (pc := 38) dX5_order_38 rfl ?_
        refine zt_aload_n (pc := 40) dX5_order_40 rfl rfl ?_
        refine wt_getI (pc := 41) 5 5 (v := nI (cS A)) dX5_order_41 q1277 rfl (ms_o hM) (hA.ce.s hI.c) ?_
        refine zt_geN (a := i) (b := cS A) (pc := 44) 60 dX5_order_44 (by decide) (by omega) (by omega) (fun c_44 => absurd hi_i (Nat.not_lt.mpr c_44)) (fun c_44 => ?_)
        refine zt_iload_n (pc := 47) dX5_order_47 rfl rfl ?_
        refine zt_aload_n (pc := 48) dX5_order_48 rfl rfl ?_
        refine wt_getI (pc := 49) 5 5 (v := nI (cS A)) dX5_order_49 q1277 rfl (ms_o hM) (hA.ce.s hI.c) ?_
        refine zt_imulN (pc := 52) (a := cS A ^ i) (b := cS A) dX5_order_52 ?_
        refine zt_istore_n (pc := 53) (L' := [some (.ref 289), some (.int x), some (.int v), some (.int (nI ((cS A ^ i) * (cS A)))), some (.int (nI i)), none, none, none, none]) dX5_order_53 rfl (by decide) rfl rfl ?_
        refine zt_iincN (pc := 54) (b := i + 1) (L' := [some (.ref 289), some (.int x), some (.int v), some (.int (nI ((cS A ^ i) * (cS A)))), some (.int (nI (i + 1))), none, none, none, none]) dX5_order_54 rfl (zinc1 i) (by decide) rfl rfl ?_
        refine zt_goto (pc := 57) 38 dX5_order_57 (by decide) ?_
        exact ih_i
    · refine zt_iload_n (pc := 12) dX5_order_12 rfl rfl ?_
      refine zt_i2l (pc := 13) dX5_order_13 rfl ?_
      refine zt_ldc2 (pc := 14) dX5_order_14 q1459 ?_
      refine zt_bipush (pc := 17) dX5_order_17 (v := 9) rfl ?_
      refine zt_aload_n (pc := 19) dX5_order_19 rfl rfl ?_
      refine wt_getI (pc := 20) 5 5 (v := nI (cS A)) dX5_order_20 q1277 rfl (ms_o hM) (hA.ce.s hI.c) ?_
      refine zt_iaddN (pc := 23) (a := 9) (b := cS A) dX5_order_23 ?_
      refine zt_i2l (pc := 24) dX5_order_24 rfl ?_
      refine wt_callS (pc := 25) mX5_in 3 (rc' := 0) (rs' := 0) dX5_order_25 q1223 ms_X5_in (tm_in v.toInt64 10 ((nI (9 + (cS A))).toInt64)) rfl rfl rfl rfl rfl rfl ?_
      refine zt_if_ne (pc := 28) 33 dX5_order_28 (by decide) (fun c_28 => ?_) (fun c_28 => ?_)
      · have hG : ordG A x v := ⟨bI_ne0 c_5, Or.inr (bI_ne0 c_28)⟩
        refine zt_iconst (pc := 33) dX5_order_33 (v := 1) rfl ?_
        refine zt_istore_n (pc := 34) (L' := [some (.ref 289), some (.int x), some (.int v), some (.int 1), none, none, none, none, none]) dX5_order_34 rfl (by decide) rfl rfl ?_
        refine zt_iconst (pc := 35) dX5_order_35 (v := 0) rfl ?_
        refine zt_istore (pc := 36) (L' := [some (.ref 289), some (.int x), some (.int v), some (.int 1), some (.int 0), none, none, none, none]) dX5_order_36 (by decide) rfl rfl ?_
        refine zt_for (pc := 38) (fun i => S) (fun i => [some (.ref 289), some (.int x), some (.int v), some (.int (nI (cS A ^ i))), some (.int (nI i)), none, none, none, none]) (cS A) rfl rfl ?_ (fun i hi_i ih_i => ?_)
        · show Zt _ _ _ _ _ _ (zW h S) 38 [some (.ref 289), some (.int x), some (.int v), some (.int (nI (cS A ^ (cS A)))), some (.int (nI (cS A))), none, none, none, none] []
          have hpe := hp4 (cS A) (by omega)
          refine zt_iload (pc := 38) dX5_order_38 rfl ?_
          refine zt_aload_n (pc := 40) dX5_order_40 rfl rfl ?_
          refine wt_getI (pc := 41) 5 5 (v := nI (cS A)) dX5_order_41 q1277 rfl (ms_o hM) (hA.ce.s hI.c) ?_
          refine zt_geN (a := cS A) (b := cS A) (pc := 44) 60 dX5_order_44 (by decide) (by omega) (by omega) (fun c_44 => ?_) (fun c_44 => absurd c_44 (Nat.lt_irrefl _))
          refine zt_bipush (pc := 60) dX5_order_60 (v := (-4)) rfl ?_
          refine zt_istore (pc := 62) (L' := [some (.ref 289), some (.int x), some (.int v), some (.int (nI (cS A ^ (cS A)))), some (.int (-4)), none, none, none, none]) dX5_order_62 (by decide) rfl rfl ?_
          refine zt_iconst (pc := 64) dX5_order_64 (v := 0) rfl ?_
          refine zt_istore (pc := 65) (L' := [some (.ref 289), some (.int x), some (.int v), some (.int (nI (cS A ^ (cS A)))), some (.int (-4)), some (.int 0), none, none, none]) dX5_order_65 (by decide) rfl rfl ?_
          refine zt_S (zs_eq (a := 306) (f := A 306) (hA 306 (by decide) (by decide))) ?_
          refine zt_S (zs_eq (a := 305) (f := A 305) (hA 305 (by decide) (by decide))) ?_
          refine zt_S (zs_eq (a := 304) (f := A 304) (hA 304 (by decide) (by decide))) ?_
          refine zt_S (zs_eq (a := 302) (f := A 302) (hA 302 (by decide) (by decide))) ?_
          refine zt_for (pc := 67) (fun w => ozs S (ordE A x (A 306) (A 305) (A 302) (A 304) w).2.1 (ordE A x (A 306) (A 305) (A 302) (A 304) w).2.2.1 (ordE A x (A 306) (A 305) (A 302) (A 304) w).2.2.2.1 (ordE A x (A 306) (A 305) (A 302) (A 304) w).2.2.2.2) (fun w => [some (.ref 289), some (.int x), some (.int v), some (.int (nI (cS A ^ cS A))), some (.int ((ordE A x (A 306) (A 305) (A 302) (A 304) w).1)), some (.int (nI w)), none, none, none]) (cS A ^ cS A) rfl rfl ?_ (fun w hi_w ih_w => ?_)
          · show Zt _ _ _ _ _ _ (zW h (ozs S (ordE A x (A 306) (A 305) (A 302) (A 304) (cS A ^ cS A)).2.1 (ordE A x (A 306) (A 305) (A 302) (A 304) (cS A ^ cS A)).2.2.1 (ordE A x (A 306) (A 305) (A 302) (A 304) (cS A ^ cS A)).2.2.2.1 (ordE A x (A 306) (A 305) (A 302) (A 304) (cS A ^ cS A)).2.2.2.2)) 67 [some (.ref 289), some (.int x), some (.int v), some (.int (nI (cS A ^ cS A))), some (.int ((ordE A x (A 306) (A 305) (A 302) (A 304) (cS A ^ cS A)).1)), some (.int (nI (cS A ^ cS A))), none, none, none] []
            refine zt_iload (pc := 67) dX5_order_67 rfl ?_
            refine zt_iload_n (pc := 69) dX5_order_69 rfl rfl ?_
            refine zt_geN (a := cS A ^ cS A) (b := cS A ^ cS A) (pc := 70) 201 dX5_order_70 (by decide) (by omega) (by omega) (fun c_70 => ?_) (fun c_70 => absurd c_70 (Nat.lt_irrefl _))
            show Zt _ _ _ _ _ _ (zW h (ozs S (ordA A x).2.1 (ordA A x).2.2.1 (ordA A x).2.2.2.1 (ordA A x).2.2.2.2)) 201 [some (.ref 289), some (.int x), some (.int v), some (.int (nI (cS A ^ cS A))), some (.int ((ordA A x).1)), some (.int (nI (cS A ^ cS A))), none, none, none] []
            refine zt_iload_n (pc := 201) dX5_order_201 rfl rfl ?_
            refine zt_if_eq (pc := 202) 212 dX5_order_202 (by decide) (fun c_202 => absurd c_202 c_9) (fun c_202 => ?_)
            refine zt_iload (pc := 205) dX5_order_205 rfl ?_
            refine zt_bipush (pc := 207) dX5_order_207 (v := (-4)) rfl ?_
            refine zt_icmp_ne (pc := 209) 217 dX5_order_209 (by decide) (fun c_209 => ?_) (fun c_209 => ?_)
            · obtain ⟨j_, hj_, rfl⟩ := w_in10 (n := cS A) (by omega) (by have q := bI_ne0 c_28; rw [nI_l (show 9 + cS A < 2 ^ 31 by omega)] at q; exact q)
              have hj10 : nI (10 + j_) - 10 = nI j_ := (pk_sub (a := 10 + j_) (b := 10) (by omega)).trans (by rw [Nat.add_sub_cancel_left])
              refine zt_aload_n (pc := 217) dX5_order_217 rfl rfl ?_
              refine wt_getR (pc := 218) 5 32 dX5_order_218 q1304 rfl (ms_o hM) (mr_bestWay hM) ?_
              refine zt_iload_n (pc := 221) dX5_order_221 rfl rfl ?_
              refine zt_bipush (pc := 222) dX5_order_222 (v := 10) rfl ?_
              refine zt_isub (pc := 224) dX5_order_224 ?_
              refine wt_iald (pc := 225) 4 j_ (v := ((ordA A x).2.1) j_) dX5_order_225 (ma_bestWay hM) rfl hj10 (by omega) (congrFun (show ozs S (ordA A x).2.1 (ordA A x).2.2.1 (ordA A x).2.2.2.1 (ordA A x).2.2.2.2 306 = (ordA A x).2.1 from (zs_ne (by decide)).trans ((zs_ne (by decide)).trans ((zs_ne (by decide)).trans (zs_at _ _ _)))) j_) ?_
              exact zt_ireturn (pc := 226) dX5_order_226 rfl (⟨congrArg some (congrArg Value.int (Eq.symm (by unfold o_order; rw [if_pos hG, if_neg (fun q => q.elim c_9 c_209), hj10, nI_clamp (show j_ < 2 ^ 31 by omega)]))), congrArg (zW h) (Eq.symm (if_pos hG))⟩)
            · refine zt_iload (pc := 212) dX5_order_212 rfl ?_
              refine zt_goto (pc := 214) 226 dX5_order_214 (by decide) ?_
              exact zt_ireturn (pc := 226) dX5_order_226 rfl (⟨congrArg some (congrArg Value.int (Eq.symm ((if_pos hG).trans (if_pos (Or.inr c_209))))), congrArg (zW h) (Eq.symm (if_pos hG))⟩)
          · show Zt _ _ _ _ _ _ (zW h (ozs S (ordE A x (A 306) (A 305) (A 302) (A 304) w).2.1 (ordE A x (A 306) (A 305) (A 302) (A 304) w).2.2.1 (ordE A x (A 306) (A 305) (A 302) (A 304) w).2.2.2.1 (ordE A x (A 306) (A 305) (A 302) (A 304) w).2.2.2.2)) 67 [some (.ref 289), some (.int x), some (.int v), some (.int (nI (cS A ^ cS A))), some (.int ((ordE A x (A 306) (A 305) (A 302) (A 304) w).1)), some (.int (nI w)), none, none, none] []
            have hst : (ordE A x (A 306) (A 305) (A 302) (A 304) (w + 1)) = ordS A x w (ordE A x (A 306) (A 305) (A 302) (A 304) w).1 (ordE A x (A 306) (A 305) (A 302) (A 304) w).2.1 (ordE A x (A 306) (A 305) (A 302) (A 304) w).2.2.1 (ordE A x (A 306) (A 305) (A 302) (A 304) w).2.2.2.1 (ordE A x (A 306) (A 305) (A 302) (A 304) w).2.2.2.2 := rfl
            generalize (ordE A x (A 306) (A 305) (A 302) (A 304) (w + 1)) = y1 at hst ih_w
            generalize (ordE A x (A 306) (A 305) (A 302) (A 304) w) = y0 at hst ⊢
            obtain ⟨b_, B_, W_, f_, r_⟩ := y0
            dsimp only at hst ⊢
            refine zt_iload (pc := 67) dX5_order_67 rfl ?_
            refine zt_iload_n (pc := 69) dX5_order_69 rfl rfl ?_
            refine zt_geN (a := w) (b := cS A ^ cS A) (pc := 70) 201 dX5_order_70 (by decide) (by omega) (by omega) (fun c_70 => absurd hi_w (Nat.not_lt.mpr c_70)) (fun c_70 => ?_)
            refine zt_iload (pc := 73) dX5_order_73 rfl ?_
            refine zt_istore (pc := 75) (L' := [some (.ref 289), some (.int x), some (.int v), some (.int (nI (cS A ^ cS A))), some (.int b_), some (.int (nI w)), some (.int (nI w)), none, none]) dX5_order_75 (by decide) rfl rfl ?_
            refine zt_aload_n (pc := 77) dX5_order_77 rfl rfl ?_
            refine wt_getI (pc := 78) 5 5 (v := nI (cS A)) dX5_order_78 q1277 rfl (ms_o hM) (hA.ce.s hI.c) ?_
            refine zt_iconst (pc := 81) dX5_order_81 (v := 1) rfl ?_
            refine zt_isub (pc := 82) dX5_order_82 ?_
            refine zt_istore (pc := 83) (L' := [some (.ref 289), some (.int x), some (.int v), some (.int (nI (cS A ^ cS A))), some (.int b_), some (.int (nI w)), some (.int (nI w)), some (.int ((nI (cS A)) - 1)), none]) dX5_order_83 (by decide) rfl rfl ?_
            refine zt_S (ozs_5 S B_ W_ f_ r_) ?_
            refine way_loop (X := zs (zs (zs S 306 B_) 304 r_) 302 f_) hM (hA.ce.s hI.c) hI.c.s4 x v _ _ _ (cS A) w W_ (Nat.le_refl _) (by omega) ?_
            refine zt_S (ozs_5 S B_ (wayL (cS A) (cS A) w W_) f_ r_).symm ?_
            refine zt_aload_n (pc := 119) dX5_order_119 rfl rfl ?_
            refine wt_callV (pc := 120) mX5_areUnlike 0 5 (rc' := 0) (rs' := 0) dX5_order_120 q1613 mi_X5_areUnlike rfl rfl (ms_o hM) (tm_areUnlike (S := ozs S B_ (wayL (cS A) (cS A) w W_) f_ r_) (C := A) hM hI.c ((((hA.ce.z (by decide)).z (by decide)).z (by decide)).z (by decide)) (show ozs S B_ (wayL (cS A) (cS A) w W_) f_ r_ 305 = (wayL (cS A) (cS A) w W_) from (zs_ne (by decide)).trans ((zs_ne (by decide)).trans (zs_at _ _ _)))) rfl rfl rfl rfl rfl rfl ?_
            refine zt_if_eq (pc := 123) 134 dX5_order_123 (by decide) (fun c_123 => ?_) (fun c_123 => ?_)
            · refine zt_bipush (pc := 134) dX5_order_134 (v := (-4)) rfl ?_
              have hon : (ordN A x (wayL (cS A) (cS A) w W_) f_ r_) = (-4, f_, r_) := if_pos c_123
              refine zt_top (pc := 136) (ordN A x (wayL (cS A) (cS A) w W_) f_ r_).1 (by rw [hon]) ?_
              refine zt_S (S' := ozs S B_ (wayL (cS A) (cS A) w W_) (ordN A x (wayL (cS A) (cS A) w W_) f_ r_).2.1 (ordN A x (wayL (cS A) (cS A) w W_) f_ r_).2.2) (by rw [hon] <;> rfl) ?_
              clear hon
              refine zt_istore (pc := 136) (L' := [some (.ref 289), some (.int x), some (.int v), some (.int (nI (cS A ^ cS A))), some (.int b_), some (.int (nI w)), none, some (.int ((ordN A x (wayL (cS A) (cS A) w W_) f_ r_).1)), none]) dX5_order_136 (by decide) rfl rfl ?_
              refine zt_iload (pc := 138) dX5_order_138 rfl ?_
              refine zt_bipush (pc := 140) dX5_order_140 (v := (-4)) rfl ?_
              refine zt_icmp_eq (pc := 142) 195 dX5_order_142 (by decide) (fun c_142 => ?_) (fun c_142 => ?_)
              · refine zt_iincN (pc := 195) (b := w + 1) (L' := [some (.ref 289), some (.int x), some (.int v), some (.int (nI (cS A ^ cS A))), some (.int b_), some (.int (nI (w + 1))), none, some (.int ((ordN A x (wayL (cS A) (cS A) w W_) f_ r_).1)), none]) dX5_order_195 rfl (zinc1 w) (by decide) rfl rfl ?_
                refine zt_goto (pc := 198) 67 dX5_order_198 (by decide) ?_
                refine zt_drop (L' := [some (.ref 289), some (.int x), some (.int v), some (.int (nI (cS A ^ cS A))), some (.int b_), some (.int (nI (w + 1))), none, none, none]) 7 rfl ?_
                have hst2 : y1 = (b_, B_, (wayL (cS A) (cS A) w W_), (ordN A x (wayL (cS A) (cS A) w W_) f_ r_).2) := hst.trans (if_neg (fun z => z.1 c_142))
                subst hst2
                exact ih_w
              · refine zt_iload (pc := 145) dX5_order_145 rfl ?_
                refine zt_bipush (pc := 147) dX5_order_147 (v := (-4)) rfl ?_
                refine zt_icmp_eq (pc := 149) 159 dX5_order_149 (by decide) (fun c_149 => ?_) (fun c_149 => ?_)
                · refine zt_iload (pc := 159) dX5_order_159 rfl ?_
                  refine zt_istore (pc := 161) (L' := [some (.ref 289), some (.int x), some (.int v), some (.int (nI (cS A ^ cS A))), some (.int ((ordN A x (wayL (cS A) (cS A) w W_) f_ r_).1)), some (.int (nI w)), none, some (.int ((ordN A x (wayL (cS A) (cS A) w W_) f_ r_).1)), none]) dX5_order_161 (by decide) rfl rfl ?_
                  refine zt_iconst (pc := 163) dX5_order_163 (v := 0) rfl ?_
                  refine zt_istore (pc := 164) (L' := [some (.ref 289), some (.int x), some (.int v), some (.int (nI (cS A ^ cS A))), some (.int ((ordN A x (wayL (cS A) (cS A) w W_) f_ r_).1)), some (.int (nI w)), none, some (.int ((ordN A x (wayL (cS A) (cS A) w W_) f_ r_).1)), some (.int 0)]) dX5_order_164 (by decide) rfl rfl ?_
                  refine zt_S (ozs_6 S B_ (wayL (cS A) (cS A) w W_) (ordN A x (wayL (cS A) (cS A) w W_) f_ r_).2.1 (ordN A x (wayL (cS A) (cS A) w W_) f_ r_).2.2) ?_
                  refine zt_for (pc := 166) (fun i => zs (zs (zs (zs S 305 (wayL (cS A) (cS A) w W_)) 304 (ordN A x (wayL (cS A) (cS A) w W_) f_ r_).2.2) 302 (ordN A x (wayL (cS A) (cS A) w W_) f_ r_).2.1) 306 (cpB (wayL (cS A) (cS A) w W_) B_ i)) (fun i => [some (.ref 289), some (.int x), some (.int v), some (.int (nI (cS A ^ cS A))), some (.int ((ordN A x (wayL (cS A) (cS A) w W_) f_ r_).1)), some (.int (nI w)), none, some (.int ((ordN A x (wayL (cS A) (cS A) w W_) f_ r_).1)), some (.int (nI i))]) (cS A) rfl rfl ?_ (fun i hi_i ih_i => ?_)
                  · show Zt _ _ _ _ _ _ (zW h (zs (zs (zs (zs S 305 (wayL (cS A) (cS A) w W_)) 304 (ordN A x (wayL (cS A) (cS A) w W_) f_ r_).2.2) 302 (ordN A x (wayL (cS A) (cS A) w W_) f_ r_).2.1) 306 (cpB (wayL (cS A) (cS A) w W_) B_ (cS A)))) 166 [some (.ref 289), some (.int x), some (.int v), some (.int (nI (cS A ^ cS A))), some (.int ((ordN A x (wayL (cS A) (cS A) w W_) f_ r_).1)), some (.int (nI w)), none, some (.int ((ordN A x (wayL (cS A) (cS A) w W_) f_ r_).1)), some (.int (nI (cS A)))] []
                    refine zt_iload (pc := 166) dX5_order_166 rfl ?_
                    refine zt_aload_n (pc := 168) dX5_order_168 rfl rfl ?_
                    refine wt_getI (pc := 169) 5 5 (v := nI (cS A)) dX5_order_169 q1277 rfl (ms_o hM) (hA.ce.s hI.c) ?_
                    refine zt_geN (a := cS A) (b := cS A) (pc := 172) 195 dX5_order_172 (by decide) (by omega) (by omega) (fun c_172 => ?_) (fun c_172 => absurd c_172 (Nat.lt_irrefl _))
                    refine zt_iincN (pc := 195) (b := w + 1) (L' := [some (.ref 289), some (.int x), some (.int v), some (.int (nI (cS A ^ cS A))), some (.int ((ordN A x (wayL (cS A) (cS A) w W_) f_ r_).1)), some (.int (nI (w + 1))), none, some (.int ((ordN A x (wayL (cS A) (cS A) w W_) f_ r_).1)), some (.int (nI (cS A)))]) dX5_order_195 rfl (zinc1 w) (by decide) rfl rfl ?_
                    refine zt_goto (pc := 198) 67 dX5_order_198 (by decide) ?_
                    refine zt_drop (L' := [some (.ref 289), some (.int x), some (.int v), some (.int (nI (cS A ^ cS A))), some (.int ((ordN A x (wayL (cS A) (cS A) w W_) f_ r_).1)), some (.int (nI (w + 1))), none, none, some (.int (nI (cS A)))]) 7 rfl ?_
                    refine zt_drop (L' := [some (.ref 289), some (.int x), some (.int v), some (.int (nI (cS A ^ cS A))), some (.int ((ordN A x (wayL (cS A) (cS A) w W_) f_ r_).1)), some (.int (nI (w + 1))), none, none, none]) 8 rfl ?_
                    refine zt_S (ozs_6 S (cpB (wayL (cS A) (cS A) w W_) B_ (cS A)) (wayL (cS A) (cS A) w W_) (ordN A x (wayL (cS A) (cS A) w W_) f_ r_).2.1 (ordN A x (wayL (cS A) (cS A) w W_) f_ r_).2.2).symm ?_
                    have hst2 : y1 = ((ordN A x (wayL (cS A) (cS A) w W_) f_ r_).1, cpB (wayL (cS A) (cS A) w W_) B_ (cS A), (wayL (cS A) (cS A) w W_), (ordN A x (wayL (cS A) (cS A) w W_) f_ r_).2) := hst.trans (if_pos ⟨c_142, Or.inl c_149⟩)
                    subst hst2
                    exact ih_w
                  · show Zt _ _ _ _ _ _ (zW h (zs (zs (zs (zs S 305 (wayL (cS A) (cS A) w W_)) 304 (ordN A x (wayL (cS A) (cS A) w W_) f_ r_).2.2) 302 (ordN A x (wayL (cS A) (cS A) w W_) f_ r_).2.1) 306 (cpB (wayL (cS A) (cS A) w W_) B_ i))) 166 [some (.ref 289), some (.int x), some (.int v), some (.int (nI (cS A ^ cS A))), some (.int ((ordN A x (wayL (cS A) (cS A) w W_) f_ r_).1)), some (.int (nI w)), none, some (.int ((ordN A x (wayL (cS A) (cS A) w W_) f_ r_).1)), some (.int (nI i))] []
                    refine zt_iload (pc := 166) dX5_order_166 rfl ?_
                    refine zt_aload_n (pc := 168) dX5_order_168 rfl rfl ?_
                    refine wt_getI (pc := 169) 5 5 (v := nI (cS A)) dX5_order_169 q1277 rfl (ms_o hM) (hA.ce.s hI.c) ?_
                    refine zt_geN (a := i) (b := cS A) (pc := 172) 195 dX5_order_172 (by decide) (by omega) (by omega) (fun c_172 => absurd hi_i (Nat.not_lt.mpr c_172)) (fun c_172 => ?_)
                    refine zt_aload_n (pc := 175) dX5_order_175 rfl rfl ?_
                    refine wt_getR (pc := 176) 5 32 dX5_order_176 q1304 rfl (ms_o hM) (mr_bestWay hM) ?_
                    refine zt_iload (pc := 179) dX5_order_179 rfl ?_
                    refine zt_aload_n (pc := 181) dX5_order_181 rfl rfl ?_
                    refine wt_getR (pc := 182) 5 31 dX5_order_182 q1303 rfl (ms_o hM) (mr_way hM) ?_
                    refine zt_iload (pc := 185) dX5_order_185 rfl ?_
                    refine wt_iald (pc := 187) 4 i (v := (wayL (cS A) (cS A) w W_) i) dX5_order_187 (ma_way hM) rfl rfl (by omega) (congrFun (show (zs (zs (zs (zs S 305 (wayL (cS A) (cS A) w W_)) 304 (ordN A x (wayL (cS A) (cS A) w W_) f_ r_).2.2) 302 (ordN A x (wayL (cS A) (cS A) w W_) f_ r_).2.1) 306 (cpB (wayL (cS A) (cS A) w W_) B_ i)) 305 = (wayL (cS A) (cS A) w W_) from (zs_ne (by decide)).trans ((zs_ne (by decide)).trans ((zs_ne (by decide)).trans (zs_at _ _ _)))) i) ?_
                    refine wt_iastS (pc := 188) 4 i dX5_order_188 (ma_bestWay hM) rfl rfl (by omega) ?_
                    refine zt_iincN (pc := 189) (b := i + 1) (L' := [some (.ref 289), some (.int x), some (.int v), some (.int (nI (cS A ^ cS A))), some (.int ((ordN A x (wayL (cS A) (cS A) w W_) f_ r_).1)), some (.int (nI w)), none, some (.int ((ordN A x (wayL (cS A) (cS A) w W_) f_ r_).1)), some (.int (nI (i + 1)))]) dX5_order_189 rfl (zinc1 i) (by decide) rfl rfl ?_
                    refine zt_goto (pc := 192) 166 dX5_order_192 (by decide) ?_
                    exact ih_i
                · refine zt_iload (pc := 152) dX5_order_152 rfl ?_
                  refine zt_iload (pc := 154) dX5_order_154 rfl ?_
                  refine zt_icmp_ge (pc := 156) 195 dX5_order_156 (by decide) (fun c_156 => ?_) (fun c_156 => ?_)
                  · refine zt_iincN (pc := 195) (b := w + 1) (L' := [some (.ref 289), some (.int x), some (.int v), some (.int (nI (cS A ^ cS A))), some (.int b_), some (.int (nI (w + 1))), none, some (.int ((ordN A x (wayL (cS A) (cS A) w W_) f_ r_).1)), none]) dX5_order_195 rfl (zinc1 w) (by decide) rfl rfl ?_
                    refine zt_goto (pc := 198) 67 dX5_order_198 (by decide) ?_
                    refine zt_drop (L' := [some (.ref 289), some (.int x), some (.int v), some (.int (nI (cS A ^ cS A))), some (.int b_), some (.int (nI (w + 1))), none, none, none]) 7 rfl ?_
                    have hst2 : y1 = (b_, B_, (wayL (cS A) (cS A) w W_), (ordN A x (wayL (cS A) (cS A) w W_) f_ r_).2) := hst.trans (if_neg (fun z => z.2.elim c_149 (fun q => absurd c_156 (Int32.not_le.mpr q))))
                    subst hst2
                    exact ih_w
                  · refine zt_iload (pc := 159) dX5_order_159 rfl ?_
                    refine zt_istore (pc := 161) (L' := [some (.ref 289), some (.int x), some (.int v), some (.int (nI (cS A ^ cS A))), some (.int ((ordN A x (wayL (cS A) (cS A) w W_) f_ r_).1)), some (.int (nI w)), none, some (.int ((ordN A x (wayL (cS A) (cS A) w W_) f_ r_).1)), none]) dX5_order_161 (by decide) rfl rfl ?_
                    refine zt_iconst (pc := 163) dX5_order_163 (v := 0) rfl ?_
                    refine zt_istore (pc := 164) (L' := [some (.ref 289), some (.int x), some (.int v), some (.int (nI (cS A ^ cS A))), some (.int ((ordN A x (wayL (cS A) (cS A) w W_) f_ r_).1)), some (.int (nI w)), none, some (.int ((ordN A x (wayL (cS A) (cS A) w W_) f_ r_).1)), some (.int 0)]) dX5_order_164 (by decide) rfl rfl ?_
                    refine zt_S (ozs_6 S B_ (wayL (cS A) (cS A) w W_) (ordN A x (wayL (cS A) (cS A) w W_) f_ r_).2.1 (ordN A x (wayL (cS A) (cS A) w W_) f_ r_).2.2) ?_
                    refine zt_for (pc := 166) (fun i => zs (zs (zs (zs S 305 (wayL (cS A) (cS A) w W_)) 304 (ordN A x (wayL (cS A) (cS A) w W_) f_ r_).2.2) 302 (ordN A x (wayL (cS A) (cS A) w W_) f_ r_).2.1) 306 (cpB (wayL (cS A) (cS A) w W_) B_ i)) (fun i => [some (.ref 289), some (.int x), some (.int v), some (.int (nI (cS A ^ cS A))), some (.int ((ordN A x (wayL (cS A) (cS A) w W_) f_ r_).1)), some (.int (nI w)), none, some (.int ((ordN A x (wayL (cS A) (cS A) w W_) f_ r_).1)), some (.int (nI i))]) (cS A) rfl rfl ?_ (fun i hi_i ih_i => ?_)
                    · show Zt _ _ _ _ _ _ (zW h (zs (zs (zs (zs S 305 (wayL (cS A) (cS A) w W_)) 304 (ordN A x (wayL (cS A) (cS A) w W_) f_ r_).2.2) 302 (ordN A x (wayL (cS A) (cS A) w W_) f_ r_).2.1) 306 (cpB (wayL (cS A) (cS A) w W_) B_ (cS A)))) 166 [some (.ref 289), some (.int x), some (.int v), some (.int (nI (cS A ^ cS A))), some (.int ((ordN A x (wayL (cS A) (cS A) w W_) f_ r_).1)), some (.int (nI w)), none, some (.int ((ordN A x (wayL (cS A) (cS A) w W_) f_ r_).1)), some (.int (nI (cS A)))] []
                      refine zt_iload (pc := 166) dX5_order_166 rfl ?_
                      refine zt_aload_n (pc := 168) dX5_order_168 rfl rfl ?_
                      refine wt_getI (pc := 169) 5 5 (v := nI (cS A)) dX5_order_169 q1277 rfl (ms_o hM) (hA.ce.s hI.c) ?_
                      refine zt_geN (a := cS A) (b := cS A) (pc := 172) 195 dX5_order_172 (by decide) (by omega) (by omega) (fun c_172 => ?_) (fun c_172 => absurd c_172 (Nat.lt_irrefl _))
                      refine zt_iincN (pc := 195) (b := w + 1) (L' := [some (.ref 289), some (.int x), some (.int v), some (.int (nI (cS A ^ cS A))), some (.int ((ordN A x (wayL (cS A) (cS A) w W_) f_ r_).1)), some (.int (nI (w + 1))), none, some (.int ((ordN A x (wayL (cS A) (cS A) w W_) f_ r_).1)), some (.int (nI (cS A)))]) dX5_order_195 rfl (zinc1 w) (by decide) rfl rfl ?_
                      refine zt_goto (pc := 198) 67 dX5_order_198 (by decide) ?_
                      refine zt_drop (L' := [some (.ref 289), some (.int x), some (.int v), some (.int (nI (cS A ^ cS A))), some (.int ((ordN A x (wayL (cS A) (cS A) w W_) f_ r_).1)), some (.int (nI (w + 1))), none, none, some (.int (nI (cS A)))]) 7 rfl ?_
                      refine zt_drop (L' := [some (.ref 289), some (.int x), some (.int v), some (.int (nI (cS A ^ cS A))), some (.int ((ordN A x (wayL (cS A) (cS A) w W_) f_ r_).1)), some (.int (nI (w + 1))), none, none, none]) 8 rfl ?_
                      refine zt_S (ozs_6 S (cpB (wayL (cS A) (cS A) w W_) B_ (cS A)) (wayL (cS A) (cS A) w W_) (ordN A x (wayL (cS A) (cS A) w W_) f_ r_).2.1 (ordN A x (wayL (cS A) (cS A) w W_) f_ r_).2.2).symm ?_
                      have hst2 : y1 = ((ordN A x (wayL (cS A) (cS A) w W_) f_ r_).1, cpB (wayL (cS A) (cS A) w W_) B_ (cS A), (wayL (cS A) (cS A) w W_), (ordN A x (wayL (cS A) (cS A) w W_) f_ r_).2) := hst.trans (if_pos ⟨c_142, Or.inr (Int32.not_le.mp c_156)⟩)
                      subst hst2
                      exact ih_w
                    · show Zt _ _ _ _ _ _ (zW h (zs (zs (zs (zs S 305 (wayL (cS A) (cS A) w W_)) 304 (ordN A x (wayL (cS A) (cS A) w W_) f_ r_).2.2) 302 (ordN A x (wayL (cS A) (cS A) w W_) f_ r_).2.1) 306 (cpB (wayL (cS A) (cS A) w W_) B_ i))) 166 [some (.ref 289), some (.int x), some (.int v), some (.int (nI (cS A ^ cS A))), some (.int ((ordN A x (wayL (cS A) (cS A) w W_) f_ r_).1)), some (.int (nI w)), none, some (.int ((ordN A x (wayL (cS A) (cS A) w W_) f_ r_).1)), some (.int (nI i))] []
                      refine zt_iload (pc := 166) dX5_order_166 rfl ?_
                      refine zt_aload_n (pc := 168) dX5_order_168 rfl rfl ?_
                      refine wt_getI (pc := 169) 5 5 (v := nI (cS A)) dX5_order_169 q1277 rfl (ms_o hM) (hA.ce.s hI.c) ?_
                      refine zt_geN (a := i) (b := cS A) (pc := 172) 195 dX5_order_172 (by decide) (by omega) (by omega) (fun c_172 => absurd hi_i (Nat.not_lt.mpr c_172)) (fun c_172 => ?_)
                      refine zt_aload_n (pc := 175) dX5_order_175 rfl rfl ?_
                      refine wt_getR (pc := 176) 5 32 dX5_order_176 q1304 rfl (ms_o hM) (mr_bestWay hM) ?_
                      refine zt_iload (pc := 179) dX5_order_179 rfl ?_
                      refine zt_aload_n (pc := 181) dX5_order_181 rfl rfl ?_
                      refine wt_getR (pc := 182) 5 31 dX5_order_182 q1303 rfl (ms_o hM) (mr_way hM) ?_
                      refine zt_iload (pc := 185) dX5_order_185 rfl ?_
                      refine wt_iald (pc := 187) 4 i (v := (wayL (cS A) (cS A) w W_) i) dX5_order_187 (ma_way hM) rfl rfl (by omega) (congrFun (show (zs (zs (zs (zs S 305 (wayL (cS A) (cS A) w W_)) 304 (ordN A x (wayL (cS A) (cS A) w W_) f_ r_).2.2) 302 (ordN A x (wayL (cS A) (cS A) w W_) f_ r_).2.1) 306 (cpB (wayL (cS A) (cS A) w W_) B_ i)) 305 = (wayL (cS A) (cS A) w W_) from (zs_ne (by decide)).trans ((zs_ne (by decide)).trans ((zs_ne (by decide)).trans (zs_at _ _ _)))) i) ?_
                      refine wt_iastS (pc := 188) 4 i dX5_order_188 (ma_bestWay hM) rfl rfl (by omega) ?_
                      refine zt_iincN (pc := 189) (b := i + 1) (L' := [some (.ref 289), some (.int x), some (.int v), some (.int (nI (cS A ^ cS A))), some (.int ((ordN A x (wayL (cS A) (cS A) w W_) f_ r_).1)), some (.int (nI w)), none, some (.int ((ordN A x (wayL (cS A) (cS A) w W_) f_ r_).1)), some (.int (nI (i + 1)))]) dX5_order_189 rfl (zinc1 i) (by decide) rfl rfl ?_
                      refine zt_goto (pc := 192) 166 dX5_order_192 (by decide) ?_
                      exact ih_i
            · refine zt_aload_n (pc := 126) dX5_order_126 rfl rfl ?_
              refine zt_iload_n (pc := 127) dX5_order_127 rfl rfl ?_
              refine wt_callV (pc := 128) mX5_taken 1 5 (rc' := 0) (rs' := 0) dX5_order_128 q1617 mi_X5_taken rfl rfl (ms_o hM) (tm_taken (S := zs (zs S 306 B_) 305 (wayL (cS A) (cS A) w W_)) (r := r_) (f := f_) hM hI.c ((hA.ce.z (by decide)).z (by decide)) x (zs_at _ _ _) (WI_way (cS A) rfl w W_)) rfl rfl rfl rfl rfl rfl ?_
              refine zt_goto (pc := 131) 136 dX5_order_131 (by decide) ?_
              have hon : (ordN A x (wayL (cS A) (cS A) w W_) f_ r_) = s_taken A x (wayL (cS A) (cS A) w W_) f_ r_ := if_neg c_123
              refine zt_top (pc := 136) (ordN A x (wayL (cS A) (cS A) w W_) f_ r_).1 (by rw [hon]) ?_
              refine zt_S (S' := ozs S B_ (wayL (cS A) (cS A) w W_) (ordN A x (wayL (cS A) (cS A) w W_) f_ r_).2.1 (ordN A x (wayL (cS A) (cS A) w W_) f_ r_).2.2) (by rw [hon] <;> rfl) ?_
              clear hon
              refine zt_istore (pc := 136) (L' := [some (.ref 289), some (.int x), some (.int v), some (.int (nI (cS A ^ cS A))), some (.int b_), some (.int (nI w)), none, some (.int ((ordN A x (wayL (cS A) (cS A) w W_) f_ r_).1)), none]) dX5_order_136 (by decide) rfl rfl ?_
              refine zt_iload (pc := 138) dX5_order_138 rfl ?_
              refine zt_bipush (pc := 140) dX5_order_140 (v := (-4)) rfl ?_
              refine zt_icmp_eq (pc := 142) 195 dX5_order_142 (by decide) (fun c_142 => ?_) (fun c_142 => ?_)
              · refine zt_iincN (pc := 195) (b := w + 1) (L' := [some (.ref 289), some (.int x), some (.int v), some (.int (nI (cS A ^ cS A))), some (.int b_), some (.int (nI (w + 1))), none, some (.int ((ordN A x (wayL (cS A) (cS A) w W_) f_ r_).1)), none]) dX5_order_195 rfl (zinc1 w) (by decide) rfl rfl ?_
                refine zt_goto (pc := 198) 67 dX5_order_198 (by decide) ?_
                refine zt_drop (L' := [some (.ref 289), some (.int x), some (.int v), some (.int (nI (cS A ^ cS A))), some (.int b_), some (.int (nI (w + 1))), none, none, none]) 7 rfl ?_
                have hst2 : y1 = (b_, B_, (wayL (cS A) (cS A) w W_), (ordN A x (wayL (cS A) (cS A) w W_) f_ r_).2) := hst.trans (if_neg (fun z => z.1 c_142))
                subst hst2
                exact ih_w
              · refine zt_iload (pc := 145) dX5_order_145 rfl ?_
                refine zt_bipush (pc := 147) dX5_order_147 (v := (-4)) rfl ?_
                refine zt_icmp_eq (pc := 149) 159 dX5_order_149 (by decide) (fun c_149 => ?_) (fun c_149 => ?_)
                · refine zt_iload (pc := 159) dX5_order_159 rfl ?_
                  refine zt_istore (pc := 161) (L' := [some (.ref 289), some (.int x), some (.int v), some (.int (nI (cS A ^ cS A))), some (.int ((ordN A x (wayL (cS A) (cS A) w W_) f_ r_).1)), some (.int (nI w)), none, some (.int ((ordN A x (wayL (cS A) (cS A) w W_) f_ r_).1)), none]) dX5_order_161 (by decide) rfl rfl ?_
                  refine zt_iconst (pc := 163) dX5_order_163 (v := 0) rfl ?_
                  refine zt_istore (pc := 164) (L' := [some (.ref 289), some (.int x), some (.int v), some (.int (nI (cS A ^ cS A))), some (.int ((ordN A x (wayL (cS A) (cS A) w W_) f_ r_).1)), some (.int (nI w)), none, some (.int ((ordN A x (wayL (cS A) (cS A) w W_) f_ r_).1)), some (.int 0)]) dX5_order_164 (by decide) rfl rfl ?_
                  refine zt_S (ozs_6 S B_ (wayL (cS A) (cS A) w W_) (ordN A x (wayL (cS A) (cS A) w W_) f_ r_).2.1 (ordN A x (wayL (cS A) (cS A) w W_) f_ r_).2.2) ?_
                  refine zt_for (pc := 166) (fun i => zs (zs (zs (zs S 305 (wayL (cS A) (cS A) w W_)) 304 (ordN A x (wayL (cS A) (cS A) w W_) f_ r_).2.2) 302 (ordN A x (wayL (cS A) (cS A) w W_) f_ r_).2.1) 306 (cpB (wayL (cS A) (cS A) w W_) B_ i)) (fun i => [some (.ref 289), some (.int x), some (.int v), some (.int (nI (cS A ^ cS A))), some (.int ((ordN A x (wayL (cS A) (cS A) w W_) f_ r_).1)), some (.int (nI w)), none, some (.int ((ordN A x (wayL (cS A) (cS A) w W_) f_ r_).1)), some (.int (nI i))]) (cS A) rfl rfl ?_ (fun i hi_i ih_i => ?_)
                  · show Zt _ _ _ _ _ _ (zW h (zs (zs (zs (zs S 305 (wayL (cS A) (cS A) w W_)) 304 (ordN A x (wayL (cS A) (cS A) w W_) f_ r_).2.2) 302 (ordN A x (wayL (cS A) (cS A) w W_) f_ r_).2.1) 306 (cpB (wayL (cS A) (cS A) w W_) B_ (cS A)))) 166 [some (.ref 289), some (.int x), some (.int v), some (.int (nI (cS A ^ cS A))), some (.int ((ordN A x (wayL (cS A) (cS A) w W_) f_ r_).1)), some (.int (nI w)), none, some (.int ((ordN A x (wayL (cS A) (cS A) w W_) f_ r_).1)), some (.int (nI (cS A)))] []
                    refine zt_iload (pc := 166) dX5_order_166 rfl ?_
                    refine zt_aload_n (pc := 168) dX5_order_168 rfl rfl ?_
                    refine wt_getI (pc := 169) 5 5 (v := nI (cS A)) dX5_order_169 q1277 rfl (ms_o hM) (hA.ce.s hI.c) ?_
                    refine zt_geN (a := cS A) (b := cS A) (pc := 172) 195 dX5_order_172 (by decide) (by omega) (by omega) (fun c_172 => ?_) (fun c_172 => absurd c_172 (Nat.lt_irrefl _))
                    refine zt_iincN (pc := 195) (b := w + 1) (L' := [some (.ref 289), some (.int x), some (.int v), some (.int (nI (cS A ^ cS A))), some (.int ((ordN A x (wayL (cS A) (cS A) w W_) f_ r_).1)), some (.int (nI (w + 1))), none, some (.int ((ordN A x (wayL (cS A) (cS A) w W_) f_ r_).1)), some (.int (nI (cS A)))]) dX5_order_195 rfl (zinc1 w) (by decide) rfl rfl ?_
                    refine zt_goto (pc := 198) 67 dX5_order_198 (by decide) ?_
                    refine zt_drop (L' := [some (.ref 289), some (.int x), some (.int v), some (.int (nI (cS A ^ cS A))), some (.int ((ordN A x (wayL (cS A) (cS A) w W_) f_ r_).1)), some (.int (nI (w + 1))), none, none, some (.int (nI (cS A)))]) 7 rfl ?_
                    refine zt_drop (L' := [some (.ref 289), some (.int x), some (.int v), some (.int (nI (cS A ^ cS A))), some (.int ((ordN A x (wayL (cS A) (cS A) w W_) f_ r_).1)), some (.int (nI (w + 1))), none, none, none]) 8 rfl ?_
                    refine zt_S (ozs_6 S (cpB (wayL (cS A) (cS A) w W_) B_ (cS A)) (wayL (cS A) (cS A) w W_) (ordN A x (wayL (cS A) (cS A) w W_) f_ r_).2.1 (ordN A x (wayL (cS A) (cS A) w W_) f_ r_).2.2).symm ?_
                    have hst2 : y1 = ((ordN A x (wayL (cS A) (cS A) w W_) f_ r_).1, cpB (wayL (cS A) (cS A) w W_) B_ (cS A), (wayL (cS A) (cS A) w W_), (ordN A x (wayL (cS A) (cS A) w W_) f_ r_).2) := hst.trans (if_pos ⟨c_142, Or.inl c_149⟩)
                    subst hst2
                    exact ih_w
                  · show Zt _ _ _ _ _ _ (zW h (zs (zs (zs (zs S 305 (wayL (cS A) (cS A) w W_)) 304 (ordN A x (wayL (cS A) (cS A) w W_) f_ r_).2.2) 302 (ordN A x (wayL (cS A) (cS A) w W_) f_ r_).2.1) 306 (cpB (wayL (cS A) (cS A) w W_) B_ i))) 166 [some (.ref 289), some (.int x), some (.int v), some (.int (nI (cS A ^ cS A))), some (.int ((ordN A x (wayL (cS A) (cS A) w W_) f_ r_).1)), some (.int (nI w)), none, some (.int ((ordN A x (wayL (cS A) (cS A) w W_) f_ r_).1)), some (.int (nI i))] []
                    refine zt_iload (pc := 166) dX5_order_166 rfl ?_
                    refine zt_aload_n (pc := 168) dX5_order_168 rfl rfl ?_
                    refine wt_getI (pc := 169) 5 5 (v := nI (cS A)) dX5_order_169 q1277 rfl (ms_o hM) (hA.ce.s hI.c) ?_
                    refine zt_geN (a := i) (b := cS A) (pc := 172) 195 dX5_order_172 (by decide) (by omega) (by omega) (fun c_172 => absurd hi_i (Nat.not_lt.mpr c_172)) (fun c_172 => ?_)
                    refine zt_aload_n (pc := 175) dX5_order_175 rfl rfl ?_
                    refine wt_getR (pc := 176) 5 32 dX5_order_176 q1304 rfl (ms_o hM) (mr_bestWay hM) ?_
                    refine zt_iload (pc := 179) dX5_order_179 rfl ?_
                    refine zt_aload_n (pc := 181) dX5_order_181 rfl rfl ?_
                    refine wt_getR (pc := 182) 5 31 dX5_order_182 q1303 rfl (ms_o hM) (mr_way hM) ?_
                    refine zt_iload (pc := 185) dX5_order_185 rfl ?_
                    refine wt_iald (pc := 187) 4 i (v := (wayL (cS A) (cS A) w W_) i) dX5_order_187 (ma_way hM) rfl rfl (by omega) (congrFun (show (zs (zs (zs (zs S 305 (wayL (cS A) (cS A) w W_)) 304 (ordN A x (wayL (cS A) (cS A) w W_) f_ r_).2.2) 302 (ordN A x (wayL (cS A) (cS A) w W_) f_ r_).2.1) 306 (cpB (wayL (cS A) (cS A) w W_) B_ i)) 305 = (wayL (cS A) (cS A) w W_) from (zs_ne (by decide)).trans ((zs_ne (by decide)).trans ((zs_ne (by decide)).trans (zs_at _ _ _)))) i) ?_
                    refine wt_iastS (pc := 188) 4 i dX5_order_188 (ma_bestWay hM) rfl rfl (by omega) ?_
                    refine zt_iincN (pc := 189) (b := i + 1) (L' := [some (.ref 289), some (.int x), some (.int v), some (.int (nI (cS A ^ cS A))), some (.int ((ordN A x (wayL (cS A) (cS A) w W_) f_ r_).1)), some (.int (nI w)), none, some (.int ((ordN A x (wayL (cS A) (cS A) w W_) f_ r_).1)), some (.int (nI (i + 1)))]) dX5_order_189 rfl (zinc1 i) (by decide) rfl rfl ?_
                    refine zt_goto (pc := 192) 166 dX5_order_192 (by decide) ?_
                    exact ih_i
                · refine zt_iload (pc := 152) dX5_order_152 rfl ?_
                  refine zt_iload (pc := 154) dX5_order_154 rfl ?_
                  refine zt_icmp_ge (pc := 156) 195 dX5_order_156 (by decide) (fun c_156 => ?_) (fun c_156 => ?_)
                  · refine zt_iincN (pc := 195) (b := w + 1) (L' := [some (.ref 289), some (.int x), some (.int v), some (.int (nI (cS A ^ cS A))), some (.int b_), some (.int (nI (w + 1))), none, some (.int ((ordN A x (wayL (cS A) (cS A) w W_) f_ r_).1)), none]) dX5_order_195 rfl (zinc1 w) (by decide) rfl rfl ?_
                    refine zt_goto (pc := 198) 67 dX5_order_198 (by decide) ?_
                    refine zt_drop (L' := [some (.ref 289), some (.int x), some (.int v), some (.int (nI (cS A ^ cS A))), some (.int b_), some (.int (nI (w + 1))), none, none, none]) 7 rfl ?_
                    have hst2 : y1 = (b_, B_, (wayL (cS A) (cS A) w W_), (ordN A x (wayL (cS A) (cS A) w W_) f_ r_).2) := hst.trans (if_neg (fun z => z.2.elim c_149 (fun q => absurd c_156 (Int32.not_le.mpr q))))
                    subst hst2
                    exact ih_w
                  · refine zt_iload (pc := 159) dX5_order_159 rfl ?_
                    refine zt_istore (pc := 161) (L' := [some (.ref 289), some (.int x), some (.int v), some (.int (nI (cS A ^ cS A))), some (.int ((ordN A x (wayL (cS A) (cS A) w W_) f_ r_).1)), some (.int (nI w)), none, some (.int ((ordN A x (wayL (cS A) (cS A) w W_) f_ r_).1)), none]) dX5_order_161 (by decide) rfl rfl ?_
                    refine zt_iconst (pc := 163) dX5_order_163 (v := 0) rfl ?_
                    refine zt_istore (pc := 164) (L' := [some (.ref 289), some (.int x), some (.int v), some (.int (nI (cS A ^ cS A))), some (.int ((ordN A x (wayL (cS A) (cS A) w W_) f_ r_).1)), some (.int (nI w)), none, some (.int ((ordN A x (wayL (cS A) (cS A) w W_) f_ r_).1)), some (.int 0)]) dX5_order_164 (by decide) rfl rfl ?_
                    refine zt_S (ozs_6 S B_ (wayL (cS A) (cS A) w W_) (ordN A x (wayL (cS A) (cS A) w W_) f_ r_).2.1 (ordN A x (wayL (cS A) (cS A) w W_) f_ r_).2.2) ?_
                    refine zt_for (pc := 166) (fun i => zs (zs (zs (zs S 305 (wayL (cS A) (cS A) w W_)) 304 (ordN A x (wayL (cS A) (cS A) w W_) f_ r_).2.2) 302 (ordN A x (wayL (cS A) (cS A) w W_) f_ r_).2.1) 306 (cpB (wayL (cS A) (cS A) w W_) B_ i)) (fun i => [some (.ref 289), some (.int x), some (.int v), some (.int (nI (cS A ^ cS A))), some (.int ((ordN A x (wayL (cS A) (cS A) w W_) f_ r_).1)), some (.int (nI w)), none, some (.int ((ordN A x (wayL (cS A) (cS A) w W_) f_ r_).1)), some (.int (nI i))]) (cS A) rfl rfl ?_ (fun i hi_i ih_i => ?_)
                    · show Zt _ _ _ _ _ _ (zW h (zs (zs (zs (zs S 305 (wayL (cS A) (cS A) w W_)) 304 (ordN A x (wayL (cS A) (cS A) w W_) f_ r_).2.2) 302 (ordN A x (wayL (cS A) (cS A) w W_) f_ r_).2.1) 306 (cpB (wayL (cS A) (cS A) w W_) B_ (cS A)))) 166 [some (.ref 289), some (.int x), some (.int v), some (.int (nI (cS A ^ cS A))), some (.int ((ordN A x (wayL (cS A) (cS A) w W_) f_ r_).1)), some (.int (nI w)), none, some (.int ((ordN A x (wayL (cS A) (cS A) w W_) f_ r_).1)), some (.int (nI (cS A)))] []
                      refine zt_iload (pc := 166) dX5_order_166 rfl ?_
                      refine zt_aload_n (pc := 168) dX5_order_168 rfl rfl ?_
                      refine wt_getI (pc := 169) 5 5 (v := nI (cS A)) dX5_order_169 q1277 rfl (ms_o hM) (hA.ce.s hI.c) ?_
                      refine zt_geN (a := cS A) (b := cS A) (pc := 172) 195 dX5_order_172 (by decide) (by omega) (by omega) (fun c_172 => ?_) (fun c_172 => absurd c_172 (Nat.lt_irrefl _))
                      refine zt_iincN (pc := 195) (b := w + 1) (L' := [some (.ref 289), some (.int x), some (.int v), some (.int (nI (cS A ^ cS A))), some (.int ((ordN A x (wayL (cS A) (cS A) w W_) f_ r_).1)), some (.int (nI (w + 1))), none, some (.int ((ordN A x (wayL (cS A) (cS A) w W_) f_ r_).1)), some (.int (nI (cS A)))]) dX5_order_195 rfl (zinc1 w) (by decide) rfl rfl ?_
                      refine zt_goto (pc := 198) 67 dX5_order_198 (by decide) ?_
                      refine zt_drop (L' := [some (.ref 289), some (.int x), some (.int v), some (.int (nI (cS A ^ cS A))), some (.int ((ordN A x (wayL (cS A) (cS A) w W_) f_ r_).1)), some (.int (nI (w + 1))), none, none, some (.int (nI (cS A)))]) 7 rfl ?_
                      refine zt_drop (L' := [some (.ref 289), some (.int x), some (.int v), some (.int (nI (cS A ^ cS A))), some (.int ((ordN A x (wayL (cS A) (cS A) w W_) f_ r_).1)), some (.int (nI (w + 1))), none, none, none]) 8 rfl ?_
                      refine zt_S (ozs_6 S (cpB (wayL (cS A) (cS A) w W_) B_ (cS A)) (wayL (cS A) (cS A) w W_) (ordN A x (wayL (cS A) (cS A) w W_) f_ r_).2.1 (ordN A x (wayL (cS A) (cS A) w W_) f_ r_).2.2).symm ?_
                      have hst2 : y1 = ((ordN A x (wayL (cS A) (cS A) w W_) f_ r_).1, cpB (wayL (cS A) (cS A) w W_) B_ (cS A), (wayL (cS A) (cS A) w W_), (ordN A x (wayL (cS A) (cS A) w W_) f_ r_).2) := hst.trans (if_pos ⟨c_142, Or.inr (Int32.not_le.mp c_156)⟩)
                      subst hst2
                      exact ih_w
                    · show Zt _ _ _ _ _ _ (zW h (zs (zs (zs (zs S 305 (wayL (cS A) (cS A) w W_)) 304 (ordN A x (wayL (cS A) (cS A) w W_) f_ r_).2.2) 302 (ordN A x (wayL (cS A) (cS A) w W_) f_ r_).2.1) 306 (cpB (wayL (cS A) (cS A) w W_) B_ i))) 166 [some (.ref 289), some (.int x), some (.int v), some (.int (nI (cS A ^ cS A))), some (.int ((ordN A x (wayL (cS A) (cS A) w W_) f_ r_).1)), some (.int (nI w)), none, some (.int ((ordN A x (wayL (cS A) (cS A) w W_) f_ r_).1)), some (.int (nI i))] []
                      refine zt_iload (pc := 166) dX5_order_166 rfl ?_
                      refine zt_aload_n (pc := 168) dX5_order_168 rfl rfl ?_
                      refine wt_getI (pc := 169) 5 5 (v := nI (cS A)) dX5_order_169 q1277 rfl (ms_o hM) (hA.ce.s hI.c) ?_
                      refine zt_geN (a := i) (b := cS A) (pc := 172) 195 dX5_order_172 (by decide) (by omega) (by omega) (fun c_172 => absurd hi_i (Nat.not_lt.mpr c_172)) (fun c_172 => ?_)
                      refine zt_aload_n (pc := 175) dX5_order_175 rfl rfl ?_
                      refine wt_getR (pc := 176) 5 32 dX5_order_176 q1304 rfl (ms_o hM) (mr_bestWay hM) ?_
                      refine zt_iload (pc := 179) dX5_order_179 rfl ?_
                      refine zt_aload_n (pc := 181) dX5_order_181 rfl rfl ?_
                      refine wt_getR (pc := 182) 5 31 dX5_order_182 q1303 rfl (ms_o hM) (mr_way hM) ?_
                      refine zt_iload (pc := 185) dX5_order_185 rfl ?_
                      refine wt_iald (pc := 187) 4 i (v := (wayL (cS A) (cS A) w W_) i) dX5_order_187 (ma_way hM) rfl rfl (by omega) (congrFun (show (zs (zs (zs (zs S 305 (wayL (cS A) (cS A) w W_)) 304 (ordN A x (wayL (cS A) (cS A) w W_) f_ r_).2.2) 302 (ordN A x (wayL (cS A) (cS A) w W_) f_ r_).2.1) 306 (cpB (wayL (cS A) (cS A) w W_) B_ i)) 305 = (wayL (cS A) (cS A) w W_) from (zs_ne (by decide)).trans ((zs_ne (by decide)).trans ((zs_ne (by decide)).trans (zs_at _ _ _)))) i) ?_
                      refine wt_iastS (pc := 188) 4 i dX5_order_188 (ma_bestWay hM) rfl rfl (by omega) ?_
                      refine zt_iincN (pc := 189) (b := i + 1) (L' := [some (.ref 289), some (.int x), some (.int v), some (.int (nI (cS A ^ cS A))), some (.int ((ordN A x (wayL (cS A) (cS A) w W_) f_ r_).1)), some (.int (nI w)), none, some (.int ((ordN A x (wayL (cS A) (cS A) w W_) f_ r_).1)), some (.int (nI (i + 1)))]) dX5_order_189 rfl (zinc1 i) (by decide) rfl rfl ?_
                      refine zt_goto (pc := 192) 166 dX5_order_192 (by decide) ?_
                      exact ih_i
        · show Zt _ _ _ _ _ _ (zW h S) 38 [some (.ref 289), some (.int x), some (.int v), some (.int (nI (cS A ^ i))), some (.int (nI i)), none, none, none, none] []
          have hpi := hp4 i (by omega)
          refine zt_iload (pc := 38) dX5_order_38 rfl ?_
          refine zt_aload_n (pc := 40) dX5_order_40 rfl rfl ?_
          refine wt_getI (pc := 41) 5 5 (v := nI (cS A)) dX5_order_41 q1277 rfl (ms_o hM) (hA.ce.s hI.c) ?_
          refine zt_geN (a := i) (b := cS A) (pc := 44) 60 dX5_order_44 (by decide) (by omega) (by omega) (fun c_44 => absurd hi_i (Nat.not_lt.mpr c_44)) (fun c_44 => ?_)
          refine zt_iload_n (pc := 47) dX5_order_47 rfl rfl ?_
          refine zt_aload_n (pc := 48) dX5_order_48 rfl rfl ?_
          refine wt_getI (pc := 49) 5 5 (v := nI (cS A)) dX5_order_49 q1277 rfl (ms_o hM) (hA.ce.s hI.c) ?_
          refine zt_imulN (pc := 52) (a := cS A ^ i) (b := cS A) dX5_order_52 ?_
          refine zt_istore_n (pc := 53) (L' := [some (.ref 289), some (.int x), some (.int v), some (.int (nI ((cS A ^ i) * (cS A)))), some (.int (nI i)), none, none, none, none]) dX5_order_53 rfl (by decide) rfl rfl ?_
          refine zt_iincN (pc := 54) (b := i + 1) (L' := [some (.ref 289), some (.int x), some (.int v), some (.int (nI ((cS A ^ i) * (cS A)))), some (.int (nI (i + 1))), none, none, none, none]) dX5_order_54 rfl (zinc1 i) (by decide) rfl rfl ?_
          refine zt_goto (pc := 57) 38 dX5_order_57 (by decide) ?_
          exact ih_i
      · refine zt_iconst (pc := 31) dX5_order_31 (v := (-1)) rfl ?_
        exact zt_ireturn (pc := 32) dX5_order_32 rfl (⟨congrArg some (congrArg Value.int (Eq.symm (if_neg (fun q => q.2.elim c_9 (bI_eq0.mp c_28))))), congrArg (zW h) (Eq.symm (if_neg (fun q => q.2.elim c_9 (bI_eq0.mp c_28))))⟩)

end M28