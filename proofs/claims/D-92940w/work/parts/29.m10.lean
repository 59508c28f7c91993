/-! THE TWIN, part 10: tape, counts, sheets, images -/
set_option maxRecDepth 100000
def o_end (A : Nat → Nat → Int32) (n : Int32) : Int32 := if inN n (cTp A + 1) then nI (cTp A) else -1
def w_end (S A : Nat → Nat → Int32) (n : Int32) : Nat → Nat → Int32 := if inN n (cTp A + 1) then zu S 289 20 n else S
def o_count (A : Nat → Nat → Int32) (w : Int32) : Int32 := if w = 0 then nI (cT A) else if w = 1 then nI (cM A) else if w = 2 then nI (cS A) else if w = 3 then nI (cK A) else if w = 4 then nI (cSh A) else if w = 5 then nI (cTh A) else if w = 6 then A 309 0 + A 309 1 else if w = 7 then nI (cTp A) else if w = 8 then (if A 313 0 = -4 then -4 else A 314 0) else -1
def o_sheet (k l n : Int32) : Int32 := if (inN k 4 ∧ inN l 3) ∧ n ≤ 40 then (if 0 ≤ n then 1 else -14) else -1
def w_sheet (S A : Nat → Nat → Int32) (k l n : Int32) : Nat → Nat → Int32 := if ((inN k 4 ∧ inN l 3) ∧ n ≤ 40) ∧ 0 ≤ n then zs (zu (zu S 313 k.toNatClampNeg l) 314 k.toNatClampNeg n) 315 (itr (fun i f => upd f (40 * k.toNatClampNeg + i) 0) (A 315) 40) else S
def s_lane (l v : Int32) : Int32 := if l = 0 then v.toInt8.toInt32 else if l = 1 then v.toInt16.toInt32 else v
def o_lay (A : Nat → Nat → Int32) (k i : Int32) : Int32 := if inN k 4 then (if A 313 k.toNatClampNeg = -4 then -11 else if inN i (A 314 k.toNatClampNeg).toNatClampNeg then 1 else -12) else -1
def w_lay (S A : Nat → Nat → Int32) (k i v : Int32) : Nat → Nat → Int32 := if inN k 4 ∧ ¬ A 313 k.toNatClampNeg = -4 ∧ inN i (A 314 k.toNatClampNeg).toNatClampNeg then zu S 315 (40 * k.toNatClampNeg + i.toNatClampNeg) (s_lane (A 313 k.toNatClampNeg) v) else S
def o_keep (A : Nat → Nat → Int32) (i : Int32) : Int32 := if inN i 2 then A 309 i.toNatClampNeg else -1
def s_keepS (A : Nat → Nat → Int32) (i k : Nat) (f : Nat → Int32) : Nat → Int32 := upd f (72 * i + k) (A 303 k)
def s_keepT (A : Nat → Nat → Int32) (i k : Nat) (f : Nat → Int32) : Nat → Int32 := upd (upd f (24 * i + 2 * k) (A 307 k)) (24 * i + 2 * k + 1) (A 308 k)
def w_keep1 (S A : Nat → Nat → Int32) (i : Nat) : Nat → Nat → Int32 := zs (zs (zu (zu (zu (zu S 309 i 1) 310 (3 * i) (nI (cSh A))) 310 (3 * i + 1) (A 289 33)) 310 (3 * i + 2) (nI (cTh A))) 311 (itr (s_keepS A i) (A 311) 72)) 312 (itr (s_keepT A i) (A 312) 12)
def w_keep (S A : Nat → Nat → Int32) (i : Int32) : Nat → Nat → Int32 := if inN i 2 then w_keep1 S A i.toNatClampNeg else S
/-- a byte of a long, from above -/
def s_byte (v : Int64) (j : Nat) : Int32 := (v >>> ((56 - 8 * nI j).toInt64 &&& 63) &&& 255).toInt32
def s_feedF (v : Int64) (n : Nat) (j : Nat) (S : Nat → Nat → Int32) : Nat → Nat → Int32 := zu (zu S 301 (n + j) (s_byte v j)) 289 20 (nI (n + j + 1))
def o_feed (A : Nat → Nat → Int32) : Int32 := if cTp A + 8 ≤ 400 then nI (cTp A + 8) else -3
def w_feed (S A : Nat → Nat → Int32) (v : Int64) : Nat → Nat → Int32 := if cTp A + 8 ≤ 400 then itr (s_feedF v (cTp A)) S 8 else S
theorem feed_tp {S : Nat → Nat → Int32} {v : Int64} {n : Nat} (h : S 289 20 = nI n) : ∀ j, itr (s_feedF v n) S j 289 20 = nI (n + j)
  | 0 => h
  | j + 1 => zu_same (zu (itr (s_feedF v n) S j) 301 (n + j) (s_byte v j)) 289 20 (nI (n + j + 1))
theorem fd_lt : ∀ i, i < 8 → ¬ (56 - 8 * nI i < 0) := by decide
theorem fd_end : (56 - 8 * nI 8 < 0) := by decide
theorem fd_inc (i : Nat) : 56 - 8 * nI i + Int32.ofInt (-8) = 56 - 8 * nI (i + 1) := by show 56 - 8 * nI i + (-8) = _; rw [← nI_1]; grind
theorem in_n (t : Int32) (n : Nat) (hn : n < 1000000) : ((0 : Int64) ≤ t.toInt64 ∧ t.toInt64 ≤ (nI n).toInt64) ↔ inN t (n + 1) := by rw [nI_l (by omega)]; exact in_c t n hn
section M10
variable {g : ZG} {h : ZH} {S A C : Nat → Nat → Int32} {f : Nat → Int32}
theorem tm_torn (hM : MS h.2.1 h.2.2.2) (hA : AE S A) : Zd g mX5_torn 1 0 0 [.ref 289] (zW h S) (some (.int (A 289 44))) (zW h S) := by
  refine zc_of [some (.ref 289)] rfl (Nat.le_of_ble_eq_true rfl) rfl ?_
  refine zt_aload_n (pc := 0) dX5_torn_0 rfl rfl ?_
  refine wt_getI (pc := 1) 5 44 (v := A 289 44) dX5_torn_1 q1316 rfl (ms_o hM) (hA.f 44) ?_
  exact zt_ireturn (pc := 4) dX5_torn_4 rfl (⟨rfl, rfl⟩)

theorem tm_fault (hM : MS h.2.1 h.2.2.2) (hA : AE S A) : Zd g mX5_fault 1 0 0 [.ref 289] (zW h S) (some (.int (A 289 25))) (zW h S) := by
  refine zc_of [some (.ref 289)] rfl (Nat.le_of_ble_eq_true rfl) rfl ?_
  refine zt_aload_n (pc := 0) dX5_fault_0 rfl rfl ?_
  refine wt_getI (pc := 1) 5 25 (v := A 289 25) dX5_fault_1 q1297 rfl (ms_o hM) (hA.f 25) ?_
  exact zt_ireturn (pc := 4) dX5_fault_4 rfl (⟨rfl, rfl⟩)

theorem tm_end (hM : MS h.2.1 h.2.2.2) (hI : AI A) (hA : AE S A) (n : Int32) : Zd g mX5_end 2 0 0 [.ref 289, .int n] (zW h S) (some (.int (o_end A n))) (zW h (w_end S A n)) := by
  refine zc_of [some (.ref 289), some (.int n), none] rfl (Nat.le_of_ble_eq_true rfl) rfl ?_
  have b7 := hI.tp400
  refine zt_iload_n (pc := 0) dX5_end_0 rfl rfl ?_
  refine zt_i2l (pc := 1) dX5_end_1 rfl ?_
  refine zt_lconst (pc := 2) dX5_end_2 (v := 0) rfl ?_
  refine zt_aload_n (pc := 3) dX5_end_3 rfl rfl ?_
  refine wt_getI (pc := 4) 5 20 (v := nI (cTp A)) dX5_end_4 q1292 rfl (ms_o hM) ((hA.f 20).trans hI.tp) ?_
  refine zt_i2l (pc := 7) dX5_end_7 rfl ?_
  refine wt_callS (pc := 8) mX5_in 3 (rc' := 0) (rs' := 0) dX5_end_8 q1223 ms_X5_in (tm_in n.toInt64 0 ((nI (cTp A)).toInt64)) rfl rfl rfl rfl rfl rfl ?_
  refine zt_if_ne (pc := 11) 16 dX5_end_11 (by decide) (fun c_11 => ?_) (fun c_11 => ?_)
  · refine zt_aload_n (pc := 16) dX5_end_16 rfl rfl ?_
    refine wt_getI (pc := 17) 5 20 (v := nI (cTp A)) dX5_end_17 q1292 rfl (ms_o hM) ((hA.f 20).trans hI.tp) ?_
    refine zt_istore_n (pc := 20) (L' := [some (.ref 289), some (.int n), some (.int (nI (cTp A)))]) dX5_end_20 rfl (by decide) rfl rfl ?_
    refine zt_aload_n (pc := 21) dX5_end_21 rfl rfl ?_
    refine zt_iload_n (pc := 22) dX5_end_22 rfl rfl ?_
    refine wt_putI (pc := 23) 5 20 dX5_end_23 q1292 rfl (ms_o hM) ?_
    refine zt_iload_n (pc := 26) dX5_end_26 rfl rfl ?_
    exact zt_ireturn (pc := 27) dX5_end_27 rfl (⟨congrArg some (congrArg Value.int (if_pos ((in_n n (cTp A) (by omega)).mp (bI_ne0 c_11))).symm), congrArg (zW h) (if_pos ((in_n n (cTp A) (by omega)).mp (bI_ne0 c_11))).symm⟩)
  · refine zt_iconst (pc := 14) dX5_end_14 (v := (-1)) rfl ?_
    exact zt_ireturn (pc := 15) dX5_end_15 rfl (⟨congrArg some (congrArg Value.int (if_neg (fun q => bI_eq0.mp c_11 ((in_n n (cTp A) (by omega)).mpr q))).symm), congrArg (zW h) (if_neg (fun q => bI_eq0.mp c_11 ((in_n n (cTp A) (by omega)).mpr q))).symm⟩)

theorem tm_count (hM : MS h.2.1 h.2.2.2) (hI : AI A) (hA : AE S A) (w : Int32) : Zd g mX5_count 2 0 0 [.ref 289, .int w] (zW h S) (some (.int (o_count A w))) (zW h S) := by
  refine zc_of [some (.ref 289), some (.int w)] rfl (Nat.le_of_ble_eq_true rfl) rfl ?_
  refine zt_iload_n (pc := 0) dX5_count_0 rfl rfl ?_
  by_cases e_1_0 : w = 0
  · refine zt_tableIn (pc := 1) 52 dX5_count_1 (by rw [e_1_0]; decide) (by rw [e_1_0]; decide) (off := 51) (by rw [e_1_0]; rfl) (by decide) ?_
    refine zt_aload_n (pc := 52) dX5_count_52 rfl rfl ?_
    refine wt_getI (pc := 53) 5 0 (v := nI (cT A)) dX5_count_53 q1272 rfl (ms_o hM) (hA.ce.t hI.c) ?_
    exact zt_ireturn (pc := 56) dX5_count_56 rfl (⟨congrArg some (congrArg Value.int (((if_pos e_1_0)).symm)), rfl⟩)
  by_cases e_1_1 : w = 1
  · refine zt_tableIn (pc := 1) 57 dX5_count_1 (by rw [e_1_1]; decide) (by rw [e_1_1]; decide) (off := 56) (by rw [e_1_1]; rfl) (by decide) ?_
    refine zt_aload_n (pc := 57) dX5_count_57 rfl rfl ?_
    refine wt_getI (pc := 58) 5 2 (v := nI (cM A)) dX5_count_58 q1274 rfl (ms_o hM) (hA.ce.m hI.c) ?_
    exact zt_ireturn (pc := 61) dX5_count_61 rfl (⟨congrArg some (congrArg Value.int ((((if_neg e_1_0).trans (if_pos e_1_1))).symm)), rfl⟩)
  by_cases e_1_2 : w = 2
  · refine zt_tableIn (pc := 1) 62 dX5_count_1 (by rw [e_1_2]; decide) (by rw [e_1_2]; decide) (off := 61) (by rw [e_1_2]; rfl) (by decide) ?_
    refine zt_aload_n (pc := 62) dX5_count_62 rfl rfl ?_
    refine wt_getI (pc := 63) 5 5 (v := nI (cS A)) dX5_count_63 q1277 rfl (ms_o hM) (hA.ce.s hI.c) ?_
    exact zt_ireturn (pc := 66) dX5_count_66 rfl (⟨congrArg some (congrArg Value.int ((((if_neg e_1_0).trans ((if_neg e_1_1).trans (if_pos e_1_2)))).symm)), rfl⟩)
  by_cases e_1_3 : w = 3
  · refine zt_tableIn (pc := 1) 67 dX5_count_1 (by rw [e_1_3]; decide) (by rw [e_1_3]; decide) (off := 66) (by rw [e_1_3]; rfl) (by decide) ?_
    refine zt_aload_n (pc := 67) dX5_count_67 rfl rfl ?_
    refine wt_getI (pc := 68) 5 7 (v := nI (cK A)) dX5_count_68 q1279 rfl (ms_o hM) (hA.ce.k hI.c) ?_
    exact zt_ireturn (pc := 71) dX5_count_71 rfl (⟨congrArg some (congrArg Value.int ((((if_neg e_1_0).trans ((if_neg e_1_1).trans ((if_neg e_1_2).trans (if_pos e_1_3))))).symm)), rfl⟩)
  by_cases e_1_4 : w = 4
  · refine zt_tableIn (pc := 1) 72 dX5_count_1 (by rw [e_1_4]; decide) (by rw [e_1_4]; decide) (off := 71) (by rw [e_1_4]; rfl) (by decide) ?_
    refine zt_aload_n (pc := 72) dX5_count_72 rfl rfl ?_
    refine wt_getI (pc := 73) 5 28 (v := nI (cSh A)) dX5_count_73 q1300 rfl (ms_o hM) ((hA.f 28).trans hI.sh) ?_
    exact zt_ireturn (pc := 76) dX5_count_76 rfl (⟨congrArg some (congrArg Value.int ((((if_neg e_1_0).trans ((if_neg e_1_1).trans ((if_neg e_1_2).trans ((if_neg e_1_3).trans (if_pos e_1_4)))))).symm)), rfl⟩)
  by_cases e_1_5 : w = 5
  · refine zt_tableIn (pc := 1) 77 dX5_count_1 (by rw [e_1_5]; decide) (by rw [e_1_5]; decide) (off := 76) (by rw [e_1_5]; rfl) (by decide) ?_
    refine zt_aload_n (pc := 77) dX5_count_77 rfl rfl ?_
    refine wt_getI (pc := 78) 5 34 (v := nI (cTh A)) dX5_count_78 q1306 rfl (ms_o hM) ((hA.f 34).trans hI.th) ?_
    exact zt_ireturn (pc := 81) dX5_count_81 rfl (⟨congrArg some (congrArg Value.int ((((if_neg e_1_0).trans ((if_neg e_1_1).trans ((if_neg e_1_2).trans ((if_neg e_1_3).trans ((if_neg e_1_4).trans (if_pos e_1_5))))))).symm)), rfl⟩)
  by_cases e_1_6 : w = 6
  · refine zt_tableIn (pc := 1) 82 dX5_count_1 (by rw [e_1_6]; decide) (by rw [e_1_6]; decide) (off := 81) (by rw [e_1_6]; rfl) (by decide) ?_
    refine zt_aload_n (pc := 82) dX5_count_82 rfl rfl ?_
    refine wt_getR (pc := 83) 5 37 dX5_count_83 q1309 rfl (ms_o hM) (mr_isKept hM) ?_
    refine zt_iconst (pc := 86) dX5_count_86 (v := 0) rfl ?_
    refine wt_zald (pc := 87) 2 0 (v := A 309 0) dX5_count_87 (ma_isKept hM) rfl rfl (by omega) (congrFun (hA 309 (by decide) (by decide)) 0) ?_
    refine wt_callS (pc := 88) mX5_flag 1 (rc' := 0) (rs' := 0) dX5_count_88 q1250 ms_X5_flag (tm_flag (A 309 0) (hI.ki (by decide)).1) rfl rfl rfl rfl rfl rfl ?_
    refine zt_aload_n (pc := 91) dX5_count_91 rfl rfl ?_
    refine wt_getR (pc := 92) 5 37 dX5_count_92 q1309 rfl (ms_o hM) (mr_isKept hM) ?_
    refine zt_iconst (pc := 95) dX5_count_95 (v := 1) rfl ?_
    refine wt_zald (pc := 96) 2 1 (v := A 309 1) dX5_count_96 (ma_isKept hM) rfl rfl (by omega) (congrFun (hA 309 (by decide) (by decide)) 1) ?_
    refine wt_callS (pc := 97) mX5_flag 1 (rc' := 0) (rs' := 0) dX5_count_97 q1250 ms_X5_flag (tm_flag (A 309 1) (hI.ki (by decide)).1) rfl rfl rfl rfl rfl rfl ?_
    refine zt_iadd (pc := 100) dX5_count_100 ?_
    exact zt_ireturn (pc := 101) dX5_count_101 rfl (⟨congrArg some (congrArg Value.int ((((if_neg e_1_0).trans ((if_neg e_1_1).trans ((if_neg e_1_2).trans ((if_neg e_1_3).trans ((if_neg e_1_4).trans ((if_neg e_1_5).trans (if_pos e_1_6)))))))).symm)), rfl⟩)
  by_cases e_1_7 : w = 7
  · refine zt_tableIn (pc := 1) 102 dX5_count_1 (by rw [e_1_7]; decide) (by rw [e_1_7]; decide) (off := 101) (by rw [e_1_7]; rfl) (by decide) ?_
    refine zt_aload_n (pc := 102) dX5_count_102 rfl rfl ?_
    refine wt_getI (pc := 103) 5 20 (v := nI (cTp A)) dX5_count_103 q1292 rfl (ms_o hM) ((hA.f 20).trans hI.tp) ?_
    exact zt_ireturn (pc := 106) dX5_count_106 rfl (⟨congrArg some (congrArg Value.int ((((if_neg e_1_0).trans ((if_neg e_1_1).trans ((if_neg e_1_2).trans ((if_neg e_1_3).trans ((if_neg e_1_4).trans ((if_neg e_1_5).trans ((if_neg e_1_6).trans (if_pos e_1_7))))))))).symm)), rfl⟩)
  by_cases e_1_8 : w = 8
  · refine zt_tableIn (pc := 1) 107 dX5_count_1 (by rw [e_1_8]; decide) (by rw [e_1_8]; decide) (off := 106) (by rw [e_1_8]; rfl) (by decide) ?_
    refine zt_aload_n (pc := 107) dX5_count_107 rfl rfl ?_
    refine wt_getR (pc := 108) 5 41 dX5_count_108 q1313 rfl (ms_o hM) (mr_lanes hM) ?_
    refine zt_iconst (pc := 111) dX5_count_111 (v := 0) rfl ?_
    refine wt_iald (pc := 112) 4 0 (v := A 313 0) dX5_count_112 (ma_lanes hM) rfl rfl (by omega) (congrFun (hA 313 (by decide) (by decide)) 0) ?_
    refine zt_bipush (pc := 113) dX5_count_113 (v := (-4)) rfl ?_
    refine zt_icmp_ne (pc := 115) 123 dX5_count_115 (by decide) (fun c_115 => ?_) (fun c_115 => ?_)
    · refine zt_aload_n (pc := 123) dX5_count_123 rfl rfl ?_
      refine wt_getR (pc := 124) 5 42 dX5_count_124 q1314 rfl (ms_o hM) (mr_sizes hM) ?_
      refine zt_iconst (pc := 127) dX5_count_127 (v := 0) rfl ?_
      refine wt_iald (pc := 128) 4 0 (v := A 314 0) dX5_count_128 (ma_sizes hM) rfl rfl (by omega) (congrFun (hA 314 (by decide) (by decide)) 0) ?_
      exact zt_ireturn (pc := 129) dX5_count_129 rfl (⟨congrArg some (congrArg Value.int ((((if_neg e_1_0).trans ((if_neg e_1_1).trans ((if_neg e_1_2).trans ((if_neg e_1_3).trans ((if_neg e_1_4).trans ((if_neg e_1_5).trans ((if_neg e_1_6).trans ((if_neg e_1_7).trans ((if_pos e_1_8).trans (if_neg c_115))))))))))).symm)), rfl⟩)
    · refine zt_bipush (pc := 118) dX5_count_118 (v := (-4)) rfl ?_
      refine zt_goto (pc := 120) 129 dX5_count_120 (by decide) ?_
      exact zt_ireturn (pc := 129) dX5_count_129 rfl (⟨congrArg some (congrArg Value.int ((((if_neg e_1_0).trans ((if_neg e_1_1).trans ((if_neg e_1_2).trans ((if_neg e_1_3).trans ((if_neg e_1_4).trans ((if_neg e_1_5).trans ((if_neg e_1_6).trans ((if_neg e_1_7).trans ((if_pos e_1_8).trans (if_pos c_115))))))))))).symm)), rfl⟩)
  refine zt_tableOut (pc := 1) 130 dX5_count_1 (sw_out w 8 (by decide) (fun v hv => by rcases sw_c8 v hv with rfl | rfl | rfl | rfl | rfl | rfl | rfl | rfl | rfl <;> assumption)) (by decide) ?_
  refine zt_iconst (pc := 130) dX5_count_130 (v := (-1)) rfl ?_
  exact zt_ireturn (pc := 131) dX5_count_131 rfl (⟨congrArg some (congrArg Value.int ((((if_neg e_1_0).trans ((if_neg e_1_1).trans ((if_neg e_1_2).trans ((if_neg e_1_3).trans ((if_neg e_1_4).trans ((if_neg e_1_5).trans ((if_neg e_1_6).trans ((if_neg e_1_7).trans ((if_neg e_1_8).trans rfl)))))))))).symm)), rfl⟩)

theorem tm_isSheet (k l : Int32) : Zd g mX5_isSheet 2 0 0 [.int k, .int l] (zW h S) (some (.int (bI (inN k 4 ∧ inN l 3)))) (zW h S) := by
  refine zc_of [some (.int k), some (.int l)] rfl (Nat.le_of_ble_eq_true rfl) rfl ?_
  refine zt_iload_n (pc := 0) dX5_isSheet_0 rfl rfl ?_
  refine zt_i2l (pc := 1) dX5_isSheet_1 rfl ?_
  refine zt_lconst (pc := 2) dX5_isSheet_2 (v := 0) rfl ?_
  refine zt_ldc2 (pc := 3) dX5_isSheet_3 q1458 ?_
  refine wt_callS (pc := 6) mX5_in 3 (rc' := 0) (rs' := 0) dX5_isSheet_6 q1223 ms_X5_in (tm_in k.toInt64 0 3) rfl rfl rfl rfl rfl rfl ?_
  refine zt_if_eq (pc := 9) 28 dX5_isSheet_9 (by decide) (fun c_9 => ?_) (fun c_9 => ?_)
  · refine zt_iconst (pc := 28) dX5_isSheet_28 (v := 0) rfl ?_
    exact zt_zreturn (pc := 29) dX5_isSheet_29 rfl (Or.inl rfl) (⟨congrArg some (congrArg Value.int ((bI_f (fun q => bI_eq0.mp c_9 ((in_c k 3 (by decide)).mpr q.1))).symm)), rfl⟩)
  · refine zt_iload_n (pc := 12) dX5_isSheet_12 rfl rfl ?_
    refine zt_i2l (pc := 13) dX5_isSheet_13 rfl ?_
    refine zt_lconst (pc := 14) dX5_isSheet_14 (v := 0) rfl ?_
    refine zt_ldc2 (pc := 15) dX5_isSheet_15 q1544 ?_
    refine wt_callS (pc := 18) mX5_in 3 (rc' := 0) (rs' := 0) dX5_isSheet_18 q1223 ms_X5_in (tm_in l.toInt64 0 2) rfl rfl rfl rfl rfl rfl ?_
    refine zt_if_eq (pc := 21) 28 dX5_isSheet_21 (by decide) (fun c_21 => ?_) (fun c_21 => ?_)
    · refine zt_iconst (pc := 28) dX5_isSheet_28 (v := 0) rfl ?_
      exact zt_zreturn (pc := 29) dX5_isSheet_29 rfl (Or.inl rfl) (⟨congrArg some (congrArg Value.int ((bI_f (fun q => bI_eq0.mp c_21 ((in_c l 2 (by decide)).mpr q.2))).symm)), rfl⟩)
    · refine zt_iconst (pc := 24) dX5_isSheet_24 (v := 1) rfl ?_
      refine zt_goto (pc := 25) 29 dX5_isSheet_25 (by decide) ?_
      exact zt_zreturn (pc := 29) dX5_isSheet_29 rfl (Or.inr rfl) (⟨congrArg some (congrArg Value.int ((bI_t ⟨(in_c k 3 (by decide)).mp (bI_ne0 c_9), (in_c l 2 (by decide)).mp (bI_ne0 c_21)⟩).symm)), rfl⟩)

theorem tm_sheet (hM : MS h.2.1 h.2.2.2) (hI : AI A) (hA : AE S A) (k l n : Int32) : Zd g mX5_sheet 3 0 0 [.ref 289, .int k, .int l, .int n] (zW h S) (some (.int (o_sheet k l n))) (zW h (w_sheet S A k l n)) := by
  refine zc_of [some (.ref 289), some (.int k), some (.int l), some (.int n), none] rfl (Nat.le_of_ble_eq_true rfl) rfl ?_
  refine zt_iload_n (pc := 0) dX5_sheet_0 rfl rfl ?_
  refine zt_iload_n (pc := 1) dX5_sheet_1 rfl rfl ?_
  refine wt_callS (pc := 2) mX5_isSheet 2 (rc' := 0) (rs' := 0) dX5_sheet_2 q1717 ms_X5_isSheet (tm_isSheet k l) rfl rfl rfl rfl rfl rfl ?_
  refine zt_if_eq (pc := 5) 14 dX5_sheet_5 (by decide) (fun c_5 => ?_) (fun c_5 => ?_)
  · refine zt_iconst (pc := 14) dX5_sheet_14 (v := (-1)) rfl ?_
    exact zt_ireturn (pc := 15) dX5_sheet_15 rfl (⟨congrArg some (congrArg Value.int (Eq.symm (if_neg (fun q => bI_eq0.mp c_5 q.1)))), congrArg (zW h) (Eq.symm (if_neg (fun q => bI_eq0.mp c_5 q.1.1)))⟩)
  · refine zt_iload_n (pc := 8) dX5_sheet_8 rfl rfl ?_
    refine zt_bipush (pc := 9) dX5_sheet_9 (v := 40) rfl ?_
    refine zt_icmp_le (pc := 11) 16 dX5_sheet_11 (by decide) (fun c_11 => ?_) (fun c_11 => ?_)
    · refine zt_iload_n (pc := 16) dX5_sheet_16 rfl rfl ?_
      refine zt_if_ge (pc := 17) 23 dX5_sheet_17 (by decide) (fun c_17 => ?_) (fun c_17 => ?_)
      · have h5 := bI_ne0 c_5
        obtain ⟨k_, hl_k_, rfl⟩ := inN_of h5.1 (by decide)
        refine zt_aload_n (pc := 23) dX5_sheet_23 rfl rfl ?_
        refine wt_getR (pc := 24) 5 41 dX5_sheet_24 q1313 rfl (ms_o hM) (mr_lanes hM) ?_
        refine zt_iload_n (pc := 27) dX5_sheet_27 rfl rfl ?_
        refine zt_iload_n (pc := 28) dX5_sheet_28 rfl rfl ?_
        refine wt_iast (pc := 29) 4 k_ dX5_sheet_29 (ma_lanes hM) rfl rfl (by omega) ?_
        refine zt_aload_n (pc := 30) dX5_sheet_30 rfl rfl ?_
        refine wt_getR (pc := 31) 5 42 dX5_sheet_31 q1314 rfl (ms_o hM) (mr_sizes hM) ?_
        refine zt_iload_n (pc := 34) dX5_sheet_34 rfl rfl ?_
        refine zt_iload_n (pc := 35) dX5_sheet_35 rfl rfl ?_
        refine wt_iast (pc := 36) 4 k_ dX5_sheet_36 (ma_sizes hM) rfl rfl (by omega) ?_
        refine zt_iconst (pc := 37) dX5_sheet_37 (v := 0) rfl ?_
        refine zt_istore (pc := 38) (L' := [some (.ref 289), some (.int (nI k_)), some (.int l), some (.int n), some (.int 0)]) dX5_sheet_38 (by decide) rfl rfl ?_
        refine zt_S (zs_eq (a := 315) (f := A 315) (funext fun q => congrFun (hA 315 (by decide) (by decide)) q)) ?_
        refine zt_for (pc := 40) (fun i => zs (zu (zu S 313 k_ l) 314 k_ n) 315 (itr (fun i f => upd f (40 * k_ + i) 0) (A 315) i)) (fun i => [some (.ref 289), some (.int (nI k_)), some (.int l), some (.int n), some (.int (nI i))]) 40 rfl rfl ?_ (fun i hi_i ih_i => ?_)
        · show Zt _ _ _ _ _ _ (zW h (zs (zu (zu S 313 k_ l) 314 k_ n) 315 (itr (fun i f => upd f (40 * k_ + i) 0) (A 315) 40))) 40 [some (.ref 289), some (.int (nI k_)), some (.int l), some (.int n), some (.int (nI 40))] []
          refine zt_iload (pc := 40) dX5_sheet_40 rfl ?_
          refine zt_bipush (pc := 42) dX5_sheet_42 (v := 40) rfl ?_
          refine zt_geN (a := 40) (b := 40) (pc := 44) 66 dX5_sheet_44 (by decide) (by omega) (by omega) (fun c_44 => ?_) (fun c_44 => absurd c_44 (Nat.lt_irrefl _))
          refine zt_iconst (pc := 66) dX5_sheet_66 (v := 1) rfl ?_
          exact zt_ireturn (pc := 67) dX5_sheet_67 rfl (⟨congrArg some (congrArg Value.int (Eq.symm ((if_pos ⟨h5, c_11⟩).trans (if_pos c_17)))), congrArg (zW h) (Eq.symm ((if_pos ⟨⟨h5, c_11⟩, c_17⟩).trans (by rw [nI_clamp (show k_ < 2 ^ 31 by omega)])))⟩)
        · show Zt _ _ _ _ _ _ (zW h (zs (zu (zu S 313 k_ l) 314 k_ n) 315 (itr (fun i f => upd f (40 * k_ + i) 0) (A 315) i))) 40 [some (.ref 289), some (.int (nI k_)), some (.int l), some (.int n), some (.int (nI i))] []
          refine zt_iload (pc := 40) dX5_sheet_40 rfl ?_
          refine zt_bipush (pc := 42) dX5_sheet_42 (v := 40) rfl ?_
          refine zt_geN (a := i) (b := 40) (pc := 44) 66 dX5_sheet_44 (by decide) (by omega) (by omega) (fun c_44 => absurd hi_i (Nat.not_lt.mpr c_44)) (fun c_44 => ?_)
          refine zt_aload_n (pc := 47) dX5_sheet_47 rfl rfl ?_
          refine wt_getR (pc := 48) 5 43 dX5_sheet_48 q1315 rfl (ms_o hM) (mr_cells hM) ?_
          refine zt_bipush (pc := 51) dX5_sheet_51 (v := 40) rfl ?_
          refine zt_iload_n (pc := 53) dX5_sheet_53 rfl rfl ?_
          refine zt_imulN (pc := 54) (a := 40) (b := k_) dX5_sheet_54 ?_
          refine zt_iload (pc := 55) dX5_sheet_55 rfl ?_
          refine zt_iaddN (pc := 57) (a := 40 * k_) (b := i) dX5_sheet_57 ?_
          refine zt_iconst (pc := 58) dX5_sheet_58 (v := 0) rfl ?_
          refine wt_iastS (pc := 59) 160 ((40 * k_) + i) dX5_sheet_59 (ma_cells hM) rfl rfl (by omega) ?_
          refine zt_iincN (pc := 60) (b := i + 1) (L' := [some (.ref 289), some (.int (nI k_)), some (.int l), some (.int n), some (.int (nI (i + 1)))]) dX5_sheet_60 rfl (zinc1 i) (by decide) rfl rfl ?_
          refine zt_goto (pc := 63) 40 dX5_sheet_63 (by decide) ?_
          exact ih_i
      · refine zt_bipush (pc := 20) dX5_sheet_20 (v := (-14)) rfl ?_
        exact zt_ireturn (pc := 22) dX5_sheet_22 rfl (⟨congrArg some (congrArg Value.int (Eq.symm ((if_pos ⟨bI_ne0 c_5, c_11⟩).trans (if_neg c_17)))), congrArg (zW h) (Eq.symm (if_neg (fun q => c_17 q.2)))⟩)
    · refine zt_iconst (pc := 14) dX5_sheet_14 (v := (-1)) rfl ?_
      exact zt_ireturn (pc := 15) dX5_sheet_15 rfl (⟨congrArg some (congrArg Value.int (Eq.symm (if_neg (fun q => c_11 q.2)))), congrArg (zW h) (Eq.symm (if_neg (fun q => c_11 q.1.2)))⟩)

theorem tm_lay (hM : MS h.2.1 h.2.2.2) (hI : AI A) (hA : AE S A) (k i v : Int32) : Zd g mX5_lay 3 0 0 [.ref 289, .int k, .int i, .int v] (zW h S) (some (.int (o_lay A k i))) (zW h (w_lay S A k i v)) := by
  refine zc_of [some (.ref 289), some (.int k), some (.int i), some (.int v)] rfl (Nat.le_of_ble_eq_true rfl) rfl ?_
  refine zt_iload_n (pc := 0) dX5_lay_0 rfl rfl ?_
  refine zt_iconst (pc := 1) dX5_lay_1 (v := 0) rfl ?_
  refine wt_callS (pc := 2) mX5_isSheet 2 (rc' := 0) (rs' := 0) dX5_lay_2 q1717 ms_X5_isSheet (tm_isSheet k 0) rfl rfl rfl rfl rfl rfl ?_
  refine zt_if_ne (pc := 5) 10 dX5_lay_5 (by decide) (fun c_5 => ?_) (fun c_5 => ?_)
  · have h5 := (bI_ne0 c_5).1
    obtain ⟨k_, hl_k_, rfl⟩ := inN_of h5 (by decide)
    obtain ⟨hl1, n_, hn40, hn1⟩ := hI.li hl_k_
    have hn2 : (A 314 k_).toNatClampNeg = n_ := by rw [hn1, nI_clamp (by omega)]
    refine zt_aload_n (pc := 10) dX5_lay_10 rfl rfl ?_
    refine wt_getR (pc := 11) 5 41 dX5_lay_11 q1313 rfl (ms_o hM) (mr_lanes hM) ?_
    refine zt_iload_n (pc := 14) dX5_lay_14 rfl rfl ?_
    refine wt_iald (pc := 15) 4 k_ (v := A 313 k_) dX5_lay_15 (ma_lanes hM) rfl rfl (by omega) (congrFun (hA 313 (by decide) (by decide)) k_) ?_
    refine zt_bipush (pc := 16) dX5_lay_16 (v := (-4)) rfl ?_
    refine zt_icmp_ne (pc := 18) 24 dX5_lay_18 (by decide) (fun c_18 => ?_) (fun c_18 => ?_)
    · refine zt_iload_n (pc := 24) dX5_lay_24 rfl rfl ?_
      refine zt_i2l (pc := 25) dX5_lay_25 rfl ?_
      refine zt_lconst (pc := 26) dX5_lay_26 (v := 0) rfl ?_
      refine zt_aload_n (pc := 27) dX5_lay_27 rfl rfl ?_
      refine wt_getR (pc := 28) 5 42 dX5_lay_28 q1314 rfl (ms_o hM) (mr_sizes hM) ?_
      refine zt_iload_n (pc := 31) dX5_lay_31 rfl rfl ?_
      refine wt_iald (pc := 32) 4 k_ (v := A 314 k_) dX5_lay_32 (ma_sizes hM) rfl rfl (by omega) (congrFun (hA 314 (by decide) (by decide)) k_) ?_
      refine zt_top (pc := 33) (nI n_) hn1 ?_
      refine zt_iconst (pc := 33) dX5_lay_33 (v := 1) rfl ?_
      refine zt_isub (pc := 34) dX5_lay_34 ?_
      refine zt_i2l (pc := 35) dX5_lay_35 rfl ?_
      refine wt_callS (pc := 36) mX5_in 3 (rc' := 0) (rs' := 0) dX5_lay_36 q1223 ms_X5_in (tm_in i.toInt64 0 (((nI n_) - 1).toInt64)) rfl rfl rfl rfl rfl rfl ?_
      refine zt_if_ne (pc := 39) 45 dX5_lay_39 (by decide) (fun c_39 => ?_) (fun c_39 => ?_)
      · have hn39 : inN i (A 314 k_).toNatClampNeg := by rw [hn2]; exact (in_iff i n_ (by omega)).mp (bI_ne0 c_39)
        have hi39 : inN i n_ := by rw [← hn2]; exact hn39
        obtain ⟨i_, hl_i_, rfl⟩ := inN_of hi39 (by omega)
        refine zt_aload_n (pc := 45) dX5_lay_45 rfl rfl ?_
        refine wt_getR (pc := 46) 5 43 dX5_lay_46 q1315 rfl (ms_o hM) (mr_cells hM) ?_
        refine zt_bipush (pc := 49) dX5_lay_49 (v := 40) rfl ?_
        refine zt_iload_n (pc := 51) dX5_lay_51 rfl rfl ?_
        refine zt_imulN (pc := 52) (a := 40) (b := k_) dX5_lay_52 ?_
        refine zt_iload_n (pc := 53) dX5_lay_53 rfl rfl ?_
        refine zt_iaddN (pc := 54) (a := 40 * k_) (b := i_) dX5_lay_54 ?_
        refine zt_aload_n (pc := 55) dX5_lay_55 rfl rfl ?_
        refine wt_getR (pc := 56) 5 41 dX5_lay_56 q1313 rfl (ms_o hM) (mr_lanes hM) ?_
        refine zt_iload_n (pc := 59) dX5_lay_59 rfl rfl ?_
        refine wt_iald (pc := 60) 4 k_ (v := A 313 k_) dX5_lay_60 (ma_lanes hM) rfl rfl (by omega) (congrFun (hA 313 (by decide) (by decide)) k_) ?_
        refine zt_if_ne (pc := 61) 69 dX5_lay_61 (by decide) (fun c_61 => ?_) (fun c_61 => ?_)
        · refine zt_aload_n (pc := 69) dX5_lay_69 rfl rfl ?_
          refine wt_getR (pc := 70) 5 41 dX5_lay_70 q1313 rfl (ms_o hM) (mr_lanes hM) ?_
          refine zt_iload_n (pc := 73) dX5_lay_73 rfl rfl ?_
          refine wt_iald (pc := 74) 4 k_ (v := A 313 k_) dX5_lay_74 (ma_lanes hM) rfl rfl (by omega) (congrFun (hA 313 (by decide) (by decide)) k_) ?_
          refine zt_iconst (pc := 75) dX5_lay_75 (v := 1) rfl ?_
          refine zt_icmp_ne (pc := 76) 84 dX5_lay_76 (by decide) (fun c_76 => ?_) (fun c_76 => ?_)
          · refine zt_iload_n (pc := 84) dX5_lay_84 rfl rfl ?_
            refine wt_iast (pc := 85) 160 ((40 * k_) + i_) dX5_lay_85 (ma_cells hM) rfl rfl (by omega) ?_
            refine zt_iconst (pc := 86) dX5_lay_86 (v := 1) rfl ?_
            exact zt_ireturn (pc := 87) dX5_lay_87 rfl (⟨congrArg some (congrArg Value.int (Eq.symm (by unfold o_lay; rw [if_pos h5, nI_clamp (show k_ < 2 ^ 31 by omega), if_neg c_18, if_pos hn39]))), congrArg (zW h) (Eq.symm (by unfold w_lay; rw [nI_clamp (show k_ < 2 ^ 31 by omega), if_pos ⟨h5, c_18, hn39⟩, nI_clamp (show i_ < 2 ^ 31 by omega), show s_lane (A 313 k_) v = _ from (if_neg c_61).trans (if_neg c_76)]))⟩)
          · refine zt_iload_n (pc := 79) dX5_lay_79 rfl rfl ?_
            refine zt_i2s (pc := 80) dX5_lay_80 rfl ?_
            refine zt_goto (pc := 81) 85 dX5_lay_81 (by decide) ?_
            refine wt_iast (pc := 85) 160 ((40 * k_) + i_) dX5_lay_85 (ma_cells hM) rfl rfl (by omega) ?_
            refine zt_iconst (pc := 86) dX5_lay_86 (v := 1) rfl ?_
            exact zt_ireturn (pc := 87) dX5_lay_87 rfl (⟨congrArg some (congrArg Value.int (Eq.symm (by unfold o_lay; rw [if_pos h5, nI_clamp (show k_ < 2 ^ 31 by omega), if_neg c_18, if_pos hn39]))), congrArg (zW h) (Eq.symm (by unfold w_lay; rw [nI_clamp (show k_ < 2 ^ 31 by omega), if_pos ⟨h5, c_18, hn39⟩, nI_clamp (show i_ < 2 ^ 31 by omega), show s_lane (A 313 k_) v = _ from (if_neg c_61).trans (if_pos c_76)]))⟩)
        · refine zt_iload_n (pc := 64) dX5_lay_64 rfl rfl ?_
          refine zt_i2b (pc := 65) dX5_lay_65 rfl ?_
          refine zt_goto (pc := 66) 85 dX5_lay_66 (by decide) ?_
          refine wt_iast (pc := 85) 160 ((40 * k_) + i_) dX5_lay_85 (ma_cells hM) rfl rfl (by omega) ?_
          refine zt_iconst (pc := 86) dX5_lay_86 (v := 1) rfl ?_
          exact zt_ireturn (pc := 87) dX5_lay_87 rfl (⟨congrArg some (congrArg Value.int (Eq.symm (by unfold o_lay; rw [if_pos h5, nI_clamp (show k_ < 2 ^ 31 by omega), if_neg c_18, if_pos hn39]))), congrArg (zW h) (Eq.symm (by unfold w_lay; rw [nI_clamp (show k_ < 2 ^ 31 by omega), if_pos ⟨h5, c_18, hn39⟩, nI_clamp (show i_ < 2 ^ 31 by omega), show s_lane (A 313 k_) v = _ from if_pos c_61]))⟩)
      · have hn39 : ¬ inN i (A 314 k_).toNatClampNeg := fun q => bI_eq0.mp c_39 ((in_iff i n_ (by omega)).mpr (by rw [← hn2]; exact q))
        refine zt_bipush (pc := 42) dX5_lay_42 (v := (-12)) rfl ?_
        exact zt_ireturn (pc := 44) dX5_lay_44 rfl (⟨congrArg some (congrArg Value.int (Eq.symm (by unfold o_lay; rw [if_pos h5, nI_clamp (show k_ < 2 ^ 31 by omega), if_neg c_18, if_neg hn39]))), congrArg (zW h) (Eq.symm (by unfold w_lay; rw [nI_clamp (show k_ < 2 ^ 31 by omega), if_neg (fun q => hn39 q.2.2)]))⟩)
    · refine zt_bipush (pc := 21) dX5_lay_21 (v := (-11)) rfl ?_
      exact zt_ireturn (pc := 23) dX5_lay_23 rfl (⟨congrArg some (congrArg Value.int (Eq.symm (by unfold o_lay; rw [if_pos h5, nI_clamp (show k_ < 2 ^ 31 by omega), if_pos c_18]))), congrArg (zW h) (Eq.symm (by unfold w_lay; rw [nI_clamp (show k_ < 2 ^ 31 by omega), if_neg (fun q => q.2.1 c_18)]))⟩)
  · refine zt_iconst (pc := 8) dX5_lay_8 (v := (-1)) rfl ?_
    exact zt_ireturn (pc := 9) dX5_lay_9 rfl (⟨congrArg some (congrArg Value.int (Eq.symm (if_neg (fun q => bI_eq0.mp c_5 ⟨q, by decide⟩)))), congrArg (zW h) (Eq.symm (if_neg (fun q => bI_eq0.mp c_5 ⟨q.1, by decide⟩)))⟩)

theorem tm_keep (hM : MS h.2.1 h.2.2.2) (hI : AI A) (hA : AE S A) (i : Int32) : Zd g mX5_keep 2 0 0 [.ref 289, .int i] (zW h S) (some (.int (o_keep A i))) (zW h (w_keep S A i)) := by
  refine zc_of [some (.ref 289), some (.int i), none, none] rfl (Nat.le_of_ble_eq_true rfl) rfl ?_
  have b5 := hI.sh24; have b9 := hI.th12
  refine zt_iload_n (pc := 0) dX5_keep_0 rfl rfl ?_
  refine zt_i2l (pc := 1) dX5_keep_1 rfl ?_
  refine zt_lconst (pc := 2) dX5_keep_2 (v := 0) rfl ?_
  refine zt_lconst (pc := 3) dX5_keep_3 (v := 1) rfl ?_
  refine wt_callS (pc := 4) mX5_in 3 (rc' := 0) (rs' := 0) dX5_keep_4 q1223 ms_X5_in (tm_in i.toInt64 0 1) rfl rfl rfl rfl rfl rfl ?_
  refine zt_if_ne (pc := 7) 12 dX5_keep_7 (by decide) (fun c_7 => ?_) (fun c_7 => ?_)
  · have hn_i_ : inN i 2 := (in_c i 1 (by decide)).mp (bI_ne0 c_7)
    obtain ⟨i_, hl_i_, rfl⟩ := inN_of hn_i_ (by decide)
    refine zt_aload_n (pc := 12) dX5_keep_12 rfl rfl ?_
    refine wt_getR (pc := 13) 5 37 dX5_keep_13 q1309 rfl (ms_o hM) (mr_isKept hM) ?_
    refine zt_iload_n (pc := 16) dX5_keep_16 rfl rfl ?_
    refine wt_zald (pc := 17) 2 i_ (v := A 309 i_) dX5_keep_17 (ma_isKept hM) rfl rfl (by omega) (congrFun (hA 309 (by decide) (by decide)) i_) ?_
    refine wt_callS (pc := 18) mX5_flag 1 (rc' := 0) (rs' := 0) dX5_keep_18 q1250 ms_X5_flag (tm_flag (A 309 i_) (hI.ki hl_i_).1) rfl rfl rfl rfl rfl rfl ?_
    refine zt_istore_n (pc := 21) (L' := [some (.ref 289), some (.int (nI i_)), some (.int (A 309 i_)), none]) dX5_keep_21 rfl (by decide) rfl rfl ?_
    refine zt_aload_n (pc := 22) dX5_keep_22 rfl rfl ?_
    refine wt_getR (pc := 23) 5 37 dX5_keep_23 q1309 rfl (ms_o hM) (mr_isKept hM) ?_
    refine zt_iload_n (pc := 26) dX5_keep_26 rfl rfl ?_
    refine zt_iconst (pc := 27) dX5_keep_27 (v := 1) rfl ?_
    refine wt_zast (pc := 28) 2 i_ dX5_keep_28 (ma_isKept hM) rfl rfl (by omega) rfl ?_
    refine zt_aload_n (pc := 29) dX5_keep_29 rfl rfl ?_
    refine wt_getR (pc := 30) 5 38 dX5_keep_30 q1310 rfl (ms_o hM) (mr_keptMany hM) ?_
    refine zt_iconst (pc := 33) dX5_keep_33 (v := 3) rfl ?_
    refine zt_iload_n (pc := 34) dX5_keep_34 rfl rfl ?_
    refine zt_imulN (pc := 35) (a := 3) (b := i_) dX5_keep_35 ?_
    refine zt_aload_n (pc := 36) dX5_keep_36 rfl rfl ?_
    refine wt_getI (pc := 37) 5 28 (v := nI (cSh A)) dX5_keep_37 q1300 rfl (ms_o hM) ((zu_ne1 (by decide)).trans ((hA.f 28).trans hI.sh)) ?_
    refine wt_iast (pc := 40) 6 (3 * i_) dX5_keep_40 (ma_keptMany hM) rfl rfl (by omega) ?_
    refine zt_aload_n (pc := 41) dX5_keep_41 rfl rfl ?_
    refine wt_getR (pc := 42) 5 38 dX5_keep_42 q1310 rfl (ms_o hM) (mr_keptMany hM) ?_
    refine zt_iconst (pc := 45) dX5_keep_45 (v := 3) rfl ?_
    refine zt_iload_n (pc := 46) dX5_keep_46 rfl rfl ?_
    refine zt_imulN (pc := 47) (a := 3) (b := i_) dX5_keep_47 ?_
    refine zt_iconst (pc := 48) dX5_keep_48 (v := 1) rfl ?_
    refine zt_iaddN (pc := 49) (a := 3 * i_) (b := 1) dX5_keep_49 ?_
    refine zt_aload_n (pc := 50) dX5_keep_50 rfl rfl ?_
    refine wt_getI (pc := 51) 5 33 (v := A 289 33) dX5_keep_51 q1305 rfl (ms_o hM) ((zu_ne1 (by decide)).trans ((zu_ne1 (by decide)).trans (hA.f 33))) ?_
    refine wt_iast (pc := 54) 6 ((3 * i_) + 1) dX5_keep_54 (ma_keptMany hM) rfl rfl (by omega) ?_
    refine zt_aload_n (pc := 55) dX5_keep_55 rfl rfl ?_
    refine wt_getR (pc := 56) 5 38 dX5_keep_56 q1310 rfl (ms_o hM) (mr_keptMany hM) ?_
    refine zt_iconst (pc := 59) dX5_keep_59 (v := 3) rfl ?_
    refine zt_iload_n (pc := 60) dX5_keep_60 rfl rfl ?_
    refine zt_imulN (pc := 61) (a := 3) (b := i_) dX5_keep_61 ?_
    refine zt_iconst (pc := 62) dX5_keep_62 (v := 2) rfl ?_
    refine zt_iaddN (pc := 63) (a := 3 * i_) (b := 2) dX5_keep_63 ?_
    refine zt_aload_n (pc := 64) dX5_keep_64 rfl rfl ?_
    refine wt_getI (pc := 65) 5 34 (v := nI (cTh A)) dX5_keep_65 q1306 rfl (ms_o hM) ((zu_ne1 (by decide)).trans ((zu_ne1 (by decide)).trans ((zu_ne1 (by decide)).trans ((hA.f 34).trans hI.th)))) ?_
    refine wt_iast (pc := 68) 6 ((3 * i_) + 2) dX5_keep_68 (ma_keptMany hM) rfl rfl (by omega) ?_
    refine zt_iconst (pc := 69) dX5_keep_69 (v := 0) rfl ?_
    refine zt_istore_n (pc := 70) (L' := [some (.ref 289), some (.int (nI i_)), some (.int (A 309 i_)), some (.int 0)]) dX5_keep_70 rfl (by decide) rfl rfl ?_
    refine zt_S (zs_eq (a := 311) (f := A 311) (funext fun q => congrFun (hA 311 (by decide) (by decide)) q)) ?_
    refine zt_for (pc := 71) (fun k => zs (zu (zu (zu (zu S 309 i_ 1) 310 (3 * i_) (nI (cSh A))) 310 ((3 * i_) + 1) (A 289 33)) 310 ((3 * i_) + 2) (nI (cTh A))) 311 (itr (s_keepS A i_) (A 311) k)) (fun k => [some (.ref 289), some (.int (nI i_)), some (.int (A 309 i_)), some (.int (nI k))]) 72 rfl rfl ?_ (fun k hi_k ih_k => ?_)
    · show Zt _ _ _ _ _ _ (zW h (zs (zu (zu (zu (zu S 309 i_ 1) 310 (3 * i_) (nI (cSh A))) 310 ((3 * i_) + 1) (A 289 33)) 310 ((3 * i_) + 2) (nI (cTh A))) 311 (itr (s_keepS A i_) (A 311) 72))) 71 [some (.ref 289), some (.int (nI i_)), some (.int (A 309 i_)), some (.int (nI 72))] []
      refine zt_iload_n (pc := 71) dX5_keep_71 rfl rfl ?_
      refine zt_bipush (pc := 72) dX5_keep_72 (v := 72) rfl ?_
      refine zt_geN (a := 72) (b := 72) (pc := 74) 100 dX5_keep_74 (by decide) (by omega) (by omega) (fun c_74 => ?_) (fun c_74 => absurd c_74 (Nat.lt_irrefl _))
      refine zt_iconst (pc := 100) dX5_keep_100 (v := 0) rfl ?_
      refine zt_istore_n (pc := 101) (L' := [some (.ref 289), some (.int (nI i_)), some (.int (A 309 i_)), some (.int 0)]) dX5_keep_101 rfl (by decide) rfl rfl ?_
      refine zt_S (zs_eq (a := 312) (f := A 312) (funext fun q => congrFun (hA 312 (by decide) (by decide)) q)) ?_
      refine zt_for (pc := 102) (fun k => zs (zs (zu (zu (zu (zu S 309 i_ 1) 310 (3 * i_) (nI (cSh A))) 310 ((3 * i_) + 1) (A 289 33)) 310 ((3 * i_) + 2) (nI (cTh A))) 311 (itr (s_keepS A i_) (A 311) 72)) 312 (itr (s_keepT A i_) (A 312) k)) (fun k => [some (.ref 289), some (.int (nI i_)), some (.int (A 309 i_)), some (.int (nI k))]) 12 rfl rfl ?_ (fun k hi_k ih_k => ?_)
      · show Zt _ _ _ _ _ _ (zW h (zs (zs (zu (zu (zu (zu S 309 i_ 1) 310 (3 * i_) (nI (cSh A))) 310 ((3 * i_) + 1) (A 289 33)) 310 ((3 * i_) + 2) (nI (cTh A))) 311 (itr (s_keepS A i_) (A 311) 72)) 312 (itr (s_keepT A i_) (A 312) 12))) 102 [some (.ref 289), some (.int (nI i_)), some (.int (A 309 i_)), some (.int (nI 12))] []
        refine zt_iload_n (pc := 102) dX5_keep_102 rfl rfl ?_
        refine zt_bipush (pc := 103) dX5_keep_103 (v := 12) rfl ?_
        refine zt_geN (a := 12) (b := 12) (pc := 105) 157 dX5_keep_105 (by decide) (by omega) (by omega) (fun c_105 => ?_) (fun c_105 => absurd c_105 (Nat.lt_irrefl _))
        refine zt_iload_n (pc := 157) dX5_keep_157 rfl rfl ?_
        exact zt_ireturn (pc := 158) dX5_keep_158 rfl (⟨congrArg some (congrArg Value.int ((if_pos hn_i_).trans (by rw [nI_clamp (show i_ < 2 ^ 31 by omega)])).symm), congrArg (zW h) ((if_pos hn_i_).trans (by rw [nI_clamp (show i_ < 2 ^ 31 by omega)] <;> rfl)).symm⟩)
      · show Zt _ _ _ _ _ _ (zW h (zs (zs (zu (zu (zu (zu S 309 i_ 1) 310 (3 * i_) (nI (cSh A))) 310 ((3 * i_) + 1) (A 289 33)) 310 ((3 * i_) + 2) (nI (cTh A))) 311 (itr (s_keepS A i_) (A 311) 72)) 312 (itr (s_keepT A i_) (A 312) k))) 102 [some (.ref 289), some (.int (nI i_)), some (.int (A 309 i_)), some (.int (nI k))] []
        refine zt_iload_n (pc := 102) dX5_keep_102 rfl rfl ?_
        refine zt_bipush (pc := 103) dX5_keep_103 (v := 12) rfl ?_
        refine zt_geN (a := k) (b := 12) (pc := 105) 157 dX5_keep_105 (by decide) (by omega) (by omega) (fun c_105 => absurd hi_k (Nat.not_lt.mpr c_105)) (fun c_105 => ?_)
        refine zt_aload_n (pc := 108) dX5_keep_108 rfl rfl ?_
        refine wt_getR (pc := 109) 5 40 dX5_keep_109 q1312 rfl (ms_o hM) (mr_keptTheirs hM) ?_
        refine zt_bipush (pc := 112) dX5_keep_112 (v := 24) rfl ?_
        refine zt_iload_n (pc := 114) dX5_keep_114 rfl rfl ?_
        refine zt_imulN (pc := 115) (a := 24) (b := i_) dX5_keep_115 ?_
        refine zt_iconst (pc := 116) dX5_keep_116 (v := 2) rfl ?_
        refine zt_iload_n (pc := 117) dX5_keep_117 rfl rfl ?_
        refine zt_imulN (pc := 118) (a := 2) (b := k) dX5_keep_118 ?_
        refine zt_iaddN (pc := 119) (a := 24 * i_) (b := 2 * k) dX5_keep_119 ?_
        refine zt_aload_n (pc := 120) dX5_keep_120 rfl rfl ?_
        refine wt_getR (pc := 121) 5 35 dX5_keep_121 q1307 rfl (ms_o hM) (mr_theirThing hM) ?_
        refine zt_iload_n (pc := 124) dX5_keep_124 rfl rfl ?_
        refine wt_iald (pc := 125) 12 k (v := A 307 k) dX5_keep_125 (ma_theirThing hM) rfl rfl (by omega) (congrFun (hA 307 (by decide) (by decide)) k) ?_
        refine wt_iastS (pc := 126) 48 ((24 * i_) + (2 * k)) dX5_keep_126 (ma_keptTheirs hM) rfl rfl (by omega) ?_
        refine zt_aload_n (pc := 127) dX5_keep_127 rfl rfl ?_
        refine wt_getR (pc := 128) 5 40 dX5_keep_128 q1312 rfl (ms_o hM) (mr_keptTheirs hM) ?_
        refine zt_bipush (pc := 131) dX5_keep_131 (v := 24) rfl ?_
        refine zt_iload_n (pc := 133) dX5_keep_133 rfl rfl ?_
        refine zt_imulN (pc := 134) (a := 24) (b := i_) dX5_keep_134 ?_
        refine zt_iconst (pc := 135) dX5_keep_135 (v := 2) rfl ?_
        refine zt_iload_n (pc := 136) dX5_keep_136 rfl rfl ?_
        refine zt_imulN (pc := 137) (a := 2) (b := k) dX5_keep_137 ?_
        refine zt_iaddN (pc := 138) (a := 24 * i_) (b := 2 * k) dX5_keep_138 ?_
        refine zt_iconst (pc := 139) dX5_keep_139 (v := 1) rfl ?_
        refine zt_iaddN (pc := 140) (a := (24 * i_) + (2 * k)) (b := 1) dX5_keep_140 ?_
        refine zt_aload_n (pc := 141) dX5_keep_141 rfl rfl ?_
        refine wt_getR (pc := 142) 5 36 dX5_keep_142 q1308 rfl (ms_o hM) (mr_theirSo hM) ?_
        refine zt_iload_n (pc := 145) dX5_keep_145 rfl rfl ?_
        refine wt_zald (pc := 146) 12 k (v := A 308 k) dX5_keep_146 (ma_theirSo hM) rfl rfl (by omega) (congrFun (hA 308 (by decide) (by decide)) k) ?_
        refine wt_callS (pc := 147) mX5_flag 1 (rc' := 0) (rs' := 0) dX5_keep_147 q1250 ms_X5_flag (tm_flag (A 308 k) (hI.so (by omega))) rfl rfl rfl rfl rfl rfl ?_
        refine wt_iastS (pc := 150) 48 (((24 * i_) + (2 * k)) + 1) dX5_keep_150 (ma_keptTheirs hM) rfl rfl (by omega) ?_
        refine zt_iincN (pc := 151) (b := k + 1) (L' := [some (.ref 289), some (.int (nI i_)), some (.int (A 309 i_)), some (.int (nI (k + 1)))]) dX5_keep_151 rfl (zinc1 k) (by decide) rfl rfl ?_
        refine zt_goto (pc := 154) 102 dX5_keep_154 (by decide) ?_
        exact ih_k
    · show Zt _ _ _ _ _ _ (zW h (zs (zu (zu (zu (zu S 309 i_ 1) 310 (3 * i_) (nI (cSh A))) 310 ((3 * i_) + 1) (A 289 33)) 310 ((3 * i_) + 2) (nI (cTh A))) 311 (itr (s_keepS A i_) (A 311) k))) 71 [some (.ref 289), some (.int (nI i_)), some (.int (A 309 i_)), some (.int (nI k))] []
      refine zt_iload_n (pc := 71) dX5_keep_71 rfl rfl ?_
      refine zt_bipush (pc := 72) dX5_keep_72 (v := 72) rfl ?_
      refine zt_geN (a := k) (b := 72) (pc := 74) 100 dX5_keep_74 (by decide) (by omega) (by omega) (fun c_74 => absurd hi_k (Nat.not_lt.mpr c_74)) (fun c_74 => ?_)
      refine zt_aload_n (pc := 77) dX5_keep_77 rfl rfl ?_
      refine wt_getR (pc := 78) 5 39 dX5_keep_78 q1311 rfl (ms_o hM) (mr_keptShown hM) ?_
      refine zt_bipush (pc := 81) dX5_keep_81 (v := 72) rfl ?_
      refine zt_iload_n (pc := 83) dX5_keep_83 rfl rfl ?_
      refine zt_imulN (pc := 84) (a := 72) (b := i_) dX5_keep_84 ?_
      refine zt_iload_n (pc := 85) dX5_keep_85 rfl rfl ?_
      refine zt_iaddN (pc := 86) (a := 72 * i_) (b := k) dX5_keep_86 ?_
      refine zt_aload_n (pc := 87) dX5_keep_87 rfl rfl ?_
      refine wt_getR (pc := 88) 5 29 dX5_keep_88 q1301 rfl (ms_o hM) (mr_shown hM) ?_
      refine zt_iload_n (pc := 91) dX5_keep_91 rfl rfl ?_
      refine wt_iald (pc := 92) 72 k (v := A 303 k) dX5_keep_92 (ma_shown hM) rfl rfl (by omega) (congrFun (hA 303 (by decide) (by decide)) k) ?_
      refine wt_iastS (pc := 93) 144 ((72 * i_) + k) dX5_keep_93 (ma_keptShown hM) rfl rfl (by omega) ?_
      refine zt_iincN (pc := 94) (b := k + 1) (L' := [some (.ref 289), some (.int (nI i_)), some (.int (A 309 i_)), some (.int (nI (k + 1)))]) dX5_keep_94 rfl (zinc1 k) (by decide) rfl rfl ?_
      refine zt_goto (pc := 97) 71 dX5_keep_97 (by decide) ?_
      exact ih_k
  · refine zt_iconst (pc := 10) dX5_keep_10 (v := (-1)) rfl ?_
    exact zt_ireturn (pc := 11) dX5_keep_11 rfl (⟨congrArg some (congrArg Value.int (if_neg (fun q => bI_eq0.mp c_7 ((in_c i 1 (by decide)).mpr q))).symm), congrArg (zW h) (if_neg (fun q => bI_eq0.mp c_7 ((in_c i 1 (by decide)).mpr q))).symm⟩)

theorem tm_feed (hM : MS h.2.1 h.2.2.2) (hI : AI A) (hA : AE S A) (v : Int64) : Zd g mX5_feed 1 0 0 [.ref 289, .long v] (zW h S) (some (.int (o_feed A))) (zW h (w_feed S A v)) := by
  refine zc_of [some (.ref 289), some (.long v), none, none] rfl (Nat.le_of_ble_eq_true rfl) rfl ?_
  have b7 := hI.tp400
  refine zt_aload_n (pc := 0) dX5_feed_0 rfl rfl ?_
  refine wt_getI (pc := 1) 5 20 (v := nI (cTp A)) dX5_feed_1 q1292 rfl (ms_o hM) ((hA.f 20).trans hI.tp) ?_
  refine zt_bipush (pc := 4) dX5_feed_4 (v := 8) rfl ?_
  refine zt_iaddN (pc := 6) (a := cTp A) (b := 8) dX5_feed_6 ?_
  refine zt_sipush (pc := 7) dX5_feed_7 (v := 400) rfl ?_
  refine zt_icmp_le (pc := 10) 16 dX5_feed_10 (by decide) (fun c_10 => ?_) (fun c_10 => ?_)
  · have h8 : cTp A + 8 ≤ 400 := (nI_leI (by omega) (by decide)).mp c_10
    refine zt_bipush (pc := 16) dX5_feed_16 (v := 56) rfl ?_
    refine zt_istore_n (pc := 18) (L' := [some (.ref 289), some (.long v), none, some (.int 56)]) dX5_feed_18 rfl (by decide) rfl rfl ?_
    refine zt_for (pc := 19) (fun j => itr (s_feedF v (cTp A)) S j) (fun j => [some (.ref 289), some (.long v), none, some (.int (56 - 8 * nI j))]) 8 rfl rfl ?_ (fun j hi_j ih_j => ?_)
    · show Zt _ _ _ _ _ _ (zW h (itr (s_feedF v (cTp A)) S 8)) 19 [some (.ref 289), some (.long v), none, some (.int (56 - 8 * nI 8))] []
      refine zt_iload_n (pc := 19) dX5_feed_19 rfl rfl ?_
      refine zt_if_lt (pc := 20) 56 dX5_feed_20 (by decide) (fun c_20 => ?_) (fun c_20 => absurd fd_end c_20)
      refine zt_aload_n (pc := 56) dX5_feed_56 rfl rfl ?_
      refine wt_getI (pc := 57) 5 20 (v := nI (cTp A + 8)) dX5_feed_57 q1292 rfl (ms_o hM) (feed_tp ((hA.f 20).trans hI.tp) 8) ?_
      exact zt_ireturn (pc := 60) dX5_feed_60 rfl (⟨congrArg some (congrArg Value.int (if_pos h8).symm), congrArg (zW h) (if_pos h8).symm⟩)
    · show Zt _ _ _ _ _ _ (zW h (itr (s_feedF v (cTp A)) S j)) 19 [some (.ref 289), some (.long v), none, some (.int (56 - 8 * nI j))] []
      refine zt_iload_n (pc := 19) dX5_feed_19 rfl rfl ?_
      refine zt_if_lt (pc := 20) 56 dX5_feed_20 (by decide) (fun c_20 => absurd c_20 (fd_lt j hi_j)) (fun c_20 => ?_)
      refine zt_aload_n (pc := 23) dX5_feed_23 rfl rfl ?_
      refine wt_getR (pc := 24) 5 19 dX5_feed_24 q1291 rfl (ms_o hM) (mr_tape hM) ?_
      refine zt_aload_n (pc := 27) dX5_feed_27 rfl rfl ?_
      refine wt_getI (pc := 28) 5 20 (v := nI (cTp A + j)) dX5_feed_28 q1292 rfl (ms_o hM) (feed_tp ((hA.f 20).trans hI.tp) j) ?_
      refine zt_lload_n (pc := 31) dX5_feed_31 rfl rfl ?_
      refine zt_iload_n (pc := 32) dX5_feed_32 rfl rfl ?_
      refine zt_lshr (pc := 33) dX5_feed_33 rfl ?_
      refine zt_ldc2 (pc := 34) dX5_feed_34 q1413 ?_
      refine zt_land (pc := 37) dX5_feed_37 ?_
      refine zt_l2i (pc := 38) dX5_feed_38 rfl ?_
      refine wt_iast (pc := 39) 400 (cTp A + j) dX5_feed_39 (ma_tape hM) rfl rfl (by omega) ?_
      refine zt_aload_n (pc := 40) dX5_feed_40 rfl rfl ?_
      refine zt_dup (pc := 41) dX5_feed_41 rfl ?_
      refine wt_getI (pc := 42) 5 20 (v := nI (cTp A + j)) dX5_feed_42 q1292 rfl (ms_o hM) ((zu_ne1 (by decide)).trans (feed_tp ((hA.f 20).trans hI.tp) j)) ?_
      refine zt_iconst (pc := 45) dX5_feed_45 (v := 1) rfl ?_
      refine zt_iaddN (pc := 46) (a := cTp A + j) (b := 1) dX5_feed_46 ?_
      refine wt_putI (pc := 47) 5 20 dX5_feed_47 q1292 rfl (ms_o hM) ?_
      refine zt_iinc (pc := 50) (L' := [some (.ref 289), some (.long v), none, some (.int (56 - 8 * nI j + Int32.ofInt (-8)))]) dX5_feed_50 rfl rfl (by decide) rfl rfl ?_
      refine zt_goto (pc := 53) 19 dX5_feed_53 (by decide) ?_
      refine zt_L (L' := [some (.ref 289), some (.long v), none, some (.int (56 - 8 * nI (j + 1)))]) (by rw [fd_inc]) ?_
      exact ih_j
  · have h8 : ¬ cTp A + 8 ≤ 400 := fun q => c_10 (nI_le q (by decide))
    refine zt_bipush (pc := 13) dX5_feed_13 (v := (-3)) rfl ?_
    exact zt_ireturn (pc := 15) dX5_feed_15 rfl (⟨congrArg some (congrArg Value.int (if_neg h8).symm), congrArg (zW h) (if_neg h8).symm⟩)

end M10