/-! THE TWIN, part 14: names -/
set_option maxRecDepth 100000
abbrev isP (T : Nat → Int32) (n q r : Nat) (l a b c d : Int32) : Prop := nI (r - q) = l ∧ lk T n q = a ∧ lk T n (q + 1) = b ∧ lk T n (q + 2) = c ∧ (l < 4 ∨ lk T n (q + 3) = d)
abbrev onP (T : Nat → Int32) (n q : Nat) (a b c : Int32) : Prop := lk T n (q + 4) = a ∧ (b = 0 ∨ lk T n (q + 5) = b) ∧ (c = 0 ∨ lk T n (q + 6) = c)
def s_kindN (T : Nat → Int32) (n q r : Nat) : Int32 := if isP T n q r 5 112 108 97 105 ∧ onP T n q 110 0 0 then 0 else (if isP T n q r 4 108 97 115 116 then 1 else (if isP T n q r 7 99 97 114 101 ∧ onP T n q 102 117 108 then 2 else (if isP T n q r 5 112 114 111 117 ∧ onP T n q 100 0 0 then 3 else (-4))))
def s_nameN (T : Nat → Int32) (n q r : Nat) : Int32 := if ¬ s_kindN T n q r = -4 then s_kindN T n q r else (if isP T n q r 5 116 104 105 110 ∧ onP T n q 103 0 0 then 10 else (if isP T n q r 5 109 101 97 110 ∧ onP T n q 115 0 0 then 11 else (if isP T n q r 4 119 111 114 100 then 12 else (if isP T n q r 3 110 111 116 0 then 13 else (if isP T n q r 4 115 101 101 115 then 14 else (if isP T n q r 5 102 101 97 114 ∧ onP T n q 115 0 0 then 15 else (if isP T n q r 6 117 110 108 105 ∧ onP T n q 107 101 0 then 16 else (if isP T n q r 6 99 104 97 110 ∧ onP T n q 99 101 0 then 17 else (-4)))))))))
section M14
variable {g : ZG} {h : ZH} {S A C : Nat → Nat → Int32} {f : Nat → Int32}
theorem tm_kindNow (hM : MS h.2.1 h.2.2.2) (T : Nat → Int32) (n : Nat) (hn : n ≤ 400) (h20 : S 289 20 = nI n) (h301 : S 301 = T) (q r : Nat) (h22 : S 289 22 = nI q) (h21 : S 289 21 = nI r) (hqr : q ≤ r) (hr : r ≤ 400) : Zd g mX5_kindNow 3 0 0 [.ref 289] (zW h S) (some (.int (s_kindN T n q r))) (zW h S) := by
  refine zc_of [some (.ref 289)] rfl (Nat.le_of_ble_eq_true rfl) rfl ?_
  refine zt_aload_n (pc := 0) dX5_kindNow_0 rfl rfl ?_
  refine zt_iconst (pc := 1) dX5_kindNow_1 (v := 5) rfl ?_
  refine zt_bipush (pc := 2) dX5_kindNow_2 (v := 112) rfl ?_
  refine zt_bipush (pc := 4) dX5_kindNow_4 (v := 108) rfl ?_
  refine zt_bipush (pc := 6) dX5_kindNow_6 (v := 97) rfl ?_
  refine zt_bipush (pc := 8) dX5_kindNow_8 (v := 105) rfl ?_
  refine wt_callV (pc := 10) mX5_is 5 5 (rc' := 0) (rs' := 0) dX5_kindNow_10 q1450 mi_X5_is rfl rfl (ms_o hM) (tm_is hM T n hn h20 h301 q r h22 h21 hqr hr 5 112 108 97 105) rfl rfl rfl rfl rfl rfl ?_
  refine zt_if_eq (pc := 13) 29 dX5_kindNow_13 (by decide) (fun c_13 => ?_) (fun c_13 => ?_)
  · refine zt_aload_n (pc := 29) dX5_kindNow_29 rfl rfl ?_
    refine zt_iconst (pc := 30) dX5_kindNow_30 (v := 4) rfl ?_
    refine zt_bipush (pc := 31) dX5_kindNow_31 (v := 108) rfl ?_
    refine zt_bipush (pc := 33) dX5_kindNow_33 (v := 97) rfl ?_
    refine zt_bipush (pc := 35) dX5_kindNow_35 (v := 115) rfl ?_
    refine zt_bipush (pc := 37) dX5_kindNow_37 (v := 116) rfl ?_
    refine wt_callV (pc := 39) mX5_is 5 5 (rc' := 0) (rs' := 0) dX5_kindNow_39 q1450 mi_X5_is rfl rfl (ms_o hM) (tm_is hM T n hn h20 h301 q r h22 h21 hqr hr 4 108 97 115 116) rfl rfl rfl rfl rfl rfl ?_
    refine zt_if_eq (pc := 42) 47 dX5_kindNow_42 (by decide) (fun c_42 => ?_) (fun c_42 => ?_)
    · refine zt_aload_n (pc := 47) dX5_kindNow_47 rfl rfl ?_
      refine zt_bipush (pc := 48) dX5_kindNow_48 (v := 7) rfl ?_
      refine zt_bipush (pc := 50) dX5_kindNow_50 (v := 99) rfl ?_
      refine zt_bipush (pc := 52) dX5_kindNow_52 (v := 97) rfl ?_
      refine zt_bipush (pc := 54) dX5_kindNow_54 (v := 114) rfl ?_
      refine zt_bipush (pc := 56) dX5_kindNow_56 (v := 101) rfl ?_
      refine wt_callV (pc := 58) mX5_is 5 5 (rc' := 0) (rs' := 0) dX5_kindNow_58 q1450 mi_X5_is rfl rfl (ms_o hM) (tm_is hM T n hn h20 h301 q r h22 h21 hqr hr 7 99 97 114 101) rfl rfl rfl rfl rfl rfl ?_
      refine zt_if_eq (pc := 61) 79 dX5_kindNow_61 (by decide) (fun c_61 => ?_) (fun c_61 => ?_)
      · refine zt_aload_n (pc := 79) dX5_kindNow_79 rfl rfl ?_
        refine zt_iconst (pc := 80) dX5_kindNow_80 (v := 5) rfl ?_
        refine zt_bipush (pc := 81) dX5_kindNow_81 (v := 112) rfl ?_
        refine zt_bipush (pc := 83) dX5_kindNow_83 (v := 114) rfl ?_
        refine zt_bipush (pc := 85) dX5_kindNow_85 (v := 111) rfl ?_
        refine zt_bipush (pc := 87) dX5_kindNow_87 (v := 117) rfl ?_
        refine wt_callV (pc := 89) mX5_is 5 5 (rc' := 0) (rs' := 0) dX5_kindNow_89 q1450 mi_X5_is rfl rfl (ms_o hM) (tm_is hM T n hn h20 h301 q r h22 h21 hqr hr 5 112 114 111 117) rfl rfl rfl rfl rfl rfl ?_
        refine zt_if_eq (pc := 92) 110 dX5_kindNow_92 (by decide) (fun c_92 => ?_) (fun c_92 => ?_)
        · refine zt_bipush (pc := 110) dX5_kindNow_110 (v := (-4)) rfl ?_
          exact zt_ireturn (pc := 112) dX5_kindNow_112 rfl (⟨congrArg some (congrArg Value.int (((if_neg (fun z => bI_eq0.mp c_13 z.1)).trans ((if_neg (bI_eq0.mp c_42)).trans ((if_neg (fun z => bI_eq0.mp c_61 z.1)).trans (if_neg (fun z => bI_eq0.mp c_92 z.1))))).symm)), rfl⟩)
        · refine zt_aload_n (pc := 95) dX5_kindNow_95 rfl rfl ?_
          refine zt_bipush (pc := 96) dX5_kindNow_96 (v := 100) rfl ?_
          refine zt_iconst (pc := 98) dX5_kindNow_98 (v := 0) rfl ?_
          refine zt_iconst (pc := 99) dX5_kindNow_99 (v := 0) rfl ?_
          refine wt_callV (pc := 100) mX5_goesOn 3 5 (rc' := 0) (rs' := 0) dX5_kindNow_100 q1454 mi_X5_goesOn rfl rfl (ms_o hM) (tm_goesOn hM T n hn h20 h301 q h22 (by omega) 100 0 0) rfl rfl rfl rfl rfl rfl ?_
          refine zt_if_eq (pc := 103) 110 dX5_kindNow_103 (by decide) (fun c_103 => ?_) (fun c_103 => ?_)
          · refine zt_bipush (pc := 110) dX5_kindNow_110 (v := (-4)) rfl ?_
            exact zt_ireturn (pc := 112) dX5_kindNow_112 rfl (⟨congrArg some (congrArg Value.int (((if_neg (fun z => bI_eq0.mp c_13 z.1)).trans ((if_neg (bI_eq0.mp c_42)).trans ((if_neg (fun z => bI_eq0.mp c_61 z.1)).trans (if_neg (fun z => bI_eq0.mp c_103 z.2))))).symm)), rfl⟩)
          · refine zt_iconst (pc := 106) dX5_kindNow_106 (v := 3) rfl ?_
            refine zt_goto (pc := 107) 112 dX5_kindNow_107 (by decide) ?_
            exact zt_ireturn (pc := 112) dX5_kindNow_112 rfl (⟨congrArg some (congrArg Value.int (((if_neg (fun z => bI_eq0.mp c_13 z.1)).trans ((if_neg (bI_eq0.mp c_42)).trans ((if_neg (fun z => bI_eq0.mp c_61 z.1)).trans (if_pos ⟨bI_ne0 c_92, bI_ne0 c_103⟩)))).symm)), rfl⟩)
      · refine zt_aload_n (pc := 64) dX5_kindNow_64 rfl rfl ?_
        refine zt_bipush (pc := 65) dX5_kindNow_65 (v := 102) rfl ?_
        refine zt_bipush (pc := 67) dX5_kindNow_67 (v := 117) rfl ?_
        refine zt_bipush (pc := 69) dX5_kindNow_69 (v := 108) rfl ?_
        refine wt_callV (pc := 71) mX5_goesOn 3 5 (rc' := 0) (rs' := 0) dX5_kindNow_71 q1454 mi_X5_goesOn rfl rfl (ms_o hM) (tm_goesOn hM T n hn h20 h301 q h22 (by omega) 102 117 108) rfl rfl rfl rfl rfl rfl ?_
        refine zt_if_eq (pc := 74) 79 dX5_kindNow_74 (by decide) (fun c_74 => ?_) (fun c_74 => ?_)
        · refine zt_aload_n (pc := 79) dX5_kindNow_79 rfl rfl ?_
          refine zt_iconst (pc := 80) dX5_kindNow_80 (v := 5) rfl ?_
          refine zt_bipush (pc := 81) dX5_kindNow_81 (v := 112) rfl ?_
          refine zt_bipush (pc := 83) dX5_kindNow_83 (v := 114) rfl ?_
          refine zt_bipush (pc := 85) dX5_kindNow_85 (v := 111) rfl ?_
          refine zt_bipush (pc := 87) dX5_kindNow_87 (v := 117) rfl ?_
          refine wt_callV (pc := 89) mX5_is 5 5 (rc' := 0) (rs' := 0) dX5_kindNow_89 q1450 mi_X5_is rfl rfl (ms_o hM) (tm_is hM T n hn h20 h301 q r h22 h21 hqr hr 5 112 114 111 117) rfl rfl rfl rfl rfl rfl ?_
          refine zt_if_eq (pc := 92) 110 dX5_kindNow_92 (by decide) (fun c_92 => ?_) (fun c_92 => ?_)
          · refine zt_bipush (pc := 110) dX5_kindNow_110 (v := (-4)) rfl ?_
            exact zt_ireturn (pc := 112) dX5_kindNow_112 rfl (⟨congrArg some (congrArg Value.int (((if_neg (fun z => bI_eq0.mp c_13 z.1)).trans ((if_neg (bI_eq0.mp c_42)).trans ((if_neg (fun z => bI_eq0.mp c_74 z.2)).trans (if_neg (fun z => bI_eq0.mp c_92 z.1))))).symm)), rfl⟩)
          · refine zt_aload_n (pc := 95) dX5_kindNow_95 rfl rfl ?_
            refine zt_bipush (pc := 96) dX5_kindNow_96 (v := 100) rfl ?_
            refine zt_iconst (pc := 98) dX5_kindNow_98 (v := 0) rfl ?_
            refine zt_iconst (pc := 99) dX5_kindNow_99 (v := 0) rfl ?_
            refine wt_callV (pc := 100) mX5_goesOn 3 5 (rc' := 0) (rs' := 0) dX5_kindNow_100 q1454 mi_X5_goesOn rfl rfl (ms_o hM) (tm_goesOn hM T n hn h20 h301 q h22 (by omega) 100 0 0) rfl rfl rfl rfl rfl rfl ?_
            refine zt_if_eq (pc := 103) 110 dX5_kindNow_103 (by decide) (fun c_103 => ?_) (fun c_103 => ?_)
            · refine zt_bipush (pc := 110) dX5_kindNow_110 (v := (-4)) rfl ?_
              exact zt_ireturn (pc := 112) dX5_kindNow_112 rfl (⟨congrArg some (congrArg Value.int (((if_neg (fun z => bI_eq0.mp c_13 z.1)).trans ((if_neg (bI_eq0.mp c_42)).trans ((if_neg (fun z => bI_eq0.mp c_74 z.2)).trans (if_neg (fun z => bI_eq0.mp c_103 z.2))))).symm)), rfl⟩)
            · refine zt_iconst (pc := 106) dX5_kindNow_106 (v := 3) rfl ?_
              refine zt_goto (pc := 107) 112 dX5_kindNow_107 (by decide) ?_
              exact zt_ireturn (pc := 112) dX5_kindNow_112 rfl (⟨congrArg some (congrArg Value.int (((if_neg (fun z => bI_eq0.mp c_13 z.1)).trans ((if_neg (bI_eq0.mp c_42)).trans ((if_neg (fun z => bI_eq0.mp c_74 z.2)).trans (if_pos ⟨bI_ne0 c_92, bI_ne0 c_103⟩)))).symm)), rfl⟩)
        · refine zt_iconst (pc := 77) dX5_kindNow_77 (v := 2) rfl ?_
          exact zt_ireturn (pc := 78) dX5_kindNow_78 rfl (⟨congrArg some (congrArg Value.int (((if_neg (fun z => bI_eq0.mp c_13 z.1)).trans ((if_neg (bI_eq0.mp c_42)).trans (if_pos ⟨bI_ne0 c_61, bI_ne0 c_74⟩))).symm)), rfl⟩)
    · refine zt_iconst (pc := 45) dX5_kindNow_45 (v := 1) rfl ?_
      exact zt_ireturn (pc := 46) dX5_kindNow_46 rfl (⟨congrArg some (congrArg Value.int (((if_neg (fun z => bI_eq0.mp c_13 z.1)).trans (if_pos (bI_ne0 c_42))).symm)), rfl⟩)
  · refine zt_aload_n (pc := 16) dX5_kindNow_16 rfl rfl ?_
    refine zt_bipush (pc := 17) dX5_kindNow_17 (v := 110) rfl ?_
    refine zt_iconst (pc := 19) dX5_kindNow_19 (v := 0) rfl ?_
    refine zt_iconst (pc := 20) dX5_kindNow_20 (v := 0) rfl ?_
    refine wt_callV (pc := 21) mX5_goesOn 3 5 (rc' := 0) (rs' := 0) dX5_kindNow_21 q1454 mi_X5_goesOn rfl rfl (ms_o hM) (tm_goesOn hM T n hn h20 h301 q h22 (by omega) 110 0 0) rfl rfl rfl rfl rfl rfl ?_
    refine zt_if_eq (pc := 24) 29 dX5_kindNow_24 (by decide) (fun c_24 => ?_) (fun c_24 => ?_)
    · refine zt_aload_n (pc := 29) dX5_kindNow_29 rfl rfl ?_
      refine zt_iconst (pc := 30) dX5_kindNow_30 (v := 4) rfl ?_
      refine zt_bipush (pc := 31) dX5_kindNow_31 (v := 108) rfl ?_
      refine zt_bipush (pc := 33) dX5_kindNow_33 (v := 97) rfl ?_
      refine zt_bipush (pc := 35) dX5_kindNow_35 (v := 115) rfl ?_
      refine zt_bipush (pc := 37) dX5_kindNow_37 (v := 116) rfl ?_
      refine wt_callV (pc := 39) mX5_is 5 5 (rc' := 0) (rs' := 0) dX5_kindNow_39 q1450 mi_X5_is rfl rfl (ms_o hM) (tm_is hM T n hn h20 h301 q r h22 h21 hqr hr 4 108 97 115 116) rfl rfl rfl rfl rfl rfl ?_
      refine zt_if_eq (pc := 42) 47 dX5_kindNow_42 (by decide) (fun c_42 => ?_) (fun c_42 => ?_)
      · refine zt_aload_n (pc := 47) dX5_kindNow_47 rfl rfl ?_
        refine zt_bipush (pc := 48) dX5_kindNow_48 (v := 7) rfl ?_
        refine zt_bipush (pc := 50) dX5_kindNow_50 (v := 99) rfl ?_
        refine zt_bipush (pc := 52) dX5_kindNow_52 (v := 97) rfl ?_
        refine zt_bipush (pc := 54) dX5_kindNow_54 (v := 114) rfl ?_
        refine zt_bipush (pc := 56) dX5_kindNow_56 (v := 101) rfl ?_
        refine wt_callV (pc := 58) mX5_is 5 5 (rc' := 0) (rs' := 0) dX5_kindNow_58 q1450 mi_X5_is rfl rfl (ms_o hM) (tm_is hM T n hn h20 h301 q r h22 h21 hqr hr 7 99 97 114 101) rfl rfl rfl rfl rfl rfl ?_
        refine zt_if_eq (pc := 61) 79 dX5_kindNow_61 (by decide) (fun c_61 => ?_) (fun c_61 => ?_)
        · refine zt_aload_n (pc := 79) dX5_kindNow_79 rfl rfl ?_
          refine zt_iconst (pc := 80) dX5_kindNow_80 (v := 5) rfl ?_
          refine zt_bipush (pc := 81) dX5_kindNow_81 (v := 112) rfl ?_
          refine zt_bipush (pc := 83) dX5_kindNow_83 (v := 114) rfl ?_
          refine zt_bipush (pc := 85) dX5_kindNow_85 (v := 111) rfl ?_
          refine zt_bipush (pc := 87) dX5_kindNow_87 (v := 117) rfl ?_
          refine wt_callV (pc := 89) mX5_is 5 5 (rc' := 0) (rs' := 0) dX5_kindNow_89 q1450 mi_X5_is rfl rfl (ms_o hM) (tm_is hM T n hn h20 h301 q r h22 h21 hqr hr 5 112 114 111 117) rfl rfl rfl rfl rfl rfl ?_
          refine zt_if_eq (pc := 92) 110 dX5_kindNow_92 (by decide) (fun c_92 => ?_) (fun c_92 => ?_)
          · refine zt_bipush (pc := 110) dX5_kindNow_110 (v := (-4)) rfl ?_
            exact zt_ireturn (pc := 112) dX5_kindNow_112 rfl (⟨congrArg some (congrArg Value.int (((if_neg (fun z => bI_eq0.mp c_24 z.2)).trans ((if_neg (bI_eq0.mp c_42)).trans ((if_neg (fun z => bI_eq0.mp c_61 z.1)).trans (if_neg (fun z => bI_eq0.mp c_92 z.1))))).symm)), rfl⟩)
          · refine zt_aload_n (pc := 95) dX5_kindNow_95 rfl rfl ?_
            refine zt_bipush (pc := 96) dX5_kindNow_96 (v := 100) rfl ?_
            refine zt_iconst (pc := 98) dX5_kindNow_98 (v := 0) rfl ?_
            refine zt_iconst (pc := 99) dX5_kindNow_99 (v := 0) rfl ?_
            refine wt_callV (pc := 100) mX5_goesOn 3 5 (rc' := 0) (rs' := 0) dX5_kindNow_100 q1454 mi_X5_goesOn rfl rfl (ms_o hM) (tm_goesOn hM T n hn h20 h301 q h22 (by omega) 100 0 0) rfl rfl rfl rfl rfl rfl ?_
            refine zt_if_eq (pc := 103) 110 dX5_kindNow_103 (by decide) (fun c_103 => ?_) (fun c_103 => ?_)
            · refine zt_bipush (pc := 110) dX5_kindNow_110 (v := (-4)) rfl ?_
              exact zt_ireturn (pc := 112) dX5_kindNow_112 rfl (⟨congrArg some (congrArg Value.int (((if_neg (fun z => bI_eq0.mp c_24 z.2)).trans ((if_neg (bI_eq0.mp c_42)).trans ((if_neg (fun z => bI_eq0.mp c_61 z.1)).trans (if_neg (fun z => bI_eq0.mp c_103 z.2))))).symm)), rfl⟩)
            · refine zt_iconst (pc := 106) dX5_kindNow_106 (v := 3) rfl ?_
              refine zt_goto (pc := 107) 112 dX5_kindNow_107 (by decide) ?_
              exact zt_ireturn (pc := 112) dX5_kindNow_112 rfl (⟨congrArg some (congrArg Value.int (((if_neg (fun z => bI_eq0.mp c_24 z.2)).trans ((if_neg (bI_eq0.mp c_42)).trans ((if_neg (fun z => bI_eq0.mp c_61 z.1)).trans (if_pos ⟨bI_ne0 c_92, bI_ne0 c_103⟩)))).symm)), rfl⟩)
        · refine zt_aload_n (pc := 64) dX5_kindNow_64 rfl rfl ?_
          refine zt_bipush (pc := 65) dX5_kindNow_65 (v := 102) rfl ?_
          refine zt_bipush (pc := 67) dX5_kindNow_67 (v := 117) rfl ?_
          refine zt_bipush (pc := 69) dX5_kindNow_69 (v := 108) rfl ?_
          refine wt_callV (pc := 71) mX5_goesOn 3 5 (rc' := 0) (rs' := 0) dX5_kindNow_71 q1454 mi_X5_goesOn rfl rfl (ms_o hM) (tm_goesOn hM T n hn h20 h301 q h22 (by omega) 102 117 108) rfl rfl rfl rfl rfl rfl ?_
          refine zt_if_eq (pc := 74) 79 dX5_kindNow_74 (by decide) (fun c_74 => ?_) (fun c_74 => ?_)
          · refine zt_aload_n (pc := 79) dX5_kindNow_79 rfl rfl ?_
            refine zt_iconst (pc := 80) dX5_kindNow_80 (v := 5) rfl ?_
            refine zt_bipush (pc := 81) dX5_kindNow_81 (v := 112) rfl ?_
            refine zt_bipush (pc := 83) dX5_kindNow_83 (v := 114) rfl ?_
            refine zt_bipush (pc := 85) dX5_kindNow_85 (v := 111) rfl ?_
            refine zt_bipush (pc := 87) dX5_kindNow_87 (v := 117) rfl ?_
            refine wt_callV (pc := 89) mX5_is 5 5 (rc' := 0) (rs' := 0) dX5_kindNow_89 q1450 mi_X5_is rfl rfl (ms_o hM) (tm_is hM T n hn h20 h301 q r h22 h21 hqr hr 5 112 114 111 117) rfl rfl rfl rfl rfl rfl ?_
            refine zt_if_eq (pc := 92) 110 dX5_kindNow_92 (by decide) (fun c_92 => ?_) (fun c_92 => ?_)
            · refine zt_bipush (pc := 110) dX5_kindNow_110 (v := (-4)) rfl ?_
              exact zt_ireturn (pc := 112) dX5_kindNow_112 rfl (⟨congrArg some (congrArg Value.int (((if_neg (fun z => bI_eq0.mp c_24 z.2)).trans ((if_neg (bI_eq0.mp c_42)).trans ((if_neg (fun z => bI_eq0.mp c_74 z.2)).trans (if_neg (fun z => bI_eq0.mp c_92 z.1))))).symm)), rfl⟩)
            · refine zt_aload_n (pc := 95) dX5_kindNow_95 rfl rfl ?_
              refine zt_bipush (pc := 96) dX5_kindNow_96 (v := 100) rfl ?_
              refine zt_iconst (pc := 98) dX5_kindNow_98 (v := 0) rfl ?_
              refine zt_iconst (pc := 99) dX5_kindNow_99 (v := 0) rfl ?_
              refine wt_callV (pc := 100) mX5_goesOn 3 5 (rc' := 0) (rs' := 0) dX5_kindNow_100 q1454 mi_X5_goesOn rfl rfl (ms_o hM) (tm_goesOn hM T n hn h20 h301 q h22 (by omega) 100 0 0) rfl rfl rfl rfl rfl rfl ?_
              refine zt_if_eq (pc := 103) 110 dX5_kindNow_103 (by decide) (fun c_103 => ?_) (fun c_103 => ?_)
              · refine zt_bipush (pc := 110) dX5_kindNow_110 (v := (-4)) rfl ?_
                exact zt_ireturn (pc := 112) dX5_kindNow_112 rfl (⟨congrArg some (congrArg Value.int (((if_neg (fun z => bI_eq0.mp c_24 z.2)).trans ((if_neg (bI_eq0.mp c_42)).trans ((if_neg (fun z => bI_eq0.mp c_74 z.2)).trans (if_neg (fun z => bI_eq0.mp c_103 z.2))))).symm)), rfl⟩)
              · refine zt_iconst (pc := 106) dX5_kindNow_106 (v := 3) rfl ?_
                refine zt_goto (pc := 107) 112 dX5_kindNow_107 (by decide) ?_
                exact zt_ireturn (pc := 112) dX5_kindNow_112 rfl (⟨congrArg some (congrArg Value.int (((if_neg (fun z => bI_eq0.mp c_24 z.2)).trans ((if_neg (bI_eq0.mp c_42)).trans ((if_neg (fun z => bI_eq0.mp c_74 z.2)).trans (if_pos ⟨bI_ne0 c_92, bI_ne0 c_103⟩)))).symm)), rfl⟩)
          · refine zt_iconst (pc := 77) dX5_kindNow_77 (v := 2) rfl ?_
            exact zt_ireturn (pc := 78) dX5_kindNow_78 rfl (⟨congrArg some (congrArg Value.int (((if_neg (fun z => bI_eq0.mp c_24 z.2)).trans ((if_neg (bI_eq0.mp c_42)).trans (if_pos ⟨bI_ne0 c_61, bI_ne0 c_74⟩))).symm)), rfl⟩)
      · refine zt_iconst (pc := 45) dX5_kindNow_45 (v := 1) rfl ?_
        exact zt_ireturn (pc := 46) dX5_kindNow_46 rfl (⟨congrArg some (congrArg Value.int (((if_neg (fun z => bI_eq0.mp c_24 z.2)).trans (if_pos (bI_ne0 c_42))).symm)), rfl⟩)
    · refine zt_iconst (pc := 27) dX5_kindNow_27 (v := 0) rfl ?_
      exact zt_ireturn (pc := 28) dX5_kindNow_28 rfl (⟨congrArg some (congrArg Value.int ((if_pos ⟨bI_ne0 c_13, bI_ne0 c_24⟩).symm)), rfl⟩)

theorem tm_nameNow (hM : MS h.2.1 h.2.2.2) (T : Nat → Int32) (n : Nat) (hn : n ≤ 400) (h20 : S 289 20 = nI n) (h301 : S 301 = T) (q r : Nat) (h22 : S 289 22 = nI q) (h21 : S 289 21 = nI r) (hqr : q ≤ r) (hr : r ≤ 400) : Zd g mX5_nameNow 4 0 0 [.ref 289] (zW h S) (some (.int (s_nameN T n q r))) (zW h S) := by
  refine zc_of [some (.ref 289)] rfl (Nat.le_of_ble_eq_true rfl) rfl ?_
  refine zt_aload_n (pc := 0) dX5_nameNow_0 rfl rfl ?_
  refine wt_callV (pc := 1) mX5_kindNow 0 5 (rc' := 0) (rs' := 0) dX5_nameNow_1 q1446 mi_X5_kindNow rfl rfl (ms_o hM) (tm_kindNow hM T n hn h20 h301 q r h22 h21 hqr hr) rfl rfl rfl rfl rfl rfl ?_
  refine zt_bipush (pc := 4) dX5_nameNow_4 (v := (-4)) rfl ?_
  refine zt_icmp_eq (pc := 6) 14 dX5_nameNow_6 (by decide) (fun c_6 => ?_) (fun c_6 => ?_)
  · refine zt_aload_n (pc := 14) dX5_nameNow_14 rfl rfl ?_
    refine zt_iconst (pc := 15) dX5_nameNow_15 (v := 5) rfl ?_
    refine zt_bipush (pc := 16) dX5_nameNow_16 (v := 116) rfl ?_
    refine zt_bipush (pc := 18) dX5_nameNow_18 (v := 104) rfl ?_
    refine zt_bipush (pc := 20) dX5_nameNow_20 (v := 105) rfl ?_
    refine zt_bipush (pc := 22) dX5_nameNow_22 (v := 110) rfl ?_
    refine wt_callV (pc := 24) mX5_is 5 5 (rc' := 0) (rs' := 0) dX5_nameNow_24 q1450 mi_X5_is rfl rfl (ms_o hM) (tm_is hM T n hn h20 h301 q r h22 h21 hqr hr 5 116 104 105 110) rfl rfl rfl rfl rfl rfl ?_
    refine zt_if_eq (pc := 27) 44 dX5_nameNow_27 (by decide) (fun c_27 => ?_) (fun c_27 => ?_)
    · refine zt_aload_n (pc := 44) dX5_nameNow_44 rfl rfl ?_
      refine zt_iconst (pc := 45) dX5_nameNow_45 (v := 5) rfl ?_
      refine zt_bipush (pc := 46) dX5_nameNow_46 (v := 109) rfl ?_
      refine zt_bipush (pc := 48) dX5_nameNow_48 (v := 101) rfl ?_
      refine zt_bipush (pc := 50) dX5_nameNow_50 (v := 97) rfl ?_
      refine zt_bipush (pc := 52) dX5_nameNow_52 (v := 110) rfl ?_
      refine wt_callV (pc := 54) mX5_is 5 5 (rc' := 0) (rs' := 0) dX5_nameNow_54 q1450 mi_X5_is rfl rfl (ms_o hM) (tm_is hM T n hn h20 h301 q r h22 h21 hqr hr 5 109 101 97 110) rfl rfl rfl rfl rfl rfl ?_
      refine zt_if_eq (pc := 57) 74 dX5_nameNow_57 (by decide) (fun c_57 => ?_) (fun c_57 => ?_)
      · refine zt_aload_n (pc := 74) dX5_nameNow_74 rfl rfl ?_
        refine zt_iconst (pc := 75) dX5_nameNow_75 (v := 4) rfl ?_
        refine zt_bipush (pc := 76) dX5_nameNow_76 (v := 119) rfl ?_
        refine zt_bipush (pc := 78) dX5_nameNow_78 (v := 111) rfl ?_
        refine zt_bipush (pc := 80) dX5_nameNow_80 (v := 114) rfl ?_
        refine zt_bipush (pc := 82) dX5_nameNow_82 (v := 100) rfl ?_
        refine wt_callV (pc := 84) mX5_is 5 5 (rc' := 0) (rs' := 0) dX5_nameNow_84 q1450 mi_X5_is rfl rfl (ms_o hM) (tm_is hM T n hn h20 h301 q r h22 h21 hqr hr 4 119 111 114 100) rfl rfl rfl rfl rfl rfl ?_
        refine zt_if_eq (pc := 87) 93 dX5_nameNow_87 (by decide) (fun c_87 => ?_) (fun c_87 => ?_)
        · refine zt_aload_n (pc := 93) dX5_nameNow_93 rfl rfl ?_
          refine zt_iconst (pc := 94) dX5_nameNow_94 (v := 3) rfl ?_
          refine zt_bipush (pc := 95) dX5_nameNow_95 (v := 110) rfl ?_
          refine zt_bipush (pc := 97) dX5_nameNow_97 (v := 111) rfl ?_
          refine zt_bipush (pc := 99) dX5_nameNow_99 (v := 116) rfl ?_
          refine zt_iconst (pc := 101) dX5_nameNow_101 (v := 0) rfl ?_
          refine wt_callV (pc := 102) mX5_is 5 5 (rc' := 0) (rs' := 0) dX5_nameNow_102 q1450 mi_X5_is rfl rfl (ms_o hM) (tm_is hM T n hn h20 h301 q r h22 h21 hqr hr 3 110 111 116 0) rfl rfl rfl rfl rfl rfl ?_
          refine zt_if_eq (pc := 105) 111 dX5_nameNow_105 (by decide) (fun c_105 => ?_) (fun c_105 => ?_)
          · refine zt_aload_n (pc := 111) dX5_nameNow_111 rfl rfl ?_
            refine zt_iconst (pc := 112) dX5_nameNow_112 (v := 4) rfl ?_
            refine zt_bipush (pc := 113) dX5_nameNow_113 (v := 115) rfl ?_
            refine zt_bipush (pc := 115) dX5_nameNow_115 (v := 101) rfl ?_
            refine zt_bipush (pc := 117) dX5_nameNow_117 (v := 101) rfl ?_
            refine zt_bipush (pc := 119) dX5_nameNow_119 (v := 115) rfl ?_
            refine wt_callV (pc := 121) mX5_is 5 5 (rc' := 0) (rs' := 0) dX5_nameNow_121 q1450 mi_X5_is rfl rfl (ms_o hM) (tm_is hM T n hn h20 h301 q r h22 h21 hqr hr 4 115 101 101 115) rfl rfl rfl rfl rfl rfl ?_
            refine zt_if_eq (pc := 124) 130 dX5_nameNow_124 (by decide) (fun c_124 => ?_) (fun c_124 => ?_)
            · refine zt_aload_n (pc := 130) dX5_nameNow_130 rfl rfl ?_
              refine zt_iconst (pc := 131) dX5_nameNow_131 (v := 5) rfl ?_
              refine zt_bipush (pc := 132) dX5_nameNow_132 (v := 102) rfl ?_
              refine zt_bipush (pc := 134) dX5_nameNow_134 (v := 101) rfl ?_
              refine zt_bipush (pc := 136) dX5_nameNow_136 (v := 97) rfl ?_
              refine zt_bipush (pc := 138) dX5_nameNow_138 (v := 114) rfl ?_
              refine wt_callV (pc := 140) mX5_is 5 5 (rc' := 0) (rs' := 0) dX5_nameNow_140 q1450 mi_X5_is rfl rfl (ms_o hM) (tm_is hM T n hn h20 h301 q r h22 h21 hqr hr 5 102 101 97 114) rfl rfl rfl rfl rfl rfl ?_
              refine zt_if_eq (pc := 143) 160 dX5_nameNow_143 (by decide) (fun c_143 => ?_) (fun c_143 => ?_)
              · refine zt_aload_n (pc := 160) dX5_nameNow_160 rfl rfl ?_
                refine zt_bipush (pc := 161) dX5_nameNow_161 (v := 6) rfl ?_
                refine zt_bipush (pc := 163) dX5_nameNow_163 (v := 117) rfl ?_
                refine zt_bipush (pc := 165) dX5_nameNow_165 (v := 110) rfl ?_
                refine zt_bipush (pc := 167) dX5_nameNow_167 (v := 108) rfl ?_
                refine zt_bipush (pc := 169) dX5_nameNow_169 (v := 105) rfl ?_
                refine wt_callV (pc := 171) mX5_is 5 5 (rc' := 0) (rs' := 0) dX5_nameNow_171 q1450 mi_X5_is rfl rfl (ms_o hM) (tm_is hM T n hn h20 h301 q r h22 h21 hqr hr 6 117 110 108 105) rfl rfl rfl rfl rfl rfl ?_
                refine zt_if_eq (pc := 174) 192 dX5_nameNow_174 (by decide) (fun c_174 => ?_) (fun c_174 => ?_)
                · refine zt_aload_n (pc := 192) dX5_nameNow_192 rfl rfl ?_
                  refine zt_bipush (pc := 193) dX5_nameNow_193 (v := 6) rfl ?_
                  refine zt_bipush (pc := 195) dX5_nameNow_195 (v := 99) rfl ?_
                  refine zt_bipush (pc := 197) dX5_nameNow_197 (v := 104) rfl ?_
                  refine zt_bipush (pc := 199) dX5_nameNow_199 (v := 97) rfl ?_
                  refine zt_bipush (pc := 201) dX5_nameNow_201 (v := 110) rfl ?_
                  refine wt_callV (pc := 203) mX5_is 5 5 (rc' := 0) (rs' := 0) dX5_nameNow_203 q1450 mi_X5_is rfl rfl (ms_o hM) (tm_is hM T n hn h20 h301 q r h22 h21 hqr hr 6 99 104 97 110) rfl rfl rfl rfl rfl rfl ?_
                  refine zt_if_eq (pc := 206) 226 dX5_nameNow_206 (by decide) (fun c_206 => ?_) (fun c_206 => ?_)
                  · refine zt_bipush (pc := 226) dX5_nameNow_226 (v := (-4)) rfl ?_
                    exact zt_ireturn (pc := 228) dX5_nameNow_228 rfl (⟨congrArg some (congrArg Value.int (((if_neg (fun z => z c_6)).trans ((if_neg (fun z => bI_eq0.mp c_27 z.1)).trans ((if_neg (fun z => bI_eq0.mp c_57 z.1)).trans ((if_neg (bI_eq0.mp c_87)).trans ((if_neg (bI_eq0.mp c_105)).trans ((if_neg (bI_eq0.mp c_124)).trans ((if_neg (fun z => bI_eq0.mp c_143 z.1)).trans ((if_neg (fun z => bI_eq0.mp c_174 z.1)).trans (if_neg (fun z => bI_eq0.mp c_206 z.1)))))))))).symm)), rfl⟩)
                  · refine zt_aload_n (pc := 209) dX5_nameNow_209 rfl rfl ?_
                    refine zt_bipush (pc := 210) dX5_nameNow_210 (v := 99) rfl ?_
                    refine zt_bipush (pc := 212) dX5_nameNow_212 (v := 101) rfl ?_
                    refine zt_iconst (pc := 214) dX5_nameNow_214 (v := 0) rfl ?_
                    refine wt_callV (pc := 215) mX5_goesOn 3 5 (rc' := 0) (rs' := 0) dX5_nameNow_215 q1454 mi_X5_goesOn rfl rfl (ms_o hM) (tm_goesOn hM T n hn h20 h301 q h22 (by omega) 99 101 0) rfl rfl rfl rfl rfl rfl ?_
                    refine zt_if_eq (pc := 218) 226 dX5_nameNow_218 (by decide) (fun c_218 => ?_) (fun c_218 => ?_)
                    · refine zt_bipush (pc := 226) dX5_nameNow_226 (v := (-4)) rfl ?_
                      exact zt_ireturn (pc := 228) dX5_nameNow_228 rfl (⟨congrArg some (congrArg Value.int (((if_neg (fun z => z c_6)).trans ((if_neg (fun z => bI_eq0.mp c_27 z.1)).trans ((if_neg (fun z => bI_eq0.mp c_57 z.1)).trans ((if_neg (bI_eq0.mp c_87)).trans ((if_neg (bI_eq0.mp c_105)).trans ((if_neg (bI_eq0.mp c_124)).trans ((if_neg (fun z => bI_eq0.mp c_143 z.1)).trans ((if_neg (fun z => bI_eq0.mp c_174 z.1)).trans (if_neg (fun z => bI_eq0.mp c_218 z.2)))))))))).symm)), rfl⟩)
                    · refine zt_bipush (pc := 221) dX5_nameNow_221 (v := 17) rfl ?_
                      refine zt_goto (pc := 223) 228 dX5_nameNow_223 (by decide) ?_
                      exact zt_ireturn (pc := 228) dX5_nameNow_228 rfl (⟨congrArg some (congrArg Value.int (((if_neg (fun z => z c_6)).trans ((if_neg (fun z => bI_eq0.mp c_27 z.1)).trans ((if_neg (fun z => bI_eq0.mp c_57 z.1)).trans ((if_neg (bI_eq0.mp c_87)).trans ((if_neg (bI_eq0.mp c_105)).trans ((if_neg (bI_eq0.mp c_124)).trans ((if_neg (fun z => bI_eq0.mp c_143 z.1)).trans ((if_neg (fun z => bI_eq0.mp c_174 z.1)).trans (if_pos ⟨bI_ne0 c_206, bI_ne0 c_218⟩))))))))).symm)), rfl⟩)
                · refine zt_aload_n (pc := 177) dX5_nameNow_177 rfl rfl ?_
                  refine zt_bipush (pc := 178) dX5_nameNow_178 (v := 107) rfl ?_
                  refine zt_bipush (pc := 180) dX5_nameNow_180 (v := 101) rfl ?_
                  refine zt_iconst (pc := 182) dX5_nameNow_182 (v := 0) rfl ?_
                  refine wt_callV (pc := 183) mX5_goesOn 3 5 (rc' := 0) (rs' := 0) dX5_nameNow_183 q1454 mi_X5_goesOn rfl rfl (ms_o hM) (tm_goesOn hM T n hn h20 h301 q h22 (by omega) 107 101 0) rfl rfl rfl rfl rfl rfl ?_
                  refine zt_if_eq (pc := 186) 192 dX5_nameNow_186 (by decide) (fun c_186 => ?_) (fun c_186 => ?_)
                  · refine zt_aload_n (pc := 192) dX5_nameNow_192 rfl rfl ?_
                    refine zt_bipush (pc := 193) dX5_nameNow_193 (v := 6) rfl ?_
                    refine zt_bipush (pc := 195) dX5_nameNow_195 (v := 99) rfl ?_
                    refine zt_bipush (pc := 197) dX5_nameNow_197 (v := 104) rfl ?_
                    refine zt_bipush (pc := 199) dX5_nameNow_199 (v := 97) rfl ?_
                    refine zt_bipush (pc := 201) dX5_nameNow_201 (v := 110) rfl ?_
                    refine wt_callV (pc := 203) mX5_is 5 5 (rc' := 0) (rs' := 0) dX5_nameNow_203 q1450 mi_X5_is rfl rfl (ms_o hM) (tm_is hM T n hn h20 h301 q r h22 h21 hqr hr 6 99 104 97 110) rfl rfl rfl rfl rfl rfl ?_
                    refine zt_if_eq (pc := 206) 226 dX5_nameNow_206 (by decide) (fun c_206 => ?_) (fun c_206 => ?_)
                    · refine zt_bipush (pc := 226) dX5_nameNow_226 (v := (-4)) rfl ?_
                      exact zt_ireturn (pc := 228) dX5_nameNow_228 rfl (⟨congrArg some (congrArg Value.int (((if_neg (fun z => z c_6)).trans ((if_neg (fun z => bI_eq0.mp c_27 z.1)).trans ((if_neg (fun z => bI_eq0.mp c_57 z.1)).trans ((if_neg (bI_eq0.mp c_87)).trans ((if_neg (bI_eq0.mp c_105)).trans ((if_neg (bI_eq0.mp c_124)).trans ((if_neg (fun z => bI_eq0.mp c_143 z.1)).trans ((if_neg (fun z => bI_eq0.mp c_186 z.2)).trans (if_neg (fun z => bI_eq0.mp c_206 z.1)))))))))).symm)), rfl⟩)
                    · refine zt_aload_n (pc := 209) dX5_nameNow_209 rfl rfl ?_
                      refine zt_bipush (pc := 210) dX5_nameNow_210 (v := 99) rfl ?_
                      refine zt_bipush (pc := 212) dX5_nameNow_212 (v := 101) rfl ?_
                      refine zt_iconst (pc := 214) dX5_nameNow_214 (v := 0) rfl ?_
                      refine wt_callV (pc := 215) mX5_goesOn 3 5 (rc' := 0) (rs' := 0) dX5_nameNow_215 q1454 mi_X5_goesOn rfl rfl (ms_o hM) (tm_goesOn hM T n hn h20 h301 q h22 (by omega) 99 101 0) rfl rfl rfl rfl rfl rfl ?_
                      refine zt_if_eq (pc := 218) 226 dX5_nameNow_218 (by decide) (fun c_218 => ?_) (fun c_218 => ?_)
                      · refine zt_bipush (pc := 226) dX5_nameNow_226 (v := (-4)) rfl ?_
                        exact zt_ireturn (pc := 228) dX5_nameNow_228 rfl (⟨congrArg some (congrArg Value.int (((if_neg (fun z => z c_6)).trans ((if_neg (fun z => bI_eq0.mp c_27 z.1)).trans ((if_neg (fun z => bI_eq0.mp c_57 z.1)).trans ((if_neg (bI_eq0.mp c_87)).trans ((if_neg (bI_eq0.mp c_105)).trans ((if_neg (bI_eq0.mp c_124)).trans ((if_neg (fun z => bI_eq0.mp c_143 z.1)).trans ((if_neg (fun z => bI_eq0.mp c_186 z.2)).trans (if_neg (fun z => bI_eq0.mp c_218 z.2)))))))))).symm)), rfl⟩)
                      · refine zt_bipush (pc := 221) dX5_nameNow_221 (v := 17) rfl ?_
                        refine zt_goto (pc := 223) 228 dX5_nameNow_223 (by decide) ?_
                        exact zt_ireturn (pc := 228) dX5_nameNow_228 rfl (⟨congrArg some (congrArg Value.int (((if_neg (fun z => z c_6)).trans ((if_neg (fun z => bI_eq0.mp c_27 z.1)).trans ((if_neg (fun z => bI_eq0.mp c_57 z.1)).trans ((if_neg (bI_eq0.mp c_87)).trans ((if_neg (bI_eq0.mp c_105)).trans ((if_neg (bI_eq0.mp c_124)).trans ((if_neg (fun z => bI_eq0.mp c_143 z.1)).trans ((if_neg (fun z => bI_eq0.mp c_186 z.2)).trans (if_pos ⟨bI_ne0 c_206, bI_ne0 c_218⟩))))))))).symm)), rfl⟩)
                  · refine zt_bipush (pc := 189) dX5_nameNow_189 (v := 16) rfl ?_
                    exact zt_ireturn (pc := 191) dX5_nameNow_191 rfl (⟨congrArg some (congrArg Value.int (((if_neg (fun z => z c_6)).trans ((if_neg (fun z => bI_eq0.mp c_27 z.1)).trans ((if_neg (fun z => bI_eq0.mp c_57 z.1)).trans ((if_neg (bI_eq0.mp c_87)).trans ((if_neg (bI_eq0.mp c_105)).trans ((if_neg (bI_eq0.mp c_124)).trans ((if_neg (fun z => bI_eq0.mp c_143 z.1)).trans (if_pos ⟨bI_ne0 c_174, bI_ne0 c_186⟩)))))))).symm)), rfl⟩)
              · refine zt_aload_n (pc := 146) dX5_nameNow_146 rfl rfl ?_
                refine zt_bipush (pc := 147) dX5_nameNow_147 (v := 115) rfl ?_
                refine zt_iconst (pc := 149) dX5_nameNow_149 (v := 0) rfl ?_
                refine zt_iconst (pc := 150) dX5_nameNow_150 (v := 0) rfl ?_
                refine wt_callV (pc := 151) mX5_goesOn 3 5 (rc' := 0) (rs' := 0) dX5_nameNow_151 q1454 mi_X5_goesOn rfl rfl (ms_o hM) (tm_goesOn hM T n hn h20 h301 q h22 (by omega) 115 0 0) rfl rfl rfl rfl rfl rfl ?_
                refine zt_if_eq (pc := 154) 160 dX5_nameNow_154 (by decide) (fun c_154 => ?_) (fun c_154 => ?_)
                · refine zt_aload_n (pc := 160) dX5_nameNow_160 rfl rfl ?_
                  refine zt_bipush (pc := 161) dX5_nameNow_161 (v := 6) rfl ?_
                  refine zt_bipush (pc := 163) dX5_nameNow_163 (v := 117) rfl ?_
                  refine zt_bipush (pc := 165) dX5_nameNow_165 (v := 110) rfl ?_
                  refine zt_bipush (pc := 167) dX5_nameNow_167 (v := 108) rfl ?_
                  refine zt_bipush (pc := 169) dX5_nameNow_169 (v := 105) rfl ?_
                  refine wt_callV (pc := 171) mX5_is 5 5 (rc' := 0) (rs' := 0) dX5_nameNow_171 q1450 mi_X5_is rfl rfl (ms_o hM) (tm_is hM T n hn h20 h301 q r h22 h21 hqr hr 6 117 110 108 105) rfl rfl rfl rfl rfl rfl ?_
                  refine zt_if_eq (pc := 174) 192 dX5_nameNow_174 (by decide) (fun c_174 => ?_) (fun c_174 => ?_)
                  · refine zt_aload_n (pc := 192) dX5_nameNow_192 rfl rfl ?_
                    refine zt_bipush (pc := 193) dX5_nameNow_193 (v := 6) rfl ?_
                    refine zt_bipush (pc := 195) dX5_nameNow_195 (v := 99) rfl ?_
                    refine zt_bipush (pc := 197) dX5_nameNow_197 (v := 104) rfl ?_
                    refine zt_bipush (pc := 199) dX5_nameNow_199 (v := 97) rfl ?_
                    refine zt_bipush (pc := 201) dX5_nameNow_201 (v := 110) rfl ?_
                    refine wt_callV (pc := 203) mX5_is 5 5 (rc' := 0) (rs' := 0) dX5_nameNow_203 q1450 mi_X5_is rfl rfl (ms_o hM) (tm_is hM T n hn h20 h301 q r h22 h21 hqr hr 6 99 104 97 110) rfl rfl rfl rfl rfl rfl ?_
                    refine zt_if_eq (pc := 206) 226 dX5_nameNow_206 (by decide) (fun c_206 => ?_) (fun c_206 => ?_)
                    · refine zt_bipush (pc := 226) dX5_nameNow_226 (v := (-4)) rfl ?_
                      exact zt_ireturn (pc := 228) dX5_nameNow_228 rfl (⟨congrArg some (congrArg Value.int (((if_neg (fun z => z c_6)).trans ((if_neg (fun z => bI_eq0.mp c_27 z.1)).trans ((if_neg (fun z => bI_eq0.mp c_57 z.1)).trans ((if_neg (bI_eq0.mp c_87)).trans ((if_neg (bI_eq0.mp c_105)).trans ((if_neg (bI_eq0.mp c_124)).trans ((if_neg (fun z => bI_eq0.mp c_154 z.2)).trans ((if_neg (fun z => bI_eq0.mp c_174 z.1)).trans (if_neg (fun z => bI_eq0.mp c_206 z.1)))))))))).symm)), rfl⟩)
                    · refine zt_aload_n (pc := 209) dX5_nameNow_209 rfl rfl ?_
                      refine zt_bipush (pc := 210) dX5_nameNow_210 (v := 99) rfl ?_
                      refine zt_bipush (pc := 212) dX5_nameNow_212 (v := 101) rfl ?_
                      refine zt_iconst (pc := 214) dX5_nameNow_214 (v := 0) rfl ?_
                      refine wt_callV (pc := 215) mX5_goesOn 3 5 (rc' := 0) (rs' := 0) dX5_nameNow_215 q1454 mi_X5_goesOn rfl rfl (ms_o hM) (tm_goesOn hM T n hn h20 h301 q h22 (by omega) 99 101 0) rfl rfl rfl rfl rfl rfl ?_
                      refine zt_if_eq (pc := 218) 226 dX5_nameNow_218 (by decide) (fun c_218 => ?_) (fun c_218 => ?_)
                      · refine zt_bipush (pc := 226) dX5_nameNow_226 (v := (-4)) rfl ?_
                        exact zt_ireturn (pc := 228) dX5_nameNow_228 rfl (⟨congrArg some (congrArg Value.int (((if_neg (fun z => z c_6)).trans ((if_neg (fun z => bI_eq0.mp c_27 z.1)).trans ((if_neg (fun z => bI_eq0.mp c_57 z.1)).trans ((if_neg (bI_eq0.mp c_87)).trans ((if_neg (bI_eq0.mp c_105)).trans ((if_neg (bI_eq0.mp c_124)).trans ((if_neg (fun z => bI_eq0.mp c_154 z.2)).trans ((if_neg (fun z => bI_eq0.mp c_174 z.1)).trans (if_neg (fun z => bI_eq0.mp c_218 z.2)))))))))).symm)), rfl⟩)
                      · refine zt_bipush (pc := 221) dX5_nameNow_221 (v := 17) rfl ?_
                        refine zt_goto (pc := 223) 228 dX5_nameNow_223 (by decide) ?_
                        exact zt_ireturn (pc := 228) dX5_nameNow_228 rfl (⟨congrArg some (congrArg Value.int (((if_neg (fun z => z c_6)).trans ((if_neg (fun z => bI_eq0.mp c_27 z.1)).trans ((if_neg (fun z => bI_eq0.mp c_57 z.1)).trans ((if_neg (bI_eq0.mp c_87)).trans ((if_neg (bI_eq0.mp c_105)).trans ((if_neg (bI_eq0.mp c_124)).trans ((if_neg (fun z => bI_eq0.mp c_154 z.2)).trans ((if_neg (fun z => bI_eq0.mp c_174 z.1)).trans (if_pos ⟨bI_ne0 c_206, bI_ne0 c_218⟩))))))))).symm)), rfl⟩)
                  · refine zt_aload_n (pc := 177) dX5_nameNow_177 rfl rfl ?_
                    refine zt_bipush (pc := 178) dX5_nameNow_178 (v := 107) rfl ?_
                    refine zt_bipush (pc := 180) dX5_nameNow_180 (v := 101) rfl ?_
                    refine zt_iconst (pc := 182) dX5_nameNow_182 (v := 0) rfl ?_
                    refine wt_callV (pc := 183) mX5_goesOn 3 5 (rc' := 0) (rs' := 0) dX5_nameNow_183 q1454 mi_X5_goesOn rfl rfl (ms_o hM) (tm_goesOn hM T n hn h20 h301 q h22 (by omega) 107 101 0) rfl rfl rfl rfl rfl rfl ?_
                    refine zt_if_eq (pc := 186) 192 dX5_nameNow_186 (by decide) (fun c_186 => ?_) (fun c_186 => ?_)
                    · refine zt_aload_n (pc := 192) dX5_nameNow_192 rfl rfl ?_
                      refine zt_bipush (pc := 193) dX5_nameNow_193 (v := 6) rfl ?_
                      refine zt_bipush (pc := 195) dX5_nameNow_195 (v := 99) rfl ?_
                      refine zt_bipush (pc := 197) dX5_nameNow_197 (v := 104) rfl ?_
                      refine zt_bipush (pc := 199) dX5_nameNow_199 (v := 97) rfl ?_
                      refine zt_bipush (pc := 201) dX5_nameNow_201 (v := 110) rfl ?_
                      refine wt_callV (pc := 203) mX5_is 5 5 (rc' := 0) (rs' := 0) dX5_nameNow_203 q1450 mi_X5_is rfl rfl (ms_o hM) (tm_is hM T n hn h20 h301 q r h22 h21 hqr hr 6 99 104 97 110) rfl rfl rfl rfl rfl rfl ?_
                      refine zt_if_eq (pc := 206) 226 dX5_nameNow_206 (by decide) (fun c_206 => ?_) (fun c_206 => ?_)
                      · refine zt_bipush (pc := 226) dX5_nameNow_226 (v := (-4)) rfl ?_
                        exact zt_ireturn (pc := 228) dX5_nameNow_228 rfl (⟨congrArg some (congrArg Value.int (((if_neg (fun z => z c_6)).trans ((if_neg (fun z => bI_eq0.mp c_27 z.1)).trans ((if_neg (fun z => bI_eq0.mp c_57 z.1)).trans ((if_neg (bI_eq0.mp c_87)).trans ((if_neg (bI_eq0.mp c_105)).trans ((if_neg (bI_eq0.mp c_124)).trans ((if_neg (fun z => bI_eq0.mp c_154 z.2)).trans ((if_neg (fun z => bI_eq0.mp c_186 z.2)).trans (if_neg (fun z => bI_eq0.mp c_206 z.1)))))))))).symm)), rfl⟩)
                      · refine zt_aload_n (pc := 209) dX5_nameNow_209 rfl rfl ?_
                        refine zt_bipush (pc := 210) dX5_nameNow_210 (v := 99) rfl ?_
                        refine zt_bipush (pc := 212) dX5_nameNow_212 (v := 101) rfl ?_
                        refine zt_iconst (pc := 214) dX5_nameNow_214 (v := 0) rfl ?_
                        refine wt_callV (pc := 215) mX5_goesOn 3 5 (rc' := 0) (rs' := 0) dX5_nameNow_215 q1454 mi_X5_goesOn rfl rfl (ms_o hM) (tm_goesOn hM T n hn h20 h301 q h22 (by omega) 99 101 0) rfl rfl rfl rfl rfl rfl ?_
                        refine zt_if_eq (pc := 218) 226 dX5_nameNow_218 (by decide) (fun c_218 => ?_) (fun c_218 => ?_)
                        · refine zt_bipush (pc := 226) dX5_nameNow_226 (v := (-4)) rfl ?_
                          exact zt_ireturn (pc := 228) dX5_nameNow_228 rfl (⟨congrArg some (congrArg Value.int (((if_neg (fun z => z c_6)).trans ((if_neg (fun z => bI_eq0.mp c_27 z.1)).trans ((if_neg (fun z => bI_eq0.mp c_57 z.1)).trans ((if_neg (bI_eq0.mp c_87)).trans ((if_neg (bI_eq0.mp c_105)).trans ((if_neg (bI_eq0.mp c_124)).trans ((if_neg (fun z => bI_eq0.mp c_154 z.2)).trans ((if_neg (fun z => bI_eq0.mp c_186 z.2)).trans (if_neg (fun z => bI_eq0.mp c_218 z.2)))))))))).symm)), rfl⟩)
                        · refine zt_bipush (pc := 221) dX5_nameNow_221 (v := 17) rfl ?_
                          refine zt_goto (pc := 223) 228 dX5_nameNow_223 (by decide) ?_
                          exact zt_ireturn (pc := 228) dX5_nameNow_228 rfl (⟨congrArg some (congrArg Value.int (((if_neg (fun z => z c_6)).trans ((if_neg (fun z => bI_eq0.mp c_27 z.1)).trans ((if_neg (fun z => bI_eq0.mp c_57 z.1)).trans ((if_neg (bI_eq0.mp c_87)).trans ((if_neg (bI_eq0.mp c_105)).trans ((if_neg (bI_eq0.mp c_124)).trans ((if_neg (fun z => bI_eq0.mp c_154 z.2)).trans ((if_neg (fun z => bI_eq0.mp c_186 z.2)).trans (if_pos ⟨bI_ne0 c_206, bI_ne0 c_218⟩))))))))).symm)), rfl⟩)
                    · refine zt_bipush (pc := 189) dX5_nameNow_189 (v := 16) rfl ?_
                      exact zt_ireturn (pc := 191) dX5_nameNow_191 rfl (⟨congrArg some (congrArg Value.int (((if_neg (fun z => z c_6)).trans ((if_neg (fun z => bI_eq0.mp c_27 z.1)).trans ((if_neg (fun z => bI_eq0.mp c_57 z.1)).trans ((if_neg (bI_eq0.mp c_87)).trans ((if_neg (bI_eq0.mp c_105)).trans ((if_neg (bI_eq0.mp c_124)).trans ((if_neg (fun z => bI_eq0.mp c_154 z.2)).trans (if_pos ⟨bI_ne0 c_174, bI_ne0 c_186⟩)))))))).symm)), rfl⟩)
                · refine zt_bipush (pc := 157) dX5_nameNow_157 (v := 15) rfl ?_
                  exact zt_ireturn (pc := 159) dX5_nameNow_159 rfl (⟨congrArg some (congrArg Value.int (((if_neg (fun z => z c_6)).trans ((if_neg (fun z => bI_eq0.mp c_27 z.1)).trans ((if_neg (fun z => bI_eq0.mp c_57 z.1)).trans ((if_neg (bI_eq0.mp c_87)).trans ((if_neg (bI_eq0.mp c_105)).trans ((if_neg (bI_eq0.mp c_124)).trans (if_pos ⟨bI_ne0 c_143, bI_ne0 c_154⟩))))))).symm)), rfl⟩)
            · refine zt_bipush (pc := 127) dX5_nameNow_127 (v := 14) rfl ?_
              exact zt_ireturn (pc := 129) dX5_nameNow_129 rfl (⟨congrArg some (congrArg Value.int (((if_neg (fun z => z c_6)).trans ((if_neg (fun z => bI_eq0.mp c_27 z.1)).trans ((if_neg (fun z => bI_eq0.mp c_57 z.1)).trans ((if_neg (bI_eq0.mp c_87)).trans ((if_neg (bI_eq0.mp c_105)).trans (if_pos (bI_ne0 c_124))))))).symm)), rfl⟩)
          · refine zt_bipush (pc := 108) dX5_nameNow_108 (v := 13) rfl ?_
            exact zt_ireturn (pc := 110) dX5_nameNow_110 rfl (⟨congrArg some (congrArg Value.int (((if_neg (fun z => z c_6)).trans ((if_neg (fun z => bI_eq0.mp c_27 z.1)).trans ((if_neg (fun z => bI_eq0.mp c_57 z.1)).trans ((if_neg (bI_eq0.mp c_87)).trans (if_pos (bI_ne0 c_105)))))).symm)), rfl⟩)
        · refine zt_bipush (pc := 90) dX5_nameNow_90 (v := 12) rfl ?_
          exact zt_ireturn (pc := 92) dX5_nameNow_92 rfl (⟨congrArg some (congrArg Value.int (((if_neg (fun z => z c_6)).trans ((if_neg (fun z => bI_eq0.mp c_27 z.1)).trans ((if_neg (fun z => bI_eq0.mp c_57 z.1)).trans (if_pos (bI_ne0 c_87))))).symm)), rfl⟩)
      · refine zt_aload_n (pc := 60) dX5_nameNow_60 rfl rfl ?_
        refine zt_bipush (pc := 61) dX5_nameNow_61 (v := 115) rfl ?_
        refine zt_iconst (pc := 63) dX5_nameNow_63 (v := 0) rfl ?_
        refine zt_iconst (pc := 64) dX5_nameNow_64 (v := 0) rfl ?_
        refine wt_callV (pc := 65) mX5_goesOn 3 5 (rc' := 0) (rs' := 0) dX5_nameNow_65 q1454 mi_X5_goesOn rfl rfl (ms_o hM) (tm_goesOn hM T n hn h20 h301 q h22 (by omega) 115 0 0) rfl rfl rfl rfl rfl rfl ?_
        refine zt_if_eq (pc := 68) 74 dX5_nameNow_68 (by decide) (fun c_68 => ?_) (fun c_68 => ?_)
        · refine zt_aload_n (pc := 74) dX5_nameNow_74 rfl rfl ?_
          refine zt_iconst (pc := 75) dX5_nameNow_75 (v := 4) rfl ?_
          refine zt_bipush (pc := 76) dX5_nameNow_76 (v := 119) rfl ?_
          refine zt_bipush (pc := 78) dX5_nameNow_78 (v := 111) rfl ?_
          refine zt_bipush (pc := 80) dX5_nameNow_80 (v := 114) rfl ?_
          refine zt_bipush (pc := 82) dX5_nameNow_82 (v := 100) rfl ?_
          refine wt_callV (pc := 84) mX5_is 5 5 (rc' := 0) (rs' := 0) dX5_nameNow_84 q1450 mi_X5_is rfl rfl (ms_o hM) (tm_is hM T n hn h20 h301 q r h22 h21 hqr hr 4 119 111 114 100) rfl rfl rfl rfl rfl rfl ?_
          refine zt_if_eq (pc := 87) 93 dX5_nameNow_87 (by decide) (fun c_87 => ?_) (fun c_87 => ?_)
          · refine zt_aload_n (pc := 93) dX5_nameNow_93 rfl rfl ?_
            refine zt_iconst (pc := 94) dX5_nameNow_94 (v := 3) rfl ?_
            refine zt_bipush (pc := 95) dX5_nameNow_95 (v := 110) rfl ?_
            refine zt_bipush (pc := 97) dX5_nameNow_97 (v := 111) rfl ?_
            refine zt_bipush (pc := 99) dX5_nameNow_99 (v := 116) rfl ?_
            refine zt_iconst (pc := 101) dX5_nameNow_101 (v := 0) rfl ?_
            refine wt_callV (pc := 102) mX5_is 5 5 (rc' := 0) (rs' := 0) dX5_nameNow_102 q1450 mi_X5_is rfl rfl (ms_o hM) (tm_is hM T n hn h20 h301 q r h22 h21 hqr hr 3 110 111 116 0) rfl rfl rfl rfl rfl rfl ?_
            refine zt_if_eq (pc := 105) 111 dX5_nameNow_105 (by decide) (fun c_105 => ?_) (fun c_105 => ?_)
            · refine zt_aload_n (pc := 111) dX5_nameNow_111 rfl rfl ?_
              refine zt_iconst (pc := 112) dX5_nameNow_112 (v := 4) rfl ?_
              refine zt_bipush (pc := 113) dX5_nameNow_113 (v := 115) rfl ?_
              refine zt_bipush (pc := 115) dX5_nameNow_115 (v := 101) rfl ?_
              refine zt_bipush (pc := 117) dX5_nameNow_117 (v := 101) rfl ?_
              refine zt_bipush (pc := 119) dX5_nameNow_119 (v := 115) rfl ?_
              refine wt_callV (pc := 121) mX5_is 5 5 (rc' := 0) (rs' := 0) dX5_nameNow_121 q1450 mi_X5_is rfl rfl (ms_o hM) (tm_is hM T n hn h20 h301 q r h22 h21 hqr hr 4 115 101 101 115) rfl rfl rfl rfl rfl rfl ?_
              refine zt_if_eq (pc := 124) 130 dX5_nameNow_124 (by decide) (fun c_124 => ?_) (fun c_124 => ?_)
              · refine zt_aload_n (pc := 130) dX5_nameNow_130 rfl rfl ?_
                refine zt_iconst (pc := 131) dX5_nameNow_131 (v := 5) rfl ?_
                refine zt_bipush (pc := 132) dX5_nameNow_132 (v := 102) rfl ?_
                refine zt_bipush (pc := 134) dX5_nameNow_134 (v := 101) rfl ?_
                refine zt_bipush (pc := 136) dX5_nameNow_136 (v := 97) rfl ?_
                refine zt_bipush (pc := 138) dX5_nameNow_138 (v := 114) rfl ?_
                refine wt_callV (pc := 140) mX5_is 5 5 (rc' := 0) (rs' := 0) dX5_nameNow_140 q1450 mi_X5_is rfl rfl (ms_o hM) (tm_is hM T n hn h20 h301 q r h22 h21 hqr hr 5 102 101 97 114) rfl rfl rfl rfl rfl rfl ?_
                refine zt_if_eq (pc := 143) 160 dX5_nameNow_143 (by decide) (fun c_143 => ?_) (fun c_143 => ?_)
                · refine zt_aload_n (pc := 160) dX5_nameNow_160 rfl rfl ?_
                  refine zt_bipush (pc := 161) dX5_nameNow_161 (v := 6) rfl ?_
                  refine zt_bipush (pc := 163) dX5_nameNow_163 (v := 117) rfl ?_
                  refine zt_bipush (pc := 165) dX5_nameNow_165 (v := 110) rfl ?_
                  refine zt_bipush (pc := 167) dX5_nameNow_167 (v := 108) rfl ?_
                  refine zt_bipush (pc := 169) dX5_nameNow_169 (v := 105) rfl ?_
                  refine wt_callV (pc := 171) mX5_is 5 5 (rc' := 0) (rs' := 0) dX5_nameNow_171 q1450 mi_X5_is rfl rfl (ms_o hM) (tm_is hM T n hn h20 h301 q r h22 h21 hqr hr 6 117 110 108 105) rfl rfl rfl rfl rfl rfl ?_
                  refine zt_if_eq (pc := 174) 192 dX5_nameNow_174 (by decide) (fun c_174 => ?_) (fun c_174 => ?_)
                  · refine zt_aload_n (pc := 192) dX5_nameNow_192 rfl rfl ?_
                    refine zt_bipush (pc := 193) dX5_nameNow_193 (v := 6) rfl ?_
                    refine zt_bipush (pc := 195) dX5_nameNow_195 (v := 99) rfl ?_
                    refine zt_bipush (pc := 197) dX5_nameNow_197 (v := 104) rfl ?_
                    refine zt_bipush (pc := 199) dX5_nameNow_199 (v := 97) rfl ?_
                    refine zt_bipush (pc := 201) dX5_nameNow_201 (v := 110) rfl ?_
                    refine wt_callV (pc := 203) mX5_is 5 5 (rc' := 0) (rs' := 0) dX5_nameNow_203 q1450 mi_X5_is rfl rfl (ms_o hM) (tm_is hM T n hn h20 h301 q r h22 h21 hqr hr 6 99 104 97 110) rfl rfl rfl rfl rfl rfl ?_
                    refine zt_if_eq (pc := 206) 226 dX5_nameNow_206 (by decide) (fun c_206 => ?_) (fun c_206 => ?_)
                    · refine zt_bipush (pc := 226) dX5_nameNow_226 (v := (-4)) rfl ?_
                      exact zt_ireturn (pc := 228) dX5_nameNow_228 rfl (⟨congrArg some (congrArg Value.int (((if_neg (fun z => z c_6)).trans ((if_neg (fun z => bI_eq0.mp c_27 z.1)).trans ((if_neg (fun z => bI_eq0.mp c_68 z.2)).trans ((if_neg (bI_eq0.mp c_87)).trans ((if_neg (bI_eq0.mp c_105)).trans ((if_neg (bI_eq0.mp c_124)).trans ((if_neg (fun z => bI_eq0.mp c_143 z.1)).trans ((if_neg (fun z => bI_eq0.mp c_174 z.1)).trans (if_neg (fun z => bI_eq0.mp c_206 z.1)))))))))).symm)), rfl⟩)
                    · refine zt_aload_n (pc := 209) dX5_nameNow_209 rfl rfl ?_
                      refine zt_bipush (pc := 210) dX5_nameNow_210 (v := 99) rfl ?_
                      refine zt_bipush (pc := 212) dX5_nameNow_212 (v := 101) rfl ?_
                      refine zt_iconst (pc := 214) dX5_nameNow_214 (v := 0) rfl ?_
                      refine wt_callV (pc := 215) mX5_goesOn 3 5 (rc' := 0) (rs' := 0) dX5_nameNow_215 q1454 mi_X5_goesOn rfl rfl (ms_o hM) (tm_goesOn hM T n hn h20 h301 q h22 (by omega) 99 101 0) rfl rfl rfl rfl rfl rfl ?_
                      refine zt_if_eq (pc := 218) 226 dX5_nameNow_218 (by decide) (fun c_218 => ?_) (fun c_218 => ?_)
                      · refine zt_bipush (pc := 226) dX5_nameNow_226 (v := (-4)) rfl ?_
                        exact zt_ireturn (pc := 228) dX5_nameNow_228 rfl (⟨congrArg some (congrArg Value.int (((if_neg (fun z => z c_6)).trans ((if_neg (fun z => bI_eq0.mp c_27 z.1)).trans ((if_neg (fun z => bI_eq0.mp c_68 z.2)).trans ((if_neg (bI_eq0.mp c_87)).trans ((if_neg (bI_eq0.mp c_105)).trans ((if_neg (bI_eq0.mp c_124)).trans ((if_neg (fun z => bI_eq0.mp c_143 z.1)).trans ((if_neg (fun z => bI_eq0.mp c_174 z.1)).trans (if_neg (fun z => bI_eq0.mp c_218 z.2)))))))))).symm)), rfl⟩)
                      · refine zt_bipush (pc := 221) dX5_nameNow_221 (v := 17) rfl ?_
                        refine zt_goto (pc := 223) 228 dX5_nameNow_223 (by decide) ?_
                        exact zt_ireturn (pc := 228) dX5_nameNow_228 rfl (⟨congrArg some (congrArg Value.int (((if_neg (fun z => z c_6)).trans ((if_neg (fun z => bI_eq0.mp c_27 z.1)).trans ((if_neg (fun z => bI_eq0.mp c_68 z.2)).trans ((if_neg (bI_eq0.mp c_87)).trans ((if_neg (bI_eq0.mp c_105)).trans ((if_neg (bI_eq0.mp c_124)).trans ((if_neg (fun z => bI_eq0.mp c_143 z.1)).trans ((if_neg (fun z => bI_eq0.mp c_174 z.1)).trans (if_pos ⟨bI_ne0 c_206, bI_ne0 c_218⟩))))))))).symm)), rfl⟩)
                  · refine zt_aload_n (pc := 177) dX5_nameNow_177 rfl rfl ?_
                    refine zt_bipush (pc := 178) dX5_nameNow_178 (v := 107) rfl ?_
                    refine zt_bipush (pc := 180) dX5_nameNow_180 (v := 101) rfl ?_
                    refine zt_iconst (pc := 182) dX5_nameNow_182 (v := 0) rfl ?_
                    refine wt_callV (pc := 183) mX5_goesOn 3 5 (rc' := 0) (rs' := 0) dX5_nameNow_183 q1454 mi_X5_goesOn rfl rfl (ms_o hM) (tm_goesOn hM T n hn h20 h301 q h22 (by omega) 107 101 0) rfl rfl rfl rfl rfl rfl ?_
                    refine zt_if_eq (pc := 186) 192 dX5_nameNow_186 (by decide) (fun c_186 => ?_) (fun c_186 => ?_)
                    · refine zt_aload_n (pc := 192) dX5_nameNow_192 rfl rfl ?_
                      refine zt_bipush (pc := 193) dX5_nameNow_193 (v := 6) rfl ?_
                      refine zt_bipush (pc := 195) dX5_nameNow_195 (v := 99) rfl ?_
                      refine zt_bipush (pc := 197) dX5_nameNow_197 (v := 104) rfl ?_
                      refine zt_bipush (pc := 199) dX5_nameNow_199 (v := 97) rfl ?_
                      refine zt_bipush (pc := 201) dX5_nameNow_201 (v := 110) rfl ?_
                      refine wt_callV (pc := 203) mX5_is 5 5 (rc' := 0) (rs' := 0) dX5_nameNow_203 q1450 mi_X5_is rfl rfl (ms_o hM) (tm_is hM T n hn h20 h301 q r h22 h21 hqr hr 6 99 104 97 110) rfl rfl rfl rfl rfl rfl ?_
                      refine zt_if_eq (pc := 206) 226 dX5_nameNow_206 (by decide) (fun c_206 => ?_) (fun c_206 => ?_)
                      · refine zt_bipush (pc := 226) dX5_nameNow_226 (v := (-4)) rfl ?_
                        exact zt_ireturn (pc := 228) dX5_nameNow_228 rfl (⟨congrArg some (congrArg Value.int (((if_neg (fun z => z c_6)).trans ((if_neg (fun z => bI_eq0.mp c_27 z.1)).trans ((if_neg (fun z => bI_eq0.mp c_68 z.2)).trans ((if_neg (bI_eq0.mp c_87)).trans ((if_neg (bI_eq0.mp c_105)).trans ((if_neg (bI_eq0.mp c_124)).trans ((if_neg (fun z => bI_eq0.mp c_143 z.1)).trans ((if_neg (fun z => bI_eq0.mp c_186 z.2)).trans (if_neg (fun z => bI_eq0.mp c_206 z.1)))))))))).symm)), rfl⟩)
                      · refine zt_aload_n (pc := 209) dX5_nameNow_209 rfl rfl ?_
                        refine zt_bipush (pc := 210) dX5_nameNow_210 (v := 99) rfl ?_
                        refine zt_bipush (pc := 212) dX5_nameNow_212 (v := 101) rfl ?_
                        refine zt_iconst (pc := 214) dX5_nameNow_214 (v := 0) rfl ?_
                        refine wt_callV (pc := 215) mX5_goesOn 3 5 (rc' := 0) (rs' := 0) dX5_nameNow_215 q1454 mi_X5_goesOn rfl rfl (ms_o hM) (tm_goesOn hM T n hn h20 h301 q h22 (by omega) 99 101 0) rfl rfl rfl rfl rfl rfl ?_
                        refine zt_if_eq (pc := 218) 226 dX5_nameNow_218 (by decide) (fun c_218 => ?_) (fun c_218 => ?_)
                        · refine zt_bipush (pc := 226) dX5_nameNow_226 (v := (-4)) rfl ?_
                          exact zt_ireturn (pc := 228) dX5_nameNow_228 rfl (⟨congrArg some (congrArg Value.int (((if_neg (fun z => z c_6)).trans ((if_neg (fun z => bI_eq0.mp c_27 z.1)).trans ((if_neg (fun z => bI_eq0.mp c_68 z.2)).trans ((if_neg (bI_eq0.mp c_87)).trans ((if_neg (bI_eq0.mp c_105)).trans ((if_neg (bI_eq0.mp c_124)).trans ((if_neg (fun z => bI_eq0.mp c_143 z.1)).trans ((if_neg (fun z => bI_eq0.mp c_186 z.2)).trans (if_neg (fun z => bI_eq0.mp c_218 z.2)))))))))).symm)), rfl⟩)
                        · refine zt_bipush (pc := 221) dX5_nameNow_221 (v := 17) rfl ?_
                          refine zt_goto (pc := 223) 228 dX5_nameNow_223 (by decide) ?_
                          exact zt_ireturn (pc := 228) dX5_nameNow_228 rfl (⟨congrArg some (congrArg Value.int (((if_neg (fun z => z c_6)).trans ((if_neg (fun z => bI_eq0.mp c_27 z.1)).trans ((if_neg (fun z => bI_eq0.mp c_68 z.2)).trans ((if_neg (bI_eq0.mp c_87)).trans ((if_neg (bI_eq0.mp c_105)).trans ((if_neg (bI_eq0.mp c_124)).trans ((if_neg (fun z => bI_eq0.mp c_143 z.1)).trans ((if_neg (fun z => bI_eq0.mp c_186 z.2)).trans (if_pos ⟨bI_ne0 c_206, bI_ne0 c_218⟩))))))))).symm)), rfl⟩)
                    · refine zt_bipush (pc := 189) dX5_nameNow_189 (v := 16) rfl ?_
                      exact zt_ireturn (pc := 191) dX5_nameNow_191 rfl (⟨congrArg some (congrArg Value.int (((if_neg (fun z => z c_6)).trans ((if_neg (fun z => bI_eq0.mp c_27 z.1)).trans ((if_neg (fun z => bI_eq0.mp c_68 z.2)).trans ((if_neg (bI_eq0.mp c_87)).trans ((if_neg (bI_eq0.mp c_105)).trans ((if_neg (bI_eq0.mp c_124)).trans ((if_neg (fun z => bI_eq0.mp c_143 z.1)).trans (if_pos ⟨bI_ne0 c_174, bI_ne0 c_186⟩)))))))).symm)), rfl⟩)
                · refine zt_aload_n (pc := 146) dX5_nameNow_146 rfl rfl ?_
                  refine zt_bipush (pc := 147) dX5_nameNow_147 (v := 115) rfl ?_
                  refine zt_iconst (pc := 149) dX5_nameNow_149 (v := 0) rfl ?_
                  refine zt_iconst (pc := 150) dX5_nameNow_150 (v := 0) rfl ?_
                  refine wt_callV (pc := 151) mX5_goesOn 3 5 (rc' := 0) (rs' := 0) dX5_nameNow_151 q1454 mi_X5_goesOn rfl rfl (ms_o hM) (tm_goesOn hM T n hn h20 h301 q h22 (by omega) 115 0 0) rfl rfl rfl rfl rfl rfl ?_
                  refine zt_if_eq (pc := 154) 160 dX5_nameNow_154 (by decide) (fun c_154 => ?_) (fun c_154 => ?_)
                  · refine zt_aload_n (pc := 160) dX5_nameNow_160 rfl rfl ?_
                    refine zt_bipush (pc := 161) dX5_nameNow_161 (v := 6) rfl ?_
                    refine zt_bipush (pc := 163) dX5_nameNow_163 (v := 117) rfl ?_
                    refine zt_bipush (pc := 165) dX5_nameNow_165 (v := 110) rfl ?_
                    refine zt_bipush (pc := 167) dX5_nameNow_167 (v := 108) rfl ?_
                    refine zt_bipush (pc := 169) dX5_nameNow_169 (v := 105) rfl ?_
                    refine wt_callV (pc := 171) mX5_is 5 5 (rc' := 0) (rs' := 0) dX5_nameNow_171 q1450 mi_X5_is rfl rfl (ms_o hM) (tm_is hM T n hn h20 h301 q r h22 h21 hqr hr 6 117 110 108 105) rfl rfl rfl rfl rfl rfl ?_
                    refine zt_if_eq (pc := 174) 192 dX5_nameNow_174 (by decide) (fun c_174 => ?_) (fun c_174 => ?_)
                    · refine zt_aload_n (pc := 192) dX5_nameNow_192 rfl rfl ?_
                      refine zt_bipush (pc := 193) dX5_nameNow_193 (v := 6) rfl ?_
                      refine zt_bipush (pc := 195) dX5_nameNow_195 (v := 99) rfl ?_
                      refine zt_bipush (pc := 197) dX5_nameNow_197 (v := 104) rfl ?_
                      refine zt_bipush (pc := 199) dX5_nameNow_199 (v := 97) rfl ?_
                      refine zt_bipush (pc := 201) dX5_nameNow_201 (v := 110) rfl ?_
                      refine wt_callV (pc := 203) mX5_is 5 5 (rc' := 0) (rs' := 0) dX5_nameNow_203 q1450 mi_X5_is rfl rfl (ms_o hM) (tm_is hM T n hn h20 h301 q r h22 h21 hqr hr 6 99 104 97 110) rfl rfl rfl rfl rfl rfl ?_
                      refine zt_if_eq (pc := 206) 226 dX5_nameNow_206 (by decide) (fun c_206 => ?_) (fun c_206 => ?_)
                      · refine zt_bipush (pc := 226) dX5_nameNow_226 (v := (-4)) rfl ?_
                        exact zt_ireturn (pc := 228) dX5_nameNow_228 rfl (⟨congrArg some (congrArg Value.int (((if_neg (fun z => z c_6)).trans ((if_neg (fun z => bI_eq0.mp c_27 z.1)).trans ((if_neg (fun z => bI_eq0.mp c_68 z.2)).trans ((if_neg (bI_eq0.mp c_87)).trans ((if_neg (bI_eq0.mp c_105)).trans ((if_neg (bI_eq0.mp c_124)).trans ((if_neg (fun z => bI_eq0.mp c_154 z.2)).trans ((if_neg (fun z => bI_eq0.mp c_174 z.1)).trans (if_neg (fun z => bI_eq0.mp c_206 z.1)))))))))).symm)), rfl⟩)
                      · refine zt_aload_n (pc := 209) dX5_nameNow_209 rfl rfl ?_
                        refine zt_bipush (pc := 210) dX5_nameNow_210 (v := 99) rfl ?_
                        refine zt_bipush (pc := 212) dX5_nameNow_212 (v := 101) rfl ?_
                        refine zt_iconst (pc := 214) dX5_nameNow_214 (v := 0) rfl ?_
                        refine wt_callV (pc := 215) mX5_goesOn 3 5 (rc' := 0) (rs' := 0) dX5_nameNow_215 q1454 mi_X5_goesOn rfl rfl (ms_o hM) (tm_goesOn hM T n hn h20 h301 q h22 (by omega) 99 101 0) rfl rfl rfl rfl rfl rfl ?_
                        refine zt_if_eq (pc := 218) 226 dX5_nameNow_218 (by decide) (fun c_218 => ?_) (fun c_218 => ?_)
                        · refine zt_bipush (pc := 226) dX5_nameNow_226 (v := (-4)) rfl ?_
                          exact zt_ireturn (pc := 228) dX5_nameNow_228 rfl (⟨congrArg some (congrArg Value.int (((if_neg (fun z => z c_6)).trans ((if_neg (fun z => bI_eq0.mp c_27 z.1)).trans ((if_neg (fun z => bI_eq0.mp c_68 z.2)).trans ((if_neg (bI_eq0.mp c_87)).trans ((if_neg (bI_eq0.mp c_105)).trans ((if_neg (bI_eq0.mp c_124)).trans ((if_neg (fun z => bI_eq0.mp c_154 z.2)).trans ((if_neg (fun z => bI_eq0.mp c_174 z.1)).trans (if_neg (fun z => bI_eq0.mp c_218 z.2)))))))))).symm)), rfl⟩)
                        · refine zt_bipush (pc := 221) dX5_nameNow_221 (v := 17) rfl ?_
                          refine zt_goto (pc := 223) 228 dX5_nameNow_223 (by decide) ?_
                          exact zt_ireturn (pc := 228) dX5_nameNow_228 rfl (⟨congrArg some (congrArg Value.int (((if_neg (fun z => z c_6)).trans ((if_neg (fun z => bI_eq0.mp c_27 z.1)).trans ((if_neg (fun z => bI_eq0.mp c_68 z.2)).trans ((if_neg (bI_eq0.mp c_87)).trans ((if_neg (bI_eq0.mp c_105)).trans ((if_neg (bI_eq0.mp c_124)).trans ((if_neg (fun z => bI_eq0.mp c_154 z.2)).trans ((if_neg (fun z => bI_eq0.mp c_174 z.1)).trans (if_pos ⟨bI_ne0 c_206, bI_ne0 c_218⟩))))))))).symm)), rfl⟩)
                    · refine zt_aload_n (pc := 177) dX5_nameNow_177 rfl rfl ?_
                      refine zt_bipush (pc := 178) dX5_nameNow_178 (v := 107) rfl ?_
                      refine zt_bipush (pc := 180) dX5_nameNow_180 (v := 101) rfl ?_
                      refine zt_iconst (pc := 182) dX5_nameNow_182 (v := 0) rfl ?_
                      refine wt_callV (pc := 183) mX5_goesOn 3 5 (rc' := 0) (rs' := 0) dX5_nameNow_183 q1454 mi_X5_goesOn rfl rfl (ms_o hM) (tm_goesOn hM T n hn h20 h301 q h22 (by omega) 107 101 0) rfl rfl rfl rfl rfl rfl ?_
                      refine zt_if_eq (pc := 186) 192 dX5_nameNow_186 (by decide) (fun c_186 => ?_) (fun c_186 => ?_)
                      · refine zt_aload_n (pc := 192) dX5_nameNow_192 rfl rfl ?_
                        refine zt_bipush (pc := 193) dX5_nameNow_193 (v := 6) rfl ?_
                        refine zt_bipush (pc := 195) dX5_nameNow_195 (v := 99) rfl ?_
                        refine zt_bipush (pc := 197) dX5_nameNow_197 (v := 104) rfl ?_
                        refine zt_bipush (pc := 199) dX5_nameNow_199 (v := 97) rfl ?_
                        refine zt_bipush (pc := 201) dX5_nameNow_201 (v := 110) rfl ?_
                        refine wt_callV (pc := 203) mX5_is 5 5 (rc' := 0) (rs' := 0) dX5_nameNow_203 q1450 mi_X5_is rfl rfl (ms_o hM) (tm_is hM T n hn h20 h301 q r h22 h21 hqr hr 6 99 104 97 110) rfl rfl rfl rfl rfl rfl ?_
                        refine zt_if_eq (pc := 206) 226 dX5_nameNow_206 (by decide) (fun c_206 => ?_) (fun c_206 => ?_)
                        · refine zt_bipush (pc := 226) dX5_nameNow_226 (v := (-4)) rfl ?_
                          exact zt_ireturn (pc := 228) dX5_nameNow_228 rfl (⟨congrArg some (congrArg Value.int (((if_neg (fun z => z c_6)).trans ((if_neg (fun z => bI_eq0.mp c_27 z.1)).trans ((if_neg (fun z => bI_eq0.mp c_68 z.2)).trans ((if_neg (bI_eq0.mp c_87)).trans ((if_neg (bI_eq0.mp c_105)).trans ((if_neg (bI_eq0.mp c_124)).trans ((if_neg (fun z => bI_eq0.mp c_154 z.2)).trans ((if_neg (fun z => bI_eq0.mp c_186 z.2)).trans (if_neg (fun z => bI_eq0.mp c_206 z.1)))))))))).symm)), rfl⟩)
                        · refine zt_aload_n (pc := 209) dX5_nameNow_209 rfl rfl ?_
                          refine zt_bipush (pc := 210) dX5_nameNow_210 (v := 99) rfl ?_
                          refine zt_bipush (pc := 212) dX5_nameNow_212 (v := 101) rfl ?_
                          refine zt_iconst (pc := 214) dX5_nameNow_214 (v := 0) rfl ?_
                          refine wt_callV (pc := 215) mX5_goesOn 3 5 (rc' := 0) (rs' := 0) dX5_nameNow_215 q1454 mi_X5_goesOn rfl rfl (ms_o hM) (tm_goesOn hM T n hn h20 h301 q h22 (by omega) 99 101 0) rfl rfl rfl rfl rfl rfl ?_
                          refine zt_if_eq (pc := 218) 226 dX5_nameNow_218 (by decide) (fun c_218 => ?_) (fun c_218 => ?_)
                          · refine zt_bipush (pc := 226) dX5_nameNow_226 (v := (-4)) rfl ?_
                            exact zt_ireturn (pc := 228) dX5_nameNow_228 rfl (⟨congrArg some (congrArg Value.int (((if_neg (fun z => z c_6)).trans ((if_neg (fun z => bI_eq0.mp c_27 z.1)).trans ((if_neg (fun z => bI_eq0.mp c_68 z.2)).trans ((if_neg (bI_eq0.mp c_87)).trans ((if_neg (bI_eq0.mp c_105)).trans ((if_neg (bI_eq0.mp c_124)).trans ((if_neg (fun z => bI_eq0.mp c_154 z.2)).trans ((if_neg (fun z => bI_eq0.mp c_186 z.2)).trans (if_neg (fun z => bI_eq0.mp c_218 z.2)))))))))).symm)), rfl⟩)
                          · refine zt_bipush (pc := 221) dX5_nameNow_221 (v := 17) rfl ?_
                            refine zt_goto (pc := 223) 228 dX5_nameNow_223 (by decide) ?_
                            exact zt_ireturn (pc := 228) dX5_nameNow_228 rfl (⟨congrArg some (congrArg Value.int (((if_neg (fun z => z c_6)).trans ((if_neg (fun z => bI_eq0.mp c_27 z.1)).trans ((if_neg (fun z => bI_eq0.mp c_68 z.2)).trans ((if_neg (bI_eq0.mp c_87)).trans ((if_neg (bI_eq0.mp c_105)).trans ((if_neg (bI_eq0.mp c_124)).trans ((if_neg (fun z => bI_eq0.mp c_154 z.2)).trans ((if_neg (fun z => bI_eq0.mp c_186 z.2)).trans (if_pos ⟨bI_ne0 c_206, bI_ne0 c_218⟩))))))))).symm)), rfl⟩)
                      · refine zt_bipush (pc := 189) dX5_nameNow_189 (v := 16) rfl ?_
                        exact zt_ireturn (pc := 191) dX5_nameNow_191 rfl (⟨congrArg some (congrArg Value.int (((if_neg (fun z => z c_6)).trans ((if_neg (fun z => bI_eq0.mp c_27 z.1)).trans ((if_neg (fun z => bI_eq0.mp c_68 z.2)).trans ((if_neg (bI_eq0.mp c_87)).trans ((if_neg (bI_eq0.mp c_105)).trans ((if_neg (bI_eq0.mp c_124)).trans ((if_neg (fun z => bI_eq0.mp c_154 z.2)).trans (if_pos ⟨bI_ne0 c_174, bI_ne0 c_186⟩)))))))).symm)), rfl⟩)
                  · refine zt_bipush (pc := 157) dX5_nameNow_157 (v := 15) rfl ?_
                    exact zt_ireturn (pc := 159) dX5_nameNow_159 rfl (⟨congrArg some (congrArg Value.int (((if_neg (fun z => z c_6)).trans ((if_neg (fun z => bI_eq0.mp c_27 z.1)).trans ((if_neg (fun z => bI_eq0.mp c_68 z.2)).trans ((if_neg (bI_eq0.mp c_87)).trans ((if_neg (bI_eq0.mp c_105)).trans ((if_neg (bI_eq0.mp c_124)).trans (if_pos ⟨bI_ne0 c_143, bI_ne0 c_154⟩))))))).symm)), rfl⟩)
              · refine zt_bipush (pc := 127) dX5_nameNow_127 (v := 14) rfl ?_
                exact zt_ireturn (pc := 129) dX5_nameNow_129 rfl (⟨congrArg some (congrArg Value.int (((if_neg (fun z => z c_6)).trans ((if_neg (fun z => bI_eq0.mp c_27 z.1)).trans ((if_neg (fun z => bI_eq0.mp c_68 z.2)).trans ((if_neg (bI_eq0.mp c_87)).trans ((if_neg (bI_eq0.mp c_105)).trans (if_pos (bI_ne0 c_124))))))).symm)), rfl⟩)
            · refine zt_bipush (pc := 108) dX5_nameNow_108 (v := 13) rfl ?_
              exact zt_ireturn (pc := 110) dX5_nameNow_110 rfl (⟨congrArg some (congrArg Value.int (((if_neg (fun z => z c_6)).trans ((if_neg (fun z => bI_eq0.mp c_27 z.1)).trans ((if_neg (fun z => bI_eq0.mp c_68 z.2)).trans ((if_neg (bI_eq0.mp c_87)).trans (if_pos (bI_ne0 c_105)))))).symm)), rfl⟩)
          · refine zt_bipush (pc := 90) dX5_nameNow_90 (v := 12) rfl ?_
            exact zt_ireturn (pc := 92) dX5_nameNow_92 rfl (⟨congrArg some (congrArg Value.int (((if_neg (fun z => z c_6)).trans ((if_neg (fun z => bI_eq0.mp c_27 z.1)).trans ((if_neg (fun z => bI_eq0.mp c_68 z.2)).trans (if_pos (bI_ne0 c_87))))).symm)), rfl⟩)
        · refine zt_bipush (pc := 71) dX5_nameNow_71 (v := 11) rfl ?_
          exact zt_ireturn (pc := 73) dX5_nameNow_73 rfl (⟨congrArg some (congrArg Value.int (((if_neg (fun z => z c_6)).trans ((if_neg (fun z => bI_eq0.mp c_27 z.1)).trans (if_pos ⟨bI_ne0 c_57, bI_ne0 c_68⟩))).symm)), rfl⟩)
    · refine zt_aload_n (pc := 30) dX5_nameNow_30 rfl rfl ?_
      refine zt_bipush (pc := 31) dX5_nameNow_31 (v := 103) rfl ?_
      refine zt_iconst (pc := 33) dX5_nameNow_33 (v := 0) rfl ?_
      refine zt_iconst (pc := 34) dX5_nameNow_34 (v := 0) rfl ?_
      refine wt_callV (pc := 35) mX5_goesOn 3 5 (rc' := 0) (rs' := 0) dX5_nameNow_35 q1454 mi_X5_goesOn rfl rfl (ms_o hM) (tm_goesOn hM T n hn h20 h301 q h22 (by omega) 103 0 0) rfl rfl rfl rfl rfl rfl ?_
      refine zt_if_eq (pc := 38) 44 dX5_nameNow_38 (by decide) (fun c_38 => ?_) (fun c_38 => ?_)
      · refine zt_aload_n (pc := 44) dX5_nameNow_44 rfl rfl ?_
        refine zt_iconst (pc := 45) dX5_nameNow_45 (v := 5) rfl ?_
        refine zt_bipush (pc := 46) dX5_nameNow_46 (v := 109) rfl ?_
        refine zt_bipush (pc := 48) dX5_nameNow_48 (v := 101) rfl ?_
        refine zt_bipush (pc := 50) dX5_nameNow_50 (v := 97) rfl ?_
        refine zt_bipush (pc := 52) dX5_nameNow_52 (v := 110) rfl ?_
        refine wt_callV (pc := 54) mX5_is 5 5 (rc' := 0) (rs' := 0) dX5_nameNow_54 q1450 mi_X5_is rfl rfl (ms_o hM) (tm_is hM T n hn h20 h301 q r h22 h21 hqr hr 5 109 101 97 110) rfl rfl rfl rfl rfl rfl ?_
        refine zt_if_eq (pc := 57) 74 dX5_nameNow_57 (by decide) (fun c_57 => ?_) (fun c_57 => ?_)
        · refine zt_aload_n (pc := 74) dX5_nameNow_74 rfl rfl ?_
          refine zt_iconst (pc := 75) dX5_nameNow_75 (v := 4) rfl ?_
          refine zt_bipush (pc := 76) dX5_nameNow_76 (v := 119) rfl ?_
          refine zt_bipush (pc := 78) dX5_nameNow_78 (v := 111) rfl ?_
          refine zt_bipush (pc := 80) dX5_nameNow_80 (v := 114) rfl ?_
          refine zt_bipush (pc := 82) dX5_nameNow_82 (v := 100) rfl ?_
          refine wt_callV (pc := 84) mX5_is 5 5 (rc' := 0) (rs' := 0) dX5_nameNow_84 q1450 mi_X5_is rfl rfl (ms_o hM) (tm_is hM T n hn h20 h301 q r h22 h21 hqr hr 4 119 111 114 100) rfl rfl rfl rfl rfl rfl ?_
          refine zt_if_eq (pc := 87) 93 dX5_nameNow_87 (by decide) (fun c_87 => ?_) (fun c_87 => ?_)
          · refine zt_aload_n (pc := 93) dX5_nameNow_93 rfl rfl ?_
            refine zt_iconst (pc := 94) dX5_nameNow_94 (v := 3) rfl ?_
            refine zt_bipush (pc := 95) dX5_nameNow_95 (v := 110) rfl ?_
            refine zt_bipush (pc := 97) dX5_nameNow_97 (v := 111) rfl ?_
            refine zt_bipush (pc := 99) dX5_nameNow_99 (v := 116) rfl ?_
            refine zt_iconst (pc := 101) dX5_nameNow_101 (v := 0) rfl ?_
            refine wt_callV (pc := 102) mX5_is 5 5 (rc' := 0) (rs' := 0) dX5_nameNow_102 q1450 mi_X5_is rfl rfl (ms_o hM) (tm_is hM T n hn h20 h301 q r h22 h21 hqr hr 3 110 111 116 0) rfl rfl rfl rfl rfl rfl ?_
            refine zt_if_eq (pc := 105) 111 dX5_nameNow_105 (by decide) (fun c_105 => ?_) (fun c_105 => ?_)
            · refine zt_aload_n (pc := 111) dX5_nameNow_111 rfl rfl ?_
              refine zt_iconst (pc := 112) dX5_nameNow_112 (v := 4) rfl ?_
              refine zt_bipush (pc := 113) dX5_nameNow_113 (v := 115) rfl ?_
              refine zt_bipush (pc := 115) dX5_nameNow_115 (v := 101) rfl ?_
              refine zt_bipush (pc := 117) dX5_nameNow_117 (v := 101) rfl ?_
              refine zt_bipush (pc := 119) dX5_nameNow_119 (v := 115) rfl ?_
              refine wt_callV (pc := 121) mX5_is 5 5 (rc' := 0) (rs' := 0) dX5_nameNow_121 q1450 mi_X5_is rfl rfl (ms_o hM) (tm_is hM T n hn h20 h301 q r h22 h21 hqr hr 4 115 101 101 115) rfl rfl rfl rfl rfl rfl ?_
              refine zt_if_eq (pc := 124) 130 dX5_nameNow_124 (by decide) (fun c_124 => ?_) (fun c_124 => ?_)
              · refine zt_aload_n (pc := 130) dX5_nameNow_130 rfl rfl ?_
                refine zt_iconst (pc := 131) dX5_nameNow_131 (v := 5) rfl ?_
                refine zt_bipush (pc := 132) dX5_nameNow_132 (v := 102) rfl ?_
                refine zt_bipush (pc := 134) dX5_nameNow_134 (v := 101) rfl ?_
                refine zt_bipush (pc := 136) dX5_nameNow_136 (v := 97) rfl ?_
                refine zt_bipush (pc := 138) dX5_nameNow_138 (v := 114) rfl ?_
                refine wt_callV (pc := 140) mX5_is 5 5 (rc' := 0) (rs' := 0) dX5_nameNow_140 q1450 mi_X5_is rfl rfl (ms_o hM) (tm_is hM T n hn h20 h301 q r h22 h21 hqr hr 5 102 101 97 114) rfl rfl rfl rfl rfl rfl ?_
                refine zt_if_eq (pc := 143) 160 dX5_nameNow_143 (by decide) (fun c_143 => ?_) (fun c_143 => ?_)
                · refine zt_aload_n (pc := 160) dX5_nameNow_160 rfl rfl ?_
                  refine zt_bipush (pc := 161) dX5_nameNow_161 (v := 6) rfl ?_
                  refine zt_bipush (pc := 163) dX5_nameNow_163 (v := 117) rfl ?_
                  refine zt_bipush (pc := 165) dX5_nameNow_165 (v := 110) rfl ?_
                  refine zt_bipush (pc := 167) dX5_nameNow_167 (v := 108) rfl ?_
                  refine zt_bipush (pc := 169) dX5_nameNow_169 (v := 105) rfl ?_
                  refine wt_callV (pc := 171) mX5_is 5 5 (rc' := 0) (rs' := 0) dX5_nameNow_171 q1450 mi_X5_is rfl rfl (ms_o hM) (tm_is hM T n hn h20 h301 q r h22 h21 hqr hr 6 117 110 108 105) rfl rfl rfl rfl rfl rfl ?_
                  refine zt_if_eq (pc := 174) 192 dX5_nameNow_174 (by decide) (fun c_174 => ?_) (fun c_174 => ?_)
                  · refine zt_aload_n (pc := 192) dX5_nameNow_192 rfl rfl ?_
                    refine zt_bipush (pc := 193) dX5_nameNow_193 (v := 6) rfl ?_
                    refine zt_bipush (pc := 195) dX5_nameNow_195 (v := 99) rfl ?_
                    refine zt_bipush (pc := 197) dX5_nameNow_197 (v := 104) rfl ?_
                    refine zt_bipush (pc := 199) dX5_nameNow_199 (v := 97) rfl ?_
                    refine zt_bipush (pc := 201) dX5_nameNow_201 (v := 110) rfl ?_
                    refine wt_callV (pc := 203) mX5_is 5 5 (rc' := 0) (rs' := 0) dX5_nameNow_203 q1450 mi_X5_is rfl rfl (ms_o hM) (tm_is hM T n hn h20 h301 q r h22 h21 hqr hr 6 99 104 97 110) rfl rfl rfl rfl rfl rfl ?_
                    refine zt_if_eq (pc := 206) 226 dX5_nameNow_206 (by decide) (fun c_206 => ?_) (fun c_206 => ?_)
                    · refine zt_bipush (pc := 226) dX5_nameNow_226 (v := (-4)) rfl ?_
                      exact zt_ireturn (pc := 228) dX5_nameNow_228 rfl (⟨congrArg some (congrArg Value.int (((if_neg (fun z => z c_6)).trans ((if_neg (fun z => bI_eq0.mp c_38 z.2)).trans ((if_neg (fun z => bI_eq0.mp c_57 z.1)).trans ((if_neg (bI_eq0.mp c_87)).trans ((if_neg (bI_eq0.mp c_105)).trans ((if_neg (bI_eq0.mp c_124)).trans ((if_neg (fun z => bI_eq0.mp c_143 z.1)).trans ((if_neg (fun z => bI_eq0.mp c_174 z.1)).trans (if_neg (fun z => bI_eq0.mp c_206 z.1)))))))))).symm)), rfl⟩)
                    · refine zt_aload_n (pc := 209) dX5_nameNow_209 rfl rfl ?_
                      refine zt_bipush (pc := 210) dX5_nameNow_210 (v := 99) rfl ?_
                      refine zt_bipush (pc := 212) dX5_nameNow_212 (v := 101) rfl ?_
                      refine zt_iconst (pc := 214) dX5_nameNow_214 (v := 0) rfl ?_
                      refine wt_callV (pc := 215) mX5_goesOn 3 5 (rc' := 0) (rs' := 0) dX5_nameNow_215 q1454 mi_X5_goesOn rfl rfl (ms_o hM) (tm_goesOn hM T n hn h20 h301 q h22 (by omega) 99 101 0) rfl rfl rfl rfl rfl rfl ?_
                      refine zt_if_eq (pc := 218) 226 dX5_nameNow_218 (by decide) (fun c_218 => ?_) (fun c_218 => ?_)
                      · refine zt_bipush (pc := 226) dX5_nameNow_226 (v := (-4)) rfl ?_
                        exact zt_ireturn (pc := 228) dX5_nameNow_228 rfl (⟨congrArg some (congrArg Value.int (((if_neg (fun z => z c_6)).trans ((if_neg (fun z => bI_eq0.mp c_38 z.2)).trans ((if_neg (fun z => bI_eq0.mp c_57 z.1)).trans ((if_neg (bI_eq0.mp c_87)).trans ((if_neg (bI_eq0.mp c_105)).trans ((if_neg (bI_eq0.mp c_124)).trans ((if_neg (fun z => bI_eq0.mp c_143 z.1)).trans ((if_neg (fun z => bI_eq0.mp c_174 z.1)).trans (if_neg (fun z => bI_eq0.mp c_218 z.2)))))))))).symm)), rfl⟩)
                      · refine zt_bipush (pc := 221) dX5_nameNow_221 (v := 17) rfl ?_
                        refine zt_goto (pc := 223) 228 dX5_nameNow_223 (by decide) ?_
                        exact zt_ireturn (pc := 228) dX5_nameNow_228 rfl (⟨congrArg some (congrArg Value.int (((if_neg (fun z => z c_6)).trans ((if_neg (fun z => bI_eq0.mp c_38 z.2)).trans ((if_neg (fun z => bI_eq0.mp c_57 z.1)).trans ((if_neg (bI_eq0.mp c_87)).trans ((if_neg (bI_eq0.mp c_105)).trans ((if_neg (bI_eq0.mp c_124)).trans ((if_neg (fun z => bI_eq0.mp c_143 z.1)).trans ((if_neg (fun z => bI_eq0.mp c_174 z.1)).trans (if_pos ⟨bI_ne0 c_206, bI_ne0 c_218⟩))))))))).symm)), rfl⟩)
                  · refine zt_aload_n (pc := 177) dX5_nameNow_177 rfl rfl ?_
                    refine zt_bipush (pc := 178) dX5_nameNow_178 (v := 107) rfl ?_
                    refine zt_bipush (pc := 180) dX5_nameNow_180 (v := 101) rfl ?_
                    refine zt_iconst (pc := 182) dX5_nameNow_182 (v := 0) rfl ?_
                    refine wt_callV (pc := 183) mX5_goesOn 3 5 (rc' := 0) (rs' := 0) dX5_nameNow_183 q1454 mi_X5_goesOn rfl rfl (ms_o hM) (tm_goesOn hM T n hn h20 h301 q h22 (by omega) 107 101 0) rfl rfl rfl rfl rfl rfl ?_
                    refine zt_if_eq (pc := 186) 192 dX5_nameNow_186 (by decide) (fun c_186 => ?_) (fun c_186 => ?_)
                    · refine zt_aload_n (pc := 192) dX5_nameNow_192 rfl rfl ?_
                      refine zt_bipush (pc := 193) dX5_nameNow_193 (v := 6) rfl ?_
                      refine zt_bipush (pc := 195) dX5_nameNow_195 (v := 99) rfl ?_
                      refine zt_bipush (pc := 197) dX5_nameNow_197 (v := 104) rfl ?_
                      refine zt_bipush (pc := 199) dX5_nameNow_199 (v := 97) rfl ?_
                      refine zt_bipush (pc := 201) dX5_nameNow_201 (v := 110) rfl ?_
                      refine wt_callV (pc := 203) mX5_is 5 5 (rc' := 0) (rs' := 0) dX5_nameNow_203 q1450 mi_X5_is rfl rfl (ms_o hM) (tm_is hM T n hn h20 h301 q r h22 h21 hqr hr 6 99 104 97 110) rfl rfl rfl rfl rfl rfl ?_
                      refine zt_if_eq (pc := 206) 226 dX5_nameNow_206 (by decide) (fun c_206 => ?_) (fun c_206 => ?_)
                      · refine zt_bipush (pc := 226) dX5_nameNow_226 (v := (-4)) rfl ?_
                        exact zt_ireturn (pc := 228) dX5_nameNow_228 rfl (⟨congrArg some (congrArg Value.int (((if_neg (fun z => z c_6)).trans ((if_neg (fun z => bI_eq0.mp c_38 z.2)).trans ((if_neg (fun z => bI_eq0.mp c_57 z.1)).trans ((if_neg (bI_eq0.mp c_87)).trans ((if_neg (bI_eq0.mp c_105)).trans ((if_neg (bI_eq0.mp c_124)).trans ((if_neg (fun z => bI_eq0.mp c_143 z.1)).trans ((if_neg (fun z => bI_eq0.mp c_186 z.2)).trans (if_neg (fun z => bI_eq0.mp c_206 z.1)))))))))).symm)), rfl⟩)
                      · refine zt_aload_n (pc := 209) dX5_nameNow_209 rfl rfl ?_
                        refine zt_bipush (pc := 210) dX5_nameNow_210 (v := 99) rfl ?_
                        refine zt_bipush (pc := 212) dX5_nameNow_212 (v := 101) rfl ?_
                        refine zt_iconst (pc := 214) dX5_nameNow_214 (v := 0) rfl ?_
                        refine wt_callV (pc := 215) mX5_goesOn 3 5 (rc' := 0) (rs' := 0) dX5_nameNow_215 q1454 mi_X5_goesOn rfl rfl (ms_o hM) (tm_goesOn hM T n hn h20 h301 q h22 (by omega) 99 101 0) rfl rfl rfl rfl rfl rfl ?_
                        refine zt_if_eq (pc := 218) 226 dX5_nameNow_218 (by decide) (fun c_218 => ?_) (fun c_218 => ?_)
                        · refine zt_bipush (pc := 226) dX5_nameNow_226 (v := (-4)) rfl ?_
                          exact zt_ireturn (pc := 228) dX5_nameNow_228 rfl (⟨congrArg some (congrArg Value.int (((if_neg (fun z => z c_6)).trans ((if_neg (fun z => bI_eq0.mp c_38 z.2)).trans ((if_neg (fun z => bI_eq0.mp c_57 z.1)).trans ((if_neg (bI_eq0.mp c_87)).trans ((if_neg (bI_eq0.mp c_105)).trans ((if_neg (bI_eq0.mp c_124)).trans ((if_neg (fun z => bI_eq0.mp c_143 z.1)).trans ((if_neg (fun z => bI_eq0.mp c_186 z.2)).trans (if_neg (fun z => bI_eq0.mp c_218 z.2)))))))))).symm)), rfl⟩)
                        · refine zt_bipush (pc := 221) dX5_nameNow_221 (v := 17) rfl ?_
                          refine zt_goto (pc := 223) 228 dX5_nameNow_223 (by decide) ?_
                          exact zt_ireturn (pc := 228) dX5_nameNow_228 rfl (⟨congrArg some (congrArg Value.int (((if_neg (fun z => z c_6)).trans ((if_neg (fun z => bI_eq0.mp c_38 z.2)).trans ((if_neg (fun z => bI_eq0.mp c_57 z.1)).trans ((if_neg (bI_eq0.mp c_87)).trans ((if_neg (bI_eq0.mp c_105)).trans ((if_neg (bI_eq0.mp c_124)).trans ((if_neg (fun z => bI_eq0.mp c_143 z.1)).trans ((if_neg (fun z => bI_eq0.mp c_186 z.2)).trans (if_pos ⟨bI_ne0 c_206, bI_ne0 c_218⟩))))))))).symm)), rfl⟩)
                    · refine zt_bipush (pc := 189) dX5_nameNow_189 (v := 16) rfl ?_
                      exact zt_ireturn (pc := 191) dX5_nameNow_191 rfl (⟨congrArg some (congrArg Value.int (((if_neg (fun z => z c_6)).trans ((if_neg (fun z => bI_eq0.mp c_38 z.2)).trans ((if_neg (fun z => bI_eq0.mp c_57 z.1)).trans ((if_neg (bI_eq0.mp c_87)).trans ((if_neg (bI_eq0.mp c_105)).trans ((if_neg (bI_eq0.mp c_124)).trans ((if_neg (fun z => bI_eq0.mp c_143 z.1)).trans (if_pos ⟨bI_ne0 c_174, bI_ne0 c_186⟩)))))))).symm)), rfl⟩)
                · refine zt_aload_n (pc := 146) dX5_nameNow_146 rfl rfl ?_
                  refine zt_bipush (pc := 147) dX5_nameNow_147 (v := 115) rfl ?_
                  refine zt_iconst (pc := 149) dX5_nameNow_149 (v := 0) rfl ?_
                  refine zt_iconst (pc := 150) dX5_nameNow_150 (v := 0) rfl ?_
                  refine wt_callV (pc := 151) mX5_goesOn 3 5 (rc' := 0) (rs' := 0) dX5_nameNow_151 q1454 mi_X5_goesOn rfl rfl (ms_o hM) (tm_goesOn hM T n hn h20 h301 q h22 (by omega) 115 0 0) rfl rfl rfl rfl rfl rfl ?_
                  refine zt_if_eq (pc := 154) 160 dX5_nameNow_154 (by decide) (fun c_154 => ?_) (fun c_154 => ?_)
                  · refine zt_aload_n (pc := 160) dX5_nameNow_160 rfl rfl ?_
                    refine zt_bipush (pc := 161) dX5_nameNow_161 (v := 6) rfl ?_
                    refine zt_bipush (pc := 163) dX5_nameNow_163 (v := 117) rfl ?_
                    refine zt_bipush (pc := 165) dX5_nameNow_165 (v := 110) rfl ?_
                    refine zt_bipush (pc := 167) dX5_nameNow_167 (v := 108) rfl ?_
                    refine zt_bipush (pc := 169) dX5_nameNow_169 (v := 105) rfl ?_
                    refine wt_callV (pc := 171) mX5_is 5 5 (rc' := 0) (rs' := 0) dX5_nameNow_171 q1450 mi_X5_is rfl rfl (ms_o hM) (tm_is hM T n hn h20 h301 q r h22 h21 hqr hr 6 117 110 108 105) rfl rfl rfl rfl rfl rfl ?_
                    refine zt_if_eq (pc := 174) 192 dX5_nameNow_174 (by decide) (fun c_174 => ?_) (fun c_174 => ?_)
                    · refine zt_aload_n (pc := 192) dX5_nameNow_192 rfl rfl ?_
                      refine zt_bipush (pc := 193) dX5_nameNow_193 (v := 6) rfl ?_
                      refine zt_bipush (pc := 195) dX5_nameNow_195 (v := 99) rfl ?_
                      refine zt_bipush (pc := 197) dX5_nameNow_197 (v := 104) rfl ?_
                      refine zt_bipush (pc := 199) dX5_nameNow_199 (v := 97) rfl ?_
                      refine zt_bipush (pc := 201) dX5_nameNow_201 (v := 110) rfl ?_
                      refine wt_callV (pc := 203) mX5_is 5 5 (rc' := 0) (rs' := 0) dX5_nameNow_203 q1450 mi_X5_is rfl rfl (ms_o hM) (tm_is hM T n hn h20 h301 q r h22 h21 hqr hr 6 99 104 97 110) rfl rfl rfl rfl rfl rfl ?_
                      refine zt_if_eq (pc := 206) 226 dX5_nameNow_206 (by decide) (fun c_206 => ?_) (fun c_206 => ?_)
                      · refine zt_bipush (pc := 226) dX5_nameNow_226 (v := (-4)) rfl ?_
                        exact zt_ireturn (pc := 228) dX5_nameNow_228 rfl (⟨congrArg some (congrArg Value.int (((if_neg (fun z => z c_6)).trans ((if_neg (fun z => bI_eq0.mp c_38 z.2)).trans ((if_neg (fun z => bI_eq0.mp c_57 z.1)).trans ((if_neg (bI_eq0.mp c_87)).trans ((if_neg (bI_eq0.mp c_105)).trans ((if_neg (bI_eq0.mp c_124)).trans ((if_neg (fun z => bI_eq0.mp c_154 z.2)).trans ((if_neg (fun z => bI_eq0.mp c_174 z.1)).trans (if_neg (fun z => bI_eq0.mp c_206 z.1)))))))))).symm)), rfl⟩)
                      · refine zt_aload_n (pc := 209) dX5_nameNow_209 rfl rfl ?_
                        refine zt_bipush (pc := 210) dX5_nameNow_210 (v := 99) rfl ?_
                        refine zt_bipush (pc := 212) dX5_nameNow_212 (v := 101) rfl ?_
                        refine zt_iconst (pc := 214) dX5_nameNow_214 (v := 0) rfl ?_
                        refine wt_callV (pc := 215) mX5_goesOn 3 5 (rc' := 0) (rs' := 0) dX5_nameNow_215 q1454 mi_X5_goesOn rfl rfl (ms_o hM) (tm_goesOn hM T n hn h20 h301 q h22 (by omega) 99 101 0) rfl rfl rfl rfl rfl rfl ?_
                        refine zt_if_eq (pc := 218) 226 dX5_nameNow_218 (by decide) (fun c_218 => ?_) (fun c_218 => ?_)
                        · refine zt_bipush (pc := 226) dX5_nameNow_226 (v := (-4)) rfl ?_
                          exact zt_ireturn (pc := 228) dX5_nameNow_228 rfl (⟨congrArg some (congrArg Value.int (((if_neg (fun z => z c_6)).trans ((if_neg (fun z => bI_eq0.mp c_38 z.2)).trans ((if_neg (fun z => bI_eq0.mp c_57 z.1)).trans ((if_neg (bI_eq0.mp c_87)).trans ((if_neg (bI_eq0.mp c_105)).trans ((if_neg (bI_eq0.mp c_124)).trans ((if_neg (fun z => bI_eq0.mp c_154 z.2)).trans ((if_neg (fun z => bI_eq0.mp c_174 z.1)).trans (if_neg (fun z => bI_eq0.mp c_218 z.2)))))))))).symm)), rfl⟩)
                        · refine zt_bipush (pc := 221) dX5_nameNow_221 (v := 17) rfl ?_
                          refine zt_goto (pc := 223) 228 dX5_nameNow_223 (by decide) ?_
                          exact zt_ireturn (pc := 228) dX5_nameNow_228 rfl (⟨congrArg some (congrArg Value.int (((if_neg (fun z => z c_6)).trans ((if_neg (fun z => bI_eq0.mp c_38 z.2)).trans ((if_neg (fun z => bI_eq0.mp c_57 z.1)).trans ((if_neg (bI_eq0.mp c_87)).trans ((if_neg (bI_eq0.mp c_105)).trans ((if_neg (bI_eq0.mp c_124)).trans ((if_neg (fun z => bI_eq0.mp c_154 z.2)).trans ((if_neg (fun z => bI_eq0.mp c_174 z.1)).trans (if_pos ⟨bI_ne0 c_206, bI_ne0 c_218⟩))))))))).symm)), rfl⟩)
                    · refine zt_aload_n (pc := 177) dX5_nameNow_177 rfl rfl ?_
                      refine zt_bipush (pc := 178) dX5_nameNow_178 (v := 107) rfl ?_
                      refine zt_bipush (pc := 180) dX5_nameNow_180 (v := 101) rfl ?_
                      refine zt_iconst (pc := 182) dX5_nameNow_182 (v := 0) rfl ?_
                      refine wt_callV (pc := 183) mX5_goesOn 3 5 (rc' := 0) (rs' := 0) dX5_nameNow_183 q1454 mi_X5_goesOn rfl rfl (ms_o hM) (tm_goesOn hM T n hn h20 h301 q h22 (by omega) 107 101 0) rfl rfl rfl rfl rfl rfl ?_
                      refine zt_if_eq (pc := 186) 192 dX5_nameNow_186 (by decide) (fun c_186 => ?_) (fun c_186 => ?_)
                      · refine zt_aload_n (pc := 192) dX5_nameNow_192 rfl rfl ?_
                        refine zt_bipush (pc := 193) dX5_nameNow_193 (v := 6) rfl ?_
                        refine zt_bipush (pc := 195) dX5_nameNow_195 (v := 99) rfl ?_
                        refine zt_bipush (pc := 197) dX5_nameNow_197 (v := 104) rfl ?_
                        refine zt_bipush (pc := 199) dX5_nameNow_199 (v := 97) rfl ?_
                        refine zt_bipush (pc := 201) dX5_nameNow_201 (v := 110) rfl ?_
                        refine wt_callV (pc := 203) mX5_is 5 5 (rc' := 0) (rs' := 0) dX5_nameNow_203 q1450 mi_X5_is rfl rfl (ms_o hM) (tm_is hM T n hn h20 h301 q r h22 h21 hqr hr 6 99 104 97 110) rfl rfl rfl rfl rfl rfl ?_
                        refine zt_if_eq (pc := 206) 226 dX5_nameNow_206 (by decide) (fun c_206 => ?_) (fun c_206 => ?_)
                        · refine zt_bipush (pc := 226) dX5_nameNow_226 (v := (-4)) rfl ?_
                          exact zt_ireturn (pc := 228) dX5_nameNow_228 rfl (⟨congrArg some (congrArg Value.int (((if_neg (fun z => z c_6)).trans ((if_neg (fun z => bI_eq0.mp c_38 z.2)).trans ((if_neg (fun z => bI_eq0.mp c_57 z.1)).trans ((if_neg (bI_eq0.mp c_87)).trans ((if_neg (bI_eq0.mp c_105)).trans ((if_neg (bI_eq0.mp c_124)).trans ((if_neg (fun z => bI_eq0.mp c_154 z.2)).trans ((if_neg (fun z => bI_eq0.mp c_186 z.2)).trans (if_neg (fun z => bI_eq0.mp c_206 z.1)))))))))).symm)), rfl⟩)
                        · refine zt_aload_n (pc := 209) dX5_nameNow_209 rfl rfl ?_
                          refine zt_bipush (pc := 210) dX5_nameNow_210 (v := 99) rfl ?_
                          refine zt_bipush (pc := 212) dX5_nameNow_212 (v := 101) rfl ?_
                          refine zt_iconst (pc := 214) dX5_nameNow_214 (v := 0) rfl ?_
                          refine wt_callV (pc := 215) mX5_goesOn 3 5 (rc' := 0) (rs' := 0) dX5_nameNow_215 q1454 mi_X5_goesOn rfl rfl (ms_o hM) (tm_goesOn hM T n hn h20 h301 q h22 (by omega) 99 101 0) rfl rfl rfl rfl rfl rfl ?_
                          refine zt_if_eq (pc := 218) 226 dX5_nameNow_218 (by decide) (fun c_218 => ?_) (fun c_218 => ?_)
                          · refine zt_bipush (pc := 226) dX5_nameNow_226 (v := (-4)) rfl ?_
                            exact zt_ireturn (pc := 228) dX5_nameNow_228 rfl (⟨congrArg some (congrArg Value.int (((if_neg (fun z => z c_6)).trans ((if_neg (fun z => bI_eq0.mp c_38 z.2)).trans ((if_neg (fun z => bI_eq0.mp c_57 z.1)).trans ((if_neg (bI_eq0.mp c_87)).trans ((if_neg (bI_eq0.mp c_105)).trans ((if_neg (bI_eq0.mp c_124)).trans ((if_neg (fun z => bI_eq0.mp c_154 z.2)).trans ((if_neg (fun z => bI_eq0.mp c_186 z.2)).trans (if_neg (fun z => bI_eq0.mp c_218 z.2)))))))))).symm)), rfl⟩)
                          · refine zt_bipush (pc := 221) dX5_nameNow_221 (v := 17) rfl ?_
                            refine zt_goto (pc := 223) 228 dX5_nameNow_223 (by decide) ?_
                            exact zt_ireturn (pc := 228) dX5_nameNow_228 rfl (⟨congrArg some (congrArg Value.int (((if_neg (fun z => z c_6)).trans ((if_neg (fun z => bI_eq0.mp c_38 z.2)).trans ((if_neg (fun z => bI_eq0.mp c_57 z.1)).trans ((if_neg (bI_eq0.mp c_87)).trans ((if_neg (bI_eq0.mp c_105)).trans ((if_neg (bI_eq0.mp c_124)).trans ((if_neg (fun z => bI_eq0.mp c_154 z.2)).trans ((if_neg (fun z => bI_eq0.mp c_186 z.2)).trans (if_pos ⟨bI_ne0 c_206, bI_ne0 c_218⟩))))))))).symm)), rfl⟩)
                      · refine zt_bipush (pc := 189) dX5_nameNow_189 (v := 16) rfl ?_
                        exact zt_ireturn (pc := 191) dX5_nameNow_191 rfl (⟨congrArg some (congrArg Value.int (((if_neg (fun z => z c_6)).trans ((if_neg (fun z => bI_eq0.mp c_38 z.2)).trans ((if_neg (fun z => bI_eq0.mp c_57 z.1)).trans ((if_neg (bI_eq0.mp c_87)).trans ((if_neg (bI_eq0.mp c_105)).trans ((if_neg (bI_eq0.mp c_124)).trans ((if_neg (fun z => bI_eq0.mp c_154 z.2)).trans (if_pos ⟨bI_ne0 c_174, bI_ne0 c_186⟩)))))))).symm)), rfl⟩)
                  · refine zt_bipush (pc := 157) dX5_nameNow_157 (v := 15) rfl ?_
                    exact zt_ireturn (pc := 159) dX5_nameNow_159 rfl (⟨congrArg some (congrArg Value.int (((if_neg (fun z => z c_6)).trans ((if_neg (fun z => bI_eq0.mp c_38 z.2)).trans ((if_neg (fun z => bI_eq0.mp c_57 z.1)).trans ((if_neg (bI_eq0.mp c_87)).trans ((if_neg (bI_eq0.mp c_105)).trans ((if_neg (bI_eq0.mp c_124)).trans (if_pos ⟨bI_ne0 c_143, bI_ne0 c_154⟩))))))).symm)), rfl⟩)
              · refine zt_bipush (pc := 127) dX5_nameNow_127 (v := 14) rfl ?_
                exact zt_ireturn (pc := 129) dX5_nameNow_129 rfl (⟨congrArg some (congrArg Value.int (((if_neg (fun z => z c_6)).trans ((if_neg (fun z => bI_eq0.mp c_38 z.2)).trans ((if_neg (fun z => bI_eq0.mp c_57 z.1)).trans ((if_neg (bI_eq0.mp c_87)).trans ((if_neg (bI_eq0.mp c_105)).trans (if_pos (bI_ne0 c_124))))))).symm)), rfl⟩)
            · refine zt_bipush (pc := 108) dX5_nameNow_108 (v := 13) rfl ?_
              exact zt_ireturn (pc := 110) dX5_nameNow_110 rfl (⟨congrArg some (congrArg Value.int (((if_neg (fun z => z c_6)).trans ((if_neg (fun z => bI_eq0.mp c_38 z.2)).trans ((if_neg (fun z => bI_eq0.mp c_57 z.1)).trans ((if_neg (bI_eq0.mp c_87)).trans (if_pos (bI_ne0 c_105)))))).symm)), rfl⟩)
          · refine zt_bipush (pc := 90) dX5_nameNow_90 (v := 12) rfl ?_
            exact zt_ireturn (pc := 92) dX5_nameNow_92 rfl (⟨congrArg some (congrArg Value.int (((if_neg (fun z => z c_6)).trans ((if_neg (fun z => bI_eq0.mp c_38 z.2)).trans ((if_neg (fun z => bI_eq0.mp c_57 z.1)).trans (if_pos (bI_ne0 c_87))))).symm)), rfl⟩)
        · refine zt_aload_n (pc := 60) dX5_nameNow_60 rfl rfl ?_
          refine zt_bipush (pc := 61) dX5_nameNow_61 (v := 115) rfl ?_
          refine zt_iconst (pc := 63) dX5_nameNow_63 (v := 0) rfl ?_
          refine zt_iconst (pc := 64) dX5_nameNow_64 (v := 0) rfl ?_
          refine wt_callV (pc := 65) mX5_goesOn 3 5 (rc' := 0) (rs' := 0) dX5_nameNow_65 q1454 mi_X5_goesOn rfl rfl (ms_o hM) (tm_goesOn hM T n hn h20 h301 q h22 (by omega) 115 0 0) rfl rfl rfl rfl rfl rfl ?_
          refine zt_if_eq (pc := 68) 74 dX5_nameNow_68 (by decide) (fun c_68 => ?_) (fun c_68 => ?_)
          · refine zt_aload_n (pc := 74) dX5_nameNow_74 rfl rfl ?_
            refine zt_iconst (pc := 75) dX5_nameNow_75 (v := 4) rfl ?_
            refine zt_bipush (pc := 76) dX5_nameNow_76 (v := 119) rfl ?_
            refine zt_bipush (pc := 78) dX5_nameNow_78 (v := 111) rfl ?_
            refine zt_bipush (pc := 80) dX5_nameNow_80 (v := 114) rfl ?_
            refine zt_bipush (pc := 82) dX5_nameNow_82 (v := 100) rfl ?_
            refine wt_callV (pc := 84) mX5_is 5 5 (rc' := 0) (rs' := 0) dX5_nameNow_84 q1450 mi_X5_is rfl rfl (ms_o hM) (tm_is hM T n hn h20 h301 q r h22 h21 hqr hr 4 119 111 114 100) rfl rfl rfl rfl rfl rfl ?_
            refine zt_if_eq (pc := 87) 93 dX5_nameNow_87 (by decide) (fun c_87 => ?_) (fun c_87 => ?_)
            · refine zt_aload_n (pc := 93) dX5_nameNow_93 rfl rfl ?_
              refine zt_iconst (pc := 94) dX5_nameNow_94 (v := 3) rfl ?_
              refine zt_bipush (pc := 95) dX5_nameNow_95 (v := 110) rfl ?_
              refine zt_bipush (pc := 97) dX5_nameNow_97 (v := 111) rfl ?_
              refine zt_bipush (pc := 99) dX5_nameNow_99 (v := 116) rfl ?_
              refine zt_iconst (pc := 101) dX5_nameNow_101 (v := 0) rfl ?_
              refine wt_callV (pc := 102) mX5_is 5 5 (rc' := 0) (rs' := 0) dX5_nameNow_102 q1450 mi_X5_is rfl rfl (ms_o hM) (tm_is hM T n hn h20 h301 q r h22 h21 hqr hr 3 110 111 116 0) rfl rfl rfl rfl rfl rfl ?_
              refine zt_if_eq (pc := 105) 111 dX5_nameNow_105 (by decide) (fun c_105 => ?_) (fun c_105 => ?_)
              · refine zt_aload_n (pc := 111) dX5_nameNow_111 rfl rfl ?_
                refine zt_iconst (pc := 112) dX5_nameNow_112 (v := 4) rfl ?_
                refine zt_bipush (pc := 113) dX5_nameNow_113 (v := 115) rfl ?_
                refine zt_bipush (pc := 115) dX5_nameNow_115 (v := 101) rfl ?_
                refine zt_bipush (pc := 117) dX5_nameNow_117 (v := 101) rfl ?_
                refine zt_bipush (pc := 119) dX5_nameNow_119 (v := 115) rfl ?_
                refine wt_callV (pc := 121) mX5_is 5 5 (rc' := 0) (rs' := 0) dX5_nameNow_121 q1450 mi_X5_is rfl rfl (ms_o hM) (tm_is hM T n hn h20 h301 q r h22 h21 hqr hr 4 115 101 101 115) rfl rfl rfl rfl rfl rfl ?_
                refine zt_if_eq (pc := 124) 130 dX5_nameNow_124 (by decide) (fun c_124 => ?_) (fun c_124 => ?_)
                · refine zt_aload_n (pc := 130) dX5_nameNow_130 rfl rfl ?_
                  refine zt_iconst (pc := 131) dX5_nameNow_131 (v := 5) rfl ?_
                  refine zt_bipush (pc := 132) dX5_nameNow_132 (v := 102) rfl ?_
                  refine zt_bipush (pc := 134) dX5_nameNow_134 (v := 101) rfl ?_
                  refine zt_bipush (pc := 136) dX5_nameNow_136 (v := 97) rfl ?_
                  refine zt_bipush (pc := 138) dX5_nameNow_138 (v := 114) rfl ?_
                  refine wt_callV (pc := 140) mX5_is 5 5 (rc' := 0) (rs' := 0) dX5_nameNow_140 q1450 mi_X5_is rfl rfl (ms_o hM) (tm_is hM T n hn h20 h301 q r h22 h21 hqr hr 5 102 101 97 114) rfl rfl rfl rfl rfl rfl ?_
                  refine zt_if_eq (pc := 143) 160 dX5_nameNow_143 (by decide) (fun c_143 => ?_) (fun c_143 => ?_)
                  · refine zt_aload_n (pc := 160) dX5_nameNow_160 rfl rfl ?_
                    refine zt_bipush (pc := 161) dX5_nameNow_161 (v := 6) rfl ?_
                    refine zt_bipush (pc := 163) dX5_nameNow_163 (v := 117) rfl ?_
                    refine zt_bipush (pc := 165) dX5_nameNow_165 (v := 110) rfl ?_
                    refine zt_bipush (pc := 167) dX5_nameNow_167 (v := 108) rfl ?_
                    refine zt_bipush (pc := 169) dX5_nameNow_169 (v := 105) rfl ?_
                    refine wt_callV (pc := 171) mX5_is 5 5 (rc' := 0) (rs' := 0) dX5_nameNow_171 q1450 mi_X5_is rfl rfl (ms_o hM) (tm_is hM T n hn h20 h301 q r h22 h21 hqr hr 6 117 110 108 105) rfl rfl rfl rfl rfl rfl ?_
                    refine zt_if_eq (pc := 174) 192 dX5_nameNow_174 (by decide) (fun c_174 => ?_) (fun c_174 => ?_)
                    · refine zt_aload_n (pc := 192) dX5_nameNow_192 rfl rfl ?_
                      refine zt_bipush (pc := 193) dX5_nameNow_193 (v := 6) rfl ?_
                      refine zt_bipush (pc := 195) dX5_nameNow_195 (v := 99) rfl ?_
                      refine zt_bipush (pc := 197) dX5_nameNow_197 (v := 104) rfl ?_
                      refine zt_bipush (pc := 199) dX5_nameNow_199 (v := 97) rfl ?_
                      refine zt_bipush (pc := 201) dX5_nameNow_201 (v := 110) rfl ?_
                      refine wt_callV (pc := 203) mX5_is 5 5 (rc' := 0) (rs' := 0) dX5_nameNow_203 q1450 mi_X5_is rfl rfl (ms_o hM) (tm_is hM T n hn h20 h301 q r h22 h21 hqr hr 6 99 104 97 110) rfl rfl rfl rfl rfl rfl ?_
                      refine zt_if_eq (pc := 206) 226 dX5_nameNow_206 (by decide) (fun c_206 => ?_) (fun c_206 => ?_)
                      · refine zt_bipush (pc := 226) dX5_nameNow_226 (v := (-4)) rfl ?_
                        exact zt_ireturn (pc := 228) dX5_nameNow_228 rfl (⟨congrArg some (congrArg Value.int (((if_neg (fun z => z c_6)).trans ((if_neg (fun z => bI_eq0.mp c_38 z.2)).trans ((if_neg (fun z => bI_eq0.mp c_68 z.2)).trans ((if_neg (bI_eq0.mp c_87)).trans ((if_neg (bI_eq0.mp c_105)).trans ((if_neg (bI_eq0.mp c_124)).trans ((if_neg (fun z => bI_eq0.mp c_143 z.1)).trans ((if_neg (fun z => bI_eq0.mp c_174 z.1)).trans (if_neg (fun z => bI_eq0.mp c_206 z.1)))))))))).symm)), rfl⟩)
                      · refine zt_aload_n (pc := 209) dX5_nameNow_209 rfl rfl ?_
                        refine zt_bipush (pc := 210) dX5_nameNow_210 (v := 99) rfl ?_
                        refine zt_bipush (pc := 212) dX5_nameNow_212 (v := 101) rfl ?_
                        refine zt_iconst (pc := 214) dX5_nameNow_214 (v := 0) rfl ?_
                        refine wt_callV (pc := 215) mX5_goesOn 3 5 (rc' := 0) (rs' := 0) dX5_nameNow_215 q1454 mi_X5_goesOn rfl rfl (ms_o hM) (tm_goesOn hM T n hn h20 h301 q h22 (by omega) 99 101 0) rfl rfl rfl rfl rfl rfl ?_
                        refine zt_if_eq (pc := 218) 226 dX5_nameNow_218 (by decide) (fun c_218 => ?_) (fun c_218 => ?_)
                        · refine zt_bipush (pc := 226) dX5_nameNow_226 (v := (-4)) rfl ?_
                          exact zt_ireturn (pc := 228) dX5_nameNow_228 rfl (⟨congrArg some (congrArg Value.int (((if_neg (fun z => z c_6)).trans ((if_neg (fun z => bI_eq0.mp c_38 z.2)).trans ((if_neg (fun z => bI_eq0.mp c_68 z.2)).trans ((if_neg (bI_eq0.mp c_87)).trans ((if_neg (bI_eq0.mp c_105)).trans ((if_neg (bI_eq0.mp c_124)).trans ((if_neg (fun z => bI_eq0.mp c_143 z.1)).trans ((if_neg (fun z => bI_eq0.mp c_174 z.1)).trans (if_neg (fun z => bI_eq0.mp c_218 z.2)))))))))).symm)), rfl⟩)
                        · refine zt_bipush (pc := 221) dX5_nameNow_221 (v := 17) rfl ?_
                          refine zt_goto (pc := 223) 228 dX5_nameNow_223 (by decide) ?_
                          exact zt_ireturn (pc := 228) dX5_nameNow_228 rfl (⟨congrArg some (congrArg Value.int (((if_neg (fun z => z c_6)).trans ((if_neg (fun z => bI_eq0.mp c_38 z.2)).trans ((if_neg (fun z => bI_eq0.mp c_68 z.2)).trans ((if_neg (bI_eq0.mp c_87)).trans ((if_neg (bI_eq0.mp c_105)).trans ((if_neg (bI_eq0.mp c_124)).trans ((if_neg (fun z => bI_eq0.mp c_143 z.1)).trans ((if_neg (fun z => bI_eq0.mp c_174 z.1)).trans (if_pos ⟨bI_ne0 c_206, bI_ne0 c_218⟩))))))))).symm)), rfl⟩)
                    · refine zt_aload_n (pc := 177) dX5_nameNow_177 rfl rfl ?_
                      refine zt_bipush (pc := 178) dX5_nameNow_178 (v := 107) rfl ?_
                      refine zt_bipush (pc := 180) dX5_nameNow_180 (v := 101) rfl ?_
                      refine zt_iconst (pc := 182) dX5_nameNow_182 (v := 0) rfl ?_
                      refine wt_callV (pc := 183) mX5_goesOn 3 5 (rc' := 0) (rs' := 0) dX5_nameNow_183 q1454 mi_X5_goesOn rfl rfl (ms_o hM) (tm_goesOn hM T n hn h20 h301 q h22 (by omega) 107 101 0) rfl rfl rfl rfl rfl rfl ?_
                      refine zt_if_eq (pc := 186) 192 dX5_nameNow_186 (by decide) (fun c_186 => ?_) (fun c_186 => ?_)
                      · refine zt_aload_n (pc := 192) dX5_nameNow_192 rfl rfl ?_
                        refine zt_bipush (pc := 193) dX5_nameNow_193 (v := 6) rfl ?_
                        refine zt_bipush (pc := 195) dX5_nameNow_195 (v := 99) rfl ?_
                        refine zt_bipush (pc := 197) dX5_nameNow_197 (v := 104) rfl ?_
                        refine zt_bipush (pc := 199) dX5_nameNow_199 (v := 97) rfl ?_
                        refine zt_bipush (pc := 201) dX5_nameNow_201 (v := 110) rfl ?_
                        refine wt_callV (pc := 203) mX5_is 5 5 (rc' := 0) (rs' := 0) dX5_nameNow_203 q1450 mi_X5_is rfl rfl (ms_o hM) (tm_is hM T n hn h20 h301 q r h22 h21 hqr hr 6 99 104 97 110) rfl rfl rfl rfl rfl rfl ?_
                        refine zt_if_eq (pc := 206) 226 dX5_nameNow_206 (by decide) (fun c_206 => ?_) (fun c_206 => ?_)
                        · refine zt_bipush (pc := 226) dX5_nameNow_226 (v := (-4)) rfl ?_
                          exact zt_ireturn (pc := 228) dX5_nameNow_228 rfl (⟨congrArg some (congrArg Value.int (((if_neg (fun z => z c_6)).trans ((if_neg (fun z => bI_eq0.mp c_38 z.2)).trans ((if_neg (fun z => bI_eq0.mp c_68 z.2)).trans ((if_neg (bI_eq0.mp c_87)).trans ((if_neg (bI_eq0.mp c_105)).trans ((if_neg (bI_eq0.mp c_124)).trans ((if_neg (fun z => bI_eq0.mp c_143 z.1)).trans ((if_neg (fun z => bI_eq0.mp c_186 z.2)).trans (if_neg (fun z => bI_eq0.mp c_206 z.1)))))))))).symm)), rfl⟩)
                        · refine zt_aload_n (pc := 209) dX5_nameNow_209 rfl rfl ?_
                          refine zt_bipush (pc := 210) dX5_nameNow_210 (v := 99) rfl ?_
                          refine zt_bipush (pc := 212) dX5_nameNow_212 (v := 101) rfl ?_
                          refine zt_iconst (pc := 214) dX5_nameNow_214 (v := 0) rfl ?_
                          refine wt_callV (pc := 215) mX5_goesOn 3 5 (rc' := 0) (rs' := 0) dX5_nameNow_215 q1454 mi_X5_goesOn rfl rfl (ms_o hM) (tm_goesOn hM T n hn h20 h301 q h22 (by omega) 99 101 0) rfl rfl rfl rfl rfl rfl ?_
                          refine zt_if_eq (pc := 218) 226 dX5_nameNow_218 (by decide) (fun c_218 => ?_) (fun c_218 => ?_)
                          · refine zt_bipush (pc := 226) dX5_nameNow_226 (v := (-4)) rfl ?_
                            exact zt_ireturn (pc := 228) dX5_nameNow_228 rfl (⟨congrArg some (congrArg Value.int (((if_neg (fun z => z c_6)).trans ((if_neg (fun z => bI_eq0.mp c_38 z.2)).trans ((if_neg (fun z => bI_eq0.mp c_68 z.2)).trans ((if_neg (bI_eq0.mp c_87)).trans ((if_neg (bI_eq0.mp c_105)).trans ((if_neg (bI_eq0.mp c_124)).trans ((if_neg (fun z => bI_eq0.mp c_143 z.1)).trans ((if_neg (fun z => bI_eq0.mp c_186 z.2)).trans (if_neg (fun z => bI_eq0.mp c_218 z.2)))))))))).symm)), rfl⟩)
                          · refine zt_bipush (pc := 221) dX5_nameNow_221 (v := 17) rfl ?_
                            refine zt_goto (pc := 223) 228 dX5_nameNow_223 (by decide) ?_
                            exact zt_ireturn (pc := 228) dX5_nameNow_228 rfl (⟨congrArg some (congrArg Value.int (((if_neg (fun z => z c_6)).trans ((if_neg (fun z => bI_eq0.mp c_38 z.2)).trans ((if_neg (fun z => bI_eq0.mp c_68 z.2)).trans ((if_neg (bI_eq0.mp c_87)).trans ((if_neg (bI_eq0.mp c_105)).trans ((if_neg (bI_eq0.mp c_124)).trans ((if_neg (fun z => bI_eq0.mp c_143 z.1)).trans ((if_neg (fun z => bI_eq0.mp c_186 z.2)).trans (if_pos ⟨bI_ne0 c_206, bI_ne0 c_218⟩))))))))).symm)), rfl⟩)
                      · refine zt_bipush (pc := 189) dX5_nameNow_189 (v := 16) rfl ?_
                        exact zt_ireturn (pc := 191) dX5_nameNow_191 rfl (⟨congrArg some (congrArg Value.int (((if_neg (fun z => z c_6)).trans ((if_neg (fun z => bI_eq0.mp c_38 z.2)).trans ((if_neg (fun z => bI_eq0.mp c_68 z.2)).trans ((if_neg (bI_eq0.mp c_87)).trans ((if_neg (bI_eq0.mp c_105)).trans ((if_neg (bI_eq0.mp c_124)).trans ((if_neg (fun z => bI_eq0.mp c_143 z.1)).trans (if_pos ⟨bI_ne0 c_174, bI_ne0 c_186⟩)))))))).symm)), rfl⟩)
                  · refine zt_aload_n (pc := 146) dX5_nameNow_146 rfl rfl ?_
                    refine zt_bipush (pc := 147) dX5_nameNow_147 (v := 115) rfl ?_
                    refine zt_iconst (pc := 149) dX5_nameNow_149 (v := 0) rfl ?_
                    refine zt_iconst (pc := 150) dX5_nameNow_150 (v := 0) rfl ?_
                    refine wt_callV (pc := 151) mX5_goesOn 3 5 (rc' := 0) (rs' := 0) dX5_nameNow_151 q1454 mi_X5_goesOn rfl rfl (ms_o hM) (tm_goesOn hM T n hn h20 h301 q h22 (by omega) 115 0 0) rfl rfl rfl rfl rfl rfl ?_
                    refine zt_if_eq (pc := 154) 160 dX5_nameNow_154 (by decide) (fun c_154 => ?_) (fun c_154 => ?_)
                    · refine zt_aload_n (pc := 160) dX5_nameNow_160 rfl rfl ?_
                      refine zt_bipush (pc := 161) dX5_nameNow_161 (v := 6) rfl ?_
                      refine zt_bipush (pc := 163) dX5_nameNow_163 (v := 117) rfl ?_
                      refine zt_bipush (pc := 165) dX5_nameNow_165 (v := 110) rfl ?_
                      refine zt_bipush (pc := 167) dX5_nameNow_167 (v := 108) rfl ?_
                      refine zt_bipush (pc := 169) dX5_nameNow_169 (v := 105) rfl ?_
                      refine wt_callV (pc := 171) mX5_is 5 5 (rc' := 0) (rs' := 0) dX5_nameNow_171 q1450 mi_X5_is rfl rfl (ms_o hM) (tm_is hM T n hn h20 h301 q r h22 h21 hqr hr 6 117 110 108 105) rfl rfl rfl rfl rfl rfl ?_
                      refine zt_if_eq (pc := 174) 192 dX5_nameNow_174 (by decide) (fun c_174 => ?_) (fun c_174 => ?_)
                      · refine zt_aload_n (pc := 192) dX5_nameNow_192 rfl rfl ?_
                        refine zt_bipush (pc := 193) dX5_nameNow_193 (v := 6) rfl ?_
                        refine zt_bipush (pc := 195) dX5_nameNow_195 (v := 99) rfl ?_
                        refine zt_bipush (pc := 197) dX5_nameNow_197 (v := 104) rfl ?_
                        refine zt_bipush (pc := 199) dX5_nameNow_199 (v := 97) rfl ?_
                        refine zt_bipush (pc := 201) dX5_nameNow_201 (v := 110) rfl ?_
                        refine wt_callV (pc := 203) mX5_is 5 5 (rc' := 0) (rs' := 0) dX5_nameNow_203 q1450 mi_X5_is rfl rfl (ms_o hM) (tm_is hM T n hn h20 h301 q r h22 h21 hqr hr 6 99 104 97 110) rfl rfl rfl rfl rfl rfl ?_
                        refine zt_if_eq (pc := 206) 226 dX5_nameNow_206 (by decide) (fun c_206 => ?_) (fun c_206 => ?_)
                        · refine zt_bipush (pc := 226) dX5_nameNow_226 (v := (-4)) rfl ?_
                          exact zt_ireturn (pc := 228) dX5_nameNow_228 rfl (⟨congrArg some (congrArg Value.int (((if_neg (fun z => z c_6)).trans ((if_neg (fun z => bI_eq0.mp c_38 z.2)).trans ((if_neg (fun z => bI_eq0.mp c_68 z.2)).trans ((if_neg (bI_eq0.mp c_87)).trans ((if_neg (bI_eq0.mp c_105)).trans ((if_neg (bI_eq0.mp c_124)).trans ((if_neg (fun z => bI_eq0.mp c_154 z.2)).trans ((if_neg (fun z => bI_eq0.mp c_174 z.1)).trans (if_neg (fun z => bI_eq0.mp c_206 z.1)))))))))).symm)), rfl⟩)
                        · refine zt_aload_n (pc := 209) dX5_nameNow_209 rfl rfl ?_
                          refine zt_bipush (pc := 210) dX5_nameNow_210 (v := 99) rfl ?_
                          refine zt_bipush (pc := 212) dX5_nameNow_212 (v := 101) rfl ?_
                          refine zt_iconst (pc := 214) dX5_nameNow_214 (v := 0) rfl ?_
                          refine wt_callV (pc := 215) mX5_goesOn 3 5 (rc' := 0) (rs' := 0) dX5_nameNow_215 q1454 mi_X5_goesOn rfl rfl (ms_o hM) (tm_goesOn hM T n hn h20 h301 q h22 (by omega) 99 101 0) rfl rfl rfl rfl rfl rfl ?_
                          refine zt_if_eq (pc := 218) 226 dX5_nameNow_218 (by decide) (fun c_218 => ?_) (fun c_218 => ?_)
                          · refine zt_bipush (pc := 226) dX5_nameNow_226 (v := (-4)) rfl ?_
                            exact zt_ireturn (pc := 228) dX5_nameNow_228 rfl (⟨congrArg some (congrArg Value.int (((if_neg (fun z => z c_6)).trans ((if_neg (fun z => bI_eq0.mp c_38 z.2)).trans ((if_neg (fun z => bI_eq0.mp c_68 z.2)).trans ((if_neg (bI_eq0.mp c_87)).trans ((if_neg (bI_eq0.mp c_105)).trans ((if_neg (bI_eq0.mp c_124)).trans ((if_neg (fun z => bI_eq0.mp c_154 z.2)).trans ((if_neg (fun z => bI_eq0.mp c_174 z.1)).trans (if_neg (fun z => bI_eq0.mp c_218 z.2)))))))))).symm)), rfl⟩)
                          · refine zt_bipush (pc := 221) dX5_nameNow_221 (v := 17) rfl ?_
                            refine zt_goto (pc := 223) 228 dX5_nameNow_223 (by decide) ?_
                            exact zt_ireturn (pc := 228) dX5_nameNow_228 rfl (⟨congrArg some (congrArg Value.int (((if_neg (fun z => z c_6)).trans ((if_neg (fun z => bI_eq0.mp c_38 z.2)).trans ((if_neg (fun z => bI_eq0.mp c_68 z.2)).trans ((if_neg (bI_eq0.mp c_87)).trans ((if_neg (bI_eq0.mp c_105)).trans ((if_neg (bI_eq0.mp c_124)).trans ((if_neg (fun z => bI_eq0.mp c_154 z.2)).trans ((if_neg (fun z => bI_eq0.mp c_174 z.1)).trans (if_pos ⟨bI_ne0 c_206, bI_ne0 c_218⟩))))))))).symm)), rfl⟩)
                      · refine zt_aload_n (pc := 177) dX5_nameNow_177 rfl rfl ?_
                        refine zt_bipush (pc := 178) dX5_nameNow_178 (v := 107) rfl ?_
                        refine zt_bipush (pc := 180) dX5_nameNow_180 (v := 101) rfl ?_
                        refine zt_iconst (pc := 182) dX5_nameNow_182 (v := 0) rfl ?_
                        refine wt_callV (pc := 183) mX5_goesOn 3 5 (rc' := 0) (rs' := 0) dX5_nameNow_183 q1454 mi_X5_goesOn rfl rfl (ms_o hM) (tm_goesOn hM T n hn h20 h301 q h22 (by omega) 107 101 0) rfl rfl rfl rfl rfl rfl ?_
                        refine zt_if_eq (pc := 186) 192 dX5_nameNow_186 (by decide) (fun c_186 => ?_) (fun c_186 => ?_)
                        · refine zt_aload_n (pc := 192) dX5_nameNow_192 rfl rfl ?_
                          refine zt_bipush (pc := 193) dX5_nameNow_193 (v := 6) rfl ?_
                          refine zt_bipush (pc := 195) dX5_nameNow_195 (v := 99) rfl ?_
                          refine zt_bipush (pc := 197) dX5_nameNow_197 (v := 104) rfl ?_
                          refine zt_bipush (pc := 199) dX5_nameNow_199 (v := 97) rfl ?_
                          refine zt_bipush (pc := 201) dX5_nameNow_201 (v := 110) rfl ?_
                          refine wt_callV (pc := 203) mX5_is 5 5 (rc' := 0) (rs' := 0) dX5_nameNow_203 q1450 mi_X5_is rfl rfl (ms_o hM) (tm_is hM T n hn h20 h301 q r h22 h21 hqr hr 6 99 104 97 110) rfl rfl rfl rfl rfl rfl ?_
                          refine zt_if_eq (pc := 206) 226 dX5_nameNow_206 (by decide) (fun c_206 => ?_) (fun c_206 => ?_)
                          · refine zt_bipush (pc := 226) dX5_nameNow_226 (v := (-4)) rfl ?_
                            exact zt_ireturn (pc := 228) dX5_nameNow_228 rfl (⟨congrArg some (congrArg Value.int (((if_neg (fun z => z c_6)).trans ((if_neg (fun z => bI_eq0.mp c_38 z.2)).trans ((if_neg (fun z => bI_eq0.mp c_68 z.2)).trans ((if_neg (bI_eq0.mp c_87)).trans ((if_neg (bI_eq0.mp c_105)).trans ((if_neg (bI_eq0.mp c_124)).trans ((if_neg (fun z => bI_eq0.mp c_154 z.2)).trans ((if_neg (fun z => bI_eq0.mp c_186 z.2)).trans (if_neg (fun z => bI_eq0.mp c_206 z.1)))))))))).symm)), rfl⟩)
                          · refine zt_aload_n (pc := 209) dX5_nameNow_209 rfl rfl ?_
                            refine zt_bipush (pc := 210) dX5_nameNow_210 (v := 99) rfl ?_
                            refine zt_bipush (pc := 212) dX5_nameNow_212 (v := 101) rfl ?_
                            refine zt_iconst (pc := 214) dX5_nameNow_214 (v := 0) rfl ?_
                            refine wt_callV (pc := 215) mX5_goesOn 3 5 (rc' := 0) (rs' := 0) dX5_nameNow_215 q1454 mi_X5_goesOn rfl rfl (ms_o hM) (tm_goesOn hM T n hn h20 h301 q h22 (by omega) 99 101 0) rfl rfl rfl rfl rfl rfl ?_
                            refine zt_if_eq (pc := 218) 226 dX5_nameNow_218 (by decide) (fun c_218 => ?_) (fun c_218 => ?_)
                            · refine zt_bipush (pc := 226) dX5_nameNow_226 (v := (-4)) rfl ?_
                              exact zt_ireturn (pc := 228) dX5_nameNow_228 rfl (⟨congrArg some (congrArg Value.int (((if_neg (fun z => z c_6)).trans ((if_neg (fun z => bI_eq0.mp c_38 z.2)).trans ((if_neg (fun z => bI_eq0.mp c_68 z.2)).trans ((if_neg (bI_eq0.mp c_87)).trans ((if_neg (bI_eq0.mp c_105)).trans ((if_neg (bI_eq0.mp c_124)).trans ((if_neg (fun z => bI_eq0.mp c_154 z.2)).trans ((if_neg (fun z => bI_eq0.mp c_186 z.2)).trans (if_neg (fun z => bI_eq0.mp c_218 z.2)))))))))).symm)), rfl⟩)
                            · refine zt_bipush (pc := 221) dX5_nameNow_221 (v := 17) rfl ?_
                              refine zt_goto (pc := 223) 228 dX5_nameNow_223 (by decide) ?_
                              exact zt_ireturn (pc := 228) dX5_nameNow_228 rfl (⟨congrArg some (congrArg Value.int (((if_neg (fun z => z c_6)).trans ((if_neg (fun z => bI_eq0.mp c_38 z.2)).trans ((if_neg (fun z => bI_eq0.mp c_68 z.2)).trans ((if_neg (bI_eq0.mp c_87)).trans ((if_neg (bI_eq0.mp c_105)).trans ((if_neg (bI_eq0.mp c_124)).trans ((if_neg (fun z => bI_eq0.mp c_154 z.2)).trans ((if_neg (fun z => bI_eq0.mp c_186 z.2)).trans (if_pos ⟨bI_ne0 c_206, bI_ne0 c_218⟩))))))))).symm)), rfl⟩)
                        · refine zt_bipush (pc := 189) dX5_nameNow_189 (v := 16) rfl ?_
                          exact zt_ireturn (pc := 191) dX5_nameNow_191 rfl (⟨congrArg some (congrArg Value.int (((if_neg (fun z => z c_6)).trans ((if_neg (fun z => bI_eq0.mp c_38 z.2)).trans ((if_neg (fun z => bI_eq0.mp c_68 z.2)).trans ((if_neg (bI_eq0.mp c_87)).trans ((if_neg (bI_eq0.mp c_105)).trans ((if_neg (bI_eq0.mp c_124)).trans ((if_neg (fun z => bI_eq0.mp c_154 z.2)).trans (if_pos ⟨bI_ne0 c_174, bI_ne0 c_186⟩)))))))).symm)), rfl⟩)
                    · refine zt_bipush (pc := 157) dX5_nameNow_157 (v := 15) rfl ?_
                      exact zt_ireturn (pc := 159) dX5_nameNow_159 rfl (⟨congrArg some (congrArg Value.int (((if_neg (fun z => z c_6)).trans ((if_neg (fun z => bI_eq0.mp c_38 z.2)).trans ((if_neg (fun z => bI_eq0.mp c_68 z.2)).trans ((if_neg (bI_eq0.mp c_87)).trans ((if_neg (bI_eq0.mp c_105)).trans ((if_neg (bI_eq0.mp c_124)).trans (if_pos ⟨bI_ne0 c_143, bI_ne0 c_154⟩))))))).symm)), rfl⟩)
                · refine zt_bipush (pc := 127) dX5_nameNow_127 (v := 14) rfl ?_
                  exact zt_ireturn (pc := 129) dX5_nameNow_129 rfl (⟨congrArg some (congrArg Value.int (((if_neg (fun z => z c_6)).trans ((if_neg (fun z => bI_eq0.mp c_38 z.2)).trans ((if_neg (fun z => bI_eq0.mp c_68 z.2)).trans ((if_neg (bI_eq0.mp c_87)).trans ((if_neg (bI_eq0.mp c_105)).trans (if_pos (bI_ne0 c_124))))))).symm)), rfl⟩)
              · refine zt_bipush (pc := 108) dX5_nameNow_108 (v := 13) rfl ?_
                exact zt_ireturn (pc := 110) dX5_nameNow_110 rfl (⟨congrArg some (congrArg Value.int (((if_neg (fun z => z c_6)).trans ((if_neg (fun z => bI_eq0.mp c_38 z.2)).trans ((if_neg (fun z => bI_eq0.mp c_68 z.2)).trans ((if_neg (bI_eq0.mp c_87)).trans (if_pos (bI_ne0 c_105)))))).symm)), rfl⟩)
            · refine zt_bipush (pc := 90) dX5_nameNow_90 (v := 12) rfl ?_
              exact zt_ireturn (pc := 92) dX5_nameNow_92 rfl (⟨congrArg some (congrArg Value.int (((if_neg (fun z => z c_6)).trans ((if_neg (fun z => bI_eq0.mp c_38 z.2)).trans ((if_neg (fun z => bI_eq0.mp c_68 z.2)).trans (if_pos (bI_ne0 c_87))))).symm)), rfl⟩)
          · refine zt_bipush (pc := 71) dX5_nameNow_71 (v := 11) rfl ?_
            exact zt_ireturn (pc := 73) dX5_nameNow_73 rfl (⟨congrArg some (congrArg Value.int (((if_neg (fun z => z c_6)).trans ((if_neg (fun z => bI_eq0.mp c_38 z.2)).trans (if_pos ⟨bI_ne0 c_57, bI_ne0 c_68⟩))).symm)), rfl⟩)
      · refine zt_bipush (pc := 41) dX5_nameNow_41 (v := 10) rfl ?_
        exact zt_ireturn (pc := 43) dX5_nameNow_43 rfl (⟨congrArg some (congrArg Value.int (((if_neg (fun z => z c_6)).trans (if_pos ⟨bI_ne0 c_27, bI_ne0 c_38⟩)).symm)), rfl⟩)
  · refine zt_aload_n (pc := 9) dX5_nameNow_9 rfl rfl ?_
    refine wt_callV (pc := 10) mX5_kindNow 0 5 (rc' := 0) (rs' := 0) dX5_nameNow_10 q1446 mi_X5_kindNow rfl rfl (ms_o hM) (tm_kindNow hM T n hn h20 h301 q r h22 h21 hqr hr) rfl rfl rfl rfl rfl rfl ?_
    exact zt_ireturn (pc := 13) dX5_nameNow_13 rfl (⟨congrArg some (congrArg Value.int ((if_pos c_6).symm)), rfl⟩)

end M14